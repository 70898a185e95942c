section
/-! pure rows to paste: stores, nI and lN arithmetic, masks, shifts, narrowing, branches by naturals (pk_le, pk_lt, pk_eq), loops (lp1 .. lp16: the measure of the state; rp1 ..: recursion), negatives. Take what you need -/
theorem pk_us {f : Nat → Int32} {k : Nat} {x : Int32} : upd f k x k = x := if_pos rfl
theorem pk_un {f : Nat → Int32} {k j : Nat} {x : Int32} (h : j ≠ k) : upd f k x j = f j := if_neg h
theorem pk_uLs {f : Nat → Int64} {k : Nat} {x : Int64} : vp_updL f k x k = x := if_pos rfl
theorem pk_uLn {f : Nat → Int64} {k j : Nat} {x : Int64} (h : j ≠ k) : vp_updL f k x j = f j := if_neg h
theorem pk_sub {a b : Nat} (h : b ≤ a) : nI a - nI b = nI (a - b) := by
  obtain ⟨c, rfl⟩ : ∃ c, a = c + b := ⟨a - b, by omega⟩
  rw [← nI_add, Int32.add_sub_cancel, Nat.add_sub_cancel]
theorem pk_m1 (n : Nat) : nI (n + 1) + (-1) = nI n := by
  rw [← nI_1, Int32.add_assoc, show (1 : Int32) + (-1) = 0 from rfl, Int32.add_zero]
theorem pk_mul (a b : Nat) : nI a * nI b = nI (a * b) := (Int32.ofNat_mul a b).symm
theorem pk_div {a d : Nat} (ha : a < 2 ^ 31) (h0 : 0 < d) (hd : d < 2 ^ 31) : nI a / nI d = nI (a / d) := by
  apply Int32.toInt_inj.mp
  rw [lg_idiv_nonneg (by rw [nI_toInt ha]; omega) (by rw [nI_toInt hd]; omega), nI_toInt ha, nI_toInt hd, nI_toInt (Nat.lt_of_le_of_lt (Nat.div_le_self a d) ha)]
  first | rfl | exact (Int.natCast_ediv _ _).symm
theorem pk_rem {a d : Nat} (ha : a < 2 ^ 31) (h0 : 0 < d) (hd : d < 2 ^ 31) : nI a - nI a / nI d * nI d = nI (a % d) := by
  rw [pk_div ha h0 hd, pk_mul, pk_sub (Nat.div_mul_le_self a d)]
  exact congrArg nI (by have := Nat.div_add_mod' a d; omega)
theorem pk_sub_toInt {a b : Nat} (ha : a < 2 ^ 30) (hb : b < 2 ^ 30) : (nI a - nI b).toInt = (a : Int) - b := by
  rw [Int32.toInt_sub, nI_toInt (by omega), nI_toInt (by omega)]
  exact Int.bmod_eq_of_le (by omega) (by omega)
theorem pk_sneg {a b : Nat} (hb : b < 2 ^ 30) (h : a < b) : nI a - nI b < 0 := by
  rw [Int32.lt_iff_toInt_lt, pk_sub_toInt (by omega) hb, show (0 : Int32).toInt = 0 from by decide]
  omega
theorem pk_ix (x : Int32) {n : Nat} (hn : n < 2 ^ 31) : x < 0 ∨ nI n ≤ x ∨ ∃ j : Nat, j < n ∧ x = nI j := by
  by_cases h : x < 0
  · exact Or.inl h
  · obtain ⟨j, hj, rfl⟩ := nI_of h
    by_cases h2 : j < n
    · exact Or.inr (Or.inr ⟨j, h2, rfl⟩)
    · exact Or.inr (Or.inl (nI_le (by omega) hj))
theorem pk_le {x y : Int32} {A B : Prop} (a b : Nat) (f : a ≤ b → A) (g : b < a → B) (hx : x = nI a := by rfl) (hy : y = nI b := by rfl) (ha : a < 2 ^ 31 := by omega) (hb : b < 2 ^ 31 := by omega) : (x ≤ y → A) ∧ (¬ x ≤ y → B) := by
  subst hx hy
  rw [nI_leI ha hb]
  exact ⟨f, fun z => g (by omega)⟩
theorem pk_lt {x y : Int32} {A B : Prop} (a b : Nat) (f : a < b → A) (g : b ≤ a → B) (hx : x = nI a := by rfl) (hy : y = nI b := by rfl) (ha : a < 2 ^ 31 := by omega) (hb : b < 2 ^ 31 := by omega) : (x < y → A) ∧ (¬ x < y → B) := by
  subst hx hy
  rw [nI_ltI ha hb]
  exact ⟨f, fun z => g (by omega)⟩
theorem pk_eq {x y : Int32} {A B : Prop} (a b : Nat) (f : a = b → A) (g : a ≠ b → B) (hx : x = nI a := by rfl) (hy : y = nI b := by rfl) (ha : a < 2 ^ 31 := by omega) (hb : b < 2 ^ 31 := by omega) : (x = y → A) ∧ (¬ x = y → B) := by
  subst hx hy
  rw [nI_eq ha hb]
  exact ⟨f, g⟩
theorem pk_in {x : Int32} (n N : Nat) (h : n < N) (hx : x = nI n := by rfl) (hN : N < 2 ^ 31 := by omega) : vp_in x N := by
  subst hx
  exact vp_in_nI h hN
theorem pk_cl {x : Int32} (n : Nat) (hx : x = nI n := by rfl) (h : n < 2 ^ 31 := by omega) : x.toNatClampNeg = n := by
  subst hx
  exact nI_clamp h
theorem pk_tn {n : Nat} (h : n < 2 ^ 32) : (nI n).toBitVec.toNat = n := Nat.mod_eq_of_lt h
theorem pk_and (x : Int32) {m : Int32} (k : Nat) (hm : m.toBitVec.toNat = 2 ^ k - 1) : x &&& m = nI (x.toBitVec.toNat % 2 ^ k) := by
  apply Int32.toBitVec_inj.mp
  apply BitVec.eq_of_toNat_eq
  rw [Int32.toBitVec_and, BitVec.toNat_and, hm, Nat.and_two_pow_sub_one_eq_mod]
  show _ = (BitVec.ofNat 32 _).toNat
  rw [BitVec.toNat_ofNat]
  exact (Nat.mod_eq_of_lt (Nat.lt_of_le_of_lt (Nat.mod_le _ _) x.toBitVec.isLt)).symm
theorem pk_andN {n : Nat} (h : n < 2 ^ 32) {m : Int32} (k : Nat) (hm : m.toBitVec.toNat = 2 ^ k - 1) : nI n &&& m = nI (n % 2 ^ k) := by
  rw [pk_and _ k hm, pk_tn h]
theorem pk_andE (x : Int32) {m : Int32} (k : Nat) (hm : m.toBitVec.toNat = 2 ^ k - 1) : ∃ j : Nat, j < 2 ^ k ∧ x &&& m = nI j := ⟨_, Nat.mod_lt _ (Nat.two_pow_pos k), pk_and x k hm⟩
theorem pk_andIn (x : Int32) {m : Int32} (k : Nat) (hm : m.toBitVec.toNat = 2 ^ k - 1) (hk : k ≤ 30) : vp_in (x &&& m) (2 ^ k) := by
  obtain ⟨j, hj, e⟩ := pk_andE x k hm
  rw [e]
  exact vp_in_nI hj (Nat.lt_of_le_of_lt (Nat.pow_le_pow_right (by decide) hk) (by decide))
theorem pk_shl (a s : Int32) (k : Nat) (hs : (s.toBitVec.smod 32).toNat = k) : (a <<< s).toBitVec.toNat = a.toBitVec.toNat * 2 ^ k % 2 ^ 32 := by
  show (a.toBitVec <<< (s.toBitVec.smod 32).toNat).toNat = _
  rw [hs, BitVec.toNat_shiftLeft, Nat.shiftLeft_eq]
theorem pk_shlN {n : Nat} (s : Int32) (k : Nat) (hs : (s.toBitVec.smod 32).toNat = k) (h : n * 2 ^ k < 2 ^ 32) : nI n <<< s = nI (n * 2 ^ k) := by
  apply Int32.toBitVec_inj.mp
  apply BitVec.eq_of_toNat_eq
  have hn : n < 2 ^ 32 := Nat.lt_of_le_of_lt (Nat.le_mul_of_pos_right n (Nat.two_pow_pos k)) h
  rw [pk_shl _ _ k hs, pk_tn hn, pk_tn h, Nat.mod_eq_of_lt h]
theorem pk_shr (a s : Int32) (k : Nat) (hs : (s.toBitVec.smod 32).toNat = k) : (a >>> s).toInt = a.toInt >>> k := by
  show (a.toBitVec.sshiftRight (s.toBitVec.smod 32).toNat).toInt = _
  rw [hs, BitVec.toInt_sshiftRight]
  rfl
theorem pk_shrN {n : Nat} (h : n < 2 ^ 31) (s : Int32) (k : Nat) (hs : (s.toBitVec.smod 32).toNat = k) : nI n >>> s = nI (n / 2 ^ k) := by
  apply Int32.toInt_inj.mp
  have h2 : n / 2 ^ k ≤ n := Nat.div_le_self _ _
  rw [pk_shr _ _ k hs, nI_toInt h, nI_toInt (by omega), Int.shiftRight_eq_div_pow]
  rfl
theorem pk_ushr (x s : Int32) (k : Nat) (hs : ((s.toUInt32 &&& Int32.toUInt32 31).toBitVec % 32).toNat = k) : (x.toUInt32 >>> (s.toUInt32 &&& Int32.toUInt32 31)).toInt32.toBitVec.toNat = x.toBitVec.toNat / 2 ^ k := by
  have e : (x.toUInt32 >>> (s.toUInt32 &&& Int32.toUInt32 31)).toInt32.toBitVec = x.toBitVec >>> k := by
    rw [← hs]
    exact UInt32.toBitVec_shiftRight _ _
  rw [e, BitVec.toNat_ushiftRight, Nat.shiftRight_eq_div_pow]
theorem pk_ushrN {n : Nat} (hn : n < 2 ^ 32) (s : Int32) (k : Nat) (hs : ((s.toUInt32 &&& Int32.toUInt32 31).toBitVec % 32).toNat = k) : ((nI n).toUInt32 >>> (s.toUInt32 &&& Int32.toUInt32 31)).toInt32 = nI (n / 2 ^ k) := by
  apply Int32.toBitVec_inj.mp
  apply BitVec.eq_of_toNat_eq
  rw [pk_ushr _ s k hs, pk_tn hn, pk_tn (Nat.lt_of_le_of_lt (Nat.div_le_self _ _) hn)]
theorem pk_nb (z : Int32) : narrow .byte (.int z.toInt8.toInt32) = .int z.toInt8.toInt32 := congrArg Value.int (by simp)
theorem pk_ns (z : Int32) : narrow .short (.int z.toInt16.toInt32) = .int z.toInt16.toInt32 := congrArg Value.int (by simp)
theorem pk_fb (r : Int32) : fits .byte (.int r.toInt8.toInt32) = true := by
  have ⟨a, b⟩ := lg_i2b_range r
  have h1 : (-128 : Int32).toInt = -128 := by decide
  have h2 : (127 : Int32).toInt = 127 := by decide
  simp only [fits, Bool.and_eq_true, decide_eq_true_eq, Int32.le_iff_toInt_le, h1, h2]
  omega
theorem pk_fs (r : Int32) : fits .short (.int r.toInt16.toInt32) = true := by
  have ⟨a, b⟩ := lg_i2s_range r
  have h1 : (-32768 : Int32).toInt = -32768 := by decide
  have h2 : (32767 : Int32).toInt = 32767 := by decide
  simp only [fits, Bool.and_eq_true, decide_eq_true_eq, Int32.le_iff_toInt_le, h1, h2]
  omega
theorem pk_charN {q : Nat} (hq : q < 65536) : narrow .char (.int (nI q)) = .int (nI q) ∧ fits .char (.int (nI q)) = true := by
  constructor
  · have e : (nI q).toUInt32.toUInt16.toUInt32.toInt32 = nI q := by
      apply Int32.toBitVec_inj.mp
      apply BitVec.eq_of_toNat_eq
      show (nI q).toUInt32.toUInt16.toUInt32.toNat = q % 2 ^ 32
      rw [UInt16.toNat_toUInt32, UInt32.toNat_toUInt16, show (nI q).toUInt32.toNat = q % 2 ^ 32 from rfl]
      omega
    exact congrArg Value.int e
  · have a : (0 : Int32) ≤ nI q := nI_pos' (by omega)
    have b : nI q ≤ 65535 := nI_le (b := 65535) (by omega) (by decide)
    show (decide ((0 : Int32) ≤ nI q) && decide (nI q ≤ 65535)) = true
    rw [decide_eq_true a, decide_eq_true b]
    rfl
theorem pk_char (x : Int32) : (x.toUInt32 % 65536).toInt32 = nI (x.toBitVec.toNat % 65536) := by
  apply Int32.toBitVec_inj.mp
  apply BitVec.eq_of_toNat_eq
  rw [pk_tn (by omega)]
  show (x.toUInt32 % 65536).toNat = _
  rw [UInt32.toNat_mod]
  rfl
theorem pk_nc (x : Int32) : narrow .char (.int (x.toUInt32 % 65536).toInt32) = .int (x.toUInt32 % 65536).toInt32 := by
  rw [pk_char]
  exact (pk_charN (Nat.mod_lt _ (by decide))).1
theorem pk_fc (x : Int32) : fits .char (.int (x.toUInt32 % 65536).toInt32) = true := by
  rw [pk_char]
  exact (pk_charN (Nat.mod_lt _ (by decide))).2
theorem pk_vb (z : Int32) : vp_nar .byte z.toInt8.toInt32 = z.toInt8.toInt32 := by rw [vp_nar_byte]; simp
theorem pk_vs (z : Int32) : vp_nar .short z.toInt16.toInt32 = z.toInt16.toInt32 := by rw [vp_nar_short]; simp
theorem pk_vc (z : Int32) : vp_nar .char (z.toUInt32 % 65536).toInt32 = (z.toUInt32 % 65536).toInt32 := Value.int.inj (pk_nc z)
theorem pk_lT {n : Nat} (h : n < 2 ^ 63) : (lN n).toInt = (n : Int) := lg_ofNat_toInt h
theorem pk_lLT {a b : Nat} (ha : a < 2 ^ 63) (hb : b < 2 ^ 63) : lN a < lN b ↔ a < b := by
  rw [Int64.lt_iff_toInt_lt, pk_lT ha, pk_lT hb]; omega
theorem pk_lLE {a b : Nat} (ha : a < 2 ^ 63) (hb : b < 2 ^ 63) : lN a ≤ lN b ↔ a ≤ b := by
  rw [Int64.le_iff_toInt_le, pk_lT ha, pk_lT hb]; omega
theorem pk_lEQ {a b : Nat} (ha : a < 2 ^ 63) (hb : b < 2 ^ 63) : lN a = lN b ↔ a = b := by
  rw [← Int64.toInt_inj, pk_lT ha, pk_lT hb]; omega
theorem pk_lOf {x : Int64} (h : ¬ x < 0) : ∃ k : Nat, k < 2 ^ 63 ∧ x = lN k := by
  rw [Int64.lt_iff_toInt_lt] at h
  have h0 : (0 : Int64).toInt = 0 := by decide
  have hx := Int64.toInt_lt x
  refine ⟨x.toInt.toNat, by omega, Int64.toInt_inj.mp ?_⟩
  rw [pk_lT (by omega)]
  omega
theorem pk_lDiv {a b : Nat} (ha : a < 2 ^ 63) (h0 : 0 < b) (hb : b < 2 ^ 63) : lN a / lN b = lN (a / b) := by
  apply Int64.toInt_inj.mp
  rw [lg_ldiv_nonneg (by rw [pk_lT ha]; omega) (by rw [pk_lT hb]; omega), pk_lT ha, pk_lT hb, pk_lT (Nat.lt_of_le_of_lt (Nat.div_le_self a b) ha)]
  rfl
theorem pk_lRem {a b : Nat} (ha : a < 2 ^ 63) (h0 : 0 < b) (hb : b < 2 ^ 63) : lN a - lN a / lN b * lN b = lN (a % b) := by
  rw [pk_lDiv ha h0 hb, lN_mul, lN_sub (Nat.div_mul_le_self a b)]
  exact congrArg lN (by have := Nat.div_add_mod' a b; omega)
theorem pk_loop {σ : Type} (W : Nat → Nat → σ → Prop) (I : Nat → σ → Prop) (e i0 : Nat) (s : σ) (hi : i0 ≤ e) (h0 : I i0 s) (hx : ∀ n s, I e s → W (n + 1) e s)
    (hs : ∀ n i s, i < e → I i s → (∀ s', I (i + 1) s' → W n (i + 1) s') → W (n + 1) i s) : ∃ n, W n i0 s :=
  ⟨e + 1, loop_i W I e hx hs (e + 1) i0 s hi (by omega) h0⟩
theorem pk_loopD {σ : Type} (W : Nat → Nat → σ → Prop) (I : Nat → σ → Prop) (hx : ∀ n s, I 0 s → W (n + 1) 0 s)
    (hs : ∀ n i s, I (i + 1) s → (∀ s', I i s' → W n i s') → W (n + 1) (i + 1) s) : ∀ (e : Nat) (s : σ), I e s → W (e + 1) e s := by
  intro e
  induction e with
  | zero => exact fun s h => hx 0 s h
  | succ e ih => exact fun s h => hs (e + 1) e s h (fun s' h' => ih s' h')
theorem lp1 {A1 : Type} (W : Nat → A1 → Prop) (I : A1 → Prop) (μ : A1 → Nat) (hs : ∀ (n : Nat) (a1 : A1), I a1 → (∀ (b1 : A1), I b1 → μ b1 < μ a1 → W n b1) → W (n + 1) a1) (a1 : A1) (h : I a1) : ∃ n, W n a1 :=
  loop_m (σ := A1) (fun n s => W n s) (fun s => I s) (fun s => μ s) (fun n s hI hk => hs n s hI (fun b1 h9 hm => hk b1 h9 hm)) a1 h
theorem lp2 {A1 A2 : Type} (W : Nat → A1 → A2 → Prop) (I : A1 → A2 → Prop) (μ : A1 → A2 → Nat) (hs : ∀ (n : Nat) (a1 : A1) (a2 : A2), I a1 a2 → (∀ (b1 : A1) (b2 : A2), I b1 b2 → μ b1 b2 < μ a1 a2 → W n b1 b2) → W (n + 1) a1 a2) (a1 : A1) (a2 : A2) (h : I a1 a2) : ∃ n, W n a1 a2 :=
  loop_m (σ := A1 × A2) (fun n s => W n s.1 s.2) (fun s => I s.1 s.2) (fun s => μ s.1 s.2) (fun n s hI hk => hs n s.1 s.2 hI (fun b1 b2 h9 hm => hk (b1, b2) h9 hm)) (a1, a2) h
theorem lp3 {A1 A2 A3 : Type} (W : Nat → A1 → A2 → A3 → Prop) (I : A1 → A2 → A3 → Prop) (μ : A1 → A2 → A3 → Nat) (hs : ∀ (n : Nat) (a1 : A1) (a2 : A2) (a3 : A3), I a1 a2 a3 → (∀ (b1 : A1) (b2 : A2) (b3 : A3), I b1 b2 b3 → μ b1 b2 b3 < μ a1 a2 a3 → W n b1 b2 b3) → W (n + 1) a1 a2 a3) (a1 : A1) (a2 : A2) (a3 : A3) (h : I a1 a2 a3) : ∃ n, W n a1 a2 a3 :=
  loop_m (σ := A1 × A2 × A3) (fun n s => W n s.1 s.2.1 s.2.2) (fun s => I s.1 s.2.1 s.2.2) (fun s => μ s.1 s.2.1 s.2.2) (fun n s hI hk => hs n s.1 s.2.1 s.2.2 hI (fun b1 b2 b3 h9 hm => hk (b1, b2, b3) h9 hm)) (a1, a2, a3) h
theorem lp4 {A1 A2 A3 A4 : Type} (W : Nat → A1 → A2 → A3 → A4 → Prop) (I : A1 → A2 → A3 → A4 → Prop) (μ : A1 → A2 → A3 → A4 → Nat) (hs : ∀ (n : Nat) (a1 : A1) (a2 : A2) (a3 : A3) (a4 : A4), I a1 a2 a3 a4 → (∀ (b1 : A1) (b2 : A2) (b3 : A3) (b4 : A4), I b1 b2 b3 b4 → μ b1 b2 b3 b4 < μ a1 a2 a3 a4 → W n b1 b2 b3 b4) → W (n + 1) a1 a2 a3 a4) (a1 : A1) (a2 : A2) (a3 : A3) (a4 : A4) (h : I a1 a2 a3 a4) : ∃ n, W n a1 a2 a3 a4 :=
  loop_m (σ := A1 × A2 × A3 × A4) (fun n s => W n s.1 s.2.1 s.2.2.1 s.2.2.2) (fun s => I s.1 s.2.1 s.2.2.1 s.2.2.2) (fun s => μ s.1 s.2.1 s.2.2.1 s.2.2.2) (fun n s hI hk => hs n s.1 s.2.1 s.2.2.1 s.2.2.2 hI (fun b1 b2 b3 b4 h9 hm => hk (b1, b2, b3, b4) h9 hm)) (a1, a2, a3, a4) h
theorem lp5 {A1 A2 A3 A4 A5 : Type} (W : Nat → A1 → A2 → A3 → A4 → A5 → Prop) (I : A1 → A2 → A3 → A4 → A5 → Prop) (μ : A1 → A2 → A3 → A4 → A5 → Nat) (hs : ∀ (n : Nat) (a1 : A1) (a2 : A2) (a3 : A3) (a4 : A4) (a5 : A5), I a1 a2 a3 a4 a5 → (∀ (b1 : A1) (b2 : A2) (b3 : A3) (b4 : A4) (b5 : A5), I b1 b2 b3 b4 b5 → μ b1 b2 b3 b4 b5 < μ a1 a2 a3 a4 a5 → W n b1 b2 b3 b4 b5) → W (n + 1) a1 a2 a3 a4 a5) (a1 : A1) (a2 : A2) (a3 : A3) (a4 : A4) (a5 : A5) (h : I a1 a2 a3 a4 a5) : ∃ n, W n a1 a2 a3 a4 a5 :=
  loop_m (σ := A1 × A2 × A3 × A4 × A5) (fun n s => W n s.1 s.2.1 s.2.2.1 s.2.2.2.1 s.2.2.2.2) (fun s => I s.1 s.2.1 s.2.2.1 s.2.2.2.1 s.2.2.2.2) (fun s => μ s.1 s.2.1 s.2.2.1 s.2.2.2.1 s.2.2.2.2) (fun n s hI hk => hs n s.1 s.2.1 s.2.2.1 s.2.2.2.1 s.2.2.2.2 hI (fun b1 b2 b3 b4 b5 h9 hm => hk (b1, b2, b3, b4, b5) h9 hm)) (a1, a2, a3, a4, a5) h
theorem lp6 {A1 A2 A3 A4 A5 A6 : Type} (W : Nat → A1 → A2 → A3 → A4 → A5 → A6 → Prop) (I : A1 → A2 → A3 → A4 → A5 → A6 → Prop) (μ : A1 → A2 → A3 → A4 → A5 → A6 → Nat) (hs : ∀ (n : Nat) (a1 : A1) (a2 : A2) (a3 : A3) (a4 : A4) (a5 : A5) (a6 : A6), I a1 a2 a3 a4 a5 a6 → (∀ (b1 : A1) (b2 : A2) (b3 : A3) (b4 : A4) (b5 : A5) (b6 : A6), I b1 b2 b3 b4 b5 b6 → μ b1 b2 b3 b4 b5 b6 < μ a1 a2 a3 a4 a5 a6 → W n b1 b2 b3 b4 b5 b6) → W (n + 1) a1 a2 a3 a4 a5 a6) (a1 : A1) (a2 : A2) (a3 : A3) (a4 : A4) (a5 : A5) (a6 : A6) (h : I a1 a2 a3 a4 a5 a6) : ∃ n, W n a1 a2 a3 a4 a5 a6 :=
  loop_m (σ := A1 × A2 × A3 × A4 × A5 × A6) (fun n s => W n s.1 s.2.1 s.2.2.1 s.2.2.2.1 s.2.2.2.2.1 s.2.2.2.2.2) (fun s => I s.1 s.2.1 s.2.2.1 s.2.2.2.1 s.2.2.2.2.1 s.2.2.2.2.2) (fun s => μ s.1 s.2.1 s.2.2.1 s.2.2.2.1 s.2.2.2.2.1 s.2.2.2.2.2) (fun n s hI hk => hs n s.1 s.2.1 s.2.2.1 s.2.2.2.1 s.2.2.2.2.1 s.2.2.2.2.2 hI (fun b1 b2 b3 b4 b5 b6 h9 hm => hk (b1, b2, b3, b4, b5, b6) h9 hm)) (a1, a2, a3, a4, a5, a6) h
theorem lp7 {A1 A2 A3 A4 A5 A6 A7 : Type} (W : Nat → A1 → A2 → A3 → A4 → A5 → A6 → A7 → Prop) (I : A1 → A2 → A3 → A4 → A5 → A6 → A7 → Prop) (μ : A1 → A2 → A3 → A4 → A5 → A6 → A7 → Nat) (hs : ∀ (n : Nat) (a1 : A1) (a2 : A2) (a3 : A3) (a4 : A4) (a5 : A5) (a6 : A6) (a7 : A7), I a1 a2 a3 a4 a5 a6 a7 → (∀ (b1 : A1) (b2 : A2) (b3 : A3) (b4 : A4) (b5 : A5) (b6 : A6) (b7 : A7), I b1 b2 b3 b4 b5 b6 b7 → μ b1 b2 b3 b4 b5 b6 b7 < μ a1 a2 a3 a4 a5 a6 a7 → W n b1 b2 b3 b4 b5 b6 b7) → W (n + 1) a1 a2 a3 a4 a5 a6 a7) (a1 : A1) (a2 : A2) (a3 : A3) (a4 : A4) (a5 : A5) (a6 : A6) (a7 : A7) (h : I a1 a2 a3 a4 a5 a6 a7) : ∃ n, W n a1 a2 a3 a4 a5 a6 a7 :=
  loop_m (σ := A1 × A2 × A3 × A4 × A5 × A6 × A7) (fun n s => W n s.1 s.2.1 s.2.2.1 s.2.2.2.1 s.2.2.2.2.1 s.2.2.2.2.2.1 s.2.2.2.2.2.2) (fun s => I s.1 s.2.1 s.2.2.1 s.2.2.2.1 s.2.2.2.2.1 s.2.2.2.2.2.1 s.2.2.2.2.2.2) (fun s => μ s.1 s.2.1 s.2.2.1 s.2.2.2.1 s.2.2.2.2.1 s.2.2.2.2.2.1 s.2.2.2.2.2.2) (fun n s hI hk => hs n s.1 s.2.1 s.2.2.1 s.2.2.2.1 s.2.2.2.2.1 s.2.2.2.2.2.1 s.2.2.2.2.2.2 hI (fun b1 b2 b3 b4 b5 b6 b7 h9 hm => hk (b1, b2, b3, b4, b5, b6, b7) h9 hm)) (a1, a2, a3, a4, a5, a6, a7) h
theorem lp8 {A1 A2 A3 A4 A5 A6 A7 A8 : Type} (W : Nat → A1 → A2 → A3 → A4 → A5 → A6 → A7 → A8 → Prop) (I : A1 → A2 → A3 → A4 → A5 → A6 → A7 → A8 → Prop) (μ : A1 → A2 → A3 → A4 → A5 → A6 → A7 → A8 → Nat) (hs : ∀ (n : Nat) (a1 : A1) (a2 : A2) (a3 : A3) (a4 : A4) (a5 : A5) (a6 : A6) (a7 : A7) (a8 : A8), I a1 a2 a3 a4 a5 a6 a7 a8 → (∀ (b1 : A1) (b2 : A2) (b3 : A3) (b4 : A4) (b5 : A5) (b6 : A6) (b7 : A7) (b8 : A8), I b1 b2 b3 b4 b5 b6 b7 b8 → μ b1 b2 b3 b4 b5 b6 b7 b8 < μ a1 a2 a3 a4 a5 a6 a7 a8 → W n b1 b2 b3 b4 b5 b6 b7 b8) → W (n + 1) a1 a2 a3 a4 a5 a6 a7 a8) (a1 : A1) (a2 : A2) (a3 : A3) (a4 : A4) (a5 : A5) (a6 : A6) (a7 : A7) (a8 : A8) (h : I a1 a2 a3 a4 a5 a6 a7 a8) : ∃ n, W n a1 a2 a3 a4 a5 a6 a7 a8 :=
  loop_m (σ := A1 × A2 × A3 × A4 × A5 × A6 × A7 × A8) (fun n s => W n s.1 s.2.1 s.2.2.1 s.2.2.2.1 s.2.2.2.2.1 s.2.2.2.2.2.1 s.2.2.2.2.2.2.1 s.2.2.2.2.2.2.2) (fun s => I s.1 s.2.1 s.2.2.1 s.2.2.2.1 s.2.2.2.2.1 s.2.2.2.2.2.1 s.2.2.2.2.2.2.1 s.2.2.2.2.2.2.2) (fun s => μ s.1 s.2.1 s.2.2.1 s.2.2.2.1 s.2.2.2.2.1 s.2.2.2.2.2.1 s.2.2.2.2.2.2.1 s.2.2.2.2.2.2.2) (fun n s hI hk => hs n s.1 s.2.1 s.2.2.1 s.2.2.2.1 s.2.2.2.2.1 s.2.2.2.2.2.1 s.2.2.2.2.2.2.1 s.2.2.2.2.2.2.2 hI (fun b1 b2 b3 b4 b5 b6 b7 b8 h9 hm => hk (b1, b2, b3, b4, b5, b6, b7, b8) h9 hm)) (a1, a2, a3, a4, a5, a6, a7, a8) h
theorem lp9 {A1 A2 A3 A4 A5 A6 A7 A8 A9 : Type} (W : Nat → A1 → A2 → A3 → A4 → A5 → A6 → A7 → A8 → A9 → Prop) (I : A1 → A2 → A3 → A4 → A5 → A6 → A7 → A8 → A9 → Prop) (μ : A1 → A2 → A3 → A4 → A5 → A6 → A7 → A8 → A9 → Nat) (hs : ∀ (n : Nat) (a1 : A1) (a2 : A2) (a3 : A3) (a4 : A4) (a5 : A5) (a6 : A6) (a7 : A7) (a8 : A8) (a9 : A9), I a1 a2 a3 a4 a5 a6 a7 a8 a9 → (∀ (b1 : A1) (b2 : A2) (b3 : A3) (b4 : A4) (b5 : A5) (b6 : A6) (b7 : A7) (b8 : A8) (b9 : A9), I b1 b2 b3 b4 b5 b6 b7 b8 b9 → μ b1 b2 b3 b4 b5 b6 b7 b8 b9 < μ a1 a2 a3 a4 a5 a6 a7 a8 a9 → W n b1 b2 b3 b4 b5 b6 b7 b8 b9) → W (n + 1) a1 a2 a3 a4 a5 a6 a7 a8 a9) (a1 : A1) (a2 : A2) (a3 : A3) (a4 : A4) (a5 : A5) (a6 : A6) (a7 : A7) (a8 : A8) (a9 : A9) (h : I a1 a2 a3 a4 a5 a6 a7 a8 a9) : ∃ n, W n a1 a2 a3 a4 a5 a6 a7 a8 a9 :=
  loop_m (σ := A1 × A2 × A3 × A4 × A5 × A6 × A7 × A8 × A9) (fun n s => W n s.1 s.2.1 s.2.2.1 s.2.2.2.1 s.2.2.2.2.1 s.2.2.2.2.2.1 s.2.2.2.2.2.2.1 s.2.2.2.2.2.2.2.1 s.2.2.2.2.2.2.2.2) (fun s => I s.1 s.2.1 s.2.2.1 s.2.2.2.1 s.2.2.2.2.1 s.2.2.2.2.2.1 s.2.2.2.2.2.2.1 s.2.2.2.2.2.2.2.1 s.2.2.2.2.2.2.2.2) (fun s => μ s.1 s.2.1 s.2.2.1 s.2.2.2.1 s.2.2.2.2.1 s.2.2.2.2.2.1 s.2.2.2.2.2.2.1 s.2.2.2.2.2.2.2.1 s.2.2.2.2.2.2.2.2) (fun n s hI hk => hs n s.1 s.2.1 s.2.2.1 s.2.2.2.1 s.2.2.2.2.1 s.2.2.2.2.2.1 s.2.2.2.2.2.2.1 s.2.2.2.2.2.2.2.1 s.2.2.2.2.2.2.2.2 hI (fun b1 b2 b3 b4 b5 b6 b7 b8 b9 h9 hm => hk (b1, b2, b3, b4, b5, b6, b7, b8, b9) h9 hm)) (a1, a2, a3, a4, a5, a6, a7, a8, a9) h
theorem lp10 {A1 A2 A3 A4 A5 A6 A7 A8 A9 A10 : Type} (W : Nat → A1 → A2 → A3 → A4 → A5 → A6 → A7 → A8 → A9 → A10 → Prop) (I : A1 → A2 → A3 → A4 → A5 → A6 → A7 → A8 → A9 → A10 → Prop) (μ : A1 → A2 → A3 → A4 → A5 → A6 → A7 → A8 → A9 → A10 → Nat) (hs : ∀ (n : Nat) (a1 : A1) (a2 : A2) (a3 : A3) (a4 : A4) (a5 : A5) (a6 : A6) (a7 : A7) (a8 : A8) (a9 : A9) (a10 : A10), I a1 a2 a3 a4 a5 a6 a7 a8 a9 a10 → (∀ (b1 : A1) (b2 : A2) (b3 : A3) (b4 : A4) (b5 : A5) (b6 : A6) (b7 : A7) (b8 : A8) (b9 : A9) (b10 : A10), I b1 b2 b3 b4 b5 b6 b7 b8 b9 b10 → μ b1 b2 b3 b4 b5 b6 b7 b8 b9 b10 < μ a1 a2 a3 a4 a5 a6 a7 a8 a9 a10 → W n b1 b2 b3 b4 b5 b6 b7 b8 b9 b10) → W (n + 1) a1 a2 a3 a4 a5 a6 a7 a8 a9 a10) (a1 : A1) (a2 : A2) (a3 : A3) (a4 : A4) (a5 : A5) (a6 : A6) (a7 : A7) (a8 : A8) (a9 : A9) (a10 : A10) (h : I a1 a2 a3 a4 a5 a6 a7 a8 a9 a10) : ∃ n, W n a1 a2 a3 a4 a5 a6 a7 a8 a9 a10 :=
  loop_m (σ := A1 × A2 × A3 × A4 × A5 × A6 × A7 × A8 × A9 × A10) (fun n s => W n s.1 s.2.1 s.2.2.1 s.2.2.2.1 s.2.2.2.2.1 s.2.2.2.2.2.1 s.2.2.2.2.2.2.1 s.2.2.2.2.2.2.2.1 s.2.2.2.2.2.2.2.2.1 s.2.2.2.2.2.2.2.2.2) (fun s => I s.1 s.2.1 s.2.2.1 s.2.2.2.1 s.2.2.2.2.1 s.2.2.2.2.2.1 s.2.2.2.2.2.2.1 s.2.2.2.2.2.2.2.1 s.2.2.2.2.2.2.2.2.1 s.2.2.2.2.2.2.2.2.2) (fun s => μ s.1 s.2.1 s.2.2.1 s.2.2.2.1 s.2.2.2.2.1 s.2.2.2.2.2.1 s.2.2.2.2.2.2.1 s.2.2.2.2.2.2.2.1 s.2.2.2.2.2.2.2.2.1 s.2.2.2.2.2.2.2.2.2) (fun n s hI hk => hs n s.1 s.2.1 s.2.2.1 s.2.2.2.1 s.2.2.2.2.1 s.2.2.2.2.2.1 s.2.2.2.2.2.2.1 s.2.2.2.2.2.2.2.1 s.2.2.2.2.2.2.2.2.1 s.2.2.2.2.2.2.2.2.2 hI (fun b1 b2 b3 b4 b5 b6 b7 b8 b9 b10 h9 hm => hk (b1, b2, b3, b4, b5, b6, b7, b8, b9, b10) h9 hm)) (a1, a2, a3, a4, a5, a6, a7, a8, a9, a10) h
theorem lp11 {A1 A2 A3 A4 A5 A6 A7 A8 A9 A10 A11 : Type} (W : Nat → A1 → A2 → A3 → A4 → A5 → A6 → A7 → A8 → A9 → A10 → A11 → Prop) (I : A1 → A2 → A3 → A4 → A5 → A6 → A7 → A8 → A9 → A10 → A11 → Prop) (μ : A1 → A2 → A3 → A4 → A5 → A6 → A7 → A8 → A9 → A10 → A11 → Nat) (hs : ∀ (n : Nat) (a1 : A1) (a2 : A2) (a3 : A3) (a4 : A4) (a5 : A5) (a6 : A6) (a7 : A7) (a8 : A8) (a9 : A9) (a10 : A10) (a11 : A11), I a1 a2 a3 a4 a5 a6 a7 a8 a9 a10 a11 → (∀ (b1 : A1) (b2 : A2) (b3 : A3) (b4 : A4) (b5 : A5) (b6 : A6) (b7 : A7) (b8 : A8) (b9 : A9) (b10 : A10) (b11 : A11), I b1 b2 b3 b4 b5 b6 b7 b8 b9 b10 b11 → μ b1 b2 b3 b4 b5 b6 b7 b8 b9 b10 b11 < μ a1 a2 a3 a4 a5 a6 a7 a8 a9 a10 a11 → W n b1 b2 b3 b4 b5 b6 b7 b8 b9 b10 b11) → W (n + 1) a1 a2 a3 a4 a5 a6 a7 a8 a9 a10 a11) (a1 : A1) (a2 : A2) (a3 : A3) (a4 : A4) (a5 : A5) (a6 : A6) (a7 : A7) (a8 : A8) (a9 : A9) (a10 : A10) (a11 : A11) (h : I a1 a2 a3 a4 a5 a6 a7 a8 a9 a10 a11) : ∃ n, W n a1 a2 a3 a4 a5 a6 a7 a8 a9 a10 a11 :=
  loop_m (σ := A1 × A2 × A3 × A4 × A5 × A6 × A7 × A8 × A9 × A10 × A11) (fun n s => W n s.1 s.2.1 s.2.2.1 s.2.2.2.1 s.2.2.2.2.1 s.2.2.2.2.2.1 s.2.2.2.2.2.2.1 s.2.2.2.2.2.2.2.1 s.2.2.2.2.2.2.2.2.1 s.2.2.2.2.2.2.2.2.2.1 s.2.2.2.2.2.2.2.2.2.2) (fun s => I s.1 s.2.1 s.2.2.1 s.2.2.2.1 s.2.2.2.2.1 s.2.2.2.2.2.1 s.2.2.2.2.2.2.1 s.2.2.2.2.2.2.2.1 s.2.2.2.2.2.2.2.2.1 s.2.2.2.2.2.2.2.2.2.1 s.2.2.2.2.2.2.2.2.2.2) (fun s => μ s.1 s.2.1 s.2.2.1 s.2.2.2.1 s.2.2.2.2.1 s.2.2.2.2.2.1 s.2.2.2.2.2.2.1 s.2.2.2.2.2.2.2.1 s.2.2.2.2.2.2.2.2.1 s.2.2.2.2.2.2.2.2.2.1 s.2.2.2.2.2.2.2.2.2.2) (fun n s hI hk => hs n s.1 s.2.1 s.2.2.1 s.2.2.2.1 s.2.2.2.2.1 s.2.2.2.2.2.1 s.2.2.2.2.2.2.1 s.2.2.2.2.2.2.2.1 s.2.2.2.2.2.2.2.2.1 s.2.2.2.2.2.2.2.2.2.1 s.2.2.2.2.2.2.2.2.2.2 hI (fun b1 b2 b3 b4 b5 b6 b7 b8 b9 b10 b11 h9 hm => hk (b1, b2, b3, b4, b5, b6, b7, b8, b9, b10, b11) h9 hm)) (a1, a2, a3, a4, a5, a6, a7, a8, a9, a10, a11) h
theorem lp12 {A1 A2 A3 A4 A5 A6 A7 A8 A9 A10 A11 A12 : Type} (W : Nat → A1 → A2 → A3 → A4 → A5 → A6 → A7 → A8 → A9 → A10 → A11 → A12 → Prop) (I : A1 → A2 → A3 → A4 → A5 → A6 → A7 → A8 → A9 → A10 → A11 → A12 → Prop) (μ : A1 → A2 → A3 → A4 → A5 → A6 → A7 → A8 → A9 → A10 → A11 → A12 → Nat) (hs : ∀ (n : Nat) (a1 : A1) (a2 : A2) (a3 : A3) (a4 : A4) (a5 : A5) (a6 : A6) (a7 : A7) (a8 : A8) (a9 : A9) (a10 : A10) (a11 : A11) (a12 : A12), I a1 a2 a3 a4 a5 a6 a7 a8 a9 a10 a11 a12 → (∀ (b1 : A1) (b2 : A2) (b3 : A3) (b4 : A4) (b5 : A5) (b6 : A6) (b7 : A7) (b8 : A8) (b9 : A9) (b10 : A10) (b11 : A11) (b12 : A12), I b1 b2 b3 b4 b5 b6 b7 b8 b9 b10 b11 b12 → μ b1 b2 b3 b4 b5 b6 b7 b8 b9 b10 b11 b12 < μ a1 a2 a3 a4 a5 a6 a7 a8 a9 a10 a11 a12 → W n b1 b2 b3 b4 b5 b6 b7 b8 b9 b10 b11 b12) → W (n + 1) a1 a2 a3 a4 a5 a6 a7 a8 a9 a10 a11 a12) (a1 : A1) (a2 : A2) (a3 : A3) (a4 : A4) (a5 : A5) (a6 : A6) (a7 : A7) (a8 : A8) (a9 : A9) (a10 : A10) (a11 : A11) (a12 : A12) (h : I a1 a2 a3 a4 a5 a6 a7 a8 a9 a10 a11 a12) : ∃ n, W n a1 a2 a3 a4 a5 a6 a7 a8 a9 a10 a11 a12 :=
  loop_m (σ := A1 × A2 × A3 × A4 × A5 × A6 × A7 × A8 × A9 × A10 × A11 × A12) (fun n s => W n s.1 s.2.1 s.2.2.1 s.2.2.2.1 s.2.2.2.2.1 s.2.2.2.2.2.1 s.2.2.2.2.2.2.1 s.2.2.2.2.2.2.2.1 s.2.2.2.2.2.2.2.2.1 s.2.2.2.2.2.2.2.2.2.1 s.2.2.2.2.2.2.2.2.2.2.1 s.2.2.2.2.2.2.2.2.2.2.2) (fun s => I s.1 s.2.1 s.2.2.1 s.2.2.2.1 s.2.2.2.2.1 s.2.2.2.2.2.1 s.2.2.2.2.2.2.1 s.2.2.2.2.2.2.2.1 s.2.2.2.2.2.2.2.2.1 s.2.2.2.2.2.2.2.2.2.1 s.2.2.2.2.2.2.2.2.2.2.1 s.2.2.2.2.2.2.2.2.2.2.2) (fun s => μ s.1 s.2.1 s.2.2.1 s.2.2.2.1 s.2.2.2.2.1 s.2.2.2.2.2.1 s.2.2.2.2.2.2.1 s.2.2.2.2.2.2.2.1 s.2.2.2.2.2.2.2.2.1 s.2.2.2.2.2.2.2.2.2.1 s.2.2.2.2.2.2.2.2.2.2.1 s.2.2.2.2.2.2.2.2.2.2.2) (fun n s hI hk => hs n s.1 s.2.1 s.2.2.1 s.2.2.2.1 s.2.2.2.2.1 s.2.2.2.2.2.1 s.2.2.2.2.2.2.1 s.2.2.2.2.2.2.2.1 s.2.2.2.2.2.2.2.2.1 s.2.2.2.2.2.2.2.2.2.1 s.2.2.2.2.2.2.2.2.2.2.1 s.2.2.2.2.2.2.2.2.2.2.2 hI (fun b1 b2 b3 b4 b5 b6 b7 b8 b9 b10 b11 b12 h9 hm => hk (b1, b2, b3, b4, b5, b6, b7, b8, b9, b10, b11, b12) h9 hm)) (a1, a2, a3, a4, a5, a6, a7, a8, a9, a10, a11, a12) h
theorem lp13 {A1 A2 A3 A4 A5 A6 A7 A8 A9 A10 A11 A12 A13 : Type} (W : Nat → A1 → A2 → A3 → A4 → A5 → A6 → A7 → A8 → A9 → A10 → A11 → A12 → A13 → Prop) (I : A1 → A2 → A3 → A4 → A5 → A6 → A7 → A8 → A9 → A10 → A11 → A12 → A13 → Prop) (μ : A1 → A2 → A3 → A4 → A5 → A6 → A7 → A8 → A9 → A10 → A11 → A12 → A13 → Nat) (hs : ∀ (n : Nat) (a1 : A1) (a2 : A2) (a3 : A3) (a4 : A4) (a5 : A5) (a6 : A6) (a7 : A7) (a8 : A8) (a9 : A9) (a10 : A10) (a11 : A11) (a12 : A12) (a13 : A13), I a1 a2 a3 a4 a5 a6 a7 a8 a9 a10 a11 a12 a13 → (∀ (b1 : A1) (b2 : A2) (b3 : A3) (b4 : A4) (b5 : A5) (b6 : A6) (b7 : A7) (b8 : A8) (b9 : A9) (b10 : A10) (b11 : A11) (b12 : A12) (b13 : A13), I b1 b2 b3 b4 b5 b6 b7 b8 b9 b10 b11 b12 b13 → μ b1 b2 b3 b4 b5 b6 b7 b8 b9 b10 b11 b12 b13 < μ a1 a2 a3 a4 a5 a6 a7 a8 a9 a10 a11 a12 a13 → W n b1 b2 b3 b4 b5 b6 b7 b8 b9 b10 b11 b12 b13) → W (n + 1) a1 a2 a3 a4 a5 a6 a7 a8 a9 a10 a11 a12 a13) (a1 : A1) (a2 : A2) (a3 : A3) (a4 : A4) (a5 : A5) (a6 : A6) (a7 : A7) (a8 : A8) (a9 : A9) (a10 : A10) (a11 : A11) (a12 : A12) (a13 : A13) (h : I a1 a2 a3 a4 a5 a6 a7 a8 a9 a10 a11 a12 a13) : ∃ n, W n a1 a2 a3 a4 a5 a6 a7 a8 a9 a10 a11 a12 a13 :=
  loop_m (σ := A1 × A2 × A3 × A4 × A5 × A6 × A7 × A8 × A9 × A10 × A11 × A12 × A13) (fun n s => W n s.1 s.2.1 s.2.2.1 s.2.2.2.1 s.2.2.2.2.1 s.2.2.2.2.2.1 s.2.2.2.2.2.2.1 s.2.2.2.2.2.2.2.1 s.2.2.2.2.2.2.2.2.1 s.2.2.2.2.2.2.2.2.2.1 s.2.2.2.2.2.2.2.2.2.2.1 s.2.2.2.2.2.2.2.2.2.2.2.1 s.2.2.2.2.2.2.2.2.2.2.2.2) (fun s => I s.1 s.2.1 s.2.2.1 s.2.2.2.1 s.2.2.2.2.1 s.2.2.2.2.2.1 s.2.2.2.2.2.2.1 s.2.2.2.2.2.2.2.1 s.2.2.2.2.2.2.2.2.1 s.2.2.2.2.2.2.2.2.2.1 s.2.2.2.2.2.2.2.2.2.2.1 s.2.2.2.2.2.2.2.2.2.2.2.1 s.2.2.2.2.2.2.2.2.2.2.2.2) (fun s => μ s.1 s.2.1 s.2.2.1 s.2.2.2.1 s.2.2.2.2.1 s.2.2.2.2.2.1 s.2.2.2.2.2.2.1 s.2.2.2.2.2.2.2.1 s.2.2.2.2.2.2.2.2.1 s.2.2.2.2.2.2.2.2.2.1 s.2.2.2.2.2.2.2.2.2.2.1 s.2.2.2.2.2.2.2.2.2.2.2.1 s.2.2.2.2.2.2.2.2.2.2.2.2) (fun n s hI hk => hs n s.1 s.2.1 s.2.2.1 s.2.2.2.1 s.2.2.2.2.1 s.2.2.2.2.2.1 s.2.2.2.2.2.2.1 s.2.2.2.2.2.2.2.1 s.2.2.2.2.2.2.2.2.1 s.2.2.2.2.2.2.2.2.2.1 s.2.2.2.2.2.2.2.2.2.2.1 s.2.2.2.2.2.2.2.2.2.2.2.1 s.2.2.2.2.2.2.2.2.2.2.2.2 hI (fun b1 b2 b3 b4 b5 b6 b7 b8 b9 b10 b11 b12 b13 h9 hm => hk (b1, b2, b3, b4, b5, b6, b7, b8, b9, b10, b11, b12, b13) h9 hm)) (a1, a2, a3, a4, a5, a6, a7, a8, a9, a10, a11, a12, a13) h
theorem lp14 {A1 A2 A3 A4 A5 A6 A7 A8 A9 A10 A11 A12 A13 A14 : Type} (W : Nat → A1 → A2 → A3 → A4 → A5 → A6 → A7 → A8 → A9 → A10 → A11 → A12 → A13 → A14 → Prop) (I : A1 → A2 → A3 → A4 → A5 → A6 → A7 → A8 → A9 → A10 → A11 → A12 → A13 → A14 → Prop) (μ : A1 → A2 → A3 → A4 → A5 → A6 → A7 → A8 → A9 → A10 → A11 → A12 → A13 → A14 → Nat) (hs : ∀ (n : Nat) (a1 : A1) (a2 : A2) (a3 : A3) (a4 : A4) (a5 : A5) (a6 : A6) (a7 : A7) (a8 : A8) (a9 : A9) (a10 : A10) (a11 : A11) (a12 : A12) (a13 : A13) (a14 : A14), I a1 a2 a3 a4 a5 a6 a7 a8 a9 a10 a11 a12 a13 a14 → (∀ (b1 : A1) (b2 : A2) (b3 : A3) (b4 : A4) (b5 : A5) (b6 : A6) (b7 : A7) (b8 : A8) (b9 : A9) (b10 : A10) (b11 : A11) (b12 : A12) (b13 : A13) (b14 : A14), I b1 b2 b3 b4 b5 b6 b7 b8 b9 b10 b11 b12 b13 b14 → μ b1 b2 b3 b4 b5 b6 b7 b8 b9 b10 b11 b12 b13 b14 < μ a1 a2 a3 a4 a5 a6 a7 a8 a9 a10 a11 a12 a13 a14 → W n b1 b2 b3 b4 b5 b6 b7 b8 b9 b10 b11 b12 b13 b14) → W (n + 1) a1 a2 a3 a4 a5 a6 a7 a8 a9 a10 a11 a12 a13 a14) (a1 : A1) (a2 : A2) (a3 : A3) (a4 : A4) (a5 : A5) (a6 : A6) (a7 : A7) (a8 : A8) (a9 : A9) (a10 : A10) (a11 : A11) (a12 : A12) (a13 : A13) (a14 : A14) (h : I a1 a2 a3 a4 a5 a6 a7 a8 a9 a10 a11 a12 a13 a14) : ∃ n, W n a1 a2 a3 a4 a5 a6 a7 a8 a9 a10 a11 a12 a13 a14 :=
  loop_m (σ := A1 × A2 × A3 × A4 × A5 × A6 × A7 × A8 × A9 × A10 × A11 × A12 × A13 × A14) (fun n s => W n s.1 s.2.1 s.2.2.1 s.2.2.2.1 s.2.2.2.2.1 s.2.2.2.2.2.1 s.2.2.2.2.2.2.1 s.2.2.2.2.2.2.2.1 s.2.2.2.2.2.2.2.2.1 s.2.2.2.2.2.2.2.2.2.1 s.2.2.2.2.2.2.2.2.2.2.1 s.2.2.2.2.2.2.2.2.2.2.2.1 s.2.2.2.2.2.2.2.2.2.2.2.2.1 s.2.2.2.2.2.2.2.2.2.2.2.2.2) (fun s => I s.1 s.2.1 s.2.2.1 s.2.2.2.1 s.2.2.2.2.1 s.2.2.2.2.2.1 s.2.2.2.2.2.2.1 s.2.2.2.2.2.2.2.1 s.2.2.2.2.2.2.2.2.1 s.2.2.2.2.2.2.2.2.2.1 s.2.2.2.2.2.2.2.2.2.2.1 s.2.2.2.2.2.2.2.2.2.2.2.1 s.2.2.2.2.2.2.2.2.2.2.2.2.1 s.2.2.2.2.2.2.2.2.2.2.2.2.2) (fun s => μ s.1 s.2.1 s.2.2.1 s.2.2.2.1 s.2.2.2.2.1 s.2.2.2.2.2.1 s.2.2.2.2.2.2.1 s.2.2.2.2.2.2.2.1 s.2.2.2.2.2.2.2.2.1 s.2.2.2.2.2.2.2.2.2.1 s.2.2.2.2.2.2.2.2.2.2.1 s.2.2.2.2.2.2.2.2.2.2.2.1 s.2.2.2.2.2.2.2.2.2.2.2.2.1 s.2.2.2.2.2.2.2.2.2.2.2.2.2) (fun n s hI hk => hs n s.1 s.2.1 s.2.2.1 s.2.2.2.1 s.2.2.2.2.1 s.2.2.2.2.2.1 s.2.2.2.2.2.2.1 s.2.2.2.2.2.2.2.1 s.2.2.2.2.2.2.2.2.1 s.2.2.2.2.2.2.2.2.2.1 s.2.2.2.2.2.2.2.2.2.2.1 s.2.2.2.2.2.2.2.2.2.2.2.1 s.2.2.2.2.2.2.2.2.2.2.2.2.1 s.2.2.2.2.2.2.2.2.2.2.2.2.2 hI (fun b1 b2 b3 b4 b5 b6 b7 b8 b9 b10 b11 b12 b13 b14 h9 hm => hk (b1, b2, b3, b4, b5, b6, b7, b8, b9, b10, b11, b12, b13, b14) h9 hm)) (a1, a2, a3, a4, a5, a6, a7, a8, a9, a10, a11, a12, a13, a14) h
theorem lp15 {A1 A2 A3 A4 A5 A6 A7 A8 A9 A10 A11 A12 A13 A14 A15 : Type} (W : Nat → A1 → A2 → A3 → A4 → A5 → A6 → A7 → A8 → A9 → A10 → A11 → A12 → A13 → A14 → A15 → Prop) (I : A1 → A2 → A3 → A4 → A5 → A6 → A7 → A8 → A9 → A10 → A11 → A12 → A13 → A14 → A15 → Prop) (μ : A1 → A2 → A3 → A4 → A5 → A6 → A7 → A8 → A9 → A10 → A11 → A12 → A13 → A14 → A15 → Nat) (hs : ∀ (n : Nat) (a1 : A1) (a2 : A2) (a3 : A3) (a4 : A4) (a5 : A5) (a6 : A6) (a7 : A7) (a8 : A8) (a9 : A9) (a10 : A10) (a11 : A11) (a12 : A12) (a13 : A13) (a14 : A14) (a15 : A15), I a1 a2 a3 a4 a5 a6 a7 a8 a9 a10 a11 a12 a13 a14 a15 → (∀ (b1 : A1) (b2 : A2) (b3 : A3) (b4 : A4) (b5 : A5) (b6 : A6) (b7 : A7) (b8 : A8) (b9 : A9) (b10 : A10) (b11 : A11) (b12 : A12) (b13 : A13) (b14 : A14) (b15 : A15), I b1 b2 b3 b4 b5 b6 b7 b8 b9 b10 b11 b12 b13 b14 b15 → μ b1 b2 b3 b4 b5 b6 b7 b8 b9 b10 b11 b12 b13 b14 b15 < μ a1 a2 a3 a4 a5 a6 a7 a8 a9 a10 a11 a12 a13 a14 a15 → W n b1 b2 b3 b4 b5 b6 b7 b8 b9 b10 b11 b12 b13 b14 b15) → W (n + 1) a1 a2 a3 a4 a5 a6 a7 a8 a9 a10 a11 a12 a13 a14 a15) (a1 : A1) (a2 : A2) (a3 : A3) (a4 : A4) (a5 : A5) (a6 : A6) (a7 : A7) (a8 : A8) (a9 : A9) (a10 : A10) (a11 : A11) (a12 : A12) (a13 : A13) (a14 : A14) (a15 : A15) (h : I a1 a2 a3 a4 a5 a6 a7 a8 a9 a10 a11 a12 a13 a14 a15) : ∃ n, W n a1 a2 a3 a4 a5 a6 a7 a8 a9 a10 a11 a12 a13 a14 a15 :=
  loop_m (σ := A1 × A2 × A3 × A4 × A5 × A6 × A7 × A8 × A9 × A10 × A11 × A12 × A13 × A14 × A15) (fun n s => W n s.1 s.2.1 s.2.2.1 s.2.2.2.1 s.2.2.2.2.1 s.2.2.2.2.2.1 s.2.2.2.2.2.2.1 s.2.2.2.2.2.2.2.1 s.2.2.2.2.2.2.2.2.1 s.2.2.2.2.2.2.2.2.2.1 s.2.2.2.2.2.2.2.2.2.2.1 s.2.2.2.2.2.2.2.2.2.2.2.1 s.2.2.2.2.2.2.2.2.2.2.2.2.1 s.2.2.2.2.2.2.2.2.2.2.2.2.2.1 s.2.2.2.2.2.2.2.2.2.2.2.2.2.2) (fun s => I s.1 s.2.1 s.2.2.1 s.2.2.2.1 s.2.2.2.2.1 s.2.2.2.2.2.1 s.2.2.2.2.2.2.1 s.2.2.2.2.2.2.2.1 s.2.2.2.2.2.2.2.2.1 s.2.2.2.2.2.2.2.2.2.1 s.2.2.2.2.2.2.2.2.2.2.1 s.2.2.2.2.2.2.2.2.2.2.2.1 s.2.2.2.2.2.2.2.2.2.2.2.2.1 s.2.2.2.2.2.2.2.2.2.2.2.2.2.1 s.2.2.2.2.2.2.2.2.2.2.2.2.2.2) (fun s => μ s.1 s.2.1 s.2.2.1 s.2.2.2.1 s.2.2.2.2.1 s.2.2.2.2.2.1 s.2.2.2.2.2.2.1 s.2.2.2.2.2.2.2.1 s.2.2.2.2.2.2.2.2.1 s.2.2.2.2.2.2.2.2.2.1 s.2.2.2.2.2.2.2.2.2.2.1 s.2.2.2.2.2.2.2.2.2.2.2.1 s.2.2.2.2.2.2.2.2.2.2.2.2.1 s.2.2.2.2.2.2.2.2.2.2.2.2.2.1 s.2.2.2.2.2.2.2.2.2.2.2.2.2.2) (fun n s hI hk => hs n s.1 s.2.1 s.2.2.1 s.2.2.2.1 s.2.2.2.2.1 s.2.2.2.2.2.1 s.2.2.2.2.2.2.1 s.2.2.2.2.2.2.2.1 s.2.2.2.2.2.2.2.2.1 s.2.2.2.2.2.2.2.2.2.1 s.2.2.2.2.2.2.2.2.2.2.1 s.2.2.2.2.2.2.2.2.2.2.2.1 s.2.2.2.2.2.2.2.2.2.2.2.2.1 s.2.2.2.2.2.2.2.2.2.2.2.2.2.1 s.2.2.2.2.2.2.2.2.2.2.2.2.2.2 hI (fun b1 b2 b3 b4 b5 b6 b7 b8 b9 b10 b11 b12 b13 b14 b15 h9 hm => hk (b1, b2, b3, b4, b5, b6, b7, b8, b9, b10, b11, b12, b13, b14, b15) h9 hm)) (a1, a2, a3, a4, a5, a6, a7, a8, a9, a10, a11, a12, a13, a14, a15) h
theorem lp16 {A1 A2 A3 A4 A5 A6 A7 A8 A9 A10 A11 A12 A13 A14 A15 A16 : Type} (W : Nat → A1 → A2 → A3 → A4 → A5 → A6 → A7 → A8 → A9 → A10 → A11 → A12 → A13 → A14 → A15 → A16 → Prop) (I : A1 → A2 → A3 → A4 → A5 → A6 → A7 → A8 → A9 → A10 → A11 → A12 → A13 → A14 → A15 → A16 → Prop) (μ : A1 → A2 → A3 → A4 → A5 → A6 → A7 → A8 → A9 → A10 → A11 → A12 → A13 → A14 → A15 → A16 → Nat) (hs : ∀ (n : Nat) (a1 : A1) (a2 : A2) (a3 : A3) (a4 : A4) (a5 : A5) (a6 : A6) (a7 : A7) (a8 : A8) (a9 : A9) (a10 : A10) (a11 : A11) (a12 : A12) (a13 : A13) (a14 : A14) (a15 : A15) (a16 : A16), I a1 a2 a3 a4 a5 a6 a7 a8 a9 a10 a11 a12 a13 a14 a15 a16 → (∀ (b1 : A1) (b2 : A2) (b3 : A3) (b4 : A4) (b5 : A5) (b6 : A6) (b7 : A7) (b8 : A8) (b9 : A9) (b10 : A10) (b11 : A11) (b12 : A12) (b13 : A13) (b14 : A14) (b15 : A15) (b16 : A16), I b1 b2 b3 b4 b5 b6 b7 b8 b9 b10 b11 b12 b13 b14 b15 b16 → μ b1 b2 b3 b4 b5 b6 b7 b8 b9 b10 b11 b12 b13 b14 b15 b16 < μ a1 a2 a3 a4 a5 a6 a7 a8 a9 a10 a11 a12 a13 a14 a15 a16 → W n b1 b2 b3 b4 b5 b6 b7 b8 b9 b10 b11 b12 b13 b14 b15 b16) → W (n + 1) a1 a2 a3 a4 a5 a6 a7 a8 a9 a10 a11 a12 a13 a14 a15 a16) (a1 : A1) (a2 : A2) (a3 : A3) (a4 : A4) (a5 : A5) (a6 : A6) (a7 : A7) (a8 : A8) (a9 : A9) (a10 : A10) (a11 : A11) (a12 : A12) (a13 : A13) (a14 : A14) (a15 : A15) (a16 : A16) (h : I a1 a2 a3 a4 a5 a6 a7 a8 a9 a10 a11 a12 a13 a14 a15 a16) : ∃ n, W n a1 a2 a3 a4 a5 a6 a7 a8 a9 a10 a11 a12 a13 a14 a15 a16 :=
  loop_m (σ := A1 × A2 × A3 × A4 × A5 × A6 × A7 × A8 × A9 × A10 × A11 × A12 × A13 × A14 × A15 × A16) (fun n s => W n s.1 s.2.1 s.2.2.1 s.2.2.2.1 s.2.2.2.2.1 s.2.2.2.2.2.1 s.2.2.2.2.2.2.1 s.2.2.2.2.2.2.2.1 s.2.2.2.2.2.2.2.2.1 s.2.2.2.2.2.2.2.2.2.1 s.2.2.2.2.2.2.2.2.2.2.1 s.2.2.2.2.2.2.2.2.2.2.2.1 s.2.2.2.2.2.2.2.2.2.2.2.2.1 s.2.2.2.2.2.2.2.2.2.2.2.2.2.1 s.2.2.2.2.2.2.2.2.2.2.2.2.2.2.1 s.2.2.2.2.2.2.2.2.2.2.2.2.2.2.2) (fun s => I s.1 s.2.1 s.2.2.1 s.2.2.2.1 s.2.2.2.2.1 s.2.2.2.2.2.1 s.2.2.2.2.2.2.1 s.2.2.2.2.2.2.2.1 s.2.2.2.2.2.2.2.2.1 s.2.2.2.2.2.2.2.2.2.1 s.2.2.2.2.2.2.2.2.2.2.1 s.2.2.2.2.2.2.2.2.2.2.2.1 s.2.2.2.2.2.2.2.2.2.2.2.2.1 s.2.2.2.2.2.2.2.2.2.2.2.2.2.1 s.2.2.2.2.2.2.2.2.2.2.2.2.2.2.1 s.2.2.2.2.2.2.2.2.2.2.2.2.2.2.2) (fun s => μ s.1 s.2.1 s.2.2.1 s.2.2.2.1 s.2.2.2.2.1 s.2.2.2.2.2.1 s.2.2.2.2.2.2.1 s.2.2.2.2.2.2.2.1 s.2.2.2.2.2.2.2.2.1 s.2.2.2.2.2.2.2.2.2.1 s.2.2.2.2.2.2.2.2.2.2.1 s.2.2.2.2.2.2.2.2.2.2.2.1 s.2.2.2.2.2.2.2.2.2.2.2.2.1 s.2.2.2.2.2.2.2.2.2.2.2.2.2.1 s.2.2.2.2.2.2.2.2.2.2.2.2.2.2.1 s.2.2.2.2.2.2.2.2.2.2.2.2.2.2.2) (fun n s hI hk => hs n s.1 s.2.1 s.2.2.1 s.2.2.2.1 s.2.2.2.2.1 s.2.2.2.2.2.1 s.2.2.2.2.2.2.1 s.2.2.2.2.2.2.2.1 s.2.2.2.2.2.2.2.2.1 s.2.2.2.2.2.2.2.2.2.1 s.2.2.2.2.2.2.2.2.2.2.1 s.2.2.2.2.2.2.2.2.2.2.2.1 s.2.2.2.2.2.2.2.2.2.2.2.2.1 s.2.2.2.2.2.2.2.2.2.2.2.2.2.1 s.2.2.2.2.2.2.2.2.2.2.2.2.2.2.1 s.2.2.2.2.2.2.2.2.2.2.2.2.2.2.2 hI (fun b1 b2 b3 b4 b5 b6 b7 b8 b9 b10 b11 b12 b13 b14 b15 b16 h9 hm => hk (b1, b2, b3, b4, b5, b6, b7, b8, b9, b10, b11, b12, b13, b14, b15, b16) h9 hm)) (a1, a2, a3, a4, a5, a6, a7, a8, a9, a10, a11, a12, a13, a14, a15, a16) h
theorem pk_least (P : Nat → Prop) (h : ∃ k, P k) : ∃ k, P k ∧ ∀ j, j < k → ¬ P j := by
  obtain ⟨k, hk⟩ := h
  induction k using Nat.strongRecOn with
  | ind k ih =>
    by_cases e : ∃ j, j < k ∧ P j
    · obtain ⟨j, hj, pj⟩ := e
      exact ih j hj pj
    · exact ⟨k, hk, fun j hj pj => e ⟨j, hj, pj⟩⟩
theorem rp1 {ρ A1 : Type} (W : Nat → (ρ → Prop) → A1 → Prop) (ok : A1 → Prop) (μ : A1 → Nat) (val : A1 → ρ)
    (hs : ∀ (d : Nat) (post : ρ → Prop) (a1 : A1), ok a1 → post (val a1) → (∀ (post' : ρ → Prop) (b1 : A1), ok b1 → μ b1 < μ a1 → post' (val b1) → W d post' b1) → W (d + 1) post a1) :
    ∀ (d : Nat) (post : ρ → Prop) (a1 : A1), ok a1 → μ a1 < d → post (val a1) → W d post a1 := by
  intro d
  induction d with
  | zero => intro post a1 _ h; omega
  | succ d ih =>
    intro post a1 ho hm hp
    exact hs d post a1 ho hp (fun post' b1 ho' hm' hp' => ih post' b1 ho' (by omega) hp')
theorem rp2 {ρ A1 A2 : Type} (W : Nat → (ρ → Prop) → A1 → A2 → Prop) (ok : A1 → A2 → Prop) (μ : A1 → A2 → Nat) (val : A1 → A2 → ρ)
    (hs : ∀ (d : Nat) (post : ρ → Prop) (a1 : A1) (a2 : A2), ok a1 a2 → post (val a1 a2) → (∀ (post' : ρ → Prop) (b1 : A1) (b2 : A2), ok b1 b2 → μ b1 b2 < μ a1 a2 → post' (val b1 b2) → W d post' b1 b2) → W (d + 1) post a1 a2) :
    ∀ (d : Nat) (post : ρ → Prop) (a1 : A1) (a2 : A2), ok a1 a2 → μ a1 a2 < d → post (val a1 a2) → W d post a1 a2 := by
  intro d
  induction d with
  | zero => intro post a1 a2 _ h; omega
  | succ d ih =>
    intro post a1 a2 ho hm hp
    exact hs d post a1 a2 ho hp (fun post' b1 b2 ho' hm' hp' => ih post' b1 b2 ho' (by omega) hp')
theorem rp3 {ρ A1 A2 A3 : Type} (W : Nat → (ρ → Prop) → A1 → A2 → A3 → Prop) (ok : A1 → A2 → A3 → Prop) (μ : A1 → A2 → A3 → Nat) (val : A1 → A2 → A3 → ρ)
    (hs : ∀ (d : Nat) (post : ρ → Prop) (a1 : A1) (a2 : A2) (a3 : A3), ok a1 a2 a3 → post (val a1 a2 a3) → (∀ (post' : ρ → Prop) (b1 : A1) (b2 : A2) (b3 : A3), ok b1 b2 b3 → μ b1 b2 b3 < μ a1 a2 a3 → post' (val b1 b2 b3) → W d post' b1 b2 b3) → W (d + 1) post a1 a2 a3) :
    ∀ (d : Nat) (post : ρ → Prop) (a1 : A1) (a2 : A2) (a3 : A3), ok a1 a2 a3 → μ a1 a2 a3 < d → post (val a1 a2 a3) → W d post a1 a2 a3 := by
  intro d
  induction d with
  | zero => intro post a1 a2 a3 _ h; omega
  | succ d ih =>
    intro post a1 a2 a3 ho hm hp
    exact hs d post a1 a2 a3 ho hp (fun post' b1 b2 b3 ho' hm' hp' => ih post' b1 b2 b3 ho' (by omega) hp')
theorem rp4 {ρ A1 A2 A3 A4 : Type} (W : Nat → (ρ → Prop) → A1 → A2 → A3 → A4 → Prop) (ok : A1 → A2 → A3 → A4 → Prop) (μ : A1 → A2 → A3 → A4 → Nat) (val : A1 → A2 → A3 → A4 → ρ)
    (hs : ∀ (d : Nat) (post : ρ → Prop) (a1 : A1) (a2 : A2) (a3 : A3) (a4 : A4), ok a1 a2 a3 a4 → post (val a1 a2 a3 a4) → (∀ (post' : ρ → Prop) (b1 : A1) (b2 : A2) (b3 : A3) (b4 : A4), ok b1 b2 b3 b4 → μ b1 b2 b3 b4 < μ a1 a2 a3 a4 → post' (val b1 b2 b3 b4) → W d post' b1 b2 b3 b4) → W (d + 1) post a1 a2 a3 a4) :
    ∀ (d : Nat) (post : ρ → Prop) (a1 : A1) (a2 : A2) (a3 : A3) (a4 : A4), ok a1 a2 a3 a4 → μ a1 a2 a3 a4 < d → post (val a1 a2 a3 a4) → W d post a1 a2 a3 a4 := by
  intro d
  induction d with
  | zero => intro post a1 a2 a3 a4 _ h; omega
  | succ d ih =>
    intro post a1 a2 a3 a4 ho hm hp
    exact hs d post a1 a2 a3 a4 ho hp (fun post' b1 b2 b3 b4 ho' hm' hp' => ih post' b1 b2 b3 b4 ho' (by omega) hp')
theorem rp5 {ρ A1 A2 A3 A4 A5 : Type} (W : Nat → (ρ → Prop) → A1 → A2 → A3 → A4 → A5 → Prop) (ok : A1 → A2 → A3 → A4 → A5 → Prop) (μ : A1 → A2 → A3 → A4 → A5 → Nat) (val : A1 → A2 → A3 → A4 → A5 → ρ)
    (hs : ∀ (d : Nat) (post : ρ → Prop) (a1 : A1) (a2 : A2) (a3 : A3) (a4 : A4) (a5 : A5), ok a1 a2 a3 a4 a5 → post (val a1 a2 a3 a4 a5) → (∀ (post' : ρ → Prop) (b1 : A1) (b2 : A2) (b3 : A3) (b4 : A4) (b5 : A5), ok b1 b2 b3 b4 b5 → μ b1 b2 b3 b4 b5 < μ a1 a2 a3 a4 a5 → post' (val b1 b2 b3 b4 b5) → W d post' b1 b2 b3 b4 b5) → W (d + 1) post a1 a2 a3 a4 a5) :
    ∀ (d : Nat) (post : ρ → Prop) (a1 : A1) (a2 : A2) (a3 : A3) (a4 : A4) (a5 : A5), ok a1 a2 a3 a4 a5 → μ a1 a2 a3 a4 a5 < d → post (val a1 a2 a3 a4 a5) → W d post a1 a2 a3 a4 a5 := by
  intro d
  induction d with
  | zero => intro post a1 a2 a3 a4 a5 _ h; omega
  | succ d ih =>
    intro post a1 a2 a3 a4 a5 ho hm hp
    exact hs d post a1 a2 a3 a4 a5 ho hp (fun post' b1 b2 b3 b4 b5 ho' hm' hp' => ih post' b1 b2 b3 b4 b5 ho' (by omega) hp')
theorem rp6 {ρ A1 A2 A3 A4 A5 A6 : Type} (W : Nat → (ρ → Prop) → A1 → A2 → A3 → A4 → A5 → A6 → Prop) (ok : A1 → A2 → A3 → A4 → A5 → A6 → Prop) (μ : A1 → A2 → A3 → A4 → A5 → A6 → Nat) (val : A1 → A2 → A3 → A4 → A5 → A6 → ρ)
    (hs : ∀ (d : Nat) (post : ρ → Prop) (a1 : A1) (a2 : A2) (a3 : A3) (a4 : A4) (a5 : A5) (a6 : A6), ok a1 a2 a3 a4 a5 a6 → post (val a1 a2 a3 a4 a5 a6) → (∀ (post' : ρ → Prop) (b1 : A1) (b2 : A2) (b3 : A3) (b4 : A4) (b5 : A5) (b6 : A6), ok b1 b2 b3 b4 b5 b6 → μ b1 b2 b3 b4 b5 b6 < μ a1 a2 a3 a4 a5 a6 → post' (val b1 b2 b3 b4 b5 b6) → W d post' b1 b2 b3 b4 b5 b6) → W (d + 1) post a1 a2 a3 a4 a5 a6) :
    ∀ (d : Nat) (post : ρ → Prop) (a1 : A1) (a2 : A2) (a3 : A3) (a4 : A4) (a5 : A5) (a6 : A6), ok a1 a2 a3 a4 a5 a6 → μ a1 a2 a3 a4 a5 a6 < d → post (val a1 a2 a3 a4 a5 a6) → W d post a1 a2 a3 a4 a5 a6 := by
  intro d
  induction d with
  | zero => intro post a1 a2 a3 a4 a5 a6 _ h; omega
  | succ d ih =>
    intro post a1 a2 a3 a4 a5 a6 ho hm hp
    exact hs d post a1 a2 a3 a4 a5 a6 ho hp (fun post' b1 b2 b3 b4 b5 b6 ho' hm' hp' => ih post' b1 b2 b3 b4 b5 b6 ho' (by omega) hp')
theorem rec_p {σ ρ : Type} (W : Nat → (ρ → Prop) → σ → Prop) (ok : σ → Prop) (μ : σ → Nat) (val : σ → ρ)
    (hs : ∀ d s post, ok s → post (val s) → (∀ s' post', ok s' → μ s' < μ s → post' (val s') → W d post' s') → W (d + 1) post s) :
    ∀ d s post, ok s → μ s < d → post (val s) → W d post s := by
  intro d
  induction d with
  | zero => intro s post _ h; omega
  | succ d ih =>
    intro s post ho hm hp
    exact hs d s post ho hp (fun s' post' ho' hm' hp' => ih s' post' ho' (by omega) hp')
theorem rec_q {σ ρ : Type} (W : Nat → (ρ → Prop) → σ → Prop) (ok : σ → Prop) (μ : σ → Nat) (Q : σ → ρ → Prop)
    (hs : ∀ d s post, ok s → (∀ r, Q s r → post r) → (∀ s' post', ok s' → μ s' < μ s → (∀ r, Q s' r → post' r) → W d post' s') → W (d + 1) post s) :
    ∀ d s post, ok s → μ s < d → (∀ r, Q s r → post r) → W d post s := by
  intro d
  induction d with
  | zero => intro s post _ h; omega
  | succ d ih =>
    intro s post ho hm hp
    exact hs d s post ho hp (fun s' post' ho' hm' hp' => ih s' post' ho' (by omega) hp')
def bx_sum (f : Nat → Int32) : Nat → Int32
  | 0 => 0
  | n + 1 => bx_sum f n + f n
theorem ek_u {A : Prop} {B : Nat → Prop} {k N : Nat} (hk : k < N) (h : B k) : (some k = none → A) ∧ (∀ y : Nat, some k = some y → (y < N ∧ B y)) :=
  ⟨fun z => absurd z (Option.some_ne_none k), fun _ e => (by cases e; exact ⟨hk, h⟩)⟩
theorem ek_nu {A : Prop} {B : Nat → Prop} (h : A) : ((none : Option Nat) = none → A) ∧ (∀ y : Nat, (none : Option Nat) = some y → B y) :=
  ⟨fun _ => h, fun _ e => (by cases e)⟩
theorem ek_if {c d A B : Prop} (e : c ↔ d) (f : d → A) (g : ¬ d → B) : (c → A) ∧ (¬ c → B) :=
  ⟨fun z => f (e.mp z), fun z => g (fun y => z (e.mpr y))⟩
theorem ek_v {α : Sort _} {P : α → Prop} {a b : α} (e : a = b) (h : P b) : P a := e ▸ h
theorem co_some {x : Option Nat} {A : Prop} {B : Nat → Prop} (i : Nat) (h : B i) (hx : x = some i := by rfl) : (x = none → A) ∧ (∀ y : Nat, x = some y → B y) := by
  subst hx
  exact ⟨fun e => (nomatch e), fun y e => Option.some.inj e ▸ h⟩
theorem co_none {x : Option Nat} {A : Prop} {B : Nat → Prop} (h : A) (hx : x = none := by rfl) : (x = none → A) ∧ (∀ y : Nat, x = some y → B y) := by
  subst hx
  exact ⟨fun _ => h, fun y e => (nomatch e)⟩
theorem co_any {x : Option Nat} {A : Prop} {B : Nat → Prop} (hn : x = none → A) (hs : ∀ i : Nat, x = some i → B i) : (x = none → A) ∧ (∀ y : Nat, x = some y → B y) := ⟨hn, hs⟩
theorem co_2 {P : Nat → Prop} (h0 : P 0) (h1 : P 1) {i : Nat} (hi : i < 2) : P i :=
  match i, hi with
  | 0, _ => h0
  | 1, _ => h1
theorem co_3 {P : Nat → Prop} (h0 : P 0) (h1 : P 1) (h2 : P 2) {i : Nat} (hi : i < 3) : P i :=
  match i, hi with
  | 0, _ => h0
  | 1, _ => h1
  | 2, _ => h2
theorem co_4 {P : Nat → Prop} (h0 : P 0) (h1 : P 1) (h2 : P 2) (h3 : P 3) {i : Nat} (hi : i < 4) : P i :=
  match i, hi with
  | 0, _ => h0
  | 1, _ => h1
  | 2, _ => h2
  | 3, _ => h3
theorem co_dec {N : Nat} {P : Nat → Prop} [DecidablePred P] (h : (List.range N).all (fun i => decide (P i)) = true) {i : Nat} (hi : i < N) : P i := by
  have := List.all_eq_true.mp h i (List.mem_range.mpr hi)
  exact of_decide_eq_true this
theorem co_tab {α : Type} {l : List α} {d : α} {P : α → Prop} (h : ∀ a, a ∈ l → P a) {i : Nat} (hi : i < l.length) : P (l.getD i d) := by
  rw [List.getD_eq_getElem?_getD, List.getElem?_eq_getElem hi]
  exact h _ (List.getElem_mem hi)
theorem pk_mu {x : Int32} {L : Nat} (h0 : ¬ x < 0) (h : ¬ nI L ≤ x) (hL : L < 2 ^ 31) : ∃ j : Nat, j < L ∧ x = nI j ∧ x + 1 = nI (j + 1) ∧ x.toNatClampNeg = j ∧ L - (x + 1).toNatClampNeg < L - x.toNatClampNeg := by
  obtain ⟨j, hj, rfl⟩ := nI_of h0
  have hl : j < L := Nat.not_le.mp fun q => h (nI_le q hj)
  refine ⟨j, hl, rfl, nI_1 j, nI_clamp hj, ?_⟩
  rw [nI_1, nI_clamp (by omega), nI_clamp hj]
  omega
theorem op_s {α : Type} {r : Option α} {A : Prop} {B : α → Prop} {y : α} (h : r = some y) (b : B y) : (r = none → A) ∧ ∀ z, r = some z → B z :=
  ⟨fun e => (by rw [h] at e; cases e), fun z e => (by rw [h] at e; cases e; exact b)⟩
def l_holds {α : Type} (a : Nat → Option Nat) (LP : List Nat) (p : Nat → α) (c : Nat) (b : Nat → α) : Prop :=
  ∀ j, j < c → ∃ y, a j = some y ∧ y ∈ LP ∧ p y = b j
theorem l_holds_0 {α : Type} {a : Nat → Option Nat} {LP : List Nat} {p b : Nat → α} : l_holds a LP p 0 b := fun j h => absurd h (Nat.not_lt_zero j)
theorem l_in_new (LP : List Nat) (q : Nat) : q ∈ LP ++ [q] := List.mem_append.mpr (Or.inr (List.mem_singleton.mpr rfl))
def l_sum (b : Nat → Int32) : Nat → Int32
  | 0 => 0
  | k + 1 => l_sum b k + b k
theorem sb_shr0 (x : Int32) : x >>> ((0 : Int32) &&& 31) = x := by
  rw [show ((0 : Int32) &&& 31) = 0 by decide]
  simp
theorem sb_shl0 (x : Int32) : x <<< ((0 : Int32) &&& 31) = x := by
  rw [show ((0 : Int32) &&& 31) = 0 by decide]
  simp
theorem sb_cl0 : (0 : Int32).toNatClampNeg = 0 := by decide
theorem sb_m1 {p : Nat} (h : 0 < p) : nI p + (-1) = nI (p - 1) := by
  obtain ⟨q, rfl⟩ : ∃ q, p = q + 1 := ⟨p - 1, by omega⟩
  exact pk_m1 q
def sb_b (c : Nat) : Int32 := (nI c).toInt8.toInt32
theorem sb_byte : ∀ c, c < 256 → sb_b c &&& 255 = nI c ∧ ((nI c).toUInt32 % 65536).toInt32 = nI c ∧ nI c ≤ 255 := by decide +kernel
def sb_Fit (a : Nat → Int32) : Prop := ∀ j, fits .byte (.int (a j)) = true
def sb_Lat (t : Nat → Nat) (n : Nat) (a : Nat → Int32) : Prop := ∀ j, j < n → t j < 256 ∧ a j = sb_b (t j)
theorem sb_fitB (c : Nat) : fits .byte (.int (sb_b c)) = true := pk_fb _
theorem sb_fit0 : sb_Fit (fun _ => 0) := fun _ => by
  show fits .byte (.int 0) = true
  decide
theorem sb_fitU {a : Nat → Int32} {k : Nat} {x : Int32} (h : sb_Fit a) (hx : fits .byte (.int x) = true) : sb_Fit (upd a k x) := by
  intro j
  by_cases e : j = k
  · subst e
    rw [pk_us]
    exact hx
  · rw [pk_un e]
    exact h j
def sb_cat (t : Nat → Nat) (n : Nat) (s : Nat → Nat) : Nat → Nat := fun j => if j < n then t j else s (j - n)
theorem sb_cat_lo {t s : Nat → Nat} {n j : Nat} (h : j < n) : sb_cat t n s j = t j := if_pos h
theorem sb_cat_hi {t s : Nat → Nat} {n j : Nat} : sb_cat t n s (n + j) = s j := by
  show (if n + j < n then t (n + j) else s (n + j - n)) = s j
  rw [if_neg (by omega), Nat.add_sub_cancel_left]
theorem sb_latPut {t s : Nat → Nat} {n w : Nat} {a a' : Nat → Int32} (h : sb_Lat t n a) (hk : ∀ j, j < n → a' j = a j) (hs : ∀ i, i < w → s i < 256 ∧ a' (n + i) = sb_b (s i)) : sb_Lat (sb_cat t n s) (n + w) a' := by
  intro j hj
  by_cases e : j < n
  · rw [sb_cat_lo e, hk j e]
    exact h j e
  · obtain ⟨i, rfl⟩ : ∃ i, j = n + i := ⟨j - n, by omega⟩
    rw [sb_cat_hi]
    exact hs i (by omega)
theorem sb_latKeep {t : Nat → Nat} {n : Nat} {a a' : Nat → Int32} (h : sb_Lat t n a) (hk : ∀ j, j < n → a' j = a j) : sb_Lat t n a' := fun j hj => by
  rw [hk j hj]
  exact h j hj
def sb_cap (q m : Nat) : Nat := if q ≤ m then m else if 2 * m + 2 < q then q else 2 * m + 2
def sb_Room (q m mc ms : Nat) : Prop := q ≤ m ∨ (1 ≤ mc ∧ sb_cap q m ≤ ms ∧ sb_cap q m ≤ 65536)
theorem sb_cap_ge (q m : Nat) : q ≤ sb_cap q m := by
  unfold sb_cap
  split
  · omega
  · split <;> omega
theorem sb_cap_gem (q m : Nat) : m ≤ sb_cap q m := by
  unfold sb_cap
  split
  · omega
  · split <;> omega
theorem sb_cap_le {q m mc ms : Nat} (hm : m ≤ 65536) (hr : sb_Room q m mc ms) : sb_cap q m ≤ 65536 := by
  rcases hr with h | h
  · rw [sb_cap, if_pos h]
    exact hm
  · exact h.2.2
theorem sb_at {P : Int32 → Prop} {x y : Int32} (e : x = y) (h : P y) : P x := e ▸ h
def sb_dg (w : Nat) : Nat := if w < 10 then 1 else if w < 100 then 2 else if w < 1000 then 3 else if w < 10000 then 4 else if w < 100000 then 5 else if w < 1000000 then 6 else if w < 10000000 then 7 else if w < 100000000 then 8 else if w < 1000000000 then 9 else 10
def sb_dec (v : Nat) : Nat → Nat := fun i => 48 + v / 10 ^ (sb_dg v - 1 - i) % 10
theorem sb_dg_in (w : Nat) : 1 ≤ sb_dg w ∧ sb_dg w ≤ 10 := by
  unfold sb_dg
  constructor <;> (repeat' split) <;> omega
theorem sb_dg100 {w : Nat} (h : 100 ≤ w) (hw : w < 2 ^ 31) : sb_dg w = sb_dg (w / 100) + 2 := by
  rw [sb_dg, sb_dg, if_neg (show ¬ w < 10 by omega), if_neg (show ¬ w < 100 by omega)]
  by_cases h3 : w < 1000
  · rw [if_pos h3, if_pos (show w / 100 < 10 by omega)]
  rw [if_neg h3, if_neg (show ¬ w / 100 < 10 by omega)]
  by_cases h4 : w < 10000
  · rw [if_pos h4, if_pos (show w / 100 < 100 by omega)]
  rw [if_neg h4, if_neg (show ¬ w / 100 < 100 by omega)]
  by_cases h5 : w < 100000
  · rw [if_pos h5, if_pos (show w / 100 < 1000 by omega)]
  rw [if_neg h5, if_neg (show ¬ w / 100 < 1000 by omega)]
  by_cases h6 : w < 1000000
  · rw [if_pos h6, if_pos (show w / 100 < 10000 by omega)]
  rw [if_neg h6, if_neg (show ¬ w / 100 < 10000 by omega)]
  by_cases h7 : w < 10000000
  · rw [if_pos h7, if_pos (show w / 100 < 100000 by omega)]
  rw [if_neg h7, if_neg (show ¬ w / 100 < 100000 by omega)]
  by_cases h8 : w < 100000000
  · rw [if_pos h8, if_pos (show w / 100 < 1000000 by omega)]
  rw [if_neg h8, if_neg (show ¬ w / 100 < 1000000 by omega)]
  by_cases h9 : w < 1000000000
  · rw [if_pos h9, if_pos (show w / 100 < 10000000 by omega)]
  rw [if_neg h9, if_neg (show ¬ w / 100 < 10000000 by omega)]
  rw [if_pos (show w / 100 < 100000000 by omega)]
theorem sb_negT {w : Nat} (h : w < 2 ^ 31) : (-nI w).toInt = -(w : Int) := by
  rw [Int32.toInt_neg, nI_toInt h]
  exact Int.bmod_eq_of_le (by omega) (by omega)
theorem sb_nle {a b : Nat} (ha : a < 2 ^ 31) (hb : b < 2 ^ 31) : -nI a ≤ -nI b ↔ b ≤ a := by
  rw [Int32.le_iff_toInt_le, sb_negT ha, sb_negT hb]
  omega
theorem sb_nlt {a b : Nat} (ha : a < 2 ^ 31) (hb : b < 2 ^ 31) : -nI a < -nI b ↔ b < a := by
  rw [Int32.lt_iff_toInt_lt, sb_negT ha, sb_negT hb]
  omega
theorem sb_cmp {A B : Prop} {x : Int32} (v c : Nat) (f : c ≤ v → A) (g : v < c → B) (hv : v < 2 ^ 31) (hx : x = -nI c := by rfl) (hc : c < 2 ^ 31 := by omega) : (-nI v ≤ x → A) ∧ (¬ -nI v ≤ x → B) := by
  subst hx
  rw [sb_nle hv hc]
  exact ⟨f, fun z => g (by omega)⟩
theorem sb_ndiv {w : Nat} (hw : w < 2 ^ 31) : (-nI w) / 100 = -nI (w / 100) := by
  apply Int32.toInt_inj.mp
  have h100 : (100 : Int32).toInt = 100 := by decide
  rw [Int32.toInt_div, sb_negT hw, h100, sb_negT (by omega), Int.neg_tdiv, Int.tdiv_eq_ediv_of_nonneg (by omega), Int.bmod_eq_of_le (by omega) (by omega)]
  omega
theorem sb_nrem {w : Nat} (hw : w < 2 ^ 31) : (-nI (w / 100)) * 100 - (-nI w) = nI (w % 100) := by
  have h := pk_rem (a := w) (d := 100) hw (by decide) (by decide)
  rw [pk_div hw (by decide) (by decide)] at h
  rw [← h]
  show (-nI (w / 100)) * nI 100 - (-nI w) = nI w - nI (w / 100) * nI 100
  rw [Int32.neg_mul, Int32.sub_neg, Int32.add_comm, ← Int32.sub_eq_add_neg]
end
section
/-! sums over 0 .. n-1, and the mean over two bits of a number -/
def gi_s (f : Nat → Nat) : Nat → Nat
  | 0 => 0
  | n + 1 => gi_s f n + f n
theorem gi_s_congr {f g : Nat → Nat} : ∀ n : Nat, (∀ i, i < n → f i = g i) → gi_s f n = gi_s g n := by
  intro n
  induction n with
  | zero => intro _; rfl
  | succ n ih =>
    intro h
    show gi_s f n + f n = gi_s g n + g n
    rw [ih (fun i hi => h i (by omega)), h n (by omega)]
theorem gi_s_add (f g : Nat → Nat) (n : Nat) : gi_s (fun i => f i + g i) n = gi_s f n + gi_s g n := by
  induction n with
  | zero => rfl
  | succ n ih =>
    show gi_s (fun i => f i + g i) n + (f n + g n) = (gi_s f n + f n) + (gi_s g n + g n)
    rw [ih]; omega
theorem gi_s_mul (c : Nat) (f : Nat → Nat) (n : Nat) : gi_s (fun i => c * f i) n = c * gi_s f n := by
  induction n with
  | zero => rfl
  | succ n ih =>
    show gi_s (fun i => c * f i) n + c * f n = c * (gi_s f n + f n)
    rw [ih, Nat.mul_add]
theorem gi_s_const (c n : Nat) : gi_s (fun _ => c) n = c * n := by
  induction n with
  | zero => rfl
  | succ n ih =>
    show gi_s (fun _ => c) n + c = c * (n + 1)
    rw [ih, Nat.mul_add, Nat.mul_one]
theorem gi_s_zero {f : Nat → Nat} (n : Nat) (h : ∀ i, i < n → f i = 0) : gi_s f n = 0 := by
  rw [gi_s_congr (g := fun _ => 0) n h, gi_s_const, Nat.zero_mul]
theorem gi_s_le {f : Nat → Nat} (c n : Nat) (h : ∀ i, i < n → f i ≤ c) : gi_s f n ≤ c * n := by
  induction n with
  | zero => exact Nat.zero_le _
  | succ n ih =>
    have h1 := ih (fun i hi => h i (by omega))
    have h2 := h n (by omega)
    show gi_s f n + f n ≤ c * (n + 1)
    rw [Nat.mul_add, Nat.mul_one]
    omega
theorem gi_s_app (f : Nat → Nat) (m n : Nat) : gi_s f (m + n) = gi_s f m + gi_s (fun i => f (m + i)) n := by
  induction n with
  | zero => rfl
  | succ n ih =>
    show gi_s f (m + n) + f (m + n) = gi_s f m + (gi_s (fun i => f (m + i)) n + f (m + n))
    rw [ih]; omega
theorem gi_s_split (f : Nat → Nat) (b a : Nat) : gi_s f (a * b) = gi_s (fun h => gi_s (fun l => f (h * b + l)) b) a := by
  induction a with
  | zero => rw [Nat.zero_mul]; rfl
  | succ a ih =>
    show _ = gi_s (fun h => gi_s (fun l => f (h * b + l)) b) a + gi_s (fun l => f (a * b + l)) b
    rw [Nat.succ_mul, gi_s_app, ih]
theorem gi_s4 (f : Nat → Nat) : gi_s f 4 = f 0 + f 1 + f 2 + f 3 := by
  show 0 + f 0 + f 1 + f 2 + f 3 = _
  omega
theorem gi_avg (F : Nat → Nat → Nat → Nat) (B A : Nat) (hB : 0 < B) (hF : ∀ w d e, d < 2 → e < 2 → F w d e = F (w % B) d e) :
    4 * gi_s (fun w => F w (w / B % 2) (w / B / 2 % 2)) (A * (4 * B)) = gi_s (fun w => F w 0 0 + F w 0 1 + F w 1 0 + F w 1 1) (A * (4 * B)) := by
  rw [gi_s_split, gi_s_split, ← gi_s_mul]
  apply gi_s_congr
  intro h _
  rw [gi_s_split _ B 4, gi_s_split _ B 4]
  have e : ∀ d l, l < B → (h * (4 * B) + (d * B + l)) % B = l ∧ (h * (4 * B) + (d * B + l)) / B = 4 * h + d := by
    intro d l hl
    have q : h * (4 * B) + (d * B + l) = B * (4 * h + d) + l := by
      rw [Nat.mul_add, ← Nat.add_assoc, Nat.mul_comm d B, ← Nat.mul_assoc, Nat.mul_comm (h * 4) B, Nat.mul_comm h 4]
    rw [q]
    constructor
    · rw [Nat.mul_add_mod, Nat.mod_eq_of_lt hl]
    · rw [Nat.mul_add_div hB, Nat.div_eq_of_lt hl, Nat.add_zero]
  have L : ∀ d, gi_s (fun l => F (h * (4 * B) + (d * B + l)) ((h * (4 * B) + (d * B + l)) / B % 2) ((h * (4 * B) + (d * B + l)) / B / 2 % 2)) B = gi_s (fun l => F l (d % 2) (d / 2 % 2)) B := by
    intro d
    apply gi_s_congr
    intro l hl
    obtain ⟨e1, e2⟩ := e d l hl
    have p1 : (4 * h + d) % 2 = d % 2 := by omega
    have p2 : (4 * h + d) / 2 % 2 = d / 2 % 2 := by omega
    rw [e2, p1, p2, hF (h * (4 * B) + (d * B + l)) _ _ (Nat.mod_lt _ (by decide)) (Nat.mod_lt _ (by decide)), e1]
  have R : ∀ d, gi_s (fun l => F (h * (4 * B) + (d * B + l)) 0 0 + F (h * (4 * B) + (d * B + l)) 0 1 + F (h * (4 * B) + (d * B + l)) 1 0 + F (h * (4 * B) + (d * B + l)) 1 1) B = gi_s (fun l => F l 0 0) B + gi_s (fun l => F l 0 1) B + gi_s (fun l => F l 1 0) B + gi_s (fun l => F l 1 1) B := by
    intro d
    rw [← gi_s_add, ← gi_s_add, ← gi_s_add]
    apply gi_s_congr
    intro l hl
    obtain ⟨e1, e2⟩ := e d l hl
    have z : ∀ x y, x < 2 → y < 2 → F (h * (4 * B) + (d * B + l)) x y = F l x y := by
      intro x y hx hy
      rw [hF _ x y hx hy, e1]
    rw [z 0 0 (by decide) (by decide), z 0 1 (by decide) (by decide), z 1 0 (by decide) (by decide), z 1 1 (by decide) (by decide)]
  rw [gi_s4, gi_s4]
  rw [L 0, L 1, L 2, L 3, R 0, R 1, R 2, R 3]
  show 4 * (gi_s (fun l => F l 0 0) B + gi_s (fun l => F l 1 0) B + gi_s (fun l => F l 0 1) B + gi_s (fun l => F l 1 1) B) = _
  omega
/-- one at x, nought elsewhere -/
def gi_d (x v : Nat) : Nat := if x = v then 1 else 0
theorem gi_d_self (x : Nat) : gi_d x x = 1 := if_pos rfl
theorem gi_d_ne {x v : Nat} (h : x ≠ v) : gi_d x v = 0 := if_neg h
theorem gi_d_comm (x v : Nat) : gi_d x v = gi_d v x := by
  by_cases h : x = v
  · rw [h]
  · rw [gi_d_ne h, gi_d_ne (Ne.symm h)]
theorem gi_d_le (x v : Nat) : gi_d x v ≤ 1 := by
  by_cases h : x = v
  · rw [h, gi_d_self]; exact Nat.le_refl 1
  · rw [gi_d_ne h]; exact Nat.zero_le 1
theorem gi_d_sub (x v : Nat) (g : Nat → Nat) : gi_d x v * g v = gi_d x v * g x := by
  by_cases h : x = v
  · rw [h]
  · rw [gi_d_ne h, Nat.zero_mul, Nat.zero_mul]
theorem gi_smp1 (x : Nat) (g : Nat → Nat) (n : Nat) : gi_s (fun v => gi_d x v * g v) n = if x < n then g x else 0 := by
  induction n with
  | zero => rfl
  | succ n ih =>
    show gi_s (fun v => gi_d x v * g v) n + gi_d x n * g n = _
    rw [ih]
    by_cases h : x = n
    · rw [h, gi_d_self, if_neg (Nat.lt_irrefl n), if_pos (Nat.lt_succ_self n), Nat.one_mul, Nat.zero_add]
    · rw [gi_d_ne h, Nat.zero_mul, Nat.add_zero]
      by_cases h2 : x < n
      · rw [if_pos h2, if_pos (by omega)]
      · rw [if_neg h2, if_neg (by omega)]
theorem gi_smp {x y : Nat} (hx : x < 14) (hy : y < 14) (g : Nat → Nat) : gi_s (fun v => (gi_d x v + gi_d y v) * g v) 14 = g x + g y := by
  have h : gi_s (fun v => (gi_d x v + gi_d y v) * g v) 14 = gi_s (fun v => gi_d x v * g v + gi_d y v * g v) 14 :=
    gi_s_congr 14 (fun v _ => Nat.add_mul _ _ _)
  rw [h, gi_s_add, gi_smp1, gi_smp1, if_pos hx, if_pos hy]
end
section
/-! the pedigree: children counted, genes followed in a way, and what they rest on -/
def gi_c (M : Nat → Int32) : Nat → Nat
  | 0 => 0
  | i + 1 => if M i < 0 then gi_c M i else gi_c M i + 1
def gi_t (M F : Nat → Int32) (w : Nat) : Nat → Nat → Nat
  | 0 => fun _ => 0
  | i + 1 => fun j =>
    if j = 2 * i then (if M i < 0 then 2 * i else gi_t M F w i (2 * (M i).toNatClampNeg + w / 4 ^ gi_c M i % 2))
    else if j = 2 * i + 1 then (if M i < 0 then 2 * i + 1 else gi_t M F w i (2 * (F i).toNatClampNeg + w / 4 ^ gi_c M i / 2 % 2))
    else gi_t M F w i j
/-- gene b of member i in way w -/
def gi_g (M F : Nat → Int32) (w i b : Nat) : Nat := gi_t M F w 7 (2 * i + b)
/-- the first n members are founders or children of earlier ones -/
def gi_P (n : Nat) (M F : Nat → Int32) : Prop := ∀ i, i < n → (M i = -1 ∧ F i = -1) ∨ (∃ a b, a < i ∧ b < i ∧ M i = nI a ∧ F i = nI b)
theorem gi_t_0 (M F : Nat → Int32) (w i : Nat) : gi_t M F w (i + 1) (2 * i) = if M i < 0 then 2 * i else gi_t M F w i (2 * (M i).toNatClampNeg + w / 4 ^ gi_c M i % 2) := by
  show (if 2 * i = 2 * i then _ else _) = _
  rw [if_pos rfl]
theorem gi_t_1 (M F : Nat → Int32) (w i : Nat) : gi_t M F w (i + 1) (2 * i + 1) = if M i < 0 then 2 * i + 1 else gi_t M F w i (2 * (F i).toNatClampNeg + w / 4 ^ gi_c M i / 2 % 2) := by
  show (if 2 * i + 1 = 2 * i then _ else if 2 * i + 1 = 2 * i + 1 then _ else _) = _
  rw [if_neg (by omega), if_pos rfl]
theorem gi_t_n (M F : Nat → Int32) (w i j : Nat) (h : j < 2 * i) : gi_t M F w (i + 1) j = gi_t M F w i j := by
  show (if j = 2 * i then _ else if j = 2 * i + 1 then _ else _) = _
  rw [if_neg (by omega), if_neg (by omega)]
theorem gi_t_st (M F : Nat → Int32) (w i j : Nat) (h : j < 2 * i) (d : Nat) : gi_t M F w (i + d) j = gi_t M F w i j := by
  induction d with
  | zero => rfl
  | succ d ih => rw [← Nat.add_assoc, gi_t_n M F w (i + d) j (by omega), ih]
theorem gi_t_7 (M F : Nat → Int32) (w i j : Nat) (hi : i ≤ 7) (h : j < 2 * i) : gi_t M F w i j = gi_t M F w 7 j := by
  have := gi_t_st M F w i j h (7 - i)
  rw [show i + (7 - i) = 7 by omega] at this
  exact this.symm
theorem gi_m1lt : (-1 : Int32) < 0 := by decide
theorem gi_g_fo {M F : Nat → Int32} {i : Nat} (w : Nat) (hi : i < 7) (h : M i = -1) : gi_g M F w i 0 = 2 * i ∧ gi_g M F w i 1 = 2 * i + 1 := by
  have hm : M i < 0 := by rw [h]; exact gi_m1lt
  constructor
  · show gi_t M F w 7 (2 * i) = _
    rw [← gi_t_7 M F w (i + 1) (2 * i) (by omega) (by omega), gi_t_0, if_pos hm]
  · show gi_t M F w 7 (2 * i + 1) = _
    rw [← gi_t_7 M F w (i + 1) (2 * i + 1) (by omega) (by omega), gi_t_1, if_pos hm]
theorem gi_g_ch {M F : Nat → Int32} {i a b : Nat} (w : Nat) (hi : i < 7) (ha : a < i) (hb : b < i) (hM : M i = nI a) (hF : F i = nI b) :
    gi_g M F w i 0 = gi_g M F w a (w / 4 ^ gi_c M i % 2) ∧ gi_g M F w i 1 = gi_g M F w b (w / 4 ^ gi_c M i / 2 % 2) := by
  have hm : ¬ M i < 0 := by rw [hM]; exact nI_pos (by omega)
  constructor
  · show gi_t M F w 7 (2 * i) = gi_t M F w 7 _
    have hlt : 2 * a + w / 4 ^ gi_c M i % 2 < 2 * i := by omega
    rw [← gi_t_7 M F w (i + 1) (2 * i) (by omega) (by omega), gi_t_0, if_neg hm, hM, nI_clamp (by omega), gi_t_7 M F w i _ (by omega) hlt]
  · show gi_t M F w 7 (2 * i + 1) = gi_t M F w 7 _
    have hlt : 2 * b + w / 4 ^ gi_c M i / 2 % 2 < 2 * i := by omega
    rw [← gi_t_7 M F w (i + 1) (2 * i + 1) (by omega) (by omega), gi_t_1, if_neg hm, hF, nI_clamp (by omega), gi_t_7 M F w i _ (by omega) hlt]
theorem gi_c_mono (M : Nat → Int32) (i d : Nat) : gi_c M i ≤ gi_c M (i + d) := by
  induction d with
  | zero => exact Nat.le_refl _
  | succ d ih =>
    show _ ≤ (if M (i + d) < 0 then gi_c M (i + d) else gi_c M (i + d) + 1)
    by_cases h : M (i + d) < 0
    · rw [if_pos h]; exact ih
    · rw [if_neg h]; omega
theorem gi_c_ch {M : Nat → Int32} {i y : Nat} (hi : i < y) (hm : ¬ M i < 0) : gi_c M i + 1 ≤ gi_c M y := by
  have h := gi_c_mono M (i + 1) (y - (i + 1))
  rw [show i + 1 + (y - (i + 1)) = y by omega] at h
  have e : gi_c M (i + 1) = gi_c M i + 1 := by
    show (if M i < 0 then gi_c M i else gi_c M i + 1) = _
    rw [if_neg hm]
  omega
theorem gi_c_le (M : Nat → Int32) (i : Nat) : gi_c M i ≤ i := by
  induction i with
  | zero => exact Nat.le_refl _
  | succ i ih =>
    show (if M i < 0 then gi_c M i else gi_c M i + 1) ≤ _
    by_cases h : M i < 0
    · rw [if_pos h]; omega
    · rw [if_neg h]; omega
theorem gi_c_le6 {M F : Nat → Int32} {n : Nat} (hn : n ≤ 7) (hP : gi_P n M F) : gi_c M n ≤ 6 := by
  have H : ∀ k, k + 1 ≤ n → gi_c M (k + 1) ≤ k := by
    intro k
    induction k with
    | zero =>
      intro hk
      have hm : M 0 < 0 := by
        rcases hP 0 (by omega) with ⟨h, _⟩ | ⟨a, b, ha, _⟩
        · rw [h]; exact gi_m1lt
        · omega
      show (if M 0 < 0 then gi_c M 0 else gi_c M 0 + 1) ≤ 0
      rw [if_pos hm]
      exact Nat.le_refl 0
    | succ k ih =>
      intro hk
      have := ih (by omega)
      show (if M (k + 1) < 0 then gi_c M (k + 1) else gi_c M (k + 1) + 1) ≤ _
      by_cases h : M (k + 1) < 0
      · rw [if_pos h]; omega
      · rw [if_neg h]; omega
  cases n with
  | zero => exact Nat.zero_le _
  | succ k => have := H k (Nat.le_refl _); omega
theorem gi_g_lt {M F : Nat → Int32} {n : Nat} (hn : n ≤ 7) (hP : gi_P n M F) (w : Nat) : ∀ k i, i < k → i < n → ∀ b, b < 2 → gi_g M F w i b < 2 * i + 2 := by
  intro k
  induction k with
  | zero => intro i hi; omega
  | succ k ih =>
    intro i hi hin b hb
    have hb2 : b = 0 ∨ b = 1 := by omega
    rcases hP i hin with ⟨h, _⟩ | ⟨a, c, ha, hc, hM, hF⟩
    · obtain ⟨e0, e1⟩ := gi_g_fo (F := F) w (by omega) h
      rcases hb2 with rfl | rfl
      · rw [e0]; omega
      · rw [e1]; omega
    · obtain ⟨e0, e1⟩ := gi_g_ch w (by omega) ha hc hM hF
      rcases hb2 with rfl | rfl
      · rw [e0]
        have := ih a (by omega) (by omega) (w / 4 ^ gi_c M i % 2) (by omega)
        omega
      · rw [e1]
        have := ih c (by omega) (by omega) (w / 4 ^ gi_c M i / 2 % 2) (by omega)
        omega
theorem gi_g_l {M F : Nat → Int32} {n i b : Nat} (hn : n ≤ 7) (hP : gi_P n M F) (w : Nat) (hi : i < n) (hb : b < 2) : gi_g M F w i b < 2 * i + 2 := gi_g_lt hn hP w (i + 1) i (by omega) hi b hb
theorem gi_bits (w c d : Nat) (h : c + 1 ≤ d) : (w % 4 ^ d) / 4 ^ c % 2 = w / 4 ^ c % 2 ∧ (w % 4 ^ d) / 4 ^ c / 2 % 2 = w / 4 ^ c / 2 % 2 := by
  obtain ⟨r, rfl⟩ : ∃ r, d = c + (r + 1) := ⟨d - c - 1, by omega⟩
  rw [Nat.pow_add, Nat.mod_mul_right_div_self]
  have e : w / 4 ^ c = 4 ^ (r + 1) * (w / 4 ^ c / 4 ^ (r + 1)) + w / 4 ^ c % 4 ^ (r + 1) := (Nat.div_add_mod _ _).symm
  rw [Nat.pow_succ, Nat.mul_comm (4 ^ r) 4, Nat.mul_assoc] at e
  rw [Nat.pow_succ, Nat.mul_comm (4 ^ r) 4]
  generalize w / 4 ^ c % (4 * 4 ^ r) = s at e ⊢
  generalize 4 ^ r * (w / 4 ^ c / (4 * 4 ^ r)) = z at e
  generalize w / 4 ^ c = x at e ⊢
  constructor <;> omega
theorem gi_g_old' {M F : Nat → Int32} {n y : Nat} (hn : n ≤ 7) (hP : gi_P n M F) (hy : y ≤ n) (w : Nat) : ∀ k i, i < k → i < y → ∀ b, b < 2 → gi_g M F w i b = gi_g M F (w % 4 ^ gi_c M y) i b := by
  intro k
  induction k with
  | zero => intro i hi; omega
  | succ k ih =>
    intro i hi hin b hb
    have hb2 : b = 0 ∨ b = 1 := by omega
    rcases hP i (by omega) with ⟨h, _⟩ | ⟨a, c, ha, hc, hM, hF⟩
    · obtain ⟨e0, e1⟩ := gi_g_fo (F := F) w (by omega) h
      obtain ⟨e2, e3⟩ := gi_g_fo (F := F) (w % 4 ^ gi_c M y) (by omega) h
      rcases hb2 with rfl | rfl
      · rw [e0, e2]
      · rw [e1, e3]
    · obtain ⟨e0, e1⟩ := gi_g_ch w (by omega) ha hc hM hF
      obtain ⟨e2, e3⟩ := gi_g_ch (w % 4 ^ gi_c M y) (by omega) ha hc hM hF
      have hm : ¬ M i < 0 := by rw [hM]; exact nI_pos (by omega)
      obtain ⟨p, q⟩ := gi_bits w (gi_c M i) (gi_c M y) (gi_c_ch hin hm)
      rcases hb2 with rfl | rfl
      · rw [e0, e2, p]
        exact ih a (by omega) (by omega) _ (by omega)
      · rw [e1, e3, q]
        exact ih c (by omega) (by omega) _ (by omega)
theorem gi_g_old {M F : Nat → Int32} {n y i b : Nat} (hn : n ≤ 7) (hP : gi_P n M F) (hy : y ≤ n) (w : Nat) (hi : i < y) (hb : b < 2) : gi_g M F w i b = gi_g M F (w % 4 ^ gi_c M y) i b := gi_g_old' hn hP hy w (i + 1) i (by omega) hi b hb
/-- how many of the two genes of member p (none for a number below 0) are v -/
def gi_k (M F : Nat → Int32) (w : Nat) (p : Int32) (v : Nat) : Nat := if p < 0 then 0 else gi_d (gi_g M F w p.toNatClampNeg 0) v + gi_d (gi_g M F w p.toNatClampNeg 1) v
/-- an index below z, or none -/
def gi_ix (z : Nat) (p : Int32) : Prop := p = -1 ∨ ∃ a, a < z ∧ p = nI a
theorem gi_ix_n {z a : Nat} (h : a < z) : gi_ix z (nI a) := Or.inr ⟨a, h, rfl⟩
theorem gi_ix_up {z y : Nat} {p : Int32} (h : gi_ix z p) (hy : z ≤ y) : gi_ix y p := by
  rcases h with h | ⟨a, ha, e⟩
  · exact Or.inl h
  · exact Or.inr ⟨a, by omega, e⟩
theorem gi_ixM {M F : Nat → Int32} {n y : Nat} (hP : gi_P n M F) (hy : y < n) : gi_ix y (M y) := by
  rcases hP y hy with ⟨h, _⟩ | ⟨a, c, ha, hc, hM, hF⟩
  · exact Or.inl h
  · exact Or.inr ⟨a, ha, hM⟩
theorem gi_ixF {M F : Nat → Int32} {n y : Nat} (hP : gi_P n M F) (hy : y < n) : gi_ix y (F y) := by
  rcases hP y hy with ⟨_, h⟩ | ⟨a, c, ha, hc, hM, hF⟩
  · exact Or.inl h
  · exact Or.inr ⟨c, hc, hF⟩
theorem gi_k_m {M F : Nat → Int32} (w v : Nat) : gi_k M F w (-1) v = 0 := if_pos gi_m1lt
theorem gi_k_n {M F : Nat → Int32} (w v : Nat) {a : Nat} (h : a < 2 ^ 31) : gi_k M F w (nI a) v = gi_d (gi_g M F w a 0) v + gi_d (gi_g M F w a 1) v := by
  unfold gi_k
  rw [if_neg (nI_pos h), nI_clamp h]
theorem gi_k_le {M F : Nat → Int32} (w v : Nat) (p : Int32) : gi_k M F w p v ≤ 2 := by
  unfold gi_k
  by_cases h : p < 0
  · rw [if_pos h]; omega
  · rw [if_neg h]
    have := gi_d_le (gi_g M F w p.toNatClampNeg 0) v
    have := gi_d_le (gi_g M F w p.toNatClampNeg 1) v
    omega
theorem gi_k_big {M F : Nat → Int32} {n y : Nat} {p : Int32} (hn : n ≤ 7) (hP : gi_P n M F) (hy : y ≤ n) (hp : gi_ix y p) (w v : Nat) (hv : 2 * y ≤ v) : gi_k M F w p v = 0 := by
  rcases hp with rfl | ⟨a, ha, rfl⟩
  · exact gi_k_m w v
  · have h0 := gi_g_l (b := 0) hn hP w (show a < n by omega) (by omega)
    have h1 := gi_g_l (b := 1) hn hP w (show a < n by omega) (by omega)
    rw [gi_k_n w v (by omega), gi_d_ne (by omega), gi_d_ne (by omega)]
theorem gi_k_old {M F : Nat → Int32} {n y : Nat} {p : Int32} (hn : n ≤ 7) (hP : gi_P n M F) (hy : y ≤ n) (hp : gi_ix y p) (w v : Nat) : gi_k M F w p v = gi_k M F (w % 4 ^ gi_c M y) p v := by
  rcases hp with rfl | ⟨a, ha, rfl⟩
  · rw [gi_k_m, gi_k_m]
  · rw [gi_k_n w v (by omega), gi_k_n _ v (by omega), gi_g_old hn hP hy w ha (by omega), gi_g_old hn hP hy w ha (by omega)]
end
section
/-! the mean over the two bits of a child, in three forms (founders too) -/
def gi_b2 (f g : Nat → Nat) : Nat := gi_s (fun v => f v * g v) 14
def gi_b3 (f g h : Nat → Nat) : Nat := gi_s (fun v => f v * (g v * h v)) 14
def gi_b4 (f g h i : Nat → Nat) : Nat := gi_s (fun v => f v * (g v * (h v * i v))) 14
theorem gi_pw {c d : Nat} (h : c + 1 ≤ d) : 4 ^ d = 4 ^ (d - c - 1) * (4 * 4 ^ c) := by
  obtain ⟨r, rfl⟩ : ∃ r, d = r + (c + 1) := ⟨d - c - 1, by omega⟩
  rw [show r + (c + 1) - c - 1 = r by omega, Nat.pow_add, Nat.pow_succ, Nat.mul_comm (4 ^ c) 4]
theorem gi_mst {M F : Nat → Int32} {n y a b : Nat} (hn : n ≤ 7) (hP : gi_P n M F) (hy : y < n) (ha : a < y) (hb : b < y) (hM : M y = nI a) (hF : F y = nI b)
    (Φ : Nat → Nat → Nat → Nat) (hΦ : ∀ w x x', Φ w x x' = Φ (w % 4 ^ gi_c M y) x x') :
    4 * gi_s (fun w => Φ w (gi_g M F w y 0) (gi_g M F w y 1)) (4 ^ gi_c M n) =
      gi_s (fun w => Φ w (gi_g M F w a 0) (gi_g M F w b 0) + Φ w (gi_g M F w a 0) (gi_g M F w b 1) + Φ w (gi_g M F w a 1) (gi_g M F w b 0) + Φ w (gi_g M F w a 1) (gi_g M F w b 1)) (4 ^ gi_c M n) := by
  have hm : ¬ M y < 0 := by rw [hM]; exact nI_pos (by omega)
  have e : 4 ^ gi_c M n = 4 ^ (gi_c M n - gi_c M y - 1) * (4 * 4 ^ gi_c M y) := gi_pw (gi_c_ch hy hm)
  have h := gi_avg (fun w d e => Φ w (gi_g M F w a d) (gi_g M F w b e)) (4 ^ gi_c M y) (4 ^ (gi_c M n - gi_c M y - 1)) (Nat.pow_pos (by decide)) (by
    intro w d e hd he
    show Φ w (gi_g M F w a d) (gi_g M F w b e) = Φ (w % 4 ^ gi_c M y) (gi_g M F (w % 4 ^ gi_c M y) a d) (gi_g M F (w % 4 ^ gi_c M y) b e)
    rw [← gi_g_old hn hP (Nat.le_of_lt hy) w ha hd, ← gi_g_old hn hP (Nat.le_of_lt hy) w hb he]
    exact hΦ w _ _)
  rw [e, ← h]
  refine congrArg (fun z => 4 * z) (gi_s_congr _ ?_)
  intro w _
  obtain ⟨e0, e1⟩ := gi_g_ch w (show y < 7 by omega) ha hb hM hF
  rw [e0, e1]
/-- rests on the first c digits alone -/
def gi_O (c : Nat) (g : Nat → Nat → Nat) : Prop := ∀ w v, g w v = g (w % 4 ^ c) v
theorem gi_b2_0 {M F : Nat → Int32} (w : Nat) (g : Nat → Nat) : gi_b2 (gi_k M F w (-1)) g = 0 :=
  gi_s_zero 14 (fun v _ => by rw [gi_k_m, Nat.zero_mul])
theorem gi_b2_n {M F : Nat → Int32} {n a : Nat} (hn : n ≤ 7) (hP : gi_P n M F) (ha : a < n) (w : Nat) (g : Nat → Nat) : gi_b2 (gi_k M F w (nI a)) g = g (gi_g M F w a 0) + g (gi_g M F w a 1) := by
  have h0 := gi_g_l (b := 0) hn hP w ha (by omega)
  have h1 := gi_g_l (b := 1) hn hP w ha (by omega)
  rw [← gi_smp (show gi_g M F w a 0 < 14 by omega) (show gi_g M F w a 1 < 14 by omega) g]
  exact gi_s_congr 14 (fun v _ => by rw [gi_k_n w v (by omega)])
theorem gi_b3_2 (f g h : Nat → Nat) : gi_b3 f g h = gi_b2 f (fun v => g v * h v) := rfl
theorem gi_b4_2 (f g h i : Nat → Nat) : gi_b4 f g h i = gi_b2 f (fun v => g v * (h v * i v)) := rfl
theorem gi_E0 {M F : Nat → Int32} {n y : Nat} (hn : n ≤ 7) (hP : gi_P n M F) (hy : y < n) (g : Nat → Nat → Nat) (hg : gi_O (gi_c M y) g) (hv : ∀ w v, 2 * y ≤ v → g w v = 0) :
    2 * gi_s (fun w => g w (gi_g M F w y 0) + g w (gi_g M F w y 1)) (4 ^ gi_c M n) = gi_s (fun w => gi_b2 (gi_k M F w (M y)) (g w)) (4 ^ gi_c M n) + gi_s (fun w => gi_b2 (gi_k M F w (F y)) (g w)) (4 ^ gi_c M n) := by
  rcases hP y hy with ⟨hM, hF⟩ | ⟨a, b, ha, hb, hM, hF⟩
  · have h1 : gi_s (fun w => gi_b2 (gi_k M F w (M y)) (g w)) (4 ^ gi_c M n) = 0 := gi_s_zero _ (by intro w _; rw [hM]; exact gi_b2_0 w _)
    have h2 : gi_s (fun w => gi_b2 (gi_k M F w (F y)) (g w)) (4 ^ gi_c M n) = 0 := gi_s_zero _ (by intro w _; rw [hF]; exact gi_b2_0 w _)
    have h0 : gi_s (fun w => g w (gi_g M F w y 0) + g w (gi_g M F w y 1)) (4 ^ gi_c M n) = 0 := gi_s_zero _ (by
      intro w _
      obtain ⟨e0, e1⟩ := gi_g_fo (F := F) w (show y < 7 by omega) hM
      rw [e0, e1, hv w (2 * y) (by omega), hv w (2 * y + 1) (by omega)])
    rw [h0, h1, h2]
  · have h := gi_mst hn hP hy ha hb hM hF (fun w x x' => g w x + g w x') (by
      intro w x x'
      show g w x + g w x' = g (w % 4 ^ gi_c M y) x + g (w % 4 ^ gi_c M y) x'
      rw [← hg, ← hg])
    have e : gi_s (fun w => gi_b2 (gi_k M F w (M y)) (g w)) (4 ^ gi_c M n) + gi_s (fun w => gi_b2 (gi_k M F w (F y)) (g w)) (4 ^ gi_c M n) = gi_s (fun w => (g w (gi_g M F w a 0) + g w (gi_g M F w a 1)) + (g w (gi_g M F w b 0) + g w (gi_g M F w b 1))) (4 ^ gi_c M n) := by
      rw [← gi_s_add]
      apply gi_s_congr
      intro w _
      rw [hM, hF, gi_b2_n hn hP (show a < n by omega), gi_b2_n hn hP (show b < n by omega)]
    have e2 : 2 * gi_s (fun w => (g w (gi_g M F w a 0) + g w (gi_g M F w a 1)) + (g w (gi_g M F w b 0) + g w (gi_g M F w b 1))) (4 ^ gi_c M n) = gi_s (fun w => (g w (gi_g M F w a 0) + g w (gi_g M F w b 0)) + (g w (gi_g M F w a 0) + g w (gi_g M F w b 1)) + (g w (gi_g M F w a 1) + g w (gi_g M F w b 0)) + (g w (gi_g M F w a 1) + g w (gi_g M F w b 1))) (4 ^ gi_c M n) := by
      rw [← gi_s_mul]
      apply gi_s_congr
      intro w _
      omega
    rw [e]
    have h' : 4 * gi_s (fun w => g w (gi_g M F w y 0) + g w (gi_g M F w y 1)) (4 ^ gi_c M n) = _ := h
    rw [← e2] at h'
    omega
theorem gi_E1 {M F : Nat → Int32} {n y : Nat} (hn : n ≤ 7) (hP : gi_P n M F) (hy : y < n) (g : Nat → Nat → Nat) (hg : gi_O (gi_c M y) g) :
    4 * gi_s (fun w => gi_d (gi_g M F w y 0) (gi_g M F w y 1) * g w (gi_g M F w y 0)) (4 ^ gi_c M n) = gi_s (fun w => gi_b3 (gi_k M F w (M y)) (gi_k M F w (F y)) (g w)) (4 ^ gi_c M n) := by
  rcases hP y hy with ⟨hM, hF⟩ | ⟨a, b, ha, hb, hM, hF⟩
  · have h1 : gi_s (fun w => gi_b3 (gi_k M F w (M y)) (gi_k M F w (F y)) (g w)) (4 ^ gi_c M n) = 0 := gi_s_zero _ (by intro w _; rw [hM]; exact gi_b2_0 w _)
    have h0 : gi_s (fun w => gi_d (gi_g M F w y 0) (gi_g M F w y 1) * g w (gi_g M F w y 0)) (4 ^ gi_c M n) = 0 := gi_s_zero _ (by
      intro w _
      obtain ⟨e0, e1⟩ := gi_g_fo (F := F) w (show y < 7 by omega) hM
      rw [e0, e1, gi_d_ne (by omega), Nat.zero_mul])
    rw [h0, h1]
  · have h := gi_mst hn hP hy ha hb hM hF (fun w x x' => gi_d x x' * g w x) (by
      intro w x x'
      show gi_d x x' * g w x = gi_d x x' * g (w % 4 ^ gi_c M y) x
      rw [← hg])
    refine Eq.trans h (gi_s_congr _ ?_)
    intro w _
    rw [gi_b3_2, hM, hF, gi_b2_n hn hP (show a < n by omega), gi_k_n w _ (show b < 2 ^ 31 by omega), gi_k_n w _ (show b < 2 ^ 31 by omega)]
    show gi_d (gi_g M F w a 0) (gi_g M F w b 0) * g w (gi_g M F w a 0) + gi_d (gi_g M F w a 0) (gi_g M F w b 1) * g w (gi_g M F w a 0) + gi_d (gi_g M F w a 1) (gi_g M F w b 0) * g w (gi_g M F w a 1) + gi_d (gi_g M F w a 1) (gi_g M F w b 1) * g w (gi_g M F w a 1) = _
    rw [Nat.add_mul, Nat.add_mul, gi_d_comm (gi_g M F w a 0) (gi_g M F w b 0), gi_d_comm (gi_g M F w a 0) (gi_g M F w b 1), gi_d_comm (gi_g M F w a 1) (gi_g M F w b 0), gi_d_comm (gi_g M F w a 1) (gi_g M F w b 1)]
    omega
theorem gi_E2 {M F : Nat → Int32} {n y : Nat} (hn : n ≤ 7) (hP : gi_P n M F) (hy : y < n) (g h : Nat → Nat → Nat) (hg : gi_O (gi_c M y) g) (hh : gi_O (gi_c M y) h) (hv : ∀ w v, 2 * y ≤ v → g w v = 0) :
    4 * gi_s (fun w => g w (gi_g M F w y 0) * h w (gi_g M F w y 1)) (4 ^ gi_c M n) = gi_s (fun w => gi_b2 (gi_k M F w (M y)) (g w) * gi_b2 (gi_k M F w (F y)) (h w)) (4 ^ gi_c M n) := by
  rcases hP y hy with ⟨hM, hF⟩ | ⟨a, b, ha, hb, hM, hF⟩
  · have h1 : gi_s (fun w => gi_b2 (gi_k M F w (M y)) (g w) * gi_b2 (gi_k M F w (F y)) (h w)) (4 ^ gi_c M n) = 0 := gi_s_zero _ (by intro w _; rw [hM, gi_b2_0 w, Nat.zero_mul])
    have h0 : gi_s (fun w => g w (gi_g M F w y 0) * h w (gi_g M F w y 1)) (4 ^ gi_c M n) = 0 := gi_s_zero _ (by
      intro w _
      obtain ⟨e0, e1⟩ := gi_g_fo (F := F) w (show y < 7 by omega) hM
      rw [e0, hv w (2 * y) (by omega), Nat.zero_mul])
    rw [h0, h1]
  · have z := gi_mst hn hP hy ha hb hM hF (fun w x x' => g w x * h w x') (by
      intro w x x'
      show g w x * h w x' = g (w % 4 ^ gi_c M y) x * h (w % 4 ^ gi_c M y) x'
      rw [← hg, ← hh])
    refine Eq.trans z (gi_s_congr _ ?_)
    intro w _
    rw [hM, hF, gi_b2_n hn hP (show a < n by omega), gi_b2_n hn hP (show b < n by omega), Nat.add_mul, Nat.mul_add, Nat.mul_add]
    omega
end
section
/-! the numbers for two, three, four genes and two pairs, and how those of y follow from earlier ones -/
def gi_T2 (M F : Nat → Int32) (N : Nat) (p q : Int32) : Nat := 4 * gi_s (fun w => gi_b2 (gi_k M F w p) (gi_k M F w q)) N
def gi_T3 (M F : Nat → Int32) (N : Nat) (p q r : Int32) : Nat := 2 * gi_s (fun w => gi_b3 (gi_k M F w p) (gi_k M F w q) (gi_k M F w r)) N
def gi_T4 (M F : Nat → Int32) (N : Nat) (p q r s : Int32) : Nat := gi_s (fun w => gi_b4 (gi_k M F w p) (gi_k M F w q) (gi_k M F w r) (gi_k M F w s)) N
def gi_TD (M F : Nat → Int32) (N : Nat) (p q r s : Int32) : Nat := gi_s (fun w => gi_b2 (gi_k M F w p) (gi_k M F w q) * gi_b2 (gi_k M F w r) (gi_k M F w s)) N
theorem gi_b2_c (f g : Nat → Nat) : gi_b2 f g = gi_b2 g f := gi_s_congr 14 (fun v _ => Nat.mul_comm _ _)
theorem gi_b3_12 (f g h : Nat → Nat) : gi_b3 f g h = gi_b3 g f h := gi_s_congr 14 (fun v _ => Nat.mul_left_comm _ _ _)
theorem gi_b3_23 (f g h : Nat → Nat) : gi_b3 f g h = gi_b3 f h g := gi_s_congr 14 (fun v _ => by rw [Nat.mul_comm (g v) (h v)])
theorem gi_b4_12 (f g h i : Nat → Nat) : gi_b4 f g h i = gi_b4 g f h i := gi_s_congr 14 (fun v _ => Nat.mul_left_comm _ _ _)
theorem gi_b4_23 (f g h i : Nat → Nat) : gi_b4 f g h i = gi_b4 f h g i := gi_s_congr 14 (fun v _ => by rw [Nat.mul_left_comm (g v) (h v)])
theorem gi_b4_34 (f g h i : Nat → Nat) : gi_b4 f g h i = gi_b4 f g i h := gi_s_congr 14 (fun v _ => by rw [Nat.mul_comm (h v) (i v)])
section
variable (M F : Nat → Int32) (N : Nat)
theorem gi_T2_c (p q : Int32) : gi_T2 M F N p q = gi_T2 M F N q p := congrArg (fun z => 4 * z) (gi_s_congr N (fun w _ => gi_b2_c _ _))
theorem gi_T3_12 (p q r : Int32) : gi_T3 M F N p q r = gi_T3 M F N q p r := congrArg (fun z => 2 * z) (gi_s_congr N (fun w _ => gi_b3_12 _ _ _))
theorem gi_T3_23 (p q r : Int32) : gi_T3 M F N p q r = gi_T3 M F N p r q := congrArg (fun z => 2 * z) (gi_s_congr N (fun w _ => gi_b3_23 _ _ _))
theorem gi_T4_12 (p q r s : Int32) : gi_T4 M F N p q r s = gi_T4 M F N q p r s := gi_s_congr N (fun w _ => gi_b4_12 _ _ _ _)
theorem gi_T4_23 (p q r s : Int32) : gi_T4 M F N p q r s = gi_T4 M F N p r q s := gi_s_congr N (fun w _ => gi_b4_23 _ _ _ _)
theorem gi_T4_34 (p q r s : Int32) : gi_T4 M F N p q r s = gi_T4 M F N p q s r := gi_s_congr N (fun w _ => gi_b4_34 _ _ _ _)
theorem gi_TD_12 (p q r s : Int32) : gi_TD M F N p q r s = gi_TD M F N q p r s := gi_s_congr N (fun w _ => by rw [gi_b2_c (gi_k M F w p)])
theorem gi_TD_34 (p q r s : Int32) : gi_TD M F N p q r s = gi_TD M F N p q s r := gi_s_congr N (fun w _ => by rw [gi_b2_c (gi_k M F w r)])
theorem gi_TD_x (p q r s : Int32) : gi_TD M F N p q r s = gi_TD M F N r s p q := gi_s_congr N (fun w _ => Nat.mul_comm _ _)
theorem gi_T2_m (q : Int32) : gi_T2 M F N (-1) q = 0 := by
  unfold gi_T2
  rw [gi_s_zero N (fun w _ => gi_b2_0 (M := M) (F := F) w _)]
theorem gi_T3_m (q r : Int32) : gi_T3 M F N (-1) q r = 0 := by
  have h : gi_s (fun w => gi_b3 (gi_k M F w (-1)) (gi_k M F w q) (gi_k M F w r)) N = 0 := gi_s_zero N (fun w _ => gi_b2_0 (M := M) (F := F) w _)
  unfold gi_T3
  rw [h]
theorem gi_T4_m (q r s : Int32) : gi_T4 M F N (-1) q r s = 0 := gi_s_zero N (fun w _ => gi_b2_0 (M := M) (F := F) w _)
theorem gi_TD_m (q r s : Int32) : gi_TD M F N (-1) q r s = 0 := gi_s_zero N (fun w _ => by rw [gi_b2_0 w, Nat.zero_mul])
end
theorem gi_al1 {e a b : Nat} (he : e ≤ 1) (h : e * b = e * a) : (1 + e) * a + (1 + e) * b = (a + b) + 2 * (e * a) := by
  rcases (show e = 0 ∨ e = 1 by omega) with rfl | rfl <;> omega
theorem gi_al2 {e a b : Nat} (he : e ≤ 1) (h : e * b = e * a) : (1 + e) * ((1 + e) * a) + (1 + e) * ((1 + e) * b) = (a + b) + 6 * (e * a) := by
  rcases (show e = 0 ∨ e = 1 by omega) with rfl | rfl <;> omega
theorem gi_al3 {e : Nat} (he : e ≤ 1) : (1 + e) * (1 + e) + (1 + e) * (1 + e) = 2 + 6 * (e * 1) := by
  rcases (show e = 0 ∨ e = 1 by omega) with rfl | rfl <;> omega
theorem gi_al4 {e : Nat} (he : e ≤ 1) : (1 + e) * ((1 + e) * (1 + e)) + (1 + e) * ((1 + e) * (1 + e)) = 2 + 14 * (e * 1) := by
  rcases (show e = 0 ∨ e = 1 by omega) with rfl | rfl <;> omega
theorem gi_al5 {e : Nat} (he : e ≤ 1) : ((1 + e) + (1 + e)) * ((1 + e) + (1 + e)) = 4 + 12 * (e * 1) := by
  rcases (show e = 0 ∨ e = 1 by omega) with rfl | rfl <;> omega
theorem gi_al6 {e a b : Nat} (he : e ≤ 1) (h : e * b = e * a) : ((1 + e) + (1 + e)) * (a + b) = 2 * (a + b) + 4 * (e * a) := by
  rcases (show e = 0 ∨ e = 1 by omega) with rfl | rfl <;> omega
theorem gi_al7 {e c : Nat} (he : e ≤ 1) : ((1 + e) + (1 + e)) * c = 2 * c + 2 * (e * c) := by
  rcases (show e = 0 ∨ e = 1 by omega) with rfl | rfl <;> omega
theorem gi_al8 (a a' b b' : Nat) : (a + a') * (b + b') = (a * b + a' * b') + (a * b' + b * a') := by
  rw [Nat.add_mul, Nat.mul_add, Nat.mul_add, Nat.mul_comm b a']; omega
theorem gi_O_k {M F : Nat → Int32} {n y : Nat} {p : Int32} (hn : n ≤ 7) (hP : gi_P n M F) (hy : y < n) (hp : gi_ix y p) : gi_O (gi_c M y) (fun w => gi_k M F w p) :=
  fun w v => gi_k_old hn hP (Nat.le_of_lt hy) hp w v
theorem gi_O_mul {c : Nat} {g h : Nat → Nat → Nat} (hg : gi_O c g) (hh : gi_O c h) : gi_O c (fun w v => g w v * h w v) := by
  intro w v
  show g w v * h w v = g (w % 4 ^ c) v * h (w % 4 ^ c) v
  rw [← hg w v, ← hh w v]
theorem gi_O_b2 {c : Nat} {g h : Nat → Nat → Nat} (hg : gi_O c g) (hh : gi_O c h) : gi_O c (fun w _ => gi_b2 (g w) (h w)) := by
  intro w v
  exact gi_s_congr 14 (fun v _ => by rw [← hg w v, ← hh w v])
theorem gi_b2_mc (f g : Nat → Nat) (C : Nat) : gi_b2 f (fun v => g v * C) = gi_b2 f g * C := by
  unfold gi_b2
  rw [Nat.mul_comm _ C, ← gi_s_mul]
  exact gi_s_congr 14 (fun v _ => by rw [Nat.mul_comm C, Nat.mul_assoc])
theorem gi_b3_c (f g : Nat → Nat) (C : Nat) : gi_b3 f g (fun _ => C) = gi_b2 f g * C := gi_b2_mc f g C
theorem gi_b3_1 (f g : Nat → Nat) : gi_b3 f g (fun _ => 1) = gi_b2 f g := by rw [gi_b3_c, Nat.mul_one]
theorem gi_kx {M F : Nat → Int32} {y : Nat} (hy : y < 7) (w : Nat) : gi_k M F w (nI y) (gi_g M F w y 0) = 1 + gi_d (gi_g M F w y 0) (gi_g M F w y 1) ∧ gi_k M F w (nI y) (gi_g M F w y 1) = 1 + gi_d (gi_g M F w y 0) (gi_g M F w y 1) := by
  rw [gi_k_n w _ (by omega), gi_k_n w _ (by omega), gi_d_self, gi_d_self, gi_d_comm (gi_g M F w y 1) (gi_g M F w y 0)]
  exact ⟨rfl, Nat.add_comm _ _⟩
/-- the number of ways in which the two genes of y are alike -/
theorem gi_Es {M F : Nat → Int32} {n y : Nat} (hn : n ≤ 7) (hP : gi_P n M F) (hy : y < n) : 4 * gi_s (fun w => gi_d (gi_g M F w y 0) (gi_g M F w y 1) * 1) (4 ^ gi_c M n) = gi_s (fun w => gi_b2 (gi_k M F w (M y)) (gi_k M F w (F y))) (4 ^ gi_c M n) := by
  have h := gi_E1 hn hP hy (fun _ _ => 1) (fun _ _ => rfl)
  refine Eq.trans h (gi_s_congr _ ?_)
  intro w _
  exact gi_b3_1 _ _
theorem gi_R2a {M F : Nat → Int32} {n y : Nat} (hn : n ≤ 7) (hP : gi_P n M F) (hy : y < n) : 2 * gi_T2 M F (4 ^ gi_c M n) (nI y) (nI y) = 16 * 4 ^ gi_c M n + gi_T2 M F (4 ^ gi_c M n) (M y) (F y) := by
  have h : gi_s (fun w => gi_b2 (gi_k M F w (nI y)) (gi_k M F w (nI y))) (4 ^ gi_c M n) = gi_s (fun _ => 2) (4 ^ gi_c M n) + 2 * gi_s (fun w => gi_d (gi_g M F w y 0) (gi_g M F w y 1) * 1) (4 ^ gi_c M n) := by
    rw [← gi_s_mul, ← gi_s_add]
    apply gi_s_congr
    intro w _
    obtain ⟨k0, k1⟩ := gi_kx (M := M) (F := F) (show y < 7 by omega) w
    rw [gi_b2_n hn hP hy, k0, k1]
    omega
  have h2 := gi_Es hn hP hy
  have h3 := gi_s_const 2 (4 ^ gi_c M n)
  unfold gi_T2
  omega
theorem gi_R2b {M F : Nat → Int32} {n y : Nat} (hn : n ≤ 7) (hP : gi_P n M F) (hy : y < n) {o : Int32} (ho : gi_ix y o) : 2 * gi_T2 M F (4 ^ gi_c M n) (nI y) o = gi_T2 M F (4 ^ gi_c M n) (M y) o + gi_T2 M F (4 ^ gi_c M n) (F y) o := by
  have h : gi_s (fun w => gi_b2 (gi_k M F w (nI y)) (gi_k M F w o)) (4 ^ gi_c M n) = gi_s (fun w => gi_k M F w o (gi_g M F w y 0) + gi_k M F w o (gi_g M F w y 1)) (4 ^ gi_c M n) := by
    apply gi_s_congr
    intro w _
    exact gi_b2_n hn hP hy w _
  have h2 := gi_E0 hn hP hy (fun w => gi_k M F w o) (gi_O_k hn hP hy ho) (fun w v hv => gi_k_big hn hP (Nat.le_of_lt hy) ho w v hv)
  unfold gi_T2
  rw [h]
  omega
theorem gi_R3a {M F : Nat → Int32} {n y : Nat} (hn : n ≤ 7) (hP : gi_P n M F) (hy : y < n) : 4 * gi_T3 M F (4 ^ gi_c M n) (nI y) (nI y) (nI y) = 16 * 4 ^ gi_c M n + 3 * gi_T2 M F (4 ^ gi_c M n) (M y) (F y) := by
  have h : gi_s (fun w => gi_b3 (gi_k M F w (nI y)) (gi_k M F w (nI y)) (gi_k M F w (nI y))) (4 ^ gi_c M n) = gi_s (fun _ => 2) (4 ^ gi_c M n) + 6 * gi_s (fun w => gi_d (gi_g M F w y 0) (gi_g M F w y 1) * 1) (4 ^ gi_c M n) := by
    rw [← gi_s_mul, ← gi_s_add]
    apply gi_s_congr
    intro w _
    obtain ⟨k0, k1⟩ := gi_kx (M := M) (F := F) (show y < 7 by omega) w
    rw [gi_b3_2, gi_b2_n hn hP hy, k0, k1]
    exact gi_al3 (gi_d_le _ _)
  have h2 := gi_Es hn hP hy
  have h3 := gi_s_const 2 (4 ^ gi_c M n)
  unfold gi_T3 gi_T2
  omega
theorem gi_R3b {M F : Nat → Int32} {n y : Nat} (hn : n ≤ 7) (hP : gi_P n M F) (hy : y < n) {o : Int32} (ho : gi_ix y o) : 2 * gi_T3 M F (4 ^ gi_c M n) (nI y) (nI y) o = gi_T2 M F (4 ^ gi_c M n) (nI y) o + gi_T3 M F (4 ^ gi_c M n) (M y) (F y) o := by
  have h : gi_s (fun w => gi_b3 (gi_k M F w (nI y)) (gi_k M F w (nI y)) (gi_k M F w o)) (4 ^ gi_c M n) = gi_s (fun w => gi_b2 (gi_k M F w (nI y)) (gi_k M F w o)) (4 ^ gi_c M n) + 2 * gi_s (fun w => gi_d (gi_g M F w y 0) (gi_g M F w y 1) * gi_k M F w o (gi_g M F w y 0)) (4 ^ gi_c M n) := by
    rw [← gi_s_mul, ← gi_s_add]
    apply gi_s_congr
    intro w _
    obtain ⟨k0, k1⟩ := gi_kx (M := M) (F := F) (show y < 7 by omega) w
    rw [gi_b3_2, gi_b2_n hn hP hy, gi_b2_n hn hP hy, k0, k1]
    exact gi_al1 (gi_d_le _ _) (gi_d_sub _ _ _)
  have h2 := gi_E1 hn hP hy (fun w => gi_k M F w o) (gi_O_k hn hP hy ho)
  unfold gi_T3 gi_T2
  omega
theorem gi_R3c {M F : Nat → Int32} {n y : Nat} (hn : n ≤ 7) (hP : gi_P n M F) (hy : y < n) {o p : Int32} (ho : gi_ix y o) (hp : gi_ix y p) : 2 * gi_T3 M F (4 ^ gi_c M n) (nI y) o p = gi_T3 M F (4 ^ gi_c M n) (M y) o p + gi_T3 M F (4 ^ gi_c M n) (F y) o p := by
  have h : gi_s (fun w => gi_b3 (gi_k M F w (nI y)) (gi_k M F w o) (gi_k M F w p)) (4 ^ gi_c M n) = gi_s (fun w => gi_k M F w o (gi_g M F w y 0) * gi_k M F w p (gi_g M F w y 0) + gi_k M F w o (gi_g M F w y 1) * gi_k M F w p (gi_g M F w y 1)) (4 ^ gi_c M n) := by
    apply gi_s_congr
    intro w _
    rw [gi_b3_2, gi_b2_n hn hP hy]
  have h2 : 2 * gi_s (fun w => gi_k M F w o (gi_g M F w y 0) * gi_k M F w p (gi_g M F w y 0) + gi_k M F w o (gi_g M F w y 1) * gi_k M F w p (gi_g M F w y 1)) (4 ^ gi_c M n) = gi_s (fun w => gi_b3 (gi_k M F w (M y)) (gi_k M F w o) (gi_k M F w p)) (4 ^ gi_c M n) + gi_s (fun w => gi_b3 (gi_k M F w (F y)) (gi_k M F w o) (gi_k M F w p)) (4 ^ gi_c M n) :=
    gi_E0 hn hP hy (fun w v => gi_k M F w o v * gi_k M F w p v) (gi_O_mul (gi_O_k hn hP hy ho) (gi_O_k hn hP hy hp)) (fun w v hv => by rw [gi_k_big hn hP (Nat.le_of_lt hy) ho w v hv, Nat.zero_mul])
  unfold gi_T3
  omega
theorem gi_R4a {M F : Nat → Int32} {n y : Nat} (hn : n ≤ 7) (hP : gi_P n M F) (hy : y < n) : 8 * gi_T4 M F (4 ^ gi_c M n) (nI y) (nI y) (nI y) (nI y) = 16 * 4 ^ gi_c M n + 7 * gi_T2 M F (4 ^ gi_c M n) (M y) (F y) := by
  have h : gi_s (fun w => gi_b4 (gi_k M F w (nI y)) (gi_k M F w (nI y)) (gi_k M F w (nI y)) (gi_k M F w (nI y))) (4 ^ gi_c M n) = gi_s (fun _ => 2) (4 ^ gi_c M n) + 14 * gi_s (fun w => gi_d (gi_g M F w y 0) (gi_g M F w y 1) * 1) (4 ^ gi_c M n) := by
    rw [← gi_s_mul, ← gi_s_add]
    apply gi_s_congr
    intro w _
    obtain ⟨k0, k1⟩ := gi_kx (M := M) (F := F) (show y < 7 by omega) w
    rw [gi_b4_2, gi_b2_n hn hP hy, k0, k1]
    exact gi_al4 (gi_d_le _ _)
  have h2 := gi_Es hn hP hy
  have h3 := gi_s_const 2 (4 ^ gi_c M n)
  unfold gi_T4 gi_T2
  omega
theorem gi_R4b {M F : Nat → Int32} {n y : Nat} (hn : n ≤ 7) (hP : gi_P n M F) (hy : y < n) {o : Int32} (ho : gi_ix y o) : 4 * gi_T4 M F (4 ^ gi_c M n) (nI y) (nI y) (nI y) o = gi_T2 M F (4 ^ gi_c M n) (nI y) o + 3 * gi_T3 M F (4 ^ gi_c M n) (M y) (F y) o := by
  have h : gi_s (fun w => gi_b4 (gi_k M F w (nI y)) (gi_k M F w (nI y)) (gi_k M F w (nI y)) (gi_k M F w o)) (4 ^ gi_c M n) = gi_s (fun w => gi_b2 (gi_k M F w (nI y)) (gi_k M F w o)) (4 ^ gi_c M n) + 6 * gi_s (fun w => gi_d (gi_g M F w y 0) (gi_g M F w y 1) * gi_k M F w o (gi_g M F w y 0)) (4 ^ gi_c M n) := by
    rw [← gi_s_mul, ← gi_s_add]
    apply gi_s_congr
    intro w _
    obtain ⟨k0, k1⟩ := gi_kx (M := M) (F := F) (show y < 7 by omega) w
    rw [gi_b4_2, gi_b2_n hn hP hy, gi_b2_n hn hP hy, k0, k1]
    exact gi_al2 (gi_d_le _ _) (gi_d_sub _ _ _)
  have h2 := gi_E1 hn hP hy (fun w => gi_k M F w o) (gi_O_k hn hP hy ho)
  unfold gi_T4 gi_T3 gi_T2
  omega
theorem gi_R4c {M F : Nat → Int32} {n y : Nat} (hn : n ≤ 7) (hP : gi_P n M F) (hy : y < n) {o p : Int32} (ho : gi_ix y o) (hp : gi_ix y p) : 2 * gi_T4 M F (4 ^ gi_c M n) (nI y) (nI y) o p = gi_T3 M F (4 ^ gi_c M n) (nI y) o p + gi_T4 M F (4 ^ gi_c M n) (M y) (F y) o p := by
  have h : gi_s (fun w => gi_b4 (gi_k M F w (nI y)) (gi_k M F w (nI y)) (gi_k M F w o) (gi_k M F w p)) (4 ^ gi_c M n) = gi_s (fun w => gi_b3 (gi_k M F w (nI y)) (gi_k M F w o) (gi_k M F w p)) (4 ^ gi_c M n) + 2 * gi_s (fun w => gi_d (gi_g M F w y 0) (gi_g M F w y 1) * (gi_k M F w o (gi_g M F w y 0) * gi_k M F w p (gi_g M F w y 0))) (4 ^ gi_c M n) := by
    rw [← gi_s_mul, ← gi_s_add]
    apply gi_s_congr
    intro w _
    obtain ⟨k0, k1⟩ := gi_kx (M := M) (F := F) (show y < 7 by omega) w
    rw [gi_b4_2, gi_b3_2, gi_b2_n hn hP hy, gi_b2_n hn hP hy, k0, k1]
    exact gi_al1 (gi_d_le _ _) (gi_d_sub _ _ (fun v => gi_k M F w o v * gi_k M F w p v))
  have h2 : 4 * gi_s (fun w => gi_d (gi_g M F w y 0) (gi_g M F w y 1) * (gi_k M F w o (gi_g M F w y 0) * gi_k M F w p (gi_g M F w y 0))) (4 ^ gi_c M n) = gi_s (fun w => gi_b4 (gi_k M F w (M y)) (gi_k M F w (F y)) (gi_k M F w o) (gi_k M F w p)) (4 ^ gi_c M n) :=
    gi_E1 hn hP hy (fun w v => gi_k M F w o v * gi_k M F w p v) (gi_O_mul (gi_O_k hn hP hy ho) (gi_O_k hn hP hy hp))
  unfold gi_T4 gi_T3
  omega
theorem gi_R4d {M F : Nat → Int32} {n y : Nat} (hn : n ≤ 7) (hP : gi_P n M F) (hy : y < n) {o p q : Int32} (ho : gi_ix y o) (hp : gi_ix y p) (hq : gi_ix y q) : 2 * gi_T4 M F (4 ^ gi_c M n) (nI y) o p q = gi_T4 M F (4 ^ gi_c M n) (M y) o p q + gi_T4 M F (4 ^ gi_c M n) (F y) o p q := by
  have h2 := gi_E0 hn hP hy (fun w v => gi_k M F w o v * (gi_k M F w p v * gi_k M F w q v)) (gi_O_mul (gi_O_k hn hP hy ho) (gi_O_mul (gi_O_k hn hP hy hp) (gi_O_k hn hP hy hq))) (fun w v hv => by rw [gi_k_big hn hP (Nat.le_of_lt hy) ho w v hv, Nat.zero_mul])
  refine Eq.trans ?_ h2
  refine congrArg (fun z => 2 * z) (gi_s_congr _ ?_)
  intro w _
  rw [gi_b4_2, gi_b2_n hn hP hy]
theorem gi_RDa {M F : Nat → Int32} {n y : Nat} (hn : n ≤ 7) (hP : gi_P n M F) (hy : y < n) : 4 * gi_TD M F (4 ^ gi_c M n) (nI y) (nI y) (nI y) (nI y) = 16 * 4 ^ gi_c M n + 3 * gi_T2 M F (4 ^ gi_c M n) (M y) (F y) := by
  have h : gi_s (fun w => gi_b2 (gi_k M F w (nI y)) (gi_k M F w (nI y)) * gi_b2 (gi_k M F w (nI y)) (gi_k M F w (nI y))) (4 ^ gi_c M n) = gi_s (fun _ => 4) (4 ^ gi_c M n) + 12 * gi_s (fun w => gi_d (gi_g M F w y 0) (gi_g M F w y 1) * 1) (4 ^ gi_c M n) := by
    rw [← gi_s_mul, ← gi_s_add]
    apply gi_s_congr
    intro w _
    obtain ⟨k0, k1⟩ := gi_kx (M := M) (F := F) (show y < 7 by omega) w
    rw [gi_b2_n hn hP hy, k0, k1]
    exact gi_al5 (gi_d_le _ _)
  have h2 := gi_Es hn hP hy
  have h3 := gi_s_const 4 (4 ^ gi_c M n)
  unfold gi_TD gi_T2
  omega
theorem gi_RDb {M F : Nat → Int32} {n y : Nat} (hn : n ≤ 7) (hP : gi_P n M F) (hy : y < n) {o : Int32} (ho : gi_ix y o) : 2 * gi_TD M F (4 ^ gi_c M n) (nI y) (nI y) (nI y) o = gi_T2 M F (4 ^ gi_c M n) (nI y) o + gi_T3 M F (4 ^ gi_c M n) (M y) (F y) o := by
  have h : gi_s (fun w => gi_b2 (gi_k M F w (nI y)) (gi_k M F w (nI y)) * gi_b2 (gi_k M F w (nI y)) (gi_k M F w o)) (4 ^ gi_c M n) = 2 * gi_s (fun w => gi_b2 (gi_k M F w (nI y)) (gi_k M F w o)) (4 ^ gi_c M n) + 4 * gi_s (fun w => gi_d (gi_g M F w y 0) (gi_g M F w y 1) * gi_k M F w o (gi_g M F w y 0)) (4 ^ gi_c M n) := by
    rw [← gi_s_mul, ← gi_s_mul, ← gi_s_add]
    apply gi_s_congr
    intro w _
    obtain ⟨k0, k1⟩ := gi_kx (M := M) (F := F) (show y < 7 by omega) w
    rw [gi_b2_n hn hP hy, gi_b2_n hn hP hy, k0, k1]
    exact gi_al6 (gi_d_le _ _) (gi_d_sub _ _ _)
  have h2 := gi_E1 hn hP hy (fun w => gi_k M F w o) (gi_O_k hn hP hy ho)
  unfold gi_TD gi_T3 gi_T2
  omega
theorem gi_RDc {M F : Nat → Int32} {n y : Nat} (hn : n ≤ 7) (hP : gi_P n M F) (hy : y < n) {o p : Int32} (ho : gi_ix y o) (hp : gi_ix y p) : 2 * gi_TD M F (4 ^ gi_c M n) (nI y) (nI y) o p = gi_T2 M F (4 ^ gi_c M n) o p + gi_TD M F (4 ^ gi_c M n) (M y) (F y) o p := by
  have h : gi_s (fun w => gi_b2 (gi_k M F w (nI y)) (gi_k M F w (nI y)) * gi_b2 (gi_k M F w o) (gi_k M F w p)) (4 ^ gi_c M n) = 2 * gi_s (fun w => gi_b2 (gi_k M F w o) (gi_k M F w p)) (4 ^ gi_c M n) + 2 * gi_s (fun w => gi_d (gi_g M F w y 0) (gi_g M F w y 1) * gi_b2 (gi_k M F w o) (gi_k M F w p)) (4 ^ gi_c M n) := by
    rw [← gi_s_mul, ← gi_s_mul, ← gi_s_add]
    apply gi_s_congr
    intro w _
    obtain ⟨k0, k1⟩ := gi_kx (M := M) (F := F) (show y < 7 by omega) w
    rw [gi_b2_n hn hP hy w (gi_k M F w (nI y)), k0, k1]
    exact gi_al7 (gi_d_le _ _)
  have h2 : 4 * gi_s (fun w => gi_d (gi_g M F w y 0) (gi_g M F w y 1) * gi_b2 (gi_k M F w o) (gi_k M F w p)) (4 ^ gi_c M n) = gi_s (fun w => gi_b2 (gi_k M F w (M y)) (gi_k M F w (F y)) * gi_b2 (gi_k M F w o) (gi_k M F w p)) (4 ^ gi_c M n) := by
    refine Eq.trans (gi_E1 hn hP hy (fun w _ => gi_b2 (gi_k M F w o) (gi_k M F w p)) (gi_O_b2 (gi_O_k hn hP hy ho) (gi_O_k hn hP hy hp))) (gi_s_congr _ ?_)
    intro w _
    exact gi_b3_c _ _ _
  unfold gi_TD gi_T2
  omega
theorem gi_RDd {M F : Nat → Int32} {n y : Nat} (hn : n ≤ 7) (hP : gi_P n M F) (hy : y < n) {o p : Int32} (ho : gi_ix y o) (hp : gi_ix y p) : 4 * gi_TD M F (4 ^ gi_c M n) (nI y) o (nI y) p = 2 * gi_T3 M F (4 ^ gi_c M n) (nI y) o p + gi_TD M F (4 ^ gi_c M n) (M y) o (F y) p + gi_TD M F (4 ^ gi_c M n) (F y) o (M y) p := by
  have h : gi_s (fun w => gi_b2 (gi_k M F w (nI y)) (gi_k M F w o) * gi_b2 (gi_k M F w (nI y)) (gi_k M F w p)) (4 ^ gi_c M n) = gi_s (fun w => gi_b3 (gi_k M F w (nI y)) (gi_k M F w o) (gi_k M F w p)) (4 ^ gi_c M n) + (gi_s (fun w => gi_k M F w o (gi_g M F w y 0) * gi_k M F w p (gi_g M F w y 1)) (4 ^ gi_c M n) + gi_s (fun w => gi_k M F w p (gi_g M F w y 0) * gi_k M F w o (gi_g M F w y 1)) (4 ^ gi_c M n)) := by
    rw [← gi_s_add, ← gi_s_add]
    apply gi_s_congr
    intro w _
    rw [gi_b3_2, gi_b2_n hn hP hy, gi_b2_n hn hP hy, gi_b2_n hn hP hy]
    exact gi_al8 _ _ _ _
  have h2 := gi_E2 hn hP hy (fun w => gi_k M F w o) (fun w => gi_k M F w p) (gi_O_k hn hP hy ho) (gi_O_k hn hP hy hp) (fun w v hv => gi_k_big hn hP (Nat.le_of_lt hy) ho w v hv)
  have h3 := gi_E2 hn hP hy (fun w => gi_k M F w p) (fun w => gi_k M F w o) (gi_O_k hn hP hy hp) (gi_O_k hn hP hy ho) (fun w v hv => gi_k_big hn hP (Nat.le_of_lt hy) hp w v hv)
  have h4 := gi_TD_x M F (4 ^ gi_c M n) (F y) o (M y) p
  unfold gi_TD at h4 ⊢
  unfold gi_T3
  omega
theorem gi_RDe {M F : Nat → Int32} {n y : Nat} (hn : n ≤ 7) (hP : gi_P n M F) (hy : y < n) {o p q : Int32} (ho : gi_ix y o) (hp : gi_ix y p) (hq : gi_ix y q) : 2 * gi_TD M F (4 ^ gi_c M n) (nI y) o p q = gi_TD M F (4 ^ gi_c M n) (M y) o p q + gi_TD M F (4 ^ gi_c M n) (F y) o p q := by
  have h2 := gi_E0 hn hP hy (fun w v => gi_k M F w o v * gi_b2 (gi_k M F w p) (gi_k M F w q)) (gi_O_mul (gi_O_k hn hP hy ho) (gi_O_b2 (gi_O_k hn hP hy hp) (gi_O_k hn hP hy hq))) (fun w v hv => by rw [gi_k_big hn hP (Nat.le_of_lt hy) ho w v hv, Nat.zero_mul])
  have e1 : gi_s (fun w => gi_b2 (gi_k M F w (M y)) (fun v => gi_k M F w o v * gi_b2 (gi_k M F w p) (gi_k M F w q))) (4 ^ gi_c M n) = gi_TD M F (4 ^ gi_c M n) (M y) o p q := gi_s_congr _ (fun w _ => gi_b2_mc _ _ _)
  have e2 : gi_s (fun w => gi_b2 (gi_k M F w (F y)) (fun v => gi_k M F w o v * gi_b2 (gi_k M F w p) (gi_k M F w q))) (4 ^ gi_c M n) = gi_TD M F (4 ^ gi_c M n) (F y) o p q := gi_s_congr _ (fun w _ => gi_b2_mc _ _ _)
  rw [← e1, ← e2]
  refine Eq.trans ?_ h2
  refine congrArg (fun z => 2 * z) (gi_s_congr _ ?_)
  intro w _
  rw [gi_b2_n hn hP hy, Nat.add_mul]
theorem gi_b2_le {M F : Nat → Int32} {n : Nat} (hn : n ≤ 7) (hP : gi_P n M F) {p : Int32} (hp : gi_ix n p) (w c : Nat) (g : Nat → Nat) (hg : ∀ v, g v ≤ c) : gi_b2 (gi_k M F w p) g ≤ 2 * c := by
  rcases hp with rfl | ⟨a, ha, rfl⟩
  · rw [gi_b2_0]; exact Nat.zero_le _
  · rw [gi_b2_n hn hP ha]
    have := hg (gi_g M F w a 0)
    have := hg (gi_g M F w a 1)
    omega
theorem gi_le6 {M F : Nat → Int32} {n : Nat} (hn : n ≤ 7) (hP : gi_P n M F) : 4 ^ gi_c M n ≤ 4096 := Nat.pow_le_pow_right (n := 4) (by decide) (gi_c_le6 hn hP)
theorem gi_T2_le {M F : Nat → Int32} {n : Nat} (hn : n ≤ 7) (hP : gi_P n M F) {p q : Int32} (hp : gi_ix n p) : gi_T2 M F (4 ^ gi_c M n) p q ≤ 65536 := by
  have h := gi_s_le (f := fun w => gi_b2 (gi_k M F w p) (gi_k M F w q)) 4 (4 ^ gi_c M n) (fun w _ => gi_b2_le hn hP hp w 2 _ (fun v => gi_k_le w v q))
  have := gi_le6 hn hP
  unfold gi_T2
  omega
theorem gi_T3_le {M F : Nat → Int32} {n : Nat} (hn : n ≤ 7) (hP : gi_P n M F) {p q r : Int32} (hp : gi_ix n p) : gi_T3 M F (4 ^ gi_c M n) p q r ≤ 65536 := by
  have h := gi_s_le (f := fun w => gi_b3 (gi_k M F w p) (gi_k M F w q) (gi_k M F w r)) 8 (4 ^ gi_c M n) (fun w _ => gi_b2_le hn hP hp w 4 _ (fun v => Nat.mul_le_mul (gi_k_le w v q) (gi_k_le w v r)))
  have := gi_le6 hn hP
  unfold gi_T3
  omega
theorem gi_T4_le {M F : Nat → Int32} {n : Nat} (hn : n ≤ 7) (hP : gi_P n M F) {p q r s : Int32} (hp : gi_ix n p) : gi_T4 M F (4 ^ gi_c M n) p q r s ≤ 65536 := by
  have h := gi_s_le (f := fun w => gi_b4 (gi_k M F w p) (gi_k M F w q) (gi_k M F w r) (gi_k M F w s)) 16 (4 ^ gi_c M n) (fun w _ => gi_b2_le hn hP hp w 8 _ (fun v => Nat.mul_le_mul (gi_k_le w v q) (Nat.mul_le_mul (gi_k_le w v r) (gi_k_le w v s))))
  have := gi_le6 hn hP
  unfold gi_T4
  omega
theorem gi_TD_le {M F : Nat → Int32} {n : Nat} (hn : n ≤ 7) (hP : gi_P n M F) {p q r s : Int32} (hp : gi_ix n p) (hr : gi_ix n r) : gi_TD M F (4 ^ gi_c M n) p q r s ≤ 65536 := by
  have h := gi_s_le (f := fun w => gi_b2 (gi_k M F w p) (gi_k M F w q) * gi_b2 (gi_k M F w r) (gi_k M F w s)) 16 (4 ^ gi_c M n) (fun w _ => Nat.mul_le_mul (gi_b2_le hn hP hp w 2 _ (fun v => gi_k_le w v q)) (gi_b2_le hn hP hr w 2 _ (fun v => gi_k_le w v s)))
  have := gi_le6 hn hP
  unfold gi_TD
  omega
end
section
/-! the component reads its tables -/
theorem gi_dv {x d r : Nat} (h : x = d * r) (h0 : 0 < d) (hd : d < 2 ^ 31) (hx : x < 2 ^ 31) : nI x / nI d = nI r := by
  rw [pk_div hx h0 hd, h, Nat.mul_div_cancel_left _ h0]
theorem gi_lf2 {a b r : Nat} (ha : a ≤ 65536) (hb : b ≤ 65536) (h : 2 * r = a + b) : (nI a + nI b) / 2 = nI r := by
  rw [nI_add]
  exact gi_dv (d := 2) h.symm (by decide) (by decide) (by omega)
theorem gi_lf43 {a b r : Nat} (ha : a ≤ 65536) (hb : b ≤ 65536) (h : 4 * r = a + 3 * b) : (nI a + 3 * nI b) / 4 = nI r := by
  show (nI a + nI 3 * nI b) / nI 4 = nI r
  rw [pk_mul, nI_add]
  exact gi_dv (d := 4) h.symm (by decide) (by decide) (by omega)
theorem gi_lf87 {a b r : Nat} (ha : a ≤ 65536) (hb : b ≤ 65536) (h : 8 * r = a + 7 * b) : (nI a + 7 * nI b) / 8 = nI r := by
  show (nI a + nI 7 * nI b) / nI 8 = nI r
  rw [pk_mul, nI_add]
  exact gi_dv (d := 8) h.symm (by decide) (by decide) (by omega)
theorem gi_lf42 {a b c r : Nat} (ha : a ≤ 65536) (hb : b ≤ 65536) (hc : c ≤ 65536) (h : 4 * r = 2 * a + b + c) : ((2 * nI a + nI b) + nI c) / 4 = nI r := by
  show ((nI 2 * nI a + nI b) + nI c) / nI 4 = nI r
  rw [pk_mul, nI_add, nI_add]
  exact gi_dv (d := 4) h.symm (by decide) (by decide) (by omega)
/-- the tables hold the right numbers for members below z -/
def gi_A2 (M F : Nat → Int32) (N z : Nat) (t : Nat → Int32) : Prop := ∀ a b, a < z → b < z → t (7 * a + b) = nI (gi_T2 M F N (nI a) (nI b))
def gi_A3 (M F : Nat → Int32) (N z : Nat) (t : Nat → Int32) : Prop := ∀ a b c, a < z → b < z → c < z → t (49 * a + 7 * b + c) = nI (gi_T3 M F N (nI a) (nI b) (nI c))
def gi_A4 (M F : Nat → Int32) (N z : Nat) (t : Nat → Int32) : Prop := ∀ a b c d, a < z → b < z → c < z → d < z → t (343 * a + 49 * b + 7 * c + d) = nI (gi_T4 M F N (nI a) (nI b) (nI c) (nI d))
def gi_AD (M F : Nat → Int32) (N z : Nat) (t : Nat → Int32) : Prop := ∀ a b c d, a < z → b < z → c < z → d < z → t (343 * a + 49 * b + 7 * c + d) = nI (gi_TD M F N (nI a) (nI b) (nI c) (nI d))
theorem gi_0i {z : Nat} (h : z ≤ 7) {a : Nat} (ha : a < z) : a < 2 ^ 31 := by omega
theorem gi_m1nle : ¬ (0 : Int32) ≤ -1 := by decide
section
variable {M F t2 t3 t4 td st : Nat → Int32} {fc fh fk fu : Int32} {N z : Nat} {p q r s : Int32} {post : Int32 → Prop}
theorem gi_w2 (hz : z ≤ 7) (h2 : gi_A2 M F N z t2) (hp : gi_ix z p) (hq : gi_ix z q) (h : post (nI (gi_T2 M F N p q))) : wpX_twoOf post (fc, fh, fk, fu, M, F, t2, t3, t4, td, st) p q := by
  unfold wpX_twoOf
  dsimp only
  rcases hp with rfl | ⟨a, ha, rfl⟩
  · rw [gi_T2_m] at h
    exact br_t gi_m1lt h
  · refine br_f (nI_pos (by omega)) ?_
    rcases hq with rfl | ⟨b, hb, rfl⟩
    · rw [gi_T2_c, gi_T2_m] at h
      exact br_f gi_m1nle h
    · have e : 7 * nI a + nI b = nI (7 * a + b) := by
        show nI 7 * nI a + nI b = _
        rw [pk_mul, nI_add]
      rw [e, nI_clamp (by omega), h2 a b ha hb]
      exact br_t (nI_pos' (by omega)) ⟨vp_in_nI (by omega) (by decide), h⟩
theorem gi_w3 (hz : z ≤ 7) (h3 : gi_A3 M F N z t3) (hp : gi_ix z p) (hq : gi_ix z q) (hr : gi_ix z r) (h : post (nI (gi_T3 M F N p q r))) : wpX_threeOf post (fc, fh, fk, fu, M, F, t2, t3, t4, td, st) p q r := by
  unfold wpX_threeOf
  dsimp only
  rcases hp with rfl | ⟨a, ha, rfl⟩
  · rw [gi_T3_m] at h
    exact br_t gi_m1lt h
  · refine br_f (nI_pos (by omega)) ?_
    rcases hq with rfl | ⟨b, hb, rfl⟩
    · rw [gi_T3_12, gi_T3_m] at h
      exact br_t gi_m1lt h
    · refine br_f (nI_pos (by omega)) ?_
      rcases hr with rfl | ⟨c, hc, rfl⟩
      · rw [gi_T3_23, gi_T3_12, gi_T3_m] at h
        exact br_f gi_m1nle h
      · have e : 49 * nI a + 7 * nI b + nI c = nI (49 * a + 7 * b + c) := by
          show nI 49 * nI a + nI 7 * nI b + nI c = _
          rw [pk_mul, pk_mul, nI_add, nI_add]
        rw [e, nI_clamp (by omega), h3 a b c ha hb hc]
        exact br_t (nI_pos' (by omega)) ⟨vp_in_nI (by omega) (by decide), h⟩
theorem gi_w4 (hz : z ≤ 7) (h4 : gi_A4 M F N z t4) (hp : gi_ix z p) (hq : gi_ix z q) (hr : gi_ix z r) (hs : gi_ix z s) (h : post (nI (gi_T4 M F N p q r s))) : wpX_fourOf post (fc, fh, fk, fu, M, F, t2, t3, t4, td, st) p q r s := by
  unfold wpX_fourOf
  dsimp only
  rcases hp with rfl | ⟨a, ha, rfl⟩
  · rw [gi_T4_m] at h
    exact br_t gi_m1lt h
  · refine br_f (nI_pos (by omega)) ?_
    rcases hq with rfl | ⟨b, hb, rfl⟩
    · rw [gi_T4_12, gi_T4_m] at h
      exact br_t gi_m1lt h
    · refine br_f (nI_pos (by omega)) ?_
      rcases hr with rfl | ⟨c, hc, rfl⟩
      · rw [gi_T4_23, gi_T4_12, gi_T4_m] at h
        exact br_t gi_m1lt h
      · refine br_f (nI_pos (by omega)) ?_
        rcases hs with rfl | ⟨d, hd, rfl⟩
        · rw [gi_T4_34, gi_T4_23, gi_T4_12, gi_T4_m] at h
          exact br_f gi_m1nle h
        · have e : 343 * nI a + 49 * nI b + 7 * nI c + nI d = nI (343 * a + 49 * b + 7 * c + d) := by
            show nI 343 * nI a + nI 49 * nI b + nI 7 * nI c + nI d = _
            rw [pk_mul, pk_mul, pk_mul, nI_add, nI_add, nI_add]
          rw [e, nI_clamp (by omega), h4 a b c d ha hb hc hd]
          exact br_t (nI_pos' (by omega)) ⟨vp_in_nI (by omega) (by decide), h⟩
theorem gi_wD (hz : z ≤ 7) (h4 : gi_AD M F N z td) (hp : gi_ix z p) (hq : gi_ix z q) (hr : gi_ix z r) (hs : gi_ix z s) (h : post (nI (gi_TD M F N p q r s))) : wpX_doubleOf post (fc, fh, fk, fu, M, F, t2, t3, t4, td, st) p q r s := by
  unfold wpX_doubleOf
  dsimp only
  rcases hp with rfl | ⟨a, ha, rfl⟩
  · rw [gi_TD_m] at h
    exact br_t gi_m1lt h
  · refine br_f (nI_pos (by omega)) ?_
    rcases hq with rfl | ⟨b, hb, rfl⟩
    · rw [gi_TD_12, gi_TD_m] at h
      exact br_t gi_m1lt h
    · refine br_f (nI_pos (by omega)) ?_
      rcases hr with rfl | ⟨c, hc, rfl⟩
      · rw [gi_TD_x, gi_TD_m] at h
        exact br_t gi_m1lt h
      · refine br_f (nI_pos (by omega)) ?_
        rcases hs with rfl | ⟨d, hd, rfl⟩
        · rw [gi_TD_34, gi_TD_x, gi_TD_m] at h
          exact br_f gi_m1nle h
        · have e : 343 * nI a + 49 * nI b + 7 * nI c + nI d = nI (343 * a + 49 * b + 7 * c + d) := by
            show nI 343 * nI a + nI 49 * nI b + nI 7 * nI c + nI d = _
            rw [pk_mul, pk_mul, pk_mul, nI_add, nI_add, nI_add]
          rw [e, nI_clamp (by omega), h4 a b c d ha hb hc hd]
          exact br_t (nI_pos' (by omega)) ⟨vp_in_nI (by omega) (by decide), h⟩
end
end
section
/-! the component finds a number for two and for three genes -/
/-- a pedigree, a member y of it, and the unit -/
def gi_H (n y : Nat) (M F : Nat → Int32) (fu : Int32) : Prop := n ≤ 7 ∧ gi_P n M F ∧ y < n ∧ fu = nI (16 * 4 ^ gi_c M n)
theorem gi_unit {n y : Nat} {M F : Nat → Int32} {fu : Int32} (H : gi_H n y M F fu) : 16 * 4 ^ gi_c M n ≤ 65536 := by
  have := gi_le6 H.1 H.2.1
  omega
theorem gi_iM {n y : Nat} {M F : Nat → Int32} {fu : Int32} (H : gi_H n y M F fu) : gi_ix y (M y) := gi_ixM H.2.1 H.2.2.1
theorem gi_iF {n y : Nat} {M F : Nat → Int32} {fu : Int32} (H : gi_H n y M F fu) : gi_ix y (F y) := gi_ixF H.2.1 H.2.2.1
theorem gi_up {y n : Nat} {p : Int32} (h : gi_ix y p) (hy : y < n) : gi_ix n p := gi_ix_up h (Nat.le_of_lt hy)
theorem gi_f2_50 {M F t2 t3 t4 td st : Nat → Int32} {n y : Nat} {fc fh fk fu : Int32} {o : Nat} {post : Int32 → Prop} (H : gi_H n y M F fu) (h2 : gi_A2 M F (4 ^ gi_c M n) y t2) (ho : o < y) (h : post (nI (gi_T2 M F (4 ^ gi_c M n) (nI y) (nI o)))) : wX_findTwo_50 post (nI y) (nI o) fc fh fk fu M F t2 t3 t4 td st := by
  unfold wX_findTwo_50
  obtain ⟨hn, hP, hy, hu⟩ := H
  have hv : vp_in (nI y) 7 := vp_in_nI (by omega) (by decide)
  rw [nI_clamp (show y < 2 ^ 31 by omega)]
  refine ⟨hv, gi_w2 (by omega) h2 (gi_ixM hP hy) (gi_ix_n ho) ⟨hv, gi_w2 (by omega) h2 (gi_ixF hP hy) (gi_ix_n ho) ⟨by decide, ?_⟩⟩⟩
  rw [gi_lf2 (gi_T2_le hn hP (gi_up (gi_ixM hP hy) hy)) (gi_T2_le hn hP (gi_up (gi_ixF hP hy) hy)) (gi_R2b hn hP hy (gi_ix_n ho))]
  exact h
theorem gi_f2 {M F t2 t3 t4 td st : Nat → Int32} {n y : Nat} {fc fh fk fu : Int32} {a b : Nat} {post : Int32 → Prop} (H : gi_H n y M F fu) (h2 : gi_A2 M F (4 ^ gi_c M n) y t2) (ha : a ≤ y) (hb : b ≤ y) (hab : a = y ∨ b = y) (h : post (nI (gi_T2 M F (4 ^ gi_c M n) (nI a) (nI b)))) : wpX_findTwo post (fc, fh, fk, fu, M, F, t2, t3, t4, td, st) (nI a) (nI b) := by
  have H' := H
  obtain ⟨hn, hP, hy, hu⟩ := H
  unfold wpX_findTwo
  dsimp only
  refine pk_eq a b (fun e => ?_) (fun e => ?_)
  · have ea : a = y := by omega
    have eb : b = y := by omega
    subst ea
    subst eb
    have hv : vp_in (nI b) 7 := vp_in_nI (by omega) (by decide)
    rw [nI_clamp (show b < 2 ^ 31 by omega)]
    refine ⟨hv, hv, gi_w2 (by omega) h2 (gi_ixM hP hy) (gi_ixF hP hy) ⟨by decide, ?_⟩⟩
    rw [hu, gi_lf2 (gi_unit H') (gi_T2_le hn hP (gi_up (gi_ixM hP hy) hy)) (gi_R2a hn hP hy)]
    exact h
  · refine pk_le a b (fun l => ?_) (fun l => ?_)
    · have eb : b = y := by omega
      subst eb
      unfold wX_findTwo_39
      refine br_t (nI_le l (by omega)) (gi_f2_50 H' h2 (by omega) ?_)
      rw [gi_T2_c]
      exact h
    · have ea : a = y := by omega
      subst ea
      unfold wX_findTwo_39
      exact br_f (nI_ge l (by omega)) (gi_f2_50 H' h2 (by omega) h)
theorem gi_f3_187 {M F t2 t3 t4 td st : Nat → Int32} {n y : Nat} {fc fh fk fu : Int32} {o p : Nat} {post : Int32 → Prop} (H : gi_H n y M F fu) (h3 : gi_A3 M F (4 ^ gi_c M n) y t3) (ho : o < y) (hp : p < y) (h : post (nI (gi_T3 M F (4 ^ gi_c M n) (nI y) (nI o) (nI p)))) : wX_findThree_187 post (M y) (F y) (nI o) (nI p) fc fh fk fu M F t2 t3 t4 td st := by
  unfold wX_findThree_187
  obtain ⟨hn, hP, hy, hu⟩ := H
  refine gi_w3 (by omega) h3 (gi_ixM hP hy) (gi_ix_n ho) (gi_ix_n hp) (gi_w3 (by omega) h3 (gi_ixF hP hy) (gi_ix_n ho) (gi_ix_n hp) ⟨by decide, ?_⟩)
  rw [gi_lf2 (gi_T3_le hn hP (gi_up (gi_ixM hP hy) hy)) (gi_T3_le hn hP (gi_up (gi_ixF hP hy) hy)) (gi_R3c hn hP hy (gi_ix_n ho) (gi_ix_n hp))]
  exact h
theorem gi_f3_126 {M F t2 t3 t4 td st : Nat → Int32} {n y : Nat} {fc fh fk fu : Int32} {o : Nat} {x1 x2 x3 : Int32} {post : Int32 → Prop} (H : gi_H n y M F fu) (h2 : gi_A2 M F (4 ^ gi_c M n) (y + 1) t2) (h3 : gi_A3 M F (4 ^ gi_c M n) y t3) (ho : o < y) (h : post (nI (gi_T3 M F (4 ^ gi_c M n) (nI y) (nI y) (nI o)))) : wX_findThree_126 post x1 x2 x3 (nI y) 2 (M y) (F y) (nI o) fc fh fk fu M F t2 t3 t4 td st := by
  unfold wX_findThree_126
  obtain ⟨hn, hP, hy, hu⟩ := H
  refine br_t rfl (gi_w2 (z := y + 1) (by omega) h2 (gi_ix_n (by omega)) (gi_ix_n (by omega)) (gi_w3 (by omega) h3 (gi_ixM hP hy) (gi_ixF hP hy) (gi_ix_n ho) ⟨by decide, ?_⟩))
  rw [gi_lf2 (gi_T2_le hn hP (gi_ix_n hy)) (gi_T3_le hn hP (gi_up (gi_ixM hP hy) hy)) (gi_R3b hn hP hy (gi_ix_n ho))]
  exact h
theorem gi_f3_60 {M F t2 t3 t4 td st : Nat → Int32} {n y : Nat} {fc fh fk fu : Int32} {x1 x2 x3 z0 z1 t : Int32} {post : Int32 → Prop} (H : gi_H n y M F fu) (ht : z1 + z0 = t)
    (h : (t = 3 → wpX_twoOf (fun r_68 => ¬ (4 : Int32) = 0 ∧ post ((fu + (3 * r_68)) / 4)) (fc, fh, fk, fu, M, F, t2, t3, t4, td, st) (M y) (F y)) ∧ (¬ t = 3 → ((x1 = nI y → ((x2 = nI y → wX_findThree_126 post x1 x2 x3 (nI y) t (M y) (F y) x3 fc fh fk fu M F t2 t3 t4 td st) ∧ (¬ x2 = nI y → wX_findThree_126 post x1 x2 x3 (nI y) t (M y) (F y) x2 fc fh fk fu M F t2 t3 t4 td st))) ∧ (¬ x1 = nI y → wX_findThree_126 post x1 x2 x3 (nI y) t (M y) (F y) x1 fc fh fk fu M F t2 t3 t4 td st)))) : wX_findThree_60 post x1 x2 x3 (nI y) z0 z1 fc fh fk fu M F t2 t3 t4 td st := by
  unfold wX_findThree_60
  have hy : y < 7 := Nat.lt_of_lt_of_le H.2.2.1 H.1
  have hv : vp_in (nI y) 7 := vp_in_nI hy (by decide)
  rw [nI_clamp (show y < 2 ^ 31 by omega)]
  exact nm_r ht ⟨hv, nm_e ⟨hv, nm_e h⟩⟩
theorem gi_f3_24 {M F t2 t3 t4 td st : Nat → Int32} {n y : Nat} {fc fh fk fu : Int32} {a b c : Nat} {post : Int32 → Prop} (H : gi_H n y M F fu) (h2 : gi_A2 M F (4 ^ gi_c M n) (y + 1) t2) (h3 : gi_A3 M F (4 ^ gi_c M n) y t3) (ha : a ≤ y) (hb : b ≤ y) (hc : c ≤ y) (hm : a = y ∨ b = y ∨ c = y) (h : post (nI (gi_T3 M F (4 ^ gi_c M n) (nI a) (nI b) (nI c)))) : wX_findThree_24 post (nI a) (nI b) (nI c) (nI y) fc fh fk fu M F t2 t3 t4 td st := by
  have H' := H
  obtain ⟨hn, hP, hy, hu⟩ := H
  have hb31 : ∀ {x : Nat}, x ≤ y → x < 2 ^ 31 := by intro x hx; omega
  have ne : ∀ {x : Nat}, x ≤ y → x ≠ y → ¬ nI x = nI y := by
    intro x hx hne
    rw [nI_eq (hb31 hx) (by omega)]
    exact hne
  unfold wX_findThree_24
  refine pk_eq a y (fun ea => ?_) (fun ea => ?_)
  · subst ea
    unfold wX_findThree_37
    refine pk_eq b a (fun eb => ?_) (fun eb => ?_)
    · subst eb
      unfold wX_findThree_48
      refine pk_eq c b (fun ec => ?_) (fun ec => ?_)
      · subst ec
        refine gi_f3_60 (t := 3) H' rfl (br_t rfl (gi_w2 (z := c + 1) (by omega) h2 (gi_ix_up (gi_ixM hP hy) (by omega)) (gi_ix_up (gi_ixF hP hy) (by omega)) ⟨by decide, ?_⟩))
        rw [hu, gi_lf43 (gi_unit H') (gi_T2_le hn hP (gi_up (gi_ixM hP hy) hy)) (gi_R3a hn hP hy)]
        exact h
      · exact gi_f3_60 (t := 2) H' rfl (br_f (by decide) (br_t rfl (br_t rfl (gi_f3_126 H' h2 h3 (by omega) h))))
    · unfold wX_findThree_48
      refine pk_eq c a (fun ec => ?_) (fun ec => ?_)
      · subst ec
        refine gi_f3_60 (t := 2) H' rfl (br_f (by decide) (br_t rfl (br_f (ne hb eb) (gi_f3_126 H' h2 h3 (by omega) ?_))))
        rw [gi_T3_23]
        exact h
      · refine gi_f3_60 (t := 1) H' rfl (br_f (by decide) (br_t rfl (br_f (ne hb eb) ?_)))
        unfold wX_findThree_126
        exact br_f (by decide) (br_t rfl (br_t rfl (gi_f3_187 H' h3 (by omega) (by omega) h)))
  · unfold wX_findThree_37
    refine pk_eq b y (fun eb => ?_) (fun eb => ?_)
    · subst eb
      unfold wX_findThree_48
      refine pk_eq c b (fun ec => ?_) (fun ec => ?_)
      · subst ec
        refine gi_f3_60 (t := 2) H' rfl (br_f (by decide) (br_f (ne ha ea) (gi_f3_126 H' h2 h3 (by omega) ?_)))
        rw [gi_T3_23, gi_T3_12]
        exact h
      · refine gi_f3_60 (t := 1) H' rfl (br_f (by decide) (br_f (ne ha ea) ?_))
        unfold wX_findThree_126
        refine br_f (by decide) (br_f (ne ha ea) (br_t rfl (gi_f3_187 H' h3 (by omega) (by omega) ?_)))
        rw [gi_T3_12]
        exact h
    · have ec : c = y := by omega
      subst ec
      unfold wX_findThree_48
      refine br_t rfl (gi_f3_60 (t := 1) H' rfl (br_f (by decide) (br_f (ne ha ea) ?_)))
      unfold wX_findThree_126
      refine br_f (by decide) (br_f (ne ha ea) (br_f (ne hb eb) (gi_f3_187 H' h3 (by omega) (by omega) ?_)))
      rw [gi_T3_12, gi_T3_23]
      exact h
theorem gi_f3 {M F t2 t3 t4 td st : Nat → Int32} {n y : Nat} {fc fh fk fu : Int32} {a b c : Nat} {post : Int32 → Prop} (H : gi_H n y M F fu) (h2 : gi_A2 M F (4 ^ gi_c M n) (y + 1) t2) (h3 : gi_A3 M F (4 ^ gi_c M n) y t3) (ha : a ≤ y) (hb : b ≤ y) (hc : c ≤ y) (hm : a = y ∨ b = y ∨ c = y) (h : post (nI (gi_T3 M F (4 ^ gi_c M n) (nI a) (nI b) (nI c)))) : wpX_findThree post (fc, fh, fk, fu, M, F, t2, t3, t4, td, st) (nI a) (nI b) (nI c) := by
  have H' := H
  obtain ⟨hn, hP, hy, hu⟩ := H
  unfold wpX_findThree
  dsimp only
  refine pk_le a b (fun l => ?_) (fun l => ?_)
  · unfold wX_findThree_10
    refine pk_le c b (fun m => ?_) (fun m => ?_)
    · have e : b = y := by omega
      subst e
      exact gi_f3_24 H' h2 h3 ha hb hc hm h
    · have e : c = y := by omega
      subst e
      exact gi_f3_24 H' h2 h3 ha hb hc hm h
  · unfold wX_findThree_10
    refine pk_le c a (fun m => ?_) (fun m => ?_)
    · have e : a = y := by omega
      subst e
      exact gi_f3_24 H' h2 h3 ha hb hc hm h
    · have e : c = y := by omega
      subst e
      exact gi_f3_24 H' h2 h3 ha hb hc hm h
end
section
/-! the digits of an index: the greatest one, how many are y, and the others one after the other -/
def gi_dg : Nat → Nat → List Nat
  | 0, _ => []
  | d + 1, r => (r % 7) :: gi_dg d (r / 7)
def gi_mx (m : Nat) : List Nat → Nat
  | [] => m
  | x :: l => gi_mx (if x ≤ m then m else x) l
def gi_ct (y : Nat) : List Nat → Nat
  | [] => 0
  | x :: l => if x = y then gi_ct y l + 1 else gi_ct y l
def gi_fl (y : Nat) : List Nat → List Nat
  | [] => []
  | x :: l => if x = y then gi_fl y l else x :: gi_fl y l
def gi_og : List Nat → Nat → Int32
  | [], _ => -1
  | x :: _, 0 => nI x
  | _ :: l, s + 1 => gi_og l s
theorem gi_d7 {r : Nat} (h : r < 2 ^ 31) : nI r / 7 = nI (r / 7) := pk_div (d := 7) h (by decide) (by decide)
theorem gi_m7 {r : Nat} (h : r < 2 ^ 31) : nI r - nI r / 7 * 7 = nI (r % 7) := pk_rem (d := 7) h (by decide) (by decide)
theorem gi_yg {M F t2 t3 t4 td st : Nat → Int32} {fc fh fk fu : Int32} {post : Int32 → Prop} : ∀ (d i r m : Nat), i + d = 4 → r < 2 ^ 31 → m < 2 ^ 31 → post (nI (gi_mx m (gi_dg d r))) → wX_youngest_7 post fc fh fk fu M F t2 t3 t4 td st (d + 1) (nI m) (nI r) (nI i) := by
  intro d
  induction d with
  | zero =>
    intro i r m hi hr hm h
    rw [wX_youngest_7]
    exact br_t (nI_le (a := 4) (b := i) (by omega) (by omega)) h
  | succ d ih =>
    intro i r m hi hr hm h
    rw [wX_youngest_7]
    dsimp only
    rw [gi_m7 hr, gi_d7 hr]
    refine br_f (nI_ge (a := i) (b := 4) (by omega) (by decide)) ⟨by decide, ?_⟩
    have h' : post (nI (gi_mx (if r % 7 ≤ m then m else r % 7) (gi_dg d (r / 7)))) := h
    refine pk_le (r % 7) m (fun l => ?_) (fun l => ?_)
    · rw [if_pos l] at h'
      exact ⟨by decide, nm_e (nm_r (nI_1 i) (ih (i + 1) (r / 7) m (by omega) (by omega) hm h'))⟩
    · rw [if_neg (by omega)] at h'
      exact ⟨by decide, nm_e ⟨by decide, nm_e (nm_r (nI_1 i) (ih (i + 1) (r / 7) (r % 7) (by omega) (by omega) (by omega) h'))⟩⟩
theorem gi_wyg {M F t2 t3 t4 td st : Nat → Int32} {fc fh fk fu : Int32} {post : Int32 → Prop} {k : Nat} (hk : k < 2 ^ 31) (h : post (nI (gi_mx 0 (gi_dg 4 k)))) : wpX_youngest post (fc, fh, fk, fu, M, F, t2, t3, t4, td, st) (nI k) :=
  ⟨5, gi_yg 4 0 k 0 rfl hk (by decide) h⟩
theorem gi_to {M F t2 t3 t4 td st : Nat → Int32} {fc fh fk fu : Int32} {y : Nat} {post : Int32 → Prop} (hy : y < 2 ^ 31) : ∀ (d i r m : Nat), i + d = 4 → r < 2 ^ 31 → post (nI (m + gi_ct y (gi_dg d r))) → wX_timesOf_8 post (nI y) fc fh fk fu M F t2 t3 t4 td st (d + 1) (nI m) (nI r) (nI i) := by
  intro d
  induction d with
  | zero =>
    intro i r m hi hr h
    rw [wX_timesOf_8]
    exact br_t (nI_le (a := 4) (b := i) (by omega) (by omega)) h
  | succ d ih =>
    intro i r m hi hr h
    rw [wX_timesOf_8]
    dsimp only
    rw [gi_m7 hr, gi_d7 hr]
    refine br_f (nI_ge (a := i) (b := 4) (by omega) (by decide)) ⟨by decide, ?_⟩
    have h' : post (nI (m + (if r % 7 = y then gi_ct y (gi_dg d (r / 7)) + 1 else gi_ct y (gi_dg d (r / 7))))) := h
    refine pk_eq (r % 7) y (fun l => ?_) (fun l => ?_)
    · rw [if_pos l] at h'
      refine nm_r (nI_1 m) ⟨by decide, nm_e (nm_r (nI_1 i) (ih (i + 1) (r / 7) (m + 1) (by omega) (by omega) ?_))⟩
      rw [show m + 1 + gi_ct y (gi_dg d (r / 7)) = m + (gi_ct y (gi_dg d (r / 7)) + 1) by omega]
      exact h'
    · rw [if_neg l] at h'
      exact ⟨by decide, nm_e (nm_r (nI_1 i) (ih (i + 1) (r / 7) m (by omega) (by omega) h'))⟩
theorem gi_wto {M F t2 t3 t4 td st : Nat → Int32} {fc fh fk fu : Int32} {y : Nat} {post : Int32 → Prop} {k : Nat} (hy : y < 2 ^ 31) (hk : k < 2 ^ 31) (h : post (nI (gi_ct y (gi_dg 4 k)))) : wpX_timesOf post (fc, fh, fk, fu, M, F, t2, t3, t4, td, st) (nI k) (nI y) := by
  refine ⟨5, gi_to hy 4 0 k 0 rfl hk ?_⟩
  rw [Nat.zero_add]
  exact h
theorem gi_ol {M F t2 t3 t4 td st : Nat → Int32} {fc fh fk fu : Int32} {y : Nat} {post : Int32 → Prop} (hy : y < 2 ^ 31) : ∀ (d i r s : Nat), i + d = 4 → r < 2 ^ 31 → s < 2 ^ 31 → post (gi_og (gi_fl y (gi_dg d r)) s) → wX_older_9 post (nI y) fc fh fk fu M F t2 t3 t4 td st (d + 1) (nI s) (nI r) (nI i) := by
  intro d
  induction d with
  | zero =>
    intro i r s hi hr hs h
    rw [wX_older_9]
    exact br_t (nI_le (a := 4) (b := i) (by omega) (by omega)) h
  | succ d ih =>
    intro i r s hi hr hs h
    rw [wX_older_9]
    dsimp only
    rw [gi_m7 hr, gi_d7 hr]
    refine br_f (nI_ge (a := i) (b := 4) (by omega) (by decide)) ⟨by decide, nm_e ⟨by decide, nm_e ?_⟩⟩
    have h' : post (gi_og (if r % 7 = y then gi_fl y (gi_dg d (r / 7)) else (r % 7) :: gi_fl y (gi_dg d (r / 7))) s) := h
    refine pk_eq (r % 7) y (fun l => ?_) (fun l => ?_)
    · rw [if_pos l] at h'
      exact nm_r (nI_1 i) (ih (i + 1) (r / 7) s (by omega) (by omega) hs h')
    · rw [if_neg l] at h'
      cases s with
      | zero => exact br_t rfl h'
      | succ s => exact br_f (nI_ne0 (by omega) hs) (nm_r (pk_m1 s) (nm_r (nI_1 i) (ih (i + 1) (r / 7) s (by omega) (by omega) (by omega) h')))
theorem gi_wol {M F t2 t3 t4 td st : Nat → Int32} {fc fh fk fu : Int32} {y : Nat} {post : Int32 → Prop} {k s : Nat} (hy : y < 2 ^ 31) (hk : k < 2 ^ 31) (hs : s < 2 ^ 31) (h : post (gi_og (gi_fl y (gi_dg 4 k)) s)) : wpX_older post (fc, fh, fk, fu, M, F, t2, t3, t4, td, st) (nI k) (nI y) (nI s) :=
  ⟨5, gi_ol hy 4 0 k s rfl hk hs h⟩
theorem gi_mx4 (p q r s y : Nat) : gi_mx 0 [p, q, r, s] = y ↔ (p ≤ y ∧ q ≤ y ∧ r ≤ y ∧ s ≤ y ∧ (p = y ∨ q = y ∨ r = y ∨ s = y)) := by
  simp only [gi_mx]
  repeat' split
  all_goals omega
theorem gi_dg4 (k : Nat) : gi_dg 4 k = [k % 7, k / 7 % 7, k / 49 % 7, k / 343 % 7] := by
  show [k % 7, k / 7 % 7, k / 7 / 7 % 7, k / 7 / 7 / 7 % 7] = _
  rw [Nat.div_div_eq_div_mul, Nat.div_div_eq_div_mul]
theorem gi_fc (y : Nat) (l : List Nat) : (gi_fl y l).length + gi_ct y l = l.length := by
  induction l with
  | nil => rfl
  | cons x l ih =>
    show (if x = y then gi_fl y l else x :: gi_fl y l).length + (if x = y then gi_ct y l + 1 else gi_ct y l) = l.length + 1
    by_cases h : x = y
    · rw [if_pos h, if_pos h]; omega
    · rw [if_neg h, if_neg h]
      show (gi_fl y l).length + 1 + gi_ct y l = _
      omega
theorem gi_fm (y x : Nat) (l : List Nat) (h : x ∈ gi_fl y l) : x ∈ l ∧ x ≠ y := by
  induction l with
  | nil => exact absurd h List.not_mem_nil
  | cons a l ih =>
    have h' : x ∈ (if a = y then gi_fl y l else a :: gi_fl y l) := h
    by_cases e : a = y
    · rw [if_pos e] at h'
      exact ⟨List.mem_cons_of_mem _ (ih h').1, (ih h').2⟩
    · rw [if_neg e] at h'
      rcases List.mem_cons.mp h' with rfl | g
      · exact ⟨List.mem_cons_self, e⟩
      · exact ⟨List.mem_cons_of_mem _ (ih g).1, (ih g).2⟩
/-- the product of the counts over a list -/
def gi_pr (f : Nat → Nat) : List Nat → Nat
  | [] => 1
  | x :: l => f x * gi_pr f l
theorem gi_pf (f : Nat → Nat) (y : Nat) (l : List Nat) : gi_pr f l = f y ^ gi_ct y l * gi_pr f (gi_fl y l) := by
  induction l with
  | nil => rfl
  | cons x l ih =>
    show f x * gi_pr f l = f y ^ (if x = y then gi_ct y l + 1 else gi_ct y l) * gi_pr f (if x = y then gi_fl y l else x :: gi_fl y l)
    by_cases h : x = y
    · rw [if_pos h, if_pos h, ih, h, Nat.pow_succ, Nat.mul_comm (f y ^ gi_ct y l) (f y), Nat.mul_assoc]
    · rw [if_neg h, if_neg h, ih]
      show _ = f y ^ gi_ct y l * (f x * gi_pr f (gi_fl y l))
      rw [Nat.mul_left_comm]
/-- four genes in another order: y as often as it stands there, and the others behind it -/
theorem gi_pf4 (f : Nat → Nat) (y a b c d t : Nat) (L : List Nat) (hL : gi_fl y [d, c, b, a] = L) (ht : gi_ct y [d, c, b, a] = t) : f a * (f b * (f c * f d)) = f y ^ t * gi_pr f L := by
  have h := gi_pf f y [d, c, b, a]
  rw [hL, ht] at h
  rw [← h]
  show _ = f d * (f c * (f b * (f a * 1)))
  rw [Nat.mul_one, Nat.mul_comm (f c) (f d), Nat.mul_left_comm (f b) (f d), Nat.mul_left_comm (f a) (f d), Nat.mul_comm (f b) (f c), Nat.mul_left_comm (f a) (f c), Nat.mul_comm (f a) (f b)]
end
section
/-! the component finds a number for four genes -/
theorem gi_f4 {M F t2 t3 t4 td st : Nat → Int32} {n y : Nat} {fc fh fk fu : Int32} {a b c d k : Nat} {post : Int32 → Prop} (H : gi_H n y M F fu) (h2 : gi_A2 M F (4 ^ gi_c M n) (y + 1) t2) (h3 : gi_A3 M F (4 ^ gi_c M n) (y + 1) t3) (h4 : gi_A4 M F (4 ^ gi_c M n) y t4)
    (hk : k < 2 ^ 31) (hd : gi_dg 4 k = [d, c, b, a]) (ha : a ≤ y) (hb : b ≤ y) (hc : c ≤ y) (hdy : d ≤ y) (hm : a = y ∨ b = y ∨ c = y ∨ d = y)
    (h : post (nI (gi_T4 M F (4 ^ gi_c M n) (nI a) (nI b) (nI c) (nI d)))) : wpX_findFour post (fc, fh, fk, fu, M, F, t2, t3, t4, td, st) (nI k) (nI y) (nI (gi_ct y [d, c, b, a])) := by
  have H' := H
  obtain ⟨hn, hP, hy, hu⟩ := H
  have y31 : y < 2 ^ 31 := by omega
  have hv : vp_in (nI y) 7 := vp_in_nI (by omega) (by decide)
  have hlen : (gi_fl y [d, c, b, a]).length + gi_ct y [d, c, b, a] = 4 := gi_fc y [d, c, b, a]
  have hpos : 0 < gi_ct y [d, c, b, a] := by
    simp only [gi_ct]
    repeat' split
    all_goals omega
  have hmem : ∀ x, x ∈ gi_fl y [d, c, b, a] → x < y := by
    intro x hx
    obtain ⟨h5, h6⟩ := gi_fm y x _ hx
    have : x = d ∨ x = c ∨ x = b ∨ x = a := by
      simpa using h5
    omega
  have hprod : ∀ w, gi_b4 (gi_k M F w (nI a)) (gi_k M F w (nI b)) (gi_k M F w (nI c)) (gi_k M F w (nI d)) = gi_s (fun v => gi_k M F w (nI y) v ^ gi_ct y [d, c, b, a] * gi_pr (fun x => gi_k M F w (nI x) v) (gi_fl y [d, c, b, a])) 14 :=
    fun w => gi_s_congr 14 (fun v _ => gi_pf4 (fun x => gi_k M F w (nI x) v) y a b c d _ _ rfl rfl)
  have hT : gi_T4 M F (4 ^ gi_c M n) (nI a) (nI b) (nI c) (nI d) = gi_s (fun w => gi_s (fun v => gi_k M F w (nI y) v ^ gi_ct y [d, c, b, a] * gi_pr (fun x => gi_k M F w (nI x) v) (gi_fl y [d, c, b, a])) 14) (4 ^ gi_c M n) := gi_s_congr _ (fun w _ => hprod w)
  have hol : ∀ (s : Nat) (post : Int32 → Prop), s < 2 ^ 31 → post (gi_og (gi_fl y [d, c, b, a]) s) → wpX_older post (fc, fh, fk, fu, M, F, t2, t3, t4, td, st) (nI k) (nI y) (nI s) := by
    intro s post hs hp
    refine gi_wol y31 hk hs ?_
    rw [hd]
    exact hp
  generalize gi_fl y [d, c, b, a] = L at hlen hmem hT hol
  generalize gi_ct y [d, c, b, a] = t at hlen hpos hT ⊢
  have iM := gi_ixM hP hy
  have iF := gi_ixF hP hy
  unfold wpX_findFour
  dsimp only
  rw [nI_clamp y31]
  refine ⟨hv, nm_e ⟨hv, nm_e ?_⟩⟩
  rcases L with _ | ⟨o, _ | ⟨p, _ | ⟨q, _ | ⟨r, L⟩⟩⟩⟩
  · have et : t = 4 := by simpa using hlen
    subst et
    refine br_t rfl (gi_w2 (z := y + 1) (by omega) h2 (gi_ix_up iM (by omega)) (gi_ix_up iF (by omega)) ⟨by decide, ?_⟩)
    rw [hu, gi_lf87 (gi_unit H') (gi_T2_le hn hP (gi_up iM hy)) (gi_R4a hn hP hy)]
    have e : gi_T4 M F (4 ^ gi_c M n) (nI a) (nI b) (nI c) (nI d) = gi_T4 M F (4 ^ gi_c M n) (nI y) (nI y) (nI y) (nI y) := by
      rw [hT]
      refine gi_s_congr _ (fun w _ => gi_s_congr 14 (fun v _ => ?_))
      show gi_k M F w (nI y) v ^ 4 * 1 = _
      generalize gi_k M F w (nI y) v = z
      simp only [Nat.pow_succ, Nat.pow_zero, Nat.one_mul, Nat.mul_one, Nat.mul_assoc]
    rw [← e]
    exact h
  · have et : t = 3 := by simp only [List.length] at hlen; omega
    subst et
    have ho : o < y := hmem o (by simp)
    have hol0 : ∀ post : Int32 → Prop, post (nI o) → wpX_older post (fc, fh, fk, fu, M, F, t2, t3, t4, td, st) (nI k) (nI y) 0 := fun post hp => hol 0 post (by decide) hp
    have io := gi_ix_n ho
    refine br_f (by decide) (hol0 _ ?_)
    refine br_t rfl (gi_w2 (z := y + 1) (by omega) h2 (gi_ix_n (by omega)) (gi_ix_n (by omega)) (gi_w3 (z := y + 1) (by omega) h3 (gi_ix_up iM (by omega)) (gi_ix_up iF (by omega)) (gi_ix_n (by omega)) ⟨by decide, ?_⟩))
    rw [gi_lf43 (gi_T2_le hn hP (gi_ix_n hy)) (gi_T3_le hn hP (gi_up iM hy)) (gi_R4b hn hP hy io)]
    have e : gi_T4 M F (4 ^ gi_c M n) (nI a) (nI b) (nI c) (nI d) = gi_T4 M F (4 ^ gi_c M n) (nI y) (nI y) (nI y) (nI o) := by
      rw [hT]
      refine gi_s_congr _ (fun w _ => gi_s_congr 14 (fun v _ => ?_))
      show gi_k M F w (nI y) v ^ 3 * (gi_k M F w (nI o) v * 1) = _
      generalize gi_k M F w (nI y) v = z
      simp only [Nat.pow_succ, Nat.pow_zero, Nat.one_mul, Nat.mul_one, Nat.mul_assoc]
    rw [← e]
    exact h
  · have et : t = 2 := by simp only [List.length] at hlen; omega
    subst et
    have ho : o < y := hmem o (by simp)
    have hol0 : ∀ post : Int32 → Prop, post (nI o) → wpX_older post (fc, fh, fk, fu, M, F, t2, t3, t4, td, st) (nI k) (nI y) 0 := fun post hp => hol 0 post (by decide) hp
    have hol1 : ∀ post : Int32 → Prop, post (nI p) → wpX_older post (fc, fh, fk, fu, M, F, t2, t3, t4, td, st) (nI k) (nI y) 1 := fun post hp => hol 1 post (by decide) hp
    have hp : p < y := hmem p (by simp)
    refine br_f (by decide) (hol0 _ ?_)
    refine br_f (by decide) (hol1 _ ?_)
    refine br_t rfl (gi_w3 (z := y + 1) (by omega) h3 (gi_ix_n (by omega)) (gi_ix_n (by omega)) (gi_ix_n (by omega)) (gi_w4 (by omega) h4 iM iF (gi_ix_n ho) (gi_ix_n hp) ⟨by decide, ?_⟩))
    rw [gi_lf2 (gi_T3_le hn hP (gi_ix_n hy)) (gi_T4_le hn hP (gi_up iM hy)) (gi_R4c hn hP hy (gi_ix_n ho) (gi_ix_n hp))]
    have e : gi_T4 M F (4 ^ gi_c M n) (nI a) (nI b) (nI c) (nI d) = gi_T4 M F (4 ^ gi_c M n) (nI y) (nI y) (nI o) (nI p) := by
      rw [hT]
      refine gi_s_congr _ (fun w _ => gi_s_congr 14 (fun v _ => ?_))
      show gi_k M F w (nI y) v ^ 2 * (gi_k M F w (nI o) v * (gi_k M F w (nI p) v * 1)) = _
      generalize gi_k M F w (nI y) v = z
      simp only [Nat.pow_succ, Nat.pow_zero, Nat.one_mul, Nat.mul_one, Nat.mul_assoc]
    rw [← e]
    exact h
  · have et : t = 1 := by simp only [List.length] at hlen; omega
    subst et
    have ho : o < y := hmem o (by simp)
    have hol0 : ∀ post : Int32 → Prop, post (nI o) → wpX_older post (fc, fh, fk, fu, M, F, t2, t3, t4, td, st) (nI k) (nI y) 0 := fun post hp => hol 0 post (by decide) hp
    have hol1 : ∀ post : Int32 → Prop, post (nI p) → wpX_older post (fc, fh, fk, fu, M, F, t2, t3, t4, td, st) (nI k) (nI y) 1 := fun post hp => hol 1 post (by decide) hp
    have hol2 : ∀ post : Int32 → Prop, post (nI q) → wpX_older post (fc, fh, fk, fu, M, F, t2, t3, t4, td, st) (nI k) (nI y) 2 := fun post hp => hol 2 post (by decide) hp
    have hp : p < y := hmem p (by simp)
    have hq : q < y := hmem q (by simp)
    refine br_f (by decide) (hol0 _ ?_)
    refine br_f (by decide) (hol1 _ ?_)
    refine br_f (by decide) (hol2 _ ?_)
    refine gi_w4 (by omega) h4 iM (gi_ix_n ho) (gi_ix_n hp) (gi_ix_n hq) (gi_w4 (by omega) h4 iF (gi_ix_n ho) (gi_ix_n hp) (gi_ix_n hq) ⟨by decide, ?_⟩)
    rw [gi_lf2 (gi_T4_le hn hP (gi_up iM hy)) (gi_T4_le hn hP (gi_up iF hy)) (gi_R4d hn hP hy (gi_ix_n ho) (gi_ix_n hp) (gi_ix_n hq))]
    have e : gi_T4 M F (4 ^ gi_c M n) (nI a) (nI b) (nI c) (nI d) = gi_T4 M F (4 ^ gi_c M n) (nI y) (nI o) (nI p) (nI q) := by
      rw [hT]
      refine gi_s_congr _ (fun w _ => gi_s_congr 14 (fun v _ => ?_))
      show gi_k M F w (nI y) v ^ 1 * (gi_k M F w (nI o) v * (gi_k M F w (nI p) v * (gi_k M F w (nI q) v * 1))) = _
      generalize gi_k M F w (nI y) v = z
      simp only [Nat.pow_succ, Nat.pow_zero, Nat.one_mul, Nat.mul_one, Nat.mul_assoc]
    rw [← e]
    exact h
  · simp only [List.length] at hlen
    omega
end
section
/-! the component finds a number for two pairs of genes -/
theorem gi_ne {y x : Nat} (hy : y < 7) (hx : x ≤ y) (h : x ≠ y) : ¬ nI x = nI y := by
  rw [nI_eq (by omega) (by omega)]
  exact h
theorem gi_fo_231 {M F t2 t3 t4 td st : Nat → Int32} {n y : Nat} {fc fh fk fu : Int32} {o p : Nat} {post : Int32 → Prop} (H : gi_H n y M F fu) (h3 : gi_A3 M F (4 ^ gi_c M n) (y + 1) t3) (hD : gi_AD M F (4 ^ gi_c M n) y td) (ho : o < y) (hp : p < y) (h : post (nI (gi_TD M F (4 ^ gi_c M n) (nI y) (nI o) (nI y) (nI p)))) : wX_findOrdered_231 post (nI y) (M y) (F y) (nI o) (nI p) fc fh fk fu M F t2 t3 t4 td st := by
  unfold wX_findOrdered_231
  obtain ⟨hn, hP, hy, hu⟩ := H
  have iM := gi_ixM hP hy
  have iF := gi_ixF hP hy
  refine gi_w3 (z := y + 1) (by omega) h3 (gi_ix_n (by omega)) (gi_ix_n (by omega)) (gi_ix_n (by omega)) (gi_wD (by omega) hD iM (gi_ix_n ho) iF (gi_ix_n hp) (gi_wD (by omega) hD iF (gi_ix_n ho) iM (gi_ix_n hp) ⟨by decide, ?_⟩))
  rw [gi_lf42 (gi_T3_le hn hP (gi_ix_n hy)) (gi_TD_le hn hP (gi_up iM hy) (gi_up iF hy)) (gi_TD_le hn hP (gi_up iF hy) (gi_up iM hy)) (gi_RDd hn hP hy (gi_ix_n ho) (gi_ix_n hp))]
  exact h
theorem gi_fo_177 {M F t2 t3 t4 td st : Nat → Int32} {n y : Nat} {fc fh fk fu : Int32} {o c d : Nat} {x9 : Int32} {post : Int32 → Prop} (H : gi_H n y M F fu) (h2 : gi_A2 M F (4 ^ gi_c M n) (y + 1) t2) (h3 : gi_A3 M F (4 ^ gi_c M n) (y + 1) t3) (hD : gi_AD M F (4 ^ gi_c M n) y td) (ho : o < y) (hc : c ≤ y) (hd : d ≤ y)
    (hx : (x9 = 1 ∧ c = y ∧ d = y) ∨ (x9 = 0 ∧ ¬ (c = y ∧ d = y))) (h : post (nI (gi_TD M F (4 ^ gi_c M n) (nI y) (nI o) (nI c) (nI d)))) : wX_findOrdered_177 post (nI c) (nI d) (nI y) (M y) (F y) x9 (nI o) fc fh fk fu M F t2 t3 t4 td st := by
  have H' := H
  obtain ⟨hn, hP, hy, hu⟩ := H
  have iM := gi_ixM hP hy
  have iF := gi_ixF hP hy
  unfold wX_findOrdered_177
  rcases hx with ⟨e9, ec, ed⟩ | ⟨e9, hne⟩
  · rw [ec, ed] at h
    rw [e9]
    refine br_f (by decide) (gi_w2 (z := y + 1) (by omega) h2 (gi_ix_n (by omega)) (gi_ix_n (by omega)) (gi_w3 (z := y + 1) (by omega) h3 (gi_ix_up iM (by omega)) (gi_ix_up iF (by omega)) (gi_ix_n (by omega)) ⟨by decide, ?_⟩))
    rw [gi_lf2 (gi_T2_le hn hP (gi_ix_n hy)) (gi_T3_le hn hP (gi_up iM hy)) (gi_RDb hn hP hy (gi_ix_n ho)), gi_TD_x]
    exact h
  · rw [e9]
    refine br_t rfl (pk_eq c y (fun ec => ?_) (fun ec => pk_eq d y (fun ed => ?_) (fun ed => ?_)))
    · rw [ec] at h ⊢
      unfold wX_findOrdered_219
      exact br_t rfl (gi_fo_231 H' h3 hD ho (by omega) h)
    · rw [ed, gi_TD_34] at h
      rw [ed]
      unfold wX_findOrdered_219
      exact br_f (gi_ne (by omega) hc ec) (gi_fo_231 H' h3 hD ho (by omega) h)
    · refine gi_wD (by omega) hD iM (gi_ix_n ho) (gi_ix_n (by omega)) (gi_ix_n (by omega)) (gi_wD (by omega) hD iF (gi_ix_n ho) (gi_ix_n (by omega)) (gi_ix_n (by omega)) ⟨by decide, ?_⟩)
      have ic : gi_ix y (nI c) := gi_ix_n (by omega)
      have jd : gi_ix y (nI d) := gi_ix_n (by omega)
      rw [gi_lf2 (gi_TD_le hn hP (gi_up iM hy) (gi_up ic hy)) (gi_TD_le hn hP (gi_up iF hy) (gi_up ic hy)) (gi_RDe hn hP hy (gi_ix_n ho) ic jd)]
      exact h
theorem gi_fo_139a {M F t2 t3 t4 td st : Nat → Int32} {n y : Nat} {fc fh fk fu : Int32} {a b c d : Nat} {x9 : Int32} {post : Int32 → Prop} (H : gi_H n y M F fu) (h2 : gi_A2 M F (4 ^ gi_c M n) (y + 1) t2) (h3 : gi_A3 M F (4 ^ gi_c M n) (y + 1) t3) (hD : gi_AD M F (4 ^ gi_c M n) y td) (ha : a ≤ y) (hb : b ≤ y) (hc : c ≤ y) (hd : d ≤ y) (hm : a = y ∨ b = y) (hab : ¬ (a = y ∧ b = y))
    (hx : (x9 = 1 ∧ c = y ∧ d = y) ∨ (x9 = 0 ∧ ¬ (c = y ∧ d = y))) (h : post (nI (gi_TD M F (4 ^ gi_c M n) (nI a) (nI b) (nI c) (nI d)))) : wX_findOrdered_139 post (nI a) (nI b) (nI c) (nI d) (nI y) (M y) (F y) 0 x9 fc fh fk fu M F t2 t3 t4 td st := by
  have hy : y < 7 := Nat.lt_of_lt_of_le H.2.2.1 H.1
  unfold wX_findOrdered_139
  refine br_t rfl (pk_eq a y (fun ea => ?_) (fun ea => ?_))
  · rw [ea] at h
    exact gi_fo_177 H h2 h3 hD (by omega) hc hd hx h
  · have eb : b = y := by omega
    rw [eb, gi_TD_12] at h
    exact gi_fo_177 H h2 h3 hD (by omega) hc hd hx h
theorem gi_fo_139b {M F t2 t3 t4 td st : Nat → Int32} {n y : Nat} {fc fh fk fu : Int32} {c d : Nat} {x1 x2 x9 : Int32} {post : Int32 → Prop} (H : gi_H n y M F fu) (h2 : gi_A2 M F (4 ^ gi_c M n) (y + 1) t2) (hD : gi_AD M F (4 ^ gi_c M n) y td) (hc : c < y) (hd : d < y)
    (h : post (nI (gi_TD M F (4 ^ gi_c M n) (nI y) (nI y) (nI c) (nI d)))) : wX_findOrdered_139 post x1 x2 (nI c) (nI d) (nI y) (M y) (F y) 1 x9 fc fh fk fu M F t2 t3 t4 td st := by
  obtain ⟨hn, hP, hy, hu⟩ := H
  have iM := gi_ixM hP hy
  have iF := gi_ixF hP hy
  unfold wX_findOrdered_139
  refine br_f (by decide) (gi_w2 (z := y + 1) (by omega) h2 (gi_ix_n (by omega)) (gi_ix_n (by omega)) (gi_wD (by omega) hD iM iF (gi_ix_n hc) (gi_ix_n hd) ⟨by decide, ?_⟩))
  rw [gi_lf2 (gi_T2_le hn hP (gi_up (gi_ix_n hc) hy)) (gi_TD_le hn hP (gi_up iM hy) (gi_up (gi_ix_n hc) hy)) (gi_RDc hn hP hy (gi_ix_n hc) (gi_ix_n hd))]
  exact h
theorem gi_fo_115 {M F t2 t3 t4 td st : Nat → Int32} {n y : Nat} {fc fh fk fu : Int32} {o : Nat} {post : Int32 → Prop} (H : gi_H n y M F fu) (h2 : gi_A2 M F (4 ^ gi_c M n) (y + 1) t2) (h3 : gi_A3 M F (4 ^ gi_c M n) (y + 1) t3) (ho : o < y)
    (h : post (nI (gi_TD M F (4 ^ gi_c M n) (nI y) (nI y) (nI y) (nI o)))) : wX_findOrdered_115 post (nI y) (M y) (F y) (nI o) fc fh fk fu M F t2 t3 t4 td st := by
  obtain ⟨hn, hP, hy, hu⟩ := H
  have iM := gi_ixM hP hy
  have iF := gi_ixF hP hy
  unfold wX_findOrdered_115
  refine gi_w2 (z := y + 1) (by omega) h2 (gi_ix_n (by omega)) (gi_ix_n (by omega)) (gi_w3 (z := y + 1) (by omega) h3 (gi_ix_up iM (by omega)) (gi_ix_up iF (by omega)) (gi_ix_n (by omega)) ⟨by decide, ?_⟩)
  rw [gi_lf2 (gi_T2_le hn hP (gi_ix_n hy)) (gi_T3_le hn hP (gi_up iM hy)) (gi_RDb hn hP hy (gi_ix_n ho))]
  exact h
theorem gi_fo_55 {M F t2 t3 t4 td st : Nat → Int32} {n y : Nat} {fc fh fk fu : Int32} {a b c d : Nat} {x8 x9 : Int32} {post : Int32 → Prop} (H : gi_H n y M F fu) (h2 : gi_A2 M F (4 ^ gi_c M n) (y + 1) t2) (h3 : gi_A3 M F (4 ^ gi_c M n) (y + 1) t3) (hD : gi_AD M F (4 ^ gi_c M n) y td) (ha : a ≤ y) (hb : b ≤ y) (hc : c ≤ y) (hd : d ≤ y) (hm : a = y ∨ b = y)
    (hw : (x8 = 1 ∧ a = y ∧ b = y) ∨ (x8 = 0 ∧ ¬ (a = y ∧ b = y))) (hx : (x9 = 1 ∧ c = y ∧ d = y) ∨ (x9 = 0 ∧ ¬ (c = y ∧ d = y))) (h : post (nI (gi_TD M F (4 ^ gi_c M n) (nI a) (nI b) (nI c) (nI d)))) : wX_findOrdered_55 post (nI a) (nI b) (nI c) (nI d) (nI y) (M y) (F y) x8 x9 fc fh fk fu M F t2 t3 t4 td st := by
  have H' := H
  obtain ⟨hn, hP, hy, hu⟩ := H
  have iM := gi_ixM hP hy
  have iF := gi_ixF hP hy
  unfold wX_findOrdered_55
  rcases hw with ⟨e8, ea, eb⟩ | ⟨e8, hne⟩
  · rw [ea, eb] at h
    rw [e8]
    refine br_f (by decide) ?_
    rcases hx with ⟨e9, ec, ed⟩ | ⟨e9, hne⟩
    · rw [ec, ed] at h
      rw [e9]
      refine br_f (by decide) (gi_w2 (z := y + 1) (by omega) h2 (gi_ix_up iM (by omega)) (gi_ix_up iF (by omega)) ⟨by decide, ?_⟩)
      rw [hu, gi_lf43 (gi_unit H') (gi_T2_le hn hP (gi_up iM hy)) (gi_RDa hn hP hy)]
      exact h
    · rw [e9]
      refine br_t rfl ?_
      unfold wX_findOrdered_85
      refine br_f (by decide) (pk_eq c y (fun ec => ?_) (fun ec => pk_eq d y (fun ed => ?_) (fun ed => ?_)))
      · rw [ec] at h ⊢
        unfold wX_findOrdered_103
        exact br_t rfl (gi_fo_115 H' h2 h3 (by omega) h)
      · rw [ed, gi_TD_34] at h
        rw [ed]
        unfold wX_findOrdered_103
        exact br_f (gi_ne (by omega) hc ec) (gi_fo_115 H' h2 h3 (by omega) h)
      · exact gi_fo_139b H' h2 hD (by omega) (by omega) h
  · rw [e8]
    refine br_t rfl ?_
    unfold wX_findOrdered_85
    exact br_t rfl (gi_fo_139a H' h2 h3 hD ha hb hc hd hm hne hx h)
theorem gi_fo_35 {M F t2 t3 t4 td st : Nat → Int32} {n y : Nat} {fc fh fk fu : Int32} {a b c d : Nat} {x8 : Int32} {post : Int32 → Prop} (H : gi_H n y M F fu) (h2 : gi_A2 M F (4 ^ gi_c M n) (y + 1) t2) (h3 : gi_A3 M F (4 ^ gi_c M n) (y + 1) t3) (hD : gi_AD M F (4 ^ gi_c M n) y td) (ha : a ≤ y) (hb : b ≤ y) (hc : c ≤ y) (hd : d ≤ y) (hm : a = y ∨ b = y)
    (hw : (x8 = 1 ∧ a = y ∧ b = y) ∨ (x8 = 0 ∧ ¬ (a = y ∧ b = y))) (h : post (nI (gi_TD M F (4 ^ gi_c M n) (nI a) (nI b) (nI c) (nI d)))) : wX_findOrdered_35 post (nI a) (nI b) (nI c) (nI d) (nI y) (M y) (F y) x8 fc fh fk fu M F t2 t3 t4 td st := by
  have hy : y < 7 := Nat.lt_of_lt_of_le H.2.2.1 H.1
  unfold wX_findOrdered_35
  refine pk_eq c y (fun ec => pk_eq d y (fun ed => ?_) (fun ed => ?_)) (fun ec => ?_)
  · exact gi_fo_55 H h2 h3 hD ha hb hc hd hm hw (Or.inl ⟨rfl, ec, ed⟩) h
  · unfold wX_findOrdered_54
    exact gi_fo_55 H h2 h3 hD ha hb hc hd hm hw (Or.inr ⟨rfl, fun z => ed z.2⟩) h
  · unfold wX_findOrdered_54
    exact gi_fo_55 H h2 h3 hD ha hb hc hd hm hw (Or.inr ⟨rfl, fun z => ec z.1⟩) h
theorem gi_fo {M F t2 t3 t4 td st : Nat → Int32} {n y : Nat} {fc fh fk fu : Int32} {a b c d : Nat} {post : Int32 → Prop} (H : gi_H n y M F fu) (h2 : gi_A2 M F (4 ^ gi_c M n) (y + 1) t2) (h3 : gi_A3 M F (4 ^ gi_c M n) (y + 1) t3) (hD : gi_AD M F (4 ^ gi_c M n) y td) (ha : a ≤ y) (hb : b ≤ y) (hc : c ≤ y) (hd : d ≤ y) (hm : a = y ∨ b = y)
    (h : post (nI (gi_TD M F (4 ^ gi_c M n) (nI a) (nI b) (nI c) (nI d)))) : wpX_findOrdered post (fc, fh, fk, fu, M, F, t2, t3, t4, td, st) (nI a) (nI b) (nI c) (nI d) (nI y) := by
  have hy : y < 7 := Nat.lt_of_lt_of_le H.2.2.1 H.1
  have hv : vp_in (nI y) 7 := vp_in_nI hy (by decide)
  unfold wpX_findOrdered
  dsimp only
  rw [nI_clamp (show y < 2 ^ 31 by omega)]
  refine ⟨hv, nm_e ⟨hv, nm_e (pk_eq a y (fun ea => pk_eq b y (fun eb => ?_) (fun eb => ?_)) (fun ea => ?_))⟩⟩
  · exact gi_fo_35 H h2 h3 hD ha hb hc hd hm (Or.inl ⟨rfl, ea, eb⟩) h
  · unfold wX_findOrdered_34
    exact gi_fo_35 H h2 h3 hD ha hb hc hd hm (Or.inr ⟨rfl, fun z => eb z.2⟩) h
  · unfold wX_findOrdered_34
    exact gi_fo_35 H h2 h3 hD ha hb hc hd hm (Or.inr ⟨rfl, fun z => ea z.1⟩) h
theorem gi_fd_24 {M F t2 t3 t4 td st : Nat → Int32} {n y : Nat} {fc fh fk fu : Int32} {a b c d e f : Nat} {post : Int32 → Prop} (H : gi_H n y M F fu) (h2 : gi_A2 M F (4 ^ gi_c M n) (y + 1) t2) (h3 : gi_A3 M F (4 ^ gi_c M n) (y + 1) t3) (hD : gi_AD M F (4 ^ gi_c M n) y td) (ha : a ≤ y) (hb : b ≤ y) (hc : c ≤ y) (hd : d ≤ y)
    (he : a ≤ e ∧ b ≤ e ∧ (a = e ∨ b = e)) (hf : c ≤ f ∧ d ≤ f ∧ (c = f ∨ d = f)) (hm : a = y ∨ b = y ∨ c = y ∨ d = y)
    (h : post (nI (gi_TD M F (4 ^ gi_c M n) (nI a) (nI b) (nI c) (nI d)))) : wX_findDouble_24 post (nI a) (nI b) (nI c) (nI d) (nI e) (nI f) fc fh fk fu M F t2 t3 t4 td st := by
  have hy : y < 7 := Nat.lt_of_lt_of_le H.2.2.1 H.1
  unfold wX_findDouble_24
  refine pk_le f e (fun l => ?_) (fun l => ?_)
  · have ee : e = y := by omega
    rw [ee]
    exact gi_fo H h2 h3 hD ha hb hc hd (by omega) h
  · have ee : f = y := by omega
    rw [ee]
    refine gi_fo H h2 h3 hD hc hd ha hb (by omega) ?_
    rw [gi_TD_x]
    exact h
theorem gi_fd {M F t2 t3 t4 td st : Nat → Int32} {n y : Nat} {fc fh fk fu : Int32} {a b c d : Nat} {post : Int32 → Prop} (H : gi_H n y M F fu) (h2 : gi_A2 M F (4 ^ gi_c M n) (y + 1) t2) (h3 : gi_A3 M F (4 ^ gi_c M n) (y + 1) t3) (hD : gi_AD M F (4 ^ gi_c M n) y td) (ha : a ≤ y) (hb : b ≤ y) (hc : c ≤ y) (hd : d ≤ y) (hm : a = y ∨ b = y ∨ c = y ∨ d = y)
    (h : post (nI (gi_TD M F (4 ^ gi_c M n) (nI a) (nI b) (nI c) (nI d)))) : wpX_findDouble post (fc, fh, fk, fu, M, F, t2, t3, t4, td, st) (nI a) (nI b) (nI c) (nI d) := by
  have hy : y < 7 := Nat.lt_of_lt_of_le H.2.2.1 H.1
  unfold wpX_findDouble
  dsimp only
  refine pk_le a b (fun l => ?_) (fun l => ?_)
  · unfold wX_findDouble_10
    refine pk_le c d (fun m => ?_) (fun m => ?_)
    · exact gi_fd_24 H h2 h3 hD ha hb hc hd (by omega) (by omega) hm h
    · exact gi_fd_24 H h2 h3 hD ha hb hc hd (by omega) (by omega) hm h
  · unfold wX_findDouble_10
    refine pk_le c d (fun m => ?_) (fun m => ?_)
    · exact gi_fd_24 H h2 h3 hD ha hb hc hd (by omega) (by omega) hm h
    · exact gi_fd_24 H h2 h3 hD ha hb hc hd (by omega) (by omega) hm h
end
section
/-! the component fills its tables for one member, and for all -/
def gi_B2 (V : Nat → Nat → Int32) (y k : Nat) (t : Nat → Int32) : Prop := ∀ a b, a ≤ y → b ≤ y → ((a < y ∧ b < y) ∨ 7 * a + b < k) → t (7 * a + b) = V a b
def gi_B3 (V : Nat → Nat → Nat → Int32) (y k : Nat) (t : Nat → Int32) : Prop := ∀ a b c, a ≤ y → b ≤ y → c ≤ y → ((a < y ∧ b < y ∧ c < y) ∨ 49 * a + 7 * b + c < k) → t (49 * a + 7 * b + c) = V a b c
def gi_B4 (V : Nat → Nat → Nat → Nat → Int32) (y k : Nat) (t : Nat → Int32) : Prop := ∀ a b c d, a ≤ y → b ≤ y → c ≤ y → d ≤ y → ((a < y ∧ b < y ∧ c < y ∧ d < y) ∨ 343 * a + 49 * b + 7 * c + d < k) → t (343 * a + 49 * b + 7 * c + d) = V a b c d
theorem gi_B2_s {V : Nat → Nat → Int32} {y k : Nat} {t : Nat → Int32} (hy : y < 7) (h : gi_B2 V y k t) : gi_B2 V y (k + 1) (upd t k (V (k / 7) (k % 7))) := by
  intro a b ha hb hab
  by_cases e : 7 * a + b = k
  · have e1 : k / 7 = a := by omega
    have e2 : k % 7 = b := by omega
    rw [e, pk_us, e1, e2]
  · rw [pk_un e]
    exact h a b ha hb (by omega)
theorem gi_B2_n {V : Nat → Nat → Int32} {y k : Nat} {t : Nat → Int32} (hy : y < 7) (h : gi_B2 V y k t) (hk : ¬ (k / 7 ≤ y ∧ k % 7 ≤ y ∧ (k / 7 = y ∨ k % 7 = y))) : gi_B2 V y (k + 1) t := by
  intro a b ha hb hab
  refine h a b ha hb ?_
  by_cases e : 7 * a + b = k
  · have e1 : k / 7 = a := by omega
    have e2 : k % 7 = b := by omega
    rw [e1, e2] at hk
    omega
  · omega
theorem gi_B3_s {V : Nat → Nat → Nat → Int32} {y k : Nat} {t : Nat → Int32} (hy : y < 7) (h : gi_B3 V y k t) : gi_B3 V y (k + 1) (upd t k (V (k / 49) (k / 7 % 7) (k % 7))) := by
  intro a b c ha hb hc hab
  by_cases e : 49 * a + 7 * b + c = k
  · have e1 : k / 49 = a := by omega
    have e2 : k / 7 % 7 = b := by omega
    have e3 : k % 7 = c := by omega
    rw [e, pk_us, e1, e2, e3]
  · rw [pk_un e]
    exact h a b c ha hb hc (by omega)
theorem gi_B3_n {V : Nat → Nat → Nat → Int32} {y k : Nat} {t : Nat → Int32} (hy : y < 7) (h : gi_B3 V y k t) (hk : ¬ (k / 49 ≤ y ∧ k / 7 % 7 ≤ y ∧ k % 7 ≤ y ∧ (k / 49 = y ∨ k / 7 % 7 = y ∨ k % 7 = y))) : gi_B3 V y (k + 1) t := by
  intro a b c ha hb hc hab
  refine h a b c ha hb hc ?_
  by_cases e : 49 * a + 7 * b + c = k
  · have e1 : k / 49 = a := by omega
    have e2 : k / 7 % 7 = b := by omega
    have e3 : k % 7 = c := by omega
    rw [e1, e2, e3] at hk
    omega
  · omega
theorem gi_B4_s {V : Nat → Nat → Nat → Nat → Int32} {y k : Nat} {t : Nat → Int32} (hy : y < 7) (h : gi_B4 V y k t) : gi_B4 V y (k + 1) (upd t k (V (k / 343) (k / 49 % 7) (k / 7 % 7) (k % 7))) := by
  intro a b c d ha hb hc hd hab
  by_cases e : 343 * a + 49 * b + 7 * c + d = k
  · have e1 : k / 343 = a := by omega
    have e2 : k / 49 % 7 = b := by omega
    have e3 : k / 7 % 7 = c := by omega
    have e4 : k % 7 = d := by omega
    rw [e, pk_us, e1, e2, e3, e4]
  · rw [pk_un e]
    exact h a b c d ha hb hc hd (by omega)
theorem gi_B4_n {V : Nat → Nat → Nat → Nat → Int32} {y k : Nat} {t : Nat → Int32} (hy : y < 7) (h : gi_B4 V y k t) (hk : ¬ (k / 343 ≤ y ∧ k / 49 % 7 ≤ y ∧ k / 7 % 7 ≤ y ∧ k % 7 ≤ y ∧ (k / 343 = y ∨ k / 49 % 7 = y ∨ k / 7 % 7 = y ∨ k % 7 = y))) : gi_B4 V y (k + 1) t := by
  intro a b c d ha hb hc hd hab
  refine h a b c d ha hb hc hd ?_
  by_cases e : 343 * a + 49 * b + 7 * c + d = k
  · have e1 : k / 343 = a := by omega
    have e2 : k / 49 % 7 = b := by omega
    have e3 : k / 7 % 7 = c := by omega
    have e4 : k % 7 = d := by omega
    rw [e1, e2, e3, e4] at hk
    omega
  · omega
def gi_V2 (M F : Nat → Int32) (N : Nat) : Nat → Nat → Int32 := fun a b => nI (gi_T2 M F N (nI a) (nI b))
def gi_V3 (M F : Nat → Int32) (N : Nat) : Nat → Nat → Nat → Int32 := fun a b c => nI (gi_T3 M F N (nI a) (nI b) (nI c))
def gi_V4 (M F : Nat → Int32) (N : Nat) : Nat → Nat → Nat → Nat → Int32 := fun a b c d => nI (gi_T4 M F N (nI a) (nI b) (nI c) (nI d))
def gi_VD (M F : Nat → Int32) (N : Nat) : Nat → Nat → Nat → Nat → Int32 := fun a b c d => nI (gi_TD M F N (nI a) (nI b) (nI c) (nI d))
section
variable {M F t : Nat → Int32} {N y k : Nat}
theorem gi_B2_A (h : gi_B2 (gi_V2 M F N) y k t) : gi_A2 M F N y t := fun a b ha hb => h a b (by omega) (by omega) (Or.inl ⟨ha, hb⟩)
theorem gi_B2_0 (h : gi_A2 M F N y t) : gi_B2 (gi_V2 M F N) y 0 t := fun a b ha hb hab => h a b (by omega) (by omega)
theorem gi_B2_e (hy : y < 7) (h : gi_B2 (gi_V2 M F N) y 49 t) : gi_A2 M F N (y + 1) t := fun a b ha hb => h a b (by omega) (by omega) (Or.inr (by omega))
theorem gi_B3_A (h : gi_B3 (gi_V3 M F N) y k t) : gi_A3 M F N y t := fun a b c ha hb hc => h a b c (by omega) (by omega) (by omega) (Or.inl ⟨ha, hb, hc⟩)
theorem gi_B3_0 (h : gi_A3 M F N y t) : gi_B3 (gi_V3 M F N) y 0 t := fun a b c ha hb hc hab => h a b c (by omega) (by omega) (by omega)
theorem gi_B3_e (hy : y < 7) (h : gi_B3 (gi_V3 M F N) y 343 t) : gi_A3 M F N (y + 1) t := fun a b c ha hb hc => h a b c (by omega) (by omega) (by omega) (Or.inr (by omega))
theorem gi_B4_A (h : gi_B4 (gi_V4 M F N) y k t) : gi_A4 M F N y t := fun a b c d ha hb hc hd => h a b c d (by omega) (by omega) (by omega) (by omega) (Or.inl ⟨ha, hb, hc, hd⟩)
theorem gi_B4_0 (h : gi_A4 M F N y t) : gi_B4 (gi_V4 M F N) y 0 t := fun a b c d ha hb hc hd hab => h a b c d (by omega) (by omega) (by omega) (by omega)
theorem gi_B4_e (hy : y < 7) (h : gi_B4 (gi_V4 M F N) y 2401 t) : gi_A4 M F N (y + 1) t := fun a b c d ha hb hc hd => h a b c d (by omega) (by omega) (by omega) (by omega) (Or.inr (by omega))
theorem gi_BD_A (h : gi_B4 (gi_VD M F N) y k t) : gi_AD M F N y t := fun a b c d ha hb hc hd => h a b c d (by omega) (by omega) (by omega) (by omega) (Or.inl ⟨ha, hb, hc, hd⟩)
theorem gi_BD_0 (h : gi_AD M F N y t) : gi_B4 (gi_VD M F N) y 0 t := fun a b c d ha hb hc hd hab => h a b c d (by omega) (by omega) (by omega) (by omega)
theorem gi_BD_e (hy : y < 7) (h : gi_B4 (gi_VD M F N) y 2401 t) : gi_AD M F N (y + 1) t := fun a b c d ha hb hc hd => h a b c d (by omega) (by omega) (by omega) (by omega) (Or.inr (by omega))
end
theorem gi_mxk (k : Nat) : gi_mx 0 (gi_dg 4 k) < 7 := by
  rw [gi_dg4]
  have h := (gi_mx4 (k % 7) (k / 7 % 7) (k / 49 % 7) (k / 343 % 7) _).mp rfl
  omega
theorem gi_L3 {M F t2 t3 st : Nat → Int32} {n y : Nat} {fc fh fk fu : Int32} {post : SX → Prop} (H : gi_H n y M F fu) (h2 : gi_A2 M F (4 ^ gi_c M n) (y + 1) t2) (h3 : gi_A3 M F (4 ^ gi_c M n) (y + 1) t3)
    (hp : ∀ t4 td : Nat → Int32, gi_A4 M F (4 ^ gi_c M n) (y + 1) t4 → gi_AD M F (4 ^ gi_c M n) (y + 1) td → post (fc, fh, fk, fu, M, F, t2, t3, t4, td, st)) :
    ∀ (d k : Nat) (t4 td : Nat → Int32), k + d = 2401 → gi_B4 (gi_V4 M F (4 ^ gi_c M n)) y k t4 → gi_B4 (gi_VD M F (4 ^ gi_c M n)) y k td → wX_findFor_117 post (nI y) fc fh fk fu (d + 1) (nI k) M F t2 t3 t4 td st := by
  have hy : y < 7 := Nat.lt_of_lt_of_le H.2.2.1 H.1
  intro d
  induction d with
  | zero =>
    intro k t4 td hk h4 hD
    have e : k = 2401 := by omega
    subst e
    rw [wX_findFor_117]
    exact br_t (nI_le (a := 2401) (b := 2401) (by omega) (by decide)) (hp t4 td (gi_B4_e hy h4) (gi_BD_e hy hD))
  | succ d ih =>
    intro k t4 td hk h4 hD
    have k31 : k < 2 ^ 31 := by omega
    have e343 : nI k / 343 = nI (k / 343) := pk_div (d := 343) k31 (by decide) (by decide)
    have e49 : nI k / 49 = nI (k / 49) := pk_div (d := 49) k31 (by decide) (by decide)
    rw [wX_findFor_117]
    dsimp only
    rw [gi_m7 k31, e343, e49, gi_d7 k31, gi_m7 (r := k / 49) (by omega), gi_m7 (r := k / 7) (by omega)]
    refine br_f (nI_ge (a := k) (b := 2401) (by omega) (by decide)) (gi_wyg k31 ?_)
    have hm := gi_mxk k
    have e3 : k / 343 % 7 = k / 343 := by omega
    have hd : gi_dg 4 k = [k % 7, k / 7 % 7, k / 49 % 7, k / 343] := by rw [gi_dg4, e3]
    have hq := gi_mx4 (k % 7) (k / 7 % 7) (k / 49 % 7) (k / 343) y
    rw [← hd] at hq
    refine pk_eq (gi_mx 0 (gi_dg 4 k)) y (fun e => ?_) (fun e => ?_)
    · have hz := hq.mp e
      refine gi_wto (by omega) k31 ?_
      rw [hd]
      refine gi_f4 H h2 h3 (gi_B4_A h4) k31 hd (by omega) (by omega) (by omega) (by omega) (by omega) ?_
      refine ⟨vp_in_nI (by omega) (by decide), ?_⟩
      rw [nI_clamp k31]
      refine nm_e ⟨by decide, by decide, by decide, by decide, by decide, by decide, ?_⟩
      refine gi_fd H h2 h3 (gi_BD_A hD) (by omega) (by omega) (by omega) (by omega) (by omega) ?_
      exact ⟨vp_in_nI (by omega) (by decide), nm_e (nm_r (nI_1 k) (ih (k + 1) _ _ (by omega) (gi_B4_s hy h4) (gi_B4_s hy hD)))⟩
    · have hz : ¬ (k / 343 ≤ y ∧ k / 49 % 7 ≤ y ∧ k / 7 % 7 ≤ y ∧ k % 7 ≤ y ∧ (k / 343 = y ∨ k / 49 % 7 = y ∨ k / 7 % 7 = y ∨ k % 7 = y)) := by
        intro z
        exact e (hq.mpr (by omega))
      exact nm_r (nI_1 k) (ih (k + 1) t4 td (by omega) (gi_B4_n hy h4 hz) (gi_B4_n hy hD hz))
theorem gi_L2 {M F t2 t4 td st : Nat → Int32} {n y : Nat} {fc fh fk fu : Int32} {post : SX → Prop} (H : gi_H n y M F fu) (h2 : gi_A2 M F (4 ^ gi_c M n) (y + 1) t2) (h4 : gi_A4 M F (4 ^ gi_c M n) y t4) (hD : gi_AD M F (4 ^ gi_c M n) y td)
    (hp : ∀ t3 t4 td : Nat → Int32, gi_A3 M F (4 ^ gi_c M n) (y + 1) t3 → gi_A4 M F (4 ^ gi_c M n) (y + 1) t4 → gi_AD M F (4 ^ gi_c M n) (y + 1) td → post (fc, fh, fk, fu, M, F, t2, t3, t4, td, st)) :
    ∀ (d k : Nat) (t3 : Nat → Int32), k + d = 343 → gi_B3 (gi_V3 M F (4 ^ gi_c M n)) y k t3 → wX_findFor_66 post (nI y) fc fh fk fu (d + 1) (nI k) M F t2 t3 t4 td st := by
  have hy : y < 7 := Nat.lt_of_lt_of_le H.2.2.1 H.1
  intro d
  induction d with
  | zero =>
    intro k t3 hk h3
    have e : k = 343 := by omega
    subst e
    rw [wX_findFor_66]
    have h3' := gi_B3_e hy h3
    exact br_t (nI_le (a := 343) (b := 343) (by omega) (by decide)) ⟨2402, gi_L3 H h2 h3' (fun t4 td a4 aD => hp t3 t4 td h3' a4 aD) 2401 0 t4 td rfl (gi_B4_0 h4) (gi_BD_0 hD)⟩
  | succ d ih =>
    intro k t3 hk h3
    have k31 : k < 2 ^ 31 := by omega
    have e49 : nI k / 49 = nI (k / 49) := pk_div (d := 49) k31 (by decide) (by decide)
    rw [wX_findFor_66]
    dsimp only
    rw [gi_m7 k31, e49, gi_d7 k31, gi_m7 (r := k / 7) (by omega)]
    refine br_f (nI_ge (a := k) (b := 343) (by omega) (by decide)) (gi_wyg k31 ?_)
    have hm := gi_mxk k
    have e3 : k / 343 % 7 = 0 := by omega
    have e4 : k / 49 % 7 = k / 49 := by omega
    have hd : gi_dg 4 k = [k % 7, k / 7 % 7, k / 49, 0] := by rw [gi_dg4, e3, e4]
    have hq := gi_mx4 (k % 7) (k / 7 % 7) (k / 49) 0 y
    rw [← hd] at hq
    refine pk_eq (gi_mx 0 (gi_dg 4 k)) y (fun e => ?_) (fun e => ?_)
    · have hz := hq.mp e
      refine ⟨by decide, by decide, by decide, by decide, gi_f3 H h2 (gi_B3_A h3) (by omega) (by omega) (by omega) (by omega) ?_⟩
      refine ⟨vp_in_nI (by omega) (by decide), ?_⟩
      rw [nI_clamp k31]
      exact nm_e (nm_r (nI_1 k) (ih (k + 1) _ (by omega) (gi_B3_s hy h3)))
    · have hz : ¬ (k / 49 ≤ y ∧ k / 7 % 7 ≤ y ∧ k % 7 ≤ y ∧ (k / 49 = y ∨ k / 7 % 7 = y ∨ k % 7 = y)) := by
        intro z
        exact e (hq.mpr (by omega))
      exact nm_r (nI_1 k) (ih (k + 1) t3 (by omega) (gi_B3_n hy h3 hz))
theorem gi_L1 {M F t3 t4 td st : Nat → Int32} {n y : Nat} {fc fh fk fu : Int32} {post : SX → Prop} (H : gi_H n y M F fu) (h3 : gi_A3 M F (4 ^ gi_c M n) y t3) (h4 : gi_A4 M F (4 ^ gi_c M n) y t4) (hD : gi_AD M F (4 ^ gi_c M n) y td)
    (hp : ∀ t2 t3 t4 td : Nat → Int32, gi_A2 M F (4 ^ gi_c M n) (y + 1) t2 → gi_A3 M F (4 ^ gi_c M n) (y + 1) t3 → gi_A4 M F (4 ^ gi_c M n) (y + 1) t4 → gi_AD M F (4 ^ gi_c M n) (y + 1) td → post (fc, fh, fk, fu, M, F, t2, t3, t4, td, st)) :
    ∀ (d k : Nat) (t2 : Nat → Int32), k + d = 49 → gi_B2 (gi_V2 M F (4 ^ gi_c M n)) y k t2 → wX_findFor_2 post (nI y) fc fh fk fu (d + 1) (nI k) M F t2 t3 t4 td st := by
  have hy : y < 7 := Nat.lt_of_lt_of_le H.2.2.1 H.1
  intro d
  induction d with
  | zero =>
    intro k t2 hk h2
    have e : k = 49 := by omega
    subst e
    rw [wX_findFor_2]
    have h2' := gi_B2_e hy h2
    exact br_t (nI_le (a := 49) (b := 49) (by omega) (by decide)) ⟨344, gi_L2 H h2' h4 hD (fun t3 t4 td a3 a4 aD => hp t2 t3 t4 td h2' a3 a4 aD) 343 0 t3 rfl (gi_B3_0 h3)⟩
  | succ d ih =>
    intro k t2 hk h2
    have k31 : k < 2 ^ 31 := by omega
    have K : (k / 7 ≤ y ∧ k % 7 ≤ y ∧ (k / 7 = y ∨ k % 7 = y)) → wX_findFor_40 post (wX_findFor_2 post (nI y) fc fh fk fu (d + 1)) (nI y) (nI k) fc fh fk fu M F t2 t3 t4 td st := by
      intro z
      unfold wX_findFor_40
      rw [gi_m7 k31, gi_d7 k31]
      refine ⟨by decide, by decide, gi_f2 H (gi_B2_A h2) (by omega) (by omega) (by omega) ?_⟩
      refine ⟨vp_in_nI (by omega) (by decide), ?_⟩
      rw [nI_clamp k31]
      exact nm_e (nm_r (nI_1 k) (ih (k + 1) _ (by omega) (gi_B2_s hy h2)))
    have Z : ¬ (k / 7 ≤ y ∧ k % 7 ≤ y ∧ (k / 7 = y ∨ k % 7 = y)) → wX_findFor_2 post (nI y) fc fh fk fu (d + 1) (nI (k + 1)) M F t2 t3 t4 td st :=
      fun z => ih (k + 1) t2 (by omega) (gi_B2_n hy h2 z)
    rw [wX_findFor_2]
    dsimp only
    rw [gi_m7 k31, gi_d7 k31]
    refine br_f (nI_ge (a := k) (b := 49) (by omega) (by decide)) ⟨by decide, pk_lt y (k / 7) (fun l => nm_r (nI_1 k) (Z (by omega))) (fun l => ⟨by decide, pk_lt y (k % 7) (fun m => nm_r (nI_1 k) (Z (by omega))) (fun m => ⟨by decide, pk_eq (k / 7) y (fun e => K (by omega)) (fun e => ⟨by decide, pk_eq (k % 7) y (fun f => K (by omega)) (fun f => nm_r (nI_1 k) (Z (by omega)))⟩)⟩)⟩)⟩
theorem gi_wff {M F t2 t3 t4 td st : Nat → Int32} {n y : Nat} {fc fh fk fu : Int32} {post : SX → Prop} (H : gi_H n y M F fu) (h2 : gi_A2 M F (4 ^ gi_c M n) y t2) (h3 : gi_A3 M F (4 ^ gi_c M n) y t3) (h4 : gi_A4 M F (4 ^ gi_c M n) y t4) (hD : gi_AD M F (4 ^ gi_c M n) y td)
    (hp : ∀ t2 t3 t4 td : Nat → Int32, gi_A2 M F (4 ^ gi_c M n) (y + 1) t2 → gi_A3 M F (4 ^ gi_c M n) (y + 1) t3 → gi_A4 M F (4 ^ gi_c M n) (y + 1) t4 → gi_AD M F (4 ^ gi_c M n) (y + 1) td → post (fc, fh, fk, fu, M, F, t2, t3, t4, td, st)) : wpX_findFor post (fc, fh, fk, fu, M, F, t2, t3, t4, td, st) (nI y) :=
  ⟨50, gi_L1 H h3 h4 hD hp 49 0 t2 rfl (gi_B2_0 h2)⟩
/-- all tables are right for the n members at hand -/
def gi_K (n : Nat) (M F : Nat → Int32) (fu : Int32) (t2 t3 t4 td : Nat → Int32) : Prop := fu = nI (16 * 4 ^ gi_c M n) ∧ gi_A2 M F (4 ^ gi_c M n) n t2 ∧ gi_A3 M F (4 ^ gi_c M n) n t3 ∧ gi_A4 M F (4 ^ gi_c M n) n t4 ∧ gi_AD M F (4 ^ gi_c M n) n td
theorem gi_L0 {M F st : Nat → Int32} {n : Nat} {fh fk fu : Int32} {post : SX → Prop} (hn : n ≤ 7) (hP : gi_P n M F) (hu : fu = nI (16 * 4 ^ gi_c M n))
    (hp : ∀ t2 t3 t4 td : Nat → Int32, gi_K n M F fu t2 t3 t4 td → post (nI n, fh, fk, fu, M, F, t2, t3, t4, td, st)) :
    ∀ (d y : Nat) (t2 t3 t4 td : Nat → Int32), y + d = n → gi_A2 M F (4 ^ gi_c M n) y t2 → gi_A3 M F (4 ^ gi_c M n) y t3 → gi_A4 M F (4 ^ gi_c M n) y t4 → gi_AD M F (4 ^ gi_c M n) y td → wX_find_28 post (d + 1) (nI y) (nI n) fh fk fu M F t2 t3 t4 td st := by
  intro d
  induction d with
  | zero =>
    intro y t2 t3 t4 td hy h2 h3 h4 hD
    have e : y = n := by omega
    subst e
    rw [wX_find_28]
    exact br_t (nI_le (Nat.le_refl y) (by omega)) (hp t2 t3 t4 td ⟨hu, h2, h3, h4, hD⟩)
  | succ d ih =>
    intro y t2 t3 t4 td hy h2 h3 h4 hD
    rw [wX_find_28]
    refine br_f (nI_ge (by omega) (by omega)) (gi_wff ⟨hn, hP, by omega, hu⟩ h2 h3 h4 hD ?_)
    intro t2 t3 t4 td a2 a3 a4 aD
    exact nm_r (nI_1 y) (ih (y + 1) t2 t3 t4 td (by omega) a2 a3 a4 aD)
theorem gi_sh16 : ∀ c, c ≤ 6 → (16 : Int32) <<< ((2 * nI c) &&& 31) = nI (16 * 4 ^ c) := by
  intro c hc
  have : c = 0 ∨ c = 1 ∨ c = 2 ∨ c = 3 ∨ c = 4 ∨ c = 5 ∨ c = 6 := by omega
  rcases this with rfl | rfl | rfl | rfl | rfl | rfl | rfl <;> decide
theorem gi_sh1 : ∀ c, c ≤ 6 → (1 : Int32) <<< ((2 * nI c) &&& 31) = nI (4 ^ c) := by
  intro c hc
  have : c = 0 ∨ c = 1 ∨ c = 2 ∨ c = 3 ∨ c = 4 ∨ c = 5 ∨ c = 6 := by omega
  rcases this with rfl | rfl | rfl | rfl | rfl | rfl | rfl <;> decide
theorem gi_wfind {M F t2 t3 t4 td st : Nat → Int32} {n : Nat} {fk fu : Int32} {post : SX → Prop} (hn : n ≤ 7) (hP : gi_P n M F) (hk : fk = 0 ∨ gi_K n M F fu t2 t3 t4 td)
    (hp : ∀ (fk fu : Int32) (t2 t3 t4 td : Nat → Int32), gi_K n M F fu t2 t3 t4 td → post (nI n, nI (gi_c M n), fk, fu, M, F, t2, t3, t4, td, st)) :
    wpX_find post (nI n, nI (gi_c M n), fk, fu, M, F, t2, t3, t4, td, st) := by
  unfold wpX_find
  dsimp only
  by_cases e : fk = 0
  · refine br_t e (nm_r (gi_sh16 _ (gi_c_le6 hn hP)) ⟨n + 1, ?_⟩)
    refine gi_L0 hn hP rfl (fun t2 t3 t4 td h => hp 1 _ t2 t3 t4 td h) n 0 t2 t3 t4 td (by omega) ?_ ?_ ?_ ?_
    · intro a b ha; omega
    · intro a b c ha; omega
    · intro a b c d ha; omega
    · intro a b c d ha; omega
  · rcases hk with h | h
    · exact absurd h e
    · exact br_f e (hp _ _ _ _ _ _ h)
end
section
/-! the reference: checks, children, ways, and one way followed; the component's checks -/
theorem gi_xm_in {M F t2 t3 t4 td st : Nat → Int32} {fh fk fu : Int32} {n j : Nat} {post : Int32 → Prop} (hn : n ≤ 7) (hj : j < n) (h : post 0) : wpX_missing post (nI n, fh, fk, fu, M, F, t2, t3, t4, td, st) (nI j) := by
  unfold wpX_missing
  exact br_f (nI_pos (by omega)) (br_t (nI_lt hj (by omega)) h)
theorem gi_xm_out {M F t2 t3 t4 td st : Nat → Int32} {fh fk fu : Int32} {n : Nat} {p : Int32} {post : Int32 → Prop} (hp : p < 0 ∨ nI n ≤ p) (h : post 1) : wpX_missing post (nI n, fh, fk, fu, M, F, t2, t3, t4, td, st) p := by
  unfold wpX_missing
  by_cases h0 : p < 0
  · exact br_t h0 h
  · refine br_f h0 (br_f ?_ h)
    rcases hp with hp | hp
    · exact absurd hp h0
    · exact Int32.not_lt.mpr hp
section
variable {M F g : Nat → Int32} {n : Nat}
theorem gi_yi_in {j : Nat} {post : Int32 → Prop} (hn : n ≤ 7) (hj : j < n) (h : post 1) : wpY_is post (nI n, M, F, g) (nI j) := by
  unfold wpY_is
  exact br_f (nI_pos (by omega)) (br_f (nI_ge hj (by omega)) h)
theorem gi_yi_out {p : Int32} {post : Int32 → Prop} (hp : p < 0 ∨ nI n ≤ p) (h : post 0) : wpY_is post (nI n, M, F, g) p := by
  unfold wpY_is
  by_cases h0 : p < 0
  · exact br_t h0 h
  · refine br_f h0 (br_t ?_ h)
    rcases hp with hp | hp
    · exact absurd hp h0
    · exact hp
theorem gi_c_s (M : Nat → Int32) (i : Nat) : gi_c M (i + 1) = if M i < 0 then gi_c M i else gi_c M i + 1 := rfl
theorem gi_yc {post : Int32 → Prop} (hn : n ≤ 7) (h : post (nI (gi_c M n))) : ∀ (d i : Nat), i + d = n → wY_children_4 post (nI n) M F g (d + 1) (nI (gi_c M i)) (nI i) := by
  intro d
  induction d with
  | zero =>
    intro i hi
    have e : i = n := by omega
    subst e
    rw [wY_children_4]
    exact br_t (nI_le (Nat.le_refl i) (by omega)) h
  | succ d ih =>
    intro i hi
    have ih' := ih (i + 1) (by omega)
    rw [gi_c_s] at ih'
    rw [wY_children_4]
    dsimp only
    rw [nI_clamp (by omega)]
    refine br_f (nI_ge (by omega) (by omega)) ⟨vp_in_nI (by omega) (by decide), ?_⟩
    by_cases hm : M i < 0
    · rw [if_pos hm] at ih'
      exact br_t hm (nm_r (nI_1 i) ih')
    · rw [if_neg hm] at ih'
      exact br_f hm (nm_r (nI_1 _) (nm_r (nI_1 i) ih'))
theorem gi_wyc {post : Int32 → Prop} (hn : n ≤ 7) (h : post (nI (gi_c M n))) : wpY_children post (nI n, M, F, g) :=
  ⟨n + 1, gi_yc hn h n 0 (by omega)⟩
theorem gi_wyw {post : Int32 → Prop} (hn : n ≤ 7) (hP : gi_P n M F) (h : post (nI (4 ^ gi_c M n))) : wpY_ways post (nI n, M, F, g) := by
  unfold wpY_ways
  refine gi_wyc hn ?_
  rw [gi_sh1 _ (gi_c_le6 hn hP)]
  exact h
end
theorem gi_2n (a : Nat) : 2 * nI a = nI (2 * a) := pk_mul 2 a
theorem gi_m2 {r : Nat} (h : r < 2 ^ 31) : nI r - nI r / 2 * 2 = nI (r % 2) := pk_rem (d := 2) h (by decide) (by decide)
theorem gi_d2 {r : Nat} (h : r < 2 ^ 31) : nI r / 2 = nI (r / 2) := pk_div (d := 2) h (by decide) (by decide)
theorem gi_d4 {r : Nat} (h : r < 2 ^ 31) : nI r / 4 = nI (r / 4) := pk_div (d := 4) h (by decide) (by decide)
/-- the genes of the first k members stand in the array -/
def gi_G (M F : Nat → Int32) (w k : Nat) (g : Nat → Int32) : Prop := ∀ j, j < 2 * k → g j = nI (gi_t M F w 7 j)
theorem gi_yf {M F : Nat → Int32} {n w : Nat} {post : SY → Prop} (hn : n ≤ 7) (hP : gi_P n M F) (hw : w < 2 ^ 31) (hp : ∀ g : Nat → Int32, gi_G M F w n g → post (nI n, M, F, g)) :
    ∀ (d i : Nat) (g : Nat → Int32), i + d = n → gi_G M F w i g → wY_follow_4 post (nI n) (d + 1) (nI (w / 4 ^ gi_c M i)) (nI i) M F g := by
  intro d
  induction d with
  | zero =>
    intro i g hi hg
    have e : i = n := by omega
    subst e
    rw [wY_follow_4]
    exact br_t (nI_le (Nat.le_refl i) (by omega)) (hp g hg)
  | succ d ih =>
    intro i g hi hg
    have i31 : i < 2 ^ 31 := by omega
    have hv : vp_in (nI i) 7 := vp_in_nI (by omega) (by decide)
    have hr : w / 4 ^ gi_c M i < 2 ^ 31 := Nat.lt_of_le_of_lt (Nat.div_le_self _ _) hw
    rcases hP i (by omega) with ⟨hM, hF⟩ | ⟨a, b, ha, hb, hM, hF⟩
    · have hm : M i < 0 := by rw [hM]; exact gi_m1lt
      have ec : gi_c M (i + 1) = gi_c M i := by rw [gi_c_s, if_pos hm]
      obtain ⟨g0, g1⟩ := gi_g_fo (F := F) w (show i < 7 by omega) hM
      rw [wY_follow_4]
      dsimp only
      rw [nI_clamp i31, hM, gi_2n i, nI_1 (2 * i), nI_clamp (show 2 * i < 2 ^ 31 by omega), nI_clamp (show 2 * i + 1 < 2 ^ 31 by omega)]
      refine br_f (nI_ge (by omega) (by omega)) ⟨hv, br_f gi_m1nle ⟨vp_in_nI (by omega) (by decide), nm_e ⟨vp_in_nI (by omega) (by decide), nm_e (nm_r (nI_1 i) ?_)⟩⟩⟩
      rw [← ec]
      refine ih (i + 1) _ (by omega) ?_
      intro j hj
      by_cases e1 : j = 2 * i + 1
      · subst e1
        rw [pk_us]
        exact congrArg nI g1.symm
      · rw [pk_un e1]
        by_cases e0 : j = 2 * i
        · subst e0
          rw [pk_us]
          exact congrArg nI g0.symm
        · rw [pk_un e0]
          exact hg j (by omega)
    · have hm : ¬ M i < 0 := by rw [hM]; exact nI_pos (by omega)
      have ec : gi_c M (i + 1) = gi_c M i + 1 := by rw [gi_c_s, if_neg hm]
      have ew : w / 4 ^ gi_c M i / 4 = w / 4 ^ gi_c M (i + 1) := by rw [ec, Nat.div_div_eq_div_mul, Nat.pow_succ]
      obtain ⟨g0, g1⟩ := gi_g_ch w (show i < 7 by omega) ha hb hM hF
      have j0 : 2 * a + w / 4 ^ gi_c M i % 2 < 2 * i := by omega
      have j1 : 2 * b + w / 4 ^ gi_c M i / 2 % 2 < 2 * i := by omega
      rw [wY_follow_4]
      dsimp only
      rw [nI_clamp i31, hM, hF, gi_m2 hr, gi_d4 hr, gi_d2 hr, gi_m2 (r := w / 4 ^ gi_c M i / 2) (by omega), gi_2n i, nI_1 (2 * i), gi_2n a, gi_2n b, nI_add, nI_add,
        nI_clamp (show 2 * i < 2 ^ 31 by omega), nI_clamp (show 2 * i + 1 < 2 ^ 31 by omega), nI_clamp (show 2 * a + w / 4 ^ gi_c M i % 2 < 2 ^ 31 by omega), nI_clamp (show 2 * b + w / 4 ^ gi_c M i / 2 % 2 < 2 ^ 31 by omega)]
      refine br_f (nI_ge (by omega) (by omega)) ⟨hv, br_t (nI_pos' (by omega)) ⟨hv, by decide, vp_in_nI (by omega) (by decide), vp_in_nI (by omega) (by decide), nm_e ⟨hv, by decide, by decide, vp_in_nI (by omega) (by decide), vp_in_nI (by omega) (by decide), nm_e ⟨by decide, nm_e (nm_r (nI_1 i) ?_)⟩⟩⟩⟩
      rw [ew]
      refine ih (i + 1) _ (by omega) ?_
      intro j hj
      by_cases e1 : j = 2 * i + 1
      · subst e1
        rw [pk_us, pk_un (by omega), hg _ j1]
        exact congrArg nI g1.symm
      · rw [pk_un e1]
        by_cases e0 : j = 2 * i
        · subst e0
          rw [pk_us, hg _ j0]
          exact congrArg nI g0.symm
        · rw [pk_un e0]
          exact hg j (by omega)
theorem gi_wyf {M F g : Nat → Int32} {n w : Nat} {post : SY → Prop} (hn : n ≤ 7) (hP : gi_P n M F) (hw : w < 2 ^ 31) (hp : ∀ g : Nat → Int32, gi_G M F w n g → post (nI n, M, F, g)) : wpY_follow post (nI n, M, F, g) (nI w) := by
  refine ⟨n + 1, ?_⟩
  have h := gi_yf hn hP hw hp n 0 g (by omega) (fun j hj => by omega)
  rw [show w / 4 ^ gi_c M 0 = w from Nat.div_one w] at h
  exact h
theorem gi_Gg {M F g : Nat → Int32} {n w i b : Nat} (hg : gi_G M F w n g) (hi : i < n) (hb : b < 2) : g (2 * i + b) = nI (gi_g M F w i b) := hg (2 * i + b) (by omega)
section
variable {M F g : Nat → Int32} {n w i c : Nat} {post : Int32 → Prop}
theorem gi_gene (s : Int32) (k : Nat) (hs : ((s &&& 31).toBitVec.smod 32).toNat = k) (hn : n ≤ 7) (hg : gi_G M F w n g) (hi : i < n) (hc : c < 16) (h : post (nI (gi_g M F w i (c / 2 ^ k % 2)))) : wpY_gene post (nI n, M, F, g) (nI i) (nI c) s := by
  unfold wpY_gene
  have hlt : c / 2 ^ k % 2 < 2 := Nat.mod_lt _ (by decide)
  have hle : c / 2 ^ k < 2 ^ 31 := Nat.lt_of_le_of_lt (Nat.div_le_self _ _) (by omega)
  have e : 2 * nI i + ((nI c >>> (s &&& 31)) &&& 1) = nI (2 * i + c / 2 ^ k % 2) := by
    rw [pk_shrN (by omega) (s &&& 31) k hs, pk_andN (by omega) 1 (by decide), gi_2n, nI_add]
  rw [← gi_Gg hg hi hlt] at h
  rw [e, nI_clamp (by omega)]
  exact ⟨vp_in_nI (by omega) (by decide), h⟩
theorem gi_gene0 (hn : n ≤ 7) (hg : gi_G M F w n g) (hi : i < n) (hc : c < 16) (h : post (nI (gi_g M F w i (c % 2)))) : wpY_gene post (nI n, M, F, g) (nI i) (nI c) 0 :=
  gi_gene 0 0 (by decide) hn hg hi hc (by rw [Nat.pow_zero, Nat.div_one]; exact h)
theorem gi_gene1 (hn : n ≤ 7) (hg : gi_G M F w n g) (hi : i < n) (hc : c < 16) (h : post (nI (gi_g M F w i (c / 2 % 2)))) : wpY_gene post (nI n, M, F, g) (nI i) (nI c) 1 :=
  gi_gene 1 1 (by decide) hn hg hi hc h
theorem gi_gene2 (hn : n ≤ 7) (hg : gi_G M F w n g) (hi : i < n) (hc : c < 16) (h : post (nI (gi_g M F w i (c / 4 % 2)))) : wpY_gene post (nI n, M, F, g) (nI i) (nI c) 2 :=
  gi_gene 2 2 (by decide) hn hg hi hc h
theorem gi_gene3 (hn : n ≤ 7) (hg : gi_G M F w n g) (hi : i < n) (hc : c < 16) (h : post (nI (gi_g M F w i (c / 8 % 2)))) : wpY_gene post (nI n, M, F, g) (nI i) (nI c) 3 :=
  gi_gene 3 3 (by decide) hn hg hi hc h
end
end
section
/-! what the reference counts in one way, and that it is what the component's numbers count -/
def gi_i2 (M F : Nat → Int32) (w i j c : Nat) : Nat := gi_d (gi_g M F w i (c % 2)) (gi_g M F w j (c / 2 % 2))
def gi_i3 (M F : Nat → Int32) (w i j k c : Nat) : Nat := gi_d (gi_g M F w i (c % 2)) (gi_g M F w j (c / 2 % 2)) * gi_d (gi_g M F w i (c % 2)) (gi_g M F w k (c / 4 % 2))
def gi_i4 (M F : Nat → Int32) (w i j k l c : Nat) : Nat := gi_d (gi_g M F w i (c % 2)) (gi_g M F w j (c / 2 % 2)) * (gi_d (gi_g M F w i (c % 2)) (gi_g M F w k (c / 4 % 2)) * gi_d (gi_g M F w i (c % 2)) (gi_g M F w l (c / 8 % 2)))
def gi_iP (M F : Nat → Int32) (w i j k l c : Nat) : Nat := gi_d (gi_g M F w i (c % 2)) (gi_g M F w j (c / 2 % 2)) * gi_d (gi_g M F w k (c / 4 % 2)) (gi_g M F w l (c / 8 % 2))
def gi_if2 (M F : Nat → Int32) (w i f c : Nat) : Nat := gi_d (gi_g M F w i c / 2) f
theorem gi_p2 (a b : Nat → Nat) : gi_s (fun c => gi_d (a (c % 2)) (b (c / 2 % 2))) 4 = (gi_d (b 0) (a 0) + gi_d (b 1) (a 0)) + (gi_d (b 0) (a 1) + gi_d (b 1) (a 1)) := by
  show 0 + gi_d (a 0) (b 0) + gi_d (a 1) (b 0) + gi_d (a 0) (b 1) + gi_d (a 1) (b 1) = _
  rw [gi_d_comm (a 0) (b 0), gi_d_comm (a 1) (b 0), gi_d_comm (a 0) (b 1), gi_d_comm (a 1) (b 1)]
  omega
theorem gi_p3 (a b e : Nat → Nat) : gi_s (fun c => gi_d (a (c % 2)) (b (c / 2 % 2)) * gi_d (a (c % 2)) (e (c / 4 % 2))) 8 =
    (gi_d (b 0) (a 0) + gi_d (b 1) (a 0)) * (gi_d (e 0) (a 0) + gi_d (e 1) (a 0)) + (gi_d (b 0) (a 1) + gi_d (b 1) (a 1)) * (gi_d (e 0) (a 1) + gi_d (e 1) (a 1)) := by
  show 0 + gi_d (a 0) (b 0) * gi_d (a 0) (e 0) + gi_d (a 1) (b 0) * gi_d (a 1) (e 0) + gi_d (a 0) (b 1) * gi_d (a 0) (e 0) + gi_d (a 1) (b 1) * gi_d (a 1) (e 0) + gi_d (a 0) (b 0) * gi_d (a 0) (e 1) + gi_d (a 1) (b 0) * gi_d (a 1) (e 1) + gi_d (a 0) (b 1) * gi_d (a 0) (e 1) + gi_d (a 1) (b 1) * gi_d (a 1) (e 1) = _
  rw [gi_d_comm (b 0) (a 0), gi_d_comm (b 0) (a 1), gi_d_comm (b 1) (a 0), gi_d_comm (b 1) (a 1), gi_d_comm (e 0) (a 0), gi_d_comm (e 0) (a 1), gi_d_comm (e 1) (a 0), gi_d_comm (e 1) (a 1)]
  simp only [Nat.add_mul, Nat.mul_add]
  omega
theorem gi_p4 (a b e f : Nat → Nat) : gi_s (fun c => gi_d (a (c % 2)) (b (c / 2 % 2)) * (gi_d (a (c % 2)) (e (c / 4 % 2)) * gi_d (a (c % 2)) (f (c / 8 % 2)))) 16 =
    (gi_d (b 0) (a 0) + gi_d (b 1) (a 0)) * ((gi_d (e 0) (a 0) + gi_d (e 1) (a 0)) * (gi_d (f 0) (a 0) + gi_d (f 1) (a 0))) + (gi_d (b 0) (a 1) + gi_d (b 1) (a 1)) * ((gi_d (e 0) (a 1) + gi_d (e 1) (a 1)) * (gi_d (f 0) (a 1) + gi_d (f 1) (a 1))) := by
  rw [gi_d_comm (b 0) (a 0), gi_d_comm (b 0) (a 1), gi_d_comm (b 1) (a 0), gi_d_comm (b 1) (a 1), gi_d_comm (e 0) (a 0), gi_d_comm (e 0) (a 1), gi_d_comm (e 1) (a 0), gi_d_comm (e 1) (a 1), gi_d_comm (f 0) (a 0), gi_d_comm (f 0) (a 1), gi_d_comm (f 1) (a 0), gi_d_comm (f 1) (a 1)]
  simp only [gi_s, Nat.reduceMod, Nat.reduceDiv, Nat.add_mul, Nat.mul_add]
  omega
theorem gi_pD (a b e f : Nat → Nat) : gi_s (fun c => gi_d (a (c % 2)) (b (c / 2 % 2)) * gi_d (e (c / 4 % 2)) (f (c / 8 % 2))) 16 =
    ((gi_d (b 0) (a 0) + gi_d (b 1) (a 0)) + (gi_d (b 0) (a 1) + gi_d (b 1) (a 1))) * ((gi_d (f 0) (e 0) + gi_d (f 1) (e 0)) + (gi_d (f 0) (e 1) + gi_d (f 1) (e 1))) := by
  rw [gi_d_comm (b 0) (a 0), gi_d_comm (b 0) (a 1), gi_d_comm (b 1) (a 0), gi_d_comm (b 1) (a 1), gi_d_comm (f 0) (e 0), gi_d_comm (f 0) (e 1), gi_d_comm (f 1) (e 0), gi_d_comm (f 1) (e 1)]
  simp only [gi_s, Nat.reduceMod, Nat.reduceDiv, Nat.add_mul, Nat.mul_add]
  omega
section
variable {M F : Nat → Int32} {n i j k l : Nat}
theorem gi_q2 (hn : n ≤ 7) (hP : gi_P n M F) (hi : i < n) (hj : j < n) (w : Nat) : gi_s (gi_i2 M F w i j) 4 = gi_b2 (gi_k M F w (nI i)) (gi_k M F w (nI j)) := by
  rw [gi_b2_n hn hP hi, gi_k_n w _ (show j < 2 ^ 31 by omega), gi_k_n w _ (show j < 2 ^ 31 by omega)]
  exact gi_p2 (gi_g M F w i) (gi_g M F w j)
theorem gi_q3 (hn : n ≤ 7) (hP : gi_P n M F) (hi : i < n) (hj : j < n) (hk : k < n) (w : Nat) : gi_s (gi_i3 M F w i j k) 8 = gi_b3 (gi_k M F w (nI i)) (gi_k M F w (nI j)) (gi_k M F w (nI k)) := by
  rw [gi_b3_2, gi_b2_n hn hP hi, gi_k_n w _ (show j < 2 ^ 31 by omega), gi_k_n w _ (show j < 2 ^ 31 by omega), gi_k_n w _ (show k < 2 ^ 31 by omega), gi_k_n w _ (show k < 2 ^ 31 by omega)]
  exact gi_p3 (gi_g M F w i) (gi_g M F w j) (gi_g M F w k)
theorem gi_q4 (hn : n ≤ 7) (hP : gi_P n M F) (hi : i < n) (hj : j < n) (hk : k < n) (hl : l < n) (w : Nat) : gi_s (gi_i4 M F w i j k l) 16 = gi_b4 (gi_k M F w (nI i)) (gi_k M F w (nI j)) (gi_k M F w (nI k)) (gi_k M F w (nI l)) := by
  rw [gi_b4_2, gi_b2_n hn hP hi, gi_k_n w _ (show j < 2 ^ 31 by omega), gi_k_n w _ (show j < 2 ^ 31 by omega), gi_k_n w _ (show k < 2 ^ 31 by omega), gi_k_n w _ (show k < 2 ^ 31 by omega), gi_k_n w _ (show l < 2 ^ 31 by omega), gi_k_n w _ (show l < 2 ^ 31 by omega)]
  exact gi_p4 (gi_g M F w i) (gi_g M F w j) (gi_g M F w k) (gi_g M F w l)
theorem gi_qP (hn : n ≤ 7) (hP : gi_P n M F) (hi : i < n) (hj : j < n) (hk : k < n) (hl : l < n) (w : Nat) : gi_s (gi_iP M F w i j k l) 16 = gi_b2 (gi_k M F w (nI i)) (gi_k M F w (nI j)) * gi_b2 (gi_k M F w (nI k)) (gi_k M F w (nI l)) := by
  rw [gi_b2_n hn hP hi, gi_b2_n hn hP hk, gi_k_n w _ (show j < 2 ^ 31 by omega), gi_k_n w _ (show j < 2 ^ 31 by omega), gi_k_n w _ (show l < 2 ^ 31 by omega), gi_k_n w _ (show l < 2 ^ 31 by omega)]
  exact gi_pD (gi_g M F w i) (gi_g M F w j) (gi_g M F w k) (gi_g M F w l)
theorem gi_pF (f v : Nat) : gi_d (2 * f) v + gi_d (2 * f + 1) v = gi_d (v / 2) f := by
  unfold gi_d
  repeat' split
  all_goals omega
theorem gi_qF (hn : n ≤ 7) (hP : gi_P n M F) (hi : i < n) (hj : j < n) (hM : M j = -1) (w : Nat) : gi_s (gi_if2 M F w i j) 2 = gi_b2 (gi_k M F w (nI i)) (gi_k M F w (nI j)) := by
  obtain ⟨e0, e1⟩ := gi_g_fo (F := F) w (show j < 7 by omega) hM
  rw [gi_b2_n hn hP hi, gi_k_n w _ (show j < 2 ^ 31 by omega), gi_k_n w _ (show j < 2 ^ 31 by omega), e0, e1, gi_pF, gi_pF]
  show 0 + gi_d (gi_g M F w i 0 / 2) j + gi_d (gi_g M F w i 1 / 2) j = _
  rw [Nat.zero_add]
/-- the numbers that the reference answers with -/
theorem gi_n2 (hn : n ≤ 7) (hP : gi_P n M F) (hi : i < n) (hj : j < n) : gi_T2 M F (4 ^ gi_c M n) (nI i) (nI j) = 4 * gi_s (fun w => gi_s (gi_i2 M F w i j) 4) (4 ^ gi_c M n) :=
  congrArg (fun z => 4 * z) (gi_s_congr _ (fun w _ => (gi_q2 hn hP hi hj w).symm))
theorem gi_n3 (hn : n ≤ 7) (hP : gi_P n M F) (hi : i < n) (hj : j < n) (hk : k < n) : gi_T3 M F (4 ^ gi_c M n) (nI i) (nI j) (nI k) = 2 * gi_s (fun w => gi_s (gi_i3 M F w i j k) 8) (4 ^ gi_c M n) :=
  congrArg (fun z => 2 * z) (gi_s_congr _ (fun w _ => (gi_q3 hn hP hi hj hk w).symm))
theorem gi_n4 (hn : n ≤ 7) (hP : gi_P n M F) (hi : i < n) (hj : j < n) (hk : k < n) (hl : l < n) : gi_T4 M F (4 ^ gi_c M n) (nI i) (nI j) (nI k) (nI l) = gi_s (fun w => gi_s (gi_i4 M F w i j k l) 16) (4 ^ gi_c M n) :=
  gi_s_congr _ (fun w _ => (gi_q4 hn hP hi hj hk hl w).symm)
theorem gi_nP (hn : n ≤ 7) (hP : gi_P n M F) (hi : i < n) (hj : j < n) (hk : k < n) (hl : l < n) : gi_TD M F (4 ^ gi_c M n) (nI i) (nI j) (nI k) (nI l) = gi_s (fun w => gi_s (gi_iP M F w i j k l) 16) (4 ^ gi_c M n) :=
  gi_s_congr _ (fun w _ => (gi_qP hn hP hi hj hk hl w).symm)
theorem gi_nF (hn : n ≤ 7) (hP : gi_P n M F) (hi : i < n) (hj : j < n) (hM : M j = -1) : gi_T2 M F (4 ^ gi_c M n) (nI i) (nI j) = 4 * gi_s (fun w => gi_s (gi_if2 M F w i j) 2) (4 ^ gi_c M n) :=
  congrArg (fun z => 4 * z) (gi_s_congr _ (fun w _ => (gi_qF hn hP hi hj hM w).symm))
theorem gi_nI (hn : n ≤ 7) (hP : gi_P n M F) (hi : i < n) : gi_T2 M F (4 ^ gi_c M n) (nI i) (nI i) = 8 * (4 ^ gi_c M n) + 8 * gi_s (fun w => gi_d (gi_g M F w i 0) (gi_g M F w i 1)) (4 ^ gi_c M n) := by
  have h : gi_s (fun w => gi_b2 (gi_k M F w (nI i)) (gi_k M F w (nI i))) (4 ^ gi_c M n) = gi_s (fun _ => 2) (4 ^ gi_c M n) + 2 * gi_s (fun w => gi_d (gi_g M F w i 0) (gi_g M F w i 1)) (4 ^ gi_c M n) := by
    rw [← gi_s_mul, ← gi_s_add]
    apply gi_s_congr
    intro w _
    obtain ⟨k0, k1⟩ := gi_kx (M := M) (F := F) (show i < 7 by omega) w
    rw [gi_b2_n hn hP hi, k0, k1]
    omega
  have h3 := gi_s_const 2 (4 ^ gi_c M n)
  unfold gi_T2
  omega
end
/-- the state of two members with genes a, b and c, d -/
def gi_so (a b c d : Nat) : Nat :=
  if a = b then (if c = d then (if a = c ∨ a = d then 1 else 2) else (if a = c ∨ a = d then 3 else 4))
  else if c = d then (if (a = c ∨ a = d) ∨ (b = c ∨ b = d) then 5 else 6)
  else if (a = c ∨ a = d) ∧ (b = c ∨ b = d) then 7 else if (a = c ∨ a = d) ∨ (b = c ∨ b = d) then 8 else 9
/-- one if they share a gene -/
def gi_sr (a b c d : Nat) : Nat := if (a = c ∨ a = d) ∨ (b = c ∨ b = d) then 1 else 0
theorem gi_so_in (a b c d : Nat) : 1 ≤ gi_so a b c d ∧ gi_so a b c d ≤ 9 := by
  unfold gi_so
  repeat' split
  all_goals omega
end
section
/-! the nine states: each of the component's numbers is a sum of them -/
theorem gi_e1 {x y : Nat} (h : x = y) : gi_d x y = 1 := if_pos h
/-- for one way: a, b the genes of i; c, d those of j -/
def gi_Q (a b c d : Nat) : Prop :=
  (gi_d c a + gi_d d a) + (gi_d c b + gi_d d b) = 4 * gi_d (gi_so a b c d) 1 + 2 * gi_d (gi_so a b c d) 3 + 2 * gi_d (gi_so a b c d) 5 + 2 * gi_d (gi_so a b c d) 7 + gi_d (gi_so a b c d) 8 ∧
  (gi_d a a + gi_d b a) * (gi_d c a + gi_d d a) + (gi_d a b + gi_d b b) * (gi_d c b + gi_d d b) = 8 * gi_d (gi_so a b c d) 1 + 4 * gi_d (gi_so a b c d) 3 + 2 * gi_d (gi_so a b c d) 5 + 2 * gi_d (gi_so a b c d) 7 + gi_d (gi_so a b c d) 8 ∧
  (gi_d c a + gi_d d a) * (gi_d c a + gi_d d a) + (gi_d c b + gi_d d b) * (gi_d c b + gi_d d b) = 8 * gi_d (gi_so a b c d) 1 + 2 * gi_d (gi_so a b c d) 3 + 4 * gi_d (gi_so a b c d) 5 + 2 * gi_d (gi_so a b c d) 7 + gi_d (gi_so a b c d) 8 ∧
  (gi_d a a + gi_d b a) * ((gi_d c a + gi_d d a) * (gi_d c a + gi_d d a)) + (gi_d a b + gi_d b b) * ((gi_d c b + gi_d d b) * (gi_d c b + gi_d d b)) = 16 * gi_d (gi_so a b c d) 1 + 4 * gi_d (gi_so a b c d) 3 + 4 * gi_d (gi_so a b c d) 5 + 2 * gi_d (gi_so a b c d) 7 + gi_d (gi_so a b c d) 8 ∧
  ((gi_d c a + gi_d d a) + (gi_d c b + gi_d d b)) * ((gi_d c a + gi_d d a) + (gi_d c b + gi_d d b)) = 16 * gi_d (gi_so a b c d) 1 + 4 * gi_d (gi_so a b c d) 3 + 4 * gi_d (gi_so a b c d) 5 + 4 * gi_d (gi_so a b c d) 7 + gi_d (gi_so a b c d) 8 ∧
  (gi_d a a + gi_d b a) + (gi_d a b + gi_d b b) = 2 * 1 + 2 * gi_d (gi_so a b c d) 1 + 2 * gi_d (gi_so a b c d) 2 + 2 * gi_d (gi_so a b c d) 3 + 2 * gi_d (gi_so a b c d) 4 ∧
  (gi_d c c + gi_d d c) + (gi_d c d + gi_d d d) = 2 * 1 + 2 * gi_d (gi_so a b c d) 1 + 2 * gi_d (gi_so a b c d) 2 + 2 * gi_d (gi_so a b c d) 5 + 2 * gi_d (gi_so a b c d) 6 ∧
  ((gi_d a a + gi_d b a) + (gi_d a b + gi_d b b)) * ((gi_d c c + gi_d d c) + (gi_d c d + gi_d d d)) = 4 * 1 + 12 * gi_d (gi_so a b c d) 1 + 12 * gi_d (gi_so a b c d) 2 + 4 * gi_d (gi_so a b c d) 3 + 4 * gi_d (gi_so a b c d) 4 + 4 * gi_d (gi_so a b c d) 5 + 4 * gi_d (gi_so a b c d) 6 ∧
  1 = gi_d (gi_so a b c d) 1 + gi_d (gi_so a b c d) 2 + gi_d (gi_so a b c d) 3 + gi_d (gi_so a b c d) 4 + gi_d (gi_so a b c d) 5 + gi_d (gi_so a b c d) 6 + gi_d (gi_so a b c d) 7 + gi_d (gi_so a b c d) 8 + gi_d (gi_so a b c d) 9 ∧
  gi_sr a b c d = gi_d (gi_so a b c d) 1 + gi_d (gi_so a b c d) 3 + gi_d (gi_so a b c d) 5 + gi_d (gi_so a b c d) 7 + gi_d (gi_so a b c d) 8
theorem gi_Qs (a b c d : Nat) : gi_Q a b c d := by
  by_cases h1 : a = b
  · subst h1
    by_cases h2 : c = d
    · subst h2
      by_cases h3 : a = c
      · subst h3
        simp [gi_Q, gi_so, gi_sr, gi_d]
      · have h3' : ¬ c = a := fun z => h3 z.symm
        simp [gi_Q, gi_so, gi_sr, gi_d, h3, h3']
    · have h2' : ¬ d = c := fun z => h2 z.symm
      by_cases h3 : a = c
      · subst h3
        simp [gi_Q, gi_so, gi_sr, gi_d, h2, h2']
      · have h3' : ¬ c = a := fun z => h3 z.symm
        by_cases h4 : a = d
        · subst h4
          simp [gi_Q, gi_so, gi_sr, gi_d, h2, h2']
        · have h4' : ¬ d = a := fun z => h4 z.symm
          simp [gi_Q, gi_so, gi_sr, gi_d, h2, h2', h3, h3', h4, h4']
  · have h1' : ¬ b = a := fun z => h1 z.symm
    by_cases h2 : c = d
    · subst h2
      by_cases h3 : a = c
      · subst h3
        simp [gi_Q, gi_so, gi_sr, gi_d, h1, h1']
      · have h3' : ¬ c = a := fun z => h3 z.symm
        by_cases h4 : b = c
        · subst h4
          simp [gi_Q, gi_so, gi_sr, gi_d, h1, h1']
        · have h4' : ¬ c = b := fun z => h4 z.symm
          simp [gi_Q, gi_so, gi_sr, gi_d, h1, h1', h3, h3', h4, h4']
    · have h2' : ¬ d = c := fun z => h2 z.symm
      by_cases h3 : a = c
      · subst h3
        by_cases h4 : b = d
        · subst h4
          simp [gi_Q, gi_so, gi_sr, gi_d, h1, h1']
        · have h4' : ¬ d = b := fun z => h4 z.symm
          simp [gi_Q, gi_so, gi_sr, gi_d, h1, h1', h2, h2', h4, h4']
      · have h3' : ¬ c = a := fun z => h3 z.symm
        by_cases h4 : a = d
        · subst h4
          by_cases h5 : b = c
          · subst h5
            simp [gi_Q, gi_so, gi_sr, gi_d, h1, h1']
          · have h5' : ¬ c = b := fun z => h5 z.symm
            simp [gi_Q, gi_so, gi_sr, gi_d, h1, h1', h2, h2', h5, h5']
        · have h4' : ¬ d = a := fun z => h4 z.symm
          by_cases h5 : b = c
          · subst h5
            simp [gi_Q, gi_so, gi_sr, gi_d, h1, h1', h2, h2', h4, h4']
          · have h5' : ¬ c = b := fun z => h5 z.symm
            by_cases h6 : b = d
            · subst h6
              simp [gi_Q, gi_so, gi_sr, gi_d, h1, h1', h2, h2', h3, h3', h5, h5']
            · have h6' : ¬ d = b := fun z => h6 z.symm
              simp [gi_Q, gi_so, gi_sr, gi_d, h1, h1', h2, h2', h3, h3', h4, h4', h5, h5', h6, h6']
/-- the state of i and j in way w -/
def gi_sw (M F : Nat → Int32) (i j w : Nat) : Nat := gi_so (gi_g M F w i 0) (gi_g M F w i 1) (gi_g M F w j 0) (gi_g M F w j 1)
/-- in how many of the first N ways i and j are in state t -/
def gi_S (M F : Nat → Int32) (N i j t : Nat) : Nat := gi_s (fun w => gi_d (gi_sw M F i j w) t) N
theorem gi_SQ {M F : Nat → Int32} {n i j : Nat} (hn : n ≤ 7) (hP : gi_P n M F) (hi : i < n) (hj : j < n) :
    gi_T2 M F (4 ^ gi_c M n) (nI i) (nI j) = 4 * (4 * gi_S M F (4 ^ gi_c M n) i j 1 + 2 * gi_S M F (4 ^ gi_c M n) i j 3 + 2 * gi_S M F (4 ^ gi_c M n) i j 5 + 2 * gi_S M F (4 ^ gi_c M n) i j 7 + gi_S M F (4 ^ gi_c M n) i j 8) ∧
    gi_T3 M F (4 ^ gi_c M n) (nI i) (nI i) (nI j) = 2 * (8 * gi_S M F (4 ^ gi_c M n) i j 1 + 4 * gi_S M F (4 ^ gi_c M n) i j 3 + 2 * gi_S M F (4 ^ gi_c M n) i j 5 + 2 * gi_S M F (4 ^ gi_c M n) i j 7 + gi_S M F (4 ^ gi_c M n) i j 8) ∧
    gi_T3 M F (4 ^ gi_c M n) (nI i) (nI j) (nI j) = 2 * (8 * gi_S M F (4 ^ gi_c M n) i j 1 + 2 * gi_S M F (4 ^ gi_c M n) i j 3 + 4 * gi_S M F (4 ^ gi_c M n) i j 5 + 2 * gi_S M F (4 ^ gi_c M n) i j 7 + gi_S M F (4 ^ gi_c M n) i j 8) ∧
    gi_T4 M F (4 ^ gi_c M n) (nI i) (nI i) (nI j) (nI j) = 16 * gi_S M F (4 ^ gi_c M n) i j 1 + 4 * gi_S M F (4 ^ gi_c M n) i j 3 + 4 * gi_S M F (4 ^ gi_c M n) i j 5 + 2 * gi_S M F (4 ^ gi_c M n) i j 7 + gi_S M F (4 ^ gi_c M n) i j 8 ∧
    gi_TD M F (4 ^ gi_c M n) (nI i) (nI j) (nI i) (nI j) = 16 * gi_S M F (4 ^ gi_c M n) i j 1 + 4 * gi_S M F (4 ^ gi_c M n) i j 3 + 4 * gi_S M F (4 ^ gi_c M n) i j 5 + 4 * gi_S M F (4 ^ gi_c M n) i j 7 + gi_S M F (4 ^ gi_c M n) i j 8 ∧
    gi_T2 M F (4 ^ gi_c M n) (nI i) (nI i) = 4 * (2 * (4 ^ gi_c M n) + 2 * gi_S M F (4 ^ gi_c M n) i j 1 + 2 * gi_S M F (4 ^ gi_c M n) i j 2 + 2 * gi_S M F (4 ^ gi_c M n) i j 3 + 2 * gi_S M F (4 ^ gi_c M n) i j 4) ∧
    gi_T2 M F (4 ^ gi_c M n) (nI j) (nI j) = 4 * (2 * (4 ^ gi_c M n) + 2 * gi_S M F (4 ^ gi_c M n) i j 1 + 2 * gi_S M F (4 ^ gi_c M n) i j 2 + 2 * gi_S M F (4 ^ gi_c M n) i j 5 + 2 * gi_S M F (4 ^ gi_c M n) i j 6) ∧
    gi_TD M F (4 ^ gi_c M n) (nI i) (nI i) (nI j) (nI j) = 4 * (4 ^ gi_c M n) + 12 * gi_S M F (4 ^ gi_c M n) i j 1 + 12 * gi_S M F (4 ^ gi_c M n) i j 2 + 4 * gi_S M F (4 ^ gi_c M n) i j 3 + 4 * gi_S M F (4 ^ gi_c M n) i j 4 + 4 * gi_S M F (4 ^ gi_c M n) i j 5 + 4 * gi_S M F (4 ^ gi_c M n) i j 6 ∧
    (4 ^ gi_c M n) = gi_S M F (4 ^ gi_c M n) i j 1 + gi_S M F (4 ^ gi_c M n) i j 2 + gi_S M F (4 ^ gi_c M n) i j 3 + gi_S M F (4 ^ gi_c M n) i j 4 + gi_S M F (4 ^ gi_c M n) i j 5 + gi_S M F (4 ^ gi_c M n) i j 6 + gi_S M F (4 ^ gi_c M n) i j 7 + gi_S M F (4 ^ gi_c M n) i j 8 + gi_S M F (4 ^ gi_c M n) i j 9 ∧
    gi_s (fun w => gi_sr (gi_g M F w i 0) (gi_g M F w i 1) (gi_g M F w j 0) (gi_g M F w j 1)) (4 ^ gi_c M n) = gi_S M F (4 ^ gi_c M n) i j 1 + gi_S M F (4 ^ gi_c M n) i j 3 + gi_S M F (4 ^ gi_c M n) i j 5 + gi_S M F (4 ^ gi_c M n) i j 7 + gi_S M F (4 ^ gi_c M n) i j 8 := by
  have Q := fun w => gi_Qs (gi_g M F w i 0) (gi_g M F w i 1) (gi_g M F w j 0) (gi_g M F w j 1)
  have i31 : i < 2 ^ 31 := by omega
  have j31 : j < 2 ^ 31 := by omega
  have one : (4 ^ gi_c M n) = gi_s (fun _ => 1) (4 ^ gi_c M n) := by rw [gi_s_const, Nat.one_mul]
  refine ⟨?_, ?_, ?_, ?_, ?_, ?_, ?_, ?_, ?_, ?_⟩
  · refine congrArg (fun z => 4 * z) ?_
    unfold gi_S
    simp only [← gi_s_mul, ← gi_s_add]
    apply gi_s_congr
    intro w _
    rw [gi_b2_n hn hP hi, gi_k_n w _ j31, gi_k_n w _ j31]
    exact (Q w).1
  · refine congrArg (fun z => 2 * z) ?_
    unfold gi_S
    simp only [← gi_s_mul, ← gi_s_add]
    apply gi_s_congr
    intro w _
    rw [gi_b3_2, gi_b2_n hn hP hi, gi_k_n w _ j31, gi_k_n w _ j31, gi_k_n w _ i31, gi_k_n w _ i31]
    exact (Q w).2.1
  · refine congrArg (fun z => 2 * z) ?_
    unfold gi_S
    simp only [← gi_s_mul, ← gi_s_add]
    apply gi_s_congr
    intro w _
    rw [gi_b3_2, gi_b2_n hn hP hi, gi_k_n w _ j31, gi_k_n w _ j31]
    exact (Q w).2.2.1
  · unfold gi_S gi_T4
    simp only [← gi_s_mul, ← gi_s_add]
    apply gi_s_congr
    intro w _
    rw [gi_b4_2, gi_b2_n hn hP hi, gi_k_n w _ j31, gi_k_n w _ j31, gi_k_n w _ i31, gi_k_n w _ i31]
    exact (Q w).2.2.2.1
  · unfold gi_S gi_TD
    simp only [← gi_s_mul, ← gi_s_add]
    apply gi_s_congr
    intro w _
    rw [gi_b2_n hn hP hi, gi_k_n w _ j31, gi_k_n w _ j31]
    exact (Q w).2.2.2.2.1
  · refine congrArg (fun z => 4 * z) ?_
    have e : 2 * (4 ^ gi_c M n) = gi_s (fun _ => 2 * 1) (4 ^ gi_c M n) := by rw [gi_s_const]
    rw [e]
    unfold gi_S
    simp only [← gi_s_mul, ← gi_s_add]
    apply gi_s_congr
    intro w _
    rw [gi_b2_n hn hP hi, gi_k_n w _ i31, gi_k_n w _ i31]
    exact (Q w).2.2.2.2.2.1
  · refine congrArg (fun z => 4 * z) ?_
    have e : 2 * (4 ^ gi_c M n) = gi_s (fun _ => 2 * 1) (4 ^ gi_c M n) := by rw [gi_s_const]
    rw [e]
    unfold gi_S
    simp only [← gi_s_mul, ← gi_s_add]
    apply gi_s_congr
    intro w _
    rw [gi_b2_n hn hP hj, gi_k_n w _ j31, gi_k_n w _ j31]
    exact (Q w).2.2.2.2.2.2.1
  · have e : 4 * (4 ^ gi_c M n) = gi_s (fun _ => 4 * 1) (4 ^ gi_c M n) := by rw [gi_s_const]
    rw [e]
    unfold gi_S gi_TD
    simp only [← gi_s_mul, ← gi_s_add]
    apply gi_s_congr
    intro w _
    rw [gi_b2_n hn hP hi, gi_b2_n hn hP hj, gi_k_n w _ j31, gi_k_n w _ j31, gi_k_n w _ i31, gi_k_n w _ i31]
    exact (Q w).2.2.2.2.2.2.2.1
  · refine Eq.trans one ?_
    unfold gi_S
    simp only [← gi_s_add]
    apply gi_s_congr
    intro w _
    exact (Q w).2.2.2.2.2.2.2.2.1
  · unfold gi_S
    simp only [← gi_s_add]
    apply gi_s_congr
    intro w _
    exact (Q w).2.2.2.2.2.2.2.2.2
end
section
/-! the reference's loops: over the choices in one way, and over all ways -/
theorem gi_in1 {f : Nat → Nat} {m c : Nat} (h : f c = 1) : nI (m + gi_s f c) + 1 = nI (m + gi_s f (c + 1)) := by
  rw [nI_1]
  refine congrArg nI ?_
  show m + gi_s f c + 1 = m + (gi_s f c + f c)
  rw [h]; omega
theorem gi_in0 {f : Nat → Nat} {m c : Nat} (h : f c = 0) : nI (m + gi_s f c) = nI (m + gi_s f (c + 1)) := by
  refine congrArg nI ?_
  show m + gi_s f c = m + (gi_s f c + f c)
  rw [h]; omega
theorem gi_io1 {f : Nat → Nat} {c : Nat} (h : f c = 1) : nI (gi_s f c) + 1 = nI (gi_s f (c + 1)) := by
  rw [nI_1]
  refine congrArg nI ?_
  show gi_s f c + 1 = gi_s f c + f c
  rw [h]
theorem gi_io0 {f : Nat → Nat} {c : Nat} (h : f c = 0) : nI (gi_s f c) = nI (gi_s f (c + 1)) := by
  refine congrArg nI ?_
  show gi_s f c = gi_s f c + f c
  rw [h, Nat.add_zero]
theorem gi_yi_two {M F g : Nat → Int32} {n w i j m : Nat} {xa xw : Int32} {post : Int32 → SY → Prop} {J : Int32 → Int32 → Int32 → (Nat → Int32) → (Nat → Int32) → (Nat → Int32) → Prop} (hn : n ≤ 7) (hP : gi_P n M F) (hg : gi_G M F w n g) (hi : i < n) (hj : j < n)
    (hJ : ∀ z : Int32, z = xw + 1 → J (nI (m + gi_s (gi_i2 M F w i j) 4)) z (nI n) M F g) :
    ∀ (d c : Nat), c + d = 4 → wY_two_45 post J (nI i) (nI j) xa xw (nI n) M F g (d + 1) (nI (m + gi_s (gi_i2 M F w i j) c)) (nI c) := by
  intro d
  induction d with
  | zero =>
    intro c hc
    have e : c = 4 := by omega
    subst e
    rw [wY_two_45]
    exact br_t (nI_le (a := 4) (b := 4) (by omega) (by decide)) hJ
  | succ d ih =>
    intro c hc
    have I1 := ih (c + 1) (by omega)
    have bi := gi_g_l (b := c % 2) hn hP w hi (by omega)
    have bj := gi_g_l (b := c / 2 % 2) hn hP w hj (by omega)
    rw [wY_two_45]
    refine br_f (nI_ge (a := c) (b := 4) (by omega) (by decide)) ?_
    refine gi_gene0 hn hg hi (by omega) (gi_gene1 hn hg hj (by omega) (pk_eq (gi_g M F w i (c % 2)) (gi_g M F w j (c / 2 % 2)) (fun e => ?_) (fun e => ?_)))
    · exact nm_r (gi_in1 (by unfold gi_i2; rw [gi_e1 e])) (nm_r (nI_1 c) I1)
    · exact nm_r (nI_1 c) (by rw [gi_in0 (f := gi_i2 M F w i j) (m := m) (c := c) (by unfold gi_i2; rw [gi_d_ne e])]; exact I1)
theorem gi_yi_three {M F g : Nat → Int32} {n w i j k m : Nat} {xa xw : Int32} {post : Int32 → SY → Prop} {J : Int32 → Int32 → Int32 → (Nat → Int32) → (Nat → Int32) → (Nat → Int32) → Prop} (hn : n ≤ 7) (hP : gi_P n M F) (hg : gi_G M F w n g) (hi : i < n) (hj : j < n) (hk : k < n)
    (hJ : ∀ z : Int32, z = xw + 1 → J (nI (m + gi_s (gi_i3 M F w i j k) 8)) z (nI n) M F g) :
    ∀ (d c : Nat), c + d = 8 → wY_three_54 post J (nI i) (nI j) (nI k) xa xw (nI n) M F g (d + 1) (nI (m + gi_s (gi_i3 M F w i j k) c)) (nI c) := by
  intro d
  induction d with
  | zero =>
    intro c hc
    have e : c = 8 := by omega
    subst e
    rw [wY_three_54]
    exact br_t (nI_le (a := 8) (b := 8) (by omega) (by decide)) hJ
  | succ d ih =>
    intro c hc
    have I1 := ih (c + 1) (by omega)
    have bi := gi_g_l (b := c % 2) hn hP w hi (by omega)
    have bj := gi_g_l (b := c / 2 % 2) hn hP w hj (by omega)
    have bk := gi_g_l (b := c / 4 % 2) hn hP w hk (by omega)
    rw [wY_three_54]
    refine br_f (nI_ge (a := c) (b := 8) (by omega) (by decide)) ?_
    refine gi_gene0 hn hg hi (by omega) (gi_gene1 hn hg hj (by omega) (pk_eq (gi_g M F w i (c % 2)) (gi_g M F w j (c / 2 % 2)) (fun e => gi_gene2 hn hg hk (by omega) (pk_eq (gi_g M F w i (c % 2)) (gi_g M F w k (c / 4 % 2)) (fun e2 => ?_) (fun e2 => ?_))) (fun e => ?_)))
    · exact nm_r (gi_in1 (by unfold gi_i3; rw [gi_e1 e, gi_e1 e2])) (nm_r (nI_1 c) I1)
    · exact nm_r (nI_1 c) (by rw [gi_in0 (f := gi_i3 M F w i j k) (m := m) (c := c) (by unfold gi_i3; rw [gi_d_ne e2, Nat.mul_zero])]; exact I1)
    · exact nm_r (nI_1 c) (by rw [gi_in0 (f := gi_i3 M F w i j k) (m := m) (c := c) (by unfold gi_i3; rw [gi_d_ne e, Nat.zero_mul])]; exact I1)
theorem gi_yi_four {M F g : Nat → Int32} {n w i j k l m : Nat} {xa xw : Int32} {post : Int32 → SY → Prop} {J : Int32 → Int32 → Int32 → (Nat → Int32) → (Nat → Int32) → (Nat → Int32) → Prop} (hn : n ≤ 7) (hP : gi_P n M F) (hg : gi_G M F w n g) (hi : i < n) (hj : j < n) (hk : k < n) (hl : l < n)
    (hJ : ∀ z : Int32, z = xw + 1 → J (nI (m + gi_s (gi_i4 M F w i j k l) 16)) z (nI n) M F g) :
    ∀ (d c : Nat), c + d = 16 → wY_four_63 post J (nI i) (nI j) (nI k) (nI l) xa xw (nI n) M F g (d + 1) (nI (m + gi_s (gi_i4 M F w i j k l) c)) (nI c) := by
  intro d
  induction d with
  | zero =>
    intro c hc
    have e : c = 16 := by omega
    subst e
    rw [wY_four_63]
    exact br_t (nI_le (a := 16) (b := 16) (by omega) (by decide)) hJ
  | succ d ih =>
    intro c hc
    have I1 := ih (c + 1) (by omega)
    have bi := gi_g_l (b := c % 2) hn hP w hi (by omega)
    have bj := gi_g_l (b := c / 2 % 2) hn hP w hj (by omega)
    have bk := gi_g_l (b := c / 4 % 2) hn hP w hk (by omega)
    have bl := gi_g_l (b := c / 8 % 2) hn hP w hl (by omega)
    rw [wY_four_63]
    refine br_f (nI_ge (a := c) (b := 16) (by omega) (by decide)) ?_
    refine gi_gene0 hn hg hi (by omega) (gi_gene1 hn hg hj (by omega) (pk_eq (gi_g M F w i (c % 2)) (gi_g M F w j (c / 2 % 2)) (fun e => gi_gene2 hn hg hk (by omega) (pk_eq (gi_g M F w i (c % 2)) (gi_g M F w k (c / 4 % 2)) (fun e2 => gi_gene3 hn hg hl (by omega) (pk_eq (gi_g M F w i (c % 2)) (gi_g M F w l (c / 8 % 2)) (fun e3 => ?_) (fun e3 => ?_))) (fun e2 => ?_))) (fun e => ?_)))
    · exact nm_r (gi_in1 (by unfold gi_i4; rw [gi_e1 e, gi_e1 e2, gi_e1 e3])) (nm_r (nI_1 c) I1)
    · exact nm_r (nI_1 c) (by rw [gi_in0 (f := gi_i4 M F w i j k l) (m := m) (c := c) (by unfold gi_i4; rw [gi_d_ne e3, Nat.mul_zero, Nat.mul_zero])]; exact I1)
    · exact nm_r (nI_1 c) (by rw [gi_in0 (f := gi_i4 M F w i j k l) (m := m) (c := c) (by unfold gi_i4; rw [gi_d_ne e2, Nat.zero_mul, Nat.mul_zero])]; exact I1)
    · exact nm_r (nI_1 c) (by rw [gi_in0 (f := gi_i4 M F w i j k l) (m := m) (c := c) (by unfold gi_i4; rw [gi_d_ne e, Nat.zero_mul])]; exact I1)
theorem gi_yi_pairs {M F g : Nat → Int32} {n w i j k l m : Nat} {xa xw : Int32} {post : Int32 → SY → Prop} {J : Int32 → Int32 → Int32 → (Nat → Int32) → (Nat → Int32) → (Nat → Int32) → Prop} (hn : n ≤ 7) (hP : gi_P n M F) (hg : gi_G M F w n g) (hi : i < n) (hj : j < n) (hk : k < n) (hl : l < n)
    (hJ : ∀ z : Int32, z = xw + 1 → J (nI (m + gi_s (gi_iP M F w i j k l) 16)) z (nI n) M F g) :
    ∀ (d c : Nat), c + d = 16 → wY_pairs_63 post J (nI i) (nI j) (nI k) (nI l) xa xw (nI n) M F g (d + 1) (nI (m + gi_s (gi_iP M F w i j k l) c)) (nI c) := by
  intro d
  induction d with
  | zero =>
    intro c hc
    have e : c = 16 := by omega
    subst e
    rw [wY_pairs_63]
    exact br_t (nI_le (a := 16) (b := 16) (by omega) (by decide)) hJ
  | succ d ih =>
    intro c hc
    have I1 := ih (c + 1) (by omega)
    have bi := gi_g_l (b := c % 2) hn hP w hi (by omega)
    have bj := gi_g_l (b := c / 2 % 2) hn hP w hj (by omega)
    have bk := gi_g_l (b := c / 4 % 2) hn hP w hk (by omega)
    have bl := gi_g_l (b := c / 8 % 2) hn hP w hl (by omega)
    rw [wY_pairs_63]
    refine br_f (nI_ge (a := c) (b := 16) (by omega) (by decide)) ?_
    refine gi_gene0 hn hg hi (by omega) (gi_gene1 hn hg hj (by omega) (pk_eq (gi_g M F w i (c % 2)) (gi_g M F w j (c / 2 % 2)) (fun e => gi_gene2 hn hg hk (by omega) (gi_gene3 hn hg hl (by omega) (pk_eq (gi_g M F w k (c / 4 % 2)) (gi_g M F w l (c / 8 % 2)) (fun e2 => ?_) (fun e2 => ?_)))) (fun e => ?_)))
    · exact nm_r (gi_in1 (by unfold gi_iP; rw [gi_e1 e, gi_e1 e2])) (nm_r (nI_1 c) I1)
    · exact nm_r (nI_1 c) (by rw [gi_in0 (f := gi_iP M F w i j k l) (m := m) (c := c) (by unfold gi_iP; rw [gi_d_ne e2, Nat.mul_zero])]; exact I1)
    · exact nm_r (nI_1 c) (by rw [gi_in0 (f := gi_iP M F w i j k l) (m := m) (c := c) (by unfold gi_iP; rw [gi_d_ne e, Nat.zero_mul])]; exact I1)
theorem gi_yi_from {M F g : Nat → Int32} {n w i j m : Nat} {xa xw : Int32} {post : Int32 → SY → Prop} {J : Int32 → Int32 → Int32 → (Nat → Int32) → (Nat → Int32) → (Nat → Int32) → Prop} (hn : n ≤ 7) (hP : gi_P n M F) (hg : gi_G M F w n g) (hi : i < n) (hj : j < n)
    (hJ : ∀ z : Int32, z = xw + 1 → J (nI (m + gi_s (gi_if2 M F w i j) 2)) z (nI n) M F g) :
    ∀ (d c : Nat), c + d = 2 → wY_from_57 post J (nI i) (nI j) xa xw (nI n) M F g (d + 1) (nI (m + gi_s (gi_if2 M F w i j) c)) (nI c) := by
  intro d
  induction d with
  | zero =>
    intro c hc
    have e : c = 2 := by omega
    subst e
    rw [wY_from_57]
    exact br_t (nI_le (a := 2) (b := 2) (by omega) (by decide)) hJ
  | succ d ih =>
    intro c hc
    have I1 := ih (c + 1) (by omega)
    have bi := gi_g_l (b := c) hn hP w hi (by omega)
    rw [wY_from_57]
    refine br_f (nI_ge (a := c) (b := 2) (by omega) (by decide)) ?_
    rw [gi_2n, nI_add, nI_clamp (by omega), gi_Gg hg hi (show c < 2 by omega), gi_d2 (by omega)]
    refine ⟨vp_in_nI (by omega) (by decide), by decide, pk_eq (gi_g M F w i c / 2) j (fun e => ?_) (fun e => ?_)⟩
    · exact nm_r (gi_in1 (by unfold gi_if2; rw [gi_e1 e])) (nm_r (nI_1 c) I1)
    · exact nm_r (nI_1 c) (by rw [gi_in0 (f := gi_if2 M F w i j) (m := m) (c := c) (by unfold gi_if2; rw [gi_d_ne e])]; exact I1)
theorem gi_yo_two {M F : Nat → Int32} {n i j : Nat} {post : Int32 → SY → Prop} (hn : n ≤ 7) (hP : gi_P n M F) (hi : i < n) (hj : j < n) (hp : ∀ g : Nat → Int32, post (nI (gi_s (fun w => gi_s (gi_i2 M F w i j) 4) (4 ^ gi_c M n))) (nI n, M, F, g)) :
    ∀ (d w : Nat) (g : Nat → Int32), w + d = (4 ^ gi_c M n) → wY_two_29 post (nI i) (nI j) (nI (4 ^ gi_c M n)) (d + 1) (nI (gi_s (fun w => gi_s (gi_i2 M F w i j) 4) w)) (nI w) (nI n) M F g := by
  have hN := gi_le6 hn hP
  intro d
  induction d with
  | zero =>
    intro w g hw
    have e : w = (4 ^ gi_c M n) := by omega
    subst e
    rw [wY_two_29]
    exact br_t (nI_le (Nat.le_refl _) (by omega)) (hp g)
  | succ d ih =>
    intro w g hw
    rw [wY_two_29]
    refine br_f (nI_ge (by omega) (by omega)) (gi_wyf hn hP (by omega) ?_)
    intro g hg
    refine ⟨5, ?_⟩
    refine gi_yi_two (m := gi_s (fun w => gi_s (gi_i2 M F w i j) 4) w) hn hP hg hi hj ?_ 4 0 rfl
    intro z ez
    rw [ez, nI_1]
    exact ih (w + 1) g (by omega)
theorem gi_yo_three {M F : Nat → Int32} {n i j k : Nat} {post : Int32 → SY → Prop} (hn : n ≤ 7) (hP : gi_P n M F) (hi : i < n) (hj : j < n) (hk : k < n) (hp : ∀ g : Nat → Int32, post (nI (gi_s (fun w => gi_s (gi_i3 M F w i j k) 8) (4 ^ gi_c M n))) (nI n, M, F, g)) :
    ∀ (d w : Nat) (g : Nat → Int32), w + d = (4 ^ gi_c M n) → wY_three_38 post (nI i) (nI j) (nI k) (nI (4 ^ gi_c M n)) (d + 1) (nI (gi_s (fun w => gi_s (gi_i3 M F w i j k) 8) w)) (nI w) (nI n) M F g := by
  have hN := gi_le6 hn hP
  intro d
  induction d with
  | zero =>
    intro w g hw
    have e : w = (4 ^ gi_c M n) := by omega
    subst e
    rw [wY_three_38]
    exact br_t (nI_le (Nat.le_refl _) (by omega)) (hp g)
  | succ d ih =>
    intro w g hw
    rw [wY_three_38]
    refine br_f (nI_ge (by omega) (by omega)) (gi_wyf hn hP (by omega) ?_)
    intro g hg
    refine ⟨9, ?_⟩
    refine gi_yi_three (m := gi_s (fun w => gi_s (gi_i3 M F w i j k) 8) w) hn hP hg hi hj hk ?_ 8 0 rfl
    intro z ez
    rw [ez, nI_1]
    exact ih (w + 1) g (by omega)
theorem gi_yo_four {M F : Nat → Int32} {n i j k l : Nat} {post : Int32 → SY → Prop} (hn : n ≤ 7) (hP : gi_P n M F) (hi : i < n) (hj : j < n) (hk : k < n) (hl : l < n) (hp : ∀ g : Nat → Int32, post (nI (gi_s (fun w => gi_s (gi_i4 M F w i j k l) 16) (4 ^ gi_c M n))) (nI n, M, F, g)) :
    ∀ (d w : Nat) (g : Nat → Int32), w + d = (4 ^ gi_c M n) → wY_four_47 post (nI i) (nI j) (nI k) (nI l) (nI (4 ^ gi_c M n)) (d + 1) (nI (gi_s (fun w => gi_s (gi_i4 M F w i j k l) 16) w)) (nI w) (nI n) M F g := by
  have hN := gi_le6 hn hP
  intro d
  induction d with
  | zero =>
    intro w g hw
    have e : w = (4 ^ gi_c M n) := by omega
    subst e
    rw [wY_four_47]
    exact br_t (nI_le (Nat.le_refl _) (by omega)) (hp g)
  | succ d ih =>
    intro w g hw
    rw [wY_four_47]
    refine br_f (nI_ge (by omega) (by omega)) (gi_wyf hn hP (by omega) ?_)
    intro g hg
    refine ⟨17, ?_⟩
    refine gi_yi_four (m := gi_s (fun w => gi_s (gi_i4 M F w i j k l) 16) w) hn hP hg hi hj hk hl ?_ 16 0 rfl
    intro z ez
    rw [ez, nI_1]
    exact ih (w + 1) g (by omega)
theorem gi_yo_pairs {M F : Nat → Int32} {n i j k l : Nat} {post : Int32 → SY → Prop} (hn : n ≤ 7) (hP : gi_P n M F) (hi : i < n) (hj : j < n) (hk : k < n) (hl : l < n) (hp : ∀ g : Nat → Int32, post (nI (gi_s (fun w => gi_s (gi_iP M F w i j k l) 16) (4 ^ gi_c M n))) (nI n, M, F, g)) :
    ∀ (d w : Nat) (g : Nat → Int32), w + d = (4 ^ gi_c M n) → wY_pairs_47 post (nI i) (nI j) (nI k) (nI l) (nI (4 ^ gi_c M n)) (d + 1) (nI (gi_s (fun w => gi_s (gi_iP M F w i j k l) 16) w)) (nI w) (nI n) M F g := by
  have hN := gi_le6 hn hP
  intro d
  induction d with
  | zero =>
    intro w g hw
    have e : w = (4 ^ gi_c M n) := by omega
    subst e
    rw [wY_pairs_47]
    exact br_t (nI_le (Nat.le_refl _) (by omega)) (hp g)
  | succ d ih =>
    intro w g hw
    rw [wY_pairs_47]
    refine br_f (nI_ge (by omega) (by omega)) (gi_wyf hn hP (by omega) ?_)
    intro g hg
    refine ⟨17, ?_⟩
    refine gi_yi_pairs (m := gi_s (fun w => gi_s (gi_iP M F w i j k l) 16) w) hn hP hg hi hj hk hl ?_ 16 0 rfl
    intro z ez
    rw [ez, nI_1]
    exact ih (w + 1) g (by omega)
theorem gi_yo_from {M F : Nat → Int32} {n i j : Nat} {post : Int32 → SY → Prop} (hn : n ≤ 7) (hP : gi_P n M F) (hi : i < n) (hj : j < n) (hp : ∀ g : Nat → Int32, post (nI (gi_s (fun w => gi_s (gi_if2 M F w i j) 2) (4 ^ gi_c M n))) (nI n, M, F, g)) :
    ∀ (d w : Nat) (g : Nat → Int32), w + d = (4 ^ gi_c M n) → wY_from_41 post (nI i) (nI j) (nI (4 ^ gi_c M n)) (d + 1) (nI (gi_s (fun w => gi_s (gi_if2 M F w i j) 2) w)) (nI w) (nI n) M F g := by
  have hN := gi_le6 hn hP
  intro d
  induction d with
  | zero =>
    intro w g hw
    have e : w = (4 ^ gi_c M n) := by omega
    subst e
    rw [wY_from_41]
    exact br_t (nI_le (Nat.le_refl _) (by omega)) (hp g)
  | succ d ih =>
    intro w g hw
    rw [wY_from_41]
    refine br_f (nI_ge (by omega) (by omega)) (gi_wyf hn hP (by omega) ?_)
    intro g hg
    refine ⟨3, ?_⟩
    refine gi_yi_from (m := gi_s (fun w => gi_s (gi_if2 M F w i j) 2) w) hn hP hg hi hj ?_ 2 0 rfl
    intro z ez
    rw [ez, nI_1]
    exact ih (w + 1) g (by omega)
theorem gi_yo_inbred {M F : Nat → Int32} {n i : Nat} {post : Int32 → SY → Prop} (hn : n ≤ 7) (hP : gi_P n M F) (hi : i < n) (hp : ∀ g : Nat → Int32, post (nI (gi_s (fun w => gi_d (gi_g M F w i 0) (gi_g M F w i 1)) (4 ^ gi_c M n))) (nI n, M, F, g)) :
    ∀ (d w : Nat) (g : Nat → Int32), w + d = (4 ^ gi_c M n) → wY_inbred_20 post (nI i) (nI (4 ^ gi_c M n)) (d + 1) (nI (gi_s (fun w => gi_d (gi_g M F w i 0) (gi_g M F w i 1)) w)) (nI w) (nI n) M F g := by
  have hN := gi_le6 hn hP
  intro d
  induction d with
  | zero =>
    intro w g hw
    have e : w = (4 ^ gi_c M n) := by omega
    subst e
    rw [wY_inbred_20]
    exact br_t (nI_le (Nat.le_refl _) (by omega)) (hp g)
  | succ d ih =>
    intro w g hw
    have b0 := gi_g_l (b := 0) hn hP w hi (by omega)
    have b1 := gi_g_l (b := 1) hn hP w hi (by omega)
    rw [wY_inbred_20]
    refine br_f (nI_ge (by omega) (by omega)) (gi_wyf hn hP (by omega) ?_)
    intro g hg
    dsimp only
    have I1 := ih (w + 1) g (by omega)
    have q0 : g (2 * i) = nI (gi_g M F w i 0) := gi_Gg (b := 0) hg hi (by omega)
    rw [gi_2n, nI_1 (2 * i), nI_clamp (show 2 * i < 2 ^ 31 by omega), nI_clamp (show 2 * i + 1 < 2 ^ 31 by omega), q0, gi_Gg hg hi (show 1 < 2 by omega)]
    refine ⟨vp_in_nI (by omega) (by decide), vp_in_nI (by omega) (by decide), pk_eq (gi_g M F w i 0) (gi_g M F w i 1) (fun e => ?_) (fun e => ?_)⟩
    · exact nm_r (gi_io1 (f := fun w => gi_d (gi_g M F w i 0) (gi_g M F w i 1)) (gi_e1 e)) (nm_r (nI_1 w) I1)
    · refine nm_r (nI_1 w) ?_
      rw [gi_io0 (f := fun w => gi_d (gi_g M F w i 0) (gi_g M F w i 1)) (c := w) (gi_d_ne e)]
      exact I1
section
variable {M F g : Nat → Int32} {n w i j : Nat} {post : Int32 → Prop}
theorem gi_ysh (b : Nat) (s : Int32) (hs : s = nI b) (hb : b < 2) (hn : n ≤ 7) (hP : gi_P n M F) (hg : gi_G M F w n g) (hi : i < n) (hj : j < n)
    (h : post (if gi_g M F w i b = gi_g M F w j 0 ∨ gi_g M F w i b = gi_g M F w j 1 then 1 else 0)) : wpY_shares post (nI n, M, F, g) (nI i) s (nI j) := by
  have q0 : g (2 * j) = nI (gi_g M F w j 0) := gi_Gg (b := 0) hg hj (by omega)
  have bi := gi_g_l (b := b) hn hP w hi hb
  have b0 := gi_g_l (b := 0) hn hP w hj (by omega)
  have b1 := gi_g_l (b := 1) hn hP w hj (by omega)
  unfold wpY_shares
  dsimp only
  rw [hs, gi_2n, gi_2n, nI_add, nI_1 (2 * j), nI_clamp (show 2 * i + b < 2 ^ 31 by omega), nI_clamp (show 2 * j < 2 ^ 31 by omega), nI_clamp (show 2 * j + 1 < 2 ^ 31 by omega), q0, gi_Gg hg hi hb, gi_Gg hg hj (show 1 < 2 by omega)]
  refine ⟨vp_in_nI (by omega) (by decide), vp_in_nI (by omega) (by decide), pk_eq (gi_g M F w i b) (gi_g M F w j 0) (fun e => ?_) (fun e => ⟨vp_in_nI (by omega) (by decide), vp_in_nI (by omega) (by decide), pk_eq (gi_g M F w i b) (gi_g M F w j 1) (fun e2 => ?_) (fun e2 => ?_)⟩)⟩
  · rw [if_pos (Or.inl e)] at h
    exact h
  · rw [if_pos (Or.inr e2)] at h
    exact h
  · rw [if_neg (fun z => z.elim e e2)] at h
    exact h
theorem gi_y93 {x3 x4 x5 x6 : Int32} {fc : Int32} (h : post (if x3 = 0 then (if x4 = 0 then (if x5 = 0 then (if x6 = 0 then 9 else 8) else (if x6 = 0 then 8 else 7)) else (if x5 = 0 then (if x6 = 0 then 6 else 5) else 5)) else (if x5 = 0 then 4 else 3))) : wY_stateOf_93 post x3 x4 x5 x6 fc M F g := by
  unfold wY_stateOf_93 wY_stateOf_143
  by_cases h3 : x3 = 0 <;> by_cases h4 : x4 = 0 <;> by_cases h5 : x5 = 0 <;> by_cases h6 : x6 = 0 <;> simp_all
theorem gi_yso (hn : n ≤ 7) (hP : gi_P n M F) (hg : gi_G M F w n g) (hi : i < n) (hj : j < n)
    (h : post (nI (gi_sw M F i j w))) : wpY_stateOf post (nI n, M, F, g) (nI i) (nI j) := by
  have p0 : g (2 * i) = nI (gi_g M F w i 0) := gi_Gg (b := 0) hg hi (by omega)
  have q0 : g (2 * j) = nI (gi_g M F w j 0) := gi_Gg (b := 0) hg hj (by omega)
  have a0 := gi_g_l (b := 0) hn hP w hi (by omega)
  have a1 := gi_g_l (b := 1) hn hP w hi (by omega)
  have b0 := gi_g_l (b := 0) hn hP w hj (by omega)
  have b1 := gi_g_l (b := 1) hn hP w hj (by omega)
  have K : ∀ x z : Int32, ((x = 1 ∧ gi_g M F w i 0 = gi_g M F w i 1) ∨ (x = 0 ∧ ¬ gi_g M F w i 0 = gi_g M F w i 1)) → ((z = 1 ∧ gi_g M F w j 0 = gi_g M F w j 1) ∨ (z = 0 ∧ ¬ gi_g M F w j 0 = gi_g M F w j 1)) → wY_stateOf_53 post (nI i) (nI j) x z (nI n) M F g := by
    intro x z hx hz
    unfold wY_stateOf_53
    refine gi_ysh 0 0 rfl (by omega) hn hP hg hi hj (gi_ysh 1 1 rfl (by omega) hn hP hg hi hj ?_)
    unfold gi_sw gi_so at h
    rcases hx with ⟨rfl, ex⟩ | ⟨rfl, ex⟩
    · rw [if_pos ex] at h
      refine br_f (by decide) ?_
      rcases hz with ⟨rfl, ez⟩ | ⟨rfl, ez⟩
      · rw [if_pos ez] at h
        refine br_f (by decide) ?_
        by_cases c1 : gi_g M F w i 0 = gi_g M F w j 0 ∨ gi_g M F w i 0 = gi_g M F w j 1
        · rw [if_pos c1] at h ⊢
          exact br_f (by decide) h
        · rw [if_neg c1] at h ⊢
          exact br_t rfl h
      · rw [if_neg ez] at h
        refine br_t rfl (gi_y93 ?_)
        rw [if_neg (by decide)]
        by_cases c1 : gi_g M F w i 0 = gi_g M F w j 0 ∨ gi_g M F w i 0 = gi_g M F w j 1
        · rw [if_pos c1] at h
          rw [if_pos c1, if_neg (by decide)]
          exact h
        · rw [if_neg c1] at h
          rw [if_neg c1, if_pos rfl]
          exact h
    · rw [if_neg ex] at h
      refine br_t rfl (gi_y93 ?_)
      rw [if_pos rfl]
      rcases hz with ⟨rfl, ez⟩ | ⟨rfl, ez⟩
      · rw [if_pos ez] at h
        rw [if_neg (by decide)]
        by_cases c1 : gi_g M F w i 0 = gi_g M F w j 0 ∨ gi_g M F w i 0 = gi_g M F w j 1
        · rw [if_pos (Or.inl c1)] at h
          rw [if_pos c1, if_neg (by decide)]
          exact h
        · rw [if_neg c1, if_pos rfl]
          by_cases c2 : gi_g M F w i 1 = gi_g M F w j 0 ∨ gi_g M F w i 1 = gi_g M F w j 1
          · rw [if_pos (Or.inr c2)] at h
            rw [if_pos c2, if_neg (by decide)]
            exact h
          · rw [if_neg (fun z => z.elim c1 c2)] at h
            rw [if_neg c2, if_pos rfl]
            exact h
      · rw [if_neg ez] at h
        rw [if_pos rfl]
        by_cases c1 : gi_g M F w i 0 = gi_g M F w j 0 ∨ gi_g M F w i 0 = gi_g M F w j 1
        · rw [if_pos c1, if_neg (by decide)]
          by_cases c2 : gi_g M F w i 1 = gi_g M F w j 0 ∨ gi_g M F w i 1 = gi_g M F w j 1
          · rw [if_pos ⟨c1, c2⟩] at h
            rw [if_pos c2, if_neg (by decide)]
            exact h
          · rw [if_neg (fun z => c2 z.2), if_pos (Or.inl c1)] at h
            rw [if_neg c2, if_pos rfl]
            exact h
        · rw [if_neg c1, if_pos rfl]
          by_cases c2 : gi_g M F w i 1 = gi_g M F w j 0 ∨ gi_g M F w i 1 = gi_g M F w j 1
          · rw [if_neg (fun z => c1 z.1), if_pos (Or.inr c2)] at h
            rw [if_pos c2, if_neg (by decide)]
            exact h
          · rw [if_neg (fun z => c1 z.1), if_neg (fun z => z.elim c1 c2)] at h
            rw [if_neg c2, if_pos rfl]
            exact h
  have K2 : ∀ x : Int32, ((x = 1 ∧ gi_g M F w i 0 = gi_g M F w i 1) ∨ (x = 0 ∧ ¬ gi_g M F w i 0 = gi_g M F w i 1)) → wY_stateOf_26 post (nI i) (nI j) x (nI n) M F g := by
    intro x hx
    unfold wY_stateOf_26
    rw [gi_2n, nI_1 (2 * j), nI_clamp (show 2 * j < 2 ^ 31 by omega), nI_clamp (show 2 * j + 1 < 2 ^ 31 by omega), q0, gi_Gg hg hj (show 1 < 2 by omega)]
    exact ⟨vp_in_nI (by omega) (by decide), vp_in_nI (by omega) (by decide), pk_eq (gi_g M F w j 0) (gi_g M F w j 1) (fun e => K x 1 hx (Or.inl ⟨rfl, e⟩)) (fun e => K x 0 hx (Or.inr ⟨rfl, e⟩))⟩
  unfold wpY_stateOf
  dsimp only
  rw [gi_2n, nI_1 (2 * i), nI_clamp (show 2 * i < 2 ^ 31 by omega), nI_clamp (show 2 * i + 1 < 2 ^ 31 by omega), p0, gi_Gg hg hi (show 1 < 2 by omega)]
  exact ⟨vp_in_nI (by omega) (by decide), vp_in_nI (by omega) (by decide), pk_eq (gi_g M F w i 0) (gi_g M F w i 1) (fun e => K2 1 (Or.inl ⟨rfl, e⟩)) (fun e => K2 0 (Or.inr ⟨rfl, e⟩))⟩
end
theorem gi_yo_state {M F : Nat → Int32} {n i j s : Nat} {post : Int32 → SY → Prop} (hn : n ≤ 7) (hP : gi_P n M F) (hi : i < n) (hj : j < n) (hs : s < 2 ^ 31) (hp : ∀ g : Nat → Int32, post (nI (gi_S M F (4 ^ gi_c M n) i j s)) (nI n, M, F, g)) :
    ∀ (d w : Nat) (g : Nat → Int32), w + d = (4 ^ gi_c M n) → wY_state_51 post (nI i) (nI j) (nI s) (nI (4 ^ gi_c M n)) (d + 1) (nI (gi_S M F w i j s)) (nI w) (nI n) M F g := by
  have hN := gi_le6 hn hP
  intro d
  induction d with
  | zero =>
    intro w g hw
    have e : w = (4 ^ gi_c M n) := by omega
    subst e
    rw [wY_state_51]
    exact br_t (nI_le (Nat.le_refl _) (by omega)) (hp g)
  | succ d ih =>
    intro w g hw
    rw [wY_state_51]
    refine br_f (nI_ge (by omega) (by omega)) (gi_wyf hn hP (by omega) ?_)
    intro g hg
    dsimp only
    have I1 := ih (w + 1) g (by omega)
    have hin : gi_sw M F i j w < 2 ^ 31 := Nat.lt_of_le_of_lt (gi_so_in _ _ _ _).2 (by decide)
    refine gi_yso hn hP hg hi hj (pk_eq (gi_sw M F i j w) s (fun e => ?_) (fun e => ?_))
    · exact nm_r (gi_io1 (f := fun w => gi_d (gi_sw M F i j w) s) (gi_e1 e)) (nm_r (nI_1 w) I1)
    · refine nm_r (nI_1 w) ?_
      unfold gi_S at I1 ⊢
      rw [gi_io0 (f := fun w => gi_d (gi_sw M F i j w) s) (c := w) (gi_d_ne e)]
      exact I1
theorem gi_yo_related {M F : Nat → Int32} {n i j : Nat} {post : Int32 → SY → Prop} (hn : n ≤ 7) (hP : gi_P n M F) (hi : i < n) (hj : j < n) (hp : ∀ g : Nat → Int32, post (nI (gi_s (fun w => gi_sr (gi_g M F w i 0) (gi_g M F w i 1) (gi_g M F w j 0) (gi_g M F w j 1)) (4 ^ gi_c M n))) (nI n, M, F, g)) :
    ∀ (d w : Nat) (g : Nat → Int32), w + d = (4 ^ gi_c M n) → wY_related_29 post (nI i) (nI j) (nI (4 ^ gi_c M n)) (d + 1) (nI (gi_s (fun w => gi_sr (gi_g M F w i 0) (gi_g M F w i 1) (gi_g M F w j 0) (gi_g M F w j 1)) w)) (nI w) (nI n) M F g := by
  have hN := gi_le6 hn hP
  intro d
  induction d with
  | zero =>
    intro w g hw
    have e : w = (4 ^ gi_c M n) := by omega
    subst e
    rw [wY_related_29]
    exact br_t (nI_le (Nat.le_refl _) (by omega)) (hp g)
  | succ d ih =>
    intro w g hw
    rw [wY_related_29]
    refine br_f (nI_ge (by omega) (by omega)) (gi_wyf hn hP (by omega) ?_)
    intro g hg
    dsimp only
    have I1 := ih (w + 1) g (by omega)
    have up : ((gi_g M F w i 0 = gi_g M F w j 0 ∨ gi_g M F w i 0 = gi_g M F w j 1) ∨ (gi_g M F w i 1 = gi_g M F w j 0 ∨ gi_g M F w i 1 = gi_g M F w j 1)) → nI (gi_s (fun w => gi_sr (gi_g M F w i 0) (gi_g M F w i 1) (gi_g M F w j 0) (gi_g M F w j 1)) w) + 1 = nI (gi_s (fun w => gi_sr (gi_g M F w i 0) (gi_g M F w i 1) (gi_g M F w j 0) (gi_g M F w j 1)) (w + 1)) :=
      fun e => gi_io1 (f := fun w => gi_sr (gi_g M F w i 0) (gi_g M F w i 1) (gi_g M F w j 0) (gi_g M F w j 1)) (if_pos e)
    refine gi_ysh 0 0 rfl (by omega) hn hP hg hi hj ?_
    by_cases c1 : gi_g M F w i 0 = gi_g M F w j 0 ∨ gi_g M F w i 0 = gi_g M F w j 1
    · rw [if_pos c1]
      exact br_f (by decide) (nm_r (up (Or.inl c1)) (nm_r (nI_1 w) I1))
    · rw [if_neg c1]
      refine br_t rfl (gi_ysh 1 1 rfl (by omega) hn hP hg hi hj ?_)
      by_cases c2 : gi_g M F w i 1 = gi_g M F w j 0 ∨ gi_g M F w i 1 = gi_g M F w j 1
      · rw [if_pos c2]
        exact br_f (by decide) (nm_r (up (Or.inr c2)) (nm_r (nI_1 w) I1))
      · rw [if_neg c2]
        refine br_t rfl (nm_r (nI_1 w) ?_)
        rw [gi_io0 (f := fun w => gi_sr (gi_g M F w i 0) (gi_g M F w i 1) (gi_g M F w j 0) (gi_g M F w j 1)) (c := w) (if_neg (fun z => z.elim c1 c2))]
        exact I1
end
section
/-! the component solves for the nine states -/
theorem gi_sc {m T r : Nat} (hm : m * T < 2 ^ 31) (h : m * T = 16 * r) : (nI m * nI T) / 16 = nI r := by
  rw [pk_mul]
  exact gi_dv (d := 16) h (by decide) (by decide) hm
theorem gi_r4 {a b c d e : Nat} (h : a + d = b + c + e) : ((nI a - nI b) - nI c) + nI d = nI e := by
  have q : nI a + nI d = nI b + nI c + nI e := by rw [nI_add, nI_add, nI_add, h]
  grind
theorem gi_s7 {p q a : Nat} (h : p = q + 2 * a) (hp : p < 2 ^ 31) : (nI p - nI q) / 2 = nI a := by
  rw [pk_sub (by omega)]
  exact gi_dv (d := 2) (by omega) (by decide) (by decide) (by omega)
theorem gi_s1 {p l r o a : Nat} (h : p + o = l + r + 4 * a) (ha : 4 * a < 2 ^ 31) : (((nI p - nI l) - nI r) + nI o) / 4 = nI a := by
  rw [gi_r4 h]
  exact gi_dv (d := 4) rfl (by decide) (by decide) ha
theorem gi_sA {l o a b : Nat} (h : l = o + 2 * (2 * a + b)) (hl : l < 2 ^ 31) : (nI l - nI o) / 2 - 2 * nI a = nI b := by
  rw [gi_s7 h hl, gi_2n, pk_sub (by omega)]
  exact congrArg nI (by omega)
theorem gi_sB {o a b c d e : Nat} (h : o = 4 * a + 2 * b + 2 * c + 2 * d + e) : (((nI o - 4 * nI a) - 2 * nI b) - 2 * nI c) - 2 * nI d = nI e := by
  show (((nI o - nI 4 * nI a) - nI 2 * nI b) - nI 2 * nI c) - nI 2 * nI d = nI e
  rw [pk_mul, pk_mul, pk_mul, pk_mul, pk_sub (by omega), pk_sub (by omega), pk_sub (by omega), pk_sub (by omega)]
  exact congrArg nI (by omega)
theorem gi_sC {p x y z a b : Nat} (h : p + z = x + y + (a + b)) : (((nI p - nI x) - nI y) + nI z) - nI a = nI b := by
  rw [gi_r4 h, pk_sub (by omega)]
  exact congrArg nI (by omega)
theorem gi_sE {x z a b c d : Nat} (h : x = z + a + b + c + d) : (((nI x - nI z) - nI a) - nI b) - nI c = nI d := by
  rw [pk_sub (by omega), pk_sub (by omega), pk_sub (by omega), pk_sub (by omega)]
  exact congrArg nI (by omega)
def gi_rs (f : Nat → Nat) : Nat → Nat
  | 0 => f 9
  | d + 1 => f (8 - d) + gi_rs f d
theorem gi_fsl {M F t2 t3 t4 td : Nat → Int32} {fc fh fk fu : Int32} {f : Nat → Nat} {post : SX → Prop} (hp : ∀ st : Nat → Int32, (∀ t, 1 ≤ t → t ≤ 9 → st t = nI (f t)) → post (fc, fh, fk, fu, M, F, t2, t3, t4, td, st)) :
    ∀ (d : Nat) (st : Nat → Int32), d ≤ 8 → (∀ t, 1 ≤ t → t ≤ 8 → st t = nI (f t)) → st 9 = nI (gi_rs f d) → wX_findStates_332 post fc fh fk fu (d + 1) (nI (9 - d)) M F t2 t3 t4 td st := by
  intro d
  induction d with
  | zero =>
    intro st _ h h9
    rw [wX_findStates_332]
    refine br_t (nI_le (a := 9) (b := 9) (by omega) (by decide)) (hp st ?_)
    intro t ht ht2
    by_cases e : t = 9
    · rw [e]; exact h9
    · exact h t ht (by omega)
  | succ d ih =>
    intro st hd h h9
    rw [wX_findStates_332]
    have e9 : 9 - (d + 1) = 8 - d := by omega
    dsimp only
    rw [e9, nI_clamp (show 8 - d < 2 ^ 31 by omega)]
    refine br_f (nI_ge (a := 8 - d) (b := 9) (by omega) (by decide)) ⟨vp_in_nI (by omega) (by decide), ?_⟩
    have hv : st 9 - st (8 - d) = nI (gi_rs f d) := by
      rw [h9, h (8 - d) (by omega) (by omega)]
      show nI (f (8 - d) + gi_rs f d) - nI (f (8 - d)) = _
      rw [pk_sub (by omega)]
      exact congrArg nI (by omega)
    rw [hv]
    refine nm_e (nm_r (e' := nI (9 - d)) (by rw [nI_1]; exact congrArg nI (by omega)) (ih _ (by omega) ?_ pk_us))
    intro t ht ht2
    rw [pk_un (by omega)]
    exact h t ht ht2
theorem gi_wfs {M F t2 t3 t4 td st : Nat → Int32} {n i j : Nat} {fc fh fk fu : Int32} {post : SX → Prop} (hn : n ≤ 7) (hP : gi_P n M F) (hK : gi_K n M F fu t2 t3 t4 td) (hi : i < n) (hj : j < n)
    (hp : ∀ st : Nat → Int32, (∀ t, 1 ≤ t → t ≤ 9 → st t = nI (gi_S M F (4 ^ gi_c M n) i j t)) → post (fc, fh, fk, fu, M, F, t2, t3, t4, td, st)) : wpX_findStates post (fc, fh, fk, fu, M, F, t2, t3, t4, td, st) (nI i) (nI j) := by
  obtain ⟨hu, h2, h3, h4, hD⟩ := hK
  obtain ⟨q1, q2, q3, q4, q5, q6, q7, q8, q9, _⟩ := gi_SQ hn hP hi hj
  have hN := gi_le6 hn hP
  have ii : gi_ix n (nI i) := gi_ix_n hi
  have jj : gi_ix n (nI j) := gi_ix_n hj
  have e3 : fu / 16 = nI (4 ^ gi_c M n) := by
    rw [hu]
    exact gi_dv (d := 16) rfl (by decide) (by decide) (by omega)
  have e4 : (2 * nI (gi_T2 M F (4 ^ gi_c M n) (nI i) (nI i))) / 16 = nI ((4 ^ gi_c M n) + gi_S M F (4 ^ gi_c M n) i j 1 + gi_S M F (4 ^ gi_c M n) i j 2 + gi_S M F (4 ^ gi_c M n) i j 3 + gi_S M F (4 ^ gi_c M n) i j 4) := gi_sc (m := 2) (by omega) (by omega)
  have e5 : (2 * nI (gi_T2 M F (4 ^ gi_c M n) (nI j) (nI j))) / 16 = nI ((4 ^ gi_c M n) + gi_S M F (4 ^ gi_c M n) i j 1 + gi_S M F (4 ^ gi_c M n) i j 2 + gi_S M F (4 ^ gi_c M n) i j 5 + gi_S M F (4 ^ gi_c M n) i j 6) := gi_sc (m := 2) (by omega) (by omega)
  have e6 : (4 * nI (gi_T2 M F (4 ^ gi_c M n) (nI i) (nI j))) / 16 = nI (4 * gi_S M F (4 ^ gi_c M n) i j 1 + 2 * gi_S M F (4 ^ gi_c M n) i j 3 + 2 * gi_S M F (4 ^ gi_c M n) i j 5 + 2 * gi_S M F (4 ^ gi_c M n) i j 7 + gi_S M F (4 ^ gi_c M n) i j 8) := gi_sc (m := 4) (by omega) (by omega)
  have e7 : (8 * nI (gi_T3 M F (4 ^ gi_c M n) (nI i) (nI i) (nI j))) / 16 = nI (8 * gi_S M F (4 ^ gi_c M n) i j 1 + 4 * gi_S M F (4 ^ gi_c M n) i j 3 + 2 * gi_S M F (4 ^ gi_c M n) i j 5 + 2 * gi_S M F (4 ^ gi_c M n) i j 7 + gi_S M F (4 ^ gi_c M n) i j 8) := gi_sc (m := 8) (by omega) (by omega)
  have e8 : (8 * nI (gi_T3 M F (4 ^ gi_c M n) (nI i) (nI j) (nI j))) / 16 = nI (8 * gi_S M F (4 ^ gi_c M n) i j 1 + 2 * gi_S M F (4 ^ gi_c M n) i j 3 + 4 * gi_S M F (4 ^ gi_c M n) i j 5 + 2 * gi_S M F (4 ^ gi_c M n) i j 7 + gi_S M F (4 ^ gi_c M n) i j 8) := gi_sc (m := 8) (by omega) (by omega)
  have e10 : (4 * nI (gi_TD M F (4 ^ gi_c M n) (nI i) (nI i) (nI j) (nI j))) / 16 = nI ((4 ^ gi_c M n) + 3 * gi_S M F (4 ^ gi_c M n) i j 1 + 3 * gi_S M F (4 ^ gi_c M n) i j 2 + gi_S M F (4 ^ gi_c M n) i j 3 + gi_S M F (4 ^ gi_c M n) i j 4 + gi_S M F (4 ^ gi_c M n) i j 5 + gi_S M F (4 ^ gi_c M n) i j 6) := gi_sc (m := 4) (by omega) (by omega)
  unfold wpX_findStates
  dsimp only
  refine ⟨by decide, nm_r e3 (gi_w2 hn h2 ii ii ⟨by decide, nm_r e4 (gi_w2 hn h2 jj jj ⟨by decide, nm_r e5 (gi_w2 hn h2 ii jj ⟨by decide, nm_r e6 (gi_w3 hn h3 ii ii jj ⟨by decide, nm_r e7 (gi_w3 hn h3 ii jj jj ⟨by decide, nm_r e8 (gi_w4 hn h4 ii ii jj jj (gi_wD hn hD ii ii jj jj ⟨by decide, nm_r e10 (gi_wD hn hD ii jj ii jj ⟨by decide, ?_⟩)⟩))⟩)⟩)⟩)⟩)⟩)⟩
  rw [q4, q5]
  generalize hS1 : gi_S M F (4 ^ gi_c M n) i j 1 = s1 at q9 ⊢
  generalize hS2 : gi_S M F (4 ^ gi_c M n) i j 2 = s2 at q9 ⊢
  generalize hS3 : gi_S M F (4 ^ gi_c M n) i j 3 = s3 at q9 ⊢
  generalize hS4 : gi_S M F (4 ^ gi_c M n) i j 4 = s4 at q9 ⊢
  generalize hS5 : gi_S M F (4 ^ gi_c M n) i j 5 = s5 at q9 ⊢
  generalize hS6 : gi_S M F (4 ^ gi_c M n) i j 6 = s6 at q9 ⊢
  generalize hS7 : gi_S M F (4 ^ gi_c M n) i j 7 = s7 at q9 ⊢
  generalize hS8 : gi_S M F (4 ^ gi_c M n) i j 8 = s8 at q9 ⊢
  generalize hS9 : gi_S M F (4 ^ gi_c M n) i j 9 = s9 at q9
  rw [gi_s7 (a := s7) (by omega) (by omega)]
  refine nm_e ⟨by decide, ?_⟩
  rw [gi_s1 (a := s1) (by omega) (by omega)]
  refine nm_e ⟨by decide, ?_⟩
  rw [pk_us, gi_sA (a := s1) (b := s3) (by omega) (by omega)]
  refine nm_e ⟨by decide, ?_⟩
  rw [pk_un (show 1 ≠ 3 by decide), pk_us, gi_sA (a := s1) (b := s5) (by omega) (by omega)]
  refine nm_e ?_
  have r1 : upd (upd (upd (upd st 7 (nI s7)) 1 (nI s1)) 3 (nI s3)) 5 (nI s5) 1 = nI s1 := rfl
  have r3 : upd (upd (upd (upd st 7 (nI s7)) 1 (nI s1)) 3 (nI s3)) 5 (nI s5) 3 = nI s3 := rfl
  have r5 : upd (upd (upd (upd st 7 (nI s7)) 1 (nI s1)) 3 (nI s3)) 5 (nI s5) 5 = nI s5 := rfl
  have r7 : upd (upd (upd (upd st 7 (nI s7)) 1 (nI s1)) 3 (nI s3)) 5 (nI s5) 7 = nI s7 := rfl
  rw [r1, r3, r5, r7, gi_sB (e := s8) rfl]
  generalize upd (upd (upd (upd st 7 (nI s7)) 1 (nI s1)) 3 (nI s3)) 5 (nI s5) = v at r1 r3 r5 r7 ⊢
  refine nm_e ?_
  rw [pk_un (show 1 ≠ 8 by decide), r1, gi_sC (a := s1) (b := s2) (by omega)]
  refine nm_e ?_
  have m1 : upd (upd v 8 (nI s8)) 2 (nI s2) 1 = nI s1 := r1
  have m2 : upd (upd v 8 (nI s8)) 2 (nI s2) 2 = nI s2 := rfl
  have m3 : upd (upd v 8 (nI s8)) 2 (nI s2) 3 = nI s3 := r3
  have m5 : upd (upd v 8 (nI s8)) 2 (nI s2) 5 = nI s5 := r5
  have m7 : upd (upd v 8 (nI s8)) 2 (nI s2) 7 = nI s7 := r7
  have m8 : upd (upd v 8 (nI s8)) 2 (nI s2) 8 = nI s8 := rfl
  rw [m1, m2, m3, gi_sE (d := s4) (by omega)]
  generalize upd (upd v 8 (nI s8)) 2 (nI s2) = v2 at m1 m2 m3 m5 m7 m8 ⊢
  refine nm_e ?_
  rw [pk_un (show 1 ≠ 4 by decide), pk_un (show 2 ≠ 4 by decide), pk_un (show 5 ≠ 4 by decide), m1, m2, m5, gi_sE (d := s6) (by omega)]
  refine nm_e (nm_e ⟨9, ?_⟩)
  refine gi_fsl (f := gi_S M F (4 ^ gi_c M n) i j) (fun st h => hp st h) 8 _ (by decide) ?_ ?_
  · intro t ht ht2
    rw [pk_un (by omega)]
    rcases (show t = 1 ∨ t = 2 ∨ t = 3 ∨ t = 4 ∨ t = 5 ∨ t = 6 ∨ t = 7 ∨ t = 8 by omega) with rfl | rfl | rfl | rfl | rfl | rfl | rfl | rfl
    · rw [hS1]; exact m1
    · rw [hS2]; exact m2
    · rw [hS3]; exact m3
    · rw [hS4]; rfl
    · rw [hS5]; exact m5
    · rw [hS6]; rfl
    · rw [hS7]; exact m7
    · rw [hS8]; exact m8
  · rw [pk_us]
    refine congrArg nI ?_
    show (4 ^ gi_c M n) = gi_S M F (4 ^ gi_c M n) i j 1 + (gi_S M F (4 ^ gi_c M n) i j 2 + (gi_S M F (4 ^ gi_c M n) i j 3 + (gi_S M F (4 ^ gi_c M n) i j 4 + (gi_S M F (4 ^ gi_c M n) i j 5 + (gi_S M F (4 ^ gi_c M n) i j 6 + (gi_S M F (4 ^ gi_c M n) i j 7 + (gi_S M F (4 ^ gi_c M n) i j 8 + gi_S M F (4 ^ gi_c M n) i j 9)))))))
    omega
end
section
/-! the relation; members come and go; the line -/
/-- both hold the same pedigree; the component counts its children; if it knows its tables they are right -/
def i_Rel (k : Nat) (u : SX) (v : SY) : Prop := ∃ (n : Nat) (M F g t2 t3 t4 td st : Nat → Int32) (fk fu : Int32), u = (nI n, nI (gi_c M n), fk, fu, M, F, t2, t3, t4, td, st) ∧ v = (nI n, M, F, g) ∧ n ≤ 7 ∧ gi_P n M F ∧ (fk = 0 ∨ gi_K n M F fu t2 t3 t4 td)
theorem gi_mk {k n : Nat} {M F g t2 t3 t4 td st : Nat → Int32} {fk fu : Int32} (hn : n ≤ 7) (hP : gi_P n M F) (hk : fk = 0 ∨ gi_K n M F fu t2 t3 t4 td) : i_Rel k (nI n, nI (gi_c M n), fk, fu, M, F, t2, t3, t4, td, st) (nI n, M, F, g) :=
  ⟨n, M, F, g, t2, t3, t4, td, st, fk, fu, rfl, rfl, hn, hP, hk⟩
theorem gi_el {k : Nat} {u : SX} {v : SY} {P : SX → SY → Prop} (h : ∀ (n : Nat) (M F g t2 t3 t4 td st : Nat → Int32) (fk fu : Int32), n ≤ 7 → gi_P n M F → (fk = 0 ∨ gi_K n M F fu t2 t3 t4 td) → P (nI n, nI (gi_c M n), fk, fu, M, F, t2, t3, t4, td, st) (nI n, M, F, g)) (I : i_Rel k u v) : P u v := by
  obtain ⟨n, M, F, g, t2, t3, t4, td, st, fk, fu, eu, ev, hn, hP, hk⟩ := I
  rw [eu, ev]
  exact h n M F g t2 t3 t4 td st fk fu hn hP hk
theorem i_up {k : Nat} {u : SX} {v : SY} (h : i_Rel k u v) : i_Rel (k + 5) u v := h
theorem i_vc0 : wpX_init (fun u => wpY_init (fun v => i_Rel 0 u v)) := by
  unfold wpX_init wpY_init
  exact gi_mk (n := 0) (by omega) (fun i hi => by omega) (Or.inl rfl)
theorem gi_nbm : vp_nar .byte (-1) = -1 := by rw [vp_nar_byte]; decide
theorem gi_nbn {a : Nat} (h : a < 7) : vp_nar .byte (nI a).toInt8.toInt32 = nI a := by
  rw [pk_vb]
  rcases (show a = 0 ∨ a = 1 ∨ a = 2 ∨ a = 3 ∨ a = 4 ∨ a = 5 ∨ a = 6 by omega) with rfl | rfl | rfl | rfl | rfl | rfl | rfl <;> decide
theorem gi_c_cg {M M' : Nat → Int32} (n : Nat) (h : ∀ i, i < n → M' i = M i) : gi_c M' n = gi_c M n := by
  induction n with
  | zero => rfl
  | succ n ih => rw [gi_c_s, gi_c_s, ih (fun i hi => h i (by omega)), h n (by omega)]
theorem gi_c_up (M : Nat → Int32) (n : Nat) (x : Int32) : gi_c (upd M n x) n = gi_c M n := gi_c_cg n (fun i hi => pk_un (by omega))
theorem gi_P_fo {M F : Nat → Int32} {n : Nat} (hP : gi_P n M F) : gi_P (n + 1) (upd M n (-1)) (upd F n (-1)) := by
  intro i hi
  by_cases e : i = n
  · subst e
    exact Or.inl ⟨pk_us, pk_us⟩
  · rw [pk_un e, pk_un e]
    exact hP i (by omega)
theorem gi_P_ch {M F : Nat → Int32} {n a b : Nat} (hP : gi_P n M F) (ha : a < n) (hb : b < n) : gi_P (n + 1) (upd M n (nI a)) (upd F n (nI b)) := by
  intro i hi
  by_cases e : i = n
  · subst e
    exact Or.inr ⟨a, b, ha, hb, pk_us, pk_us⟩
  · rw [pk_un e, pk_un e]
    exact hP i (by omega)
theorem i_vc_founder {k : Nat} {u : SX} {v : SY} (I : i_Rel k u v) (hk : k + 5 ≤ 2560) : wpX_founder (fun r u' => wpY_founder (fun r' v' => r' = r ∧ i_Rel (k + 5) u' v') v) u := by
  refine gi_el (P := fun u v => wpX_founder (fun r u' => wpY_founder (fun r' v' => r' = r ∧ i_Rel (k + 5) u' v') v) u) ?_ I
  intro n M F g t2 t3 t4 td st fk fu hn hP hK
  unfold wpX_founder
  dsimp only
  by_cases e : n = 7
  · have e7 : nI n = 7 := congrArg nI e
    refine br_t e7 ?_
    unfold wpY_founder
    exact br_t e7 ⟨rfl, gi_mk hn hP hK⟩
  · have e7 : ¬ nI n = 7 := fun z => e ((nI_eq (b := 7) (by omega) (by decide)).mp z)
    have hv : vp_in (nI n) 7 := vp_in_nI (by omega) (by decide)
    rw [nI_clamp (show n < 2 ^ 31 by omega), gi_nbm]
    refine br_f e7 ⟨hv, nm_e ⟨hv, nm_e (nm_r (nI_1 n) ?_)⟩⟩
    unfold wpY_founder
    dsimp only
    rw [nI_clamp (show n < 2 ^ 31 by omega)]
    refine br_f e7 ⟨hv, nm_e ⟨hv, nm_e (nm_r (nI_1 n) ⟨rfl, ?_⟩)⟩⟩
    have hc : gi_c (upd M n (-1)) (n + 1) = gi_c M n := by
      rw [gi_c_s, pk_us, if_pos gi_m1lt, gi_c_up]
    have R := gi_mk (k := k + 5) (n := n + 1) (M := upd M n (-1)) (F := upd F n (-1)) (g := g) (t2 := t2) (t3 := t3) (t4 := t4) (td := td) (st := st) (fk := 0) (fu := fu) (by omega) (gi_P_fo hP) (Or.inl rfl)
    rw [hc] at R
    exact R
theorem i_vc_child {k : Nat} {u : SX} {v : SY} (I : i_Rel k u v) (hk : k + 5 ≤ 2560) (v1 : Int32) (v2 : Int32) : wpX_child (fun r u' => wpY_child (fun r' v' => r' = r ∧ i_Rel (k + 5) u' v') v v1 v2) u v1 v2 := by
  refine gi_el (P := fun u v => wpX_child (fun r u' => wpY_child (fun r' v' => r' = r ∧ i_Rel (k + 5) u' v') v v1 v2) u v1 v2) ?_ I
  intro n M F g t2 t3 t4 td st fk fu hn hP hK
  have R : i_Rel (k + 5) (nI n, nI (gi_c M n), fk, fu, M, F, t2, t3, t4, td, st) (nI n, M, F, g) := gi_mk hn hP hK
  have O1 : v1 < 0 ∨ nI n ≤ v1 → wpX_child (fun r u' => wpY_child (fun r' v' => r' = r ∧ i_Rel (k + 5) u' v') (nI n, M, F, g) v1 v2) (nI n, nI (gi_c M n), fk, fu, M, F, t2, t3, t4, td, st) v1 v2 := by
    intro h
    unfold wpX_child
    dsimp only
    refine gi_xm_out h (br_f (by decide) ?_)
    unfold wpY_child
    dsimp only
    exact gi_yi_out h (br_t rfl ⟨rfl, R⟩)
  rcases pk_ix v1 (n := n) (by omega) with h | h | ⟨a, ha, rfl⟩
  · exact O1 (Or.inl h)
  · exact O1 (Or.inr h)
  have O2 : v2 < 0 ∨ nI n ≤ v2 → wpX_child (fun r u' => wpY_child (fun r' v' => r' = r ∧ i_Rel (k + 5) u' v') (nI n, M, F, g) (nI a) v2) (nI n, nI (gi_c M n), fk, fu, M, F, t2, t3, t4, td, st) (nI a) v2 := by
    intro h
    unfold wpX_child
    dsimp only
    refine gi_xm_in hn ha (br_t rfl (gi_xm_out h (br_f (by decide) ?_)))
    unfold wpY_child
    dsimp only
    exact gi_yi_in hn ha (br_f (by decide) (gi_yi_out h (br_t rfl ⟨rfl, R⟩)))
  rcases pk_ix v2 (n := n) (by omega) with h | h | ⟨b, hb, rfl⟩
  · exact O2 (Or.inl h)
  · exact O2 (Or.inr h)
  unfold wpX_child
  dsimp only
  refine gi_xm_in hn ha (br_t rfl (gi_xm_in hn hb (br_t rfl ?_)))
  by_cases e : n = 7
  · have e7 : nI n = 7 := congrArg nI e
    refine br_t e7 ?_
    unfold wpY_child
    dsimp only
    exact gi_yi_in hn ha (br_f (by decide) (gi_yi_in hn hb (br_f (by decide) (br_t e7 ⟨rfl, R⟩))))
  · have e7 : ¬ nI n = 7 := fun z => e ((nI_eq (b := 7) (by omega) (by decide)).mp z)
    refine br_f e7 ?_
    by_cases e6 : nI (gi_c M n) = 6
    · refine br_t e6 ?_
      unfold wpY_child
      dsimp only
      exact gi_yi_in hn ha (br_f (by decide) (gi_yi_in hn hb (br_f (by decide) (br_f e7 (gi_wyc hn (br_t e6 ⟨rfl, R⟩))))))
    · have hv : vp_in (nI n) 7 := vp_in_nI (by omega) (by decide)
      rw [nI_clamp (show n < 2 ^ 31 by omega), gi_nbn (show a < 7 by omega), gi_nbn (show b < 7 by omega)]
      refine br_f e6 ⟨hv, nm_e ⟨hv, nm_e (nm_r (nI_1 n) (nm_r (nI_1 _) ?_))⟩⟩
      unfold wpY_child
      dsimp only
      rw [nI_clamp (show n < 2 ^ 31 by omega)]
      refine gi_yi_in hn ha (br_f (by decide) (gi_yi_in hn hb (br_f (by decide) (br_f e7 (gi_wyc hn (br_f e6 ⟨hv, nm_e ⟨hv, nm_e (nm_r (nI_1 n) ⟨rfl, ?_⟩)⟩⟩))))))
      have hc : gi_c (upd M n (nI a)) (n + 1) = gi_c M n + 1 := by
        rw [gi_c_s, pk_us, if_neg (nI_pos (by omega)), gi_c_up]
      have R2 := gi_mk (k := k + 5) (n := n + 1) (M := upd M n (nI a)) (F := upd F n (nI b)) (g := g) (t2 := t2) (t3 := t3) (t4 := t4) (td := td) (st := st) (fk := 0) (fu := fu) (by omega) (gi_P_ch hP ha hb) (Or.inl rfl)
      rw [hc] at R2
      exact R2
theorem i_vc_drop {k : Nat} {u : SX} {v : SY} (I : i_Rel k u v) (hk : k + 5 ≤ 2560) : wpX_drop (fun r u' => wpY_drop (fun r' v' => r' = r ∧ i_Rel (k + 5) u' v') v) u := by
  refine gi_el (P := fun u v => wpX_drop (fun r u' => wpY_drop (fun r' v' => r' = r ∧ i_Rel (k + 5) u' v') v) u) ?_ I
  intro n M F g t2 t3 t4 td st fk fu hn hP hK
  unfold wpX_drop
  dsimp only
  cases n with
  | zero =>
    refine br_t rfl ?_
    unfold wpY_drop
    exact br_t rfl ⟨rfl, gi_mk hn hP hK⟩
  | succ m =>
    have e0 : ¬ nI (m + 1) = 0 := nI_ne0 (by omega) (by omega)
    have hP' : gi_P m M F := fun i hi => hP i (by omega)
    refine br_f e0 (nm_r (nI_pred m) ⟨vp_in_nI (by omega) (by decide), ?_⟩)
    rw [nI_clamp (show m < 2 ^ 31 by omega)]
    by_cases hm : M m < 0
    · refine br_t hm ?_
      unfold wpY_drop
      dsimp only
      refine br_f e0 (nm_r (nI_pred m) ⟨rfl, ?_⟩)
      rw [gi_c_s, if_pos hm]
      exact gi_mk (by omega) hP' (Or.inl rfl)
    · refine br_f hm ?_
      rw [gi_c_s, if_neg hm]
      refine nm_r (nI_pred _) ?_
      unfold wpY_drop
      dsimp only
      exact br_f e0 (nm_r (nI_pred m) ⟨rfl, gi_mk (by omega) hP' (Or.inl rfl)⟩)
theorem i_vc_members {k : Nat} {u : SX} {v : SY} (I : i_Rel k u v) (hk : k + 5 ≤ 2560) : wpX_members (fun r => wpY_members (fun r' => r' = r ∧ i_Rel (k + 5) u v) v) u := by
  refine gi_el (P := fun u v => wpX_members (fun r => wpY_members (fun r' => r' = r ∧ i_Rel (k + 5) u v) v) u) ?_ I
  intro n M F g t2 t3 t4 td st fk fu hn hP hK
  exact ⟨rfl, gi_mk hn hP hK⟩
theorem i_vc_ways {k : Nat} {u : SX} {v : SY} (I : i_Rel k u v) (hk : k + 5 ≤ 2560) : wpX_ways (fun r => wpY_ways (fun r' => r' = r ∧ i_Rel (k + 5) u v) v) u := by
  refine gi_el (P := fun u v => wpX_ways (fun r => wpY_ways (fun r' => r' = r ∧ i_Rel (k + 5) u v) v) u) ?_ I
  intro n M F g t2 t3 t4 td st fk fu hn hP hK
  unfold wpX_ways
  dsimp only
  refine gi_wyw hn hP ⟨?_, gi_mk hn hP hK⟩
  rw [gi_sh1 _ (gi_c_le6 hn hP)]
def gi_lk : Nat → Int32
  | 0 => -1
  | k + 1 => nI k
theorem gi_lk1 (k : Nat) : nI k + (-1) = gi_lk k := by
  cases k with
  | zero => decide
  | succ m => exact pk_m1 m
theorem gi_ln {M F g t2 t3 t4 td st : Nat → Int32} {fc fh fk fu fn : Int32} : ∀ (k : Nat) (x : Int32), k ≤ 7 → ∃ r : Int32, (∀ post : Int32 → Prop, post r → wX_line_16 post fc fh fk fu M F t2 t3 t4 td st (k + 1) x (gi_lk k)) ∧ (∀ post : Int32 → Prop, post r → wY_line_16 post fn M F g (k + 1) x (gi_lk k)) := by
  intro k
  induction k with
  | zero =>
    intro x _
    refine ⟨x, fun post hp => ?_, fun post hp => ?_⟩
    · rw [wX_line_16]
      exact br_t gi_m1lt hp
    · rw [wY_line_16]
      exact br_t gi_m1lt hp
  | succ k ih =>
    intro x hk
    have h0 : ¬ nI k < 0 := nI_pos (by omega)
    have hv : vp_in (nI k) 7 := vp_in_nI (by omega) (by decide)
    have ek : (nI k).toNatClampNeg = k := nI_clamp (by omega)
    by_cases hb : (x >>> (nI k &&& 31)) &&& 1 = 1
    · by_cases hm : M k < 0
      · obtain ⟨r, hX, hY⟩ := ih x (by omega)
        refine ⟨r, fun post hp => ?_, fun post hp => ?_⟩
        · show wX_line_16 post fc fh fk fu M F t2 t3 t4 td st (k + 1 + 1) x (nI k)
          rw [wX_line_16]
          dsimp only
          rw [ek]
          exact br_f h0 (br_t hb ⟨hv, br_t hm (nm_r (gi_lk1 k) (hX post hp))⟩)
        · show wY_line_16 post fn M F g (k + 1 + 1) x (nI k)
          rw [wY_line_16]
          dsimp only
          rw [ek]
          exact br_f h0 (br_t hb ⟨hv, br_t hm (nm_r (gi_lk1 k) (hY post hp))⟩)
      · obtain ⟨r, hX, hY⟩ := ih ((x ||| ((1 : Int32) <<< ((M k) &&& 31))) ||| ((1 : Int32) <<< ((F k) &&& 31))) (by omega)
        refine ⟨r, fun post hp => ?_, fun post hp => ?_⟩
        · show wX_line_16 post fc fh fk fu M F t2 t3 t4 td st (k + 1 + 1) x (nI k)
          rw [wX_line_16]
          dsimp only
          rw [ek]
          exact br_f h0 (br_t hb ⟨hv, br_f hm ⟨hv, hv, nm_e (nm_r (gi_lk1 k) (hX post hp))⟩⟩)
        · show wY_line_16 post fn M F g (k + 1 + 1) x (nI k)
          rw [wY_line_16]
          dsimp only
          rw [ek]
          exact br_f h0 (br_t hb ⟨hv, br_f hm ⟨hv, hv, nm_r (Int32.or_assoc _ _ _).symm (nm_r (gi_lk1 k) (hY post hp))⟩⟩)
    · obtain ⟨r, hX, hY⟩ := ih x (by omega)
      refine ⟨r, fun post hp => ?_, fun post hp => ?_⟩
      · show wX_line_16 post fc fh fk fu M F t2 t3 t4 td st (k + 1 + 1) x (nI k)
        rw [wX_line_16]
        exact br_f h0 (br_f hb (nm_r (gi_lk1 k) (hX post hp)))
      · show wY_line_16 post fn M F g (k + 1 + 1) x (nI k)
        rw [wY_line_16]
        exact br_f h0 (br_f hb (nm_r (gi_lk1 k) (hY post hp)))
theorem i_vc_line {k : Nat} {u : SX} {v : SY} (I : i_Rel k u v) (hk : k + 5 ≤ 2560) (v1 : Int32) : wpX_line (fun r => wpY_line (fun r' => r' = r ∧ i_Rel (k + 5) u v) v v1) u v1 := by
  refine gi_el (P := fun u v => wpX_line (fun r => wpY_line (fun r' => r' = r ∧ i_Rel (k + 5) u v) v v1) u v1) ?_ I
  intro n M F g t2 t3 t4 td st fk fu hn hP hK
  have R : i_Rel (k + 5) (nI n, nI (gi_c M n), fk, fu, M, F, t2, t3, t4, td, st) (nI n, M, F, g) := gi_mk hn hP hK
  unfold wpX_line
  dsimp only
  rcases pk_ix v1 (n := n) (by omega) with h | h | ⟨i, hi, rfl⟩
  · refine gi_xm_out (Or.inl h) (br_f (by decide) ?_)
    unfold wpY_line
    dsimp only
    exact gi_yi_out (Or.inl h) (br_t rfl ⟨rfl, R⟩)
  · refine gi_xm_out (Or.inr h) (br_f (by decide) ?_)
    unfold wpY_line
    dsimp only
    exact gi_yi_out (Or.inr h) (br_t rfl ⟨rfl, R⟩)
  · obtain ⟨r, hX, hY⟩ := gi_ln (M := M) (F := F) (g := g) (t2 := t2) (t3 := t3) (t4 := t4) (td := td) (st := st) (fc := nI n) (fh := nI (gi_c M n)) (fk := fk) (fu := fu) (fn := nI n) (i + 1) ((1 : Int32) <<< ((nI i) &&& 31)) (by omega)
    refine gi_xm_in hn hi (br_t rfl (nm_e ⟨_, hX _ ?_⟩))
    unfold wpY_line
    dsimp only
    exact gi_yi_in hn hi (br_f (by decide) (nm_e ⟨_, hY _ ⟨rfl, R⟩⟩))
end
section
/-! the questions: both sides count the same -/
theorem i_vc_inbred {k : Nat} {u : SX} {v : SY} (I : i_Rel k u v) (hk : k + 5 ≤ 2560) (v1 : Int32) : wpX_inbred (fun r u' => wpY_inbred (fun r' v' => r' = r ∧ i_Rel (k + 5) u' v') v v1) u v1 := by
  refine gi_el (P := fun u v => wpX_inbred (fun r u' => wpY_inbred (fun r' v' => r' = r ∧ i_Rel (k + 5) u' v') v v1) u v1) ?_ I
  intro n M F g t2 t3 t4 td st fk fu hn hP hK
  have R : i_Rel (k + 5) (nI n, nI (gi_c M n), fk, fu, M, F, t2, t3, t4, td, st) (nI n, M, F, g) := gi_mk hn hP hK
  have hN := gi_le6 hn hP
  have O1 : v1 < 0 ∨ nI n ≤ v1 → wpX_inbred (fun r u' => wpY_inbred (fun r' v' => r' = r ∧ i_Rel (k + 5) u' v') (nI n, M, F, g) v1) (nI n, nI (gi_c M n), fk, fu, M, F, t2, t3, t4, td, st) v1 := by
    intro h
    unfold wpX_inbred
    dsimp only
    refine gi_xm_out h (br_f (by decide) ?_)
    unfold wpY_inbred
    dsimp only
    exact gi_yi_out h (br_t rfl ⟨rfl, R⟩)
  rcases pk_ix v1 (n := n) (by omega) with h | h | ⟨i, hi, rfl⟩
  · exact O1 (Or.inl h)
  · exact O1 (Or.inr h)
  unfold wpX_inbred
  dsimp only
  refine gi_xm_in hn hi (br_t rfl (gi_wfind hn hP hK ?_))
  intro fk fu t2 t3 t4 td hK
  have e : 8 * nI i = nI (7 * i + i) := by
    show nI 8 * nI i = _
    rw [pk_mul]
    exact congrArg nI (by omega)
  dsimp only
  rw [e, nI_clamp (show 7 * i + i < 2 ^ 31 by omega), hK.2.1 i i hi hi]
  refine ⟨vp_in_nI (by omega) (by decide), by decide, ?_⟩
  unfold wpY_inbred
  dsimp only
  refine gi_yi_in hn hi (br_f (by decide) (gi_wyw hn hP ⟨4 ^ gi_c M n + 1, ?_⟩))
  refine gi_yo_inbred hn hP hi ?_ (4 ^ gi_c M n) 0 g (by omega)
  intro g
  refine ⟨?_, gi_mk hn hP (Or.inr hK)⟩
  have q := gi_nI hn hP hi
  have b := gi_T2_le (q := nI i) hn hP (gi_ix_n hi)
  rw [hK.1, gi_2n, pk_sub (by omega)]
  exact (gi_dv (d := 16) (by omega) (by decide) (by decide) (by omega)).symm
theorem i_vc_two {k : Nat} {u : SX} {v : SY} (I : i_Rel k u v) (hk : k + 5 ≤ 2560) (v1 : Int32) (v2 : Int32) : wpX_two (fun r u' => wpY_two (fun r' v' => r' = r ∧ i_Rel (k + 5) u' v') v v1 v2) u v1 v2 := by
  refine gi_el (P := fun u v => wpX_two (fun r u' => wpY_two (fun r' v' => r' = r ∧ i_Rel (k + 5) u' v') v v1 v2) u v1 v2) ?_ I
  intro n M F g t2 t3 t4 td st fk fu hn hP hK
  have R : i_Rel (k + 5) (nI n, nI (gi_c M n), fk, fu, M, F, t2, t3, t4, td, st) (nI n, M, F, g) := gi_mk hn hP hK
  have hN := gi_le6 hn hP
  have O1 : v1 < 0 ∨ nI n ≤ v1 → wpX_two (fun r u' => wpY_two (fun r' v' => r' = r ∧ i_Rel (k + 5) u' v') (nI n, M, F, g) v1 v2) (nI n, nI (gi_c M n), fk, fu, M, F, t2, t3, t4, td, st) v1 v2 := by
    intro h
    unfold wpX_two
    dsimp only
    refine gi_xm_out h (br_f (by decide) ?_)
    unfold wpY_two
    dsimp only
    exact gi_yi_out h (br_t rfl ⟨rfl, R⟩)
  rcases pk_ix v1 (n := n) (by omega) with h | h | ⟨i, hi, rfl⟩
  · exact O1 (Or.inl h)
  · exact O1 (Or.inr h)
  have O2 : v2 < 0 ∨ nI n ≤ v2 → wpX_two (fun r u' => wpY_two (fun r' v' => r' = r ∧ i_Rel (k + 5) u' v') (nI n, M, F, g) (nI i) v2) (nI n, nI (gi_c M n), fk, fu, M, F, t2, t3, t4, td, st) (nI i) v2 := by
    intro h
    unfold wpX_two
    dsimp only
    refine gi_xm_in hn hi (br_t rfl (gi_xm_out h (br_f (by decide) ?_)))
    unfold wpY_two
    dsimp only
    exact gi_yi_in hn hi (br_f (by decide) (gi_yi_out h (br_t rfl ⟨rfl, R⟩)))
  rcases pk_ix v2 (n := n) (by omega) with h | h | ⟨j, hj, rfl⟩
  · exact O2 (Or.inl h)
  · exact O2 (Or.inr h)
  unfold wpX_two
  dsimp only
  refine gi_xm_in hn hi (br_t rfl (gi_xm_in hn hj (br_t rfl (gi_wfind hn hP hK ?_))))
  intro fk fu t2 t3 t4 td hK
  refine gi_w2 hn hK.2.1 (gi_ix_n hi) (gi_ix_n hj) ⟨by decide, ?_⟩
  unfold wpY_two
  dsimp only
  refine gi_yi_in hn hi (br_f (by decide) (gi_yi_in hn hj (br_f (by decide) (gi_wyw hn hP ⟨4 ^ gi_c M n + 1, ?_⟩))))
  refine gi_yo_two hn hP hi hj ?_ (4 ^ gi_c M n) 0 g (by omega)
  intro g
  refine ⟨?_, gi_mk hn hP (Or.inr hK)⟩
  have b := gi_T2_le (q := nI j) hn hP (gi_ix_n hi)
  exact (gi_dv (d := 4) (gi_n2 hn hP hi hj) (by decide) (by decide) (by omega)).symm
theorem i_vc_three {k : Nat} {u : SX} {v : SY} (I : i_Rel k u v) (hk : k + 5 ≤ 2560) (v1 : Int32) (v2 : Int32) (v3 : Int32) : wpX_three (fun r u' => wpY_three (fun r' v' => r' = r ∧ i_Rel (k + 5) u' v') v v1 v2 v3) u v1 v2 v3 := by
  refine gi_el (P := fun u v => wpX_three (fun r u' => wpY_three (fun r' v' => r' = r ∧ i_Rel (k + 5) u' v') v v1 v2 v3) u v1 v2 v3) ?_ I
  intro n M F g t2 t3 t4 td st fk fu hn hP hK
  have R : i_Rel (k + 5) (nI n, nI (gi_c M n), fk, fu, M, F, t2, t3, t4, td, st) (nI n, M, F, g) := gi_mk hn hP hK
  have hN := gi_le6 hn hP
  have O1 : v1 < 0 ∨ nI n ≤ v1 → wpX_three (fun r u' => wpY_three (fun r' v' => r' = r ∧ i_Rel (k + 5) u' v') (nI n, M, F, g) v1 v2 v3) (nI n, nI (gi_c M n), fk, fu, M, F, t2, t3, t4, td, st) v1 v2 v3 := by
    intro h
    unfold wpX_three
    dsimp only
    refine gi_xm_out h (br_f (by decide) ?_)
    unfold wpY_three
    dsimp only
    exact gi_yi_out h (br_t rfl ⟨rfl, R⟩)
  rcases pk_ix v1 (n := n) (by omega) with h | h | ⟨i, hi, rfl⟩
  · exact O1 (Or.inl h)
  · exact O1 (Or.inr h)
  have O2 : v2 < 0 ∨ nI n ≤ v2 → wpX_three (fun r u' => wpY_three (fun r' v' => r' = r ∧ i_Rel (k + 5) u' v') (nI n, M, F, g) (nI i) v2 v3) (nI n, nI (gi_c M n), fk, fu, M, F, t2, t3, t4, td, st) (nI i) v2 v3 := by
    intro h
    unfold wpX_three
    dsimp only
    refine gi_xm_in hn hi (br_t rfl (gi_xm_out h (br_f (by decide) ?_)))
    unfold wpY_three
    dsimp only
    exact gi_yi_in hn hi (br_f (by decide) (gi_yi_out h (br_t rfl ⟨rfl, R⟩)))
  rcases pk_ix v2 (n := n) (by omega) with h | h | ⟨j, hj, rfl⟩
  · exact O2 (Or.inl h)
  · exact O2 (Or.inr h)
  have O3 : v3 < 0 ∨ nI n ≤ v3 → wpX_three (fun r u' => wpY_three (fun r' v' => r' = r ∧ i_Rel (k + 5) u' v') (nI n, M, F, g) (nI i) (nI j) v3) (nI n, nI (gi_c M n), fk, fu, M, F, t2, t3, t4, td, st) (nI i) (nI j) v3 := by
    intro h
    unfold wpX_three
    dsimp only
    refine gi_xm_in hn hi (br_t rfl (gi_xm_in hn hj (br_t rfl (gi_xm_out h (br_f (by decide) ?_)))))
    unfold wpY_three
    dsimp only
    exact gi_yi_in hn hi (br_f (by decide) (gi_yi_in hn hj (br_f (by decide) (gi_yi_out h (br_t rfl ⟨rfl, R⟩)))))
  rcases pk_ix v3 (n := n) (by omega) with h | h | ⟨l, hl, rfl⟩
  · exact O3 (Or.inl h)
  · exact O3 (Or.inr h)
  unfold wpX_three
  dsimp only
  refine gi_xm_in hn hi (br_t rfl (gi_xm_in hn hj (br_t rfl (gi_xm_in hn hl (br_t rfl (gi_wfind hn hP hK ?_))))))
  intro fk fu t2 t3 t4 td hK
  refine gi_w3 hn hK.2.2.1 (gi_ix_n hi) (gi_ix_n hj) (gi_ix_n hl) ⟨by decide, ?_⟩
  unfold wpY_three
  dsimp only
  refine gi_yi_in hn hi (br_f (by decide) (gi_yi_in hn hj (br_f (by decide) (gi_yi_in hn hl (br_f (by decide) (gi_wyw hn hP ⟨4 ^ gi_c M n + 1, ?_⟩))))))
  refine gi_yo_three hn hP hi hj hl ?_ (4 ^ gi_c M n) 0 g (by omega)
  intro g
  refine ⟨?_, gi_mk hn hP (Or.inr hK)⟩
  have b := gi_T3_le (q := nI j) (r := nI l) hn hP (gi_ix_n hi)
  exact (gi_dv (d := 2) (gi_n3 hn hP hi hj hl) (by decide) (by decide) (by omega)).symm
theorem i_vc_four {k : Nat} {u : SX} {v : SY} (I : i_Rel k u v) (hk : k + 5 ≤ 2560) (v1 : Int32) (v2 : Int32) (v3 : Int32) (v4 : Int32) : wpX_four (fun r u' => wpY_four (fun r' v' => r' = r ∧ i_Rel (k + 5) u' v') v v1 v2 v3 v4) u v1 v2 v3 v4 := by
  refine gi_el (P := fun u v => wpX_four (fun r u' => wpY_four (fun r' v' => r' = r ∧ i_Rel (k + 5) u' v') v v1 v2 v3 v4) u v1 v2 v3 v4) ?_ I
  intro n M F g t2 t3 t4 td st fk fu hn hP hK
  have R : i_Rel (k + 5) (nI n, nI (gi_c M n), fk, fu, M, F, t2, t3, t4, td, st) (nI n, M, F, g) := gi_mk hn hP hK
  have hN := gi_le6 hn hP
  have O1 : v1 < 0 ∨ nI n ≤ v1 → wpX_four (fun r u' => wpY_four (fun r' v' => r' = r ∧ i_Rel (k + 5) u' v') (nI n, M, F, g) v1 v2 v3 v4) (nI n, nI (gi_c M n), fk, fu, M, F, t2, t3, t4, td, st) v1 v2 v3 v4 := by
    intro h
    unfold wpX_four
    dsimp only
    refine gi_xm_out h (br_f (by decide) ?_)
    unfold wpY_four
    dsimp only
    exact gi_yi_out h (br_t rfl ⟨rfl, R⟩)
  rcases pk_ix v1 (n := n) (by omega) with h | h | ⟨i, hi, rfl⟩
  · exact O1 (Or.inl h)
  · exact O1 (Or.inr h)
  have O2 : v2 < 0 ∨ nI n ≤ v2 → wpX_four (fun r u' => wpY_four (fun r' v' => r' = r ∧ i_Rel (k + 5) u' v') (nI n, M, F, g) (nI i) v2 v3 v4) (nI n, nI (gi_c M n), fk, fu, M, F, t2, t3, t4, td, st) (nI i) v2 v3 v4 := by
    intro h
    unfold wpX_four
    dsimp only
    refine gi_xm_in hn hi (br_t rfl (gi_xm_out h (br_f (by decide) ?_)))
    unfold wpY_four
    dsimp only
    exact gi_yi_in hn hi (br_f (by decide) (gi_yi_out h (br_t rfl ⟨rfl, R⟩)))
  rcases pk_ix v2 (n := n) (by omega) with h | h | ⟨j, hj, rfl⟩
  · exact O2 (Or.inl h)
  · exact O2 (Or.inr h)
  have O3 : v3 < 0 ∨ nI n ≤ v3 → wpX_four (fun r u' => wpY_four (fun r' v' => r' = r ∧ i_Rel (k + 5) u' v') (nI n, M, F, g) (nI i) (nI j) v3 v4) (nI n, nI (gi_c M n), fk, fu, M, F, t2, t3, t4, td, st) (nI i) (nI j) v3 v4 := by
    intro h
    unfold wpX_four
    dsimp only
    refine gi_xm_in hn hi (br_t rfl (gi_xm_in hn hj (br_t rfl (gi_xm_out h (br_f (by decide) ?_)))))
    unfold wpY_four
    dsimp only
    exact gi_yi_in hn hi (br_f (by decide) (gi_yi_in hn hj (br_f (by decide) (gi_yi_out h (br_t rfl ⟨rfl, R⟩)))))
  rcases pk_ix v3 (n := n) (by omega) with h | h | ⟨l, hl, rfl⟩
  · exact O3 (Or.inl h)
  · exact O3 (Or.inr h)
  have O4 : v4 < 0 ∨ nI n ≤ v4 → wpX_four (fun r u' => wpY_four (fun r' v' => r' = r ∧ i_Rel (k + 5) u' v') (nI n, M, F, g) (nI i) (nI j) (nI l) v4) (nI n, nI (gi_c M n), fk, fu, M, F, t2, t3, t4, td, st) (nI i) (nI j) (nI l) v4 := by
    intro h
    unfold wpX_four
    dsimp only
    refine gi_xm_in hn hi (br_t rfl (gi_xm_in hn hj (br_t rfl (gi_xm_in hn hl (br_t rfl (gi_xm_out h (br_f (by decide) ?_)))))))
    unfold wpY_four
    dsimp only
    exact gi_yi_in hn hi (br_f (by decide) (gi_yi_in hn hj (br_f (by decide) (gi_yi_in hn hl (br_f (by decide) (gi_yi_out h (br_t rfl ⟨rfl, R⟩)))))))
  rcases pk_ix v4 (n := n) (by omega) with h | h | ⟨m, hm, rfl⟩
  · exact O4 (Or.inl h)
  · exact O4 (Or.inr h)
  unfold wpX_four
  dsimp only
  refine gi_xm_in hn hi (br_t rfl (gi_xm_in hn hj (br_t rfl (gi_xm_in hn hl (br_t rfl (gi_xm_in hn hm (br_t rfl (gi_wfind hn hP hK ?_))))))))
  intro fk fu t2 t3 t4 td hK
  refine gi_w4 hn hK.2.2.2.1 (gi_ix_n hi) (gi_ix_n hj) (gi_ix_n hl) (gi_ix_n hm) ?_
  unfold wpY_four
  dsimp only
  refine gi_yi_in hn hi (br_f (by decide) (gi_yi_in hn hj (br_f (by decide) (gi_yi_in hn hl (br_f (by decide) (gi_yi_in hn hm (br_f (by decide) (gi_wyw hn hP ⟨4 ^ gi_c M n + 1, ?_⟩))))))))
  refine gi_yo_four hn hP hi hj hl hm ?_ (4 ^ gi_c M n) 0 g (by omega)
  intro g
  refine ⟨?_, gi_mk hn hP (Or.inr hK)⟩
  rw [gi_n4 hn hP hi hj hl hm]
theorem i_vc_pairs {k : Nat} {u : SX} {v : SY} (I : i_Rel k u v) (hk : k + 5 ≤ 2560) (v1 : Int32) (v2 : Int32) (v3 : Int32) (v4 : Int32) : wpX_pairs (fun r u' => wpY_pairs (fun r' v' => r' = r ∧ i_Rel (k + 5) u' v') v v1 v2 v3 v4) u v1 v2 v3 v4 := by
  refine gi_el (P := fun u v => wpX_pairs (fun r u' => wpY_pairs (fun r' v' => r' = r ∧ i_Rel (k + 5) u' v') v v1 v2 v3 v4) u v1 v2 v3 v4) ?_ I
  intro n M F g t2 t3 t4 td st fk fu hn hP hK
  have R : i_Rel (k + 5) (nI n, nI (gi_c M n), fk, fu, M, F, t2, t3, t4, td, st) (nI n, M, F, g) := gi_mk hn hP hK
  have hN := gi_le6 hn hP
  have O1 : v1 < 0 ∨ nI n ≤ v1 → wpX_pairs (fun r u' => wpY_pairs (fun r' v' => r' = r ∧ i_Rel (k + 5) u' v') (nI n, M, F, g) v1 v2 v3 v4) (nI n, nI (gi_c M n), fk, fu, M, F, t2, t3, t4, td, st) v1 v2 v3 v4 := by
    intro h
    unfold wpX_pairs
    dsimp only
    refine gi_xm_out h (br_f (by decide) ?_)
    unfold wpY_pairs
    dsimp only
    exact gi_yi_out h (br_t rfl ⟨rfl, R⟩)
  rcases pk_ix v1 (n := n) (by omega) with h | h | ⟨i, hi, rfl⟩
  · exact O1 (Or.inl h)
  · exact O1 (Or.inr h)
  have O2 : v2 < 0 ∨ nI n ≤ v2 → wpX_pairs (fun r u' => wpY_pairs (fun r' v' => r' = r ∧ i_Rel (k + 5) u' v') (nI n, M, F, g) (nI i) v2 v3 v4) (nI n, nI (gi_c M n), fk, fu, M, F, t2, t3, t4, td, st) (nI i) v2 v3 v4 := by
    intro h
    unfold wpX_pairs
    dsimp only
    refine gi_xm_in hn hi (br_t rfl (gi_xm_out h (br_f (by decide) ?_)))
    unfold wpY_pairs
    dsimp only
    exact gi_yi_in hn hi (br_f (by decide) (gi_yi_out h (br_t rfl ⟨rfl, R⟩)))
  rcases pk_ix v2 (n := n) (by omega) with h | h | ⟨j, hj, rfl⟩
  · exact O2 (Or.inl h)
  · exact O2 (Or.inr h)
  have O3 : v3 < 0 ∨ nI n ≤ v3 → wpX_pairs (fun r u' => wpY_pairs (fun r' v' => r' = r ∧ i_Rel (k + 5) u' v') (nI n, M, F, g) (nI i) (nI j) v3 v4) (nI n, nI (gi_c M n), fk, fu, M, F, t2, t3, t4, td, st) (nI i) (nI j) v3 v4 := by
    intro h
    unfold wpX_pairs
    dsimp only
    refine gi_xm_in hn hi (br_t rfl (gi_xm_in hn hj (br_t rfl (gi_xm_out h (br_f (by decide) ?_)))))
    unfold wpY_pairs
    dsimp only
    exact gi_yi_in hn hi (br_f (by decide) (gi_yi_in hn hj (br_f (by decide) (gi_yi_out h (br_t rfl ⟨rfl, R⟩)))))
  rcases pk_ix v3 (n := n) (by omega) with h | h | ⟨l, hl, rfl⟩
  · exact O3 (Or.inl h)
  · exact O3 (Or.inr h)
  have O4 : v4 < 0 ∨ nI n ≤ v4 → wpX_pairs (fun r u' => wpY_pairs (fun r' v' => r' = r ∧ i_Rel (k + 5) u' v') (nI n, M, F, g) (nI i) (nI j) (nI l) v4) (nI n, nI (gi_c M n), fk, fu, M, F, t2, t3, t4, td, st) (nI i) (nI j) (nI l) v4 := by
    intro h
    unfold wpX_pairs
    dsimp only
    refine gi_xm_in hn hi (br_t rfl (gi_xm_in hn hj (br_t rfl (gi_xm_in hn hl (br_t rfl (gi_xm_out h (br_f (by decide) ?_)))))))
    unfold wpY_pairs
    dsimp only
    exact gi_yi_in hn hi (br_f (by decide) (gi_yi_in hn hj (br_f (by decide) (gi_yi_in hn hl (br_f (by decide) (gi_yi_out h (br_t rfl ⟨rfl, R⟩)))))))
  rcases pk_ix v4 (n := n) (by omega) with h | h | ⟨m, hm, rfl⟩
  · exact O4 (Or.inl h)
  · exact O4 (Or.inr h)
  unfold wpX_pairs
  dsimp only
  refine gi_xm_in hn hi (br_t rfl (gi_xm_in hn hj (br_t rfl (gi_xm_in hn hl (br_t rfl (gi_xm_in hn hm (br_t rfl (gi_wfind hn hP hK ?_))))))))
  intro fk fu t2 t3 t4 td hK
  refine gi_wD hn hK.2.2.2.2 (gi_ix_n hi) (gi_ix_n hj) (gi_ix_n hl) (gi_ix_n hm) ?_
  unfold wpY_pairs
  dsimp only
  refine gi_yi_in hn hi (br_f (by decide) (gi_yi_in hn hj (br_f (by decide) (gi_yi_in hn hl (br_f (by decide) (gi_yi_in hn hm (br_f (by decide) (gi_wyw hn hP ⟨4 ^ gi_c M n + 1, ?_⟩))))))))
  refine gi_yo_pairs hn hP hi hj hl hm ?_ (4 ^ gi_c M n) 0 g (by omega)
  intro g
  refine ⟨?_, gi_mk hn hP (Or.inr hK)⟩
  rw [gi_nP hn hP hi hj hl hm]
theorem i_vc_from {k : Nat} {u : SX} {v : SY} (I : i_Rel k u v) (hk : k + 5 ≤ 2560) (v1 : Int32) (v2 : Int32) : wpX_from (fun r u' => wpY_from (fun r' v' => r' = r ∧ i_Rel (k + 5) u' v') v v1 v2) u v1 v2 := by
  refine gi_el (P := fun u v => wpX_from (fun r u' => wpY_from (fun r' v' => r' = r ∧ i_Rel (k + 5) u' v') v v1 v2) u v1 v2) ?_ I
  intro n M F g t2 t3 t4 td st fk fu hn hP hK
  have R : i_Rel (k + 5) (nI n, nI (gi_c M n), fk, fu, M, F, t2, t3, t4, td, st) (nI n, M, F, g) := gi_mk hn hP hK
  have hN := gi_le6 hn hP
  have O1 : v1 < 0 ∨ nI n ≤ v1 → wpX_from (fun r u' => wpY_from (fun r' v' => r' = r ∧ i_Rel (k + 5) u' v') (nI n, M, F, g) v1 v2) (nI n, nI (gi_c M n), fk, fu, M, F, t2, t3, t4, td, st) v1 v2 := by
    intro h
    unfold wpX_from
    dsimp only
    refine gi_xm_out h (br_f (by decide) ?_)
    unfold wpY_from
    dsimp only
    exact gi_yi_out h (br_t rfl ⟨rfl, R⟩)
  rcases pk_ix v1 (n := n) (by omega) with h | h | ⟨i, hi, rfl⟩
  · exact O1 (Or.inl h)
  · exact O1 (Or.inr h)
  have O2 : v2 < 0 ∨ nI n ≤ v2 → wpX_from (fun r u' => wpY_from (fun r' v' => r' = r ∧ i_Rel (k + 5) u' v') (nI n, M, F, g) (nI i) v2) (nI n, nI (gi_c M n), fk, fu, M, F, t2, t3, t4, td, st) (nI i) v2 := by
    intro h
    unfold wpX_from
    dsimp only
    refine gi_xm_in hn hi (br_t rfl (gi_xm_out h (br_f (by decide) ?_)))
    unfold wpY_from
    dsimp only
    exact gi_yi_in hn hi (br_f (by decide) (gi_yi_out h (br_t rfl ⟨rfl, R⟩)))
  rcases pk_ix v2 (n := n) (by omega) with h | h | ⟨j, hj, rfl⟩
  · exact O2 (Or.inl h)
  · exact O2 (Or.inr h)
  unfold wpX_from
  dsimp only
  rw [nI_clamp (show j < 2 ^ 31 by omega)]
  have hv : vp_in (nI j) 7 := vp_in_nI (by omega) (by decide)
  refine gi_xm_in hn hi (br_t rfl (gi_xm_in hn hj (br_t rfl ⟨hv, ?_⟩)))
  by_cases hm : M j < 0
  · have hM : M j = -1 := by
      rcases hP j hj with ⟨e, _⟩ | ⟨a, b, ha, hb, e, _⟩
      · exact e
      · rw [e] at hm
        exact absurd hm (nI_pos (by omega))
    refine br_t hm (gi_wfind hn hP hK ?_)
    intro fk fu t2 t3 t4 td hK
    refine gi_w2 hn hK.2.1 (gi_ix_n hi) (gi_ix_n hj) ⟨by decide, ?_⟩
    unfold wpY_from
    dsimp only
    rw [nI_clamp (show j < 2 ^ 31 by omega)]
    refine gi_yi_in hn hi (br_f (by decide) (gi_yi_in hn hj (br_f (by decide) ⟨hv, br_t hm (gi_wyw hn hP ⟨4 ^ gi_c M n + 1, ?_⟩)⟩)))
    refine gi_yo_from hn hP hi hj ?_ (4 ^ gi_c M n) 0 g (by omega)
    intro g
    refine ⟨?_, gi_mk hn hP (Or.inr hK)⟩
    have b := gi_T2_le (q := nI j) hn hP (gi_ix_n hi)
    exact (gi_dv (d := 4) (gi_nF hn hP hi hj hM) (by decide) (by decide) (by omega)).symm
  · refine br_f hm ?_
    unfold wpY_from
    dsimp only
    rw [nI_clamp (show j < 2 ^ 31 by omega)]
    exact gi_yi_in hn hi (br_f (by decide) (gi_yi_in hn hj (br_f (by decide) ⟨hv, br_f hm ⟨rfl, R⟩⟩)))
theorem i_vc_state {k : Nat} {u : SX} {v : SY} (I : i_Rel k u v) (hk : k + 5 ≤ 2560) (v1 : Int32) (v2 : Int32) (v3 : Int32) : wpX_state (fun r u' => wpY_state (fun r' v' => r' = r ∧ i_Rel (k + 5) u' v') v v1 v2 v3) u v1 v2 v3 := by
  refine gi_el (P := fun u v => wpX_state (fun r u' => wpY_state (fun r' v' => r' = r ∧ i_Rel (k + 5) u' v') v v1 v2 v3) u v1 v2 v3) ?_ I
  intro n M F g t2 t3 t4 td st fk fu hn hP hK
  have R : i_Rel (k + 5) (nI n, nI (gi_c M n), fk, fu, M, F, t2, t3, t4, td, st) (nI n, M, F, g) := gi_mk hn hP hK
  have hN := gi_le6 hn hP
  have O1 : v1 < 0 ∨ nI n ≤ v1 → wpX_state (fun r u' => wpY_state (fun r' v' => r' = r ∧ i_Rel (k + 5) u' v') (nI n, M, F, g) v1 v2 v3) (nI n, nI (gi_c M n), fk, fu, M, F, t2, t3, t4, td, st) v1 v2 v3 := by
    intro h
    unfold wpX_state
    dsimp only
    refine gi_xm_out h (br_f (by decide) ?_)
    unfold wpY_state
    dsimp only
    exact gi_yi_out h (br_t rfl ⟨rfl, R⟩)
  rcases pk_ix v1 (n := n) (by omega) with h | h | ⟨i, hi, rfl⟩
  · exact O1 (Or.inl h)
  · exact O1 (Or.inr h)
  have O2 : v2 < 0 ∨ nI n ≤ v2 → wpX_state (fun r u' => wpY_state (fun r' v' => r' = r ∧ i_Rel (k + 5) u' v') (nI n, M, F, g) (nI i) v2 v3) (nI n, nI (gi_c M n), fk, fu, M, F, t2, t3, t4, td, st) (nI i) v2 v3 := by
    intro h
    unfold wpX_state
    dsimp only
    refine gi_xm_in hn hi (br_t rfl (gi_xm_out h (br_f (by decide) ?_)))
    unfold wpY_state
    dsimp only
    exact gi_yi_in hn hi (br_f (by decide) (gi_yi_out h (br_t rfl ⟨rfl, R⟩)))
  rcases pk_ix v2 (n := n) (by omega) with h | h | ⟨j, hj, rfl⟩
  · exact O2 (Or.inl h)
  · exact O2 (Or.inr h)
  unfold wpX_state
  dsimp only
  refine gi_xm_in hn hi (br_t rfl (gi_xm_in hn hj (br_t rfl ?_)))
  by_cases h1 : v3 < 1
  · refine br_t h1 ?_
    unfold wpY_state
    dsimp only
    exact gi_yi_in hn hi (br_f (by decide) (gi_yi_in hn hj (br_f (by decide) (br_t h1 ⟨rfl, R⟩))))
  · refine br_f h1 ?_
    by_cases h9 : v3 ≤ 9
    · refine br_t h9 ?_
      by_cases e : nI i = nI j
      · refine br_t e ?_
        unfold wpY_state
        dsimp only
        exact gi_yi_in hn hi (br_f (by decide) (gi_yi_in hn hj (br_f (by decide) (br_f h1 (br_t h9 (br_t e ⟨rfl, R⟩))))))
      · have h0 : ¬ v3 < 0 := fun z => h1 (Int32.lt_trans z (by decide))
        obtain ⟨s, hs, rfl⟩ := nI_of2 (M := 9) (n := 9) (by decide) h0 h9
        have hs1 : 1 ≤ s := by
          have h1' : ¬ s < 1 := fun z => h1 (nI_lt (a := s) (b := 1) z (by decide))
          omega
        refine br_f e (gi_wfind hn hP hK ?_)
        intro fk fu t2 t3 t4 td hK
        refine gi_wfs hn hP hK hi hj ?_
        intro st hst
        dsimp only
        rw [nI_clamp (show s < 2 ^ 31 by omega), hst s hs1 hs]
        refine ⟨vp_in_nI (by omega) (by decide), ?_⟩
        unfold wpY_state
        dsimp only
        refine gi_yi_in hn hi (br_f (by decide) (gi_yi_in hn hj (br_f (by decide) (br_f h1 (br_t h9 (br_f e (gi_wyw hn hP ⟨4 ^ gi_c M n + 1, ?_⟩)))))))
        refine gi_yo_state hn hP hi hj (by omega) ?_ (4 ^ gi_c M n) 0 g (by omega)
        intro g
        exact ⟨rfl, gi_mk hn hP (Or.inr hK)⟩
    · refine br_f h9 ?_
      unfold wpY_state
      dsimp only
      exact gi_yi_in hn hi (br_f (by decide) (gi_yi_in hn hj (br_f (by decide) (br_f h1 (br_f h9 ⟨rfl, R⟩)))))
theorem i_vc_related {k : Nat} {u : SX} {v : SY} (I : i_Rel k u v) (hk : k + 5 ≤ 2560) (v1 : Int32) (v2 : Int32) : wpX_related (fun r u' => wpY_related (fun r' v' => r' = r ∧ i_Rel (k + 5) u' v') v v1 v2) u v1 v2 := by
  refine gi_el (P := fun u v => wpX_related (fun r u' => wpY_related (fun r' v' => r' = r ∧ i_Rel (k + 5) u' v') v v1 v2) u v1 v2) ?_ I
  intro n M F g t2 t3 t4 td st fk fu hn hP hK
  have R : i_Rel (k + 5) (nI n, nI (gi_c M n), fk, fu, M, F, t2, t3, t4, td, st) (nI n, M, F, g) := gi_mk hn hP hK
  have hN := gi_le6 hn hP
  have O1 : v1 < 0 ∨ nI n ≤ v1 → wpX_related (fun r u' => wpY_related (fun r' v' => r' = r ∧ i_Rel (k + 5) u' v') (nI n, M, F, g) v1 v2) (nI n, nI (gi_c M n), fk, fu, M, F, t2, t3, t4, td, st) v1 v2 := by
    intro h
    unfold wpX_related
    dsimp only
    refine gi_xm_out h (br_f (by decide) ?_)
    unfold wpY_related
    dsimp only
    exact gi_yi_out h (br_t rfl ⟨rfl, R⟩)
  rcases pk_ix v1 (n := n) (by omega) with h | h | ⟨i, hi, rfl⟩
  · exact O1 (Or.inl h)
  · exact O1 (Or.inr h)
  have O2 : v2 < 0 ∨ nI n ≤ v2 → wpX_related (fun r u' => wpY_related (fun r' v' => r' = r ∧ i_Rel (k + 5) u' v') (nI n, M, F, g) (nI i) v2) (nI n, nI (gi_c M n), fk, fu, M, F, t2, t3, t4, td, st) (nI i) v2 := by
    intro h
    unfold wpX_related
    dsimp only
    refine gi_xm_in hn hi (br_t rfl (gi_xm_out h (br_f (by decide) ?_)))
    unfold wpY_related
    dsimp only
    exact gi_yi_in hn hi (br_f (by decide) (gi_yi_out h (br_t rfl ⟨rfl, R⟩)))
  rcases pk_ix v2 (n := n) (by omega) with h | h | ⟨j, hj, rfl⟩
  · exact O2 (Or.inl h)
  · exact O2 (Or.inr h)
  unfold wpX_related
  dsimp only
  refine gi_xm_in hn hi (br_t rfl (gi_xm_in hn hj (br_t rfl ?_)))
  by_cases e : nI i = nI j
  · refine br_t e ?_
    have ei : i = j := (nI_eq (by omega) (by omega)).mp e
    subst ei
    unfold wpX_ways
    dsimp only
    rw [gi_sh1 _ (gi_c_le6 hn hP)]
    unfold wpY_related
    dsimp only
    refine gi_yi_in hn hi (br_f (by decide) (gi_yi_in hn hj (br_f (by decide) (gi_wyw hn hP ⟨4 ^ gi_c M n + 1, ?_⟩))))
    refine gi_yo_related hn hP hi hj ?_ (4 ^ gi_c M n) 0 g (by omega)
    intro g
    refine ⟨congrArg nI ?_, gi_mk hn hP hK⟩
    have q : gi_s (fun w => gi_sr (gi_g M F w i 0) (gi_g M F w i 1) (gi_g M F w i 0) (gi_g M F w i 1)) (4 ^ gi_c M n) = gi_s (fun _ => 1) (4 ^ gi_c M n) := gi_s_congr _ (fun w _ => if_pos (Or.inl (Or.inl rfl)))
    rw [q, gi_s_const, Nat.one_mul]
  · refine br_f e (gi_wfind hn hP hK ?_)
    intro fk fu t2 t3 t4 td hK
    refine gi_wfs hn hP hK hi hj ?_
    intro st hst
    dsimp only
    rw [hst 1 (by omega) (by omega), hst 3 (by omega) (by omega), hst 5 (by omega) (by omega), hst 7 (by omega) (by omega), hst 8 (by omega) (by omega), nI_add, nI_add, nI_add, nI_add]
    unfold wpY_related
    dsimp only
    refine gi_yi_in hn hi (br_f (by decide) (gi_yi_in hn hj (br_f (by decide) (gi_wyw hn hP ⟨4 ^ gi_c M n + 1, ?_⟩))))
    refine gi_yo_related hn hP hi hj ?_ (4 ^ gi_c M n) 0 g (by omega)
    intro g
    exact ⟨congrArg nI (gi_SQ hn hP hi hj).2.2.2.2.2.2.2.2.2, gi_mk hn hP (Or.inr hK)⟩
end
