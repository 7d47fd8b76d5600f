section
/-! pure rows to paste: stores, nI and lN arithmetic, masks, shifts, narrowing, branches by naturals (pk_le, pk_lt, pk_eq), loops (lp1 .. lp16: the measure of the state; rp1 ..: recursion), negatives. Take what you need -/
theorem pk_us {f : Nat → Int32} {k : Nat} {x : Int32} : upd f k x k = x := if_pos rfl
theorem pk_un {f : Nat → Int32} {k j : Nat} {x : Int32} (h : j ≠ k) : upd f k x j = f j := if_neg h
theorem pk_uLs {f : Nat → Int64} {k : Nat} {x : Int64} : vp_updL f k x k = x := if_pos rfl
theorem pk_uLn {f : Nat → Int64} {k j : Nat} {x : Int64} (h : j ≠ k) : vp_updL f k x j = f j := if_neg h
theorem pk_sub {a b : Nat} (h : b ≤ a) : nI a - nI b = nI (a - b) := by
  obtain ⟨c, rfl⟩ : ∃ c, a = c + b := ⟨a - b, by omega⟩
  rw [← nI_add, Int32.add_sub_cancel, Nat.add_sub_cancel]
theorem pk_m1 (n : Nat) : nI (n + 1) + (-1) = nI n := by
  rw [← nI_1, Int32.add_assoc, show (1 : Int32) + (-1) = 0 from rfl, Int32.add_zero]
theorem pk_mul (a b : Nat) : nI a * nI b = nI (a * b) := (Int32.ofNat_mul a b).symm
theorem pk_div {a d : Nat} (ha : a < 2 ^ 31) (h0 : 0 < d) (hd : d < 2 ^ 31) : nI a / nI d = nI (a / d) := by
  apply Int32.toInt_inj.mp
  rw [lg_idiv_nonneg (by rw [nI_toInt ha]; omega) (by rw [nI_toInt hd]; omega), nI_toInt ha, nI_toInt hd, nI_toInt (Nat.lt_of_le_of_lt (Nat.div_le_self a d) ha)]
  first | rfl | exact (Int.natCast_ediv _ _).symm
theorem pk_rem {a d : Nat} (ha : a < 2 ^ 31) (h0 : 0 < d) (hd : d < 2 ^ 31) : nI a - nI a / nI d * nI d = nI (a % d) := by
  rw [pk_div ha h0 hd, pk_mul, pk_sub (Nat.div_mul_le_self a d)]
  exact congrArg nI (by have := Nat.div_add_mod' a d; omega)
theorem pk_sub_toInt {a b : Nat} (ha : a < 2 ^ 30) (hb : b < 2 ^ 30) : (nI a - nI b).toInt = (a : Int) - b := by
  rw [Int32.toInt_sub, nI_toInt (by omega), nI_toInt (by omega)]
  exact Int.bmod_eq_of_le (by omega) (by omega)
theorem pk_sneg {a b : Nat} (hb : b < 2 ^ 30) (h : a < b) : nI a - nI b < 0 := by
  rw [Int32.lt_iff_toInt_lt, pk_sub_toInt (by omega) hb, show (0 : Int32).toInt = 0 from by decide]
  omega
theorem pk_ix (x : Int32) {n : Nat} (hn : n < 2 ^ 31) : x < 0 ∨ nI n ≤ x ∨ ∃ j : Nat, j < n ∧ x = nI j := by
  by_cases h : x < 0
  · exact Or.inl h
  · obtain ⟨j, hj, rfl⟩ := nI_of h
    by_cases h2 : j < n
    · exact Or.inr (Or.inr ⟨j, h2, rfl⟩)
    · exact Or.inr (Or.inl (nI_le (by omega) hj))
theorem pk_le {x y : Int32} {A B : Prop} (a b : Nat) (f : a ≤ b → A) (g : b < a → B) (hx : x = nI a := by rfl) (hy : y = nI b := by rfl) (ha : a < 2 ^ 31 := by omega) (hb : b < 2 ^ 31 := by omega) : (x ≤ y → A) ∧ (¬ x ≤ y → B) := by
  subst hx hy
  rw [nI_leI ha hb]
  exact ⟨f, fun z => g (by omega)⟩
theorem pk_lt {x y : Int32} {A B : Prop} (a b : Nat) (f : a < b → A) (g : b ≤ a → B) (hx : x = nI a := by rfl) (hy : y = nI b := by rfl) (ha : a < 2 ^ 31 := by omega) (hb : b < 2 ^ 31 := by omega) : (x < y → A) ∧ (¬ x < y → B) := by
  subst hx hy
  rw [nI_ltI ha hb]
  exact ⟨f, fun z => g (by omega)⟩
theorem pk_eq {x y : Int32} {A B : Prop} (a b : Nat) (f : a = b → A) (g : a ≠ b → B) (hx : x = nI a := by rfl) (hy : y = nI b := by rfl) (ha : a < 2 ^ 31 := by omega) (hb : b < 2 ^ 31 := by omega) : (x = y → A) ∧ (¬ x = y → B) := by
  subst hx hy
  rw [nI_eq ha hb]
  exact ⟨f, g⟩
theorem pk_in {x : Int32} (n N : Nat) (h : n < N) (hx : x = nI n := by rfl) (hN : N < 2 ^ 31 := by omega) : vp_in x N := by
  subst hx
  exact vp_in_nI h hN
theorem pk_cl {x : Int32} (n : Nat) (hx : x = nI n := by rfl) (h : n < 2 ^ 31 := by omega) : x.toNatClampNeg = n := by
  subst hx
  exact nI_clamp h
theorem pk_tn {n : Nat} (h : n < 2 ^ 32) : (nI n).toBitVec.toNat = n := Nat.mod_eq_of_lt h
theorem pk_and (x : Int32) {m : Int32} (k : Nat) (hm : m.toBitVec.toNat = 2 ^ k - 1) : x &&& m = nI (x.toBitVec.toNat % 2 ^ k) := by
  apply Int32.toBitVec_inj.mp
  apply BitVec.eq_of_toNat_eq
  rw [Int32.toBitVec_and, BitVec.toNat_and, hm, Nat.and_two_pow_sub_one_eq_mod]
  show _ = (BitVec.ofNat 32 _).toNat
  rw [BitVec.toNat_ofNat]
  exact (Nat.mod_eq_of_lt (Nat.lt_of_le_of_lt (Nat.mod_le _ _) x.toBitVec.isLt)).symm
theorem pk_andN {n : Nat} (h : n < 2 ^ 32) {m : Int32} (k : Nat) (hm : m.toBitVec.toNat = 2 ^ k - 1) : nI n &&& m = nI (n % 2 ^ k) := by
  rw [pk_and _ k hm, pk_tn h]
theorem pk_andE (x : Int32) {m : Int32} (k : Nat) (hm : m.toBitVec.toNat = 2 ^ k - 1) : ∃ j : Nat, j < 2 ^ k ∧ x &&& m = nI j := ⟨_, Nat.mod_lt _ (Nat.two_pow_pos k), pk_and x k hm⟩
theorem pk_andIn (x : Int32) {m : Int32} (k : Nat) (hm : m.toBitVec.toNat = 2 ^ k - 1) (hk : k ≤ 30) : vp_in (x &&& m) (2 ^ k) := by
  obtain ⟨j, hj, e⟩ := pk_andE x k hm
  rw [e]
  exact vp_in_nI hj (Nat.lt_of_le_of_lt (Nat.pow_le_pow_right (by decide) hk) (by decide))
theorem pk_shl (a s : Int32) (k : Nat) (hs : (s.toBitVec.smod 32).toNat = k) : (a <<< s).toBitVec.toNat = a.toBitVec.toNat * 2 ^ k % 2 ^ 32 := by
  show (a.toBitVec <<< (s.toBitVec.smod 32).toNat).toNat = _
  rw [hs, BitVec.toNat_shiftLeft, Nat.shiftLeft_eq]
theorem pk_shlN {n : Nat} (s : Int32) (k : Nat) (hs : (s.toBitVec.smod 32).toNat = k) (h : n * 2 ^ k < 2 ^ 32) : nI n <<< s = nI (n * 2 ^ k) := by
  apply Int32.toBitVec_inj.mp
  apply BitVec.eq_of_toNat_eq
  have hn : n < 2 ^ 32 := Nat.lt_of_le_of_lt (Nat.le_mul_of_pos_right n (Nat.two_pow_pos k)) h
  rw [pk_shl _ _ k hs, pk_tn hn, pk_tn h, Nat.mod_eq_of_lt h]
theorem pk_shr (a s : Int32) (k : Nat) (hs : (s.toBitVec.smod 32).toNat = k) : (a >>> s).toInt = a.toInt >>> k := by
  show (a.toBitVec.sshiftRight (s.toBitVec.smod 32).toNat).toInt = _
  rw [hs, BitVec.toInt_sshiftRight]
  rfl
theorem pk_shrN {n : Nat} (h : n < 2 ^ 31) (s : Int32) (k : Nat) (hs : (s.toBitVec.smod 32).toNat = k) : nI n >>> s = nI (n / 2 ^ k) := by
  apply Int32.toInt_inj.mp
  have h2 : n / 2 ^ k ≤ n := Nat.div_le_self _ _
  rw [pk_shr _ _ k hs, nI_toInt h, nI_toInt (by omega), Int.shiftRight_eq_div_pow]
  rfl
theorem pk_ushr (x s : Int32) (k : Nat) (hs : ((s.toUInt32 &&& Int32.toUInt32 31).toBitVec % 32).toNat = k) : (x.toUInt32 >>> (s.toUInt32 &&& Int32.toUInt32 31)).toInt32.toBitVec.toNat = x.toBitVec.toNat / 2 ^ k := by
  have e : (x.toUInt32 >>> (s.toUInt32 &&& Int32.toUInt32 31)).toInt32.toBitVec = x.toBitVec >>> k := by
    rw [← hs]
    exact UInt32.toBitVec_shiftRight _ _
  rw [e, BitVec.toNat_ushiftRight, Nat.shiftRight_eq_div_pow]
theorem pk_ushrN {n : Nat} (hn : n < 2 ^ 32) (s : Int32) (k : Nat) (hs : ((s.toUInt32 &&& Int32.toUInt32 31).toBitVec % 32).toNat = k) : ((nI n).toUInt32 >>> (s.toUInt32 &&& Int32.toUInt32 31)).toInt32 = nI (n / 2 ^ k) := by
  apply Int32.toBitVec_inj.mp
  apply BitVec.eq_of_toNat_eq
  rw [pk_ushr _ s k hs, pk_tn hn, pk_tn (Nat.lt_of_le_of_lt (Nat.div_le_self _ _) hn)]
theorem pk_nb (z : Int32) : narrow .byte (.int z.toInt8.toInt32) = .int z.toInt8.toInt32 := congrArg Value.int (by simp)
theorem pk_ns (z : Int32) : narrow .short (.int z.toInt16.toInt32) = .int z.toInt16.toInt32 := congrArg Value.int (by simp)
theorem pk_fb (r : Int32) : fits .byte (.int r.toInt8.toInt32) = true := by
  have ⟨a, b⟩ := lg_i2b_range r
  have h1 : (-128 : Int32).toInt = -128 := by decide
  have h2 : (127 : Int32).toInt = 127 := by decide
  simp only [fits, Bool.and_eq_true, decide_eq_true_eq, Int32.le_iff_toInt_le, h1, h2]
  omega
theorem pk_fs (r : Int32) : fits .short (.int r.toInt16.toInt32) = true := by
  have ⟨a, b⟩ := lg_i2s_range r
  have h1 : (-32768 : Int32).toInt = -32768 := by decide
  have h2 : (32767 : Int32).toInt = 32767 := by decide
  simp only [fits, Bool.and_eq_true, decide_eq_true_eq, Int32.le_iff_toInt_le, h1, h2]
  omega
theorem pk_charN {q : Nat} (hq : q < 65536) : narrow .char (.int (nI q)) = .int (nI q) ∧ fits .char (.int (nI q)) = true := by
  constructor
  · have e : (nI q).toUInt32.toUInt16.toUInt32.toInt32 = nI q := by
      apply Int32.toBitVec_inj.mp
      apply BitVec.eq_of_toNat_eq
      show (nI q).toUInt32.toUInt16.toUInt32.toNat = q % 2 ^ 32
      rw [UInt16.toNat_toUInt32, UInt32.toNat_toUInt16, show (nI q).toUInt32.toNat = q % 2 ^ 32 from rfl]
      omega
    exact congrArg Value.int e
  · have a : (0 : Int32) ≤ nI q := nI_pos' (by omega)
    have b : nI q ≤ 65535 := nI_le (b := 65535) (by omega) (by decide)
    show (decide ((0 : Int32) ≤ nI q) && decide (nI q ≤ 65535)) = true
    rw [decide_eq_true a, decide_eq_true b]
    rfl
theorem pk_char (x : Int32) : (x.toUInt32 % 65536).toInt32 = nI (x.toBitVec.toNat % 65536) := by
  apply Int32.toBitVec_inj.mp
  apply BitVec.eq_of_toNat_eq
  rw [pk_tn (by omega)]
  show (x.toUInt32 % 65536).toNat = _
  rw [UInt32.toNat_mod]
  rfl
theorem pk_nc (x : Int32) : narrow .char (.int (x.toUInt32 % 65536).toInt32) = .int (x.toUInt32 % 65536).toInt32 := by
  rw [pk_char]
  exact (pk_charN (Nat.mod_lt _ (by decide))).1
theorem pk_fc (x : Int32) : fits .char (.int (x.toUInt32 % 65536).toInt32) = true := by
  rw [pk_char]
  exact (pk_charN (Nat.mod_lt _ (by decide))).2
theorem pk_vb (z : Int32) : vp_nar .byte z.toInt8.toInt32 = z.toInt8.toInt32 := by rw [vp_nar_byte]; simp
theorem pk_vs (z : Int32) : vp_nar .short z.toInt16.toInt32 = z.toInt16.toInt32 := by rw [vp_nar_short]; simp
theorem pk_vc (z : Int32) : vp_nar .char (z.toUInt32 % 65536).toInt32 = (z.toUInt32 % 65536).toInt32 := Value.int.inj (pk_nc z)
theorem pk_lT {n : Nat} (h : n < 2 ^ 63) : (lN n).toInt = (n : Int) := lg_ofNat_toInt h
theorem pk_lLT {a b : Nat} (ha : a < 2 ^ 63) (hb : b < 2 ^ 63) : lN a < lN b ↔ a < b := by
  rw [Int64.lt_iff_toInt_lt, pk_lT ha, pk_lT hb]; omega
theorem pk_lLE {a b : Nat} (ha : a < 2 ^ 63) (hb : b < 2 ^ 63) : lN a ≤ lN b ↔ a ≤ b := by
  rw [Int64.le_iff_toInt_le, pk_lT ha, pk_lT hb]; omega
theorem pk_lEQ {a b : Nat} (ha : a < 2 ^ 63) (hb : b < 2 ^ 63) : lN a = lN b ↔ a = b := by
  rw [← Int64.toInt_inj, pk_lT ha, pk_lT hb]; omega
theorem pk_lOf {x : Int64} (h : ¬ x < 0) : ∃ k : Nat, k < 2 ^ 63 ∧ x = lN k := by
  rw [Int64.lt_iff_toInt_lt] at h
  have h0 : (0 : Int64).toInt = 0 := by decide
  have hx := Int64.toInt_lt x
  refine ⟨x.toInt.toNat, by omega, Int64.toInt_inj.mp ?_⟩
  rw [pk_lT (by omega)]
  omega
theorem pk_lDiv {a b : Nat} (ha : a < 2 ^ 63) (h0 : 0 < b) (hb : b < 2 ^ 63) : lN a / lN b = lN (a / b) := by
  apply Int64.toInt_inj.mp
  rw [lg_ldiv_nonneg (by rw [pk_lT ha]; omega) (by rw [pk_lT hb]; omega), pk_lT ha, pk_lT hb, pk_lT (Nat.lt_of_le_of_lt (Nat.div_le_self a b) ha)]
  rfl
theorem pk_lRem {a b : Nat} (ha : a < 2 ^ 63) (h0 : 0 < b) (hb : b < 2 ^ 63) : lN a - lN a / lN b * lN b = lN (a % b) := by
  rw [pk_lDiv ha h0 hb, lN_mul, lN_sub (Nat.div_mul_le_self a b)]
  exact congrArg lN (by have := Nat.div_add_mod' a b; omega)
theorem pk_loop {σ : Type} (W : Nat → Nat → σ → Prop) (I : Nat → σ → Prop) (e i0 : Nat) (s : σ) (hi : i0 ≤ e) (h0 : I i0 s) (hx : ∀ n s, I e s → W (n + 1) e s)
    (hs : ∀ n i s, i < e → I i s → (∀ s', I (i + 1) s' → W n (i + 1) s') → W (n + 1) i s) : ∃ n, W n i0 s :=
  ⟨e + 1, loop_i W I e hx hs (e + 1) i0 s hi (by omega) h0⟩
theorem pk_loopD {σ : Type} (W : Nat → Nat → σ → Prop) (I : Nat → σ → Prop) (hx : ∀ n s, I 0 s → W (n + 1) 0 s)
    (hs : ∀ n i s, I (i + 1) s → (∀ s', I i s' → W n i s') → W (n + 1) (i + 1) s) : ∀ (e : Nat) (s : σ), I e s → W (e + 1) e s := by
  intro e
  induction e with
  | zero => exact fun s h => hx 0 s h
  | succ e ih => exact fun s h => hs (e + 1) e s h (fun s' h' => ih s' h')
theorem lp1 {A1 : Type} (W : Nat → A1 → Prop) (I : A1 → Prop) (μ : A1 → Nat) (hs : ∀ (n : Nat) (a1 : A1), I a1 → (∀ (b1 : A1), I b1 → μ b1 < μ a1 → W n b1) → W (n + 1) a1) (a1 : A1) (h : I a1) : ∃ n, W n a1 :=
  loop_m (σ := A1) (fun n s => W n s) (fun s => I s) (fun s => μ s) (fun n s hI hk => hs n s hI (fun b1 h9 hm => hk b1 h9 hm)) a1 h
theorem lp2 {A1 A2 : Type} (W : Nat → A1 → A2 → Prop) (I : A1 → A2 → Prop) (μ : A1 → A2 → Nat) (hs : ∀ (n : Nat) (a1 : A1) (a2 : A2), I a1 a2 → (∀ (b1 : A1) (b2 : A2), I b1 b2 → μ b1 b2 < μ a1 a2 → W n b1 b2) → W (n + 1) a1 a2) (a1 : A1) (a2 : A2) (h : I a1 a2) : ∃ n, W n a1 a2 :=
  loop_m (σ := A1 × A2) (fun n s => W n s.1 s.2) (fun s => I s.1 s.2) (fun s => μ s.1 s.2) (fun n s hI hk => hs n s.1 s.2 hI (fun b1 b2 h9 hm => hk (b1, b2) h9 hm)) (a1, a2) h
theorem lp3 {A1 A2 A3 : Type} (W : Nat → A1 → A2 → A3 → Prop) (I : A1 → A2 → A3 → Prop) (μ : A1 → A2 → A3 → Nat) (hs : ∀ (n : Nat) (a1 : A1) (a2 : A2) (a3 : A3), I a1 a2 a3 → (∀ (b1 : A1) (b2 : A2) (b3 : A3), I b1 b2 b3 → μ b1 b2 b3 < μ a1 a2 a3 → W n b1 b2 b3) → W (n + 1) a1 a2 a3) (a1 : A1) (a2 : A2) (a3 : A3) (h : I a1 a2 a3) : ∃ n, W n a1 a2 a3 :=
  loop_m (σ := A1 × A2 × A3) (fun n s => W n s.1 s.2.1 s.2.2) (fun s => I s.1 s.2.1 s.2.2) (fun s => μ s.1 s.2.1 s.2.2) (fun n s hI hk => hs n s.1 s.2.1 s.2.2 hI (fun b1 b2 b3 h9 hm => hk (b1, b2, b3) h9 hm)) (a1, a2, a3) h
theorem lp4 {A1 A2 A3 A4 : Type} (W : Nat → A1 → A2 → A3 → A4 → Prop) (I : A1 → A2 → A3 → A4 → Prop) (μ : A1 → A2 → A3 → A4 → Nat) (hs : ∀ (n : Nat) (a1 : A1) (a2 : A2) (a3 : A3) (a4 : A4), I a1 a2 a3 a4 → (∀ (b1 : A1) (b2 : A2) (b3 : A3) (b4 : A4), I b1 b2 b3 b4 → μ b1 b2 b3 b4 < μ a1 a2 a3 a4 → W n b1 b2 b3 b4) → W (n + 1) a1 a2 a3 a4) (a1 : A1) (a2 : A2) (a3 : A3) (a4 : A4) (h : I a1 a2 a3 a4) : ∃ n, W n a1 a2 a3 a4 :=
  loop_m (σ := A1 × A2 × A3 × A4) (fun n s => W n s.1 s.2.1 s.2.2.1 s.2.2.2) (fun s => I s.1 s.2.1 s.2.2.1 s.2.2.2) (fun s => μ s.1 s.2.1 s.2.2.1 s.2.2.2) (fun n s hI hk => hs n s.1 s.2.1 s.2.2.1 s.2.2.2 hI (fun b1 b2 b3 b4 h9 hm => hk (b1, b2, b3, b4) h9 hm)) (a1, a2, a3, a4) h
theorem lp5 {A1 A2 A3 A4 A5 : Type} (W : Nat → A1 → A2 → A3 → A4 → A5 → Prop) (I : A1 → A2 → A3 → A4 → A5 → Prop) (μ : A1 → A2 → A3 → A4 → A5 → Nat) (hs : ∀ (n : Nat) (a1 : A1) (a2 : A2) (a3 : A3) (a4 : A4) (a5 : A5), I a1 a2 a3 a4 a5 → (∀ (b1 : A1) (b2 : A2) (b3 : A3) (b4 : A4) (b5 : A5), I b1 b2 b3 b4 b5 → μ b1 b2 b3 b4 b5 < μ a1 a2 a3 a4 a5 → W n b1 b2 b3 b4 b5) → W (n + 1) a1 a2 a3 a4 a5) (a1 : A1) (a2 : A2) (a3 : A3) (a4 : A4) (a5 : A5) (h : I a1 a2 a3 a4 a5) : ∃ n, W n a1 a2 a3 a4 a5 :=
  loop_m (σ := A1 × A2 × A3 × A4 × A5) (fun n s => W n s.1 s.2.1 s.2.2.1 s.2.2.2.1 s.2.2.2.2) (fun s => I s.1 s.2.1 s.2.2.1 s.2.2.2.1 s.2.2.2.2) (fun s => μ s.1 s.2.1 s.2.2.1 s.2.2.2.1 s.2.2.2.2) (fun n s hI hk => hs n s.1 s.2.1 s.2.2.1 s.2.2.2.1 s.2.2.2.2 hI (fun b1 b2 b3 b4 b5 h9 hm => hk (b1, b2, b3, b4, b5) h9 hm)) (a1, a2, a3, a4, a5) h
theorem lp6 {A1 A2 A3 A4 A5 A6 : Type} (W : Nat → A1 → A2 → A3 → A4 → A5 → A6 → Prop) (I : A1 → A2 → A3 → A4 → A5 → A6 → Prop) (μ : A1 → A2 → A3 → A4 → A5 → A6 → Nat) (hs : ∀ (n : Nat) (a1 : A1) (a2 : A2) (a3 : A3) (a4 : A4) (a5 : A5) (a6 : A6), I a1 a2 a3 a4 a5 a6 → (∀ (b1 : A1) (b2 : A2) (b3 : A3) (b4 : A4) (b5 : A5) (b6 : A6), I b1 b2 b3 b4 b5 b6 → μ b1 b2 b3 b4 b5 b6 < μ a1 a2 a3 a4 a5 a6 → W n b1 b2 b3 b4 b5 b6) → W (n + 1) a1 a2 a3 a4 a5 a6) (a1 : A1) (a2 : A2) (a3 : A3) (a4 : A4) (a5 : A5) (a6 : A6) (h : I a1 a2 a3 a4 a5 a6) : ∃ n, W n a1 a2 a3 a4 a5 a6 :=
  loop_m (σ := A1 × A2 × A3 × A4 × A5 × A6) (fun n s => W n s.1 s.2.1 s.2.2.1 s.2.2.2.1 s.2.2.2.2.1 s.2.2.2.2.2) (fun s => I s.1 s.2.1 s.2.2.1 s.2.2.2.1 s.2.2.2.2.1 s.2.2.2.2.2) (fun s => μ s.1 s.2.1 s.2.2.1 s.2.2.2.1 s.2.2.2.2.1 s.2.2.2.2.2) (fun n s hI hk => hs n s.1 s.2.1 s.2.2.1 s.2.2.2.1 s.2.2.2.2.1 s.2.2.2.2.2 hI (fun b1 b2 b3 b4 b5 b6 h9 hm => hk (b1, b2, b3, b4, b5, b6) h9 hm)) (a1, a2, a3, a4, a5, a6) h
theorem lp7 {A1 A2 A3 A4 A5 A6 A7 : Type} (W : Nat → A1 → A2 → A3 → A4 → A5 → A6 → A7 → Prop) (I : A1 → A2 → A3 → A4 → A5 → A6 → A7 → Prop) (μ : A1 → A2 → A3 → A4 → A5 → A6 → A7 → Nat) (hs : ∀ (n : Nat) (a1 : A1) (a2 : A2) (a3 : A3) (a4 : A4) (a5 : A5) (a6 : A6) (a7 : A7), I a1 a2 a3 a4 a5 a6 a7 → (∀ (b1 : A1) (b2 : A2) (b3 : A3) (b4 : A4) (b5 : A5) (b6 : A6) (b7 : A7), I b1 b2 b3 b4 b5 b6 b7 → μ b1 b2 b3 b4 b5 b6 b7 < μ a1 a2 a3 a4 a5 a6 a7 → W n b1 b2 b3 b4 b5 b6 b7) → W (n + 1) a1 a2 a3 a4 a5 a6 a7) (a1 : A1) (a2 : A2) (a3 : A3) (a4 : A4) (a5 : A5) (a6 : A6) (a7 : A7) (h : I a1 a2 a3 a4 a5 a6 a7) : ∃ n, W n a1 a2 a3 a4 a5 a6 a7 :=
  loop_m (σ := A1 × A2 × A3 × A4 × A5 × A6 × A7) (fun n s => W n s.1 s.2.1 s.2.2.1 s.2.2.2.1 s.2.2.2.2.1 s.2.2.2.2.2.1 s.2.2.2.2.2.2) (fun s => I s.1 s.2.1 s.2.2.1 s.2.2.2.1 s.2.2.2.2.1 s.2.2.2.2.2.1 s.2.2.2.2.2.2) (fun s => μ s.1 s.2.1 s.2.2.1 s.2.2.2.1 s.2.2.2.2.1 s.2.2.2.2.2.1 s.2.2.2.2.2.2) (fun n s hI hk => hs n s.1 s.2.1 s.2.2.1 s.2.2.2.1 s.2.2.2.2.1 s.2.2.2.2.2.1 s.2.2.2.2.2.2 hI (fun b1 b2 b3 b4 b5 b6 b7 h9 hm => hk (b1, b2, b3, b4, b5, b6, b7) h9 hm)) (a1, a2, a3, a4, a5, a6, a7) h
theorem lp8 {A1 A2 A3 A4 A5 A6 A7 A8 : Type} (W : Nat → A1 → A2 → A3 → A4 → A5 → A6 → A7 → A8 → Prop) (I : A1 → A2 → A3 → A4 → A5 → A6 → A7 → A8 → Prop) (μ : A1 → A2 → A3 → A4 → A5 → A6 → A7 → A8 → Nat) (hs : ∀ (n : Nat) (a1 : A1) (a2 : A2) (a3 : A3) (a4 : A4) (a5 : A5) (a6 : A6) (a7 : A7) (a8 : A8), I a1 a2 a3 a4 a5 a6 a7 a8 → (∀ (b1 : A1) (b2 : A2) (b3 : A3) (b4 : A4) (b5 : A5) (b6 : A6) (b7 : A7) (b8 : A8), I b1 b2 b3 b4 b5 b6 b7 b8 → μ b1 b2 b3 b4 b5 b6 b7 b8 < μ a1 a2 a3 a4 a5 a6 a7 a8 → W n b1 b2 b3 b4 b5 b6 b7 b8) → W (n + 1) a1 a2 a3 a4 a5 a6 a7 a8) (a1 : A1) (a2 : A2) (a3 : A3) (a4 : A4) (a5 : A5) (a6 : A6) (a7 : A7) (a8 : A8) (h : I a1 a2 a3 a4 a5 a6 a7 a8) : ∃ n, W n a1 a2 a3 a4 a5 a6 a7 a8 :=
  loop_m (σ := A1 × A2 × A3 × A4 × A5 × A6 × A7 × A8) (fun n s => W n s.1 s.2.1 s.2.2.1 s.2.2.2.1 s.2.2.2.2.1 s.2.2.2.2.2.1 s.2.2.2.2.2.2.1 s.2.2.2.2.2.2.2) (fun s => I s.1 s.2.1 s.2.2.1 s.2.2.2.1 s.2.2.2.2.1 s.2.2.2.2.2.1 s.2.2.2.2.2.2.1 s.2.2.2.2.2.2.2) (fun s => μ s.1 s.2.1 s.2.2.1 s.2.2.2.1 s.2.2.2.2.1 s.2.2.2.2.2.1 s.2.2.2.2.2.2.1 s.2.2.2.2.2.2.2) (fun n s hI hk => hs n s.1 s.2.1 s.2.2.1 s.2.2.2.1 s.2.2.2.2.1 s.2.2.2.2.2.1 s.2.2.2.2.2.2.1 s.2.2.2.2.2.2.2 hI (fun b1 b2 b3 b4 b5 b6 b7 b8 h9 hm => hk (b1, b2, b3, b4, b5, b6, b7, b8) h9 hm)) (a1, a2, a3, a4, a5, a6, a7, a8) h
theorem lp9 {A1 A2 A3 A4 A5 A6 A7 A8 A9 : Type} (W : Nat → A1 → A2 → A3 → A4 → A5 → A6 → A7 → A8 → A9 → Prop) (I : A1 → A2 → A3 → A4 → A5 → A6 → A7 → A8 → A9 → Prop) (μ : A1 → A2 → A3 → A4 → A5 → A6 → A7 → A8 → A9 → Nat) (hs : ∀ (n : Nat) (a1 : A1) (a2 : A2) (a3 : A3) (a4 : A4) (a5 : A5) (a6 : A6) (a7 : A7) (a8 : A8) (a9 : A9), I a1 a2 a3 a4 a5 a6 a7 a8 a9 → (∀ (b1 : A1) (b2 : A2) (b3 : A3) (b4 : A4) (b5 : A5) (b6 : A6) (b7 : A7) (b8 : A8) (b9 : A9), I b1 b2 b3 b4 b5 b6 b7 b8 b9 → μ b1 b2 b3 b4 b5 b6 b7 b8 b9 < μ a1 a2 a3 a4 a5 a6 a7 a8 a9 → W n b1 b2 b3 b4 b5 b6 b7 b8 b9) → W (n + 1) a1 a2 a3 a4 a5 a6 a7 a8 a9) (a1 : A1) (a2 : A2) (a3 : A3) (a4 : A4) (a5 : A5) (a6 : A6) (a7 : A7) (a8 : A8) (a9 : A9) (h : I a1 a2 a3 a4 a5 a6 a7 a8 a9) : ∃ n, W n a1 a2 a3 a4 a5 a6 a7 a8 a9 :=
  loop_m (σ := A1 × A2 × A3 × A4 × A5 × A6 × A7 × A8 × A9) (fun n s => W n s.1 s.2.1 s.2.2.1 s.2.2.2.1 s.2.2.2.2.1 s.2.2.2.2.2.1 s.2.2.2.2.2.2.1 s.2.2.2.2.2.2.2.1 s.2.2.2.2.2.2.2.2) (fun s => I s.1 s.2.1 s.2.2.1 s.2.2.2.1 s.2.2.2.2.1 s.2.2.2.2.2.1 s.2.2.2.2.2.2.1 s.2.2.2.2.2.2.2.1 s.2.2.2.2.2.2.2.2) (fun s => μ s.1 s.2.1 s.2.2.1 s.2.2.2.1 s.2.2.2.2.1 s.2.2.2.2.2.1 s.2.2.2.2.2.2.1 s.2.2.2.2.2.2.2.1 s.2.2.2.2.2.2.2.2) (fun n s hI hk => hs n s.1 s.2.1 s.2.2.1 s.2.2.2.1 s.2.2.2.2.1 s.2.2.2.2.2.1 s.2.2.2.2.2.2.1 s.2.2.2.2.2.2.2.1 s.2.2.2.2.2.2.2.2 hI (fun b1 b2 b3 b4 b5 b6 b7 b8 b9 h9 hm => hk (b1, b2, b3, b4, b5, b6, b7, b8, b9) h9 hm)) (a1, a2, a3, a4, a5, a6, a7, a8, a9) h
theorem lp10 {A1 A2 A3 A4 A5 A6 A7 A8 A9 A10 : Type} (W : Nat → A1 → A2 → A3 → A4 → A5 → A6 → A7 → A8 → A9 → A10 → Prop) (I : A1 → A2 → A3 → A4 → A5 → A6 → A7 → A8 → A9 → A10 → Prop) (μ : A1 → A2 → A3 → A4 → A5 → A6 → A7 → A8 → A9 → A10 → Nat) (hs : ∀ (n : Nat) (a1 : A1) (a2 : A2) (a3 : A3) (a4 : A4) (a5 : A5) (a6 : A6) (a7 : A7) (a8 : A8) (a9 : A9) (a10 : A10), I a1 a2 a3 a4 a5 a6 a7 a8 a9 a10 → (∀ (b1 : A1) (b2 : A2) (b3 : A3) (b4 : A4) (b5 : A5) (b6 : A6) (b7 : A7) (b8 : A8) (b9 : A9) (b10 : A10), I b1 b2 b3 b4 b5 b6 b7 b8 b9 b10 → μ b1 b2 b3 b4 b5 b6 b7 b8 b9 b10 < μ a1 a2 a3 a4 a5 a6 a7 a8 a9 a10 → W n b1 b2 b3 b4 b5 b6 b7 b8 b9 b10) → W (n + 1) a1 a2 a3 a4 a5 a6 a7 a8 a9 a10) (a1 : A1) (a2 : A2) (a3 : A3) (a4 : A4) (a5 : A5) (a6 : A6) (a7 : A7) (a8 : A8) (a9 : A9) (a10 : A10) (h : I a1 a2 a3 a4 a5 a6 a7 a8 a9 a10) : ∃ n, W n a1 a2 a3 a4 a5 a6 a7 a8 a9 a10 :=
  loop_m (σ := A1 × A2 × A3 × A4 × A5 × A6 × A7 × A8 × A9 × A10) (fun n s => W n s.1 s.2.1 s.2.2.1 s.2.2.2.1 s.2.2.2.2.1 s.2.2.2.2.2.1 s.2.2.2.2.2.2.1 s.2.2.2.2.2.2.2.1 s.2.2.2.2.2.2.2.2.1 s.2.2.2.2.2.2.2.2.2) (fun s => I s.1 s.2.1 s.2.2.1 s.2.2.2.1 s.2.2.2.2.1 s.2.2.2.2.2.1 s.2.2.2.2.2.2.1 s.2.2.2.2.2.2.2.1 s.2.2.2.2.2.2.2.2.1 s.2.2.2.2.2.2.2.2.2) (fun s => μ s.1 s.2.1 s.2.2.1 s.2.2.2.1 s.2.2.2.2.1 s.2.2.2.2.2.1 s.2.2.2.2.2.2.1 s.2.2.2.2.2.2.2.1 s.2.2.2.2.2.2.2.2.1 s.2.2.2.2.2.2.2.2.2) (fun n s hI hk => hs n s.1 s.2.1 s.2.2.1 s.2.2.2.1 s.2.2.2.2.1 s.2.2.2.2.2.1 s.2.2.2.2.2.2.1 s.2.2.2.2.2.2.2.1 s.2.2.2.2.2.2.2.2.1 s.2.2.2.2.2.2.2.2.2 hI (fun b1 b2 b3 b4 b5 b6 b7 b8 b9 b10 h9 hm => hk (b1, b2, b3, b4, b5, b6, b7, b8, b9, b10) h9 hm)) (a1, a2, a3, a4, a5, a6, a7, a8, a9, a10) h
theorem lp11 {A1 A2 A3 A4 A5 A6 A7 A8 A9 A10 A11 : Type} (W : Nat → A1 → A2 → A3 → A4 → A5 → A6 → A7 → A8 → A9 → A10 → A11 → Prop) (I : A1 → A2 → A3 → A4 → A5 → A6 → A7 → A8 → A9 → A10 → A11 → Prop) (μ : A1 → A2 → A3 → A4 → A5 → A6 → A7 → A8 → A9 → A10 → A11 → Nat) (hs : ∀ (n : Nat) (a1 : A1) (a2 : A2) (a3 : A3) (a4 : A4) (a5 : A5) (a6 : A6) (a7 : A7) (a8 : A8) (a9 : A9) (a10 : A10) (a11 : A11), I a1 a2 a3 a4 a5 a6 a7 a8 a9 a10 a11 → (∀ (b1 : A1) (b2 : A2) (b3 : A3) (b4 : A4) (b5 : A5) (b6 : A6) (b7 : A7) (b8 : A8) (b9 : A9) (b10 : A10) (b11 : A11), I b1 b2 b3 b4 b5 b6 b7 b8 b9 b10 b11 → μ b1 b2 b3 b4 b5 b6 b7 b8 b9 b10 b11 < μ a1 a2 a3 a4 a5 a6 a7 a8 a9 a10 a11 → W n b1 b2 b3 b4 b5 b6 b7 b8 b9 b10 b11) → W (n + 1) a1 a2 a3 a4 a5 a6 a7 a8 a9 a10 a11) (a1 : A1) (a2 : A2) (a3 : A3) (a4 : A4) (a5 : A5) (a6 : A6) (a7 : A7) (a8 : A8) (a9 : A9) (a10 : A10) (a11 : A11) (h : I a1 a2 a3 a4 a5 a6 a7 a8 a9 a10 a11) : ∃ n, W n a1 a2 a3 a4 a5 a6 a7 a8 a9 a10 a11 :=
  loop_m (σ := A1 × A2 × A3 × A4 × A5 × A6 × A7 × A8 × A9 × A10 × A11) (fun n s => W n s.1 s.2.1 s.2.2.1 s.2.2.2.1 s.2.2.2.2.1 s.2.2.2.2.2.1 s.2.2.2.2.2.2.1 s.2.2.2.2.2.2.2.1 s.2.2.2.2.2.2.2.2.1 s.2.2.2.2.2.2.2.2.2.1 s.2.2.2.2.2.2.2.2.2.2) (fun s => I s.1 s.2.1 s.2.2.1 s.2.2.2.1 s.2.2.2.2.1 s.2.2.2.2.2.1 s.2.2.2.2.2.2.1 s.2.2.2.2.2.2.2.1 s.2.2.2.2.2.2.2.2.1 s.2.2.2.2.2.2.2.2.2.1 s.2.2.2.2.2.2.2.2.2.2) (fun s => μ s.1 s.2.1 s.2.2.1 s.2.2.2.1 s.2.2.2.2.1 s.2.2.2.2.2.1 s.2.2.2.2.2.2.1 s.2.2.2.2.2.2.2.1 s.2.2.2.2.2.2.2.2.1 s.2.2.2.2.2.2.2.2.2.1 s.2.2.2.2.2.2.2.2.2.2) (fun n s hI hk => hs n s.1 s.2.1 s.2.2.1 s.2.2.2.1 s.2.2.2.2.1 s.2.2.2.2.2.1 s.2.2.2.2.2.2.1 s.2.2.2.2.2.2.2.1 s.2.2.2.2.2.2.2.2.1 s.2.2.2.2.2.2.2.2.2.1 s.2.2.2.2.2.2.2.2.2.2 hI (fun b1 b2 b3 b4 b5 b6 b7 b8 b9 b10 b11 h9 hm => hk (b1, b2, b3, b4, b5, b6, b7, b8, b9, b10, b11) h9 hm)) (a1, a2, a3, a4, a5, a6, a7, a8, a9, a10, a11) h
theorem lp12 {A1 A2 A3 A4 A5 A6 A7 A8 A9 A10 A11 A12 : Type} (W : Nat → A1 → A2 → A3 → A4 → A5 → A6 → A7 → A8 → A9 → A10 → A11 → A12 → Prop) (I : A1 → A2 → A3 → A4 → A5 → A6 → A7 → A8 → A9 → A10 → A11 → A12 → Prop) (μ : A1 → A2 → A3 → A4 → A5 → A6 → A7 → A8 → A9 → A10 → A11 → A12 → Nat) (hs : ∀ (n : Nat) (a1 : A1) (a2 : A2) (a3 : A3) (a4 : A4) (a5 : A5) (a6 : A6) (a7 : A7) (a8 : A8) (a9 : A9) (a10 : A10) (a11 : A11) (a12 : A12), I a1 a2 a3 a4 a5 a6 a7 a8 a9 a10 a11 a12 → (∀ (b1 : A1) (b2 : A2) (b3 : A3) (b4 : A4) (b5 : A5) (b6 : A6) (b7 : A7) (b8 : A8) (b9 : A9) (b10 : A10) (b11 : A11) (b12 : A12), I b1 b2 b3 b4 b5 b6 b7 b8 b9 b10 b11 b12 → μ b1 b2 b3 b4 b5 b6 b7 b8 b9 b10 b11 b12 < μ a1 a2 a3 a4 a5 a6 a7 a8 a9 a10 a11 a12 → W n b1 b2 b3 b4 b5 b6 b7 b8 b9 b10 b11 b12) → W (n + 1) a1 a2 a3 a4 a5 a6 a7 a8 a9 a10 a11 a12) (a1 : A1) (a2 : A2) (a3 : A3) (a4 : A4) (a5 : A5) (a6 : A6) (a7 : A7) (a8 : A8) (a9 : A9) (a10 : A10) (a11 : A11) (a12 : A12) (h : I a1 a2 a3 a4 a5 a6 a7 a8 a9 a10 a11 a12) : ∃ n, W n a1 a2 a3 a4 a5 a6 a7 a8 a9 a10 a11 a12 :=
  loop_m (σ := A1 × A2 × A3 × A4 × A5 × A6 × A7 × A8 × A9 × A10 × A11 × A12) (fun n s => W n s.1 s.2.1 s.2.2.1 s.2.2.2.1 s.2.2.2.2.1 s.2.2.2.2.2.1 s.2.2.2.2.2.2.1 s.2.2.2.2.2.2.2.1 s.2.2.2.2.2.2.2.2.1 s.2.2.2.2.2.2.2.2.2.1 s.2.2.2.2.2.2.2.2.2.2.1 s.2.2.2.2.2.2.2.2.2.2.2) (fun s => I s.1 s.2.1 s.2.2.1 s.2.2.2.1 s.2.2.2.2.1 s.2.2.2.2.2.1 s.2.2.2.2.2.2.1 s.2.2.2.2.2.2.2.1 s.2.2.2.2.2.2.2.2.1 s.2.2.2.2.2.2.2.2.2.1 s.2.2.2.2.2.2.2.2.2.2.1 s.2.2.2.2.2.2.2.2.2.2.2) (fun s => μ s.1 s.2.1 s.2.2.1 s.2.2.2.1 s.2.2.2.2.1 s.2.2.2.2.2.1 s.2.2.2.2.2.2.1 s.2.2.2.2.2.2.2.1 s.2.2.2.2.2.2.2.2.1 s.2.2.2.2.2.2.2.2.2.1 s.2.2.2.2.2.2.2.2.2.2.1 s.2.2.2.2.2.2.2.2.2.2.2) (fun n s hI hk => hs n s.1 s.2.1 s.2.2.1 s.2.2.2.1 s.2.2.2.2.1 s.2.2.2.2.2.1 s.2.2.2.2.2.2.1 s.2.2.2.2.2.2.2.1 s.2.2.2.2.2.2.2.2.1 s.2.2.2.2.2.2.2.2.2.1 s.2.2.2.2.2.2.2.2.2.2.1 s.2.2.2.2.2.2.2.2.2.2.2 hI (fun b1 b2 b3 b4 b5 b6 b7 b8 b9 b10 b11 b12 h9 hm => hk (b1, b2, b3, b4, b5, b6, b7, b8, b9, b10, b11, b12) h9 hm)) (a1, a2, a3, a4, a5, a6, a7, a8, a9, a10, a11, a12) h
theorem lp13 {A1 A2 A3 A4 A5 A6 A7 A8 A9 A10 A11 A12 A13 : Type} (W : Nat → A1 → A2 → A3 → A4 → A5 → A6 → A7 → A8 → A9 → A10 → A11 → A12 → A13 → Prop) (I : A1 → A2 → A3 → A4 → A5 → A6 → A7 → A8 → A9 → A10 → A11 → A12 → A13 → Prop) (μ : A1 → A2 → A3 → A4 → A5 → A6 → A7 → A8 → A9 → A10 → A11 → A12 → A13 → Nat) (hs : ∀ (n : Nat) (a1 : A1) (a2 : A2) (a3 : A3) (a4 : A4) (a5 : A5) (a6 : A6) (a7 : A7) (a8 : A8) (a9 : A9) (a10 : A10) (a11 : A11) (a12 : A12) (a13 : A13), I a1 a2 a3 a4 a5 a6 a7 a8 a9 a10 a11 a12 a13 → (∀ (b1 : A1) (b2 : A2) (b3 : A3) (b4 : A4) (b5 : A5) (b6 : A6) (b7 : A7) (b8 : A8) (b9 : A9) (b10 : A10) (b11 : A11) (b12 : A12) (b13 : A13), I b1 b2 b3 b4 b5 b6 b7 b8 b9 b10 b11 b12 b13 → μ b1 b2 b3 b4 b5 b6 b7 b8 b9 b10 b11 b12 b13 < μ a1 a2 a3 a4 a5 a6 a7 a8 a9 a10 a11 a12 a13 → W n b1 b2 b3 b4 b5 b6 b7 b8 b9 b10 b11 b12 b13) → W (n + 1) a1 a2 a3 a4 a5 a6 a7 a8 a9 a10 a11 a12 a13) (a1 : A1) (a2 : A2) (a3 : A3) (a4 : A4) (a5 : A5) (a6 : A6) (a7 : A7) (a8 : A8) (a9 : A9) (a10 : A10) (a11 : A11) (a12 : A12) (a13 : A13) (h : I a1 a2 a3 a4 a5 a6 a7 a8 a9 a10 a11 a12 a13) : ∃ n, W n a1 a2 a3 a4 a5 a6 a7 a8 a9 a10 a11 a12 a13 :=
  loop_m (σ := A1 × A2 × A3 × A4 × A5 × A6 × A7 × A8 × A9 × A10 × A11 × A12 × A13) (fun n s => W n s.1 s.2.1 s.2.2.1 s.2.2.2.1 s.2.2.2.2.1 s.2.2.2.2.2.1 s.2.2.2.2.2.2.1 s.2.2.2.2.2.2.2.1 s.2.2.2.2.2.2.2.2.1 s.2.2.2.2.2.2.2.2.2.1 s.2.2.2.2.2.2.2.2.2.2.1 s.2.2.2.2.2.2.2.2.2.2.2.1 s.2.2.2.2.2.2.2.2.2.2.2.2) (fun s => I s.1 s.2.1 s.2.2.1 s.2.2.2.1 s.2.2.2.2.1 s.2.2.2.2.2.1 s.2.2.2.2.2.2.1 s.2.2.2.2.2.2.2.1 s.2.2.2.2.2.2.2.2.1 s.2.2.2.2.2.2.2.2.2.1 s.2.2.2.2.2.2.2.2.2.2.1 s.2.2.2.2.2.2.2.2.2.2.2.1 s.2.2.2.2.2.2.2.2.2.2.2.2) (fun s => μ s.1 s.2.1 s.2.2.1 s.2.2.2.1 s.2.2.2.2.1 s.2.2.2.2.2.1 s.2.2.2.2.2.2.1 s.2.2.2.2.2.2.2.1 s.2.2.2.2.2.2.2.2.1 s.2.2.2.2.2.2.2.2.2.1 s.2.2.2.2.2.2.2.2.2.2.1 s.2.2.2.2.2.2.2.2.2.2.2.1 s.2.2.2.2.2.2.2.2.2.2.2.2) (fun n s hI hk => hs n s.1 s.2.1 s.2.2.1 s.2.2.2.1 s.2.2.2.2.1 s.2.2.2.2.2.1 s.2.2.2.2.2.2.1 s.2.2.2.2.2.2.2.1 s.2.2.2.2.2.2.2.2.1 s.2.2.2.2.2.2.2.2.2.1 s.2.2.2.2.2.2.2.2.2.2.1 s.2.2.2.2.2.2.2.2.2.2.2.1 s.2.2.2.2.2.2.2.2.2.2.2.2 hI (fun b1 b2 b3 b4 b5 b6 b7 b8 b9 b10 b11 b12 b13 h9 hm => hk (b1, b2, b3, b4, b5, b6, b7, b8, b9, b10, b11, b12, b13) h9 hm)) (a1, a2, a3, a4, a5, a6, a7, a8, a9, a10, a11, a12, a13) h
theorem lp14 {A1 A2 A3 A4 A5 A6 A7 A8 A9 A10 A11 A12 A13 A14 : Type} (W : Nat → A1 → A2 → A3 → A4 → A5 → A6 → A7 → A8 → A9 → A10 → A11 → A12 → A13 → A14 → Prop) (I : A1 → A2 → A3 → A4 → A5 → A6 → A7 → A8 → A9 → A10 → A11 → A12 → A13 → A14 → Prop) (μ : A1 → A2 → A3 → A4 → A5 → A6 → A7 → A8 → A9 → A10 → A11 → A12 → A13 → A14 → Nat) (hs : ∀ (n : Nat) (a1 : A1) (a2 : A2) (a3 : A3) (a4 : A4) (a5 : A5) (a6 : A6) (a7 : A7) (a8 : A8) (a9 : A9) (a10 : A10) (a11 : A11) (a12 : A12) (a13 : A13) (a14 : A14), I a1 a2 a3 a4 a5 a6 a7 a8 a9 a10 a11 a12 a13 a14 → (∀ (b1 : A1) (b2 : A2) (b3 : A3) (b4 : A4) (b5 : A5) (b6 : A6) (b7 : A7) (b8 : A8) (b9 : A9) (b10 : A10) (b11 : A11) (b12 : A12) (b13 : A13) (b14 : A14), I b1 b2 b3 b4 b5 b6 b7 b8 b9 b10 b11 b12 b13 b14 → μ b1 b2 b3 b4 b5 b6 b7 b8 b9 b10 b11 b12 b13 b14 < μ a1 a2 a3 a4 a5 a6 a7 a8 a9 a10 a11 a12 a13 a14 → W n b1 b2 b3 b4 b5 b6 b7 b8 b9 b10 b11 b12 b13 b14) → W (n + 1) a1 a2 a3 a4 a5 a6 a7 a8 a9 a10 a11 a12 a13 a14) (a1 : A1) (a2 : A2) (a3 : A3) (a4 : A4) (a5 : A5) (a6 : A6) (a7 : A7) (a8 : A8) (a9 : A9) (a10 : A10) (a11 : A11) (a12 : A12) (a13 : A13) (a14 : A14) (h : I a1 a2 a3 a4 a5 a6 a7 a8 a9 a10 a11 a12 a13 a14) : ∃ n, W n a1 a2 a3 a4 a5 a6 a7 a8 a9 a10 a11 a12 a13 a14 :=
  loop_m (σ := A1 × A2 × A3 × A4 × A5 × A6 × A7 × A8 × A9 × A10 × A11 × A12 × A13 × A14) (fun n s => W n s.1 s.2.1 s.2.2.1 s.2.2.2.1 s.2.2.2.2.1 s.2.2.2.2.2.1 s.2.2.2.2.2.2.1 s.2.2.2.2.2.2.2.1 s.2.2.2.2.2.2.2.2.1 s.2.2.2.2.2.2.2.2.2.1 s.2.2.2.2.2.2.2.2.2.2.1 s.2.2.2.2.2.2.2.2.2.2.2.1 s.2.2.2.2.2.2.2.2.2.2.2.2.1 s.2.2.2.2.2.2.2.2.2.2.2.2.2) (fun s => I s.1 s.2.1 s.2.2.1 s.2.2.2.1 s.2.2.2.2.1 s.2.2.2.2.2.1 s.2.2.2.2.2.2.1 s.2.2.2.2.2.2.2.1 s.2.2.2.2.2.2.2.2.1 s.2.2.2.2.2.2.2.2.2.1 s.2.2.2.2.2.2.2.2.2.2.1 s.2.2.2.2.2.2.2.2.2.2.2.1 s.2.2.2.2.2.2.2.2.2.2.2.2.1 s.2.2.2.2.2.2.2.2.2.2.2.2.2) (fun s => μ s.1 s.2.1 s.2.2.1 s.2.2.2.1 s.2.2.2.2.1 s.2.2.2.2.2.1 s.2.2.2.2.2.2.1 s.2.2.2.2.2.2.2.1 s.2.2.2.2.2.2.2.2.1 s.2.2.2.2.2.2.2.2.2.1 s.2.2.2.2.2.2.2.2.2.2.1 s.2.2.2.2.2.2.2.2.2.2.2.1 s.2.2.2.2.2.2.2.2.2.2.2.2.1 s.2.2.2.2.2.2.2.2.2.2.2.2.2) (fun n s hI hk => hs n s.1 s.2.1 s.2.2.1 s.2.2.2.1 s.2.2.2.2.1 s.2.2.2.2.2.1 s.2.2.2.2.2.2.1 s.2.2.2.2.2.2.2.1 s.2.2.2.2.2.2.2.2.1 s.2.2.2.2.2.2.2.2.2.1 s.2.2.2.2.2.2.2.2.2.2.1 s.2.2.2.2.2.2.2.2.2.2.2.1 s.2.2.2.2.2.2.2.2.2.2.2.2.1 s.2.2.2.2.2.2.2.2.2.2.2.2.2 hI (fun b1 b2 b3 b4 b5 b6 b7 b8 b9 b10 b11 b12 b13 b14 h9 hm => hk (b1, b2, b3, b4, b5, b6, b7, b8, b9, b10, b11, b12, b13, b14) h9 hm)) (a1, a2, a3, a4, a5, a6, a7, a8, a9, a10, a11, a12, a13, a14) h
theorem lp15 {A1 A2 A3 A4 A5 A6 A7 A8 A9 A10 A11 A12 A13 A14 A15 : Type} (W : Nat → A1 → A2 → A3 → A4 → A5 → A6 → A7 → A8 → A9 → A10 → A11 → A12 → A13 → A14 → A15 → Prop) (I : A1 → A2 → A3 → A4 → A5 → A6 → A7 → A8 → A9 → A10 → A11 → A12 → A13 → A14 → A15 → Prop) (μ : A1 → A2 → A3 → A4 → A5 → A6 → A7 → A8 → A9 → A10 → A11 → A12 → A13 → A14 → A15 → Nat) (hs : ∀ (n : Nat) (a1 : A1) (a2 : A2) (a3 : A3) (a4 : A4) (a5 : A5) (a6 : A6) (a7 : A7) (a8 : A8) (a9 : A9) (a10 : A10) (a11 : A11) (a12 : A12) (a13 : A13) (a14 : A14) (a15 : A15), I a1 a2 a3 a4 a5 a6 a7 a8 a9 a10 a11 a12 a13 a14 a15 → (∀ (b1 : A1) (b2 : A2) (b3 : A3) (b4 : A4) (b5 : A5) (b6 : A6) (b7 : A7) (b8 : A8) (b9 : A9) (b10 : A10) (b11 : A11) (b12 : A12) (b13 : A13) (b14 : A14) (b15 : A15), I b1 b2 b3 b4 b5 b6 b7 b8 b9 b10 b11 b12 b13 b14 b15 → μ b1 b2 b3 b4 b5 b6 b7 b8 b9 b10 b11 b12 b13 b14 b15 < μ a1 a2 a3 a4 a5 a6 a7 a8 a9 a10 a11 a12 a13 a14 a15 → W n b1 b2 b3 b4 b5 b6 b7 b8 b9 b10 b11 b12 b13 b14 b15) → W (n + 1) a1 a2 a3 a4 a5 a6 a7 a8 a9 a10 a11 a12 a13 a14 a15) (a1 : A1) (a2 : A2) (a3 : A3) (a4 : A4) (a5 : A5) (a6 : A6) (a7 : A7) (a8 : A8) (a9 : A9) (a10 : A10) (a11 : A11) (a12 : A12) (a13 : A13) (a14 : A14) (a15 : A15) (h : I a1 a2 a3 a4 a5 a6 a7 a8 a9 a10 a11 a12 a13 a14 a15) : ∃ n, W n a1 a2 a3 a4 a5 a6 a7 a8 a9 a10 a11 a12 a13 a14 a15 :=
  loop_m (σ := A1 × A2 × A3 × A4 × A5 × A6 × A7 × A8 × A9 × A10 × A11 × A12 × A13 × A14 × A15) (fun n s => W n s.1 s.2.1 s.2.2.1 s.2.2.2.1 s.2.2.2.2.1 s.2.2.2.2.2.1 s.2.2.2.2.2.2.1 s.2.2.2.2.2.2.2.1 s.2.2.2.2.2.2.2.2.1 s.2.2.2.2.2.2.2.2.2.1 s.2.2.2.2.2.2.2.2.2.2.1 s.2.2.2.2.2.2.2.2.2.2.2.1 s.2.2.2.2.2.2.2.2.2.2.2.2.1 s.2.2.2.2.2.2.2.2.2.2.2.2.2.1 s.2.2.2.2.2.2.2.2.2.2.2.2.2.2) (fun s => I s.1 s.2.1 s.2.2.1 s.2.2.2.1 s.2.2.2.2.1 s.2.2.2.2.2.1 s.2.2.2.2.2.2.1 s.2.2.2.2.2.2.2.1 s.2.2.2.2.2.2.2.2.1 s.2.2.2.2.2.2.2.2.2.1 s.2.2.2.2.2.2.2.2.2.2.1 s.2.2.2.2.2.2.2.2.2.2.2.1 s.2.2.2.2.2.2.2.2.2.2.2.2.1 s.2.2.2.2.2.2.2.2.2.2.2.2.2.1 s.2.2.2.2.2.2.2.2.2.2.2.2.2.2) (fun s => μ s.1 s.2.1 s.2.2.1 s.2.2.2.1 s.2.2.2.2.1 s.2.2.2.2.2.1 s.2.2.2.2.2.2.1 s.2.2.2.2.2.2.2.1 s.2.2.2.2.2.2.2.2.1 s.2.2.2.2.2.2.2.2.2.1 s.2.2.2.2.2.2.2.2.2.2.1 s.2.2.2.2.2.2.2.2.2.2.2.1 s.2.2.2.2.2.2.2.2.2.2.2.2.1 s.2.2.2.2.2.2.2.2.2.2.2.2.2.1 s.2.2.2.2.2.2.2.2.2.2.2.2.2.2) (fun n s hI hk => hs n s.1 s.2.1 s.2.2.1 s.2.2.2.1 s.2.2.2.2.1 s.2.2.2.2.2.1 s.2.2.2.2.2.2.1 s.2.2.2.2.2.2.2.1 s.2.2.2.2.2.2.2.2.1 s.2.2.2.2.2.2.2.2.2.1 s.2.2.2.2.2.2.2.2.2.2.1 s.2.2.2.2.2.2.2.2.2.2.2.1 s.2.2.2.2.2.2.2.2.2.2.2.2.1 s.2.2.2.2.2.2.2.2.2.2.2.2.2.1 s.2.2.2.2.2.2.2.2.2.2.2.2.2.2 hI (fun b1 b2 b3 b4 b5 b6 b7 b8 b9 b10 b11 b12 b13 b14 b15 h9 hm => hk (b1, b2, b3, b4, b5, b6, b7, b8, b9, b10, b11, b12, b13, b14, b15) h9 hm)) (a1, a2, a3, a4, a5, a6, a7, a8, a9, a10, a11, a12, a13, a14, a15) h
theorem lp16 {A1 A2 A3 A4 A5 A6 A7 A8 A9 A10 A11 A12 A13 A14 A15 A16 : Type} (W : Nat → A1 → A2 → A3 → A4 → A5 → A6 → A7 → A8 → A9 → A10 → A11 → A12 → A13 → A14 → A15 → A16 → Prop) (I : A1 → A2 → A3 → A4 → A5 → A6 → A7 → A8 → A9 → A10 → A11 → A12 → A13 → A14 → A15 → A16 → Prop) (μ : A1 → A2 → A3 → A4 → A5 → A6 → A7 → A8 → A9 → A10 → A11 → A12 → A13 → A14 → A15 → A16 → Nat) (hs : ∀ (n : Nat) (a1 : A1) (a2 : A2) (a3 : A3) (a4 : A4) (a5 : A5) (a6 : A6) (a7 : A7) (a8 : A8) (a9 : A9) (a10 : A10) (a11 : A11) (a12 : A12) (a13 : A13) (a14 : A14) (a15 : A15) (a16 : A16), I a1 a2 a3 a4 a5 a6 a7 a8 a9 a10 a11 a12 a13 a14 a15 a16 → (∀ (b1 : A1) (b2 : A2) (b3 : A3) (b4 : A4) (b5 : A5) (b6 : A6) (b7 : A7) (b8 : A8) (b9 : A9) (b10 : A10) (b11 : A11) (b12 : A12) (b13 : A13) (b14 : A14) (b15 : A15) (b16 : A16), I b1 b2 b3 b4 b5 b6 b7 b8 b9 b10 b11 b12 b13 b14 b15 b16 → μ b1 b2 b3 b4 b5 b6 b7 b8 b9 b10 b11 b12 b13 b14 b15 b16 < μ a1 a2 a3 a4 a5 a6 a7 a8 a9 a10 a11 a12 a13 a14 a15 a16 → W n b1 b2 b3 b4 b5 b6 b7 b8 b9 b10 b11 b12 b13 b14 b15 b16) → W (n + 1) a1 a2 a3 a4 a5 a6 a7 a8 a9 a10 a11 a12 a13 a14 a15 a16) (a1 : A1) (a2 : A2) (a3 : A3) (a4 : A4) (a5 : A5) (a6 : A6) (a7 : A7) (a8 : A8) (a9 : A9) (a10 : A10) (a11 : A11) (a12 : A12) (a13 : A13) (a14 : A14) (a15 : A15) (a16 : A16) (h : I a1 a2 a3 a4 a5 a6 a7 a8 a9 a10 a11 a12 a13 a14 a15 a16) : ∃ n, W n a1 a2 a3 a4 a5 a6 a7 a8 a9 a10 a11 a12 a13 a14 a15 a16 :=
  loop_m (σ := A1 × A2 × A3 × A4 × A5 × A6 × A7 × A8 × A9 × A10 × A11 × A12 × A13 × A14 × A15 × A16) (fun n s => W n s.1 s.2.1 s.2.2.1 s.2.2.2.1 s.2.2.2.2.1 s.2.2.2.2.2.1 s.2.2.2.2.2.2.1 s.2.2.2.2.2.2.2.1 s.2.2.2.2.2.2.2.2.1 s.2.2.2.2.2.2.2.2.2.1 s.2.2.2.2.2.2.2.2.2.2.1 s.2.2.2.2.2.2.2.2.2.2.2.1 s.2.2.2.2.2.2.2.2.2.2.2.2.1 s.2.2.2.2.2.2.2.2.2.2.2.2.2.1 s.2.2.2.2.2.2.2.2.2.2.2.2.2.2.1 s.2.2.2.2.2.2.2.2.2.2.2.2.2.2.2) (fun s => I s.1 s.2.1 s.2.2.1 s.2.2.2.1 s.2.2.2.2.1 s.2.2.2.2.2.1 s.2.2.2.2.2.2.1 s.2.2.2.2.2.2.2.1 s.2.2.2.2.2.2.2.2.1 s.2.2.2.2.2.2.2.2.2.1 s.2.2.2.2.2.2.2.2.2.2.1 s.2.2.2.2.2.2.2.2.2.2.2.1 s.2.2.2.2.2.2.2.2.2.2.2.2.1 s.2.2.2.2.2.2.2.2.2.2.2.2.2.1 s.2.2.2.2.2.2.2.2.2.2.2.2.2.2.1 s.2.2.2.2.2.2.2.2.2.2.2.2.2.2.2) (fun s => μ s.1 s.2.1 s.2.2.1 s.2.2.2.1 s.2.2.2.2.1 s.2.2.2.2.2.1 s.2.2.2.2.2.2.1 s.2.2.2.2.2.2.2.1 s.2.2.2.2.2.2.2.2.1 s.2.2.2.2.2.2.2.2.2.1 s.2.2.2.2.2.2.2.2.2.2.1 s.2.2.2.2.2.2.2.2.2.2.2.1 s.2.2.2.2.2.2.2.2.2.2.2.2.1 s.2.2.2.2.2.2.2.2.2.2.2.2.2.1 s.2.2.2.2.2.2.2.2.2.2.2.2.2.2.1 s.2.2.2.2.2.2.2.2.2.2.2.2.2.2.2) (fun n s hI hk => hs n s.1 s.2.1 s.2.2.1 s.2.2.2.1 s.2.2.2.2.1 s.2.2.2.2.2.1 s.2.2.2.2.2.2.1 s.2.2.2.2.2.2.2.1 s.2.2.2.2.2.2.2.2.1 s.2.2.2.2.2.2.2.2.2.1 s.2.2.2.2.2.2.2.2.2.2.1 s.2.2.2.2.2.2.2.2.2.2.2.1 s.2.2.2.2.2.2.2.2.2.2.2.2.1 s.2.2.2.2.2.2.2.2.2.2.2.2.2.1 s.2.2.2.2.2.2.2.2.2.2.2.2.2.2.1 s.2.2.2.2.2.2.2.2.2.2.2.2.2.2.2 hI (fun b1 b2 b3 b4 b5 b6 b7 b8 b9 b10 b11 b12 b13 b14 b15 b16 h9 hm => hk (b1, b2, b3, b4, b5, b6, b7, b8, b9, b10, b11, b12, b13, b14, b15, b16) h9 hm)) (a1, a2, a3, a4, a5, a6, a7, a8, a9, a10, a11, a12, a13, a14, a15, a16) h
theorem pk_least (P : Nat → Prop) (h : ∃ k, P k) : ∃ k, P k ∧ ∀ j, j < k → ¬ P j := by
  obtain ⟨k, hk⟩ := h
  induction k using Nat.strongRecOn with
  | ind k ih =>
    by_cases e : ∃ j, j < k ∧ P j
    · obtain ⟨j, hj, pj⟩ := e
      exact ih j hj pj
    · exact ⟨k, hk, fun j hj pj => e ⟨j, hj, pj⟩⟩
theorem rp1 {ρ A1 : Type} (W : Nat → (ρ → Prop) → A1 → Prop) (ok : A1 → Prop) (μ : A1 → Nat) (val : A1 → ρ)
    (hs : ∀ (d : Nat) (post : ρ → Prop) (a1 : A1), ok a1 → post (val a1) → (∀ (post' : ρ → Prop) (b1 : A1), ok b1 → μ b1 < μ a1 → post' (val b1) → W d post' b1) → W (d + 1) post a1) :
    ∀ (d : Nat) (post : ρ → Prop) (a1 : A1), ok a1 → μ a1 < d → post (val a1) → W d post a1 := by
  intro d
  induction d with
  | zero => intro post a1 _ h; omega
  | succ d ih =>
    intro post a1 ho hm hp
    exact hs d post a1 ho hp (fun post' b1 ho' hm' hp' => ih post' b1 ho' (by omega) hp')
theorem rp2 {ρ A1 A2 : Type} (W : Nat → (ρ → Prop) → A1 → A2 → Prop) (ok : A1 → A2 → Prop) (μ : A1 → A2 → Nat) (val : A1 → A2 → ρ)
    (hs : ∀ (d : Nat) (post : ρ → Prop) (a1 : A1) (a2 : A2), ok a1 a2 → post (val a1 a2) → (∀ (post' : ρ → Prop) (b1 : A1) (b2 : A2), ok b1 b2 → μ b1 b2 < μ a1 a2 → post' (val b1 b2) → W d post' b1 b2) → W (d + 1) post a1 a2) :
    ∀ (d : Nat) (post : ρ → Prop) (a1 : A1) (a2 : A2), ok a1 a2 → μ a1 a2 < d → post (val a1 a2) → W d post a1 a2 := by
  intro d
  induction d with
  | zero => intro post a1 a2 _ h; omega
  | succ d ih =>
    intro post a1 a2 ho hm hp
    exact hs d post a1 a2 ho hp (fun post' b1 b2 ho' hm' hp' => ih post' b1 b2 ho' (by omega) hp')
theorem rp3 {ρ A1 A2 A3 : Type} (W : Nat → (ρ → Prop) → A1 → A2 → A3 → Prop) (ok : A1 → A2 → A3 → Prop) (μ : A1 → A2 → A3 → Nat) (val : A1 → A2 → A3 → ρ)
    (hs : ∀ (d : Nat) (post : ρ → Prop) (a1 : A1) (a2 : A2) (a3 : A3), ok a1 a2 a3 → post (val a1 a2 a3) → (∀ (post' : ρ → Prop) (b1 : A1) (b2 : A2) (b3 : A3), ok b1 b2 b3 → μ b1 b2 b3 < μ a1 a2 a3 → post' (val b1 b2 b3) → W d post' b1 b2 b3) → W (d + 1) post a1 a2 a3) :
    ∀ (d : Nat) (post : ρ → Prop) (a1 : A1) (a2 : A2) (a3 : A3), ok a1 a2 a3 → μ a1 a2 a3 < d → post (val a1 a2 a3) → W d post a1 a2 a3 := by
  intro d
  induction d with
  | zero => intro post a1 a2 a3 _ h; omega
  | succ d ih =>
    intro post a1 a2 a3 ho hm hp
    exact hs d post a1 a2 a3 ho hp (fun post' b1 b2 b3 ho' hm' hp' => ih post' b1 b2 b3 ho' (by omega) hp')
theorem rp4 {ρ A1 A2 A3 A4 : Type} (W : Nat → (ρ → Prop) → A1 → A2 → A3 → A4 → Prop) (ok : A1 → A2 → A3 → A4 → Prop) (μ : A1 → A2 → A3 → A4 → Nat) (val : A1 → A2 → A3 → A4 → ρ)
    (hs : ∀ (d : Nat) (post : ρ → Prop) (a1 : A1) (a2 : A2) (a3 : A3) (a4 : A4), ok a1 a2 a3 a4 → post (val a1 a2 a3 a4) → (∀ (post' : ρ → Prop) (b1 : A1) (b2 : A2) (b3 : A3) (b4 : A4), ok b1 b2 b3 b4 → μ b1 b2 b3 b4 < μ a1 a2 a3 a4 → post' (val b1 b2 b3 b4) → W d post' b1 b2 b3 b4) → W (d + 1) post a1 a2 a3 a4) :
    ∀ (d : Nat) (post : ρ → Prop) (a1 : A1) (a2 : A2) (a3 : A3) (a4 : A4), ok a1 a2 a3 a4 → μ a1 a2 a3 a4 < d → post (val a1 a2 a3 a4) → W d post a1 a2 a3 a4 := by
  intro d
  induction d with
  | zero => intro post a1 a2 a3 a4 _ h; omega
  | succ d ih =>
    intro post a1 a2 a3 a4 ho hm hp
    exact hs d post a1 a2 a3 a4 ho hp (fun post' b1 b2 b3 b4 ho' hm' hp' => ih post' b1 b2 b3 b4 ho' (by omega) hp')
theorem rp5 {ρ A1 A2 A3 A4 A5 : Type} (W : Nat → (ρ → Prop) → A1 → A2 → A3 → A4 → A5 → Prop) (ok : A1 → A2 → A3 → A4 → A5 → Prop) (μ : A1 → A2 → A3 → A4 → A5 → Nat) (val : A1 → A2 → A3 → A4 → A5 → ρ)
    (hs : ∀ (d : Nat) (post : ρ → Prop) (a1 : A1) (a2 : A2) (a3 : A3) (a4 : A4) (a5 : A5), ok a1 a2 a3 a4 a5 → post (val a1 a2 a3 a4 a5) → (∀ (post' : ρ → Prop) (b1 : A1) (b2 : A2) (b3 : A3) (b4 : A4) (b5 : A5), ok b1 b2 b3 b4 b5 → μ b1 b2 b3 b4 b5 < μ a1 a2 a3 a4 a5 → post' (val b1 b2 b3 b4 b5) → W d post' b1 b2 b3 b4 b5) → W (d + 1) post a1 a2 a3 a4 a5) :
    ∀ (d : Nat) (post : ρ → Prop) (a1 : A1) (a2 : A2) (a3 : A3) (a4 : A4) (a5 : A5), ok a1 a2 a3 a4 a5 → μ a1 a2 a3 a4 a5 < d → post (val a1 a2 a3 a4 a5) → W d post a1 a2 a3 a4 a5 := by
  intro d
  induction d with
  | zero => intro post a1 a2 a3 a4 a5 _ h; omega
  | succ d ih =>
    intro post a1 a2 a3 a4 a5 ho hm hp
    exact hs d post a1 a2 a3 a4 a5 ho hp (fun post' b1 b2 b3 b4 b5 ho' hm' hp' => ih post' b1 b2 b3 b4 b5 ho' (by omega) hp')
theorem rp6 {ρ A1 A2 A3 A4 A5 A6 : Type} (W : Nat → (ρ → Prop) → A1 → A2 → A3 → A4 → A5 → A6 → Prop) (ok : A1 → A2 → A3 → A4 → A5 → A6 → Prop) (μ : A1 → A2 → A3 → A4 → A5 → A6 → Nat) (val : A1 → A2 → A3 → A4 → A5 → A6 → ρ)
    (hs : ∀ (d : Nat) (post : ρ → Prop) (a1 : A1) (a2 : A2) (a3 : A3) (a4 : A4) (a5 : A5) (a6 : A6), ok a1 a2 a3 a4 a5 a6 → post (val a1 a2 a3 a4 a5 a6) → (∀ (post' : ρ → Prop) (b1 : A1) (b2 : A2) (b3 : A3) (b4 : A4) (b5 : A5) (b6 : A6), ok b1 b2 b3 b4 b5 b6 → μ b1 b2 b3 b4 b5 b6 < μ a1 a2 a3 a4 a5 a6 → post' (val b1 b2 b3 b4 b5 b6) → W d post' b1 b2 b3 b4 b5 b6) → W (d + 1) post a1 a2 a3 a4 a5 a6) :
    ∀ (d : Nat) (post : ρ → Prop) (a1 : A1) (a2 : A2) (a3 : A3) (a4 : A4) (a5 : A5) (a6 : A6), ok a1 a2 a3 a4 a5 a6 → μ a1 a2 a3 a4 a5 a6 < d → post (val a1 a2 a3 a4 a5 a6) → W d post a1 a2 a3 a4 a5 a6 := by
  intro d
  induction d with
  | zero => intro post a1 a2 a3 a4 a5 a6 _ h; omega
  | succ d ih =>
    intro post a1 a2 a3 a4 a5 a6 ho hm hp
    exact hs d post a1 a2 a3 a4 a5 a6 ho hp (fun post' b1 b2 b3 b4 b5 b6 ho' hm' hp' => ih post' b1 b2 b3 b4 b5 b6 ho' (by omega) hp')
theorem rec_p {σ ρ : Type} (W : Nat → (ρ → Prop) → σ → Prop) (ok : σ → Prop) (μ : σ → Nat) (val : σ → ρ)
    (hs : ∀ d s post, ok s → post (val s) → (∀ s' post', ok s' → μ s' < μ s → post' (val s') → W d post' s') → W (d + 1) post s) :
    ∀ d s post, ok s → μ s < d → post (val s) → W d post s := by
  intro d
  induction d with
  | zero => intro s post _ h; omega
  | succ d ih =>
    intro s post ho hm hp
    exact hs d s post ho hp (fun s' post' ho' hm' hp' => ih s' post' ho' (by omega) hp')
theorem rec_q {σ ρ : Type} (W : Nat → (ρ → Prop) → σ → Prop) (ok : σ → Prop) (μ : σ → Nat) (Q : σ → ρ → Prop)
    (hs : ∀ d s post, ok s → (∀ r, Q s r → post r) → (∀ s' post', ok s' → μ s' < μ s → (∀ r, Q s' r → post' r) → W d post' s') → W (d + 1) post s) :
    ∀ d s post, ok s → μ s < d → (∀ r, Q s r → post r) → W d post s := by
  intro d
  induction d with
  | zero => intro s post _ h; omega
  | succ d ih =>
    intro s post ho hm hp
    exact hs d s post ho hp (fun s' post' ho' hm' hp' => ih s' post' ho' (by omega) hp')
def bx_sum (f : Nat → Int32) : Nat → Int32
  | 0 => 0
  | n + 1 => bx_sum f n + f n
theorem ek_u {A : Prop} {B : Nat → Prop} {k N : Nat} (hk : k < N) (h : B k) : (some k = none → A) ∧ (∀ y : Nat, some k = some y → (y < N ∧ B y)) :=
  ⟨fun z => absurd z (Option.some_ne_none k), fun _ e => (by cases e; exact ⟨hk, h⟩)⟩
theorem ek_nu {A : Prop} {B : Nat → Prop} (h : A) : ((none : Option Nat) = none → A) ∧ (∀ y : Nat, (none : Option Nat) = some y → B y) :=
  ⟨fun _ => h, fun _ e => (by cases e)⟩
theorem ek_if {c d A B : Prop} (e : c ↔ d) (f : d → A) (g : ¬ d → B) : (c → A) ∧ (¬ c → B) :=
  ⟨fun z => f (e.mp z), fun z => g (fun y => z (e.mpr y))⟩
theorem ek_v {α : Sort _} {P : α → Prop} {a b : α} (e : a = b) (h : P b) : P a := e ▸ h
theorem co_some {x : Option Nat} {A : Prop} {B : Nat → Prop} (i : Nat) (h : B i) (hx : x = some i := by rfl) : (x = none → A) ∧ (∀ y : Nat, x = some y → B y) := by
  subst hx
  exact ⟨fun e => (nomatch e), fun y e => Option.some.inj e ▸ h⟩
theorem co_none {x : Option Nat} {A : Prop} {B : Nat → Prop} (h : A) (hx : x = none := by rfl) : (x = none → A) ∧ (∀ y : Nat, x = some y → B y) := by
  subst hx
  exact ⟨fun _ => h, fun y e => (nomatch e)⟩
theorem co_any {x : Option Nat} {A : Prop} {B : Nat → Prop} (hn : x = none → A) (hs : ∀ i : Nat, x = some i → B i) : (x = none → A) ∧ (∀ y : Nat, x = some y → B y) := ⟨hn, hs⟩
theorem co_2 {P : Nat → Prop} (h0 : P 0) (h1 : P 1) {i : Nat} (hi : i < 2) : P i :=
  match i, hi with
  | 0, _ => h0
  | 1, _ => h1
theorem co_3 {P : Nat → Prop} (h0 : P 0) (h1 : P 1) (h2 : P 2) {i : Nat} (hi : i < 3) : P i :=
  match i, hi with
  | 0, _ => h0
  | 1, _ => h1
  | 2, _ => h2
theorem co_4 {P : Nat → Prop} (h0 : P 0) (h1 : P 1) (h2 : P 2) (h3 : P 3) {i : Nat} (hi : i < 4) : P i :=
  match i, hi with
  | 0, _ => h0
  | 1, _ => h1
  | 2, _ => h2
  | 3, _ => h3
theorem co_dec {N : Nat} {P : Nat → Prop} [DecidablePred P] (h : (List.range N).all (fun i => decide (P i)) = true) {i : Nat} (hi : i < N) : P i := by
  have := List.all_eq_true.mp h i (List.mem_range.mpr hi)
  exact of_decide_eq_true this
theorem co_tab {α : Type} {l : List α} {d : α} {P : α → Prop} (h : ∀ a, a ∈ l → P a) {i : Nat} (hi : i < l.length) : P (l.getD i d) := by
  rw [List.getD_eq_getElem?_getD, List.getElem?_eq_getElem hi]
  exact h _ (List.getElem_mem hi)
theorem pk_mu {x : Int32} {L : Nat} (h0 : ¬ x < 0) (h : ¬ nI L ≤ x) (hL : L < 2 ^ 31) : ∃ j : Nat, j < L ∧ x = nI j ∧ x + 1 = nI (j + 1) ∧ x.toNatClampNeg = j ∧ L - (x + 1).toNatClampNeg < L - x.toNatClampNeg := by
  obtain ⟨j, hj, rfl⟩ := nI_of h0
  have hl : j < L := Nat.not_le.mp fun q => h (nI_le q hj)
  refine ⟨j, hl, rfl, nI_1 j, nI_clamp hj, ?_⟩
  rw [nI_1, nI_clamp (by omega), nI_clamp hj]
  omega
theorem op_s {α : Type} {r : Option α} {A : Prop} {B : α → Prop} {y : α} (h : r = some y) (b : B y) : (r = none → A) ∧ ∀ z, r = some z → B z :=
  ⟨fun e => (by rw [h] at e; cases e), fun z e => (by rw [h] at e; cases e; exact b)⟩
def l_holds {α : Type} (a : Nat → Option Nat) (LP : List Nat) (p : Nat → α) (c : Nat) (b : Nat → α) : Prop :=
  ∀ j, j < c → ∃ y, a j = some y ∧ y ∈ LP ∧ p y = b j
theorem l_holds_0 {α : Type} {a : Nat → Option Nat} {LP : List Nat} {p b : Nat → α} : l_holds a LP p 0 b := fun j h => absurd h (Nat.not_lt_zero j)
theorem l_in_new (LP : List Nat) (q : Nat) : q ∈ LP ++ [q] := List.mem_append.mpr (Or.inr (List.mem_singleton.mpr rfl))
def l_sum (b : Nat → Int32) : Nat → Int32
  | 0 => 0
  | k + 1 => l_sum b k + b k
theorem sb_shr0 (x : Int32) : x >>> ((0 : Int32) &&& 31) = x := by
  rw [show ((0 : Int32) &&& 31) = 0 by decide]
  simp
theorem sb_shl0 (x : Int32) : x <<< ((0 : Int32) &&& 31) = x := by
  rw [show ((0 : Int32) &&& 31) = 0 by decide]
  simp
theorem sb_cl0 : (0 : Int32).toNatClampNeg = 0 := by decide
theorem sb_m1 {p : Nat} (h : 0 < p) : nI p + (-1) = nI (p - 1) := by
  obtain ⟨q, rfl⟩ : ∃ q, p = q + 1 := ⟨p - 1, by omega⟩
  exact pk_m1 q
def sb_b (c : Nat) : Int32 := (nI c).toInt8.toInt32
theorem sb_byte : ∀ c, c < 256 → sb_b c &&& 255 = nI c ∧ ((nI c).toUInt32 % 65536).toInt32 = nI c ∧ nI c ≤ 255 := by decide +kernel
def sb_Fit (a : Nat → Int32) : Prop := ∀ j, fits .byte (.int (a j)) = true
def sb_Lat (t : Nat → Nat) (n : Nat) (a : Nat → Int32) : Prop := ∀ j, j < n → t j < 256 ∧ a j = sb_b (t j)
theorem sb_fitB (c : Nat) : fits .byte (.int (sb_b c)) = true := pk_fb _
theorem sb_fit0 : sb_Fit (fun _ => 0) := fun _ => by
  show fits .byte (.int 0) = true
  decide
theorem sb_fitU {a : Nat → Int32} {k : Nat} {x : Int32} (h : sb_Fit a) (hx : fits .byte (.int x) = true) : sb_Fit (upd a k x) := by
  intro j
  by_cases e : j = k
  · subst e
    rw [pk_us]
    exact hx
  · rw [pk_un e]
    exact h j
def sb_cat (t : Nat → Nat) (n : Nat) (s : Nat → Nat) : Nat → Nat := fun j => if j < n then t j else s (j - n)
theorem sb_cat_lo {t s : Nat → Nat} {n j : Nat} (h : j < n) : sb_cat t n s j = t j := if_pos h
theorem sb_cat_hi {t s : Nat → Nat} {n j : Nat} : sb_cat t n s (n + j) = s j := by
  show (if n + j < n then t (n + j) else s (n + j - n)) = s j
  rw [if_neg (by omega), Nat.add_sub_cancel_left]
theorem sb_latPut {t s : Nat → Nat} {n w : Nat} {a a' : Nat → Int32} (h : sb_Lat t n a) (hk : ∀ j, j < n → a' j = a j) (hs : ∀ i, i < w → s i < 256 ∧ a' (n + i) = sb_b (s i)) : sb_Lat (sb_cat t n s) (n + w) a' := by
  intro j hj
  by_cases e : j < n
  · rw [sb_cat_lo e, hk j e]
    exact h j e
  · obtain ⟨i, rfl⟩ : ∃ i, j = n + i := ⟨j - n, by omega⟩
    rw [sb_cat_hi]
    exact hs i (by omega)
theorem sb_latKeep {t : Nat → Nat} {n : Nat} {a a' : Nat → Int32} (h : sb_Lat t n a) (hk : ∀ j, j < n → a' j = a j) : sb_Lat t n a' := fun j hj => by
  rw [hk j hj]
  exact h j hj
def sb_cap (q m : Nat) : Nat := if q ≤ m then m else if 2 * m + 2 < q then q else 2 * m + 2
def sb_Room (q m mc ms : Nat) : Prop := q ≤ m ∨ (1 ≤ mc ∧ sb_cap q m ≤ ms ∧ sb_cap q m ≤ 65536)
theorem sb_cap_ge (q m : Nat) : q ≤ sb_cap q m := by
  unfold sb_cap
  split
  · omega
  · split <;> omega
theorem sb_cap_gem (q m : Nat) : m ≤ sb_cap q m := by
  unfold sb_cap
  split
  · omega
  · split <;> omega
theorem sb_cap_le {q m mc ms : Nat} (hm : m ≤ 65536) (hr : sb_Room q m mc ms) : sb_cap q m ≤ 65536 := by
  rcases hr with h | h
  · rw [sb_cap, if_pos h]
    exact hm
  · exact h.2.2
theorem sb_at {P : Int32 → Prop} {x y : Int32} (e : x = y) (h : P y) : P x := e ▸ h
def sb_dg (w : Nat) : Nat := if w < 10 then 1 else if w < 100 then 2 else if w < 1000 then 3 else if w < 10000 then 4 else if w < 100000 then 5 else if w < 1000000 then 6 else if w < 10000000 then 7 else if w < 100000000 then 8 else if w < 1000000000 then 9 else 10
def sb_dec (v : Nat) : Nat → Nat := fun i => 48 + v / 10 ^ (sb_dg v - 1 - i) % 10
theorem sb_dg_in (w : Nat) : 1 ≤ sb_dg w ∧ sb_dg w ≤ 10 := by
  unfold sb_dg
  constructor <;> (repeat' split) <;> omega
theorem sb_dg100 {w : Nat} (h : 100 ≤ w) (hw : w < 2 ^ 31) : sb_dg w = sb_dg (w / 100) + 2 := by
  rw [sb_dg, sb_dg, if_neg (show ¬ w < 10 by omega), if_neg (show ¬ w < 100 by omega)]
  by_cases h3 : w < 1000
  · rw [if_pos h3, if_pos (show w / 100 < 10 by omega)]
  rw [if_neg h3, if_neg (show ¬ w / 100 < 10 by omega)]
  by_cases h4 : w < 10000
  · rw [if_pos h4, if_pos (show w / 100 < 100 by omega)]
  rw [if_neg h4, if_neg (show ¬ w / 100 < 100 by omega)]
  by_cases h5 : w < 100000
  · rw [if_pos h5, if_pos (show w / 100 < 1000 by omega)]
  rw [if_neg h5, if_neg (show ¬ w / 100 < 1000 by omega)]
  by_cases h6 : w < 1000000
  · rw [if_pos h6, if_pos (show w / 100 < 10000 by omega)]
  rw [if_neg h6, if_neg (show ¬ w / 100 < 10000 by omega)]
  by_cases h7 : w < 10000000
  · rw [if_pos h7, if_pos (show w / 100 < 100000 by omega)]
  rw [if_neg h7, if_neg (show ¬ w / 100 < 100000 by omega)]
  by_cases h8 : w < 100000000
  · rw [if_pos h8, if_pos (show w / 100 < 1000000 by omega)]
  rw [if_neg h8, if_neg (show ¬ w / 100 < 1000000 by omega)]
  by_cases h9 : w < 1000000000
  · rw [if_pos h9, if_pos (show w / 100 < 10000000 by omega)]
  rw [if_neg h9, if_neg (show ¬ w / 100 < 10000000 by omega)]
  rw [if_pos (show w / 100 < 100000000 by omega)]
theorem sb_negT {w : Nat} (h : w < 2 ^ 31) : (-nI w).toInt = -(w : Int) := by
  rw [Int32.toInt_neg, nI_toInt h]
  exact Int.bmod_eq_of_le (by omega) (by omega)
theorem sb_nle {a b : Nat} (ha : a < 2 ^ 31) (hb : b < 2 ^ 31) : -nI a ≤ -nI b ↔ b ≤ a := by
  rw [Int32.le_iff_toInt_le, sb_negT ha, sb_negT hb]
  omega
theorem sb_nlt {a b : Nat} (ha : a < 2 ^ 31) (hb : b < 2 ^ 31) : -nI a < -nI b ↔ b < a := by
  rw [Int32.lt_iff_toInt_lt, sb_negT ha, sb_negT hb]
  omega
theorem sb_cmp {A B : Prop} {x : Int32} (v c : Nat) (f : c ≤ v → A) (g : v < c → B) (hv : v < 2 ^ 31) (hx : x = -nI c := by rfl) (hc : c < 2 ^ 31 := by omega) : (-nI v ≤ x → A) ∧ (¬ -nI v ≤ x → B) := by
  subst hx
  rw [sb_nle hv hc]
  exact ⟨f, fun z => g (by omega)⟩
theorem sb_ndiv {w : Nat} (hw : w < 2 ^ 31) : (-nI w) / 100 = -nI (w / 100) := by
  apply Int32.toInt_inj.mp
  have h100 : (100 : Int32).toInt = 100 := by decide
  rw [Int32.toInt_div, sb_negT hw, h100, sb_negT (by omega), Int.neg_tdiv, Int.tdiv_eq_ediv_of_nonneg (by omega), Int.bmod_eq_of_le (by omega) (by omega)]
  omega
theorem sb_nrem {w : Nat} (hw : w < 2 ^ 31) : (-nI (w / 100)) * 100 - (-nI w) = nI (w % 100) := by
  have h := pk_rem (a := w) (d := 100) hw (by decide) (by decide)
  rw [pk_div hw (by decide) (by decide)] at h
  rw [← h]
  show (-nI (w / 100)) * nI 100 - (-nI w) = nI w - nI (w / 100) * nI 100
  rw [Int32.neg_mul, Int32.sub_neg, Int32.add_comm, ← Int32.sub_eq_add_neg]
end
section
/-! finite sums of integers -/
def zz_s : Nat → (Nat → Int) → Int
  | 0, _ => 0
  | n + 1, f => zz_s n f + f n
theorem zz_0 (f : Nat → Int) : zz_s 0 f = 0 := rfl
theorem zz_1 (n : Nat) (f : Nat → Int) : zz_s (n + 1) f = zz_s n f + f n := rfl
theorem zz_congr {n : Nat} {f g : Nat → Int} (h : ∀ i, i < n → f i = g i) : zz_s n f = zz_s n g := by
  induction n with
  | zero => rfl
  | succ n ih => rw [zz_1, zz_1, ih (fun i hi => h i (by omega)), h n (by omega)]
theorem zz_add (n : Nat) (f g : Nat → Int) : zz_s n (fun i => f i + g i) = zz_s n f + zz_s n g := by
  induction n with
  | zero => rfl
  | succ n ih => rw [zz_1, zz_1, zz_1, ih]; omega
theorem zz_sub (n : Nat) (f g : Nat → Int) : zz_s n (fun i => f i - g i) = zz_s n f - zz_s n g := by
  induction n with
  | zero => rfl
  | succ n ih => rw [zz_1, zz_1, zz_1, ih]; omega
theorem zz_neg (n : Nat) (f : Nat → Int) : zz_s n (fun i => - f i) = - zz_s n f := by
  induction n with
  | zero => rfl
  | succ n ih => rw [zz_1, zz_1, ih]; omega
theorem zz_mul (n : Nat) (c : Int) (f : Nat → Int) : zz_s n (fun i => c * f i) = c * zz_s n f := by
  induction n with
  | zero => exact (Int.mul_zero c).symm
  | succ n ih => rw [zz_1, zz_1, ih, Int.mul_add]
theorem zz_z0 (n : Nat) : zz_s n (fun _ => 0) = 0 := by
  induction n with
  | zero => rfl
  | succ n ih => rw [zz_1, ih]; rfl
theorem zz_c0 {n : Nat} {f : Nat → Int} (h : ∀ i, i < n → f i = 0) : zz_s n f = 0 := (zz_congr h).trans (zz_z0 n)
theorem zz_le {n : Nat} {f g : Nat → Int} (h : ∀ i, i < n → f i ≤ g i) : zz_s n f ≤ zz_s n g := by
  induction n with
  | zero => exact Int.le_refl _
  | succ n ih =>
    rw [zz_1, zz_1]
    have h1 := ih (fun i hi => h i (by omega))
    have h2 := h n (by omega)
    omega
theorem zz_nn {n : Nat} {f : Nat → Int} (h : ∀ i, i < n → 0 ≤ f i) : 0 ≤ zz_s n f := by
  have h1 := zz_le h
  rw [zz_z0] at h1
  exact h1
theorem zz_mem {n : Nat} {f : Nat → Int} (h : ∀ i, i < n → 0 ≤ f i) : ∀ k, k < n → f k ≤ zz_s n f := by
  induction n with
  | zero => intro k hk; omega
  | succ n ih =>
    intro k hk
    rw [zz_1]
    have hn := h n (by omega)
    have hs : 0 ≤ zz_s n f := zz_nn (fun i hi => h i (by omega))
    by_cases e : k = n
    · subst e; omega
    · have := ih (fun i hi => h i (by omega)) k (by omega)
      omega
theorem zz_eqs {n : Nat} {f g : Nat → Int} (h : ∀ i, i < n → f i ≤ g i) (hs : zz_s n g ≤ zz_s n f) : ∀ i, i < n → f i = g i := by
  intro i hi
  have h1 : g i - f i ≤ zz_s n (fun i => g i - f i) := zz_mem (f := fun i => g i - f i) (fun j hj => by have := h j hj; show 0 ≤ g j - f j; omega) i hi
  rw [zz_sub] at h1
  have := h i hi
  omega
theorem zz_swap (n m : Nat) (f : Nat → Nat → Int) : zz_s n (fun i => zz_s m (fun j => f i j)) = zz_s m (fun j => zz_s n (fun i => f i j)) := by
  induction n with
  | zero => exact (zz_z0 m).symm
  | succ n ih => rw [zz_1, ih, ← zz_add]; rfl
theorem zz_pick {n : Nat} {f : Nat → Int} {k : Nat} (hk : k < n) (h : ∀ i, i < n → i ≠ k → f i = 0) : zz_s n f = f k := by
  induction n with
  | zero => omega
  | succ n ih =>
    rw [zz_1]
    by_cases e : k = n
    · subst e
      rw [zz_c0 (fun i hi => h i (by omega) (by omega))]; omega
    · rw [ih (by omega) (fun i hi => h i (by omega)), h n (by omega) (by omega)]; omega
theorem zz_ite {n k : Nat} (x : Int) (hk : k < n) : zz_s n (fun i => if i = k then x else 0) = x := by
  rw [zz_pick hk (fun i _ hne => if_neg hne)]
  exact if_pos rfl
theorem zz_anti {n : Nat} {f : Nat → Nat → Int} (h : ∀ u v, u < n → v < n → f u v = - f v u) : zz_s n (fun u => zz_s n (fun v => f u v)) = 0 := by
  have e := zz_swap n n f
  have e2 : zz_s n (fun u => zz_s n (fun v => f u v)) = - zz_s n (fun u => zz_s n (fun v => f v u)) := by
    rw [← zz_neg]
    exact zz_congr (fun u hu => by rw [← zz_neg]; exact zz_congr (fun v hv => h u v hu hv))
  omega
theorem zz_split (a b : Nat) (f : Nat → Int) : zz_s (a + b) f = zz_s a f + zz_s b (fun i => f (a + i)) := by
  induction b with
  | zero => rw [zz_0, Nat.add_zero]; omega
  | succ b ih => rw [← Nat.add_assoc, zz_1, zz_1, ih]; omega
theorem zz_blk (n k : Nat) (f : Nat → Int) : zz_s (k * n) f = zz_s n (fun a => zz_s k (fun b => f (k * a + b))) := by
  induction n with
  | zero => rfl
  | succ n ih => rw [Nat.mul_succ, zz_split, ih, zz_1]
/-! cuts: what goes from outside into the set where x is 1 -/
def ct_01 (n : Nat) (x : Nat → Int) : Prop := ∀ i, i < n → x i = 0 ∨ x i = 1
def ct_c (n : Nat) (x : Nat → Int) (W : Nat → Nat → Int) : Int := zz_s n (fun v => zz_s n (fun u => x v * (1 - x u) * W u v))
theorem ct_congr {n : Nat} {x y : Nat → Int} {W V : Nat → Nat → Int} (hx : ∀ i, i < n → x i = y i) (h : ∀ u v, u < n → v < n → W u v = V u v) : ct_c n x W = ct_c n y V := by
  refine zz_congr (fun v hv => zz_congr (fun u hu => ?_))
  show x v * (1 - x u) * W u v = y v * (1 - y u) * V u v
  rw [hx v hv, hx u hu, h u v hu hv]
theorem ct_div {n : Nat} {x : Nat → Int} {m : Nat → Nat → Int} (hm : ∀ u v, u < n → v < n → m u v = - m v u) : zz_s n (fun v => x v * zz_s n (fun u => m u v)) = ct_c n x m := by
  have h1 : zz_s n (fun v => x v * zz_s n (fun u => m u v)) = zz_s n (fun v => zz_s n (fun u => x v * (1 - x u) * m u v) + zz_s n (fun u => x v * x u * m u v)) := by
    refine zz_congr (fun v hv => ?_)
    rw [← zz_mul, ← zz_add]
    refine zz_congr (fun u hu => ?_)
    show x v * m u v = x v * (1 - x u) * m u v + x v * x u * m u v
    rw [← Int.add_mul, ← Int.mul_add]
    have : (1 - x u + x u) = 1 := by omega
    rw [this, Int.mul_one]
  have h2 : zz_s n (fun v => zz_s n (fun u => x v * x u * m u v)) = 0 := by
    refine zz_anti (f := fun v u => x v * x u * m u v) (fun u v hu hv => ?_)
    show x u * x v * m v u = - (x v * x u * m u v)
    rw [hm v u hv hu, Int.mul_neg, Int.mul_comm (x u) (x v)]
  rw [h1, zz_add, h2, ct_c]; omega
theorem ct_sub (n : Nat) (x : Nat → Int) (W V : Nat → Nat → Int) : ct_c n x (fun u v => W u v - V u v) = ct_c n x W - ct_c n x V := by
  rw [ct_c, ct_c, ct_c, ← zz_sub]
  refine zz_congr (fun v hv => ?_)
  rw [← zz_sub]
  refine zz_congr (fun u hu => ?_)
  exact Int.mul_sub _ _ _
theorem ct_add (n : Nat) (x : Nat → Int) (W V : Nat → Nat → Int) : ct_c n x (fun u v => W u v + V u v) = ct_c n x W + ct_c n x V := by
  rw [ct_c, ct_c, ct_c, ← zz_add]
  refine zz_congr (fun v hv => ?_)
  rw [← zz_add]
  refine zz_congr (fun u hu => ?_)
  exact Int.mul_add _ _ _
theorem ct_mono {n : Nat} {x : Nat → Int} {W V : Nat → Nat → Int} (hx : ct_01 n x) (h : ∀ u v, u < n → v < n → x u = 0 → x v = 1 → W u v ≤ V u v) : ct_c n x W ≤ ct_c n x V := by
  refine zz_le (fun v hv => zz_le (fun u hu => ?_))
  show x v * (1 - x u) * W u v ≤ x v * (1 - x u) * V u v
  rcases hx v hv with e | e
  · rw [e]; simp
  · rcases hx u hu with f | f
    · rw [e, f]; have := h u v hu hv f e; simpa using this
    · rw [e, f]; simp
theorem ct_z {n : Nat} {x : Nat → Int} {W : Nat → Nat → Int} (hx : ct_01 n x) (h : ∀ u v, u < n → v < n → x u = 0 → x v = 1 → W u v = 0) : ct_c n x W = 0 := by
  have e : ct_c n x (fun _ _ => 0) = 0 := zz_c0 (fun v _ => zz_c0 (fun u _ => Int.mul_zero _))
  have h1 : ct_c n x W ≤ ct_c n x (fun _ _ => 0) := ct_mono hx (fun u v hu hv a b => Int.le_of_eq (h u v hu hv a b))
  have h2 : ct_c n x (fun _ _ => 0) ≤ ct_c n x W := ct_mono hx (fun u v hu hv a b => Int.le_of_eq (h u v hu hv a b).symm)
  omega
theorem ct_nn {n : Nat} {x : Nat → Int} {W : Nat → Nat → Int} (hx : ct_01 n x) (h : ∀ u v, u < n → v < n → 0 ≤ W u v) : 0 ≤ ct_c n x W := by
  have e : ct_c n x (fun _ _ => 0) = 0 := zz_c0 (fun v _ => zz_c0 (fun u _ => Int.mul_zero _))
  have h2 : ct_c n x (fun _ _ => 0) ≤ ct_c n x W := ct_mono hx (fun u v hu hv a b => h u v hu hv)
  omega
/-! what sending q from s to t leaves -/
def sd_P (W V : Nat → Nat → Int) (s t : Nat) (q : Int) : Prop :=
  (∀ u v, u < 9 → v < 9 → 0 ≤ V u v) ∧ (∀ u v, u < 9 → v < 9 → V u v + V v u = W u v + W v u) ∧
  (∀ x, x < 9 → zz_s 9 (fun u => W u x - V u x) = (if x = t then q else 0) - (if x = s then q else 0))
theorem sd_refl {W : Nat → Nat → Int} {s t : Nat} (h : ∀ u v, u < 9 → v < 9 → 0 ≤ W u v) : sd_P W W s t 0 := by
  refine ⟨h, fun u v _ _ => rfl, fun x _ => ?_⟩
  rw [zz_c0 (fun i _ => Int.sub_self _)]
  split <;> split <;> rfl
theorem sd_trans {W V U : Nat → Nat → Int} {s t : Nat} {q q' : Int} (h : sd_P W V s t q) (h' : sd_P V U s t q') : sd_P W U s t (q + q') := by
  refine ⟨h'.1, fun u v hu hv => (h'.2.1 u v hu hv).trans (h.2.1 u v hu hv), fun x hx => ?_⟩
  have e1 := h.2.2 x hx
  have e2 := h'.2.2 x hx
  rw [zz_sub] at e1 e2 ⊢
  by_cases a : x = t <;> by_cases b : x = s <;> simp only [a, b, if_true, if_false] at e1 e2 ⊢ <;> omega
theorem sd_cut {W V : Nat → Nat → Int} {s t : Nat} {q : Int} {x : Nat → Int} (h : sd_P W V s t q) (hs : s < 9) (ht : t < 9) (xs : x s = 0) (xt : x t = 1) : ct_c 9 x W = ct_c 9 x V + q := by
  have h1 := ct_div (n := 9) (x := x) (m := fun u v => W u v - V u v) (fun u v hu hv => by have := h.2.1 u v hu hv; show W u v - V u v = - (W v u - V v u); omega)
  rw [ct_sub] at h1
  have h2 : zz_s 9 (fun v => x v * zz_s 9 (fun u => W u v - V u v)) = q := by
    have e : zz_s 9 (fun v => x v * zz_s 9 (fun u => W u v - V u v)) = zz_s 9 (fun v => (if v = t then q else 0) - (if v = s then 0 else 0)) := by
      refine zz_congr (fun v hv => ?_)
      show x v * zz_s 9 (fun u => W u v - V u v) = _
      rw [h.2.2 v hv]
      by_cases a : v = t
      · by_cases b : v = s
        · rw [← a, b, xs] at xt; omega
        · subst a; rw [xt, if_pos rfl, if_neg b, if_neg b]; omega
      · by_cases b : v = s
        · subst b; rw [xs, if_neg a]; simp
        · rw [if_neg a, if_neg b, if_neg b]; simp
    rw [e, zz_sub, zz_ite q ht, zz_ite 0 hs]; omega
  have h3 : zz_s 9 (fun v => x v * zz_s 9 (fun u => (fun u v => W u v - V u v) u v)) = q := h2
  omega
end
section
/-! chains of parents, and what a unit sent along one changes -/
theorem ph_pig : ∀ (n : Nat) (f : Nat → Nat), (∀ i, i ≤ n → f i < n) → ∃ i j, i < j ∧ j ≤ n ∧ f i = f j := by
  intro n
  induction n with
  | zero => intro f h; have := h 0 (Nat.le_refl 0); omega
  | succ n ih =>
    intro f h
    by_cases hx : ∃ i, i ≤ n ∧ f i = f (n + 1)
    · obtain ⟨i, hi, e⟩ := hx
      exact ⟨i, n + 1, by omega, Nat.le_refl _, e⟩
    · have hne : ∀ i, i ≤ n → f i ≠ f (n + 1) := fun i hi e => hx ⟨i, hi, e⟩
      have hl := h (n + 1) (Nat.le_refl _)
      obtain ⟨i, j, hij, hj, e⟩ := ih (fun i => if f i = n then f (n + 1) else f i) (fun i hi => by
        have h1 := h i (by omega)
        have h2 := hne i hi
        show (if f i = n then f (n + 1) else f i) < n
        split <;> omega)
      refine ⟨i, j, hij, by omega, ?_⟩
      have h1 := hne i (by omega)
      have h2 := hne j (by omega)
      have e' : (if f i = n then f (n + 1) else f i) = (if f j = n then f (n + 1) else f j) := e
      by_cases a : f i = n <;> by_cases b : f j = n
      · omega
      · rw [if_pos a, if_neg b] at e'; omega
      · rw [if_neg a, if_pos b] at e'; omega
      · rw [if_neg a, if_neg b] at e'; exact e'
def ph_it (p : Nat → Nat) (x : Nat) : Nat → Nat
  | 0 => x
  | k + 1 => p (ph_it p x k)
theorem ph_up {N : Nat} {p : Nat → Nat} {ok rt : Nat → Prop} {R : Nat → Nat → Prop} (tr : ∀ a b c, R a b → R b c → R a c)
    (h : ∀ x, x < N → ok x → rt x ∨ (p x < N ∧ ok (p x) ∧ R (p x) x)) {x : Nat} (hx : x < N) (ho : ok x) (M : Nat) (hr : ∀ k, k < M → ¬ rt (ph_it p x k)) :
    ∀ j, j ≤ M → (ph_it p x j < N ∧ ok (ph_it p x j)) ∧ ∀ i, i < j → R (ph_it p x j) (ph_it p x i) := by
  intro j
  induction j with
  | zero => intro _; exact ⟨⟨hx, ho⟩, fun i hi => absurd hi (by omega)⟩
  | succ j ih =>
    intro hj
    obtain ⟨⟨h1, h2⟩, h3⟩ := ih (by omega)
    rcases h _ h1 h2 with a | ⟨a, b, c⟩
    · exact absurd a (hr j (by omega))
    · refine ⟨⟨a, b⟩, fun i hi => ?_⟩
      by_cases e : i = j
      · subst e; exact c
      · exact tr _ _ _ c (h3 i (by omega))
theorem ph_root {N : Nat} {p : Nat → Nat} {ok rt : Nat → Prop} {R : Nat → Nat → Prop} (tr : ∀ a b c, R a b → R b c → R a c) (ir : ∀ a, ¬ R a a)
    (h : ∀ x, x < N → ok x → rt x ∨ (p x < N ∧ ok (p x) ∧ R (p x) x)) {x : Nat} (hx : x < N) (ho : ok x) :
    ∃ K, K < N ∧ rt (ph_it p x K) ∧ (∀ k, k < K → ¬ rt (ph_it p x k)) ∧ (∀ k, k ≤ K → ph_it p x k < N ∧ ok (ph_it p x k)) ∧ (∀ i j, i < j → j ≤ K → ph_it p x i ≠ ph_it p x j) := by
  by_cases hK : ∃ k, k < N ∧ rt (ph_it p x k)
  · obtain ⟨K, ⟨hK1, hK2⟩, hK3⟩ := pk_least _ hK
    have hr : ∀ k, k < K → ¬ rt (ph_it p x k) := fun k hk a => hK3 k hk ⟨by omega, a⟩
    have hu := ph_up tr h hx ho K hr
    refine ⟨K, hK1, hK2, hr, fun k hk => (hu k hk).1, fun i j hij hj e => ?_⟩
    have := (hu j hj).2 i hij
    rw [e] at this
    exact ir _ this
  · have hr : ∀ k, k < N → ¬ rt (ph_it p x k) := fun k hk a => hK ⟨k, hk, a⟩
    have hu := ph_up tr h hx ho N hr
    obtain ⟨i, j, hij, hj, e⟩ := ph_pig N (ph_it p x) (fun i hi => (hu i hi).1.1)
    have := (hu j hj).2 i hij
    rw [e] at this
    exact absurd this (ir _)
def ph_e (u v a b : Nat) : Int := if u = a ∧ v = b then 1 else 0
theorem ph_e_s (u v a b : Nat) : ph_e u v a b = ph_e v u b a := by
  unfold ph_e
  by_cases h : u = a ∧ v = b
  · rw [if_pos h, if_pos ⟨h.2, h.1⟩]
  · rw [if_neg h, if_neg (fun z => h ⟨z.2, z.1⟩)]
theorem ph_e_01 (u v a b : Nat) : (ph_e u v a b = 1 ∧ u = a ∧ v = b) ∨ ph_e u v a b = 0 := by
  unfold ph_e
  by_cases h : u = a ∧ v = b
  · rw [if_pos h]; exact Or.inl ⟨rfl, h⟩
  · rw [if_neg h]; exact Or.inr rfl
theorem ph_e_1 (a b : Nat) : ph_e a b a b = 1 := if_pos ⟨rfl, rfl⟩
def ph_g (c : Nat → Nat) : Nat → Nat → Nat → Int
  | 0, _, _ => 0
  | k + 1, u, v => ph_g c k u v + ph_e u v (c (k + 1)) (c k) - ph_e u v (c k) (c (k + 1))
theorem ph_g_1 (c : Nat → Nat) (k u v : Nat) : ph_g c (k + 1) u v = ph_g c k u v + ph_e u v (c (k + 1)) (c k) - ph_e u v (c k) (c (k + 1)) := rfl
theorem ph_g_anti (c : Nat → Nat) (k u v : Nat) : ph_g c k u v = - ph_g c k v u := by
  induction k with
  | zero => rfl
  | succ k ih =>
    rw [ph_g_1, ph_g_1, ih, ph_e_s u v (c (k + 1)) (c k), ph_e_s u v (c k) (c (k + 1))]; omega
theorem ph_g_pos {c : Nat → Nat} {u v : Nat} : ∀ {k : Nat}, 0 < ph_g c k u v → ∃ j, j < k ∧ u = c (j + 1) ∧ v = c j := by
  intro k
  induction k with
  | zero => intro h; exact absurd h (by show ¬ (0 : Int) < 0; omega)
  | succ k ih =>
    intro h
    rw [ph_g_1] at h
    rcases ph_e_01 u v (c (k + 1)) (c k) with ⟨_, a, b⟩ | a
    · exact ⟨k, by omega, a, b⟩
    · have h2 : 0 ≤ ph_e u v (c k) (c (k + 1)) := by rcases ph_e_01 u v (c k) (c (k + 1)) with ⟨z, _⟩ | z <;> omega
      obtain ⟨j, hj, e⟩ := ih (by omega)
      exact ⟨j, by omega, e⟩
theorem ph_g_next {c : Nat → Nat} {k : Nat} (hd : ∀ i j, i < j → j ≤ k + 1 → c i ≠ c j) : ph_g c k (c (k + 1)) (c k) = 0 := by
  have h1 : ¬ 0 < ph_g c k (c (k + 1)) (c k) := fun h => by
    obtain ⟨j, hj, e, _⟩ := ph_g_pos h
    exact hd (j + 1) (k + 1) (by omega) (Nat.le_refl _) e.symm
  have h2 : ¬ 0 < ph_g c k (c k) (c (k + 1)) := fun h => by
    obtain ⟨j, hj, _, e⟩ := ph_g_pos h
    exact hd j (k + 1) (by omega) (Nat.le_refl _) e.symm
  have := ph_g_anti c k (c (k + 1)) (c k)
  omega
theorem ph_g_le {c : Nat → Nat} {u v : Nat} : ∀ {k : Nat}, (∀ i j, i < j → j ≤ k → c i ≠ c j) → ph_g c k u v ≤ 1 := by
  intro k
  induction k with
  | zero => intro _; show (0 : Int) ≤ 1; omega
  | succ k ih =>
    intro hd
    have h1 := ih (fun i j hij hj => hd i j hij (by omega))
    rw [ph_g_1]
    have h2 : 0 ≤ ph_e u v (c k) (c (k + 1)) := by rcases ph_e_01 u v (c k) (c (k + 1)) with ⟨z, _⟩ | z <;> omega
    rcases ph_e_01 u v (c (k + 1)) (c k) with ⟨e, a, b⟩ | a
    · have := ph_g_next hd
      rw [← a, ← b] at this
      omega
    · omega
theorem ph_g_ge {c : Nat → Nat} {u v : Nat} {k : Nat} (hd : ∀ i j, i < j → j ≤ k → c i ≠ c j) : -1 ≤ ph_g c k u v := by
  have h1 := ph_g_le (u := v) (v := u) hd
  have h2 := ph_g_anti c k u v
  omega
theorem ph_e_sum {N a : Nat} (x b : Nat) (ha : a < N) : zz_s N (fun u => ph_e u x a b) = if x = b then 1 else 0 := by
  by_cases h : x = b
  · rw [if_pos h, ← zz_ite (n := N) (k := a) 1 ha]
    refine zz_congr (fun i _ => ?_)
    show ph_e i x a b = if i = a then 1 else 0
    unfold ph_e
    by_cases e : i = a
    · rw [if_pos e, if_pos ⟨e, h⟩]
    · rw [if_neg e, if_neg (fun z => e z.1)]
  · rw [if_neg h]
    exact zz_c0 (fun i _ => if_neg (fun z => h z.2))
theorem ph_g_div {N : Nat} {c : Nat → Nat} {x : Nat} : ∀ {k : Nat}, (∀ i, i ≤ k → c i < N) → zz_s N (fun u => ph_g c k u x) = (if x = c 0 then 1 else 0) - (if x = c k then 1 else 0) := by
  intro k
  induction k with
  | zero => intro _; rw [zz_c0 (f := fun u => ph_g c 0 u x) (fun i _ => rfl)]; omega
  | succ k ih =>
    intro hc
    have e : zz_s N (fun u => ph_g c (k + 1) u x) = zz_s N (fun u => (ph_g c k u x + ph_e u x (c (k + 1)) (c k)) - ph_e u x (c k) (c (k + 1))) := rfl
    rw [e, zz_sub, zz_add, ih (fun i hi => hc i (by omega)), ph_e_sum x (c k) (hc (k + 1) (Nat.le_refl _)), ph_e_sum x (c (k + 1)) (hc k (by omega))]
    omega
/-- a way of K steps: c 0 its end, c K its beginning -/
def ph_W (N : Nat) (c : Nat → Nat) (K : Nat) : Prop := K < N ∧ (∀ k, k ≤ K → c k < N) ∧ (∀ i j, i < j → j ≤ K → c i ≠ c j)
theorem ph_send {W V : Nat → Nat → Int} {c : Nat → Nat} {K : Nat} {a : Int} (hW : ph_W 9 c K) (h0 : 0 ≤ a) (hn : ∀ u v, u < 9 → v < 9 → 0 ≤ W u v)
    (ha : ∀ k, k < K → a ≤ W (c (k + 1)) (c k)) (hV : ∀ u v, u < 9 → v < 9 → V u v = W u v - a * ph_g c K u v) : sd_P W V (c K) (c 0) a := by
  refine ⟨fun u v hu hv => ?_, fun u v hu hv => ?_, fun x hx => ?_⟩
  · rw [hV u v hu hv]
    have h1 := ph_g_le (u := u) (v := v) hW.2.2
    have h2 := ph_g_ge (u := u) (v := v) hW.2.2
    have h3 := hn u v hu hv
    by_cases h : 0 < ph_g c K u v
    · obtain ⟨j, hj, e1, e2⟩ := ph_g_pos h
      have h4 := ha j hj
      rw [← e1, ← e2] at h4
      have : ph_g c K u v = 1 := by omega
      rw [this]; omega
    · have h5 : ph_g c K u v = 0 ∨ ph_g c K u v = -1 := by omega
      rcases h5 with e | e <;> rw [e] <;> omega
  · rw [hV u v hu hv, hV v u hv hu, ph_g_anti c K u v, Int.mul_neg]; omega
  · have e : zz_s 9 (fun u => W u x - V u x) = zz_s 9 (fun u => a * ph_g c K u x) := zz_congr (fun u hu => by
      show W u x - V u x = a * ph_g c K u x
      rw [hV u x hu hx]; omega)
    rw [e, zz_mul, ph_g_div hW.2.1]
    by_cases h1 : x = c 0
    · by_cases h2 : x = c K
      · rw [if_pos h1, if_pos h2, if_pos h1, if_pos h2]; omega
      · rw [if_pos h1, if_neg h2, if_pos h1, if_neg h2]; omega
    · by_cases h2 : x = c K
      · rw [if_neg h1, if_pos h2, if_neg h1, if_pos h2]; omega
      · rw [if_neg h1, if_neg h2, if_neg h1, if_neg h2]; omega
end
section
/-! rounds of relaxing edges: d the distances, p the parents (-1: none) -/
def bf_T (N : Nat) (E : Nat → Nat → Prop) (w : Nat → Nat → Int) (src : Nat → Prop) (inf : Int) (φ : Nat → Int) (d p : Nat → Int) (rk τ : Nat → Nat) : Prop :=
  ∀ x, x < N → (p x = -1 ∧ ((src x ∧ d x = 0 ∧ τ x = 0) ∨ d x = inf)) ∨
    (∃ u : Nat, u < N ∧ p x = (u : Int) ∧ E u x ∧ d u < inf ∧ d x < inf ∧ d u + w u x ≤ d x ∧ (d u - φ u < d x - φ x ∨ (d u - φ u = d x - φ x ∧ rk u < rk x)) ∧ τ x ≤ τ u + 1)
def bf_V (N : Nat) (E : Nat → Nat → Prop) (w : Nat → Nat → Int) (inf : Int) (ix : Nat → Nat → Nat) (r c : Nat) (d : Nat → Int) (τ : Nat → Nat) : Prop :=
  ∀ u v, u < N → v < N → E u v → d u < inf → d u + w u v < d v → (r ≤ τ u + 1 ∧ (ix u v < c → r ≤ τ u))
def bf_B (N : Nat) (src : Nat → Prop) (inf : Int) (b : Nat) (d : Nat → Int) : Prop :=
  ∀ x, x < N → (d x < inf → -(b : Int) ≤ d x ∧ d x ≤ b) ∧ (src x → d x ≤ 0) ∧ d x ≤ inf
def bf_I (N : Nat) (E : Nat → Nat → Prop) (w : Nat → Nat → Int) (src : Nat → Prop) (inf : Int) (φ : Nat → Int) (ix : Nat → Nat → Nat) (r c b : Nat) (d p : Nat → Int) : Prop :=
  ∃ rk τ : Nat → Nat, bf_T N E w src inf φ d p rk τ ∧ (∀ x, x < N → τ x ≤ r) ∧ bf_B N src inf b d ∧ bf_V N E w inf ix r c d τ
section
variable {N : Nat} {E : Nat → Nat → Prop} {w : Nat → Nat → Int} {src : Nat → Prop} {inf : Int} {φ : Nat → Int} {ix : Nat → Nat → Nat} {r c b : Nat} {d p : Nat → Int}
theorem bf_init (hi : 0 < inf) (hd : ∀ x, x < N → (src x ∧ d x = 0) ∨ (¬ src x ∧ d x = inf)) (hp : ∀ x, x < N → p x = -1) : bf_I N E w src inf φ ix 1 0 0 d p := by
  refine ⟨fun _ => 0, fun _ => 0, fun x hx => Or.inl ⟨hp x hx, ?_⟩, fun x _ => Nat.zero_le _, fun x hx => ?_, fun u v _ _ _ _ _ => ⟨Nat.le_refl _, fun z => absurd z (Nat.not_lt_zero _)⟩⟩
  · rcases hd x hx with ⟨a, e⟩ | ⟨_, e⟩
    · exact Or.inl ⟨a, e, rfl⟩
    · exact Or.inr e
  · rcases hd x hx with ⟨a, e⟩ | ⟨a, e⟩
    · rw [e]; exact ⟨fun _ => ⟨by omega, by omega⟩, fun _ => by omega, by omega⟩
    · rw [e]; exact ⟨fun z => absurd z (by omega), fun z => absurd z a, by omega⟩
theorem bf_skip (hix : ∀ u v x y, u < N → v < N → x < N → y < N → ix u v = ix x y → u = x ∧ v = y) (h : bf_I N E w src inf φ ix r c b d p) {u v : Nat} (hu : u < N) (hv : v < N) (hc : ix u v = c)
    (hn : ¬ (E u v ∧ d u < inf ∧ d u + w u v < d v)) : bf_I N E w src inf φ ix r (c + 1) (b + 1) d p := by
  obtain ⟨rk, τ, h1, h2, h3, h4⟩ := h
  refine ⟨rk, τ, h1, h2, fun x hx => ⟨fun z => ?_, (h3 x hx).2⟩, fun x y hx hy a1 a2 a3 => ?_⟩
  · have := (h3 x hx).1 z; omega
  · refine ⟨(h4 x y hx hy a1 a2 a3).1, fun z => ?_⟩
    by_cases e : ix x y = c
    · obtain ⟨e1, e2⟩ := hix x y u v hx hy hu hv (e.trans hc.symm)
      subst e1; subst e2
      exact absurd ⟨a1, a2, a3⟩ hn
    · exact (h4 x y hx hy a1 a2 a3).2 (by omega)
theorem bf_relax (hix : ∀ u v x y, u < N → v < N → x < N → y < N → ix u v = ix x y → u = x ∧ v = y) (hw : ∀ u v, u < N → v < N → -1 ≤ w u v ∧ w u v ≤ 1) (hne : ∀ u, u < N → ¬ E u u)
    (hφ : ∀ u v, u < N → v < N → E u v → φ v - φ u ≤ w u v) (h : bf_I N E w src inf φ ix r c b d p) {u v : Nat} (hu : u < N) (hv : v < N) (hc : ix u v = c) (hb : (b : Int) + 1 < inf)
    (he : E u v) (hd : d u < inf) (hl : d u + w u v < d v) {d' p' : Nat → Int} (hd' : ∀ x, x < N → d' x = if x = v then d u + w u v else d x) (hp' : ∀ x, x < N → p' x = if x = v then (u : Int) else p x) :
    bf_I N E w src inf φ ix r (c + 1) (b + 1) d' p' := by
  obtain ⟨rk, τ, h1, h2, h3, h4⟩ := h
  have huv : u ≠ v := fun e => hne u hu (by rw [← e] at he; exact he)
  have ev : d' v = d u + w u v := (hd' v hv).trans (if_pos rfl)
  have en : ∀ x, x < N → x ≠ v → d' x = d x := fun x hx n => (hd' x hx).trans (if_neg n)
  have pv : p' v = (u : Int) := (hp' v hv).trans (if_pos rfl)
  have pn : ∀ x, x < N → x ≠ v → p' x = p x := fun x hx n => (hp' x hx).trans (if_neg n)
  have hb1 := (h3 u hu).1 hd
  have hw1 := hw u v hu hv
  have hlt : d u + w u v < inf := by omega
  have hf := hφ u v hu hv he
  refine ⟨fun x => if x = v then rk u + 1 else rk x, fun x => if x = v then r else τ x, fun x hx => ?_, fun x hx => ?_, fun x hx => ?_, fun x y hx hy a1 a2 a3 => ?_⟩
  · by_cases xv : x = v
    · subst xv
      refine Or.inr ⟨u, hu, pv, he, ?_, ?_, ?_, ?_, ?_⟩
      · rw [en u hu huv]; exact hd
      · rw [ev]; exact hlt
      · rw [ev, en u hu huv]; omega
      · show d' u - φ u < d' x - φ x ∨ (d' u - φ u = d' x - φ x ∧ (if u = x then rk u + 1 else rk u) < (if x = x then rk u + 1 else rk x))
        rw [ev, en u hu huv, if_neg huv, if_pos rfl]
        omega
      · show (if x = x then r else τ x) ≤ (if u = x then r else τ u) + 1
        rw [if_pos rfl, if_neg huv]
        exact (h4 u x hu hv he hd hl).1
    · rcases h1 x hx with ⟨a, a2⟩ | ⟨q, q1, q2, q3, q4, q5, q6, q7, q8⟩
      · refine Or.inl ⟨(pn x hx xv).trans a, ?_⟩
        show (src x ∧ d' x = 0 ∧ (if x = v then r else τ x) = 0) ∨ d' x = inf
        rw [en x hx xv, if_neg xv]; exact a2
      · refine Or.inr ⟨q, q1, (pn x hx xv).trans q2, q3, ?_⟩
        show d' q < inf ∧ d' x < inf ∧ d' q + w q x ≤ d' x ∧ (d' q - φ q < d' x - φ x ∨ (d' q - φ q = d' x - φ x ∧ (if q = v then rk u + 1 else rk q) < (if x = v then rk u + 1 else rk x))) ∧ (if x = v then r else τ x) ≤ (if q = v then r else τ q) + 1
        rw [en x hx xv, if_neg xv, if_neg xv]
        by_cases qv : q = v
        · subst qv
          rw [ev, if_pos rfl, if_pos rfl]
          have := h2 x hx
          exact ⟨hlt, q5, by omega, Or.inl (by omega), by omega⟩
        · rw [en q q1 qv, if_neg qv, if_neg qv]
          exact ⟨q4, q5, q6, q7, q8⟩
  · show (if x = v then r else τ x) ≤ r
    have := h2 x hx
    split <;> omega
  · by_cases xv : x = v
    · subst xv
      rw [ev]
      exact ⟨fun _ => by omega, fun s => by have := (h3 x hx).2.1 s; omega, by omega⟩
    · rw [en x hx xv]
      refine ⟨fun z => ?_, (h3 x hx).2⟩
      have := (h3 x hx).1 z; omega
  · show r ≤ (if x = v then r else τ x) + 1 ∧ (ix x y < c + 1 → r ≤ (if x = v then r else τ x))
    by_cases xv : x = v
    · rw [if_pos xv]; exact ⟨by omega, fun _ => Nat.le_refl _⟩
    · rw [if_neg xv]
      rw [en x hx xv] at a2 a3
      by_cases yv : y = v
      · rw [yv, ev] at a3
        have a4 : d x + w x y < d y := by rw [yv]; omega
        refine ⟨(h4 x y hx hy a1 a2 a4).1, fun z => ?_⟩
        by_cases e : ix x y = c
        · obtain ⟨e1, e2⟩ := hix x y u v hx hy hu hv (e.trans hc.symm)
          rw [e1] at a3; omega
        · exact (h4 x y hx hy a1 a2 a4).2 (by omega)
      · rw [en y hy yv] at a3
        refine ⟨(h4 x y hx hy a1 a2 a3).1, fun z => ?_⟩
        by_cases e : ix x y = c
        · obtain ⟨e1, e2⟩ := hix x y u v hx hy hu hv (e.trans hc.symm)
          exact absurd e2 yv
        · exact (h4 x y hx hy a1 a2 a3).2 (by omega)
theorem bf_round (hC : ∀ u v, u < N → v < N → ix u v < c) (h : bf_I N E w src inf φ ix r c b d p) : bf_I N E w src inf φ ix (r + 1) 0 b d p := by
  obtain ⟨rk, τ, h1, h2, h3, h4⟩ := h
  refine ⟨rk, τ, h1, fun x hx => Nat.le_succ_of_le (h2 x hx), h3, fun u v hu hv a1 a2 a3 => ⟨?_, fun z => absurd z (Nat.not_lt_zero _)⟩⟩
  have := (h4 u v hu hv a1 a2 a3).2 (hC u v hu hv)
  omega
/-- the way by parents from x to a source -/
def bf_C (N : Nat) (E : Nat → Nat → Prop) (w : Nat → Nat → Int) (src : Nat → Prop) (d p : Nat → Int) (inf : Int) (x : Nat) (c : Nat → Nat) (K : Nat) : Prop :=
  c 0 = x ∧ ph_W N c K ∧ (∀ k, k ≤ K → d (c k) < inf) ∧ (∀ k, k < K → p (c k) = (c (k + 1) : Int) ∧ E (c (k + 1)) (c k) ∧ d (c k) = d (c (k + 1)) + w (c (k + 1)) (c k)) ∧ p (c K) = -1 ∧ src (c K) ∧ d (c K) = 0
def bf_O (N : Nat) (E : Nat → Nat → Prop) (w : Nat → Nat → Int) (src : Nat → Prop) (inf : Int) (b : Nat) (d p : Nat → Int) : Prop :=
  (∀ u v, u < N → v < N → E u v → d u < inf → d v ≤ d u + w u v) ∧ bf_B N src inf b d ∧ (∀ x, x < N → d x < inf → ∃ c K, bf_C N E w src d p inf x c K)
theorem bf_lex {φ d : Nat → Int} {rk : Nat → Nat} {R : Nat → Nat → Prop} (hR : R = fun a b => d a - φ a < d b - φ b ∨ (d a - φ a = d b - φ b ∧ rk a < rk b)) : (∀ a b c, R a b → R b c → R a c) ∧ (∀ a, ¬ R a a) := by
  subst hR
  exact ⟨fun a b c h1 h2 => by dsimp only at h1 h2 ⊢; omega, fun a h => by dsimp only at h; omega⟩
theorem bf_done (hr : N < r) (h : bf_I N E w src inf φ ix r c b d p) : bf_O N E w src inf b d p := by
  obtain ⟨rk, τ, h1, h2, h3, h4⟩ := h
  have hlex := bf_lex (φ := φ) (d := d) (rk := rk) rfl
  have key : ∀ x, x < N → d x < inf → ∃ K, K < N ∧ p (ph_it (fun y => (p y).toNat) x K) = -1 ∧ (∀ k, k < K → ¬ p (ph_it (fun y => (p y).toNat) x k) = -1) ∧ (∀ k, k ≤ K → ph_it (fun y => (p y).toNat) x k < N ∧ d (ph_it (fun y => (p y).toNat) x k) < inf) ∧ (∀ i j, i < j → j ≤ K → ph_it (fun y => (p y).toNat) x i ≠ ph_it (fun y => (p y).toNat) x j) := by
    intro x hx hd
    refine ph_root (ok := fun y => d y < inf) (rt := fun y => p y = -1) hlex.1 hlex.2 (fun y hy hyd => ?_) hx hd
    rcases h1 y hy with ⟨a, _⟩ | ⟨q, q1, q2, q3, q4, q5, q6, q7, q8⟩
    · exact Or.inl a
    · refine Or.inr ?_
      have e : (p y).toNat = q := by rw [q2]; rfl
      show (p y).toNat < N ∧ d (p y).toNat < inf ∧ (d (p y).toNat - φ (p y).toNat < d y - φ y ∨ (d (p y).toNat - φ (p y).toNat = d y - φ y ∧ rk (p y).toNat < rk y))
      rw [e]
      exact ⟨q1, q4, q7⟩
  have step : ∀ (x K : Nat), (∀ k, k < K → ¬ p (ph_it (fun y => (p y).toNat) x k) = -1) → (∀ k, k ≤ K → ph_it (fun y => (p y).toNat) x k < N ∧ d (ph_it (fun y => (p y).toNat) x k) < inf) →
      ∀ k, k < K → p (ph_it (fun y => (p y).toNat) x k) = (ph_it (fun y => (p y).toNat) x (k + 1) : Int) ∧ E (ph_it (fun y => (p y).toNat) x (k + 1)) (ph_it (fun y => (p y).toNat) x k) ∧ d (ph_it (fun y => (p y).toNat) x (k + 1)) + w (ph_it (fun y => (p y).toNat) x (k + 1)) (ph_it (fun y => (p y).toNat) x k) ≤ d (ph_it (fun y => (p y).toNat) x k) ∧ τ (ph_it (fun y => (p y).toNat) x k) ≤ τ (ph_it (fun y => (p y).toNat) x (k + 1)) + 1 := by
    intro x K hr hk k hkK
    rcases h1 _ (hk k (by omega)).1 with ⟨a, _⟩ | ⟨q, q1, q2, q3, q4, q5, q6, q7, q8⟩
    · exact absurd a (hr k hkK)
    · have e : ph_it (fun y => (p y).toNat) x (k + 1) = q := by
        show (p (ph_it (fun y => (p y).toNat) x k)).toNat = q
        rw [q2]; rfl
      rw [e]
      exact ⟨q2, q3, q6, q8⟩
  have ht : ∀ x, x < N → d x < inf → τ x < N := by
    intro x hx hd
    obtain ⟨K, k1, k2, k3, k4, k5⟩ := key x hx hd
    have hs := step x K k3 k4
    have hz : τ (ph_it (fun y => (p y).toNat) x K) = 0 := by
      rcases h1 _ (k4 K (Nat.le_refl K)).1 with ⟨_, ⟨_, _, e⟩ | e⟩ | ⟨q, q1, q2, _⟩
      · exact e
      · have := (k4 K (Nat.le_refl K)).2; omega
      · rw [k2] at q2; omega
    have hi : ∀ k, k ≤ K → τ (ph_it (fun y => (p y).toNat) x (K - k)) ≤ k := by
      intro k
      induction k with
      | zero => intro _; rw [Nat.sub_zero, hz]; exact Nat.le_refl _
      | succ k ih =>
        intro hk
        have e := (hs (K - (k + 1)) (by omega)).2.2.2
        have e2 : K - (k + 1) + 1 = K - k := by omega
        rw [e2] at e
        have := ih (by omega)
        omega
    have := hi K (Nat.le_refl _)
    rw [Nat.sub_self] at this
    have e0 : ph_it (fun y => (p y).toNat) x 0 = x := rfl
    rw [e0] at this
    omega
  have hcv : ∀ u v, u < N → v < N → E u v → d u < inf → d v ≤ d u + w u v := by
    intro u v hu hv he hd
    by_cases hl : d u + w u v < d v
    · have a := (h4 u v hu hv he hd hl).1
      have := ht u hu hd
      omega
    · omega
  refine ⟨hcv, h3, fun x hx hd => ?_⟩
  obtain ⟨K, k1, k2, k3, k4, k5⟩ := key x hx hd
  have hs := step x K k3 k4
  refine ⟨ph_it (fun y => (p y).toNat) x, K, rfl, ⟨k1, fun k hk => (k4 k hk).1, k5⟩, fun k hk => (k4 k hk).2, fun k hk => ?_, k2, ?_⟩
  · have a := hs k hk
    have b := hcv _ _ (k4 (k + 1) (by omega)).1 (k4 k (by omega)).1 a.2.1 (k4 (k + 1) (by omega)).2
    exact ⟨a.1, a.2.1, by omega⟩
  · rcases h1 _ (k4 K (Nat.le_refl K)).1 with ⟨_, ⟨a, e, _⟩ | e⟩ | ⟨q, q1, q2, _⟩
    · exact ⟨a, e⟩
    · have := (k4 K (Nat.le_refl K)).2; omega
    · rw [k2] at q2; omega
end
end
section
/-! flows of least cost by cheapest ways: z marks the edges that cost nothing -/
def ss_w (z : Nat → Nat → Bool) (m : Nat → Nat → Int) (u v : Nat) : Int := if z u v = true then 0 else if m u v < 0 then -1 else 1
def ss_E (cap m : Nat → Nat → Int) (u v : Nat) : Prop := m u v < cap u v
def ss_ok (N : Nat) (cap m : Nat → Nat → Int) : Prop := (∀ u v, u < N → v < N → m u v = - m v u) ∧ (∀ u v, u < N → v < N → m u v ≤ cap u v)
def ss_F (N : Nat) (cap : Nat → Nat → Int) (z : Nat → Nat → Bool) (m : Nat → Nat → Int) (φ : Nat → Int) : Prop := ∀ u v, u < N → v < N → m u v < cap u v → φ v - φ u ≤ ss_w z m u v
theorem ss_w_b (z : Nat → Nat → Bool) (m : Nat → Nat → Int) (u v : Nat) : -1 ≤ ss_w z m u v ∧ ss_w z m u v ≤ 1 := by
  unfold ss_w
  split
  · omega
  · split <;> omega
theorem ss_ne {N : Nat} {cap m : Nat → Nat → Int} (h : ss_ok N cap m) (hc : ∀ u, u < N → cap u u = 0) : ∀ u, u < N → ¬ ss_E cap m u u := by
  intro u hu e
  have h1 := h.1 u u hu hu
  have h2 := hc u hu
  have e' : m u u < cap u u := e
  omega
theorem ss_big (N : Nat) (f : Nat → Int) : ∃ M : Int, ∀ x, x < N → f x ≤ M := by
  induction N with
  | zero => exact ⟨0, fun x hx => absurd hx (by omega)⟩
  | succ N ih =>
    obtain ⟨M, hM⟩ := ih
    by_cases h : M ≤ f N
    · refine ⟨f N, fun x hx => ?_⟩
      by_cases e : x = N
      · rw [e]; exact Int.le_refl _
      · have := hM x (by omega); omega
    · refine ⟨M, fun x hx => ?_⟩
      by_cases e : x = N
      · rw [e]; omega
      · exact hM x (by omega)
/-- the distances, and beyond the reached ones the old potential lifted, are a potential again -/
theorem ss_pot {N : Nat} {E : Nat → Nat → Prop} {w : Nat → Nat → Int} {src : Nat → Prop} {inf : Int} {b : Nat} {d p φ : Nat → Int} (h : bf_O N E w src inf b d p) (hb : (b : Int) + 1 < inf)
    (hw : ∀ u v, u < N → v < N → -1 ≤ w u v ∧ w u v ≤ 1) (hφ : ∀ u v, u < N → v < N → E u v → φ v - φ u ≤ w u v) :
    ∃ ψ : Nat → Int, (∀ u v, u < N → v < N → E u v → ψ v - ψ u ≤ w u v) ∧ (∀ x, x < N → d x < inf → ψ x = d x) := by
  obtain ⟨M, hM⟩ := ss_big N (fun x => d x - φ x)
  refine ⟨fun x => if d x < inf then d x else φ x + M, fun u v hu hv he => ?_, fun x _ hd => if_pos hd⟩
  show (if d v < inf then d v else φ v + M) - (if d u < inf then d u else φ u + M) ≤ w u v
  have h1 := hφ u v hu hv he
  have h2 : d v - φ v ≤ M := hM v hv
  by_cases du : d u < inf
  · have h3 := h.1 u v hu hv he du
    have h4 := (h.2.1 u hu).1 du
    have h5 := hw u v hu hv
    have dv : d v < inf := by omega
    rw [if_pos du, if_pos dv]; omega
  · rw [if_neg du]
    by_cases dv : d v < inf
    · rw [if_pos dv]; omega
    · rw [if_neg dv]; omega
theorem ss_step {N : Nat} {cap m m' : Nat → Nat → Int} {z : Nat → Nat → Bool} {src : Nat → Prop} {inf : Int} {b : Nat} {d p φ : Nat → Int} {x K : Nat} {c : Nat → Nat} {a : Int}
    (hok : ss_ok N cap m) (hz : ∀ u v, z u v = z v u) (hF : ss_F N cap z m φ) (hO : bf_O N (ss_E cap m) (ss_w z m) src inf b d p) (hb : (b : Int) + 1 < inf)
    (hC : bf_C N (ss_E cap m) (ss_w z m) src d p inf x c K) (ha : 0 < a) (hr : ∀ k, k < K → a ≤ cap (c (k + 1)) (c k) - m (c (k + 1)) (c k))
    (hu : ∀ k, k < K → z (c (k + 1)) (c k) = false → m (c (k + 1)) (c k) < 0 → a ≤ - m (c (k + 1)) (c k))
    (hm : ∀ u v, u < N → v < N → m' u v = m u v + a * ph_g c K u v) : ss_ok N cap m' ∧ ∃ ψ, ss_F N cap z m' ψ := by
  obtain ⟨ψ, hψ, hd⟩ := ss_pot (φ := φ) hO hb (fun u v _ _ => ss_w_b z m u v) hF
  obtain ⟨c0, ⟨cK, cN, cD⟩, cI, cE, cp, cs, cd⟩ := hC
  have hg : ∀ u v, ph_g c K u v = 0 ∨ (ph_g c K u v = 1 ∧ ∃ j, j < K ∧ u = c (j + 1) ∧ v = c j) ∨ (ph_g c K u v = -1 ∧ ∃ j, j < K ∧ v = c (j + 1) ∧ u = c j) := by
    intro u v
    have h1 := ph_g_le (u := u) (v := v) cD
    have h2 := ph_g_ge (u := u) (v := v) cD
    by_cases h3 : 0 < ph_g c K u v
    · exact Or.inr (Or.inl ⟨by omega, ph_g_pos h3⟩)
    · by_cases h4 : 0 < ph_g c K v u
      · have := ph_g_anti c K u v
        exact Or.inr (Or.inr ⟨by omega, ph_g_pos h4⟩)
      · have := ph_g_anti c K u v
        exact Or.inl (by omega)
  refine ⟨⟨fun u v hu1 hv1 => ?_, fun u v hu1 hv1 => ?_⟩, ψ, fun u v hu1 hv1 he => ?_⟩
  · rw [hm u v hu1 hv1, hm v u hv1 hu1, hok.1 u v hu1 hv1, ph_g_anti c K u v, Int.mul_neg]; omega
  · rw [hm u v hu1 hv1]
    have h0 := hok.2 u v hu1 hv1
    rcases hg u v with e | ⟨e, j, hj, e1, e2⟩ | ⟨e, j, hj, e1, e2⟩
    · rw [e]; omega
    · have h1 := hr j hj
      rw [← e1, ← e2] at h1
      rw [e]; omega
    · rw [e]; omega
  · rw [hm u v hu1 hv1] at he
    have hw : ss_w z m' u v = if z u v = true then 0 else if m u v + a * ph_g c K u v < 0 then -1 else 1 := by
      unfold ss_w
      rw [hm u v hu1 hv1]
    rw [hw]
    rcases hg u v with e | ⟨e, j, hj, e1, e2⟩ | ⟨e, j, hj, e1, e2⟩
    · rw [e, Int.mul_zero, Int.add_zero] at he ⊢
      exact hψ u v hu1 hv1 he
    · have h1 := hψ u v hu1 hv1 (by rw [e1, e2]; exact (cE j hj).2.1)
      have h2 := hu j hj
      rw [← e1, ← e2] at h2
      rw [e, Int.mul_one]
      unfold ss_w at h1
      by_cases hzz : z u v = true
      · rw [if_pos hzz] at h1 ⊢; exact h1
      · rw [if_neg hzz] at h1 ⊢
        by_cases hn : m u v < 0
        · rw [if_pos hn] at h1
          split <;> omega
        · rw [if_neg hn] at h1
          rw [if_neg (by omega)]; exact h1
    · have h2 := hu j hj
      have h3 := (cE j hj).2.2
      rw [← e1, ← e2] at h2 h3
      have du : d u < inf := by rw [e2]; exact cI j (by omega)
      have dv : d v < inf := by rw [e1]; exact cI (j + 1) (by omega)
      have h4 := hok.1 v u hv1 hu1
      rw [hd u hu1 du, hd v hv1 dv, e]
      unfold ss_w at h3
      rw [hz v u] at h3 h2
      by_cases hzz : z u v = true
      · rw [if_pos hzz] at h3 ⊢; omega
      · rw [if_neg hzz] at h3 ⊢
        have h5 := h2 (by cases hq : z u v with | true => exact absurd hq hzz | false => rfl)
        by_cases hn : m v u < 0
        · rw [if_pos hn] at h3
          have h6 := h5 hn
          rw [if_neg (by omega)]; omega
        · rw [if_neg hn] at h3
          rw [if_pos (by omega)]; omega
/-! what a flow costs, and that one with a potential costs least -/
def ss_p (x : Int) : Int := if 0 < x then x else 0
def ss_cost (N : Nat) (m : Nat → Nat → Int) : Int := zz_s N (fun u => zz_s N (fun v => ss_p (m u v)))
theorem ss_cost2 {N : Nat} {cap m : Nat → Nat → Int} (h : ss_ok N cap m) : 2 * ss_cost N m = zz_s N (fun u => zz_s N (fun v => ss_p (m u v) + ss_p (- m u v))) := by
  have e1 : zz_s N (fun u => zz_s N (fun v => ss_p (m u v) + ss_p (- m u v))) = ss_cost N m + zz_s N (fun u => zz_s N (fun v => ss_p (- m u v))) := by
    rw [ss_cost, ← zz_add]
    exact zz_congr (fun u _ => zz_add _ _ _)
  have e2 : zz_s N (fun u => zz_s N (fun v => ss_p (- m u v))) = ss_cost N m := by
    rw [zz_swap N N (fun u v => ss_p (- m u v))]
    exact zz_congr (fun v hv => zz_congr (fun u hu => by show ss_p (- m u v) = ss_p (m v u); rw [h.1 v u hv hu]))
  omega
theorem ss_opt {N : Nat} {cap m y : Nat → Nat → Int} {φ : Nat → Int} (hm : ss_ok N cap m) (hy : ss_ok N cap y) (hF : ss_F N cap (fun _ _ => false) m φ)
    (hd : ∀ v, v < N → zz_s N (fun u => m u v) = zz_s N (fun u => y u v)) : ss_cost N m ≤ ss_cost N y := by
  have h1 : zz_s N (fun u => zz_s N (fun v => (φ v - φ u) * (y u v - m u v))) ≤ zz_s N (fun u => zz_s N (fun v => (ss_p (y u v) + ss_p (- y u v)) - (ss_p (m u v) + ss_p (- m u v)))) := by
    refine zz_le (fun u hu => zz_le (fun v hv => ?_))
    show (φ v - φ u) * (y u v - m u v) ≤ (ss_p (y u v) + ss_p (- y u v)) - (ss_p (m u v) + ss_p (- m u v))
    have y1 := hy.2 u v hu hv
    have y2 := hy.2 v u hv hu
    have y3 := hy.1 u v hu hv
    have m3 := hm.1 u v hu hv
    by_cases c1 : m u v < y u v
    · have f := hF u v hu hv (by omega)
      have g := Int.mul_le_mul_of_nonneg_right f (show 0 ≤ y u v - m u v by omega)
      refine Int.le_trans g ?_
      unfold ss_w ss_p
      simp only [Bool.false_eq_true, if_false]
      by_cases hn : m u v < 0
      · rw [if_pos hn]; split <;> split <;> split <;> split <;> omega
      · rw [if_neg hn]; split <;> split <;> split <;> split <;> omega
    · by_cases c2 : y u v < m u v
      · have f := hF v u hv hu (by omega)
        have g := Int.mul_le_mul_of_nonneg_right f (show 0 ≤ m u v - y u v by omega)
        have e : (φ v - φ u) * (y u v - m u v) = (φ u - φ v) * (m u v - y u v) := by
          rw [← Int.neg_mul_neg]
          congr 1 <;> omega
        rw [e]
        refine Int.le_trans g ?_
        unfold ss_w ss_p
        simp only [Bool.false_eq_true, if_false]
        by_cases hn : m v u < 0
        · rw [if_pos hn]; split <;> split <;> split <;> split <;> omega
        · rw [if_neg hn]; split <;> split <;> split <;> split <;> omega
      · have e : y u v = m u v := by omega
        rw [e, Int.sub_self, Int.mul_zero]; omega
  have h2 : zz_s N (fun u => zz_s N (fun v => (φ v - φ u) * (y u v - m u v))) = 0 := by
    have e1 : zz_s N (fun u => zz_s N (fun v => (φ v - φ u) * (y u v - m u v))) = zz_s N (fun u => zz_s N (fun v => φ v * (y u v - m u v))) - zz_s N (fun u => zz_s N (fun v => φ u * (y u v - m u v))) := by
      rw [← zz_sub]
      refine zz_congr (fun u _ => ?_)
      rw [← zz_sub]
      exact zz_congr (fun v _ => Int.sub_mul _ _ _)
    have e2 : zz_s N (fun u => zz_s N (fun v => φ v * (y u v - m u v))) = 0 := by
      rw [zz_swap N N (fun u v => φ v * (y u v - m u v))]
      refine zz_c0 (fun v hv => ?_)
      rw [zz_mul, zz_sub, hd v hv, Int.sub_self, Int.mul_zero]
    have e3 : zz_s N (fun u => zz_s N (fun v => φ u * (y u v - m u v))) = 0 := by
      refine zz_c0 (fun u hu => ?_)
      have e4 : zz_s N (fun v => y u v - m u v) = 0 := by
        have e5 : zz_s N (fun v => y u v - m u v) = zz_s N (fun v => m v u - y v u) := zz_congr (fun v hv => by
          have := hy.1 u v hu hv
          have := hm.1 u v hu hv
          show y u v - m u v = m v u - y v u
          omega)
        rw [e5, zz_sub, hd u hu, Int.sub_self]
      rw [zz_mul, e4, Int.mul_zero]
    omega
  have h3 : zz_s N (fun u => zz_s N (fun v => (ss_p (y u v) + ss_p (- y u v)) - (ss_p (m u v) + ss_p (- m u v)))) = 2 * ss_cost N y - 2 * ss_cost N m := by
    rw [ss_cost2 hy, ss_cost2 hm, ← zz_sub]
    exact zz_congr (fun u _ => zz_sub _ _ _)
  omega
/-- one edge more: the cost grows by what a unit costs -/
theorem ss_cost_edge {N : Nat} {cap m m' : Nat → Nat → Int} {a : Int} {i j : Nat} (hi : i < N) (hj : j < N) (hij : i ≠ j) (h : ss_ok N cap m) (ha : 0 ≤ a) (hu : m i j < 0 → a ≤ - m i j)
    (hm : ∀ u v, u < N → v < N → m' u v = m u v + a * (ph_e u v i j - ph_e u v j i)) : ss_cost N m' = ss_cost N m + a * (if m i j < 0 then -1 else 1) := by
  have e1 : ss_cost N m' = zz_s N (fun u => zz_s N (fun v => ss_p (m u v) + (ph_e u v i j * (ss_p (m i j + a) - ss_p (m i j)) + ph_e u v j i * (ss_p (m j i - a) - ss_p (m j i))))) := by
    refine zz_congr (fun u hu1 => zz_congr (fun v hv1 => ?_))
    show ss_p (m' u v) = ss_p (m u v) + (ph_e u v i j * (ss_p (m i j + a) - ss_p (m i j)) + ph_e u v j i * (ss_p (m j i - a) - ss_p (m j i)))
    rw [hm u v hu1 hv1]
    rcases ph_e_01 u v i j with ⟨p, p1, p2⟩ | p
    · have q : ph_e u v j i = 0 := if_neg (fun z => hij (p1.symm.trans z.1))
      rw [p, q, ← p1, ← p2]
      have : a * (1 - 0) = a := by omega
      rw [this]; omega
    · rcases ph_e_01 u v j i with ⟨q, q1, q2⟩ | q
      · rw [p, q, ← q1, ← q2]
        have : m u v + a * (0 - 1) = m u v - a := by omega
        rw [this]; omega
      · rw [p, q]
        have : m u v + a * (0 - 0) = m u v := by omega
        rw [this]; omega
  have e2 : ss_cost N m' = ss_cost N m + (ss_p (m i j + a) - ss_p (m i j)) + (ss_p (m j i - a) - ss_p (m j i)) := by
    rw [e1]
    have f1 : zz_s N (fun u => zz_s N (fun v => ss_p (m u v) + (ph_e u v i j * (ss_p (m i j + a) - ss_p (m i j)) + ph_e u v j i * (ss_p (m j i - a) - ss_p (m j i))))) = zz_s N (fun u => zz_s N (fun v => ss_p (m u v)) + (zz_s N (fun v => ph_e u v i j * (ss_p (m i j + a) - ss_p (m i j))) + zz_s N (fun v => ph_e u v j i * (ss_p (m j i - a) - ss_p (m j i))))) :=
      zz_congr (fun u _ => by rw [zz_add, zz_add])
    have f2 : ∀ (s t : Nat) (q : Int), s < N → t < N → zz_s N (fun u => zz_s N (fun v => ph_e u v s t * q)) = q := by
      intro s t q hs ht
      have g1 : zz_s N (fun u => zz_s N (fun v => ph_e u v s t * q)) = zz_s N (fun v => q * zz_s N (fun u => ph_e u v s t)) := by
        rw [zz_swap N N (fun u v => ph_e u v s t * q)]
        exact zz_congr (fun v _ => by rw [← zz_mul]; exact zz_congr (fun u _ => Int.mul_comm _ _))
      have g2 : zz_s N (fun v => q * zz_s N (fun u => ph_e u v s t)) = zz_s N (fun v => if v = t then q else 0) := by
        refine zz_congr (fun v _ => ?_)
        show q * zz_s N (fun u => ph_e u v s t) = if v = t then q else 0
        rw [ph_e_sum v t hs]
        by_cases e : v = t
        · rw [if_pos e, if_pos e, Int.mul_one]
        · rw [if_neg e, if_neg e, Int.mul_zero]
      rw [g1, g2, zz_ite q ht]
    rw [f1, zz_add, zz_add, f2 i j _ hi hj, f2 j i _ hj hi, ss_cost]; omega
  have hji := h.1 j i hj hi
  rw [e2, hji]
  unfold ss_p
  by_cases hn : m i j < 0
  · have := hu hn
    rw [if_pos hn]
    split <;> split <;> split <;> split <;> omega
  · rw [if_neg hn]
    split <;> split <;> split <;> split <;> omega
end
section
/-! cells of the tables, sums within the range -/
theorem ar_add {x y : Int32} (h1 : -2147483648 ≤ x.toInt + y.toInt) (h2 : x.toInt + y.toInt < 2147483648) : (x + y).toInt = x.toInt + y.toInt := by
  rw [Int32.toInt_add]; exact Int.bmod_eq_of_le (by omega) (by omega)
theorem ar_sub {x y : Int32} (h1 : -2147483648 ≤ x.toInt - y.toInt) (h2 : x.toInt - y.toInt < 2147483648) : (x - y).toInt = x.toInt - y.toInt := by
  rw [Int32.toInt_sub]; exact Int.bmod_eq_of_le (by omega) (by omega)
theorem ar_mul {x y : Int32} (h1 : -2147483648 ≤ x.toInt * y.toInt) (h2 : x.toInt * y.toInt < 2147483648) : (x * y).toInt = x.toInt * y.toInt := by
  rw [Int32.toInt_mul]; exact Int.bmod_eq_of_le (by omega) (by omega)
theorem ar_neg {x : Int32} (h1 : -2147483648 < x.toInt) : (-x).toInt = - x.toInt := by
  have h2 := x.toInt_lt
  rw [Int32.toInt_neg]; exact Int.bmod_eq_of_le (by omega) (by omega)
theorem ar_le {x y : Int32} : x ≤ y ↔ x.toInt ≤ y.toInt := Int32.le_iff_toInt_le
theorem ar_lt {x y : Int32} : x < y ↔ x.toInt < y.toInt := Int32.lt_iff_toInt_lt
theorem ar_0 : (0 : Int32).toInt = 0 := by decide
theorem ar_1 : (1 : Int32).toInt = 1 := by decide
theorem ar_m1 : (-1 : Int32).toInt = -1 := by decide
theorem ar_M : (1000000 : Int32).toInt = 1000000 := by decide
theorem ar_nn {x : Int32} : 0 ≤ x ↔ 0 ≤ x.toInt := by rw [ar_le, ar_0]
theorem ar_ng {x : Int32} : x < 0 ↔ x.toInt < 0 := by rw [ar_lt, ar_0]
theorem ar_np {x : Int32} : x ≤ 0 ↔ x.toInt ≤ 0 := by rw [ar_le, ar_0]
theorem ar_nI {n : Nat} (h : n < 1000) : (nI n).toInt = (n : Int) := nI_toInt (by omega)
theorem ar_c {n : Nat} (h : n < 1000) : (nI n).toNatClampNeg = n := nI_clamp (by omega)
theorem ar_inj {a b : Nat} (ha : a < 1000) (hb : b < 1000) (h : nI a = nI b) : a = b := (nI_eq (by omega) (by omega)).mp h
theorem ar_ne {a b : Nat} (ha : a < 1000) (hb : b < 1000) (h : a ≠ b) : ¬ nI a = nI b := fun e => h (ar_inj ha hb e)
theorem ar_of {x : Int32} {n : Nat} (h0 : 0 ≤ x.toInt) (h1 : x.toInt < n) : ∃ j : Nat, j < n ∧ x = nI j := by
  obtain ⟨j, hj, e⟩ := nI_of (x := x) (by rw [ar_ng]; omega)
  subst e
  rw [nI_toInt hj] at h1
  exact ⟨j, by omega, rfl⟩
theorem ar_ext {x y : Int32} (h : x.toInt = y.toInt) : x = y := Int32.toInt_inj.mp h
def ar_9c (a : Nat → Int32) (u v : Nat) : Int := (a (9 * u + v)).toInt
def ar_7c (a : Nat → Int32) (u v : Nat) : Int := (a (7 * u + v)).toInt
theorem ar_9 (u v : Nat) : (9 : Int32) * nI u + nI v = nI (9 * u + v) := by
  show nI 9 * nI u + nI v = _
  rw [pk_mul, nI_add]
theorem ar_7 (u v : Nat) : (7 : Int32) * nI u + nI v = nI (7 * u + v) := by
  show nI 7 * nI u + nI v = _
  rw [pk_mul, nI_add]
theorem ar_in9 {u v : Nat} (hu : u < 9) (hv : v < 9) : vp_in ((9 : Int32) * nI u + nI v) 81 := by
  rw [ar_9]; exact vp_in_nI (by omega) (by omega)
theorem ar_in7 {u v : Nat} (hu : u < 7) (hv : v < 7) : vp_in ((7 : Int32) * nI u + nI v) 49 := by
  rw [ar_7]; exact vp_in_nI (by omega) (by omega)
theorem ar_c9 {u v : Nat} (hu : u < 9) (hv : v < 9) : ((9 : Int32) * nI u + nI v).toNatClampNeg = 9 * u + v := by
  rw [ar_9]; exact nI_clamp (by omega)
theorem ar_c7 {u v : Nat} (hu : u < 7) (hv : v < 7) : ((7 : Int32) * nI u + nI v).toNatClampNeg = 7 * u + v := by
  rw [ar_7]; exact nI_clamp (by omega)
theorem ar_u9 {a : Nat → Int32} {i j u v : Nat} {x : Int32} (hj : j < 9) (hv : v < 9) : ar_9c (upd a (9 * i + j) x) u v = if u = i ∧ v = j then x.toInt else ar_9c a u v := by
  unfold ar_9c
  by_cases h : u = i ∧ v = j
  · rw [if_pos h, h.1, h.2, pk_us]
  · rw [if_neg h, pk_un (fun e => h (by omega))]
theorem ar_u7 {a : Nat → Int32} {i j u v : Nat} {x : Int32} (hj : j < 7) (hv : v < 7) : ar_7c (upd a (7 * i + j) x) u v = if u = i ∧ v = j then x.toInt else ar_7c a u v := by
  unfold ar_7c
  by_cases h : u = i ∧ v = j
  · rw [if_pos h, h.1, h.2, pk_us]
  · rw [if_neg h, pk_un (fun e => h (by omega))]
theorem ar_u {a : Nat → Int32} {i j : Nat} {x : Int32} : upd a i x j = if j = i then x else a j := rfl
/-- x moved from cell i, j to cell j, i -/
theorem ar_mv9 {a : Nat → Int32} {i j : Nat} {x : Int32} (hi : i < 9) (hj : j < 9) (hij : i ≠ j) (h1 : -2147483648 ≤ ar_9c a i j - x.toInt) (h2 : ar_9c a i j - x.toInt < 2147483648)
    (h3 : -2147483648 ≤ ar_9c a j i + x.toInt) (h4 : ar_9c a j i + x.toInt < 2147483648) {u v : Nat} (hv : v < 9) :
    ar_9c (upd (upd a (9 * i + j) (a (9 * i + j) - x)) (9 * j + i) ((upd a (9 * i + j) (a (9 * i + j) - x)) (9 * j + i) + x)) u v = ar_9c a u v - x.toInt * (ph_e u v i j - ph_e u v j i) := by
  have e1 : (upd a (9 * i + j) (a (9 * i + j) - x)) (9 * j + i) = a (9 * j + i) := pk_un (by omega)
  rw [e1, ar_u9 hi hv, ar_u9 hj hv, ar_add h3 h4, ar_sub h1 h2]
  unfold ph_e
  by_cases p : u = j ∧ v = i
  · have q : ¬ (u = i ∧ v = j) := fun z => hij (z.1.symm.trans p.1)
    rw [if_pos p, if_neg q, if_pos p, p.1, p.2]
    show (a (9 * j + i)).toInt + x.toInt = (a (9 * j + i)).toInt - x.toInt * (0 - 1)
    omega
  · rw [if_neg p, if_neg p]
    by_cases q : u = i ∧ v = j
    · rw [if_pos q, if_pos q, q.1, q.2]
      show (a (9 * i + j)).toInt - x.toInt = (a (9 * i + j)).toInt - x.toInt * (1 - 0)
      omega
    · rw [if_neg q, if_neg q]
      show ar_9c a u v = ar_9c a u v - x.toInt * 0
      omega
theorem ar_mv7 {a : Nat → Int32} {i j : Nat} {x : Int32} (hi : i < 7) (hj : j < 7) (hij : i ≠ j) (h1 : -2147483648 ≤ ar_7c a i j + x.toInt) (h2 : ar_7c a i j + x.toInt < 2147483648)
    (h3 : -2147483648 ≤ ar_7c a j i - x.toInt) (h4 : ar_7c a j i - x.toInt < 2147483648) {u v : Nat} (hv : v < 7) :
    ar_7c (upd (upd a (7 * i + j) (a (7 * i + j) + x)) (7 * j + i) ((upd a (7 * i + j) (a (7 * i + j) + x)) (7 * j + i) - x)) u v = ar_7c a u v + x.toInt * (ph_e u v i j - ph_e u v j i) := by
  have e1 : (upd a (7 * i + j) (a (7 * i + j) + x)) (7 * j + i) = a (7 * j + i) := pk_un (by omega)
  rw [e1, ar_u7 hi hv, ar_u7 hj hv, ar_add h1 h2, ar_sub h3 h4]
  unfold ph_e
  by_cases p : u = j ∧ v = i
  · have q : ¬ (u = i ∧ v = j) := fun z => hij (z.1.symm.trans p.1)
    rw [if_pos p, if_neg q, if_pos p, p.1, p.2]
    show (a (7 * j + i)).toInt - x.toInt = (a (7 * j + i)).toInt + x.toInt * (0 - 1)
    omega
  · rw [if_neg p, if_neg p]
    by_cases q : u = i ∧ v = j
    · rw [if_pos q, if_pos q, q.1, q.2]
      show (a (7 * i + j)).toInt + x.toInt = (a (7 * i + j)).toInt + x.toInt * (1 - 0)
      omega
    · rw [if_neg q, if_neg q]
      show ar_7c a u v = ar_7c a u v + x.toInt * 0
      omega
end
section
/-! the component: copies, and the search for a way -/
section
variable {g : Int32} {T P F pa pe am W O C L D H : Nat → Int32}
theorem xc_copy2 {post : SX → Prop} (k : ∀ W', (∀ c, c < 81 → W' c = F c) → post (g, T, P, F, pa, pe, am, W', O, C, L, D, H)) :
    ∀ (n i : Nat), 81 < n + i → i ≤ 81 → ∀ W, (∀ c, c < i → W c = F c) → wX_copyFree_2 post g n (nI i) T P F pa pe am W O C L D H := by
  intro n
  induction n with
  | zero => intro i h1 h2; omega
  | succ n ih =>
    intro i h1 h2 W hW
    rw [wX_copyFree_2]
    by_cases e : i = 81
    · subst e
      exact br_t (show (81 : Int32) ≤ nI 81 from by decide) (k W hW)
    · have c : (nI i).toNatClampNeg = i := nI_clamp (by omega)
      exact br_f (show ¬ (81 : Int32) ≤ nI i from nI_ge (b := 81) (by omega) (by omega)) ⟨vp_in_nI (by omega) (by omega), vp_in_nI (by omega) (by omega), nm_r (e' := upd W i (F i)) (by rw [c]) (nm_r (nI_1 i) (ih (i + 1) (by omega) (by omega) _ (fun q hq => by
        rw [ar_u]
        by_cases z : q = i
        · rw [if_pos z, z]
        · rw [if_neg z]; exact hW q (by omega))))⟩
theorem xc_copy {post : SX → Prop} (k : ∀ W', (∀ c, c < 81 → W' c = F c) → post (g, T, P, F, pa, pe, am, W', O, C, L, D, H)) : wpX_copyFree post (g, T, P, F, pa, pe, am, W, O, C, L, D, H) :=
  ⟨82, xc_copy2 k 82 0 (by omega) (by omega) W (fun c hc => absurd hc (Nat.not_lt_zero _))⟩
def xk_K (F0 W F : Nat → Int32) (i j : Nat) : Prop := ∀ u v, u < 9 → v < 9 → F (9 * u + v) = if (u < i ∨ (u = i ∧ v < j)) ∧ u < 7 ∧ v < 7 then W (9 * u + v) else F0 (9 * u + v)
theorem xk_keep10 {post : SX → Prop} {J2 : Int32 → (Nat → Int32) → (Nat → Int32) → (Nat → Int32) → (Nat → Int32) → (Nat → Int32) → (Nat → Int32) → (Nat → Int32) → (Nat → Int32) → (Nat → Int32) → (Nat → Int32) → (Nat → Int32) → (Nat → Int32) → Prop} {F0 : Nat → Int32} {i : Nat} (hi : i < 7)
    (k : ∀ F, xk_K F0 W F (i + 1) 0 → J2 (nI (i + 1)) T P F pa pe am W O C L D H) :
    ∀ (n j : Nat), 7 < n + j → j ≤ 7 → ∀ F, xk_K F0 W F i j → wX_keepWork_10 post J2 (nI i) g n (nI j) T P F pa pe am W O C L D H := by
  intro n
  induction n with
  | zero => intro i h1 h2; omega
  | succ n ih =>
    intro j h1 h2 F hF
    rw [wX_keepWork_10]
    by_cases e : j = 7
    · subst e
      refine br_t (show (7 : Int32) ≤ nI 7 from by decide) (nm_r (nI_1 i) (k F (fun u v hu hv => ?_)))
      rw [hF u v hu hv]
      by_cases a : (u < i ∨ (u = i ∧ v < 7)) ∧ u < 7 ∧ v < 7
      · rw [if_pos a, if_pos ⟨by omega, a.2⟩]
      · rw [if_neg a, if_neg (fun z => a ⟨by omega, z.2⟩)]
    · refine br_f (show ¬ (7 : Int32) ≤ nI j from nI_ge (b := 7) (by omega) (by omega)) ⟨ar_in9 (by omega) (by omega), ar_in9 (by omega) (by omega), nm_r (e' := upd F (9 * i + j) (W (9 * i + j))) (by rw [ar_c9 (by omega) (by omega)]) (nm_r (nI_1 j) (ih (j + 1) (by omega) (by omega) _ (fun u v hu hv => ?_)))⟩
      rw [ar_u]
      by_cases z : 9 * u + v = 9 * i + j
      · rw [if_pos z, if_pos ⟨by omega, by omega, by omega⟩, z]
      · rw [if_neg z, hF u v hu hv]
        by_cases a : (u < i ∨ (u = i ∧ v < j)) ∧ u < 7 ∧ v < 7
        · rw [if_pos a, if_pos ⟨by omega, a.2⟩]
        · rw [if_neg a, if_neg (fun z => a ⟨by omega, z.2⟩)]
theorem xk_keep2 {post : SX → Prop} {F0 : Nat → Int32} (k : ∀ F, xk_K F0 W F 7 0 → post (g, T, P, F, pa, pe, am, W, O, C, L, D, H)) :
    ∀ (n i : Nat), 7 < n + i → i ≤ 7 → ∀ F, xk_K F0 W F i 0 → wX_keepWork_2 post g n (nI i) T P F pa pe am W O C L D H := by
  intro n
  induction n with
  | zero => intro i h1 h2; omega
  | succ n ih =>
    intro i h1 h2 F hF
    rw [wX_keepWork_2]
    by_cases e : i = 7
    · subst e
      exact br_t (show (7 : Int32) ≤ nI 7 from by decide) (k F hF)
    · exact br_f (show ¬ (7 : Int32) ≤ nI i from nI_ge (b := 7) (by omega) (by omega)) ⟨8, xk_keep10 (by omega) (fun F' hF' => ih (i + 1) (by omega) (by omega) F' hF') 8 0 (by omega) (by omega) F hF⟩
theorem xk_keep {post : SX → Prop} (k : ∀ F', (∀ u v, u < 9 → v < 9 → F' (9 * u + v) = if u < 7 ∧ v < 7 then W (9 * u + v) else F (9 * u + v)) → post (g, T, P, F', pa, pe, am, W, O, C, L, D, H)) : wpX_keepWork post (g, T, P, F, pa, pe, am, W, O, C, L, D, H) := by
  refine ⟨8, xk_keep2 (F0 := F) (fun F' h => k F' (fun u v hu hv => ?_)) 8 0 (by omega) (by omega) F (fun u v hu hv => ?_)⟩
  · rw [h u v hu hv]
    by_cases a : u < 7 ∧ v < 7
    · rw [if_pos a, if_pos ⟨by omega, a⟩]
    · rw [if_neg a, if_neg (fun z => a z.2)]
  · rw [if_neg (by omega)]
/-- the search: what is reached stands in the line, by the places rk -/
def fw_n (C : Nat → Int32) : Int := zz_s 9 (fun x => if 0 ≤ (C x).toInt then 1 else 0)
def fw_I (w : Nat → Nat → Int) (s : Nat) (C L : Nat → Int32) (put : Nat) (rk : Nat → Nat) : Prop :=
  (put : Int) = fw_n C ∧ (∀ i, i < put → ∃ x, x < 9 ∧ L i = nI x ∧ 0 ≤ (C x).toInt ∧ rk x = i) ∧
  (∀ x, x < 9 → 0 ≤ (C x).toInt → rk x < put ∧ L (rk x) = nI x) ∧
  (∀ x, x < 9 → 0 ≤ (C x).toInt → x = s ∨ ∃ u, u < 9 ∧ C x = nI u ∧ 0 < w u x ∧ 0 ≤ (C u).toInt ∧ rk u < rk x) ∧ 0 ≤ (C s).toInt
def fw_Q (w : Nat → Nat → Int) (C : Nat → Int32) (rk : Nat → Nat) (a v0 : Nat) : Prop := ∀ x, x < 9 → 0 ≤ (C x).toInt → ∀ y, y < 9 → (rk x < a ∨ (rk x = a ∧ y < v0)) → 0 < w x y → 0 ≤ (C y).toInt
theorem fw_n9 (C : Nat → Int32) : fw_n C ≤ 9 := by
  have h : zz_s 9 (fun x => if 0 ≤ (C x).toInt then (1 : Int) else 0) ≤ zz_s 9 (fun _ => 1) := zz_le (fun i _ => by
    show (if 0 ≤ (C i).toInt then (1 : Int) else 0) ≤ 1
    split <;> omega)
  have e : zz_s 9 (fun _ => 1) = 9 := by decide
  unfold fw_n; omega
theorem fw_n1 {C : Nat → Int32} {v u : Nat} (hv : v < 9) (hn : ¬ 0 ≤ (C v).toInt) (hu : u < 9) : fw_n (upd C v (nI u)) = fw_n C + 1 := by
  have e1 : zz_s 9 (fun i => if i = v then (1 : Int) else 0) = 1 := zz_ite 1 hv
  have e2 : fw_n (upd C v (nI u)) = zz_s 9 (fun i => (if 0 ≤ (C i).toInt then (1 : Int) else 0) + (if i = v then (1 : Int) else 0)) := zz_congr (fun i _ => by
    show (if 0 ≤ (upd C v (nI u) i).toInt then (1 : Int) else 0) = (if 0 ≤ (C i).toInt then (1 : Int) else 0) + (if i = v then (1 : Int) else 0)
    rw [ar_u]
    by_cases e : i = v
    · rw [if_pos e, if_pos e, e, if_neg hn, ar_nI (by omega), if_pos (by omega)]; rfl
    · rw [if_neg e, if_neg e]; omega)
  rw [e2, zz_add, e1]; rfl
theorem fw_add {w : Nat → Nat → Int} {s a put u v : Nat} {C L : Nat → Int32} {rk : Nat → Nat} (h : fw_I w s C L put rk) (q : fw_Q w C rk a v) (hu : u < 9) (hv : v < 9) (hs : s < 9) (hc : 0 ≤ (C u).toInt) (hr : rk u = a)
    (hw : 0 < w u v) (hn : ¬ 0 ≤ (C v).toInt) : put < 9 ∧ ∃ rk', fw_I w s (upd C v (nI u)) (upd L put (nI v)) (put + 1) rk' ∧ fw_Q w (upd C v (nI u)) rk' a (v + 1) ∧ rk' u = a ∧ 0 ≤ (upd C v (nI u) u).toInt := by
  obtain ⟨h1, h2, h3, h4, h5⟩ := h
  have n1 := fw_n1 (u := u) hv hn hu
  have n9 := fw_n9 (upd C v (nI u))
  have hp : put < 9 := by omega
  have huv : u ≠ v := fun e => hn (e ▸ hc)
  have hcv : ∀ x, x ≠ v → upd C v (nI u) x = C x := fun x e => pk_un e
  have hcw : upd C v (nI u) v = nI u := pk_us
  have hap : a < put := by have := (h3 u hu hc).1; omega
  refine ⟨hp, fun x => if x = v then put else rk x, ⟨by omega, fun i hi => ?_, fun x hx hx0 => ?_, fun x hx hx0 => ?_, ?_⟩, fun x hx hx0 y hy hxy hwy => ?_, if_neg huv |>.trans hr, ?_⟩
  · by_cases e : i = put
    · exact ⟨v, hv, by rw [e, pk_us], by rw [hcw, ar_nI (by omega)]; omega, (if_pos rfl).trans e.symm⟩
    · obtain ⟨x, a1, a2, a3, a4⟩ := h2 i (by omega)
      have xv : x ≠ v := fun z => hn (z ▸ a3)
      exact ⟨x, a1, by rw [pk_un e, a2], by rw [hcv x xv]; exact a3, (if_neg xv).trans a4⟩
  · show (if x = v then put else rk x) < put + 1 ∧ upd L put (nI v) (if x = v then put else rk x) = nI x
    by_cases e : x = v
    · rw [if_pos e, pk_us, e]; exact ⟨by omega, rfl⟩
    · rw [hcv x e] at hx0
      have := h3 x hx hx0
      rw [if_neg e, pk_un (by omega)]
      exact ⟨by omega, this.2⟩
  · by_cases e : x = v
    · refine Or.inr ⟨u, hu, by rw [e, hcw], by rw [e]; exact hw, by rw [hcv u huv]; exact hc, ?_⟩
      show (if u = v then put else rk u) < (if x = v then put else rk x)
      rw [if_neg huv, if_pos e, hr]; exact hap
    · rw [hcv x e] at hx0 ⊢
      rcases h4 x hx hx0 with b | ⟨y, b1, b2, b3, b4, b5⟩
      · exact Or.inl b
      · have yv : y ≠ v := fun z => hn (z ▸ b4)
        refine Or.inr ⟨y, b1, b2, b3, by rw [hcv y yv]; exact b4, ?_⟩
        show (if y = v then put else rk y) < (if x = v then put else rk x)
        rw [if_neg yv, if_neg e]; exact b5
  · by_cases e : s = v
    · exact absurd (e ▸ h5) hn
    · rw [hcv s e]; exact h5
  · by_cases e : y = v
    · rw [e, hcw, ar_nI (by omega)]; omega
    · rw [hcv y e]
      have hxy' : (if x = v then put else rk x) < a ∨ ((if x = v then put else rk x) = a ∧ y < v + 1) := hxy
      by_cases f : x = v
      · rw [if_pos f] at hxy'; omega
      · rw [if_neg f] at hxy'
        rw [hcv x f] at hx0
        exact q x hx hx0 y hy (by omega) hwy
  · rw [hcv u huv]; exact hc
theorem fw_skip {w : Nat → Nat → Int} {s a put u v : Nat} {C L : Nat → Int32} {rk : Nat → Nat} (h : fw_I w s C L put rk) (q : fw_Q w C rk a v) (hu : u < 9) (hr : rk u = a) (hc : 0 ≤ (C u).toInt)
    (hn : 0 < w u v → 0 ≤ (C v).toInt) : fw_Q w C rk a (v + 1) := by
  intro x hx hx0 y hy hxy hwy
  by_cases e : rk x = a ∧ y = v
  · have e1 := (h.2.2.1 x hx hx0).2
    have e2 := (h.2.2.1 u hu hc).2
    rw [e.1, ← hr, e2] at e1
    have := ar_inj (by omega) (by omega) e1
    rw [e.2]
    exact hn (by rw [this, ← e.2]; exact hwy)
  · exact q x hx hx0 y hy (by omega) hwy
def fw_S (w : Nat → Nat → Int) (s t : Nat) (C : Nat → Int32) (r : Int32) : Prop :=
  (r = 0 ∧ ∃ x : Nat → Int, ct_01 9 x ∧ x s = 0 ∧ x t = 1 ∧ ∀ u v, u < 9 → v < 9 → x u = 0 → x v = 1 → w u v ≤ 0) ∨
  (r = 1 ∧ ∃ c K, ph_W 9 c K ∧ c 0 = t ∧ c K = s ∧ ∀ k, k < K → c k ≠ s ∧ C (c k) = nI (c (k + 1)) ∧ 0 < w (c (k + 1)) (c k))
theorem fw_end {w : Nat → Nat → Int} {s t put : Nat} {C L : Nat → Int32} {rk : Nat → Nat} {a : Nat} (hs : s < 9) (ht : t < 9) (h : fw_I w s C L put rk) (q : fw_Q w C rk a 0) (ha : put ≤ a ∨ 9 ≤ a) :
    (¬ 0 ≤ (C t).toInt → fw_S w s t C 0) ∧ (0 ≤ (C t).toInt → fw_S w s t C 1) := by
  obtain ⟨h1, h2, h3, h4, h5⟩ := h
  have n9 := fw_n9 C
  refine ⟨fun hn => Or.inl ⟨rfl, fun x => if 0 ≤ (C x).toInt then 0 else 1, fun i _ => ?_, if_pos h5, if_neg hn, fun u v hu hv xu xv => ?_⟩, fun hp => Or.inr ⟨rfl, ?_⟩⟩
  · show (if 0 ≤ (C i).toInt then (0 : Int) else 1) = 0 ∨ (if 0 ≤ (C i).toInt then (0 : Int) else 1) = 1
    split
    · exact Or.inl rfl
    · exact Or.inr rfl
  · have xu' : (if 0 ≤ (C u).toInt then (0 : Int) else 1) = 0 := xu
    have xv' : (if 0 ≤ (C v).toInt then (0 : Int) else 1) = 1 := xv
    have cu : 0 ≤ (C u).toInt := by
      by_cases z : 0 ≤ (C u).toInt
      · exact z
      · rw [if_neg z] at xu'; omega
    have cv : ¬ 0 ≤ (C v).toInt := fun z => by rw [if_pos z] at xv'; omega
    by_cases z : 0 < w u v
    · have := (h3 u hu cu).1
      exact absurd (q u hu cu v hv (Or.inl (by omega)) z) cv
    · omega
  · obtain ⟨K, k1, k2, k3, k4, k5⟩ := ph_root (N := 9) (p := fun x => (C x).toNatClampNeg) (ok := fun x => 0 ≤ (C x).toInt) (rt := fun x => x = s) (R := fun a b => rk a < rk b) (fun a b c x y => Nat.lt_trans x y) (fun a => Nat.lt_irrefl _) (fun x hx hx0 => by
      rcases h4 x hx hx0 with b | ⟨y, b1, b2, b3, b4, b5⟩
      · exact Or.inl b
      · refine Or.inr ?_
        show (C x).toNatClampNeg < 9 ∧ 0 ≤ (C (C x).toNatClampNeg).toInt ∧ rk (C x).toNatClampNeg < rk x
        rw [b2, ar_c (by omega)]
        exact ⟨b1, b4, b5⟩) ht hp
    refine ⟨ph_it (fun x => (C x).toNatClampNeg) t, K, ⟨k1, fun k hk => (k4 k hk).1, k5⟩, rfl, k2, fun k hk => ⟨k3 k hk, ?_⟩⟩
    have hk1 := k4 k (by omega)
    rcases h4 _ hk1.1 hk1.2 with b | ⟨y, b1, b2, b3, b4, b5⟩
    · exact absurd b (k3 k hk)
    · have e : ph_it (fun x => (C x).toNatClampNeg) t (k + 1) = y := by
        show (C (ph_it (fun x => (C x).toNatClampNeg) t k)).toNatClampNeg = y
        rw [b2, ar_c (by omega)]
      rw [e]
      exact ⟨b2, b3⟩
abbrev TJ_2 : Type := Int32 → Int32 → (Nat → Int32) → (Nat → Int32) → (Nat → Int32) → (Nat → Int32) → (Nat → Int32) → (Nat → Int32) → (Nat → Int32) → (Nat → Int32) → (Nat → Int32) → (Nat → Int32) → (Nat → Int32) → (Nat → Int32) → Prop
theorem fw_65 {post : Int32 → SX → Prop} {J40 : TJ_2} {x2 : Int32} {s a u : Nat} (hs : s < 9) (hu : u < 9)
    (k : ∀ C L put rk, fw_I (ar_9c W) s C L put rk → fw_Q (ar_9c W) C rk (a + 1) 0 → J40 (nI put) (nI (a + 1)) T P F pa pe am W O C L D H) :
    ∀ (n v : Nat), 9 < n + v → v ≤ 9 → ∀ C L put rk, fw_I (ar_9c W) s C L put rk → fw_Q (ar_9c W) C rk a v → rk u = a → 0 ≤ (C u).toInt →
      wX_findWay_65 post J40 x2 (nI a) (nI u) g n (nI put) (nI v) T P F pa pe am W O C L D H := by
  intro n
  induction n with
  | zero => intro v h1 h2; omega
  | succ n ih =>
    intro v h1 h2 C L put rk hI hQ hr hc
    rw [wX_findWay_65]
    by_cases e : v = 9
    · subst e
      refine br_t (show (9 : Int32) ≤ nI 9 from by decide) (nm_r (nI_1 a) (k C L put rk hI (fun x hx hx0 y hy hxy hwy => ?_)))
      exact hQ x hx hx0 y hy (by omega) hwy
    · have ec : ((9 : Int32) * nI u + nI v).toNatClampNeg = 9 * u + v := ar_c9 hu (by omega)
      have ev : (nI v).toNatClampNeg = v := ar_c (by omega)
      refine br_f (show ¬ (9 : Int32) ≤ nI v from nI_ge (b := 9) (by omega) (by omega)) ⟨ar_in9 hu (by omega), ?_⟩
      rw [ec, ev]
      by_cases hw : W (9 * u + v) ≤ 0
      · have hw' : ¬ 0 < ar_9c W u v := by rw [ar_np] at hw; show ¬ 0 < (W (9 * u + v)).toInt; omega
        exact br_t hw (nm_r (nI_1 v) (ih (v + 1) (by omega) (by omega) C L put rk hI (fw_skip hI hQ hu hr hc (fun z => absurd z hw')) hr hc))
      · have hw' : 0 < ar_9c W u v := by rw [ar_np] at hw; show 0 < (W (9 * u + v)).toInt; omega
        refine br_f hw ⟨vp_in_nI (by omega) (by omega), ?_⟩
        by_cases hv : 0 ≤ C v
        · exact br_t hv (nm_r (nI_1 v) (ih (v + 1) (by omega) (by omega) C L put rk hI (fw_skip hI hQ hu hr hc (fun _ => ar_nn.mp hv)) hr hc))
        · obtain ⟨hp, rk', i1, i2, i3, i4⟩ := fw_add hI hQ hu (by omega) hs hc hr hw' (fun z => hv (ar_nn.mpr z))
          exact br_f hv ⟨vp_in_nI (by omega) (by omega), nm_e ⟨vp_in_nI hp (by omega), nm_r (e' := upd L put (nI v)) (by rw [ar_c (by omega)]) (nm_r (nI_1 put) (nm_r (nI_1 v) (ih (v + 1) (by omega) (by omega) _ _ (put + 1) rk' i1 i2 i3 i4)))⟩⟩
theorem fw_40 {post : Int32 → SX → Prop} {s t : Nat} (hs : s < 9) (ht : t < 9)
    (k : ∀ C L r, fw_S (ar_9c W) s t C r → post r (g, T, P, F, pa, pe, am, W, O, C, L, D, H)) :
    ∀ (n a : Nat), 9 < n + a → a ≤ 9 → ∀ C L put rk, fw_I (ar_9c W) s C L put rk → fw_Q (ar_9c W) C rk a 0 → wX_findWay_40 post (nI t) g n (nI put) (nI a) T P F pa pe am W O C L D H := by
  have kE : ∀ a C L put rk, fw_I (ar_9c W) s C L put rk → fw_Q (ar_9c W) C rk a 0 → (put ≤ a ∨ 9 ≤ a) → wX_findWay_130 post (nI t) g T P F pa pe am W O C L D H := by
    intro a C L put rk hI hQ ha
    have he := fw_end hs ht hI hQ ha
    unfold wX_findWay_130
    refine ⟨vp_in_nI (by omega) (by omega), ?_⟩
    rw [ar_c (show t < 1000 by omega)]
    by_cases z : C t < 0
    · exact br_t z (k C L 0 (he.1 (by rw [ar_ng] at z; omega)))
    · exact br_f z (k C L 1 (he.2 (by rw [ar_ng] at z; omega)))
  intro n
  induction n with
  | zero => intro a h1 h2; omega
  | succ n ih =>
    intro a h1 h2 C L put rk hI hQ
    have n9 := fw_n9 C
    have hp9 : put ≤ 9 := by have := hI.1; omega
    rw [wX_findWay_40]
    by_cases e : put ≤ a
    · exact br_t (nI_le e (by omega)) (kE a C L put rk hI hQ (Or.inl e))
    · refine br_f (nI_ge (by omega) (by omega)) (br_f (show ¬ (9 : Int32) ≤ nI a from nI_ge (b := 9) (by omega) (by omega)) ⟨vp_in_nI (by omega) (by omega), ?_⟩)
      rw [ar_c (show a < 1000 by omega)]
      obtain ⟨u, u1, u2, u3, hr⟩ := hI.2.1 a (by omega)
      exact nm_r u2 ⟨10, fw_65 hs u1 (fun C' L' put' rk' i1 i2 => ih (a + 1) (by omega) (by omega) C' L' put' rk' i1 i2) 10 0 (by omega) (by omega) C L put rk hI hQ hr u3⟩
theorem fw_2 {post : Int32 → SX → Prop} {s t : Nat} (hs : s < 9) (ht : t < 9)
    (k : ∀ C L r, fw_S (ar_9c W) s t C r → post r (g, T, P, F, pa, pe, am, W, O, C, L, D, H)) :
    ∀ (n i : Nat), 9 < n + i → i ≤ 9 → ∀ C, (∀ x, x < i → C x = -1) → wX_findWay_2 post (nI s) (nI t) g n (nI i) T P F pa pe am W O C L D H := by
  intro n
  induction n with
  | zero => intro i h1 h2; omega
  | succ n ih =>
    intro i h1 h2 C hC
    rw [wX_findWay_2]
    by_cases e : i = 9
    · subst e
      have n0 : fw_n C = 0 := zz_c0 (fun x hx => by
        show (if 0 ≤ (C x).toInt then (1 : Int) else 0) = 0
        rw [hC x hx]; decide)
      have hn : ∀ x, x < 9 → ¬ 0 ≤ (C x).toInt := fun x hx => by rw [hC x hx]; decide
      have n1 := fw_n1 (u := s) hs (hn s hs) hs
      have hcs : upd C s (nI s) s = nI s := pk_us
      have h0 : ∀ x, x < 9 → 0 ≤ (upd C s (nI s) x).toInt → x = s := fun x hx hx0 => by
        by_cases z : x = s
        · exact z
        · rw [pk_un z] at hx0; exact absurd hx0 (hn x hx)
      have hpos : 0 ≤ (upd C s (nI s) s).toInt := by rw [hcs, ar_nI (by omega)]; omega
      have hI : fw_I (ar_9c W) s (upd C s (nI s)) (upd L 0 (nI s)) 1 (fun _ => 0) := by
        refine ⟨by omega, fun i hi => ⟨s, hs, by rw [show i = 0 by omega, pk_us], hpos, by show 0 = i; omega⟩, fun x hx hx0 => ?_, fun x hx hx0 => Or.inl (h0 x hx hx0), hpos⟩
        rw [h0 x hx hx0]
        exact ⟨Nat.one_pos, pk_us⟩
      have hQ : fw_Q (ar_9c W) (upd C s (nI s)) (fun _ => 0) 0 0 := fun x hx hx0 y hy hxy hwy => by dsimp only at hxy; omega
      exact br_t (show (9 : Int32) ≤ nI 9 from by decide) ⟨vp_in_nI hs (by omega), nm_r (e' := upd C s (nI s)) (by rw [ar_c (by omega)]) (nm_e ⟨10, fw_40 hs ht k 10 0 (by omega) (by omega) _ _ 1 (fun _ => 0) hI hQ⟩)⟩
    · exact br_f (show ¬ (9 : Int32) ≤ nI i from nI_ge (b := 9) (by omega) (by omega)) ⟨vp_in_nI (by omega) (by omega), nm_r (e' := upd C i (-1)) (by rw [ar_c (by omega)]) (nm_r (nI_1 i) (ih (i + 1) (by omega) (by omega) _ (fun x hx => by
        rw [ar_u]
        by_cases z : x = i
        · rw [if_pos z]
        · rw [if_neg z]; exact hC x (by omega))))⟩
theorem fw_find {post : Int32 → SX → Prop} {s t : Nat} (hs : s < 9) (ht : t < 9)
    (k : ∀ C L r, fw_S (ar_9c W) s t C r → post r (g, T, P, F, pa, pe, am, W, O, C, L, D, H)) : wpX_findWay post (g, T, P, F, pa, pe, am, W, O, C, L, D, H) (nI s) (nI t) :=
  ⟨10, fw_2 hs ht k 10 0 (by omega) (by omega) C (fun x hx => absurd hx (Nat.not_lt_zero _))⟩
end
end
section
/-! the component: the narrowest place, the push, the whole sending -/
section
variable {g : Int32} {T P F pa pe am W O C L D H : Nat → Int32}
theorem xn_9 {post : Int32 → Prop} {s K : Nat} {c : Nat → Nat} (hs : s < 9) (hW : ph_W 9 c K) (hK : c K = s) (hc : ∀ k, k < K → c k ≠ s ∧ C (c k) = nI (c (k + 1)) ∧ 0 < ar_9c W (c (k + 1)) (c k))
    (k : ∀ l : Int32, 1 ≤ l.toInt → l.toInt ≤ 1000000 → (∀ j, j < K → l.toInt ≤ ar_9c W (c (j + 1)) (c j)) → post l) :
    ∀ (n i : Nat), 9 < n + i → i ≤ K → ∀ l : Int32, 1 ≤ l.toInt → l.toInt ≤ 1000000 → (∀ j, j < i → l.toInt ≤ ar_9c W (c (j + 1)) (c j)) →
      wX_narrowest_9 post (nI s) g T P F pa pe am W O C L D H n l (nI (c i)) (nI i) := by
  intro n
  induction n with
  | zero => intro i h1 h2; have := hW.1; omega
  | succ n ih =>
    intro i h1 h2 l l1 l2 l3
    have hK9 := hW.1
    have ci := hW.2.1 i h2
    rw [wX_narrowest_9]
    refine br_f (show ¬ (9 : Int32) ≤ nI i from nI_ge (b := 9) (by omega) (by omega)) ?_
    by_cases e : i = K
    · subst e
      exact br_t (by rw [hK]) (k l l1 l2 l3)
    · obtain ⟨h3, h4, h5⟩ := hc i (by omega)
      have cj := hW.2.1 (i + 1) (by omega)
      refine br_f (ar_ne (by omega) (by omega) h3) ⟨vp_in_nI ci (by omega), nm_r (e' := nI (c (i + 1))) (by rw [ar_c (by omega), h4]) ⟨ar_in9 cj ci, nm_r (e' := W (9 * c (i + 1) + c i)) (by rw [ar_c9 cj ci]) ?_⟩⟩
      by_cases z : l ≤ W (9 * c (i + 1) + c i)
      · refine br_t z (nm_r (nI_1 i) (ih (i + 1) (by omega) (by omega) l l1 l2 (fun j hj => ?_)))
        by_cases f : j = i
        · subst f; exact ar_le.mp z
        · exact l3 j (by omega)
      · rw [ar_le] at z
        have h5' : 0 < (W (9 * c (i + 1) + c i)).toInt := h5
        refine br_f (by rw [ar_le]; exact z) (nm_r (nI_1 i) (ih (i + 1) (by omega) (by omega) _ (by omega) (by omega) (fun j hj => ?_)))
        by_cases f : j = i
        · subst f; exact Int.le_refl _
        · have := l3 j (by omega); omega
theorem xn_narrow {post : Int32 → Prop} {s t K : Nat} {c : Nat → Nat} (hs : s < 9) (hW : ph_W 9 c K) (h0 : c 0 = t) (hK : c K = s) (hc : ∀ k, k < K → c k ≠ s ∧ C (c k) = nI (c (k + 1)) ∧ 0 < ar_9c W (c (k + 1)) (c k))
    (k : ∀ l : Int32, 1 ≤ l.toInt → l.toInt ≤ 1000000 → (∀ j, j < K → l.toInt ≤ ar_9c W (c (j + 1)) (c j)) → post l) : wpX_narrowest post (g, T, P, F, pa, pe, am, W, O, C, L, D, H) (nI s) (nI t) := by
  subst h0
  exact ⟨10, xn_9 hs hW hK hc k 10 0 (by omega) (by omega) 1000000 (by decide) (by decide) (fun j hj => absurd hj (Nat.not_lt_zero _))⟩
theorem xp_6 {post : SX → Prop} {s K : Nat} {c : Nat → Nat} {w : Nat → Nat → Int} {a : Int32} (hs : s < 9) (hW : ph_W 9 c K) (hK : c K = s) (hc : ∀ k, k < K → c k ≠ s ∧ C (c k) = nI (c (k + 1)))
    (ha : 0 ≤ a.toInt) (ha2 : a.toInt ≤ 1000000) (hw : ∀ u v, u < 9 → v < 9 → 0 ≤ w u v ∧ w u v ≤ 2000000)
    (k : ∀ W, (∀ u v, u < 9 → v < 9 → ar_9c W u v = w u v - a.toInt * ph_g c K u v) → post (g, T, P, F, pa, pe, am, W, O, C, L, D, H)) :
    ∀ (n i : Nat), 9 < n + i → i ≤ K → ∀ W, (∀ u v, u < 9 → v < 9 → ar_9c W u v = w u v - a.toInt * ph_g c i u v) →
      wX_push_6 post (nI s) a g n (nI (c i)) (nI i) T P F pa pe am W O C L D H := by
  intro n
  induction n with
  | zero => intro i h1 h2; have := hW.1; omega
  | succ n ih =>
    intro i h1 h2 W hV
    have hK9 := hW.1
    have ci := hW.2.1 i h2
    rw [wX_push_6]
    refine br_f (show ¬ (9 : Int32) ≤ nI i from nI_ge (b := 9) (by omega) (by omega)) ?_
    by_cases e : i = K
    · subst e
      exact br_t (by rw [hK]) (k W hV)
    · obtain ⟨h3, h4⟩ := hc i (by omega)
      have cj := hW.2.1 (i + 1) (by omega)
      have hd : ∀ p q, p < q → q ≤ i + 1 → c p ≠ c q := fun p q hp hq => hW.2.2 p q hp (by omega)
      have hne : c (i + 1) ≠ c i := fun z => hd i (i + 1) (by omega) (by omega) z.symm
      have g1 := ph_g_next hd
      have g2 : ph_g c i (c i) (c (i + 1)) = 0 := by rw [ph_g_anti, g1]; rfl
      have w1 := hV _ _ cj ci
      have w2 := hV _ _ ci cj
      rw [g1, Int.mul_zero] at w1
      rw [g2, Int.mul_zero] at w2
      have b1 := hw _ _ cj ci
      have b2 := hw _ _ ci cj
      refine br_f (ar_ne (by omega) (by omega) h3) ⟨vp_in_nI ci (by omega), nm_r (e' := nI (c (i + 1))) (by rw [ar_c (by omega), h4]) ⟨ar_in9 cj ci, ar_in9 cj ci,
        nm_r (e' := upd W (9 * c (i + 1) + c i) (W (9 * c (i + 1) + c i) - a)) (by rw [ar_c9 cj ci]) ⟨ar_in9 ci cj, ar_in9 ci cj,
        nm_r (e' := upd (upd W (9 * c (i + 1) + c i) (W (9 * c (i + 1) + c i) - a)) (9 * c i + c (i + 1)) ((upd W (9 * c (i + 1) + c i) (W (9 * c (i + 1) + c i) - a)) (9 * c i + c (i + 1)) + a)) (by rw [ar_c9 ci cj]) (nm_r (nI_1 i) (ih (i + 1) (by omega) (by omega) _ (fun u v hu hv => ?_)))⟩⟩⟩
      rw [ar_mv9 cj ci hne (by omega) (by omega) (by omega) (by omega) hv, hV u v hu hv, ph_g_1]
      rw [Int.mul_sub, Int.mul_sub, Int.mul_add]; omega
theorem xp_push {post : SX → Prop} {s t K : Nat} {c : Nat → Nat} {a : Int32} (hs : s < 9) (hW : ph_W 9 c K) (h0 : c 0 = t) (hK : c K = s) (hc : ∀ k, k < K → c k ≠ s ∧ C (c k) = nI (c (k + 1)))
    (ha : 0 ≤ a.toInt) (ha2 : a.toInt ≤ 1000000) (hw : ∀ u v, u < 9 → v < 9 → 0 ≤ ar_9c W u v ∧ ar_9c W u v ≤ 2000000)
    (k : ∀ W', (∀ u v, u < 9 → v < 9 → ar_9c W' u v = ar_9c W u v - a.toInt * ph_g c K u v) → post (g, T, P, F, pa, pe, am, W', O, C, L, D, H)) : wpX_push post (g, T, P, F, pa, pe, am, W, O, C, L, D, H) (nI s) (nI t) a := by
  subst h0
  refine ⟨10, xp_6 hs hW hK hc ha ha2 hw k 10 0 (by omega) (by omega) W (fun u v _ _ => ?_)⟩
  show _ = _ - a.toInt * 0
  omega
/-- what holds at the head of the sending loop -/
def xs_I (w0 : Nat → Nat → Int) (s t : Nat) (lim q : Int) (i : Nat) (W C : Nat → Int32) (way : Int32) : Prop :=
  sd_P w0 (ar_9c W) s t q ∧ (i : Int) ≤ q ∧ q ≤ lim ∧ ((way = 0 ∧ (lim ≤ q ∨ fw_S (ar_9c W) s t C 0)) ∨ (way = 1 ∧ q < lim ∧ fw_S (ar_9c W) s t C 1))
theorem xs_lt {w0 : Nat → Nat → Int} {s t : Nat} {lim q : Int} {V : Nat → Nat → Int} (hs : s < 9) (ht : t < 9) (hst : s ≠ t) (h : sd_P w0 V s t q) (hq : q ≤ lim) (hB : lim < 100000 ∨ ∀ v, v < 9 → w0 s v ≤ 2000) : q < 100000 := by
  rcases hB with a | a
  · omega
  · have h1 := sd_cut (x := fun x => if x = s then 0 else 1) h hs ht (if_pos rfl) (if_neg (fun z => hst z.symm))
    have h01 : ct_01 9 (fun x => if x = s then 0 else 1) := fun i _ => by
      show (if i = s then (0 : Int) else 1) = 0 ∨ (if i = s then (0 : Int) else 1) = 1
      split
      · exact Or.inl rfl
      · exact Or.inr rfl
    have h2 := ct_nn h01 h.1
    have h3 : ct_c 9 (fun x => if x = s then 0 else 1) w0 ≤ ct_c 9 (fun x => if x = s then 0 else 1) (fun u v => if u = s then 2000 else 0) := ct_mono h01 (fun u v hu hv xu xv => by
      have xu' : (if u = s then (0 : Int) else 1) = 0 := xu
      by_cases z : u = s
      · show w0 u v ≤ if u = s then 2000 else 0
        rw [if_pos z, z]; exact a v hv
      · rw [if_neg z] at xu'; omega)
    have h4 : ∀ s, s < 9 → ct_c 9 (fun x => if x = s then 0 else 1) (fun u v => if u = s then 2000 else 0) < 100000 := by decide +kernel
    have := h4 s hs
    omega
theorem xs_28 {post : Int32 → SX → Prop} {s t : Nat} {lim : Int32} {w0 : Nat → Nat → Int} (hs : s < 9) (ht : t < 9) (hst : s ≠ t) (h0 : ∀ u v, u < 9 → v < 9 → 0 ≤ w0 u v ∧ w0 u v ≤ 1000000)
    (hB : lim.toInt < 100000 ∨ ∀ v, v < 9 → w0 s v ≤ 2000)
    (k : ∀ (q : Int32) W C L, sd_P w0 (ar_9c W) s t q.toInt → 0 ≤ q.toInt → q.toInt ≤ lim.toInt → (lim.toInt ≤ q.toInt ∨ fw_S (ar_9c W) s t C 0) → post q (g, T, P, F, pa, pe, am, W, O, C, L, D, H)) :
    ∀ (n i : Nat), 100000 < n + i → ∀ (q : Int32) W C L way, xs_I w0 s t lim.toInt q.toInt i W C way → wX_send_28 post (nI s) (nI t) lim n q way (nI i) g T P F pa pe am W O C L D H := by
  intro n
  induction n with
  | zero =>
    intro i h1 q W C L way hI
    have := xs_lt hs ht hst hI.1 hI.2.2.1 hB
    have := hI.2.1
    omega
  | succ n ih =>
    intro i h1 q W C L way hI
    obtain ⟨hP, hi, hq, hway⟩ := hI
    have hl := xs_lt hs ht hst hP hq hB
    rw [wX_send_28]
    refine br_f (show ¬ (100000 : Int32) ≤ nI i from nI_ge (b := 100000) (by omega) (by omega)) ?_
    rcases hway with ⟨e, hway⟩ | ⟨e, hql, hway⟩
    · subst e
      exact br_t rfl (k q W C L hP (by omega) hq hway)
    · subst e
      rcases hway with ⟨z, _⟩ | ⟨_, c, K, hW, c0, cK, hc⟩
      · exact absurd z (by decide)
      · have hb : ∀ u v, u < 9 → v < 9 → 0 ≤ ar_9c W u v ∧ ar_9c W u v ≤ 2000000 := fun u v hu hv => by
          have a1 := hP.1 u v hu hv
          have a2 := hP.1 v u hv hu
          have a3 := hP.2.1 u v hu hv
          have a4 := h0 u v hu hv
          have a5 := h0 v u hv hu
          omega
        have er : (lim - q).toInt = lim.toInt - q.toInt := ar_sub (by have := lim.toInt_lt; omega) (by have := lim.toInt_lt; omega)
        -- one round with amount a
        have round : ∀ a : Int32, 1 ≤ a.toInt → a.toInt ≤ 1000000 → a.toInt ≤ lim.toInt - q.toInt → (∀ j, j < K → a.toInt ≤ ar_9c W (c (j + 1)) (c j)) →
            wX_send_68 post (wX_send_28 post (nI s) (nI t) lim n) (nI s) (nI t) lim q (nI i) a g T P F pa pe am W O C L D H := by
          intro a a1 a2 a3 a4
          unfold wX_send_68
          refine xp_push hs hW c0 cK (fun k hk => ⟨(hc k hk).1, (hc k hk).2.1⟩) (by omega) a2 hb (fun W' hW' => ?_)
          have hP' : sd_P w0 (ar_9c W') s t (q.toInt + a.toInt) := by
            refine sd_trans hP ?_
            have := ph_send hW (by omega) (fun u v hu hv => (hb u v hu hv).1) a4 hW'
            rw [c0, cK] at this
            exact this
          have eq : (q + a).toInt = q.toInt + a.toInt := ar_add (by omega) (by have := lim.toInt_lt; omega)
          refine nm_e ?_
          by_cases z : lim ≤ q + a
          · refine br_t z (nm_r (nI_1 i) (ih (i + 1) (by omega) (q + a) W' C L 0 ⟨by rw [eq]; exact hP', by omega, by omega, Or.inl ⟨rfl, Or.inl (ar_le.mp z)⟩⟩))
          · refine br_f z (fw_find hs ht (fun C' L' r hS => ?_))
            rw [ar_le] at z
            rcases hS with ⟨r0, hx⟩ | ⟨r1, hx⟩
            · exact br_t r0 (nm_r (nI_1 i) (ih (i + 1) (by omega) (q + a) W' C' L' 0 ⟨by rw [eq]; exact hP', by omega, by omega, Or.inl ⟨rfl, Or.inr (Or.inl ⟨rfl, hx⟩)⟩⟩))
            · exact br_f (by rw [r1]; decide) (nm_r (nI_1 i) (ih (i + 1) (by omega) (q + a) W' C' L' 1 ⟨by rw [eq]; exact hP', by omega, by omega, Or.inr ⟨rfl, by omega, Or.inr ⟨rfl, hx⟩⟩⟩))
        refine br_f (by decide) (xn_narrow hs hW c0 cK hc (fun l l1 l2 l3 => nm_e ?_))
        by_cases z : lim - q ≤ l
        · have z' := ar_le.mp z
          exact br_t z (round (lim - q) (by omega) (by omega) (by omega) (fun j hj => by have := l3 j hj; omega))
        · have z' : ¬ (lim - q).toInt ≤ l.toInt := fun y => z (ar_le.mpr y)
          exact br_f z (round l l1 l2 (by omega) l3)
theorem xs_send {post : Int32 → SX → Prop} {s t : Nat} {lim : Int32} (hs : s < 9) (ht : t < 9) (hst : s ≠ t) (hl : 0 ≤ lim.toInt) (h0 : ∀ u v, u < 9 → v < 9 → 0 ≤ ar_9c W u v ∧ ar_9c W u v ≤ 1000000)
    (hB : lim.toInt < 100000 ∨ ∀ v, v < 9 → ar_9c W s v ≤ 2000)
    (k : ∀ (q : Int32) W' C L, sd_P (ar_9c W) (ar_9c W') s t q.toInt → 0 ≤ q.toInt → q.toInt ≤ lim.toInt → (lim.toInt ≤ q.toInt ∨ fw_S (ar_9c W') s t C 0) → post q (g, T, P, F, pa, pe, am, W', O, C, L, D, H)) : wpX_send post (g, T, P, F, pa, pe, am, W, O, C, L, D, H) (nI s) (nI t) lim := by
  have hr : sd_P (ar_9c W) (ar_9c W) s t (0 : Int32).toInt := by rw [ar_0]; exact sd_refl (fun u v hu hv => (h0 u v hu hv).1)
  have hL := xs_28 (g := g) (T := T) (P := P) (F := F) (pa := pa) (pe := pe) (am := am) (O := O) (D := D) (H := H) (post := post) hs ht hst h0 hB k
  unfold wpX_send
  dsimp only
  by_cases z : lim ≤ 0
  · exact br_t z ⟨100001, hL 100001 0 (by omega) 0 W C L 0 ⟨hr, by rw [ar_0]; omega, by rw [ar_0]; exact hl, Or.inl ⟨rfl, Or.inl (by rw [ar_0]; exact ar_np.mp z)⟩⟩⟩
  · refine br_f z (fw_find hs ht (fun C' L' r hS => ?_))
    rcases hS with ⟨r0, hx⟩ | ⟨r1, hx⟩
    · exact br_t r0 ⟨100001, hL 100001 0 (by omega) 0 W C' L' 0 ⟨hr, by rw [ar_0]; omega, by rw [ar_0]; exact hl, Or.inl ⟨rfl, Or.inr (Or.inl ⟨rfl, hx⟩)⟩⟩⟩
    · exact br_f (by rw [r1]; decide) ⟨100001, hL 100001 0 (by omega) 0 W C' L' 1 ⟨hr, by rw [ar_0]; omega, by rw [ar_0]; exact hl, Or.inr ⟨rfl, by rw [ar_0]; rw [ar_np] at z; omega, Or.inr ⟨rfl, hx⟩⟩⟩⟩
end
end
section
/-! the reference: sets of members, their slack, the least slack -/
theorem nx_and (a b : Nat) : nI a &&& nI b = nI (a &&& b) := by
  apply Int32.toBitVec_inj.1
  show BitVec.ofNat 32 a &&& BitVec.ofNat 32 b = BitVec.ofNat 32 (a &&& b)
  apply BitVec.eq_of_getLsbD_eq
  intro i hi
  simp [hi]
theorem sl_bit : ∀ s, s < 128 → ∀ u, u < 7 → (((nI s >>> (nI u &&& 31)) &&& 1) = 1 ↔ s.testBit u = true) := by decide +kernel
theorem sl_shl : ∀ v, v < 7 → ((1 : Int32) <<< (nI v &&& 31)) = nI (2 ^ v) := by decide +kernel
def sl_x (s u : Nat) : Int := if s.testBit u = true then 1 else 0
theorem sl_01 (n s : Nat) : ct_01 n (sl_x s) := fun i _ => by
  unfold sl_x
  split
  · exact Or.inr rfl
  · exact Or.inl rfl
theorem sl_xd (s u : Nat) : sl_x s u = ((s / 2 ^ u % 2 : Nat) : Int) := by
  unfold sl_x
  rw [Nat.testBit_eq_decide_div_mod_eq]
  rcases Nat.mod_two_eq_zero_or_one (s / 2 ^ u) with e | e <;> rw [e] <;> rfl
/-- every set is a number below 128 -/
theorem sl_of (x : Nat → Int) (h : ct_01 7 x) : ∃ s, s < 128 ∧ ∀ u, u < 7 → sl_x s u = x u := by
  have hx : ∀ i, i < 7 → ∃ a : Nat, a < 2 ∧ x i = (a : Int) := fun i hi => by
    rcases h i hi with e | e
    · exact ⟨0, by omega, e⟩
    · exact ⟨1, by omega, e⟩
  obtain ⟨a0, l0, e0⟩ := hx 0 (by omega)
  obtain ⟨a1, l1, e1⟩ := hx 1 (by omega)
  obtain ⟨a2, l2, e2⟩ := hx 2 (by omega)
  obtain ⟨a3, l3, e3⟩ := hx 3 (by omega)
  obtain ⟨a4, l4, e4⟩ := hx 4 (by omega)
  obtain ⟨a5, l5, e5⟩ := hx 5 (by omega)
  obtain ⟨a6, l6, e6⟩ := hx 6 (by omega)
  refine ⟨a0 + 2 * a1 + 4 * a2 + 8 * a3 + 16 * a4 + 32 * a5 + 64 * a6, by omega, fun u hu => ?_⟩
  rw [sl_xd]
  have hu' : u = 0 ∨ u = 1 ∨ u = 2 ∨ u = 3 ∨ u = 4 ∨ u = 5 ∨ u = 6 := by omega
  rcases hu' with rfl | rfl | rfl | rfl | rfl | rfl | rfl
  · rw [e0, show (a0 + 2 * a1 + 4 * a2 + 8 * a3 + 16 * a4 + 32 * a5 + 64 * a6) / 2 ^ 0 % 2 = a0 by omega]
  · rw [e1, show (a0 + 2 * a1 + 4 * a2 + 8 * a3 + 16 * a4 + 32 * a5 + 64 * a6) / 2 ^ 1 % 2 = a1 by omega]
  · rw [e2, show (a0 + 2 * a1 + 4 * a2 + 8 * a3 + 16 * a4 + 32 * a5 + 64 * a6) / 2 ^ 2 % 2 = a2 by omega]
  · rw [e3, show (a0 + 2 * a1 + 4 * a2 + 8 * a3 + 16 * a4 + 32 * a5 + 64 * a6) / 2 ^ 3 % 2 = a3 by omega]
  · rw [e4, show (a0 + 2 * a1 + 4 * a2 + 8 * a3 + 16 * a4 + 32 * a5 + 64 * a6) / 2 ^ 4 % 2 = a4 by omega]
  · rw [e5, show (a0 + 2 * a1 + 4 * a2 + 8 * a3 + 16 * a4 + 32 * a5 + 64 * a6) / 2 ^ 5 % 2 = a5 by omega]
  · rw [e6, show (a0 + 2 * a1 + 4 * a2 + 8 * a3 + 16 * a4 + 32 * a5 + 64 * a6) / 2 ^ 6 % 2 = a6 by omega]
theorem sl_held1 : ∀ v, v < 7 → ∀ s, s < 128 → (s &&& 2 ^ v = 2 ^ v ↔ s.testBit v = true) := by decide +kernel
theorem sl_heldn : ∀ h, h < 128 → ∀ s, s < 128 → (s &&& h = h ↔ ∀ v, v < 7 → h.testBit v = true → s.testBit v = true) := by decide +kernel
def sl_f (T : Nat → Int32) (s p : Nat) : Int := sl_x s (p / 7) * (1 - sl_x s (p % 7)) * (T p).toInt
def sl_v (T P : Nat → Int32) (s : Nat) : Int := zz_s 49 (sl_f T s) - zz_s 7 (fun u => sl_x s u * (P u).toInt)
theorem sl_v_ct (T P : Nat → Int32) (s : Nat) : sl_v T P s = ct_c 7 (sl_x s) (fun u v => ar_7c T v u) - zz_s 7 (fun u => sl_x s u * (P u).toInt) := by
  unfold sl_v ct_c
  have e : zz_s 49 (sl_f T s) = zz_s 7 (fun v => zz_s 7 (fun u => sl_x s v * (1 - sl_x s u) * ar_7c T v u)) := by
    rw [show 49 = 7 * 7 from rfl, zz_blk]
    refine zz_congr (fun v hv => zz_congr (fun u hu => ?_))
    show sl_x s ((7 * v + u) / 7) * (1 - sl_x s ((7 * v + u) % 7)) * (T (7 * v + u)).toInt = sl_x s v * (1 - sl_x s u) * (T (7 * v + u)).toInt
    rw [show (7 * v + u) / 7 = v by omega, show (7 * v + u) % 7 = u by omega]
  rw [e]
section
variable {l : Int32} {T P pa pe am OW RE PR BE : Nat → Int32}
theorem yi_in {post : Int32 → Prop} {s u : Nat} (hs : s < 128) (hu : u < 7) (k1 : s.testBit u = true → post 1) (k0 : s.testBit u = false → post 0) : wpY_in post (l, T, P, pa, pe, am, OW, RE, PR, BE) (nI s) (nI u) := by
  have hb := sl_bit s hs u hu
  unfold wpY_in
  dsimp only
  refine br_c (fun h => k1 (hb.mp h)) (fun h => k0 ?_)
  cases e : s.testBit u with
  | false => rfl
  | true => exact absurd (hb.mpr e) h
theorem sl_fb {T : Nat → Int32} {s p : Nat} (h : 0 ≤ (T p).toInt ∧ (T p).toInt ≤ 1000) : 0 ≤ sl_f T s p ∧ sl_f T s p ≤ 1000 := by
  unfold sl_f sl_x
  split <;> split <;> simp <;> omega
theorem sl_sb {T : Nat → Int32} {s : Nat} (h : ∀ p, p < 49 → 0 ≤ (T p).toInt ∧ (T p).toInt ≤ 1000) : ∀ p, p ≤ 49 → 0 ≤ zz_s p (sl_f T s) ∧ zz_s p (sl_f T s) ≤ 1000 * (p : Int) := by
  intro p
  induction p with
  | zero => intro _; rw [zz_0]; omega
  | succ p ih =>
    intro hp
    have h1 := ih (by omega)
    have h2 := sl_fb (s := s) (h p (by omega))
    rw [zz_1]; omega
theorem sl_pb {P : Nat → Int32} {s : Nat} (h : ∀ u, u < 7 → -100000 ≤ (P u).toInt ∧ (P u).toInt ≤ 100000) : ∀ u : Nat, u ≤ 7 → -(100000 * (u : Int)) ≤ zz_s u (fun u => sl_x s u * (P u).toInt) ∧ zz_s u (fun u => sl_x s u * (P u).toInt) ≤ 100000 * (u : Int) := by
  intro u
  induction u with
  | zero => intro _; rw [zz_0]; omega
  | succ u ih =>
    intro hu
    have h1 := ih (by omega)
    have h2 := h u (by omega)
    rw [zz_1]
    show -(100000 * ((u + 1 : Nat) : Int)) ≤ zz_s u (fun u => sl_x s u * (P u).toInt) + sl_x s u * (P u).toInt ∧ zz_s u (fun u => sl_x s u * (P u).toInt) + sl_x s u * (P u).toInt ≤ 100000 * ((u + 1 : Nat) : Int)
    have h3 : sl_x s u = 0 ∨ sl_x s u = 1 := sl_01 (u + 1) s u (by omega)
    rcases h3 with e | e
    · rw [e]; omega
    · rw [e]; omega
theorem ys_55 {post : Int32 → Prop} {s : Nat} {A : Int} (hs : s < 128) (hA : 0 ≤ A ∧ A ≤ 49000) (hP : ∀ u, u < 7 → -100000 ≤ (P u).toInt ∧ (P u).toInt ≤ 100000)
    (k : ∀ r : Int32, r.toInt = A - zz_s 7 (fun u => sl_x s u * (P u).toInt) → post r) :
    ∀ (n i : Nat), 7 < n + i → i ≤ 7 → ∀ x : Int32, x.toInt = A - zz_s i (fun u => sl_x s u * (P u).toInt) → wY_slack_55 post (nI s) l T P pa pe am OW RE PR BE n x (nI i) := by
  intro n
  induction n with
  | zero => intro i h1 h2; omega
  | succ n ih =>
    intro i h1 h2 x hx
    rw [wY_slack_55]
    by_cases e : i = 7
    · subst e
      exact br_t (show (7 : Int32) ≤ nI 7 from by decide) (k x hx)
    · refine br_f (show ¬ (7 : Int32) ≤ nI i from nI_ge (b := 7) (by omega) (by omega)) (yi_in hs (by omega) (fun hb => ?_) (fun hb => ?_))
      · have hb' : sl_x s i = 1 := if_pos hb
        have b1 := hP i (by omega)
        have b2 := sl_pb (s := s) hP i (by omega)
        refine br_f (by decide) ⟨vp_in_nI (by omega) (by omega), nm_r (e' := x - P i) (by rw [ar_c (by omega)]) (nm_r (nI_1 i) (ih (i + 1) (by omega) (by omega) _ ?_))⟩
        rw [ar_sub (by omega) (by omega), hx, zz_1]
        show _ = A - (zz_s i (fun u => sl_x s u * (P u).toInt) + sl_x s i * (P i).toInt)
        rw [hb']; omega
      · have hb' : sl_x s i = 0 := if_neg (by rw [hb]; decide)
        refine br_t rfl (nm_r (nI_1 i) (ih (i + 1) (by omega) (by omega) x ?_))
        rw [hx, zz_1]
        show _ = A - (zz_s i (fun u => sl_x s u * (P u).toInt) + sl_x s i * (P i).toInt)
        rw [hb']; omega
theorem ys_4 {post : Int32 → Prop} {s : Nat} (hs : s < 128) (hT : ∀ p, p < 49 → 0 ≤ (T p).toInt ∧ (T p).toInt ≤ 1000)
    (hP : ∀ u, u < 7 → -100000 ≤ (P u).toInt ∧ (P u).toInt ≤ 100000) (k : ∀ r : Int32, r.toInt = sl_v T P s → post r) :
    ∀ (n i : Nat), 49 < n + i → i ≤ 49 → ∀ x : Int32, x.toInt = zz_s i (sl_f T s) → wY_slack_4 post (nI s) l T P pa pe am OW RE PR BE n x (nI i) := by
  intro n
  induction n with
  | zero => intro i h1 h2; omega
  | succ n ih =>
    intro i h1 h2 x hx
    rw [wY_slack_4]
    by_cases e : i = 49
    · subst e
      have hb := sl_sb (s := s) hT 49 (by omega)
      exact br_t (show (49 : Int32) ≤ nI 49 from by decide) ⟨8, ys_55 (A := zz_s 49 (sl_f T s)) hs (by omega) hP k 8 0 (by omega) (by omega) x (by rw [hx, zz_0]; omega)⟩
    · have hd : nI i / 7 = nI (i / 7) := pk_div (d := 7) (by omega) (by omega) (by omega)
      have hm : nI i - nI i / 7 * 7 = nI (i % 7) := pk_rem (d := 7) (by omega) (by omega) (by omega)
      have hb := sl_sb (s := s) hT i (by omega)
      have ht := hT i (by omega)
      refine br_f (show ¬ (49 : Int32) ≤ nI i from nI_ge (b := 49) (by omega) (by omega)) ⟨by decide, ?_⟩
      rw [hm, hd]
      refine yi_in hs (by omega) (fun b1 => br_f (by decide) ⟨by decide, yi_in hs (by omega) (fun b2 => ?_) (fun b2 => ?_)⟩) (fun b1 => ?_)
      · refine br_f (by decide) (nm_r (nI_1 i) (ih (i + 1) (by omega) (by omega) x ?_))
        rw [hx, zz_1]
        show _ = zz_s i (sl_f T s) + sl_x s (i / 7) * (1 - sl_x s (i % 7)) * (T i).toInt
        have q2 : sl_x s (i % 7) = 1 := if_pos b2
        rw [q2]; simp
      · refine br_t rfl ⟨vp_in_nI (by omega) (by omega), nm_r (e' := x + T i) (by rw [ar_c (by omega)]) (nm_r (nI_1 i) (ih (i + 1) (by omega) (by omega) _ ?_))⟩
        rw [ar_add (by omega) (by omega), hx, zz_1]
        show _ = zz_s i (sl_f T s) + sl_x s (i / 7) * (1 - sl_x s (i % 7)) * (T i).toInt
        have q1 : sl_x s (i / 7) = 1 := if_pos b1
        have q2 : sl_x s (i % 7) = 0 := if_neg (by rw [b2]; decide)
        rw [q1, q2]; simp
      · refine br_t rfl (nm_r (nI_1 i) (ih (i + 1) (by omega) (by omega) x ?_))
        rw [hx, zz_1]
        show _ = zz_s i (sl_f T s) + sl_x s (i / 7) * (1 - sl_x s (i % 7)) * (T i).toInt
        have q1 : sl_x s (i / 7) = 0 := if_neg (by rw [b1]; decide)
        rw [q1]; simp
theorem ys_slack {post : Int32 → Prop} {s : Nat} (hs : s < 128) (hT : ∀ p, p < 49 → 0 ≤ (T p).toInt ∧ (T p).toInt ≤ 1000)
    (hP : ∀ u, u < 7 → -100000 ≤ (P u).toInt ∧ (P u).toInt ≤ 100000) (k : ∀ r : Int32, r.toInt = sl_v T P s → post r) : wpY_slack post (l, T, P, pa, pe, am, OW, RE, PR, BE) (nI s) :=
  ⟨50, ys_4 hs hT hP k 50 0 (by omega) (by omega) 0 (by rw [ar_0, zz_0])⟩
theorem yp_4 {post : Int32 → Prop} (hT : ∀ p, p < 49 → 0 ≤ (T p).toInt ∧ (T p).toInt ≤ 1000)
    (hP : ∀ u, u < 7 → -100000 ≤ (P u).toInt ∧ (P u).toInt ≤ 100000) (k1 : (∀ s, s < 128 → 0 ≤ sl_v T P s) → post 1) (k0 : (∃ s, s < 128 ∧ sl_v T P s < 0) → post 0) :
    ∀ (n i : Nat), 128 < n + i → i ≤ 128 → ∀ x : Int32, ((x = 1 ∧ ∀ s, s < i → 0 ≤ sl_v T P s) ∨ (x = 0 ∧ ∃ s, s < 128 ∧ sl_v T P s < 0)) → wY_isPossible_4 post l T P pa pe am OW RE PR BE n x (nI i) := by
  intro n
  induction n with
  | zero => intro i h1 h2; omega
  | succ n ih =>
    intro i h1 h2 x hx
    rw [wY_isPossible_4]
    by_cases e : i = 128
    · subst e
      refine br_t (show (128 : Int32) ≤ nI 128 from by decide) ?_
      rcases hx with ⟨a, b⟩ | ⟨a, b⟩
      · subst a; exact ⟨narrow_b1, k1 b⟩
      · subst a; exact ⟨narrow_b0, k0 b⟩
    · refine br_f (show ¬ (128 : Int32) ≤ nI i from nI_ge (b := 128) (by omega) (by omega)) ?_
      rcases hx with ⟨a, b⟩ | ⟨a, b⟩
      · subst a
        refine br_f (by decide) (ys_slack (by omega) hT hP (fun r hr => ?_))
        by_cases z : r < 0
        · exact br_t z (nm_r (nI_1 i) (ih (i + 1) (by omega) (by omega) 0 (Or.inr ⟨rfl, i, by omega, by rw [← hr]; exact ar_ng.mp z⟩)))
        · refine br_f z (nm_r (nI_1 i) (ih (i + 1) (by omega) (by omega) 1 (Or.inl ⟨rfl, fun s hs => ?_⟩)))
          by_cases f : s = i
          · subst f; rw [← hr]; rw [ar_ng] at z; omega
          · exact b s (by omega)
      · subst a
        exact br_t rfl (nm_r (nI_1 i) (ih (i + 1) (by omega) (by omega) 0 (Or.inr ⟨rfl, b⟩)))
theorem yp_poss {post : Int32 → Prop} (hT : ∀ p, p < 49 → 0 ≤ (T p).toInt ∧ (T p).toInt ≤ 1000)
    (hP : ∀ u, u < 7 → -100000 ≤ (P u).toInt ∧ (P u).toInt ≤ 100000) (k1 : (∀ s, s < 128 → 0 ≤ sl_v T P s) → post 1) (k0 : (∃ s, s < 128 ∧ sl_v T P s < 0) → post 0) : wpY_isPossible post (l, T, P, pa, pe, am, OW, RE, PR, BE) :=
  ⟨129, yp_4 hT hP k1 k0 129 0 (by omega) (by omega) 1 (Or.inl ⟨rfl, fun s hs => absurd hs (Nat.not_lt_zero _)⟩)⟩
def yl_c (h u s : Nat) : Prop := s &&& h = h ∧ s.testBit u = false
theorem yl_5 {post : Int32 → Prop} {h u : Nat} (hh : h < 128) (hu : u < 7) (hT : ∀ p, p < 49 → 0 ≤ (T p).toInt ∧ (T p).toInt ≤ 1000)
    (hP : ∀ u, u < 7 → -100000 ≤ (P u).toInt ∧ (P u).toInt ≤ 100000) (hn : ∀ s, s < 128 → 0 ≤ sl_v T P s) {s0 : Nat} (h0 : s0 < 128 ∧ yl_c h u s0)
    (k : ∀ r : Int32, (∃ s, s < 128 ∧ yl_c h u s ∧ r.toInt = sl_v T P s) → (∀ s, s < 128 → yl_c h u s → r.toInt ≤ sl_v T P s) → post r) :
    ∀ (n i : Nat), 128 < n + i → i ≤ 128 → ∀ x : Int32, ((x = -1 ∧ ∀ s, s < i → ¬ yl_c h u s) ∨ ((∃ s, s < 128 ∧ yl_c h u s ∧ x.toInt = sl_v T P s) ∧ (∀ s, s < i → yl_c h u s → x.toInt ≤ sl_v T P s))) →
      wY_leastSlack_5 post (nI h) (nI u) l T P pa pe am OW RE PR BE n x (nI i) := by
  intro n
  induction n with
  | zero => intro i h1 h2; omega
  | succ n ih =>
    intro i h1 h2 x hx
    rw [wY_leastSlack_5]
    by_cases e : i = 128
    · subst e
      refine br_t (show (128 : Int32) ≤ nI 128 from by decide) ?_
      rcases hx with ⟨a, b⟩ | ⟨a, b⟩
      · exact absurd h0.2 (b s0 h0.1)
      · exact k x a b
    · refine br_f (show ¬ (128 : Int32) ≤ nI i from nI_ge (b := 128) (by omega) (by omega)) ?_
      have hnx : ∀ y : Int32, ¬ yl_c h u i → ((y = -1 ∧ ∀ s, s < i → ¬ yl_c h u s) ∨ ((∃ s, s < 128 ∧ yl_c h u s ∧ y.toInt = sl_v T P s) ∧ (∀ s, s < i → yl_c h u s → y.toInt ≤ sl_v T P s))) →
          ((y = -1 ∧ ∀ s, s < i + 1 → ¬ yl_c h u s) ∨ ((∃ s, s < 128 ∧ yl_c h u s ∧ y.toInt = sl_v T P s) ∧ (∀ s, s < i + 1 → yl_c h u s → y.toInt ≤ sl_v T P s))) := by
        intro y hni hy
        rcases hy with ⟨a, b⟩ | ⟨a, b⟩
        · refine Or.inl ⟨a, fun s hs => ?_⟩
          by_cases f : s = i
          · rw [f]; exact hni
          · exact b s (by omega)
        · refine Or.inr ⟨a, fun s hs hc => ?_⟩
          by_cases f : s = i
          · rw [f] at hc; exact absurd hc hni
          · exact b s (by omega) hc
      have hland : (i &&& h) < 1000 := Nat.lt_of_le_of_lt Nat.and_le_right (by omega)
      by_cases z : i &&& h = h
      · refine br_t (show (nI i &&& nI h) = nI h by rw [nx_and, z]) (yi_in (by omega) hu (fun hb => ?_) (fun hb => ?_))
        · exact br_f (by decide) (nm_r (nI_1 i) (ih (i + 1) (by omega) (by omega) x (hnx x (fun c => by rw [c.2] at hb; exact absurd hb (by decide)) hx)))
        · refine br_t rfl (ys_slack (by omega) hT hP (fun r hr => ?_))
          have hci : yl_c h u i := ⟨z, hb⟩
          have hr0 := hn i (by omega)
          rcases hx with ⟨a, b⟩ | ⟨a, b⟩
          · subst a
            refine br_t (by decide) (nm_r (nI_1 i) (ih (i + 1) (by omega) (by omega) r (Or.inr ⟨⟨i, by omega, hci, hr⟩, fun s hs hc => ?_⟩)))
            by_cases f : s = i
            · rw [f, hr]; exact Int.le_refl _
            · exact absurd hc (b s (by omega))
          · have hx0 : ¬ x < 0 := by
              obtain ⟨s, s1, _, s3⟩ := a
              rw [ar_ng, s3]
              have := hn s s1
              omega
            refine br_f hx0 ?_
            by_cases y : x ≤ r
            · refine br_t y (nm_r (nI_1 i) (ih (i + 1) (by omega) (by omega) x (Or.inr ⟨a, fun s hs hc => ?_⟩)))
              by_cases f : s = i
              · rw [f, ← hr]; exact ar_le.mp y
              · exact b s (by omega) hc
            · refine br_f y (nm_r (nI_1 i) (ih (i + 1) (by omega) (by omega) r (Or.inr ⟨⟨i, by omega, hci, hr⟩, fun s hs hc => ?_⟩)))
              by_cases f : s = i
              · rw [f, hr]; exact Int.le_refl _
              · have := b s (by omega) hc
                rw [ar_le] at y
                omega
      · refine br_f (show ¬ (nI i &&& nI h) = nI h from fun q => z (ar_inj hland (by omega) (by rw [← nx_and]; exact q))) (nm_r (nI_1 i) (ih (i + 1) (by omega) (by omega) x (hnx x (fun c => z c.1) hx)))
theorem yl_least {post : Int32 → Prop} {h u : Nat} (hh : h < 128) (hu : u < 7) (hT : ∀ p, p < 49 → 0 ≤ (T p).toInt ∧ (T p).toInt ≤ 1000)
    (hP : ∀ u, u < 7 → -100000 ≤ (P u).toInt ∧ (P u).toInt ≤ 100000) (hn : ∀ s, s < 128 → 0 ≤ sl_v T P s) {s0 : Nat} (h0 : s0 < 128 ∧ yl_c h u s0)
    (k : ∀ r : Int32, (∃ s, s < 128 ∧ yl_c h u s ∧ r.toInt = sl_v T P s) → (∀ s, s < 128 → yl_c h u s → r.toInt ≤ sl_v T P s) → post r) : wpY_leastSlack post (l, T, P, pa, pe, am, OW, RE, PR, BE) (nI h) (nI u) :=
  ⟨129, yl_5 hh hu hT hP hn h0 k 129 0 (by omega) (by omega) (-1) (Or.inl ⟨rfl, fun s hs => absurd hs (Nat.not_lt_zero _)⟩)⟩
end
end
section
/-! the relation, and what it says of cuts -/
def rl_G (g : Int32) (pa pe am : Nat → Int32) : Prop :=
  ∃ n : Nat, n ≤ 6 ∧ g = nI n ∧ ∀ i, i < n → (∃ u v, u < 7 ∧ v < 7 ∧ u ≠ v ∧ pa i = nI u ∧ pe i = nI v) ∧ 0 ≤ (am i).toInt ∧ (am i).toInt ≤ 10000
def rl_T (T : Nat → Int32) : Prop := (∀ u v, u < 7 → v < 7 → 0 ≤ ar_7c T u v ∧ ar_7c T u v ≤ 1000) ∧ (∀ u, u < 7 → ar_7c T u u = 0)
def rl_F (T F : Nat → Int32) : Prop :=
  (∀ u v, u < 7 → v < 7 → 0 ≤ ar_9c F u v ∧ ar_9c F u v + ar_9c F v u = ar_7c T u v + ar_7c T v u) ∧ (∀ u v, u < 9 → v < 9 → ¬ (u < 7 ∧ v < 7) → ar_9c F u v = 0)
def rl_P (T P F : Nat → Int32) : Prop := ∀ v, v < 7 → (P v).toInt = zz_s 7 (fun u => ar_7c T v u - ar_9c F u v)
def rl_I (g : Int32) (T P F pa pe am : Nat → Int32) : Prop := rl_G g pa pe am ∧ rl_T T ∧ rl_F T F ∧ rl_P T P F
theorem rl_T49 {T : Nat → Int32} (h : rl_T T) : ∀ p, p < 49 → 0 ≤ (T p).toInt ∧ (T p).toInt ≤ 1000 := by
  intro p hp
  have := h.1 (p / 7) (p % 7) (by omega) (by omega)
  unfold ar_7c at this
  rw [show 7 * (p / 7) + p % 7 = p by omega] at this
  exact this
theorem rl_Fb {T F : Nat → Int32} (hT : rl_T T) (h : rl_F T F) : ∀ u v, u < 9 → v < 9 → 0 ≤ ar_9c F u v ∧ ar_9c F u v ≤ 2000 := by
  intro u v hu hv
  by_cases a : u < 7 ∧ v < 7
  · have h1 := h.1 u v a.1 a.2
    have h2 := h.1 v u a.2 a.1
    have h3 := hT.1 u v a.1 a.2
    have h4 := hT.1 v u a.2 a.1
    omega
  · have := h.2 u v hu hv a
    omega
theorem rl_sumb {f : Nat → Int} {B : Int} : ∀ {n : Nat}, (∀ i, i < n → -B ≤ f i ∧ f i ≤ B) → -(B * n) ≤ zz_s n f ∧ zz_s n f ≤ B * n := by
  intro n
  induction n with
  | zero => intro _; rw [zz_0]; simp
  | succ n ih =>
    intro h
    have h1 := ih (fun i hi => h i (by omega))
    have h2 := h n (by omega)
    have e : B * ((n + 1 : Nat) : Int) = B * (n : Int) + B := by rw [Int.natCast_add, Int.mul_add]; simp
    rw [zz_1, e]; omega
theorem rl_db {T F : Nat → Int32} (hT : rl_T T) (h : rl_F T F) : ∀ u v, u < 7 → v < 7 → -1000 ≤ ar_7c T v u - ar_9c F u v ∧ ar_7c T v u - ar_9c F u v ≤ 1000 := by
  intro u v hu hv
  have h1 := h.1 u v hu hv
  have h2 := h.1 v u hv hu
  have h3 := hT.1 u v hu hv
  have h4 := hT.1 v u hv hu
  omega
theorem rl_Pb {T P F : Nat → Int32} (hT : rl_T T) (h : rl_F T F) (hP : rl_P T P F) : ∀ u, u < 7 → -7000 ≤ (P u).toInt ∧ (P u).toInt ≤ 7000 := by
  intro u hu
  rw [hP u hu]
  have := rl_sumb (n := 7) (B := 1000) (f := fun x => ar_7c T u x - ar_9c F x u) (fun i hi => rl_db hT h i u hi hu)
  omega
theorem rl_Pb' {T P F : Nat → Int32} (hT : rl_T T) (h : rl_F T F) (hP : rl_P T P F) : ∀ u, u < 7 → -100000 ≤ (P u).toInt ∧ (P u).toInt ≤ 100000 := by
  intro u hu
  have := rl_Pb hT h hP u hu
  omega
theorem rl_anti {T F : Nat → Int32} (h : rl_F T F) : ∀ u v, u < 7 → v < 7 → ar_7c T v u - ar_9c F u v = - (ar_7c T u v - ar_9c F v u) := by
  intro u v hu hv
  have h1 := (h.1 u v hu hv).2
  omega
theorem rl_slack {T P F : Nat → Int32} (h : rl_F T F) (hP : rl_P T P F) (s : Nat) : sl_v T P s = ct_c 7 (sl_x s) (ar_9c F) := by
  rw [sl_v_ct]
  have e1 := ct_div (n := 7) (x := sl_x s) (m := fun u v => ar_7c T v u - ar_9c F u v) (rl_anti h)
  rw [ct_sub 7 (sl_x s) (fun u v => ar_7c T v u) (ar_9c F)] at e1
  have e2 : zz_s 7 (fun u => sl_x s u * (P u).toInt) = zz_s 7 (fun v => sl_x s v * zz_s 7 (fun u => (fun u v => ar_7c T v u - ar_9c F u v) u v)) := zz_congr (fun v hv => by
    show sl_x s v * (P v).toInt = sl_x s v * zz_s 7 (fun u => ar_7c T v u - ar_9c F u v)
    rw [hP v hv])
  rw [e2, e1]; omega
theorem rl_snn {T P F : Nat → Int32} (h : rl_F T F) (hP : rl_P T P F) (s : Nat) : 0 ≤ sl_v T P s := by
  rw [rl_slack h hP]
  exact ct_nn (sl_01 7 s) (fun u v hu hv => (h.1 u v hu hv).1)
/-- a cut of the nine in terms of the seven -/
theorem ct_97 (x : Nat → Int) (W : Nat → Nat → Int) : ct_c 9 x W = ct_c 7 x W + zz_s 7 (fun v => x v * (1 - x 7) * W 7 v) + zz_s 7 (fun v => x v * (1 - x 8) * W 8 v)
    + (zz_s 7 (fun u => x 7 * (1 - x u) * W u 7) + x 7 * (1 - x 7) * W 7 7 + x 7 * (1 - x 8) * W 8 7) + (zz_s 7 (fun u => x 8 * (1 - x u) * W u 8) + x 8 * (1 - x 7) * W 7 8 + x 8 * (1 - x 8) * W 8 8) := by
  have e : ct_c 9 x W = zz_s 7 (fun v => zz_s 7 (fun u => x v * (1 - x u) * W u v) + x v * (1 - x 7) * W 7 v + x v * (1 - x 8) * W 8 v)
    + (zz_s 7 (fun u => x 7 * (1 - x u) * W u 7) + x 7 * (1 - x 7) * W 7 7 + x 7 * (1 - x 8) * W 8 7) + (zz_s 7 (fun u => x 8 * (1 - x u) * W u 8) + x 8 * (1 - x 7) * W 7 8 + x 8 * (1 - x 8) * W 8 8) := rfl
  rw [e, zz_add, zz_add]; rfl
def rl_Z (W : Nat → Nat → Int) : Prop := ∀ u v, u < 9 → v < 9 → ¬ (u < 7 ∧ v < 7) → W u v = 0
theorem ct_z97 (x : Nat → Int) {W : Nat → Nat → Int} (h : rl_Z W) : ct_c 9 x W = ct_c 7 x W := by
  rw [ct_97, zz_c0 (n := 7) (f := fun v => x v * (1 - x 7) * W 7 v) (fun v hv => by rw [h 7 v (by omega) (by omega) (by omega)]; exact Int.mul_zero _),
    zz_c0 (n := 7) (f := fun v => x v * (1 - x 8) * W 8 v) (fun v hv => by rw [h 8 v (by omega) (by omega) (by omega)]; exact Int.mul_zero _),
    zz_c0 (n := 7) (f := fun u => x 7 * (1 - x u) * W u 7) (fun v hv => by rw [h v 7 (by omega) (by omega) (by omega)]; exact Int.mul_zero _),
    zz_c0 (n := 7) (f := fun u => x 8 * (1 - x u) * W u 8) (fun v hv => by rw [h v 8 (by omega) (by omega) (by omega)]; exact Int.mul_zero _),
    h 7 7 (by omega) (by omega) (by omega), h 8 7 (by omega) (by omega) (by omega), h 7 8 (by omega) (by omega) (by omega), h 8 8 (by omega) (by omega) (by omega)]
  simp
/-- what was sent among the members alone -/
theorem rl_sent {W V : Nat → Nat → Int} {s t : Nat} {q : Int} (hZ : rl_Z W) (h : sd_P W V s t q) : rl_Z V ∧ ∀ x, x < 7 → zz_s 7 (fun u => W u x - V u x) = (if x = t then q else 0) - (if x = s then q else 0) := by
  have hV : rl_Z V := by
    intro u v hu hv hn
    have a1 := h.1 u v hu hv
    have a2 := h.1 v u hv hu
    have a3 := h.2.1 u v hu hv
    have a4 := hZ u v hu hv hn
    have a5 := hZ v u hv hu (by omega)
    omega
  refine ⟨hV, fun x hx => ?_⟩
  have e := h.2.2 x (by omega)
  have e2 : zz_s 9 (fun u => W u x - V u x) = zz_s 7 (fun u => W u x - V u x) + (W 7 x - V 7 x) + (W 8 x - V 8 x) := rfl
  rw [e2, hZ 7 x (by omega) (by omega) (by omega), hZ 8 x (by omega) (by omega) (by omega), hV 7 x (by omega) (by omega) (by omega), hV 8 x (by omega) (by omega) (by omega)] at e
  omega
/-- the sending from s to t among members against the sets with t and without s -/
theorem rl_max {W V : Nat → Nat → Int} {s t : Nat} {q : Int} (hs : s < 7) (ht : t < 7) (hZ : rl_Z W) (h : sd_P W V s t q) :
    ∀ S, sl_x S s = 0 → sl_x S t = 1 → q ≤ ct_c 7 (sl_x S) W := by
  intro S h0 h1
  have e := sd_cut (x := sl_x S) h (by omega) (by omega) h0 h1
  have n := ct_nn (sl_01 9 S) h.1
  rw [ct_z97 _ hZ] at e
  omega
theorem rl_min {W V : Nat → Nat → Int} {C : Nat → Int32} {s t : Nat} {q : Int} (hs : s < 7) (ht : t < 7) (hZ : rl_Z W) (h : sd_P W V s t q) (hc : fw_S V s t C 0) :
    ∃ S, S < 128 ∧ sl_x S s = 0 ∧ sl_x S t = 1 ∧ ct_c 7 (sl_x S) W = q := by
  rcases hc with ⟨_, x, x1, x2, x3, x4⟩ | ⟨z, _⟩
  · obtain ⟨S, S1, S2⟩ := sl_of x (fun i hi => x1 i (by omega))
    refine ⟨S, S1, by rw [S2 s hs]; exact x2, by rw [S2 t ht]; exact x3, ?_⟩
    have e := sd_cut (x := x) h (by omega) (by omega) x2 x3
    have n : ct_c 9 x V = 0 := ct_z x1 (fun u v hu hv a b => by have := x4 u v hu hv a b; have := h.1 u v hu hv; omega)
    rw [ct_z97 _ hZ] at e
    rw [ct_congr (n := 7) (y := x) (V := W) S2 (fun u v _ _ => rfl)]
    omega
  · exact absurd z (by decide)
theorem sl_x0 {S u : Nat} : sl_x S u = 0 ↔ S.testBit u = false := by
  unfold sl_x
  cases S.testBit u <;> simp
theorem sl_x1 {S u : Nat} : sl_x S u = 1 ↔ S.testBit u = true := by
  unfold sl_x
  cases S.testBit u <;> simp
theorem sl_pow : ∀ v, v < 7 → 2 ^ v < 128 ∧ ∀ u, u < 7 → u ≠ v → (2 ^ v).testBit u = false := by decide +kernel
/-! pairs -/
def pr_P (p q : Int32) : Prop := ∃ u v, u < 7 ∧ v < 7 ∧ u ≠ v ∧ p = nI u ∧ q = nI v
theorem pr_X1 {post : Int32 → Prop} {u v : Nat} (hu : u < 7) (hv : v < 7) (hn : u ≠ v) (k : post 1) : wpX_arePair post (nI u) (nI v) := by
  unfold wpX_arePair wpX_isMember
  exact br_f (nI_pos (by omega)) (br_f (show ¬ (7 : Int32) ≤ nI u from nI_ge (b := 7) (by omega) (by omega)) (br_f (by decide) (br_f (nI_pos (by omega)) (br_f (show ¬ (7 : Int32) ≤ nI v from nI_ge (b := 7) (by omega) (by omega)) (br_f (by decide) (br_f (ar_ne (by omega) (by omega) hn) k))))))
theorem pr_X0 {post : Int32 → Prop} {p q : Int32} (h : ¬ pr_P p q) (k : post 0) : wpX_arePair post p q := by
  unfold wpX_arePair wpX_isMember
  rcases pk_ix p (n := 7) (by omega) with a | a | ⟨u, hu, rfl⟩
  · exact br_t a (br_t rfl k)
  · refine br_c (fun _ => br_t rfl k) (fun _ => br_t a (br_t rfl k))
  · refine br_f (nI_pos (by omega)) (br_f (show ¬ (7 : Int32) ≤ nI u from nI_ge (b := 7) (by omega) (by omega)) (br_f (by decide) ?_))
    rcases pk_ix q (n := 7) (by omega) with b | b | ⟨v, hv, rfl⟩
    · exact br_t b (br_t rfl k)
    · refine br_c (fun _ => br_t rfl k) (fun _ => br_t b (br_t rfl k))
    · refine br_f (nI_pos (by omega)) (br_f (show ¬ (7 : Int32) ≤ nI v from nI_ge (b := 7) (by omega) (by omega)) (br_f (by decide) ?_))
      by_cases e : u = v
      · exact br_t (by rw [e]) k
      · exact absurd ⟨u, v, hu, hv, e, rfl, rfl⟩ h
section
variable {l : Int32} {T P pa pe am OW RE PR BE : Nat → Int32}
theorem pr_Y1 {post : Int32 → Prop} {u v : Nat} (hu : u < 7) (hv : v < 7) (hn : u ≠ v) (k : post 1) : wpY_isPair post (l, T, P, pa, pe, am, OW, RE, PR, BE) (nI u) (nI v) := by
  unfold wpY_isPair
  dsimp only
  exact br_f (nI_pos (by omega)) (br_f (show ¬ (6 : Int32) < nI u from nI_nlt (a := 6) (by omega) (by omega)) (br_f (nI_pos (by omega)) (br_f (show ¬ (6 : Int32) < nI v from nI_nlt (a := 6) (by omega) (by omega)) (br_f (ar_ne (by omega) (by omega) hn) k))))
theorem pr_6 {p : Int32} (h : nI 7 ≤ p) : (6 : Int32) < p := by
  rw [ar_le, ar_nI (by omega)] at h
  rw [ar_lt, show (6 : Int32).toInt = 6 from by decide]
  omega
theorem pr_Y0 {post : Int32 → Prop} {p q : Int32} (h : ¬ pr_P p q) (k : post 0) : wpY_isPair post (l, T, P, pa, pe, am, OW, RE, PR, BE) p q := by
  unfold wpY_isPair
  dsimp only
  rcases pk_ix p (n := 7) (by omega) with a | a | ⟨u, hu, rfl⟩
  · exact br_t a k
  · exact br_c (fun _ => k) (fun _ => br_t (pr_6 a) k)
  · refine br_f (nI_pos (by omega)) (br_f (show ¬ (6 : Int32) < nI u from nI_nlt (a := 6) (by omega) (by omega)) ?_)
    rcases pk_ix q (n := 7) (by omega) with b | b | ⟨v, hv, rfl⟩
    · exact br_t b k
    · exact br_c (fun _ => k) (fun _ => br_t (pr_6 b) k)
    · refine br_f (nI_pos (by omega)) (br_f (show ¬ (6 : Int32) < nI v from nI_nlt (a := 6) (by omega) (by omega)) ?_)
      by_cases e : u = v
      · exact br_t (by rw [e]) k
      · exact absurd ⟨u, v, hu, hv, e, rfl, rfl⟩ h
end
/-! the owed relation -/
def i_Rel (_ : Nat) (u : SX) (v : SY) : Prop := match u, v with
  | (g, T, P, F, pa, pe, am, _, _, _, _, _, _), (g', T', P', pa', pe', am', _, _, _, _) => g = g' ∧ T = T' ∧ P = P' ∧ pa = pa' ∧ pe = pe' ∧ am = am' ∧ rl_I g T P F pa pe am
theorem i_up {k : Nat} {u : SX} {v : SY} (h : i_Rel k u v) : i_Rel (k + 4) u v := h
theorem i_vc0 : wpX_init (fun u => wpY_init (fun v => i_Rel 0 u v)) := by
  refine ⟨rfl, rfl, rfl, rfl, rfl, rfl, ⟨0, by omega, rfl, fun i hi => absurd hi (Nat.not_lt_zero _)⟩, ⟨fun u v _ _ => ?_, fun u _ => ?_⟩, ⟨fun u v _ _ => ?_, fun u v _ _ _ => ?_⟩, fun v _ => ?_⟩
  · show 0 ≤ (0 : Int32).toInt ∧ (0 : Int32).toInt ≤ 1000
    decide
  · show (0 : Int32).toInt = 0
    decide
  · show 0 ≤ (0 : Int32).toInt ∧ (0 : Int32).toInt + (0 : Int32).toInt = (0 : Int32).toInt + (0 : Int32).toInt
    decide
  · show (0 : Int32).toInt = 0
    decide
  · show (0 : Int32).toInt = zz_s 7 (fun _ => (0 : Int32).toInt - (0 : Int32).toInt)
    decide
end
section
/-! the methods that send nothing -/
theorem rl_congrP {T T' P F F' : Nat → Int32} (h : ∀ u v, u < 7 → v < 7 → ar_7c T' v u - ar_9c F' u v = ar_7c T v u - ar_9c F u v) (hP : rl_P T P F) : rl_P T' P F' := by
  intro v hv
  rw [hP v hv]
  exact zz_congr (fun u hu => (h u v hu hv).symm)
theorem rl_trust {T P F : Nat → Int32} {a b : Nat} {r : Int32} (ha : a < 7) (hb : b < 7) (hab : a ≠ b) (hT : rl_T T) (hF : rl_F T F) (hP : rl_P T P F) (h0 : 0 ≤ r.toInt) (h1 : r.toInt ≤ 1000 - ar_7c T a b) :
    rl_T (upd T (7 * a + b) (T (7 * a + b) + r)) ∧ rl_F (upd T (7 * a + b) (T (7 * a + b) + r)) (upd F (9 * b + a) (F (9 * b + a) + r)) ∧ rl_P (upd T (7 * a + b) (T (7 * a + b) + r)) P (upd F (9 * b + a) (F (9 * b + a) + r)) := by
  have hfb := rl_Fb hT hF b a (by omega) (by omega)
  have htb := hT.1 a b ha hb
  have e1 : (T (7 * a + b) + r).toInt = ar_7c T a b + r.toInt := ar_add (show -2147483648 ≤ ar_7c T a b + r.toInt by omega) (show ar_7c T a b + r.toInt < 2147483648 by omega)
  have e2 : (F (9 * b + a) + r).toInt = ar_9c F b a + r.toInt := ar_add (show -2147483648 ≤ ar_9c F b a + r.toInt by omega) (show ar_9c F b a + r.toInt < 2147483648 by omega)
  have t : ∀ u v, u < 7 → v < 7 → ar_7c (upd T (7 * a + b) (T (7 * a + b) + r)) u v = if u = a ∧ v = b then ar_7c T a b + r.toInt else ar_7c T u v := fun u v hu hv => by rw [ar_u7 hb hv, e1]
  have f : ∀ u v, v < 9 → ar_9c (upd F (9 * b + a) (F (9 * b + a) + r)) u v = if u = b ∧ v = a then ar_9c F b a + r.toInt else ar_9c F u v := fun u v hv => by rw [ar_u9 (by omega) hv, e2]
  refine ⟨⟨fun u v hu hv => ?_, fun u hu => ?_⟩, ⟨fun u v hu hv => ?_, fun u v hu hv hn => ?_⟩, rl_congrP (fun u v hu hv => ?_) hP⟩
  · rw [t u v hu hv]
    have := hT.1 u v hu hv
    split <;> omega
  · rw [t u u hu hu, if_neg (fun z => hab (z.1.symm.trans z.2))]
    exact hT.2 u hu
  · rw [f u v (by omega), f v u (by omega), t u v hu hv, t v u hv hu]
    have h3 := hF.1 u v hu hv
    by_cases c1 : u = a ∧ v = b
    · have c2 : ¬ (u = b ∧ v = a) := fun z => hab (c1.1.symm.trans z.1)
      have c3 : ¬ (v = a ∧ u = b) := fun z => c2 ⟨z.2, z.1⟩
      rw [if_neg c2, if_pos c1, if_pos ⟨c1.2, c1.1⟩, if_neg c3]
      rw [c1.1, c1.2] at h3 ⊢
      omega
    · by_cases c2 : u = b ∧ v = a
      · rw [if_pos c2, if_neg c1, if_neg (fun z => c1 ⟨z.2, z.1⟩), if_pos ⟨c2.2, c2.1⟩]
        rw [c2.1, c2.2] at h3 ⊢
        omega
      · rw [if_neg c2, if_neg c1, if_neg (fun z => c1 ⟨z.2, z.1⟩), if_neg (fun z => c2 ⟨z.2, z.1⟩)]
        exact h3
  · rw [f u v hv, if_neg (fun z => hn ⟨by omega, by omega⟩)]
    exact hF.2 u v hu hv hn
  · rw [t v u hv hu, f u v (by omega)]
    by_cases c1 : v = a ∧ u = b
    · rw [if_pos c1, if_pos ⟨c1.2, c1.1⟩, c1.1, c1.2]; omega
    · rw [if_neg c1, if_neg (fun z => c1 ⟨z.2, z.1⟩)]
theorem i_vc_trust {k : Nat} {u : SX} {v : SY} (I : i_Rel k u v) (hk : k + 4 ≤ 2048) (v1 : Int32) (v2 : Int32) (v3 : Int32) : wpX_trust (fun r u' => wpY_trust (fun r' v' => r' = r ∧ i_Rel (k + 4) u' v') v v1 v2 v3) u v1 v2 v3 := by
  obtain ⟨g, T, P, F, pa, pe, am, W, O, C, L, D, H⟩ := u
  obtain ⟨g', T', P', pa', pe', am', OW, RE, PR, BE⟩ := v
  obtain ⟨rfl, rfl, rfl, rfl, rfl, rfl, hG, hT, hF, hP⟩ := I
  unfold wpX_trust wpY_trust
  dsimp only
  by_cases hp : pr_P v1 v2
  · obtain ⟨a, b, ha, hb, hab, rfl, rfl⟩ := hp
    have cn : (nI (7 * a + b)).toNatClampNeg = 7 * a + b := nI_clamp (by omega)
    have vi : vp_in (nI (7 * a + b)) 49 := vp_in_nI (by omega) (by omega)
    have v9 : vp_in (nI (9 * b + a)) 81 := vp_in_nI (by omega) (by omega)
    have c9 : (nI (9 * b + a)).toNatClampNeg = 9 * b + a := nI_clamp (by omega)
    have htb := hT.1 a b ha hb
    simp only [ar_7, ar_9, c9]
    refine pr_X1 ha hb hab (br_f (by decide) (nm_e ?_))
    simp only [cn]
    have es : (1000 - T (7 * a + b)).toInt = 1000 - ar_7c T a b := ar_sub (show -2147483648 ≤ 1000 - ar_7c T a b by omega) (show 1000 - ar_7c T a b < 2147483648 by omega)
    by_cases h0 : v3 < 0
    · exact br_t h0 (pr_Y1 ha hb hab (br_f (by decide) (br_t h0 ⟨by trivial, rfl, rfl, rfl, rfl, rfl, rfl, hG, hT, hF, hP⟩)))
    · refine br_f h0 ⟨vi, ?_⟩
      by_cases h1 : v3 ≤ 1000 - T (7 * a + b)
      · have h1' := ar_le.mp h1
        have h0' : ¬ v3.toInt < 0 := fun z => h0 (ar_ng.mpr z)
        obtain ⟨t1, t2, t3⟩ := rl_trust ha hb hab hT hF hP (r := v3) (by omega) (by omega)
        exact br_t h1 ⟨vi, vi, nm_e ⟨v9, v9, nm_e ⟨vi, pr_Y1 ha hb hab (br_f (by decide) (br_f h0 ⟨vi, br_t h1 ⟨vi, vi, nm_e ⟨vi, rfl, rfl, rfl, rfl, rfl, rfl, rfl, hG, t1, t2, t3⟩⟩⟩))⟩⟩⟩
      · exact br_f h1 (pr_Y1 ha hb hab (br_f (by decide) (br_f h0 ⟨vi, br_f h1 ⟨by trivial, rfl, rfl, rfl, rfl, rfl, rfl, hG, hT, hF, hP⟩⟩)))
  · exact pr_X0 hp (br_t rfl (pr_Y0 hp (br_t rfl ⟨rfl, rfl, rfl, rfl, rfl, rfl, rfl, hG, hT, hF, hP⟩)))
theorem i_vc_trusted {k : Nat} {u : SX} {v : SY} (I : i_Rel k u v) (hk : k + 4 ≤ 2048) (v1 : Int32) (v2 : Int32) : wpX_trusted (fun r => wpY_trusted (fun r' => r' = r ∧ i_Rel (k + 4) u v) v v1 v2) u v1 v2 := by
  have I' : i_Rel (k + 4) u v := I
  obtain ⟨g, T, P, F, pa, pe, am, W, O, C, L, D, H⟩ := u
  obtain ⟨g', T', P', pa', pe', am', OW, RE, PR, BE⟩ := v
  obtain ⟨rfl, rfl, rfl, rfl, rfl, rfl, hG, hT, hF, hP⟩ := I
  unfold wpX_trusted wpY_trusted
  dsimp only
  by_cases hp : pr_P v1 v2
  · obtain ⟨a, b, ha, hb, hab, rfl, rfl⟩ := hp
    exact pr_X1 ha hb hab (br_f (by decide) ⟨ar_in7 ha hb, pr_Y1 ha hb hab (br_f (by decide) ⟨ar_in7 ha hb, rfl, I'⟩)⟩)
  · exact pr_X0 hp (br_t rfl (pr_Y0 hp (br_t rfl ⟨rfl, I'⟩)))
theorem i_vc_position {k : Nat} {u : SX} {v : SY} (I : i_Rel k u v) (hk : k + 4 ≤ 2048) (v1 : Int32) : wpX_position (fun r => wpY_position (fun r' => r' = r ∧ i_Rel (k + 4) u v) v v1) u v1 := by
  have I' : i_Rel (k + 4) u v := I
  obtain ⟨g, T, P, F, pa, pe, am, W, O, C, L, D, H⟩ := u
  obtain ⟨g', T', P', pa', pe', am', OW, RE, PR, BE⟩ := v
  obtain ⟨rfl, rfl, rfl, rfl, rfl, rfl, hG, hT, hF, hP⟩ := I
  unfold wpX_position wpY_position wpX_isMember
  dsimp only
  rcases pk_ix v1 (n := 7) (by omega) with a | a | ⟨u, hu, rfl⟩
  · exact br_t a (br_t rfl (br_t a ⟨rfl, I'⟩))
  · refine br_c (fun _ => br_t rfl (br_c (fun _ => ⟨rfl, I'⟩) (fun _ => br_t (pr_6 a) ⟨rfl, I'⟩))) (fun _ => br_t a (br_t rfl (br_c (fun _ => ⟨rfl, I'⟩) (fun _ => br_t (pr_6 a) ⟨rfl, I'⟩))))
  · exact br_f (nI_pos (by omega)) (br_f (show ¬ (7 : Int32) ≤ nI u from nI_ge (b := 7) (by omega) (by omega)) (br_f (by decide) ⟨vp_in_nI hu (by omega), br_f (nI_pos (by omega)) (br_f (show ¬ (6 : Int32) < nI u from nI_nlt (a := 6) (by omega) (by omega)) ⟨vp_in_nI hu (by omega), rfl, I'⟩)⟩))
theorem i_vc_forget {k : Nat} {u : SX} {v : SY} (I : i_Rel k u v) (hk : k + 4 ≤ 2048) : wpX_forget (fun r u' => wpY_forget (fun r' v' => r' = r ∧ i_Rel (k + 4) u' v') v) u := by
  obtain ⟨g, T, P, F, pa, pe, am, W, O, C, L, D, H⟩ := u
  obtain ⟨g', T', P', pa', pe', am', OW, RE, PR, BE⟩ := v
  obtain ⟨rfl, rfl, rfl, rfl, rfl, rfl, hG, hT, hF, hP⟩ := I
  exact ⟨rfl, rfl, rfl, rfl, rfl, rfl, rfl, ⟨0, by omega, rfl, fun i hi => absurd hi (Nat.not_lt_zero _)⟩, hT, hF, hP⟩
theorem i_vc_gather {k : Nat} {u : SX} {v : SY} (I : i_Rel k u v) (hk : k + 4 ≤ 2048) (v1 : Int32) (v2 : Int32) (v3 : Int32) : wpX_gather (fun r u' => wpY_gather (fun r' v' => r' = r ∧ i_Rel (k + 4) u' v') v v1 v2 v3) u v1 v2 v3 := by
  obtain ⟨g, T, P, F, pa, pe, am, W, O, C, L, D, H⟩ := u
  obtain ⟨g', T', P', pa', pe', am', OW, RE, PR, BE⟩ := v
  obtain ⟨rfl, rfl, rfl, rfl, rfl, rfl, hG, hT, hF, hP⟩ := I
  have hG' := hG
  obtain ⟨n, hn, rfl, hL⟩ := hG
  unfold wpX_gather wpY_gather
  dsimp only
  by_cases hp : pr_P v1 v2
  · have hp' := hp
    obtain ⟨a, b, ha, hb, hab, rfl, rfl⟩ := hp
    refine pr_X1 ha hb hab (br_f (by decide) ?_)
    by_cases h0 : v3 < 0
    · exact br_t h0 (pr_Y1 ha hb hab (br_f (by decide) (br_t h0 ⟨rfl, rfl, rfl, rfl, rfl, rfl, rfl, hG', hT, hF, hP⟩)))
    · refine br_f h0 ?_
      by_cases h1 : v3 ≤ 10000
      · refine br_t h1 ?_
        by_cases h6 : n = 6
        · subst h6
          exact br_f (by decide) (pr_Y1 ha hb hab (br_f (by decide) (br_f h0 (br_t h1 (br_t rfl ⟨rfl, rfl, rfl, rfl, rfl, rfl, rfl, hG', hT, hF, hP⟩)))))
        · have hv : vp_in (nI n) 6 := vp_in_nI (by omega) (by omega)
          have h0' : ¬ v3.toInt < 0 := fun z => h0 (ar_ng.mpr z)
          have h1' : v3.toInt ≤ 10000 := ar_le.mp h1
          refine br_t (show nI n < (6 : Int32) from nI_lt (b := 6) (by omega) (by omega)) ⟨hv, nm_e ⟨hv, nm_e ⟨hv, nm_e (nm_e (pr_Y1 ha hb hab (br_f (by decide) (br_f h0 (br_t h1 (br_f (show ¬ nI n = (6 : Int32) from ar_ne (b := 6) (by omega) (by omega) h6) ⟨hv, nm_e ⟨hv, nm_e ⟨hv, nm_e (nm_e ⟨rfl, rfl, rfl, rfl, rfl, rfl, rfl, ⟨n + 1, by omega, nI_1 n, fun i hi => ?_⟩, hT, hF, hP⟩)⟩⟩⟩))))))⟩⟩⟩
          rw [ar_c (by omega)]
          by_cases e : i = n
          · subst e
            rw [pk_us, pk_us, pk_us]
            exact ⟨⟨a, b, ha, hb, hab, rfl, rfl⟩, by omega, h1'⟩
          · rw [pk_un e, pk_un e, pk_un e]
            exact hL i (by omega)
      · exact br_f h1 (pr_Y1 ha hb hab (br_f (by decide) (br_f h0 (br_f h1 ⟨rfl, rfl, rfl, rfl, rfl, rfl, rfl, hG', hT, hF, hP⟩))))
  · exact pr_X0 hp (br_t rfl (pr_Y0 hp (br_t rfl ⟨rfl, rfl, rfl, rfl, rfl, rfl, rfl, hG', hT, hF, hP⟩)))
end
section
/-! pay, most, open -/
theorem fl_W {F W : Nat → Int32} (hW : ∀ c, c < 81 → W c = F c) : ∀ u v, u < 9 → v < 9 → ar_9c W u v = ar_9c F u v := by
  intro u v hu hv
  unfold ar_9c
  rw [hW (9 * u + v) (by omega)]
theorem fl_b {T F W : Nat → Int32} (hT : rl_T T) (hF : rl_F T F) (hW : ∀ u v, u < 9 → v < 9 → ar_9c W u v = ar_9c F u v) : ∀ u v, u < 9 → v < 9 → 0 ≤ ar_9c W u v ∧ ar_9c W u v ≤ 1000000 := by
  intro u v hu hv
  rw [hW u v hu hv]
  have := rl_Fb hT hF u v hu hv
  omega
theorem fl_s {T F W : Nat → Int32} {s : Nat} (hs : s < 9) (hT : rl_T T) (hF : rl_F T F) (hW : ∀ u v, u < 9 → v < 9 → ar_9c W u v = ar_9c F u v) : ∀ v, v < 9 → ar_9c W s v ≤ 2000 := by
  intro v hv
  rw [hW s v hs hv]
  exact (rl_Fb hT hF s v hs hv).2
theorem fl_Z {T F W : Nat → Int32} (hF : rl_F T F) (hW : ∀ u v, u < 9 → v < 9 → ar_9c W u v = ar_9c F u v) : rl_Z (ar_9c W) := by
  intro u v hu hv hn
  rw [hW u v hu hv]
  exact hF.2 u v hu hv hn
theorem fl_v {T P F W : Nat → Int32} (hF : rl_F T F) (hP : rl_P T P F) (hW : ∀ u v, u < 9 → v < 9 → ar_9c W u v = ar_9c F u v) (S : Nat) : ct_c 7 (sl_x S) (ar_9c W) = sl_v T P S := by
  rw [rl_slack hF hP]
  exact ct_congr (fun _ _ => rfl) (fun u v hu hv => hW u v (by omega) (by omega))
theorem yl_1 {a b S : Nat} (hb : b < 7) (hS : S < 128) : yl_c (2 ^ b) a S ↔ (sl_x S a = 0 ∧ sl_x S b = 1) := by
  unfold yl_c
  rw [sl_held1 b hb S hS, sl_x0, sl_x1]
  exact ⟨fun h => ⟨h.2, h.1⟩, fun h => ⟨h.2, h.1⟩⟩
theorem yl_s0 {a b : Nat} (ha : a < 7) (hb : b < 7) (hab : a ≠ b) : 2 ^ b < 128 ∧ yl_c (2 ^ b) a (2 ^ b) := by
  have h := sl_pow b hb
  exact ⟨h.1, Nat.and_self _, h.2 a ha hab⟩
theorem fl_up {T P F W : Nat → Int32} {V : Nat → Nat → Int} {a b : Nat} {q : Int} (ha : a < 7) (hb : b < 7) (hF : rl_F T F) (hP : rl_P T P F) (hW : ∀ u v, u < 9 → v < 9 → ar_9c W u v = ar_9c F u v) (hS : sd_P (ar_9c W) V a b q) :
    ∀ s, s < 128 → yl_c (2 ^ b) a s → q ≤ sl_v T P s := by
  intro s hs hc
  rw [yl_1 hb hs] at hc
  have := rl_max ha hb (fl_Z hF hW) hS s hc.1 hc.2
  rw [fl_v hF hP hW] at this
  exact this
theorem fl_dn {T P F W C : Nat → Int32} {V : Nat → Nat → Int} {a b : Nat} {q : Int} (ha : a < 7) (hb : b < 7) (hF : rl_F T F) (hP : rl_P T P F) (hW : ∀ u v, u < 9 → v < 9 → ar_9c W u v = ar_9c F u v) (hS : sd_P (ar_9c W) V a b q) (hc : fw_S V a b C 0) :
    ∃ s, s < 128 ∧ yl_c (2 ^ b) a s ∧ q = sl_v T P s := by
  obtain ⟨S, h1, h2, h3, h4⟩ := rl_min ha hb (fl_Z hF hW) hS hc
  rw [fl_v hF hP hW] at h4
  exact ⟨S, h1, (yl_1 hb h1).mpr ⟨h2, h3⟩, h4.symm⟩
def mo_M (T P : Nat → Int32) (a b : Nat) (r : Int) : Prop := (∃ s, s < 128 ∧ yl_c (2 ^ b) a s ∧ r = sl_v T P s) ∧ (∀ s, s < 128 → yl_c (2 ^ b) a s → r ≤ sl_v T P s)
theorem mo_u {T P : Nat → Int32} {a b : Nat} {r r' : Int32} (h : mo_M T P a b r.toInt) (h' : mo_M T P a b r'.toInt) : r' = r := by
  obtain ⟨⟨s, s1, s2, s3⟩, h2⟩ := h
  obtain ⟨⟨t, t1, t2, t3⟩, h4⟩ := h'
  have := h2 t t1 t2
  have := h4 s s1 s2
  exact ar_ext (by omega)
section
variable {g : Int32} {T P F pa pe am W O C L D H : Nat → Int32}
theorem mo_X {post : Int32 → SX → Prop} {a b : Nat} (ha : a < 7) (hb : b < 7) (hab : a ≠ b) (hT : rl_T T) (hF : rl_F T F) (hP : rl_P T P F)
    (k : ∀ (q : Int32) W C L, mo_M T P a b q.toInt → post q (g, T, P, F, pa, pe, am, W, O, C, L, D, H)) : wpX_most post (g, T, P, F, pa, pe, am, W, O, C, L, D, H) (nI a) (nI b) := by
  unfold wpX_most
  dsimp only
  refine pr_X1 ha hb hab (br_f (by decide) (xc_copy (fun W' hW' => ?_)))
  dsimp only
  have hW := fl_W hW'
  refine xs_send (by omega) (by omega) hab (by decide) (fl_b hT hF hW) (Or.inr (fl_s (by omega) hT hF hW)) (fun q W'' C' L' h1 h2 h3 h4 => k q W'' C' L' ?_)
  have hq := xs_lt (by omega) (by omega) hab h1 h3 (Or.inr (fl_s (by omega) hT hF hW))
  refine ⟨?_, fl_up ha hb hF hP hW h1⟩
  rcases h4 with h4 | h4
  · rw [ar_M] at h4; omega
  · exact fl_dn ha hb hF hP hW h1 h4
end
section
variable {l : Int32} {T P F pa pe am OW RE PR BE : Nat → Int32}
theorem mo_L {post : Int32 → Prop} {a b : Nat} (ha : a < 7) (hb : b < 7) (hab : a ≠ b) (hT : rl_T T) (hF : rl_F T F) (hP : rl_P T P F)
    (k : ∀ r : Int32, mo_M T P a b r.toInt → post r) : wpY_leastSlack post (l, T, P, pa, pe, am, OW, RE, PR, BE) ((1 : Int32) <<< (nI b &&& 31)) (nI a) := by
  rw [sl_shl b hb]
  exact yl_least (yl_s0 ha hb hab).1 ha (rl_T49 hT) (rl_Pb' hT hF hP) (fun s _ => rl_snn hF hP s) (yl_s0 ha hb hab) (fun r h1 h2 => k r ⟨h1, h2⟩)
theorem mo_Y {post : Int32 → Prop} {a b : Nat} (ha : a < 7) (hb : b < 7) (hab : a ≠ b) (hT : rl_T T) (hF : rl_F T F) (hP : rl_P T P F)
    (k : ∀ r : Int32, mo_M T P a b r.toInt → post r) : wpY_most post (l, T, P, pa, pe, am, OW, RE, PR, BE) (nI a) (nI b) := by
  unfold wpY_most
  dsimp only
  exact pr_Y1 ha hb hab (br_f (by decide) (mo_L ha hb hab hT hF hP k))
end
theorem i_vc_most {k : Nat} {u : SX} {v : SY} (I : i_Rel k u v) (hk : k + 4 ≤ 2048) (v1 : Int32) (v2 : Int32) : wpX_most (fun r u' => wpY_most (fun r' => r' = r ∧ i_Rel (k + 4) u' v) v v1 v2) u v1 v2 := by
  obtain ⟨g, T, P, F, pa, pe, am, W, O, C, L, D, H⟩ := u
  obtain ⟨g', T', P', pa', pe', am', OW, RE, PR, BE⟩ := v
  obtain ⟨rfl, rfl, rfl, rfl, rfl, rfl, hG, hT, hF, hP⟩ := I
  by_cases hp : pr_P v1 v2
  · obtain ⟨a, b, ha, hb, hab, rfl, rfl⟩ := hp
    refine mo_X ha hb hab hT hF hP (fun q W' C' L' hq => mo_Y ha hb hab hT hF hP (fun r hr => ⟨mo_u hq hr, rfl, rfl, rfl, rfl, rfl, rfl, hG, hT, hF, hP⟩))
  · unfold wpX_most wpY_most
    dsimp only
    exact pr_X0 hp (br_t rfl (pr_Y0 hp (br_t rfl ⟨rfl, rfl, rfl, rfl, rfl, rfl, rfl, hG, hT, hF, hP⟩)))
theorem rl_pay {T P F W W' F' : Nat → Int32} {a b : Nat} {r : Int32} (ha : a < 7) (hb : b < 7) (hab : a ≠ b) (hT : rl_T T) (hF : rl_F T F) (hP : rl_P T P F) (hr0 : 0 ≤ r.toInt) (hr : r.toInt ≤ 100000)
    (hW : ∀ u v, u < 9 → v < 9 → ar_9c W u v = ar_9c F u v) (hS : sd_P (ar_9c W) (ar_9c W') a b r.toInt) (hF' : ∀ u v, u < 9 → v < 9 → F' (9 * u + v) = if u < 7 ∧ v < 7 then W' (9 * u + v) else F (9 * u + v)) :
    rl_F T F' ∧ rl_P T (upd (upd P a (P a - r)) b ((upd P a (P a - r)) b + r)) F' := by
  have f1 : ∀ u v, u < 7 → v < 7 → ar_9c F' u v = ar_9c W' u v := fun u v hu hv => by
    unfold ar_9c; rw [hF' u v (by omega) (by omega), if_pos ⟨hu, hv⟩]
  have f2 : ∀ u v, u < 9 → v < 9 → ¬ (u < 7 ∧ v < 7) → ar_9c F' u v = ar_9c F u v := fun u v hu hv hn => by
    unfold ar_9c; rw [hF' u v hu hv, if_neg hn]
  refine ⟨⟨fun u v hu hv => ?_, fun u v hu hv hn => ?_⟩, fun x hx => ?_⟩
  · rw [f1 u v hu hv, f1 v u hv hu]
    have a1 := hS.1 u v (by omega) (by omega)
    have a2 := hS.2.1 u v (by omega) (by omega)
    rw [hW u v (by omega) (by omega), hW v u (by omega) (by omega)] at a2
    have a3 := hF.1 u v hu hv
    omega
  · rw [f2 u v hu hv hn]; exact hF.2 u v hu hv hn
  · have e1 := (rl_sent (fl_Z hF hW) hS).2 x hx
    have e2 : zz_s 7 (fun u => ar_7c T x u - ar_9c F' u x) = zz_s 7 (fun u => (ar_7c T x u - ar_9c F u x) + (ar_9c W u x - ar_9c W' u x)) := zz_congr (fun u hu => by
      show ar_7c T x u - ar_9c F' u x = (ar_7c T x u - ar_9c F u x) + (ar_9c W u x - ar_9c W' u x)
      rw [f1 u x hu hx, hW u x (by omega) (by omega)]; omega)
    rw [e2, zz_add, e1, ← hP x hx]
    have pa := rl_Pb hT hF hP a ha
    have pb := rl_Pb hT hF hP b hb
    have q1 : (P a - r).toInt = (P a).toInt - r.toInt := ar_sub (by omega) (by omega)
    have q2 : (upd P a (P a - r)) b = P b := pk_un (fun z => hab z.symm)
    have q3 : (P b + r).toInt = (P b).toInt + r.toInt := ar_add (by omega) (by omega)
    rw [q2, ar_u, ar_u]
    by_cases c1 : x = b
    · have c2 : ¬ x = a := fun z => hab (z.symm.trans c1)
      rw [if_pos c1, if_pos c1, if_neg c2, q3, c1]; omega
    · rw [if_neg c1, if_neg c1]
      by_cases c2 : x = a
      · rw [if_pos c2, if_pos c2, q1, c2]; omega
      · rw [if_neg c2, if_neg c2]; omega
theorem i_vc_pay {k : Nat} {u : SX} {v : SY} (I : i_Rel k u v) (hk : k + 4 ≤ 2048) (v1 : Int32) (v2 : Int32) (v3 : Int32) : wpX_pay (fun r u' => wpY_pay (fun r' v' => r' = r ∧ i_Rel (k + 4) u' v') v v1 v2 v3) u v1 v2 v3 := by
  obtain ⟨g, T, P, F, pa, pe, am, W, O, C, L, D, H⟩ := u
  obtain ⟨g', T', P', pa', pe', am', OW, RE, PR, BE⟩ := v
  obtain ⟨rfl, rfl, rfl, rfl, rfl, rfl, hG, hT, hF, hP⟩ := I
  unfold wpX_pay wpY_pay
  dsimp only
  by_cases hp : pr_P v1 v2
  · obtain ⟨a, b, ha, hb, hab, rfl, rfl⟩ := hp
    have ca : (nI a).toNatClampNeg = a := ar_c (by omega)
    have cb : (nI b).toNatClampNeg = b := ar_c (by omega)
    have ia : vp_in (nI a) 7 := vp_in_nI ha (by omega)
    have ib : vp_in (nI b) 7 := vp_in_nI hb (by omega)
    rw [ca, cb]
    refine pr_X1 ha hb hab (br_f (by decide) ?_)
    by_cases h0 : 0 ≤ v3
    · have h0' := ar_nn.mp h0
      refine br_t h0 (xc_copy (fun W' hW' => ?_))
      dsimp only
      have hW := fl_W hW'
      refine xs_send (by omega) (by omega) hab h0' (fl_b hT hF hW) (Or.inr (fl_s (by omega) hT hF hW)) (fun q W'' C' L' h1 h2 h3 h4 => ?_)
      dsimp only
      have hq := xs_lt (by omega) (by omega) hab h1 h3 (Or.inr (fl_s (by omega) hT hF hW))
      have hu := fl_up ha hb hF hP hW h1
      by_cases hz : v3 ≤ q
      · have hz' := ar_le.mp hz
        have hqe : v3.toInt = q.toInt := by omega
        refine br_t hz (xk_keep (fun F' hF' => ?_))
        dsimp only
        obtain ⟨r1, r2⟩ := rl_pay ha hb hab hT hF hP h0' (by omega) hW (by rw [hqe]; exact h1) hF'
        refine ⟨ia, ia, nm_e ⟨ib, ib, nm_e ⟨ia, pr_Y1 ha hb hab (br_f (by decide) (br_t h0 (mo_L ha hb hab hT hF hP (fun r hr => br_t ?_ ⟨ia, ia, nm_e ⟨ib, ib, nm_e ⟨ia, rfl, rfl, rfl, rfl, rfl, rfl, rfl, hG, hT, r1, r2⟩⟩⟩))))⟩⟩⟩
        obtain ⟨⟨s, s1, s2, s3⟩, _⟩ := hr
        have := hu s s1 s2
        rw [ar_le]; omega
      · refine br_f hz (pr_Y1 ha hb hab (br_f (by decide) (br_t h0 (mo_L ha hb hab hT hF hP (fun r hr => br_f ?_ ⟨rfl, rfl, rfl, rfl, rfl, rfl, rfl, hG, hT, hF, hP⟩)))))
        rw [ar_le] at hz ⊢
        rcases h4 with h4 | h4
        · omega
        · obtain ⟨s, s1, s2, s3⟩ := fl_dn ha hb hF hP hW h1 h4
          have := hr.2 s s1 s2
          omega
    · exact br_f h0 (pr_Y1 ha hb hab (br_f (by decide) (br_f h0 ⟨rfl, rfl, rfl, rfl, rfl, rfl, rfl, hG, hT, hF, hP⟩)))
  · exact pr_X0 hp (br_t rfl (pr_Y0 hp (br_t rfl ⟨rfl, rfl, rfl, rfl, rfl, rfl, rfl, hG, hT, hF, hP⟩)))
section
variable {g l : Int32} {T P F pa pe am W O C L D H OW RE PR BE : Nat → Int32}
theorem op_4 {post : Int32 → SX → Prop} {Z : (Int32 → Prop) → Prop} {v1 : Int32} (hT : rl_T T) (hF : rl_F T F) (hP : rl_P T P F)
    (k : ∀ (x : Int32) W C L, (∀ q : Int32 → Prop, (∃ m, wY_open_4 q v1 l T P pa pe am OW RE PR BE m x (nI 49)) → Z q) → post x (g, T, P, F, pa, pe, am, W, O, C, L, D, H)) :
    ∀ (n i : Nat), 49 < n + i → i ≤ 49 → ∀ (x : Int32) W C L, (∀ q : Int32 → Prop, (∃ m, wY_open_4 q v1 l T P pa pe am OW RE PR BE m x (nI i)) → Z q) → wX_open_4 post v1 n x (nI i) g T P F pa pe am W O C L D H := by
  intro n
  induction n with
  | zero => intro i h1 h2; omega
  | succ n ih =>
    intro i h1 h2 x W C L hZ
    rw [wX_open_4]
    by_cases e : i = 49
    · subst e
      exact br_t (show (49 : Int32) ≤ nI 49 from by decide) (k x W C L hZ)
    · have hd : nI i / 7 = nI (i / 7) := pk_div (d := 7) (by omega) (by omega) (by omega)
      have hm : nI i - nI i / 7 * 7 = nI (i % 7) := pk_rem (d := 7) (by omega) (by omega) (by omega)
      refine br_f (show ¬ (49 : Int32) ≤ nI i from nI_ge (b := 49) (by omega) (by omega)) ⟨by decide, nm_r hd ⟨by decide, nm_r hm ?_⟩⟩
      have hn49 : ¬ (49 : Int32) ≤ nI i := nI_ge (b := 49) (by omega) (by omega)
      by_cases f : i / 7 = i % 7
      · refine br_t (by rw [f]) (nm_r (nI_1 i) (ih (i + 1) (by omega) (by omega) x W C L (fun q ⟨m, hq⟩ => hZ q ⟨m + 1, ?_⟩)))
        rw [wY_open_4]
        refine br_f hn49 ⟨by decide, by decide, ?_⟩
        rw [hm, hd]
        exact br_t (by rw [f]) (nm_r (nI_1 i) hq)
      · have f' : ¬ nI (i / 7) = nI (i % 7) := ar_ne (by omega) (by omega) f
        refine br_f f' (mo_X (by omega) (by omega) f hT hF hP (fun q W' C' L' hq => ?_))
        dsimp only
        by_cases z : q < v1
        · refine br_t z (nm_r (Int32.add_zero x) (nm_r (nI_1 i) (ih (i + 1) (by omega) (by omega) x W' C' L' (fun p ⟨m, hp⟩ => hZ p ⟨m + 1, ?_⟩))))
          rw [wY_open_4]
          refine br_f hn49 ⟨by decide, by decide, ?_⟩
          rw [hm, hd]
          refine br_f f' ⟨by decide, by decide, mo_Y (by omega) (by omega) f hT hF hP (fun r hr => ?_)⟩
          rw [mo_u hq hr]
          exact br_t z (nm_r (nI_1 i) hp)
        · refine br_f z (nm_e (nm_r (nI_1 i) (ih (i + 1) (by omega) (by omega) (x + 1) W' C' L' (fun p ⟨m, hp⟩ => hZ p ⟨m + 1, ?_⟩))))
          rw [wY_open_4]
          refine br_f hn49 ⟨by decide, by decide, ?_⟩
          rw [hm, hd]
          refine br_f f' ⟨by decide, by decide, mo_Y (by omega) (by omega) f hT hF hP (fun r hr => ?_)⟩
          rw [mo_u hq hr]
          exact br_f z (nm_e (nm_r (nI_1 i) hp))
end
theorem i_vc_open {k : Nat} {u : SX} {v : SY} (I : i_Rel k u v) (hk : k + 4 ≤ 2048) (v1 : Int32) : wpX_open (fun r u' => wpY_open (fun r' => r' = r ∧ i_Rel (k + 4) u' v) v v1) u v1 := by
  obtain ⟨g, T, P, F, pa, pe, am, W, O, C, L, D, H⟩ := u
  obtain ⟨g', T', P', pa', pe', am', OW, RE, PR, BE⟩ := v
  obtain ⟨rfl, rfl, rfl, rfl, rfl, rfl, hG, hT, hF, hP⟩ := I
  refine ⟨50, op_4 (l := g) (OW := OW) (RE := RE) (PR := PR) (BE := BE) (Z := fun q => wpY_open q (g, T, P, pa, pe, am, OW, RE, PR, BE) v1) hT hF hP (fun x W' C' L' hZ => ?_) 50 0 (by omega) (by omega) 0 W C L (fun q h => h)⟩
  exact hZ _ ⟨1, br_t (show (49 : Int32) ≤ nI 49 from by decide) ⟨rfl, rfl, rfl, rfl, rfl, rfl, rfl, hG, hT, hF, hP⟩⟩
end
section
/-! withdraw -/
theorem ct_pt {n : Nat} {x : Nat → Int} {a b : Nat} (y : Int) (ha : a < n) (hb : b < n) : ct_c n x (fun u v => y * ph_e u v a b) = x b * (1 - x a) * y := by
  unfold ct_c
  rw [zz_pick (f := fun v => zz_s n (fun u => x v * (1 - x u) * (y * ph_e u v a b))) hb (fun v _ hv => zz_c0 (fun u _ => by
    show x v * (1 - x u) * (y * ph_e u v a b) = 0
    have : ph_e u v a b = 0 := if_neg (fun z => hv z.2)
    rw [this, Int.mul_zero, Int.mul_zero]))]
  show zz_s n (fun u => x b * (1 - x u) * (y * ph_e u b a b)) = x b * (1 - x a) * y
  rw [zz_pick (f := fun u => x b * (1 - x u) * (y * ph_e u b a b)) ha (fun u _ hu => by
    show x b * (1 - x u) * (y * ph_e u b a b) = 0
    have : ph_e u b a b = 0 := if_neg (fun z => hu z.1)
    rw [this, Int.mul_zero, Int.mul_zero])]
  show x b * (1 - x a) * (y * ph_e a b a b) = x b * (1 - x a) * y
  rw [ph_e_1, Int.mul_one]
section
variable {T P F W : Nat → Int32} {a b : Nat} {r : Int32} {x y : Int}
theorem wd_T (ha : a < 7) (hb : b < 7) (hT : rl_T T) (h1 : 0 ≤ r.toInt) (h2 : r.toInt ≤ ar_7c T a b) : ∀ u v, u < 7 → v < 7 → ar_7c (upd T (7 * a + b) (T (7 * a + b) - r)) u v = ar_7c T u v - r.toInt * ph_e u v a b := by
  intro u v hu hv
  have htb := hT.1 a b ha hb
  have e1 : (T (7 * a + b) - r).toInt = ar_7c T a b - r.toInt := ar_sub (show -2147483648 ≤ ar_7c T a b - r.toInt by omega) (show ar_7c T a b - r.toInt < 2147483648 by omega)
  rw [ar_u7 hb hv, e1]
  unfold ph_e
  by_cases c : u = a ∧ v = b
  · rw [if_pos c, if_pos c, c.1, c.2]; omega
  · rw [if_neg c, if_neg c]; omega
theorem wd_rT (ha : a < 7) (hb : b < 7) (hab : a ≠ b) (hT : rl_T T) (h1 : 0 ≤ r.toInt) (h2 : r.toInt ≤ ar_7c T a b) : rl_T (upd T (7 * a + b) (T (7 * a + b) - r)) := by
  refine ⟨fun u v hu hv => ?_, fun u hu => ?_⟩
  · rw [wd_T ha hb hT h1 h2 u v hu hv]
    have h3 := hT.1 u v hu hv
    rcases ph_e_01 u v a b with ⟨e, e1, e2⟩ | e
    · rw [e, e1, e2]; rw [e1, e2] at h3; omega
    · rw [e]; omega
  · rw [wd_T ha hb hT h1 h2 u u hu hu]
    have : ph_e u u a b = 0 := if_neg (fun z => hab (z.1.symm.trans z.2))
    rw [this, hT.2 u hu]; omega
/-- the positions in terms of the trimmed table -/
theorem wd_P (ha : a < 7) (hb : b < 7) (hT : rl_T T) (hP : rl_P T P F) (h1 : 0 ≤ r.toInt) (h2 : r.toInt ≤ ar_7c T a b) (hxy : x + y = r.toInt)
    (hW : ∀ u v, u < 9 → v < 9 → ar_9c W u v = ar_9c F u v - x * ph_e u v b a - y * ph_e u v a b) :
    ∀ v, v < 7 → (P v).toInt = zz_s 7 (fun u => ar_7c (upd T (7 * a + b) (T (7 * a + b) - r)) v u - ar_9c W u v) + ((if v = a then y else 0) - (if v = b then y else 0)) := by
  intro v hv
  have e : zz_s 7 (fun u => ar_7c (upd T (7 * a + b) (T (7 * a + b) - r)) v u - ar_9c W u v) = zz_s 7 (fun u => ((ar_7c T v u - ar_9c F u v) - y * ph_e u v b a) + y * ph_e u v a b) := zz_congr (fun u hu => by
    show ar_7c (upd T (7 * a + b) (T (7 * a + b) - r)) v u - ar_9c W u v = ((ar_7c T v u - ar_9c F u v) - y * ph_e u v b a) + y * ph_e u v a b
    rw [wd_T ha hb hT h1 h2 v u hv hu, hW u v (by omega) (by omega), ph_e_s v u a b, ← hxy, Int.add_mul]; omega)
  rw [e, zz_add, zz_sub, zz_mul, zz_mul, ph_e_sum v a hb, ph_e_sum v b ha, ← hP v hv]
  by_cases c1 : v = a
  · rw [if_pos c1, if_pos c1]
    by_cases c2 : v = b
    · rw [if_pos c2, if_pos c2]; omega
    · rw [if_neg c2, if_neg c2]; omega
  · rw [if_neg c1, if_neg c1]
    by_cases c2 : v = b
    · rw [if_pos c2, if_pos c2]; omega
    · rw [if_neg c2, if_neg c2]; omega
theorem wd_s (ha : a < 7) (hb : b < 7) (hab : a ≠ b) (hT : rl_T T) (hF : rl_F T F) (h1 : 0 ≤ r.toInt) (h2 : r.toInt ≤ ar_7c T a b) (hxy : x + y = r.toInt)
    (hW : ∀ u v, u < 9 → v < 9 → ar_9c W u v = ar_9c F u v - x * ph_e u v b a - y * ph_e u v a b) :
    ∀ u v, u < 7 → v < 7 → ar_9c W u v + ar_9c W v u = ar_7c (upd T (7 * a + b) (T (7 * a + b) - r)) u v + ar_7c (upd T (7 * a + b) (T (7 * a + b) - r)) v u := by
  intro u v hu hv
  rw [hW u v (by omega) (by omega), hW v u (by omega) (by omega), wd_T ha hb hT h1 h2 u v hu hv, wd_T ha hb hT h1 h2 v u hv hu, ph_e_s v u a b, ph_e_s v u b a, ← hxy, Int.add_mul, Int.add_mul]
  have := (hF.1 u v hu hv).2
  omega
theorem wd_Z (ha : a < 7) (hb : b < 7) (hF : rl_F T F) (hW : ∀ u v, u < 9 → v < 9 → ar_9c W u v = ar_9c F u v - x * ph_e u v b a - y * ph_e u v a b) : rl_Z (ar_9c W) := by
  intro u v hu hv hn
  have q1 : ph_e u v b a = 0 := if_neg (fun z => hn (by omega))
  have q2 : ph_e u v a b = 0 := if_neg (fun z => hn (by omega))
  rw [hW u v hu hv, q1, q2, hF.2 u v hu hv hn]; omega
theorem wd_b (hab : a ≠ b) (ha : a < 7) (hb : b < 7) (hT : rl_T T) (hF : rl_F T F) (hx : 0 ≤ x ∧ x ≤ ar_9c F b a) (hy : 0 ≤ y ∧ y ≤ ar_9c F a b) (hW : ∀ u v, u < 9 → v < 9 → ar_9c W u v = ar_9c F u v - x * ph_e u v b a - y * ph_e u v a b) :
    ∀ u v, u < 9 → v < 9 → 0 ≤ ar_9c W u v ∧ ar_9c W u v ≤ 2000 := by
  intro u v hu hv
  rw [hW u v hu hv]
  have h3 := rl_Fb hT hF u v hu hv
  rcases ph_e_01 u v b a with ⟨e, e1, e2⟩ | e
  · have q : ph_e u v a b = 0 := if_neg (fun z => hab (z.1.symm.trans e1))
    rw [e, q, e1, e2]; rw [e1, e2] at h3; omega
  · rw [e]
    rcases ph_e_01 u v a b with ⟨f, f1, f2⟩ | f
    · rw [f, f1, f2]; rw [f1, f2] at h3; omega
    · rw [f]; omega
theorem wd_new {V F' : Nat → Int32} (ha : a < 7) (hb : b < 7) (hab : a ≠ b) (hT : rl_T T) (hF : rl_F T F) (hP : rl_P T P F) (h1 : 0 ≤ r.toInt) (h2 : r.toInt ≤ ar_7c T a b) (hxy : x + y = r.toInt)
    (hW : ∀ u v, u < 9 → v < 9 → ar_9c W u v = ar_9c F u v - x * ph_e u v b a - y * ph_e u v a b) (hS : sd_P (ar_9c W) (ar_9c V) b a y)
    (hF' : ∀ u v, u < 9 → v < 9 → F' (9 * u + v) = if u < 7 ∧ v < 7 then V (9 * u + v) else F (9 * u + v)) :
    rl_F (upd T (7 * a + b) (T (7 * a + b) - r)) F' ∧ rl_P (upd T (7 * a + b) (T (7 * a + b) - r)) P F' := by
  have f1 : ∀ u v, u < 7 → v < 7 → ar_9c F' u v = ar_9c V u v := fun u v hu hv => by
    unfold ar_9c; rw [hF' u v (by omega) (by omega), if_pos ⟨hu, hv⟩]
  have f2 : ∀ u v, u < 9 → v < 9 → ¬ (u < 7 ∧ v < 7) → ar_9c F' u v = ar_9c F u v := fun u v hu hv hn => by
    unfold ar_9c; rw [hF' u v hu hv, if_neg hn]
  refine ⟨⟨fun u v hu hv => ?_, fun u v hu hv hn => ?_⟩, fun z hz => ?_⟩
  · rw [f1 u v hu hv, f1 v u hv hu]
    have a1 := hS.1 u v (by omega) (by omega)
    have a2 := hS.2.1 u v (by omega) (by omega)
    have a3 := wd_s ha hb hab hT hF h1 h2 hxy hW u v hu hv
    omega
  · rw [f2 u v hu hv hn]; exact hF.2 u v hu hv hn
  · rw [wd_P ha hb hT hP h1 h2 hxy hW z hz, ← (rl_sent (wd_Z ha hb hF hW) hS).2 z hz, ← zz_add]
    refine zz_congr (fun u hu => ?_)
    show ar_7c (upd T (7 * a + b) (T (7 * a + b) - r)) z u - ar_9c W u z + (ar_9c W u z - ar_9c V u z) = ar_7c (upd T (7 * a + b) (T (7 * a + b) - r)) z u - ar_9c F' u z
    rw [f1 u z hu hz]; omega
theorem wd_cut (ha : a < 7) (hb : b < 7) (hab : a ≠ b) (hT : rl_T T) (hF : rl_F T F) (hP : rl_P T P F) (h1 : 0 ≤ r.toInt) (h2 : r.toInt ≤ ar_7c T a b) (hxy : x + y = r.toInt)
    (hW : ∀ u v, u < 9 → v < 9 → ar_9c W u v = ar_9c F u v - x * ph_e u v b a - y * ph_e u v a b) (S : Nat) (hSb : sl_x S b = 0) (hSa : sl_x S a = 1) :
    sl_v (upd T (7 * a + b) (T (7 * a + b) - r)) P S = ct_c 7 (sl_x S) (ar_9c W) - y := by
  rw [sl_v_ct]
  have hs := wd_s ha hb hab hT hF h1 h2 hxy hW
  have e1 := ct_div (n := 7) (x := sl_x S) (m := fun u v => ar_7c (upd T (7 * a + b) (T (7 * a + b) - r)) v u - ar_9c W u v) (fun u v hu hv => by
    have := hs u v hu hv
    show ar_7c (upd T (7 * a + b) (T (7 * a + b) - r)) v u - ar_9c W u v = - (ar_7c (upd T (7 * a + b) (T (7 * a + b) - r)) u v - ar_9c W v u)
    omega)
  rw [ct_sub 7 (sl_x S) (fun u v => ar_7c (upd T (7 * a + b) (T (7 * a + b) - r)) v u) (ar_9c W)] at e1
  have e2 : zz_s 7 (fun u => sl_x S u * (P u).toInt) = zz_s 7 (fun v => sl_x S v * zz_s 7 (fun u => ar_7c (upd T (7 * a + b) (T (7 * a + b) - r)) v u - ar_9c W u v) + ((if v = a then y else 0) - (if v = b then 0 else 0))) := zz_congr (fun v hv => by
    show sl_x S v * (P v).toInt = _
    rw [wd_P ha hb hT hP h1 h2 hxy hW v hv, Int.mul_add]
    by_cases c1 : v = a
    · have c2 : ¬ v = b := fun z => hab (c1.symm.trans z)
      rw [if_pos c1, if_neg c2, if_neg c2, c1, hSa]; omega
    · by_cases c2 : v = b
      · rw [if_neg c1, if_pos c2, if_pos c2, c2, hSb]; simp
      · rw [if_neg c1, if_neg c2, if_neg c2]; simp)
  rw [e2, zz_add, zz_sub, zz_ite y ha, zz_ite 0 hb]
  have e3 : zz_s 7 (fun v => sl_x S v * zz_s 7 (fun u => ar_7c (upd T (7 * a + b) (T (7 * a + b) - r)) v u - ar_9c W u v)) = zz_s 7 (fun v => sl_x S v * zz_s 7 (fun u => (fun u v => ar_7c (upd T (7 * a + b) (T (7 * a + b) - r)) v u - ar_9c W u v) u v)) := rfl
  rw [e3, e1]; omega
theorem wd_back (i : Nat) : upd (upd T i (T i - r)) i ((upd T i (T i - r)) i + r) = T := by
  funext j
  rw [pk_us, ar_u, ar_u]
  by_cases h : j = i
  · rw [if_pos h, h, Int32.sub_add_cancel]
  · rw [if_neg h, if_neg h]
end
theorem i_vc_withdraw {k : Nat} {u : SX} {v : SY} (I : i_Rel k u v) (hk : k + 4 ≤ 2048) (v1 : Int32) (v2 : Int32) (v3 : Int32) : wpX_withdraw (fun r u' => wpY_withdraw (fun r' v' => r' = r ∧ i_Rel (k + 4) u' v') v v1 v2 v3) u v1 v2 v3 := by
  obtain ⟨g, T, P, F, pa, pe, am, W, O, C, L, D, H⟩ := u
  obtain ⟨g', T', P', pa', pe', am', OW, RE, PR, BE⟩ := v
  obtain ⟨rfl, rfl, rfl, rfl, rfl, rfl, hG, hT, hF, hP⟩ := I
  unfold wpX_withdraw wpY_withdraw
  dsimp only
  by_cases hp : pr_P v1 v2
  · obtain ⟨a, b, ha, hb, hab, rfl, rfl⟩ := hp
    have cn : (nI (7 * a + b)).toNatClampNeg = 7 * a + b := nI_clamp (by omega)
    have vi : vp_in (nI (7 * a + b)) 49 := vp_in_nI (by omega) (by omega)
    have v9 : vp_in (nI (9 * b + a)) 81 := vp_in_nI (by omega) (by omega)
    have c9 : (nI (9 * b + a)).toNatClampNeg = 9 * b + a := nI_clamp (by omega)
    have v9' : vp_in (nI (9 * a + b)) 81 := vp_in_nI (by omega) (by omega)
    have c9' : (nI (9 * a + b)).toNatClampNeg = 9 * a + b := nI_clamp (by omega)
    have htb := hT.1 a b ha hb
    have hfb := rl_Fb hT hF b a (by omega) (by omega)
    have hfa := rl_Fb hT hF a b (by omega) (by omega)
    rw [ar_7, ar_9 b a, ar_9 a b, c9, c9', cn]
    refine pr_X1 ha hb hab (br_f (by decide) (nm_e ?_))
    rw [cn]
    by_cases h0 : v3 < 0
    · exact br_t h0 (pr_Y1 ha hb hab (br_f (by decide) (br_t h0 ⟨rfl, rfl, rfl, rfl, rfl, rfl, rfl, hG, hT, hF, hP⟩)))
    · refine br_f h0 ⟨vi, ?_⟩
      have h0' : 0 ≤ v3.toInt := by rw [ar_ng] at h0; omega
      by_cases h1 : v3 ≤ T (7 * a + b)
      · have h1' : v3.toInt ≤ ar_7c T a b := ar_le.mp h1
        have hT' := wd_rT ha hb hab hT h0' h1'
        have hT49 := rl_T49 hT'
        have hPb := rl_Pb' hT hF hP
        -- the reference, when it is possible
        have yes : ∀ (F' : Nat → Int32), rl_F (upd T (7 * a + b) (T (7 * a + b) - v3)) F' → rl_P (upd T (7 * a + b) (T (7 * a + b) - v3)) P F' → ∀ {A : Prop} {B : Prop}, B →
            wpY_isPossible (fun r_19 => (r_19 = 0 → A) ∧ (¬ r_19 = 0 → B)) (g, upd T (7 * a + b) (T (7 * a + b) - v3), P, pa, pe, am, OW, RE, PR, BE) := by
          intro F' hF' hP' A B hB
          refine yp_poss hT49 hPb (fun _ => br_f (by decide) hB) (fun ⟨s, _, hs⟩ => ?_)
          have := rl_snn hF' hP' s
          omega
        refine br_t h1 (xc_copy (fun W' hW' => ?_))
        dsimp only
        have hW := fl_W hW'
        refine ⟨v9, nm_e ?_⟩
        have el : (F (9 * b + a) - v3).toInt = ar_9c F b a - v3.toInt := ar_sub (show -2147483648 ≤ ar_9c F b a - v3.toInt by omega) (show ar_9c F b a - v3.toInt < 2147483648 by omega)
        by_cases hl : F (9 * b + a) - v3 < 0
        · have hl' := ar_ng.mp hl
          have en : (-(F (9 * b + a) - v3)).toInt = v3.toInt - ar_9c F b a := by rw [ar_neg (by omega), el]; omega
          have hsum := (hF.1 a b ha hb).2
          have htb' := hT.1 b a hb ha
          have hxy : ar_9c F b a + (v3.toInt - ar_9c F b a) = v3.toInt := by omega
          have hW1 : ∀ u v, u < 9 → v < 9 → ar_9c (upd (upd W' (9 * b + a) 0) (9 * a + b) ((upd W' (9 * b + a) 0) (9 * a + b) - -(F (9 * b + a) - v3))) u v = ar_9c F u v - ar_9c F b a * ph_e u v b a - (v3.toInt - ar_9c F b a) * ph_e u v a b := by
            intro u v hu hv
            have e1 : (upd W' (9 * b + a) 0) (9 * a + b) = F (9 * a + b) := (pk_un (by omega)).trans (hW' _ (by omega))
            have e2 : (F (9 * a + b) - -(F (9 * b + a) - v3)).toInt = ar_9c F a b - (v3.toInt - ar_9c F b a) := by
              rw [ar_sub, en]
              · rfl
              · show -2147483648 ≤ ar_9c F a b - _
                omega
              · show ar_9c F a b - _ < 2147483648
                omega
            rw [e1, ar_u9 (by omega) hv, ar_u9 (by omega) hv, e2, hW u v hu hv, ar_0]
            unfold ph_e
            by_cases c1 : u = a ∧ v = b
            · have c2 : ¬ (u = b ∧ v = a) := fun z => hab (c1.1.symm.trans z.1)
              rw [if_pos c1, if_pos c1, if_neg c2, c1.1, c1.2]; omega
            · by_cases c2 : u = b ∧ v = a
              · rw [if_neg c1, if_neg c1, if_pos c2, if_pos c2, c2.1, c2.2]; omega
              · rw [if_neg c1, if_neg c1, if_neg c2, if_neg c2]; omega
          have hb1 := wd_b hab ha hb hT hF (by omega) (by omega) hW1
          refine br_t hl (nm_e ⟨v9, nm_e ⟨v9', v9', nm_e (xs_send (by omega) (by omega) (fun z => hab z.symm) (by omega) (fun u v hu hv => by have := hb1 u v hu hv; omega) (Or.inr (fun v hv => (hb1 b v (by omega) hv).2)) (fun q W'' C' L' s1 s2 s3 s4 => ?_))⟩⟩)
          dsimp only
          by_cases z : -(F (9 * b + a) - v3) ≤ q
          · have z' := ar_le.mp z
            refine br_t z ?_
            unfold wX_withdraw_129
            refine xk_keep (fun F' hF' => ?_)
            dsimp only
            rw [cn]
            obtain ⟨n1, n2⟩ := wd_new ha hb hab hT hF hP h0' h1' hxy hW1 (by rw [show v3.toInt - ar_9c F b a = q.toInt by omega]; exact s1) hF'
            exact ⟨vi, vi, nm_e ⟨vi, pr_Y1 ha hb hab (br_f (by decide) (br_f h0 ⟨vi, br_t h1 ⟨vi, vi, nm_e (yes F' n1 n2 ⟨vi, rfl, rfl, rfl, rfl, rfl, rfl, rfl, hG, hT', n1, n2⟩)⟩⟩))⟩⟩
          · have z' : ¬ (-(F (9 * b + a) - v3)).toInt ≤ q.toInt := fun y => z (ar_le.mpr y)
            refine br_f z (pr_Y1 ha hb hab (br_f (by decide) (br_f h0 ⟨vi, br_t h1 ⟨vi, vi, nm_e (yp_poss hT49 hPb (fun hy => ?_) (fun _ => br_t rfl ⟨vi, vi, nm_r (wd_back (T := T) (r := v3) (7 * a + b)) ⟨rfl, rfl, rfl, rfl, rfl, rfl, rfl, hG, hT, hF, hP⟩⟩))⟩⟩)))
            rcases s4 with s4 | s4
            · omega
            · obtain ⟨S, q1, q2, q3, q4⟩ := rl_min hb ha (wd_Z ha hb hF hW1) s1 s4
              have := wd_cut ha hb hab hT hF hP h0' h1' hxy hW1 S q2 q3
              have := hy S q1
              omega
        · have hl' : ¬ (F (9 * b + a) - v3).toInt < 0 := fun y => hl (ar_ng.mpr y)
          have hxy : v3.toInt + 0 = v3.toInt := by omega
          have hW1 : ∀ u v, u < 9 → v < 9 → ar_9c (upd W' (9 * b + a) (F (9 * b + a) - v3)) u v = ar_9c F u v - v3.toInt * ph_e u v b a - 0 * ph_e u v a b := by
            intro u v hu hv
            rw [ar_u9 (by omega) hv, el, hW u v hu hv]
            unfold ph_e
            by_cases c2 : u = b ∧ v = a
            · rw [if_pos c2, if_pos c2, c2.1, c2.2]; omega
            · rw [if_neg c2, if_neg c2]; omega
          have hb1 := wd_b hab ha hb hT hF (by omega) (by omega) hW1
          refine br_f hl ⟨v9, nm_e ?_⟩
          unfold wX_withdraw_129
          refine xk_keep (fun F' hF' => ?_)
          dsimp only
          rw [cn]
          obtain ⟨n1, n2⟩ := wd_new ha hb hab hT hF hP h0' h1' hxy hW1 (sd_refl (fun u v hu hv => (hb1 u v hu hv).1)) hF'
          exact ⟨vi, vi, nm_e ⟨vi, pr_Y1 ha hb hab (br_f (by decide) (br_f h0 ⟨vi, br_t h1 ⟨vi, vi, nm_e (yes F' n1 n2 ⟨vi, rfl, rfl, rfl, rfl, rfl, rfl, rfl, hG, hT', n1, n2⟩)⟩⟩))⟩⟩
      · exact br_f h1 (pr_Y1 ha hb hab (br_f (by decide) (br_f h0 ⟨vi, br_f h1 ⟨rfl, rfl, rfl, rfl, rfl, rfl, rfl, hG, hT, hF, hP⟩⟩)))
  · exact pr_X0 hp (br_t rfl (pr_Y0 hp (br_t rfl ⟨rfl, rfl, rfl, rfl, rfl, rfl, rfl, hG, hT, hF, hP⟩)))
end
section
/-! spread, leastDebt, greatestDebt -/
def sp_W (F : Nat → Int32) (h i : Nat) (W : Nat → Int32) : Prop := ∀ u v, u < 9 → v < 9 → ar_9c W u v = if v = 8 ∧ u < i then (if h.testBit u = true then 1000000 else 0) else ar_9c F u v
theorem sp_cut {T F W : Nat → Int32} {h : Nat} (hF : rl_F T F) (hW : sp_W F h 7 W) (x : Nat → Int) : ct_c 9 x (ar_9c W) = ct_c 7 x (ar_9c F) + zz_s 7 (fun u => x 8 * (1 - x u) * (if h.testBit u = true then 1000000 else 0)) := by
  have z : ∀ u v, u < 9 → v < 9 → ¬ (u < 7 ∧ v < 7) → ¬ (v = 8 ∧ u < 7) → ar_9c W u v = 0 := fun u v hu hv h1 h2 => by
    rw [hW u v hu hv, if_neg h2]; exact hF.2 u v hu hv h1
  have e8 : zz_s 7 (fun u => x 8 * (1 - x u) * ar_9c W u 8) = zz_s 7 (fun u => x 8 * (1 - x u) * (if h.testBit u = true then 1000000 else 0)) := zz_congr (fun u hu => by
    show x 8 * (1 - x u) * ar_9c W u 8 = _
    rw [hW u 8 (by omega) (by omega), if_pos ⟨rfl, hu⟩])
  rw [ct_97, zz_c0 (n := 7) (f := fun v => x v * (1 - x 7) * ar_9c W 7 v) (fun v hv => by rw [z 7 v (by omega) (by omega) (by omega) (by omega)]; exact Int.mul_zero _),
    zz_c0 (n := 7) (f := fun v => x v * (1 - x 8) * ar_9c W 8 v) (fun v hv => by rw [z 8 v (by omega) (by omega) (by omega) (by omega)]; exact Int.mul_zero _),
    zz_c0 (n := 7) (f := fun u => x 7 * (1 - x u) * ar_9c W u 7) (fun v hv => by rw [z v 7 (by omega) (by omega) (by omega) (by omega)]; exact Int.mul_zero _),
    e8, z 7 7 (by omega) (by omega) (by omega) (by omega), z 8 7 (by omega) (by omega) (by omega) (by omega), z 7 8 (by omega) (by omega) (by omega) (by omega), z 8 8 (by omega) (by omega) (by omega) (by omega),
    ct_congr (n := 7) (y := x) (V := ar_9c F) (fun _ _ => rfl) (fun u v hu hv => by rw [hW u v (by omega) (by omega), if_neg (by omega)])]
  simp
def sp_M (T P : Nat → Int32) (h a : Nat) (r : Int) : Prop := (∃ s, s < 128 ∧ yl_c h a s ∧ r = sl_v T P s) ∧ (∀ s, s < 128 → yl_c h a s → r ≤ sl_v T P s)
theorem sp_u {T P : Nat → Int32} {h a : Nat} {r r' : Int32} (h1 : sp_M T P h a r.toInt) (h1' : sp_M T P h a r'.toInt) : r' = r := by
  obtain ⟨⟨s, s1, s2, s3⟩, h2⟩ := h1
  obtain ⟨⟨t, t1, t2, t3⟩, h4⟩ := h1'
  have := h2 t t1 t2
  have := h4 s s1 s2
  exact ar_ext (by omega)
theorem sp_b {T F W : Nat → Int32} {h : Nat} (hT : rl_T T) (hF : rl_F T F) (hW : sp_W F h 7 W) : ∀ u v, u < 9 → v < 9 → 0 ≤ ar_9c W u v ∧ ar_9c W u v ≤ 1000000 := by
  intro u v hu hv
  rw [hW u v hu hv]
  have := rl_Fb hT hF u v hu hv
  split
  · split <;> omega
  · omega
theorem sp_s {T F W : Nat → Int32} {h a : Nat} (ha : a < 7) (hb : h.testBit a = false) (hT : rl_T T) (hF : rl_F T F) (hW : sp_W F h 7 W) : ∀ v, v < 9 → ar_9c W a v ≤ 2000 := by
  intro v hv
  rw [hW a v (by omega) hv, hb]
  have := rl_Fb hT hF a v (by omega) hv
  split
  · rw [if_neg (by decide)]; omega
  · omega
theorem sp_fin {T P F W C : Nat → Int32} {V : Nat → Nat → Int} {h a : Nat} {q : Int} (hh : h < 128) (ha : a < 7) (hb : h.testBit a = false) (hT : rl_T T) (hF : rl_F T F) (hP : rl_P T P F) (hW : sp_W F h 7 W) (h1 : sd_P (ar_9c W) V a 8 q) (hq : q < 100000) (hc : fw_S V a 8 C 0) :
    sp_M T P h a q := by
  refine ⟨?_, fun S hS hcS => ?_⟩
  · rcases hc with ⟨_, x, x1, x2, x3, x4⟩ | ⟨z, _⟩
    · have e := sd_cut (x := x) h1 (by omega) (by omega) x2 x3
      have n : ct_c 9 x V = 0 := ct_z x1 (fun u v hu hv a b => by have := x4 u v hu hv a b; have := h1.1 u v hu hv; omega)
      rw [sp_cut hF hW] at e
      have x17 : ct_01 7 x := fun i hi => x1 i (by omega)
      have nn : 0 ≤ ct_c 7 x (ar_9c F) := ct_nn x17 (fun u v hu hv => (hF.1 u v hu hv).1)
      have tn : ∀ u, u < 7 → 0 ≤ x 8 * (1 - x u) * (if h.testBit u = true then 1000000 else 0) := fun u hu => by
        rw [x3]
        rcases x17 u hu with z | z <;> rw [z] <;> split <;> omega
      have hx : ∀ u, u < 7 → h.testBit u = true → x u = 1 := fun u hu hbu => by
        have := zz_mem tn u hu
        rw [x3, if_pos hbu] at this
        rcases x17 u hu with z | z
        · rw [z] at this
          have e2 : zz_s 7 (fun u => 1 * (1 - x u) * (if h.testBit u = true then 1000000 else 0)) = zz_s 7 (fun u => x 8 * (1 - x u) * (if h.testBit u = true then 1000000 else 0)) := by rw [x3]
          omega
        · exact z
      have hz : zz_s 7 (fun u => x 8 * (1 - x u) * (if h.testBit u = true then 1000000 else 0)) = 0 := zz_c0 (fun u hu => by
        cases hbu : h.testBit u with
        | true => rw [hx u hu hbu]; simp
        | false => simp)
      obtain ⟨S, S1, S2⟩ := sl_of x x17
      refine ⟨S, S1, ⟨(sl_heldn h hh S S1).mpr (fun v hv hbv => sl_x1.mp ((S2 v hv).trans (hx v hv hbv))), sl_x0.mp ((S2 a ha).trans x2)⟩, ?_⟩
      rw [rl_slack hF hP, ct_congr (n := 7) (y := x) (V := ar_9c F) S2 (fun u v _ _ => rfl)]
      omega
    · exact absurd z (by decide)
  · have hcS' := (sl_heldn h hh S hS).mp hcS.1
    have e := sd_cut (x := fun u => if u = 8 then 1 else sl_x S u) h1 (by omega) (by omega) (by show (if a = 8 then (1 : Int) else sl_x S a) = 0; rw [if_neg (by omega)]; exact sl_x0.mpr hcS.2) (if_pos rfl)
    have h01 : ct_01 9 (fun u => if u = 8 then 1 else sl_x S u) := fun i hi => by
      show (if i = 8 then (1 : Int) else sl_x S i) = 0 ∨ (if i = 8 then (1 : Int) else sl_x S i) = 1
      split
      · exact Or.inr rfl
      · exact sl_01 9 S i hi
    have n := ct_nn h01 h1.1
    rw [sp_cut hF hW] at e
    have e2 : zz_s 7 (fun u => (fun u => if u = 8 then (1 : Int) else sl_x S u) 8 * (1 - (fun u => if u = 8 then (1 : Int) else sl_x S u) u) * (if h.testBit u = true then 1000000 else 0)) = 0 := zz_c0 (fun u hu => by
      show 1 * (1 - (if u = 8 then (1 : Int) else sl_x S u)) * (if h.testBit u = true then 1000000 else 0) = 0
      rw [if_neg (by omega)]
      cases hbu : h.testBit u with
      | true => rw [sl_x1.mpr (hcS' u hu hbu)]; simp
      | false => simp)
    rw [e2] at e
    rw [rl_slack hF hP, ct_congr (n := 7) (x := sl_x S) (y := fun u => if u = 8 then 1 else sl_x S u) (V := ar_9c F) (fun i hi => (if_neg (by omega)).symm) (fun u v _ _ => rfl)]
    omega
section
variable {g : Int32} {T P F pa pe am W O C L D H : Nat → Int32}
theorem sp_35 {post : Int32 → SX → Prop} {a h : Nat} (hh : h < 128) (ha : a < 7) (hb : h.testBit a = false) (hT : rl_T T) (hF : rl_F T F) (hP : rl_P T P F)
    (k : ∀ (q : Int32) W C L, sp_M T P h a q.toInt → post q (g, T, P, F, pa, pe, am, W, O, C, L, D, H)) :
    ∀ (n i : Nat), 7 < n + i → i ≤ 7 → ∀ W, sp_W F h i W → wX_spread_35 post (nI a) (nI h) g n (nI i) T P F pa pe am W O C L D H := by
  intro n
  induction n with
  | zero => intro i h1 h2; omega
  | succ n ih =>
    intro i h1 h2 W hW
    rw [wX_spread_35]
    by_cases e : i = 7
    · subst e
      refine br_t (show (7 : Int32) ≤ nI 7 from by decide) ?_
      have hst : a ≠ 8 := by omega
      refine xs_send (t := 8) (by omega) (by omega) hst (by decide) (sp_b hT hF hW) (Or.inr (sp_s ha hb hT hF hW)) (fun q W'' C' L' s1 s2 s3 s4 => k q W'' C' L' ?_)
      have hq := xs_lt (by omega) (by omega) hst s1 s3 (Or.inr (sp_s ha hb hT hF hW))
      rcases s4 with s4 | s4
      · rw [ar_M] at s4; omega
      · exact sp_fin hh ha hb hT hF hP hW s1 hq s4
    · have hbit := sl_bit h hh i (by omega)
      have e9 : (9 : Int32) * nI i + 8 = nI (9 * i + 8) := ar_9 i 8
      have v9 : vp_in (nI (9 * i + 8)) 81 := vp_in_nI (by omega) (by omega)
      have c9 : (nI (9 * i + 8)).toNatClampNeg = 9 * i + 8 := nI_clamp (by omega)
      refine br_f (show ¬ (7 : Int32) ≤ nI i from nI_ge (b := 7) (by omega) (by omega)) ?_
      rw [e9, c9]
      have up : ∀ y : Int32, y.toInt = (if h.testBit i = true then 1000000 else 0) → sp_W F h (i + 1) (upd W (9 * i + 8) y) := by
        intro y hy u v hu hv
        rw [ar_u9 (by omega) hv]
        by_cases c : u = i ∧ v = 8
        · rw [if_pos c, if_pos ⟨c.2, by omega⟩, c.1, hy]
        · rw [if_neg c, hW u v hu hv]
          by_cases c2 : v = 8 ∧ u < i
          · have c3 : v = 8 ∧ u < i + 1 := ⟨c2.1, by omega⟩
            rw [if_pos c2, if_pos c3]
          · rw [if_neg c2, if_neg (fun z => c2 ⟨z.1, by omega⟩)]
      by_cases z : ((nI h >>> (nI i &&& 31)) &&& 1) = 1
      · exact br_t z ⟨v9, nm_e (nm_r (nI_1 i) (ih (i + 1) (by omega) (by omega) _ (up 1000000 (by rw [if_pos (hbit.mp z)]; rfl))))⟩
      · exact br_f z ⟨v9, nm_e (nm_r (nI_1 i) (ih (i + 1) (by omega) (by omega) _ (up 0 (by rw [if_neg (fun y => z (hbit.mpr y))]; rfl))))⟩
end
theorem i_vc_spread {k : Nat} {u : SX} {v : SY} (I : i_Rel k u v) (hk : k + 4 ≤ 2048) (v1 : Int32) (v2 : Int32) : wpX_spread (fun r u' => wpY_spread (fun r' => r' = r ∧ i_Rel (k + 4) u' v) v v1 v2) u v1 v2 := by
  obtain ⟨g, T, P, F, pa, pe, am, W, O, C, L, D, H⟩ := u
  obtain ⟨g', T', P', pa', pe', am', OW, RE, PR, BE⟩ := v
  obtain ⟨rfl, rfl, rfl, rfl, rfl, rfl, hG, hT, hF, hP⟩ := I
  unfold wpX_spread wpY_spread wpX_isMember
  dsimp only
  rcases pk_ix v1 (n := 7) (by omega) with a | a | ⟨a, ha, rfl⟩
  · exact br_t a (br_t rfl (br_t a ⟨rfl, rfl, rfl, rfl, rfl, rfl, rfl, hG, hT, hF, hP⟩))
  · have hY : ∀ {A B : Prop}, A → (v1 < 0 → A) ∧ (¬ v1 < 0 → (6 < v1 → A) ∧ (¬ 6 < v1 → B)) := fun x => br_c (fun _ => x) (fun _ => br_t (pr_6 a) x)
    refine br_c (fun _ => br_t rfl (hY ⟨rfl, rfl, rfl, rfl, rfl, rfl, rfl, hG, hT, hF, hP⟩)) (fun _ => br_t a (br_t rfl (hY ⟨rfl, rfl, rfl, rfl, rfl, rfl, rfl, hG, hT, hF, hP⟩)))
  · have p1 : ¬ nI a < 0 := nI_pos (by omega)
    have p2 : ¬ (6 : Int32) < nI a := nI_nlt (a := 6) (by omega) (by omega)
    refine br_f p1 (br_f (show ¬ (7 : Int32) ≤ nI a from nI_ge (b := 7) (by omega) (by omega)) (br_f (by decide) ?_))
    by_cases h1 : v2 < 1
    · exact br_t h1 (br_f p1 (br_f p2 (br_t h1 ⟨rfl, rfl, rfl, rfl, rfl, rfl, rfl, hG, hT, hF, hP⟩)))
    · refine br_f h1 ?_
      by_cases h2 : 127 < v2
      · exact br_t h2 (br_f p1 (br_f p2 (br_f h1 (br_t h2 ⟨rfl, rfl, rfl, rfl, rfl, rfl, rfl, hG, hT, hF, hP⟩))))
      · refine br_f h2 ?_
        obtain ⟨h, hh, rfl⟩ := ar_of (x := v2) (n := 128) (by rw [ar_lt, ar_1] at h1; omega) (by rw [ar_lt, show (127 : Int32).toInt = 127 from by decide] at h2; omega)
        have hbit := sl_bit h hh a ha
        by_cases z : ((nI h >>> (nI a &&& 31)) &&& 1) = 1
        · refine br_t z (br_f p1 (br_f p2 (br_f h1 (br_f h2 (yi_in hh ha (fun _ => br_f (by decide) ⟨rfl, rfl, rfl, rfl, rfl, rfl, rfl, hG, hT, hF, hP⟩) (fun hb => ?_))))))
          rw [hbit.mp z] at hb
          exact absurd hb (by decide)
        · have hb : h.testBit a = false := by
            cases e : h.testBit a with
            | false => rfl
            | true => exact absurd (hbit.mpr e) z
          refine br_f z (xc_copy (fun W' hW' => ?_))
          have hW := fl_W hW'
          refine ⟨8, sp_35 hh ha hb hT hF hP (fun q W'' C' L' hq => ?_) 8 0 (by omega) (by omega) W' (fun u v hu hv => by rw [if_neg (by omega)]; exact hW u v hu hv)⟩
          refine br_f p1 (br_f p2 (br_f h1 (br_f h2 (yi_in hh ha (fun hb' => ?_) (fun _ => br_t rfl (yl_least hh ha (rl_T49 hT) (rl_Pb' hT hF hP) (fun s _ => rl_snn hF hP s) (s0 := h) ⟨hh, Nat.and_self _, hb⟩ (fun r r1 r2 => ⟨sp_u hq ⟨r1, r2⟩, rfl, rfl, rfl, rfl, rfl, rfl, hG, hT, hF, hP⟩)))))))
          rw [hb] at hb'
          exact absurd hb' (by decide)
/-! debts between two -/
def rb_M (T P F : Nat → Int32) (a b : Nat) (q : Int) : Prop :=
  0 ≤ q ∧ q ≤ ar_9c F b a ∧ (∀ s, s < 128 → yl_c (2 ^ b) a s → q ≤ sl_v T P s - ar_9c F a b) ∧ (ar_9c F b a ≤ q ∨ ∃ s, s < 128 ∧ yl_c (2 ^ b) a s ∧ q = sl_v T P s - ar_9c F a b)
theorem rb_cut {T P F W : Nat → Int32} {a b : Nat} (ha : a < 7) (hb : b < 7) (hF : rl_F T F) (hP : rl_P T P F)
    (hW : ∀ u v, u < 9 → v < 9 → ar_9c W u v = ar_9c F u v - ar_9c F b a * ph_e u v b a - ar_9c F a b * ph_e u v a b) (S : Nat) (h0 : sl_x S a = 0) (h1 : sl_x S b = 1) :
    ct_c 7 (sl_x S) (ar_9c W) = sl_v T P S - ar_9c F a b := by
  rw [rl_slack hF hP, ct_congr (n := 7) (y := sl_x S) (V := fun u v => ar_9c F u v - ar_9c F b a * ph_e u v b a - ar_9c F a b * ph_e u v a b) (fun _ _ => rfl) (fun u v hu hv => hW u v (by omega) (by omega)),
    ct_sub 7 (sl_x S) (fun u v => ar_9c F u v - ar_9c F b a * ph_e u v b a) (fun u v => ar_9c F a b * ph_e u v a b), ct_sub 7 (sl_x S) (ar_9c F) (fun u v => ar_9c F b a * ph_e u v b a), ct_pt _ hb ha, ct_pt _ ha hb, h0, h1]
  omega
section
variable {g : Int32} {T P F pa pe am W O C L D H : Nat → Int32}
theorem rb_X {post : Int32 → SX → Prop} {a b : Nat} (ha : a < 7) (hb : b < 7) (hab : a ≠ b) (hT : rl_T T) (hF : rl_F T F) (hP : rl_P T P F)
    (k : ∀ (q : Int32) W C L, rb_M T P F a b q.toInt → post q (g, T, P, F, pa, pe, am, W, O, C, L, D, H)) : wpX_roundAbout post (g, T, P, F, pa, pe, am, W, O, C, L, D, H) (nI a) (nI b) := by
  unfold wpX_roundAbout
  dsimp only
  refine xc_copy (fun W' hW' => ?_)
  dsimp only
  have hW := fl_W hW'
  have hfb := rl_Fb hT hF b a (by omega) (by omega)
  have hfa := rl_Fb hT hF a b (by omega) (by omega)
  rw [ar_9 b a, ar_9 a b, nI_clamp (n := 9 * b + a) (by omega), nI_clamp (n := 9 * a + b) (by omega)]
  have v9 : vp_in (nI (9 * b + a)) 81 := vp_in_nI (by omega) (by omega)
  have v9' : vp_in (nI (9 * a + b)) 81 := vp_in_nI (by omega) (by omega)
  have hW1 : ∀ u v, u < 9 → v < 9 → ar_9c (upd (upd W' (9 * a + b) 0) (9 * b + a) 0) u v = ar_9c F u v - ar_9c F b a * ph_e u v b a - ar_9c F a b * ph_e u v a b := by
    intro u v hu hv
    rw [ar_u9 (by omega) hv, ar_u9 (by omega) hv, hW u v hu hv, ar_0]
    unfold ph_e
    by_cases c1 : u = b ∧ v = a
    · have c2 : ¬ (u = a ∧ v = b) := fun z => hab (z.1.symm.trans c1.1)
      rw [if_pos c1, if_pos c1, if_neg c2, c1.1, c1.2]; omega
    · by_cases c2 : u = a ∧ v = b
      · rw [if_neg c1, if_neg c1, if_pos c2, if_pos c2, c2.1, c2.2]; omega
      · rw [if_neg c1, if_neg c1, if_neg c2, if_neg c2]; omega
  have hb1 := wd_b hab ha hb hT hF ⟨hfb.1, Int.le_refl _⟩ ⟨hfa.1, Int.le_refl _⟩ hW1
  have hZ := wd_Z ha hb hF hW1
  refine ⟨v9, nm_e ⟨v9', nm_e ⟨v9, nm_e (xs_send (by omega) (by omega) hab hfb.1 (fun u v hu hv => by have := hb1 u v hu hv; omega) (Or.inr (fun v hv => (hb1 a v (by omega) hv).2)) (fun q W'' C' L' s1 s2 s3 s4 => k q W'' C' L' ⟨s2, s3, fun S hS hc => ?_, ?_⟩))⟩⟩⟩
  · rw [yl_1 hb hS] at hc
    rw [← rb_cut ha hb hF hP hW1 S hc.1 hc.2]
    exact rl_max ha hb hZ s1 S hc.1 hc.2
  · rcases s4 with s4 | s4
    · exact Or.inl s4
    · obtain ⟨S, q1, q2, q3, q4⟩ := rl_min ha hb hZ s1 s4
      exact Or.inr ⟨S, q1, (yl_1 hb q1).mpr ⟨q2, q3⟩, by rw [← rb_cut ha hb hF hP hW1 S q2 q3]; exact q4.symm⟩
end
theorem rb_m {T P F : Nat → Int32} {a b : Nat} {q m : Int} (h : rb_M T P F a b q) (hm : mo_M T P a b m) : (q = ar_9c F b a ∧ ar_9c F b a ≤ m - ar_9c F a b) ∨ (q = m - ar_9c F a b ∧ m - ar_9c F a b ≤ ar_9c F b a) := by
  obtain ⟨h1, h2, h3, h4⟩ := h
  obtain ⟨⟨s, s1, s2, s3⟩, hm2⟩ := hm
  have e1 := h3 s s1 s2
  rcases h4 with h4 | ⟨t, t1, t2, t3⟩
  · left; omega
  · have := hm2 t t1 t2
    right; omega
theorem mo_b {T P F : Nat → Int32} {a b : Nat} {m : Int} (ha : a < 7) (hb : b < 7) (hT : rl_T T) (hF : rl_F T F) (hP : rl_P T P F) (hm : mo_M T P a b m) : 0 ≤ m ∧ m ≤ 1000000 := by
  obtain ⟨⟨s, s1, s2, s3⟩, _⟩ := hm
  have h0 := rl_snn hF hP s
  have h1 := sl_sb (s := s) (rl_T49 hT) 49 (by omega)
  have h2 := sl_pb (s := s) (rl_Pb' hT hF hP) 7 (by omega)
  unfold sl_v at s3 h0
  omega
theorem i_vc_leastDebt {k : Nat} {u : SX} {v : SY} (I : i_Rel k u v) (hk : k + 4 ≤ 2048) (v1 : Int32) (v2 : Int32) : wpX_leastDebt (fun r u' => wpY_leastDebt (fun r' => r' = r ∧ i_Rel (k + 4) u' v) v v1 v2) u v1 v2 := by
  obtain ⟨g, T, P, F, pa, pe, am, W, O, C, L, D, H⟩ := u
  obtain ⟨g', T', P', pa', pe', am', OW, RE, PR, BE⟩ := v
  obtain ⟨rfl, rfl, rfl, rfl, rfl, rfl, hG, hT, hF, hP⟩ := I
  unfold wpX_leastDebt wpY_leastDebt
  dsimp only
  by_cases hp : pr_P v1 v2
  · obtain ⟨a, b, ha, hb, hab, rfl, rfl⟩ := hp
    have cb : (nI (7 * b + a)).toNatClampNeg = 7 * b + a := nI_clamp (by omega)
    have ca : (nI (7 * a + b)).toNatClampNeg = 7 * a + b := nI_clamp (by omega)
    have c9 : (nI (9 * a + b)).toNatClampNeg = 9 * a + b := nI_clamp (by omega)
    have vb : vp_in (nI (7 * b + a)) 49 := vp_in_nI (by omega) (by omega)
    have va : vp_in (nI (7 * a + b)) 49 := vp_in_nI (by omega) (by omega)
    have v9 : vp_in (nI (9 * a + b)) 81 := vp_in_nI (by omega) (by omega)
    have hfb := rl_Fb hT hF b a (by omega) (by omega)
    have hfa := rl_Fb hT hF a b (by omega) (by omega)
    have hta := hT.1 a b ha hb
    have htb := hT.1 b a hb ha
    have hs := (hF.1 a b ha hb).2
    rw [ar_7 b a, ar_7 a b, ca, cb]
    refine pr_X1 ha hb hab (br_f (by decide) ?_)
    by_cases h : nI a ≤ nI b
    · refine br_t h (rb_X ha hb hab hT hF hP (fun q W' C' L' hq => ?_))
      dsimp only
      unfold wpX_debt
      dsimp only
      rw [ar_7 b a, ar_9 a b, cb, c9]
      refine ⟨vb, v9, pr_Y1 ha hb hab (br_f (by decide) (br_t h (mo_L ha hb hab hT hF hP (fun r hr => ⟨vb, nm_e ⟨va, ?_⟩⟩))))⟩
      have hm := mo_b ha hb hT hF hP hr
      have hk := rb_m hq hr
      have e1 : (T (7 * b + a) - F (9 * a + b)).toInt = ar_7c T b a - ar_9c F a b := ar_sub (show -2147483648 ≤ ar_7c T b a - ar_9c F a b by omega) (show ar_7c T b a - ar_9c F a b < 2147483648 by omega)
      have e2 : (T (7 * b + a) - F (9 * a + b) - q).toInt = ar_7c T b a - ar_9c F a b - q.toInt := by rw [ar_sub (by omega) (by omega), e1]
      have e3 : (r - T (7 * b + a)).toInt = r.toInt - ar_7c T b a := ar_sub (show -2147483648 ≤ r.toInt - ar_7c T b a by omega) (show r.toInt - ar_7c T b a < 2147483648 by omega)
      have e4 : (-(r - T (7 * b + a))).toInt = ar_7c T b a - r.toInt := by rw [ar_neg (by omega), e3]; omega
      have e5 : (-(T (7 * a + b))).toInt = - ar_7c T a b := ar_neg (show -2147483648 < ar_7c T a b by omega)
      by_cases z : -(r - T (7 * b + a)) ≤ -(T (7 * a + b))
      · have z' := ar_le.mp z
        exact br_t z ⟨va, ar_ext (by omega), rfl, rfl, rfl, rfl, rfl, rfl, hG, hT, hF, hP⟩
      · have z' : ¬ (-(r - T (7 * b + a))).toInt ≤ (-(T (7 * a + b))).toInt := fun y => z (ar_le.mpr y)
        exact br_f z ⟨ar_ext (by omega), rfl, rfl, rfl, rfl, rfl, rfl, hG, hT, hF, hP⟩
    · exact br_f h (pr_Y1 ha hb hab (br_f (by decide) (br_f h ⟨rfl, rfl, rfl, rfl, rfl, rfl, rfl, hG, hT, hF, hP⟩)))
  · exact pr_X0 hp (br_t rfl (pr_Y0 hp (br_t rfl ⟨rfl, rfl, rfl, rfl, rfl, rfl, rfl, hG, hT, hF, hP⟩)))
theorem i_vc_greatestDebt {k : Nat} {u : SX} {v : SY} (I : i_Rel k u v) (hk : k + 4 ≤ 2048) (v1 : Int32) (v2 : Int32) : wpX_greatestDebt (fun r u' => wpY_greatestDebt (fun r' => r' = r ∧ i_Rel (k + 4) u' v) v v1 v2) u v1 v2 := by
  obtain ⟨g, T, P, F, pa, pe, am, W, O, C, L, D, H⟩ := u
  obtain ⟨g', T', P', pa', pe', am', OW, RE, PR, BE⟩ := v
  obtain ⟨rfl, rfl, rfl, rfl, rfl, rfl, hG, hT, hF, hP⟩ := I
  unfold wpX_greatestDebt wpY_greatestDebt
  dsimp only
  by_cases hp : pr_P v1 v2
  · obtain ⟨a, b, ha, hb, hab, rfl, rfl⟩ := hp
    have hba : b ≠ a := fun z => hab z.symm
    have cb : (nI (7 * b + a)).toNatClampNeg = 7 * b + a := nI_clamp (by omega)
    have ca : (nI (7 * a + b)).toNatClampNeg = 7 * a + b := nI_clamp (by omega)
    have c9 : (nI (9 * a + b)).toNatClampNeg = 9 * a + b := nI_clamp (by omega)
    have vb : vp_in (nI (7 * b + a)) 49 := vp_in_nI (by omega) (by omega)
    have va : vp_in (nI (7 * a + b)) 49 := vp_in_nI (by omega) (by omega)
    have v9 : vp_in (nI (9 * a + b)) 81 := vp_in_nI (by omega) (by omega)
    have hfb := rl_Fb hT hF b a (by omega) (by omega)
    have hfa := rl_Fb hT hF a b (by omega) (by omega)
    have hta := hT.1 a b ha hb
    have htb := hT.1 b a hb ha
    have hs := (hF.1 a b ha hb).2
    rw [ar_7 b a, ar_7 a b, ca, cb]
    refine pr_X1 ha hb hab (br_f (by decide) ?_)
    by_cases h : nI a ≤ nI b
    · refine br_t h (rb_X hb ha hba hT hF hP (fun q W' C' L' hq => ?_))
      dsimp only
      unfold wpX_debt
      dsimp only
      rw [ar_7 b a, ar_9 a b, cb, c9]
      refine ⟨vb, v9, pr_Y1 ha hb hab (br_f (by decide) (br_t h (mo_L hb ha hba hT hF hP (fun r hr => ⟨va, nm_e ⟨vb, ?_⟩⟩))))⟩
      have hm := mo_b hb ha hT hF hP hr
      have hk := rb_m hq hr
      have e1 : (T (7 * b + a) - F (9 * a + b)).toInt = ar_7c T b a - ar_9c F a b := ar_sub (show -2147483648 ≤ ar_7c T b a - ar_9c F a b by omega) (show ar_7c T b a - ar_9c F a b < 2147483648 by omega)
      have e2 : (T (7 * b + a) - F (9 * a + b) + q).toInt = ar_7c T b a - ar_9c F a b + q.toInt := by rw [ar_add (by omega) (by omega), e1]
      have e3 : (r - T (7 * a + b)).toInt = r.toInt - ar_7c T a b := ar_sub (show -2147483648 ≤ r.toInt - ar_7c T a b by omega) (show r.toInt - ar_7c T a b < 2147483648 by omega)
      have e4 : (T (7 * b + a)).toInt = ar_7c T b a := rfl
      by_cases z : T (7 * b + a) ≤ r - T (7 * a + b)
      · have z' := ar_le.mp z
        exact br_t z ⟨vb, ar_ext (by omega), rfl, rfl, rfl, rfl, rfl, rfl, hG, hT, hF, hP⟩
      · have z' : ¬ (T (7 * b + a)).toInt ≤ (r - T (7 * a + b)).toInt := fun y => z (ar_le.mpr y)
        exact br_f z ⟨ar_ext (by omega), rfl, rfl, rfl, rfl, rfl, rfl, hG, hT, hF, hP⟩
    · exact br_f h (pr_Y1 ha hb hab (br_f (by decide) (br_f h ⟨rfl, rfl, rfl, rfl, rfl, rfl, rfl, hG, hT, hF, hP⟩)))
  · exact pr_X0 hp (br_t rfl (pr_Y0 hp (br_t rfl ⟨rfl, rfl, rfl, rfl, rfl, rfl, rfl, hG, hT, hF, hP⟩)))
end
section
/-! clear: what all payments come to -/
def cl_L (n : Nat) (pa pe am : Nat → Int32) : Prop := ∀ i, i < n → (∃ u v, u < 7 ∧ v < 7 ∧ u ≠ v ∧ pa i = nI u ∧ pe i = nI v) ∧ 0 ≤ (am i).toInt ∧ (am i).toInt ≤ 10000
def cl_d (pa pe am : Nat → Int32) : Nat → Nat → Int32
  | 0, _ => 0
  | k + 1, j => cl_d pa pe am k j + (if j = (pe k).toNatClampNeg then am k else 0) - (if j = (pa k).toNatClampNeg then am k else 0)
theorem cl_d1 (pa pe am : Nat → Int32) (k j : Nat) : cl_d pa pe am (k + 1) j = cl_d pa pe am k j + (if j = (pe k).toNatClampNeg then am k else 0) - (if j = (pa k).toNatClampNeg then am k else 0) := rfl
def cl_z (pa pe am : Nat → Int32) (k j : Nat) : Int := (cl_d pa pe am k j).toInt
section
variable {pa pe am : Nat → Int32} {n : Nat}
theorem cl_zb (hL : cl_L n pa pe am) (hn : n ≤ 6) : ∀ k, k ≤ n → ∀ j, -(10000 * (k : Int)) ≤ cl_z pa pe am k j ∧ cl_z pa pe am k j ≤ 10000 * (k : Int) := by
  intro k
  induction k with
  | zero => intro _ j; show -(10000 * 0) ≤ (0 : Int32).toInt ∧ (0 : Int32).toInt ≤ 10000 * 0; decide
  | succ k ih =>
    intro hk j
    have h1 := ih (by omega) j
    obtain ⟨⟨u, v, hu, hv, huv, e1, e2⟩, h2, h3⟩ := hL k (by omega)
    have h0 : (0 : Int32).toInt = 0 := ar_0
    unfold cl_z at h1 ⊢
    rw [cl_d1, e1, e2, ar_c (by omega), ar_c (by omega)]
    by_cases c1 : j = v
    · have c2 : ¬ j = u := fun z => huv (z.symm.trans c1)
      rw [if_pos c1, if_neg c2, Int32.sub_zero, ar_add (by omega) (by omega)]; omega
    · rw [if_neg c1, Int32.add_zero]
      by_cases c2 : j = u
      · rw [if_pos c2, ar_sub (by omega) (by omega)]; omega
      · rw [if_neg c2, Int32.sub_zero]; omega
theorem cl_z1 (hL : cl_L n pa pe am) (hn : n ≤ 6) {k : Nat} (hk : k < n) : ∃ u v, u < 7 ∧ v < 7 ∧ u ≠ v ∧ pa k = nI u ∧ pe k = nI v ∧ 0 ≤ (am k).toInt ∧ (am k).toInt ≤ 10000 ∧ ∀ j, cl_z pa pe am (k + 1) j = cl_z pa pe am k j + ((if j = v then (am k).toInt else 0) - (if j = u then (am k).toInt else 0)) := by
  obtain ⟨⟨u, v, hu, hv, huv, e1, e2⟩, h2, h3⟩ := hL k hk
  refine ⟨u, v, hu, hv, huv, e1, e2, h2, h3, fun j => ?_⟩
  have h1 := cl_zb hL hn k (by omega) j
  unfold cl_z at h1 ⊢
  rw [cl_d1, e1, e2, ar_c (by omega), ar_c (by omega)]
  by_cases c1 : j = v
  · have c2 : ¬ j = u := fun z => huv (z.symm.trans c1)
    rw [if_pos c1, if_neg c2, if_pos c1, if_neg c2, Int32.sub_zero, ar_add (by omega) (by omega)]; omega
  · rw [if_neg c1, if_neg c1, Int32.add_zero]
    by_cases c2 : j = u
    · rw [if_pos c2, if_pos c2, ar_sub (by omega) (by omega)]; omega
    · rw [if_neg c2, if_neg c2, Int32.sub_zero]; omega
theorem cl_sum (hL : cl_L n pa pe am) (hn : n ≤ 6) : ∀ k, k ≤ n → zz_s 7 (cl_z pa pe am k) = 0 ∧ zz_s 7 (fun j => ss_p (cl_z pa pe am k j)) ≤ 10000 * (k : Int) := by
  intro k
  induction k with
  | zero =>
    intro _
    have e : zz_s 7 (fun j => ss_p (cl_z pa pe am 0 j)) = 0 := zz_c0 (fun i _ => by
      show ss_p (0 : Int32).toInt = 0
      rw [ar_0]; rfl)
    exact ⟨zz_c0 (fun i _ => ar_0), by omega⟩
  | succ k ih =>
    intro hk
    obtain ⟨i1, i2⟩ := ih (by omega)
    obtain ⟨u, v, hu, hv, huv, e1, e2, h2, h3, hj⟩ := cl_z1 hL hn (k := k) (by omega)
    constructor
    · rw [zz_congr (fun j _ => hj j), zz_add, zz_sub, zz_ite _ hv, zz_ite _ hu]
      have : zz_s 7 (fun i => cl_z pa pe am k i) = zz_s 7 (cl_z pa pe am k) := rfl
      omega
    · have h4 : zz_s 7 (fun j => ss_p (cl_z pa pe am (k + 1) j)) ≤ zz_s 7 (fun j => ss_p (cl_z pa pe am k j) + (if j = v then (am k).toInt else 0)) := zz_le (fun j _ => by
        show ss_p (cl_z pa pe am (k + 1) j) ≤ ss_p (cl_z pa pe am k j) + (if j = v then (am k).toInt else 0)
        rw [hj j]
        unfold ss_p
        split <;> split <;> split <;> split <;> omega)
      rw [zz_add, zz_ite _ hv] at h4
      omega
theorem cl_out (hL : cl_L n pa pe am) : ∀ k, k ≤ n → ∀ j, 7 ≤ j → cl_d pa pe am k j = 0 := by
  intro k
  induction k with
  | zero => intro _ j _; rfl
  | succ k ih =>
    intro hk j hj
    obtain ⟨⟨u, v, hu, hv, huv, e1, e2⟩, h2, h3⟩ := hL k (by omega)
    rw [cl_d1, e1, e2, ar_c (by omega), ar_c (by omega), ih (by omega) j hj, if_neg (by omega), if_neg (by omega)]
    rfl
end
section
variable {l : Int32} {T P pa pe am OW RE PR BE : Nat → Int32}
theorem ya_2 {post : SY → Prop} {n : Nat} {s : Int32} {P0 : Nat → Int32} (hn : n ≤ 6) (hL : cl_L n pa pe am) (k : ∀ P, (∀ j, P j = P0 j + s * cl_d pa pe am n j) → post ((nI n), T, P, pa, pe, am, OW, RE, PR, BE)) :
    ∀ (m i : Nat), n < m + i → i ≤ n → ∀ P, (∀ j, P j = P0 j + s * cl_d pa pe am i j) → wY_payAll_2 post s (nI n) m (nI i) T P pa pe am OW RE PR BE := by
  intro m
  induction m with
  | zero => intro i h1 h2; omega
  | succ m ih =>
    intro i h1 h2 P hP
    rw [wY_payAll_2]
    by_cases e : i = n
    · subst e
      exact br_t (nI_le (Nat.le_refl _) (by omega)) (k P hP)
    · obtain ⟨⟨u, v, hu, hv, huv, e1, e2⟩, h3, h4⟩ := hL i (by omega)
      have ci : (nI i).toNatClampNeg = i := ar_c (by omega)
      have cu : (nI u).toNatClampNeg = u := ar_c (by omega)
      have cv : (nI v).toNatClampNeg = v := ar_c (by omega)
      have vi : vp_in (nI i) 6 := vp_in_nI (by omega) (by omega)
      have vu : vp_in (nI u) 7 := vp_in_nI hu (by omega)
      have vv : vp_in (nI v) 7 := vp_in_nI hv (by omega)
      refine br_f (nI_ge (by omega) (by omega)) ?_
      rw [ci, e1, e2, cu, cv]
      refine ⟨vi, vi, vu, vi, vu, nm_e ⟨vi, vi, vv, vi, vv, nm_e (nm_r (nI_1 i) (ih (i + 1) (by omega) (by omega) _ (fun j => ?_)))⟩⟩
      have q : upd P u (P u - s * am i) v = P v := pk_un (fun z => huv z.symm)
      rw [q, cl_d1, e1, e2, cu, cv, ar_u, ar_u]
      by_cases c1 : j = v
      · have c2 : ¬ j = u := fun z => huv (z.symm.trans c1)
        rw [if_pos c1, if_pos c1, if_neg c2, ← c1, hP j]
        grind
      · rw [if_neg c1, if_neg c1]
        by_cases c2 : j = u
        · rw [if_pos c2, if_pos c2, ← c2, hP j]
          grind
        · rw [if_neg c2, if_neg c2, hP j]
          grind
theorem ya_all {post : SY → Prop} {n : Nat} {s : Int32} (hn : n ≤ 6) (hL : cl_L n pa pe am) (k : ∀ P', (∀ j, P' j = P j + s * cl_d pa pe am n j) → post ((nI n), T, P', pa, pe, am, OW, RE, PR, BE)) : wpY_payAll post ((nI n), T, P, pa, pe, am, OW, RE, PR, BE) s :=
  ⟨n + 1, ya_2 hn hL k (n + 1) 0 (by omega) (by omega) P (fun j => by show P j = P j + s * 0; grind)⟩
end
end
section
/-! clear: the network with a source and a sink -/
def cx_W (F : Nat → Int32) (c : Nat → Int) (i : Nat) (W : Nat → Int32) : Prop :=
  ∀ u v, u < 9 → v < 9 → ar_9c W u v = if u = 7 ∧ v < i then ss_p (- c v) else if v = 8 ∧ u < i then ss_p (c u) else ar_9c F u v
theorem cx_cut {T F W : Nat → Int32} {c x : Nat → Int} (hF : rl_F T F) (hW : cx_W F c 7 W) (h7 : x 7 = 0) (h8 : x 8 = 1) :
    ct_c 9 x (ar_9c W) = ct_c 7 x (ar_9c F) - zz_s 7 (fun v => x v * c v) + zz_s 7 (fun v => ss_p (c v)) := by
  have e1 : zz_s 7 (fun v => x v * (1 - x 7) * ar_9c W 7 v) = zz_s 7 (fun v => x v * ss_p (- c v)) := zz_congr (fun v hv => by
    show x v * (1 - x 7) * ar_9c W 7 v = x v * ss_p (- c v)
    rw [h7, hW 7 v (by omega) (by omega), if_pos ⟨rfl, hv⟩]; simp)
  have e2 : zz_s 7 (fun v => x v * (1 - x 8) * ar_9c W 8 v) = 0 := zz_c0 (fun v hv => by
    show x v * (1 - x 8) * ar_9c W 8 v = 0
    rw [h8]; simp)
  have e3 : zz_s 7 (fun u => x 7 * (1 - x u) * ar_9c W u 7) = 0 := zz_c0 (fun v hv => by
    show x 7 * (1 - x v) * ar_9c W v 7 = 0
    rw [h7]; simp)
  have e4 : zz_s 7 (fun u => x 8 * (1 - x u) * ar_9c W u 8) = zz_s 7 (fun u => ss_p (c u) - x u * ss_p (c u)) := zz_congr (fun u hu => by
    show x 8 * (1 - x u) * ar_9c W u 8 = ss_p (c u) - x u * ss_p (c u)
    rw [h8, hW u 8 (by omega) (by omega), if_neg (by omega), if_pos ⟨rfl, hu⟩, Int.one_mul, Int.sub_mul, Int.one_mul])
  have e5 : ar_9c W 7 8 = 0 := by rw [hW 7 8 (by omega) (by omega), if_neg (by omega), if_neg (by omega)]; exact hF.2 7 8 (by omega) (by omega) (by omega)
  have e6 : ct_c 7 x (ar_9c W) = ct_c 7 x (ar_9c F) := ct_congr (fun _ _ => rfl) (fun u v hu hv => by rw [hW u v (by omega) (by omega), if_neg (by omega), if_neg (by omega)])
  have e7 : zz_s 7 (fun v => x v * c v) = zz_s 7 (fun v => x v * ss_p (c v)) - zz_s 7 (fun v => x v * ss_p (- c v)) := by
    rw [← zz_sub]
    refine zz_congr (fun v hv => ?_)
    show x v * c v = x v * ss_p (c v) - x v * ss_p (- c v)
    rw [← Int.mul_sub]
    have : c v = ss_p (c v) - ss_p (- c v) := by unfold ss_p; split <;> split <;> omega
    rw [← this]
  rw [ct_97, e1, e2, e3, e4, e5, e6, e7, zz_sub, h7, h8]
  omega
theorem cx_v {T P P' F : Nat → Int32} {c x : Nat → Int} (hT : rl_T T) (hF : rl_F T F) (hP : rl_P T P F) (hP' : ∀ v, v < 7 → (P' v).toInt = (P v).toInt + c v) (S : Nat) (hx : ∀ u, u < 7 → sl_x S u = x u) :
    sl_v T P' S = ct_c 7 x (ar_9c F) - zz_s 7 (fun v => x v * c v) := by
  have e1 := rl_slack hF hP S
  have e2 : ct_c 7 (sl_x S) (ar_9c F) = ct_c 7 x (ar_9c F) := ct_congr hx (fun u v _ _ => rfl)
  have e3 : zz_s 7 (fun u => sl_x S u * (P' u).toInt) = zz_s 7 (fun u => sl_x S u * (P u).toInt + x u * c u) := zz_congr (fun u hu => by
    show sl_x S u * (P' u).toInt = sl_x S u * (P u).toInt + x u * c u
    rw [hP' u hu, Int.mul_add, hx u hu])
  unfold sl_v at e1 ⊢
  rw [e3, zz_add]
  omega
theorem cx_b {T F W : Nat → Int32} {c : Nat → Int} (hc : ∀ j, -60000 ≤ c j ∧ c j ≤ 60000) (hT : rl_T T) (hF : rl_F T F) (hW : cx_W F c 7 W) : ∀ u v, u < 9 → v < 9 → 0 ≤ ar_9c W u v ∧ ar_9c W u v ≤ 1000000 := by
  intro u v hu hv
  rw [hW u v hu hv]
  have h1 := rl_Fb hT hF u v hu hv
  have h2 := hc u
  have h3 := hc v
  unfold ss_p
  split
  · split <;> omega
  · split
    · split <;> omega
    · omega
/-- all that was due was sent: the new table -/
theorem cx_new {T P P' F W V F' : Nat → Int32} {c : Nat → Int} {q : Int} (hT : rl_T T) (hF : rl_F T F) (hP : rl_P T P F) (hW : cx_W F c 7 W) (hc0 : zz_s 7 c = 0) (hq : q = zz_s 7 (fun v => ss_p (c v)))
    (hS : sd_P (ar_9c W) (ar_9c V) 7 8 q) (hP' : ∀ v, v < 7 → (P' v).toInt = (P v).toInt + c v)
    (hF' : ∀ u v, u < 9 → v < 9 → F' (9 * u + v) = if u < 7 ∧ v < 7 then V (9 * u + v) else F (9 * u + v)) : rl_F T F' ∧ rl_P T P' F' := by
  have f1 : ∀ u v, u < 7 → v < 7 → ar_9c F' u v = ar_9c V u v := fun u v hu hv => by
    unfold ar_9c; rw [hF' u v (by omega) (by omega), if_pos ⟨hu, hv⟩]
  have f2 : ∀ u v, u < 9 → v < 9 → ¬ (u < 7 ∧ v < 7) → ar_9c F' u v = ar_9c F u v := fun u v hu hv hn => by
    unfold ar_9c; rw [hF' u v hu hv, if_neg hn]
  have w1 : ∀ u v, u < 7 → v < 7 → ar_9c W u v = ar_9c F u v := fun u v hu hv => by rw [hW u v (by omega) (by omega), if_neg (by omega), if_neg (by omega)]
  have w7 : ∀ v, v < 7 → ar_9c W 7 v = ss_p (- c v) := fun v hv => by rw [hW 7 v (by omega) (by omega), if_pos ⟨rfl, hv⟩]
  have w8 : ∀ u, u < 7 → ar_9c W u 8 = ss_p (c u) := fun u hu => by rw [hW u 8 (by omega) (by omega), if_neg (by omega), if_pos ⟨rfl, hu⟩]
  have wz : ∀ u v, u < 9 → v < 9 → ¬ (u < 7 ∧ v < 7) → ¬ (u = 7 ∧ v < 7) → ¬ (v = 8 ∧ u < 7) → ar_9c W u v = 0 := fun u v hu hv a1 a2 a3 => by
    rw [hW u v hu hv, if_neg a2, if_neg a3]; exact hF.2 u v hu hv a1
  have sp : ∀ u v, u < 9 → v < 9 → 0 ≤ ar_9c V u v ∧ ar_9c V u v + ar_9c V v u = ar_9c W u v + ar_9c W v u := fun u v hu hv => ⟨hS.1 u v hu hv, hS.2.1 u v hu hv⟩
  have hcs : ∀ v, c v = ss_p (c v) - ss_p (- c v) := fun v => by unfold ss_p; split <;> split <;> omega
  have hN : zz_s 7 (fun v => ss_p (- c v)) = q := by
    have e : zz_s 7 c = zz_s 7 (fun v => ss_p (c v) - ss_p (- c v)) := zz_congr (fun v _ => hcs v)
    rw [zz_sub] at e
    omega
  -- nothing left at the source
  have v7 : ∀ v, v < 7 → ar_9c V 7 v = 0 := by
    have e := hS.2.2 7 (by omega)
    rw [if_neg (by omega), if_pos rfl] at e
    have e2 : zz_s 9 (fun u => ar_9c W u 7 - ar_9c V u 7) = zz_s 7 (fun u => ar_9c W u 7 - ar_9c V u 7) + (ar_9c W 7 7 - ar_9c V 7 7) + (ar_9c W 8 7 - ar_9c V 8 7) := rfl
    have e3 : zz_s 7 (fun u => ar_9c W u 7 - ar_9c V u 7) = zz_s 7 (fun u => ar_9c V 7 u) - zz_s 7 (fun u => ss_p (- c u)) := by
      rw [← zz_sub]
      refine zz_congr (fun u hu => ?_)
      show ar_9c W u 7 - ar_9c V u 7 = ar_9c V 7 u - ss_p (- c u)
      have := (sp u 7 (by omega) (by omega)).2
      rw [w7 u hu] at this
      omega
    have a1 := (sp 7 7 (by omega) (by omega)).2
    have a2 := sp 8 7 (by omega) (by omega)
    have a3 := sp 7 8 (by omega) (by omega)
    have z1 := wz 7 8 (by omega) (by omega) (by omega) (by omega) (by omega)
    have z2 := wz 8 7 (by omega) (by omega) (by omega) (by omega) (by omega)
    have hs : zz_s 7 (fun u => ar_9c V 7 u) = 0 := by omega
    intro v hv
    have n1 := zz_mem (f := fun u => ar_9c V 7 u) (fun u hu => (sp 7 u (by omega) (by omega)).1) v hv
    have n2 := (sp 7 v (by omega) (by omega)).1
    have n3 : ar_9c V 7 v ≤ zz_s 7 (fun u => ar_9c V 7 u) := n1
    omega
  have v8 : ∀ v, v < 7 → ar_9c V v 8 = 0 := by
    have e := hS.2.2 8 (by omega)
    rw [if_pos rfl, if_neg (by omega)] at e
    have e2 : zz_s 9 (fun u => ar_9c W u 8 - ar_9c V u 8) = zz_s 7 (fun u => ar_9c W u 8 - ar_9c V u 8) + (ar_9c W 7 8 - ar_9c V 7 8) + (ar_9c W 8 8 - ar_9c V 8 8) := rfl
    have e3 : zz_s 7 (fun u => ar_9c W u 8 - ar_9c V u 8) = zz_s 7 (fun u => ss_p (c u)) - zz_s 7 (fun u => ar_9c V u 8) := by
      rw [← zz_sub]
      refine zz_congr (fun u hu => ?_)
      show ar_9c W u 8 - ar_9c V u 8 = ss_p (c u) - ar_9c V u 8
      rw [w8 u hu]
    have a1 := (sp 8 8 (by omega) (by omega)).2
    have a2 := sp 8 7 (by omega) (by omega)
    have a3 := sp 7 8 (by omega) (by omega)
    have z1 := wz 7 8 (by omega) (by omega) (by omega) (by omega) (by omega)
    have z2 := wz 8 7 (by omega) (by omega) (by omega) (by omega) (by omega)
    have hs : zz_s 7 (fun u => ar_9c V u 8) = 0 := by omega
    intro v hv
    have n1 := zz_mem (f := fun u => ar_9c V u 8) (fun u hu => (sp u 8 (by omega) (by omega)).1) v hv
    have n2 := (sp v 8 (by omega) (by omega)).1
    have n3 : ar_9c V v 8 ≤ zz_s 7 (fun u => ar_9c V u 8) := n1
    omega
  refine ⟨⟨fun u v hu hv => ?_, fun u v hu hv hn => ?_⟩, fun x hx => ?_⟩
  · rw [f1 u v hu hv, f1 v u hv hu]
    have a1 := sp u v (by omega) (by omega)
    rw [w1 u v hu hv, w1 v u hv hu] at a1
    have a3 := hF.1 u v hu hv
    omega
  · rw [f2 u v hu hv hn]; exact hF.2 u v hu hv hn
  · have e := hS.2.2 x (by omega)
    rw [if_neg (by omega), if_neg (by omega)] at e
    have e2 : zz_s 9 (fun u => ar_9c W u x - ar_9c V u x) = zz_s 7 (fun u => ar_9c W u x - ar_9c V u x) + (ar_9c W 7 x - ar_9c V 7 x) + (ar_9c W 8 x - ar_9c V 8 x) := rfl
    have e3 : zz_s 7 (fun u => ar_7c T x u - ar_9c F' u x) = zz_s 7 (fun u => (ar_7c T x u - ar_9c F u x) + (ar_9c W u x - ar_9c V u x)) := zz_congr (fun u hu => by
      show ar_7c T x u - ar_9c F' u x = (ar_7c T x u - ar_9c F u x) + (ar_9c W u x - ar_9c V u x)
      rw [f1 u x hu hx, w1 u x hu hx]; omega)
    rw [e3, zz_add, ← hP x hx, hP' x hx]
    have a1 := v7 x hx
    have a2 := v8 x hx
    have a3 := (sp 8 x (by omega) (by omega)).2
    have a4 := w7 x hx
    have a5 := w8 x hx
    have a6 := hcs x
    omega
end
section
/-! clear: the walk -/
section
variable {g : Int32} {T P F pa pe am W O C L D H : Nat → Int32}
theorem cw_203 {post : Int32 → SX → Prop} {P0 : Nat → Int32} (k : ∀ P, (∀ j, P j = if j < 7 then P0 j + H j else P0 j) → post g (0, T, P, F, pa, pe, am, W, O, C, L, D, H)) :
    ∀ (n i : Nat), 7 < n + i → i ≤ 7 → ∀ P, (∀ j, P j = if j < i then P0 j + H j else P0 j) → wX_clear_203 post g n (nI i) T P F pa pe am W O C L D H := by
  intro n
  induction n with
  | zero => intro i h1 h2; omega
  | succ n ih =>
    intro i h1 h2 P hP
    rw [wX_clear_203]
    by_cases e : i = 7
    · subst e
      exact br_t (show (7 : Int32) ≤ nI 7 from by decide) (k P hP)
    · have vi : vp_in (nI i) 7 := vp_in_nI (by omega) (by omega)
      refine br_f (show ¬ (7 : Int32) ≤ nI i from nI_ge (b := 7) (by omega) (by omega)) ⟨vi, vi, vi, nm_r (e' := upd P i (P i + H i)) (by rw [ar_c (by omega)]) (nm_r (nI_1 i) (ih (i + 1) (by omega) (by omega) _ (fun j => ?_)))⟩
      rw [ar_u]
      by_cases c : j = i
      · rw [if_pos c, if_pos (by omega), hP i, if_neg (by omega), c]
      · rw [if_neg c, hP j]
        by_cases c2 : j < i
        · rw [if_pos c2, if_pos (by omega)]
        · rw [if_neg c2, if_neg (by omega)]
theorem cw_150 {post : Int32 → SX → Prop} {J : TJ_2} {i : Nat} {x1 z0 : Int32} {c : Nat → Int} (hi : i < 7) (hH : ∀ j, j < 7 → (H j).toInt = c j) (hx : 0 ≤ x1.toInt ∧ x1.toInt ≤ 1000000) (hc : -60000 ≤ c i ∧ c i ≤ 60000)
    (k : ∀ x : Int32, x.toInt = x1.toInt + ss_p (c i) → J x (nI (i + 1)) T P F pa pe am (upd W (9 * i + 8) z0) O C L D H) : wX_clear_150 post J x1 (nI i) z0 ((9 : Int32) * nI i + 8) g T P F pa pe am W O C L D H := by
  have e9 : (9 : Int32) * nI i + 8 = nI (9 * i + 8) := ar_9 i 8
  have vi : vp_in (nI i) 7 := vp_in_nI (by omega) (by omega)
  have hh := hH i hi
  unfold wX_clear_150
  rw [e9, nI_clamp (n := 9 * i + 8) (by omega), ar_c (n := i) (by omega)]
  refine ⟨vp_in_nI (by omega) (by omega), nm_e ⟨vi, ?_⟩⟩
  by_cases z : H i ≤ 0
  · refine br_t z (nm_e (nm_r (nI_1 i) (k _ ?_)))
    rw [ar_np] at z
    rw [Int32.add_zero]
    unfold ss_p
    rw [if_neg (by omega)]; omega
  · refine br_f z ⟨vi, nm_e (nm_r (nI_1 i) (k _ ?_))⟩
    rw [ar_np] at z
    rw [ar_add (by omega) (by omega)]
    unfold ss_p
    rw [if_pos (by omega)]; omega
theorem cw_119 {post : Int32 → SX → Prop} {J : TJ_2} {i : Nat} {x1 z0 : Int32} {c : Nat → Int} (hi : i < 7) (hH : ∀ j, j < 7 → (H j).toInt = c j) (hx : 0 ≤ x1.toInt ∧ x1.toInt ≤ 1000000) (hc : -60000 ≤ c i ∧ c i ≤ 60000)
    (k : ∀ x y : Int32, x.toInt = x1.toInt + ss_p (c i) → y.toInt = ss_p (c i) → J x (nI (i + 1)) T P F pa pe am (upd (upd W (63 + i) z0) (9 * i + 8) y) O C L D H) : wX_clear_119 post J x1 (nI i) z0 ((63 : Int32) + nI i) g T P F pa pe am W O C L D H := by
  have e9 : (63 : Int32) + nI i = nI (63 + i) := nI_add 63 i
  have vi : vp_in (nI i) 7 := vp_in_nI (by omega) (by omega)
  have hh := hH i hi
  unfold wX_clear_119
  rw [e9, nI_clamp (n := 63 + i) (by omega), ar_c (n := i) (by omega)]
  refine ⟨vp_in_nI (by omega) (by omega), nm_e ⟨vi, ?_⟩⟩
  by_cases z : H i ≤ 0
  · refine br_t z (cw_150 hi hH hx hc (fun x hx' => k x 0 hx' ?_))
    rw [ar_np] at z
    unfold ss_p
    rw [if_neg (by omega)]; exact ar_0
  · refine br_f z ⟨vi, cw_150 hi hH hx hc (fun x hx' => k x (H i) hx' ?_)⟩
    rw [ar_np] at z
    unfold ss_p
    rw [if_pos (by omega)]; exact hh
theorem cw_85 {post : Int32 → SX → Prop} {c : Nat → Int} (hH : ∀ j, j < 7 → (H j).toInt = c j) (hc : ∀ j, -60000 ≤ c j ∧ c j ≤ 60000) (hT : rl_T T) (hF : rl_F T F) (hq : zz_s 7 (fun v => ss_p (c v)) < 100000)
    (kS : ∀ (q : Int32) W V C L F', cx_W F c 7 W → sd_P (ar_9c W) (ar_9c V) 7 8 q.toInt → q.toInt = zz_s 7 (fun v => ss_p (c v)) → (∀ u v, u < 9 → v < 9 → F' (9 * u + v) = if u < 7 ∧ v < 7 then V (9 * u + v) else F (9 * u + v)) → ∃ n, wX_clear_203 post g n 0 T P F' pa pe am V O C L D H)
    (kF : ∀ (q : Int32) W V C L, cx_W F c 7 W → sd_P (ar_9c W) (ar_9c V) 7 8 q.toInt → q.toInt < zz_s 7 (fun v => ss_p (c v)) → fw_S (ar_9c V) 7 8 C 0 → post (-3) (g, T, P, F, pa, pe, am, V, O, C, L, D, H)) :
    ∀ (n i : Nat), 7 < n + i → i ≤ 7 → ∀ (x : Int32) W, cx_W F c i W → x.toInt = zz_s i (fun v => ss_p (c v)) → wX_clear_85 post g n x (nI i) T P F pa pe am W O C L D H := by
  intro n
  induction n with
  | zero => intro i h1 h2; omega
  | succ n ih =>
    intro i h1 h2 x W hW hx
    have hx0 : 0 ≤ x.toInt ∧ x.toInt ≤ 60000 * (i : Int) := by
      rw [hx]
      have h0 := rl_sumb (n := i) (B := 60000) (f := fun v => ss_p (c v)) (fun j _ => by have := hc j; unfold ss_p; split <;> omega)
      have h3 : 0 ≤ zz_s i (fun v => ss_p (c v)) := zz_nn (fun j _ => by show 0 ≤ ss_p (c j); unfold ss_p; split <;> omega)
      exact ⟨h3, h0.2⟩
    rw [wX_clear_85]
    by_cases e : i = 7
    · subst e
      refine br_t (show (7 : Int32) ≤ nI 7 from by decide) ?_
      refine xs_send (s := 7) (t := 8) (by omega) (by omega) (by omega) hx0.1 (cx_b hc hT hF hW) (Or.inl (by omega)) (fun q W'' C' L' s1 s2 s3 s4 => ?_)
      dsimp only
      by_cases z : x ≤ q
      · have z' := ar_le.mp z
        exact br_t z (xk_keep (fun F' hF' => kS q W W'' C' L' F' hW s1 (by omega) hF'))
      · have z' : ¬ x.toInt ≤ q.toInt := fun y => z (ar_le.mpr y)
        refine br_f z (kF q W W'' C' L' hW s1 (by omega) ?_)
        rcases s4 with s4 | s4
        · omega
        · exact s4
    · have vi : vp_in (nI i) 7 := vp_in_nI (by omega) (by omega)
      have hh := hH i (by omega)
      have hci := hc i
      refine br_f (show ¬ (7 : Int32) ≤ nI i from nI_ge (b := 7) (by omega) (by omega)) ⟨vi, ?_⟩
      rw [ar_c (n := i) (by omega)]
      have go : ∀ z0 : Int32, z0.toInt = ss_p (- c i) → wX_clear_119 post (wX_clear_85 post g n) x (nI i) z0 ((63 : Int32) + nI i) g T P F pa pe am W O C L D H := by
        intro z0 hz0
        refine cw_119 (by omega) hH (by omega) hci (fun x' y hx' hy => ih (i + 1) (by omega) (by omega) x' _ (fun u v hu hv => ?_) ?_)
        · rw [show 63 + i = 9 * 7 + i by omega, ar_u9 (by omega) hv, ar_u9 (by omega) hv, hW u v hu hv]
          by_cases c1 : u = i ∧ v = 8
          · have d1 : ¬ (u = 7 ∧ v < i + 1) := by omega
            have d2 : v = 8 ∧ u < i + 1 := by omega
            rw [if_pos c1, if_neg d1, if_pos d2, hy, c1.1]
          · rw [if_neg c1]
            by_cases c2 : u = 7 ∧ v = i
            · have d1 : u = 7 ∧ v < i + 1 := by omega
              rw [if_pos c2, if_pos d1, hz0, c2.2]
            · rw [if_neg c2]
              by_cases c3 : u = 7 ∧ v < i
              · have d1 : u = 7 ∧ v < i + 1 := by omega
                rw [if_pos c3, if_pos d1]
              · have d1 : ¬ (u = 7 ∧ v < i + 1) := by omega
                rw [if_neg c3, if_neg d1]
                by_cases c4 : v = 8 ∧ u < i
                · have d2 : v = 8 ∧ u < i + 1 := by omega
                  rw [if_pos c4, if_pos d2]
                · have d2 : ¬ (v = 8 ∧ u < i + 1) := by omega
                  rw [if_neg c4, if_neg d2]
        · rw [zz_1, hx', hx]
      by_cases z : 0 ≤ H i
      · refine br_t z (go 0 ?_)
        rw [ar_nn] at z
        unfold ss_p
        rw [if_neg (by omega)]; exact ar_0
      · refine br_f z ⟨vi, go _ ?_⟩
        rw [ar_nn] at z
        rw [ar_neg (by omega)]
        unfold ss_p
        rw [if_pos (by omega)]; omega
theorem cw_23 {post : Int32 → SX → Prop} {N : Nat} (hN : N ≤ 6) (hL : cl_L N pa pe am) (k : ∀ W H, (∀ c, c < 81 → W c = F c) → (∀ j, j < 7 → H j = cl_d pa pe am N j) → ∃ n, wX_clear_85 post (nI N) n 0 0 T P F pa pe am W O C L D H) :
    ∀ (n i : Nat), N < n + i → i ≤ N → ∀ H, (∀ j, j < 7 → H j = cl_d pa pe am i j) → wX_clear_23 post (nI N) n (nI i) T P F pa pe am W O C L D H := by
  intro n
  induction n with
  | zero => intro i h1 h2; omega
  | succ n ih =>
    intro i h1 h2 H hH
    rw [wX_clear_23]
    by_cases e : i = N
    · subst e
      exact br_t (nI_le (Nat.le_refl _) (by omega)) (xc_copy (fun W' hW' => k W' H hW' hH))
    · obtain ⟨⟨u, v, hu, hv, huv, e1, e2⟩, h3, h4⟩ := hL i (by omega)
      have ci : (nI i).toNatClampNeg = i := ar_c (by omega)
      have cu : (nI u).toNatClampNeg = u := ar_c (by omega)
      have cv : (nI v).toNatClampNeg = v := ar_c (by omega)
      have vi : vp_in (nI i) 6 := vp_in_nI (by omega) (by omega)
      have vu : vp_in (nI u) 7 := vp_in_nI hu (by omega)
      have vv : vp_in (nI v) 7 := vp_in_nI hv (by omega)
      refine br_f (nI_ge (by omega) (by omega)) ?_
      rw [ci, e1, e2, cu, cv]
      refine ⟨vi, vu, vi, vu, nm_e ⟨vi, vv, vi, vv, nm_e (nm_r (nI_1 i) (ih (i + 1) (by omega) (by omega) _ (fun j hj => ?_)))⟩⟩
      have q : upd H u (H u - am i) v = H v := pk_un (fun z => huv z.symm)
      rw [q, cl_d1, e1, e2, cu, cv, ar_u, ar_u]
      by_cases c1 : j = v
      · have c2 : ¬ j = u := fun z => huv (z.symm.trans c1)
        rw [if_pos c1, if_pos c1, if_neg c2, ← c1, hH j hj, Int32.sub_zero]
      · rw [if_neg c1, if_neg c1, Int32.add_zero]
        by_cases c2 : j = u
        · rw [if_pos c2, if_pos c2, ← c2, hH j hj]
        · rw [if_neg c2, if_neg c2, hH j hj, Int32.sub_zero]
theorem cw_2 {post : Int32 → SX → Prop} (k : ∀ H, (∀ j, j < 7 → H j = 0) → ∃ n, wX_clear_23 post g n 0 T P F pa pe am W O C L D H) :
    ∀ (n i : Nat), 7 < n + i → i ≤ 7 → ∀ H, (∀ j, j < i → H j = 0) → wX_clear_2 post g n (nI i) T P F pa pe am W O C L D H := by
  intro n
  induction n with
  | zero => intro i h1 h2; omega
  | succ n ih =>
    intro i h1 h2 H hH
    rw [wX_clear_2]
    by_cases e : i = 7
    · subst e
      exact br_t (show (7 : Int32) ≤ nI 7 from by decide) (k H hH)
    · refine br_f (show ¬ (7 : Int32) ≤ nI i from nI_ge (b := 7) (by omega) (by omega)) ⟨vp_in_nI (by omega) (by omega), nm_r (e' := upd H i 0) (by rw [ar_c (by omega)]) (nm_r (nI_1 i) (ih (i + 1) (by omega) (by omega) _ (fun j hj => ?_)))⟩
      rw [ar_u]
      by_cases z : j = i
      · rw [if_pos z]
      · rw [if_neg z]; exact hH j (by omega)
end
theorem i_vc_clear {k : Nat} {u : SX} {v : SY} (I : i_Rel k u v) (hk : k + 4 ≤ 2048) : wpX_clear (fun r u' => wpY_clear (fun r' v' => r' = r ∧ i_Rel (k + 4) u' v') v) u := by
  obtain ⟨g, T, P, F, pa, pe, am, W, O, C, L, D, H⟩ := u
  obtain ⟨g', T', P', pa', pe', am', OW, RE, PR, BE⟩ := v
  obtain ⟨rfl, rfl, rfl, rfl, rfl, rfl, hG, hT, hF, hP⟩ := I
  have hG' := hG
  obtain ⟨N, hN, rfl, hL⟩ := hG
  have hL : cl_L N pa pe am := hL
  have hs := cl_sum hL hN N (Nat.le_refl _)
  have hzb : ∀ j, -60000 ≤ cl_z pa pe am N j ∧ cl_z pa pe am N j ≤ 60000 := fun j => by
    have := cl_zb hL hN N (Nat.le_refl _) j
    omega
  -- the reference's new positions
  have hPn : ∀ P' : Nat → Int32, (∀ j, P' j = P j + 1 * cl_d pa pe am N j) → (∀ v, v < 7 → (P' v).toInt = (P v).toInt + cl_z pa pe am N v) ∧ (∀ u, u < 7 → -100000 ≤ (P' u).toInt ∧ (P' u).toInt ≤ 100000) := by
    intro P' hP'
    have e : ∀ v, v < 7 → (P' v).toInt = (P v).toInt + cl_z pa pe am N v := fun v hv => by
      have h1 := rl_Pb hT hF hP v hv
      have h2 := hzb v
      unfold cl_z at h2 ⊢
      rw [hP' v, Int32.one_mul, ar_add (by omega) (by omega)]
    refine ⟨e, fun v hv => ?_⟩
    have h1 := rl_Pb hT hF hP v hv
    have h2 := hzb v
    have := e v hv
    omega
  refine ⟨8, cw_2 (fun H0 hH0 => ⟨N + 1, cw_23 hN hL (fun W1 H1 hW1 hH1 => ⟨8, cw_85 (c := cl_z pa pe am N) (fun j hj => by unfold cl_z; rw [hH1 j hj]) hzb hT hF (by omega) (fun q W2 V C' L' F' hW2 s1 s2 hF' => ?_) (fun q W2 V C' L' hW2 s1 s2 s3 => ?_) 8 0 (by omega) (by omega) 0 W1 (fun u v hu hv => ?_) (by rw [ar_0, zz_0])⟩) (N + 1) 0 (by omega) (by omega) H0 (fun j hj => hH0 j hj)⟩) 8 0 (by omega) (by omega) H (fun j hj => absurd hj (Nat.not_lt_zero _))⟩
  · -- all was sent
    refine ⟨8, cw_203 (P0 := P) (fun PX hPX => ?_) 8 0 (by omega) (by omega) P (fun j => (if_neg (Nat.not_lt_zero _)).symm)⟩
    unfold wpY_clear
    dsimp only
    refine ya_all hN hL (fun PY hPY => ?_)
    dsimp only
    obtain ⟨p1, p2⟩ := hPn PY hPY
    have hPP : PX = PY := by
      funext j
      rw [hPX j, hPY j, Int32.one_mul]
      by_cases c1 : j < 7
      · rw [if_pos c1, hH1 j c1]
      · rw [if_neg c1, cl_out hL N (Nat.le_refl _) j (by omega), Int32.add_zero]
    obtain ⟨n1, n2⟩ := cx_new hT hF hP hW2 hs.1 s2 s1 p1 hF'
    refine yp_poss (rl_T49 hT) p2 (fun _ => br_f (by decide) ⟨rfl, rfl, rfl, hPP, rfl, rfl, rfl, ⟨0, by omega, rfl, fun i hi => absurd hi (Nat.not_lt_zero _)⟩, hT, n1, hPP ▸ n2⟩) (fun ⟨s, _, hs⟩ => ?_)
    have := rl_snn n1 n2 s
    omega
  · -- something was left
    unfold wpY_clear
    dsimp only
    refine ya_all hN hL (fun PY hPY => ?_)
    dsimp only
    obtain ⟨p1, p2⟩ := hPn PY hPY
    refine yp_poss (rl_T49 hT) p2 (fun hy => ?_) (fun _ => br_t rfl (ya_all hN hL (fun PZ hPZ => ?_)))
    · rcases s3 with ⟨_, x, x1, x2, x3, x4⟩ | ⟨z, _⟩
      · have e := sd_cut (x := x) s1 (by omega) (by omega) x2 x3
        have n : ct_c 9 x (ar_9c V) = 0 := ct_z x1 (fun u v hu hv a b => by have := x4 u v hu hv a b; have := s1.1 u v hu hv; omega)
        rw [cx_cut hF hW2 x2 x3] at e
        obtain ⟨S, S1, S2⟩ := sl_of x (fun i hi => x1 i (by omega))
        have h1 := cx_v (c := cl_z pa pe am N) hT hF hP p1 S S2
        have h2 := hy S S1
        omega
      · exact absurd z (by decide)
    · have hPP : P = PZ := by
        funext j
        rw [hPZ j, hPY j]
        grind
      exact ⟨rfl, rfl, rfl, hPP, rfl, rfl, rfl, hG', hT, hF, hP⟩
  · rw [if_neg (by omega), if_neg (by omega)]
    exact fl_W hW1 u v hu hv
end
section
/-! debts, the component: the cheapest way -/
def dx_z (u v : Nat) : Bool := decide (7 ≤ u) || decide (7 ≤ v)
theorem dx_zs (u v : Nat) : dx_z u v = dx_z v u := Bool.or_comm _ _
theorem dx_zt {u v : Nat} : dx_z u v = true ↔ (7 ≤ u ∨ 7 ≤ v) := by
  unfold dx_z
  rw [Bool.or_eq_true, decide_eq_true_eq, decide_eq_true_eq]
theorem dx_zf {u v : Nat} : dx_z u v = false ↔ (u < 7 ∧ v < 7) := by
  unfold dx_z
  rw [Bool.or_eq_false_iff, decide_eq_false_iff_not, decide_eq_false_iff_not]
  omega
def dx_ix (u v : Nat) : Nat := 9 * u + v
def dx_V (a : Nat → Int32) (x : Nat) : Int := (a x).toInt
def dx_I (cap m : Nat → Nat → Int) (φ : Nat → Int) (r c b : Nat) (D C : Nat → Int32) : Prop := bf_I 9 (ss_E cap m) (ss_w dx_z m) (fun x => x = 7) 1000000 φ dx_ix r c b (dx_V D) (dx_V C)
def dx_O (cap m : Nat → Nat → Int) (D C : Nat → Int32) : Prop := bf_O 9 (ss_E cap m) (ss_w dx_z m) (fun x => x = 7) 1000000 729 (dx_V D) (dx_V C)
theorem dx_hix : ∀ u v x y, u < 9 → v < 9 → x < 9 → y < 9 → dx_ix u v = dx_ix x y → u = x ∧ v = y := by
  intro u v x y hu hv hx hy h
  unfold dx_ix at h
  omega
/-- the tables show the flow m within the capacities -/
def dx_S (cap m : Nat → Nat → Int) (W O : Nat → Int32) : Prop := (∀ u v, u < 9 → v < 9 → ar_9c W u v = cap u v - m u v) ∧ (∀ u v, u < 7 → v < 7 → ar_9c O u v = ss_p (m u v))
section
variable {g : Int32} {T P F pa pe am W O C L D H : Nat → Int32} {cap m : Nat → Nat → Int} {φ : Nat → Int}
theorem dc_cost {post : Int32 → Prop} {u v : Nat} (hu : u < 9) (hv : v < 9) (hok : ss_ok 9 cap m) (hS : dx_S cap m W O) (k : ∀ r : Int32, r.toInt = ss_w dx_z m u v → post r) : wpX_costOf post (g, T, P, F, pa, pe, am, W, O, C, L, D, H) (nI u) (nI v) := by
  unfold wpX_costOf
  dsimp only
  by_cases c1 : 7 ≤ u
  · refine br_t (show (7 : Int32) ≤ nI u from nI_le (a := 7) c1 (by omega)) (k 0 ?_)
    unfold ss_w
    rw [if_pos (dx_zt.mpr (Or.inl c1))]; exact ar_0
  · refine br_f (show ¬ (7 : Int32) ≤ nI u from nI_ge (b := 7) (by omega) (by omega)) ?_
    by_cases c2 : v < 7
    · have hO := hS.2 v u c2 (by omega)
      have ha := hok.1 u v hu hv
      have hz : ¬ dx_z u v = true := fun z => by rw [dx_zt] at z; omega
      refine br_t (show nI v < (7 : Int32) from nI_lt (b := 7) c2 (by omega)) ⟨ar_in9 hv hu, ?_⟩
      rw [ar_c9 hv hu]
      have hO' : (O (9 * v + u)).toInt = ss_p (m v u) := hO
      unfold ss_p at hO'
      by_cases z : O (9 * v + u) ≤ 0
      · refine br_t z (k 1 ?_)
        rw [ar_np] at z
        unfold ss_w
        rw [if_neg hz, if_neg]
        · exact ar_1
        · intro h
          rw [if_pos (by omega)] at hO'
          omega
      · refine br_f z (k (-1) ?_)
        rw [ar_np] at z
        unfold ss_w
        rw [if_neg hz, if_pos]
        · exact ar_m1
        · by_cases h : 0 < m v u
          · omega
          · rw [if_neg h] at hO'
            omega
    · refine br_f (show ¬ nI v < (7 : Int32) from nI_nlt (b := 7) (by omega) (by omega)) (k 0 ?_)
      unfold ss_w
      rw [if_pos (dx_zt.mpr (Or.inr (by omega)))]; exact ar_0
theorem dc_relax {post : SX → Prop} {u v r b : Nat} (hu : u < 9) (hv : v < 9) (hok : ss_ok 9 cap m) (hc0 : ∀ u, u < 9 → cap u u = 0) (hF : ss_F 9 cap dx_z m φ) (hS : dx_S cap m W O) (hb : b < 1000) (hI : dx_I cap m φ r (9 * u + v) b D C)
    (k : ∀ D C, dx_I cap m φ r (9 * u + v + 1) (b + 1) D C → post (g, T, P, F, pa, pe, am, W, O, C, L, D, H)) : wpX_relax post (g, T, P, F, pa, pe, am, W, O, C, L, D, H) (nI u) (nI v) := by
  unfold wpX_relax
  dsimp only
  have hW := hS.1 u v hu hv
  have cu : (nI u).toNatClampNeg = u := ar_c (by omega)
  have cv : (nI v).toNatClampNeg = v := ar_c (by omega)
  have vu : vp_in (nI u) 9 := vp_in_nI hu (by omega)
  have vv : vp_in (nI v) 9 := vp_in_nI hv (by omega)
  rw [ar_c9 hu hv, cu, cv]
  have hW' : (W (9 * u + v)).toInt = cap u v - m u v := hW
  refine ⟨ar_in9 hu hv, ?_⟩
  by_cases z : W (9 * u + v) ≤ 0
  · rw [ar_np] at z
    refine br_t (ar_np.mpr z) (k D C (bf_skip dx_hix hI hu hv rfl (fun h => ?_)))
    have h1 : m u v < cap u v := h.1
    omega
  · have z' : ¬ (W (9 * u + v)).toInt ≤ 0 := fun y => z (ar_np.mpr y)
    refine br_f z ⟨vu, ?_⟩
    have hE : ss_E cap m u v := show m u v < cap u v by omega
    by_cases y : 1000000 ≤ D u
    · have y' := ar_le.mp y
      rw [ar_M] at y'
      refine br_t y (k D C (bf_skip dx_hix hI hu hv rfl (fun h => ?_)))
      have h1 : (D u).toInt < 1000000 := h.2.1
      omega
    · have y' : ¬ (1000000 : Int32).toInt ≤ (D u).toInt := fun q => y (ar_le.mpr q)
      rw [ar_M] at y'
      refine br_f y ⟨vu, dc_cost hu hv hok hS (fun rc hrc => nm_e ⟨vv, ?_⟩)⟩
      have hw := ss_w_b dx_z m u v
      have hB : -(b : Int) ≤ (D u).toInt ∧ (D u).toInt ≤ b := by
        obtain ⟨rk, τ, _, _, h3, _⟩ := hI
        exact (h3 u hu).1 (show (D u).toInt < 1000000 by omega)
      have ed : (D u + rc).toInt = (D u).toInt + ss_w dx_z m u v := by rw [ar_add (by omega) (by omega), hrc]
      by_cases x : D v ≤ D u + rc
      · have x' := ar_le.mp x
        refine br_t x (k D C (bf_skip dx_hix hI hu hv rfl (fun h => ?_)))
        have h1 : (D u).toInt + ss_w dx_z m u v < (D v).toInt := h.2.2
        omega
      · have x' : ¬ (D v).toInt ≤ (D u + rc).toInt := fun q => x (ar_le.mpr q)
        refine br_f x ⟨vv, nm_e ⟨vv, nm_e (k _ _ (bf_relax dx_hix (fun u v _ _ => ss_w_b dx_z m u v) (ss_ne hok hc0) hF hI hu hv rfl (by omega) hE (show (D u).toInt < 1000000 by omega) (show (D u).toInt + ss_w dx_z m u v < (D v).toInt by omega) (fun q hq => ?_) (fun q hq => ?_)))⟩⟩
        · show (upd D v (D u + rc) q).toInt = if q = v then (D u).toInt + ss_w dx_z m u v else (D q).toInt
          rw [ar_u]
          by_cases e : q = v
          · rw [if_pos e, if_pos e, ed]
          · rw [if_neg e, if_neg e]
        · show (upd C v (nI u) q).toInt = if q = v then (u : Int) else (C q).toInt
          rw [ar_u]
          by_cases e : q = v
          · rw [if_pos e, if_pos e, ar_nI (by omega)]
          · rw [if_neg e, if_neg e]
abbrev TJ_g : Type := Int32 → Int32 → (Nat → Int32) → (Nat → Int32) → (Nat → Int32) → (Nat → Int32) → (Nat → Int32) → (Nat → Int32) → (Nat → Int32) → (Nat → Int32) → (Nat → Int32) → (Nat → Int32) → (Nat → Int32) → (Nat → Int32) → Prop
theorem dc_49 {post : Int32 → SX → Prop} {J : TJ_g} {r : Nat} (hr : r < 9) (hok : ss_ok 9 cap m) (hc0 : ∀ u, u < 9 → cap u u = 0) (hF : ss_F 9 cap dx_z m φ) (hS : dx_S cap m W O)
    (k : ∀ D C, dx_I cap m φ (r + 1) 81 (81 * r + 81) D C → J (nI (r + 1)) g T P F pa pe am W O C L D H) :
    ∀ (n i : Nat), 81 < n + i → i ≤ 81 → ∀ D C, dx_I cap m φ (r + 1) i (81 * r + i) D C → wX_findCheapest_49 post J (nI r) n (nI i) g T P F pa pe am W O C L D H := by
  intro n
  induction n with
  | zero => intro i h1 h2; omega
  | succ n ih =>
    intro i h1 h2 D C hI
    rw [wX_findCheapest_49]
    by_cases e : i = 81
    · subst e
      exact br_t (show (81 : Int32) ≤ nI 81 from by decide) (nm_r (nI_1 r) (k D C hI))
    · have hd : nI i / 9 = nI (i / 9) := pk_div (d := 9) (by omega) (by omega) (by omega)
      have hm : nI i - nI i / 9 * 9 = nI (i % 9) := pk_rem (d := 9) (by omega) (by omega) (by omega)
      refine br_f (show ¬ (81 : Int32) ≤ nI i from nI_ge (b := 81) (by omega) (by omega)) ⟨by decide, by decide, ?_⟩
      rw [hm, hd]
      have ei : 9 * (i / 9) + i % 9 = i := by omega
      refine dc_relax (r := r + 1) (b := 81 * r + i) (by omega) (by omega) hok hc0 hF hS (by omega) (by rw [ei]; exact hI) (fun D' C' hI' => nm_r (nI_1 i) (ih (i + 1) (by omega) (by omega) D' C' ?_))
      rw [ei] at hI'
      exact hI'
theorem dc_41 {post : Int32 → SX → Prop} (hok : ss_ok 9 cap m) (hc0 : ∀ u, u < 9 → cap u u = 0) (hF : ss_F 9 cap dx_z m φ) (hS : dx_S cap m W O)
    (k : ∀ (r : Int32) D C, dx_O cap m D C → ((r = 0 ∧ ¬ dx_V D 8 < 1000000) ∨ (r = 1 ∧ dx_V D 8 < 1000000)) → post r (g, T, P, F, pa, pe, am, W, O, C, L, D, H)) :
    ∀ (n i : Nat), 9 < n + i → i ≤ 9 → ∀ D C, dx_I cap m φ (i + 1) 0 (81 * i) D C → wX_findCheapest_41 post n (nI i) g T P F pa pe am W O C L D H := by
  intro n
  induction n with
  | zero => intro i h1 h2; omega
  | succ n ih =>
    intro i h1 h2 D C hI
    rw [wX_findCheapest_41]
    by_cases e : i = 9
    · subst e
      have hO : dx_O cap m D C := bf_done (by omega) hI
      refine br_t (show (9 : Int32) ≤ nI 9 from by decide) ?_
      by_cases z : 1000000 ≤ D 8
      · have z' := ar_le.mp z
        rw [ar_M] at z'
        exact br_t z (k 0 D C hO (Or.inl ⟨rfl, by show ¬ (D 8).toInt < 1000000; omega⟩))
      · have z' : ¬ (1000000 : Int32).toInt ≤ (D 8).toInt := fun q => z (ar_le.mpr q)
        rw [ar_M] at z'
        exact br_f z (k 1 D C hO (Or.inr ⟨rfl, by show (D 8).toInt < 1000000; omega⟩))
    · refine br_f (show ¬ (9 : Int32) ≤ nI i from nI_ge (b := 9) (by omega) (by omega)) ⟨82, dc_49 (by omega) hok hc0 hF hS (fun D' C' hI' => ih (i + 1) (by omega) (by omega) D' C' ?_) 82 0 (by omega) (by omega) D C hI⟩
      exact bf_round (c := 81) (fun u v hu hv => by unfold dx_ix; omega) hI'
theorem dc_2 {post : Int32 → SX → Prop} (hok : ss_ok 9 cap m) (hc0 : ∀ u, u < 9 → cap u u = 0) (hF : ss_F 9 cap dx_z m φ) (hS : dx_S cap m W O)
    (k : ∀ (r : Int32) D C, dx_O cap m D C → ((r = 0 ∧ ¬ dx_V D 8 < 1000000) ∨ (r = 1 ∧ dx_V D 8 < 1000000)) → post r (g, T, P, F, pa, pe, am, W, O, C, L, D, H)) :
    ∀ (n i : Nat), 9 < n + i → i ≤ 9 → ∀ D C, (∀ x, x < i → dx_V D x = (if x = 7 then 0 else 1000000) ∧ dx_V C x = -1) → wX_findCheapest_2 post g n (nI i) T P F pa pe am W O C L D H := by
  intro n
  induction n with
  | zero => intro i h1 h2; omega
  | succ n ih =>
    intro i h1 h2 D C hDC
    rw [wX_findCheapest_2]
    by_cases e : i = 9
    · subst e
      refine br_t (show (9 : Int32) ≤ nI 9 from by decide) ⟨10, dc_41 hok hc0 hF hS k 10 0 (by omega) (by omega) D C (bf_init (by omega) (fun x hx => ?_) (fun x hx => (hDC x hx).2))⟩
      have := (hDC x hx).1
      by_cases c : x = 7
      · rw [if_pos c] at this; exact Or.inl ⟨c, this⟩
      · rw [if_neg c] at this; exact Or.inr ⟨c, this⟩
    · have ci : (nI i).toNatClampNeg = i := ar_c (by omega)
      have vi : vp_in (nI i) 9 := vp_in_nI (by omega) (by omega)
      have go : ∀ z0 : Int32, z0.toInt = (if i = 7 then 0 else 1000000) → wX_findCheapest_25 post (wX_findCheapest_2 post g n) (nI i) z0 (nI i) g T P F pa pe am W O C L D H := by
        intro z0 hz
        unfold wX_findCheapest_25
        rw [ci]
        refine ⟨vi, nm_e ⟨vi, nm_e (nm_r (nI_1 i) (ih (i + 1) (by omega) (by omega) _ _ (fun x hx => ?_)))⟩⟩
        show (upd D i z0 x).toInt = _ ∧ (upd C i (-1) x).toInt = -1
        rw [ar_u, ar_u]
        by_cases c : x = i
        · rw [if_pos c, if_pos c, c]; exact ⟨hz, ar_m1⟩
        · rw [if_neg c, if_neg c]; exact hDC x (by omega)
      refine br_f (show ¬ (9 : Int32) ≤ nI i from nI_ge (b := 9) (by omega) (by omega)) ?_
      by_cases c : i = 7
      · subst c
        exact br_t (show nI 7 = (7 : Int32) from rfl) (go 0 (by decide))
      · exact br_f (show ¬ nI i = (7 : Int32) from ar_ne (b := 7) (by omega) (by omega) c) (go 1000000 (by rw [if_neg c]; exact ar_M))
theorem dc_find {post : Int32 → SX → Prop} (hok : ss_ok 9 cap m) (hc0 : ∀ u, u < 9 → cap u u = 0) (hF : ss_F 9 cap dx_z m φ) (hS : dx_S cap m W O)
    (k : ∀ (r : Int32) D C, dx_O cap m D C → ((r = 0 ∧ ¬ dx_V D 8 < 1000000) ∨ (r = 1 ∧ dx_V D 8 < 1000000)) → post r (g, T, P, F, pa, pe, am, W, O, C, L, D, H)) : wpX_findCheapest post (g, T, P, F, pa, pe, am, W, O, C, L, D, H) :=
  ⟨10, dc_2 hok hc0 hF hS k 10 0 (by omega) (by omega) D C (fun x hx => absurd hx (Nat.not_lt_zero _))⟩
end
end
section
/-! debts, the component: sending along the cheapest way -/
def dn_m (m : Nat → Nat → Int) (a : Int) (c : Nat → Nat) (k u v : Nat) : Int := m u v + a * ph_g c k u v
theorem dn_m1 (m : Nat → Nat → Int) (a : Int) (c : Nat → Nat) (k u v : Nat) : dn_m m a c (k + 1) u v = dn_m m a c k u v + a * (ph_e u v (c (k + 1)) (c k) - ph_e u v (c k) (c (k + 1))) := by
  unfold dn_m
  rw [ph_g_1, Int.mul_sub, Int.mul_sub, Int.mul_add]; omega
theorem dn_anti {N : Nat} {m : Nat → Nat → Int} (a : Int) (c : Nat → Nat) (k : Nat) (h : ∀ u v, u < N → v < N → m u v = - m v u) : ∀ u v, u < N → v < N → dn_m m a c k u v = - dn_m m a c k v u := by
  intro u v hu hv
  unfold dn_m
  rw [h u v hu hv, ph_g_anti c k u v, Int.mul_neg]; omega
/-- what can be sent along the way c of K steps: l at most -/
def dn_R (z : Nat → Nat → Bool) (cap m : Nat → Nat → Int) (c : Nat → Nat) (l : Int) (k : Nat) : Prop :=
  ∀ j, j < k → l ≤ cap (c (j + 1)) (c j) - m (c (j + 1)) (c j) ∧ (z (c (j + 1)) (c j) = false → m (c (j + 1)) (c j) < 0 → l ≤ - m (c (j + 1)) (c j))
theorem dn_cost {m cap : Nat → Nat → Int} {d : Nat → Int} {c : Nat → Nat} {K : Nat} {a : Int} (hok : ss_ok 9 cap m) (hW : ph_W 9 c K) (hd : ∀ k, k < K → d (c k) = d (c (k + 1)) + ss_w dx_z m (c (k + 1)) (c k)) (ha : 0 ≤ a) (hR : dn_R dx_z cap m c a K) :
    ∀ k, k ≤ K → ss_cost 7 (dn_m m a c k) = ss_cost 7 m + a * (d (c 0) - d (c k)) := by
  intro k
  induction k with
  | zero =>
    intro _
    have : ss_cost 7 (dn_m m a c 0) = ss_cost 7 m := zz_congr (fun u _ => zz_congr (fun v _ => by
      show ss_p (m u v + a * 0) = ss_p (m u v)
      rw [Int.mul_zero, Int.add_zero]))
    rw [this, Int.sub_self, Int.mul_zero, Int.add_zero]
  | succ k ih =>
    intro hk
    have h1 := ih (by omega)
    have hdk := hd k (by omega)
    have hi := hW.2.1 (k + 1) hk
    have hj := hW.2.1 k (by omega)
    have hne : c (k + 1) ≠ c k := fun z => hW.2.2 k (k + 1) (by omega) hk z.symm
    have hg := ph_g_next (c := c) (k := k) (fun i j hij hj => hW.2.2 i j hij (by omega))
    have em : dn_m m a c k (c (k + 1)) (c k) = m (c (k + 1)) (c k) := by unfold dn_m; rw [hg, Int.mul_zero, Int.add_zero]
    by_cases hm : c (k + 1) < 7 ∧ c k < 7
    · have hz : dx_z (c (k + 1)) (c k) = false := dx_zf.mpr hm
      have e := ss_cost_edge (N := 7) (cap := dn_m m a c k) (m := dn_m m a c k) (m' := dn_m m a c (k + 1)) (a := a) hm.1 hm.2 hne ⟨fun u v hu hv => dn_anti a c k hok.1 u v (by omega) (by omega), fun _ _ _ _ => Int.le_refl _⟩ ha (fun h => by rw [em] at h ⊢; exact (hR k (by omega)).2 hz h) (fun u v _ _ => dn_m1 m a c k u v)
      rw [em] at e
      unfold ss_w at hdk
      rw [hz] at hdk
      have hdk' : d (c k) = d (c (k + 1)) + (if m (c (k + 1)) (c k) < 0 then -1 else 1) := hdk
      rw [e, h1, Int.add_assoc, ← Int.mul_add]
      have : d (c 0) - d (c k) + (if m (c (k + 1)) (c k) < 0 then -1 else 1) = d (c 0) - d (c (k + 1)) := by omega
      rw [this]
    · have hz : dx_z (c (k + 1)) (c k) = true := dx_zt.mpr (by omega)
      have e : ss_cost 7 (dn_m m a c (k + 1)) = ss_cost 7 (dn_m m a c k) := zz_congr (fun u hu => zz_congr (fun v hv => by
        show ss_p (dn_m m a c (k + 1) u v) = ss_p (dn_m m a c k u v)
        have q1 : ph_e u v (c (k + 1)) (c k) = 0 := if_neg (fun z => hm (by omega))
        have q2 : ph_e u v (c k) (c (k + 1)) = 0 := if_neg (fun z => hm (by omega))
        rw [dn_m1, q1, q2, Int.sub_self, Int.mul_zero, Int.add_zero]))
      unfold ss_w at hdk
      rw [if_pos hz] at hdk
      rw [e, h1]
      have : d (c k) = d (c (k + 1)) := by omega
      rw [this]
section
variable {g : Int32} {T P F pa pe am W O C L D H : Nat → Int32} {cap m : Nat → Nat → Int}
theorem dn_one {post : SX → Prop} {i j : Nat} {a : Int32} {m1 m2 : Nat → Nat → Int} (hi : i < 9) (hj : j < 9) (hij : i ≠ j) (hS : dx_S cap m1 W O) (ha : 0 ≤ a.toInt ∧ a.toInt ≤ 100000)
    (hb : ∀ u v, u < 9 → v < 9 → -200000 ≤ m1 u v ∧ m1 u v ≤ 200000 ∧ 0 ≤ cap u v ∧ cap u v ≤ 7000) (han : m1 i j = - m1 j i) (hun : i < 7 → j < 7 → m1 i j < 0 → a.toInt ≤ - m1 i j)
    (hm : ∀ u v, u < 9 → v < 9 → m2 u v = m1 u v + a.toInt * (ph_e u v i j - ph_e u v j i))
    (k : ∀ W O, dx_S cap m2 W O → post (g, T, P, F, pa, pe, am, W, O, C, L, D, H)) : wpX_sendOne post (g, T, P, F, pa, pe, am, W, O, C, L, D, H) (nI i) (nI j) a := by
  unfold wpX_sendOne
  dsimp only
  have vij : vp_in (nI (9 * i + j)) 81 := vp_in_nI (by omega) (by omega)
  have vji : vp_in (nI (9 * j + i)) 81 := vp_in_nI (by omega) (by omega)
  rw [ar_9 i j, ar_9 j i, nI_clamp (n := 9 * i + j) (by omega), nI_clamp (n := 9 * j + i) (by omega)]
  have b1 := hb i j hi hj
  have b2 := hb j i hj hi
  have w1 := hS.1 i j hi hj
  have w2 := hS.1 j i hj hi
  have hW' : ∀ u v, u < 9 → v < 9 → ar_9c (upd (upd W (9 * i + j) (W (9 * i + j) - a)) (9 * j + i) ((upd W (9 * i + j) (W (9 * i + j) - a)) (9 * j + i) + a)) u v = cap u v - m2 u v := by
    intro u v hu hv
    rw [ar_mv9 hi hj hij (by omega) (by omega) (by omega) (by omega) hv, hS.1 u v hu hv, hm u v hu hv]; omega
  refine ⟨vij, vij, nm_e ⟨vji, vji, nm_e ⟨vji, ?_⟩⟩⟩
  -- a cell of two members that is not touched
  have e0 : ∀ u v, u < 7 → v < 7 → ¬ (u = i ∧ v = j) → ¬ (u = j ∧ v = i) → m2 u v = m1 u v := fun u v hu hv c1 c2 => by
    have q1 : ph_e u v i j = 0 := if_neg c1
    have q2 : ph_e u v j i = 0 := if_neg c2
    rw [hm u v (by omega) (by omega), q1, q2, Int.sub_self, Int.mul_zero, Int.add_zero]
  have e1 : m2 i j = m1 i j + a.toInt := by
    have q2 : ph_e i j j i = 0 := if_neg (fun z => hij z.1)
    rw [hm i j hi hj, ph_e_1, q2]; omega
  have e2 : m2 j i = m1 j i - a.toInt := by
    have q2 : ph_e j i i j = 0 := if_neg (fun z => hij z.2)
    rw [hm j i hj hi, ph_e_1, q2]; omega
  by_cases z : O (9 * j + i) ≤ 0
  · refine br_t z ⟨vij, vij, nm_e (k _ _ ⟨hW', fun u v hu hv => ?_⟩)⟩
    rw [ar_np] at z
    rw [ar_u9 hj (by omega)]
    by_cases c1 : u = i ∧ v = j
    · have o1 := hS.2 i j (by omega) (by omega)
      have o2 := hS.2 j i (by omega) (by omega)
      have hn : 0 ≤ m1 i j := by
        have o2' : (O (9 * j + i)).toInt = ss_p (m1 j i) := o2
        unfold ss_p at o2'
        by_cases q : 0 < m1 j i
        · rw [if_pos q] at o2'; omega
        · omega
      have o1' : (O (9 * i + j)).toInt = m1 i j := by
        have o1' : (O (9 * i + j)).toInt = ss_p (m1 i j) := o1
        unfold ss_p at o1'
        by_cases q : 0 < m1 i j
        · rw [if_pos q] at o1'; exact o1'
        · rw [if_neg q] at o1'; omega
      rw [if_pos c1, c1.1, c1.2, e1, ar_add (by omega) (by omega), o1']
      unfold ss_p
      split <;> omega
    · rw [if_neg c1, hS.2 u v hu hv]
      by_cases c2 : u = j ∧ v = i
      · have o2 := hS.2 j i (by omega) (by omega)
        have o2' : (O (9 * j + i)).toInt = ss_p (m1 j i) := o2
        rw [c2.1, c2.2, e2]
        unfold ss_p at o2' ⊢
        by_cases q : 0 < m1 j i
        · rw [if_pos q] at o2'; omega
        · rw [if_neg q, if_neg (by omega)]
      · rw [e0 u v hu hv c1 c2]
  · refine br_f z ⟨vji, vji, nm_e (k _ _ ⟨hW', fun u v hu hv => ?_⟩)⟩
    rw [ar_np] at z
    rw [ar_u9 hi (by omega)]
    by_cases c1 : u = j ∧ v = i
    · have o2 := hS.2 j i (by omega) (by omega)
      have o2' : (O (9 * j + i)).toInt = ss_p (m1 j i) := o2
      have hp : 0 < m1 j i := by
        unfold ss_p at o2'
        by_cases q : 0 < m1 j i
        · exact q
        · rw [if_neg q] at o2'; omega
      have hp2 := hun (by omega) (by omega) (by omega)
      unfold ss_p at o2'
      rw [if_pos hp] at o2'
      rw [if_pos c1, c1.1, c1.2, e2, ar_sub (by omega) (by omega), o2']
      unfold ss_p
      split <;> omega
    · rw [if_neg c1, hS.2 u v hu hv]
      by_cases c2 : u = i ∧ v = j
      · have o2 := hS.2 j i (by omega) (by omega)
        have o2' : (O (9 * j + i)).toInt = ss_p (m1 j i) := o2
        have hp : 0 < m1 j i := by
          unfold ss_p at o2'
          by_cases q : 0 < m1 j i
          · exact q
          · rw [if_neg q] at o2'; omega
        have hp2 := hun (by omega) (by omega) (by omega)
        rw [c2.1, c2.2, e1]
        unfold ss_p
        rw [if_neg (by omega), if_neg (by omega)]
      · rw [e0 u v hu hv c2 c1]
theorem dn_142 {post : Int32 → SX → Prop} {c : Nat → Nat} {K : Nat} {a : Int32} (hok : ss_ok 9 cap m) (hcb : ∀ u v, u < 9 → v < 9 → 0 ≤ cap u v ∧ cap u v ≤ 7000) (hW : ph_W 9 c K) (hK : c K = 7) (hC : ∀ k, k < K → C (c k) = nI (c (k + 1))) (ha : 1 ≤ a.toInt ∧ a.toInt ≤ 100000)
    (hR : dn_R dx_z cap m c a.toInt K) (k : ∀ W O, dx_S cap (dn_m m a.toInt c K) W O → post a (g, T, P, F, pa, pe, am, W, O, C, L, D, H)) :
    ∀ (n i : Nat), 9 < n + i → i ≤ K → ∀ W O, dx_S cap (dn_m m a.toInt c i) W O → wX_narrowestOwed_142 post a n (nI (c i)) (nI i) g T P F pa pe am W O C L D H := by
  intro n
  induction n with
  | zero => intro i h1 h2; have := hW.1; omega
  | succ n ih =>
    intro i h1 h2 W O hS
    have hK9 := hW.1
    have ci := hW.2.1 i h2
    rw [wX_narrowestOwed_142]
    refine br_f (show ¬ (9 : Int32) ≤ nI i from nI_ge (b := 9) (by omega) (by omega)) ?_
    by_cases e : i = K
    · subst e
      exact br_t (show nI (c i) = (7 : Int32) by rw [hK]; rfl) (k W O hS)
    · have h3 : c i ≠ 7 := fun z => hW.2.2 i K (by omega) (Nat.le_refl _) (z.trans hK.symm)
      have cj := hW.2.1 (i + 1) (by omega)
      have hd : ∀ p q, p < q → q ≤ i + 1 → c p ≠ c q := fun p q hp hq => hW.2.2 p q hp (by omega)
      have hne : c (i + 1) ≠ c i := fun z => hd i (i + 1) (by omega) (by omega) z.symm
      have g1 := ph_g_next hd
      have em : dn_m m a.toInt c i (c (i + 1)) (c i) = m (c (i + 1)) (c i) := by unfold dn_m; rw [g1, Int.mul_zero, Int.add_zero]
      refine br_f (show ¬ nI (c i) = (7 : Int32) from ar_ne (b := 7) (by omega) (by omega) h3) ⟨vp_in_nI ci (by omega), nm_r (e' := nI (c (i + 1))) (by rw [ar_c (by omega), hC i (by omega)]) ?_⟩
      refine dn_one cj ci hne hS (by omega) (fun u v hu hv => ?_) (dn_anti a.toInt c i hok.1 _ _ cj ci) (fun q1 q2 q3 => by rw [em] at q3 ⊢; exact (hR i (by omega)).2 (dx_zf.mpr ⟨q1, q2⟩) q3) (fun u v _ _ => dn_m1 m a.toInt c i u v) (fun W' O' hS' => nm_r (nI_1 i) (ih (i + 1) (by omega) (by omega) W' O' hS'))
      have b1 := hcb u v hu hv
      have b2 := hcb v u hv hu
      have b3 := hok.2 u v hu hv
      have b4 := hok.2 v u hv hu
      have b5 := hok.1 u v hu hv
      have b6 := ph_g_le (c := c) (u := u) (v := v) (k := i) (fun p q hp hq => hW.2.2 p q hp (by omega))
      have b7 := ph_g_ge (c := c) (u := u) (v := v) (k := i) (fun p q hp hq => hW.2.2 p q hp (by omega))
      unfold dn_m
      have b8 : ph_g c i u v = -1 ∨ ph_g c i u v = 0 ∨ ph_g c i u v = 1 := by omega
      rcases b8 with q | q | q <;> rw [q] <;> omega
theorem dn_114 {post : Int32 → SX → Prop} {J : Int32 → Int32 → Int32 → Prop} {x2 x5 h : Int32} {i : Nat} (k : ∀ l : Int32, l.toInt ≤ x2.toInt → l.toInt ≤ h.toInt → (l = x2 ∨ l = h) → J l x5 (nI (i + 1))) :
    wX_narrowestOwed_114 post J x2 (nI i) x5 h g T P F pa pe am W O C L D H := by
  unfold wX_narrowestOwed_114
  by_cases z : x2 ≤ h
  · exact br_t z (nm_r (nI_1 i) (k x2 (Int.le_refl _) (ar_le.mp z) (Or.inl rfl)))
  · have z' : ¬ x2.toInt ≤ h.toInt := fun q => z (ar_le.mpr q)
    exact br_f z (nm_r (nI_1 i) (k h (by omega) (Int.le_refl _) (Or.inr rfl)))
theorem dn_8 {post : Int32 → SX → Prop} {c : Nat → Nat} {K : Nat} {lim : Int32} (hok : ss_ok 9 cap m) (hS : dx_S cap m W O) (hW : ph_W 9 c K) (hK : c K = 7) (hC : ∀ k, k < K → C (c k) = nI (c (k + 1)) ∧ m (c (k + 1)) (c k) < cap (c (k + 1)) (c k))
    (k : ∀ l : Int32, 1 ≤ l.toInt → l.toInt ≤ lim.toInt → dn_R dx_z cap m c l.toInt K → ∃ n, wX_narrowestOwed_142 post l n 8 0 g T P F pa pe am W O C L D H) :
    ∀ (n i : Nat), 9 < n + i → i ≤ K → ∀ l : Int32, 1 ≤ l.toInt → l.toInt ≤ lim.toInt → dn_R dx_z cap m c l.toInt i → wX_narrowestOwed_8 post g T P F pa pe am W O C L D H n l (nI (c i)) (nI i) := by
  intro n
  induction n with
  | zero => intro i h1 h2; have := hW.1; omega
  | succ n ih =>
    intro i h1 h2 l l1 l2 l3
    have hK9 := hW.1
    have ci := hW.2.1 i h2
    rw [wX_narrowestOwed_8]
    refine br_f (show ¬ (9 : Int32) ≤ nI i from nI_ge (b := 9) (by omega) (by omega)) ?_
    by_cases e : i = K
    · subst e
      exact br_t (show nI (c i) = (7 : Int32) by rw [hK]; rfl) (k l l1 l2 l3)
    · have h3 : c i ≠ 7 := fun z => hW.2.2 i K (by omega) (Nat.le_refl _) (z.trans hK.symm)
      have cj := hW.2.1 (i + 1) (by omega)
      obtain ⟨hc, hE⟩ := hC i (by omega)
      have hw : (W (9 * c (i + 1) + c i)).toInt = cap (c (i + 1)) (c i) - m (c (i + 1)) (c i) := hS.1 _ _ cj ci
      have han := hok.1 _ _ cj ci
      -- with what can be sent here
      have go : ∀ h : Int32, 1 ≤ h.toInt → h.toInt ≤ cap (c (i + 1)) (c i) - m (c (i + 1)) (c i) → (dx_z (c (i + 1)) (c i) = false → m (c (i + 1)) (c i) < 0 → h.toInt ≤ - m (c (i + 1)) (c i)) →
          wX_narrowestOwed_114 post (wX_narrowestOwed_8 post g T P F pa pe am W O C L D H n) l (nI i) (nI (c (i + 1))) h g T P F pa pe am W O C L D H := by
        intro h q1 q2 q3
        refine dn_114 (fun l' r1 r2 r3 => ih (i + 1) (by omega) (by omega) l' (by rcases r3 with r3 | r3 <;> rw [r3] <;> omega) (by omega) (fun j hj => ?_))
        by_cases f : j = i
        · subst f
          exact ⟨by omega, fun y1 y2 => by have := q3 y1 y2; omega⟩
        · have r4 := l3 j (by omega)
          exact ⟨by omega, fun y1 y2 => by have := r4.2 y1 y2; omega⟩
      refine br_f (show ¬ nI (c i) = (7 : Int32) from ar_ne (b := 7) (by omega) (by omega) h3) ⟨vp_in_nI ci (by omega), nm_r (e' := nI (c (i + 1))) (by rw [ar_c (by omega), hc]) ⟨ar_in9 cj ci, nm_r (e' := W (9 * c (i + 1) + c i)) (by rw [ar_c9 cj ci]) ?_⟩⟩
      by_cases c1 : 7 ≤ c (i + 1)
      · refine br_t (show (7 : Int32) ≤ nI (c (i + 1)) from nI_le (a := 7) c1 (by omega)) ?_
        unfold wX_narrowestOwed_75 wX_narrowestOwed_76
        refine br_t rfl (go _ (by omega) (by omega) (fun y => ?_))
        rw [dx_zf] at y; omega
      · refine br_f (show ¬ (7 : Int32) ≤ nI (c (i + 1)) from nI_ge (b := 7) (by omega) (by omega)) ?_
        by_cases c2 : 7 ≤ c i
        · refine br_t (show (7 : Int32) ≤ nI (c i) from nI_le (a := 7) c2 (by omega)) ?_
          unfold wX_narrowestOwed_75 wX_narrowestOwed_76
          refine br_t rfl (go _ (by omega) (by omega) (fun y => ?_))
          rw [dx_zf] at y; omega
        · have ho : (O (9 * c i + c (i + 1))).toInt = ss_p (m (c i) (c (i + 1))) := hS.2 _ _ (by omega) (by omega)
          refine br_f (show ¬ (7 : Int32) ≤ nI (c i) from nI_ge (b := 7) (by omega) (by omega)) ⟨ar_in9 ci cj, ?_⟩
          rw [ar_c9 ci cj]
          by_cases c3 : O (9 * c i + c (i + 1)) ≤ 0
          · refine br_t c3 ?_
            rw [ar_np] at c3
            unfold wX_narrowestOwed_75 wX_narrowestOwed_76
            refine br_t rfl (go _ (by omega) (by omega) (fun _ y => ?_))
            unfold ss_p at ho
            rw [if_pos (by omega)] at ho
            omega
          · refine br_f c3 ?_
            rw [ar_np] at c3
            unfold wX_narrowestOwed_76
            rw [ar_c9 ci cj]
            have hp : 0 < m (c i) (c (i + 1)) := by
              unfold ss_p at ho
              by_cases q : 0 < m (c i) (c (i + 1))
              · exact q
              · rw [if_neg q] at ho; omega
            unfold ss_p at ho
            rw [if_pos hp] at ho
            refine br_f (by decide) ⟨ar_in9 ci cj, ?_⟩
            by_cases c4 : W (9 * c (i + 1) + c i) ≤ O (9 * c i + c (i + 1))
            · have c4' := ar_le.mp c4
              exact br_t c4 (go _ (by omega) (by omega) (fun _ _ => by omega))
            · have c4' : ¬ (W (9 * c (i + 1) + c i)).toInt ≤ (O (9 * c i + c (i + 1))).toInt := fun q => c4 (ar_le.mpr q)
              exact br_f c4 ⟨ar_in9 ci cj, nm_e (go _ (by omega) (by omega) (fun _ _ => by omega))⟩
theorem dn_owed {post : Int32 → SX → Prop} {lim : Int32} (hok : ss_ok 9 cap m) (hcb : ∀ u v, u < 9 → v < 9 → 0 ≤ cap u v ∧ cap u v ≤ 7000) (hS : dx_S cap m W O) (hO : dx_O cap m D C) (h8 : dx_V D 8 < 1000000) (hl : 1 ≤ lim.toInt ∧ lim.toInt ≤ 100000)
    (k : ∀ (a : Int32) (c : Nat → Nat) (K : Nat) W O, 1 ≤ a.toInt → a.toInt ≤ lim.toInt → bf_C 9 (ss_E cap m) (ss_w dx_z m) (fun x => x = 7) (dx_V D) (dx_V C) 1000000 8 c K → dn_R dx_z cap m c a.toInt K → dx_S cap (dn_m m a.toInt c K) W O → post a (g, T, P, F, pa, pe, am, W, O, C, L, D, H)) : wpX_narrowestOwed post (g, T, P, F, pa, pe, am, W, O, C, L, D, H) lim := by
  obtain ⟨c, K, hC⟩ := hO.2.2 8 (by omega) h8
  have hC' := hC
  obtain ⟨c0, hW, cI, cE, cp, cs, cd⟩ := hC
  have hcc : ∀ k, k < K → C (c k) = nI (c (k + 1)) := fun k hk => ar_ext (by
    have := hW.2.1 (k + 1) (by omega)
    rw [ar_nI (by omega)]
    exact (cE k hk).1)
  have h0 : nI (c 0) = 8 := by rw [c0]; rfl
  refine ⟨10, ?_⟩
  have := dn_8 (g := g) (T := T) (P := P) (F := F) (pa := pa) (pe := pe) (am := am) (L := L) (D := D) (H := H) (post := post) (lim := lim) hok hS hW cs (fun k hk => ⟨hcc k hk, (cE k hk).2.1⟩) (fun l l1 l2 l3 => ⟨10, by
    have q := dn_142 (g := g) (T := T) (P := P) (F := F) (pa := pa) (pe := pe) (am := am) (L := L) (D := D) (H := H) (post := post) (a := l) hok hcb hW cs hcc (by omega) l3 (fun W' O' hS' => k l c K W' O' l1 l2 hC' l3 hS') 10 0 (by omega) (by omega) W O ⟨fun u v hu hv => by
      rw [hS.1 u v hu hv]
      show _ = cap u v - (m u v + l.toInt * 0)
      omega, fun u v hu hv => by
      rw [hS.2 u v hu hv]
      show _ = ss_p (m u v + l.toInt * 0)
      rw [Int.mul_zero, Int.add_zero]⟩
    rw [h0] at q
    exact q⟩) 10 0 (by omega) (by omega) lim hl.1 (Int.le_refl _) (fun j hj => absurd hj (Nat.not_lt_zero _))
  rw [h0] at this
  exact this
end
end
section
/-! debts, the component: the whole -/
def dy_cap (T : Nat → Int32) (u v : Nat) : Int := ar_7c T v u
def dx_cap (T P : Nat → Int32) (u v : Nat) : Int := if u = 7 ∧ v < 7 then ss_p (- (P v).toInt) else if v = 8 ∧ u < 7 then ss_p (P u).toInt else if u < 7 ∧ v < 7 then ar_7c T v u else 0
theorem dx_c7 (T P : Nat → Int32) {v : Nat} (hv : v < 7) : dx_cap T P 7 v = ss_p (- (P v).toInt) := if_pos ⟨rfl, hv⟩
theorem dx_c8 (T P : Nat → Int32) {u : Nat} (hu : u < 7) : dx_cap T P u 8 = ss_p (P u).toInt := by
  unfold dx_cap
  rw [if_neg (by omega), if_pos ⟨rfl, hu⟩]
theorem dx_cm (T P : Nat → Int32) {u v : Nat} (hu : u < 7) (hv : v < 7) : dx_cap T P u v = ar_7c T v u := by
  unfold dx_cap
  rw [if_neg (by omega), if_neg (by omega), if_pos ⟨hu, hv⟩]
theorem dx_cz (T P : Nat → Int32) {u v : Nat} (h1 : ¬ (u = 7 ∧ v < 7)) (h2 : ¬ (v = 8 ∧ u < 7)) (h3 : ¬ (u < 7 ∧ v < 7)) : dx_cap T P u v = 0 := by
  unfold dx_cap
  rw [if_neg h1, if_neg h2, if_neg h3]
theorem ss_pb (x : Int) : 0 ≤ ss_p x ∧ x ≤ ss_p x ∧ (ss_p x = 0 ∨ ss_p x = x) := by
  unfold ss_p
  split <;> omega
theorem dx_cb {T P : Nat → Int32} (hT : rl_T T) (hPb : ∀ u, u < 7 → -7000 ≤ (P u).toInt ∧ (P u).toInt ≤ 7000) : ∀ u v, u < 9 → v < 9 → 0 ≤ dx_cap T P u v ∧ dx_cap T P u v ≤ 7000 := by
  intro u v hu hv
  by_cases h1 : u = 7 ∧ v < 7
  · rw [h1.1, dx_c7 T P h1.2]
    have := hPb v h1.2
    have := ss_pb (- (P v).toInt)
    omega
  · by_cases h2 : v = 8 ∧ u < 7
    · rw [h2.1, dx_c8 T P h2.2]
      have := hPb u h2.2
      have := ss_pb (P u).toInt
      omega
    · by_cases h3 : u < 7 ∧ v < 7
      · rw [dx_cm T P h3.1 h3.2]
        have := hT.1 v u h3.2 h3.1
        omega
      · rw [dx_cz T P h1 h2 h3]; omega
theorem dx_c0 {T P : Nat → Int32} (hT : rl_T T) : ∀ u, u < 9 → dx_cap T P u u = 0 := by
  intro u hu
  by_cases h : u < 7
  · rw [dx_cm T P h h]; exact hT.2 u h
  · exact dx_cz T P (by omega) (by omega) (by omega)
/-- flows with the same sources, one of them at a standstill: it has the positions -/
theorem fe_done {N : Nat} {cap m y : Nat → Nat → Int} {p : Nat → Int} {R : Nat → Prop} (hm : ss_ok N cap m) (hy : ss_ok N cap y) (hp : ∀ v, v < N → zz_s N (fun u => y u v) = p v) (hR : ∀ u v, u < N → v < N → R u → m u v < cap u v → R v)
    (h1 : ∀ v, v < N → ¬ R v → zz_s N (fun u => m u v) ≤ p v) (h2 : ∀ v, v < N → R v → p v ≤ zz_s N (fun u => m u v)) : ∀ v, v < N → zz_s N (fun u => m u v) = p v := by
  have hex : ∃ x : Nat → Int, ∀ v, (R v ∧ x v = 0) ∨ (¬ R v ∧ x v = 1) := by
    refine ⟨fun v => @ite _ (R v) (Classical.propDecidable _) 0 1, fun v => ?_⟩
    by_cases c : R v
    · exact Or.inl ⟨c, if_pos c⟩
    · exact Or.inr ⟨c, if_neg c⟩
  obtain ⟨x, hx⟩ := hex
  have x01 : ct_01 N x := fun i _ => by
    rcases hx i with ⟨_, e⟩ | ⟨_, e⟩
    · exact Or.inl e
    · exact Or.inr e
  have e1 := ct_div (n := N) (x := x) hm.1
  have e2 := ct_div (n := N) (x := x) hy.1
  have e3 : ct_c N x y ≤ ct_c N x m := ct_mono x01 (fun u v hu hv xu xv => by
    have q1 := hy.2 u v hu hv
    have q2 := hm.2 u v hu hv
    have ru : R u := by rcases hx u with ⟨a, _⟩ | ⟨_, e⟩
                        · exact a
                        · rw [xu] at e; omega
    have rv : ¬ R v := by rcases hx v with ⟨_, e⟩ | ⟨a, _⟩
                          · rw [xv] at e; omega
                          · exact a
    by_cases z : m u v < cap u v
    · exact absurd (hR u v hu hv ru z) rv
    · omega)
  have e4 : zz_s N (fun v => x v * zz_s N (fun u => y u v)) = zz_s N (fun v => x v * p v) := zz_congr (fun v hv => by
    show x v * zz_s N (fun u => y u v) = x v * p v
    rw [hp v hv])
  have e5 := zz_eqs (n := N) (f := fun v => x v * zz_s N (fun u => m u v)) (g := fun v => x v * p v) (fun v hv => by
    show x v * zz_s N (fun u => m u v) ≤ x v * p v
    rcases hx v with ⟨_, e⟩ | ⟨a, e⟩
    · rw [e]; omega
    · rw [e]; have := h1 v hv a; omega) (by omega)
  have e6 : ∀ v, v < N → p v ≤ zz_s N (fun u => m u v) := fun v hv => by
    rcases hx v with ⟨a, _⟩ | ⟨a, e⟩
    · exact h2 v hv a
    · have q : x v * zz_s N (fun u => m u v) = x v * p v := e5 v hv
      rw [e] at q
      omega
  have s1 : zz_s N (fun v => zz_s N (fun u => m u v)) = 0 := zz_anti (f := fun v u => m u v) (fun u v hu hv => hm.1 v u hv hu)
  have s2 : zz_s N (fun v => zz_s N (fun u => y u v)) = 0 := zz_anti (f := fun v u => y u v) (fun u v hu hv => hy.1 v u hv hu)
  have s3 : zz_s N p = zz_s N (fun v => zz_s N (fun u => y u v)) := zz_congr (fun v hv => (hp v hv).symm)
  have e7 := zz_eqs (n := N) (f := p) (g := fun v => zz_s N (fun u => m u v)) e6 (by omega)
  intro v hv
  exact (e7 v hv).symm
/-- the least cost for the positions -/
def dy_opt (T P : Nat → Int32) (r : Int) : Prop := ∃ m : Nat → Nat → Int, ss_ok 7 (dy_cap T) m ∧ (∃ φ, ss_F 7 (dy_cap T) (fun _ _ => false) m φ) ∧ (∀ v, v < 7 → zz_s 7 (fun u => m u v) = (P v).toInt) ∧ r = ss_cost 7 m
theorem dy_uniq {T P : Nat → Int32} {r r' : Int} (h : dy_opt T P r) (h' : dy_opt T P r') : r = r' := by
  obtain ⟨m, m1, ⟨φ, m2⟩, m3, m4⟩ := h
  obtain ⟨y, y1, ⟨ψ, y2⟩, y3, y4⟩ := h'
  have a := ss_opt m1 y1 m2 (fun v hv => (m3 v hv).trans (y3 v hv).symm)
  have b := ss_opt y1 m1 y2 (fun v hv => (y3 v hv).trans (m3 v hv).symm)
  omega
theorem dy_feas {T P F : Nat → Int32} (hT : rl_T T) (hF : rl_F T F) : ss_ok 7 (dy_cap T) (fun u v => ar_7c T v u - ar_9c F u v) := by
  refine ⟨rl_anti hF, fun u v hu hv => ?_⟩
  have := (hF.1 u v hu hv).1
  show ar_7c T v u - ar_9c F u v ≤ ar_7c T v u
  omega
theorem ss_costb {T : Nat → Int32} {m : Nat → Nat → Int} (hT : rl_T T) (hm : ∀ u v, u < 7 → v < 7 → m u v ≤ ar_7c T v u) : 0 ≤ ss_cost 7 m ∧ ss_cost 7 m ≤ 49000 := by
  have h1 : ∀ u v, u < 7 → v < 7 → 0 ≤ ss_p (m u v) ∧ ss_p (m u v) ≤ 1000 := fun u v hu hv => by
    have := hm u v hu hv
    have := hT.1 v u hv hu
    have := ss_pb (m u v)
    omega
  have h2 : ss_cost 7 m ≤ zz_s 7 (fun _ => zz_s 7 (fun _ => 1000)) := zz_le (fun u hu => zz_le (fun v hv => (h1 u v hu hv).2))
  have h3 : zz_s 7 (fun _ => zz_s 7 (fun _ => (1000 : Int))) = 49000 := by decide
  have h4 : 0 ≤ ss_cost 7 m := zz_nn (fun u hu => zz_nn (fun v hv => (h1 u v hu hv).1))
  omega
def dd_div (m : Nat → Nat → Int) (q : Int) : Prop := ∀ x, x < 9 → zz_s 9 (fun u => m u x) = (if x = 8 then q else 0) - (if x = 7 then q else 0)
/-- when nothing is left to send, or nothing can be sent, the flow has the positions -/
theorem dd_fin {T P F D C : Nat → Int32} {m : Nat → Nat → Int} {q : Int} (hT : rl_T T) (hF : rl_F T F) (hP : rl_P T P F) (hok : ss_ok 9 (dx_cap T P) m) (hφ : ∃ φ, ss_F 9 (dx_cap T P) dx_z m φ) (hd : dd_div m q)
    (hend : zz_s 7 (fun v => ss_p (P v).toInt) ≤ q ∨ (dx_O (dx_cap T P) m D C ∧ ¬ dx_V D 8 < 1000000)) : dy_opt T P (ss_cost 7 m) := by
  have ok7 : ss_ok 7 (dy_cap T) m := ⟨fun u v hu hv => hok.1 u v (by omega) (by omega), fun u v hu hv => by
    have := hok.2 u v (by omega) (by omega)
    rw [dx_cm T P hu hv] at this
    exact this⟩
  have F7 : ∃ φ, ss_F 7 (dy_cap T) (fun _ _ => false) m φ := by
    obtain ⟨φ, h⟩ := hφ
    refine ⟨φ, fun u v hu hv he => ?_⟩
    have q1 := h u v (by omega) (by omega) (by rw [dx_cm T P hu hv]; exact he)
    have q2 : dx_z u v = false := dx_zf.mpr ⟨hu, hv⟩
    unfold ss_w at q1 ⊢
    rw [q2] at q1
    exact q1
  -- what the members have
  have re : ∀ v, v < 7 → zz_s 7 (fun u => m u v) = m v 8 - m 7 v := fun v hv => by
    have e := hd v (by omega)
    have e2 : zz_s 9 (fun u => m u v) = zz_s 7 (fun u => m u v) + m 7 v + m 8 v := rfl
    rw [if_neg (by omega), if_neg (by omega)] at e
    have := hok.1 8 v (by omega) (by omega)
    omega
  have ps : ∀ v, (P v).toInt = ss_p (P v).toInt - ss_p (- (P v).toInt) := fun v => by unfold ss_p; split <;> split <;> omega
  have m7 : ∀ v, v < 7 → m 7 v ≤ ss_p (- (P v).toInt) := fun v hv => by
    have := hok.2 7 v (by omega) (by omega)
    rw [dx_c7 T P hv] at this
    exact this
  have m8 : ∀ v, v < 7 → m v 8 ≤ ss_p (P v).toInt := fun v hv => by
    have := hok.2 v 8 (by omega) (by omega)
    rw [dx_c8 T P hv] at this
    exact this
  have m78 : m 7 8 = 0 ∧ m 7 7 = 0 ∧ m 8 8 = 0 := by
    have a1 := hok.2 7 8 (by omega) (by omega)
    have a2 := hok.2 8 7 (by omega) (by omega)
    have a3 := hok.1 7 8 (by omega) (by omega)
    have a4 := hok.1 7 7 (by omega) (by omega)
    have a5 := hok.1 8 8 (by omega) (by omega)
    rw [dx_cz T P (by omega) (by omega) (by omega)] at a1 a2
    omega
  refine ⟨m, ok7, F7, ?_, rfl⟩
  rcases hend with hq | ⟨hO, h8⟩
  · -- all was sent
    have hp0 : zz_s 7 (fun v => (P v).toInt) = 0 := by
      have e : zz_s 7 (fun v => (P v).toInt) = zz_s 7 (fun v => zz_s 7 (fun u => ar_7c T v u - ar_9c F u v)) := zz_congr (fun v hv => hP v hv)
      rw [e]
      exact zz_anti (f := fun v u => ar_7c T v u - ar_9c F u v) (fun u v hu hv => rl_anti hF v u hv hu)
    have hpm : zz_s 7 (fun v => ss_p (P v).toInt) = zz_s 7 (fun v => ss_p (- (P v).toInt)) := by
      have e : zz_s 7 (fun v => (P v).toInt) = zz_s 7 (fun v => ss_p (P v).toInt - ss_p (- (P v).toInt)) := zz_congr (fun v _ => ps v)
      rw [zz_sub] at e
      omega
    have s8 := hd 8 (by omega)
    have s8' : zz_s 9 (fun u => m u 8) = zz_s 7 (fun u => m u 8) + m 7 8 + m 8 8 := rfl
    rw [if_pos rfl, if_neg (by omega)] at s8
    have e8 := zz_eqs (n := 7) (f := fun v => m v 8) (g := fun v => ss_p (P v).toInt) m8 (by omega)
    have s7 := hd 7 (by omega)
    have s7' : zz_s 9 (fun u => m u 7) = zz_s 7 (fun u => m u 7) + m 7 7 + m 8 7 := rfl
    have s7n : zz_s 7 (fun u => m u 7) = - zz_s 7 (fun u => m 7 u) := by
      rw [← zz_neg]
      exact zz_congr (fun u hu => hok.1 u 7 (by omega) (by omega))
    have a87 := hok.1 8 7 (by omega) (by omega)
    rw [if_neg (by omega), if_pos rfl] at s7
    have e7 := zz_eqs (n := 7) (f := fun v => m 7 v) (g := fun v => ss_p (- (P v).toInt)) m7 (by omega)
    intro v hv
    have q1 : m v 8 = ss_p (P v).toInt := e8 v hv
    have q2 : m 7 v = ss_p (- (P v).toInt) := e7 v hv
    rw [re v hv, ps v]; omega
  · -- the sink is not reached
    have hR : ∀ u v, u < 9 → v < 9 → dx_V D u < 1000000 → m u v < dx_cap T P u v → dx_V D v < 1000000 := fun u v hu hv h1 h2 => by
      have a1 := hO.1 u v hu hv h2 h1
      have a2 := (hO.2.1 u hu).1 h1
      have a3 := ss_w_b dx_z m u v
      omega
    have h7 : dx_V D 7 < 1000000 := by
      have := (hO.2.1 7 (by omega)).2.1 rfl
      omega
    refine fe_done (cap := dy_cap T) (p := fun v => (P v).toInt) (R := fun v => dx_V D v < 1000000) ok7 (dy_feas (P := P) hT hF) (fun v hv => (hP v hv).symm) (fun u v hu hv h1 h2 => hR u v (by omega) (by omega) h1 (by rw [dx_cm T P hu hv]; exact h2)) (fun v hv hn => ?_) (fun v hv hy => ?_)
    · show zz_s 7 (fun u => m u v) ≤ (P v).toInt
      rw [re v hv, ps v]
      have a1 := m8 v hv
      have a2 := m7 v hv
      by_cases z : m 7 v < ss_p (- (P v).toInt)
      · exact absurd (hR 7 v (by omega) (by omega) h7 (by rw [dx_c7 T P hv]; exact z)) hn
      · omega
    · show (P v).toInt ≤ zz_s 7 (fun u => m u v)
      rw [re v hv, ps v]
      have a1 := m8 v hv
      have a2 := m7 v hv
      by_cases z : m v 8 < ss_p (P v).toInt
      · exact absurd (hR v 8 (by omega) (by omega) hy (by rw [dx_c8 T P hv]; exact z)) h8
      · omega
end
section
/-! debts, the component: the walk -/
def dd_E (cap m : Nat → Nat → Int) (due q : Int) (D C : Nat → Int32) : Prop := due ≤ q ∨ (dx_O cap m D C ∧ ¬ dx_V D 8 < 1000000)
def dd_J (cap m : Nat → Nat → Int) (due q : Int) (i : Nat) (paid way : Int32) (W O D C : Nat → Int32) : Prop :=
  ss_ok 9 cap m ∧ (∃ φ, ss_F 9 cap dx_z m φ) ∧ dx_S cap m W O ∧ dd_div m q ∧ paid.toInt = ss_cost 7 m ∧ (i : Int) ≤ q ∧ q ≤ due ∧ ((way = 0 ∧ dd_E cap m due q D C) ∨ (way = 1 ∧ q < due ∧ dx_O cap m D C ∧ dx_V D 8 < 1000000))
section
variable {g : Int32} {T P F pa pe am W O C L D H : Nat → Int32}
theorem dd_197 {post : Int32 → SX → Prop} {due : Int32} (hT : rl_T T) (hPb : ∀ u, u < 7 → -7000 ≤ (P u).toInt ∧ (P u).toInt ≤ 7000) (hdue : due.toInt ≤ 49000)
    (k : ∀ (r : Int32) W O C D m q, ss_ok 9 (dx_cap T P) m → (∃ φ, ss_F 9 (dx_cap T P) dx_z m φ) → dd_div m q → r.toInt = ss_cost 7 m → dd_E (dx_cap T P) m due.toInt q D C → post r (g, T, P, F, pa, pe, am, W, O, C, L, D, H)) :
    ∀ (n i : Nat), 100000 < n + i → ∀ (m : Nat → Nat → Int) (paid sent way : Int32) W O C D, dd_J (dx_cap T P) m due.toInt sent.toInt i paid way W O D C → wX_debts_197 post due n paid sent way (nI i) g T P F pa pe am W O C L D H := by
  have hcb := dx_cb hT hPb
  have hc0 := dx_c0 (P := P) hT
  intro n
  induction n with
  | zero =>
    intro i h1 m paid sent way W O C D hJ
    have := hJ.2.2.2.2.2.1
    have := hJ.2.2.2.2.2.2.1
    omega
  | succ n ih =>
    intro i h1 m paid sent way W O C D hJ
    obtain ⟨hok, hφ, hS, hdv, hpd, hi, hq, hway⟩ := hJ
    rw [wX_debts_197]
    refine br_f (show ¬ (100000 : Int32) ≤ nI i from nI_ge (b := 100000) (by omega) (by omega)) ?_
    rcases hway with ⟨e, hE⟩ | ⟨e, hql, hO, h8⟩
    · subst e
      exact br_t rfl (k paid W O C D m sent.toInt hok hφ hdv hpd hE)
    · subst e
      have hm7 : ∀ {m : Nat → Nat → Int}, ss_ok 9 (dx_cap T P) m → ∀ u v, u < 7 → v < 7 → m u v ≤ ar_7c T v u := fun h u v hu hv => by
        have := h.2 u v (by omega) (by omega)
        rw [dx_cm T P hu hv] at this
        exact this
      have es : (due - sent).toInt = due.toInt - sent.toInt := ar_sub (by omega) (by omega)
      refine br_f (by decide) (dn_owed hok hcb hS hO h8 (by omega) (fun a c K W' O' a1 a2 hC hR hS' => ?_))
      dsimp only
      have hC' := hC
      obtain ⟨c0, hW, cI, cE, cp, cs, cd⟩ := hC
      obtain ⟨φ, hF⟩ := hφ
      obtain ⟨hok', hφ'⟩ := ss_step hok dx_zs hF hO (by omega) hC' (by omega) (fun k hk => (hR k hk).1) (fun k hk => (hR k hk).2) (fun u v _ _ => (rfl : dn_m m a.toInt c K u v = _))
      have hcost := dn_cost (d := dx_V D) hok hW (fun k hk => (cE k hk).2.2) (by omega) hR K (Nat.le_refl _)
      rw [cd, Int.sub_zero, c0] at hcost
      have hb1 := ss_costb hT (hm7 hok)
      have hb2 := ss_costb hT (hm7 hok')
      have hb3 : ss_cost 7 (dn_m m a.toInt c K) = ss_cost 7 m + a.toInt * dx_V D 8 := hcost
      have em : (D 8 * a).toInt = a.toInt * dx_V D 8 := by
        have q : (D 8).toInt * a.toInt = a.toInt * dx_V D 8 := Int.mul_comm _ _
        rw [ar_mul (by rw [q]; omega) (by rw [q]; omega), q]
      have ep : (paid + D 8 * a).toInt = ss_cost 7 (dn_m m a.toInt c K) := by
        rw [ar_add (by omega) (by omega), em, hpd, hb3]
      have ese : (sent + a).toInt = sent.toInt + a.toInt := ar_add (by omega) (by omega)
      have hdv' : dd_div (dn_m m a.toInt c K) (sent + a).toInt := by
        intro x hx
        have e1 : zz_s 9 (fun u => dn_m m a.toInt c K u x) = zz_s 9 (fun u => m u x) + a.toInt * zz_s 9 (fun u => ph_g c K u x) := by
          rw [← zz_mul, ← zz_add]; rfl
        have cs' : c K = 7 := cs
        rw [e1, hdv x hx, ph_g_div hW.2.1, c0, cs', ese]
        by_cases q1 : x = 8
        · have q2 : ¬ x = 7 := by omega
          rw [if_pos q1, if_neg q2, if_pos q1, if_neg q2, if_pos q1, if_neg q2]; omega
        · by_cases q2 : x = 7
          · rw [if_neg q1, if_pos q2, if_neg q1, if_pos q2, if_neg q1, if_pos q2]; omega
          · rw [if_neg q1, if_neg q2, if_neg q1, if_neg q2, if_neg q1, if_neg q2]; omega
      refine nm_e (nm_e ?_)
      by_cases z : due ≤ sent + a
      · have z' := ar_le.mp z
        exact br_t z (nm_r (nI_1 i) (ih (i + 1) (by omega) (dn_m m a.toInt c K) _ _ 0 W' O' C D ⟨hok', hφ', hS', hdv', ep, by omega, by omega, Or.inl ⟨rfl, Or.inl z'⟩⟩))
      · have z' : ¬ due.toInt ≤ (sent + a).toInt := fun y => z (ar_le.mpr y)
        have hφ2 := hφ'
        obtain ⟨ψ, hψ⟩ := hφ'
        refine br_f z (dc_find hok' hc0 hψ hS' (fun r D' C' hO' hr => ?_))
        dsimp only
        rcases hr with ⟨r0, hr⟩ | ⟨r1, hr⟩
        · exact br_t r0 (nm_r (nI_1 i) (ih (i + 1) (by omega) (dn_m m a.toInt c K) _ _ 0 W' O' C' D' ⟨hok', hφ2, hS', hdv', ep, by omega, by omega, Or.inl ⟨rfl, Or.inr ⟨hO', hr⟩⟩⟩))
        · exact br_f (by rw [r1]; decide) (nm_r (nI_1 i) (ih (i + 1) (by omega) (dn_m m a.toInt c K) _ _ 1 W' O' C' D' ⟨hok', hφ2, hS', hdv', ep, by omega, by omega, Or.inr ⟨rfl, by omega, hO', hr⟩⟩))
/-- the cells that are set already -/
def dd_W (cap : Nat → Nat → Int) (a i j : Nat) (W : Nat → Int32) : Prop :=
  ∀ u v, u < 9 → v < 9 → ar_9c W u v = if (u = 7 ∧ v < a) ∨ (v = 8 ∧ u < a) ∨ (v < 7 ∧ u < 7 ∧ (u < i ∨ (u = i ∧ v < j))) then cap u v else 0
theorem dd_set {cap : Nat → Nat → Int} {a i j a' i' j' p q : Nat} {W : Nat → Int32} {y : Int32} (h : dd_W cap a i j W) (hq : q < 9) (hy : y.toInt = cap p q)
    (hs : ∀ u v, u < 9 → v < 9 → (((u = 7 ∧ v < a') ∨ (v = 8 ∧ u < a') ∨ (v < 7 ∧ u < 7 ∧ (u < i' ∨ (u = i' ∧ v < j')))) ↔ ((u = p ∧ v = q) ∨ ((u = 7 ∧ v < a) ∨ (v = 8 ∧ u < a) ∨ (v < 7 ∧ u < 7 ∧ (u < i ∨ (u = i ∧ v < j))))))) :
    dd_W cap a' i' j' (upd W (9 * p + q) y) := by
  intro u v hu hv
  rw [ar_u9 hq hv]
  by_cases c : u = p ∧ v = q
  · rw [if_pos c, if_pos ((hs u v hu hv).mpr (Or.inl c)), hy, c.1, c.2]
  · rw [if_neg c, h u v hu hv]
    by_cases c2 : (u = 7 ∧ v < a) ∨ (v = 8 ∧ u < a) ∨ (v < 7 ∧ u < 7 ∧ (u < i ∨ (u = i ∧ v < j)))
    · rw [if_pos c2, if_pos ((hs u v hu hv).mpr (Or.inr c2))]
    · rw [if_neg c2, if_neg (fun z => by rcases (hs u v hu hv).mp z with z | z
                                         · exact c z
                                         · exact c2 z)]
theorem dd_122 {post : Int32 → SX → Prop} {J : TJ_2} {x1 : Int32} {i : Nat} (hi : i < 7) (hT : rl_T T) (k : ∀ W, dd_W (dx_cap T P) (i + 1) (i + 1) 0 W → J x1 (nI (i + 1)) T P F pa pe am W O C L D H) :
    ∀ (n j : Nat), 7 < n + j → j ≤ 7 → ∀ W, dd_W (dx_cap T P) (i + 1) i j W → wX_debts_122 post J x1 (nI i) g n (nI j) T P F pa pe am W O C L D H := by
  intro n
  induction n with
  | zero => intro j h1 h2; omega
  | succ n ih =>
    intro j h1 h2 W hW
    rw [wX_debts_122]
    by_cases e : j = 7
    · subst e
      refine br_t (show (7 : Int32) ≤ nI 7 from by decide) (nm_r (nI_1 i) (k W (fun u v hu hv => ?_)))
      rw [hW u v hu hv]
      by_cases c2 : (u = 7 ∧ v < i + 1) ∨ (v = 8 ∧ u < i + 1) ∨ (v < 7 ∧ u < 7 ∧ (u < i ∨ (u = i ∧ v < 7)))
      · rw [if_pos c2, if_pos (by omega)]
      · rw [if_neg c2, if_neg (by omega)]
    · have up : ∀ y : Int32, y.toInt = dx_cap T P i j → dd_W (dx_cap T P) (i + 1) i (j + 1) (upd W (9 * i + j) y) := fun y hy => dd_set hW (by omega) hy (fun u v hu hv => by omega)
      have hc : (9 : Int32) * nI i + nI j = nI (9 * i + j) := ar_9 i j
      refine br_f (show ¬ (7 : Int32) ≤ nI j from nI_ge (b := 7) (by omega) (by omega)) ?_
      rw [ar_c9 (u := i) (v := j) (by omega) (by omega), ar_c7 (u := j) (v := i) (by omega) (by omega)]
      by_cases c : i = j
      · refine br_t (by rw [c]) ⟨ar_in9 (by omega) (by omega), nm_e (nm_r (nI_1 j) (ih (j + 1) (by omega) (by omega) _ (up 0 ?_)))⟩
        rw [dx_cm T P (by omega) (by omega), ← c, hT.2 i (by omega)]; exact ar_0
      · refine br_f (ar_ne (by omega) (by omega) c) ⟨ar_in7 (by omega) (by omega), ar_in9 (by omega) (by omega), nm_e (nm_r (nI_1 j) (ih (j + 1) (by omega) (by omega) _ (up (T (7 * j + i)) ?_)))⟩
        rw [dx_cm T P (by omega) (by omega)]; rfl
theorem dd_97 {post : Int32 → SX → Prop} {J : TJ_2} {x1 z0 : Int32} {i : Nat} (hi : i < 7) (hT : rl_T T) (hPb : ∀ u, u < 7 → -7000 ≤ (P u).toInt ∧ (P u).toInt ≤ 7000) (hx : 0 ≤ x1.toInt ∧ x1.toInt ≤ 100000)
    (hW : dd_W (dx_cap T P) (i + 1) i 0 (upd W (9 * i + 8) z0))
    (k : ∀ (x : Int32) W, x.toInt = x1.toInt + ss_p (P i).toInt → dd_W (dx_cap T P) (i + 1) (i + 1) 0 W → J x (nI (i + 1)) T P F pa pe am W O C L D H) : wX_debts_97 post J x1 (nI i) z0 ((9 : Int32) * nI i + 8) g T P F pa pe am W O C L D H := by
  have e9 : (9 : Int32) * nI i + 8 = nI (9 * i + 8) := ar_9 i 8
  have vi : vp_in (nI i) 7 := vp_in_nI (by omega) (by omega)
  have hh := hPb i hi
  unfold wX_debts_97
  rw [e9, nI_clamp (n := 9 * i + 8) (by omega), ar_c (n := i) (by omega)]
  refine ⟨vp_in_nI (by omega) (by omega), nm_e ⟨vi, ?_⟩⟩
  by_cases z : P i ≤ 0
  · refine br_t z (nm_e ⟨8, dd_122 hi hT (fun W' hW' => k _ W' ?_ hW') 8 0 (by omega) (by omega) _ hW⟩)
    rw [ar_np] at z
    rw [Int32.add_zero]
    unfold ss_p
    rw [if_neg (by omega)]; omega
  · refine br_f z ⟨vi, nm_e ⟨8, dd_122 hi hT (fun W' hW' => k _ W' ?_ hW') 8 0 (by omega) (by omega) _ hW⟩⟩
    rw [ar_np] at z
    rw [ar_add (by omega) (by omega)]
    unfold ss_p
    rw [if_pos (by omega)]
theorem dd_66 {post : Int32 → SX → Prop} {J : TJ_2} {x1 z0 : Int32} {i : Nat} (hi : i < 7) (hT : rl_T T) (hPb : ∀ u, u < 7 → -7000 ≤ (P u).toInt ∧ (P u).toInt ≤ 7000) (hx : 0 ≤ x1.toInt ∧ x1.toInt ≤ 100000)
    (hW : dd_W (dx_cap T P) i i 0 W) (hz : z0.toInt = ss_p (- (P i).toInt))
    (k : ∀ (x : Int32) W, x.toInt = x1.toInt + ss_p (P i).toInt → dd_W (dx_cap T P) (i + 1) (i + 1) 0 W → J x (nI (i + 1)) T P F pa pe am W O C L D H) : wX_debts_66 post J x1 (nI i) z0 ((63 : Int32) + nI i) g T P F pa pe am W O C L D H := by
  have e9 : (63 : Int32) + nI i = nI (63 + i) := nI_add 63 i
  have vi : vp_in (nI i) 7 := vp_in_nI (by omega) (by omega)
  have hh := hPb i hi
  have up : ∀ y : Int32, y.toInt = ss_p (P i).toInt → dd_W (dx_cap T P) (i + 1) i 0 (upd (upd W (63 + i) z0) (9 * i + 8) y) := fun y hy u v hu hv => by
    rw [show 63 + i = 9 * 7 + i by omega, ar_u9 (by omega) hv, ar_u9 (by omega) hv, hW u v hu hv]
    by_cases c1 : u = i ∧ v = 8
    · rw [if_pos c1, if_pos (by omega), c1.1, c1.2, dx_c8 T P hi, hy]
    · rw [if_neg c1]
      by_cases c2 : u = 7 ∧ v = i
      · rw [if_pos c2, if_pos (by omega), c2.1, c2.2, dx_c7 T P hi, hz]
      · rw [if_neg c2]
        by_cases c3 : (u = 7 ∧ v < i) ∨ (v = 8 ∧ u < i) ∨ (v < 7 ∧ u < 7 ∧ (u < i ∨ (u = i ∧ v < 0)))
        · rw [if_pos c3, if_pos (by omega)]
        · rw [if_neg c3, if_neg (by omega)]
  unfold wX_debts_66
  rw [e9, nI_clamp (n := 63 + i) (by omega), ar_c (n := i) (by omega)]
  refine ⟨vp_in_nI (by omega) (by omega), nm_e ⟨vi, ?_⟩⟩
  by_cases z : P i ≤ 0
  · refine br_t z (dd_97 hi hT hPb hx (up 0 ?_) k)
    rw [ar_np] at z
    unfold ss_p
    rw [if_neg (by omega)]; exact ar_0
  · refine br_f z ⟨vi, dd_97 hi hT hPb hx (up (P i) ?_) k⟩
    rw [ar_np] at z
    unfold ss_p
    rw [if_pos (by omega)]
theorem dd_32 {post : Int32 → SX → Prop} (hT : rl_T T) (hPb : ∀ u, u < 7 → -7000 ≤ (P u).toInt ∧ (P u).toInt ≤ 7000) (hO : ∀ u v, u < 9 → v < 9 → ar_9c O u v = 0) (hF : rl_F T F) (hP : rl_P T P F)
    (k : ∀ (r : Int32) W O C D, dy_opt T P r.toInt → post r (g, T, P, F, pa, pe, am, W, O, C, L, D, H)) :
    ∀ (n i : Nat), 7 < n + i → i ≤ 7 → ∀ (x : Int32) W, dd_W (dx_cap T P) i i 0 W → x.toInt = zz_s i (fun v => ss_p (P v).toInt) → wX_debts_32 post g n x (nI i) T P F pa pe am W O C L D H := by
  intro n
  induction n with
  | zero => intro i h1 h2; omega
  | succ n ih =>
    intro i h1 h2 x W hW hx
    have hx0 : 0 ≤ x.toInt ∧ x.toInt ≤ 7000 * (i : Int) := by
      rw [hx]
      have h0 := rl_sumb (n := i) (B := 7000) (f := fun v => ss_p (P v).toInt) (fun j hj => by have := hPb j (by omega); have := ss_pb (P j).toInt; omega)
      have h3 : 0 ≤ zz_s i (fun v => ss_p (P v).toInt) := zz_nn (fun j _ => (ss_pb _).1)
      exact ⟨h3, h0.2⟩
    rw [wX_debts_32]
    by_cases e : i = 7
    · subst e
      refine br_t (show (7 : Int32) ≤ nI 7 from by decide) ?_
      have hcap := dx_cb hT hPb
      have hok : ss_ok 9 (dx_cap T P) (fun _ _ => 0) := ⟨fun _ _ _ _ => rfl, fun u v hu hv => (hcap u v hu hv).1⟩
      have hφ : ss_F 9 (dx_cap T P) dx_z (fun _ _ => 0) (fun _ => 0) := fun u v _ _ _ => by
        show (0 : Int) - 0 ≤ ss_w dx_z (fun _ _ => 0) u v
        unfold ss_w
        split
        · omega
        · show (0 : Int) - 0 ≤ if (0 : Int) < 0 then -1 else 1
          decide
      have hS : dx_S (dx_cap T P) (fun _ _ => 0) W O := by
        refine ⟨fun u v hu hv => ?_, fun u v hu hv => hO u v (by omega) (by omega)⟩
        rw [hW u v hu hv]
        show _ = dx_cap T P u v - 0
        by_cases c3 : (u = 7 ∧ v < 7) ∨ (v = 8 ∧ u < 7) ∨ (v < 7 ∧ u < 7 ∧ (u < 7 ∨ (u = 7 ∧ v < 0)))
        · rw [if_pos c3]; omega
        · rw [if_neg c3, dx_cz T P (by omega) (by omega) (by omega)]; omega
      have hdv : dd_div (fun _ _ => 0) 0 := fun x _ => by
        rw [zz_z0]
        split <;> split <;> rfl
      have hcs : ss_cost 7 (fun _ _ => 0) = 0 := by decide
      have go : ∀ (way : Int32) C D, ((way = 0 ∧ dd_E (dx_cap T P) (fun _ _ => 0) x.toInt 0 D C) ∨ (way = 1 ∧ 0 < x.toInt ∧ dx_O (dx_cap T P) (fun _ _ => 0) D C ∧ dx_V D 8 < 1000000)) → ∃ n, wX_debts_197 post x n 0 0 way 0 g T P F pa pe am W O C L D H := by
        intro way C D hw
        refine ⟨100001, dd_197 hT hPb (by omega) (fun r W' O' C' D' m q a1 a2 a3 a4 a5 => k r W' O' C' D' ?_) 100001 0 (by omega) (fun _ _ => 0) 0 0 way W O C D ⟨hok, ⟨_, hφ⟩, hS, by rw [ar_0]; exact hdv, by rw [ar_0, hcs], by rw [ar_0]; omega, by rw [ar_0]; exact hx0.1, by rw [ar_0]; exact hw⟩⟩
        rw [a4]
        refine dd_fin (D := D') (C := C') hT hF hP a1 a2 a3 ?_
        rcases a5 with a5 | a5
        · exact Or.inl (by rw [← hx]; exact a5)
        · exact Or.inr a5
      by_cases z : x ≤ 0
      · exact br_t z (go 0 C D (Or.inl ⟨rfl, Or.inl (ar_np.mp z)⟩))
      · have z' : ¬ x.toInt ≤ 0 := fun y => z (ar_np.mpr y)
        refine br_f z (dc_find hok (dx_c0 hT) hφ hS (fun r D' C' hO' hr => ?_))
        dsimp only
        rcases hr with ⟨r0, hr⟩ | ⟨r1, hr⟩
        · exact br_t r0 (go 0 C' D' (Or.inl ⟨rfl, Or.inr ⟨hO', hr⟩⟩))
        · exact br_f (by rw [r1]; decide) (go 1 C' D' (Or.inr ⟨rfl, by omega, hO', hr⟩))
    · have vi : vp_in (nI i) 7 := vp_in_nI (by omega) (by omega)
      have hh := hPb i (by omega)
      refine br_f (show ¬ (7 : Int32) ≤ nI i from nI_ge (b := 7) (by omega) (by omega)) ⟨vi, ?_⟩
      rw [ar_c (n := i) (by omega)]
      have go : ∀ z0 : Int32, z0.toInt = ss_p (- (P i).toInt) → wX_debts_66 post (wX_debts_32 post g n) x (nI i) z0 ((63 : Int32) + nI i) g T P F pa pe am W O C L D H := fun z0 hz =>
        dd_66 (by omega) hT hPb (by omega) hW hz (fun x' W' hx' hW' => ih (i + 1) (by omega) (by omega) x' W' hW' (by rw [zz_1, hx', hx]))
      by_cases z : 0 ≤ P i
      · refine br_t z (go 0 ?_)
        rw [ar_nn] at z
        unfold ss_p
        rw [if_neg (by omega)]; exact ar_0
      · refine br_f z ⟨vi, go _ ?_⟩
        rw [ar_nn] at z
        rw [ar_neg (by omega)]
        unfold ss_p
        rw [if_pos (by omega)]
theorem dd_4 {post : Int32 → SX → Prop} (hT : rl_T T) (hF : rl_F T F) (hP : rl_P T P F)
    (k : ∀ (r : Int32) W O C D, dy_opt T P r.toInt → post r (g, T, P, F, pa, pe, am, W, O, C, L, D, H)) :
    ∀ (n i : Nat), 81 < n + i → i ≤ 81 → ∀ W O, (∀ c, c < i → W c = 0 ∧ O c = 0) → wX_debts_4 post 0 g n (nI i) T P F pa pe am W O C L D H := by
  intro n
  induction n with
  | zero => intro i h1 h2; omega
  | succ n ih =>
    intro i h1 h2 W O hWO
    rw [wX_debts_4]
    by_cases e : i = 81
    · subst e
      have hw : ∀ u v, u < 9 → v < 9 → ar_9c W u v = 0 ∧ ar_9c O u v = 0 := fun u v hu hv => by
        unfold ar_9c
        rw [(hWO (9 * u + v) (by omega)).1, (hWO (9 * u + v) (by omega)).2]
        exact ⟨ar_0, ar_0⟩
      refine br_t (show (81 : Int32) ≤ nI 81 from by decide) ⟨8, dd_32 hT (rl_Pb hT hF hP) (fun u v hu hv => (hw u v hu hv).2) hF hP k 8 0 (by omega) (by omega) 0 W (fun u v hu hv => ?_) (by rw [ar_0, zz_0])⟩
      rw [(hw u v hu hv).1, if_neg (by omega)]
    · have ci : (nI i).toNatClampNeg = i := ar_c (by omega)
      refine br_f (show ¬ (81 : Int32) ≤ nI i from nI_ge (b := 81) (by omega) (by omega)) ?_
      rw [ci]
      refine ⟨vp_in_nI (by omega) (by omega), nm_e ⟨vp_in_nI (by omega) (by omega), nm_e (nm_r (nI_1 i) (ih (i + 1) (by omega) (by omega) _ _ (fun c hc => ?_)))⟩⟩
      rw [ar_u, ar_u]
      by_cases z : c = i
      · rw [if_pos z, if_pos z]; exact ⟨rfl, rfl⟩
      · rw [if_neg z, if_neg z]; exact hWO c (by omega)
theorem dd_X {post : Int32 → SX → Prop} (hT : rl_T T) (hF : rl_F T F) (hP : rl_P T P F)
    (k : ∀ (r : Int32) W O C D, dy_opt T P r.toInt → post r (g, T, P, F, pa, pe, am, W, O, C, L, D, H)) : wpX_debts post (g, T, P, F, pa, pe, am, W, O, C, L, D, H) :=
  ⟨82, dd_4 hT hF hP k 82 0 (by omega) (by omega) W O (fun c hc => absurd hc (Nat.not_lt_zero _))⟩
end
end
section
/-! debts, the reference: the cheapest ways -/
def dy_z (_ _ : Nat) : Bool := false
def dy_ix (u v : Nat) : Nat := 7 * u + v
def dy_I (T P OW RE : Nat → Int32) (φ : Nat → Int) (r c b : Nat) (PR BE : Nat → Int32) : Prop := bf_I 7 (ss_E (dy_cap T) (ar_7c OW)) (ss_w dy_z (ar_7c OW)) (fun x => (P x).toInt < (RE x).toInt) 1000 φ dy_ix r c b (dx_V PR) (dx_V BE)
def dy_O (T P OW RE PR BE : Nat → Int32) : Prop := bf_O 7 (ss_E (dy_cap T) (ar_7c OW)) (ss_w dy_z (ar_7c OW)) (fun x => (P x).toInt < (RE x).toInt) 1000 343 (dx_V PR) (dx_V BE)
theorem dy_hix : ∀ u v x y, u < 7 → v < 7 → x < 7 → y < 7 → dy_ix u v = dy_ix x y → u = x ∧ v = y := by
  intro u v x y hu hv hx hy h
  unfold dy_ix at h
  omega
theorem dy_w (m : Nat → Nat → Int) (u v : Nat) : ss_w dy_z m u v = if m u v < 0 then -1 else 1 := rfl
theorem dy_mb {T OW : Nat → Int32} (hT : rl_T T) (hok : ss_ok 7 (dy_cap T) (ar_7c OW)) : ∀ u v, u < 7 → v < 7 → -1000 ≤ ar_7c OW u v ∧ ar_7c OW u v ≤ 1000 := by
  intro u v hu hv
  have h1 : ar_7c OW u v ≤ ar_7c T v u := hok.2 u v hu hv
  have h2 : ar_7c OW v u ≤ ar_7c T u v := hok.2 v u hv hu
  have h3 := hok.1 u v hu hv
  have h4 := hT.1 v u hv hu
  have h5 := hT.1 u v hu hv
  omega
def dy_r (T OW : Nat → Int32) (u v : Nat) : Int := if ar_7c OW u v < 0 then - ar_7c OW u v else ar_7c T v u - ar_7c OW u v
abbrev TJ_Y : Type := Int32 → (Nat → Int32) → (Nat → Int32) → (Nat → Int32) → (Nat → Int32) → (Nat → Int32) → (Nat → Int32) → (Nat → Int32) → (Nat → Int32) → (Nat → Int32) → Prop
section
variable {l : Int32} {T P pa pe am OW RE PR BE : Nat → Int32} {φ : Nat → Int}
theorem yr_room {post : Int32 → Prop} {u v : Nat} (hu : u < 7) (hv : v < 7) (hT : rl_T T) (hok : ss_ok 7 (dy_cap T) (ar_7c OW)) (k : ∀ r : Int32, r.toInt = dy_r T OW u v → post r) : wpY_room post (l, T, P, pa, pe, am, OW, RE, PR, BE) (nI u) (nI v) := by
  unfold wpY_room
  dsimp only
  have hm := dy_mb hT hok u v hu hv
  have ht := hT.1 v u hv hu
  rw [ar_c7 hu hv, ar_c7 hv hu]
  refine ⟨ar_in7 hu hv, nm_e ?_⟩
  have e : (OW (7 * u + v)).toInt = ar_7c OW u v := rfl
  by_cases z : 0 ≤ OW (7 * u + v)
  · refine br_t z ⟨ar_in7 hv hu, k _ ?_⟩
    rw [ar_nn] at z
    unfold dy_r
    rw [if_neg (by omega)]
    exact ar_sub (show -2147483648 ≤ ar_7c T v u - ar_7c OW u v by omega) (show ar_7c T v u - ar_7c OW u v < 2147483648 by omega)
  · refine br_f z (k _ ?_)
    rw [ar_nn] at z
    unfold dy_r
    rw [if_pos (by omega)]
    exact ar_neg (by omega)
theorem dy_rE {u v : Nat} (hu : u < 7) (hv : v < 7) (hT : rl_T T) : (0 < dy_r T OW u v ↔ ss_E (dy_cap T) (ar_7c OW) u v) := by
  have ht := hT.1 v u hv hu
  unfold dy_r ss_E dy_cap
  by_cases c : ar_7c OW u v < 0
  · rw [if_pos c]; omega
  · rw [if_neg c]; omega
theorem yw_90 {post : SY → Prop} {J : TJ_Y} {u v t r : Nat} {z0 : Int32} (hu : u < 7) (hv : v < 7) (hT : rl_T T) (hok : ss_ok 7 (dy_cap T) (ar_7c OW)) (hF : ss_F 7 (dy_cap T) dy_z (ar_7c OW) φ) (hz : z0.toInt = ss_w dy_z (ar_7c OW) u v) (ht : t < 343)
    (hI : dy_I T P OW RE φ r (7 * u + v) t PR BE) (k : ∀ PR BE, dy_I T P OW RE φ r (7 * u + v + 1) (t + 1) PR BE → J (nI (t + 1)) T P pa pe am OW RE PR BE) : wY_findWays_90 post J (nI t) (nI u) (nI v) z0 l T P pa pe am OW RE PR BE := by
  have hc0 : ∀ u, u < 7 → dy_cap T u u = 0 := hT.2
  have vu : vp_in (nI u) 7 := vp_in_nI hu (by omega)
  have vv : vp_in (nI v) 7 := vp_in_nI hv (by omega)
  unfold wY_findWays_90
  rw [ar_c (n := u) (by omega), ar_c (n := v) (by omega)]
  have skip : ¬ (ss_E (dy_cap T) (ar_7c OW) u v ∧ dx_V PR u < 1000 ∧ dx_V PR u + ss_w dy_z (ar_7c OW) u v < dx_V PR v) → J (nI (t + 1)) T P pa pe am OW RE PR BE := fun h => k PR BE (bf_skip dy_hix hI hu hv rfl h)
  by_cases c1 : u = v
  · refine br_t (by rw [c1]) (nm_r (nI_1 t) (skip (fun h => ?_)))
    exact ss_ne hok hc0 u hu (by have := h.1; rw [← c1] at this; exact this)
  · refine br_f (ar_ne (by omega) (by omega) c1) ⟨vu, ?_⟩
    by_cases c2 : 1000 ≤ PR u
    · have c2' := ar_le.mp c2
      rw [show (1000 : Int32).toInt = 1000 from by decide] at c2'
      refine br_t c2 (nm_r (nI_1 t) (skip (fun h => ?_)))
      have h1 : (PR u).toInt < 1000 := h.2.1
      omega
    · have c2' : ¬ (1000 : Int32).toInt ≤ (PR u).toInt := fun y => c2 (ar_le.mpr y)
      rw [show (1000 : Int32).toInt = 1000 from by decide] at c2'
      refine br_f c2 (yr_room hu hv hT hok (fun ρ hρ => ?_))
      have hE := dy_rE (OW := OW) hu hv hT
      by_cases c3 : ρ ≤ 0
      · have c3' := ar_np.mp c3
        refine br_t c3 (nm_r (nI_1 t) (skip (fun h => ?_)))
        have := hE.mpr h.1
        omega
      · have c3' : ¬ ρ.toInt ≤ 0 := fun y => c3 (ar_np.mpr y)
        refine br_f c3 ⟨vu, vv, ?_⟩
        have hw := ss_w_b dy_z (ar_7c OW) u v
        have hB : -(t : Int) ≤ (PR u).toInt ∧ (PR u).toInt ≤ t := by
          obtain ⟨rk, τ, _, _, h3, _⟩ := hI
          exact (h3 u hu).1 (show (PR u).toInt < 1000 by omega)
        have ed : (PR u + z0).toInt = (PR u).toInt + ss_w dy_z (ar_7c OW) u v := by rw [ar_add (by omega) (by omega), hz]
        by_cases c4 : PR v ≤ PR u + z0
        · have c4' := ar_le.mp c4
          refine br_t c4 (nm_r (nI_1 t) (skip (fun h => ?_)))
          have h1 : (PR u).toInt + ss_w dy_z (ar_7c OW) u v < (PR v).toInt := h.2.2
          omega
        · have c4' : ¬ (PR v).toInt ≤ (PR u + z0).toInt := fun y => c4 (ar_le.mpr y)
          refine br_f c4 ⟨vu, vv, nm_e ⟨vv, nm_e (nm_r (nI_1 t) (k _ _ (bf_relax dy_hix (fun u v _ _ => ss_w_b dy_z (ar_7c OW) u v) (ss_ne hok hc0) hF hI hu hv rfl (by omega) (hE.mp (by omega)) (show (PR u).toInt < 1000 by omega) (show (PR u).toInt + ss_w dy_z (ar_7c OW) u v < (PR v).toInt by omega) (fun q hq => ?_) (fun q hq => ?_))))⟩⟩
          · show (upd PR v (PR u + z0) q).toInt = if q = v then (PR u).toInt + ss_w dy_z (ar_7c OW) u v else (PR q).toInt
            rw [ar_u]
            by_cases e : q = v
            · rw [if_pos e, if_pos e, ed]
            · rw [if_neg e, if_neg e]
          · show (upd BE v (nI u) q).toInt = if q = v then (u : Int) else (BE q).toInt
            rw [ar_u]
            by_cases e : q = v
            · rw [if_pos e, if_pos e, ar_nI (by omega)]
            · rw [if_neg e, if_neg e]
theorem yw_51 {post : SY → Prop} (hT : rl_T T) (hok : ss_ok 7 (dy_cap T) (ar_7c OW)) (hF : ss_F 7 (dy_cap T) dy_z (ar_7c OW) φ) (k : ∀ PR BE, dy_O T P OW RE PR BE → post (l, T, P, pa, pe, am, OW, RE, PR, BE)) :
    ∀ (n t : Nat), 343 < n + t → t ≤ 343 → ∀ PR BE, dy_I T P OW RE φ (t / 49 + 1) (t % 49) t PR BE → wY_findWays_51 post l n (nI t) T P pa pe am OW RE PR BE := by
  intro n
  induction n with
  | zero => intro t h1 h2; omega
  | succ n ih =>
    intro t h1 h2 PR BE hI
    rw [wY_findWays_51]
    by_cases e : t = 343
    · subst e
      exact br_t (show (343 : Int32) ≤ nI 343 from by decide) (k PR BE (bf_done (by omega) hI))
    · have hm49 : nI t - nI t / 49 * 49 = nI (t % 49) := pk_rem (d := 49) (by omega) (by omega) (by omega)
      have hd7 : nI (t % 49) / 7 = nI (t % 49 / 7) := pk_div (d := 7) (by omega) (by omega) (by omega)
      have hm7 : nI t - nI t / 7 * 7 = nI (t % 7) := pk_rem (d := 7) (by omega) (by omega) (by omega)
      have hu : t % 49 / 7 < 7 := by omega
      have hv : t % 7 < 7 := by omega
      have ei : 7 * (t % 49 / 7) + t % 7 = t % 49 := by omega
      refine br_f (show ¬ (343 : Int32) ≤ nI t from nI_ge (b := 343) (by omega) (by omega)) ⟨by decide, by decide, nm_r (by rw [hm49, hd7]) ⟨by decide, nm_r hm7 ⟨ar_in7 hu hv, ?_⟩⟩⟩
      rw [ar_c7 hu hv]
      have go : ∀ z0 : Int32, z0.toInt = ss_w dy_z (ar_7c OW) (t % 49 / 7) (t % 7) → wY_findWays_90 post (wY_findWays_51 post l n) (nI t) (nI (t % 49 / 7)) (nI (t % 7)) z0 l T P pa pe am OW RE PR BE := by
        intro z0 hz
        refine yw_90 (r := t / 49 + 1) hu hv hT hok hF hz (by omega) (by rw [ei]; exact hI) (fun PR' BE' hI' => ih (t + 1) (by omega) (by omega) PR' BE' ?_)
        rw [ei] at hI'
        by_cases c : t % 49 + 1 = 49
        · rw [c] at hI'
          have := bf_round (fun u v hu hv => by unfold dy_ix; omega) hI'
          rw [show (t + 1) / 49 = t / 49 + 1 by omega, show (t + 1) % 49 = 0 by omega]
          exact this
        · rw [show (t + 1) / 49 = t / 49 by omega, show (t + 1) % 49 = t % 49 + 1 by omega]
          exact hI'
      have eo : (OW (7 * (t % 49 / 7) + t % 7)).toInt = ar_7c OW (t % 49 / 7) (t % 7) := rfl
      by_cases z : 0 ≤ OW (7 * (t % 49 / 7) + t % 7)
      · refine br_t z (go 1 ?_)
        rw [ar_nn] at z
        rw [dy_w, if_neg (by omega)]; exact ar_1
      · refine br_f z (go (-1) ?_)
        rw [ar_nn] at z
        rw [dy_w, if_pos (by omega)]; exact ar_m1
theorem yw_2 {post : SY → Prop} (hT : rl_T T) (hok : ss_ok 7 (dy_cap T) (ar_7c OW)) (hF : ss_F 7 (dy_cap T) dy_z (ar_7c OW) φ) (k : ∀ PR BE, dy_O T P OW RE PR BE → post (l, T, P, pa, pe, am, OW, RE, PR, BE)) :
    ∀ (n i : Nat), 7 < n + i → i ≤ 7 → ∀ PR BE, (∀ x, x < i → (((P x).toInt < (RE x).toInt ∧ dx_V PR x = 0) ∨ (¬ (P x).toInt < (RE x).toInt ∧ dx_V PR x = 1000)) ∧ dx_V BE x = -1) → wY_findWays_2 post l n (nI i) T P pa pe am OW RE PR BE := by
  intro n
  induction n with
  | zero => intro i h1 h2; omega
  | succ n ih =>
    intro i h1 h2 PR BE hD
    rw [wY_findWays_2]
    by_cases e : i = 7
    · subst e
      exact br_t (show (7 : Int32) ≤ nI 7 from by decide) ⟨344, yw_51 hT hok hF k 344 0 (by omega) (by omega) PR BE (bf_init (by omega) (fun x hx => (hD x hx).1) (fun x hx => (hD x hx).2))⟩
    · have vi : vp_in (nI i) 7 := vp_in_nI (by omega) (by omega)
      have ci : (nI i).toNatClampNeg = i := ar_c (by omega)
      have go : ∀ z0 : Int32, (((P i).toInt < (RE i).toInt ∧ z0.toInt = 0) ∨ (¬ (P i).toInt < (RE i).toInt ∧ z0.toInt = 1000)) → wY_findWays_35 post (wY_findWays_2 post l n) (nI i) z0 (nI i) l T P pa pe am OW RE PR BE := by
        intro z0 hz
        unfold wY_findWays_35
        rw [ci]
        refine ⟨vi, nm_e ⟨vi, nm_e (nm_r (nI_1 i) (ih (i + 1) (by omega) (by omega) _ _ (fun x hx => ?_)))⟩⟩
        show (((P x).toInt < (RE x).toInt ∧ (upd PR i z0 x).toInt = 0) ∨ (¬ (P x).toInt < (RE x).toInt ∧ (upd PR i z0 x).toInt = 1000)) ∧ (upd BE i (-1) x).toInt = -1
        rw [ar_u, ar_u]
        by_cases c : x = i
        · rw [if_pos c, if_pos c, c]; exact ⟨hz, ar_m1⟩
        · rw [if_neg c, if_neg c]; exact hD x (by omega)
      refine br_f (show ¬ (7 : Int32) ≤ nI i from nI_ge (b := 7) (by omega) (by omega)) ⟨vi, vi, ?_⟩
      rw [ci]
      by_cases z : RE i ≤ P i
      · have z' := ar_le.mp z
        exact br_t z (go 1000 (Or.inr ⟨by omega, by decide⟩))
      · have z' : ¬ (RE i).toInt ≤ (P i).toInt := fun y => z (ar_le.mpr y)
        exact br_f z (go 0 (Or.inl ⟨by omega, by decide⟩))
theorem yw_find {post : SY → Prop} (hT : rl_T T) (hok : ss_ok 7 (dy_cap T) (ar_7c OW)) (hF : ss_F 7 (dy_cap T) dy_z (ar_7c OW) φ) (k : ∀ PR BE, dy_O T P OW RE PR BE → post (l, T, P, pa, pe, am, OW, RE, PR, BE)) : wpY_findWays post (l, T, P, pa, pe, am, OW, RE, PR, BE) :=
  ⟨8, yw_2 hT hok hF k 8 0 (by omega) (by omega) PR BE (fun x hx => absurd hx (Nat.not_lt_zero _))⟩
def yc_ok (P RE PR : Nat → Int32) (e : Nat) : Prop := (RE e).toInt < (P e).toInt ∧ dx_V PR e < 1000
theorem yc_4 {post : Int32 → Prop} (kN : (∀ v, v < 7 → ¬ yc_ok P RE PR v) → post (-1)) (kY : ∀ e, e < 7 → yc_ok P RE PR e → post (nI e)) :
    ∀ (n i : Nat), 7 < n + i → i ≤ 7 → ∀ x : Int32, ((x = -1 ∧ ∀ v, v < i → ¬ yc_ok P RE PR v) ∨ (∃ e, e < 7 ∧ x = nI e ∧ yc_ok P RE PR e)) → wY_cheapest_4 post l T P pa pe am OW RE PR BE n x (nI i) := by
  intro n
  induction n with
  | zero => intro i h1 h2; omega
  | succ n ih =>
    intro i h1 h2 x hx
    rw [wY_cheapest_4]
    by_cases e : i = 7
    · subst e
      refine br_t (show (7 : Int32) ≤ nI 7 from by decide) ?_
      rcases hx with ⟨a, b⟩ | ⟨e, e1, e2, e3⟩
      · rw [a]; exact kN b
      · rw [e2]; exact kY e e1 e3
    · have vi : vp_in (nI i) 7 := vp_in_nI (by omega) (by omega)
      have ci : (nI i).toNatClampNeg = i := ar_c (by omega)
      refine br_f (show ¬ (7 : Int32) ≤ nI i from nI_ge (b := 7) (by omega) (by omega)) ⟨vi, vi, ?_⟩
      rw [ci]
      have no : ¬ yc_ok P RE PR i → ((x = -1 ∧ ∀ v, v < i + 1 → ¬ yc_ok P RE PR v) ∨ (∃ e, e < 7 ∧ x = nI e ∧ yc_ok P RE PR e)) := fun hn => by
        rcases hx with ⟨a, b⟩ | h
        · refine Or.inl ⟨a, fun v hv => ?_⟩
          by_cases c : v = i
          · rw [c]; exact hn
          · exact b v (by omega)
        · exact Or.inr h
      by_cases c1 : P i ≤ RE i
      · have c1' := ar_le.mp c1
        exact br_t c1 (nm_r (nI_1 i) (ih (i + 1) (by omega) (by omega) x (no (fun h => by have := h.1; omega))))
      · have c1' : ¬ (P i).toInt ≤ (RE i).toInt := fun y => c1 (ar_le.mpr y)
        refine br_f c1 ⟨vi, ?_⟩
        by_cases c2 : 1000 ≤ PR i
        · have c2' := ar_le.mp c2
          rw [show (1000 : Int32).toInt = 1000 from by decide] at c2'
          exact br_t c2 (nm_r (nI_1 i) (ih (i + 1) (by omega) (by omega) x (no (fun h => by have h2 : (PR i).toInt < 1000 := h.2; omega))))
        · have c2' : ¬ (1000 : Int32).toInt ≤ (PR i).toInt := fun y => c2 (ar_le.mpr y)
          rw [show (1000 : Int32).toInt = 1000 from by decide] at c2'
          have hi : yc_ok P RE PR i := ⟨by omega, show (PR i).toInt < 1000 by omega⟩
          refine br_f c2 ?_
          rcases hx with ⟨a, b⟩ | ⟨e, e1, e2, e3⟩
          · rw [a]
            exact br_t (by decide) (nm_r (nI_1 i) (ih (i + 1) (by omega) (by omega) (nI i) (Or.inr ⟨i, by omega, rfl, hi⟩)))
          · rw [e2]
            refine br_f (nI_pos (by omega)) ⟨vi, vp_in_nI e1 (by omega), ?_⟩
            rw [ar_c (n := e) (by omega)]
            exact br_c (fun _ => nm_r (nI_1 i) (ih (i + 1) (by omega) (by omega) (nI e) (Or.inr ⟨e, e1, rfl, e3⟩))) (fun _ => nm_r (nI_1 i) (ih (i + 1) (by omega) (by omega) (nI i) (Or.inr ⟨i, by omega, rfl, hi⟩)))
theorem yc_cheap {post : Int32 → Prop} (kN : (∀ v, v < 7 → ¬ yc_ok P RE PR v) → post (-1)) (kY : ∀ e, e < 7 → yc_ok P RE PR e → post (nI e)) : wpY_cheapest post (l, T, P, pa, pe, am, OW, RE, PR, BE) :=
  ⟨8, yc_4 kN kY 8 0 (by omega) (by omega) (-1) (Or.inl ⟨rfl, fun v hv => absurd hv (Nat.not_lt_zero _)⟩)⟩
end
end
section
/-! debts, the reference: sending along a way -/
section
variable {l : Int32} {T P pa pe am OW RE PR BE : Nat → Int32}
theorem yt_19 {post : Int32 → Prop} {c : Nat → Nat} {K : Nat} {B : Int} (hT : rl_T T) (hok : ss_ok 7 (dy_cap T) (ar_7c OW)) (hW : ph_W 7 c K) (hC : ∀ k, k < K → BE (c k) = nI (c (k + 1)) ∧ ss_E (dy_cap T) (ar_7c OW) (c (k + 1)) (c k)) (hK : (BE (c K)).toInt = -1)
    (hs : (P (c K)).toInt < (RE (c K)).toInt) (hb : ∀ v, v < 7 → -7000 ≤ (P v).toInt ∧ (P v).toInt ≤ 7000 ∧ -7000 ≤ (RE v).toInt ∧ (RE v).toInt ≤ 7000)
    (k : ∀ a : Int32, 1 ≤ a.toInt → a.toInt ≤ B → a.toInt ≤ (RE (c K)).toInt - (P (c K)).toInt → dn_R dy_z (dy_cap T) (ar_7c OW) c a.toInt K → post a) :
    ∀ (n i : Nat), 7 < n + i → i ≤ K → ∀ x : Int32, 1 ≤ x.toInt → x.toInt ≤ B → dn_R dy_z (dy_cap T) (ar_7c OW) c x.toInt i → wY_widthTo_19 post l T P pa pe am OW RE PR BE n x (nI (c i)) (nI i) := by
  intro n
  induction n with
  | zero => intro i h1 h2; have := hW.1; omega
  | succ n ih =>
    intro i h1 h2 x x1 x2 x3
    have hK7 := hW.1
    have ci := hW.2.1 i h2
    have vc : vp_in (nI (c i)) 7 := vp_in_nI ci (by omega)
    have cc : (nI (c i)).toNatClampNeg = c i := ar_c (by omega)
    rw [wY_widthTo_19]
    refine br_f (show ¬ (7 : Int32) ≤ nI i from nI_ge (b := 7) (by omega) (by omega)) ⟨vc, ?_⟩
    rw [cc]
    by_cases e : i = K
    · subst e
      refine br_t (ar_ng.mpr (by omega)) ?_
      unfold wY_widthTo_74
      rw [cc]
      have hb1 := hb (c i) ci
      have es : (RE (c i) - P (c i)).toInt = (RE (c i)).toInt - (P (c i)).toInt := ar_sub (by omega) (by omega)
      refine ⟨vc, vc, nm_e ?_⟩
      by_cases z : x ≤ RE (c i) - P (c i)
      · have z' := ar_le.mp z
        exact br_t z (k x x1 x2 (by omega) x3)
      · have z' : ¬ x.toInt ≤ (RE (c i) - P (c i)).toInt := fun y => z (ar_le.mpr y)
        exact br_f z (k _ (by omega) (by omega) (by omega) (fun j hj => ⟨by have := (x3 j hj).1; omega, fun a b => by have := (x3 j hj).2 a b; omega⟩))
    · obtain ⟨hc, hE⟩ := hC i (by omega)
      have cj := hW.2.1 (i + 1) (by omega)
      rw [hc]
      have ht := hT.1 (c i) (c (i + 1)) ci cj
      have go : ∀ y : Int32, y.toInt ≤ x.toInt → y.toInt ≤ dy_r T OW (c (i + 1)) (c i) → 1 ≤ y.toInt → wY_widthTo_60 post (wY_widthTo_19 post l T P pa pe am OW RE PR BE n) (nI (c i)) (nI i) y l T P pa pe am OW RE PR BE := by
        intro y y1 y2 y3
        unfold wY_widthTo_60
        rw [cc, hc]
        refine ⟨vc, nm_e (nm_r (nI_1 i) (ih (i + 1) (by omega) (by omega) y y3 (by omega) (fun j hj => ?_)))⟩
        by_cases f : j = i
        · subst f
          unfold dy_r at y2
          by_cases q : ar_7c OW (c (j + 1)) (c j) < 0
          · rw [if_pos q] at y2
            exact ⟨by show y.toInt ≤ ar_7c T (c j) (c (j + 1)) - _; omega, fun _ _ => y2⟩
          · rw [if_neg q] at y2
            exact ⟨y2, fun _ b => absurd b q⟩
        · have r4 := x3 j (by omega)
          exact ⟨by omega, fun a b => by have := r4.2 a b; omega⟩
      refine br_f (nI_pos (by omega)) ⟨vc, yr_room cj ci hT hok (fun r hr => ?_)⟩
      have hr0 := (dy_rE (OW := OW) cj ci hT).mpr hE
      by_cases z : x ≤ r
      · have z' := ar_le.mp z
        exact br_t z (go x (Int.le_refl _) (by omega) x1)
      · have z' : ¬ x.toInt ≤ r.toInt := fun y => z (ar_le.mpr y)
        exact br_f z (go r (by omega) (by omega) (by omega))
theorem yt_width {post : Int32 → Prop} {c : Nat → Nat} {e K : Nat} (hT : rl_T T) (hok : ss_ok 7 (dy_cap T) (ar_7c OW)) (hC : bf_C 7 (ss_E (dy_cap T) (ar_7c OW)) (ss_w dy_z (ar_7c OW)) (fun x => (P x).toInt < (RE x).toInt) (dx_V PR) (dx_V BE) 1000 e c K)
    (hcc : ∀ k, k < K → BE (c k) = nI (c (k + 1))) (he : (RE e).toInt < (P e).toInt) (hb : ∀ v, v < 7 → -7000 ≤ (P v).toInt ∧ (P v).toInt ≤ 7000 ∧ -7000 ≤ (RE v).toInt ∧ (RE v).toInt ≤ 7000)
    (k : ∀ a : Int32, 1 ≤ a.toInt → a.toInt ≤ (P e).toInt - (RE e).toInt → a.toInt ≤ (RE (c K)).toInt - (P (c K)).toInt → dn_R dy_z (dy_cap T) (ar_7c OW) c a.toInt K → post a) : wpY_widthTo post (l, T, P, pa, pe, am, OW, RE, PR, BE) (nI e) := by
  obtain ⟨c0, hW, cI, cE, cp, cs, cd⟩ := hC
  have he7 : e < 7 := by rw [← c0]; exact hW.2.1 0 (Nat.zero_le _)
  have hb1 := hb e he7
  have es : (P e - RE e).toInt = (P e).toInt - (RE e).toInt := ar_sub (by omega) (by omega)
  unfold wpY_widthTo
  dsimp only
  rw [ar_c (n := e) (by omega)]
  refine ⟨vp_in_nI he7 (by omega), vp_in_nI he7 (by omega), nm_e ⟨8, ?_⟩⟩
  have q := yt_19 (l := l) (P := P) (pa := pa) (pe := pe) (am := am) (RE := RE) (PR := PR) (BE := BE) (B := (P e).toInt - (RE e).toInt) (post := post) hT hok hW (fun k hk => ⟨hcc k hk, (cE k hk).2.1⟩) cp cs hb k 8 0 (by omega) (by omega) (P e - RE e) (by omega) (by omega) (fun j hj => absurd hj (Nat.not_lt_zero _))
  rw [c0] at q
  exact q
theorem yt_s19 {post : SY → Prop} {c : Nat → Nat} {K : Nat} {a : Int32} {m : Nat → Nat → Int} (hmb : ∀ u v, u < 7 → v < 7 → -1000 ≤ m u v ∧ m u v ≤ 1000) (hW : ph_W 7 c K) (hC : ∀ k, k < K → BE (c k) = nI (c (k + 1))) (hK : (BE (c K)).toInt = -1) (ha : 0 ≤ a.toInt ∧ a.toInt ≤ 100000)
    (k : ∀ OW, (∀ u v, u < 7 → v < 7 → ar_7c OW u v = dn_m m a.toInt c K u v) → post (l, T, P, pa, pe, am, OW, (upd RE (c K) (RE (c K) - a)), PR, BE)) :
    ∀ (n i : Nat), 7 < n + i → i ≤ K → ∀ OW, (∀ u v, u < 7 → v < 7 → ar_7c OW u v = dn_m m a.toInt c i u v) → wY_sendTo_19 post a l n (nI (c i)) (nI i) T P pa pe am OW RE PR BE := by
  intro n
  induction n with
  | zero => intro i h1 h2; have := hW.1; omega
  | succ n ih =>
    intro i h1 h2 OW hO
    have hK7 := hW.1
    have ci := hW.2.1 i h2
    have vc : vp_in (nI (c i)) 7 := vp_in_nI ci (by omega)
    have cc : (nI (c i)).toNatClampNeg = c i := ar_c (by omega)
    rw [wY_sendTo_19]
    refine br_f (show ¬ (7 : Int32) ≤ nI i from nI_ge (b := 7) (by omega) (by omega)) ⟨vc, ?_⟩
    rw [cc]
    by_cases e : i = K
    · subst e
      refine br_t (ar_ng.mpr (by omega)) ?_
      unfold wY_sendTo_104
      rw [cc]
      exact ⟨vc, vc, nm_e (k OW hO)⟩
    · have hc := hC i (by omega)
      have cj := hW.2.1 (i + 1) (by omega)
      have hd : ∀ p q, p < q → q ≤ i + 1 → c p ≠ c q := fun p q hp hq => hW.2.2 p q hp (by omega)
      have hne : c (i + 1) ≠ c i := fun z => hd i (i + 1) (by omega) (by omega) z.symm
      have g1 := ph_g_next hd
      have g2 : ph_g c i (c i) (c (i + 1)) = 0 := by rw [ph_g_anti, g1]; rfl
      have w1 := hO _ _ cj ci
      have w2 := hO _ _ ci cj
      unfold dn_m at w1 w2
      rw [g1, Int.mul_zero] at w1
      rw [g2, Int.mul_zero] at w2
      have b1 := hmb _ _ cj ci
      have b2 := hmb _ _ ci cj
      rw [hc]
      refine br_f (nI_pos (by omega)) ⟨vc, nm_e ?_⟩
      rw [ar_7 (c (i + 1)) (c i), ar_7 (c i) (c (i + 1)), nI_clamp (n := 7 * c (i + 1) + c i) (by omega), nI_clamp (n := 7 * c i + c (i + 1)) (by omega)]
      have v1 : vp_in (nI (7 * c (i + 1) + c i)) 49 := vp_in_nI (by omega) (by omega)
      have v2 : vp_in (nI (7 * c i + c (i + 1))) 49 := vp_in_nI (by omega) (by omega)
      refine ⟨v1, v1, nm_e ⟨v2, v2, nm_e (nm_r (nI_1 i) (ih (i + 1) (by omega) (by omega) _ (fun u v hu hv => ?_)))⟩⟩
      rw [ar_mv7 cj ci hne (by omega) (by omega) (by omega) (by omega) hv, hO u v hu hv, dn_m1]
theorem yt_send {post : SY → Prop} {c : Nat → Nat} {e K : Nat} {a : Int32} (hmb : ∀ u v, u < 7 → v < 7 → -1000 ≤ ar_7c OW u v ∧ ar_7c OW u v ≤ 1000) (hW : ph_W 7 c K) (c0 : c 0 = e) (hC : ∀ k, k < K → BE (c k) = nI (c (k + 1))) (hK : (BE (c K)).toInt = -1) (ha : 0 ≤ a.toInt ∧ a.toInt ≤ 100000)
    (k : ∀ OW', (∀ u v, u < 7 → v < 7 → ar_7c OW' u v = dn_m (ar_7c OW) a.toInt c K u v) → post (l, T, P, pa, pe, am, OW', (upd (upd RE e (RE e + a)) (c K) ((upd RE e (RE e + a)) (c K) - a)), PR, BE)) : wpY_sendTo post (l, T, P, pa, pe, am, OW, RE, PR, BE) (nI e) a := by
  have he7 : e < 7 := by rw [← c0]; exact hW.2.1 0 (Nat.zero_le _)
  unfold wpY_sendTo
  dsimp only
  rw [ar_c (n := e) (by omega)]
  refine ⟨vp_in_nI he7 (by omega), vp_in_nI he7 (by omega), nm_e ⟨8, ?_⟩⟩
  have q := yt_s19 (l := l) (T := T) (P := P) (pa := pa) (pe := pe) (am := am) (RE := upd RE e (RE e + a)) (PR := PR) (BE := BE) (post := post) hmb hW hC hK ha k 8 0 (by omega) (by omega) OW (fun u v _ _ => by
    unfold dn_m
    show _ = ar_7c OW u v + a.toInt * 0
    omega)
  rw [c0] at q
  exact q
end
end
section
/-! debts, the reference: the whole; then both -/
theorem dy_bound : ∀ s, s < 128 → ct_c 7 (sl_x s) (fun _ _ => 1000) ≤ 12000 := by decide +kernel
theorem dy_due {T P F : Nat → Int32} (hT : rl_T T) (hF : rl_F T F) (hP : rl_P T P F) : zz_s 7 (fun v => ss_p (P v).toInt) ≤ 12000 := by
  have h01 : ct_01 7 (fun v => if 0 < (P v).toInt then 1 else 0) := fun i _ => by
    show (if 0 < (P i).toInt then (1 : Int) else 0) = 0 ∨ (if 0 < (P i).toInt then (1 : Int) else 0) = 1
    split
    · exact Or.inr rfl
    · exact Or.inl rfl
  obtain ⟨S, S1, S2⟩ := sl_of _ h01
  have e1 := ct_div (n := 7) (x := sl_x S) (m := fun u v => ar_7c T v u - ar_9c F u v) (rl_anti hF)
  have e2 : zz_s 7 (fun v => ss_p (P v).toInt) = zz_s 7 (fun v => sl_x S v * zz_s 7 (fun u => (fun u v => ar_7c T v u - ar_9c F u v) u v)) := zz_congr (fun v hv => by
    show ss_p (P v).toInt = sl_x S v * zz_s 7 (fun u => ar_7c T v u - ar_9c F u v)
    rw [← hP v hv, S2 v hv]
    show ss_p (P v).toInt = (if 0 < (P v).toInt then (1 : Int) else 0) * (P v).toInt
    unfold ss_p
    split <;> omega)
  have e3 : ct_c 7 (sl_x S) (fun u v => ar_7c T v u - ar_9c F u v) ≤ ct_c 7 (sl_x S) (fun _ _ => 1000) := ct_mono (sl_01 7 S) (fun u v hu hv _ _ => (rl_db hT hF u v hu hv).2)
  have e4 := dy_bound S S1
  rw [e2, e1]
  omega
def yd_J (T P OW RE : Nat → Int32) : Prop := ss_ok 7 (dy_cap T) (ar_7c OW) ∧ (∃ φ, ss_F 7 (dy_cap T) dy_z (ar_7c OW) φ) ∧ ∀ v, v < 7 → (RE v).toInt = zz_s 7 (fun u => ar_7c OW u v)
def yd_D (P RE : Nat → Int32) : Int := zz_s 7 (fun v => ss_p ((P v).toInt - (RE v).toInt))
theorem yd_b {T P F OW RE : Nat → Int32} (hT : rl_T T) (hF : rl_F T F) (hP : rl_P T P F) (hJ : yd_J T P OW RE) : ∀ v, v < 7 → -7000 ≤ (P v).toInt ∧ (P v).toInt ≤ 7000 ∧ -7000 ≤ (RE v).toInt ∧ (RE v).toInt ≤ 7000 := by
  intro v hv
  have h1 := rl_Pb hT hF hP v hv
  have h2 := rl_sumb (n := 7) (B := 1000) (f := fun u => ar_7c OW u v) (fun i hi => dy_mb hT hJ.1 i v hi hv)
  have h3 := hJ.2.2 v hv
  omega
theorem yd_end {T P F OW RE PR BE : Nat → Int32} (hT : rl_T T) (hF : rl_F T F) (hP : rl_P T P F) (hJ : yd_J T P OW RE) (hO : dy_O T P OW RE PR BE) (hn : ∀ v, v < 7 → ¬ yc_ok P RE PR v) : ∀ v, v < 7 → (RE v).toInt = (P v).toInt := by
  have h := fe_done (N := 7) (cap := dy_cap T) (m := ar_7c OW) (p := fun v => (P v).toInt) (R := fun v => dx_V PR v < 1000) hJ.1 (dy_feas (P := P) hT hF) (fun v hv => (hP v hv).symm) (fun u v hu hv h1 h2 => by
    have a1 := hO.1 u v hu hv h2 h1
    have a2 := (hO.2.1 u hu).1 h1
    have a3 := ss_w_b dy_z (ar_7c OW) u v
    show dx_V PR v < 1000
    omega) (fun v hv hR => by
    show zz_s 7 (fun u => ar_7c OW u v) ≤ (P v).toInt
    rw [← hJ.2.2 v hv]
    by_cases z : (P v).toInt < (RE v).toInt
    · have a := (hO.2.1 v hv).2.1 z
      exact absurd (show dx_V PR v < 1000 by omega) hR
    · omega) (fun v hv hR => by
    show (P v).toInt ≤ zz_s 7 (fun u => ar_7c OW u v)
    rw [← hJ.2.2 v hv]
    by_cases z : (RE v).toInt < (P v).toInt
    · exact absurd ⟨z, hR⟩ (hn v hv)
    · omega)
  intro v hv
  rw [hJ.2.2 v hv]
  exact h v hv
theorem yd_step {T P F OW OW' RE PR BE : Nat → Int32} {c : Nat → Nat} {e K : Nat} {a : Int32} (hT : rl_T T) (hF : rl_F T F) (hP : rl_P T P F) (hJ : yd_J T P OW RE) (hO : dy_O T P OW RE PR BE)
    (hC : bf_C 7 (ss_E (dy_cap T) (ar_7c OW)) (ss_w dy_z (ar_7c OW)) (fun x => (P x).toInt < (RE x).toInt) (dx_V PR) (dx_V BE) 1000 e c K) (a1 : 1 ≤ a.toInt) (a2 : a.toInt ≤ (P e).toInt - (RE e).toInt) (a3 : a.toInt ≤ (RE (c K)).toInt - (P (c K)).toInt)
    (hR : dn_R dy_z (dy_cap T) (ar_7c OW) c a.toInt K) (hOW : ∀ u v, u < 7 → v < 7 → ar_7c OW' u v = dn_m (ar_7c OW) a.toInt c K u v) :
    yd_J T P OW' (upd (upd RE e (RE e + a)) (c K) ((upd RE e (RE e + a)) (c K) - a)) ∧ yd_D P (upd (upd RE e (RE e + a)) (c K) ((upd RE e (RE e + a)) (c K) - a)) = yd_D P RE - a.toInt := by
  have hb := yd_b hT hF hP hJ
  obtain ⟨hok, ⟨φ, hφ⟩, hre⟩ := hJ
  obtain ⟨hok', hφ'⟩ := ss_step hok (fun _ _ => rfl) hφ hO (by omega) hC (by omega) (fun k hk => (hR k hk).1) (fun k hk => (hR k hk).2) hOW
  obtain ⟨c0, hW, cI, cE, cp, cs, cd⟩ := hC
  have he7 : e < 7 := by rw [← c0]; exact hW.2.1 0 (Nat.zero_le _)
  have hk7 := hW.2.1 K (Nat.le_refl _)
  have hbe := hb e he7
  have hbk := hb (c K) hk7
  have hne : c K ≠ e := fun z => by rw [z] at a3; omega
  have q1 : (upd RE e (RE e + a)) (c K) = RE (c K) := pk_un hne
  have q2 : (RE e + a).toInt = (RE e).toInt + a.toInt := ar_add (by omega) (by omega)
  have q3 : (RE (c K) - a).toInt = (RE (c K)).toInt - a.toInt := ar_sub (by omega) (by omega)
  have hre' : ∀ v, ((upd (upd RE e (RE e + a)) (c K) ((upd RE e (RE e + a)) (c K) - a)) v).toInt = (RE v).toInt + ((if v = e then a.toInt else 0) - (if v = c K then a.toInt else 0)) := by
    intro v
    rw [q1, ar_u, ar_u]
    by_cases z1 : v = c K
    · have z2 : ¬ v = e := fun z => hne (z1.symm.trans z)
      rw [if_pos z1, if_neg z2, if_pos z1, q3, z1]; omega
    · rw [if_neg z1, if_neg z1]
      by_cases z2 : v = e
      · rw [if_pos z2, if_pos z2, q2, z2]; omega
      · rw [if_neg z2, if_neg z2]; omega
  refine ⟨⟨hok', hφ', fun v hv => ?_⟩, ?_⟩
  · rw [hre' v, hre v hv]
    have e1 : zz_s 7 (fun u => ar_7c OW' u v) = zz_s 7 (fun u => ar_7c OW u v) + a.toInt * zz_s 7 (fun u => ph_g c K u v) := by
      rw [← zz_mul, ← zz_add]
      exact zz_congr (fun u hu => hOW u v hu hv)
    rw [e1, ph_g_div hW.2.1, c0]
    by_cases z1 : v = c K
    · have z2 : ¬ v = e := fun z => hne (z1.symm.trans z)
      rw [if_neg z2, if_pos z1, if_neg z2, if_pos z1]; omega
    · by_cases z2 : v = e
      · rw [if_pos z2, if_neg z1, if_pos z2, if_neg z1]; omega
      · rw [if_neg z2, if_neg z1, if_neg z2, if_neg z1]; omega
  · have e1 : yd_D P (upd (upd RE e (RE e + a)) (c K) ((upd RE e (RE e + a)) (c K) - a)) = zz_s 7 (fun v => ss_p ((P v).toInt - (RE v).toInt) - (if v = e then a.toInt else 0)) := zz_congr (fun v hv => by
      show ss_p ((P v).toInt - ((upd (upd RE e (RE e + a)) (c K) ((upd RE e (RE e + a)) (c K) - a)) v).toInt) = ss_p ((P v).toInt - (RE v).toInt) - (if v = e then a.toInt else 0)
      rw [hre' v]
      unfold ss_p
      by_cases z1 : v = c K
      · have z2 : ¬ v = e := fun z => hne (z1.symm.trans z)
        have cs' : (P (c K)).toInt < (RE (c K)).toInt := cs
        rw [if_neg z2, if_pos z1, z1, if_neg (by omega), if_neg (by omega)]; omega
      · by_cases z2 : v = e
        · rw [if_pos z2, if_neg z1, z2, if_pos (show 0 < (P e).toInt - (RE e).toInt by omega)]
          split <;> omega
        · rw [if_neg z2, if_neg z1, Int.sub_zero, Int.add_zero, Int.sub_zero])
    rw [e1, zz_sub, zz_ite _ he7]; rfl
section
variable {l : Int32} {T P F pa pe am OW RE PR BE : Nat → Int32}
theorem yd_93 {post : Int32 → SY → Prop} (hT : rl_T T) (hok : ss_ok 7 (dy_cap T) (ar_7c OW)) (k : ∀ r : Int32, r.toInt = zz_s 49 (fun p => ss_p (OW p).toInt) → post r (l, T, P, pa, pe, am, OW, RE, PR, BE)) :
    ∀ (n i : Nat), 49 < n + i → i ≤ 49 → ∀ x : Int32, x.toInt = zz_s i (fun p => ss_p (OW p).toInt) → wY_debts_93 post l T P pa pe am OW RE PR BE n x (nI i) := by
  have hb : ∀ p, p < 49 → -1000 ≤ (OW p).toInt ∧ (OW p).toInt ≤ 1000 := fun p hp => by
    have := dy_mb hT hok (p / 7) (p % 7) (by omega) (by omega)
    unfold ar_7c at this
    rw [show 7 * (p / 7) + p % 7 = p by omega] at this
    exact this
  intro n
  induction n with
  | zero => intro i h1 h2; omega
  | succ n ih =>
    intro i h1 h2 x hx
    rw [wY_debts_93]
    by_cases e : i = 49
    · subst e
      exact br_t (show (49 : Int32) ≤ nI 49 from by decide) (k x hx)
    · have vi : vp_in (nI i) 49 := vp_in_nI (by omega) (by omega)
      have hbi := hb i (by omega)
      have hxb := rl_sumb (n := i) (B := 1000) (f := fun p => ss_p (OW p).toInt) (fun j hj => by have := hb j (by omega); have := ss_pb (OW j).toInt; omega)
      refine br_f (show ¬ (49 : Int32) ≤ nI i from nI_ge (b := 49) (by omega) (by omega)) ⟨vi, ?_⟩
      rw [ar_c (n := i) (by omega)]
      by_cases z : OW i ≤ 0
      · refine br_t z (nm_r (nI_1 i) (ih (i + 1) (by omega) (by omega) x ?_))
        rw [ar_np] at z
        rw [zz_1, hx]
        have : ss_p (OW i).toInt = 0 := if_neg (by omega)
        omega
      · refine br_f z ⟨vi, nm_e (nm_r (nI_1 i) (ih (i + 1) (by omega) (by omega) _ ?_))⟩
        rw [ar_np] at z
        rw [ar_add (by omega) (by omega), zz_1, hx]
        have : ss_p (OW i).toInt = (OW i).toInt := if_pos (by omega)
        omega
theorem yd_out {post : Int32 → SY → Prop} (hT : rl_T T) (hJ : yd_J T P OW RE) (hE : ∀ v, v < 7 → (RE v).toInt = (P v).toInt) (k : ∀ r : Int32, dy_opt T P r.toInt → post r (l, T, P, pa, pe, am, OW, RE, PR, BE)) : ∃ n, wY_debts_93 post l T P pa pe am OW RE PR BE n 0 0 := by
  refine ⟨50, yd_93 hT hJ.1 (fun r hr => k r ⟨ar_7c OW, hJ.1, hJ.2.1, fun v hv => ?_, ?_⟩) 50 0 (by omega) (by omega) 0 (by rw [ar_0, zz_0])⟩
  · rw [← hJ.2.2 v hv, hE v hv]
  · rw [hr, show 49 = 7 * 7 from rfl, zz_blk]; rfl
theorem yd_35 {post : Int32 → SY → Prop} (hT : rl_T T) (hF : rl_F T F) (hP : rl_P T P F) (k : ∀ (r : Int32) OW RE PR BE, dy_opt T P r.toInt → post r (l, T, P, pa, pe, am, OW, RE, PR, BE)) :
    ∀ (n t : Nat), 20000 < n + t → ∀ (x : Int32) OW RE PR BE, yd_J T P OW RE → ((x = 1 ∧ (t : Int) + yd_D P RE ≤ 12000) ∨ (x = 0 ∧ t ≤ 12001 ∧ ∀ v, v < 7 → (RE v).toInt = (P v).toInt)) → wY_debts_35 post n x (nI t) l T P pa pe am OW RE PR BE := by
  have hD0 : ∀ RE, 0 ≤ yd_D P RE := fun RE => zz_nn (fun v _ => (ss_pb _).1)
  intro n
  induction n with
  | zero =>
    intro t h1 x OW RE PR BE hJ hx
    have := hD0 RE
    omega
  | succ n ih =>
    intro t h1 x OW RE PR BE hJ hx
    have hd := hD0 RE
    have ht : t ≤ 12001 := by omega
    rw [wY_debts_35]
    refine br_f (show ¬ (20000 : Int32) ≤ nI t from nI_ge (b := 20000) (by omega) (by omega)) ?_
    rcases hx with ⟨e, hx⟩ | ⟨e, _, hx⟩
    · subst e
      obtain ⟨φ, hφ⟩ := hJ.2.1
      refine br_f (by decide) (yw_find hT hJ.1 hφ (fun PR' BE' hO => ?_))
      dsimp only
      refine yc_cheap (fun hn => ?_) (fun e he hy => ?_)
      · refine br_t (by decide) ?_
        unfold wY_debts_64
        exact br_t rfl (nm_r (nI_1 t) (ih (t + 1) (by omega) 0 OW RE PR' BE' hJ (Or.inr ⟨rfl, by omega, yd_end hT hF hP hJ hO hn⟩)))
      · refine br_f (nI_pos (by omega)) ?_
        unfold wY_debts_64
        obtain ⟨c, K, hC⟩ := hO.2.2 e he hy.2
        have hC' := hC
        obtain ⟨c0, hW, cI, cE, cp, cs, cd⟩ := hC
        have hcc : ∀ k, k < K → BE' (c k) = nI (c (k + 1)) := fun k hk => ar_ext (by
          have := hW.2.1 (k + 1) (by omega)
          rw [ar_nI (by omega)]
          exact (cE k hk).1)
        have hb := yd_b hT hF hP hJ
        refine br_f (by decide) (yt_width hT hJ.1 hC' hcc hy.1 hb (fun a a1 a2 a3 hR => ?_))
        have hbe := hb e he
        refine yt_send (dy_mb hT hJ.1) hW c0 hcc cp (by omega) (fun OW' hOW => nm_r (nI_1 t) (ih (t + 1) (by omega) 1 OW' _ PR' BE' ?_ ?_))
        · exact (yd_step hT hF hP hJ hO hC' a1 a2 a3 hR hOW).1
        · have := (yd_step hT hF hP hJ hO hC' a1 a2 a3 hR hOW).2
          exact Or.inl ⟨rfl, by omega⟩
    · subst e
      exact br_t rfl (yd_out hT hJ hx (fun r hr => k r OW RE PR BE hr))
theorem yd_2 {post : Int32 → SY → Prop} (hT : rl_T T) (hF : rl_F T F) (hP : rl_P T P F) (k : ∀ (r : Int32) OW RE PR BE, dy_opt T P r.toInt → post r (l, T, P, pa, pe, am, OW, RE, PR, BE)) :
    ∀ (n i : Nat), 49 < n + i → i ≤ 49 → ∀ OW RE, (∀ p, p < i → OW p = 0 ∧ RE (p / 7) = 0) → wY_debts_2 post l n (nI i) T P pa pe am OW RE PR BE := by
  intro n
  induction n with
  | zero => intro i h1 h2; omega
  | succ n ih =>
    intro i h1 h2 OW RE hz
    rw [wY_debts_2]
    by_cases e : i = 49
    · subst e
      have ho : ∀ u v, u < 7 → v < 7 → ar_7c OW u v = 0 := fun u v hu hv => by
        unfold ar_7c
        rw [(hz (7 * u + v) (by omega)).1]; exact ar_0
      have hr : ∀ v, v < 7 → (RE v).toInt = 0 := fun v hv => by
        have := (hz (7 * v) (by omega)).2
        rw [show 7 * v / 7 = v by omega] at this
        rw [this]; exact ar_0
      refine br_t (show (49 : Int32) ≤ nI 49 from by decide) ⟨20001, yd_35 hT hF hP k 20001 0 (by omega) 1 OW RE PR BE ⟨⟨fun u v hu hv => ?_, fun u v hu hv => ?_⟩, ⟨fun _ => 0, fun u v hu hv _ => ?_⟩, fun v hv => ?_⟩ (Or.inl ⟨rfl, ?_⟩)⟩
      · rw [ho u v hu hv, ho v u hv hu]; rfl
      · rw [ho u v hu hv]; exact (hT.1 v u hv hu).1
      · rw [dy_w, ho u v hu hv]
        show (0 : Int) - 0 ≤ if (0 : Int) < 0 then -1 else 1
        decide
      · rw [hr v hv, zz_c0 (fun u hu => ho u v hu hv)]
      · have := dy_due hT hF hP
        have e : yd_D P RE = zz_s 7 (fun v => ss_p (P v).toInt) := zz_congr (fun v hv => by
          show ss_p ((P v).toInt - (RE v).toInt) = ss_p (P v).toInt
          rw [hr v hv, Int.sub_zero])
        omega
    · have ci : (nI i).toNatClampNeg = i := ar_c (by omega)
      have hd : nI i / 7 = nI (i / 7) := pk_div (d := 7) (by omega) (by omega) (by omega)
      refine br_f (show ¬ (49 : Int32) ≤ nI i from nI_ge (b := 49) (by omega) (by omega)) ?_
      rw [ci, hd, ar_c (n := i / 7) (by omega)]
      refine ⟨vp_in_nI (by omega) (by omega), nm_e ⟨by decide, vp_in_nI (by omega) (by omega), nm_e (nm_r (nI_1 i) (ih (i + 1) (by omega) (by omega) _ _ (fun p hp => ?_)))⟩⟩
      rw [ar_u, ar_u]
      by_cases z : p = i
      · rw [if_pos z, z, if_pos rfl]; exact ⟨rfl, rfl⟩
      · have := hz p (by omega)
        rw [if_neg z]
        refine ⟨this.1, ?_⟩
        by_cases y : p / 7 = i / 7
        · rw [if_pos y]
        · rw [if_neg y]; exact this.2
theorem yd_Y {post : Int32 → SY → Prop} (hT : rl_T T) (hF : rl_F T F) (hP : rl_P T P F) (k : ∀ (r : Int32) OW RE PR BE, dy_opt T P r.toInt → post r (l, T, P, pa, pe, am, OW, RE, PR, BE)) : wpY_debts post (l, T, P, pa, pe, am, OW, RE, PR, BE) :=
  ⟨50, yd_2 hT hF hP k 50 0 (by omega) (by omega) OW RE (fun p hp => absurd hp (Nat.not_lt_zero _))⟩
end
theorem i_vc_debts {k : Nat} {u : SX} {v : SY} (I : i_Rel k u v) (hk : k + 4 ≤ 2048) : wpX_debts (fun r u' => wpY_debts (fun r' v' => r' = r ∧ i_Rel (k + 4) u' v') v) u := by
  obtain ⟨g, T, P, F, pa, pe, am, W, O, C, L, D, H⟩ := u
  obtain ⟨g', T', P', pa', pe', am', OW, RE, PR, BE⟩ := v
  obtain ⟨rfl, rfl, rfl, rfl, rfl, rfl, hG, hT, hF, hP⟩ := I
  exact dd_X hT hF hP (fun r W' O' C' D' hr => yd_Y hT hF hP (fun r' OW' RE' PR' BE' hr' => ⟨ar_ext (dy_uniq hr' hr), rfl, rfl, rfl, rfl, rfl, rfl, hG, hT, hF, hP⟩))
end
