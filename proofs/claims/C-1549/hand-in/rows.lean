section
/-! pure rows to paste: stores, nI and lN arithmetic, masks, shifts, narrowing, branches by naturals (pk_le, pk_lt, pk_eq), loops (lp1 .. lp16: the measure of the state; rp1 ..: recursion), negatives. Take what you need -/
theorem pk_us {f : Nat → Int32} {k : Nat} {x : Int32} : upd f k x k = x := if_pos rfl
theorem pk_un {f : Nat → Int32} {k j : Nat} {x : Int32} (h : j ≠ k) : upd f k x j = f j := if_neg h
theorem pk_uLs {f : Nat → Int64} {k : Nat} {x : Int64} : vp_updL f k x k = x := if_pos rfl
theorem pk_uLn {f : Nat → Int64} {k j : Nat} {x : Int64} (h : j ≠ k) : vp_updL f k x j = f j := if_neg h
theorem pk_sub {a b : Nat} (h : b ≤ a) : nI a - nI b = nI (a - b) := by
  obtain ⟨c, rfl⟩ : ∃ c, a = c + b := ⟨a - b, by omega⟩
  rw [← nI_add, Int32.add_sub_cancel, Nat.add_sub_cancel]
theorem pk_m1 (n : Nat) : nI (n + 1) + (-1) = nI n := by
  rw [← nI_1, Int32.add_assoc, show (1 : Int32) + (-1) = 0 from rfl, Int32.add_zero]
theorem pk_mul (a b : Nat) : nI a * nI b = nI (a * b) := (Int32.ofNat_mul a b).symm
theorem pk_div {a d : Nat} (ha : a < 2 ^ 31) (h0 : 0 < d) (hd : d < 2 ^ 31) : nI a / nI d = nI (a / d) := by
  apply Int32.toInt_inj.mp
  rw [lg_idiv_nonneg (by rw [nI_toInt ha]; omega) (by rw [nI_toInt hd]; omega), nI_toInt ha, nI_toInt hd, nI_toInt (Nat.lt_of_le_of_lt (Nat.div_le_self a d) ha)]
  first | rfl | exact (Int.natCast_ediv _ _).symm
theorem pk_rem {a d : Nat} (ha : a < 2 ^ 31) (h0 : 0 < d) (hd : d < 2 ^ 31) : nI a - nI a / nI d * nI d = nI (a % d) := by
  rw [pk_div ha h0 hd, pk_mul, pk_sub (Nat.div_mul_le_self a d)]
  exact congrArg nI (by have := Nat.div_add_mod' a d; omega)
theorem pk_sub_toInt {a b : Nat} (ha : a < 2 ^ 30) (hb : b < 2 ^ 30) : (nI a - nI b).toInt = (a : Int) - b := by
  rw [Int32.toInt_sub, nI_toInt (by omega), nI_toInt (by omega)]
  exact Int.bmod_eq_of_le (by omega) (by omega)
theorem pk_sneg {a b : Nat} (hb : b < 2 ^ 30) (h : a < b) : nI a - nI b < 0 := by
  rw [Int32.lt_iff_toInt_lt, pk_sub_toInt (by omega) hb, show (0 : Int32).toInt = 0 from by decide]
  omega
theorem pk_ix (x : Int32) {n : Nat} (hn : n < 2 ^ 31) : x < 0 ∨ nI n ≤ x ∨ ∃ j : Nat, j < n ∧ x = nI j := by
  by_cases h : x < 0
  · exact Or.inl h
  · obtain ⟨j, hj, rfl⟩ := nI_of h
    by_cases h2 : j < n
    · exact Or.inr (Or.inr ⟨j, h2, rfl⟩)
    · exact Or.inr (Or.inl (nI_le (by omega) hj))
theorem pk_le {x y : Int32} {A B : Prop} (a b : Nat) (f : a ≤ b → A) (g : b < a → B) (hx : x = nI a := by rfl) (hy : y = nI b := by rfl) (ha : a < 2 ^ 31 := by omega) (hb : b < 2 ^ 31 := by omega) : (x ≤ y → A) ∧ (¬ x ≤ y → B) := by
  subst hx hy
  rw [nI_leI ha hb]
  exact ⟨f, fun z => g (by omega)⟩
theorem pk_lt {x y : Int32} {A B : Prop} (a b : Nat) (f : a < b → A) (g : b ≤ a → B) (hx : x = nI a := by rfl) (hy : y = nI b := by rfl) (ha : a < 2 ^ 31 := by omega) (hb : b < 2 ^ 31 := by omega) : (x < y → A) ∧ (¬ x < y → B) := by
  subst hx hy
  rw [nI_ltI ha hb]
  exact ⟨f, fun z => g (by omega)⟩
theorem pk_eq {x y : Int32} {A B : Prop} (a b : Nat) (f : a = b → A) (g : a ≠ b → B) (hx : x = nI a := by rfl) (hy : y = nI b := by rfl) (ha : a < 2 ^ 31 := by omega) (hb : b < 2 ^ 31 := by omega) : (x = y → A) ∧ (¬ x = y → B) := by
  subst hx hy
  rw [nI_eq ha hb]
  exact ⟨f, g⟩
theorem pk_in {x : Int32} (n N : Nat) (h : n < N) (hx : x = nI n := by rfl) (hN : N < 2 ^ 31 := by omega) : vp_in x N := by
  subst hx
  exact vp_in_nI h hN
theorem pk_cl {x : Int32} (n : Nat) (hx : x = nI n := by rfl) (h : n < 2 ^ 31 := by omega) : x.toNatClampNeg = n := by
  subst hx
  exact nI_clamp h
theorem pk_tn {n : Nat} (h : n < 2 ^ 32) : (nI n).toBitVec.toNat = n := Nat.mod_eq_of_lt h
theorem pk_and (x : Int32) {m : Int32} (k : Nat) (hm : m.toBitVec.toNat = 2 ^ k - 1) : x &&& m = nI (x.toBitVec.toNat % 2 ^ k) := by
  apply Int32.toBitVec_inj.mp
  apply BitVec.eq_of_toNat_eq
  rw [Int32.toBitVec_and, BitVec.toNat_and, hm, Nat.and_two_pow_sub_one_eq_mod]
  show _ = (BitVec.ofNat 32 _).toNat
  rw [BitVec.toNat_ofNat]
  exact (Nat.mod_eq_of_lt (Nat.lt_of_le_of_lt (Nat.mod_le _ _) x.toBitVec.isLt)).symm
theorem pk_andN {n : Nat} (h : n < 2 ^ 32) {m : Int32} (k : Nat) (hm : m.toBitVec.toNat = 2 ^ k - 1) : nI n &&& m = nI (n % 2 ^ k) := by
  rw [pk_and _ k hm, pk_tn h]
theorem pk_andE (x : Int32) {m : Int32} (k : Nat) (hm : m.toBitVec.toNat = 2 ^ k - 1) : ∃ j : Nat, j < 2 ^ k ∧ x &&& m = nI j := ⟨_, Nat.mod_lt _ (Nat.two_pow_pos k), pk_and x k hm⟩
theorem pk_andIn (x : Int32) {m : Int32} (k : Nat) (hm : m.toBitVec.toNat = 2 ^ k - 1) (hk : k ≤ 30) : vp_in (x &&& m) (2 ^ k) := by
  obtain ⟨j, hj, e⟩ := pk_andE x k hm
  rw [e]
  exact vp_in_nI hj (Nat.lt_of_le_of_lt (Nat.pow_le_pow_right (by decide) hk) (by decide))
theorem pk_shl (a s : Int32) (k : Nat) (hs : (s.toBitVec.smod 32).toNat = k) : (a <<< s).toBitVec.toNat = a.toBitVec.toNat * 2 ^ k % 2 ^ 32 := by
  show (a.toBitVec <<< (s.toBitVec.smod 32).toNat).toNat = _
  rw [hs, BitVec.toNat_shiftLeft, Nat.shiftLeft_eq]
theorem pk_shlN {n : Nat} (s : Int32) (k : Nat) (hs : (s.toBitVec.smod 32).toNat = k) (h : n * 2 ^ k < 2 ^ 32) : nI n <<< s = nI (n * 2 ^ k) := by
  apply Int32.toBitVec_inj.mp
  apply BitVec.eq_of_toNat_eq
  have hn : n < 2 ^ 32 := Nat.lt_of_le_of_lt (Nat.le_mul_of_pos_right n (Nat.two_pow_pos k)) h
  rw [pk_shl _ _ k hs, pk_tn hn, pk_tn h, Nat.mod_eq_of_lt h]
theorem pk_shr (a s : Int32) (k : Nat) (hs : (s.toBitVec.smod 32).toNat = k) : (a >>> s).toInt = a.toInt >>> k := by
  show (a.toBitVec.sshiftRight (s.toBitVec.smod 32).toNat).toInt = _
  rw [hs, BitVec.toInt_sshiftRight]
  rfl
theorem pk_shrN {n : Nat} (h : n < 2 ^ 31) (s : Int32) (k : Nat) (hs : (s.toBitVec.smod 32).toNat = k) : nI n >>> s = nI (n / 2 ^ k) := by
  apply Int32.toInt_inj.mp
  have h2 : n / 2 ^ k ≤ n := Nat.div_le_self _ _
  rw [pk_shr _ _ k hs, nI_toInt h, nI_toInt (by omega), Int.shiftRight_eq_div_pow]
  rfl
theorem pk_ushr (x s : Int32) (k : Nat) (hs : ((s.toUInt32 &&& Int32.toUInt32 31).toBitVec % 32).toNat = k) : (x.toUInt32 >>> (s.toUInt32 &&& Int32.toUInt32 31)).toInt32.toBitVec.toNat = x.toBitVec.toNat / 2 ^ k := by
  have e : (x.toUInt32 >>> (s.toUInt32 &&& Int32.toUInt32 31)).toInt32.toBitVec = x.toBitVec >>> k := by
    rw [← hs]
    exact UInt32.toBitVec_shiftRight _ _
  rw [e, BitVec.toNat_ushiftRight, Nat.shiftRight_eq_div_pow]
theorem pk_ushrN {n : Nat} (hn : n < 2 ^ 32) (s : Int32) (k : Nat) (hs : ((s.toUInt32 &&& Int32.toUInt32 31).toBitVec % 32).toNat = k) : ((nI n).toUInt32 >>> (s.toUInt32 &&& Int32.toUInt32 31)).toInt32 = nI (n / 2 ^ k) := by
  apply Int32.toBitVec_inj.mp
  apply BitVec.eq_of_toNat_eq
  rw [pk_ushr _ s k hs, pk_tn hn, pk_tn (Nat.lt_of_le_of_lt (Nat.div_le_self _ _) hn)]
theorem pk_nb (z : Int32) : narrow .byte (.int z.toInt8.toInt32) = .int z.toInt8.toInt32 := congrArg Value.int (by simp)
theorem pk_ns (z : Int32) : narrow .short (.int z.toInt16.toInt32) = .int z.toInt16.toInt32 := congrArg Value.int (by simp)
theorem pk_fb (r : Int32) : fits .byte (.int r.toInt8.toInt32) = true := by
  have ⟨a, b⟩ := lg_i2b_range r
  have h1 : (-128 : Int32).toInt = -128 := by decide
  have h2 : (127 : Int32).toInt = 127 := by decide
  simp only [fits, Bool.and_eq_true, decide_eq_true_eq, Int32.le_iff_toInt_le, h1, h2]
  omega
theorem pk_fs (r : Int32) : fits .short (.int r.toInt16.toInt32) = true := by
  have ⟨a, b⟩ := lg_i2s_range r
  have h1 : (-32768 : Int32).toInt = -32768 := by decide
  have h2 : (32767 : Int32).toInt = 32767 := by decide
  simp only [fits, Bool.and_eq_true, decide_eq_true_eq, Int32.le_iff_toInt_le, h1, h2]
  omega
theorem pk_charN {q : Nat} (hq : q < 65536) : narrow .char (.int (nI q)) = .int (nI q) ∧ fits .char (.int (nI q)) = true := by
  constructor
  · have e : (nI q).toUInt32.toUInt16.toUInt32.toInt32 = nI q := by
      apply Int32.toBitVec_inj.mp
      apply BitVec.eq_of_toNat_eq
      show (nI q).toUInt32.toUInt16.toUInt32.toNat = q % 2 ^ 32
      rw [UInt16.toNat_toUInt32, UInt32.toNat_toUInt16, show (nI q).toUInt32.toNat = q % 2 ^ 32 from rfl]
      omega
    exact congrArg Value.int e
  · have a : (0 : Int32) ≤ nI q := nI_pos' (by omega)
    have b : nI q ≤ 65535 := nI_le (b := 65535) (by omega) (by decide)
    show (decide ((0 : Int32) ≤ nI q) && decide (nI q ≤ 65535)) = true
    rw [decide_eq_true a, decide_eq_true b]
    rfl
theorem pk_char (x : Int32) : (x.toUInt32 % 65536).toInt32 = nI (x.toBitVec.toNat % 65536) := by
  apply Int32.toBitVec_inj.mp
  apply BitVec.eq_of_toNat_eq
  rw [pk_tn (by omega)]
  show (x.toUInt32 % 65536).toNat = _
  rw [UInt32.toNat_mod]
  rfl
theorem pk_nc (x : Int32) : narrow .char (.int (x.toUInt32 % 65536).toInt32) = .int (x.toUInt32 % 65536).toInt32 := by
  rw [pk_char]
  exact (pk_charN (Nat.mod_lt _ (by decide))).1
theorem pk_fc (x : Int32) : fits .char (.int (x.toUInt32 % 65536).toInt32) = true := by
  rw [pk_char]
  exact (pk_charN (Nat.mod_lt _ (by decide))).2
theorem pk_vb (z : Int32) : vp_nar .byte z.toInt8.toInt32 = z.toInt8.toInt32 := by rw [vp_nar_byte]; simp
theorem pk_vs (z : Int32) : vp_nar .short z.toInt16.toInt32 = z.toInt16.toInt32 := by rw [vp_nar_short]; simp
theorem pk_vc (z : Int32) : vp_nar .char (z.toUInt32 % 65536).toInt32 = (z.toUInt32 % 65536).toInt32 := Value.int.inj (pk_nc z)
theorem pk_lT {n : Nat} (h : n < 2 ^ 63) : (lN n).toInt = (n : Int) := lg_ofNat_toInt h
theorem pk_lLT {a b : Nat} (ha : a < 2 ^ 63) (hb : b < 2 ^ 63) : lN a < lN b ↔ a < b := by
  rw [Int64.lt_iff_toInt_lt, pk_lT ha, pk_lT hb]; omega
theorem pk_lLE {a b : Nat} (ha : a < 2 ^ 63) (hb : b < 2 ^ 63) : lN a ≤ lN b ↔ a ≤ b := by
  rw [Int64.le_iff_toInt_le, pk_lT ha, pk_lT hb]; omega
theorem pk_lEQ {a b : Nat} (ha : a < 2 ^ 63) (hb : b < 2 ^ 63) : lN a = lN b ↔ a = b := by
  rw [← Int64.toInt_inj, pk_lT ha, pk_lT hb]; omega
theorem pk_lOf {x : Int64} (h : ¬ x < 0) : ∃ k : Nat, k < 2 ^ 63 ∧ x = lN k := by
  rw [Int64.lt_iff_toInt_lt] at h
  have h0 : (0 : Int64).toInt = 0 := by decide
  have hx := Int64.toInt_lt x
  refine ⟨x.toInt.toNat, by omega, Int64.toInt_inj.mp ?_⟩
  rw [pk_lT (by omega)]
  omega
theorem pk_lDiv {a b : Nat} (ha : a < 2 ^ 63) (h0 : 0 < b) (hb : b < 2 ^ 63) : lN a / lN b = lN (a / b) := by
  apply Int64.toInt_inj.mp
  rw [lg_ldiv_nonneg (by rw [pk_lT ha]; omega) (by rw [pk_lT hb]; omega), pk_lT ha, pk_lT hb, pk_lT (Nat.lt_of_le_of_lt (Nat.div_le_self a b) ha)]
  rfl
theorem pk_lRem {a b : Nat} (ha : a < 2 ^ 63) (h0 : 0 < b) (hb : b < 2 ^ 63) : lN a - lN a / lN b * lN b = lN (a % b) := by
  rw [pk_lDiv ha h0 hb, lN_mul, lN_sub (Nat.div_mul_le_self a b)]
  exact congrArg lN (by have := Nat.div_add_mod' a b; omega)
theorem pk_loop {σ : Type} (W : Nat → Nat → σ → Prop) (I : Nat → σ → Prop) (e i0 : Nat) (s : σ) (hi : i0 ≤ e) (h0 : I i0 s) (hx : ∀ n s, I e s → W (n + 1) e s)
    (hs : ∀ n i s, i < e → I i s → (∀ s', I (i + 1) s' → W n (i + 1) s') → W (n + 1) i s) : ∃ n, W n i0 s :=
  ⟨e + 1, loop_i W I e hx hs (e + 1) i0 s hi (by omega) h0⟩
theorem pk_loopD {σ : Type} (W : Nat → Nat → σ → Prop) (I : Nat → σ → Prop) (hx : ∀ n s, I 0 s → W (n + 1) 0 s)
    (hs : ∀ n i s, I (i + 1) s → (∀ s', I i s' → W n i s') → W (n + 1) (i + 1) s) : ∀ (e : Nat) (s : σ), I e s → W (e + 1) e s := by
  intro e
  induction e with
  | zero => exact fun s h => hx 0 s h
  | succ e ih => exact fun s h => hs (e + 1) e s h (fun s' h' => ih s' h')
theorem lp1 {A1 : Type} (W : Nat → A1 → Prop) (I : A1 → Prop) (μ : A1 → Nat) (hs : ∀ (n : Nat) (a1 : A1), I a1 → (∀ (b1 : A1), I b1 → μ b1 < μ a1 → W n b1) → W (n + 1) a1) (a1 : A1) (h : I a1) : ∃ n, W n a1 :=
  loop_m (σ := A1) (fun n s => W n s) (fun s => I s) (fun s => μ s) (fun n s hI hk => hs n s hI (fun b1 h9 hm => hk b1 h9 hm)) a1 h
theorem lp2 {A1 A2 : Type} (W : Nat → A1 → A2 → Prop) (I : A1 → A2 → Prop) (μ : A1 → A2 → Nat) (hs : ∀ (n : Nat) (a1 : A1) (a2 : A2), I a1 a2 → (∀ (b1 : A1) (b2 : A2), I b1 b2 → μ b1 b2 < μ a1 a2 → W n b1 b2) → W (n + 1) a1 a2) (a1 : A1) (a2 : A2) (h : I a1 a2) : ∃ n, W n a1 a2 :=
  loop_m (σ := A1 × A2) (fun n s => W n s.1 s.2) (fun s => I s.1 s.2) (fun s => μ s.1 s.2) (fun n s hI hk => hs n s.1 s.2 hI (fun b1 b2 h9 hm => hk (b1, b2) h9 hm)) (a1, a2) h
theorem lp3 {A1 A2 A3 : Type} (W : Nat → A1 → A2 → A3 → Prop) (I : A1 → A2 → A3 → Prop) (μ : A1 → A2 → A3 → Nat) (hs : ∀ (n : Nat) (a1 : A1) (a2 : A2) (a3 : A3), I a1 a2 a3 → (∀ (b1 : A1) (b2 : A2) (b3 : A3), I b1 b2 b3 → μ b1 b2 b3 < μ a1 a2 a3 → W n b1 b2 b3) → W (n + 1) a1 a2 a3) (a1 : A1) (a2 : A2) (a3 : A3) (h : I a1 a2 a3) : ∃ n, W n a1 a2 a3 :=
  loop_m (σ := A1 × A2 × A3) (fun n s => W n s.1 s.2.1 s.2.2) (fun s => I s.1 s.2.1 s.2.2) (fun s => μ s.1 s.2.1 s.2.2) (fun n s hI hk => hs n s.1 s.2.1 s.2.2 hI (fun b1 b2 b3 h9 hm => hk (b1, b2, b3) h9 hm)) (a1, a2, a3) h
theorem lp4 {A1 A2 A3 A4 : Type} (W : Nat → A1 → A2 → A3 → A4 → Prop) (I : A1 → A2 → A3 → A4 → Prop) (μ : A1 → A2 → A3 → A4 → Nat) (hs : ∀ (n : Nat) (a1 : A1) (a2 : A2) (a3 : A3) (a4 : A4), I a1 a2 a3 a4 → (∀ (b1 : A1) (b2 : A2) (b3 : A3) (b4 : A4), I b1 b2 b3 b4 → μ b1 b2 b3 b4 < μ a1 a2 a3 a4 → W n b1 b2 b3 b4) → W (n + 1) a1 a2 a3 a4) (a1 : A1) (a2 : A2) (a3 : A3) (a4 : A4) (h : I a1 a2 a3 a4) : ∃ n, W n a1 a2 a3 a4 :=
  loop_m (σ := A1 × A2 × A3 × A4) (fun n s => W n s.1 s.2.1 s.2.2.1 s.2.2.2) (fun s => I s.1 s.2.1 s.2.2.1 s.2.2.2) (fun s => μ s.1 s.2.1 s.2.2.1 s.2.2.2) (fun n s hI hk => hs n s.1 s.2.1 s.2.2.1 s.2.2.2 hI (fun b1 b2 b3 b4 h9 hm => hk (b1, b2, b3, b4) h9 hm)) (a1, a2, a3, a4) h
theorem lp5 {A1 A2 A3 A4 A5 : Type} (W : Nat → A1 → A2 → A3 → A4 → A5 → Prop) (I : A1 → A2 → A3 → A4 → A5 → Prop) (μ : A1 → A2 → A3 → A4 → A5 → Nat) (hs : ∀ (n : Nat) (a1 : A1) (a2 : A2) (a3 : A3) (a4 : A4) (a5 : A5), I a1 a2 a3 a4 a5 → (∀ (b1 : A1) (b2 : A2) (b3 : A3) (b4 : A4) (b5 : A5), I b1 b2 b3 b4 b5 → μ b1 b2 b3 b4 b5 < μ a1 a2 a3 a4 a5 → W n b1 b2 b3 b4 b5) → W (n + 1) a1 a2 a3 a4 a5) (a1 : A1) (a2 : A2) (a3 : A3) (a4 : A4) (a5 : A5) (h : I a1 a2 a3 a4 a5) : ∃ n, W n a1 a2 a3 a4 a5 :=
  loop_m (σ := A1 × A2 × A3 × A4 × A5) (fun n s => W n s.1 s.2.1 s.2.2.1 s.2.2.2.1 s.2.2.2.2) (fun s => I s.1 s.2.1 s.2.2.1 s.2.2.2.1 s.2.2.2.2) (fun s => μ s.1 s.2.1 s.2.2.1 s.2.2.2.1 s.2.2.2.2) (fun n s hI hk => hs n s.1 s.2.1 s.2.2.1 s.2.2.2.1 s.2.2.2.2 hI (fun b1 b2 b3 b4 b5 h9 hm => hk (b1, b2, b3, b4, b5) h9 hm)) (a1, a2, a3, a4, a5) h
theorem lp6 {A1 A2 A3 A4 A5 A6 : Type} (W : Nat → A1 → A2 → A3 → A4 → A5 → A6 → Prop) (I : A1 → A2 → A3 → A4 → A5 → A6 → Prop) (μ : A1 → A2 → A3 → A4 → A5 → A6 → Nat) (hs : ∀ (n : Nat) (a1 : A1) (a2 : A2) (a3 : A3) (a4 : A4) (a5 : A5) (a6 : A6), I a1 a2 a3 a4 a5 a6 → (∀ (b1 : A1) (b2 : A2) (b3 : A3) (b4 : A4) (b5 : A5) (b6 : A6), I b1 b2 b3 b4 b5 b6 → μ b1 b2 b3 b4 b5 b6 < μ a1 a2 a3 a4 a5 a6 → W n b1 b2 b3 b4 b5 b6) → W (n + 1) a1 a2 a3 a4 a5 a6) (a1 : A1) (a2 : A2) (a3 : A3) (a4 : A4) (a5 : A5) (a6 : A6) (h : I a1 a2 a3 a4 a5 a6) : ∃ n, W n a1 a2 a3 a4 a5 a6 :=
  loop_m (σ := A1 × A2 × A3 × A4 × A5 × A6) (fun n s => W n s.1 s.2.1 s.2.2.1 s.2.2.2.1 s.2.2.2.2.1 s.2.2.2.2.2) (fun s => I s.1 s.2.1 s.2.2.1 s.2.2.2.1 s.2.2.2.2.1 s.2.2.2.2.2) (fun s => μ s.1 s.2.1 s.2.2.1 s.2.2.2.1 s.2.2.2.2.1 s.2.2.2.2.2) (fun n s hI hk => hs n s.1 s.2.1 s.2.2.1 s.2.2.2.1 s.2.2.2.2.1 s.2.2.2.2.2 hI (fun b1 b2 b3 b4 b5 b6 h9 hm => hk (b1, b2, b3, b4, b5, b6) h9 hm)) (a1, a2, a3, a4, a5, a6) h
theorem lp7 {A1 A2 A3 A4 A5 A6 A7 : Type} (W : Nat → A1 → A2 → A3 → A4 → A5 → A6 → A7 → Prop) (I : A1 → A2 → A3 → A4 → A5 → A6 → A7 → Prop) (μ : A1 → A2 → A3 → A4 → A5 → A6 → A7 → Nat) (hs : ∀ (n : Nat) (a1 : A1) (a2 : A2) (a3 : A3) (a4 : A4) (a5 : A5) (a6 : A6) (a7 : A7), I a1 a2 a3 a4 a5 a6 a7 → (∀ (b1 : A1) (b2 : A2) (b3 : A3) (b4 : A4) (b5 : A5) (b6 : A6) (b7 : A7), I b1 b2 b3 b4 b5 b6 b7 → μ b1 b2 b3 b4 b5 b6 b7 < μ a1 a2 a3 a4 a5 a6 a7 → W n b1 b2 b3 b4 b5 b6 b7) → W (n + 1) a1 a2 a3 a4 a5 a6 a7) (a1 : A1) (a2 : A2) (a3 : A3) (a4 : A4) (a5 : A5) (a6 : A6) (a7 : A7) (h : I a1 a2 a3 a4 a5 a6 a7) : ∃ n, W n a1 a2 a3 a4 a5 a6 a7 :=
  loop_m (σ := A1 × A2 × A3 × A4 × A5 × A6 × A7) (fun n s => W n s.1 s.2.1 s.2.2.1 s.2.2.2.1 s.2.2.2.2.1 s.2.2.2.2.2.1 s.2.2.2.2.2.2) (fun s => I s.1 s.2.1 s.2.2.1 s.2.2.2.1 s.2.2.2.2.1 s.2.2.2.2.2.1 s.2.2.2.2.2.2) (fun s => μ s.1 s.2.1 s.2.2.1 s.2.2.2.1 s.2.2.2.2.1 s.2.2.2.2.2.1 s.2.2.2.2.2.2) (fun n s hI hk => hs n s.1 s.2.1 s.2.2.1 s.2.2.2.1 s.2.2.2.2.1 s.2.2.2.2.2.1 s.2.2.2.2.2.2 hI (fun b1 b2 b3 b4 b5 b6 b7 h9 hm => hk (b1, b2, b3, b4, b5, b6, b7) h9 hm)) (a1, a2, a3, a4, a5, a6, a7) h
theorem lp8 {A1 A2 A3 A4 A5 A6 A7 A8 : Type} (W : Nat → A1 → A2 → A3 → A4 → A5 → A6 → A7 → A8 → Prop) (I : A1 → A2 → A3 → A4 → A5 → A6 → A7 → A8 → Prop) (μ : A1 → A2 → A3 → A4 → A5 → A6 → A7 → A8 → Nat) (hs : ∀ (n : Nat) (a1 : A1) (a2 : A2) (a3 : A3) (a4 : A4) (a5 : A5) (a6 : A6) (a7 : A7) (a8 : A8), I a1 a2 a3 a4 a5 a6 a7 a8 → (∀ (b1 : A1) (b2 : A2) (b3 : A3) (b4 : A4) (b5 : A5) (b6 : A6) (b7 : A7) (b8 : A8), I b1 b2 b3 b4 b5 b6 b7 b8 → μ b1 b2 b3 b4 b5 b6 b7 b8 < μ a1 a2 a3 a4 a5 a6 a7 a8 → W n b1 b2 b3 b4 b5 b6 b7 b8) → W (n + 1) a1 a2 a3 a4 a5 a6 a7 a8) (a1 : A1) (a2 : A2) (a3 : A3) (a4 : A4) (a5 : A5) (a6 : A6) (a7 : A7) (a8 : A8) (h : I a1 a2 a3 a4 a5 a6 a7 a8) : ∃ n, W n a1 a2 a3 a4 a5 a6 a7 a8 :=
  loop_m (σ := A1 × A2 × A3 × A4 × A5 × A6 × A7 × A8) (fun n s => W n s.1 s.2.1 s.2.2.1 s.2.2.2.1 s.2.2.2.2.1 s.2.2.2.2.2.1 s.2.2.2.2.2.2.1 s.2.2.2.2.2.2.2) (fun s => I s.1 s.2.1 s.2.2.1 s.2.2.2.1 s.2.2.2.2.1 s.2.2.2.2.2.1 s.2.2.2.2.2.2.1 s.2.2.2.2.2.2.2) (fun s => μ s.1 s.2.1 s.2.2.1 s.2.2.2.1 s.2.2.2.2.1 s.2.2.2.2.2.1 s.2.2.2.2.2.2.1 s.2.2.2.2.2.2.2) (fun n s hI hk => hs n s.1 s.2.1 s.2.2.1 s.2.2.2.1 s.2.2.2.2.1 s.2.2.2.2.2.1 s.2.2.2.2.2.2.1 s.2.2.2.2.2.2.2 hI (fun b1 b2 b3 b4 b5 b6 b7 b8 h9 hm => hk (b1, b2, b3, b4, b5, b6, b7, b8) h9 hm)) (a1, a2, a3, a4, a5, a6, a7, a8) h
theorem lp9 {A1 A2 A3 A4 A5 A6 A7 A8 A9 : Type} (W : Nat → A1 → A2 → A3 → A4 → A5 → A6 → A7 → A8 → A9 → Prop) (I : A1 → A2 → A3 → A4 → A5 → A6 → A7 → A8 → A9 → Prop) (μ : A1 → A2 → A3 → A4 → A5 → A6 → A7 → A8 → A9 → Nat) (hs : ∀ (n : Nat) (a1 : A1) (a2 : A2) (a3 : A3) (a4 : A4) (a5 : A5) (a6 : A6) (a7 : A7) (a8 : A8) (a9 : A9), I a1 a2 a3 a4 a5 a6 a7 a8 a9 → (∀ (b1 : A1) (b2 : A2) (b3 : A3) (b4 : A4) (b5 : A5) (b6 : A6) (b7 : A7) (b8 : A8) (b9 : A9), I b1 b2 b3 b4 b5 b6 b7 b8 b9 → μ b1 b2 b3 b4 b5 b6 b7 b8 b9 < μ a1 a2 a3 a4 a5 a6 a7 a8 a9 → W n b1 b2 b3 b4 b5 b6 b7 b8 b9) → W (n + 1) a1 a2 a3 a4 a5 a6 a7 a8 a9) (a1 : A1) (a2 : A2) (a3 : A3) (a4 : A4) (a5 : A5) (a6 : A6) (a7 : A7) (a8 : A8) (a9 : A9) (h : I a1 a2 a3 a4 a5 a6 a7 a8 a9) : ∃ n, W n a1 a2 a3 a4 a5 a6 a7 a8 a9 :=
  loop_m (σ := A1 × A2 × A3 × A4 × A5 × A6 × A7 × A8 × A9) (fun n s => W n s.1 s.2.1 s.2.2.1 s.2.2.2.1 s.2.2.2.2.1 s.2.2.2.2.2.1 s.2.2.2.2.2.2.1 s.2.2.2.2.2.2.2.1 s.2.2.2.2.2.2.2.2) (fun s => I s.1 s.2.1 s.2.2.1 s.2.2.2.1 s.2.2.2.2.1 s.2.2.2.2.2.1 s.2.2.2.2.2.2.1 s.2.2.2.2.2.2.2.1 s.2.2.2.2.2.2.2.2) (fun s => μ s.1 s.2.1 s.2.2.1 s.2.2.2.1 s.2.2.2.2.1 s.2.2.2.2.2.1 s.2.2.2.2.2.2.1 s.2.2.2.2.2.2.2.1 s.2.2.2.2.2.2.2.2) (fun n s hI hk => hs n s.1 s.2.1 s.2.2.1 s.2.2.2.1 s.2.2.2.2.1 s.2.2.2.2.2.1 s.2.2.2.2.2.2.1 s.2.2.2.2.2.2.2.1 s.2.2.2.2.2.2.2.2 hI (fun b1 b2 b3 b4 b5 b6 b7 b8 b9 h9 hm => hk (b1, b2, b3, b4, b5, b6, b7, b8, b9) h9 hm)) (a1, a2, a3, a4, a5, a6, a7, a8, a9) h
theorem lp10 {A1 A2 A3 A4 A5 A6 A7 A8 A9 A10 : Type} (W : Nat → A1 → A2 → A3 → A4 → A5 → A6 → A7 → A8 → A9 → A10 → Prop) (I : A1 → A2 → A3 → A4 → A5 → A6 → A7 → A8 → A9 → A10 → Prop) (μ : A1 → A2 → A3 → A4 → A5 → A6 → A7 → A8 → A9 → A10 → Nat) (hs : ∀ (n : Nat) (a1 : A1) (a2 : A2) (a3 : A3) (a4 : A4) (a5 : A5) (a6 : A6) (a7 : A7) (a8 : A8) (a9 : A9) (a10 : A10), I a1 a2 a3 a4 a5 a6 a7 a8 a9 a10 → (∀ (b1 : A1) (b2 : A2) (b3 : A3) (b4 : A4) (b5 : A5) (b6 : A6) (b7 : A7) (b8 : A8) (b9 : A9) (b10 : A10), I b1 b2 b3 b4 b5 b6 b7 b8 b9 b10 → μ b1 b2 b3 b4 b5 b6 b7 b8 b9 b10 < μ a1 a2 a3 a4 a5 a6 a7 a8 a9 a10 → W n b1 b2 b3 b4 b5 b6 b7 b8 b9 b10) → W (n + 1) a1 a2 a3 a4 a5 a6 a7 a8 a9 a10) (a1 : A1) (a2 : A2) (a3 : A3) (a4 : A4) (a5 : A5) (a6 : A6) (a7 : A7) (a8 : A8) (a9 : A9) (a10 : A10) (h : I a1 a2 a3 a4 a5 a6 a7 a8 a9 a10) : ∃ n, W n a1 a2 a3 a4 a5 a6 a7 a8 a9 a10 :=
  loop_m (σ := A1 × A2 × A3 × A4 × A5 × A6 × A7 × A8 × A9 × A10) (fun n s => W n s.1 s.2.1 s.2.2.1 s.2.2.2.1 s.2.2.2.2.1 s.2.2.2.2.2.1 s.2.2.2.2.2.2.1 s.2.2.2.2.2.2.2.1 s.2.2.2.2.2.2.2.2.1 s.2.2.2.2.2.2.2.2.2) (fun s => I s.1 s.2.1 s.2.2.1 s.2.2.2.1 s.2.2.2.2.1 s.2.2.2.2.2.1 s.2.2.2.2.2.2.1 s.2.2.2.2.2.2.2.1 s.2.2.2.2.2.2.2.2.1 s.2.2.2.2.2.2.2.2.2) (fun s => μ s.1 s.2.1 s.2.2.1 s.2.2.2.1 s.2.2.2.2.1 s.2.2.2.2.2.1 s.2.2.2.2.2.2.1 s.2.2.2.2.2.2.2.1 s.2.2.2.2.2.2.2.2.1 s.2.2.2.2.2.2.2.2.2) (fun n s hI hk => hs n s.1 s.2.1 s.2.2.1 s.2.2.2.1 s.2.2.2.2.1 s.2.2.2.2.2.1 s.2.2.2.2.2.2.1 s.2.2.2.2.2.2.2.1 s.2.2.2.2.2.2.2.2.1 s.2.2.2.2.2.2.2.2.2 hI (fun b1 b2 b3 b4 b5 b6 b7 b8 b9 b10 h9 hm => hk (b1, b2, b3, b4, b5, b6, b7, b8, b9, b10) h9 hm)) (a1, a2, a3, a4, a5, a6, a7, a8, a9, a10) h
theorem lp11 {A1 A2 A3 A4 A5 A6 A7 A8 A9 A10 A11 : Type} (W : Nat → A1 → A2 → A3 → A4 → A5 → A6 → A7 → A8 → A9 → A10 → A11 → Prop) (I : A1 → A2 → A3 → A4 → A5 → A6 → A7 → A8 → A9 → A10 → A11 → Prop) (μ : A1 → A2 → A3 → A4 → A5 → A6 → A7 → A8 → A9 → A10 → A11 → Nat) (hs : ∀ (n : Nat) (a1 : A1) (a2 : A2) (a3 : A3) (a4 : A4) (a5 : A5) (a6 : A6) (a7 : A7) (a8 : A8) (a9 : A9) (a10 : A10) (a11 : A11), I a1 a2 a3 a4 a5 a6 a7 a8 a9 a10 a11 → (∀ (b1 : A1) (b2 : A2) (b3 : A3) (b4 : A4) (b5 : A5) (b6 : A6) (b7 : A7) (b8 : A8) (b9 : A9) (b10 : A10) (b11 : A11), I b1 b2 b3 b4 b5 b6 b7 b8 b9 b10 b11 → μ b1 b2 b3 b4 b5 b6 b7 b8 b9 b10 b11 < μ a1 a2 a3 a4 a5 a6 a7 a8 a9 a10 a11 → W n b1 b2 b3 b4 b5 b6 b7 b8 b9 b10 b11) → W (n + 1) a1 a2 a3 a4 a5 a6 a7 a8 a9 a10 a11) (a1 : A1) (a2 : A2) (a3 : A3) (a4 : A4) (a5 : A5) (a6 : A6) (a7 : A7) (a8 : A8) (a9 : A9) (a10 : A10) (a11 : A11) (h : I a1 a2 a3 a4 a5 a6 a7 a8 a9 a10 a11) : ∃ n, W n a1 a2 a3 a4 a5 a6 a7 a8 a9 a10 a11 :=
  loop_m (σ := A1 × A2 × A3 × A4 × A5 × A6 × A7 × A8 × A9 × A10 × A11) (fun n s => W n s.1 s.2.1 s.2.2.1 s.2.2.2.1 s.2.2.2.2.1 s.2.2.2.2.2.1 s.2.2.2.2.2.2.1 s.2.2.2.2.2.2.2.1 s.2.2.2.2.2.2.2.2.1 s.2.2.2.2.2.2.2.2.2.1 s.2.2.2.2.2.2.2.2.2.2) (fun s => I s.1 s.2.1 s.2.2.1 s.2.2.2.1 s.2.2.2.2.1 s.2.2.2.2.2.1 s.2.2.2.2.2.2.1 s.2.2.2.2.2.2.2.1 s.2.2.2.2.2.2.2.2.1 s.2.2.2.2.2.2.2.2.2.1 s.2.2.2.2.2.2.2.2.2.2) (fun s => μ s.1 s.2.1 s.2.2.1 s.2.2.2.1 s.2.2.2.2.1 s.2.2.2.2.2.1 s.2.2.2.2.2.2.1 s.2.2.2.2.2.2.2.1 s.2.2.2.2.2.2.2.2.1 s.2.2.2.2.2.2.2.2.2.1 s.2.2.2.2.2.2.2.2.2.2) (fun n s hI hk => hs n s.1 s.2.1 s.2.2.1 s.2.2.2.1 s.2.2.2.2.1 s.2.2.2.2.2.1 s.2.2.2.2.2.2.1 s.2.2.2.2.2.2.2.1 s.2.2.2.2.2.2.2.2.1 s.2.2.2.2.2.2.2.2.2.1 s.2.2.2.2.2.2.2.2.2.2 hI (fun b1 b2 b3 b4 b5 b6 b7 b8 b9 b10 b11 h9 hm => hk (b1, b2, b3, b4, b5, b6, b7, b8, b9, b10, b11) h9 hm)) (a1, a2, a3, a4, a5, a6, a7, a8, a9, a10, a11) h
theorem lp12 {A1 A2 A3 A4 A5 A6 A7 A8 A9 A10 A11 A12 : Type} (W : Nat → A1 → A2 → A3 → A4 → A5 → A6 → A7 → A8 → A9 → A10 → A11 → A12 → Prop) (I : A1 → A2 → A3 → A4 → A5 → A6 → A7 → A8 → A9 → A10 → A11 → A12 → Prop) (μ : A1 → A2 → A3 → A4 → A5 → A6 → A7 → A8 → A9 → A10 → A11 → A12 → Nat) (hs : ∀ (n : Nat) (a1 : A1) (a2 : A2) (a3 : A3) (a4 : A4) (a5 : A5) (a6 : A6) (a7 : A7) (a8 : A8) (a9 : A9) (a10 : A10) (a11 : A11) (a12 : A12), I a1 a2 a3 a4 a5 a6 a7 a8 a9 a10 a11 a12 → (∀ (b1 : A1) (b2 : A2) (b3 : A3) (b4 : A4) (b5 : A5) (b6 : A6) (b7 : A7) (b8 : A8) (b9 : A9) (b10 : A10) (b11 : A11) (b12 : A12), I b1 b2 b3 b4 b5 b6 b7 b8 b9 b10 b11 b12 → μ b1 b2 b3 b4 b5 b6 b7 b8 b9 b10 b11 b12 < μ a1 a2 a3 a4 a5 a6 a7 a8 a9 a10 a11 a12 → W n b1 b2 b3 b4 b5 b6 b7 b8 b9 b10 b11 b12) → W (n + 1) a1 a2 a3 a4 a5 a6 a7 a8 a9 a10 a11 a12) (a1 : A1) (a2 : A2) (a3 : A3) (a4 : A4) (a5 : A5) (a6 : A6) (a7 : A7) (a8 : A8) (a9 : A9) (a10 : A10) (a11 : A11) (a12 : A12) (h : I a1 a2 a3 a4 a5 a6 a7 a8 a9 a10 a11 a12) : ∃ n, W n a1 a2 a3 a4 a5 a6 a7 a8 a9 a10 a11 a12 :=
  loop_m (σ := A1 × A2 × A3 × A4 × A5 × A6 × A7 × A8 × A9 × A10 × A11 × A12) (fun n s => W n s.1 s.2.1 s.2.2.1 s.2.2.2.1 s.2.2.2.2.1 s.2.2.2.2.2.1 s.2.2.2.2.2.2.1 s.2.2.2.2.2.2.2.1 s.2.2.2.2.2.2.2.2.1 s.2.2.2.2.2.2.2.2.2.1 s.2.2.2.2.2.2.2.2.2.2.1 s.2.2.2.2.2.2.2.2.2.2.2) (fun s => I s.1 s.2.1 s.2.2.1 s.2.2.2.1 s.2.2.2.2.1 s.2.2.2.2.2.1 s.2.2.2.2.2.2.1 s.2.2.2.2.2.2.2.1 s.2.2.2.2.2.2.2.2.1 s.2.2.2.2.2.2.2.2.2.1 s.2.2.2.2.2.2.2.2.2.2.1 s.2.2.2.2.2.2.2.2.2.2.2) (fun s => μ s.1 s.2.1 s.2.2.1 s.2.2.2.1 s.2.2.2.2.1 s.2.2.2.2.2.1 s.2.2.2.2.2.2.1 s.2.2.2.2.2.2.2.1 s.2.2.2.2.2.2.2.2.1 s.2.2.2.2.2.2.2.2.2.1 s.2.2.2.2.2.2.2.2.2.2.1 s.2.2.2.2.2.2.2.2.2.2.2) (fun n s hI hk => hs n s.1 s.2.1 s.2.2.1 s.2.2.2.1 s.2.2.2.2.1 s.2.2.2.2.2.1 s.2.2.2.2.2.2.1 s.2.2.2.2.2.2.2.1 s.2.2.2.2.2.2.2.2.1 s.2.2.2.2.2.2.2.2.2.1 s.2.2.2.2.2.2.2.2.2.2.1 s.2.2.2.2.2.2.2.2.2.2.2 hI (fun b1 b2 b3 b4 b5 b6 b7 b8 b9 b10 b11 b12 h9 hm => hk (b1, b2, b3, b4, b5, b6, b7, b8, b9, b10, b11, b12) h9 hm)) (a1, a2, a3, a4, a5, a6, a7, a8, a9, a10, a11, a12) h
theorem lp13 {A1 A2 A3 A4 A5 A6 A7 A8 A9 A10 A11 A12 A13 : Type} (W : Nat → A1 → A2 → A3 → A4 → A5 → A6 → A7 → A8 → A9 → A10 → A11 → A12 → A13 → Prop) (I : A1 → A2 → A3 → A4 → A5 → A6 → A7 → A8 → A9 → A10 → A11 → A12 → A13 → Prop) (μ : A1 → A2 → A3 → A4 → A5 → A6 → A7 → A8 → A9 → A10 → A11 → A12 → A13 → Nat) (hs : ∀ (n : Nat) (a1 : A1) (a2 : A2) (a3 : A3) (a4 : A4) (a5 : A5) (a6 : A6) (a7 : A7) (a8 : A8) (a9 : A9) (a10 : A10) (a11 : A11) (a12 : A12) (a13 : A13), I a1 a2 a3 a4 a5 a6 a7 a8 a9 a10 a11 a12 a13 → (∀ (b1 : A1) (b2 : A2) (b3 : A3) (b4 : A4) (b5 : A5) (b6 : A6) (b7 : A7) (b8 : A8) (b9 : A9) (b10 : A10) (b11 : A11) (b12 : A12) (b13 : A13), I b1 b2 b3 b4 b5 b6 b7 b8 b9 b10 b11 b12 b13 → μ b1 b2 b3 b4 b5 b6 b7 b8 b9 b10 b11 b12 b13 < μ a1 a2 a3 a4 a5 a6 a7 a8 a9 a10 a11 a12 a13 → W n b1 b2 b3 b4 b5 b6 b7 b8 b9 b10 b11 b12 b13) → W (n + 1) a1 a2 a3 a4 a5 a6 a7 a8 a9 a10 a11 a12 a13) (a1 : A1) (a2 : A2) (a3 : A3) (a4 : A4) (a5 : A5) (a6 : A6) (a7 : A7) (a8 : A8) (a9 : A9) (a10 : A10) (a11 : A11) (a12 : A12) (a13 : A13) (h : I a1 a2 a3 a4 a5 a6 a7 a8 a9 a10 a11 a12 a13) : ∃ n, W n a1 a2 a3 a4 a5 a6 a7 a8 a9 a10 a11 a12 a13 :=
  loop_m (σ := A1 × A2 × A3 × A4 × A5 × A6 × A7 × A8 × A9 × A10 × A11 × A12 × A13) (fun n s => W n s.1 s.2.1 s.2.2.1 s.2.2.2.1 s.2.2.2.2.1 s.2.2.2.2.2.1 s.2.2.2.2.2.2.1 s.2.2.2.2.2.2.2.1 s.2.2.2.2.2.2.2.2.1 s.2.2.2.2.2.2.2.2.2.1 s.2.2.2.2.2.2.2.2.2.2.1 s.2.2.2.2.2.2.2.2.2.2.2.1 s.2.2.2.2.2.2.2.2.2.2.2.2) (fun s => I s.1 s.2.1 s.2.2.1 s.2.2.2.1 s.2.2.2.2.1 s.2.2.2.2.2.1 s.2.2.2.2.2.2.1 s.2.2.2.2.2.2.2.1 s.2.2.2.2.2.2.2.2.1 s.2.2.2.2.2.2.2.2.2.1 s.2.2.2.2.2.2.2.2.2.2.1 s.2.2.2.2.2.2.2.2.2.2.2.1 s.2.2.2.2.2.2.2.2.2.2.2.2) (fun s => μ s.1 s.2.1 s.2.2.1 s.2.2.2.1 s.2.2.2.2.1 s.2.2.2.2.2.1 s.2.2.2.2.2.2.1 s.2.2.2.2.2.2.2.1 s.2.2.2.2.2.2.2.2.1 s.2.2.2.2.2.2.2.2.2.1 s.2.2.2.2.2.2.2.2.2.2.1 s.2.2.2.2.2.2.2.2.2.2.2.1 s.2.2.2.2.2.2.2.2.2.2.2.2) (fun n s hI hk => hs n s.1 s.2.1 s.2.2.1 s.2.2.2.1 s.2.2.2.2.1 s.2.2.2.2.2.1 s.2.2.2.2.2.2.1 s.2.2.2.2.2.2.2.1 s.2.2.2.2.2.2.2.2.1 s.2.2.2.2.2.2.2.2.2.1 s.2.2.2.2.2.2.2.2.2.2.1 s.2.2.2.2.2.2.2.2.2.2.2.1 s.2.2.2.2.2.2.2.2.2.2.2.2 hI (fun b1 b2 b3 b4 b5 b6 b7 b8 b9 b10 b11 b12 b13 h9 hm => hk (b1, b2, b3, b4, b5, b6, b7, b8, b9, b10, b11, b12, b13) h9 hm)) (a1, a2, a3, a4, a5, a6, a7, a8, a9, a10, a11, a12, a13) h
theorem lp14 {A1 A2 A3 A4 A5 A6 A7 A8 A9 A10 A11 A12 A13 A14 : Type} (W : Nat → A1 → A2 → A3 → A4 → A5 → A6 → A7 → A8 → A9 → A10 → A11 → A12 → A13 → A14 → Prop) (I : A1 → A2 → A3 → A4 → A5 → A6 → A7 → A8 → A9 → A10 → A11 → A12 → A13 → A14 → Prop) (μ : A1 → A2 → A3 → A4 → A5 → A6 → A7 → A8 → A9 → A10 → A11 → A12 → A13 → A14 → Nat) (hs : ∀ (n : Nat) (a1 : A1) (a2 : A2) (a3 : A3) (a4 : A4) (a5 : A5) (a6 : A6) (a7 : A7) (a8 : A8) (a9 : A9) (a10 : A10) (a11 : A11) (a12 : A12) (a13 : A13) (a14 : A14), I a1 a2 a3 a4 a5 a6 a7 a8 a9 a10 a11 a12 a13 a14 → (∀ (b1 : A1) (b2 : A2) (b3 : A3) (b4 : A4) (b5 : A5) (b6 : A6) (b7 : A7) (b8 : A8) (b9 : A9) (b10 : A10) (b11 : A11) (b12 : A12) (b13 : A13) (b14 : A14), I b1 b2 b3 b4 b5 b6 b7 b8 b9 b10 b11 b12 b13 b14 → μ b1 b2 b3 b4 b5 b6 b7 b8 b9 b10 b11 b12 b13 b14 < μ a1 a2 a3 a4 a5 a6 a7 a8 a9 a10 a11 a12 a13 a14 → W n b1 b2 b3 b4 b5 b6 b7 b8 b9 b10 b11 b12 b13 b14) → W (n + 1) a1 a2 a3 a4 a5 a6 a7 a8 a9 a10 a11 a12 a13 a14) (a1 : A1) (a2 : A2) (a3 : A3) (a4 : A4) (a5 : A5) (a6 : A6) (a7 : A7) (a8 : A8) (a9 : A9) (a10 : A10) (a11 : A11) (a12 : A12) (a13 : A13) (a14 : A14) (h : I a1 a2 a3 a4 a5 a6 a7 a8 a9 a10 a11 a12 a13 a14) : ∃ n, W n a1 a2 a3 a4 a5 a6 a7 a8 a9 a10 a11 a12 a13 a14 :=
  loop_m (σ := A1 × A2 × A3 × A4 × A5 × A6 × A7 × A8 × A9 × A10 × A11 × A12 × A13 × A14) (fun n s => W n s.1 s.2.1 s.2.2.1 s.2.2.2.1 s.2.2.2.2.1 s.2.2.2.2.2.1 s.2.2.2.2.2.2.1 s.2.2.2.2.2.2.2.1 s.2.2.2.2.2.2.2.2.1 s.2.2.2.2.2.2.2.2.2.1 s.2.2.2.2.2.2.2.2.2.2.1 s.2.2.2.2.2.2.2.2.2.2.2.1 s.2.2.2.2.2.2.2.2.2.2.2.2.1 s.2.2.2.2.2.2.2.2.2.2.2.2.2) (fun s => I s.1 s.2.1 s.2.2.1 s.2.2.2.1 s.2.2.2.2.1 s.2.2.2.2.2.1 s.2.2.2.2.2.2.1 s.2.2.2.2.2.2.2.1 s.2.2.2.2.2.2.2.2.1 s.2.2.2.2.2.2.2.2.2.1 s.2.2.2.2.2.2.2.2.2.2.1 s.2.2.2.2.2.2.2.2.2.2.2.1 s.2.2.2.2.2.2.2.2.2.2.2.2.1 s.2.2.2.2.2.2.2.2.2.2.2.2.2) (fun s => μ s.1 s.2.1 s.2.2.1 s.2.2.2.1 s.2.2.2.2.1 s.2.2.2.2.2.1 s.2.2.2.2.2.2.1 s.2.2.2.2.2.2.2.1 s.2.2.2.2.2.2.2.2.1 s.2.2.2.2.2.2.2.2.2.1 s.2.2.2.2.2.2.2.2.2.2.1 s.2.2.2.2.2.2.2.2.2.2.2.1 s.2.2.2.2.2.2.2.2.2.2.2.2.1 s.2.2.2.2.2.2.2.2.2.2.2.2.2) (fun n s hI hk => hs n s.1 s.2.1 s.2.2.1 s.2.2.2.1 s.2.2.2.2.1 s.2.2.2.2.2.1 s.2.2.2.2.2.2.1 s.2.2.2.2.2.2.2.1 s.2.2.2.2.2.2.2.2.1 s.2.2.2.2.2.2.2.2.2.1 s.2.2.2.2.2.2.2.2.2.2.1 s.2.2.2.2.2.2.2.2.2.2.2.1 s.2.2.2.2.2.2.2.2.2.2.2.2.1 s.2.2.2.2.2.2.2.2.2.2.2.2.2 hI (fun b1 b2 b3 b4 b5 b6 b7 b8 b9 b10 b11 b12 b13 b14 h9 hm => hk (b1, b2, b3, b4, b5, b6, b7, b8, b9, b10, b11, b12, b13, b14) h9 hm)) (a1, a2, a3, a4, a5, a6, a7, a8, a9, a10, a11, a12, a13, a14) h
theorem lp15 {A1 A2 A3 A4 A5 A6 A7 A8 A9 A10 A11 A12 A13 A14 A15 : Type} (W : Nat → A1 → A2 → A3 → A4 → A5 → A6 → A7 → A8 → A9 → A10 → A11 → A12 → A13 → A14 → A15 → Prop) (I : A1 → A2 → A3 → A4 → A5 → A6 → A7 → A8 → A9 → A10 → A11 → A12 → A13 → A14 → A15 → Prop) (μ : A1 → A2 → A3 → A4 → A5 → A6 → A7 → A8 → A9 → A10 → A11 → A12 → A13 → A14 → A15 → Nat) (hs : ∀ (n : Nat) (a1 : A1) (a2 : A2) (a3 : A3) (a4 : A4) (a5 : A5) (a6 : A6) (a7 : A7) (a8 : A8) (a9 : A9) (a10 : A10) (a11 : A11) (a12 : A12) (a13 : A13) (a14 : A14) (a15 : A15), I a1 a2 a3 a4 a5 a6 a7 a8 a9 a10 a11 a12 a13 a14 a15 → (∀ (b1 : A1) (b2 : A2) (b3 : A3) (b4 : A4) (b5 : A5) (b6 : A6) (b7 : A7) (b8 : A8) (b9 : A9) (b10 : A10) (b11 : A11) (b12 : A12) (b13 : A13) (b14 : A14) (b15 : A15), I b1 b2 b3 b4 b5 b6 b7 b8 b9 b10 b11 b12 b13 b14 b15 → μ b1 b2 b3 b4 b5 b6 b7 b8 b9 b10 b11 b12 b13 b14 b15 < μ a1 a2 a3 a4 a5 a6 a7 a8 a9 a10 a11 a12 a13 a14 a15 → W n b1 b2 b3 b4 b5 b6 b7 b8 b9 b10 b11 b12 b13 b14 b15) → W (n + 1) a1 a2 a3 a4 a5 a6 a7 a8 a9 a10 a11 a12 a13 a14 a15) (a1 : A1) (a2 : A2) (a3 : A3) (a4 : A4) (a5 : A5) (a6 : A6) (a7 : A7) (a8 : A8) (a9 : A9) (a10 : A10) (a11 : A11) (a12 : A12) (a13 : A13) (a14 : A14) (a15 : A15) (h : I a1 a2 a3 a4 a5 a6 a7 a8 a9 a10 a11 a12 a13 a14 a15) : ∃ n, W n a1 a2 a3 a4 a5 a6 a7 a8 a9 a10 a11 a12 a13 a14 a15 :=
  loop_m (σ := A1 × A2 × A3 × A4 × A5 × A6 × A7 × A8 × A9 × A10 × A11 × A12 × A13 × A14 × A15) (fun n s => W n s.1 s.2.1 s.2.2.1 s.2.2.2.1 s.2.2.2.2.1 s.2.2.2.2.2.1 s.2.2.2.2.2.2.1 s.2.2.2.2.2.2.2.1 s.2.2.2.2.2.2.2.2.1 s.2.2.2.2.2.2.2.2.2.1 s.2.2.2.2.2.2.2.2.2.2.1 s.2.2.2.2.2.2.2.2.2.2.2.1 s.2.2.2.2.2.2.2.2.2.2.2.2.1 s.2.2.2.2.2.2.2.2.2.2.2.2.2.1 s.2.2.2.2.2.2.2.2.2.2.2.2.2.2) (fun s => I s.1 s.2.1 s.2.2.1 s.2.2.2.1 s.2.2.2.2.1 s.2.2.2.2.2.1 s.2.2.2.2.2.2.1 s.2.2.2.2.2.2.2.1 s.2.2.2.2.2.2.2.2.1 s.2.2.2.2.2.2.2.2.2.1 s.2.2.2.2.2.2.2.2.2.2.1 s.2.2.2.2.2.2.2.2.2.2.2.1 s.2.2.2.2.2.2.2.2.2.2.2.2.1 s.2.2.2.2.2.2.2.2.2.2.2.2.2.1 s.2.2.2.2.2.2.2.2.2.2.2.2.2.2) (fun s => μ s.1 s.2.1 s.2.2.1 s.2.2.2.1 s.2.2.2.2.1 s.2.2.2.2.2.1 s.2.2.2.2.2.2.1 s.2.2.2.2.2.2.2.1 s.2.2.2.2.2.2.2.2.1 s.2.2.2.2.2.2.2.2.2.1 s.2.2.2.2.2.2.2.2.2.2.1 s.2.2.2.2.2.2.2.2.2.2.2.1 s.2.2.2.2.2.2.2.2.2.2.2.2.1 s.2.2.2.2.2.2.2.2.2.2.2.2.2.1 s.2.2.2.2.2.2.2.2.2.2.2.2.2.2) (fun n s hI hk => hs n s.1 s.2.1 s.2.2.1 s.2.2.2.1 s.2.2.2.2.1 s.2.2.2.2.2.1 s.2.2.2.2.2.2.1 s.2.2.2.2.2.2.2.1 s.2.2.2.2.2.2.2.2.1 s.2.2.2.2.2.2.2.2.2.1 s.2.2.2.2.2.2.2.2.2.2.1 s.2.2.2.2.2.2.2.2.2.2.2.1 s.2.2.2.2.2.2.2.2.2.2.2.2.1 s.2.2.2.2.2.2.2.2.2.2.2.2.2.1 s.2.2.2.2.2.2.2.2.2.2.2.2.2.2 hI (fun b1 b2 b3 b4 b5 b6 b7 b8 b9 b10 b11 b12 b13 b14 b15 h9 hm => hk (b1, b2, b3, b4, b5, b6, b7, b8, b9, b10, b11, b12, b13, b14, b15) h9 hm)) (a1, a2, a3, a4, a5, a6, a7, a8, a9, a10, a11, a12, a13, a14, a15) h
theorem lp16 {A1 A2 A3 A4 A5 A6 A7 A8 A9 A10 A11 A12 A13 A14 A15 A16 : Type} (W : Nat → A1 → A2 → A3 → A4 → A5 → A6 → A7 → A8 → A9 → A10 → A11 → A12 → A13 → A14 → A15 → A16 → Prop) (I : A1 → A2 → A3 → A4 → A5 → A6 → A7 → A8 → A9 → A10 → A11 → A12 → A13 → A14 → A15 → A16 → Prop) (μ : A1 → A2 → A3 → A4 → A5 → A6 → A7 → A8 → A9 → A10 → A11 → A12 → A13 → A14 → A15 → A16 → Nat) (hs : ∀ (n : Nat) (a1 : A1) (a2 : A2) (a3 : A3) (a4 : A4) (a5 : A5) (a6 : A6) (a7 : A7) (a8 : A8) (a9 : A9) (a10 : A10) (a11 : A11) (a12 : A12) (a13 : A13) (a14 : A14) (a15 : A15) (a16 : A16), I a1 a2 a3 a4 a5 a6 a7 a8 a9 a10 a11 a12 a13 a14 a15 a16 → (∀ (b1 : A1) (b2 : A2) (b3 : A3) (b4 : A4) (b5 : A5) (b6 : A6) (b7 : A7) (b8 : A8) (b9 : A9) (b10 : A10) (b11 : A11) (b12 : A12) (b13 : A13) (b14 : A14) (b15 : A15) (b16 : A16), I b1 b2 b3 b4 b5 b6 b7 b8 b9 b10 b11 b12 b13 b14 b15 b16 → μ b1 b2 b3 b4 b5 b6 b7 b8 b9 b10 b11 b12 b13 b14 b15 b16 < μ a1 a2 a3 a4 a5 a6 a7 a8 a9 a10 a11 a12 a13 a14 a15 a16 → W n b1 b2 b3 b4 b5 b6 b7 b8 b9 b10 b11 b12 b13 b14 b15 b16) → W (n + 1) a1 a2 a3 a4 a5 a6 a7 a8 a9 a10 a11 a12 a13 a14 a15 a16) (a1 : A1) (a2 : A2) (a3 : A3) (a4 : A4) (a5 : A5) (a6 : A6) (a7 : A7) (a8 : A8) (a9 : A9) (a10 : A10) (a11 : A11) (a12 : A12) (a13 : A13) (a14 : A14) (a15 : A15) (a16 : A16) (h : I a1 a2 a3 a4 a5 a6 a7 a8 a9 a10 a11 a12 a13 a14 a15 a16) : ∃ n, W n a1 a2 a3 a4 a5 a6 a7 a8 a9 a10 a11 a12 a13 a14 a15 a16 :=
  loop_m (σ := A1 × A2 × A3 × A4 × A5 × A6 × A7 × A8 × A9 × A10 × A11 × A12 × A13 × A14 × A15 × A16) (fun n s => W n s.1 s.2.1 s.2.2.1 s.2.2.2.1 s.2.2.2.2.1 s.2.2.2.2.2.1 s.2.2.2.2.2.2.1 s.2.2.2.2.2.2.2.1 s.2.2.2.2.2.2.2.2.1 s.2.2.2.2.2.2.2.2.2.1 s.2.2.2.2.2.2.2.2.2.2.1 s.2.2.2.2.2.2.2.2.2.2.2.1 s.2.2.2.2.2.2.2.2.2.2.2.2.1 s.2.2.2.2.2.2.2.2.2.2.2.2.2.1 s.2.2.2.2.2.2.2.2.2.2.2.2.2.2.1 s.2.2.2.2.2.2.2.2.2.2.2.2.2.2.2) (fun s => I s.1 s.2.1 s.2.2.1 s.2.2.2.1 s.2.2.2.2.1 s.2.2.2.2.2.1 s.2.2.2.2.2.2.1 s.2.2.2.2.2.2.2.1 s.2.2.2.2.2.2.2.2.1 s.2.2.2.2.2.2.2.2.2.1 s.2.2.2.2.2.2.2.2.2.2.1 s.2.2.2.2.2.2.2.2.2.2.2.1 s.2.2.2.2.2.2.2.2.2.2.2.2.1 s.2.2.2.2.2.2.2.2.2.2.2.2.2.1 s.2.2.2.2.2.2.2.2.2.2.2.2.2.2.1 s.2.2.2.2.2.2.2.2.2.2.2.2.2.2.2) (fun s => μ s.1 s.2.1 s.2.2.1 s.2.2.2.1 s.2.2.2.2.1 s.2.2.2.2.2.1 s.2.2.2.2.2.2.1 s.2.2.2.2.2.2.2.1 s.2.2.2.2.2.2.2.2.1 s.2.2.2.2.2.2.2.2.2.1 s.2.2.2.2.2.2.2.2.2.2.1 s.2.2.2.2.2.2.2.2.2.2.2.1 s.2.2.2.2.2.2.2.2.2.2.2.2.1 s.2.2.2.2.2.2.2.2.2.2.2.2.2.1 s.2.2.2.2.2.2.2.2.2.2.2.2.2.2.1 s.2.2.2.2.2.2.2.2.2.2.2.2.2.2.2) (fun n s hI hk => hs n s.1 s.2.1 s.2.2.1 s.2.2.2.1 s.2.2.2.2.1 s.2.2.2.2.2.1 s.2.2.2.2.2.2.1 s.2.2.2.2.2.2.2.1 s.2.2.2.2.2.2.2.2.1 s.2.2.2.2.2.2.2.2.2.1 s.2.2.2.2.2.2.2.2.2.2.1 s.2.2.2.2.2.2.2.2.2.2.2.1 s.2.2.2.2.2.2.2.2.2.2.2.2.1 s.2.2.2.2.2.2.2.2.2.2.2.2.2.1 s.2.2.2.2.2.2.2.2.2.2.2.2.2.2.1 s.2.2.2.2.2.2.2.2.2.2.2.2.2.2.2 hI (fun b1 b2 b3 b4 b5 b6 b7 b8 b9 b10 b11 b12 b13 b14 b15 b16 h9 hm => hk (b1, b2, b3, b4, b5, b6, b7, b8, b9, b10, b11, b12, b13, b14, b15, b16) h9 hm)) (a1, a2, a3, a4, a5, a6, a7, a8, a9, a10, a11, a12, a13, a14, a15, a16) h
theorem pk_least (P : Nat → Prop) (h : ∃ k, P k) : ∃ k, P k ∧ ∀ j, j < k → ¬ P j := by
  obtain ⟨k, hk⟩ := h
  induction k using Nat.strongRecOn with
  | ind k ih =>
    by_cases e : ∃ j, j < k ∧ P j
    · obtain ⟨j, hj, pj⟩ := e
      exact ih j hj pj
    · exact ⟨k, hk, fun j hj pj => e ⟨j, hj, pj⟩⟩
theorem rp1 {ρ A1 : Type} (W : Nat → (ρ → Prop) → A1 → Prop) (ok : A1 → Prop) (μ : A1 → Nat) (val : A1 → ρ)
    (hs : ∀ (d : Nat) (post : ρ → Prop) (a1 : A1), ok a1 → post (val a1) → (∀ (post' : ρ → Prop) (b1 : A1), ok b1 → μ b1 < μ a1 → post' (val b1) → W d post' b1) → W (d + 1) post a1) :
    ∀ (d : Nat) (post : ρ → Prop) (a1 : A1), ok a1 → μ a1 < d → post (val a1) → W d post a1 := by
  intro d
  induction d with
  | zero => intro post a1 _ h; omega
  | succ d ih =>
    intro post a1 ho hm hp
    exact hs d post a1 ho hp (fun post' b1 ho' hm' hp' => ih post' b1 ho' (by omega) hp')
theorem rp2 {ρ A1 A2 : Type} (W : Nat → (ρ → Prop) → A1 → A2 → Prop) (ok : A1 → A2 → Prop) (μ : A1 → A2 → Nat) (val : A1 → A2 → ρ)
    (hs : ∀ (d : Nat) (post : ρ → Prop) (a1 : A1) (a2 : A2), ok a1 a2 → post (val a1 a2) → (∀ (post' : ρ → Prop) (b1 : A1) (b2 : A2), ok b1 b2 → μ b1 b2 < μ a1 a2 → post' (val b1 b2) → W d post' b1 b2) → W (d + 1) post a1 a2) :
    ∀ (d : Nat) (post : ρ → Prop) (a1 : A1) (a2 : A2), ok a1 a2 → μ a1 a2 < d → post (val a1 a2) → W d post a1 a2 := by
  intro d
  induction d with
  | zero => intro post a1 a2 _ h; omega
  | succ d ih =>
    intro post a1 a2 ho hm hp
    exact hs d post a1 a2 ho hp (fun post' b1 b2 ho' hm' hp' => ih post' b1 b2 ho' (by omega) hp')
theorem rp3 {ρ A1 A2 A3 : Type} (W : Nat → (ρ → Prop) → A1 → A2 → A3 → Prop) (ok : A1 → A2 → A3 → Prop) (μ : A1 → A2 → A3 → Nat) (val : A1 → A2 → A3 → ρ)
    (hs : ∀ (d : Nat) (post : ρ → Prop) (a1 : A1) (a2 : A2) (a3 : A3), ok a1 a2 a3 → post (val a1 a2 a3) → (∀ (post' : ρ → Prop) (b1 : A1) (b2 : A2) (b3 : A3), ok b1 b2 b3 → μ b1 b2 b3 < μ a1 a2 a3 → post' (val b1 b2 b3) → W d post' b1 b2 b3) → W (d + 1) post a1 a2 a3) :
    ∀ (d : Nat) (post : ρ → Prop) (a1 : A1) (a2 : A2) (a3 : A3), ok a1 a2 a3 → μ a1 a2 a3 < d → post (val a1 a2 a3) → W d post a1 a2 a3 := by
  intro d
  induction d with
  | zero => intro post a1 a2 a3 _ h; omega
  | succ d ih =>
    intro post a1 a2 a3 ho hm hp
    exact hs d post a1 a2 a3 ho hp (fun post' b1 b2 b3 ho' hm' hp' => ih post' b1 b2 b3 ho' (by omega) hp')
theorem rp4 {ρ A1 A2 A3 A4 : Type} (W : Nat → (ρ → Prop) → A1 → A2 → A3 → A4 → Prop) (ok : A1 → A2 → A3 → A4 → Prop) (μ : A1 → A2 → A3 → A4 → Nat) (val : A1 → A2 → A3 → A4 → ρ)
    (hs : ∀ (d : Nat) (post : ρ → Prop) (a1 : A1) (a2 : A2) (a3 : A3) (a4 : A4), ok a1 a2 a3 a4 → post (val a1 a2 a3 a4) → (∀ (post' : ρ → Prop) (b1 : A1) (b2 : A2) (b3 : A3) (b4 : A4), ok b1 b2 b3 b4 → μ b1 b2 b3 b4 < μ a1 a2 a3 a4 → post' (val b1 b2 b3 b4) → W d post' b1 b2 b3 b4) → W (d + 1) post a1 a2 a3 a4) :
    ∀ (d : Nat) (post : ρ → Prop) (a1 : A1) (a2 : A2) (a3 : A3) (a4 : A4), ok a1 a2 a3 a4 → μ a1 a2 a3 a4 < d → post (val a1 a2 a3 a4) → W d post a1 a2 a3 a4 := by
  intro d
  induction d with
  | zero => intro post a1 a2 a3 a4 _ h; omega
  | succ d ih =>
    intro post a1 a2 a3 a4 ho hm hp
    exact hs d post a1 a2 a3 a4 ho hp (fun post' b1 b2 b3 b4 ho' hm' hp' => ih post' b1 b2 b3 b4 ho' (by omega) hp')
theorem rp5 {ρ A1 A2 A3 A4 A5 : Type} (W : Nat → (ρ → Prop) → A1 → A2 → A3 → A4 → A5 → Prop) (ok : A1 → A2 → A3 → A4 → A5 → Prop) (μ : A1 → A2 → A3 → A4 → A5 → Nat) (val : A1 → A2 → A3 → A4 → A5 → ρ)
    (hs : ∀ (d : Nat) (post : ρ → Prop) (a1 : A1) (a2 : A2) (a3 : A3) (a4 : A4) (a5 : A5), ok a1 a2 a3 a4 a5 → post (val a1 a2 a3 a4 a5) → (∀ (post' : ρ → Prop) (b1 : A1) (b2 : A2) (b3 : A3) (b4 : A4) (b5 : A5), ok b1 b2 b3 b4 b5 → μ b1 b2 b3 b4 b5 < μ a1 a2 a3 a4 a5 → post' (val b1 b2 b3 b4 b5) → W d post' b1 b2 b3 b4 b5) → W (d + 1) post a1 a2 a3 a4 a5) :
    ∀ (d : Nat) (post : ρ → Prop) (a1 : A1) (a2 : A2) (a3 : A3) (a4 : A4) (a5 : A5), ok a1 a2 a3 a4 a5 → μ a1 a2 a3 a4 a5 < d → post (val a1 a2 a3 a4 a5) → W d post a1 a2 a3 a4 a5 := by
  intro d
  induction d with
  | zero => intro post a1 a2 a3 a4 a5 _ h; omega
  | succ d ih =>
    intro post a1 a2 a3 a4 a5 ho hm hp
    exact hs d post a1 a2 a3 a4 a5 ho hp (fun post' b1 b2 b3 b4 b5 ho' hm' hp' => ih post' b1 b2 b3 b4 b5 ho' (by omega) hp')
theorem rp6 {ρ A1 A2 A3 A4 A5 A6 : Type} (W : Nat → (ρ → Prop) → A1 → A2 → A3 → A4 → A5 → A6 → Prop) (ok : A1 → A2 → A3 → A4 → A5 → A6 → Prop) (μ : A1 → A2 → A3 → A4 → A5 → A6 → Nat) (val : A1 → A2 → A3 → A4 → A5 → A6 → ρ)
    (hs : ∀ (d : Nat) (post : ρ → Prop) (a1 : A1) (a2 : A2) (a3 : A3) (a4 : A4) (a5 : A5) (a6 : A6), ok a1 a2 a3 a4 a5 a6 → post (val a1 a2 a3 a4 a5 a6) → (∀ (post' : ρ → Prop) (b1 : A1) (b2 : A2) (b3 : A3) (b4 : A4) (b5 : A5) (b6 : A6), ok b1 b2 b3 b4 b5 b6 → μ b1 b2 b3 b4 b5 b6 < μ a1 a2 a3 a4 a5 a6 → post' (val b1 b2 b3 b4 b5 b6) → W d post' b1 b2 b3 b4 b5 b6) → W (d + 1) post a1 a2 a3 a4 a5 a6) :
    ∀ (d : Nat) (post : ρ → Prop) (a1 : A1) (a2 : A2) (a3 : A3) (a4 : A4) (a5 : A5) (a6 : A6), ok a1 a2 a3 a4 a5 a6 → μ a1 a2 a3 a4 a5 a6 < d → post (val a1 a2 a3 a4 a5 a6) → W d post a1 a2 a3 a4 a5 a6 := by
  intro d
  induction d with
  | zero => intro post a1 a2 a3 a4 a5 a6 _ h; omega
  | succ d ih =>
    intro post a1 a2 a3 a4 a5 a6 ho hm hp
    exact hs d post a1 a2 a3 a4 a5 a6 ho hp (fun post' b1 b2 b3 b4 b5 b6 ho' hm' hp' => ih post' b1 b2 b3 b4 b5 b6 ho' (by omega) hp')
theorem rec_p {σ ρ : Type} (W : Nat → (ρ → Prop) → σ → Prop) (ok : σ → Prop) (μ : σ → Nat) (val : σ → ρ)
    (hs : ∀ d s post, ok s → post (val s) → (∀ s' post', ok s' → μ s' < μ s → post' (val s') → W d post' s') → W (d + 1) post s) :
    ∀ d s post, ok s → μ s < d → post (val s) → W d post s := by
  intro d
  induction d with
  | zero => intro s post _ h; omega
  | succ d ih =>
    intro s post ho hm hp
    exact hs d s post ho hp (fun s' post' ho' hm' hp' => ih s' post' ho' (by omega) hp')
theorem rec_q {σ ρ : Type} (W : Nat → (ρ → Prop) → σ → Prop) (ok : σ → Prop) (μ : σ → Nat) (Q : σ → ρ → Prop)
    (hs : ∀ d s post, ok s → (∀ r, Q s r → post r) → (∀ s' post', ok s' → μ s' < μ s → (∀ r, Q s' r → post' r) → W d post' s') → W (d + 1) post s) :
    ∀ d s post, ok s → μ s < d → (∀ r, Q s r → post r) → W d post s := by
  intro d
  induction d with
  | zero => intro s post _ h; omega
  | succ d ih =>
    intro s post ho hm hp
    exact hs d s post ho hp (fun s' post' ho' hm' hp' => ih s' post' ho' (by omega) hp')
def bx_sum (f : Nat → Int32) : Nat → Int32
  | 0 => 0
  | n + 1 => bx_sum f n + f n
theorem ek_u {A : Prop} {B : Nat → Prop} {k N : Nat} (hk : k < N) (h : B k) : (some k = none → A) ∧ (∀ y : Nat, some k = some y → (y < N ∧ B y)) :=
  ⟨fun z => absurd z (Option.some_ne_none k), fun _ e => (by cases e; exact ⟨hk, h⟩)⟩
theorem ek_nu {A : Prop} {B : Nat → Prop} (h : A) : ((none : Option Nat) = none → A) ∧ (∀ y : Nat, (none : Option Nat) = some y → B y) :=
  ⟨fun _ => h, fun _ e => (by cases e)⟩
theorem ek_if {c d A B : Prop} (e : c ↔ d) (f : d → A) (g : ¬ d → B) : (c → A) ∧ (¬ c → B) :=
  ⟨fun z => f (e.mp z), fun z => g (fun y => z (e.mpr y))⟩
theorem ek_v {α : Sort _} {P : α → Prop} {a b : α} (e : a = b) (h : P b) : P a := e ▸ h
theorem co_some {x : Option Nat} {A : Prop} {B : Nat → Prop} (i : Nat) (h : B i) (hx : x = some i := by rfl) : (x = none → A) ∧ (∀ y : Nat, x = some y → B y) := by
  subst hx
  exact ⟨fun e => (nomatch e), fun y e => Option.some.inj e ▸ h⟩
theorem co_none {x : Option Nat} {A : Prop} {B : Nat → Prop} (h : A) (hx : x = none := by rfl) : (x = none → A) ∧ (∀ y : Nat, x = some y → B y) := by
  subst hx
  exact ⟨fun _ => h, fun y e => (nomatch e)⟩
theorem co_any {x : Option Nat} {A : Prop} {B : Nat → Prop} (hn : x = none → A) (hs : ∀ i : Nat, x = some i → B i) : (x = none → A) ∧ (∀ y : Nat, x = some y → B y) := ⟨hn, hs⟩
theorem co_2 {P : Nat → Prop} (h0 : P 0) (h1 : P 1) {i : Nat} (hi : i < 2) : P i :=
  match i, hi with
  | 0, _ => h0
  | 1, _ => h1
theorem co_3 {P : Nat → Prop} (h0 : P 0) (h1 : P 1) (h2 : P 2) {i : Nat} (hi : i < 3) : P i :=
  match i, hi with
  | 0, _ => h0
  | 1, _ => h1
  | 2, _ => h2
theorem co_4 {P : Nat → Prop} (h0 : P 0) (h1 : P 1) (h2 : P 2) (h3 : P 3) {i : Nat} (hi : i < 4) : P i :=
  match i, hi with
  | 0, _ => h0
  | 1, _ => h1
  | 2, _ => h2
  | 3, _ => h3
theorem co_dec {N : Nat} {P : Nat → Prop} [DecidablePred P] (h : (List.range N).all (fun i => decide (P i)) = true) {i : Nat} (hi : i < N) : P i := by
  have := List.all_eq_true.mp h i (List.mem_range.mpr hi)
  exact of_decide_eq_true this
theorem co_tab {α : Type} {l : List α} {d : α} {P : α → Prop} (h : ∀ a, a ∈ l → P a) {i : Nat} (hi : i < l.length) : P (l.getD i d) := by
  rw [List.getD_eq_getElem?_getD, List.getElem?_eq_getElem hi]
  exact h _ (List.getElem_mem hi)
theorem pk_mu {x : Int32} {L : Nat} (h0 : ¬ x < 0) (h : ¬ nI L ≤ x) (hL : L < 2 ^ 31) : ∃ j : Nat, j < L ∧ x = nI j ∧ x + 1 = nI (j + 1) ∧ x.toNatClampNeg = j ∧ L - (x + 1).toNatClampNeg < L - x.toNatClampNeg := by
  obtain ⟨j, hj, rfl⟩ := nI_of h0
  have hl : j < L := Nat.not_le.mp fun q => h (nI_le q hj)
  refine ⟨j, hl, rfl, nI_1 j, nI_clamp hj, ?_⟩
  rw [nI_1, nI_clamp (by omega), nI_clamp hj]
  omega
theorem op_s {α : Type} {r : Option α} {A : Prop} {B : α → Prop} {y : α} (h : r = some y) (b : B y) : (r = none → A) ∧ ∀ z, r = some z → B z :=
  ⟨fun e => (by rw [h] at e; cases e), fun z e => (by rw [h] at e; cases e; exact b)⟩
def l_holds {α : Type} (a : Nat → Option Nat) (LP : List Nat) (p : Nat → α) (c : Nat) (b : Nat → α) : Prop :=
  ∀ j, j < c → ∃ y, a j = some y ∧ y ∈ LP ∧ p y = b j
theorem l_holds_0 {α : Type} {a : Nat → Option Nat} {LP : List Nat} {p b : Nat → α} : l_holds a LP p 0 b := fun j h => absurd h (Nat.not_lt_zero j)
theorem l_in_new (LP : List Nat) (q : Nat) : q ∈ LP ++ [q] := List.mem_append.mpr (Or.inr (List.mem_singleton.mpr rfl))
def l_sum (b : Nat → Int32) : Nat → Int32
  | 0 => 0
  | k + 1 => l_sum b k + b k
theorem sb_shr0 (x : Int32) : x >>> ((0 : Int32) &&& 31) = x := by
  rw [show ((0 : Int32) &&& 31) = 0 by decide]
  simp
theorem sb_shl0 (x : Int32) : x <<< ((0 : Int32) &&& 31) = x := by
  rw [show ((0 : Int32) &&& 31) = 0 by decide]
  simp
theorem sb_cl0 : (0 : Int32).toNatClampNeg = 0 := by decide
theorem sb_m1 {p : Nat} (h : 0 < p) : nI p + (-1) = nI (p - 1) := by
  obtain ⟨q, rfl⟩ : ∃ q, p = q + 1 := ⟨p - 1, by omega⟩
  exact pk_m1 q
def sb_b (c : Nat) : Int32 := (nI c).toInt8.toInt32
theorem sb_byte : ∀ c, c < 256 → sb_b c &&& 255 = nI c ∧ ((nI c).toUInt32 % 65536).toInt32 = nI c ∧ nI c ≤ 255 := by decide +kernel
def sb_Fit (a : Nat → Int32) : Prop := ∀ j, fits .byte (.int (a j)) = true
def sb_Lat (t : Nat → Nat) (n : Nat) (a : Nat → Int32) : Prop := ∀ j, j < n → t j < 256 ∧ a j = sb_b (t j)
theorem sb_fitB (c : Nat) : fits .byte (.int (sb_b c)) = true := pk_fb _
theorem sb_fit0 : sb_Fit (fun _ => 0) := fun _ => by
  show fits .byte (.int 0) = true
  decide
theorem sb_fitU {a : Nat → Int32} {k : Nat} {x : Int32} (h : sb_Fit a) (hx : fits .byte (.int x) = true) : sb_Fit (upd a k x) := by
  intro j
  by_cases e : j = k
  · subst e
    rw [pk_us]
    exact hx
  · rw [pk_un e]
    exact h j
def sb_cat (t : Nat → Nat) (n : Nat) (s : Nat → Nat) : Nat → Nat := fun j => if j < n then t j else s (j - n)
theorem sb_cat_lo {t s : Nat → Nat} {n j : Nat} (h : j < n) : sb_cat t n s j = t j := if_pos h
theorem sb_cat_hi {t s : Nat → Nat} {n j : Nat} : sb_cat t n s (n + j) = s j := by
  show (if n + j < n then t (n + j) else s (n + j - n)) = s j
  rw [if_neg (by omega), Nat.add_sub_cancel_left]
theorem sb_latPut {t s : Nat → Nat} {n w : Nat} {a a' : Nat → Int32} (h : sb_Lat t n a) (hk : ∀ j, j < n → a' j = a j) (hs : ∀ i, i < w → s i < 256 ∧ a' (n + i) = sb_b (s i)) : sb_Lat (sb_cat t n s) (n + w) a' := by
  intro j hj
  by_cases e : j < n
  · rw [sb_cat_lo e, hk j e]
    exact h j e
  · obtain ⟨i, rfl⟩ : ∃ i, j = n + i := ⟨j - n, by omega⟩
    rw [sb_cat_hi]
    exact hs i (by omega)
theorem sb_latKeep {t : Nat → Nat} {n : Nat} {a a' : Nat → Int32} (h : sb_Lat t n a) (hk : ∀ j, j < n → a' j = a j) : sb_Lat t n a' := fun j hj => by
  rw [hk j hj]
  exact h j hj
def sb_cap (q m : Nat) : Nat := if q ≤ m then m else if 2 * m + 2 < q then q else 2 * m + 2
def sb_Room (q m mc ms : Nat) : Prop := q ≤ m ∨ (1 ≤ mc ∧ sb_cap q m ≤ ms ∧ sb_cap q m ≤ 65536)
theorem sb_cap_ge (q m : Nat) : q ≤ sb_cap q m := by
  unfold sb_cap
  split
  · omega
  · split <;> omega
theorem sb_cap_gem (q m : Nat) : m ≤ sb_cap q m := by
  unfold sb_cap
  split
  · omega
  · split <;> omega
theorem sb_cap_le {q m mc ms : Nat} (hm : m ≤ 65536) (hr : sb_Room q m mc ms) : sb_cap q m ≤ 65536 := by
  rcases hr with h | h
  · rw [sb_cap, if_pos h]
    exact hm
  · exact h.2.2
theorem sb_at {P : Int32 → Prop} {x y : Int32} (e : x = y) (h : P y) : P x := e ▸ h
def sb_dg (w : Nat) : Nat := if w < 10 then 1 else if w < 100 then 2 else if w < 1000 then 3 else if w < 10000 then 4 else if w < 100000 then 5 else if w < 1000000 then 6 else if w < 10000000 then 7 else if w < 100000000 then 8 else if w < 1000000000 then 9 else 10
def sb_dec (v : Nat) : Nat → Nat := fun i => 48 + v / 10 ^ (sb_dg v - 1 - i) % 10
theorem sb_dg_in (w : Nat) : 1 ≤ sb_dg w ∧ sb_dg w ≤ 10 := by
  unfold sb_dg
  constructor <;> (repeat' split) <;> omega
theorem sb_dg100 {w : Nat} (h : 100 ≤ w) (hw : w < 2 ^ 31) : sb_dg w = sb_dg (w / 100) + 2 := by
  rw [sb_dg, sb_dg, if_neg (show ¬ w < 10 by omega), if_neg (show ¬ w < 100 by omega)]
  by_cases h3 : w < 1000
  · rw [if_pos h3, if_pos (show w / 100 < 10 by omega)]
  rw [if_neg h3, if_neg (show ¬ w / 100 < 10 by omega)]
  by_cases h4 : w < 10000
  · rw [if_pos h4, if_pos (show w / 100 < 100 by omega)]
  rw [if_neg h4, if_neg (show ¬ w / 100 < 100 by omega)]
  by_cases h5 : w < 100000
  · rw [if_pos h5, if_pos (show w / 100 < 1000 by omega)]
  rw [if_neg h5, if_neg (show ¬ w / 100 < 1000 by omega)]
  by_cases h6 : w < 1000000
  · rw [if_pos h6, if_pos (show w / 100 < 10000 by omega)]
  rw [if_neg h6, if_neg (show ¬ w / 100 < 10000 by omega)]
  by_cases h7 : w < 10000000
  · rw [if_pos h7, if_pos (show w / 100 < 100000 by omega)]
  rw [if_neg h7, if_neg (show ¬ w / 100 < 100000 by omega)]
  by_cases h8 : w < 100000000
  · rw [if_pos h8, if_pos (show w / 100 < 1000000 by omega)]
  rw [if_neg h8, if_neg (show ¬ w / 100 < 1000000 by omega)]
  by_cases h9 : w < 1000000000
  · rw [if_pos h9, if_pos (show w / 100 < 10000000 by omega)]
  rw [if_neg h9, if_neg (show ¬ w / 100 < 10000000 by omega)]
  rw [if_pos (show w / 100 < 100000000 by omega)]
theorem sb_negT {w : Nat} (h : w < 2 ^ 31) : (-nI w).toInt = -(w : Int) := by
  rw [Int32.toInt_neg, nI_toInt h]
  exact Int.bmod_eq_of_le (by omega) (by omega)
theorem sb_nle {a b : Nat} (ha : a < 2 ^ 31) (hb : b < 2 ^ 31) : -nI a ≤ -nI b ↔ b ≤ a := by
  rw [Int32.le_iff_toInt_le, sb_negT ha, sb_negT hb]
  omega
theorem sb_nlt {a b : Nat} (ha : a < 2 ^ 31) (hb : b < 2 ^ 31) : -nI a < -nI b ↔ b < a := by
  rw [Int32.lt_iff_toInt_lt, sb_negT ha, sb_negT hb]
  omega
theorem sb_cmp {A B : Prop} {x : Int32} (v c : Nat) (f : c ≤ v → A) (g : v < c → B) (hv : v < 2 ^ 31) (hx : x = -nI c := by rfl) (hc : c < 2 ^ 31 := by omega) : (-nI v ≤ x → A) ∧ (¬ -nI v ≤ x → B) := by
  subst hx
  rw [sb_nle hv hc]
  exact ⟨f, fun z => g (by omega)⟩
theorem sb_ndiv {w : Nat} (hw : w < 2 ^ 31) : (-nI w) / 100 = -nI (w / 100) := by
  apply Int32.toInt_inj.mp
  have h100 : (100 : Int32).toInt = 100 := by decide
  rw [Int32.toInt_div, sb_negT hw, h100, sb_negT (by omega), Int.neg_tdiv, Int.tdiv_eq_ediv_of_nonneg (by omega), Int.bmod_eq_of_le (by omega) (by omega)]
  omega
theorem sb_nrem {w : Nat} (hw : w < 2 ^ 31) : (-nI (w / 100)) * 100 - (-nI w) = nI (w % 100) := by
  have h := pk_rem (a := w) (d := 100) hw (by decide) (by decide)
  rw [pk_div hw (by decide) (by decide)] at h
  rw [← h]
  show (-nI (w / 100)) * nI 100 - (-nI w) = nI w - nI (w / 100) * nI 100
  rw [Int32.neg_mul, Int32.sub_neg, Int32.add_comm, ← Int32.sub_eq_add_neg]
end
section
/-! pure: ways, targets, leads; groups of points; a forest has a leaf -/
def pw_ways (o : Int32) : Nat := if o = 5 then 2 else if o = 6 then 2 else if o = 7 then 4 else if o = 10 then 0 else 1
def pw_t (op b : Nat → Int32) (i k : Nat) : Int := if op i = 4 then (b i).toInt else if k = 0 then (i : Int) + 1 else (b i).toInt + k - 1
def pw_tgt (n : Nat) (op b : Nat → Int32) (i k : Nat) : Nat := if op i = 9 then 24 else if 0 ≤ pw_t op b i k ∧ pw_t op b i k < n then (pw_t op b i k).toNat else 24
def pw_ld (n : Nat) (op b : Nat → Int32) (e : Nat) : Nat := if e = 0 then 0 else if (e - 1) / 4 < n ∧ (e - 1) % 4 < pw_ways (op ((e - 1) / 4)) then pw_tgt n op b ((e - 1) / 4) ((e - 1) % 4) else 25
def pw_src (e : Nat) : Nat := if e = 0 then 24 else (e - 1) / 4
theorem pw_ways_le (o : Int32) : pw_ways o ≤ 4 := by
  unfold pw_ways
  split
  · decide
  · split
    · decide
    · split
      · decide
      · split <;> decide
theorem pw_tgt_le {n : Nat} (hn : n ≤ 24) (op b : Nat → Int32) (i k : Nat) : pw_tgt n op b i k ≤ 24 := by
  unfold pw_tgt
  split
  · exact Nat.le_refl _
  · split
    · omega
    · exact Nat.le_refl _
theorem pw_tgt_lt {n : Nat} {op b : Nat → Int32} {i k : Nat} (h : pw_tgt n op b i k ≠ 24) : pw_tgt n op b i k < n := by
  unfold pw_tgt at h ⊢
  split
  · next g => exact absurd (if_pos g) h
  · next g =>
    rw [if_neg g] at h
    split
    · omega
    · next g2 => exact absurd (if_neg g2) h
theorem pw_ld_0 (n : Nat) (op b : Nat → Int32) : pw_ld n op b 0 = 0 := rfl
theorem pw_ld_s (n : Nat) (op b : Nat → Int32) {i k : Nat} (hk : k < 4) : pw_ld n op b (1 + 4 * i + k) = if i < n ∧ k < pw_ways (op i) then pw_tgt n op b i k else 25 := by
  have h1 : (1 + 4 * i + k - 1) / 4 = i := by omega
  have h2 : (1 + 4 * i + k - 1) % 4 = k := by omega
  unfold pw_ld
  rw [if_neg (by omega), h1, h2]
theorem pw_ld_le {n : Nat} (hn : n ≤ 24) (op b : Nat → Int32) (e : Nat) : pw_ld n op b e ≤ 25 := by
  unfold pw_ld
  split
  · exact Nat.zero_le _
  · split
    · exact Nat.le_succ_of_le (pw_tgt_le hn op b _ _)
    · exact Nat.le_refl _
theorem pw_ld_lt {n : Nat} (h0 : 0 < n) {op b : Nat → Int32} {e : Nat} (h : pw_ld n op b e < 24) : pw_ld n op b e < n := by
  unfold pw_ld at h ⊢
  split
  · exact h0
  · next g =>
    rw [if_neg g] at h
    split
    · next g2 =>
      rw [if_pos g2] at h
      exact pw_tgt_lt (by omega)
    · next g2 =>
      rw [if_neg g2] at h
      omega
theorem pw_src_0 : pw_src 0 = 24 := rfl
theorem pw_src_s {i k : Nat} (hk : k < 4) : pw_src (1 + 4 * i + k) = i := by
  unfold pw_src
  rw [if_neg (by omega)]
  omega
theorem pw_src_le {e : Nat} (h : e < 97) : pw_src e ≤ 24 := by
  unfold pw_src
  split <;> omega
/-- a valid way of a point below 24 starts below n -/
theorem pw_src_lt {n : Nat} {op b : Nat → Int32} {e : Nat} (h : pw_ld n op b e < 25) (hs : pw_src e ≠ 24) : pw_src e < n := by
  unfold pw_src at hs ⊢
  unfold pw_ld at h
  split
  · next g => rw [if_pos g] at hs; exact absurd rfl hs
  · next g =>
    rw [if_neg g] at h
    by_cases g2 : (e - 1) / 4 < n ∧ (e - 1) % 4 < pw_ways (op ((e - 1) / 4))
    · exact g2.1
    · rw [if_neg g2] at h; omega
/-- the groups ahead of way e -/
def pg_g (ld : Nat → Nat) : Nat → Nat → Nat
  | 0, p => p
  | e + 1, p => if ld e < 25 ∧ pg_g ld e p = pg_g ld e (pw_src e) then pg_g ld e (ld e) else pg_g ld e p
/-- a way that joins two groups -/
def pg_j (ld : Nat → Nat) (e : Nat) : Prop := ld e < 25 ∧ ¬ pg_g ld e (pw_src e) = pg_g ld e (ld e)
theorem pg_keep1 {ld : Nat → Nat} {e p q : Nat} (h : pg_g ld e p = pg_g ld e q) : pg_g ld (e + 1) p = pg_g ld (e + 1) q := by
  show (if _ then _ else _) = (if _ then _ else _)
  rw [h]
theorem pg_keep {ld : Nat → Nat} {e p q : Nat} (h : pg_g ld e p = pg_g ld e q) : ∀ d, pg_g ld (e + d) p = pg_g ld (e + d) q
  | 0 => h
  | d + 1 => pg_keep1 (pg_keep h d)
theorem pg_edge1 {ld : Nat → Nat} {e : Nat} (h : ld e < 25) : pg_g ld (e + 1) (pw_src e) = pg_g ld (e + 1) (ld e) := by
  show (if _ then _ else _) = (if _ then _ else _)
  rw [if_pos ⟨h, rfl⟩]
  split <;> rfl
theorem pg_edge {ld : Nat → Nat} {e E : Nat} (he : e < E) (h : ld e < 25) : pg_g ld E (pw_src e) = pg_g ld E (ld e) := by
  obtain ⟨d, rfl⟩ : ∃ d, E = (e + 1) + d := ⟨E - (e + 1), by omega⟩
  exact pg_keep (pg_edge1 h) d
def pg_inc (ld : Nat → Nat) (e v : Nat) : Prop := pw_src e = v ∨ ld e = v
def pg_un (ld : Nat → Nat) (S : Nat → Prop) (r : Nat) : Prop := ∃ v e0, v ≠ r ∧ S e0 ∧ pg_inc ld e0 v ∧ ∀ e, S e → pg_inc ld e v → e = e0
theorem pg_side {ld : Nat → Nat} {E : Nat} (ih : ∀ S : Nat → Prop, (∀ e, S e → e < E ∧ pg_j ld e) → (∃ e, S e) → ∀ r, pg_un ld S r)
    {S : Nat → Prop} (hS : ∀ e, S e → e < E + 1 ∧ pg_j ld e) (hE : S E) {c o r : Nat} (hc : pg_inc ld E c) (ho : ∀ v, pg_inc ld E v → v = c ∨ v = o)
    (hn : ¬ pg_g ld E o = pg_g ld E c) (hr : ¬ pg_g ld E r = pg_g ld E c) : pg_un ld S r := by
  have hin : ∀ e v, S e → e ≠ E → pg_inc ld e v → pg_g ld E (pw_src e) = pg_g ld E v := by
    intro e v he hne hv
    have h1 := hS e he
    rcases hv with hv | hv
    · rw [hv]
    · rw [← hv]; exact pg_edge (by omega) h1.2.1
  by_cases hx : ∃ e, S e ∧ e ≠ E ∧ pg_g ld E (pw_src e) = pg_g ld E c
  · obtain ⟨v, e0, hvc, ⟨h1, h2, h3⟩, hi, hu⟩ := ih (fun e => S e ∧ e ≠ E ∧ pg_g ld E (pw_src e) = pg_g ld E c) (fun e he => ⟨by have := (hS e he.1).1; have := he.2.1; omega, (hS e he.1).2⟩) hx c
    have hv : pg_g ld E v = pg_g ld E c := (hin e0 v h1 h2 hi).symm.trans h3
    refine ⟨v, e0, fun z => hr (z ▸ hv), h1, hi, fun e he hiv => ?_⟩
    by_cases hne : e = E
    · subst hne
      rcases ho v hiv with z | z
      · exact absurd z hvc
      · exact absurd (z ▸ hv) hn
    · exact hu e ⟨he, hne, (hin e v he hne hiv).trans hv⟩ hiv
  · refine ⟨c, E, fun z => hr (z ▸ rfl), hE, hc, fun e he hiv => ?_⟩
    by_cases hne : e = E
    · exact hne
    · exact absurd ⟨e, he, hne, hin e c he hne hiv⟩ hx
theorem pg_leaf (ld : Nat → Nat) : ∀ E, ∀ S : Nat → Prop, (∀ e, S e → e < E ∧ pg_j ld e) → (∃ e, S e) → ∀ r, pg_un ld S r := by
  intro E
  induction E with
  | zero => intro S h ⟨e, he⟩ r; exact absurd (h e he).1 (Nat.not_lt_zero e)
  | succ E ih =>
    intro S h hx r
    by_cases hE : S E
    · have hj := (h E hE).2.2
      by_cases hr : pg_g ld E r = pg_g ld E (pw_src E)
      · exact pg_side ih h hE (c := ld E) (o := pw_src E) (Or.inr rfl) (fun v hv => hv.elim (fun z => Or.inr z.symm) (fun z => Or.inl z.symm)) hj (fun z => hj (hr.symm.trans z))
      · exact pg_side ih h hE (c := pw_src E) (o := ld E) (Or.inl rfl) (fun v hv => hv.elim (fun z => Or.inl z.symm) (fun z => Or.inr z.symm)) (fun z => hj z.symm) hr
    · exact ih S (fun e he => ⟨by have := (h e he).1; have : e ≠ E := fun z => hE (z ▸ he); omega, (h e he).2⟩) hx r
/-- sums -/
def sn_N (f : Nat → Nat) : Nat → Nat
  | 0 => 0
  | n + 1 => sn_N f n + f n
def sn_I (f : Nat → Int32) : Nat → Int32
  | 0 => 0
  | n + 1 => sn_I f n + f n
theorem sn_N_congr {f g : Nat → Nat} : ∀ {n : Nat}, (∀ e, e < n → f e = g e) → sn_N f n = sn_N g n
  | 0, _ => rfl
  | n + 1, h => by
    show sn_N f n + f n = sn_N g n + g n
    rw [sn_N_congr (fun e he => h e (by omega)), h n (by omega)]
theorem sn_I_congr {f g : Nat → Int32} : ∀ {n : Nat}, (∀ e, e < n → f e = g e) → sn_I f n = sn_I g n
  | 0, _ => rfl
  | n + 1, h => by
    show sn_I f n + f n = sn_I g n + g n
    rw [sn_I_congr (fun e he => h e (by omega)), h n (by omega)]
theorem sn_I_0 {f : Nat → Int32} : ∀ {n : Nat}, (∀ e, e < n → f e = 0) → sn_I f n = 0
  | 0, _ => rfl
  | n + 1, h => by
    show sn_I f n + f n = 0
    rw [sn_I_0 (fun e he => h e (by omega)), h n (by omega)]; rfl
theorem sn_I_add (f g : Nat → Int32) : ∀ n, sn_I (fun e => f e + g e) n = sn_I f n + sn_I g n
  | 0 => rfl
  | n + 1 => by
    show sn_I (fun e => f e + g e) n + (f n + g n) = (sn_I f n + f n) + (sn_I g n + g n)
    rw [sn_I_add f g n]; grind
theorem sn_I_sub (f g : Nat → Int32) : ∀ n, sn_I (fun e => f e - g e) n = sn_I f n - sn_I g n
  | 0 => by show (0 : Int32) = 0 - 0; decide
  | n + 1 => by
    show sn_I (fun e => f e - g e) n + (f n - g n) = (sn_I f n + f n) - (sn_I g n + g n)
    rw [sn_I_sub f g n]; grind
/-- one term alone -/
theorem sn_I_one {f : Nat → Int32} {e0 : Nat} : ∀ {n : Nat}, e0 < n → (∀ e, e < n → e ≠ e0 → f e = 0) → sn_I f n = f e0
  | 0, h, _ => absurd h (Nat.not_lt_zero _)
  | n + 1, h, hz => by
    show sn_I f n + f n = f e0
    by_cases he : e0 = n
    · subst he
      rw [sn_I_0 (fun e h1 => hz e (by omega) (by omega))]; grind
    · rw [sn_I_one (by omega) (fun e h1 h2 => hz e (by omega) h2), hz n (by omega) (fun z => he z.symm)]; grind
/-- one term changes -/
theorem sn_I_up {f g : Nat → Int32} {e0 n : Nat} {d : Int32} (h : e0 < n) (h0 : g e0 = f e0 + d) (hz : ∀ e, e < n → e ≠ e0 → g e = f e) : sn_I g n = sn_I f n + d := by
  have h1 : sn_I (fun e => g e - f e) n = g e0 - f e0 := sn_I_one h (fun e he hne => by show g e - f e = 0; rw [hz e he hne]; grind)
  rw [sn_I_sub] at h1
  grind
theorem sn_N_le {f g : Nat → Nat} : ∀ {n : Nat}, (∀ e, e < n → f e ≤ g e) → sn_N f n ≤ sn_N g n
  | 0, _ => Nat.le_refl _
  | n + 1, h => Nat.add_le_add (sn_N_le (fun e he => h e (by omega))) (h n (by omega))
theorem sn_N_ge {f : Nat → Nat} {e0 : Nat} : ∀ {n : Nat}, e0 < n → f e0 ≤ sn_N f n
  | 0, h => absurd h (Nat.not_lt_zero _)
  | n + 1, h => by
    show f e0 ≤ sn_N f n + f n
    by_cases he : e0 = n
    · subst he; omega
    · have := sn_N_ge (f := f) (e0 := e0) (n := n) (by omega); omega
theorem sn_N_two {f : Nat → Nat} {e0 e1 : Nat} (hne : e0 ≠ e1) : ∀ {n : Nat}, e0 < n → e1 < n → f e0 + f e1 ≤ sn_N f n
  | 0, h, _ => absurd h (Nat.not_lt_zero _)
  | n + 1, h, h' => by
    show f e0 + f e1 ≤ sn_N f n + f n
    by_cases he : e0 = n
    · subst he
      have := sn_N_ge (f := f) (e0 := e1) (n := e0) (by omega); omega
    · by_cases he' : e1 = n
      · subst he'
        have := sn_N_ge (f := f) (e0 := e0) (n := e1) (by omega); omega
      · have := sn_N_two (f := f) hne (n := n) (by omega) (by omega); omega
theorem sn_N_one {f : Nat → Nat} {e0 : Nat} : ∀ {n : Nat}, e0 < n → (∀ e, e < n → e ≠ e0 → f e = 0) → sn_N f n = f e0
  | 0, h, _ => absurd h (Nat.not_lt_zero _)
  | n + 1, h, hz => by
    show sn_N f n + f n = f e0
    by_cases he : e0 = n
    · subst he
      rw [sn_N_congr (g := fun _ => 0) (fun e h1 => hz e (by omega) (by omega))]
      have : ∀ m, sn_N (fun _ => 0) m = 0 := fun m => by induction m with | zero => rfl | succ m ih => exact ih
      rw [this]; omega
    · rw [sn_N_one (by omega) (fun e h1 h2 => hz e (by omega) h2), hz n (by omega) (fun z => he z.symm)]; rfl
theorem sn_N_lt {f g : Nat → Nat} {e0 : Nat} : ∀ {n : Nat}, e0 < n → (∀ e, e < n → f e ≤ g e) → f e0 < g e0 → sn_N f n < sn_N g n
  | 0, h, _, _ => absurd h (Nat.not_lt_zero _)
  | n + 1, h, hz, hl => by
    show sn_N f n + f n < sn_N g n + g n
    by_cases he : e0 = n
    · subst he
      have := sn_N_le (f := f) (g := g) (n := e0) (fun e h1 => hz e (by omega)); omega
    · have := sn_N_lt (f := f) (g := g) (e0 := e0) (n := n) (by omega) (fun e h1 => hz e (by omega)) hl
      have := hz n (by omega); omega
end
section
/-! pure: flows, and how they are worked out from those of the ways with counters -/
def fl_in (ld : Nat → Nat) (F : Nat → Int32) (p : Nat) : Int32 := sn_I (fun e => if ld e = p then F e else 0) 97
def fl_out (ld : Nat → Nat) (F : Nat → Int32) (p : Nat) : Int32 := sn_I (fun e => if pw_src e = p ∧ ld e < 25 then F e else 0) 97
def fl_uf (ld : Nat → Nat) (ao : Nat → Int32) (p e : Nat) : Nat := if ld e < 25 ∧ ¬ ao e = 0 then (if pw_src e = p then 1 else 0) + (if ld e = p then 1 else 0) else 0
def fl_un (ld : Nat → Nat) (ao : Nat → Int32) (p E : Nat) : Nat := sn_N (fl_uf ld ao p) E
def fl_bf (ld : Nat → Nat) (ao K : Nat → Int32) (p e : Nat) : Int32 := if ld e < 25 ∧ ao e = 0 then (if ld e = p then K e else 0) - (if pw_src e = p then K e else 0) else 0
def fl_bal (ld : Nat → Nat) (ao K : Nat → Int32) (p E : Nat) : Int32 := sn_I (fl_bf ld ao K p) E
def fl_of (ld : Nat → Nat) (ao F : Nat → Int32) (p e : Nat) : Int32 := if ld e < 25 ∧ ¬ ao e = 0 then (if ld e = p then F e else 0) - (if pw_src e = p then F e else 0) else 0
theorem fl_split {ld : Nat → Nat} {ao K F : Nat → Int32} {p : Nat} (hp : p < 25) (hK : ∀ e, e < 97 → ld e < 25 → ao e = 0 → K e = F e) :
    fl_bal ld ao K p 97 + sn_I (fl_of ld ao F p) 97 = fl_in ld F p - fl_out ld F p := by
  unfold fl_bal fl_in fl_out
  rw [← sn_I_add, ← sn_I_sub]
  apply sn_I_congr
  intro e he
  show fl_bf ld ao K p e + fl_of ld ao F p e = (if ld e = p then F e else 0) - (if pw_src e = p ∧ ld e < 25 then F e else 0)
  unfold fl_bf fl_of
  by_cases h : ld e < 25
  · have hh : (pw_src e = p ∧ ld e < 25) = (pw_src e = p) := by simp [h]
    by_cases h2 : ao e = 0
    · have a1 : (ld e < 25 ∧ ao e = 0) = True := by simp [h, h2]
      have a2 : (ld e < 25 ∧ ¬ ao e = 0) = False := by simp [h2]
      simp only [a1, a2, hh, if_true, if_false, hK e he h h2]; grind
    · have a1 : (ld e < 25 ∧ ao e = 0) = False := by simp [h2]
      have a2 : (ld e < 25 ∧ ¬ ao e = 0) = True := by simp [h, h2]
      simp only [a1, a2, hh, if_true, if_false]; grind
  · have a1 : (ld e < 25 ∧ ao e = 0) = False := by simp [h]
    have a2 : (ld e < 25 ∧ ¬ ao e = 0) = False := by simp [h]
    have a3 : (pw_src e = p ∧ ld e < 25) = False := by simp [h]
    have a4 : (ld e = p) = False := by
      simp only [eq_iff_iff, iff_false]
      omega
    simp only [a1, a2, a3, a4, if_false]; rfl
theorem fl_one {ld : Nat → Nat} {ao F : Nat → Int32} {p e0 : Nat} (he : e0 < 97) (ho : ¬ ao e0 = 0) (hv : ld e0 < 25) (hi : pw_src e0 = p ∨ ld e0 = p) (hu : fl_un ld ao p 97 = 1) :
    sn_I (fl_of ld ao F p) 97 = fl_of ld ao F p e0 ∧ ¬ (pw_src e0 = p ∧ ld e0 = p) := by
  have h1 : fl_uf ld ao p e0 = (if pw_src e0 = p then 1 else 0) + (if ld e0 = p then 1 else 0) := if_pos ⟨hv, ho⟩
  have h2 : 1 ≤ fl_uf ld ao p e0 := by
    rw [h1]
    rcases hi with h | h
    · rw [if_pos h]; omega
    · rw [if_pos h]; omega
  have h3 : fl_uf ld ao p e0 ≤ 1 := by rw [← hu]; exact sn_N_ge he
  refine ⟨sn_I_one he (fun e h4 h5 => ?_), fun z => ?_⟩
  · have h6 : fl_uf ld ao p e = 0 := by
      have := sn_N_two (f := fl_uf ld ao p) h5 h4 he
      have h7 : sn_N (fl_uf ld ao p) 97 = 1 := hu
      omega
    unfold fl_of
    by_cases h8 : ld e < 25 ∧ ¬ ao e = 0
    · rw [if_pos h8]
      unfold fl_uf at h6
      rw [if_pos h8] at h6
      by_cases a : pw_src e = p
      · rw [if_pos a] at h6; omega
      · by_cases b : ld e = p
        · rw [if_pos b] at h6; omega
        · rw [if_neg a, if_neg b]; rfl
    · rw [if_neg h8]
  · rw [h1, if_pos z.1, if_pos z.2] at h3
    omega
/-- the one way that isn't known at a point: what is left there -/
theorem fl_src {ld : Nat → Nat} {ao K F : Nat → Int32} {p e0 : Nat} {c : Int32} (hp : p < 25) (hK : ∀ e, e < 97 → ld e < 25 → ao e = 0 → K e = F e) (hc : c + fl_in ld F p = fl_out ld F p)
    (he : e0 < 97) (ho : ¬ ao e0 = 0) (hv : ld e0 < 25) (hi : pw_src e0 = p) (hu : fl_un ld ao p 97 = 1) : c + fl_bal ld ao K p 97 = F e0 := by
  have h1 := fl_split (ld := ld) (ao := ao) (K := K) (F := F) hp hK
  obtain ⟨h2, h3⟩ := fl_one (F := F) he ho hv (Or.inl hi) hu
  have h4 : fl_of ld ao F p e0 = 0 - F e0 := by
    unfold fl_of
    rw [if_pos ⟨hv, ho⟩, if_neg (fun z => h3 ⟨hi, z⟩), if_pos hi]
  rw [h2, h4] at h1
  grind
theorem fl_dst {ld : Nat → Nat} {ao K F : Nat → Int32} {p e0 : Nat} {c : Int32} (hp : p < 25) (hK : ∀ e, e < 97 → ld e < 25 → ao e = 0 → K e = F e) (hc : c + fl_in ld F p = fl_out ld F p)
    (he : e0 < 97) (ho : ¬ ao e0 = 0) (hv : ld e0 < 25) (hi : ld e0 = p) (hu : fl_un ld ao p 97 = 1) : -(c + fl_bal ld ao K p 97) = F e0 := by
  have h1 := fl_split (ld := ld) (ao := ao) (K := K) (F := F) hp hK
  obtain ⟨h2, h3⟩ := fl_one (F := F) he ho hv (Or.inr hi) hu
  have h4 : fl_of ld ao F p e0 = F e0 := by
    unfold fl_of
    rw [if_pos ⟨hv, ho⟩, if_pos hi, if_neg (fun z => h3 ⟨z, hi⟩)]
    grind
  rw [h2, h4] at h1
  grind
theorem fl_ge {ld : Nat → Nat} {ao : Nat → Int32} {p e0 : Nat} (he : e0 < 97) (ho : ¬ ao e0 = 0) (hv : ld e0 < 25) (hi : pw_src e0 = p ∨ ld e0 = p) : 1 ≤ fl_un ld ao p 97 := by
  have h1 : fl_uf ld ao p e0 = (if pw_src e0 = p then 1 else 0) + (if ld e0 = p then 1 else 0) := if_pos ⟨hv, ho⟩
  refine Nat.le_trans ?_ (sn_N_ge (f := fl_uf ld ao p) he)
  rw [h1]
  rcases hi with h | h
  · rw [if_pos h]; omega
  · rw [if_pos h]; omega
def fl_can (ld : Nat → Nat) (ao : Nat → Int32) (e : Nat) : Prop := (pw_src e < 24 ∧ fl_un ld ao (pw_src e) 97 = 1) ∨ (ld e ≠ 24 ∧ fl_un ld ao (ld e) 97 ≤ 1)
/-- some way can be worked out -/
theorem fl_prog {ld : Nat → Nat} {ao : Nat → Int32} (hj : ∀ e, e < 97 → ¬ ao e = 0 → pg_j ld e) (hx : ∃ e, e < 97 ∧ ¬ ao e = 0) : ∃ e, e < 97 ∧ ¬ ao e = 0 ∧ fl_can ld ao e := by
  obtain ⟨v, e0, hv, ⟨h1, h2⟩, hi, hu⟩ := pg_leaf ld 97 (fun e => e < 97 ∧ ¬ ao e = 0) (fun e h => ⟨h.1, hj e h.1 h.2⟩) hx 24
  have hj0 := hj e0 h1 h2
  have hne : pw_src e0 ≠ ld e0 := fun z => hj0.2 (by rw [z])
  have hun : fl_un ld ao v 97 = 1 := by
    have h3 : sn_N (fl_uf ld ao v) 97 = fl_uf ld ao v e0 := by
      refine sn_N_one h1 (fun e he hne => ?_)
      unfold fl_uf
      by_cases h8 : ld e < 25 ∧ ¬ ao e = 0
      · have h9 : ¬ pg_inc ld e v := fun z => hne (hu e ⟨he, h8.2⟩ z)
        rw [if_pos h8, if_neg (fun z => h9 (Or.inl z)), if_neg (fun z => h9 (Or.inr z))]
      · rw [if_neg h8]
    show sn_N (fl_uf ld ao v) 97 = 1
    rw [h3]
    unfold fl_uf
    rw [if_pos ⟨hj0.1, h2⟩]
    rcases hi with h | h
    · rw [if_pos h, if_neg (fun z => hne (h.trans z.symm))]
    · rw [if_pos h, if_neg (fun z => hne (z.trans h.symm))]
  refine ⟨e0, h1, h2, ?_⟩
  rcases hi with h | h
  · have := pw_src_le h1
    exact Or.inl ⟨by omega, by rw [h]; exact hun⟩
  · exact Or.inr ⟨fun z => hv (h.symm.trans z), by rw [h]; omega⟩
theorem sn_N_4 (f : Nat → Nat) : ∀ n, sn_N f (1 + 4 * n) = f 0 + sn_N (fun i => f (1 + 4 * i) + f (1 + 4 * i + 1) + f (1 + 4 * i + 2) + f (1 + 4 * i + 3)) n
  | 0 => by show 0 + f 0 = f 0 + 0; omega
  | n + 1 => by
    have h := sn_N_4 f n
    have e : 1 + 4 * (n + 1) = 1 + 4 * n + 4 := by omega
    rw [e]
    show sn_N f (1 + 4 * n) + f (1 + 4 * n) + f (1 + 4 * n + 1) + f (1 + 4 * n + 2) + f (1 + 4 * n + 3) = f 0 + (sn_N _ n + (f (1 + 4 * n) + f (1 + 4 * n + 1) + f (1 + 4 * n + 2) + f (1 + 4 * n + 3)))
    omega
theorem sn_N_k (c : Nat) (p : Nat) : ∀ n, sn_N (fun i => (if i = p then c else 0) + 1) n ≤ c + n
  | 0 => Nat.zero_le _
  | n + 1 => by
    show sn_N (fun i => (if i = p then c else 0) + 1) n + ((if n = p then c else 0) + 1) ≤ c + (n + 1)
    have h := sn_N_k c p n
    by_cases hp : n = p
    · rw [if_pos hp]
      have h2 : sn_N (fun i => (if i = p then c else 0) + 1) n = sn_N (fun _ => 1) n := sn_N_congr (fun e he => by rw [if_neg (by omega)])
      have h3 : ∀ m, sn_N (fun _ => 1) m = m := fun m => by induction m with | zero => rfl | succ m ih => show sn_N (fun _ => 1) m + 1 = m + 1; rw [ih]
      rw [h2, h3]; omega
    · rw [if_neg hp]; omega
theorem fl_two {ld : Nat → Nat} {e e' p : Nat} (h : e < e') (hs : pw_src e = pw_src e') (he : ld e = p) (he' : ld e' = p) (hj : pg_j ld e) (hj' : pg_j ld e') : False := by
  have := pg_edge h hj.1
  rw [hs, he, ← he'] at this
  exact hj'.2 this
theorem fl_un_le {ld : Nat → Nat} {ao : Nat → Int32} (hj : ∀ e, e < 97 → ¬ ao e = 0 → pg_j ld e) (p : Nat) : fl_un ld ao p 97 ≤ 30 := by
  have h := sn_N_4 (fl_uf ld ao p) 24
  show sn_N (fl_uf ld ao p) (1 + 4 * 24) ≤ 30
  rw [h]
  have b : ∀ e, fl_uf ld ao p e ≤ 2 := by
    intro e
    unfold fl_uf
    split
    · split <;> split <;> omega
    · omega
  have g : ∀ i, i < 24 → fl_uf ld ao p (1 + 4 * i) + fl_uf ld ao p (1 + 4 * i + 1) + fl_uf ld ao p (1 + 4 * i + 2) + fl_uf ld ao p (1 + 4 * i + 3) ≤ (if i = p then 4 else 0) + 1 := by
    intro i hi
    have q : ∀ k, k < 4 → ∃ a, fl_uf ld ao p (1 + 4 * i + k) ≤ (if i = p then 1 else 0) + a ∧ a ≤ 1 ∧ (a = 0 ∨ (a = 1 ∧ ld (1 + 4 * i + k) = p ∧ pg_j ld (1 + 4 * i + k))) := by
      intro k hk
      by_cases h8 : ld (1 + 4 * i + k) < 25 ∧ ¬ ao (1 + 4 * i + k) = 0
      · have e1 : fl_uf ld ao p (1 + 4 * i + k) = (if i = p then 1 else 0) + (if ld (1 + 4 * i + k) = p then 1 else 0) := by
          unfold fl_uf
          rw [if_pos h8, pw_src_s hk]
        by_cases h9 : ld (1 + 4 * i + k) = p
        · rw [if_pos h9] at e1
          exact ⟨1, by omega, by omega, Or.inr ⟨rfl, h9, hj _ (by omega) h8.2⟩⟩
        · rw [if_neg h9] at e1
          exact ⟨0, by omega, by omega, Or.inl rfl⟩
      · refine ⟨0, ?_, by omega, Or.inl rfl⟩
        unfold fl_uf
        rw [if_neg h8]
        omega
    obtain ⟨a0, l0, m0, c0⟩ := q 0 (by omega)
    obtain ⟨a1, l1, m1, c1⟩ := q 1 (by omega)
    obtain ⟨a2, l2, m2, c2⟩ := q 2 (by omega)
    obtain ⟨a3, l3, m3, c3⟩ := q 3 (by omega)
    have x : ∀ j k, j < k → k < 4 → (ld (1 + 4 * i + j) = p ∧ pg_j ld (1 + 4 * i + j)) → (ld (1 + 4 * i + k) = p ∧ pg_j ld (1 + 4 * i + k)) → False := by
      intro j k hjk hk h1 h2
      exact fl_two (by omega) ((pw_src_s (by omega)).trans (pw_src_s hk).symm) h1.1 h2.1 h1.2 h2.2
    have y : ∀ j k (a a' : Nat), j < k → k < 4 → (a = 0 ∨ (a = 1 ∧ ld (1 + 4 * i + j) = p ∧ pg_j ld (1 + 4 * i + j))) → (a' = 0 ∨ (a' = 1 ∧ ld (1 + 4 * i + k) = p ∧ pg_j ld (1 + 4 * i + k))) → a = 0 ∨ a' = 0 := by
      intro j k a a' h1 h2 h3 h4
      rcases h3 with h3 | h3
      · exact Or.inl h3
      · rcases h4 with h4 | h4
        · exact Or.inr h4
        · exact (x j k h1 h2 h3.2 h4.2).elim
    have y01 := y 0 1 a0 a1 (by omega) (by omega) c0 c1
    have y02 := y 0 2 a0 a2 (by omega) (by omega) c0 c2
    have y03 := y 0 3 a0 a3 (by omega) (by omega) c0 c3
    have y12 := y 1 2 a1 a2 (by omega) (by omega) c1 c2
    have y13 := y 1 3 a1 a3 (by omega) (by omega) c1 c3
    have y23 := y 2 3 a2 a3 (by omega) (by omega) c2 c3
    clear c0 c1 c2 c3 x y q
    rw [Nat.add_zero] at l0
    by_cases hip : i = p
    · rw [if_pos hip] at *; omega
    · rw [if_neg hip] at *; omega
  have s := Nat.le_trans (sn_N_le (f := fun i => fl_uf ld ao p (1 + 4 * i) + fl_uf ld ao p (1 + 4 * i + 1) + fl_uf ld ao p (1 + 4 * i + 2) + fl_uf ld ao p (1 + 4 * i + 3)) (g := fun i => (if i = p then 4 else 0) + 1) (n := 24) g) (sn_N_k 4 p 24)
  have b0 := b 0
  omega
/-- a prefix's count is no greater -/
theorem sn_N_mono (f : Nat → Nat) {a b : Nat} (h : a ≤ b) : sn_N f a ≤ sn_N f b := by
  obtain ⟨d, rfl⟩ : ∃ d, b = a + d := ⟨b - a, by omega⟩
  induction d with
  | zero => exact Nat.le_refl _
  | succ d ih => exact Nat.le_trans (ih (by omega)) (Nat.le_add_right _ _)
end
section
/-! pure: sums of ways tell the ways -/
/-- what the ways of an instruction add: az; in how many ways it goes on: gz -/
def pt_fw (ld : Nat → Nat) (i k : Nat) : Prop := i < ld (1 + 4 * i + k) ∧ ld (1 + 4 * i + k) < 24
def pt_ok (ld : Nat → Nat) (n : Nat) (gz : Nat → Nat) (az : Nat → Nat → Nat) : Prop :=
  ∀ i, i < n → 1 ≤ gz i ∧ (∀ k, k < 4 → pt_fw ld i k → az i k + gz (ld (1 + 4 * i + k)) ≤ gz i) ∧ (∀ k k', k < k' → k' < 4 → pt_fw ld i k → az i k + gz (ld (1 + 4 * i + k)) ≤ az i k')
/-- p 0 .. p D: a path; w (j + 1) the way from p j -/
def pt_path (ld : Nat → Nat) (n : Nat) (p w : Nat → Nat) (D : Nat) : Prop := w 0 = 0 ∧ (∀ j, j ≤ D → p j < n ∧ w j < 4) ∧ ∀ j, j < D → p j < p (j + 1) ∧ ld (1 + 4 * p j + w (j + 1)) = p (j + 1)
def pt_sm (az : Nat → Nat → Nat) (p w : Nat → Nat) : Nat → Nat
  | 0 => 0
  | d + 1 => pt_sm az p w d + az (p d) (w (d + 1))
theorem pt_sm_mono (az : Nat → Nat → Nat) (p w : Nat → Nat) (j : Nat) : ∀ d, pt_sm az p w j ≤ pt_sm az p w (j + d)
  | 0 => Nat.le_refl _
  | d + 1 => Nat.le_trans (pt_sm_mono az p w j d) (Nat.le_add_right _ _)
/-- what is left is less than the number of ways to go on -/
theorem pt_rest {ld : Nat → Nat} {n : Nat} {gz : Nat → Nat} {az : Nat → Nat → Nat} (hn : n ≤ 24) (h : pt_ok ld n gz az) {p w : Nat → Nat} {D : Nat} (hp : pt_path ld n p w D) :
    ∀ d, d ≤ D → pt_sm az p w D < pt_sm az p w (D - d) + gz (p (D - d)) := by
  intro d
  induction d with
  | zero => intro _; have := (h (p D) (hp.2.1 D (Nat.le_refl _)).1).1; show _ < pt_sm az p w D + gz (p D); omega
  | succ d ih =>
    intro hd
    obtain ⟨j, rfl⟩ : ∃ j, D = j + (d + 1) := ⟨D - (d + 1), by omega⟩
    have e1 : j + (d + 1) - d = j + 1 := by omega
    have e2 : j + (d + 1) - (d + 1) = j := by omega
    have i1 := ih (by omega)
    rw [e1] at i1
    rw [e2]
    have s1 : pt_sm az p w (j + 1) = pt_sm az p w j + az (p j) (w (j + 1)) := rfl
    have q := hp.2.2 j (by omega)
    have q1 := hp.2.1 j (by omega)
    have q2 := hp.2.1 (j + 1) (by omega)
    have f : pt_fw ld (p j) (w (j + 1)) := ⟨by rw [q.2]; exact q.1, by rw [q.2]; omega⟩
    have k := (h (p j) q1.1).2.1 (w (j + 1)) q2.2 f
    rw [q.2] at k
    omega
theorem pt_inc {ld : Nat → Nat} {n : Nat} {p w : Nat → Nat} {D : Nat} (hp : pt_path ld n p w D) : ∀ d j, j + d ≤ D → p j + d ≤ p (j + d) := by
  intro d
  induction d with
  | zero => intro j _; exact Nat.le_refl _
  | succ d ih =>
    intro j hj
    have := ih j (by omega)
    have := (hp.2.2 (j + d) (by omega)).1
    show p j + (d + 1) ≤ p (j + d + 1)
    omega
/-- the way on from an instruction, by what is left -/
theorem pt_way {ld : Nat → Nat} {n : Nat} {gz : Nat → Nat} {az : Nat → Nat → Nat} (h : pt_ok ld n gz az) {i k k' r r' : Nat} (hi : i < n) (hk : k < 4) (hk' : k' < 4)
    (f : pt_fw ld i k) (f' : pt_fw ld i k') (hr : r < gz (ld (1 + 4 * i + k))) (hr' : r' < gz (ld (1 + 4 * i + k'))) (e : az i k + r = az i k' + r') : k = k' := by
  have q := (h i hi).2.2
  rcases Nat.lt_trichotomy k k' with c | c | c
  · have := q k k' c hk' f; omega
  · exact c
  · have := q k' k c hk f'; omega
theorem pt_len {ld : Nat → Nat} {n : Nat} {p w : Nat → Nat} {D : Nat} (hn : n ≤ 24) (hp : pt_path ld n p w D) : D < 24 := by
  have := pt_inc hp D 0 (by omega)
  have := (hp.2.1 D (Nat.le_refl _)).1
  rw [Nat.zero_add] at *
  omega
/-- two paths with one first point, one last and one sum are the same -/
theorem pt_inj {ld : Nat → Nat} {n : Nat} {gz : Nat → Nat} {az : Nat → Nat → Nat} (hn : n ≤ 24) (h : pt_ok ld n gz az) {p w p' w' : Nat → Nat} {D D' : Nat}
    (hp : pt_path ld n p w D) (hp' : pt_path ld n p' w' D') (h0 : p 0 = p' 0) (hl : p D = p' D') (hs : pt_sm az p w D = pt_sm az p' w' D') :
    D = D' ∧ ∀ j, j ≤ D → p j = p' j ∧ w j = w' j := by
  have main : ∀ j, j ≤ D → j ≤ D' ∧ (∀ t, t ≤ j → p t = p' t ∧ w t = w' t) ∧ pt_sm az p w j = pt_sm az p' w' j := by
    intro j
    induction j with
    | zero =>
      intro _
      refine ⟨Nat.zero_le _, fun t ht => ?_, rfl⟩
      obtain rfl : t = 0 := by omega
      exact ⟨h0, hp.1.trans hp'.1.symm⟩
    | succ j ih =>
      intro hj
      obtain ⟨h1, h2, h3⟩ := ih (by omega)
      have hjD' : j < D' := by
        rcases Nat.lt_or_ge j D' with c | c
        · exact c
        · exfalso
          obtain rfl : j = D' := by omega
          have e := (h2 j (Nat.le_refl _)).1
          have := pt_inc hp (D - j) j (by omega)
          rw [show j + (D - j) = D by omega] at this
          omega
      have e := (h2 j (Nat.le_refl _)).1
      have q := hp.2.2 j (by omega)
      have q' := hp'.2.2 j hjD'
      have b1 := hp.2.1 (j + 1) (by omega)
      have b2 := hp'.2.1 (j + 1) (by omega)
      have b0 := hp.2.1 j (by omega)
      have r1 := pt_rest hn h hp (D - (j + 1)) (by omega)
      have r2 := pt_rest hn h hp' (D' - (j + 1)) (by omega)
      rw [show D - (D - (j + 1)) = j + 1 by omega] at r1
      rw [show D' - (D' - (j + 1)) = j + 1 by omega] at r2
      have m1 := pt_sm_mono az p w (j + 1) (D - (j + 1))
      have m2 := pt_sm_mono az p' w' (j + 1) (D' - (j + 1))
      rw [show j + 1 + (D - (j + 1)) = D by omega] at m1
      rw [show j + 1 + (D' - (j + 1)) = D' by omega] at m2
      have s1 : pt_sm az p w (j + 1) = pt_sm az p w j + az (p j) (w (j + 1)) := rfl
      have s2 : pt_sm az p' w' (j + 1) = pt_sm az p' w' j + az (p' j) (w' (j + 1)) := rfl
      rw [← e] at q' s2
      have f : pt_fw ld (p j) (w (j + 1)) := ⟨by rw [q.2]; exact q.1, by rw [q.2]; omega⟩
      have f' : pt_fw ld (p j) (w' (j + 1)) := ⟨by rw [q'.2]; exact q'.1, by rw [q'.2]; omega⟩
      have ew : w (j + 1) = w' (j + 1) := by
        refine pt_way h b0.1 b1.2 b2.2 f f' (r := pt_sm az p w D - pt_sm az p w (j + 1)) (r' := pt_sm az p' w' D' - pt_sm az p' w' (j + 1)) ?_ ?_ ?_
        · rw [q.2]; omega
        · rw [q'.2]; omega
        · omega
      have ep : p (j + 1) = p' (j + 1) := by rw [← q.2, ← q'.2, ew]
      refine ⟨hjD', fun t ht => ?_, by rw [s1, s2, h3, ew]⟩
      rcases Nat.lt_or_ge t (j + 1) with c | c
      · exact h2 t (by omega)
      · obtain rfl : t = j + 1 := by omega
        exact ⟨ep, ew⟩
  obtain ⟨h1, h2, _⟩ := main D (Nat.le_refl _)
  have e : D = D' := by
    rcases Nat.lt_or_ge D D' with c | c
    · exfalso
      have e := (h2 D (Nat.le_refl _)).1
      have := pt_inc hp' (D' - D) D (by omega)
      rw [show D + (D' - D) = D' by omega] at this
      omega
    · omega
  exact ⟨e, h2⟩
/-- sums as longs -/
def pt_sL (ad : Nat → Int64) (p w : Nat → Nat) : Nat → Int64
  | 0 => 0
  | d + 1 => pt_sL ad p w d + ad (1 + 4 * p d + w (d + 1))
theorem pt_sL_eq {ad : Nat → Int64} {az : Nat → Nat → Nat} {n : Nat} {p w : Nat → Nat} (ha : ∀ i k, i < n → k < 4 → ad (1 + 4 * i + k) = lN (az i k)) :
    ∀ D, (∀ j, j ≤ D → p j < n ∧ w j < 4) → pt_sL ad p w D = lN (pt_sm az p w D)
  | 0, _ => rfl
  | d + 1, h => by
    show pt_sL ad p w d + ad (1 + 4 * p d + w (d + 1)) = lN (pt_sm az p w d + az (p d) (w (d + 1)))
    rw [pt_sL_eq ha d (fun j hj => h j (by omega)), ha (p d) (w (d + 1)) (h d (by omega)).1 (h (d + 1) (by omega)).2, lN_add]
theorem pt_sL_congr {ad : Nat → Int64} {p w p' w' : Nat → Nat} : ∀ D, (∀ j, j ≤ D → p j = p' j ∧ w j = w' j) → pt_sL ad p w D = pt_sL ad p' w' D
  | 0, _ => rfl
  | d + 1, h => by
    show pt_sL ad p w d + ad (1 + 4 * p d + w (d + 1)) = pt_sL ad p' w' d + ad (1 + 4 * p' d + w' (d + 1))
    rw [pt_sL_congr d (fun j hj => h j (by omega)), (h d (by omega)).1, (h (d + 1) (by omega)).2]
end
section
/-! pure: the reference's parts against the groups -/
def pg_jn (ld : Nat → Nat) (e : Nat) : Nat := if ld e < 25 ∧ ¬ pg_g ld e (pw_src e) = pg_g ld e (ld e) then 1 else 0
def pg_cn (ld : Nat → Nat) (e : Nat) : Nat := if ld e < 25 ∧ pg_g ld e (pw_src e) = pg_g ld e (ld e) then 1 else 0
def pg_vn (ld : Nat → Nat) (e : Nat) : Nat := if ld e < 25 then 1 else 0
theorem pg_jcv (ld : Nat → Nat) (e : Nat) : pg_jn ld e + pg_cn ld e = pg_vn ld e := by
  unfold pg_jn pg_cn pg_vn
  by_cases h : ld e < 25
  · by_cases h2 : pg_g ld e (pw_src e) = pg_g ld e (ld e)
    · rw [if_neg (fun z => z.2 h2), if_pos ⟨h, h2⟩, if_pos h]
    · rw [if_pos ⟨h, h2⟩, if_neg (fun z => h2 z.2), if_pos h]
  · rw [if_neg (fun z => h z.1), if_neg (fun z => h z.1), if_neg h]
theorem pg_jcvs (ld : Nat → Nat) : ∀ E, sn_N (pg_jn ld) E + sn_N (pg_cn ld) E = sn_N (pg_vn ld) E
  | 0 => rfl
  | E + 1 => by
    show sn_N (pg_jn ld) E + pg_jn ld E + (sn_N (pg_cn ld) E + pg_cn ld E) = sn_N (pg_vn ld) E + pg_vn ld E
    have := pg_jcvs ld E
    have := pg_jcv ld E
    omega
theorem sn_N_up {f g : Nat → Nat} {e0 d : Nat} : ∀ {n : Nat}, e0 < n → g e0 = f e0 + d → (∀ e, e < n → e ≠ e0 → g e = f e) → sn_N g n = sn_N f n + d
  | 0, h, _, _ => absurd h (Nat.not_lt_zero _)
  | n + 1, h, h0, hz => by
    show sn_N g n + g n = sn_N f n + f n + d
    by_cases he : e0 = n
    · subst he
      rw [sn_N_congr (fun e h1 => hz e (by omega) (by omega)), h0]; omega
    · rw [sn_N_up (by omega) h0 (fun e h1 h2 => hz e (by omega) h2), hz n (by omega) (fun z => he z.symm)]; omega
/-- points of the reference: n is outside -/
def pu_f (n p : Nat) : Nat := if p = n then 24 else p
def pu_x (a b : Nat) : Nat := if b ≤ a then b else a
def pu_y (a b : Nat) : Nat := if b ≤ a then a else b
def pu_u (h : Nat → Nat) (a b : Nat) : Nat → Nat := fun k => if h k = pu_y (h a) (h b) then pu_x (h a) (h b) else h k
def pu_ok (ld : Nat → Nat) (n e : Nat) (h : Nat → Nat) : Prop := (∀ p q, p ≤ n → q ≤ n → (h p = h q ↔ pg_g ld e (pu_f n p) = pg_g ld e (pu_f n q))) ∧ ∀ p, p ≤ n → h p ≤ p ∧ h (h p) = h p
def pu_r (h : Nat → Nat) (p : Nat) : Nat := if h p = p then 1 else 0
theorem pu_m (P Q A B : Nat) : (if P = A then B else P) = (if Q = A then B else Q) ↔ P = Q ∨ ((P = A ∨ P = B) ∧ (Q = A ∨ Q = B)) := by
  split <;> split <;> omega
theorem pu_0 {ld : Nat → Nat} {n : Nat} (hn : n ≤ 24) : pu_ok ld n 0 (fun p => p) ∧ sn_N (pu_r (fun p => p)) (n + 1) = n + 1 := by
  refine ⟨⟨fun p q hp hq => ?_, fun p hp => ⟨Nat.le_refl _, rfl⟩⟩, ?_⟩
  · show p = q ↔ pu_f n p = pu_f n q
    unfold pu_f
    split <;> split <;> omega
  · have h3 : ∀ m, sn_N (fun _ => 1) m = m := fun m => by induction m with | zero => rfl | succ m ih => show sn_N (fun _ => 1) m + 1 = m + 1; rw [ih]
    rw [sn_N_congr (f := pu_r (fun p => p)) (g := fun _ => 1) (fun e _ => if_pos rfl), h3]
theorem pu_no {ld : Nat → Nat} {n e : Nat} {h : Nat → Nat} (ho : pu_ok ld n e h) (hv : ¬ ld e < 25) : pu_ok ld n (e + 1) h := by
  have k : ∀ p, pg_g ld (e + 1) p = pg_g ld e p := fun p => if_neg (fun z => hv z.1)
  refine ⟨fun p q hp hq => ?_, ho.2⟩
  rw [k, k]; exact ho.1 p q hp hq
theorem pu_st {ld : Nat → Nat} {n e : Nat} {h : Nat → Nat} {a b : Nat} (ho : pu_ok ld n e h) (hv : ld e < 25) (ha : a ≤ n) (hb : b ≤ n) (ea : pu_f n a = pw_src e) (eb : pu_f n b = ld e) :
    pu_ok ld n (e + 1) (pu_u h a b) ∧ sn_N (pu_r (pu_u h a b)) (n + 1) + pg_jn ld e = sn_N (pu_r h) (n + 1) := by
  have xy : (pu_x (h a) (h b) = h a ∧ pu_y (h a) (h b) = h b) ∨ (pu_x (h a) (h b) = h b ∧ pu_y (h a) (h b) = h a) := by
    unfold pu_x pu_y
    split
    · exact Or.inr ⟨rfl, rfl⟩
    · exact Or.inl ⟨rfl, rfl⟩
  have xl : pu_x (h a) (h b) ≤ pu_y (h a) (h b) := by
    unfold pu_x pu_y
    split <;> omega
  have k : ∀ p, pg_g ld (e + 1) p = if pg_g ld e p = pg_g ld e (pw_src e) then pg_g ld e (ld e) else pg_g ld e p := by
    intro p
    show (if _ then _ else _) = (if _ then _ else _)
    by_cases c : pg_g ld e p = pg_g ld e (pw_src e)
    · rw [if_pos ⟨hv, c⟩, if_pos c]
    · rw [if_neg (fun z => c z.2), if_neg c]
  have hxx : h (pu_x (h a) (h b)) = pu_x (h a) (h b) := by
    rcases xy with c | c
    · rw [c.1]; exact (ho.2 a ha).2
    · rw [c.1]; exact (ho.2 b hb).2
  have hyy : h (pu_y (h a) (h b)) = pu_y (h a) (h b) := by
    rcases xy with c | c
    · rw [c.2]; exact (ho.2 b hb).2
    · rw [c.2]; exact (ho.2 a ha).2
  have hyn : pu_y (h a) (h b) ≤ n := by
    have := (ho.2 a ha).1
    have := (ho.2 b hb).1
    rcases xy with c | c
    · rw [c.2]; omega
    · rw [c.2]; omega
  refine ⟨⟨fun p q hp hq => ?_, fun p hp => ?_⟩, ?_⟩
  · show (if h p = _ then _ else h p) = (if h q = _ then _ else h q) ↔ _
    rw [pu_m, k, k, pu_m]
    have pq := ho.1 p q hp hq
    have pa := ho.1 p a hp ha
    have pb := ho.1 p b hp hb
    have qa := ho.1 q a hq ha
    have qb := ho.1 q b hq hb
    rw [ea] at pa qa
    rw [eb] at pb qb
    rw [← pq, ← pa, ← pb, ← qa, ← qb]
    rcases xy with c | c
    · rw [c.1, c.2]
      constructor
      · rintro (z | ⟨z1, z2⟩)
        · exact Or.inl z
        · exact Or.inr ⟨z1.symm, z2.symm⟩
      · rintro (z | ⟨z1, z2⟩)
        · exact Or.inl z
        · exact Or.inr ⟨z1.symm, z2.symm⟩
    · rw [c.1, c.2]
  · show (if h p = _ then _ else h p) ≤ p ∧ (if h (if h p = _ then _ else h p) = _ then _ else h (if h p = _ then _ else h p)) = (if h p = _ then _ else h p)
    have q := ho.2 p hp
    by_cases c : h p = pu_y (h a) (h b)
    · rw [if_pos c, hxx]
      refine ⟨by omega, ?_⟩
      split
      · rfl
      · rfl
    · rw [if_neg c, q.2, if_neg c]
      exact ⟨q.1, rfl⟩
  · by_cases c : pu_x (h a) (h b) = pu_y (h a) (h b)
    · have hab : h a = h b := by rcases xy with z | z <;> omega
      have e1 : pu_u h a b = h := by
        funext t
        show (if h t = _ then _ else h t) = h t
        split
        · next z => omega
        · rfl
      have e2 : pg_jn ld e = 0 := by
        have := (ho.1 a b ha hb).mp hab
        rw [ea, eb] at this
        exact if_neg (fun z => z.2 this)
      rw [e1, e2]; rfl
    · have hab : ¬ h a = h b := by rcases xy with z | z <;> omega
      have e2 : pg_jn ld e = 1 := by
        refine if_pos ⟨hv, fun z => hab ?_⟩
        rw [← ea, ← eb] at z
        exact (ho.1 a b ha hb).mpr z
      rw [e2]
      symm
      refine sn_N_up (e0 := pu_y (h a) (h b)) (by omega) ?_ (fun t ht hne => ?_)
      · show (if h _ = _ then 1 else 0) = (if (if h _ = _ then _ else h _) = _ then 1 else 0) + 1
        rw [hyy, if_pos rfl, if_pos rfl, if_neg c]
      · show (if h t = t then 1 else 0) = (if (if h t = _ then _ else h t) = t then 1 else 0)
        by_cases z : h t = pu_y (h a) (h b)
        · rw [if_pos z]
          have q1 : ¬ h t = t := fun w => hne (by omega)
          have q2 : ¬ pu_x (h a) (h b) = t := fun w => by
            rw [w] at hxx
            exact q1 hxx
          rw [if_neg q1, if_neg q2]
        · rw [if_neg z]
end
section
/-! numbers and indices -/
theorem qa_b1 {n : Nat} (h : n < 128) : (nI n).toInt8.toInt32 = nI n := lg_i2b_small (by rw [nI_toInt (by omega)]; omega) (by rw [nI_toInt (by omega)]; omega)
theorem qa_b {n : Nat} (h : n < 128) : vp_nar .byte (nI n) = nI n := by rw [vp_nar_byte, qa_b1 h]
theorem qa_bb {n : Nat} (h : n < 128) : vp_nar .byte (nI n).toInt8.toInt32 = nI n := by rw [qa_b1 h, qa_b h]
theorem qa_s1 {n : Nat} (h : n < 32768) : (nI n).toInt16.toInt32 = nI n := lg_i2s_small (by rw [nI_toInt (by omega)]; omega) (by rw [nI_toInt (by omega)]; omega)
theorem qa_s {n : Nat} (h : n < 32768) : vp_nar .short (nI n) = nI n := by rw [vp_nar_short, qa_s1 h]
theorem qa_ss {n : Nat} (h : n < 32768) : vp_nar .short (nI n).toInt16.toInt32 = nI n := by rw [qa_s1 h, qa_s h]
theorem qa_bm : vp_nar .byte (-1) = -1 := by rw [vp_nar_byte]; decide
theorem qa_b0 : vp_nar .byte 0 = 0 := by rw [vp_nar_byte]; decide
theorem qa_z0 : vp_nar .boolean 0 = 0 := rfl
theorem qa_z1 : vp_nar .boolean 1 = 1 := rfl
theorem qa_c (c m : Nat) : nI c * nI m = nI (c * m) := pk_mul c m
theorem qa_ci (c m i : Nat) : nI c * nI m + nI i = nI (c * m + i) := by rw [pk_mul, nI_add]
theorem qa_24 (m i : Nat) : (24 : Int32) * nI m + nI i = nI (24 * m + i) := qa_ci 24 m i
theorem qa_97 (m i : Nat) : (97 : Int32) * nI m + nI i = nI (97 * m + i) := qa_ci 97 m i
theorem qa_3 (m i : Nat) : (3 : Int32) * nI m + nI i = nI (3 * m + i) := qa_ci 3 m i
theorem qa_4 (m i : Nat) : (4 : Int32) * nI m + nI i = nI (4 * m + i) := qa_ci 4 m i
theorem qa_40 (m i : Nat) : (40 : Int32) * nI m + nI i = nI (40 * m + i) := qa_ci 40 m i
theorem qa_12 (m i : Nat) : (12 : Int32) * nI m + nI i = nI (12 * m + i) := qa_ci 12 m i
theorem qa_96 (m i : Nat) : (96 : Int32) * nI m + nI i = nI (96 * m + i) := qa_ci 96 m i
theorem qa_m24 (m : Nat) : (24 : Int32) * nI m = nI (24 * m) := qa_c 24 m
theorem qa_m97 (m : Nat) : (97 : Int32) * nI m = nI (97 * m) := qa_c 97 m
theorem qa_m3 (m : Nat) : (3 : Int32) * nI m = nI (3 * m) := qa_c 3 m
theorem qa_m4 (m : Nat) : (4 : Int32) * nI m = nI (4 * m) := qa_c 4 m
theorem qa_m40 (m : Nat) : (40 : Int32) * nI m = nI (40 * m) := qa_c 40 m
theorem qa_e0 (m i : Nat) : ((97 : Int32) * nI m + 1) + 4 * nI i = nI (97 * m + (1 + 4 * i)) := by
  rw [qa_m97, qa_m4, nI_1, nI_add]
  exact congrArg nI (by omega)
theorem qa_e (m i k : Nat) : (((97 : Int32) * nI m + 1) + 4 * nI i) + nI k = nI (97 * m + (1 + 4 * i + k)) := by
  rw [qa_e0, nI_add]
  exact congrArg nI (by omega)
theorem qa_t (m i k : Nat) : (4 : Int32) * (24 * nI m + nI i) + nI k = nI (96 * m + (4 * i + k)) := by
  rw [qa_24, qa_4]
  exact congrArg nI (by omega)
/-- reads and stores at a number -/
theorem qa_r {α : Sort _} {a : Nat → α} {x : Int32} {y : α} (n : Nat) (hx : x = nI n) (e : a n = y) (h : n < 2 ^ 31 := by omega) : a x.toNatClampNeg = y := by
  rw [hx, nI_clamp h]; exact e
theorem qa_rr {α : Sort _} {a : Nat → α} {x : Int32} (n : Nat) (hx : x = nI n) (h : n < 2 ^ 31 := by omega) : a x.toNatClampNeg = a n := by
  rw [hx, nI_clamp h]
theorem qa_u {a : Nat → Int32} {x v w : Int32} (n : Nat) (hx : x = nI n) (e : v = w) (h : n < 2 ^ 31 := by omega) : upd a x.toNatClampNeg v = upd a n w := by
  rw [hx, nI_clamp h, e]
theorem qa_uL {a : Nat → Int64} {x : Int32} {v w : Int64} (n : Nat) (hx : x = nI n) (e : v = w) (h : n < 2 ^ 31 := by omega) : vp_updL a x.toNatClampNeg v = vp_updL a n w := by
  rw [hx, nI_clamp h, e]
theorem qa_n {x : Int32} {n : Nat} (h : x = nI n) (hn : n < 2 ^ 31) : x.toNatClampNeg = n := by rw [h, nI_clamp hn]
/-! the relation's parts; functions of a row -/
/-- code of one row on both sides -/
def rw_ok (op a b ln gd : Nat → Int32) (len hd : Int32) (op' a' b' ln' fr to' at' : Nat → Int32) (len' hd' : Int32) : Prop :=
  (∃ n, n ≤ 24 ∧ len = nI n ∧ len' = nI n) ∧ (∃ h, h ≤ 3 ∧ hd = nI h ∧ hd' = nI h) ∧
  (∀ i, i < 24 → (∃ o, o < 12 ∧ op i = nI o ∧ op' i = nI o) ∧ (∃ c, c < 4 ∧ a i = nI c ∧ a' i = nI c) ∧ b i = b' i ∧ (∃ l, l < 16 ∧ ln i = nI l ∧ ln' i = nI l)) ∧
  (∀ h, h < 3 → ∃ f t c, f < 24 ∧ t < 24 ∧ c < 24 ∧ fr h = nI f ∧ to' h = nI t ∧ at' h = nI c ∧ gd h = nI (f + 32 * t + 1024 * c))
theorem rw_congr {op a b ln gd op' a' b' ln' fr to' at' op2 a2 b2 ln2 gd2 op2' a2' b2' ln2' fr2 to2' at2' : Nat → Int32} {len hd len' hd' len2 hd2 len2' hd2' : Int32}
    (h : rw_ok op a b ln gd len hd op' a' b' ln' fr to' at' len' hd')
    (e1 : ∀ i, i < 24 → op2 i = op i ∧ a2 i = a i ∧ b2 i = b i ∧ ln2 i = ln i) (e2 : ∀ j, j < 3 → gd2 j = gd j) (e3 : len2 = len) (e4 : hd2 = hd)
    (f1 : ∀ i, i < 24 → op2' i = op' i ∧ a2' i = a' i ∧ b2' i = b' i ∧ ln2' i = ln' i) (f2 : ∀ j, j < 3 → fr2 j = fr j ∧ to2' j = to' j ∧ at2' j = at' j) (f3 : len2' = len') (f4 : hd2' = hd') :
    rw_ok op2 a2 b2 ln2 gd2 len2 hd2 op2' a2' b2' ln2' fr2 to2' at2' len2' hd2' := by
  subst e3 e4 f3 f4
  refine ⟨h.1, h.2.1, fun i hi => ?_, fun j hj => ?_⟩
  · obtain ⟨h1, h2, h3, h4⟩ := h.2.2.1 i hi
    obtain ⟨x1, x2, x3, x4⟩ := e1 i hi
    obtain ⟨y1, y2, y3, y4⟩ := f1 i hi
    rw [x1, x2, x3, x4, y1, y2, y3, y4]
    exact ⟨h1, h2, h3, h4⟩
  · rw [e2 j hj, (f2 j hj).1, (f2 j hj).2.1, (f2 j hj).2.2]
    exact h.2.2.2 j hj
/-- the leads of a row of code -/
def ul (len op b : Nat → Int32) (r : Nat) : Nat → Nat := pw_ld (len r).toNatClampNeg (fun i => op (24 * r + i)) (fun i => b (24 * r + i))
def rp_ok (ld : Nat → Nat) (n : Nat) (lds cts : Nat → Int32) (ads : Nat → Int64) (nd : Int32) : Prop :=
  (∀ e, e < 97 → lds e = if ld e < 25 then nI (ld e) else -1) ∧ (∀ e, e < 97 → cts e = nI (pg_cn ld e)) ∧ nd = nI (sn_N (pg_cn ld) 97) ∧
  ∃ gz az, pt_ok ld n gz az ∧ (∀ i, i < n → gz i ≤ 2 ^ 48) ∧ ∀ i k, i < n → k < 4 → ads (1 + 4 * i + k) = lN (az i k) ∧ az i k ≤ 2 ^ 48
def rd_F (ent : Int32) (tk : Nat → Int32) : Nat → Int32 := fun e => if e = 0 then ent else tk (e - 1)
def rd_ok (ld : Nat → Nat) (n : Nat) (rs st ca ub ct bg tk th : Nat → Int32) (ent : Int32) (fc rd : Nat → Int32) : Prop :=
  (∀ e, e < 97 → pg_cn ld e = 1 → ct e = rd_F ent tk e) ∧
  ∀ p, p < n → th p = rs p ∧ ca p + fl_in ld (rd_F ent tk) p = rs p + st p + fl_out ld (rd_F ent tk) p + fc p ∧ bg p + ub p + rd p = ca p + fl_in ld (rd_F ent tk) p
def pa_ok (ld : Nat → Nat) (n : Nat) (ads : Nat → Int64) (I W : Nat → Int32) (L s h : Int32) (sm : Int64) (D : Nat) (p w : Nat → Nat) : Prop :=
  pt_path ld n p w D ∧ L = nI (D + 1) ∧ (∀ j, j ≤ D → I j = nI (p j) ∧ W j = nI (w j)) ∧ s = nI (p 0) ∧ h = nI (p D) ∧ sm = pt_sL ads p w D
def rs_ok (ld : Nat → Nat) (n : Nat) (ads : Nat → Int64) (fi la : Nat → Int32) (su : Nat → Int64) (oft : Nat → Int32) (tx : Int32) (rI rW rL ti : Nat → Int32) (ty : Int32) (m : Nat) : Prop :=
  ∃ T, T ≤ 40 ∧ tx = nI T ∧ ty = nI T ∧ ∀ s, s < T → oft (40 * m + s) = ti (40 * m + s) ∧
    ∃ D p w, pa_ok ld n ads (fun j => rI (24 * (40 * m + s) + j)) (fun j => rW (24 * (40 * m + s) + j)) (rL (40 * m + s)) (fi (40 * m + s)) (la (40 * m + s)) (su (40 * m + s)) D p w
/-! the relation's parts, of the two states' arrays -/
def rc_code (op opA opB opLine guards length handlers op' a' b' line' from' to' at' length' handlers' : Nat → Int32) : Prop := ∀ r, r < 5 → rw_ok (fun i => op (24 * r + i)) (fun i => opA (24 * r + i)) (fun i => opB (24 * r + i)) (fun i => opLine (24 * r + i)) (fun i => guards (3 * r + i)) (length r) (handlers r)
  (fun i => op' (24 * r + i)) (fun i => a' (24 * r + i)) (fun i => b' (24 * r + i)) (fun i => line' (24 * r + i)) (fun i => from' (3 * r + i)) (fun i => to' (3 * r + i)) (fun i => at' (3 * r + i)) (length' r) (handlers' r)
def rc_kept (op opA opB opLine guards length handlers op' a' b' line' from' to' at' length' handlers' : Nat → Int32) : Prop := ∀ q, q < 12 → rw_ok (fun i => op (24 * (5 + q) + i)) (fun i => opA (24 * (5 + q) + i)) (fun i => opB (24 * (5 + q) + i)) (fun i => opLine (24 * (5 + q) + i)) (fun i => guards (3 * (5 + q) + i)) (length (5 + q)) (handlers (5 + q))
  (fun i => op' (24 * q + i)) (fun i => a' (24 * q + i)) (fun i => b' (24 * q + i)) (fun i => line' (24 * q + i)) (fun i => from' (3 * q + i)) (fun i => to' (3 * q + i)) (fun i => at' (3 * q + i)) (length' q) (handlers' q)
abbrev xn (length : Nat → Int32) (r : Nat) : Nat := (length r).toNatClampNeg
def rc_plan (length op opB leads counts : Nat → Int32) (adds : Nat → Int64) (needed : Nat → Int32) : Prop := ∀ m, m < 4 → 0 < xn length m → rp_ok (ul length op opB m) (xn length m) (fun e => leads (97 * m + e)) (fun e => counts (97 * m + e)) (fun e => adds (97 * m + e)) (needed m)
def rc_flow (length op opB raised stopped caught unbegun counter begun taken thrown : Nat → Int32) (ent : Nat → Int32) (fc rd : Nat → Nat → Int32) : Prop := ∀ m, m < 4 → 0 < xn length m → rd_ok (ul length op opB m) (xn length m) (fun i => raised (24 * m + i)) (fun i => stopped (24 * m + i)) (fun i => caught (24 * m + i)) (fun i => unbegun (24 * m + i)) (fun e => counter (97 * m + e))
  (fun i => begun (24 * m + i)) (fun e => taken (96 * m + e)) (fun i => thrown (24 * m + i)) (ent m) (fc m) (rd m)
def rc_kdat (length op opB raised stopped caught unbegun counter begun taken thrown : Nat → Int32) (ek : Nat → Int32) : Prop := ∀ q, q < 12 → 0 < xn length (5 + q) → rd_ok (ul length op opB (5 + q)) (xn length (5 + q)) (fun i => raised (24 * (5 + q) + i)) (fun i => stopped (24 * (5 + q) + i)) (fun i => caught (24 * (5 + q) + i)) (fun i => unbegun (24 * (5 + q) + i)) (fun e => counter (97 * (5 + q) + e))
  (fun i => begun (24 * q + i)) (fun e => taken (96 * q + e)) (fun i => thrown (24 * q + i)) (ek q) (fun _ => 0) (fun _ => 0)
def rc_str (length op opB : Nat → Int32) (adds : Nat → Int64) (first last : Nat → Int32) (sum : Nat → Int64) (often told rowI rowWay rowLength times told' : Nat → Int32) : Prop := ∀ m, m < 4 → 0 < xn length m → rs_ok (ul length op opB m) (xn length m) (fun e => adds (97 * m + e)) first last sum often (told m) rowI rowWay rowLength times (told' m) m
def rc_known (length op opB solved known taken : Nat → Int32) (ent : Nat → Int32) : Prop := ∀ m, m < 4 → 0 < xn length m → ¬ solved m = 0 → ∀ e, e < 97 → ul length op opB m e < 25 → known (97 * m + e) = rd_F (ent m) (fun j => taken (96 * m + j)) e
def rc_kload (kept keptLoad kept' kLoad : Nat → Int32) : Prop := ∀ s, s < 3 → kept s = kept' s ∧ ∃ L, L ≤ 1000000200 ∧ keptLoad s = nI L ∧ kLoad s = nI L
def rc_load (load load' : Int32) : Prop := ∃ L, L ≤ 1000000200 ∧ load = nI L ∧ load' = nI L
def rc_all (ent ek : Nat → Int32) : SX → SY → Prop
  | (f_load, f_depth, f_begun, f_outcome, f_result, a_op, a_opA, a_opB, a_opLine, a_length, a_guards, a_handlers, a_kept, a_keptLoad, a_counter, a_raised, a_stopped, a_caught, a_unbegun, a_leads, a_counts, a_adds, a_goes, a_needed, a_known, a_solved, a_open, a_unknown, a_balance, a_group, a_first, a_last, a_sum, a_often, a_told, a_method, a_pc, a_start, a_here, a_path, a_coming, a_variable), (g_depth, g_steps, g_result, g_outcome, g_load, g_over, b_op, b_a, b_b, b_line, b_length, b_from, b_to, b_at, b_handlers, b_begun, b_taken, b_thrown, b_rowI, b_rowWay, b_rowLength, b_times, b_told, b_kOp, b_kA, b_kB, b_kLine, b_kLength, b_kFrom, b_kTo, b_kAt, b_kHandlers, b_kBegun, b_kTaken, b_kThrown, b_kept, b_method, b_pc, b_variable, b_hereI, b_hereWay, b_hereLength, b_into, b_kLoad, b_part) => (rc_code a_op a_opA a_opB a_opLine a_guards a_length a_handlers b_op b_a b_b b_line b_from b_to b_at b_length b_handlers) ∧ (rc_kept a_op a_opA a_opB a_opLine a_guards a_length a_handlers b_kOp b_kA b_kB b_kLine b_kFrom b_kTo b_kAt b_kLength b_kHandlers) ∧ (rc_plan a_length a_op a_opB a_leads a_counts a_adds a_needed) ∧ (rc_kdat a_length a_op a_opB a_raised a_stopped a_caught a_unbegun a_counter b_kBegun b_kTaken b_kThrown) ek ∧ (rc_kload a_kept a_keptLoad b_kept b_kLoad) ∧ (rc_flow a_length a_op a_opB a_raised a_stopped a_caught a_unbegun a_counter b_begun b_taken b_thrown) ent (fun _ _ => 0) (fun _ _ => 0) ∧ (rc_str a_length a_op a_opB a_adds a_first a_last a_sum a_often a_told b_rowI b_rowWay b_rowLength b_times b_told) ∧ (rc_known a_length a_op a_opB a_solved a_known b_taken) ent ∧ rc_load f_load g_load ∧ a_variable = b_variable ∧ f_result = g_result
def i_Rel (k : Nat) (u : SX) (v : SY) : Prop := ∃ ent ek, rc_all ent ek u v
theorem i_up {k : Nat} {u : SX} {v : SY} (h : i_Rel k u v) : i_Rel (k + 5) u v := h
section
variable {f_load : Int32} {f_depth : Int32} {f_begun : Int32} {f_outcome : Int32} {f_result : Int32} {a_op : (Nat → Int32)} {a_opA : (Nat → Int32)} {a_opB : (Nat → Int32)} {a_opLine : (Nat → Int32)} {a_length : (Nat → Int32)} {a_guards : (Nat → Int32)} {a_handlers : (Nat → Int32)} {a_kept : (Nat → Int32)} {a_keptLoad : (Nat → Int32)} {a_counter : (Nat → Int32)} {a_raised : (Nat → Int32)} {a_stopped : (Nat → Int32)} {a_caught : (Nat → Int32)} {a_unbegun : (Nat → Int32)} {a_leads : (Nat → Int32)} {a_counts : (Nat → Int32)} {a_adds : (Nat → Int64)} {a_goes : (Nat → Int64)} {a_needed : (Nat → Int32)} {a_known : (Nat → Int32)} {a_solved : (Nat → Int32)} {a_open : (Nat → Int32)} {a_unknown : (Nat → Int32)} {a_balance : (Nat → Int32)} {a_group : (Nat → Int32)} {a_first : (Nat → Int32)} {a_last : (Nat → Int32)} {a_sum : (Nat → Int64)} {a_often : (Nat → Int32)} {a_told : (Nat → Int32)} {a_method : (Nat → Int32)} {a_pc : (Nat → Int32)} {a_start : (Nat → Int32)} {a_here : (Nat → Int32)} {a_path : (Nat → Int64)} {a_coming : (Nat → Int64)} {a_variable : (Nat → Int32)} {g_depth : Int32} {g_steps : Int32} {g_result : Int32} {g_outcome : Int32} {g_load : Int32} {g_over : Int32} {b_op : (Nat → Int32)} {b_a : (Nat → Int32)} {b_b : (Nat → Int32)} {b_line : (Nat → Int32)} {b_length : (Nat → Int32)} {b_from : (Nat → Int32)} {b_to : (Nat → Int32)} {b_at : (Nat → Int32)} {b_handlers : (Nat → Int32)} {b_begun : (Nat → Int32)} {b_taken : (Nat → Int32)} {b_thrown : (Nat → Int32)} {b_rowI : (Nat → Int32)} {b_rowWay : (Nat → Int32)} {b_rowLength : (Nat → Int32)} {b_times : (Nat → Int32)} {b_told : (Nat → Int32)} {b_kOp : (Nat → Int32)} {b_kA : (Nat → Int32)} {b_kB : (Nat → Int32)} {b_kLine : (Nat → Int32)} {b_kLength : (Nat → Int32)} {b_kFrom : (Nat → Int32)} {b_kTo : (Nat → Int32)} {b_kAt : (Nat → Int32)} {b_kHandlers : (Nat → Int32)} {b_kBegun : (Nat → Int32)} {b_kTaken : (Nat → Int32)} {b_kThrown : (Nat → Int32)} {b_kept : (Nat → Int32)} {b_method : (Nat → Int32)} {b_pc : (Nat → Int32)} {b_variable : (Nat → Int32)} {b_hereI : (Nat → Int32)} {b_hereWay : (Nat → Int32)} {b_hereLength : (Nat → Int32)} {b_into : (Nat → Int32)} {b_kLoad : (Nat → Int32)} {b_part : (Nat → Int32)}
theorem ze_mk {k : Nat} {ent ek : Nat → Int32} (h1 : (rc_code a_op a_opA a_opB a_opLine a_guards a_length a_handlers b_op b_a b_b b_line b_from b_to b_at b_length b_handlers)) (h2 : (rc_kept a_op a_opA a_opB a_opLine a_guards a_length a_handlers b_kOp b_kA b_kB b_kLine b_kFrom b_kTo b_kAt b_kLength b_kHandlers)) (h3 : (rc_plan a_length a_op a_opB a_leads a_counts a_adds a_needed)) (h4 : (rc_kdat a_length a_op a_opB a_raised a_stopped a_caught a_unbegun a_counter b_kBegun b_kTaken b_kThrown) ek) (h5 : (rc_kload a_kept a_keptLoad b_kept b_kLoad)) (h6 : (rc_flow a_length a_op a_opB a_raised a_stopped a_caught a_unbegun a_counter b_begun b_taken b_thrown) ent (fun _ _ => 0) (fun _ _ => 0)) (h7 : (rc_str a_length a_op a_opB a_adds a_first a_last a_sum a_often a_told b_rowI b_rowWay b_rowLength b_times b_told)) (h8 : (rc_known a_length a_op a_opB a_solved a_known b_taken) ent) (h9 : rc_load f_load g_load) (h10 : a_variable = b_variable) (h11 : f_result = g_result) : i_Rel k (f_load, f_depth, f_begun, f_outcome, f_result, a_op, a_opA, a_opB, a_opLine, a_length, a_guards, a_handlers, a_kept, a_keptLoad, a_counter, a_raised, a_stopped, a_caught, a_unbegun, a_leads, a_counts, a_adds, a_goes, a_needed, a_known, a_solved, a_open, a_unknown, a_balance, a_group, a_first, a_last, a_sum, a_often, a_told, a_method, a_pc, a_start, a_here, a_path, a_coming, a_variable) (g_depth, g_steps, g_result, g_outcome, g_load, g_over, b_op, b_a, b_b, b_line, b_length, b_from, b_to, b_at, b_handlers, b_begun, b_taken, b_thrown, b_rowI, b_rowWay, b_rowLength, b_times, b_told, b_kOp, b_kA, b_kB, b_kLine, b_kLength, b_kFrom, b_kTo, b_kAt, b_kHandlers, b_kBegun, b_kTaken, b_kThrown, b_kept, b_method, b_pc, b_variable, b_hereI, b_hereWay, b_hereLength, b_into, b_kLoad, b_part) :=
  ⟨ent, ek, h1, h2, h3, h4, h5, h6, h7, h8, h9, h10, h11⟩
end
theorem ze_el {k : Nat} {P : SX → SY → Prop} (h : ∀ f_load f_depth f_begun f_outcome f_result : Int32, ∀ g_depth g_steps g_result g_outcome g_load g_over : Int32, ∀ (a_op : (Nat → Int32)) (a_opA : (Nat → Int32)) (a_opB : (Nat → Int32)) (a_opLine : (Nat → Int32)) (a_length : (Nat → Int32)) (a_guards : (Nat → Int32)) (a_handlers : (Nat → Int32)) (a_kept : (Nat → Int32)) (a_keptLoad : (Nat → Int32)) (a_counter : (Nat → Int32)) (a_raised : (Nat → Int32)) (a_stopped : (Nat → Int32)) (a_caught : (Nat → Int32)) (a_unbegun : (Nat → Int32)) (a_leads : (Nat → Int32)) (a_counts : (Nat → Int32)) (a_adds : (Nat → Int64)) (a_goes : (Nat → Int64)) (a_needed : (Nat → Int32)) (a_known : (Nat → Int32)) (a_solved : (Nat → Int32)) (a_open : (Nat → Int32)) (a_unknown : (Nat → Int32)) (a_balance : (Nat → Int32)) (a_group : (Nat → Int32)) (a_first : (Nat → Int32)) (a_last : (Nat → Int32)) (a_sum : (Nat → Int64)) (a_often : (Nat → Int32)) (a_told : (Nat → Int32)) (a_method : (Nat → Int32)) (a_pc : (Nat → Int32)) (a_start : (Nat → Int32)) (a_here : (Nat → Int32)) (a_path : (Nat → Int64)) (a_coming : (Nat → Int64)) (a_variable : (Nat → Int32)), ∀ b_op b_a b_b b_line b_length b_from b_to b_at b_handlers b_begun b_taken b_thrown b_rowI b_rowWay b_rowLength b_times b_told b_kOp b_kA b_kB b_kLine b_kLength b_kFrom b_kTo b_kAt b_kHandlers b_kBegun b_kTaken b_kThrown b_kept b_method b_pc b_variable b_hereI b_hereWay b_hereLength b_into b_kLoad b_part : Nat → Int32, ∀ ent ek : Nat → Int32, (rc_code a_op a_opA a_opB a_opLine a_guards a_length a_handlers b_op b_a b_b b_line b_from b_to b_at b_length b_handlers) → (rc_kept a_op a_opA a_opB a_opLine a_guards a_length a_handlers b_kOp b_kA b_kB b_kLine b_kFrom b_kTo b_kAt b_kLength b_kHandlers) → (rc_plan a_length a_op a_opB a_leads a_counts a_adds a_needed) → (rc_kdat a_length a_op a_opB a_raised a_stopped a_caught a_unbegun a_counter b_kBegun b_kTaken b_kThrown) ek → (rc_kload a_kept a_keptLoad b_kept b_kLoad) → (rc_flow a_length a_op a_opB a_raised a_stopped a_caught a_unbegun a_counter b_begun b_taken b_thrown) ent (fun _ _ => 0) (fun _ _ => 0) → (rc_str a_length a_op a_opB a_adds a_first a_last a_sum a_often a_told b_rowI b_rowWay b_rowLength b_times b_told) → (rc_known a_length a_op a_opB a_solved a_known b_taken) ent → rc_load f_load g_load → a_variable = b_variable → f_result = g_result → P (f_load, f_depth, f_begun, f_outcome, f_result, a_op, a_opA, a_opB, a_opLine, a_length, a_guards, a_handlers, a_kept, a_keptLoad, a_counter, a_raised, a_stopped, a_caught, a_unbegun, a_leads, a_counts, a_adds, a_goes, a_needed, a_known, a_solved, a_open, a_unknown, a_balance, a_group, a_first, a_last, a_sum, a_often, a_told, a_method, a_pc, a_start, a_here, a_path, a_coming, a_variable) (g_depth, g_steps, g_result, g_outcome, g_load, g_over, b_op, b_a, b_b, b_line, b_length, b_from, b_to, b_at, b_handlers, b_begun, b_taken, b_thrown, b_rowI, b_rowWay, b_rowLength, b_times, b_told, b_kOp, b_kA, b_kB, b_kLine, b_kLength, b_kFrom, b_kTo, b_kAt, b_kHandlers, b_kBegun, b_kTaken, b_kThrown, b_kept, b_method, b_pc, b_variable, b_hereI, b_hereWay, b_hereLength, b_into, b_kLoad, b_part)) {u : SX} {v : SY} (I : i_Rel k u v) : P u v := by
  obtain ⟨f_load, f_depth, f_begun, f_outcome, f_result, a_op, a_opA, a_opB, a_opLine, a_length, a_guards, a_handlers, a_kept, a_keptLoad, a_counter, a_raised, a_stopped, a_caught, a_unbegun, a_leads, a_counts, a_adds, a_goes, a_needed, a_known, a_solved, a_open, a_unknown, a_balance, a_group, a_first, a_last, a_sum, a_often, a_told, a_method, a_pc, a_start, a_here, a_path, a_coming, a_variable⟩ := u
  obtain ⟨g_depth, g_steps, g_result, g_outcome, g_load, g_over, b_op, b_a, b_b, b_line, b_length, b_from, b_to, b_at, b_handlers, b_begun, b_taken, b_thrown, b_rowI, b_rowWay, b_rowLength, b_times, b_told, b_kOp, b_kA, b_kB, b_kLine, b_kLength, b_kFrom, b_kTo, b_kAt, b_kHandlers, b_kBegun, b_kTaken, b_kThrown, b_kept, b_method, b_pc, b_variable, b_hereI, b_hereWay, b_hereLength, b_into, b_kLoad, b_part⟩ := v
  obtain ⟨ent, ek, h1, h2, h3, h4, h5, h6, h7, h8, h9, h10, h11⟩ := I
  exact h f_load f_depth f_begun f_outcome f_result g_depth g_steps g_result g_outcome g_load g_over a_op a_opA a_opB a_opLine a_length a_guards a_handlers a_kept a_keptLoad a_counter a_raised a_stopped a_caught a_unbegun a_leads a_counts a_adds a_goes a_needed a_known a_solved a_open a_unknown a_balance a_group a_first a_last a_sum a_often a_told a_method a_pc a_start a_here a_path a_coming a_variable b_op b_a b_b b_line b_length b_from b_to b_at b_handlers b_begun b_taken b_thrown b_rowI b_rowWay b_rowLength b_times b_told b_kOp b_kA b_kB b_kLine b_kLength b_kFrom b_kTo b_kAt b_kHandlers b_kBegun b_kTaken b_kThrown b_kept b_method b_pc b_variable b_hereI b_hereWay b_hereLength b_into b_kLoad b_part ent ek h1 h2 h3 h4 h5 h6 h7 h8 h9 h10 h11
end
section
/-! small helpers on both sides -/
theorem qb_no {x l : Int32} (N : Nat) (hl : l = nI N) (hN : N < 2 ^ 31) :
    (∃ j, j < N ∧ x = nI j ∧ (∀ post : Int32 → Prop, post 0 → wpX_no post x l) ∧ (∀ post : Int32 → Prop, post 1 → wpY_in post x l)) ∨
    ((∀ post : Int32 → Prop, post 1 → wpX_no post x l) ∧ (∀ post : Int32 → Prop, post 0 → wpY_in post x l)) := by
  subst hl
  rcases pk_ix x hN with h | h | ⟨j, hj, rfl⟩
  · exact Or.inr ⟨fun post p => br_t h p, fun post p => br_t h p⟩
  · by_cases h0 : x < 0
    · exact Or.inr ⟨fun post p => br_t h0 p, fun post p => br_t h0 p⟩
    · have h1 : ¬ x < nI N := fun z => absurd (Int32.lt_of_lt_of_le z h) (Int32.lt_irrefl)
      exact Or.inr ⟨fun post p => br_f h0 (br_f h1 p), fun post p => br_f h0 (br_t h p)⟩
  · exact Or.inl ⟨j, hj, rfl, fun post p => br_f (nI_pos (by omega)) (br_t (nI_lt hj hN) p), fun post p => br_f (nI_pos (by omega)) (br_f (nI_ge hj hN) p)⟩
section
variable {f_load : Int32} {f_depth : Int32} {f_begun : Int32} {f_outcome : Int32} {f_result : Int32} {a_op : (Nat → Int32)} {a_opA : (Nat → Int32)} {a_opB : (Nat → Int32)} {a_opLine : (Nat → Int32)} {a_length : (Nat → Int32)} {a_guards : (Nat → Int32)} {a_handlers : (Nat → Int32)} {a_kept : (Nat → Int32)} {a_keptLoad : (Nat → Int32)} {a_counter : (Nat → Int32)} {a_raised : (Nat → Int32)} {a_stopped : (Nat → Int32)} {a_caught : (Nat → Int32)} {a_unbegun : (Nat → Int32)} {a_leads : (Nat → Int32)} {a_counts : (Nat → Int32)} {a_adds : (Nat → Int64)} {a_goes : (Nat → Int64)} {a_needed : (Nat → Int32)} {a_known : (Nat → Int32)} {a_solved : (Nat → Int32)} {a_open : (Nat → Int32)} {a_unknown : (Nat → Int32)} {a_balance : (Nat → Int32)} {a_group : (Nat → Int32)} {a_first : (Nat → Int32)} {a_last : (Nat → Int32)} {a_sum : (Nat → Int64)} {a_often : (Nat → Int32)} {a_told : (Nat → Int32)} {a_method : (Nat → Int32)} {a_pc : (Nat → Int32)} {a_start : (Nat → Int32)} {a_here : (Nat → Int32)} {a_path : (Nat → Int64)} {a_coming : (Nat → Int64)} {a_variable : (Nat → Int32)} {g_depth : Int32} {g_steps : Int32} {g_result : Int32} {g_outcome : Int32} {g_load : Int32} {g_over : Int32} {b_op : (Nat → Int32)} {b_a : (Nat → Int32)} {b_b : (Nat → Int32)} {b_line : (Nat → Int32)} {b_length : (Nat → Int32)} {b_from : (Nat → Int32)} {b_to : (Nat → Int32)} {b_at : (Nat → Int32)} {b_handlers : (Nat → Int32)} {b_begun : (Nat → Int32)} {b_taken : (Nat → Int32)} {b_thrown : (Nat → Int32)} {b_rowI : (Nat → Int32)} {b_rowWay : (Nat → Int32)} {b_rowLength : (Nat → Int32)} {b_times : (Nat → Int32)} {b_told : (Nat → Int32)} {b_kOp : (Nat → Int32)} {b_kA : (Nat → Int32)} {b_kB : (Nat → Int32)} {b_kLine : (Nat → Int32)} {b_kLength : (Nat → Int32)} {b_kFrom : (Nat → Int32)} {b_kTo : (Nat → Int32)} {b_kAt : (Nat → Int32)} {b_kHandlers : (Nat → Int32)} {b_kBegun : (Nat → Int32)} {b_kTaken : (Nat → Int32)} {b_kThrown : (Nat → Int32)} {b_kept : (Nat → Int32)} {b_method : (Nat → Int32)} {b_pc : (Nat → Int32)} {b_variable : (Nat → Int32)} {b_hereI : (Nat → Int32)} {b_hereWay : (Nat → Int32)} {b_hereLength : (Nat → Int32)} {b_into : (Nat → Int32)} {b_kLoad : (Nat → Int32)} {b_part : (Nat → Int32)}
theorem rc_len (C : (rc_code a_op a_opA a_opB a_opLine a_guards a_length a_handlers b_op b_a b_b b_line b_from b_to b_at b_length b_handlers)) {r : Nat} (hr : r < 5) : a_length r = nI (xn a_length r) ∧ b_length r = nI (xn a_length r) ∧ xn a_length r ≤ 24 := by
  obtain ⟨n, hn, e1, e2⟩ := (C r hr).1
  have e : xn a_length r = n := qa_n e1 (by omega)
  rw [e]
  exact ⟨e1, e2, hn⟩
theorem rc_klen (C : (rc_kept a_op a_opA a_opB a_opLine a_guards a_length a_handlers b_kOp b_kA b_kB b_kLine b_kFrom b_kTo b_kAt b_kLength b_kHandlers)) {q : Nat} (hr : q < 12) : a_length (5 + q) = nI (xn a_length (5 + q)) ∧ b_kLength q = nI (xn a_length (5 + q)) ∧ xn a_length (5 + q) ≤ 24 := by
  obtain ⟨n, hn, e1, e2⟩ := (C q hr).1
  have e : xn a_length (5 + q) = n := qa_n e1 (by omega)
  rw [e]
  exact ⟨e1, e2, hn⟩
theorem qb_thX (C : (rc_code a_op a_opA a_opB a_opLine a_guards a_length a_handlers b_op b_a b_b b_line b_from b_to b_at b_length b_handlers)) {m : Nat} (hm : m < 4) :
    (0 < xn a_length m ∧ (∀ post : Int32 → Prop, post 1 → (wpX_there post (f_load, f_depth, f_begun, f_outcome, f_result, a_op, a_opA, a_opB, a_opLine, a_length, a_guards, a_handlers, a_kept, a_keptLoad, a_counter, a_raised, a_stopped, a_caught, a_unbegun, a_leads, a_counts, a_adds, a_goes, a_needed, a_known, a_solved, a_open, a_unknown, a_balance, a_group, a_first, a_last, a_sum, a_often, a_told, a_method, a_pc, a_start, a_here, a_path, a_coming, a_variable) (nI m))) ∧ (∀ post : Int32 → Prop, post 1 → (wpY_isThere post (g_depth, g_steps, g_result, g_outcome, g_load, g_over, b_op, b_a, b_b, b_line, b_length, b_from, b_to, b_at, b_handlers, b_begun, b_taken, b_thrown, b_rowI, b_rowWay, b_rowLength, b_times, b_told, b_kOp, b_kA, b_kB, b_kLine, b_kLength, b_kFrom, b_kTo, b_kAt, b_kHandlers, b_kBegun, b_kTaken, b_kThrown, b_kept, b_method, b_pc, b_variable, b_hereI, b_hereWay, b_hereLength, b_into, b_kLoad, b_part) (nI m)))) ∨
    (xn a_length m = 0 ∧ (∀ post : Int32 → Prop, post 0 → (wpX_there post (f_load, f_depth, f_begun, f_outcome, f_result, a_op, a_opA, a_opB, a_opLine, a_length, a_guards, a_handlers, a_kept, a_keptLoad, a_counter, a_raised, a_stopped, a_caught, a_unbegun, a_leads, a_counts, a_adds, a_goes, a_needed, a_known, a_solved, a_open, a_unknown, a_balance, a_group, a_first, a_last, a_sum, a_often, a_told, a_method, a_pc, a_start, a_here, a_path, a_coming, a_variable) (nI m))) ∧ (∀ post : Int32 → Prop, post 0 → (wpY_isThere post (g_depth, g_steps, g_result, g_outcome, g_load, g_over, b_op, b_a, b_b, b_line, b_length, b_from, b_to, b_at, b_handlers, b_begun, b_taken, b_thrown, b_rowI, b_rowWay, b_rowLength, b_times, b_told, b_kOp, b_kA, b_kB, b_kLine, b_kLength, b_kFrom, b_kTo, b_kAt, b_kHandlers, b_kBegun, b_kTaken, b_kThrown, b_kept, b_method, b_pc, b_variable, b_hereI, b_hereWay, b_hereLength, b_into, b_kLoad, b_part) (nI m)))) := by
  obtain ⟨e1, e2, e3⟩ := rc_len C (r := m) (by omega)
  have no : ∀ post : Int32 → Prop, post 0 → wpX_no post (nI m) 4 := fun post p => br_f (nI_pos (by omega)) (br_t (nI_lt (b := 4) hm (by decide)) p)
  have yin : ∀ post : Int32 → Prop, post 1 → wpY_in post (nI m) 4 := fun post p => br_f (nI_pos (by omega)) (br_f (nI_ge (b := 4) hm (by decide)) p)
  have r1 : a_length (nI m).toNatClampNeg = nI (xn a_length m) := qa_r m rfl e1
  have r2 : b_length (nI m).toNatClampNeg = nI (xn a_length m) := qa_r m rfl e2
  rcases Nat.eq_zero_or_pos (xn a_length m) with z | z
  · refine Or.inr ⟨z, fun post p => ?_, fun post p => ?_⟩
    · unfold wpX_there
      refine no _ ?_
      refine br_t rfl ⟨pk_in m 17 (by omega), br_t ?_ p⟩
      rw [r1, z]; exact nI_le (Nat.le_refl 0) (by decide)
    · unfold wpY_isThere
      refine yin _ ?_
      refine br_f (by decide) ⟨pk_in m 5 (by omega), br_t ?_ p⟩
      rw [r2, z]; exact nI_le (Nat.le_refl 0) (by decide)
  · refine Or.inl ⟨z, fun post p => ?_, fun post p => ?_⟩
    · unfold wpX_there
      refine no _ ?_
      refine br_t rfl ⟨pk_in m 17 (by omega), br_f ?_ p⟩
      rw [r1]; exact nI_nle z (by omega)
    · unfold wpY_isThere
      refine yin _ ?_
      refine br_f (by decide) ⟨pk_in m 5 (by omega), br_f ?_ p⟩
      rw [r2]; exact nI_nle z (by omega)
theorem qb_there (C : (rc_code a_op a_opA a_opB a_opLine a_guards a_length a_handlers b_op b_a b_b b_line b_from b_to b_at b_length b_handlers)) (x : Int32) :
    (∃ m, m < 4 ∧ x = nI m ∧ 0 < xn a_length m ∧ (∀ post : Int32 → Prop, post 1 → (wpX_there post (f_load, f_depth, f_begun, f_outcome, f_result, a_op, a_opA, a_opB, a_opLine, a_length, a_guards, a_handlers, a_kept, a_keptLoad, a_counter, a_raised, a_stopped, a_caught, a_unbegun, a_leads, a_counts, a_adds, a_goes, a_needed, a_known, a_solved, a_open, a_unknown, a_balance, a_group, a_first, a_last, a_sum, a_often, a_told, a_method, a_pc, a_start, a_here, a_path, a_coming, a_variable) x)) ∧ (∀ post : Int32 → Prop, post 1 → (wpY_isThere post (g_depth, g_steps, g_result, g_outcome, g_load, g_over, b_op, b_a, b_b, b_line, b_length, b_from, b_to, b_at, b_handlers, b_begun, b_taken, b_thrown, b_rowI, b_rowWay, b_rowLength, b_times, b_told, b_kOp, b_kA, b_kB, b_kLine, b_kLength, b_kFrom, b_kTo, b_kAt, b_kHandlers, b_kBegun, b_kTaken, b_kThrown, b_kept, b_method, b_pc, b_variable, b_hereI, b_hereWay, b_hereLength, b_into, b_kLoad, b_part) x))) ∨
    ((∀ post : Int32 → Prop, post 0 → (wpX_there post (f_load, f_depth, f_begun, f_outcome, f_result, a_op, a_opA, a_opB, a_opLine, a_length, a_guards, a_handlers, a_kept, a_keptLoad, a_counter, a_raised, a_stopped, a_caught, a_unbegun, a_leads, a_counts, a_adds, a_goes, a_needed, a_known, a_solved, a_open, a_unknown, a_balance, a_group, a_first, a_last, a_sum, a_often, a_told, a_method, a_pc, a_start, a_here, a_path, a_coming, a_variable) x)) ∧ (∀ post : Int32 → Prop, post 0 → (wpY_isThere post (g_depth, g_steps, g_result, g_outcome, g_load, g_over, b_op, b_a, b_b, b_line, b_length, b_from, b_to, b_at, b_handlers, b_begun, b_taken, b_thrown, b_rowI, b_rowWay, b_rowLength, b_times, b_told, b_kOp, b_kA, b_kB, b_kLine, b_kLength, b_kFrom, b_kTo, b_kAt, b_kHandlers, b_kBegun, b_kTaken, b_kThrown, b_kept, b_method, b_pc, b_variable, b_hereI, b_hereWay, b_hereLength, b_into, b_kLoad, b_part) x))) := by
  rcases qb_no (x := x) (l := 4) 4 rfl (by decide) with ⟨m, hm, rfl, _, _⟩ | ⟨h1, h2⟩
  · rcases qb_thX C hm with ⟨z, a, b⟩ | ⟨z, a, b⟩
    · exact Or.inl ⟨m, hm, rfl, z, a, b⟩
    · exact Or.inr ⟨a, b⟩
  · refine Or.inr ⟨fun post p => ?_, fun post p => ?_⟩
    · unfold wpX_there
      refine h1 _ ?_
      exact br_f (by decide) p
    · unfold wpY_isThere
      refine h2 _ ?_
      exact br_t rfl p
theorem qb_has (C : (rc_code a_op a_opA a_opB a_opLine a_guards a_length a_handlers b_op b_a b_b b_line b_from b_to b_at b_length b_handlers)) (x y : Int32) :
    (∃ m i, m < 4 ∧ i < xn a_length m ∧ x = nI m ∧ y = nI i ∧ (∀ post : Int32 → Prop, post 1 → (wpX_has post (f_load, f_depth, f_begun, f_outcome, f_result, a_op, a_opA, a_opB, a_opLine, a_length, a_guards, a_handlers, a_kept, a_keptLoad, a_counter, a_raised, a_stopped, a_caught, a_unbegun, a_leads, a_counts, a_adds, a_goes, a_needed, a_known, a_solved, a_open, a_unknown, a_balance, a_group, a_first, a_last, a_sum, a_often, a_told, a_method, a_pc, a_start, a_here, a_path, a_coming, a_variable) x y)) ∧ (∀ post : Int32 → Prop, post 1 → (wpY_isOne post (g_depth, g_steps, g_result, g_outcome, g_load, g_over, b_op, b_a, b_b, b_line, b_length, b_from, b_to, b_at, b_handlers, b_begun, b_taken, b_thrown, b_rowI, b_rowWay, b_rowLength, b_times, b_told, b_kOp, b_kA, b_kB, b_kLine, b_kLength, b_kFrom, b_kTo, b_kAt, b_kHandlers, b_kBegun, b_kTaken, b_kThrown, b_kept, b_method, b_pc, b_variable, b_hereI, b_hereWay, b_hereLength, b_into, b_kLoad, b_part) x y))) ∨
    ((∀ post : Int32 → Prop, post 0 → (wpX_has post (f_load, f_depth, f_begun, f_outcome, f_result, a_op, a_opA, a_opB, a_opLine, a_length, a_guards, a_handlers, a_kept, a_keptLoad, a_counter, a_raised, a_stopped, a_caught, a_unbegun, a_leads, a_counts, a_adds, a_goes, a_needed, a_known, a_solved, a_open, a_unknown, a_balance, a_group, a_first, a_last, a_sum, a_often, a_told, a_method, a_pc, a_start, a_here, a_path, a_coming, a_variable) x y)) ∧ (∀ post : Int32 → Prop, post 0 → (wpY_isOne post (g_depth, g_steps, g_result, g_outcome, g_load, g_over, b_op, b_a, b_b, b_line, b_length, b_from, b_to, b_at, b_handlers, b_begun, b_taken, b_thrown, b_rowI, b_rowWay, b_rowLength, b_times, b_told, b_kOp, b_kA, b_kB, b_kLine, b_kLength, b_kFrom, b_kTo, b_kAt, b_kHandlers, b_kBegun, b_kTaken, b_kThrown, b_kept, b_method, b_pc, b_variable, b_hereI, b_hereWay, b_hereLength, b_into, b_kLoad, b_part) x y))) := by
  rcases qb_there C x with ⟨m, hm, rfl, z, h1, h2⟩ | ⟨h1, h2⟩
  · obtain ⟨e1, e2, e3⟩ := rc_len C (r := m) (by omega)
    have r1 : a_length (nI m).toNatClampNeg = nI (xn a_length m) := qa_r m rfl e1
    have r2 : b_length (nI m).toNatClampNeg = nI (xn a_length m) := qa_r m rfl e2
    rcases qb_no (x := y) (l := nI (xn a_length m)) (xn a_length m) rfl (by omega) with ⟨i, hi, rfl, g1, g2⟩ | ⟨g1, g2⟩
    · refine Or.inl ⟨m, i, hm, hi, rfl, rfl, fun post p => ?_, fun post p => ?_⟩
      · unfold wpX_has
        refine h1 _ ?_
        refine br_f (by decide) ⟨pk_in m 17 (by omega), ?_⟩
        rw [r1]; refine g1 _ ?_
        exact br_t rfl p
      · unfold wpY_isOne
        refine h2 _ ?_
        refine br_f (by decide) ⟨pk_in m 5 (by omega), ?_⟩
        rw [r2]; refine g2 _ ?_
        exact br_f (by decide) p
    · refine Or.inr ⟨fun post p => ?_, fun post p => ?_⟩
      · unfold wpX_has
        refine h1 _ ?_
        refine br_f (by decide) ⟨pk_in m 17 (by omega), ?_⟩
        rw [r1]; refine g1 _ ?_
        exact br_f (by decide) p
      · unfold wpY_isOne
        refine h2 _ ?_
        refine br_f (by decide) ⟨pk_in m 5 (by omega), ?_⟩
        rw [r2]; refine g2 _ ?_
        exact br_t rfl p
  · refine Or.inr ⟨fun post p => ?_, fun post p => ?_⟩
    · unfold wpX_has
      refine h1 _ ?_
      exact br_t rfl p
    · unfold wpY_isOne
      refine h2 _ ?_
      exact br_t rfl p
end
end
section
/-! copies and clears -/
def cz_c (a : Nat → Int32) (s t k : Nat) : Nat → Int32 := fun j => if t ≤ j ∧ j < t + k then a (j - t + s) else a j
theorem cz_c_0 (a : Nat → Int32) (s t : Nat) : cz_c a s t 0 = a := by
  funext j
  exact if_neg (by omega)
theorem cz_c_in {a : Nat → Int32} {s t k j : Nat} (h : j < k) : cz_c a s t k (t + j) = a (s + j) := by
  unfold cz_c
  rw [if_pos (by omega)]
  exact congrArg a (by omega)
theorem cz_c_out {a : Nat → Int32} {s t k j : Nat} (h : j < t ∨ t + k ≤ j) : cz_c a s t k j = a j := if_neg (by omega)
theorem cz_c_s {a : Nat → Int32} {s t k K : Nat} (h : s + K ≤ t ∨ t + K ≤ s) (hk : k < K) {x : Int32} (hx : x = a (s + k)) : upd (cz_c a s t k) (t + k) x = cz_c a s t (k + 1) := by
  subst hx
  funext j
  unfold upd cz_c
  by_cases c : j = t + k
  · rw [if_pos c, if_pos (by omega)]
    exact congrArg a (by omega)
  · rw [if_neg c]
    by_cases d : t ≤ j ∧ j < t + k
    · rw [if_pos d, if_pos (by omega)]
    · rw [if_neg d, if_neg (by omega)]
def cz_z (a : Nat → Int32) (t k : Nat) : Nat → Int32 := fun j => if t ≤ j ∧ j < t + k then 0 else a j
theorem cz_z_0 (a : Nat → Int32) (t : Nat) : cz_z a t 0 = a := by
  funext j
  exact if_neg (by omega)
theorem cz_z_in {a : Nat → Int32} {t k j : Nat} (h : j < k) : cz_z a t k (t + j) = 0 := if_pos (by omega)
theorem cz_z_out {a : Nat → Int32} {t k j : Nat} (h : j < t ∨ t + k ≤ j) : cz_z a t k j = a j := if_neg (by omega)
theorem cz_z_s {a : Nat → Int32} {t k : Nat} : upd (cz_z a t k) (t + k) 0 = cz_z a t (k + 1) := by
  funext j
  unfold upd cz_z
  by_cases c : j = t + k
  · rw [if_pos c, if_pos (by omega)]
  · rw [if_neg c]
    by_cases d : t ≤ j ∧ j < t + k
    · rw [if_pos d, if_pos (by omega)]
    · rw [if_neg d, if_neg (by omega)]
section
variable {f_load : Int32} {f_depth : Int32} {f_begun : Int32} {f_outcome : Int32} {f_result : Int32} {a_op : (Nat → Int32)} {a_opA : (Nat → Int32)} {a_opB : (Nat → Int32)} {a_opLine : (Nat → Int32)} {a_length : (Nat → Int32)} {a_guards : (Nat → Int32)} {a_handlers : (Nat → Int32)} {a_kept : (Nat → Int32)} {a_keptLoad : (Nat → Int32)} {a_counter : (Nat → Int32)} {a_raised : (Nat → Int32)} {a_stopped : (Nat → Int32)} {a_caught : (Nat → Int32)} {a_unbegun : (Nat → Int32)} {a_leads : (Nat → Int32)} {a_counts : (Nat → Int32)} {a_adds : (Nat → Int64)} {a_goes : (Nat → Int64)} {a_needed : (Nat → Int32)} {a_known : (Nat → Int32)} {a_solved : (Nat → Int32)} {a_open : (Nat → Int32)} {a_unknown : (Nat → Int32)} {a_balance : (Nat → Int32)} {a_group : (Nat → Int32)} {a_first : (Nat → Int32)} {a_last : (Nat → Int32)} {a_sum : (Nat → Int64)} {a_often : (Nat → Int32)} {a_told : (Nat → Int32)} {a_method : (Nat → Int32)} {a_pc : (Nat → Int32)} {a_start : (Nat → Int32)} {a_here : (Nat → Int32)} {a_path : (Nat → Int64)} {a_coming : (Nat → Int64)} {a_variable : (Nat → Int32)} {g_depth : Int32} {g_steps : Int32} {g_result : Int32} {g_outcome : Int32} {g_load : Int32} {g_over : Int32} {b_op : (Nat → Int32)} {b_a : (Nat → Int32)} {b_b : (Nat → Int32)} {b_line : (Nat → Int32)} {b_length : (Nat → Int32)} {b_from : (Nat → Int32)} {b_to : (Nat → Int32)} {b_at : (Nat → Int32)} {b_handlers : (Nat → Int32)} {b_begun : (Nat → Int32)} {b_taken : (Nat → Int32)} {b_thrown : (Nat → Int32)} {b_rowI : (Nat → Int32)} {b_rowWay : (Nat → Int32)} {b_rowLength : (Nat → Int32)} {b_times : (Nat → Int32)} {b_told : (Nat → Int32)} {b_kOp : (Nat → Int32)} {b_kA : (Nat → Int32)} {b_kB : (Nat → Int32)} {b_kLine : (Nat → Int32)} {b_kLength : (Nat → Int32)} {b_kFrom : (Nat → Int32)} {b_kTo : (Nat → Int32)} {b_kAt : (Nat → Int32)} {b_kHandlers : (Nat → Int32)} {b_kBegun : (Nat → Int32)} {b_kTaken : (Nat → Int32)} {b_kThrown : (Nat → Int32)} {b_kept : (Nat → Int32)} {b_method : (Nat → Int32)} {b_pc : (Nat → Int32)} {b_variable : (Nat → Int32)} {b_hereI : (Nat → Int32)} {b_hereWay : (Nat → Int32)} {b_hereLength : (Nat → Int32)} {b_into : (Nat → Int32)} {b_kLoad : (Nat → Int32)} {b_part : (Nat → Int32)}
/-- copyCode -/
def xk_byte (f : Nat → Int32) (r : Nat) : Prop := ∀ i, i < 24 → vp_nar .byte (f (24 * r + i)) = f (24 * r + i)
theorem xk_cc128 {a b : Nat} (ha : a < 17) (hb : b < 17) (hne : a ≠ b) (g : ∀ i, i < 3 → vp_nar .short (a_guards (3 * a + i)) = a_guards (3 * a + i)) {post : SX → Prop} (K : post (f_load, f_depth, f_begun, f_outcome, f_result, a_op, a_opA, a_opB, a_opLine, a_length, (cz_c a_guards (3 * a) (3 * b) 3), a_handlers, a_kept, a_keptLoad, a_counter, a_raised, a_stopped, a_caught, a_unbegun, a_leads, a_counts, a_adds, a_goes, a_needed, a_known, a_solved, a_open, a_unknown, a_balance, a_group, a_first, a_last, a_sum, a_often, a_told, a_method, a_pc, a_start, a_here, a_path, a_coming, a_variable)) :
    ∀ d k, k + d = 3 → (wX_copyCode_128 post (nI a) (nI b) f_load f_depth f_begun f_outcome f_result (d + 1) (nI k) a_op a_opA a_opB a_opLine a_length (cz_c a_guards (3 * a) (3 * b) k) a_handlers a_kept a_keptLoad a_counter a_raised a_stopped a_caught a_unbegun a_leads a_counts a_adds a_goes a_needed a_known a_solved a_open a_unknown a_balance a_group a_first a_last a_sum a_often a_told a_method a_pc a_start a_here a_path a_coming a_variable) := by
  intro d
  induction d with
  | zero =>
    intro k hk
    obtain rfl : k = 3 := by omega
    exact br_t (nI_le (b := 3) (Nat.le_refl 3) (by decide)) K
  | succ d ih =>
    intro k hk
    refine br_f (nI_ge (b := 3) (by omega) (by decide)) ⟨pk_in (3 * a + k) 51 (by omega) (qa_3 a k), pk_in (3 * b + k) 51 (by omega) (qa_3 b k), nm_r (e' := cz_c a_guards (3 * a) (3 * b) (k + 1)) ?_ (nm_r (nI_1 k) (ih (k + 1) (by omega)))⟩
    have e : cz_c a_guards (3 * a) (3 * b) k (3 * a + k) = a_guards (3 * a + k) := cz_c_out (by omega)
    rw [qa_3, qa_3, nI_clamp (by omega), nI_clamp (by omega)]
    refine cz_c_s (K := 3) (by omega) (by omega) ?_
    exact (congrArg (vp_nar .short) e).trans (g k (by omega))
theorem xk_cc26 {a b : Nat} (ha : a < 17) (hb : b < 17) (hne : a ≠ b) (h1 : xk_byte a_op a) (h2 : xk_byte a_opA a) (h3 : xk_byte a_opLine a) (g : ∀ i, i < 3 → vp_nar .short (a_guards (3 * a + i)) = a_guards (3 * a + i)) {post : SX → Prop} (K : post (f_load, f_depth, f_begun, f_outcome, f_result, (cz_c a_op (24 * a) (24 * b) 24), (cz_c a_opA (24 * a) (24 * b) 24), (cz_c a_opB (24 * a) (24 * b) 24), (cz_c a_opLine (24 * a) (24 * b) 24), (upd a_length b (a_length a)), (cz_c a_guards (3 * a) (3 * b) 3), (upd a_handlers b (a_handlers a)), a_kept, a_keptLoad, a_counter, a_raised, a_stopped, a_caught, a_unbegun, a_leads, a_counts, a_adds, a_goes, a_needed, a_known, a_solved, a_open, a_unknown, a_balance, a_group, a_first, a_last, a_sum, a_often, a_told, a_method, a_pc, a_start, a_here, a_path, a_coming, a_variable)) :
    ∀ d k, k + d = 24 → (wX_copyCode_26 post (nI a) (nI b) f_load f_depth f_begun f_outcome f_result (d + 1) (nI k) (cz_c a_op (24 * a) (24 * b) k) (cz_c a_opA (24 * a) (24 * b) k) (cz_c a_opB (24 * a) (24 * b) k) (cz_c a_opLine (24 * a) (24 * b) k) (upd a_length b (a_length a)) a_guards (upd a_handlers b (a_handlers a)) a_kept a_keptLoad a_counter a_raised a_stopped a_caught a_unbegun a_leads a_counts a_adds a_goes a_needed a_known a_solved a_open a_unknown a_balance a_group a_first a_last a_sum a_often a_told a_method a_pc a_start a_here a_path a_coming a_variable) := by
  intro d
  induction d with
  | zero =>
    intro k hk
    obtain rfl : k = 24 := by omega
    refine br_t (nI_le (b := 24) (Nat.le_refl 24) (by decide)) ⟨4, ?_⟩
    have h := xk_cc128 ha hb hne g K 3 0 rfl
    rw [cz_c_0] at h
    exact h
  | succ d ih =>
    intro k hk
    have i1 : vp_in (24 * nI a + nI k) 408 := pk_in (24 * a + k) 408 (by omega) (qa_24 a k)
    have i2 : vp_in (24 * nI b + nI k) 408 := pk_in (24 * b + k) 408 (by omega) (qa_24 b k)
    have e : ∀ f : Nat → Int32, cz_c f (24 * a) (24 * b) k (24 * a + k) = f (24 * a + k) := fun f => cz_c_out (by omega)
    have st : ∀ f : Nat → Int32, xk_byte f a → upd (cz_c f (24 * a) (24 * b) k) (24 * nI b + nI k).toNatClampNeg (vp_nar .byte (cz_c f (24 * a) (24 * b) k (24 * nI a + nI k).toNatClampNeg)) = cz_c f (24 * a) (24 * b) (k + 1) := by
      intro f hf
      rw [qa_24, qa_24, nI_clamp (by omega), nI_clamp (by omega)]
      refine cz_c_s (K := 24) (by omega) (by omega) ?_
      exact (congrArg (vp_nar .byte) (e f)).trans (hf k (by omega))
    have st2 : ∀ f : Nat → Int32, upd (cz_c f (24 * a) (24 * b) k) (24 * nI b + nI k).toNatClampNeg (cz_c f (24 * a) (24 * b) k (24 * nI a + nI k).toNatClampNeg) = cz_c f (24 * a) (24 * b) (k + 1) := by
      intro f
      rw [qa_24, qa_24, nI_clamp (by omega), nI_clamp (by omega)]
      exact cz_c_s (K := 24) (by omega) (by omega) (e f)
    exact br_f (nI_ge (b := 24) (by omega) (by decide)) ⟨i1, i2, nm_r (st _ h1) ⟨i1, i2, nm_r (st _ h2) ⟨i1, i2, nm_r (st2 _) ⟨i1, i2, nm_r (st _ h3) (nm_r (nI_1 k) (ih (k + 1) (by omega)))⟩⟩⟩⟩
theorem xk_copyCode {a b : Nat} (ha : a < 17) (hb : b < 17) (hne : a ≠ b) (h0 : vp_nar .byte (a_length a) = a_length a) (h0' : vp_nar .byte (a_handlers a) = a_handlers a) (h1 : xk_byte a_op a) (h2 : xk_byte a_opA a) (h3 : xk_byte a_opLine a) (g : ∀ i, i < 3 → vp_nar .short (a_guards (3 * a + i)) = a_guards (3 * a + i)) {post : SX → Prop} (K : post (f_load, f_depth, f_begun, f_outcome, f_result, (cz_c a_op (24 * a) (24 * b) 24), (cz_c a_opA (24 * a) (24 * b) 24), (cz_c a_opB (24 * a) (24 * b) 24), (cz_c a_opLine (24 * a) (24 * b) 24), (upd a_length b (a_length a)), (cz_c a_guards (3 * a) (3 * b) 3), (upd a_handlers b (a_handlers a)), a_kept, a_keptLoad, a_counter, a_raised, a_stopped, a_caught, a_unbegun, a_leads, a_counts, a_adds, a_goes, a_needed, a_known, a_solved, a_open, a_unknown, a_balance, a_group, a_first, a_last, a_sum, a_often, a_told, a_method, a_pc, a_start, a_here, a_path, a_coming, a_variable)) :
    (wpX_copyCode post (f_load, f_depth, f_begun, f_outcome, f_result, a_op, a_opA, a_opB, a_opLine, a_length, a_guards, a_handlers, a_kept, a_keptLoad, a_counter, a_raised, a_stopped, a_caught, a_unbegun, a_leads, a_counts, a_adds, a_goes, a_needed, a_known, a_solved, a_open, a_unknown, a_balance, a_group, a_first, a_last, a_sum, a_often, a_told, a_method, a_pc, a_start, a_here, a_path, a_coming, a_variable) (nI a) (nI b)) := by
  have ia : vp_in (nI a) 17 := pk_in a 17 ha
  have ib : vp_in (nI b) 17 := pk_in b 17 hb
  refine ⟨ia, ib, nm_r (e' := upd a_length b (a_length a)) ?_ ⟨ia, ib, nm_r (e' := upd a_handlers b (a_handlers a)) ?_ ⟨25, ?_⟩⟩⟩
  · rw [nI_clamp (by omega), nI_clamp (by omega), h0]
  · rw [nI_clamp (by omega), nI_clamp (by omega), h0']
  · have h := xk_cc26 ha hb hne h1 h2 h3 g K 24 0 rfl
    rw [cz_c_0, cz_c_0, cz_c_0, cz_c_0] at h
    exact h
/-- clear -/
theorem xk_zz31 {m : Nat} (hm : m < 4) {post : SX → Prop} (K : post (f_load, f_depth, f_begun, f_outcome, f_result, a_op, a_opA, a_opB, a_opLine, a_length, a_guards, a_handlers, a_kept, a_keptLoad, a_counter, (cz_z a_raised (24 * m) 24), (cz_z a_stopped (24 * m) 24), (cz_z a_caught (24 * m) 24), (cz_z a_unbegun (24 * m) 24), a_leads, a_counts, a_adds, a_goes, a_needed, a_known, (upd a_solved m 0), a_open, a_unknown, a_balance, a_group, a_first, a_last, a_sum, a_often, (upd a_told m 0), a_method, a_pc, a_start, a_here, a_path, a_coming, a_variable)) : ∀ d k, k + d = 24 → (wX_clear_31 post (nI m) f_load f_depth f_begun f_outcome f_result (d + 1) (nI (24 * m + k)) a_op a_opA a_opB a_opLine a_length a_guards a_handlers a_kept a_keptLoad a_counter (cz_z a_raised (24 * m) k) (cz_z a_stopped (24 * m) k) (cz_z a_caught (24 * m) k) (cz_z a_unbegun (24 * m) k) a_leads a_counts a_adds a_goes a_needed a_known a_solved a_open a_unknown a_balance a_group a_first a_last a_sum a_often a_told a_method a_pc a_start a_here a_path a_coming a_variable) := by
  intro d
  induction d with
  | zero =>
    intro k hk
    obtain rfl : k = 24 := by omega
    have c : (24 : Int32) * nI m + 24 ≤ nI (24 * m + 24) := by
      rw [show (24 : Int32) * nI m + 24 = nI (24 * m + 24) from qa_24 m 24]; exact nI_le (Nat.le_refl _) (by omega)
    have im : vp_in (nI m) 4 := pk_in m 4 hm
    refine br_t c ⟨im, nm_r (e' := upd a_told m 0) ?_ ⟨im, nm_r (e' := upd a_solved m 0) ?_ K⟩⟩
    · rw [nI_clamp (by omega), qa_b0]
    · rw [nI_clamp (by omega), qa_z0]
  | succ d ih =>
    intro k hk
    have c : ¬ (24 : Int32) * nI m + 24 ≤ nI (24 * m + k) := by
      rw [show (24 : Int32) * nI m + 24 = nI (24 * m + 24) from qa_24 m 24]; exact nI_ge (by omega) (by omega)
    have i1 : vp_in (nI (24 * m + k)) 408 := pk_in (24 * m + k) 408 (by omega)
    have st : ∀ f : Nat → Int32, upd (cz_z f (24 * m) k) (nI (24 * m + k)).toNatClampNeg 0 = cz_z f (24 * m) (k + 1) := by
      intro f
      rw [nI_clamp (by omega)]
      exact cz_z_s
    exact br_f c ⟨i1, nm_r (st _) ⟨i1, nm_r (st _) ⟨i1, nm_r (st _) ⟨i1, nm_r (st _) (nm_r (nI_1 _) (ih (k + 1) (by omega)))⟩⟩⟩⟩
theorem xk_zz2 {m : Nat} (hm : m < 4) {post : SX → Prop} (K : post (f_load, f_depth, f_begun, f_outcome, f_result, a_op, a_opA, a_opB, a_opLine, a_length, a_guards, a_handlers, a_kept, a_keptLoad, (cz_z a_counter (97 * m) 97), (cz_z a_raised (24 * m) 24), (cz_z a_stopped (24 * m) 24), (cz_z a_caught (24 * m) 24), (cz_z a_unbegun (24 * m) 24), a_leads, a_counts, a_adds, a_goes, a_needed, a_known, (upd a_solved m 0), a_open, a_unknown, a_balance, a_group, a_first, a_last, a_sum, a_often, (upd a_told m 0), a_method, a_pc, a_start, a_here, a_path, a_coming, a_variable)) : ∀ d k, k + d = 97 → (wX_clear_2 post (nI m) f_load f_depth f_begun f_outcome f_result (d + 1) (nI k) a_op a_opA a_opB a_opLine a_length a_guards a_handlers a_kept a_keptLoad (cz_z a_counter (97 * m) k) a_raised a_stopped a_caught a_unbegun a_leads a_counts a_adds a_goes a_needed a_known a_solved a_open a_unknown a_balance a_group a_first a_last a_sum a_often a_told a_method a_pc a_start a_here a_path a_coming a_variable) := by
  intro d
  induction d with
  | zero =>
    intro k hk
    obtain rfl : k = 97 := by omega
    refine br_t (nI_le (b := 97) (Nat.le_refl 97) (by decide)) (nm_r (qa_m24 m) ⟨25, ?_⟩)
    have h := xk_zz31 hm K 24 0 rfl
    rw [cz_z_0, cz_z_0, cz_z_0, cz_z_0] at h
    exact h
  | succ d ih =>
    intro k hk
    refine br_f (nI_ge (b := 97) (by omega) (by decide)) ⟨pk_in (97 * m + k) 1649 (by omega) (qa_97 m k), nm_r (e' := cz_z a_counter (97 * m) (k + 1)) ?_ (nm_r (nI_1 k) (ih (k + 1) (by omega)))⟩
    rw [qa_97, nI_clamp (by omega)]
    exact cz_z_s
theorem xk_clear {m : Nat} (hm : m < 4) {post : SX → Prop} (K : post (f_load, f_depth, f_begun, f_outcome, f_result, a_op, a_opA, a_opB, a_opLine, a_length, a_guards, a_handlers, a_kept, a_keptLoad, (cz_z a_counter (97 * m) 97), (cz_z a_raised (24 * m) 24), (cz_z a_stopped (24 * m) 24), (cz_z a_caught (24 * m) 24), (cz_z a_unbegun (24 * m) 24), a_leads, a_counts, a_adds, a_goes, a_needed, a_known, (upd a_solved m 0), a_open, a_unknown, a_balance, a_group, a_first, a_last, a_sum, a_often, (upd a_told m 0), a_method, a_pc, a_start, a_here, a_path, a_coming, a_variable)) : (wpX_clear post (f_load, f_depth, f_begun, f_outcome, f_result, a_op, a_opA, a_opB, a_opLine, a_length, a_guards, a_handlers, a_kept, a_keptLoad, a_counter, a_raised, a_stopped, a_caught, a_unbegun, a_leads, a_counts, a_adds, a_goes, a_needed, a_known, a_solved, a_open, a_unknown, a_balance, a_group, a_first, a_last, a_sum, a_often, a_told, a_method, a_pc, a_start, a_here, a_path, a_coming, a_variable) (nI m)) := by
  have h := xk_zz2 hm K 97 0 rfl
  rw [cz_z_0] at h
  exact ⟨98, h⟩
end
end
section
/-! the reference: forget, define -/
section
variable {f_load : Int32} {f_depth : Int32} {f_begun : Int32} {f_outcome : Int32} {f_result : Int32} {a_op : (Nat → Int32)} {a_opA : (Nat → Int32)} {a_opB : (Nat → Int32)} {a_opLine : (Nat → Int32)} {a_length : (Nat → Int32)} {a_guards : (Nat → Int32)} {a_handlers : (Nat → Int32)} {a_kept : (Nat → Int32)} {a_keptLoad : (Nat → Int32)} {a_counter : (Nat → Int32)} {a_raised : (Nat → Int32)} {a_stopped : (Nat → Int32)} {a_caught : (Nat → Int32)} {a_unbegun : (Nat → Int32)} {a_leads : (Nat → Int32)} {a_counts : (Nat → Int32)} {a_adds : (Nat → Int64)} {a_goes : (Nat → Int64)} {a_needed : (Nat → Int32)} {a_known : (Nat → Int32)} {a_solved : (Nat → Int32)} {a_open : (Nat → Int32)} {a_unknown : (Nat → Int32)} {a_balance : (Nat → Int32)} {a_group : (Nat → Int32)} {a_first : (Nat → Int32)} {a_last : (Nat → Int32)} {a_sum : (Nat → Int64)} {a_often : (Nat → Int32)} {a_told : (Nat → Int32)} {a_method : (Nat → Int32)} {a_pc : (Nat → Int32)} {a_start : (Nat → Int32)} {a_here : (Nat → Int32)} {a_path : (Nat → Int64)} {a_coming : (Nat → Int64)} {a_variable : (Nat → Int32)} {g_depth : Int32} {g_steps : Int32} {g_result : Int32} {g_outcome : Int32} {g_load : Int32} {g_over : Int32} {b_op : (Nat → Int32)} {b_a : (Nat → Int32)} {b_b : (Nat → Int32)} {b_line : (Nat → Int32)} {b_length : (Nat → Int32)} {b_from : (Nat → Int32)} {b_to : (Nat → Int32)} {b_at : (Nat → Int32)} {b_handlers : (Nat → Int32)} {b_begun : (Nat → Int32)} {b_taken : (Nat → Int32)} {b_thrown : (Nat → Int32)} {b_rowI : (Nat → Int32)} {b_rowWay : (Nat → Int32)} {b_rowLength : (Nat → Int32)} {b_times : (Nat → Int32)} {b_told : (Nat → Int32)} {b_kOp : (Nat → Int32)} {b_kA : (Nat → Int32)} {b_kB : (Nat → Int32)} {b_kLine : (Nat → Int32)} {b_kLength : (Nat → Int32)} {b_kFrom : (Nat → Int32)} {b_kTo : (Nat → Int32)} {b_kAt : (Nat → Int32)} {b_kHandlers : (Nat → Int32)} {b_kBegun : (Nat → Int32)} {b_kTaken : (Nat → Int32)} {b_kThrown : (Nat → Int32)} {b_kept : (Nat → Int32)} {b_method : (Nat → Int32)} {b_pc : (Nat → Int32)} {b_variable : (Nat → Int32)} {b_hereI : (Nat → Int32)} {b_hereWay : (Nat → Int32)} {b_hereLength : (Nat → Int32)} {b_into : (Nat → Int32)} {b_kLoad : (Nat → Int32)} {b_part : (Nat → Int32)}
theorem yk_f32 {m i : Nat} (hm : m < 4) (hi : i < 24) {post : SY → Prop} {J : Int32 → (Nat → Int32) → (Nat → Int32) → (Nat → Int32) → (Nat → Int32) → (Nat → Int32) → (Nat → Int32) → (Nat → Int32) → (Nat → Int32) → (Nat → Int32) → (Nat → Int32) → (Nat → Int32) → (Nat → Int32) → (Nat → Int32) → (Nat → Int32) → (Nat → Int32) → (Nat → Int32) → (Nat → Int32) → (Nat → Int32) → (Nat → Int32) → (Nat → Int32) → (Nat → Int32) → (Nat → Int32) → (Nat → Int32) → (Nat → Int32) → (Nat → Int32) → (Nat → Int32) → (Nat → Int32) → (Nat → Int32) → (Nat → Int32) → (Nat → Int32) → (Nat → Int32) → (Nat → Int32) → (Nat → Int32) → (Nat → Int32) → (Nat → Int32) → (Nat → Int32) → (Nat → Int32) → (Nat → Int32) → (Nat → Int32) → Prop} (K : J (nI (24 * m + i + 1)) b_op b_a b_b b_line b_length b_from b_to b_at b_handlers b_begun (cz_z b_taken (96 * m) (4 * i + 4)) b_thrown b_rowI b_rowWay b_rowLength b_times b_told b_kOp b_kA b_kB b_kLine b_kLength b_kFrom b_kTo b_kAt b_kHandlers b_kBegun b_kTaken b_kThrown b_kept b_method b_pc b_variable b_hereI b_hereWay b_hereLength b_into b_kLoad b_part) :
    ∀ d k, k + d = 4 → (wY_forget_32 post J (nI m) (nI (24 * m + i)) g_depth g_steps g_result g_outcome g_load g_over (d + 1) (nI k) b_op b_a b_b b_line b_length b_from b_to b_at b_handlers b_begun (cz_z b_taken (96 * m) (4 * i + k)) b_thrown b_rowI b_rowWay b_rowLength b_times b_told b_kOp b_kA b_kB b_kLine b_kLength b_kFrom b_kTo b_kAt b_kHandlers b_kBegun b_kTaken b_kThrown b_kept b_method b_pc b_variable b_hereI b_hereWay b_hereLength b_into b_kLoad b_part) := by
  intro d
  induction d with
  | zero =>
    intro k hk
    obtain rfl : k = 4 := by omega
    exact br_t (nI_le (b := 4) (Nat.le_refl 4) (by decide)) (nm_r (nI_1 _) K)
  | succ d ih =>
    intro k hk
    have e : (4 : Int32) * nI (24 * m + i) + nI k = nI (96 * m + (4 * i + k)) := by
      rw [qa_4]; exact congrArg nI (by omega)
    refine br_f (nI_ge (b := 4) (by omega) (by decide)) ⟨pk_in (96 * m + (4 * i + k)) 384 (by omega) e, nm_r (e' := cz_z b_taken (96 * m) (4 * i + (k + 1))) ?_ (nm_r (nI_1 k) (ih (k + 1) (by omega)))⟩
    rw [e, nI_clamp (by omega)]
    exact cz_z_s
theorem yk_f5 {m : Nat} (hm : m < 4) {post : SY → Prop} (K : post (g_depth, g_steps, g_result, g_outcome, g_load, g_over, b_op, b_a, b_b, b_line, b_length, b_from, b_to, b_at, b_handlers, (cz_z b_begun (24 * m) 24), (cz_z b_taken (96 * m) 96), (cz_z b_thrown (24 * m) 24), b_rowI, b_rowWay, b_rowLength, b_times, (upd b_told m 0), b_kOp, b_kA, b_kB, b_kLine, b_kLength, b_kFrom, b_kTo, b_kAt, b_kHandlers, b_kBegun, b_kTaken, b_kThrown, b_kept, b_method, b_pc, b_variable, b_hereI, b_hereWay, b_hereLength, b_into, b_kLoad, b_part)) :
    ∀ d k, k + d = 24 → (wY_forget_5 post (nI m) g_depth g_steps g_result g_outcome g_load g_over (d + 1) (nI (24 * m + k)) b_op b_a b_b b_line b_length b_from b_to b_at b_handlers (cz_z b_begun (24 * m) k) (cz_z b_taken (96 * m) (4 * k)) (cz_z b_thrown (24 * m) k) b_rowI b_rowWay b_rowLength b_times b_told b_kOp b_kA b_kB b_kLine b_kLength b_kFrom b_kTo b_kAt b_kHandlers b_kBegun b_kTaken b_kThrown b_kept b_method b_pc b_variable b_hereI b_hereWay b_hereLength b_into b_kLoad b_part) := by
  intro d
  induction d with
  | zero =>
    intro k hk
    obtain rfl : k = 24 := by omega
    have c : (24 : Int32) * nI m + 24 ≤ nI (24 * m + 24) := by
      rw [show (24 : Int32) * nI m + 24 = nI (24 * m + 24) from qa_24 m 24]; exact nI_le (Nat.le_refl _) (by omega)
    refine br_t c ⟨pk_in m 4 hm, nm_r (e' := upd b_told m 0) ?_ K⟩
    rw [nI_clamp (by omega)]
  | succ d ih =>
    intro k hk
    have c : ¬ (24 : Int32) * nI m + 24 ≤ nI (24 * m + k) := by
      rw [show (24 : Int32) * nI m + 24 = nI (24 * m + 24) from qa_24 m 24]; exact nI_ge (by omega) (by omega)
    have i1 : vp_in (nI (24 * m + k)) 96 := pk_in (24 * m + k) 96 (by omega)
    have st : ∀ f : Nat → Int32, upd (cz_z f (24 * m) k) (nI (24 * m + k)).toNatClampNeg 0 = cz_z f (24 * m) (k + 1) := by
      intro f
      rw [nI_clamp (by omega)]
      exact cz_z_s
    have h := ih (k + 1) (by omega)
    exact br_f c ⟨i1, nm_r (st _) ⟨i1, nm_r (st _) ⟨5, yk_f32 hm (by omega) h 4 0 rfl⟩⟩⟩
theorem yk_forget {m : Nat} (hm : m < 4) {post : SY → Prop} (K : post (g_depth, g_steps, g_result, g_outcome, g_load, g_over, b_op, b_a, b_b, b_line, b_length, b_from, b_to, b_at, b_handlers, (cz_z b_begun (24 * m) 24), (cz_z b_taken (96 * m) 96), (cz_z b_thrown (24 * m) 24), b_rowI, b_rowWay, b_rowLength, b_times, (upd b_told m 0), b_kOp, b_kA, b_kB, b_kLine, b_kLength, b_kFrom, b_kTo, b_kAt, b_kHandlers, b_kBegun, b_kTaken, b_kThrown, b_kept, b_method, b_pc, b_variable, b_hereI, b_hereWay, b_hereLength, b_into, b_kLoad, b_part)) : (wpY_forget post (g_depth, g_steps, g_result, g_outcome, g_load, g_over, b_op, b_a, b_b, b_line, b_length, b_from, b_to, b_at, b_handlers, b_begun, b_taken, b_thrown, b_rowI, b_rowWay, b_rowLength, b_times, b_told, b_kOp, b_kA, b_kB, b_kLine, b_kLength, b_kFrom, b_kTo, b_kAt, b_kHandlers, b_kBegun, b_kTaken, b_kThrown, b_kept, b_method, b_pc, b_variable, b_hereI, b_hereWay, b_hereLength, b_into, b_kLoad, b_part) (nI m)) := by
  have h := yk_f5 hm K 24 0 rfl
  rw [cz_z_0, cz_z_0, cz_z_0] at h
  exact nm_r (qa_m24 m) ⟨25, h⟩
theorem yk_d106 {m : Nat} (hm : m < 4) {post : Int32 → SY → Prop} (K : post (b_length 4) (g_depth, g_steps, g_result, g_outcome, g_load, g_over, b_op, b_a, b_b, b_line, (upd (upd b_length m (b_length 4)) 4 0), (cz_c b_from 12 (3 * m) 3), (cz_c b_to 12 (3 * m) 3), (cz_c b_at 12 (3 * m) 3), (upd (upd b_handlers m (b_handlers 4)) 4 0), (cz_z b_begun (24 * m) 24), (cz_z b_taken (96 * m) 96), (cz_z b_thrown (24 * m) 24), b_rowI, b_rowWay, b_rowLength, b_times, (upd b_told m 0), b_kOp, b_kA, b_kB, b_kLine, b_kLength, b_kFrom, b_kTo, b_kAt, b_kHandlers, b_kBegun, b_kTaken, b_kThrown, b_kept, b_method, b_pc, b_variable, b_hereI, b_hereWay, b_hereLength, b_into, b_kLoad, b_part)) :
    ∀ d k, k + d = 3 → (wY_define_106 post (nI m) g_depth g_steps g_result g_outcome g_load g_over (d + 1) (nI k) b_op b_a b_b b_line b_length (cz_c b_from 12 (3 * m) k) (cz_c b_to 12 (3 * m) k) (cz_c b_at 12 (3 * m) k) b_handlers b_begun b_taken b_thrown b_rowI b_rowWay b_rowLength b_times b_told b_kOp b_kA b_kB b_kLine b_kLength b_kFrom b_kTo b_kAt b_kHandlers b_kBegun b_kTaken b_kThrown b_kept b_method b_pc b_variable b_hereI b_hereWay b_hereLength b_into b_kLoad b_part) := by
  intro d
  induction d with
  | zero =>
    intro k hk
    obtain rfl : k = 3 := by omega
    refine br_t (nI_le (b := 3) (Nat.le_refl 3) (by decide)) ⟨pk_in m 5 (by omega), nm_r (e' := upd b_length m (b_length 4)) ?_ ⟨pk_in m 5 (by omega), nm_r (e' := upd b_handlers m (b_handlers 4)) ?_ (nm_e (nm_e ?_))⟩⟩
    · rw [nI_clamp (by omega)]
    · rw [nI_clamp (by omega)]
    · refine yk_forget hm ⟨pk_in m 5 (by omega), ?_⟩
      have e : upd (upd b_length m (b_length 4)) 4 0 (nI m).toNatClampNeg = b_length 4 := by
        rw [nI_clamp (by omega), pk_un (by omega), pk_us]
      rw [e]; exact K
  | succ d ih =>
    intro k hk
    have e12 : (12 : Int32) + nI k = nI (12 + k) := nI_add 12 k
    have i1 : vp_in (12 + nI k) 15 := pk_in (12 + k) 15 (by omega) e12
    have i2 : vp_in (3 * nI m + nI k) 15 := pk_in (3 * m + k) 15 (by omega) (qa_3 m k)
    have st2 : ∀ f : Nat → Int32, upd (cz_c f 12 (3 * m) k) (3 * nI m + nI k).toNatClampNeg (cz_c f 12 (3 * m) k (12 + nI k).toNatClampNeg) = cz_c f 12 (3 * m) (k + 1) := by
      intro f
      rw [qa_3, e12, nI_clamp (by omega), nI_clamp (by omega)]
      exact cz_c_s (K := 3) (by omega) (by omega) (cz_c_out (by omega))
    exact br_f (nI_ge (b := 3) (by omega) (by decide)) ⟨i1, i2, nm_r (st2 _) ⟨i1, i2, nm_r (st2 _) ⟨i1, i2, nm_r (st2 _) (nm_r (nI_1 k) (ih (k + 1) (by omega)))⟩⟩⟩
theorem yk_d12 {m : Nat} (hm : m < 4) {post : Int32 → SY → Prop} (K : post (b_length 4) (g_depth, g_steps, g_result, g_outcome, g_load, g_over, (cz_c b_op 96 (24 * m) 24), (cz_c b_a 96 (24 * m) 24), (cz_c b_b 96 (24 * m) 24), (cz_c b_line 96 (24 * m) 24), (upd (upd b_length m (b_length 4)) 4 0), (cz_c b_from 12 (3 * m) 3), (cz_c b_to 12 (3 * m) 3), (cz_c b_at 12 (3 * m) 3), (upd (upd b_handlers m (b_handlers 4)) 4 0), (cz_z b_begun (24 * m) 24), (cz_z b_taken (96 * m) 96), (cz_z b_thrown (24 * m) 24), b_rowI, b_rowWay, b_rowLength, b_times, (upd b_told m 0), b_kOp, b_kA, b_kB, b_kLine, b_kLength, b_kFrom, b_kTo, b_kAt, b_kHandlers, b_kBegun, b_kTaken, b_kThrown, b_kept, b_method, b_pc, b_variable, b_hereI, b_hereWay, b_hereLength, b_into, b_kLoad, b_part)) :
    ∀ d k, k + d = 24 → (wY_define_12 post (nI m) g_depth g_steps g_result g_outcome g_load g_over (d + 1) (nI k) (cz_c b_op 96 (24 * m) k) (cz_c b_a 96 (24 * m) k) (cz_c b_b 96 (24 * m) k) (cz_c b_line 96 (24 * m) k) b_length b_from b_to b_at b_handlers b_begun b_taken b_thrown b_rowI b_rowWay b_rowLength b_times b_told b_kOp b_kA b_kB b_kLine b_kLength b_kFrom b_kTo b_kAt b_kHandlers b_kBegun b_kTaken b_kThrown b_kept b_method b_pc b_variable b_hereI b_hereWay b_hereLength b_into b_kLoad b_part) := by
  intro d
  induction d with
  | zero =>
    intro k hk
    obtain rfl : k = 24 := by omega
    refine br_t (nI_le (b := 24) (Nat.le_refl 24) (by decide)) ⟨4, ?_⟩
    have h := yk_d106 hm K 3 0 rfl
    rw [cz_c_0, cz_c_0, cz_c_0] at h
    exact h
  | succ d ih =>
    intro k hk
    have e12 : (96 : Int32) + nI k = nI (96 + k) := nI_add 96 k
    have i1 : vp_in (96 + nI k) 120 := pk_in (96 + k) 120 (by omega) e12
    have i2 : vp_in (24 * nI m + nI k) 120 := pk_in (24 * m + k) 120 (by omega) (qa_24 m k)
    have st2 : ∀ f : Nat → Int32, upd (cz_c f 96 (24 * m) k) (24 * nI m + nI k).toNatClampNeg (cz_c f 96 (24 * m) k (96 + nI k).toNatClampNeg) = cz_c f 96 (24 * m) (k + 1) := by
      intro f
      rw [qa_24, e12, nI_clamp (by omega), nI_clamp (by omega)]
      exact cz_c_s (K := 24) (by omega) (by omega) (cz_c_out (by omega))
    exact br_f (nI_ge (b := 24) (by omega) (by decide)) ⟨i1, i2, nm_r (st2 _) ⟨i1, i2, nm_r (st2 _) ⟨i1, i2, nm_r (st2 _) ⟨i1, i2, nm_r (st2 _) (nm_r (nI_1 k) (ih (k + 1) (by omega)))⟩⟩⟩⟩
theorem yk_define {m : Nat} (hm : m < 4) {post : Int32 → SY → Prop} (K : post (b_length 4) (g_depth, g_steps, g_result, g_outcome, g_load, g_over, (cz_c b_op 96 (24 * m) 24), (cz_c b_a 96 (24 * m) 24), (cz_c b_b 96 (24 * m) 24), (cz_c b_line 96 (24 * m) 24), (upd (upd b_length m (b_length 4)) 4 0), (cz_c b_from 12 (3 * m) 3), (cz_c b_to 12 (3 * m) 3), (cz_c b_at 12 (3 * m) 3), (upd (upd b_handlers m (b_handlers 4)) 4 0), (cz_z b_begun (24 * m) 24), (cz_z b_taken (96 * m) 96), (cz_z b_thrown (24 * m) 24), b_rowI, b_rowWay, b_rowLength, b_times, (upd b_told m 0), b_kOp, b_kA, b_kB, b_kLine, b_kLength, b_kFrom, b_kTo, b_kAt, b_kHandlers, b_kBegun, b_kTaken, b_kThrown, b_kept, b_method, b_pc, b_variable, b_hereI, b_hereWay, b_hereLength, b_into, b_kLoad, b_part)) : (wpY_define post (g_depth, g_steps, g_result, g_outcome, g_load, g_over, b_op, b_a, b_b, b_line, b_length, b_from, b_to, b_at, b_handlers, b_begun, b_taken, b_thrown, b_rowI, b_rowWay, b_rowLength, b_times, b_told, b_kOp, b_kA, b_kB, b_kLine, b_kLength, b_kFrom, b_kTo, b_kAt, b_kHandlers, b_kBegun, b_kTaken, b_kThrown, b_kept, b_method, b_pc, b_variable, b_hereI, b_hereWay, b_hereLength, b_into, b_kLoad, b_part) (nI m)) := by
  have h := yk_d12 hm K 24 0 rfl
  rw [cz_c_0, cz_c_0, cz_c_0, cz_c_0] at h
  exact br_f (nI_pos (by omega)) (br_f (nI_ge (b := 4) hm (by decide)) (br_f (by decide) ⟨25, h⟩))
end
end
section
/-! X: where ways lead -/
theorem qt_l {x : Int64} {t : Nat} (h : x.toInt = (t : Int)) : x = lN t := by
  have h0 : ¬ x < 0 := by
    rw [Int64.lt_iff_toInt_lt, h, show (0 : Int64).toInt = 0 from by decide]; omega
  obtain ⟨k, hk, rfl⟩ := pk_lOf h0
  rw [pk_lT hk] at h
  have : k = t := by omega
  rw [this]
section
variable {f_load : Int32} {f_depth : Int32} {f_begun : Int32} {f_outcome : Int32} {f_result : Int32} {a_op : (Nat → Int32)} {a_opA : (Nat → Int32)} {a_opB : (Nat → Int32)} {a_opLine : (Nat → Int32)} {a_length : (Nat → Int32)} {a_guards : (Nat → Int32)} {a_handlers : (Nat → Int32)} {a_kept : (Nat → Int32)} {a_keptLoad : (Nat → Int32)} {a_counter : (Nat → Int32)} {a_raised : (Nat → Int32)} {a_stopped : (Nat → Int32)} {a_caught : (Nat → Int32)} {a_unbegun : (Nat → Int32)} {a_leads : (Nat → Int32)} {a_counts : (Nat → Int32)} {a_adds : (Nat → Int64)} {a_goes : (Nat → Int64)} {a_needed : (Nat → Int32)} {a_known : (Nat → Int32)} {a_solved : (Nat → Int32)} {a_open : (Nat → Int32)} {a_unknown : (Nat → Int32)} {a_balance : (Nat → Int32)} {a_group : (Nat → Int32)} {a_first : (Nat → Int32)} {a_last : (Nat → Int32)} {a_sum : (Nat → Int64)} {a_often : (Nat → Int32)} {a_told : (Nat → Int32)} {a_method : (Nat → Int32)} {a_pc : (Nat → Int32)} {a_start : (Nat → Int32)} {a_here : (Nat → Int32)} {a_path : (Nat → Int64)} {a_coming : (Nat → Int64)} {a_variable : (Nat → Int32)} {g_depth : Int32} {g_steps : Int32} {g_result : Int32} {g_outcome : Int32} {g_load : Int32} {g_over : Int32} {b_op : (Nat → Int32)} {b_a : (Nat → Int32)} {b_b : (Nat → Int32)} {b_line : (Nat → Int32)} {b_length : (Nat → Int32)} {b_from : (Nat → Int32)} {b_to : (Nat → Int32)} {b_at : (Nat → Int32)} {b_handlers : (Nat → Int32)} {b_begun : (Nat → Int32)} {b_taken : (Nat → Int32)} {b_thrown : (Nat → Int32)} {b_rowI : (Nat → Int32)} {b_rowWay : (Nat → Int32)} {b_rowLength : (Nat → Int32)} {b_times : (Nat → Int32)} {b_told : (Nat → Int32)} {b_kOp : (Nat → Int32)} {b_kA : (Nat → Int32)} {b_kB : (Nat → Int32)} {b_kLine : (Nat → Int32)} {b_kLength : (Nat → Int32)} {b_kFrom : (Nat → Int32)} {b_kTo : (Nat → Int32)} {b_kAt : (Nat → Int32)} {b_kHandlers : (Nat → Int32)} {b_kBegun : (Nat → Int32)} {b_kTaken : (Nat → Int32)} {b_kThrown : (Nat → Int32)} {b_kept : (Nat → Int32)} {b_method : (Nat → Int32)} {b_pc : (Nat → Int32)} {b_variable : (Nat → Int32)} {b_hereI : (Nat → Int32)} {b_hereWay : (Nat → Int32)} {b_hereLength : (Nat → Int32)} {b_into : (Nat → Int32)} {b_kLoad : (Nat → Int32)} {b_part : (Nat → Int32)}
theorem qt_75 {m n : Nat} (hm : m < 4) (hn : n ≤ 24) (hl : a_length m = nI n) {x : Int64} {t : Int} (hx : x.toInt = t) {post : Int32 → Prop} (K : post (nI (if 0 ≤ t ∧ t < n then t.toNat else 24))) : (wX_target_75 post (nI m) x f_load f_depth f_begun f_outcome f_result a_op a_opA a_opB a_opLine a_length a_guards a_handlers a_kept a_keptLoad a_counter a_raised a_stopped a_caught a_unbegun a_leads a_counts a_adds a_goes a_needed a_known a_solved a_open a_unknown a_balance a_group a_first a_last a_sum a_often a_told a_method a_pc a_start a_here a_path a_coming a_variable) := by
  have z0 : (0 : Int64).toInt = 0 := by decide
  by_cases h0 : x < 0
  · have h1 : ¬ (0 ≤ t ∧ t < n) := by
      rw [Int64.lt_iff_toInt_lt, hx, z0] at h0; omega
    rw [if_neg h1] at K
    exact br_t h0 K
  · have h1 : 0 ≤ t := by
      rw [Int64.lt_iff_toInt_lt, hx, z0] at h0; omega
    refine br_f h0 ⟨pk_in m 17 (by omega), ?_⟩
    have e : a_length (nI m).toNatClampNeg = nI n := qa_r m rfl hl
    rw [e]
    have e2 : (nI n).toInt64.toInt = n := by rw [nI_l (by omega), lN_toInt (by omega)]
    by_cases h2 : t < n
    · rw [if_pos ⟨h1, h2⟩] at K
      refine br_t (by rw [Int64.lt_iff_toInt_lt, hx, e2]; exact h2) ?_
      have : x = lN t.toNat := qt_l (by rw [hx]; omega)
      rw [this, lN_i]; exact K
    · rw [if_neg (fun z => h2 z.2)] at K
      exact br_f (by rw [Int64.lt_iff_toInt_lt, hx, e2]; exact h2) K
theorem qt_target {m n i k : Nat} (hm : m < 4) (hn : n ≤ 24) (hi : i < n) (hk : k < 4) (hl : a_length m = nI n) {post : Int32 → Prop} (K : post (nI (pw_tgt n (fun j => a_op (24 * m + j)) (fun j => a_opB (24 * m + j)) i k))) : (wpX_target post (f_load, f_depth, f_begun, f_outcome, f_result, a_op, a_opA, a_opB, a_opLine, a_length, a_guards, a_handlers, a_kept, a_keptLoad, a_counter, a_raised, a_stopped, a_caught, a_unbegun, a_leads, a_counts, a_adds, a_goes, a_needed, a_known, a_solved, a_open, a_unknown, a_balance, a_group, a_first, a_last, a_sum, a_often, a_told, a_method, a_pc, a_start, a_here, a_path, a_coming, a_variable) (nI m) (nI i) (nI k)) := by
  have i1 : vp_in (24 * nI m + nI i) 408 := pk_in (24 * m + i) 408 (by omega) (qa_24 m i)
  have r1 : a_op (24 * nI m + nI i).toNatClampNeg = a_op (24 * m + i) := qa_rr _ (qa_24 m i)
  have r2 : a_opB (24 * nI m + nI i).toNatClampNeg = a_opB (24 * m + i) := qa_rr _ (qa_24 m i)
  refine ⟨i1, nm_r r1 ?_⟩
  unfold pw_tgt pw_t at K
  by_cases h9 : a_op (24 * m + i) = 9
  · rw [if_pos h9] at K
    exact br_t h9 K
  · rw [if_neg h9] at K
    refine br_f h9 (nm_e ?_)
    by_cases h4 : a_op (24 * m + i) = 4
    · refine br_t h4 ⟨i1, nm_r (congrArg Int32.toInt64 r2) ?_⟩
      simp only [if_pos h4] at K
      exact qt_75 hm hn hl (Int32.toInt_toInt64 _) K
    · refine br_f h4 ?_
      simp only [if_neg h4] at K
      by_cases h0 : k = 0
      · subst h0
        simp only [if_pos] at K
        refine br_t (nI_le (Nat.le_refl 0) (by decide)) (qt_75 hm hn hl (t := (i : Int) + 1) ?_ K)
        rw [nI_1, nI_l (by omega), lN_toInt (by omega)]; omega
      · simp only [if_neg h0] at K
        refine br_f (nI_nle (by omega) (by omega)) ⟨i1, nm_r (e' := (a_opB (24 * m + i)).toInt64 + (nI k).toInt64 - 1) (by rw [r2]) (qt_75 hm hn hl (t := (a_opB (24 * m + i)).toInt + k - 1) ?_ K)⟩
        have b1 := Int32.le_toInt (a_opB (24 * m + i))
        have b2 := Int32.toInt_lt (a_opB (24 * m + i))
        have ek : ((nI k).toInt64).toInt = k := by rw [nI_l (by omega), lN_toInt (by omega)]
        have e1 : (1 : Int64).toInt = 1 := by decide
        show ((a_opB (24 * m + i)).toInt64 + (nI k).toInt64 - 1).toInt = _
        rw [Int64.toInt_sub, Int64.toInt_add, Int32.toInt_toInt64, ek, e1, Int.bmod_eq_of_le (n := (a_opB (24 * m + i)).toInt + k) (by omega) (by omega), Int.bmod_eq_of_le (by omega) (by omega)]
end
/-- leads of a row up to way E -/
def xp_I (ld : Nat → Nat) (e : Nat) : Int32 := if ld e < 25 then nI (ld e) else -1
def xp_l (a : Nat → Int32) (ld : Nat → Nat) (m E : Nat) : Nat → Int32 := fun j => if 97 * m ≤ j ∧ j < 97 * m + 97 then (if j < 97 * m + E then xp_I ld (j - 97 * m) else -1) else a j
theorem xp_l_s {a : Nat → Int32} {ld : Nat → Nat} {m E : Nat} (hE : E < 97) : upd (xp_l a ld m E) (97 * m + E) (xp_I ld E) = xp_l a ld m (E + 1) := by
  funext j
  unfold upd xp_l
  by_cases c : j = 97 * m + E
  · rw [if_pos c, if_pos (by omega), if_pos (by omega), c, show 97 * m + E - 97 * m = E by omega]
  · rw [if_neg c]
    by_cases d : 97 * m ≤ j ∧ j < 97 * m + 97
    · rw [if_pos d, if_pos d]
      by_cases e : j < 97 * m + E
      · rw [if_pos e, if_pos (by omega)]
      · rw [if_neg e, if_neg (by omega)]
    · rw [if_neg d, if_neg d]
theorem xp_l_skip {a : Nat → Int32} {ld : Nat → Nat} {m E E' : Nat} (hE : E ≤ E') (h : ∀ e, E ≤ e → e < E' → e < 97 → ¬ ld e < 25) : xp_l a ld m E = xp_l a ld m E' := by
  funext j
  unfold xp_l
  by_cases d : 97 * m ≤ j ∧ j < 97 * m + 97
  · rw [if_pos d, if_pos d]
    by_cases e : j < 97 * m + E
    · rw [if_pos e, if_pos (by omega)]
    · rw [if_neg e]
      by_cases e' : j < 97 * m + E'
      · rw [if_pos e']
        exact (if_neg (h (j - 97 * m) (by omega) (by omega) (by omega))).symm
      · rw [if_neg e']
  · rw [if_neg d, if_neg d]
theorem qw_ways (o : Int32) {post : Int32 → Prop} (K : post (nI (pw_ways o))) : wpX_ways post o := by
  unfold wpX_ways
  unfold pw_ways at K
  by_cases h5 : o = 5
  · rw [if_pos h5] at K; exact br_t h5 K
  · rw [if_neg h5] at K
    refine br_f h5 ?_
    by_cases h6 : o = 6
    · rw [if_pos h6] at K; exact br_t h6 K
    · rw [if_neg h6] at K
      refine br_f h6 ?_
      by_cases h7 : o = 7
      · rw [if_pos h7] at K; exact br_t h7 K
      · rw [if_neg h7] at K
        refine br_f h7 ?_
        by_cases h10 : o = 10
        · rw [if_pos h10] at K; exact br_t h10 K
        · rw [if_neg h10] at K; exact br_f h10 K
theorem qw_waysY (o : Int32) {post : Int32 → Prop} (K : post (nI (pw_ways o))) : wpY_ways post o := by
  unfold wpY_ways
  unfold pw_ways at K
  by_cases h10 : o = 10
  · have a5 : ¬ o = 5 := by rw [h10]; decide
    have a6 : ¬ o = 6 := by rw [h10]; decide
    have a7 : ¬ o = 7 := by rw [h10]; decide
    rw [if_neg a5, if_neg a6, if_neg a7, if_pos h10] at K
    exact br_t h10 K
  · refine br_f h10 ?_
    by_cases h5 : o = 5
    · rw [if_pos h5] at K; exact br_t h5 K
    · rw [if_neg h5] at K
      refine br_f h5 ?_
      by_cases h6 : o = 6
      · rw [if_pos h6] at K; exact br_t h6 K
      · rw [if_neg h6] at K
        refine br_f h6 ?_
        by_cases h7 : o = 7
        · rw [if_pos h7] at K; exact br_t h7 K
        · rw [if_neg h7, if_neg h10] at K
          exact br_f h7 K
theorem qw_src {e : Nat} (he : e < 97) {post : Int32 → Prop} (K : post (nI (pw_src e))) : wpX_source post (nI e) := by
  unfold wpX_source
  unfold pw_src at K
  by_cases h : e = 0
  · rw [if_pos h] at K; subst h; exact br_t rfl K
  · rw [if_neg h] at K
    refine br_f (nI_ne0 (by omega) (by omega)) ⟨by decide, ?_⟩
    obtain ⟨d, rfl⟩ : ∃ d, e = d + 1 := ⟨e - 1, by omega⟩
    rw [nI_pred, show (4 : Int32) = nI 4 from rfl, pk_div (by omega) (by omega) (by omega)]
    exact K
end
section
/-! X: which ways have counters -/
theorem pg_lt (ld : Nat → Nat) : ∀ e p, p ≤ 24 → pg_g ld e p ≤ 24
  | 0, p, h => h
  | e + 1, p, h => by
    show (if ld e < 25 ∧ pg_g ld e p = pg_g ld e (pw_src e) then pg_g ld e (ld e) else pg_g ld e p) ≤ 24
    split
    · next c => exact pg_lt ld e (ld e) (by omega)
    · exact pg_lt ld e p h
def xp_g (g : Nat → Int32) (ld : Nat → Nat) (e : Nat) : Nat → Int32 := fun j => if j < 25 then nI (pg_g ld e j) else g j
def xp_h (g : Nat → Int32) (ld : Nat → Nat) (e q : Nat) : Nat → Int32 := fun j => if j < 25 then (if j < q then nI (pg_g ld (e + 1) j) else nI (pg_g ld e j)) else g j
def xp_i (g : Nat → Int32) (k : Nat) : Nat → Int32 := fun j => if j < k then nI j else g j
def xp_c (c : Nat → Int32) (ld : Nat → Nat) (m e : Nat) : Nat → Int32 := fun j => if 97 * m ≤ j ∧ j < 97 * m + e then nI (pg_cn ld (j - 97 * m)) else c j
theorem xp_c_s {c : Nat → Int32} {ld : Nat → Nat} {m e : Nat} : upd (xp_c c ld m e) (97 * m + e) (nI (pg_cn ld e)) = xp_c c ld m (e + 1) := by
  funext j
  unfold upd xp_c
  by_cases h : j = 97 * m + e
  · rw [if_pos h, if_pos (by omega), h, show 97 * m + e - 97 * m = e by omega]
  · rw [if_neg h]
    by_cases d : 97 * m ≤ j ∧ j < 97 * m + e
    · rw [if_pos d, if_pos (by omega)]
    · rw [if_neg d, if_neg (by omega)]
theorem xp_c_z {c : Nat → Int32} {ld : Nat → Nat} {m e : Nat} (hz : c (97 * m + e) = nI (pg_cn ld e)) : xp_c c ld m e = xp_c c ld m (e + 1) := by
  rw [← xp_c_s]
  funext j
  unfold upd
  by_cases h : j = 97 * m + e
  · rw [if_pos h, h, ← hz]
    exact if_neg (by omega)
  · rw [if_neg h]
theorem pg_cn_le (ld : Nat → Nat) (e : Nat) : pg_cn ld e ≤ 1 := by
  unfold pg_cn
  split <;> omega
theorem pg_cs_le (ld : Nat → Nat) : ∀ e, sn_N (pg_cn ld) e ≤ e
  | 0 => Nat.le_refl _
  | e + 1 => Nat.add_le_add (pg_cs_le ld e) (pg_cn_le ld e)
section
variable {f_load : Int32} {f_depth : Int32} {f_begun : Int32} {f_outcome : Int32} {f_result : Int32} {a_op : (Nat → Int32)} {a_opA : (Nat → Int32)} {a_opB : (Nat → Int32)} {a_opLine : (Nat → Int32)} {a_length : (Nat → Int32)} {a_guards : (Nat → Int32)} {a_handlers : (Nat → Int32)} {a_kept : (Nat → Int32)} {a_keptLoad : (Nat → Int32)} {a_counter : (Nat → Int32)} {a_raised : (Nat → Int32)} {a_stopped : (Nat → Int32)} {a_caught : (Nat → Int32)} {a_unbegun : (Nat → Int32)} {a_leads : (Nat → Int32)} {a_counts : (Nat → Int32)} {a_adds : (Nat → Int64)} {a_goes : (Nat → Int64)} {a_needed : (Nat → Int32)} {a_known : (Nat → Int32)} {a_solved : (Nat → Int32)} {a_open : (Nat → Int32)} {a_unknown : (Nat → Int32)} {a_balance : (Nat → Int32)} {a_group : (Nat → Int32)} {a_first : (Nat → Int32)} {a_last : (Nat → Int32)} {a_sum : (Nat → Int64)} {a_often : (Nat → Int32)} {a_told : (Nat → Int32)} {a_method : (Nat → Int32)} {a_pc : (Nat → Int32)} {a_start : (Nat → Int32)} {a_here : (Nat → Int32)} {a_path : (Nat → Int64)} {a_coming : (Nat → Int64)} {a_variable : (Nat → Int32)} {g_depth : Int32} {g_steps : Int32} {g_result : Int32} {g_outcome : Int32} {g_load : Int32} {g_over : Int32} {b_op : (Nat → Int32)} {b_a : (Nat → Int32)} {b_b : (Nat → Int32)} {b_line : (Nat → Int32)} {b_length : (Nat → Int32)} {b_from : (Nat → Int32)} {b_to : (Nat → Int32)} {b_at : (Nat → Int32)} {b_handlers : (Nat → Int32)} {b_begun : (Nat → Int32)} {b_taken : (Nat → Int32)} {b_thrown : (Nat → Int32)} {b_rowI : (Nat → Int32)} {b_rowWay : (Nat → Int32)} {b_rowLength : (Nat → Int32)} {b_times : (Nat → Int32)} {b_told : (Nat → Int32)} {b_kOp : (Nat → Int32)} {b_kA : (Nat → Int32)} {b_kB : (Nat → Int32)} {b_kLine : (Nat → Int32)} {b_kLength : (Nat → Int32)} {b_kFrom : (Nat → Int32)} {b_kTo : (Nat → Int32)} {b_kAt : (Nat → Int32)} {b_kHandlers : (Nat → Int32)} {b_kBegun : (Nat → Int32)} {b_kTaken : (Nat → Int32)} {b_kThrown : (Nat → Int32)} {b_kept : (Nat → Int32)} {b_method : (Nat → Int32)} {b_pc : (Nat → Int32)} {b_variable : (Nat → Int32)} {b_hereI : (Nat → Int32)} {b_hereWay : (Nat → Int32)} {b_hereLength : (Nat → Int32)} {b_into : (Nat → Int32)} {b_kLoad : (Nat → Int32)} {b_part : (Nat → Int32)}
/-- relabelling -/
theorem xk_s119 {ld : Nat → Nat} {m e x2 : Nat} {g : Nat → Int32} {post : SX → Prop} {J : Int32 → (Nat → Int32) → (Nat → Int32) → (Nat → Int32) → (Nat → Int32) → (Nat → Int32) → (Nat → Int32) → (Nat → Int32) → (Nat → Int32) → (Nat → Int32) → (Nat → Int32) → (Nat → Int32) → (Nat → Int32) → (Nat → Int32) → (Nat → Int32) → (Nat → Int32) → (Nat → Int32) → (Nat → Int64) → (Nat → Int64) → (Nat → Int32) → (Nat → Int32) → (Nat → Int32) → (Nat → Int32) → (Nat → Int32) → (Nat → Int32) → (Nat → Int32) → (Nat → Int32) → (Nat → Int32) → (Nat → Int64) → (Nat → Int32) → (Nat → Int32) → (Nat → Int32) → (Nat → Int32) → (Nat → Int32) → (Nat → Int32) → (Nat → Int64) → (Nat → Int64) → (Nat → Int32) → Prop} (hv : ld e < 25) (hj : ¬ pg_g ld e (pw_src e) = pg_g ld e (ld e)) (hs : pw_src e ≤ 24)
    (K : J (nI (x2 + 1)) a_op a_opA a_opB a_opLine a_length a_guards a_handlers a_kept a_keptLoad a_counter a_raised a_stopped a_caught a_unbegun a_leads a_counts a_adds a_goes a_needed a_known a_solved a_open a_unknown a_balance (xp_g g ld (e + 1)) a_first a_last a_sum a_often a_told a_method a_pc a_start a_here a_path a_coming a_variable) :
    ∀ d q, q + d = 25 → (wX_span_119 post J (nI m) (nI x2) (nI (pg_g ld e (pw_src e))) (nI (pg_g ld e (ld e))) f_load f_depth f_begun f_outcome f_result (d + 1) (nI q) a_op a_opA a_opB a_opLine a_length a_guards a_handlers a_kept a_keptLoad a_counter a_raised a_stopped a_caught a_unbegun a_leads a_counts a_adds a_goes a_needed a_known a_solved a_open a_unknown a_balance (xp_h g ld e q) a_first a_last a_sum a_often a_told a_method a_pc a_start a_here a_path a_coming a_variable) := by
  have la := pg_lt ld e (pw_src e) hs
  have lb := pg_lt ld e (ld e) (by omega)
  intro d
  induction d with
  | zero =>
    intro q hq
    obtain rfl : q = 25 := by omega
    refine br_t (nI_le (b := 25) (Nat.le_refl 25) (by decide)) (nm_r (nI_1 x2) ?_)
    have e1 : xp_h g ld e 25 = xp_g g ld (e + 1) := by
      funext j
      unfold xp_h xp_g
      by_cases c : j < 25
      · rw [if_pos c, if_pos c, if_pos c]
      · rw [if_neg c, if_neg c]
    rw [e1]; exact K
  | succ d ih =>
    intro q hq
    have lq := pg_lt ld e q (by omega)
    refine br_f (nI_ge (b := 25) (by omega) (by decide)) (br_f (fun z => hj ((nI_eq (by omega) (by omega)).mp z)) ⟨pk_in q 25 (by omega), ?_⟩)
    have rq : xp_h g ld e q q = nI (pg_g ld e q) := by
      unfold xp_h
      rw [if_pos (by omega), if_neg (by omega)]
    have rq' : xp_h g ld e q (nI q).toNatClampNeg = nI (pg_g ld e q) := qa_r q rfl rq
    have h1 := ih (q + 1) (by omega)
    by_cases c : pg_g ld e q = pg_g ld e (pw_src e)
    · refine br_t (by rw [rq', c]) ⟨pk_in q 25 (by omega), nm_r (e' := xp_h g ld e (q + 1)) ?_ (nm_r (nI_1 q) h1)⟩
      rw [qa_bb (by omega), nI_clamp (by omega)]
      funext j
      show upd (xp_h g ld e q) q _ j = _
      unfold upd xp_h
      by_cases cj : j = q
      · rw [if_pos cj, if_pos (by omega), if_pos (by omega), cj]
        show nI (pg_g ld e (ld e)) = nI (if ld e < 25 ∧ pg_g ld e q = pg_g ld e (pw_src e) then pg_g ld e (ld e) else pg_g ld e q)
        rw [if_pos ⟨hv, c⟩]
      · rw [if_neg cj]
        by_cases c25 : j < 25
        · rw [if_pos c25, if_pos c25]
          by_cases cq : j < q
          · rw [if_pos cq, if_pos (by omega)]
          · rw [if_neg cq, if_neg (by omega)]
        · rw [if_neg c25, if_neg c25]
    · refine br_f (fun z => c ((nI_eq (by omega) (by omega)).mp (rq'.symm.trans z))) (nm_r (nI_1 q) ?_)
      have e1 : xp_h g ld e q = xp_h g ld e (q + 1) := by
        funext j
        unfold xp_h
        by_cases c25 : j < 25
        · rw [if_pos c25, if_pos c25]
          by_cases cq : j < q
          · rw [if_pos cq, if_pos (by omega)]
          · rw [if_neg cq]
            by_cases cq1 : j < q + 1
            · rw [if_pos cq1]
              obtain rfl : j = q := by omega
              show nI (pg_g ld e j) = nI (if ld e < 25 ∧ pg_g ld e j = pg_g ld e (pw_src e) then pg_g ld e (ld e) else pg_g ld e j)
              rw [if_neg (fun z => c z.2)]
            · rw [if_neg cq1]
        · rw [if_neg c25, if_neg c25]
      rw [e1]; exact h1
theorem xk_s31 {ld : Nat → Nat} {m : Nat} (hm : m < 4) (hl : ∀ e, e < 97 → a_leads (97 * m + e) = xp_I ld e) (hc : ∀ e, e < 97 → a_counts (97 * m + e) = 0) {post : SX → Prop} (K : post (f_load, f_depth, f_begun, f_outcome, f_result, a_op, a_opA, a_opB, a_opLine, a_length, a_guards, a_handlers, a_kept, a_keptLoad, a_counter, a_raised, a_stopped, a_caught, a_unbegun, a_leads, (xp_c a_counts ld m 97), a_adds, a_goes, (upd a_needed m (nI (sn_N (pg_cn ld) 97))), a_known, a_solved, a_open, a_unknown, a_balance, (xp_g a_group ld 97), a_first, a_last, a_sum, a_often, a_told, a_method, a_pc, a_start, a_here, a_path, a_coming, a_variable)) :
    ∀ d e, e + d = 97 → (wX_span_31 post (nI m) f_load f_depth f_begun f_outcome f_result (d + 1) (nI e) a_op a_opA a_opB a_opLine a_length a_guards a_handlers a_kept a_keptLoad a_counter a_raised a_stopped a_caught a_unbegun a_leads (xp_c a_counts ld m e) a_adds a_goes (upd a_needed m (nI (sn_N (pg_cn ld) e))) a_known a_solved a_open a_unknown a_balance (xp_g a_group ld e) a_first a_last a_sum a_often a_told a_method a_pc a_start a_here a_path a_coming a_variable) := by
  intro d
  induction d with
  | zero =>
    intro e he
    obtain rfl : e = 97 := by omega
    exact br_t (nI_le (b := 97) (Nat.le_refl 97) (by decide)) K
  | succ d ih =>
    intro e he
    have h1 := ih (e + 1) (by omega)
    have i1 : vp_in (97 * nI m + nI e) 388 := pk_in (97 * m + e) 388 (by omega) (qa_97 m e)
    have rl : a_leads (97 * nI m + nI e).toNatClampNeg = xp_I ld e := qa_r (97 * m + e) (qa_97 m e) (hl e (by omega))
    refine br_f (nI_ge (b := 97) (by omega) (by decide)) ⟨i1, nm_r rl ?_⟩
    unfold xp_I
    by_cases hv : ld e < 25
    · rw [if_pos hv]
      have hs := pw_src_le (e := e) (by omega)
      have la := pg_lt ld e (pw_src e) hs
      have lb := pg_lt ld e (ld e) (by omega)
      have r1 : xp_g a_group ld e (nI (pw_src e)).toNatClampNeg = nI (pg_g ld e (pw_src e)) := qa_r (pw_src e) rfl (if_pos (by omega))
      have r2 : xp_g a_group ld e (nI (ld e)).toNatClampNeg = nI (pg_g ld e (ld e)) := qa_r (ld e) rfl (if_pos (by omega))
      refine br_t (nI_pos' (by omega)) (qw_src (by omega) ⟨pk_in (pw_src e) 25 (by omega), nm_r r1 ⟨pk_in (ld e) 25 (by omega), nm_r r2 ?_⟩⟩)
      have im : vp_in (nI m) 4 := pk_in m 4 hm
      have ec : ∀ z : Int32, z = nI (pg_cn ld e) → upd (xp_c a_counts ld m e) (97 * nI m + nI e).toNatClampNeg z = xp_c a_counts ld m (e + 1) := by
        intro z hz
        rw [qa_97, nI_clamp (by omega), hz]
        exact xp_c_s
      by_cases c : pg_g ld e (pw_src e) = pg_g ld e (ld e)
      · have e1 : pg_cn ld e = 1 := if_pos ⟨hv, c⟩
        have sle := pg_cs_le ld e
        refine br_t (by rw [c]) ?_
        refine ⟨i1, nm_r (ec _ (by rw [qa_z1, e1]; rfl)) (br_t (by rw [c]) ⟨im, im, nm_r (e' := upd a_needed m (nI (sn_N (pg_cn ld) (e + 1)))) ?_ ⟨26, ?_⟩⟩)⟩
        · rw [nI_clamp (by omega)]
          show upd (upd a_needed m (nI (sn_N (pg_cn ld) e))) m (vp_nar .byte (upd a_needed m (nI (sn_N (pg_cn ld) e)) m + 1).toInt8.toInt32) = upd a_needed m (nI (sn_N (pg_cn ld) e + pg_cn ld e))
          rw [pk_us, nI_1, qa_bb (by omega), e1]
          funext j
          unfold upd
          by_cases cj : j = m
          · rw [if_pos cj, if_pos cj]
          · rw [if_neg cj, if_neg cj, if_neg cj]
        · refine br_f (nI_ge (a := 0) (b := 25) (by decide) (by decide)) (br_t (by rw [c]) (nm_r (nI_1 e) ?_))
          have eg : xp_g a_group ld e = xp_g a_group ld (e + 1) := by
            funext j
            unfold xp_g
            by_cases cj : j < 25
            · rw [if_pos cj, if_pos cj]
              show nI (pg_g ld e j) = nI (if ld e < 25 ∧ pg_g ld e j = pg_g ld e (pw_src e) then pg_g ld e (ld e) else pg_g ld e j)
              by_cases cc : ld e < 25 ∧ pg_g ld e j = pg_g ld e (pw_src e)
              · rw [if_pos cc, cc.2, c]
              · rw [if_neg cc]
            · rw [if_neg cj, if_neg cj]
          have h2 : (wX_span_31 post (nI m) f_load f_depth f_begun f_outcome f_result (d + 1) (nI (e + 1)) a_op a_opA a_opB a_opLine a_length a_guards a_handlers a_kept a_keptLoad a_counter a_raised a_stopped a_caught a_unbegun a_leads (xp_c a_counts ld m (e + 1)) a_adds a_goes (upd a_needed m (nI (sn_N (pg_cn ld) (e + 1)))) a_known a_solved a_open a_unknown a_balance (xp_g a_group ld (e + 1)) a_first a_last a_sum a_often a_told a_method a_pc a_start a_here a_path a_coming a_variable) := h1
          rw [← eg] at h2
          exact h2
      · have e1 : pg_cn ld e = 0 := if_neg (fun z => c z.2)
        have ne : ¬ nI (pg_g ld e (pw_src e)) = nI (pg_g ld e (ld e)) := fun z => c ((nI_eq (by omega) (by omega)).mp z)
        refine br_f ne ?_
        refine ⟨i1, nm_r (ec _ (by rw [qa_z0, e1]; rfl)) (br_f ne ⟨26, ?_⟩)⟩
        have e0 : xp_h a_group ld e 0 = xp_g a_group ld e := by
          funext j
          unfold xp_h xp_g
          by_cases cj : j < 25
          · rw [if_pos cj, if_pos cj, if_neg (by omega)]
          · rw [if_neg cj, if_neg cj]
        have es : sn_N (pg_cn ld) (e + 1) = sn_N (pg_cn ld) e := by
          show sn_N (pg_cn ld) e + pg_cn ld e = _
          rw [e1]; rfl
        have h2 : (wX_span_31 post (nI m) f_load f_depth f_begun f_outcome f_result (d + 1) (nI (e + 1)) a_op a_opA a_opB a_opLine a_length a_guards a_handlers a_kept a_keptLoad a_counter a_raised a_stopped a_caught a_unbegun a_leads (xp_c a_counts ld m (e + 1)) a_adds a_goes (upd a_needed m (nI (sn_N (pg_cn ld) (e + 1)))) a_known a_solved a_open a_unknown a_balance (xp_g a_group ld (e + 1)) a_first a_last a_sum a_often a_told a_method a_pc a_start a_here a_path a_coming a_variable) := h1
        rw [es] at h2
        have h3 := xk_s119 (f_load := f_load) (f_depth := f_depth) (f_begun := f_begun) (f_outcome := f_outcome) (f_result := f_result) (m := m) (post := post) (J := wX_span_31 post (nI m) f_load f_depth f_begun f_outcome f_result (d + 1)) hv c hs h2 25 0 rfl
        rw [e0] at h3
        exact h3
    · rw [if_neg hv]
      refine br_f (by decide) (nm_r (nI_1 e) ?_)
      have e1 : pg_cn ld e = 0 := if_neg (fun z => hv z.1)
      have es : sn_N (pg_cn ld) (e + 1) = sn_N (pg_cn ld) e := by
        show sn_N (pg_cn ld) e + pg_cn ld e = _
        rw [e1]; rfl
      have ec : xp_c a_counts ld m e = xp_c a_counts ld m (e + 1) := xp_c_z (by rw [hc e (by omega), e1]; rfl)
      have eg : xp_g a_group ld (e + 1) = xp_g a_group ld e := by
        funext j
        unfold xp_g
        by_cases cj : j < 25
        · rw [if_pos cj, if_pos cj]
          show nI (if ld e < 25 ∧ pg_g ld e j = pg_g ld e (pw_src e) then pg_g ld e (ld e) else pg_g ld e j) = _
          rw [if_neg (fun z => hv z.1)]
        · rw [if_neg cj, if_neg cj]
      rw [es, eg, ← ec] at h1
      exact h1
theorem xk_span {ld : Nat → Nat} {m : Nat} (hm : m < 4) (hl : ∀ e, e < 97 → a_leads (97 * m + e) = xp_I ld e) (hc : ∀ e, e < 97 → a_counts (97 * m + e) = 0) {post : SX → Prop} (K : post (f_load, f_depth, f_begun, f_outcome, f_result, a_op, a_opA, a_opB, a_opLine, a_length, a_guards, a_handlers, a_kept, a_keptLoad, a_counter, a_raised, a_stopped, a_caught, a_unbegun, a_leads, (xp_c a_counts ld m 97), a_adds, a_goes, (upd a_needed m (nI (sn_N (pg_cn ld) 97))), a_known, a_solved, a_open, a_unknown, a_balance, (xp_g a_group ld 97), a_first, a_last, a_sum, a_often, a_told, a_method, a_pc, a_start, a_here, a_path, a_coming, a_variable)) : (wpX_span post (f_load, f_depth, f_begun, f_outcome, f_result, a_op, a_opA, a_opB, a_opLine, a_length, a_guards, a_handlers, a_kept, a_keptLoad, a_counter, a_raised, a_stopped, a_caught, a_unbegun, a_leads, a_counts, a_adds, a_goes, a_needed, a_known, a_solved, a_open, a_unknown, a_balance, a_group, a_first, a_last, a_sum, a_often, a_told, a_method, a_pc, a_start, a_here, a_path, a_coming, a_variable) (nI m)) := by
  refine ⟨pk_in m 4 hm, nm_r (e' := upd a_needed m (nI 0)) (by rw [nI_clamp (by omega), qa_b0]; rfl) ⟨26, ?_⟩⟩
  have main : ∀ d k, k + d = 25 → (wX_span_9 post (nI m) f_load f_depth f_begun f_outcome f_result (d + 1) (nI k) a_op a_opA a_opB a_opLine a_length a_guards a_handlers a_kept a_keptLoad a_counter a_raised a_stopped a_caught a_unbegun a_leads a_counts a_adds a_goes (upd a_needed m (nI 0)) a_known a_solved a_open a_unknown a_balance (xp_i a_group k) a_first a_last a_sum a_often a_told a_method a_pc a_start a_here a_path a_coming a_variable) := by
    intro d
    induction d with
    | zero =>
      intro k hk
      obtain rfl : k = 25 := by omega
      refine br_t (nI_le (b := 25) (Nat.le_refl 25) (by decide)) ⟨98, ?_⟩
      have h1 := xk_s31 hm hl hc K 97 0 rfl
      have e1 : xp_c a_counts ld m 0 = a_counts := by
        funext j
        exact if_neg (by omega)
      have e2 : xp_g a_group ld 0 = xp_i a_group 25 := rfl
      rw [e1, e2] at h1
      exact h1
    | succ d ih =>
      intro k hk
      refine br_f (nI_ge (b := 25) (by omega) (by decide)) ⟨pk_in k 25 (by omega), nm_r (e' := xp_i a_group (k + 1)) ?_ (nm_r (nI_1 k) (ih (k + 1) (by omega)))⟩
      rw [qa_bb (by omega), nI_clamp (by omega)]
      funext j
      show upd (xp_i a_group k) k (nI k) j = _
      unfold upd xp_i
      by_cases cj : j = k
      · rw [if_pos cj, if_pos (by omega), cj]
      · rw [if_neg cj]
        by_cases c2 : j < k
        · rw [if_pos c2, if_pos (by omega)]
        · rw [if_neg c2, if_neg (by omega)]
  have h := main 25 0 rfl
  have e0 : xp_i a_group 0 = a_group := by
    funext j
    exact if_neg (by omega)
  rw [e0] at h
  exact h
end
end
section
/-! X: numbers of stretches; plan -/
def pn_s (ld : Nat → Nat) (gz : Nat → Nat) (i : Nat) : Nat → Nat
  | 0 => 0
  | k + 1 => pn_s ld gz i k + (if i < ld (1 + 4 * i + k) ∧ ld (1 + 4 * i + k) < 24 then gz (ld (1 + 4 * i + k)) else 0)
theorem pn_mono (ld : Nat → Nat) (gz : Nat → Nat) (i k : Nat) : ∀ d, pn_s ld gz i k ≤ pn_s ld gz i (k + d)
  | 0 => Nat.le_refl _
  | d + 1 => Nat.le_trans (pn_mono ld gz i k d) (Nat.le_add_right _ _)
theorem pn_fw {ld : Nat → Nat} {gz : Nat → Nat} {i k k' : Nat} (f : pt_fw ld i k) (h : k < k') : pn_s ld gz i k + gz (ld (1 + 4 * i + k)) ≤ pn_s ld gz i k' := by
  have h1 : pn_s ld gz i (k + 1) = pn_s ld gz i k + gz (ld (1 + 4 * i + k)) := by
    show _ + (if _ then _ else _) = _
    rw [if_pos (show i < ld (1 + 4 * i + k) ∧ ld (1 + 4 * i + k) < 24 from f)]
  have h2 := pn_mono ld gz i (k + 1) (k' - (k + 1))
  rw [show k + 1 + (k' - (k + 1)) = k' by omega] at h2
  omega
theorem pn_le {ld : Nat → Nat} {gz : Nat → Nat} {i B : Nat} (h : ∀ k, k < 4 → pt_fw ld i k → gz (ld (1 + 4 * i + k)) ≤ B) : ∀ k, k ≤ 4 → pn_s ld gz i k ≤ k * B
  | 0, _ => Nat.zero_le _
  | k + 1, hk => by
    have h1 := pn_le h k (by omega)
    show pn_s ld gz i k + (if _ then _ else _) ≤ _
    rw [Nat.succ_mul k B]
    by_cases c : i < ld (1 + 4 * i + k) ∧ ld (1 + 4 * i + k) < 24
    · rw [if_pos c]; exact Nat.add_le_add h1 (h k (by omega) c)
    · rw [if_neg c]; omega
/-- one instruction's numbers -/
def xn_1 (ld : Nat → Nat) (n m : Nat) (ads gos : Nat → Int64) (gz : Nat → Nat) (az : Nat → Nat → Nat) (i : Nat) : Prop :=
  gos (24 * m + i) = lN (gz i) ∧ 1 ≤ gz i ∧ gz i ≤ 4 ^ (n - i) ∧ (∀ k, k < 4 → pt_fw ld i k → az i k + gz (ld (1 + 4 * i + k)) ≤ gz i) ∧ (∀ k k', k < k' → k' < 4 → pt_fw ld i k → az i k + gz (ld (1 + 4 * i + k)) ≤ az i k') ∧
  ∀ k, k < 4 → ads (97 * m + (1 + 4 * i + k)) = lN (az i k) ∧ az i k ≤ 4 ^ (n - i)
def xn_ok (ld : Nat → Nat) (n m : Nat) (ads0 ads gos : Nat → Int64) (d : Nat) : Prop := (∃ gz az, ∀ i, d ≤ i → i < n → xn_1 ld n m ads gos gz az i) ∧ ∀ j, (j < 97 * m ∨ 97 * m + 97 ≤ j) → ads j = ads0 j
def xp_a (ads : Nat → Int64) (ld gz : Nat → Nat) (m i k : Nat) : Nat → Int64 := fun j => if 97 * m + (1 + 4 * i) ≤ j ∧ j < 97 * m + (1 + 4 * i) + k then lN (pn_s ld gz i (j - (97 * m + (1 + 4 * i)))) else ads j
theorem xp_a_s {ads : Nat → Int64} {ld gz : Nat → Nat} {m i k : Nat} : vp_updL (xp_a ads ld gz m i k) (97 * m + (1 + 4 * i + k)) (lN (pn_s ld gz i k)) = xp_a ads ld gz m i (k + 1) := by
  funext j
  unfold vp_updL xp_a
  by_cases h : j = 97 * m + (1 + 4 * i + k)
  · rw [if_pos h, if_pos (by omega), h, show 97 * m + (1 + 4 * i + k) - (97 * m + (1 + 4 * i)) = k by omega]
  · rw [if_neg h]
    by_cases d : 97 * m + (1 + 4 * i) ≤ j ∧ j < 97 * m + (1 + 4 * i) + k
    · rw [if_pos d, if_pos (by omega)]
    · rw [if_neg d, if_neg (by omega)]
theorem pn_4le {a b : Nat} (h : a ≤ b) : 4 ^ a ≤ 4 ^ b := Nat.pow_le_pow_right (by decide) h
theorem pn_424 {a : Nat} (h : a ≤ 24) : 4 ^ a ≤ 2 ^ 48 := Nat.le_trans (pn_4le h) (by decide)
section
variable {f_load : Int32} {f_depth : Int32} {f_begun : Int32} {f_outcome : Int32} {f_result : Int32} {a_op : (Nat → Int32)} {a_opA : (Nat → Int32)} {a_opB : (Nat → Int32)} {a_opLine : (Nat → Int32)} {a_length : (Nat → Int32)} {a_guards : (Nat → Int32)} {a_handlers : (Nat → Int32)} {a_kept : (Nat → Int32)} {a_keptLoad : (Nat → Int32)} {a_counter : (Nat → Int32)} {a_raised : (Nat → Int32)} {a_stopped : (Nat → Int32)} {a_caught : (Nat → Int32)} {a_unbegun : (Nat → Int32)} {a_leads : (Nat → Int32)} {a_counts : (Nat → Int32)} {a_adds : (Nat → Int64)} {a_goes : (Nat → Int64)} {a_needed : (Nat → Int32)} {a_known : (Nat → Int32)} {a_solved : (Nat → Int32)} {a_open : (Nat → Int32)} {a_unknown : (Nat → Int32)} {a_balance : (Nat → Int32)} {a_group : (Nat → Int32)} {a_first : (Nat → Int32)} {a_last : (Nat → Int32)} {a_sum : (Nat → Int64)} {a_often : (Nat → Int32)} {a_told : (Nat → Int32)} {a_method : (Nat → Int32)} {a_pc : (Nat → Int32)} {a_start : (Nat → Int32)} {a_here : (Nat → Int32)} {a_path : (Nat → Int64)} {a_coming : (Nat → Int64)} {a_variable : (Nat → Int32)} {g_depth : Int32} {g_steps : Int32} {g_result : Int32} {g_outcome : Int32} {g_load : Int32} {g_over : Int32} {b_op : (Nat → Int32)} {b_a : (Nat → Int32)} {b_b : (Nat → Int32)} {b_line : (Nat → Int32)} {b_length : (Nat → Int32)} {b_from : (Nat → Int32)} {b_to : (Nat → Int32)} {b_at : (Nat → Int32)} {b_handlers : (Nat → Int32)} {b_begun : (Nat → Int32)} {b_taken : (Nat → Int32)} {b_thrown : (Nat → Int32)} {b_rowI : (Nat → Int32)} {b_rowWay : (Nat → Int32)} {b_rowLength : (Nat → Int32)} {b_times : (Nat → Int32)} {b_told : (Nat → Int32)} {b_kOp : (Nat → Int32)} {b_kA : (Nat → Int32)} {b_kB : (Nat → Int32)} {b_kLine : (Nat → Int32)} {b_kLength : (Nat → Int32)} {b_kFrom : (Nat → Int32)} {b_kTo : (Nat → Int32)} {b_kAt : (Nat → Int32)} {b_kHandlers : (Nat → Int32)} {b_kBegun : (Nat → Int32)} {b_kTaken : (Nat → Int32)} {b_kThrown : (Nat → Int32)} {b_kept : (Nat → Int32)} {b_method : (Nat → Int32)} {b_pc : (Nat → Int32)} {b_variable : (Nat → Int32)} {b_hereI : (Nat → Int32)} {b_hereWay : (Nat → Int32)} {b_hereLength : (Nat → Int32)} {b_into : (Nat → Int32)} {b_kLoad : (Nat → Int32)} {b_part : (Nat → Int32)}
theorem xk_n14 {ld : Nat → Nat} {m n i : Nat} {ads gos : Nat → Int64} {gz : Nat → Nat} {post : SX → Prop} {J : Int32 → (Nat → Int32) → (Nat → Int32) → (Nat → Int32) → (Nat → Int32) → (Nat → Int32) → (Nat → Int32) → (Nat → Int32) → (Nat → Int32) → (Nat → Int32) → (Nat → Int32) → (Nat → Int32) → (Nat → Int32) → (Nat → Int32) → (Nat → Int32) → (Nat → Int32) → (Nat → Int32) → (Nat → Int64) → (Nat → Int64) → (Nat → Int32) → (Nat → Int32) → (Nat → Int32) → (Nat → Int32) → (Nat → Int32) → (Nat → Int32) → (Nat → Int32) → (Nat → Int32) → (Nat → Int32) → (Nat → Int64) → (Nat → Int32) → (Nat → Int32) → (Nat → Int32) → (Nat → Int32) → (Nat → Int32) → (Nat → Int32) → (Nat → Int64) → (Nat → Int64) → (Nat → Int32) → Prop} (hm : m < 4) (hn : n ≤ 24) (hi : i < n)
    (hl : ∀ e, e < 97 → a_leads (97 * m + e) = xp_I ld e) (hld : ∀ e, ld e < 24 → ld e < n) (hg : ∀ t, i < t → t < n → gos (24 * m + t) = lN (gz t) ∧ gz t ≤ 4 ^ (n - t))
    (K : J (nI i + (-1)) a_op a_opA a_opB a_opLine a_length a_guards a_handlers a_kept a_keptLoad a_counter a_raised a_stopped a_caught a_unbegun a_leads a_counts (xp_a ads ld gz m i 4) (vp_updL gos (24 * m + i) (lN (if 1 ≤ pn_s ld gz i 4 then pn_s ld gz i 4 else 1))) a_needed a_known a_solved a_open a_unknown a_balance a_group a_first a_last a_sum a_often a_told a_method a_pc a_start a_here a_path a_coming a_variable) :
    ∀ d k, k + d = 4 → (wX_number_14 post J (nI m) (nI i) f_load f_depth f_begun f_outcome f_result (d + 1) (lN (pn_s ld gz i k)) (nI k) a_op a_opA a_opB a_opLine a_length a_guards a_handlers a_kept a_keptLoad a_counter a_raised a_stopped a_caught a_unbegun a_leads a_counts (xp_a ads ld gz m i k) gos a_needed a_known a_solved a_open a_unknown a_balance a_group a_first a_last a_sum a_often a_told a_method a_pc a_start a_here a_path a_coming a_variable) := by
  have hB : ∀ k, k < 4 → pt_fw ld i k → gz (ld (1 + 4 * i + k)) ≤ 4 ^ (n - i - 1) := by
    intro k hk f
    have := hld _ f.2
    exact Nat.le_trans (hg _ f.1 this).2 (pn_4le (by have := f.1; omega))
  have hS : ∀ k, k ≤ 4 → pn_s ld gz i k ≤ 2 ^ 48 := by
    intro k hk
    have h1 := pn_le hB k hk
    have h2 : 4 ^ (n - i - 1 + 1) ≤ 2 ^ 48 := pn_424 (by omega)
    rw [Nat.pow_succ] at h2
    have h3 : k * 4 ^ (n - i - 1) ≤ 4 * 4 ^ (n - i - 1) := Nat.mul_le_mul_right _ hk
    omega
  intro d
  induction d with
  | zero =>
    intro k hk
    obtain rfl : k = 4 := by omega
    have i1 : vp_in (24 * nI m + nI i) 96 := pk_in (24 * m + i) 96 (by omega) (qa_24 m i)
    refine br_t (nI_le (b := 4) (Nat.le_refl 4) (by decide)) ?_
    have s4 := hS 4 (Nat.le_refl _)
    by_cases c : 1 ≤ pn_s ld gz i 4
    · rw [if_pos c] at K
      refine br_t ((pk_lLE (a := 1) (by omega) (by omega)).mpr c) ⟨i1, nm_r (e' := vp_updL gos (24 * m + i) (lN (pn_s ld gz i 4))) ?_ (nm_e K)⟩
      rw [qa_24, nI_clamp (by omega)] <;> rfl
    · rw [if_neg c] at K
      refine br_f (fun z => c ((pk_lLE (a := 1) (by omega) (by omega)).mp z)) ⟨i1, nm_r (e' := vp_updL gos (24 * m + i) (lN 1)) ?_ (nm_e K)⟩
      rw [qa_24, nI_clamp (by omega)] <;> rfl
  | succ d ih =>
    intro k hk
    have h1 := ih (k + 1) (by omega)
    have i1 : vp_in (nI (97 * m + (1 + 4 * i + k))) 388 := pk_in (97 * m + (1 + 4 * i + k)) 388 (by omega)
    have e1 : vp_updL (xp_a ads ld gz m i k) (nI (97 * m + (1 + 4 * i + k))).toNatClampNeg (lN (pn_s ld gz i k)) = xp_a ads ld gz m i (k + 1) := by
      rw [nI_clamp (by omega)]; exact xp_a_s
    have rl : a_leads (nI (97 * m + (1 + 4 * i + k))).toNatClampNeg = xp_I ld (1 + 4 * i + k) := qa_r _ rfl (hl _ (by omega))
    have es : pn_s ld gz i (k + 1) = pn_s ld gz i k + (if i < ld (1 + 4 * i + k) ∧ ld (1 + 4 * i + k) < 24 then gz (ld (1 + 4 * i + k)) else 0) := rfl
    refine br_f (nI_ge (b := 4) (by omega) (by decide)) (nm_r (qa_e m i k) ⟨i1, nm_r e1 ⟨i1, ?_⟩⟩)
    by_cases hv : ld (1 + 4 * i + k) < 25
    · have rl2 : a_leads (nI (97 * m + (1 + 4 * i + k))).toNatClampNeg = nI (ld (1 + 4 * i + k)) := rl.trans (if_pos hv)
      by_cases c1 : ld (1 + 4 * i + k) ≤ i
      · rw [if_neg (by omega)] at es
        rw [es] at h1
        exact br_t (by rw [show a_leads (nI (97 * m + (1 + 4 * i + k))).toNatClampNeg = _ from rl2]; exact nI_le c1 (by omega)) (nm_r (nI_1 k) h1)
      · refine br_f (by rw [show a_leads (nI (97 * m + (1 + 4 * i + k))).toNatClampNeg = _ from rl2]; exact nI_ge (by omega) (by omega)) ⟨i1, ?_⟩
        by_cases c2 : 24 ≤ ld (1 + 4 * i + k)
        · rw [if_neg (by omega)] at es
          rw [es] at h1
          exact br_t (by rw [show a_leads (nI (97 * m + (1 + 4 * i + k))).toNatClampNeg = _ from rl2]; exact nI_le (a := 24) c2 (by omega)) (nm_r (nI_1 k) h1)
        · rw [if_pos (by omega)] at es
          have hn2 := hld (1 + 4 * i + k) (by omega)
          have r3 : (24 : Int32) * nI m + a_leads (nI (97 * m + (1 + 4 * i + k))).toNatClampNeg = nI (24 * m + ld (1 + 4 * i + k)) := by
            rw [rl2, qa_24]
          refine br_f (by rw [show a_leads (nI (97 * m + (1 + 4 * i + k))).toNatClampNeg = _ from rl2]; exact nI_ge (b := 24) (by omega) (by decide)) ⟨i1, pk_in (24 * m + ld (1 + 4 * i + k)) 96 (by omega) r3, nm_r (e' := lN (pn_s ld gz i (k + 1))) ?_ (nm_r (nI_1 k) h1)⟩
          have r4 : gos ((24 : Int32) * nI m + a_leads (nI (97 * m + (1 + 4 * i + k))).toNatClampNeg).toNatClampNeg = lN (gz (ld (1 + 4 * i + k))) := qa_r _ r3 (hg _ (by omega) hn2).1
          rw [es, ← lN_add]
          exact congrArg (lN (pn_s ld gz i k) + ·) r4
    · have rl2 : a_leads (nI (97 * m + (1 + 4 * i + k))).toNatClampNeg = -1 := rl.trans (if_neg hv)
      rw [if_neg (by omega)] at es
      rw [es] at h1
      refine br_t ?_ (nm_r (nI_1 k) h1)
      rw [show a_leads (nI (97 * m + (1 + 4 * i + k))).toNatClampNeg = _ from rl2]
      exact Int32.le_trans (show (-1 : Int32) ≤ 0 by decide) (nI_pos' (by omega))
theorem xk_n4 {ld : Nat → Nat} {m n : Nat} {ads0 : Nat → Int64} {post : SX → Prop} (hm : m < 4) (hn : n ≤ 24)
    (hl : ∀ e, e < 97 → a_leads (97 * m + e) = xp_I ld e) (hld : ∀ e, ld e < 24 → ld e < n)
    (K : ∀ ads gos, xn_ok ld n m ads0 ads gos 0 → post (f_load, f_depth, f_begun, f_outcome, f_result, a_op, a_opA, a_opB, a_opLine, a_length, a_guards, a_handlers, a_kept, a_keptLoad, a_counter, a_raised, a_stopped, a_caught, a_unbegun, a_leads, a_counts, ads, gos, a_needed, a_known, a_solved, a_open, a_unknown, a_balance, a_group, a_first, a_last, a_sum, a_often, a_told, a_method, a_pc, a_start, a_here, a_path, a_coming, a_variable)) :
    ∀ d, d ≤ n → ∀ ads gos, xn_ok ld n m ads0 ads gos d → (wX_number_4 post (nI m) f_load f_depth f_begun f_outcome f_result (d + 1) (nI d - 1) a_op a_opA a_opB a_opLine a_length a_guards a_handlers a_kept a_keptLoad a_counter a_raised a_stopped a_caught a_unbegun a_leads a_counts ads gos a_needed a_known a_solved a_open a_unknown a_balance a_group a_first a_last a_sum a_often a_told a_method a_pc a_start a_here a_path a_coming a_variable) := by
  intro d
  induction d with
  | zero =>
    intro _ ads gos h
    exact br_t (by decide) (K ads gos h)
  | succ i ih =>
    intro hd ads gos h
    rw [nI_pred]
    obtain ⟨⟨gz, az, h1⟩, h2⟩ := h
    refine br_f (nI_pos (by omega)) ⟨5, ?_⟩
    have hB : ∀ k, k < 4 → pt_fw ld i k → gz (ld (1 + 4 * i + k)) ≤ 4 ^ (n - i - 1) := by
      intro k hk f
      have := hld _ f.2
      exact Nat.le_trans (h1 _ (by have := f.1; omega) this).2.2.1 (pn_4le (by have := f.1; omega))
    have hS : ∀ k, k ≤ 4 → pn_s ld gz i k ≤ 4 ^ (n - i) := by
      intro k hk
      have h3 := pn_le hB k hk
      have h4 : k * 4 ^ (n - i - 1) ≤ 4 * 4 ^ (n - i - 1) := Nat.mul_le_mul_right _ hk
      have h5 : 4 ^ (n - i) = 4 ^ (n - i - 1) * 4 := by
        rw [← Nat.pow_succ]
        exact congrArg (4 ^ ·) (by omega)
      omega
    have e0 : xp_a ads ld gz m i 0 = ads := by
      funext j
      exact if_neg (by omega)
    have em : nI i + (-1) = nI i - 1 := by grind
    have K2 : (wX_number_4 post (nI m) f_load f_depth f_begun f_outcome f_result (i + 1) (nI i + (-1)) a_op a_opA a_opB a_opLine a_length a_guards a_handlers a_kept a_keptLoad a_counter a_raised a_stopped a_caught a_unbegun a_leads a_counts (xp_a ads ld gz m i 4) (vp_updL gos (24 * m + i) (lN (if 1 ≤ pn_s ld gz i 4 then pn_s ld gz i 4 else 1))) a_needed a_known a_solved a_open a_unknown a_balance a_group a_first a_last a_sum a_often a_told a_method a_pc a_start a_here a_path a_coming a_variable) := by
      rw [em]
      refine ih (by omega) _ _ ⟨⟨fun t => if t = i then (if 1 ≤ pn_s ld gz i 4 then pn_s ld gz i 4 else 1) else gz t, fun t k => if t = i then pn_s ld gz i k else az t k, fun t ht ht2 => ?_⟩, fun j hj => ?_⟩
      · by_cases c : t = i
        · subst c
          have hgt : ∀ k, pt_fw ld t k → (if ld (1 + 4 * t + k) = t then (if 1 ≤ pn_s ld gz t 4 then pn_s ld gz t 4 else 1) else gz (ld (1 + 4 * t + k))) = gz (ld (1 + 4 * t + k)) := fun k f => if_neg (by have := f.1; omega)
          have p4 := pn_4le (a := 0) (b := n - t) (by omega)
          have s4 := hS 4 (Nat.le_refl _)
          have gl : pn_s ld gz t 4 ≤ (if 1 ≤ pn_s ld gz t 4 then pn_s ld gz t 4 else 1) := by split <;> omega
          unfold xn_1
          simp only [if_true]
          refine ⟨pk_uLs, by split <;> omega, by split <;> omega, fun k hk f => ?_, fun k k' hk hk' f => ?_, fun k hk => ⟨?_, hS k (by omega)⟩⟩
          · rw [hgt k f]
            exact Nat.le_trans (pn_fw f hk) gl
          · rw [hgt k f]
            exact pn_fw f hk
          · unfold xp_a
            rw [if_pos (by omega), show 97 * m + (1 + 4 * t + k) - (97 * m + (1 + 4 * t)) = k by omega]
        · have q := h1 t (by omega) ht2
          have hgt : ∀ k, pt_fw ld t k → (if ld (1 + 4 * t + k) = i then (if 1 ≤ pn_s ld gz i 4 then pn_s ld gz i 4 else 1) else gz (ld (1 + 4 * t + k))) = gz (ld (1 + 4 * t + k)) := fun k f => if_neg (by have := f.1; omega)
          unfold xn_1
          simp only [if_neg c]
          refine ⟨(pk_uLn (by omega)).trans q.1, q.2.1, q.2.2.1, fun k hk f => ?_, fun k k' hk hk' f => ?_, fun k hk => ⟨?_, (q.2.2.2.2.2 k hk).2⟩⟩
          · rw [hgt k f]; exact q.2.2.2.1 k hk f
          · rw [hgt k f]; exact q.2.2.2.2.1 k k' hk hk' f
          · unfold xp_a
            rw [if_neg (by omega)]
            exact (q.2.2.2.2.2 k hk).1
      · unfold xp_a
        rw [if_neg (by omega)]
        exact h2 j hj
    have step := xk_n14 (f_load := f_load) (f_depth := f_depth) (f_begun := f_begun) (f_outcome := f_outcome) (f_result := f_result) (post := post) (J := wX_number_4 post (nI m) f_load f_depth f_begun f_outcome f_result (i + 1)) hm hn (by omega) hl hld (fun t ht ht2 => ⟨(h1 t (by omega) ht2).1, (h1 t (by omega) ht2).2.2.1⟩) K2 4 0 rfl
    rw [e0] at step
    exact step
/-- plan -/
def xp_ok (length op opB leads counts : Nat → Int32) (adds : Nat → Int64) (needed : Nat → Int32) (m : Nat) (lds cts nd : Nat → Int32) (ads : Nat → Int64) : Prop :=
  (0 < xn length m → rp_ok (ul length op opB m) (xn length m) (fun e => lds (97 * m + e)) (fun e => cts (97 * m + e)) (fun e => ads (97 * m + e)) (nd m)) ∧
  (∀ j, (j < 97 * m ∨ 97 * m + 97 ≤ j) → lds j = leads j ∧ cts j = counts j ∧ ads j = adds j) ∧ ∀ q, q ≠ m → nd q = needed q
theorem xk_tail {m : Nat} (hm : m < 4) (hl : a_length m = nI (xn a_length m)) (hn : xn a_length m ≤ 24) {post : SX → Prop}
    (K : ∀ lds cts nd gr ads gos, xp_ok a_length a_op a_opB a_leads a_counts a_adds a_needed m lds cts nd ads → post (f_load, f_depth, f_begun, f_outcome, f_result, a_op, a_opA, a_opB, a_opLine, a_length, a_guards, a_handlers, a_kept, a_keptLoad, a_counter, a_raised, a_stopped, a_caught, a_unbegun, lds, cts, ads, gos, nd, a_known, a_solved, a_open, a_unknown, a_balance, gr, a_first, a_last, a_sum, a_often, a_told, a_method, a_pc, a_start, a_here, a_path, a_coming, a_variable)) :
    (wX_plan_57 post (nI m) (nI (xn a_length m)) f_load f_depth f_begun f_outcome f_result 1 (nI (xn a_length m)) a_op a_opA a_opB a_opLine a_length a_guards a_handlers a_kept a_keptLoad a_counter a_raised a_stopped a_caught a_unbegun (xp_l a_leads (ul a_length a_op a_opB m) m 97) (cz_z a_counts (97 * m) 97) a_adds a_goes a_needed a_known a_solved a_open a_unknown a_balance a_group a_first a_last a_sum a_often a_told a_method a_pc a_start a_here a_path a_coming a_variable) := by
  have hle : ∀ e, e < 97 → xp_l a_leads (ul a_length a_op a_opB m) m 97 (97 * m + e) = xp_I (ul a_length a_op a_opB m) e := by
    intro e he
    unfold xp_l
    rw [if_pos (by omega), if_pos (by omega), show 97 * m + e - 97 * m = e by omega]
  have hce : ∀ e, e < 97 → cz_z a_counts (97 * m) 97 (97 * m + e) = 0 := fun e he => cz_z_in he
  refine br_t (nI_le (Nat.le_refl _) (by omega)) ?_
  refine xk_span (ld := (ul a_length a_op a_opB m)) hm hle hce ?_
  have hpost : ∀ ads gos, (0 < xn a_length m → xn_ok (ul a_length a_op a_opB m) (xn a_length m) m a_adds ads gos 0) → (∀ j, (j < 97 * m ∨ 97 * m + 97 ≤ j) → ads j = a_adds j) → post (f_load, f_depth, f_begun, f_outcome, f_result, a_op, a_opA, a_opB, a_opLine, a_length, a_guards, a_handlers, a_kept, a_keptLoad, a_counter, a_raised, a_stopped, a_caught, a_unbegun, (xp_l a_leads (ul a_length a_op a_opB m) m 97), (xp_c (cz_z a_counts (97 * m) 97) (ul a_length a_op a_opB m) m 97), ads, gos, (upd a_needed m (nI (sn_N (pg_cn (ul a_length a_op a_opB m)) 97))), a_known, a_solved, a_open, a_unknown, a_balance, (xp_g a_group (ul a_length a_op a_opB m) 97), a_first, a_last, a_sum, a_often, a_told, a_method, a_pc, a_start, a_here, a_path, a_coming, a_variable) := by
    intro ads gos hx hy
    refine K _ _ _ _ ads gos ⟨fun h0 => ⟨hle, fun e he => ?_, pk_us, ?_⟩, fun j hj => ⟨?_, ?_, hy j hj⟩, fun q hq => pk_un hq⟩
    · show xp_c (cz_z a_counts (97 * m) 97) (ul a_length a_op a_opB m) m 97 (97 * m + e) = _
      unfold xp_c
      rw [if_pos (by omega), show 97 * m + e - 97 * m = e by omega]
    · obtain ⟨⟨gz, az, h1⟩, _⟩ := hx h0
      exact ⟨gz, az, fun i hi => ⟨(h1 i (by omega) hi).2.1, (h1 i (by omega) hi).2.2.2.1, (h1 i (by omega) hi).2.2.2.2.1⟩, fun i hi => Nat.le_trans (h1 i (by omega) hi).2.2.1 (pn_424 (by omega)), fun i k hi hk => ⟨((h1 i (by omega) hi).2.2.2.2.2 k hk).1, Nat.le_trans ((h1 i (by omega) hi).2.2.2.2.2 k hk).2 (pn_424 (by omega))⟩⟩
    · exact if_neg (by omega)
    · show xp_c (cz_z a_counts (97 * m) 97) (ul a_length a_op a_opB m) m 97 j = _
      unfold xp_c
      rw [if_neg (by omega)]
      exact cz_z_out (by omega)
  refine nm_e ⟨xn a_length m + 1, ?_⟩
  by_cases h0 : 0 < xn a_length m
  · have ld24 : ∀ e, (ul a_length a_op a_opB m) e < 24 → (ul a_length a_op a_opB m) e < xn a_length m := fun e he => pw_ld_lt h0 he
    exact xk_n4 hm hn hle ld24 (fun ads gos hx => hpost ads gos (fun _ => hx) hx.2) (xn a_length m) (Nat.le_refl _) a_adds a_goes ⟨⟨fun _ => 0, fun _ _ => 0, fun i h1 h2 => absurd h2 (by omega)⟩, fun j _ => rfl⟩
  · have z : xn a_length m = 0 := by omega
    rw [z]
    exact br_t (by decide) (hpost a_adds a_goes (fun h => absurd h h0) (fun j _ => rfl))
end
end
section
/-! X: the loops of plan; define -/
def xp_m (a : Nat → Int32) (m k : Nat) : Nat → Int32 := fun j => if 97 * m ≤ j ∧ j < 97 * m + k then -1 else a j
theorem xp_m_s {a : Nat → Int32} {m k : Nat} : upd (xp_m a m k) (97 * m + k) (-1) = xp_m a m (k + 1) := by
  funext j
  unfold upd xp_m
  by_cases c : j = 97 * m + k
  · rw [if_pos c, if_pos (by omega)]
  · rw [if_neg c]
    by_cases d : 97 * m ≤ j ∧ j < 97 * m + k
    · rw [if_pos d, if_pos (by omega)]
    · rw [if_neg d, if_neg (by omega)]
theorem xp_m_0 (a : Nat → Int32) (m : Nat) : xp_m a m 0 = a := by
  funext j
  exact if_neg (by omega)
theorem xp_m_97 (a : Nat → Int32) (m : Nat) (ld : Nat → Nat) : xp_m a m 97 = xp_l a ld m 0 := by
  funext j
  unfold xp_m xp_l
  by_cases d : 97 * m ≤ j ∧ j < 97 * m + 97
  · rw [if_pos d, if_pos d, if_neg (by omega)]
  · rw [if_neg d, if_neg d]
section
variable {f_load : Int32} {f_depth : Int32} {f_begun : Int32} {f_outcome : Int32} {f_result : Int32} {a_op : (Nat → Int32)} {a_opA : (Nat → Int32)} {a_opB : (Nat → Int32)} {a_opLine : (Nat → Int32)} {a_length : (Nat → Int32)} {a_guards : (Nat → Int32)} {a_handlers : (Nat → Int32)} {a_kept : (Nat → Int32)} {a_keptLoad : (Nat → Int32)} {a_counter : (Nat → Int32)} {a_raised : (Nat → Int32)} {a_stopped : (Nat → Int32)} {a_caught : (Nat → Int32)} {a_unbegun : (Nat → Int32)} {a_leads : (Nat → Int32)} {a_counts : (Nat → Int32)} {a_adds : (Nat → Int64)} {a_goes : (Nat → Int64)} {a_needed : (Nat → Int32)} {a_known : (Nat → Int32)} {a_solved : (Nat → Int32)} {a_open : (Nat → Int32)} {a_unknown : (Nat → Int32)} {a_balance : (Nat → Int32)} {a_group : (Nat → Int32)} {a_first : (Nat → Int32)} {a_last : (Nat → Int32)} {a_sum : (Nat → Int64)} {a_often : (Nat → Int32)} {a_told : (Nat → Int32)} {a_method : (Nat → Int32)} {a_pc : (Nat → Int32)} {a_start : (Nat → Int32)} {a_here : (Nat → Int32)} {a_path : (Nat → Int64)} {a_coming : (Nat → Int64)} {a_variable : (Nat → Int32)} {g_depth : Int32} {g_steps : Int32} {g_result : Int32} {g_outcome : Int32} {g_load : Int32} {g_over : Int32} {b_op : (Nat → Int32)} {b_a : (Nat → Int32)} {b_b : (Nat → Int32)} {b_line : (Nat → Int32)} {b_length : (Nat → Int32)} {b_from : (Nat → Int32)} {b_to : (Nat → Int32)} {b_at : (Nat → Int32)} {b_handlers : (Nat → Int32)} {b_begun : (Nat → Int32)} {b_taken : (Nat → Int32)} {b_thrown : (Nat → Int32)} {b_rowI : (Nat → Int32)} {b_rowWay : (Nat → Int32)} {b_rowLength : (Nat → Int32)} {b_times : (Nat → Int32)} {b_told : (Nat → Int32)} {b_kOp : (Nat → Int32)} {b_kA : (Nat → Int32)} {b_kB : (Nat → Int32)} {b_kLine : (Nat → Int32)} {b_kLength : (Nat → Int32)} {b_kFrom : (Nat → Int32)} {b_kTo : (Nat → Int32)} {b_kAt : (Nat → Int32)} {b_kHandlers : (Nat → Int32)} {b_kBegun : (Nat → Int32)} {b_kTaken : (Nat → Int32)} {b_kThrown : (Nat → Int32)} {b_kept : (Nat → Int32)} {b_method : (Nat → Int32)} {b_pc : (Nat → Int32)} {b_variable : (Nat → Int32)} {b_hereI : (Nat → Int32)} {b_hereWay : (Nat → Int32)} {b_hereLength : (Nat → Int32)} {b_into : (Nat → Int32)} {b_kLoad : (Nat → Int32)} {b_part : (Nat → Int32)}
theorem xk_p85 {m i : Nat} {x2 : Int32} (hm : m < 4) (hl : a_length m = nI (xn a_length m)) (hn : xn a_length m ≤ 24) (hi : i < xn a_length m) {post : SX → Prop} {J : Int32 → (Nat → Int32) → (Nat → Int32) → (Nat → Int32) → (Nat → Int32) → (Nat → Int32) → (Nat → Int32) → (Nat → Int32) → (Nat → Int32) → (Nat → Int32) → (Nat → Int32) → (Nat → Int32) → (Nat → Int32) → (Nat → Int32) → (Nat → Int32) → (Nat → Int32) → (Nat → Int32) → (Nat → Int64) → (Nat → Int64) → (Nat → Int32) → (Nat → Int32) → (Nat → Int32) → (Nat → Int32) → (Nat → Int32) → (Nat → Int32) → (Nat → Int32) → (Nat → Int32) → (Nat → Int32) → (Nat → Int64) → (Nat → Int32) → (Nat → Int32) → (Nat → Int32) → (Nat → Int32) → (Nat → Int32) → (Nat → Int32) → (Nat → Int64) → (Nat → Int64) → (Nat → Int32) → Prop}
    (K : J (nI (i + 1)) a_op a_opA a_opB a_opLine a_length a_guards a_handlers a_kept a_keptLoad a_counter a_raised a_stopped a_caught a_unbegun (xp_l a_leads (ul a_length a_op a_opB m) m (1 + 4 * i + (pw_ways (a_op (24 * m + i))))) a_counts a_adds a_goes a_needed a_known a_solved a_open a_unknown a_balance a_group a_first a_last a_sum a_often a_told a_method a_pc a_start a_here a_path a_coming a_variable) :
    ∀ d k, k + d = (pw_ways (a_op (24 * m + i))) → (wX_plan_85 post J (nI m) x2 (nI i) (nI (pw_ways (a_op (24 * m + i)))) f_load f_depth f_begun f_outcome f_result (d + 1) (nI k) a_op a_opA a_opB a_opLine a_length a_guards a_handlers a_kept a_keptLoad a_counter a_raised a_stopped a_caught a_unbegun (xp_l a_leads (ul a_length a_op a_opB m) m (1 + 4 * i + k)) a_counts a_adds a_goes a_needed a_known a_solved a_open a_unknown a_balance a_group a_first a_last a_sum a_often a_told a_method a_pc a_start a_here a_path a_coming a_variable) := by
  have hw := pw_ways_le (a_op (24 * m + i))
  intro d
  induction d with
  | zero =>
    intro k hk
    obtain rfl : k = (pw_ways (a_op (24 * m + i))) := by omega
    exact br_t (nI_le (Nat.le_refl _) (by omega)) (nm_r (nI_1 i) K)
  | succ d ih =>
    intro k hk
    refine br_f (nI_ge (by omega) (by omega)) ?_
    refine qt_target hm hn hi (by omega) hl ?_
    have et : (ul a_length a_op a_opB m) (1 + 4 * i + k) = pw_tgt (xn a_length m) (fun j => a_op (24 * m + j)) (fun j => a_opB (24 * m + j)) i k := by
      show pw_ld _ _ _ _ = _
      rw [pw_ld_s _ _ _ (by omega), if_pos ⟨hi, by omega⟩]
    have tl := pw_tgt_le hn (fun j => a_op (24 * m + j)) (fun j => a_opB (24 * m + j)) i k
    refine ⟨pk_in (97 * m + (1 + 4 * i + k)) 388 (by omega) (qa_e m i k), nm_r (e' := xp_l a_leads (ul a_length a_op a_opB m) m (1 + 4 * i + (k + 1))) ?_ (nm_r (nI_1 k) (ih (k + 1) (by omega)))⟩
    rw [qa_e, nI_clamp (by omega), qa_bb (by omega), ← et]
    have ei : nI ((ul a_length a_op a_opB m) (1 + 4 * i + k)) = xp_I (ul a_length a_op a_opB m) (1 + 4 * i + k) := (if_pos (by omega)).symm
    rw [ei]
    exact xp_l_s (by omega)
theorem xk_p57 {m : Nat} (hm : m < 4) (hl : a_length m = nI (xn a_length m)) (hn : xn a_length m ≤ 24) {post : SX → Prop}
    (K : ∀ lds cts nd gr ads gos, xp_ok a_length a_op a_opB a_leads a_counts a_adds a_needed m lds cts nd ads → post (f_load, f_depth, f_begun, f_outcome, f_result, a_op, a_opA, a_opB, a_opLine, a_length, a_guards, a_handlers, a_kept, a_keptLoad, a_counter, a_raised, a_stopped, a_caught, a_unbegun, lds, cts, ads, gos, nd, a_known, a_solved, a_open, a_unknown, a_balance, gr, a_first, a_last, a_sum, a_often, a_told, a_method, a_pc, a_start, a_here, a_path, a_coming, a_variable)) :
    ∀ d i, i + d = xn a_length m → (wX_plan_57 post (nI m) (nI (xn a_length m)) f_load f_depth f_begun f_outcome f_result (d + 1) (nI i) a_op a_opA a_opB a_opLine a_length a_guards a_handlers a_kept a_keptLoad a_counter a_raised a_stopped a_caught a_unbegun (xp_l a_leads (ul a_length a_op a_opB m) m (1 + 4 * i)) (cz_z a_counts (97 * m) 97) a_adds a_goes a_needed a_known a_solved a_open a_unknown a_balance a_group a_first a_last a_sum a_often a_told a_method a_pc a_start a_here a_path a_coming a_variable) := by
  intro d
  induction d with
  | zero =>
    intro i hi
    obtain rfl : i = xn a_length m := by omega
    have e : xp_l a_leads (ul a_length a_op a_opB m) m (1 + 4 * xn a_length m) = xp_l a_leads (ul a_length a_op a_opB m) m 97 := by
      refine xp_l_skip (by omega) (fun e h1 h2 h3 => ?_)
      show ¬ pw_ld _ _ _ _ < 25
      unfold pw_ld
      rw [if_neg (by omega), if_neg (fun z => by have h4 : (e - 1) / 4 < xn a_length m := z.1; omega)]
      omega
    rw [e]
    exact xk_tail hm hl hn K
  | succ d ih =>
    intro i hi
    have h := ih (i + 1) (by omega)
    have hw := pw_ways_le (a_op (24 * m + i))
    have e : xp_l a_leads (ul a_length a_op a_opB m) m (1 + 4 * (i + 1)) = xp_l a_leads (ul a_length a_op a_opB m) m (1 + 4 * i + (pw_ways (a_op (24 * m + i)))) := by
      refine (xp_l_skip (by omega) (fun e h1 h2 h3 => ?_)).symm
      obtain ⟨k, rfl⟩ : ∃ k, e = 1 + 4 * i + k := ⟨e - (1 + 4 * i), by omega⟩
      show ¬ pw_ld _ _ _ _ < 25
      rw [pw_ld_s _ _ _ (by omega), if_neg (fun z => by have := z.2; omega)]
      omega
    rw [e] at h
    refine br_f (nI_ge (by omega) (by omega)) ⟨pk_in (24 * m + i) 408 (by omega) (qa_24 m i), nm_r (e' := a_op (24 * m + i)) (qa_rr _ (qa_24 m i)) ?_⟩
    refine qw_ways _ ⟨(pw_ways (a_op (24 * m + i))) + 1, ?_⟩
    exact xk_p85 hm hl hn (by omega) h (pw_ways (a_op (24 * m + i))) 0 (by omega)
theorem xk_plan {m : Nat} (hm : m < 4) (hl : a_length m = nI (xn a_length m)) (hn : xn a_length m ≤ 24) {post : SX → Prop}
    (K : ∀ lds cts nd gr ads gos, xp_ok a_length a_op a_opB a_leads a_counts a_adds a_needed m lds cts nd ads → post (f_load, f_depth, f_begun, f_outcome, f_result, a_op, a_opA, a_opB, a_opLine, a_length, a_guards, a_handlers, a_kept, a_keptLoad, a_counter, a_raised, a_stopped, a_caught, a_unbegun, lds, cts, ads, gos, nd, a_known, a_solved, a_open, a_unknown, a_balance, gr, a_first, a_last, a_sum, a_often, a_told, a_method, a_pc, a_start, a_here, a_path, a_coming, a_variable)) :
    (wpX_plan post (f_load, f_depth, f_begun, f_outcome, f_result, a_op, a_opA, a_opB, a_opLine, a_length, a_guards, a_handlers, a_kept, a_keptLoad, a_counter, a_raised, a_stopped, a_caught, a_unbegun, a_leads, a_counts, a_adds, a_goes, a_needed, a_known, a_solved, a_open, a_unknown, a_balance, a_group, a_first, a_last, a_sum, a_often, a_told, a_method, a_pc, a_start, a_here, a_path, a_coming, a_variable) (nI m)) := by
  refine ⟨pk_in m 17 (by omega), nm_r (e' := nI (xn a_length m)) (qa_r m rfl hl) ⟨98, ?_⟩⟩
  have main : ∀ d k, k + d = 97 → (wX_plan_9 post (nI m) (nI (xn a_length m)) f_load f_depth f_begun f_outcome f_result (d + 1) (nI k) a_op a_opA a_opB a_opLine a_length a_guards a_handlers a_kept a_keptLoad a_counter a_raised a_stopped a_caught a_unbegun (xp_m a_leads m k) (cz_z a_counts (97 * m) k) a_adds a_goes a_needed a_known a_solved a_open a_unknown a_balance a_group a_first a_last a_sum a_often a_told a_method a_pc a_start a_here a_path a_coming a_variable) := by
    intro d
    induction d with
    | zero =>
      intro k hk
      obtain rfl : k = 97 := by omega
      refine br_t (nI_le (b := 97) (Nat.le_refl 97) (by decide)) ⟨pk_in (97 * m) 388 (by omega) (qa_m97 m), nm_r (e' := xp_l a_leads (ul a_length a_op a_opB m) m (1 + 4 * 0)) ?_ ⟨xn a_length m + 1, xk_p57 hm hl hn K (xn a_length m) 0 (by omega)⟩⟩
      rw [qa_m97, nI_clamp (by omega), qa_b0, xp_m_97 a_leads m (ul a_length a_op a_opB m)]
      exact xp_l_s (E := 0) (by omega)
    | succ d ih =>
      intro k hk
      have i1 : vp_in (97 * nI m + nI k) 388 := pk_in (97 * m + k) 388 (by omega) (qa_97 m k)
      refine br_f (nI_ge (b := 97) (by omega) (by decide)) ⟨i1, nm_r (e' := xp_m a_leads m (k + 1)) ?_ ⟨i1, nm_r (e' := cz_z a_counts (97 * m) (k + 1)) ?_ (nm_r (nI_1 k) (ih (k + 1) (by omega)))⟩⟩
      · rw [qa_97, nI_clamp (by omega), qa_bm]
        exact xp_m_s
      · rw [qa_97, nI_clamp (by omega), qa_z0]
        exact cz_z_s
  have h := main 97 0 rfl
  rw [xp_m_0, cz_z_0] at h
  exact h
theorem xk_define {m : Nat} (hm : m < 4) (C : (rc_code a_op a_opA a_opB a_opLine a_guards a_length a_handlers b_op b_a b_b b_line b_from b_to b_at b_length b_handlers)) {post : Int32 → SX → Prop}
    (K : ∀ lds cts nd gr ads gos, xp_ok (upd (upd a_length m (a_length 4)) 4 0) (cz_c a_op (24 * 4) (24 * m) 24) (cz_c a_opB (24 * 4) (24 * m) 24) a_leads a_counts a_adds a_needed m lds cts nd ads → post (a_length 4) (f_load, f_depth, f_begun, f_outcome, f_result, (cz_c a_op (24 * 4) (24 * m) 24), (cz_c a_opA (24 * 4) (24 * m) 24), (cz_c a_opB (24 * 4) (24 * m) 24), (cz_c a_opLine (24 * 4) (24 * m) 24), (upd (upd a_length m (a_length 4)) 4 0), (cz_c a_guards (3 * 4) (3 * m) 3), (upd (upd a_handlers m (a_handlers 4)) 4 0), a_kept, a_keptLoad, (cz_z a_counter (97 * m) 97), (cz_z a_raised (24 * m) 24), (cz_z a_stopped (24 * m) 24), (cz_z a_caught (24 * m) 24), (cz_z a_unbegun (24 * m) 24), lds, cts, ads, gos, nd, a_known, (upd a_solved m 0), a_open, a_unknown, a_balance, gr, a_first, a_last, a_sum, a_often, (upd a_told m 0), a_method, a_pc, a_start, a_here, a_path, a_coming, a_variable)) :
    (wpX_define post (f_load, f_depth, f_begun, f_outcome, f_result, a_op, a_opA, a_opB, a_opLine, a_length, a_guards, a_handlers, a_kept, a_keptLoad, a_counter, a_raised, a_stopped, a_caught, a_unbegun, a_leads, a_counts, a_adds, a_goes, a_needed, a_known, a_solved, a_open, a_unknown, a_balance, a_group, a_first, a_last, a_sum, a_often, a_told, a_method, a_pc, a_start, a_here, a_path, a_coming, a_variable) (nI m)) := by
  obtain ⟨⟨n, hn, l1, l2⟩, ⟨h, hh, e1, e2⟩, hi, hg⟩ := C 4 (by omega)
  have b0 : vp_nar .byte (a_length 4) = a_length 4 := by rw [l1]; exact qa_b (by omega)
  have b1 : vp_nar .byte (a_handlers 4) = a_handlers 4 := by rw [e1]; exact qa_b (by omega)
  have b2 : xk_byte a_op 4 := fun i h => by
    obtain ⟨o, ho, e, _⟩ := (hi i h).1
    rw [show a_op (24 * 4 + i) = nI o from e]; exact qa_b (by omega)
  have b3 : xk_byte a_opA 4 := fun i h => by
    obtain ⟨o, ho, e, _⟩ := (hi i h).2.1
    rw [show a_opA (24 * 4 + i) = nI o from e]; exact qa_b (by omega)
  have b4 : xk_byte a_opLine 4 := fun i h => by
    obtain ⟨o, ho, e, _⟩ := (hi i h).2.2.2
    rw [show a_opLine (24 * 4 + i) = nI o from e]; exact qa_b (by omega)
  have b5 : ∀ i, i < 3 → vp_nar .short (a_guards (3 * 4 + i)) = a_guards (3 * 4 + i) := fun i h => by
    obtain ⟨f, t, c, hf, ht, hc, _, _, _, e⟩ := hg i h
    rw [show a_guards (3 * 4 + i) = _ from e]; exact qa_s (by omega)
  have xm : upd (upd a_length m (a_length 4)) 4 0 m = nI n := by rw [pk_un (by omega), pk_us, l1]
  have xnm : xn (upd (upd a_length m (a_length 4)) 4 0) m = n := qa_n xm (by omega)
  refine br_f (nI_pos (by omega)) (br_t (nI_lt (b := 4) hm (by decide)) (br_t rfl ?_))
  refine xk_copyCode (a := 4) (by omega) (by omega) (by omega) b0 b1 b2 b3 b4 b5 ?_
  refine nm_r (e' := (upd (upd a_length m (a_length 4)) 4 0)) (by rw [qa_b0]) (nm_r (e' := upd (upd a_handlers m (a_handlers 4)) 4 0) (by rw [qa_b0]) ?_)
  refine xk_plan hm (by rw [xnm]; exact xm) (by rw [xnm]; exact hn) ?_
  intro lds cts nd gr ads gos hx
  refine xk_clear hm ⟨pk_in m 17 (by omega), ?_⟩
  have er : (upd (upd a_length m (a_length 4)) 4 0) (nI m).toNatClampNeg = a_length 4 := by rw [nI_clamp (by omega), pk_un (by omega), pk_us]
  rw [er]
  exact K lds cts nd gr ads gos hx
end
end
section
/-! the relation's parts depend on what lies in their rows alone -/
theorem pw_ld_congr {n : Nat} {op b op' b' : Nat → Int32} (h : ∀ i, i < n → op' i = op i ∧ b' i = b i) : pw_ld n op' b' = pw_ld n op b := by
  funext e
  unfold pw_ld
  by_cases c : e = 0
  · rw [if_pos c, if_pos c]
  · rw [if_neg c, if_neg c]
    by_cases d : (e - 1) / 4 < n
    · obtain ⟨h1, h2⟩ := h _ d
      rw [h1]
      by_cases d2 : (e - 1) / 4 < n ∧ (e - 1) % 4 < pw_ways (op ((e - 1) / 4))
      · rw [if_pos d2, if_pos d2]
        unfold pw_tgt pw_t
        rw [h1, h2]
      · rw [if_neg d2, if_neg d2]
    · rw [if_neg (fun z => d z.1), if_neg (fun z => d z.1)]
theorem ul_congr {len op b len' op' b' : Nat → Int32} {r s : Nat} (hl : len' r = len s) (h : ∀ i, i < (len s).toNatClampNeg → op' (24 * r + i) = op (24 * s + i) ∧ b' (24 * r + i) = b (24 * s + i)) : ul len' op' b' r = ul len op b s := by
  unfold ul
  rw [hl]
  exact pw_ld_congr h
theorem rd_Fc {ent : Int32} {tk tk' : Nat → Int32} (h : ∀ x, x < 96 → tk' x = tk x) : ∀ e, e < 97 → rd_F ent tk' e = rd_F ent tk e := by
  intro e he
  unfold rd_F
  by_cases c : e = 0
  · rw [if_pos c, if_pos c]
  · rw [if_neg c, if_neg c, h _ (by omega)]
theorem fl_in_congr {ld : Nat → Nat} {F F' : Nat → Int32} (h : ∀ e, e < 97 → F' e = F e) (p : Nat) : fl_in ld F' p = fl_in ld F p := by
  unfold fl_in
  exact sn_I_congr (fun e he => by rw [h e he])
theorem fl_out_congr {ld : Nat → Nat} {F F' : Nat → Int32} (h : ∀ e, e < 97 → F' e = F e) (p : Nat) : fl_out ld F' p = fl_out ld F p := by
  unfold fl_out
  exact sn_I_congr (fun e he => by rw [h e he])
theorem rd_congr {ld : Nat → Nat} {n : Nat} {rs st ca ub ct bg tk th rs' st' ca' ub' ct' bg' tk' th' : Nat → Int32} {ent : Int32} {fc rd : Nat → Int32} (hn : n ≤ 24) (h : rd_ok ld n rs st ca ub ct bg tk th ent fc rd)
    (h1 : ∀ i, i < 24 → rs' i = rs i ∧ st' i = st i ∧ ca' i = ca i ∧ ub' i = ub i ∧ bg' i = bg i ∧ th' i = th i) (h2 : ∀ e, e < 97 → ct' e = ct e) (h3 : ∀ x, x < 96 → tk' x = tk x) : rd_ok ld n rs' st' ca' ub' ct' bg' tk' th' ent fc rd := by
  have hF := rd_Fc (ent := ent) h3
  refine ⟨fun e he hc => ?_, fun p hp => ?_⟩
  · rw [h2 e he, hF e he]; exact h.1 e he hc
  · obtain ⟨a1, a2, a3, a4, a5, a6⟩ := h1 p (by omega)
    rw [a1, a2, a3, a4, a5, a6, fl_in_congr hF, fl_out_congr hF]
    exact h.2 p hp
theorem rd_zero {ld : Nat → Nat} {n : Nat} {rs st ca ub ct bg tk th : Nat → Int32} (hn : n ≤ 24)
    (h1 : ∀ i, i < 24 → rs i = 0 ∧ st i = 0 ∧ ca i = 0 ∧ ub i = 0 ∧ bg i = 0 ∧ th i = 0) (h2 : ∀ e, e < 97 → ct e = 0) (h3 : ∀ x, x < 96 → tk x = 0) : rd_ok ld n rs st ca ub ct bg tk th 0 (fun _ => 0) (fun _ => 0) := by
  have hF : ∀ e, e < 97 → rd_F 0 tk e = 0 := by
    intro e he
    unfold rd_F
    by_cases c : e = 0
    · rw [if_pos c]
    · rw [if_neg c, h3 _ (by omega)]
  have hi : ∀ p, fl_in ld (rd_F 0 tk) p = 0 := by
    intro p
    unfold fl_in
    exact sn_I_0 (fun e he => by rw [hF e he]; split <;> rfl)
  have ho : ∀ p, fl_out ld (rd_F 0 tk) p = 0 := by
    intro p
    unfold fl_out
    exact sn_I_0 (fun e he => by rw [hF e he]; split <;> rfl)
  refine ⟨fun e he hc => ?_, fun p hp => ?_⟩
  · rw [h2 e he, hF e he]
  · obtain ⟨a1, a2, a3, a4, a5, a6⟩ := h1 p (by omega)
    rw [a1, a2, a3, a4, a5, a6, hi, ho]
    exact ⟨rfl, show (0 : Int32) + 0 = 0 + 0 + 0 + 0 by decide, show (0 : Int32) + 0 + 0 = 0 + 0 by decide⟩
theorem rp_congr {ld : Nat → Nat} {n : Nat} {lds cts lds' cts' : Nat → Int32} {ads ads' : Nat → Int64} {nd nd' : Int32} (hn : n ≤ 24) (h : rp_ok ld n lds cts ads nd) (h1 : ∀ e, e < 97 → lds' e = lds e ∧ cts' e = cts e ∧ ads' e = ads e) (h2 : nd' = nd) : rp_ok ld n lds' cts' ads' nd' := by
  obtain ⟨g1, g2, g3, gz, az, g4, g5, g6⟩ := h
  refine ⟨fun e he => by rw [(h1 e he).1]; exact g1 e he, fun e he => by rw [(h1 e he).2.1]; exact g2 e he, h2.trans g3, gz, az, g4, g5, fun i k hi hk => ?_⟩
  rw [(h1 (1 + 4 * i + k) (by omega)).2.2]
  exact g6 i k hi hk
theorem pa_congr {ld : Nat → Nat} {n : Nat} {ads ads' : Nat → Int64} {I W : Nat → Int32} {L s h : Int32} {sm : Int64} {D : Nat} {p w : Nat → Nat} (hn : n ≤ 24) (a : pa_ok ld n ads I W L s h sm D p w) (e : ∀ x, x < 97 → ads' x = ads x) : pa_ok ld n ads' I W L s h sm D p w := by
  obtain ⟨h1, h2, h3, h4, h5, h6⟩ := a
  refine ⟨h1, h2, h3, h4, h5, ?_⟩
  rw [h6]
  have main : ∀ d, d ≤ D → pt_sL ads p w d = pt_sL ads' p w d := by
    intro d
    induction d with
    | zero => intro _; rfl
    | succ d ih =>
      intro hd
      show pt_sL ads p w d + ads (1 + 4 * p d + w (d + 1)) = pt_sL ads' p w d + ads' (1 + 4 * p d + w (d + 1))
      have := (h1.2.1 d (by omega)).1
      have := (h1.2.1 (d + 1) hd).2
      rw [ih (by omega), e _ (by omega)]
  exact main D (Nat.le_refl _)
theorem rs_congr {ld : Nat → Nat} {n : Nat} {ads ads' : Nat → Int64} {fi la : Nat → Int32} {su : Nat → Int64} {oft : Nat → Int32} {tx tx' : Int32} {rI rW rL ti : Nat → Int32} {ty ty' : Int32} {m : Nat} (hn : n ≤ 24)
    (h : rs_ok ld n ads fi la su oft tx rI rW rL ti ty m) (e : ∀ x, x < 97 → ads' x = ads x) (e1 : tx' = tx) (e2 : ty' = ty) : rs_ok ld n ads' fi la su oft tx' rI rW rL ti ty' m := by
  subst e1 e2
  obtain ⟨T, h1, h2, h3, h4⟩ := h
  refine ⟨T, h1, h2, h3, fun s hs => ?_⟩
  obtain ⟨g1, D, p, w, g2⟩ := h4 s hs
  exact ⟨g1, D, p, w, pa_congr hn g2 e⟩
end
section
/-! the relation over other code, where rows but some are as they were -/
section
variable {f_load : Int32} {f_depth : Int32} {f_begun : Int32} {f_outcome : Int32} {f_result : Int32} {a_op : (Nat → Int32)} {a_opA : (Nat → Int32)} {a_opB : (Nat → Int32)} {a_opLine : (Nat → Int32)} {a_length : (Nat → Int32)} {a_guards : (Nat → Int32)} {a_handlers : (Nat → Int32)} {a_kept : (Nat → Int32)} {a_keptLoad : (Nat → Int32)} {a_counter : (Nat → Int32)} {a_raised : (Nat → Int32)} {a_stopped : (Nat → Int32)} {a_caught : (Nat → Int32)} {a_unbegun : (Nat → Int32)} {a_leads : (Nat → Int32)} {a_counts : (Nat → Int32)} {a_adds : (Nat → Int64)} {a_goes : (Nat → Int64)} {a_needed : (Nat → Int32)} {a_known : (Nat → Int32)} {a_solved : (Nat → Int32)} {a_open : (Nat → Int32)} {a_unknown : (Nat → Int32)} {a_balance : (Nat → Int32)} {a_group : (Nat → Int32)} {a_first : (Nat → Int32)} {a_last : (Nat → Int32)} {a_sum : (Nat → Int64)} {a_often : (Nat → Int32)} {a_told : (Nat → Int32)} {a_method : (Nat → Int32)} {a_pc : (Nat → Int32)} {a_start : (Nat → Int32)} {a_here : (Nat → Int32)} {a_path : (Nat → Int64)} {a_coming : (Nat → Int64)} {a_variable : (Nat → Int32)} {g_depth : Int32} {g_steps : Int32} {g_result : Int32} {g_outcome : Int32} {g_load : Int32} {g_over : Int32} {b_op : (Nat → Int32)} {b_a : (Nat → Int32)} {b_b : (Nat → Int32)} {b_line : (Nat → Int32)} {b_length : (Nat → Int32)} {b_from : (Nat → Int32)} {b_to : (Nat → Int32)} {b_at : (Nat → Int32)} {b_handlers : (Nat → Int32)} {b_begun : (Nat → Int32)} {b_taken : (Nat → Int32)} {b_thrown : (Nat → Int32)} {b_rowI : (Nat → Int32)} {b_rowWay : (Nat → Int32)} {b_rowLength : (Nat → Int32)} {b_times : (Nat → Int32)} {b_told : (Nat → Int32)} {b_kOp : (Nat → Int32)} {b_kA : (Nat → Int32)} {b_kB : (Nat → Int32)} {b_kLine : (Nat → Int32)} {b_kLength : (Nat → Int32)} {b_kFrom : (Nat → Int32)} {b_kTo : (Nat → Int32)} {b_kAt : (Nat → Int32)} {b_kHandlers : (Nat → Int32)} {b_kBegun : (Nat → Int32)} {b_kTaken : (Nat → Int32)} {b_kThrown : (Nat → Int32)} {b_kept : (Nat → Int32)} {b_method : (Nat → Int32)} {b_pc : (Nat → Int32)} {b_variable : (Nat → Int32)} {b_hereI : (Nat → Int32)} {b_hereWay : (Nat → Int32)} {b_hereLength : (Nat → Int32)} {b_into : (Nat → Int32)} {b_kLoad : (Nat → Int32)} {b_part : (Nat → Int32)}
variable {len2 op2 opB2 : Nat → Int32}
def tr_eq (len op opB len2 op2 opB2 : Nat → Int32) (r : Nat) : Prop := ul len2 op2 opB2 r = ul len op opB r ∧ xn len2 r = xn len r
theorem tr_mk {r : Nat} (hl : len2 r = a_length r) (hn : xn a_length r ≤ 24) (h : ∀ i, i < 24 → op2 (24 * r + i) = a_op (24 * r + i) ∧ opB2 (24 * r + i) = a_opB (24 * r + i)) : tr_eq a_length a_op a_opB len2 op2 opB2 r :=
  ⟨ul_congr hl (fun i hi => h i (Nat.lt_of_lt_of_le hi hn)), congrArg Int32.toNatClampNeg hl⟩
theorem tr_plan (U : ∀ r, r < 4 → tr_eq a_length a_op a_opB len2 op2 opB2 r) (h : (rc_plan a_length a_op a_opB a_leads a_counts a_adds a_needed)) : (rc_plan len2 op2 opB2 a_leads a_counts a_adds a_needed) := by
  intro m hm h0
  obtain ⟨e1, e2⟩ := U m hm
  rw [e2] at h0
  rw [e1, e2]
  exact h m hm h0
theorem tr_flow {ent : Nat → Int32} {fc rd : Nat → Nat → Int32} (U : ∀ r, r < 4 → tr_eq a_length a_op a_opB len2 op2 opB2 r) (h : (rc_flow a_length a_op a_opB a_raised a_stopped a_caught a_unbegun a_counter b_begun b_taken b_thrown) ent fc rd) : (rc_flow len2 op2 opB2 a_raised a_stopped a_caught a_unbegun a_counter b_begun b_taken b_thrown) ent fc rd := by
  intro m hm h0
  obtain ⟨e1, e2⟩ := U m hm
  rw [e2] at h0
  rw [e1, e2]
  exact h m hm h0
theorem tr_str (U : ∀ r, r < 4 → tr_eq a_length a_op a_opB len2 op2 opB2 r) (h : (rc_str a_length a_op a_opB a_adds a_first a_last a_sum a_often a_told b_rowI b_rowWay b_rowLength b_times b_told)) : (rc_str len2 op2 opB2 a_adds a_first a_last a_sum a_often a_told b_rowI b_rowWay b_rowLength b_times b_told) := by
  intro m hm h0
  obtain ⟨e1, e2⟩ := U m hm
  rw [e2] at h0
  rw [e1, e2]
  exact h m hm h0
theorem tr_known {ent : Nat → Int32} (U : ∀ r, r < 4 → tr_eq a_length a_op a_opB len2 op2 opB2 r) (h : (rc_known a_length a_op a_opB a_solved a_known b_taken) ent) : (rc_known len2 op2 opB2 a_solved a_known b_taken) ent := by
  intro m hm h0 hs e he hl
  obtain ⟨e1, e2⟩ := U m hm
  rw [e2] at h0
  rw [e1] at hl
  exact h m hm h0 hs e he hl
theorem tr_kdat {ek : Nat → Int32} (U : ∀ q, q < 12 → tr_eq a_length a_op a_opB len2 op2 opB2 (5 + q)) (h : (rc_kdat a_length a_op a_opB a_raised a_stopped a_caught a_unbegun a_counter b_kBegun b_kTaken b_kThrown) ek) : (rc_kdat len2 op2 opB2 a_raised a_stopped a_caught a_unbegun a_counter b_kBegun b_kTaken b_kThrown) ek := by
  intro q hq h0
  obtain ⟨e1, e2⟩ := U q hq
  rw [e2] at h0
  rw [e1, e2]
  exact h q hq h0
/-- the code at row 4 changes -/
theorem tr_add {n o a l : Nat} {bb : Int32} (C : (rc_code a_op a_opA a_opB a_opLine a_guards a_length a_handlers b_op b_a b_b b_line b_from b_to b_at b_length b_handlers)) (hn : n < 24) (hl : a_length 4 = nI n) (ho : o < 12) (ha : a < 4) (hL : l < 16) :
    (rc_code (upd a_op (96 + n) (nI o)) (upd a_opA (96 + n) (nI a)) (upd a_opB (96 + n) bb) (upd a_opLine (96 + n) (nI l)) a_guards (upd a_length 4 (nI (n + 1))) a_handlers (upd b_op (96 + n) (nI o)) (upd b_a (96 + n) (nI a)) (upd b_b (96 + n) bb) (upd b_line (96 + n) (nI l)) b_from b_to b_at (upd b_length 4 (nI (n + 1))) b_handlers) := by
  intro r hr
  by_cases c : r = 4
  · subst c
    obtain ⟨_, h2, h3, h4⟩ := C 4 hr
    refine ⟨⟨n + 1, by omega, pk_us, pk_us⟩, h2, fun i hi => ?_, h4⟩
    by_cases d : i = n
    · subst d
      exact ⟨⟨o, ho, pk_us, pk_us⟩, ⟨a, ha, pk_us, pk_us⟩, pk_us.trans pk_us.symm, ⟨l, hL, pk_us, pk_us⟩⟩
    · have ne : 24 * 4 + i ≠ 96 + n := by omega
      obtain ⟨g1, g2, g3, g4⟩ := h3 i hi
      have q : ∀ (f : Nat → Int32) (x : Int32), upd f (96 + n) x (24 * 4 + i) = f (24 * 4 + i) := fun f x => pk_un ne
      simp only [q]
      exact ⟨g1, g2, g3, g4⟩
  · refine rw_congr (C r hr) (fun i hi => ?_) (fun j hj => rfl) (pk_un c) rfl (fun i hi => ?_) (fun j hj => ⟨rfl, rfl, rfl⟩) (pk_un c) rfl
    · have ne : 24 * r + i ≠ 96 + n := by omega
      exact ⟨pk_un ne, pk_un ne, pk_un ne, pk_un ne⟩
    · have ne : 24 * r + i ≠ 96 + n := by omega
      exact ⟨pk_un ne, pk_un ne, pk_un ne, pk_un ne⟩
theorem tr_addk {n : Nat} {x1 x2 x3 x4 x5 : Int32} (C : (rc_kept a_op a_opA a_opB a_opLine a_guards a_length a_handlers b_kOp b_kA b_kB b_kLine b_kFrom b_kTo b_kAt b_kLength b_kHandlers)) (hn : n < 24) :
    (rc_kept (upd a_op (96 + n) x2) (upd a_opA (96 + n) x3) (upd a_opB (96 + n) x4) (upd a_opLine (96 + n) x5) a_guards (upd a_length 4 x1) a_handlers b_kOp b_kA b_kB b_kLine b_kFrom b_kTo b_kAt b_kLength b_kHandlers) := by
  intro q hq
  refine rw_congr (C q hq) (fun i hi => ?_) (fun j hj => rfl) (pk_un (by omega)) rfl (fun i hi => ⟨rfl, rfl, rfl, rfl⟩) (fun j hj => ⟨rfl, rfl, rfl⟩) rfl rfl
  have ne : 24 * (5 + q) + i ≠ 96 + n := by omega
  exact ⟨pk_un ne, pk_un ne, pk_un ne, pk_un ne⟩
end
end
section
/-! copies between two arrays -/
def cy (f g : Nat → Int32) (s t k : Nat) : Nat → Int32 := fun j => if t ≤ j ∧ j < t + k then g (j - t + s) else f j
theorem cy_0 (f g : Nat → Int32) (s t : Nat) : cy f g s t 0 = f := by
  funext j
  exact if_neg (by omega)
theorem cy_s {f g : Nat → Int32} {s t k : Nat} {x : Int32} (hx : x = g (s + k)) : upd (cy f g s t k) (t + k) x = cy f g s t (k + 1) := by
  subst hx
  funext j
  unfold upd cy
  by_cases c : j = t + k
  · rw [if_pos c, if_pos (by omega)]
    exact congrArg g (by omega)
  · rw [if_neg c]
    by_cases d : t ≤ j ∧ j < t + k
    · rw [if_pos d, if_pos (by omega)]
    · rw [if_neg d, if_neg (by omega)]
theorem cy_at {f g : Nat → Int32} {s t k j x : Nat} (h1 : t ≤ j) (h2 : j < t + k) (e : j - t + s = x) : cy f g s t k j = g x := by
  unfold cy
  rw [if_pos ⟨h1, h2⟩, e]
theorem cy_out {f g : Nat → Int32} {s t k j : Nat} (h : j < t ∨ t + k ≤ j) : cy f g s t k j = f j := if_neg (by omega)
end
section
/-! X: weigh -/
def sv_c0 (ca rs st : Nat → Int32) (m p : Nat) : Int32 := if p < 24 then ca (24 * m + p) - rs (24 * m + p) - st (24 * m + p) else 0
def sv_u (un : Nat → Int32) (ld : Nat → Nat) (ao : Nat → Int32) (E : Nat) : Nat → Int32 := fun p => if p < 25 then nI (fl_un ld ao p E) else un p
def sv_b (ba : Nat → Int32) (c0 : Nat → Int32) (ld : Nat → Nat) (ao K : Nat → Int32) (E : Nat) : Nat → Int32 := fun p => if p < 25 then c0 p + fl_bal ld ao K p E else ba p
def sv_u0 (un : Nat → Int32) (k : Nat) : Nat → Int32 := fun p => if p < k then 0 else un p
def sv_b0 (ba c0 : Nat → Int32) (k : Nat) : Nat → Int32 := fun p => if p < k then c0 p else ba p
section
variable {f_load : Int32} {f_depth : Int32} {f_begun : Int32} {f_outcome : Int32} {f_result : Int32} {a_op : (Nat → Int32)} {a_opA : (Nat → Int32)} {a_opB : (Nat → Int32)} {a_opLine : (Nat → Int32)} {a_length : (Nat → Int32)} {a_guards : (Nat → Int32)} {a_handlers : (Nat → Int32)} {a_kept : (Nat → Int32)} {a_keptLoad : (Nat → Int32)} {a_counter : (Nat → Int32)} {a_raised : (Nat → Int32)} {a_stopped : (Nat → Int32)} {a_caught : (Nat → Int32)} {a_unbegun : (Nat → Int32)} {a_leads : (Nat → Int32)} {a_counts : (Nat → Int32)} {a_adds : (Nat → Int64)} {a_goes : (Nat → Int64)} {a_needed : (Nat → Int32)} {a_known : (Nat → Int32)} {a_solved : (Nat → Int32)} {a_open : (Nat → Int32)} {a_unknown : (Nat → Int32)} {a_balance : (Nat → Int32)} {a_group : (Nat → Int32)} {a_first : (Nat → Int32)} {a_last : (Nat → Int32)} {a_sum : (Nat → Int64)} {a_often : (Nat → Int32)} {a_told : (Nat → Int32)} {a_method : (Nat → Int32)} {a_pc : (Nat → Int32)} {a_start : (Nat → Int32)} {a_here : (Nat → Int32)} {a_path : (Nat → Int64)} {a_coming : (Nat → Int64)} {a_variable : (Nat → Int32)} {g_depth : Int32} {g_steps : Int32} {g_result : Int32} {g_outcome : Int32} {g_load : Int32} {g_over : Int32} {b_op : (Nat → Int32)} {b_a : (Nat → Int32)} {b_b : (Nat → Int32)} {b_line : (Nat → Int32)} {b_length : (Nat → Int32)} {b_from : (Nat → Int32)} {b_to : (Nat → Int32)} {b_at : (Nat → Int32)} {b_handlers : (Nat → Int32)} {b_begun : (Nat → Int32)} {b_taken : (Nat → Int32)} {b_thrown : (Nat → Int32)} {b_rowI : (Nat → Int32)} {b_rowWay : (Nat → Int32)} {b_rowLength : (Nat → Int32)} {b_times : (Nat → Int32)} {b_told : (Nat → Int32)} {b_kOp : (Nat → Int32)} {b_kA : (Nat → Int32)} {b_kB : (Nat → Int32)} {b_kLine : (Nat → Int32)} {b_kLength : (Nat → Int32)} {b_kFrom : (Nat → Int32)} {b_kTo : (Nat → Int32)} {b_kAt : (Nat → Int32)} {b_kHandlers : (Nat → Int32)} {b_kBegun : (Nat → Int32)} {b_kTaken : (Nat → Int32)} {b_kThrown : (Nat → Int32)} {b_kept : (Nat → Int32)} {b_method : (Nat → Int32)} {b_pc : (Nat → Int32)} {b_variable : (Nat → Int32)} {b_hereI : (Nat → Int32)} {b_hereWay : (Nat → Int32)} {b_hereLength : (Nat → Int32)} {b_into : (Nat → Int32)} {b_kLoad : (Nat → Int32)} {b_part : (Nat → Int32)}
theorem xv_74 {m : Nat} {ld : Nat → Nat} {un ba : Nat → Int32} (hm : m < 4) (hl : ∀ e, e < 97 → a_leads (97 * m + e) = xp_I ld e) (hj : ∀ e, e < 97 → ¬ a_open e = 0 → pg_j ld e) {post : SX → Prop}
    (K : post (f_load, f_depth, f_begun, f_outcome, f_result, a_op, a_opA, a_opB, a_opLine, a_length, a_guards, a_handlers, a_kept, a_keptLoad, a_counter, a_raised, a_stopped, a_caught, a_unbegun, a_leads, a_counts, a_adds, a_goes, a_needed, a_known, a_solved, a_open, (sv_u un ld a_open 97), (sv_b ba (sv_c0 a_caught a_raised a_stopped m) ld a_open (fun e => a_known (97 * m + e)) 97), a_group, a_first, a_last, a_sum, a_often, a_told, a_method, a_pc, a_start, a_here, a_path, a_coming, a_variable)) :
    ∀ d e, e + d = 97 → (wX_weigh_74 post (nI m) f_load f_depth f_begun f_outcome f_result (d + 1) (nI e) a_op a_opA a_opB a_opLine a_length a_guards a_handlers a_kept a_keptLoad a_counter a_raised a_stopped a_caught a_unbegun a_leads a_counts a_adds a_goes a_needed a_known a_solved a_open (sv_u un ld a_open e) (sv_b ba (sv_c0 a_caught a_raised a_stopped m) ld a_open (fun e => a_known (97 * m + e)) e) a_group a_first a_last a_sum a_often a_told a_method a_pc a_start a_here a_path a_coming a_variable) := by
  intro d
  induction d with
  | zero =>
    intro e he
    obtain rfl : e = 97 := by omega
    exact br_t (nI_le (b := 97) (Nat.le_refl 97) (by decide)) K
  | succ d ih =>
    intro e he
    have h1 := ih (e + 1) (by omega)
    have i1 : vp_in (97 * nI m + nI e) 388 := pk_in (97 * m + e) 388 (by omega) (qa_97 m e)
    refine br_f (nI_ge (b := 97) (by omega) (by decide)) ⟨i1, nm_r (e' := xp_I ld e) (qa_r _ (qa_97 m e) (hl e (by omega))) ?_⟩
    unfold xp_I
    by_cases hv : ld e < 25
    · rw [if_pos hv]
      have hs := pw_src_le (e := e) (by omega)
      refine br_t (nI_pos' (by omega)) ?_
      refine qw_src (by omega) ⟨pk_in e 97 (by omega), ?_⟩
      have is : vp_in (nI (pw_src e)) 25 := pk_in (pw_src e) 25 (by omega)
      have il : vp_in (nI (ld e)) 25 := pk_in (ld e) 25 (by omega)
      have ro : a_open (nI e).toNatClampNeg = a_open e := qa_rr e rfl
      by_cases c : a_open e = 0
      · have eu : sv_u un ld a_open (e + 1) = sv_u un ld a_open e := by
          funext p
          unfold sv_u
          by_cases cp : p < 25
          · rw [if_pos cp, if_pos cp]
            show nI (fl_un ld a_open p e + fl_uf ld a_open p e) = _
            have : fl_uf ld a_open p e = 0 := if_neg (fun z => z.2 c)
            rw [this]; rfl
          · rw [if_neg cp, if_neg cp]
        rw [eu] at h1
        have rk : a_known (97 * nI m + nI e).toNatClampNeg = a_known (97 * m + e) := qa_rr _ (qa_97 m e)
        refine br_t (ro.trans c) ⟨il, i1, il, nm_r (e' := upd (sv_b ba (sv_c0 a_caught a_raised a_stopped m) ld a_open (fun e => a_known (97 * m + e)) e) (ld e) (sv_b ba (sv_c0 a_caught a_raised a_stopped m) ld a_open (fun e => a_known (97 * m + e)) e (ld e) + a_known (97 * m + e))) ?_ ⟨is, i1, is, nm_r (e' := sv_b ba (sv_c0 a_caught a_raised a_stopped m) ld a_open (fun e => a_known (97 * m + e)) (e + 1)) ?_ (nm_r (nI_1 e) h1)⟩⟩
        · rw [rk, nI_clamp (by omega)]
        · rw [rk, nI_clamp (by omega)]
          funext p
          have eb : ∀ q, q < 25 → sv_b ba (sv_c0 a_caught a_raised a_stopped m) ld a_open (fun e => a_known (97 * m + e)) e q = (sv_c0 a_caught a_raised a_stopped m) q + fl_bal ld a_open (fun e => a_known (97 * m + e)) q e := fun q hq => if_pos hq
          by_cases cp : p < 25
          · have en : sv_b ba (sv_c0 a_caught a_raised a_stopped m) ld a_open (fun e => a_known (97 * m + e)) (e + 1) p = (sv_c0 a_caught a_raised a_stopped m) p + (fl_bal ld a_open (fun e => a_known (97 * m + e)) p e + fl_bf ld a_open (fun e => a_known (97 * m + e)) p e) := if_pos cp
            have ef : fl_bf ld a_open (fun e => a_known (97 * m + e)) p e = (if ld e = p then a_known (97 * m + e) else 0) - (if pw_src e = p then a_known (97 * m + e) else 0) := if_pos ⟨hv, c⟩
            rw [en, ef]
            unfold upd
            have ep := eb p cp
            by_cases c1 : p = pw_src e
            · by_cases c2 : p = ld e
              · rw [if_pos c1, if_pos (c1.symm.trans c2), if_pos c2.symm, if_pos c1.symm, ← c2, ep]; grind
              · rw [if_pos c1, if_neg (fun z => c2 (c1.trans z)), if_neg (fun z => c2 z.symm), if_pos c1.symm, ← c1, ep]; grind
            · by_cases c2 : p = ld e
              · rw [if_neg c1, if_pos c2, if_pos c2.symm, if_neg (fun z => c1 z.symm), ← c2, ep]; grind
              · rw [if_neg c1, if_neg c2, if_neg (fun z => c2 z.symm), if_neg (fun z => c1 z.symm), ep]; grind
          · have en : sv_b ba (sv_c0 a_caught a_raised a_stopped m) ld a_open (fun e => a_known (97 * m + e)) (e + 1) p = ba p := if_neg cp
            have eo : sv_b ba (sv_c0 a_caught a_raised a_stopped m) ld a_open (fun e => a_known (97 * m + e)) e p = ba p := if_neg cp
            rw [en]
            unfold upd
            rw [if_neg (by omega), if_neg (by omega), eo]
      · have eb : sv_b ba (sv_c0 a_caught a_raised a_stopped m) ld a_open (fun e => a_known (97 * m + e)) (e + 1) = sv_b ba (sv_c0 a_caught a_raised a_stopped m) ld a_open (fun e => a_known (97 * m + e)) e := by
          funext p
          unfold sv_b
          by_cases cp : p < 25
          · rw [if_pos cp, if_pos cp]
            show _ + (fl_bal ld a_open (fun e => a_known (97 * m + e)) p e + fl_bf ld a_open (fun e => a_known (97 * m + e)) p e) = _
            have : fl_bf ld a_open (fun e => a_known (97 * m + e)) p e = 0 := if_neg (fun z => c z.2)
            rw [this]; grind
          · rw [if_neg cp, if_neg cp]
        rw [eb] at h1
        have hne : pw_src e ≠ ld e := fun z => (hj e (by omega) c).2 (by rw [z])
        have ule : ∀ q, fl_un ld a_open q e ≤ 30 := fun q => Nat.le_trans (sn_N_mono _ (by omega)) (fl_un_le hj q)
        have ev : ∀ q, q < 25 → sv_u un ld a_open e q = nI (fl_un ld a_open q e) := fun q hq => if_pos hq
        have u1 := ule (pw_src e)
        have u2 := ule (ld e)
        refine br_f (fun z => c (ro.symm.trans z)) ⟨is, is, nm_r (e' := upd (sv_u un ld a_open e) (pw_src e) (nI (fl_un ld a_open (pw_src e) e + 1))) ?_ ⟨il, il, nm_r (e' := sv_u un ld a_open (e + 1)) ?_ (nm_r (nI_1 e) h1)⟩⟩
        · rw [nI_clamp (by omega), ev _ (by omega), nI_1, qa_bb (by omega)]
        · rw [nI_clamp (by omega), pk_un (fun z => hne z.symm), ev _ (by omega), nI_1, qa_bb (by omega)]
          funext p
          by_cases cp : p < 25
          · have en : sv_u un ld a_open (e + 1) p = nI (fl_un ld a_open p e + fl_uf ld a_open p e) := if_pos cp
            have ef : fl_uf ld a_open p e = (if pw_src e = p then 1 else 0) + (if ld e = p then 1 else 0) := if_pos ⟨hv, c⟩
            rw [en, ef]
            unfold upd
            by_cases c2 : p = ld e
            · have q1 : ¬ pw_src e = p := fun z => hne (z.trans c2)
              simp only [if_pos c2, if_pos c2.symm, if_neg q1, ← c2, Nat.zero_add, if_true]
            · have q2 : ¬ ld e = p := fun z => c2 z.symm
              by_cases c1 : p = pw_src e
              · simp only [if_neg c2, if_neg q2, if_pos c1, if_pos c1.symm, ← c1, Nat.add_zero, if_true]
              · have q1 : ¬ pw_src e = p := fun z => c1 z.symm
                simp only [if_neg c2, if_neg q2, if_neg c1, if_neg q1, ev p cp, Nat.add_zero]
          · have en : sv_u un ld a_open (e + 1) p = un p := if_neg cp
            have eo : sv_u un ld a_open e p = un p := if_neg cp
            rw [en]
            unfold upd
            rw [if_neg (by omega), if_neg (by omega), eo]
    · rw [if_neg hv]
      refine br_f (by decide) (nm_r (nI_1 e) ?_)
      have eu : sv_u un ld a_open (e + 1) = sv_u un ld a_open e := by
        funext p
        unfold sv_u
        by_cases cp : p < 25
        · rw [if_pos cp, if_pos cp]
          show nI (fl_un ld a_open p e + fl_uf ld a_open p e) = _
          have : fl_uf ld a_open p e = 0 := if_neg (fun z => hv z.1)
          rw [this]; rfl
        · rw [if_neg cp, if_neg cp]
      have eb : sv_b ba (sv_c0 a_caught a_raised a_stopped m) ld a_open (fun e => a_known (97 * m + e)) (e + 1) = sv_b ba (sv_c0 a_caught a_raised a_stopped m) ld a_open (fun e => a_known (97 * m + e)) e := by
        funext p
        unfold sv_b
        by_cases cp : p < 25
        · rw [if_pos cp, if_pos cp]
          show _ + (fl_bal ld a_open (fun e => a_known (97 * m + e)) p e + fl_bf ld a_open (fun e => a_known (97 * m + e)) p e) = _
          have : fl_bf ld a_open (fun e => a_known (97 * m + e)) p e = 0 := if_neg (fun z => hv z.1)
          rw [this]; grind
        · rw [if_neg cp, if_neg cp]
      rw [eu, eb] at h1
      exact h1
theorem xv_weigh {m : Nat} {ld : Nat → Nat} (hm : m < 4) (hl : ∀ e, e < 97 → a_leads (97 * m + e) = xp_I ld e) (hj : ∀ e, e < 97 → ¬ a_open e = 0 → pg_j ld e) {post : SX → Prop}
    (K : post (f_load, f_depth, f_begun, f_outcome, f_result, a_op, a_opA, a_opB, a_opLine, a_length, a_guards, a_handlers, a_kept, a_keptLoad, a_counter, a_raised, a_stopped, a_caught, a_unbegun, a_leads, a_counts, a_adds, a_goes, a_needed, a_known, a_solved, a_open, (sv_u a_unknown ld a_open 97), (sv_b a_balance (sv_c0 a_caught a_raised a_stopped m) ld a_open (fun e => a_known (97 * m + e)) 97), a_group, a_first, a_last, a_sum, a_often, a_told, a_method, a_pc, a_start, a_here, a_path, a_coming, a_variable)) : (wpX_weigh post (f_load, f_depth, f_begun, f_outcome, f_result, a_op, a_opA, a_opB, a_opLine, a_length, a_guards, a_handlers, a_kept, a_keptLoad, a_counter, a_raised, a_stopped, a_caught, a_unbegun, a_leads, a_counts, a_adds, a_goes, a_needed, a_known, a_solved, a_open, a_unknown, a_balance, a_group, a_first, a_last, a_sum, a_often, a_told, a_method, a_pc, a_start, a_here, a_path, a_coming, a_variable) (nI m)) := by
  have main : ∀ d k, k + d = 25 → (wX_weigh_2 post (nI m) f_load f_depth f_begun f_outcome f_result (d + 1) (nI k) a_op a_opA a_opB a_opLine a_length a_guards a_handlers a_kept a_keptLoad a_counter a_raised a_stopped a_caught a_unbegun a_leads a_counts a_adds a_goes a_needed a_known a_solved a_open (sv_u0 a_unknown k) (sv_b0 a_balance (sv_c0 a_caught a_raised a_stopped m) k) a_group a_first a_last a_sum a_often a_told a_method a_pc a_start a_here a_path a_coming a_variable) := by
    intro d
    induction d with
    | zero =>
      intro k hk
      obtain rfl : k = 25 := by omega
      have h := xv_74 (un := a_unknown) (ba := a_balance) hm hl hj K 97 0 rfl
      have e1 : sv_u a_unknown ld a_open 0 = sv_u0 a_unknown 25 := rfl
      have e2 : sv_b a_balance (sv_c0 a_caught a_raised a_stopped m) ld a_open (fun e => a_known (97 * m + e)) 0 = sv_b0 a_balance (sv_c0 a_caught a_raised a_stopped m) 25 := by
        funext p
        unfold sv_b sv_b0
        by_cases cp : p < 25
        · rw [if_pos cp, if_pos cp]
          show _ + (0 : Int32) = _
          grind
        · rw [if_neg cp, if_neg cp]
      rw [e1, e2] at h
      exact br_t (nI_le (b := 25) (Nat.le_refl 25) (by decide)) ⟨98, h⟩
    | succ d ih =>
      intro k hk
      have h1 := ih (k + 1) (by omega)
      have ik : vp_in (nI k) 25 := pk_in k 25 (by omega)
      have eb : ∀ x, x = (sv_c0 a_caught a_raised a_stopped m) k → upd (sv_b0 a_balance (sv_c0 a_caught a_raised a_stopped m) k) (nI k).toNatClampNeg x = sv_b0 a_balance (sv_c0 a_caught a_raised a_stopped m) (k + 1) := by
        intro x hx
        rw [nI_clamp (by omega), hx]
        funext p
        unfold upd sv_b0
        by_cases c : p = k
        · rw [if_pos c, if_pos (by omega), c]
        · rw [if_neg c]
          by_cases c2 : p < k
          · rw [if_pos c2, if_pos (by omega)]
          · rw [if_neg c2, if_neg (by omega)]
      refine br_f (nI_ge (b := 25) (by omega) (by decide)) ⟨ik, nm_r (e' := sv_u0 a_unknown (k + 1)) ?_ ?_⟩
      · rw [qa_b0, nI_clamp (by omega)]
        funext p
        unfold upd sv_u0
        by_cases c : p = k
        · rw [if_pos c, if_pos (by omega)]
        · rw [if_neg c]
          by_cases c2 : p < k
          · rw [if_pos c2, if_pos (by omega)]
          · rw [if_neg c2, if_neg (by omega)]
      · by_cases c : k = 24
        · exact br_t (by rw [c]; exact nI_le (a := 24) (Nat.le_refl _) (by omega)) ⟨ik, nm_r (eb 0 (if_neg (by omega)).symm) (nm_r (nI_1 k) h1)⟩
        · have i2 : vp_in (24 * nI m + nI k) 408 := pk_in (24 * m + k) 408 (by omega) (qa_24 m k)
          refine br_f (nI_ge (b := 24) (by omega) (by decide)) ⟨i2, i2, i2, ik, nm_r (eb _ ?_) (nm_r (nI_1 k) h1)⟩
          have r : ∀ f : Nat → Int32, f (24 * nI m + nI k).toNatClampNeg = f (24 * m + k) := fun f => qa_rr _ (qa_24 m k)
          rw [r a_caught, r a_raised, r a_stopped]
          exact (if_pos (by omega)).symm
  have h := main 25 0 rfl
  have e1 : sv_u0 a_unknown 0 = a_unknown := by
    funext p
    exact if_neg (by omega)
  have e2 : sv_b0 a_balance (sv_c0 a_caught a_raised a_stopped m) 0 = a_balance := by
    funext p
    exact if_neg (by omega)
  rw [e1, e2] at h
  exact ⟨26, h⟩
end
end
section
/-! X: solve -/
def sv_1 (ao : Nat → Int32) (e : Nat) : Nat := if ao e = 0 then 0 else 1
def sv_pass (ld : Nat → Nat) (F ao0 kn0 : Nat → Int32) (m e : Nat) (ao kn : Nat → Int32) (c : Nat) : Prop :=
  (∀ x, e ≤ x → x < 97 → ao x = ao0 x) ∧ (∀ x, x < 97 → ¬ ao x = 0 → ¬ ao0 x = 0) ∧ (∀ x, x < e → ¬ ao0 x = 0 → fl_can ld ao0 x → ao x = 0) ∧
  (∀ x, x < 97 → ld x < 25 → ao x = 0 → kn (97 * m + x) = F x) ∧ (∀ j, (j < 97 * m ∨ 97 * m + 97 ≤ j) → kn j = kn0 j) ∧ c = sn_N (sv_1 ao) 97
/-- a way of the pass stays as it is -/
theorem sv_keep {ld : Nat → Nat} {F ao0 kn0 : Nat → Int32} {m e : Nat} {ao kn : Nat → Int32} {c : Nat} (h : sv_pass ld F ao0 kn0 m e ao kn c) (hx : ¬ ao0 e = 0 → ¬ fl_can ld ao0 e) : sv_pass ld F ao0 kn0 m (e + 1) ao kn c := by
  obtain ⟨h1, h2, h3, h4, h5, h6⟩ := h
  refine ⟨fun x hx1 hx2 => h1 x (by omega) hx2, h2, fun x hx1 hx2 hx3 => ?_, h4, h5, h6⟩
  by_cases c : x = e
  · subst c
    exact absurd hx3 (hx hx2)
  · exact h3 x (by omega) hx2 hx3
/-- .. or is worked out -/
theorem sv_done {ld : Nat → Nat} {F ao0 kn0 : Nat → Int32} {m e : Nat} {ao kn : Nat → Int32} {c : Nat} (h : sv_pass ld F ao0 kn0 m e ao kn c) (he : e < 97) (ho : ¬ ao e = 0) {z : Int32} (hz : z = F e) :
    ∃ c', c = c' + 1 ∧ sv_pass ld F ao0 kn0 m (e + 1) (upd ao e 0) (upd kn (97 * m + e) z) c' := by
  obtain ⟨h1, h2, h3, h4, h5, h6⟩ := h
  have hc : sn_N (sv_1 ao) 97 = sn_N (sv_1 (upd ao e 0)) 97 + 1 := by
    refine sn_N_up he ?_ (fun x hx hne => ?_)
    · show (if ao e = 0 then 0 else 1) = (if upd ao e 0 e = 0 then 0 else 1) + 1
      rw [if_neg ho, pk_us, if_pos rfl]
    · show (if ao x = 0 then 0 else 1) = (if upd ao e 0 x = 0 then 0 else 1)
      rw [pk_un hne]
  refine ⟨_, h6.trans hc, fun x hx1 hx2 => ?_, fun x hx1 hx2 => ?_, fun x hx1 hx2 hx3 => ?_, fun x hx1 hx2 hx3 => ?_, fun j hj => ?_, rfl⟩
  · rw [pk_un (by omega)]; exact h1 x (by omega) hx2
  · by_cases d : x = e
    · subst d
      exact absurd pk_us hx2
    · rw [pk_un d] at hx2
      exact h2 x hx1 hx2
  · by_cases d : x = e
    · subst d
      exact pk_us
    · rw [pk_un d]
      exact h3 x (by omega) hx2 hx3
  · by_cases d : x = e
    · subst d
      rw [pk_us]; exact hz
    · rw [pk_un d] at hx3
      rw [pk_un (by omega)]
      exact h4 x hx1 hx2 hx3
  · rw [pk_un (by omega)]
    exact h5 j hj
section
variable {f_load : Int32} {f_depth : Int32} {f_begun : Int32} {f_outcome : Int32} {f_result : Int32} {a_op : (Nat → Int32)} {a_opA : (Nat → Int32)} {a_opB : (Nat → Int32)} {a_opLine : (Nat → Int32)} {a_length : (Nat → Int32)} {a_guards : (Nat → Int32)} {a_handlers : (Nat → Int32)} {a_kept : (Nat → Int32)} {a_keptLoad : (Nat → Int32)} {a_counter : (Nat → Int32)} {a_raised : (Nat → Int32)} {a_stopped : (Nat → Int32)} {a_caught : (Nat → Int32)} {a_unbegun : (Nat → Int32)} {a_leads : (Nat → Int32)} {a_counts : (Nat → Int32)} {a_adds : (Nat → Int64)} {a_goes : (Nat → Int64)} {a_needed : (Nat → Int32)} {a_known : (Nat → Int32)} {a_solved : (Nat → Int32)} {a_open : (Nat → Int32)} {a_unknown : (Nat → Int32)} {a_balance : (Nat → Int32)} {a_group : (Nat → Int32)} {a_first : (Nat → Int32)} {a_last : (Nat → Int32)} {a_sum : (Nat → Int64)} {a_often : (Nat → Int32)} {a_told : (Nat → Int32)} {a_method : (Nat → Int32)} {a_pc : (Nat → Int32)} {a_start : (Nat → Int32)} {a_here : (Nat → Int32)} {a_path : (Nat → Int64)} {a_coming : (Nat → Int64)} {a_variable : (Nat → Int32)} {g_depth : Int32} {g_steps : Int32} {g_result : Int32} {g_outcome : Int32} {g_load : Int32} {g_over : Int32} {b_op : (Nat → Int32)} {b_a : (Nat → Int32)} {b_b : (Nat → Int32)} {b_line : (Nat → Int32)} {b_length : (Nat → Int32)} {b_from : (Nat → Int32)} {b_to : (Nat → Int32)} {b_at : (Nat → Int32)} {b_handlers : (Nat → Int32)} {b_begun : (Nat → Int32)} {b_taken : (Nat → Int32)} {b_thrown : (Nat → Int32)} {b_rowI : (Nat → Int32)} {b_rowWay : (Nat → Int32)} {b_rowLength : (Nat → Int32)} {b_times : (Nat → Int32)} {b_told : (Nat → Int32)} {b_kOp : (Nat → Int32)} {b_kA : (Nat → Int32)} {b_kB : (Nat → Int32)} {b_kLine : (Nat → Int32)} {b_kLength : (Nat → Int32)} {b_kFrom : (Nat → Int32)} {b_kTo : (Nat → Int32)} {b_kAt : (Nat → Int32)} {b_kHandlers : (Nat → Int32)} {b_kBegun : (Nat → Int32)} {b_kTaken : (Nat → Int32)} {b_kThrown : (Nat → Int32)} {b_kept : (Nat → Int32)} {b_method : (Nat → Int32)} {b_pc : (Nat → Int32)} {b_variable : (Nat → Int32)} {b_hereI : (Nat → Int32)} {b_hereWay : (Nat → Int32)} {b_hereLength : (Nat → Int32)} {b_into : (Nat → Int32)} {b_kLoad : (Nat → Int32)} {b_part : (Nat → Int32)}
theorem xv_238 {m e c : Nat} {z : Int32} (hm : m < 4) (he : e < 97) {post : SX → Prop} {J106 : Int32 → Int32 → Int32 → Int32 → Int32 → Int32 → (Nat → Int32) → (Nat → Int32) → (Nat → Int32) → (Nat → Int32) → (Nat → Int32) → (Nat → Int32) → (Nat → Int32) → (Nat → Int32) → (Nat → Int32) → (Nat → Int32) → (Nat → Int32) → (Nat → Int32) → (Nat → Int32) → (Nat → Int32) → (Nat → Int32) → (Nat → Int32) → (Nat → Int64) → (Nat → Int64) → (Nat → Int32) → (Nat → Int32) → (Nat → Int32) → (Nat → Int32) → (Nat → Int32) → (Nat → Int32) → (Nat → Int32) → (Nat → Int32) → (Nat → Int32) → (Nat → Int64) → (Nat → Int32) → (Nat → Int32) → (Nat → Int32) → (Nat → Int32) → (Nat → Int32) → (Nat → Int32) → (Nat → Int64) → (Nat → Int64) → (Nat → Int32) → Prop} {J117 : Int32 → Int32 → (Nat → Int32) → (Nat → Int32) → (Nat → Int32) → (Nat → Int32) → (Nat → Int32) → (Nat → Int32) → (Nat → Int32) → (Nat → Int32) → (Nat → Int32) → (Nat → Int32) → (Nat → Int32) → (Nat → Int32) → (Nat → Int32) → (Nat → Int32) → (Nat → Int32) → (Nat → Int32) → (Nat → Int64) → (Nat → Int64) → (Nat → Int32) → (Nat → Int32) → (Nat → Int32) → (Nat → Int32) → (Nat → Int32) → (Nat → Int32) → (Nat → Int32) → (Nat → Int32) → (Nat → Int32) → (Nat → Int64) → (Nat → Int32) → (Nat → Int32) → (Nat → Int32) → (Nat → Int32) → (Nat → Int32) → (Nat → Int32) → (Nat → Int64) → (Nat → Int64) → (Nat → Int32) → Prop} (K : J117 (nI c) (nI (e + 1)) a_op a_opA a_opB a_opLine a_length a_guards a_handlers a_kept a_keptLoad a_counter a_raised a_stopped a_caught a_unbegun a_leads a_counts a_adds a_goes a_needed (upd a_known (97 * m + e) z) a_solved (upd a_open e 0) a_unknown a_balance a_group a_first a_last a_sum a_often a_told a_method a_pc a_start a_here a_path a_coming a_variable) :
    (wX_solve_238 post J106 J117 (nI m) (nI (c + 1)) (nI e) z (97 * nI m + nI e) f_load f_depth f_begun f_outcome f_result a_op a_opA a_opB a_opLine a_length a_guards a_handlers a_kept a_keptLoad a_counter a_raised a_stopped a_caught a_unbegun a_leads a_counts a_adds a_goes a_needed a_known a_solved a_open a_unknown a_balance a_group a_first a_last a_sum a_often a_told a_method a_pc a_start a_here a_path a_coming a_variable) := by
  refine ⟨pk_in (97 * m + e) 388 (by omega) (qa_97 m e), nm_r (e' := upd a_known (97 * m + e) z) (by rw [qa_97, nI_clamp (by omega)]) ⟨pk_in e 97 he, nm_r (e' := upd a_open e 0) (by rw [qa_z0, nI_clamp (by omega)]) (nm_r (pk_m1 c) (nm_r (nI_1 e) K))⟩⟩
/-- one pass over the ways -/
theorem xv_117 {m : Nat} {ld : Nat → Nat} {F ao0 c0 un0 ba0 kn0 : Nat → Int32} (hm : m < 4) (hl : ∀ e, e < 97 → a_leads (97 * m + e) = xp_I ld e) (hj : ∀ e, e < 97 → ¬ ao0 e = 0 → pg_j ld e)
    (hc : ∀ e, e < 97 → ld e < 25 → (pw_src e < 24 → c0 (pw_src e) + fl_in ld F (pw_src e) = fl_out ld F (pw_src e)) ∧ (ld e < 24 → c0 (ld e) + fl_in ld F (ld e) = fl_out ld F (ld e)))
    (hK : ∀ e, e < 97 → ld e < 25 → ao0 e = 0 → kn0 (97 * m + e) = F e) {post : SX → Prop} {J106 : Int32 → Int32 → Int32 → Int32 → Int32 → Int32 → (Nat → Int32) → (Nat → Int32) → (Nat → Int32) → (Nat → Int32) → (Nat → Int32) → (Nat → Int32) → (Nat → Int32) → (Nat → Int32) → (Nat → Int32) → (Nat → Int32) → (Nat → Int32) → (Nat → Int32) → (Nat → Int32) → (Nat → Int32) → (Nat → Int32) → (Nat → Int32) → (Nat → Int64) → (Nat → Int64) → (Nat → Int32) → (Nat → Int32) → (Nat → Int32) → (Nat → Int32) → (Nat → Int32) → (Nat → Int32) → (Nat → Int32) → (Nat → Int32) → (Nat → Int32) → (Nat → Int64) → (Nat → Int32) → (Nat → Int32) → (Nat → Int32) → (Nat → Int32) → (Nat → Int32) → (Nat → Int32) → (Nat → Int64) → (Nat → Int64) → (Nat → Int32) → Prop}
    (K : ∀ ao kn c, sv_pass ld F ao0 kn0 m 97 ao kn c → J106 (nI c) f_load f_depth f_begun f_outcome f_result a_op a_opA a_opB a_opLine a_length a_guards a_handlers a_kept a_keptLoad a_counter a_raised a_stopped a_caught a_unbegun a_leads a_counts a_adds a_goes a_needed kn a_solved ao (sv_u un0 ld ao0 97) (sv_b ba0 c0 ld ao0 (fun e => kn0 (97 * m + e)) 97) a_group a_first a_last a_sum a_often a_told a_method a_pc a_start a_here a_path a_coming a_variable) :
    ∀ d e, e + d = 97 → ∀ ao kn c, sv_pass ld F ao0 kn0 m e ao kn c → (wX_solve_117 post J106 (nI m) f_load f_depth f_begun f_outcome f_result (d + 1) (nI c) (nI e) a_op a_opA a_opB a_opLine a_length a_guards a_handlers a_kept a_keptLoad a_counter a_raised a_stopped a_caught a_unbegun a_leads a_counts a_adds a_goes a_needed kn a_solved ao (sv_u un0 ld ao0 97) (sv_b ba0 c0 ld ao0 (fun e => kn0 (97 * m + e)) 97) a_group a_first a_last a_sum a_often a_told a_method a_pc a_start a_here a_path a_coming a_variable) := by
  intro d
  induction d with
  | zero =>
    intro e he ao kn c h
    obtain rfl : e = 97 := by omega
    exact br_t (nI_le (b := 97) (Nat.le_refl 97) (by decide)) (K ao kn c h)
  | succ d ih =>
    intro e he ao kn c h
    have ie : vp_in (nI e) 97 := pk_in e 97 (by omega)
    have hao : ao e = ao0 e := h.1 e (Nat.le_refl _) (by omega)
    have ro : ao (nI e).toNatClampNeg = ao e := qa_rr e rfl
    refine br_f (nI_ge (b := 97) (by omega) (by decide)) ⟨ie, ?_⟩
    by_cases co : ao e = 0
    · exact br_t (ro.trans co) (nm_r (nI_1 e) (ih (e + 1) (by omega) ao kn c (sv_keep h (fun z => absurd (hao.symm.trans co) z))))
    · refine br_f (fun z => co (ro.symm.trans z)) ?_
      have co0 : ¬ ao0 e = 0 := fun z => co (hao.trans z)
      have hje := hj e (by omega) co0
      have hv := hje.1
      have hs := pw_src_le (e := e) (by omega)
      have rl : a_leads (97 * nI m + nI e).toNatClampNeg = nI (ld e) := qa_r _ (qa_97 m e) ((hl e (by omega)).trans (if_pos hv))
      refine qw_src (by omega) ⟨pk_in (97 * m + e) 388 (by omega) (qa_97 m e), nm_r rl ?_⟩
      have ule : ∀ q, fl_un ld ao0 q 97 ≤ 30 := fun q => fl_un_le hj q
      have u1 := ule (pw_src e)
      have u2 := ule (ld e)
      have ru : ∀ q, q < 25 → sv_u un0 ld ao0 97 (nI q).toNatClampNeg = nI (fl_un ld ao0 q 97) := fun q hq => qa_r q rfl (if_pos hq)
      have rb : ∀ q, q < 25 → sv_b ba0 c0 ld ao0 (fun e => kn0 (97 * m + e)) 97 (nI q).toNatClampNeg = c0 q + fl_bal ld ao0 (fun e => kn0 (97 * m + e)) q 97 := fun q hq => qa_r q rfl (if_pos hq)
      have il : vp_in (nI (ld e)) 25 := pk_in (ld e) 25 (by omega)
      have is : vp_in (nI (pw_src e)) 25 := pk_in (pw_src e) 25 (by omega)
      -- the other end
      have other : ¬ (pw_src e < 24 ∧ fl_un ld ao0 (pw_src e) 97 = 1) → (wX_solve_176 post J106 (wX_solve_117 post J106 (nI m) f_load f_depth f_begun f_outcome f_result (d + 1)) (nI m) (nI c) (nI e) (nI (pw_src e)) (nI (ld e)) f_load f_depth f_begun f_outcome f_result a_op a_opA a_opB a_opLine a_length a_guards a_handlers a_kept a_keptLoad a_counter a_raised a_stopped a_caught a_unbegun a_leads a_counts a_adds a_goes a_needed kn a_solved ao (sv_u un0 ld ao0 97) (sv_b ba0 c0 ld ao0 (fun e => kn0 (97 * m + e)) 97) a_group a_first a_last a_sum a_often a_told a_method a_pc a_start a_here a_path a_coming a_variable) := by
        intro hno
        refine br_t rfl ?_
        by_cases c24 : ld e = 24
        · exact br_t (by rw [c24]; rfl) (nm_r (nI_1 e) (ih (e + 1) (by omega) ao kn c (sv_keep h (fun _ z => z.elim hno (fun z2 => z2.1 c24)))))
        · have l24 : ld e < 24 := by omega
          refine br_f (fun z => c24 ((nI_eq (b := 24) (by omega) (by omega)).mp z)) ⟨il, ?_⟩
          by_cases cu : fl_un ld ao0 (ld e) 97 ≤ 1
          · have cu1 : fl_un ld ao0 (ld e) 97 = 1 := Nat.le_antisymm cu (fl_ge (by omega) co0 hv (Or.inr rfl))
            have hz : -(sv_b ba0 c0 ld ao0 (fun e => kn0 (97 * m + e)) 97 (nI (ld e)).toNatClampNeg) = F e := by
              rw [rb _ (by omega)]
              exact fl_dst (by omega) hK ((hc e (by omega) hv).2 l24) (by omega) co0 hv rfl cu1
            obtain ⟨c', rfl, h'⟩ := sv_done h (by omega) co hz
            exact br_t (by rw [ru _ (by omega)]; exact nI_le (b := 1) cu (by decide)) (br_t rfl ⟨il, xv_238 hm (by omega) (ih (e + 1) (by omega) _ _ c' h')⟩)
          · exact br_f (by rw [ru _ (by omega)]; exact nI_ge (a := 1) (by omega) (by omega)) (nm_r (nI_1 e) (ih (e + 1) (by omega) ao kn c (sv_keep h (fun _ z => z.elim hno (fun z2 => cu z2.2)))))
      by_cases ca : pw_src e < 24
      · refine br_f (nI_ge (b := 24) ca (by decide)) ⟨is, ?_⟩
        by_cases cu : fl_un ld ao0 (pw_src e) 97 = 1
        · have hz : sv_b ba0 c0 ld ao0 (fun e => kn0 (97 * m + e)) 97 (nI (pw_src e)).toNatClampNeg = F e := by
            rw [rb _ (by omega)]
            exact fl_src (by omega) hK ((hc e (by omega) hv).1 ca) (by omega) co0 hv rfl cu
          obtain ⟨c', rfl, h'⟩ := sv_done h (by omega) co hz
          exact br_t (by rw [ru _ (by omega), cu]; rfl) (br_f (by decide) (br_f (by decide) ⟨is, xv_238 hm (by omega) (ih (e + 1) (by omega) _ _ c' h')⟩))
        · exact br_f (by rw [ru _ (by omega)]; exact fun z => cu ((nI_eq (b := 1) (by omega) (by omega)).mp z)) (other (fun z => cu z.2))
      · exact br_t (nI_le (a := 24) (by omega) (by omega)) (other (fun z => ca z.1))
/-- passes until all is known -/
theorem xv_106 {m : Nat} {ld : Nat → Nat} {F kn0 : Nat → Int32} (hm : m < 4) (hl : ∀ e, e < 97 → a_leads (97 * m + e) = xp_I ld e)
    (hc : ∀ e, e < 97 → ld e < 25 → (pw_src e < 24 → sv_c0 a_caught a_raised a_stopped m (pw_src e) + fl_in ld F (pw_src e) = fl_out ld F (pw_src e)) ∧ (ld e < 24 → sv_c0 a_caught a_raised a_stopped m (ld e) + fl_in ld F (ld e) = fl_out ld F (ld e)))
    {post : SX → Prop} (K : ∀ ao kn un ba, (∀ e, e < 97 → ld e < 25 → kn (97 * m + e) = F e) → (∀ j, (j < 97 * m ∨ 97 * m + 97 ≤ j) → kn j = kn0 j) → post (f_load, f_depth, f_begun, f_outcome, f_result, a_op, a_opA, a_opB, a_opLine, a_length, a_guards, a_handlers, a_kept, a_keptLoad, a_counter, a_raised, a_stopped, a_caught, a_unbegun, a_leads, a_counts, a_adds, a_goes, a_needed, kn, a_solved, ao, un, ba, a_group, a_first, a_last, a_sum, a_often, a_told, a_method, a_pc, a_start, a_here, a_path, a_coming, a_variable)) :
    ∀ N ao kn un ba, sn_N (sv_1 ao) 97 ≤ N → (∀ e, e < 97 → ¬ ao e = 0 → pg_j ld e) → (∀ e, e < 97 → ld e < 25 → ao e = 0 → kn (97 * m + e) = F e) → (∀ j, (j < 97 * m ∨ 97 * m + 97 ≤ j) → kn j = kn0 j) →
      (wX_solve_106 post (nI m) (N + 1) (nI (sn_N (sv_1 ao) 97)) f_load f_depth f_begun f_outcome f_result a_op a_opA a_opB a_opLine a_length a_guards a_handlers a_kept a_keptLoad a_counter a_raised a_stopped a_caught a_unbegun a_leads a_counts a_adds a_goes a_needed kn a_solved ao un ba a_group a_first a_last a_sum a_often a_told a_method a_pc a_start a_here a_path a_coming a_variable) := by
  have hle : ∀ ao, sn_N (sv_1 ao) 97 ≤ 97 := by
    intro ao
    have h3 : ∀ m, sn_N (fun _ => 1) m = m := fun m => by induction m with | zero => rfl | succ m ih => show sn_N (fun _ => 1) m + 1 = m + 1; rw [ih]
    have := sn_N_le (f := sv_1 ao) (g := fun _ => 1) (n := 97) (fun e _ => by unfold sv_1; split <;> omega)
    rw [h3] at this
    exact this
  have zero : ∀ ao : Nat → Int32, sn_N (sv_1 ao) 97 = 0 → ∀ e, e < 97 → ao e = 0 := by
    intro ao h e he
    by_cases c : ao e = 0
    · exact c
    · have := sn_N_ge (f := sv_1 ao) he
      have h1 : sv_1 ao e = 1 := if_neg c
      omega
  intro N
  induction N with
  | zero =>
    intro ao kn un ba hN hj hk hk0
    have z : sn_N (sv_1 ao) 97 = 0 := by omega
    have za := zero ao z
    refine br_t ?_ (K ao kn un ba (fun e he hv => hk e he hv (za e he)) hk0)
    rw [z]; exact nI_le (b := 0) (Nat.le_refl 0) (by decide)
  | succ N ih =>
    intro ao kn un ba hN hj hk hk0
    by_cases z : sn_N (sv_1 ao) 97 = 0
    · have za := zero ao z
      refine br_t ?_ (K ao kn un ba (fun e he hv => hk e he hv (za e he)) hk0)
      rw [z]; exact nI_le (b := 0) (Nat.le_refl 0) (by decide)
    · have h97 := hle ao
      refine br_f (nI_nle (by omega) (by omega)) ?_
      refine xv_weigh hm hl hj ⟨98, ?_⟩
      have hx : ∃ e, e < 97 ∧ ¬ ao e = 0 := by
        apply Classical.byContradiction
        intro hn
        apply z
        have : sn_N (sv_1 ao) 97 = sn_N (fun _ => 0) 97 := sn_N_congr (fun e he => by
          unfold sv_1
          rw [if_pos]
          apply Classical.byContradiction
          intro h
          exact hn ⟨e, he, h⟩)
        rw [this]
        decide
      obtain ⟨e0, h0, ho, hcan⟩ := fl_prog hj hx
      refine xv_117 (un0 := un) (ba0 := ba) (kn0 := kn) hm hl hj hc hk ?_ 97 0 rfl ao kn _ ⟨fun x _ _ => rfl, fun x _ h => h, fun x h => absurd h (by omega), hk, fun j _ => rfl, rfl⟩
      intro ao' kn' c' hp
      obtain ⟨p1, p2, p3, p4, p5, p6⟩ := hp
      rw [p6]
      refine ih ao' kn' _ _ ?_ (fun e he h => hj e he (p2 e he h)) p4 (fun j hj => (p5 j hj).trans (hk0 j hj))
      have lt := sn_N_lt (f := sv_1 ao') (g := sv_1 ao) h0 (fun e he => ?_) ?_
      · omega
      · unfold sv_1
        by_cases c : ao' e = 0
        · rw [if_pos c]; exact Nat.zero_le _
        · rw [if_neg c, if_neg (p2 e he c)]; exact Nat.le_refl _
      · unfold sv_1
        rw [if_pos (p3 e0 h0 ho hcan), if_neg ho]
        exact Nat.zero_lt_one
end
end
section
/-! X: solve as a whole, begins -/
def sv_o (ao : Nat → Int32) (ld : Nat → Nat) (E : Nat) : Nat → Int32 := fun x => if x < E then nI (pg_jn ld x) else ao x
def sv_k (kn ct : Nat → Int32) (m E : Nat) : Nat → Int32 := fun j => if 97 * m ≤ j ∧ j < 97 * m + E then ct j else kn j
theorem pg_jn_01 (ld : Nat → Nat) (e : Nat) : pg_jn ld e = 0 ∨ pg_jn ld e = 1 := by
  unfold pg_jn
  split
  · exact Or.inr rfl
  · exact Or.inl rfl
section
variable {f_load : Int32} {f_depth : Int32} {f_begun : Int32} {f_outcome : Int32} {f_result : Int32} {a_op : (Nat → Int32)} {a_opA : (Nat → Int32)} {a_opB : (Nat → Int32)} {a_opLine : (Nat → Int32)} {a_length : (Nat → Int32)} {a_guards : (Nat → Int32)} {a_handlers : (Nat → Int32)} {a_kept : (Nat → Int32)} {a_keptLoad : (Nat → Int32)} {a_counter : (Nat → Int32)} {a_raised : (Nat → Int32)} {a_stopped : (Nat → Int32)} {a_caught : (Nat → Int32)} {a_unbegun : (Nat → Int32)} {a_leads : (Nat → Int32)} {a_counts : (Nat → Int32)} {a_adds : (Nat → Int64)} {a_goes : (Nat → Int64)} {a_needed : (Nat → Int32)} {a_known : (Nat → Int32)} {a_solved : (Nat → Int32)} {a_open : (Nat → Int32)} {a_unknown : (Nat → Int32)} {a_balance : (Nat → Int32)} {a_group : (Nat → Int32)} {a_first : (Nat → Int32)} {a_last : (Nat → Int32)} {a_sum : (Nat → Int64)} {a_often : (Nat → Int32)} {a_told : (Nat → Int32)} {a_method : (Nat → Int32)} {a_pc : (Nat → Int32)} {a_start : (Nat → Int32)} {a_here : (Nat → Int32)} {a_path : (Nat → Int64)} {a_coming : (Nat → Int64)} {a_variable : (Nat → Int32)} {g_depth : Int32} {g_steps : Int32} {g_result : Int32} {g_outcome : Int32} {g_load : Int32} {g_over : Int32} {b_op : (Nat → Int32)} {b_a : (Nat → Int32)} {b_b : (Nat → Int32)} {b_line : (Nat → Int32)} {b_length : (Nat → Int32)} {b_from : (Nat → Int32)} {b_to : (Nat → Int32)} {b_at : (Nat → Int32)} {b_handlers : (Nat → Int32)} {b_begun : (Nat → Int32)} {b_taken : (Nat → Int32)} {b_thrown : (Nat → Int32)} {b_rowI : (Nat → Int32)} {b_rowWay : (Nat → Int32)} {b_rowLength : (Nat → Int32)} {b_times : (Nat → Int32)} {b_told : (Nat → Int32)} {b_kOp : (Nat → Int32)} {b_kA : (Nat → Int32)} {b_kB : (Nat → Int32)} {b_kLine : (Nat → Int32)} {b_kLength : (Nat → Int32)} {b_kFrom : (Nat → Int32)} {b_kTo : (Nat → Int32)} {b_kAt : (Nat → Int32)} {b_kHandlers : (Nat → Int32)} {b_kBegun : (Nat → Int32)} {b_kTaken : (Nat → Int32)} {b_kThrown : (Nat → Int32)} {b_kept : (Nat → Int32)} {b_method : (Nat → Int32)} {b_pc : (Nat → Int32)} {b_variable : (Nat → Int32)} {b_hereI : (Nat → Int32)} {b_hereWay : (Nat → Int32)} {b_hereLength : (Nat → Int32)} {b_into : (Nat → Int32)} {b_kLoad : (Nat → Int32)} {b_part : (Nat → Int32)}
theorem xv_65 {m e c j : Nat} (hm : m < 4) (he : e < 97) (h01 : j = 0 ∨ j = 1) {post : SX → Prop} {J : Int32 → Int32 → (Nat → Int32) → (Nat → Int32) → (Nat → Int32) → (Nat → Int32) → (Nat → Int32) → (Nat → Int32) → (Nat → Int32) → (Nat → Int32) → (Nat → Int32) → (Nat → Int32) → (Nat → Int32) → (Nat → Int32) → (Nat → Int32) → (Nat → Int32) → (Nat → Int32) → (Nat → Int32) → (Nat → Int64) → (Nat → Int64) → (Nat → Int32) → (Nat → Int32) → (Nat → Int32) → (Nat → Int32) → (Nat → Int32) → (Nat → Int32) → (Nat → Int32) → (Nat → Int32) → (Nat → Int32) → (Nat → Int64) → (Nat → Int32) → (Nat → Int32) → (Nat → Int32) → (Nat → Int32) → (Nat → Int32) → (Nat → Int32) → (Nat → Int64) → (Nat → Int64) → (Nat → Int32) → Prop} (K : J (nI (c + j)) (nI (e + 1)) a_op a_opA a_opB a_opLine a_length a_guards a_handlers a_kept a_keptLoad a_counter a_raised a_stopped a_caught a_unbegun a_leads a_counts a_adds a_goes a_needed (upd a_known (97 * m + e) (a_counter (97 * m + e))) a_solved (upd a_open e (nI j)) a_unknown a_balance a_group a_first a_last a_sum a_often a_told a_method a_pc a_start a_here a_path a_coming a_variable) :
    (wX_solve_65 post J (nI m) (nI c) (nI e) (nI j) (nI e) f_load f_depth f_begun f_outcome f_result a_op a_opA a_opB a_opLine a_length a_guards a_handlers a_kept a_keptLoad a_counter a_raised a_stopped a_caught a_unbegun a_leads a_counts a_adds a_goes a_needed a_known a_solved a_open a_unknown a_balance a_group a_first a_last a_sum a_often a_told a_method a_pc a_start a_here a_path a_coming a_variable) := by
  have ie : vp_in (nI e) 97 := pk_in e 97 he
  have i1 : vp_in (97 * nI m + nI e) 1649 := pk_in (97 * m + e) 1649 (by omega) (qa_97 m e)
  have i2 : vp_in (97 * nI m + nI e) 388 := pk_in (97 * m + e) 388 (by omega) (qa_97 m e)
  have ek : upd a_known (97 * nI m + nI e).toNatClampNeg (a_counter (97 * nI m + nI e).toNatClampNeg) = upd a_known (97 * m + e) (a_counter (97 * m + e)) := by rw [qa_97, nI_clamp (by omega)]
  rcases h01 with rfl | rfl
  · refine ⟨ie, nm_r (e' := upd a_open e (nI 0)) (by rw [nI_clamp (by omega)]; rfl) ⟨ie, br_t (by rw [nI_clamp (by omega), pk_us]; rfl) ⟨i1, i2, nm_r ek (nm_r (nI_1 e) K)⟩⟩⟩
  · refine ⟨ie, nm_r (e' := upd a_open e (nI 1)) (by rw [nI_clamp (by omega)]; rfl) ⟨ie, br_f (by rw [nI_clamp (by omega), pk_us]; decide) (nm_r (nI_1 c) ⟨i1, i2, nm_r ek (nm_r (nI_1 e) K)⟩)⟩⟩
theorem xv_21 {m : Nat} {ld : Nat → Nat} {n106 : Nat} (hm : m < 4) (hl : ∀ e, e < 97 → a_leads (97 * m + e) = xp_I ld e) (hct : ∀ e, e < 97 → a_counts (97 * m + e) = nI (pg_cn ld e)) {post : SX → Prop}
    (K : (wX_solve_106 post (nI m) n106 (nI (sn_N (pg_jn ld) 97)) f_load f_depth f_begun f_outcome f_result a_op a_opA a_opB a_opLine a_length a_guards a_handlers a_kept a_keptLoad a_counter a_raised a_stopped a_caught a_unbegun a_leads a_counts a_adds a_goes a_needed (sv_k a_known a_counter m 97) a_solved (sv_o a_open ld 97) a_unknown a_balance a_group a_first a_last a_sum a_often a_told a_method a_pc a_start a_here a_path a_coming a_variable)) :
    ∀ d e, e + d = 97 → (wX_solve_21 post (nI m) f_load f_depth f_begun f_outcome f_result (d + 1) (nI (sn_N (pg_jn ld) e)) (nI e) a_op a_opA a_opB a_opLine a_length a_guards a_handlers a_kept a_keptLoad a_counter a_raised a_stopped a_caught a_unbegun a_leads a_counts a_adds a_goes a_needed (sv_k a_known a_counter m e) a_solved (sv_o a_open ld e) a_unknown a_balance a_group a_first a_last a_sum a_often a_told a_method a_pc a_start a_here a_path a_coming a_variable) := by
  intro d
  induction d with
  | zero =>
    intro e he
    obtain rfl : e = 97 := by omega
    exact br_t (nI_le (b := 97) (Nat.le_refl 97) (by decide)) ⟨_, K⟩
  | succ d ih =>
    intro e he
    have h1 := ih (e + 1) (by omega)
    have i1 : vp_in (97 * nI m + nI e) 388 := pk_in (97 * m + e) 388 (by omega) (qa_97 m e)
    have eo : upd (sv_o a_open ld e) e (nI (pg_jn ld e)) = sv_o a_open ld (e + 1) := by
      funext x
      unfold upd sv_o
      by_cases c : x = e
      · rw [if_pos c, if_pos (by omega), c]
      · rw [if_neg c]
        by_cases c2 : x < e
        · rw [if_pos c2, if_pos (by omega)]
        · rw [if_neg c2, if_neg (by omega)]
    have ek : upd (sv_k a_known a_counter m e) (97 * m + e) (a_counter (97 * m + e)) = sv_k a_known a_counter m (e + 1) := by
      funext x
      unfold upd sv_k
      by_cases c : x = 97 * m + e
      · rw [if_pos c, if_pos (by omega), c]
      · rw [if_neg c]
        by_cases c2 : 97 * m ≤ x ∧ x < 97 * m + e
        · rw [if_pos c2, if_pos (by omega)]
        · rw [if_neg c2, if_neg (by omega)]
    rw [← eo, ← ek] at h1
    have go := xv_65 (f_load := f_load) (f_depth := f_depth) (f_begun := f_begun) (f_outcome := f_outcome) (f_result := f_result) (e := e) (c := sn_N (pg_jn ld) e) hm (by omega) (pg_jn_01 ld e) (post := post) (J := wX_solve_21 post (nI m) f_load f_depth f_begun f_outcome f_result (d + 1)) h1
    have rl : a_leads (97 * nI m + nI e).toNatClampNeg = xp_I ld e := qa_r _ (qa_97 m e) (hl e (by omega))
    have rc : a_counts (97 * nI m + nI e).toNatClampNeg = nI (pg_cn ld e) := qa_r _ (qa_97 m e) (hct e (by omega))
    refine br_f (nI_ge (b := 97) (by omega) (by decide)) ⟨i1, ?_⟩
    by_cases hv : ld e < 25
    · have r2 : a_leads (97 * nI m + nI e).toNatClampNeg = nI (ld e) := rl.trans (if_pos hv)
      refine br_f (by rw [r2]; exact nI_pos (by omega)) ⟨i1, ?_⟩
      have jc := pg_jcv ld e
      have v1 : pg_vn ld e = 1 := if_pos hv
      rcases pg_jn_01 ld e with j0 | j1
      · have c1 : pg_cn ld e = 1 := by omega
        rw [j0] at go
        exact br_f (by rw [rc, c1]; decide) go
      · have c1 : pg_cn ld e = 0 := by omega
        rw [j1] at go
        exact br_t (by rw [rc, c1]; rfl) go
    · have r2 : a_leads (97 * nI m + nI e).toNatClampNeg = -1 := rl.trans (if_neg hv)
      have j0 : pg_jn ld e = 0 := if_neg (fun z => hv z.1)
      rw [j0] at go
      exact br_t (by rw [r2]; decide) go
theorem xv_solve {m : Nat} {ent : Nat → Int32} (hm : m < 4) (h0 : 0 < xn a_length m) (C : (rc_code a_op a_opA a_opB a_opLine a_guards a_length a_handlers b_op b_a b_b b_line b_from b_to b_at b_length b_handlers)) (P : (rc_plan a_length a_op a_opB a_leads a_counts a_adds a_needed)) (D : (rc_flow a_length a_op a_opB a_raised a_stopped a_caught a_unbegun a_counter b_begun b_taken b_thrown) ent (fun _ _ => 0) (fun _ _ => 0)) (N : (rc_known a_length a_op a_opB a_solved a_known b_taken) ent) {post : SX → Prop}
    (K : ∀ kn ao un ba so, (rc_known a_length a_op a_opB so kn b_taken) ent → (∀ e, e < 97 → (ul a_length a_op a_opB m) e < 25 → kn (97 * m + e) = (rd_F (ent m) (fun e => b_taken (96 * m + e))) e) → post (f_load, f_depth, f_begun, f_outcome, f_result, a_op, a_opA, a_opB, a_opLine, a_length, a_guards, a_handlers, a_kept, a_keptLoad, a_counter, a_raised, a_stopped, a_caught, a_unbegun, a_leads, a_counts, a_adds, a_goes, a_needed, kn, so, ao, un, ba, a_group, a_first, a_last, a_sum, a_often, a_told, a_method, a_pc, a_start, a_here, a_path, a_coming, a_variable)) :
    (wpX_solve post (f_load, f_depth, f_begun, f_outcome, f_result, a_op, a_opA, a_opB, a_opLine, a_length, a_guards, a_handlers, a_kept, a_keptLoad, a_counter, a_raised, a_stopped, a_caught, a_unbegun, a_leads, a_counts, a_adds, a_goes, a_needed, a_known, a_solved, a_open, a_unknown, a_balance, a_group, a_first, a_last, a_sum, a_often, a_told, a_method, a_pc, a_start, a_here, a_path, a_coming, a_variable) (nI m)) := by
  have im : vp_in (nI m) 4 := pk_in m 4 hm
  have rs : a_solved (nI m).toNatClampNeg = a_solved m := qa_rr m rfl
  refine ⟨im, ?_⟩
  by_cases cs : a_solved m = 0
  · refine br_t (rs.trans cs) ⟨im, nm_r (e' := upd a_solved m 1) (by rw [nI_clamp (by omega)]; rfl) ⟨98, ?_⟩⟩
    obtain ⟨p1, p2, p3, _⟩ := P m hm h0
    obtain ⟨d1, d2⟩ := D m hm h0
    have hn := (rc_len C (r := m) (by omega)).2.2
    have ld24 : ∀ e, (ul a_length a_op a_opB m) e < 24 → (ul a_length a_op a_opB m) e < xn a_length m := fun e he => pw_ld_lt h0 he
    have hc : ∀ e, e < 97 → (ul a_length a_op a_opB m) e < 25 → (pw_src e < 24 → sv_c0 a_caught a_raised a_stopped m (pw_src e) + fl_in (ul a_length a_op a_opB m) (rd_F (ent m) (fun e => b_taken (96 * m + e))) (pw_src e) = fl_out (ul a_length a_op a_opB m) (rd_F (ent m) (fun e => b_taken (96 * m + e))) (pw_src e)) ∧ ((ul a_length a_op a_opB m) e < 24 → sv_c0 a_caught a_raised a_stopped m ((ul a_length a_op a_opB m) e) + fl_in (ul a_length a_op a_opB m) (rd_F (ent m) (fun e => b_taken (96 * m + e))) ((ul a_length a_op a_opB m) e) = fl_out (ul a_length a_op a_opB m) (rd_F (ent m) (fun e => b_taken (96 * m + e))) ((ul a_length a_op a_opB m) e)) := by
      have main : ∀ p, p < xn a_length m → sv_c0 a_caught a_raised a_stopped m p + fl_in (ul a_length a_op a_opB m) (rd_F (ent m) (fun e => b_taken (96 * m + e))) p = fl_out (ul a_length a_op a_opB m) (rd_F (ent m) (fun e => b_taken (96 * m + e))) p := by
        intro p hp
        have e1 : sv_c0 a_caught a_raised a_stopped m p = a_caught (24 * m + p) - a_raised (24 * m + p) - a_stopped (24 * m + p) := if_pos (by omega)
        have e2 : a_caught (24 * m + p) + fl_in (ul a_length a_op a_opB m) (rd_F (ent m) (fun e => b_taken (96 * m + e))) p = a_raised (24 * m + p) + a_stopped (24 * m + p) + fl_out (ul a_length a_op a_opB m) (rd_F (ent m) (fun e => b_taken (96 * m + e))) p + 0 := (d2 p hp).2.1
        rw [e1]
        grind
      intro e he hv
      exact ⟨fun hs => main _ (pw_src_lt hv (by omega)), fun hl => main _ (ld24 e hl)⟩
    have fin := xv_106 (m := m) (ld := (ul a_length a_op a_opB m)) (F := (rd_F (ent m) (fun e => b_taken (96 * m + e)))) (kn0 := a_known) hm p1 hc (post := post) (fun ao kn un ba h1 h2 => K kn ao un ba (upd a_solved m 1) (fun q hq hq0 hs e he hle => by
        by_cases c : q = m
        · subst c
          exact h1 e he hle
        · rw [show upd a_solved m 1 q = a_solved q from pk_un c] at hs
          rw [h2 _ (by omega)]
          exact N q hq hq0 hs e he hle) h1) 97 (sv_o a_open (ul a_length a_op a_opB m) 97) (sv_k a_known a_counter m 97) a_unknown a_balance
    have es : sn_N (sv_1 (sv_o a_open (ul a_length a_op a_opB m) 97)) 97 = sn_N (pg_jn (ul a_length a_op a_opB m)) 97 := by
      refine sn_N_congr (fun e he => ?_)
      have eo : sv_o a_open (ul a_length a_op a_opB m) 97 e = nI (pg_jn (ul a_length a_op a_opB m) e) := if_pos he
      unfold sv_1
      rw [eo]
      rcases pg_jn_01 (ul a_length a_op a_opB m) e with j | j
      · rw [j]; rfl
      · rw [j]; rfl
    have le97 : ∀ E, sn_N (pg_jn (ul a_length a_op a_opB m)) E ≤ E := by
      intro E
      induction E with
      | zero => exact Nat.le_refl _
      | succ E ih => exact Nat.add_le_add ih (by rcases pg_jn_01 (ul a_length a_op a_opB m) E with j | j <;> omega)
    rw [es] at fin
    have fin2 := fin (le97 97) (fun e he h => by
        have eo : sv_o a_open (ul a_length a_op a_opB m) 97 e = nI (pg_jn (ul a_length a_op a_opB m) e) := if_pos he
        rw [eo] at h
        by_cases c : pg_j (ul a_length a_op a_opB m) e
        · exact c
        · exact absurd (show nI (pg_jn (ul a_length a_op a_opB m) e) = 0 by rw [show pg_jn (ul a_length a_op a_opB m) e = 0 from if_neg c]; rfl) h) (fun e he hv h => by
        have eo : sv_o a_open (ul a_length a_op a_opB m) 97 e = nI (pg_jn (ul a_length a_op a_opB m) e) := if_pos he
        rw [eo] at h
        have ek : sv_k a_known a_counter m 97 (97 * m + e) = a_counter (97 * m + e) := if_pos (by omega)
        rw [ek]
        refine d1 e he ?_
        have jc := pg_jcv (ul a_length a_op a_opB m) e
        have v1 : pg_vn (ul a_length a_op a_opB m) e = 1 := if_pos hv
        rcases pg_jn_01 (ul a_length a_op a_opB m) e with j | j
        · omega
        · rw [j] at h
          exact absurd h (by decide)) (fun j hj => if_neg (by omega))
    have go := xv_21 (ld := (ul a_length a_op a_opB m)) hm p1 p2 fin2 97 0 rfl
    have o0 : sv_o a_open (ul a_length a_op a_opB m) 0 = a_open := by
      funext x
      exact if_neg (by omega)
    have k0 : sv_k a_known a_counter m 0 = a_known := by
      funext x
      exact if_neg (by omega)
    rw [o0, k0] at go
    exact go
  · exact br_f (fun z => cs (rs.symm.trans z)) (K a_known a_open a_unknown a_balance a_solved N (N m hm h0 cs))
theorem xv_begins {m i : Nat} {ent : Nat → Int32} (hm : m < 4) (hi : i < xn a_length m) (C : (rc_code a_op a_opA a_opB a_opLine a_guards a_length a_handlers b_op b_a b_b b_line b_from b_to b_at b_length b_handlers)) (P : (rc_plan a_length a_op a_opB a_leads a_counts a_adds a_needed)) (D : (rc_flow a_length a_op a_opB a_raised a_stopped a_caught a_unbegun a_counter b_begun b_taken b_thrown) ent (fun _ _ => 0) (fun _ _ => 0)) (N : (rc_known a_length a_op a_opB a_solved a_known b_taken) ent) {post : Int32 → SX → Prop}
    (K : ∀ kn ao un ba so, (rc_known a_length a_op a_opB so kn b_taken) ent → (∀ e, e < 97 → (ul a_length a_op a_opB m) e < 25 → kn (97 * m + e) = (rd_F (ent m) (fun e => b_taken (96 * m + e))) e) → post (b_begun (24 * m + i)) (f_load, f_depth, f_begun, f_outcome, f_result, a_op, a_opA, a_opB, a_opLine, a_length, a_guards, a_handlers, a_kept, a_keptLoad, a_counter, a_raised, a_stopped, a_caught, a_unbegun, a_leads, a_counts, a_adds, a_goes, a_needed, kn, so, ao, un, ba, a_group, a_first, a_last, a_sum, a_often, a_told, a_method, a_pc, a_start, a_here, a_path, a_coming, a_variable)) :
    (wpX_begins post (f_load, f_depth, f_begun, f_outcome, f_result, a_op, a_opA, a_opB, a_opLine, a_length, a_guards, a_handlers, a_kept, a_keptLoad, a_counter, a_raised, a_stopped, a_caught, a_unbegun, a_leads, a_counts, a_adds, a_goes, a_needed, a_known, a_solved, a_open, a_unknown, a_balance, a_group, a_first, a_last, a_sum, a_often, a_told, a_method, a_pc, a_start, a_here, a_path, a_coming, a_variable) (nI m) (nI i)) := by
  have hn := (rc_len C (r := m) (by omega)).2.2
  obtain ⟨p1, _⟩ := P m hm (by omega)
  obtain ⟨d1, d2⟩ := D m hm (by omega)
  refine xv_solve hm (by omega) C P D N ?_
  intro kn ao un ba so h1 h2
  have i1 : vp_in (24 * nI m + nI i) 408 := pk_in (24 * m + i) 408 (by omega) (qa_24 m i)
  have r : ∀ f : Nat → Int32, f (24 * nI m + nI i).toNatClampNeg = f (24 * m + i) := fun f => qa_rr _ (qa_24 m i)
  have K2 := K kn ao un ba so h1 h2
  have e2 : b_begun (24 * m + i) + a_unbegun (24 * m + i) + 0 = a_caught (24 * m + i) + fl_in (ul a_length a_op a_opB m) (rd_F (ent m) (fun e => b_taken (96 * m + e))) i := (d2 i hi).2.2
  have e3 : b_begun (24 * m + i) = (a_caught (24 * m + i) - a_unbegun (24 * m + i)) + sn_I (fun e => if (ul a_length a_op a_opB m) e = i then (rd_F (ent m) (fun e => b_taken (96 * m + e))) e else 0) 97 := by
    show _ = _ + fl_in (ul a_length a_op a_opB m) (rd_F (ent m) (fun e => b_taken (96 * m + e))) i
    grind
  rw [e3] at K2
  refine ⟨i1, i1, nm_r (e' := (a_caught (24 * m + i) - a_unbegun (24 * m + i)) + 0) (by rw [r a_caught, r a_unbegun]; grind) ⟨98, ?_⟩⟩
  have main : ∀ d e, e + d = 97 → (wX_begins_32 post (nI m) (nI i) f_load f_depth f_begun f_outcome f_result a_op a_opA a_opB a_opLine a_length a_guards a_handlers a_kept a_keptLoad a_counter a_raised a_stopped a_caught a_unbegun a_leads a_counts a_adds a_goes a_needed kn so ao un ba a_group a_first a_last a_sum a_often a_told a_method a_pc a_start a_here a_path a_coming a_variable (d + 1) ((a_caught (24 * m + i) - a_unbegun (24 * m + i)) + sn_I (fun e => if (ul a_length a_op a_opB m) e = i then (rd_F (ent m) (fun e => b_taken (96 * m + e))) e else 0) e) (nI e)) := by
    intro d
    induction d with
    | zero =>
      intro e he
      obtain rfl : e = 97 := by omega
      exact br_t (nI_le (b := 97) (Nat.le_refl 97) (by decide)) K2
    | succ d ih =>
      intro e he
      have h := ih (e + 1) (by omega)
      have i2 : vp_in (97 * nI m + nI e) 388 := pk_in (97 * m + e) 388 (by omega) (qa_97 m e)
      have rl : a_leads (97 * nI m + nI e).toNatClampNeg = xp_I (ul a_length a_op a_opB m) e := qa_r _ (qa_97 m e) (p1 e (by omega))
      have es : sn_I (fun e => if (ul a_length a_op a_opB m) e = i then (rd_F (ent m) (fun e => b_taken (96 * m + e))) e else 0) (e + 1) = sn_I (fun e => if (ul a_length a_op a_opB m) e = i then (rd_F (ent m) (fun e => b_taken (96 * m + e))) e else 0) e + (if (ul a_length a_op a_opB m) e = i then (rd_F (ent m) (fun e => b_taken (96 * m + e))) e else 0) := rfl
      refine br_f (nI_ge (b := 97) (by omega) (by decide)) ⟨i2, ?_⟩
      by_cases c : (ul a_length a_op a_opB m) e = i
      · have rk : kn (97 * nI m + nI e).toNatClampNeg = (rd_F (ent m) (fun e => b_taken (96 * m + e))) e := qa_r _ (qa_97 m e) (h2 e (by omega) (by omega))
        rw [es, if_pos c] at h
        refine br_t (by rw [rl]; unfold xp_I; rw [if_pos (by omega), c]) ⟨i2, nm_r (e' := (a_caught (24 * m + i) - a_unbegun (24 * m + i)) + (sn_I (fun e => if (ul a_length a_op a_opB m) e = i then (rd_F (ent m) (fun e => b_taken (96 * m + e))) e else 0) e + (rd_F (ent m) (fun e => b_taken (96 * m + e))) e)) (by rw [rk]; grind) (nm_r (nI_1 e) h)⟩
      · rw [es, if_neg c, show sn_I (fun e => if (ul a_length a_op a_opB m) e = i then (rd_F (ent m) (fun e => b_taken (96 * m + e))) e else 0) e + 0 = sn_I (fun e => if (ul a_length a_op a_opB m) e = i then (rd_F (ent m) (fun e => b_taken (96 * m + e))) e else 0) e by grind] at h
        refine br_f ?_ (nm_r (nI_1 e) h)
        rw [rl]
        unfold xp_I
        by_cases hv : (ul a_length a_op a_opB m) e < 25
        · rw [if_pos hv]
          exact fun z => c ((nI_eq (by omega) (by omega)).mp z)
        · rw [if_neg hv]
          intro z
          have hp := nI_pos (n := i) (by omega)
          rw [← z] at hp
          exact hp (by decide)
  exact main 97 0 rfl
end
end
section
/-! the reference: targets -/
theorem yt_link {x : Int32} {t : Int} {N : Nat} (hN : N ≤ 24) (h : x.toInt = t ∨ (x.toInt < 0 ∧ 2147483648 ≤ t)) :
    (∃ j, j < N ∧ x = nI j ∧ t = j ∧ (∀ post : Int32 → Prop, post 1 → wpY_in post x (nI N))) ∨ (¬ (0 ≤ t ∧ t < N) ∧ (∀ post : Int32 → Prop, post 0 → wpY_in post x (nI N))) := by
  rcases qb_no (x := x) (l := nI N) N rfl (by omega) with ⟨j, hj, rfl, _, h2⟩ | ⟨_, h2⟩
  · left
    refine ⟨j, hj, rfl, ?_, h2⟩
    rw [nI_toInt (by omega)] at h
    omega
  · by_cases c : 0 ≤ t ∧ t < N
    · left
      have e : x.toInt = t := by omega
      have ex : x = nI t.toNat := Int32.toInt_inj.mp (by rw [e, nI_toInt (by omega)]; omega)
      refine ⟨t.toNat, by omega, ex, by omega, fun post hp => ?_⟩
      rw [ex]
      exact br_f (nI_pos (by omega)) (br_f (nI_ge (by omega) (by omega)) hp)
    · exact Or.inr ⟨c, h2⟩
theorem yt_sum (b : Int32) {k : Nat} (h0 : k ≠ 0) (hk : k < 4) : (b + nI k - 1).toInt = b.toInt + k - 1 ∨ ((b + nI k - 1).toInt < 0 ∧ 2147483648 ≤ b.toInt + k - 1) := by
  obtain ⟨c, rfl⟩ : ∃ c, k = c + 1 := ⟨k - 1, by omega⟩
  have e : b + nI (c + 1) - 1 = b + nI c := by
    rw [← nI_1]; grind
  rw [e, Int32.toInt_add, nI_toInt (by omega)]
  have b1 := Int32.le_toInt b
  have b2 := Int32.toInt_lt b
  unfold Int.bmod
  dsimp only
  split <;> omega
section
variable {f_load : Int32} {f_depth : Int32} {f_begun : Int32} {f_outcome : Int32} {f_result : Int32} {a_op : (Nat → Int32)} {a_opA : (Nat → Int32)} {a_opB : (Nat → Int32)} {a_opLine : (Nat → Int32)} {a_length : (Nat → Int32)} {a_guards : (Nat → Int32)} {a_handlers : (Nat → Int32)} {a_kept : (Nat → Int32)} {a_keptLoad : (Nat → Int32)} {a_counter : (Nat → Int32)} {a_raised : (Nat → Int32)} {a_stopped : (Nat → Int32)} {a_caught : (Nat → Int32)} {a_unbegun : (Nat → Int32)} {a_leads : (Nat → Int32)} {a_counts : (Nat → Int32)} {a_adds : (Nat → Int64)} {a_goes : (Nat → Int64)} {a_needed : (Nat → Int32)} {a_known : (Nat → Int32)} {a_solved : (Nat → Int32)} {a_open : (Nat → Int32)} {a_unknown : (Nat → Int32)} {a_balance : (Nat → Int32)} {a_group : (Nat → Int32)} {a_first : (Nat → Int32)} {a_last : (Nat → Int32)} {a_sum : (Nat → Int64)} {a_often : (Nat → Int32)} {a_told : (Nat → Int32)} {a_method : (Nat → Int32)} {a_pc : (Nat → Int32)} {a_start : (Nat → Int32)} {a_here : (Nat → Int32)} {a_path : (Nat → Int64)} {a_coming : (Nat → Int64)} {a_variable : (Nat → Int32)} {g_depth : Int32} {g_steps : Int32} {g_result : Int32} {g_outcome : Int32} {g_load : Int32} {g_over : Int32} {b_op : (Nat → Int32)} {b_a : (Nat → Int32)} {b_b : (Nat → Int32)} {b_line : (Nat → Int32)} {b_length : (Nat → Int32)} {b_from : (Nat → Int32)} {b_to : (Nat → Int32)} {b_at : (Nat → Int32)} {b_handlers : (Nat → Int32)} {b_begun : (Nat → Int32)} {b_taken : (Nat → Int32)} {b_thrown : (Nat → Int32)} {b_rowI : (Nat → Int32)} {b_rowWay : (Nat → Int32)} {b_rowLength : (Nat → Int32)} {b_times : (Nat → Int32)} {b_told : (Nat → Int32)} {b_kOp : (Nat → Int32)} {b_kA : (Nat → Int32)} {b_kB : (Nat → Int32)} {b_kLine : (Nat → Int32)} {b_kLength : (Nat → Int32)} {b_kFrom : (Nat → Int32)} {b_kTo : (Nat → Int32)} {b_kAt : (Nat → Int32)} {b_kHandlers : (Nat → Int32)} {b_kBegun : (Nat → Int32)} {b_kTaken : (Nat → Int32)} {b_kThrown : (Nat → Int32)} {b_kept : (Nat → Int32)} {b_method : (Nat → Int32)} {b_pc : (Nat → Int32)} {b_variable : (Nat → Int32)} {b_hereI : (Nat → Int32)} {b_hereWay : (Nat → Int32)} {b_hereLength : (Nat → Int32)} {b_into : (Nat → Int32)} {b_kLoad : (Nat → Int32)} {b_part : (Nat → Int32)}
theorem yt_target {m n i k : Nat} (hm : m < 4) (hn : n ≤ 24) (hi : i < n) (hk : k < 4) (eo : b_op (24 * m + i) = a_op (24 * m + i)) (eb : b_b (24 * m + i) = a_opB (24 * m + i)) :
    ∃ t : Int32, (∀ post : Int32 → Prop, post t → (wpY_target post (g_depth, g_steps, g_result, g_outcome, g_load, g_over, b_op, b_a, b_b, b_line, b_length, b_from, b_to, b_at, b_handlers, b_begun, b_taken, b_thrown, b_rowI, b_rowWay, b_rowLength, b_times, b_told, b_kOp, b_kA, b_kB, b_kLine, b_kLength, b_kFrom, b_kTo, b_kAt, b_kHandlers, b_kBegun, b_kTaken, b_kThrown, b_kept, b_method, b_pc, b_variable, b_hereI, b_hereWay, b_hereLength, b_into, b_kLoad, b_part) (nI m) (nI i) (nI k))) ∧
      ((∃ j, j < n ∧ t = nI j ∧ pw_tgt n (fun j => a_op (24 * m + j)) (fun j => a_opB (24 * m + j)) i k = j ∧ (∀ post : Int32 → Prop, post 1 → wpY_in post t (nI n))) ∨
       (pw_tgt n (fun j => a_op (24 * m + j)) (fun j => a_opB (24 * m + j)) i k = 24 ∧ (∀ post : Int32 → Prop, post 0 → wpY_in post t (nI n)))) := by
  have i1 : vp_in (nI (24 * m + i)) 120 := pk_in (24 * m + i) 120 (by omega)
  have ro : b_op (nI (24 * m + i)).toNatClampNeg = a_op (24 * m + i) := qa_r _ rfl eo
  have rb : b_b (nI (24 * m + i)).toNatClampNeg = a_opB (24 * m + i) := qa_r _ rfl eb
  by_cases h9 : a_op (24 * m + i) = 9
  · refine ⟨-1, fun post hp => nm_r (qa_24 m i) ⟨i1, br_t (ro.trans h9) hp⟩, Or.inr ⟨if_pos h9, fun post hp => br_t (by decide) hp⟩⟩
  · have fin : ∀ (x : Int32), (x.toInt = pw_t (fun j => a_op (24 * m + j)) (fun j => a_opB (24 * m + j)) i k ∨ (x.toInt < 0 ∧ 2147483648 ≤ pw_t (fun j => a_op (24 * m + j)) (fun j => a_opB (24 * m + j)) i k)) →
        ((∃ j, j < n ∧ x = nI j ∧ pw_tgt n (fun j => a_op (24 * m + j)) (fun j => a_opB (24 * m + j)) i k = j ∧ (∀ post : Int32 → Prop, post 1 → wpY_in post x (nI n))) ∨
       (pw_tgt n (fun j => a_op (24 * m + j)) (fun j => a_opB (24 * m + j)) i k = 24 ∧ (∀ post : Int32 → Prop, post 0 → wpY_in post x (nI n)))) := by
      intro x hx
      rcases yt_link hn hx with ⟨j, hj, e1, e2, g⟩ | ⟨e1, g⟩
      · refine Or.inl ⟨j, hj, e1, ?_, g⟩
        unfold pw_tgt
        rw [if_neg h9, e2, if_pos (by omega)]
        rfl
      · refine Or.inr ⟨?_, g⟩
        unfold pw_tgt
        rw [if_neg h9, if_neg e1]
    have n9 : ¬ b_op (nI (24 * m + i)).toNatClampNeg = 9 := by rw [ro]; exact h9
    by_cases h4 : a_op (24 * m + i) = 4
    · refine ⟨a_opB (24 * m + i), fun post hp => nm_r (qa_24 m i) ⟨i1, br_f n9 ⟨i1, br_t (ro.trans h4) ⟨i1, by rw [rb]; exact hp⟩⟩⟩, fin _ (Or.inl ?_)⟩
      exact (if_pos h4).symm
    · have n4 : ¬ b_op (nI (24 * m + i)).toNatClampNeg = 4 := by rw [ro]; exact h4
      by_cases h0 : k = 0
      · subst h0
        refine ⟨nI (i + 1), fun post hp => nm_r (qa_24 m i) ⟨i1, br_f n9 ⟨i1, br_f n4 (br_t rfl (by rw [nI_1]; exact hp))⟩⟩, fin _ (Or.inl ?_)⟩
        have : pw_t (fun j => a_op (24 * m + j)) (fun j => a_opB (24 * m + j)) i 0 = (i : Int) + 1 := (if_neg h4).trans (if_pos rfl)
        rw [this, nI_toInt (by omega)]; omega
      · refine ⟨a_opB (24 * m + i) + nI k - 1, fun post hp => nm_r (qa_24 m i) ⟨i1, br_f n9 ⟨i1, br_f n4 (br_f (nI_ne0 (by omega) (by omega)) ⟨i1, by rw [rb]; exact hp⟩)⟩⟩, fin _ ?_⟩
        have : pw_t (fun j => a_op (24 * m + j)) (fun j => a_opB (24 * m + j)) i k = (a_opB (24 * m + i)).toInt + k - 1 := (if_neg h4).trans (if_neg h0)
        rw [this]
        exact yt_sum _ h0 hk
end
end
section
/-! X: copyData -/
def dz (f : Nat → Int32) (s t k z : Nat) : Nat → Int32 := fun j => if t ≤ j ∧ j < t + k then f (j - t + s) + (if z = 0 then 0 else f j) else f j
theorem dz_0 (f : Nat → Int32) (s t z : Nat) : dz f s t 0 z = f := by
  funext j
  exact if_neg (by omega)
theorem dz_out {f : Nat → Int32} {s t k z j : Nat} (h : j < t ∨ t + k ≤ j) : dz f s t k z j = f j := if_neg (by omega)
theorem dz_in {f : Nat → Int32} {s t k z j : Nat} (h : j < k) : dz f s t k z (t + j) = f (s + j) + (if z = 0 then 0 else f (t + j)) := by
  unfold dz
  rw [if_pos (by omega), show t + j - t + s = s + j by omega]
theorem dz_s {f : Nat → Int32} {s t k K z : Nat} (h : s + K ≤ t ∨ t + K ≤ s) (hk : k < K) {x : Int32} (hx : x = f (s + k) + (if z = 0 then 0 else f (t + k))) : upd (dz f s t k z) (t + k) x = dz f s t (k + 1) z := by
  subst hx
  funext j
  unfold upd dz
  by_cases c : j = t + k
  · subst c
    have q : t ≤ t + k ∧ t + k < t + (k + 1) := by omega
    rw [if_pos rfl, if_pos q, show t + k - t + s = s + k by omega]
  · rw [if_neg c]
    by_cases d : t ≤ j ∧ j < t + k
    · have q : t ≤ j ∧ j < t + (k + 1) := by omega
      rw [if_pos d, if_pos q]
    · have q : ¬ (t ≤ j ∧ j < t + (k + 1)) := by omega
      rw [if_neg d, if_neg q]
theorem dz_c (f : Nat → Int32) (s t k : Nat) : dz f s t k 0 = cz_c f s t k := by
  funext j
  unfold dz cz_c
  by_cases d : t ≤ j ∧ j < t + k
  · rw [if_pos d, if_pos d, if_pos rfl]; grind
  · rw [if_neg d, if_neg d]
section
variable {f_load : Int32} {f_depth : Int32} {f_begun : Int32} {f_outcome : Int32} {f_result : Int32} {a_op : (Nat → Int32)} {a_opA : (Nat → Int32)} {a_opB : (Nat → Int32)} {a_opLine : (Nat → Int32)} {a_length : (Nat → Int32)} {a_guards : (Nat → Int32)} {a_handlers : (Nat → Int32)} {a_kept : (Nat → Int32)} {a_keptLoad : (Nat → Int32)} {a_counter : (Nat → Int32)} {a_raised : (Nat → Int32)} {a_stopped : (Nat → Int32)} {a_caught : (Nat → Int32)} {a_unbegun : (Nat → Int32)} {a_leads : (Nat → Int32)} {a_counts : (Nat → Int32)} {a_adds : (Nat → Int64)} {a_goes : (Nat → Int64)} {a_needed : (Nat → Int32)} {a_known : (Nat → Int32)} {a_solved : (Nat → Int32)} {a_open : (Nat → Int32)} {a_unknown : (Nat → Int32)} {a_balance : (Nat → Int32)} {a_group : (Nat → Int32)} {a_first : (Nat → Int32)} {a_last : (Nat → Int32)} {a_sum : (Nat → Int64)} {a_often : (Nat → Int32)} {a_told : (Nat → Int32)} {a_method : (Nat → Int32)} {a_pc : (Nat → Int32)} {a_start : (Nat → Int32)} {a_here : (Nat → Int32)} {a_path : (Nat → Int64)} {a_coming : (Nat → Int64)} {a_variable : (Nat → Int32)} {g_depth : Int32} {g_steps : Int32} {g_result : Int32} {g_outcome : Int32} {g_load : Int32} {g_over : Int32} {b_op : (Nat → Int32)} {b_a : (Nat → Int32)} {b_b : (Nat → Int32)} {b_line : (Nat → Int32)} {b_length : (Nat → Int32)} {b_from : (Nat → Int32)} {b_to : (Nat → Int32)} {b_at : (Nat → Int32)} {b_handlers : (Nat → Int32)} {b_begun : (Nat → Int32)} {b_taken : (Nat → Int32)} {b_thrown : (Nat → Int32)} {b_rowI : (Nat → Int32)} {b_rowWay : (Nat → Int32)} {b_rowLength : (Nat → Int32)} {b_times : (Nat → Int32)} {b_told : (Nat → Int32)} {b_kOp : (Nat → Int32)} {b_kA : (Nat → Int32)} {b_kB : (Nat → Int32)} {b_kLine : (Nat → Int32)} {b_kLength : (Nat → Int32)} {b_kFrom : (Nat → Int32)} {b_kTo : (Nat → Int32)} {b_kAt : (Nat → Int32)} {b_kHandlers : (Nat → Int32)} {b_kBegun : (Nat → Int32)} {b_kTaken : (Nat → Int32)} {b_kThrown : (Nat → Int32)} {b_kept : (Nat → Int32)} {b_method : (Nat → Int32)} {b_pc : (Nat → Int32)} {b_variable : (Nat → Int32)} {b_hereI : (Nat → Int32)} {b_hereWay : (Nat → Int32)} {b_hereLength : (Nat → Int32)} {b_into : (Nat → Int32)} {b_kLoad : (Nat → Int32)} {b_part : (Nat → Int32)}
theorem xd_64 {a b z : Nat} (ha : a < 17) (hb : b < 17) (hne : a ≠ b) (hz : z ≤ 1) {post : SX → Prop} (K : post (f_load, f_depth, f_begun, f_outcome, f_result, a_op, a_opA, a_opB, a_opLine, a_length, a_guards, a_handlers, a_kept, a_keptLoad, a_counter, (dz a_raised (24 * a) (24 * b) 24 z), (dz a_stopped (24 * a) (24 * b) 24 z), (dz a_caught (24 * a) (24 * b) 24 z), (dz a_unbegun (24 * a) (24 * b) 24 z), a_leads, a_counts, a_adds, a_goes, a_needed, a_known, a_solved, a_open, a_unknown, a_balance, a_group, a_first, a_last, a_sum, a_often, a_told, a_method, a_pc, a_start, a_here, a_path, a_coming, a_variable)) :
    ∀ d k, k + d = 24 → (wX_copyData_64 post (nI a) (nI b) (nI z) f_load f_depth f_begun f_outcome f_result (d + 1) (nI k) a_op a_opA a_opB a_opLine a_length a_guards a_handlers a_kept a_keptLoad a_counter (dz a_raised (24 * a) (24 * b) k z) (dz a_stopped (24 * a) (24 * b) k z) (dz a_caught (24 * a) (24 * b) k z) (dz a_unbegun (24 * a) (24 * b) k z) a_leads a_counts a_adds a_goes a_needed a_known a_solved a_open a_unknown a_balance a_group a_first a_last a_sum a_often a_told a_method a_pc a_start a_here a_path a_coming a_variable) := by
  intro d
  induction d with
  | zero =>
    intro k hk
    obtain rfl : k = 24 := by omega
    exact br_t (nI_le (b := 24) (Nat.le_refl 24) (by decide)) K
  | succ d ih =>
    intro k hk
    have h := ih (k + 1) (by omega)
    have ia : vp_in (nI (24 * a + k)) 408 := pk_in (24 * a + k) 408 (by omega)
    have ib : vp_in (nI (24 * b + k)) 408 := pk_in (24 * b + k) 408 (by omega)
    have oa : ∀ f : Nat → Int32, dz f (24 * a) (24 * b) k z (nI (24 * a + k)).toNatClampNeg = f (24 * a + k) := fun f => qa_r _ rfl (dz_out (by omega))
    have ob : ∀ f : Nat → Int32, dz f (24 * a) (24 * b) k z (nI (24 * b + k)).toNatClampNeg = f (24 * b + k) := fun f => qa_r _ rfl (dz_out (by omega))
    have st : ∀ (f : Nat → Int32) (x : Int32), x = f (24 * a + k) + (if z = 0 then 0 else f (24 * b + k)) → upd (dz f (24 * a) (24 * b) k z) (nI (24 * b + k)).toNatClampNeg x = dz f (24 * a) (24 * b) (k + 1) z := by
      intro f x hx
      rw [nI_clamp (by omega)]
      exact dz_s (K := 24) (by omega) (by omega) hx
    refine br_f (nI_ge (b := 24) (by omega) (by decide)) (nm_r (qa_24 a k) (nm_r (qa_24 b k) ⟨ia, ?_⟩))
    by_cases c : z = 0
    · subst c
      have s0 : ∀ f : Nat → Int32, dz f (24 * a) (24 * b) k 0 (nI (24 * a + k)).toNatClampNeg + 0 = f (24 * a + k) + (if 0 = 0 then 0 else f (24 * b + k)) := fun f => by rw [oa]; rfl
      exact br_t rfl ⟨ib, nm_r (st _ _ (s0 _)) ⟨ia, br_t rfl ⟨ib, nm_r (st _ _ (s0 _)) ⟨ia, br_t rfl ⟨ib, nm_r (st _ _ (s0 _)) ⟨ia, br_t rfl ⟨ib, nm_r (st _ _ (s0 _)) (nm_r (nI_1 k) h)⟩⟩⟩⟩⟩⟩⟩
    · have n0 : ¬ nI z = 0 := nI_ne0 (by omega) (by omega)
      have s0 : ∀ f : Nat → Int32, dz f (24 * a) (24 * b) k z (nI (24 * a + k)).toNatClampNeg + dz f (24 * a) (24 * b) k z (nI (24 * b + k)).toNatClampNeg = f (24 * a + k) + (if z = 0 then 0 else f (24 * b + k)) := fun f => by rw [oa, ob, if_neg c]
      exact br_f n0 ⟨ib, ib, nm_r (st _ _ (s0 _)) ⟨ia, br_f n0 ⟨ib, ib, nm_r (st _ _ (s0 _)) ⟨ia, br_f n0 ⟨ib, ib, nm_r (st _ _ (s0 _)) ⟨ia, br_f n0 ⟨ib, ib, nm_r (st _ _ (s0 _)) (nm_r (nI_1 k) h)⟩⟩⟩⟩⟩⟩⟩
theorem xd_copyData {a b z : Nat} (ha : a < 17) (hb : b < 17) (hne : a ≠ b) (hz : z ≤ 1) {post : SX → Prop} (K : post (f_load, f_depth, f_begun, f_outcome, f_result, a_op, a_opA, a_opB, a_opLine, a_length, a_guards, a_handlers, a_kept, a_keptLoad, (dz a_counter (97 * a) (97 * b) 97 z), (dz a_raised (24 * a) (24 * b) 24 z), (dz a_stopped (24 * a) (24 * b) 24 z), (dz a_caught (24 * a) (24 * b) 24 z), (dz a_unbegun (24 * a) (24 * b) 24 z), a_leads, a_counts, a_adds, a_goes, a_needed, a_known, a_solved, a_open, a_unknown, a_balance, a_group, a_first, a_last, a_sum, a_often, a_told, a_method, a_pc, a_start, a_here, a_path, a_coming, a_variable)) :
    (wpX_copyData post (f_load, f_depth, f_begun, f_outcome, f_result, a_op, a_opA, a_opB, a_opLine, a_length, a_guards, a_handlers, a_kept, a_keptLoad, a_counter, a_raised, a_stopped, a_caught, a_unbegun, a_leads, a_counts, a_adds, a_goes, a_needed, a_known, a_solved, a_open, a_unknown, a_balance, a_group, a_first, a_last, a_sum, a_often, a_told, a_method, a_pc, a_start, a_here, a_path, a_coming, a_variable) (nI a) (nI b) (nI z)) := by
  have main : ∀ d k, k + d = 97 → (wX_copyData_3 post (nI a) (nI b) (nI z) f_load f_depth f_begun f_outcome f_result (d + 1) (nI k) a_op a_opA a_opB a_opLine a_length a_guards a_handlers a_kept a_keptLoad (dz a_counter (97 * a) (97 * b) k z) a_raised a_stopped a_caught a_unbegun a_leads a_counts a_adds a_goes a_needed a_known a_solved a_open a_unknown a_balance a_group a_first a_last a_sum a_often a_told a_method a_pc a_start a_here a_path a_coming a_variable) := by
    intro d
    induction d with
    | zero =>
      intro k hk
      obtain rfl : k = 97 := by omega
      have h := xd_64 (z := z) ha hb hne hz K 24 0 rfl
      rw [dz_0, dz_0, dz_0, dz_0] at h
      exact br_t (nI_le (b := 97) (Nat.le_refl 97) (by decide)) ⟨_, h⟩
    | succ d ih =>
      intro k hk
      have h := ih (k + 1) (by omega)
      have ia : vp_in (97 * nI a + nI k) 1649 := pk_in (97 * a + k) 1649 (by omega) (qa_97 a k)
      have ib : vp_in (97 * nI b + nI k) 1649 := pk_in (97 * b + k) 1649 (by omega) (qa_97 b k)
      have oa : dz a_counter (97 * a) (97 * b) k z (97 * nI a + nI k).toNatClampNeg = a_counter (97 * a + k) := qa_r _ (qa_97 a k) (dz_out (by omega))
      have ob : dz a_counter (97 * a) (97 * b) k z (97 * nI b + nI k).toNatClampNeg = a_counter (97 * b + k) := qa_r _ (qa_97 b k) (dz_out (by omega))
      have st : ∀ (x : Int32), x = a_counter (97 * a + k) + (if z = 0 then 0 else a_counter (97 * b + k)) → upd (dz a_counter (97 * a) (97 * b) k z) (97 * nI b + nI k).toNatClampNeg x = dz a_counter (97 * a) (97 * b) (k + 1) z := by
        intro x hx
        rw [qa_97, nI_clamp (by omega)]
        exact dz_s (K := 97) (by omega) (by omega) hx
      refine br_f (nI_ge (b := 97) (by omega) (by decide)) ⟨ia, ?_⟩
      by_cases c : z = 0
      · subst c
        exact br_t rfl ⟨ib, nm_r (st _ (by rw [oa, if_pos rfl])) (nm_r (nI_1 k) h)⟩
      · exact br_f (nI_ne0 (by omega) (by omega)) ⟨ib, ib, nm_r (st _ (by rw [oa, ob, if_neg c])) (nm_r (nI_1 k) h)⟩
  have h := main 97 0 rfl
  rw [dz_0] at h
  exact ⟨_, h⟩
end
end
section
/-! owed: merge -/
def dy (f g : Nat → Int32) (s t k : Nat) : Nat → Int32 := fun j => if t ≤ j ∧ j < t + k then f j + g (j - t + s) else f j
theorem dy_0 (f g : Nat → Int32) (s t : Nat) : dy f g s t 0 = f := by
  funext j
  exact if_neg (by omega)
theorem dy_s {f g : Nat → Int32} {s t k : Nat} {x : Int32} (hx : x = f (t + k) + g (s + k)) : upd (dy f g s t k) (t + k) x = dy f g s t (k + 1) := by
  subst hx
  funext j
  unfold upd dy
  by_cases c : j = t + k
  · subst c
    rw [if_pos rfl, if_pos (by omega), show t + k - t + s = s + k by omega]
  · rw [if_neg c]
    by_cases d : t ≤ j ∧ j < t + k
    · rw [if_pos d, if_pos (by omega)]
    · rw [if_neg d, if_neg (by omega)]
theorem dy_in {f g : Nat → Int32} {s t k j : Nat} (h : j < k) : dy f g s t k (t + j) = f (t + j) + g (s + j) := by
  unfold dy
  rw [if_pos (by omega), show t + j - t + s = s + j by omega]
theorem dy_out {f g : Nat → Int32} {s t k j : Nat} (h : j < t ∨ t + k ≤ j) : dy f g s t k j = f j := if_neg (by omega)
/-- flows add up -/
theorem md_in {ld : Nat → Nat} {F G H : Nat → Int32} (h : ∀ e, e < 97 → ld e < 25 → H e = F e + G e) {p : Nat} (hp : p < 25) : fl_in ld H p = fl_in ld F p + fl_in ld G p := by
  unfold fl_in
  rw [← sn_I_add]
  refine sn_I_congr (fun e he => ?_)
  by_cases c : ld e = p
  · simp only [if_pos c]; exact h e he (by omega)
  · simp only [if_neg c]; rfl
theorem md_out {ld : Nat → Nat} {F G H : Nat → Int32} (h : ∀ e, e < 97 → ld e < 25 → H e = F e + G e) (p : Nat) : fl_out ld H p = fl_out ld F p + fl_out ld G p := by
  unfold fl_out
  rw [← sn_I_add]
  refine sn_I_congr (fun e he => ?_)
  by_cases c : pw_src e = p ∧ ld e < 25
  · simp only [if_pos c]; exact h e he c.2
  · simp only [if_neg c]; rfl
theorem md_add {ld : Nat → Nat} {n : Nat} {rs st ca ub ct bg tk th rs' st' ca' ub' ct' bg' tk' th' rs2 st2 ca2 ub2 ct2 bg2 tk2 th2 : Nat → Int32} {ent ent' : Int32} (hn : n ≤ 24) (hv : ∀ e, e < 97 → ld e < 25 → e ≤ 4 * n)
    (h : rd_ok ld n rs st ca ub ct bg tk th ent (fun _ => 0) (fun _ => 0)) (h' : rd_ok ld n rs' st' ca' ub' ct' bg' tk' th' ent' (fun _ => 0) (fun _ => 0))
    (e1 : ∀ i, i < n → rs2 i = rs' i + rs i ∧ st2 i = st' i + st i ∧ ca2 i = ca' i + ca i ∧ ub2 i = ub' i + ub i ∧ bg2 i = bg i + bg' i ∧ th2 i = th i + th' i) (e2 : ∀ e, e < 97 → ct2 e = ct' e + ct e) (e3 : ∀ x, x < 4 * n → tk2 x = tk x + tk' x) :
    rd_ok ld n rs2 st2 ca2 ub2 ct2 bg2 tk2 th2 (ent + ent') (fun _ => 0) (fun _ => 0) := by
  have hF : ∀ e, e < 97 → ld e < 25 → rd_F (ent + ent') tk2 e = rd_F ent tk e + rd_F ent' tk' e := by
    intro e he hl
    unfold rd_F
    by_cases c : e = 0
    · rw [if_pos c, if_pos c, if_pos c]
    · have := hv e he hl
      rw [if_neg c, if_neg c, if_neg c, e3 _ (by omega)]
  refine ⟨fun e he hc => ?_, fun p hp => ?_⟩
  · have hl : ld e < 25 := by
      unfold pg_cn at hc
      by_cases c : ld e < 25 ∧ pg_g ld e (pw_src e) = pg_g ld e (ld e)
      · exact c.1
      · rw [if_neg c] at hc; omega
    rw [e2 e he, hF e he hl, h.1 e he hc, h'.1 e he hc]; grind
  · obtain ⟨a1, a2, a3, a4, a5, a6⟩ := e1 p hp
    obtain ⟨b1, b2, b3⟩ := h.2 p hp
    obtain ⟨c1, c2, c3⟩ := h'.2 p hp
    rw [a1, a2, a3, a4, a5, a6, md_in hF (by omega), md_out hF]
    refine ⟨by rw [b1, c1]; grind, ?_, ?_⟩
    · show _ = _ + (0 : Int32)
      have b2' : ca p + fl_in ld (rd_F ent tk) p = rs p + st p + fl_out ld (rd_F ent tk) p + 0 := b2
      have c2' : ca' p + fl_in ld (rd_F ent' tk') p = rs' p + st' p + fl_out ld (rd_F ent' tk') p + 0 := c2
      grind
    · show _ + (0 : Int32) = _
      have b3' : bg p + ub p + 0 = ca p + fl_in ld (rd_F ent tk) p := b3
      have c3' : bg' p + ub' p + 0 = ca' p + fl_in ld (rd_F ent' tk') p := c3
      grind
section
variable {f_load : Int32} {f_depth : Int32} {f_begun : Int32} {f_outcome : Int32} {f_result : Int32} {a_op : (Nat → Int32)} {a_opA : (Nat → Int32)} {a_opB : (Nat → Int32)} {a_opLine : (Nat → Int32)} {a_length : (Nat → Int32)} {a_guards : (Nat → Int32)} {a_handlers : (Nat → Int32)} {a_kept : (Nat → Int32)} {a_keptLoad : (Nat → Int32)} {a_counter : (Nat → Int32)} {a_raised : (Nat → Int32)} {a_stopped : (Nat → Int32)} {a_caught : (Nat → Int32)} {a_unbegun : (Nat → Int32)} {a_leads : (Nat → Int32)} {a_counts : (Nat → Int32)} {a_adds : (Nat → Int64)} {a_goes : (Nat → Int64)} {a_needed : (Nat → Int32)} {a_known : (Nat → Int32)} {a_solved : (Nat → Int32)} {a_open : (Nat → Int32)} {a_unknown : (Nat → Int32)} {a_balance : (Nat → Int32)} {a_group : (Nat → Int32)} {a_first : (Nat → Int32)} {a_last : (Nat → Int32)} {a_sum : (Nat → Int64)} {a_often : (Nat → Int32)} {a_told : (Nat → Int32)} {a_method : (Nat → Int32)} {a_pc : (Nat → Int32)} {a_start : (Nat → Int32)} {a_here : (Nat → Int32)} {a_path : (Nat → Int64)} {a_coming : (Nat → Int64)} {a_variable : (Nat → Int32)} {g_depth : Int32} {g_steps : Int32} {g_result : Int32} {g_outcome : Int32} {g_load : Int32} {g_over : Int32} {b_op : (Nat → Int32)} {b_a : (Nat → Int32)} {b_b : (Nat → Int32)} {b_line : (Nat → Int32)} {b_length : (Nat → Int32)} {b_from : (Nat → Int32)} {b_to : (Nat → Int32)} {b_at : (Nat → Int32)} {b_handlers : (Nat → Int32)} {b_begun : (Nat → Int32)} {b_taken : (Nat → Int32)} {b_thrown : (Nat → Int32)} {b_rowI : (Nat → Int32)} {b_rowWay : (Nat → Int32)} {b_rowLength : (Nat → Int32)} {b_times : (Nat → Int32)} {b_told : (Nat → Int32)} {b_kOp : (Nat → Int32)} {b_kA : (Nat → Int32)} {b_kB : (Nat → Int32)} {b_kLine : (Nat → Int32)} {b_kLength : (Nat → Int32)} {b_kFrom : (Nat → Int32)} {b_kTo : (Nat → Int32)} {b_kAt : (Nat → Int32)} {b_kHandlers : (Nat → Int32)} {b_kBegun : (Nat → Int32)} {b_kTaken : (Nat → Int32)} {b_kThrown : (Nat → Int32)} {b_kept : (Nat → Int32)} {b_method : (Nat → Int32)} {b_pc : (Nat → Int32)} {b_variable : (Nat → Int32)} {b_hereI : (Nat → Int32)} {b_hereWay : (Nat → Int32)} {b_hereLength : (Nat → Int32)} {b_into : (Nat → Int32)} {b_kLoad : (Nat → Int32)} {b_part : (Nat → Int32)}
theorem ms_138 {s m H : Nat} (hs : s < 3) (hm : m < 4) (hH : H ≤ 3) (C : (rc_code a_op a_opA a_opB a_opLine a_guards a_length a_handlers b_op b_a b_b b_line b_from b_to b_at b_length b_handlers)) (hK : (rc_kept a_op a_opA a_opB a_opLine a_guards a_length a_handlers b_kOp b_kA b_kB b_kLine b_kFrom b_kTo b_kAt b_kLength b_kHandlers)) (h1 : a_handlers m = nI H) (h2 : b_handlers m = nI H) :
    ∀ d h, h + d = H → ∃ r : Int32, (r = 0 ∨ r = 1) ∧ (∀ post : Int32 → Prop, post r → (wX_same_138 post (nI m) (nI (5 + (4 * s + m))) f_load f_depth f_begun f_outcome f_result a_op a_opA a_opB a_opLine a_length a_guards a_handlers a_kept a_keptLoad a_counter a_raised a_stopped a_caught a_unbegun a_leads a_counts a_adds a_goes a_needed a_known a_solved a_open a_unknown a_balance a_group a_first a_last a_sum a_often a_told a_method a_pc a_start a_here a_path a_coming a_variable (d + 1) (nI h))) ∧ (∀ post : Int32 → Prop, post r → (wY_isKept_153 post (nI s) (nI m) g_depth g_steps g_result g_outcome g_load g_over b_op b_a b_b b_line b_length b_from b_to b_at b_handlers b_begun b_taken b_thrown b_rowI b_rowWay b_rowLength b_times b_told b_kOp b_kA b_kB b_kLine b_kLength b_kFrom b_kTo b_kAt b_kHandlers b_kBegun b_kTaken b_kThrown b_kept b_method b_pc b_variable b_hereI b_hereWay b_hereLength b_into b_kLoad b_part (d + 1) (nI (3 * m + h)))) := by
  have i17 : vp_in (nI m) 17 := pk_in m 17 (by omega)
  have i5 : vp_in (nI m) 5 := pk_in m 5 (by omega)
  have rx : a_handlers (nI m).toNatClampNeg = nI H := qa_r m rfl h1
  have ry : (3 : Int32) * nI m + b_handlers (nI m).toNatClampNeg = nI (3 * m + H) := by rw [qa_r m rfl h2, qa_3]
  intro d
  induction d with
  | zero =>
    intro h hh
    obtain rfl : h = H := by omega
    exact ⟨1, Or.inr rfl, fun post hp => ⟨i17, br_t (by rw [rx]; exact nI_le (Nat.le_refl _) (by omega)) hp⟩, fun post hp => ⟨i5, br_t (by rw [ry]; exact nI_le (Nat.le_refl _) (by omega)) hp⟩⟩
  | succ d ih =>
    intro h hh
    obtain ⟨f, t, c, hf, ht, hc, v1, v2, v3, v4⟩ := (C m (by omega)).2.2.2 h (by omega)
    obtain ⟨f', t', c', hf', ht', hc', w1, w2, w3, w4⟩ := (hK (4 * s + m) (by omega)).2.2.2 h (by omega)
    have nx : ¬ a_handlers (nI m).toNatClampNeg ≤ nI h := by rw [rx]; exact nI_ge (by omega) (by omega)
    have ny : ¬ (3 : Int32) * nI m + b_handlers (nI m).toNatClampNeg ≤ nI (3 * m + h) := by rw [ry]; exact nI_ge (by omega) (by omega)
    have j1 : vp_in (nI (3 * m + h)) 51 := pk_in (3 * m + h) 51 (by omega)
    have j2 : vp_in (nI (3 * (5 + (4 * s + m)) + h)) 51 := pk_in (3 * (5 + (4 * s + m)) + h) 51 (by omega)
    have j3 : vp_in (nI (3 * m + h)) 15 := pk_in (3 * m + h) 15 (by omega)
    have j4 : vp_in (nI (3 * (4 * s + m) + h)) 36 := pk_in (3 * (4 * s + m) + h) 36 (by omega)
    have e4 : (12 : Int32) * nI s + nI (3 * m + h) = nI (3 * (4 * s + m) + h) := by
      rw [qa_12]; exact congrArg nI (by omega)
    have x1 : a_guards (nI (3 * m + h)).toNatClampNeg = nI (f + 32 * t + 1024 * c) := qa_r _ rfl v4
    have x2 : a_guards (nI (3 * (5 + (4 * s + m)) + h)).toNatClampNeg = nI (f' + 32 * t' + 1024 * c') := qa_r _ rfl w4
    have y1 : b_from (nI (3 * m + h)).toNatClampNeg = nI f := qa_r _ rfl v1
    have y2 : b_to (nI (3 * m + h)).toNatClampNeg = nI t := qa_r _ rfl v2
    have y3 : b_at (nI (3 * m + h)).toNatClampNeg = nI c := qa_r _ rfl v3
    have z1 : b_kFrom (nI (3 * (4 * s + m) + h)).toNatClampNeg = nI f' := qa_r _ rfl w1
    have z2 : b_kTo (nI (3 * (4 * s + m) + h)).toNatClampNeg = nI t' := qa_r _ rfl w2
    have z3 : b_kAt (nI (3 * (4 * s + m) + h)).toNatClampNeg = nI c' := qa_r _ rfl w3
    by_cases cc : f = f' ∧ t = t' ∧ c = c'
    · obtain ⟨rfl, rfl, rfl⟩ := cc
      obtain ⟨r, hr, hX, hY⟩ := ih (h + 1) (by omega)
      refine ⟨r, hr, fun post hp => ⟨i17, br_f nx (nm_r (qa_3 m h) (nm_r (qa_3 (5 + (4 * s + m)) h) ⟨j1, j2, br_t (x1.trans x2.symm) (nm_r (nI_1 h) (hX post hp))⟩))⟩, fun post hp => ⟨i5, br_f ny (nm_r e4 ⟨j4, j3, br_t (z1.trans y1.symm) ⟨j4, j3, br_t (z2.trans y2.symm) ⟨j4, j3, br_t (z3.trans y3.symm) (nm_r (nI_1 _) (hY post hp))⟩⟩⟩)⟩⟩
    · have ng : ¬ a_guards (nI (3 * m + h)).toNatClampNeg = a_guards (nI (3 * (5 + (4 * s + m)) + h)).toNatClampNeg := by
        rw [x1, x2]
        intro z
        have := (nI_eq (by omega) (by omega)).mp z
        exact cc (by omega)
      refine ⟨0, Or.inl rfl, fun post hp => ⟨i17, br_f nx (nm_r (qa_3 m h) (nm_r (qa_3 (5 + (4 * s + m)) h) ⟨j1, j2, br_f ng hp⟩))⟩, fun post hp => ⟨i5, br_f ny (nm_r e4 ⟨j4, j3, ?_⟩)⟩⟩
      by_cases c1 : f' = f
      · refine br_t (by rw [z1, y1, c1]) ⟨j4, j3, ?_⟩
        by_cases c2 : t' = t
        · refine br_t (by rw [z2, y2, c2]) ⟨j4, j3, br_f ?_ hp⟩
          rw [z3, y3]
          intro z
          have := (nI_eq (by omega) (by omega)).mp z
          exact cc ⟨c1.symm, c2.symm, this.symm⟩
        · exact br_f (by rw [z2, y2]; exact fun z => c2 ((nI_eq (by omega) (by omega)).mp z)) hp
      · exact br_f (by rw [z1, y1]; exact fun z => c1 ((nI_eq (by omega) (by omega)).mp z)) hp
theorem ms_34 {s m : Nat} (hs : s < 3) (hm : m < 4) (C : (rc_code a_op a_opA a_opB a_opLine a_guards a_length a_handlers b_op b_a b_b b_line b_from b_to b_at b_length b_handlers)) (hK : (rc_kept a_op a_opA a_opB a_opLine a_guards a_length a_handlers b_kOp b_kA b_kB b_kLine b_kFrom b_kTo b_kAt b_kLength b_kHandlers)) :
    ∀ d i, i + d = (xn a_length m) → ∃ r : Int32, (r = 0 ∨ r = 1) ∧ (∀ post : Int32 → Prop, post r → (wX_same_34 post (nI m) (nI (5 + (4 * s + m))) f_load f_depth f_begun f_outcome f_result a_op a_opA a_opB a_opLine a_length a_guards a_handlers a_kept a_keptLoad a_counter a_raised a_stopped a_caught a_unbegun a_leads a_counts a_adds a_goes a_needed a_known a_solved a_open a_unknown a_balance a_group a_first a_last a_sum a_often a_told a_method a_pc a_start a_here a_path a_coming a_variable (d + 1) (nI i))) ∧ (∀ post : Int32 → Prop, post r → (wY_isKept_54 post (nI s) (nI m) g_depth g_steps g_result g_outcome g_load g_over b_op b_a b_b b_line b_length b_from b_to b_at b_handlers b_begun b_taken b_thrown b_rowI b_rowWay b_rowLength b_times b_told b_kOp b_kA b_kB b_kLine b_kLength b_kFrom b_kTo b_kAt b_kHandlers b_kBegun b_kTaken b_kThrown b_kept b_method b_pc b_variable b_hereI b_hereWay b_hereLength b_into b_kLoad b_part (d + 1) (nI (24 * m + i)))) ∧
      (r = 1 → ∀ j, i ≤ j → j < (xn a_length m) → a_op (24 * (5 + (4 * s + m)) + j) = a_op (24 * m + j) ∧ a_opB (24 * (5 + (4 * s + m)) + j) = a_opB (24 * m + j)) := by
  obtain ⟨l1, l2, l3⟩ := rc_len C (r := m) (by omega)
  have i17 : vp_in (nI m) 17 := pk_in m 17 (by omega)
  have i5 : vp_in (nI m) 5 := pk_in m 5 (by omega)
  have rx : a_length (nI m).toNatClampNeg = nI (xn a_length m) := qa_r m rfl l1
  have ry : (24 : Int32) * nI m + b_length (nI m).toNatClampNeg = nI (24 * m + (xn a_length m)) := by rw [qa_r m rfl l2, qa_24]
  intro d
  induction d with
  | zero =>
    intro i hi
    obtain rfl : i = (xn a_length m) := by omega
    obtain ⟨H, hH, e1, e2⟩ := (C m (by omega)).2.1
    obtain ⟨r, hr, hX, hY⟩ := ms_138 (f_load := f_load) (f_depth := f_depth) (f_begun := f_begun) (f_outcome := f_outcome) (f_result := f_result) (g_depth := g_depth) (g_steps := g_steps) (g_result := g_result) (g_outcome := g_outcome) (g_load := g_load) (g_over := g_over) hs hm hH C hK e1 e2 H 0 (by omega)
    exact ⟨r, hr, fun post hp => ⟨i17, br_t (by rw [rx]; exact nI_le (Nat.le_refl _) (by omega)) ⟨_, hX post hp⟩⟩, fun post hp => ⟨i5, br_t (by rw [ry]; exact nI_le (Nat.le_refl _) (by omega)) (nm_r (qa_m3 m) ⟨_, hY post hp⟩)⟩, fun _ j h1 h2 => absurd h2 (by omega)⟩
  | succ d ih =>
    intro i hi
    obtain ⟨⟨o, ho, o1, o2⟩, ⟨c, hc, c1, c2⟩, bb, ⟨l, hl, n1, n2⟩⟩ := (C m (by omega)).2.2.1 i (by omega)
    obtain ⟨⟨o', ho', o1', o2'⟩, ⟨c', hc', c1', c2'⟩, bb', ⟨l', hl', n1', n2'⟩⟩ := (hK (4 * s + m) (by omega)).2.2.1 i (by omega)
    have nx : ¬ a_length (nI m).toNatClampNeg ≤ nI i := by rw [rx]; exact nI_ge (by omega) (by omega)
    have ny : ¬ (24 : Int32) * nI m + b_length (nI m).toNatClampNeg ≤ nI (24 * m + i) := by rw [ry]; exact nI_ge (by omega) (by omega)
    have j1 : vp_in (nI (24 * m + i)) 408 := pk_in (24 * m + i) 408 (by omega)
    have j2 : vp_in (nI (24 * (5 + (4 * s + m)) + i)) 408 := pk_in (24 * (5 + (4 * s + m)) + i) 408 (by omega)
    have j3 : vp_in (nI (24 * m + i)) 120 := pk_in (24 * m + i) 120 (by omega)
    have j4 : vp_in (nI (24 * (4 * s + m) + i)) 288 := pk_in (24 * (4 * s + m) + i) 288 (by omega)
    have e4 : (96 : Int32) * nI s + nI (24 * m + i) = nI (24 * (4 * s + m) + i) := by
      rw [qa_96]; exact congrArg nI (by omega)
    have rX : ∀ f : Nat → Int32, f (nI (24 * m + i)).toNatClampNeg = f (24 * m + i) := fun f => qa_rr _ rfl
    have rQ : ∀ f : Nat → Int32, f (nI (24 * (5 + (4 * s + m)) + i)).toNatClampNeg = f (24 * (5 + (4 * s + m)) + i) := fun f => qa_rr _ rfl
    have rK : ∀ f : Nat → Int32, f (nI (24 * (4 * s + m) + i)).toNatClampNeg = f (24 * (4 * s + m) + i) := fun f => qa_rr _ rfl
    have ne : ∀ a b : Nat, a < 16 → b < 16 → a ≠ b → ¬ nI a = nI b := fun a b h1 h2 h3 z => h3 ((nI_eq (by omega) (by omega)).mp z)
    have xo : a_op (24 * m + i) = nI o := o1
    have xo' : a_op (24 * (5 + (4 * s + m)) + i) = nI o' := o1'
    have yo : b_op (24 * m + i) = nI o := o2
    have yo' : b_kOp (24 * (4 * s + m) + i) = nI o' := o2'
    have xc : a_opA (24 * m + i) = nI c := c1
    have xc' : a_opA (24 * (5 + (4 * s + m)) + i) = nI c' := c1'
    have yc : b_a (24 * m + i) = nI c := c2
    have yc' : b_kA (24 * (4 * s + m) + i) = nI c' := c2'
    have xb : a_opB (24 * m + i) = b_b (24 * m + i) := bb
    have xb' : a_opB (24 * (5 + (4 * s + m)) + i) = b_kB (24 * (4 * s + m) + i) := bb'
    have xl' : a_opLine (24 * m + i) = nI l := n1
    have xl2 : a_opLine (24 * (5 + (4 * s + m)) + i) = nI l' := n1'
    have yl : b_line (24 * m + i) = nI l := n2
    have yl' : b_kLine (24 * (4 * s + m) + i) = nI l' := n2'
    by_cases d1 : o = o'
    · by_cases d2 : c = c'
      · by_cases d3 : a_opB (24 * m + i) = a_opB (24 * (5 + (4 * s + m)) + i)
        · by_cases d4 : l = l'
          · obtain ⟨r, hr, hX, hY, hE⟩ := ih (i + 1) (by omega)
            refine ⟨r, hr, fun post hp => ⟨i17, br_f nx (nm_r (qa_24 m i) (nm_r (qa_24 (5 + (4 * s + m)) i) ⟨j1, j2, br_t (by rw [rX a_op, rQ a_op, xo, xo', d1]) ⟨j1, j2, br_t (by rw [rX a_opA, rQ a_opA, xc, xc', d2]) ⟨j1, j2, br_t (by rw [rX a_opB, rQ a_opB, d3]) ⟨j1, j2, br_t (by rw [rX a_opLine, rQ a_opLine, xl', xl2, d4]) (nm_r (nI_1 i) (hX post hp))⟩⟩⟩⟩))⟩,
              fun post hp => ⟨i5, br_f ny (nm_r e4 ⟨j4, j3, br_t (by rw [rK b_kOp, rX b_op, yo, yo', d1]) ⟨j4, j3, br_t (by rw [rK b_kA, rX b_a, yc, yc', d2]) ⟨j4, j3, br_t (by rw [rK b_kB, rX b_b, ← xb, ← xb', d3]) ⟨j4, j3, br_t (by rw [rK b_kLine, rX b_line, yl, yl', d4]) (nm_r (nI_1 _) (hY post hp))⟩⟩⟩⟩)⟩, fun h1 j hj1 hj2 => ?_⟩
            by_cases cj : j = i
            · subst cj
              exact ⟨by rw [xo, xo', d1], d3.symm⟩
            · exact hE h1 j (by omega) hj2
          · refine ⟨0, Or.inl rfl, fun post hp => ⟨i17, br_f nx (nm_r (qa_24 m i) (nm_r (qa_24 (5 + (4 * s + m)) i) ⟨j1, j2, br_t (by rw [rX a_op, rQ a_op, xo, xo', d1]) ⟨j1, j2, br_t (by rw [rX a_opA, rQ a_opA, xc, xc', d2]) ⟨j1, j2, br_t (by rw [rX a_opB, rQ a_opB, d3]) ⟨j1, j2, br_f (by rw [rX a_opLine, rQ a_opLine, xl', xl2]; exact ne l l' hl hl' d4) hp⟩⟩⟩⟩))⟩,
              fun post hp => ⟨i5, br_f ny (nm_r e4 ⟨j4, j3, br_t (by rw [rK b_kOp, rX b_op, yo, yo', d1]) ⟨j4, j3, br_t (by rw [rK b_kA, rX b_a, yc, yc', d2]) ⟨j4, j3, br_t (by rw [rK b_kB, rX b_b, ← xb, ← xb', d3]) ⟨j4, j3, br_f (by rw [rK b_kLine, rX b_line, yl, yl']; exact ne l' l hl' hl (fun z => d4 z.symm)) hp⟩⟩⟩⟩)⟩, fun h1 => absurd h1 (by decide)⟩
        · refine ⟨0, Or.inl rfl, fun post hp => ⟨i17, br_f nx (nm_r (qa_24 m i) (nm_r (qa_24 (5 + (4 * s + m)) i) ⟨j1, j2, br_t (by rw [rX a_op, rQ a_op, xo, xo', d1]) ⟨j1, j2, br_t (by rw [rX a_opA, rQ a_opA, xc, xc', d2]) ⟨j1, j2, br_f (by rw [rX a_opB, rQ a_opB]; exact d3) hp⟩⟩⟩))⟩,
            fun post hp => ⟨i5, br_f ny (nm_r e4 ⟨j4, j3, br_t (by rw [rK b_kOp, rX b_op, yo, yo', d1]) ⟨j4, j3, br_t (by rw [rK b_kA, rX b_a, yc, yc', d2]) ⟨j4, j3, br_f (by rw [rK b_kB, rX b_b, ← xb, ← xb']; exact fun z => d3 z.symm) hp⟩⟩⟩)⟩, fun h1 => absurd h1 (by decide)⟩
      · refine ⟨0, Or.inl rfl, fun post hp => ⟨i17, br_f nx (nm_r (qa_24 m i) (nm_r (qa_24 (5 + (4 * s + m)) i) ⟨j1, j2, br_t (by rw [rX a_op, rQ a_op, xo, xo', d1]) ⟨j1, j2, br_f (by rw [rX a_opA, rQ a_opA, xc, xc']; exact ne c c' (by omega) (by omega) d2) hp⟩⟩))⟩,
          fun post hp => ⟨i5, br_f ny (nm_r e4 ⟨j4, j3, br_t (by rw [rK b_kOp, rX b_op, yo, yo', d1]) ⟨j4, j3, br_f (by rw [rK b_kA, rX b_a, yc, yc']; exact ne c' c (by omega) (by omega) (fun z => d2 z.symm)) hp⟩⟩)⟩, fun h1 => absurd h1 (by decide)⟩
    · refine ⟨0, Or.inl rfl, fun post hp => ⟨i17, br_f nx (nm_r (qa_24 m i) (nm_r (qa_24 (5 + (4 * s + m)) i) ⟨j1, j2, br_f (by rw [rX a_op, rQ a_op, xo, xo']; exact ne o o' (by omega) (by omega) d1) hp⟩))⟩,
        fun post hp => ⟨i5, br_f ny (nm_r e4 ⟨j4, j3, br_f (by rw [rK b_kOp, rX b_op, yo, yo']; exact ne o' o (by omega) (by omega) (fun z => d1 z.symm)) hp⟩)⟩, fun h1 => absurd h1 (by decide)⟩
theorem ms_same {s m : Nat} (hs : s < 3) (hm : m < 4) (h0 : 0 < (xn a_length m)) (C : (rc_code a_op a_opA a_opB a_opLine a_guards a_length a_handlers b_op b_a b_b b_line b_from b_to b_at b_length b_handlers)) (hK : (rc_kept a_op a_opA a_opB a_opLine a_guards a_length a_handlers b_kOp b_kA b_kB b_kLine b_kFrom b_kTo b_kAt b_kLength b_kHandlers)) :
    ∃ r : Int32, (r = 0 ∨ r = 1) ∧ (∀ post : Int32 → Prop, post r → (wpX_same post (f_load, f_depth, f_begun, f_outcome, f_result, a_op, a_opA, a_opB, a_opLine, a_length, a_guards, a_handlers, a_kept, a_keptLoad, a_counter, a_raised, a_stopped, a_caught, a_unbegun, a_leads, a_counts, a_adds, a_goes, a_needed, a_known, a_solved, a_open, a_unknown, a_balance, a_group, a_first, a_last, a_sum, a_often, a_told, a_method, a_pc, a_start, a_here, a_path, a_coming, a_variable) (nI m) (nI (5 + (4 * s + m))))) ∧ (∀ post : Int32 → Prop, post r → (wpY_isKept post (g_depth, g_steps, g_result, g_outcome, g_load, g_over, b_op, b_a, b_b, b_line, b_length, b_from, b_to, b_at, b_handlers, b_begun, b_taken, b_thrown, b_rowI, b_rowWay, b_rowLength, b_times, b_told, b_kOp, b_kA, b_kB, b_kLine, b_kLength, b_kFrom, b_kTo, b_kAt, b_kHandlers, b_kBegun, b_kTaken, b_kThrown, b_kept, b_method, b_pc, b_variable, b_hereI, b_hereWay, b_hereLength, b_into, b_kLoad, b_part) (nI s) (nI m))) ∧
      (r = 1 → ul a_length a_op a_opB (5 + (4 * s + m)) = ul a_length a_op a_opB m ∧ xn a_length (5 + (4 * s + m)) = (xn a_length m)) := by
  obtain ⟨l1, l2, l3⟩ := rc_len C (r := m) (by omega)
  obtain ⟨k1, k2, k3⟩ := rc_klen hK (q := 4 * s + m) (by omega)
  obtain ⟨H, hH, e1, e2⟩ := (C m (by omega)).2.1
  obtain ⟨H', hH', e1', e2'⟩ := (hK (4 * s + m) (by omega)).2.1
  have i17 : vp_in (nI m) 17 := pk_in m 17 (by omega)
  have j17 : vp_in (nI (5 + (4 * s + m))) 17 := pk_in (5 + (4 * s + m)) 17 (by omega)
  have i5 : vp_in (nI m) 5 := pk_in m 5 (by omega)
  have i12 : vp_in (4 * nI s + nI m) 12 := pk_in (4 * s + m) 12 (by omega) (qa_4 s m)
  have rx : a_length (nI m).toNatClampNeg = nI (xn a_length m) := qa_r m rfl l1
  have rx' : a_length (nI (5 + (4 * s + m))).toNatClampNeg = nI (xn a_length (5 + (4 * s + m))) := qa_r _ rfl k1
  have ry : b_length (nI m).toNatClampNeg = nI (xn a_length m) := qa_r m rfl l2
  have ry' : b_kLength (4 * nI s + nI m).toNatClampNeg = nI (xn a_length (5 + (4 * s + m))) := qa_r _ (qa_4 s m) k2
  have hx : a_handlers (nI m).toNatClampNeg = nI H := qa_r m rfl e1
  have hx' : a_handlers (nI (5 + (4 * s + m))).toNatClampNeg = nI H' := qa_r _ rfl e1'
  have hy : b_handlers (nI m).toNatClampNeg = nI H := qa_r m rfl e2
  have hy' : b_kHandlers (4 * nI s + nI m).toNatClampNeg = nI H' := qa_r _ (qa_4 s m) e2'
  have nz : ¬ b_length (nI m).toNatClampNeg = 0 := by rw [ry]; exact nI_ne0 h0 (by omega)
  by_cases c1 : (xn a_length m) = xn a_length (5 + (4 * s + m))
  · by_cases c2 : H = H'
    · obtain ⟨r, hr, hX, hY, hE⟩ := ms_34 (f_load := f_load) (f_depth := f_depth) (f_begun := f_begun) (f_outcome := f_outcome) (f_result := f_result) (g_depth := g_depth) (g_steps := g_steps) (g_result := g_result) (g_outcome := g_outcome) (g_load := g_load) (g_over := g_over) hs hm C hK (xn a_length m) 0 (by omega)
      refine ⟨r, hr, fun post hp => ⟨i17, j17, br_t (by rw [rx, rx', c1]) ⟨i17, j17, br_t (by rw [hx, hx', c2]) ⟨_, hX post hp⟩⟩⟩, fun post hp => ⟨i5, br_f nz ⟨i12, i5, br_t (by rw [ry, ry', c1]) ⟨i12, i5, br_t (by rw [hy, hy', c2]) (nm_r (qa_m24 m) ⟨_, hY post hp⟩)⟩⟩⟩, fun h1 => ⟨ul_congr (by rw [k1, l1, c1]) (fun i hi => hE h1 i (by omega) hi), c1.symm⟩⟩
    · have ne : ¬ nI H = nI H' := fun z => c2 ((nI_eq (by omega) (by omega)).mp z)
      exact ⟨0, Or.inl rfl, fun post hp => ⟨i17, j17, br_t (by rw [rx, rx', c1]) ⟨i17, j17, br_f (by rw [hx, hx']; exact ne) hp⟩⟩, fun post hp => ⟨i5, br_f nz ⟨i12, i5, br_t (by rw [ry, ry', c1]) ⟨i12, i5, br_f (by rw [hy, hy']; exact fun z => ne z.symm) hp⟩⟩⟩, fun h1 => absurd h1 (by decide)⟩
  · have ne : ¬ nI (xn a_length m) = nI (xn a_length (5 + (4 * s + m))) := fun z => c1 ((nI_eq (by omega) (by omega)).mp z)
    exact ⟨0, Or.inl rfl, fun post hp => ⟨i17, j17, br_f (by rw [rx, rx']; exact ne) hp⟩, fun post hp => ⟨i5, br_f nz ⟨i12, i5, br_f (by rw [ry, ry']; exact fun z => ne z.symm) hp⟩⟩, fun h1 => absurd h1 (by decide)⟩
end
end
section
/-! a run: flows while invocations are at work -/
def rn_y (m0 i0 : Nat) : Nat → Nat → Int32 := fun m p => if m = m0 ∧ p = i0 then 1 else 0
theorem rn_s {m0 i0 p : Nat} : rn_y m0 i0 m0 p = if p = i0 then 1 else 0 := by
  unfold rn_y
  by_cases c : p = i0
  · rw [if_pos ⟨rfl, c⟩, if_pos c]
  · rw [if_neg (fun z => c z.2), if_neg c]
theorem rn_n {m0 i0 m p : Nat} (h : m ≠ m0) : rn_y m0 i0 m p = 0 := if_neg (fun z => h z.1)
theorem ev_u {f : Nat → Int32} {t i p : Nat} : upd f (t + i) (f (t + i) + 1) (t + p) = f (t + p) + (if p = i then 1 else 0) := by
  unfold upd
  by_cases c : p = i
  · rw [if_pos (by omega), if_pos c, c]
  · rw [if_neg (by omega), if_neg c]; grind
/-- one row's flows change in step -/
theorem rd_gen {ld : Nat → Nat} {n : Nat} {rs st ca ub ct bg tk th rs2 st2 ca2 ub2 ct2 bg2 tk2 th2 : Nat → Int32} {ent ent2 : Int32} {fc rd fc2 rd2 x y z a b i o : Nat → Int32} (h : rd_ok ld n rs st ca ub ct bg tk th ent fc rd)
    (h0 : ∀ e, e < 97 → pg_cn ld e = 1 → ct2 e = rd_F ent2 tk2 e)
    (hi : ∀ p, p < n → fl_in ld (rd_F ent2 tk2) p = fl_in ld (rd_F ent tk) p + i p) (ho : ∀ p, p < n → fl_out ld (rd_F ent2 tk2) p = fl_out ld (rd_F ent tk) p + o p)
    (h1 : ∀ p, p < n → th2 p = th p + x p ∧ rs2 p = rs p + x p ∧ st2 p = st p + y p ∧ ca2 p = ca p + z p ∧ ub2 p = ub p + a p ∧ bg2 p = bg p + b p)
    (h2 : ∀ p, p < n → z p + i p + fc p = x p + y p + o p + fc2 p ∧ b p + a p + rd2 p = rd p + z p + i p) : rd_ok ld n rs2 st2 ca2 ub2 ct2 bg2 tk2 th2 ent2 fc2 rd2 := by
  refine ⟨h0, fun p hp => ?_⟩
  obtain ⟨a1, a2, a3, a4, a5, a6⟩ := h1 p hp
  obtain ⟨b1, b2⟩ := h2 p hp
  obtain ⟨c1, c2, c3⟩ := h.2 p hp
  rw [a1, a2, a3, a4, a5, a6, hi p hp, ho p hp]
  refine ⟨by rw [c1], by grind, by grind⟩
theorem rd_fc {ld : Nat → Nat} {n : Nat} {rs st ca ub ct bg tk th : Nat → Int32} {ent : Int32} {fc rd fc2 rd2 : Nat → Int32} (h : rd_ok ld n rs st ca ub ct bg tk th ent fc rd) (h1 : ∀ p, p < n → fc2 p = fc p ∧ rd2 p = rd p) : rd_ok ld n rs st ca ub ct bg tk th ent fc2 rd2 := by
  refine ⟨h.1, fun p hp => ?_⟩
  rw [(h1 p hp).1, (h1 p hp).2]
  exact h.2 p hp
section
variable {f_load : Int32} {f_depth : Int32} {f_begun : Int32} {f_outcome : Int32} {f_result : Int32} {a_op : (Nat → Int32)} {a_opA : (Nat → Int32)} {a_opB : (Nat → Int32)} {a_opLine : (Nat → Int32)} {a_length : (Nat → Int32)} {a_guards : (Nat → Int32)} {a_handlers : (Nat → Int32)} {a_kept : (Nat → Int32)} {a_keptLoad : (Nat → Int32)} {a_counter : (Nat → Int32)} {a_raised : (Nat → Int32)} {a_stopped : (Nat → Int32)} {a_caught : (Nat → Int32)} {a_unbegun : (Nat → Int32)} {a_leads : (Nat → Int32)} {a_counts : (Nat → Int32)} {a_adds : (Nat → Int64)} {a_goes : (Nat → Int64)} {a_needed : (Nat → Int32)} {a_known : (Nat → Int32)} {a_solved : (Nat → Int32)} {a_open : (Nat → Int32)} {a_unknown : (Nat → Int32)} {a_balance : (Nat → Int32)} {a_group : (Nat → Int32)} {a_first : (Nat → Int32)} {a_last : (Nat → Int32)} {a_sum : (Nat → Int64)} {a_often : (Nat → Int32)} {a_told : (Nat → Int32)} {a_method : (Nat → Int32)} {a_pc : (Nat → Int32)} {a_start : (Nat → Int32)} {a_here : (Nat → Int32)} {a_path : (Nat → Int64)} {a_coming : (Nat → Int64)} {a_variable : (Nat → Int32)} {g_depth : Int32} {g_steps : Int32} {g_result : Int32} {g_outcome : Int32} {g_load : Int32} {g_over : Int32} {b_op : (Nat → Int32)} {b_a : (Nat → Int32)} {b_b : (Nat → Int32)} {b_line : (Nat → Int32)} {b_length : (Nat → Int32)} {b_from : (Nat → Int32)} {b_to : (Nat → Int32)} {b_at : (Nat → Int32)} {b_handlers : (Nat → Int32)} {b_begun : (Nat → Int32)} {b_taken : (Nat → Int32)} {b_thrown : (Nat → Int32)} {b_rowI : (Nat → Int32)} {b_rowWay : (Nat → Int32)} {b_rowLength : (Nat → Int32)} {b_times : (Nat → Int32)} {b_told : (Nat → Int32)} {b_kOp : (Nat → Int32)} {b_kA : (Nat → Int32)} {b_kB : (Nat → Int32)} {b_kLine : (Nat → Int32)} {b_kLength : (Nat → Int32)} {b_kFrom : (Nat → Int32)} {b_kTo : (Nat → Int32)} {b_kAt : (Nat → Int32)} {b_kHandlers : (Nat → Int32)} {b_kBegun : (Nat → Int32)} {b_kTaken : (Nat → Int32)} {b_kThrown : (Nat → Int32)} {b_kept : (Nat → Int32)} {b_method : (Nat → Int32)} {b_pc : (Nat → Int32)} {b_variable : (Nat → Int32)} {b_hereI : (Nat → Int32)} {b_hereWay : (Nat → Int32)} {b_hereLength : (Nat → Int32)} {b_into : (Nat → Int32)} {b_kLoad : (Nat → Int32)} {b_part : (Nat → Int32)}
variable {ent : Nat → Int32} {B : Nat → Nat → Int32} {m0 i0 : Nat}
theorem ev_fc {fc rd fc2 rd2 : Nat → Nat → Int32} (h : (rc_flow a_length a_op a_opB a_raised a_stopped a_caught a_unbegun a_counter b_begun b_taken b_thrown) ent fc rd) (e : ∀ m p, m < 4 → p < xn a_length m → fc2 m p = fc m p ∧ rd2 m p = rd m p) : (rc_flow a_length a_op a_opB a_raised a_stopped a_caught a_unbegun a_counter b_begun b_taken b_thrown) ent fc2 rd2 := fun m hm h0 => rd_fc (h m hm h0) (fun p hp => e m p hm hp)
theorem z32 : ((0 : Int32)) + 0 = 0 := by decide
/-- an instruction is begun -/
theorem ev_begin (hn : ∀ m, m < 4 → xn a_length m ≤ 24) (hi : i0 < 24) (h : (rc_flow a_length a_op a_opB a_raised a_stopped a_caught a_unbegun a_counter b_begun b_taken b_thrown) ent (fun m p => B m p + rn_y m0 i0 m p) (rn_y m0 i0)) :
    (rc_flow a_length a_op a_opB a_raised a_stopped a_caught a_unbegun a_counter (upd b_begun (24 * m0 + i0) (b_begun (24 * m0 + i0) + 1)) b_taken b_thrown) ent (fun m p => B m p + rn_y m0 i0 m p) (fun _ _ => 0) := by
  intro m hm h0
  have hn' := hn m hm
  by_cases c : m = m0
  · subst c
    refine rd_gen (x := fun _ => 0) (y := fun _ => 0) (z := fun _ => 0) (a := fun _ => 0) (b := fun p => if p = i0 then 1 else 0) (i := fun _ => 0) (o := fun _ => 0) (h m hm h0) (h m hm h0).1 (fun p hp => by grind) (fun p hp => by grind) (fun p hp => ⟨by grind, by grind, by grind, by grind, by grind, ev_u⟩) (fun p hp => ⟨by grind, ?_⟩)
    simp only [rn_s] <;> grind
  · exact rd_fc (rd_congr hn' (h m hm h0) (fun i hi => ⟨rfl, rfl, rfl, rfl, pk_un (by omega), rfl⟩) (fun e he => rfl) (fun x hx => rfl)) (fun p hp => ⟨rfl, (rn_n c).symm⟩)
/-- an exception leaves an instruction -/
theorem ev_raise (hn : ∀ m, m < 4 → xn a_length m ≤ 24) (hi : i0 < 24) (h : (rc_flow a_length a_op a_opB a_raised a_stopped a_caught a_unbegun a_counter b_begun b_taken b_thrown) ent (fun m p => B m p + rn_y m0 i0 m p) (fun _ _ => 0)) :
    (rc_flow a_length a_op a_opB (upd a_raised (24 * m0 + i0) (a_raised (24 * m0 + i0) + 1)) a_stopped a_caught a_unbegun a_counter b_begun b_taken (upd b_thrown (24 * m0 + i0) (b_thrown (24 * m0 + i0) + 1))) ent B (fun _ _ => 0) := by
  intro m hm h0
  have hn' := hn m hm
  by_cases c : m = m0
  · subst c
    refine rd_gen (x := fun p => if p = i0 then 1 else 0) (y := fun _ => 0) (z := fun _ => 0) (a := fun _ => 0) (b := fun _ => 0) (i := fun _ => 0) (o := fun _ => 0) (h m hm h0) (h m hm h0).1 (fun p hp => by grind) (fun p hp => by grind) (fun p hp => ⟨ev_u, ev_u, by grind, by grind, by grind, by grind⟩) (fun p hp => ⟨?_, by grind⟩)
    simp only [rn_s] <;> grind
  · exact rd_fc (rd_congr hn' (h m hm h0) (fun i hi => ⟨pk_un (by omega), rfl, rfl, rfl, rfl, pk_un (by omega)⟩) (fun e he => rfl) (fun x hx => rfl)) (fun p hp => ⟨by show B m p = B m p + rn_y m0 i0 m p; rw [rn_n c]; grind, rfl⟩)
/-- .. and arrives at a handler -/
theorem ev_caught (hn : ∀ m, m < 4 → xn a_length m ≤ 24) (hi : i0 < 24) (h : (rc_flow a_length a_op a_opB a_raised a_stopped a_caught a_unbegun a_counter b_begun b_taken b_thrown) ent B (fun _ _ => 0)) :
    (rc_flow a_length a_op a_opB a_raised a_stopped (upd a_caught (24 * m0 + i0) (a_caught (24 * m0 + i0) + 1)) a_unbegun a_counter b_begun b_taken b_thrown) ent (fun m p => B m p + rn_y m0 i0 m p) (rn_y m0 i0) := by
  intro m hm h0
  have hn' := hn m hm
  by_cases c : m = m0
  · subst c
    refine rd_gen (x := fun _ => 0) (y := fun _ => 0) (z := fun p => if p = i0 then 1 else 0) (a := fun _ => 0) (b := fun _ => 0) (i := fun _ => 0) (o := fun _ => 0) (h m hm h0) (h m hm h0).1 (fun p hp => by grind) (fun p hp => by grind) (fun p hp => ⟨by grind, by grind, by grind, ev_u, by grind, by grind⟩) (fun p hp => ?_)
    simp only [rn_s]
    exact ⟨by grind, by grind⟩
  · exact rd_fc (rd_congr hn' (h m hm h0) (fun i hi => ⟨rfl, rfl, pk_un (by omega), rfl, rfl, rfl⟩) (fun e he => rfl) (fun x hx => rfl)) (fun p hp => ⟨by show B m p + rn_y m0 i0 m p = B m p; rw [rn_n c]; grind, rn_n c⟩)
/-- an invocation is given up -/
theorem ev_stop (hn : ∀ m, m < 4 → xn a_length m ≤ 24) (hi : i0 < 24) (h : (rc_flow a_length a_op a_opB a_raised a_stopped a_caught a_unbegun a_counter b_begun b_taken b_thrown) ent (fun m p => B m p + rn_y m0 i0 m p) (fun _ _ => 0)) :
    (rc_flow a_length a_op a_opB a_raised (upd a_stopped (24 * m0 + i0) (a_stopped (24 * m0 + i0) + 1)) a_caught a_unbegun a_counter b_begun b_taken b_thrown) ent B (fun _ _ => 0) := by
  intro m hm h0
  have hn' := hn m hm
  by_cases c : m = m0
  · subst c
    refine rd_gen (x := fun _ => 0) (y := fun p => if p = i0 then 1 else 0) (z := fun _ => 0) (a := fun _ => 0) (b := fun _ => 0) (i := fun _ => 0) (o := fun _ => 0) (h m hm h0) (h m hm h0).1 (fun p hp => by grind) (fun p hp => by grind) (fun p hp => ⟨by grind, by grind, ev_u, by grind, by grind, by grind⟩) (fun p hp => ⟨?_, by grind⟩)
    simp only [rn_s] <;> grind
  · exact rd_fc (rd_congr hn' (h m hm h0) (fun i hi => ⟨rfl, pk_un (by omega), rfl, rfl, rfl, rfl⟩) (fun e he => rfl) (fun x hx => rfl)) (fun p hp => ⟨by show B m p = B m p + rn_y m0 i0 m p; rw [rn_n c]; grind, rfl⟩)
/-- an arrival that isn't begun -/
theorem ev_unbegun {fc : Nat → Nat → Int32} (hn : ∀ m, m < 4 → xn a_length m ≤ 24) (hi : i0 < 24) (h : (rc_flow a_length a_op a_opB a_raised a_stopped a_caught a_unbegun a_counter b_begun b_taken b_thrown) ent fc (rn_y m0 i0)) :
    (rc_flow a_length a_op a_opB a_raised a_stopped a_caught (upd a_unbegun (24 * m0 + i0) (a_unbegun (24 * m0 + i0) + 1)) a_counter b_begun b_taken b_thrown) ent fc (fun _ _ => 0) := by
  intro m hm h0
  have hn' := hn m hm
  by_cases c : m = m0
  · subst c
    refine rd_gen (x := fun _ => 0) (y := fun _ => 0) (z := fun _ => 0) (a := fun p => if p = i0 then 1 else 0) (b := fun _ => 0) (i := fun _ => 0) (o := fun _ => 0) (h m hm h0) (h m hm h0).1 (fun p hp => by grind) (fun p hp => by grind) (fun p hp => ⟨by grind, by grind, by grind, by grind, ev_u, by grind⟩) (fun p hp => ⟨by grind, ?_⟩)
    simp only [rn_s] <;> grind
  · exact rd_fc (rd_congr hn' (h m hm h0) (fun i hi => ⟨rfl, rfl, rfl, pk_un (by omega), rfl, rfl⟩) (fun e he => rfl) (fun x hx => rfl)) (fun p hp => ⟨rfl, (rn_n c).symm⟩)
/-- a way is taken: its flow is one more -/
theorem ev_in {ld : Nat → Nat} {F F2 : Nat → Int32} {e0 : Nat} (he : e0 < 97) (h0 : F2 e0 = F e0 + 1) (hz : ∀ e, e < 97 → e ≠ e0 → F2 e = F e) (p : Nat) : fl_in ld F2 p = fl_in ld F p + (if ld e0 = p then 1 else 0) := by
  unfold fl_in
  refine sn_I_up he ?_ (fun e h1 h2 => by rw [hz e h1 h2])
  by_cases c : ld e0 = p
  · rw [if_pos c, if_pos c, if_pos c, h0]
  · rw [if_neg c, if_neg c, if_neg c]; rfl
theorem ev_out {ld : Nat → Nat} {F F2 : Nat → Int32} {e0 : Nat} (he : e0 < 97) (hv : ld e0 < 25) (h0 : F2 e0 = F e0 + 1) (hz : ∀ e, e < 97 → e ≠ e0 → F2 e = F e) (p : Nat) : fl_out ld F2 p = fl_out ld F p + (if pw_src e0 = p then 1 else 0) := by
  unfold fl_out
  refine sn_I_up he ?_ (fun e h1 h2 => by rw [hz e h1 h2])
  by_cases c : pw_src e0 = p
  · rw [if_pos ⟨c, hv⟩, if_pos ⟨c, hv⟩, if_pos c, h0]
  · rw [if_neg (fun z => c z.1), if_neg (fun z => c z.1), if_neg c]; rfl
theorem ev_take {k t : Nat} {ct2 : Nat → Int32} (hn : ∀ m, m < 4 → xn a_length m ≤ 24) (hi : i0 < 24) (hk : k < 4) (ht : ul a_length a_op a_opB m0 (1 + 4 * i0 + k) = t) (hv : t < 25)
    (hc : (pg_cn (ul a_length a_op a_opB m0) (1 + 4 * i0 + k) = 1 ∧ ct2 = upd a_counter (97 * m0 + (1 + 4 * i0 + k)) (a_counter (97 * m0 + (1 + 4 * i0 + k)) + 1)) ∨ (pg_cn (ul a_length a_op a_opB m0) (1 + 4 * i0 + k) = 0 ∧ ct2 = a_counter))
    (h : (rc_flow a_length a_op a_opB a_raised a_stopped a_caught a_unbegun a_counter b_begun b_taken b_thrown) ent (fun m p => B m p + rn_y m0 i0 m p) (fun _ _ => 0)) :
    (rc_flow a_length a_op a_opB a_raised a_stopped a_caught a_unbegun ct2 b_begun (upd b_taken (96 * m0 + (4 * i0 + k)) (b_taken (96 * m0 + (4 * i0 + k)) + 1)) b_thrown) ent (fun m p => B m p + rn_y m0 t m p) (rn_y m0 t) := by
  intro m hm h0
  have hn' := hn m hm
  by_cases c : m = m0
  · subst c
    have f0 : rd_F (ent m) (fun e => upd b_taken (96 * m + (4 * i0 + k)) (b_taken (96 * m + (4 * i0 + k)) + 1) (96 * m + e)) (1 + 4 * i0 + k) = rd_F (ent m) (fun e => b_taken (96 * m + e)) (1 + 4 * i0 + k) + 1 := by
      unfold rd_F
      rw [if_neg (by omega), if_neg (by omega), show 1 + 4 * i0 + k - 1 = 4 * i0 + k by omega]
      exact pk_us
    have fz : ∀ e, e < 97 → e ≠ 1 + 4 * i0 + k → rd_F (ent m) (fun e => upd b_taken (96 * m + (4 * i0 + k)) (b_taken (96 * m + (4 * i0 + k)) + 1) (96 * m + e)) e = rd_F (ent m) (fun e => b_taken (96 * m + e)) e := by
      intro e he hne
      unfold rd_F
      by_cases ce : e = 0
      · rw [if_pos ce, if_pos ce]
      · rw [if_neg ce, if_neg ce]
        exact pk_un (by omega)
    refine rd_gen (x := fun _ => 0) (y := fun _ => 0) (z := fun _ => 0) (a := fun _ => 0) (b := fun _ => 0) (i := fun p => if t = p then 1 else 0) (o := fun p => if i0 = p then 1 else 0) (h m hm h0) (fun e he hce => ?_) (fun p hp => ?_) (fun p hp => ?_) (fun p hp => ⟨by grind, by grind, by grind, by grind, by grind, by grind⟩) (fun p hp => ?_)
    · have old := (h m hm h0).1 e he hce
      by_cases ce : e = 1 + 4 * i0 + k
      · subst ce
        rw [f0, ← old]
        rcases hc with ⟨_, rfl⟩ | ⟨c0, _⟩
        · exact pk_us
        · omega
      · rw [fz e he ce, ← old]
        rcases hc with ⟨_, rfl⟩ | ⟨_, rfl⟩
        · exact pk_un (by omega)
        · rfl
    · rw [← ht]; exact ev_in (by omega) f0 fz p
    · have := ev_out (ld := ul a_length a_op a_opB m) (e0 := 1 + 4 * i0 + k) (by omega) (by rw [ht]; exact hv) f0 fz p
      rw [pw_src_s hk] at this
      exact this
    · simp only [rn_s]
      have q1 : (if t = p then (1 : Int32) else 0) = (if p = t then 1 else 0) := by
        by_cases c1 : p = t
        · rw [if_pos c1, if_pos c1.symm]
        · rw [if_neg c1, if_neg (fun z => c1 z.symm)]
      have q2 : (if i0 = p then (1 : Int32) else 0) = (if p = i0 then 1 else 0) := by
        by_cases c1 : p = i0
        · rw [if_pos c1, if_pos c1.symm]
        · rw [if_neg c1, if_neg (fun z => c1 z.symm)]
      rw [q1, q2]
      exact ⟨by grind, by grind⟩
  · have ec : ∀ e, e < 97 → ct2 (97 * m + e) = a_counter (97 * m + e) := by
      intro e he
      rcases hc with ⟨_, rfl⟩ | ⟨_, rfl⟩
      · exact pk_un (by omega)
      · rfl
    refine rd_fc (rd_congr hn' (h m hm h0) (fun i hi => ⟨rfl, rfl, rfl, rfl, rfl, rfl⟩) ec (fun x hx => pk_un (by omega))) (fun p hp => ⟨?_, rn_n c⟩)
    show B m p + rn_y m0 t m p = B m p + rn_y m0 i0 m p
    rw [rn_n c, rn_n c]
/-- an invocation is made -/
theorem ev_enter (hn : ∀ m, m < 4 → xn a_length m ≤ 24) (h : (rc_flow a_length a_op a_opB a_raised a_stopped a_caught a_unbegun a_counter b_begun b_taken b_thrown) ent B (fun _ _ => 0)) :
    (rc_flow a_length a_op a_opB a_raised a_stopped a_caught a_unbegun a_counter b_begun b_taken b_thrown) (fun m => if m = m0 then ent m + 1 else ent m) (fun m p => B m p + rn_y m0 0 m p) (rn_y m0 0) := by
  intro m hm h0
  have hn' := hn m hm
  by_cases c : m = m0
  · subst c
    show rd_ok _ _ _ _ _ _ _ _ _ _ (if m = m then ent m + 1 else ent m) _ _
    rw [if_pos rfl]
    have f0 : rd_F (ent m + 1) (fun e => b_taken (96 * m + e)) 0 = rd_F (ent m) (fun e => b_taken (96 * m + e)) 0 + 1 := rfl
    have fz : ∀ e, e < 97 → e ≠ 0 → rd_F (ent m + 1) (fun e => b_taken (96 * m + e)) e = rd_F (ent m) (fun e => b_taken (96 * m + e)) e := by
      intro e he hne
      unfold rd_F
      rw [if_neg hne, if_neg hne]
    have l0 : ul a_length a_op a_opB m 0 = 0 := pw_ld_0 _ _ _
    refine rd_gen (x := fun _ => 0) (y := fun _ => 0) (z := fun _ => 0) (a := fun _ => 0) (b := fun _ => 0) (i := fun p => if 0 = p then 1 else 0) (o := fun _ => 0) (h m hm h0) (fun e he hce => ?_) (fun p hp => ?_) (fun p hp => ?_) (fun p hp => ⟨by grind, by grind, by grind, by grind, by grind, by grind⟩) (fun p hp => ?_)
    · by_cases ce : e = 0
      · subst ce
        exfalso
        have : pg_cn (ul a_length a_op a_opB m) 0 = 0 := by
          unfold pg_cn
          rw [l0]
          exact if_neg (fun z => absurd z.2 (by show ¬ pw_src 0 = 0; rw [pw_src_0]; omega))
        omega
      · rw [fz e he ce]; exact (h m hm h0).1 e he hce
    · have := ev_in (ld := ul a_length a_op a_opB m) (e0 := 0) (by omega) f0 fz p
      rw [l0] at this
      exact this
    · have := ev_out (ld := ul a_length a_op a_opB m) (e0 := 0) (by omega) (by rw [l0]; omega) f0 fz p
      rw [pw_src_0, if_neg (by omega)] at this
      exact this
    · simp only [rn_s]
      have q1 : (if 0 = p then (1 : Int32) else 0) = (if p = 0 then 1 else 0) := by
        by_cases c1 : p = 0
        · rw [if_pos c1, if_pos c1.symm]
        · rw [if_neg c1, if_neg (fun z => c1 z.symm)]
      rw [q1]
      exact ⟨by grind, by grind⟩
  · show rd_ok _ _ _ _ _ _ _ _ _ _ (if m = m0 then ent m + 1 else ent m) _ _
    rw [if_neg c]
    exact rd_fc (h m hm h0) (fun p hp => ⟨by show B m p + rn_y m0 0 m p = B m p; rw [rn_n c]; grind, rn_n c⟩)
end
end
section
/-! flows, and what is kept beside them -/
def rg_flow (length op opB raised stopped caught unbegun counter begun taken thrown kBegun kTaken kThrown : Nat → Int32) (ent : Nat → Int32) (fc rd : Nat → Nat → Int32) : Prop :=
  rc_flow length op opB raised stopped caught unbegun counter begun taken thrown ent fc rd ∧ (∀ q, q < 12 → xn length (5 + q) ≤ 24) ∧ ∃ ek, rc_kdat length op opB raised stopped caught unbegun counter kBegun kTaken kThrown ek
section
variable {f_load : Int32} {f_depth : Int32} {f_begun : Int32} {f_outcome : Int32} {f_result : Int32} {a_op : (Nat → Int32)} {a_opA : (Nat → Int32)} {a_opB : (Nat → Int32)} {a_opLine : (Nat → Int32)} {a_length : (Nat → Int32)} {a_guards : (Nat → Int32)} {a_handlers : (Nat → Int32)} {a_kept : (Nat → Int32)} {a_keptLoad : (Nat → Int32)} {a_counter : (Nat → Int32)} {a_raised : (Nat → Int32)} {a_stopped : (Nat → Int32)} {a_caught : (Nat → Int32)} {a_unbegun : (Nat → Int32)} {a_leads : (Nat → Int32)} {a_counts : (Nat → Int32)} {a_adds : (Nat → Int64)} {a_goes : (Nat → Int64)} {a_needed : (Nat → Int32)} {a_known : (Nat → Int32)} {a_solved : (Nat → Int32)} {a_open : (Nat → Int32)} {a_unknown : (Nat → Int32)} {a_balance : (Nat → Int32)} {a_group : (Nat → Int32)} {a_first : (Nat → Int32)} {a_last : (Nat → Int32)} {a_sum : (Nat → Int64)} {a_often : (Nat → Int32)} {a_told : (Nat → Int32)} {a_method : (Nat → Int32)} {a_pc : (Nat → Int32)} {a_start : (Nat → Int32)} {a_here : (Nat → Int32)} {a_path : (Nat → Int64)} {a_coming : (Nat → Int64)} {a_variable : (Nat → Int32)} {g_depth : Int32} {g_steps : Int32} {g_result : Int32} {g_outcome : Int32} {g_load : Int32} {g_over : Int32} {b_op : (Nat → Int32)} {b_a : (Nat → Int32)} {b_b : (Nat → Int32)} {b_line : (Nat → Int32)} {b_length : (Nat → Int32)} {b_from : (Nat → Int32)} {b_to : (Nat → Int32)} {b_at : (Nat → Int32)} {b_handlers : (Nat → Int32)} {b_begun : (Nat → Int32)} {b_taken : (Nat → Int32)} {b_thrown : (Nat → Int32)} {b_rowI : (Nat → Int32)} {b_rowWay : (Nat → Int32)} {b_rowLength : (Nat → Int32)} {b_times : (Nat → Int32)} {b_told : (Nat → Int32)} {b_kOp : (Nat → Int32)} {b_kA : (Nat → Int32)} {b_kB : (Nat → Int32)} {b_kLine : (Nat → Int32)} {b_kLength : (Nat → Int32)} {b_kFrom : (Nat → Int32)} {b_kTo : (Nat → Int32)} {b_kAt : (Nat → Int32)} {b_kHandlers : (Nat → Int32)} {b_kBegun : (Nat → Int32)} {b_kTaken : (Nat → Int32)} {b_kThrown : (Nat → Int32)} {b_kept : (Nat → Int32)} {b_method : (Nat → Int32)} {b_pc : (Nat → Int32)} {b_variable : (Nat → Int32)} {b_hereI : (Nat → Int32)} {b_hereWay : (Nat → Int32)} {b_hereLength : (Nat → Int32)} {b_into : (Nat → Int32)} {b_kLoad : (Nat → Int32)} {b_part : (Nat → Int32)}
variable {ent : Nat → Int32} {B : Nat → Nat → Int32} {m0 i0 : Nat}
theorem kd_congr {rs2 st2 ca2 ub2 ct2 : Nat → Int32} {ek : Nat → Int32} (hn : ∀ q, q < 12 → xn a_length (5 + q) ≤ 24) (h : (rc_kdat a_length a_op a_opB a_raised a_stopped a_caught a_unbegun a_counter b_kBegun b_kTaken b_kThrown) ek) (e1 : ∀ j, 96 ≤ j → rs2 j = a_raised j ∧ st2 j = a_stopped j ∧ ca2 j = a_caught j ∧ ub2 j = a_unbegun j) (e2 : ∀ j, 388 ≤ j → ct2 j = a_counter j) :
    (rc_kdat a_length a_op a_opB rs2 st2 ca2 ub2 ct2 b_kBegun b_kTaken b_kThrown) ek := by
  intro q hq h0
  exact rd_congr (hn q hq) (h q hq h0) (fun i hi => ⟨(e1 _ (by omega)).1, (e1 _ (by omega)).2.1, (e1 _ (by omega)).2.2.1, (e1 _ (by omega)).2.2.2, rfl, rfl⟩) (fun e he => e2 _ (by omega)) (fun x hx => rfl)
theorem eg_fc {fc rd fc2 rd2 : Nat → Nat → Int32} (h : (rg_flow a_length a_op a_opB a_raised a_stopped a_caught a_unbegun a_counter b_begun b_taken b_thrown b_kBegun b_kTaken b_kThrown) ent fc rd) (e : ∀ m p, m < 4 → p < xn a_length m → fc2 m p = fc m p ∧ rd2 m p = rd m p) : (rg_flow a_length a_op a_opB a_raised a_stopped a_caught a_unbegun a_counter b_begun b_taken b_thrown b_kBegun b_kTaken b_kThrown) ent fc2 rd2 := ⟨ev_fc h.1 e, h.2⟩
theorem eg_begin (hn : ∀ m, m < 4 → xn a_length m ≤ 24) (hi : i0 < 24) (h : (rg_flow a_length a_op a_opB a_raised a_stopped a_caught a_unbegun a_counter b_begun b_taken b_thrown b_kBegun b_kTaken b_kThrown) ent (fun m p => B m p + rn_y m0 i0 m p) (rn_y m0 i0)) :
    (rg_flow a_length a_op a_opB a_raised a_stopped a_caught a_unbegun a_counter (upd b_begun (24 * m0 + i0) (b_begun (24 * m0 + i0) + 1)) b_taken b_thrown b_kBegun b_kTaken b_kThrown) ent (fun m p => B m p + rn_y m0 i0 m p) (fun _ _ => 0) := ⟨ev_begin hn hi h.1, h.2⟩
theorem eg_raise (hn : ∀ m, m < 4 → xn a_length m ≤ 24) (hi : i0 < 24) (h : (rg_flow a_length a_op a_opB a_raised a_stopped a_caught a_unbegun a_counter b_begun b_taken b_thrown b_kBegun b_kTaken b_kThrown) ent (fun m p => B m p + rn_y m0 i0 m p) (fun _ _ => 0)) (hm0 : m0 < 4 := by assumption) :
    (rg_flow a_length a_op a_opB (upd a_raised (24 * m0 + i0) (a_raised (24 * m0 + i0) + 1)) a_stopped a_caught a_unbegun a_counter b_begun b_taken (upd b_thrown (24 * m0 + i0) (b_thrown (24 * m0 + i0) + 1)) b_kBegun b_kTaken b_kThrown) ent B (fun _ _ => 0) := by
  obtain ⟨h1, h2, ek, h3⟩ := h
  exact ⟨ev_raise hn hi h1, h2, ek, kd_congr h2 h3 (fun j hj => ⟨pk_un (by omega), rfl, rfl, rfl⟩) (fun j hj => rfl)⟩
theorem eg_caught (hn : ∀ m, m < 4 → xn a_length m ≤ 24) (hi : i0 < 24) (h : (rg_flow a_length a_op a_opB a_raised a_stopped a_caught a_unbegun a_counter b_begun b_taken b_thrown b_kBegun b_kTaken b_kThrown) ent B (fun _ _ => 0)) (hm0 : m0 < 4 := by assumption) :
    (rg_flow a_length a_op a_opB a_raised a_stopped (upd a_caught (24 * m0 + i0) (a_caught (24 * m0 + i0) + 1)) a_unbegun a_counter b_begun b_taken b_thrown b_kBegun b_kTaken b_kThrown) ent (fun m p => B m p + rn_y m0 i0 m p) (rn_y m0 i0) := by
  obtain ⟨h1, h2, ek, h3⟩ := h
  exact ⟨ev_caught hn hi h1, h2, ek, kd_congr h2 h3 (fun j hj => ⟨rfl, rfl, pk_un (by omega), rfl⟩) (fun j hj => rfl)⟩
theorem eg_stop (hn : ∀ m, m < 4 → xn a_length m ≤ 24) (hi : i0 < 24) (h : (rg_flow a_length a_op a_opB a_raised a_stopped a_caught a_unbegun a_counter b_begun b_taken b_thrown b_kBegun b_kTaken b_kThrown) ent (fun m p => B m p + rn_y m0 i0 m p) (fun _ _ => 0)) (hm0 : m0 < 4 := by assumption) :
    (rg_flow a_length a_op a_opB a_raised (upd a_stopped (24 * m0 + i0) (a_stopped (24 * m0 + i0) + 1)) a_caught a_unbegun a_counter b_begun b_taken b_thrown b_kBegun b_kTaken b_kThrown) ent B (fun _ _ => 0) := by
  obtain ⟨h1, h2, ek, h3⟩ := h
  exact ⟨ev_stop hn hi h1, h2, ek, kd_congr h2 h3 (fun j hj => ⟨rfl, pk_un (by omega), rfl, rfl⟩) (fun j hj => rfl)⟩
theorem eg_unbegun {fc : Nat → Nat → Int32} (hn : ∀ m, m < 4 → xn a_length m ≤ 24) (hi : i0 < 24) (h : (rg_flow a_length a_op a_opB a_raised a_stopped a_caught a_unbegun a_counter b_begun b_taken b_thrown b_kBegun b_kTaken b_kThrown) ent fc (rn_y m0 i0)) (hm0 : m0 < 4 := by assumption) :
    (rg_flow a_length a_op a_opB a_raised a_stopped a_caught (upd a_unbegun (24 * m0 + i0) (a_unbegun (24 * m0 + i0) + 1)) a_counter b_begun b_taken b_thrown b_kBegun b_kTaken b_kThrown) ent fc (fun _ _ => 0) := by
  obtain ⟨h1, h2, ek, h3⟩ := h
  exact ⟨ev_unbegun hn hi h1, h2, ek, kd_congr h2 h3 (fun j hj => ⟨rfl, rfl, rfl, pk_un (by omega)⟩) (fun j hj => rfl)⟩
theorem eg_take {k t : Nat} {ct2 : Nat → Int32} (hn : ∀ m, m < 4 → xn a_length m ≤ 24) (hi : i0 < 24) (hk : k < 4) (ht : ul a_length a_op a_opB m0 (1 + 4 * i0 + k) = t) (hv : t < 25)
    (hc : (pg_cn (ul a_length a_op a_opB m0) (1 + 4 * i0 + k) = 1 ∧ ct2 = upd a_counter (97 * m0 + (1 + 4 * i0 + k)) (a_counter (97 * m0 + (1 + 4 * i0 + k)) + 1)) ∨ (pg_cn (ul a_length a_op a_opB m0) (1 + 4 * i0 + k) = 0 ∧ ct2 = a_counter))
    (h : (rg_flow a_length a_op a_opB a_raised a_stopped a_caught a_unbegun a_counter b_begun b_taken b_thrown b_kBegun b_kTaken b_kThrown) ent (fun m p => B m p + rn_y m0 i0 m p) (fun _ _ => 0)) (hm0 : m0 < 4 := by assumption) :
    (rg_flow a_length a_op a_opB a_raised a_stopped a_caught a_unbegun ct2 b_begun (upd b_taken (96 * m0 + (4 * i0 + k)) (b_taken (96 * m0 + (4 * i0 + k)) + 1)) b_thrown b_kBegun b_kTaken b_kThrown) ent (fun m p => B m p + rn_y m0 t m p) (rn_y m0 t) := by
  obtain ⟨h1, h2, ek, h3⟩ := h
  refine ⟨ev_take hn hi hk ht hv hc h1, h2, ek, kd_congr h2 h3 (fun j hj => ⟨rfl, rfl, rfl, rfl⟩) (fun j hj => ?_)⟩
  rcases hc with ⟨_, rfl⟩ | ⟨_, rfl⟩
  · exact pk_un (by omega)
  · rfl
theorem eg_enter (hn : ∀ m, m < 4 → xn a_length m ≤ 24) (h : (rg_flow a_length a_op a_opB a_raised a_stopped a_caught a_unbegun a_counter b_begun b_taken b_thrown b_kBegun b_kTaken b_kThrown) ent B (fun _ _ => 0)) :
    (rg_flow a_length a_op a_opB a_raised a_stopped a_caught a_unbegun a_counter b_begun b_taken b_thrown b_kBegun b_kTaken b_kThrown) (fun m => if m = m0 then ent m + 1 else ent m) (fun m p => B m p + rn_y m0 0 m p) (rn_y m0 0) := ⟨ev_enter hn h.1, h.2⟩
end
end
section
/-! a run: invocations; a stretch ends -/
def fr_c (length method pc method' pc' : Nat → Int32) (f m i : Nat) : Prop := m < 4 ∧ i < xn length m ∧ method f = nI m ∧ method' f = nI m ∧ pc f = nI i ∧ pc' f = nI i
def fr_p (length op opB : Nat → Int32) (adds : Nat → Int64) (start here : Nat → Int32) (path : Nat → Int64) (hI hW hL : Nat → Int32) (f m D : Nat) (p w : Nat → Nat) : Prop :=
  pa_ok (ul length op opB m) (xn length m) (fun e => adds (97 * m + e)) (fun j => hI (24 * f + j)) (fun j => hW (24 * f + j)) (hL f) (start f) (here f) (path f) D p w
def fr_B (length op opB : Nat → Int32) (adds : Nat → Int64) (method pc start here : Nat → Int32) (path : Nat → Int64) (method' pc' hI hW hL : Nat → Int32) (f m i : Nat) : Prop :=
  fr_c length method pc method' pc' f m i ∧ ∃ D p w, fr_p length op opB adds start here path hI hW hL f m D p w ∧ p D = i
def fr_R (length op opB : Nat → Int32) (adds : Nat → Int64) (method pc start here : Nat → Int32) (path coming : Nat → Int64) (method' pc' hI hW hL into : Nat → Int32) (f m i : Nat) : Prop :=
  fr_c length method pc method' pc' f m i ∧ ((hL f = 0 ∧ start f = nI i ∧ here f = -1 ∧ path f = 0 ∧ coming f = 0) ∨
    ∃ D p w k, fr_p length op opB adds start here path hI hW hL f m D p w ∧ k < 4 ∧ into f = nI k ∧ p D < i ∧ ul length op opB m (1 + 4 * p D + k) = i ∧ coming f = adds (97 * m + (1 + 4 * p D + k)))
def fr_W (length op opB : Nat → Int32) (adds : Nat → Int64) (method pc start here : Nat → Int32) (path : Nat → Int64) (method' pc' hI hW hL : Nat → Int32) (d : Nat) : Prop :=
  ∀ f, f < d → ∃ m i, fr_B length op opB adds method pc start here path method' pc' hI hW hL f m i ∧ op (24 * m + i) = 8
def fr_n (method pc : Nat → Int32) (d m p : Nat) : Int32 := sn_I (fun f => if method f = nI m ∧ pc f = nI p then 1 else 0) d
/-- a search in a table of rows -/
def st_eq (I W rI rW : Nat → Int32) (f s j : Nat) : Prop := rI (24 * s + j) = I (24 * f + j) ∧ rW (24 * s + j) = W (24 * f + j)
theorem pa_first {ld : Nat → Nat} {n : Nat} {ads : Nat → Int64} {I W I' W' : Nat → Int32} {L s h L' s' h' : Int32} {sm sm' : Int64} {D D' : Nat} {p w p' w' : Nat → Nat} {lds cts : Nat → Int32} {nd : Int32} (hn : n ≤ 24) (P : rp_ok ld n lds cts ads nd)
    (a : pa_ok ld n ads I W L s h sm D p w) (a' : pa_ok ld n ads I' W' L' s' h' sm' D' p' w') :
    (s' = s ∧ h' = h ∧ sm' = sm) ↔ (L' = L ∧ ∀ j, j < D + 1 → I' j = I j ∧ W' j = W j) := by
  obtain ⟨_, _, _, gz, az, g1, g2, g3⟩ := P
  obtain ⟨h1, h2, h3, h4, h5, h6⟩ := a
  obtain ⟨k1, k2, k3, k4, k5, k6⟩ := a'
  have hD := pt_len hn h1
  have hD' := pt_len hn k1
  have e6 := pt_sL_eq (fun i k hi hk => (g3 i k hi hk).1) D h1.2.1
  have e6' := pt_sL_eq (fun i k hi hk => (g3 i k hi hk).1) D' k1.2.1
  have sb : ∀ {D : Nat} {p w : Nat → Nat}, pt_path ld n p w D → pt_sm az p w D < 2 ^ 63 := by
    intro D p w hp
    have r := pt_rest hn g1 hp D (Nat.le_refl _)
    rw [Nat.sub_self] at r
    have b := g2 (p 0) (hp.2.1 0 (by omega)).1
    have z : pt_sm az p w 0 = 0 := rfl
    omega
  have lt : ∀ {D : Nat} {p w : Nat → Nat}, pt_path ld n p w D → ∀ j, j ≤ D → p j < 24 := fun hp j hj => Nat.lt_of_lt_of_le (hp.2.1 j hj).1 hn
  constructor
  · rintro ⟨q1, q2, q3⟩
    rw [h4, k4] at q1
    rw [h5, k5] at q2
    rw [h6, k6, e6, e6'] at q3
    have b0 := lt h1 0 (by omega)
    have b0' := lt k1 0 (by omega)
    have bD := lt h1 D (Nat.le_refl _)
    have bD' := lt k1 D' (Nat.le_refl _)
    have r1 := (nI_eq (by omega) (by omega)).mp q1
    have r2 := (nI_eq (by omega) (by omega)).mp q2
    have r3 := (pk_lEQ (sb k1) (sb h1)).mp q3
    obtain ⟨e, all⟩ := pt_inj hn g1 h1 k1 r1.symm r2.symm r3.symm
    subst e
    refine ⟨by rw [h2, k2], fun j hj => ?_⟩
    obtain ⟨x1, x2⟩ := all j (by omega)
    rw [(h3 j (by omega)).1, (h3 j (by omega)).2, (k3 j (by omega)).1, (k3 j (by omega)).2, x1, x2]
    exact ⟨rfl, rfl⟩
  · rintro ⟨q1, q2⟩
    rw [h2, k2] at q1
    have eD : D' = D := by
      have := (nI_eq (by omega) (by omega)).mp q1
      omega
    subst eD
    have all : ∀ j, j ≤ D' → p' j = p j ∧ w' j = w j := by
      intro j hj
      obtain ⟨x1, x2⟩ := q2 j (by omega)
      rw [(h3 j hj).1, (k3 j hj).1] at x1
      rw [(h3 j hj).2, (k3 j hj).2] at x2
      have b1 := lt h1 j hj
      have b2 := lt k1 j hj
      have b3 := (h1.2.1 j hj).2
      have b4 := (k1.2.1 j hj).2
      exact ⟨(nI_eq (by omega) (by omega)).mp x1, (nI_eq (by omega) (by omega)).mp x2⟩
    refine ⟨by rw [h4, k4, (all 0 (by omega)).1], by rw [h5, k5, (all D' (by omega)).1], ?_⟩
    rw [h6, k6]
    exact pt_sL_congr D' all
section
variable {f_load : Int32} {f_depth : Int32} {f_begun : Int32} {f_outcome : Int32} {f_result : Int32} {a_op : (Nat → Int32)} {a_opA : (Nat → Int32)} {a_opB : (Nat → Int32)} {a_opLine : (Nat → Int32)} {a_length : (Nat → Int32)} {a_guards : (Nat → Int32)} {a_handlers : (Nat → Int32)} {a_kept : (Nat → Int32)} {a_keptLoad : (Nat → Int32)} {a_counter : (Nat → Int32)} {a_raised : (Nat → Int32)} {a_stopped : (Nat → Int32)} {a_caught : (Nat → Int32)} {a_unbegun : (Nat → Int32)} {a_leads : (Nat → Int32)} {a_counts : (Nat → Int32)} {a_adds : (Nat → Int64)} {a_goes : (Nat → Int64)} {a_needed : (Nat → Int32)} {a_known : (Nat → Int32)} {a_solved : (Nat → Int32)} {a_open : (Nat → Int32)} {a_unknown : (Nat → Int32)} {a_balance : (Nat → Int32)} {a_group : (Nat → Int32)} {a_first : (Nat → Int32)} {a_last : (Nat → Int32)} {a_sum : (Nat → Int64)} {a_often : (Nat → Int32)} {a_told : (Nat → Int32)} {a_method : (Nat → Int32)} {a_pc : (Nat → Int32)} {a_start : (Nat → Int32)} {a_here : (Nat → Int32)} {a_path : (Nat → Int64)} {a_coming : (Nat → Int64)} {a_variable : (Nat → Int32)} {g_depth : Int32} {g_steps : Int32} {g_result : Int32} {g_outcome : Int32} {g_load : Int32} {g_over : Int32} {b_op : (Nat → Int32)} {b_a : (Nat → Int32)} {b_b : (Nat → Int32)} {b_line : (Nat → Int32)} {b_length : (Nat → Int32)} {b_from : (Nat → Int32)} {b_to : (Nat → Int32)} {b_at : (Nat → Int32)} {b_handlers : (Nat → Int32)} {b_begun : (Nat → Int32)} {b_taken : (Nat → Int32)} {b_thrown : (Nat → Int32)} {b_rowI : (Nat → Int32)} {b_rowWay : (Nat → Int32)} {b_rowLength : (Nat → Int32)} {b_times : (Nat → Int32)} {b_told : (Nat → Int32)} {b_kOp : (Nat → Int32)} {b_kA : (Nat → Int32)} {b_kB : (Nat → Int32)} {b_kLine : (Nat → Int32)} {b_kLength : (Nat → Int32)} {b_kFrom : (Nat → Int32)} {b_kTo : (Nat → Int32)} {b_kAt : (Nat → Int32)} {b_kHandlers : (Nat → Int32)} {b_kBegun : (Nat → Int32)} {b_kTaken : (Nat → Int32)} {b_kThrown : (Nat → Int32)} {b_kept : (Nat → Int32)} {b_method : (Nat → Int32)} {b_pc : (Nat → Int32)} {b_variable : (Nat → Int32)} {b_hereI : (Nat → Int32)} {b_hereWay : (Nat → Int32)} {b_hereLength : (Nat → Int32)} {b_into : (Nat → Int32)} {b_kLoad : (Nat → Int32)} {b_part : (Nat → Int32)}
theorem cx_38 {f m T s0 : Nat} (hf : f < 6) (hm : m < 4) (hT : T ≤ 40) (h0 : s0 ≤ T) (hno : ∀ s, s < s0 → ¬ (a_first (40 * m + s) = a_start f ∧ a_last (40 * m + s) = a_here f ∧ a_sum (40 * m + s) = a_path f))
    (hy : s0 = T ∨ (a_first (40 * m + s0) = a_start f ∧ a_last (40 * m + s0) = a_here f ∧ a_sum (40 * m + s0) = a_path f)) {post : SX → Prop} (K : (wX_close_96 post (nI f) (nI m) (nI (40 * m + s0)) (nI (40 * m + T)) f_load f_depth f_begun f_outcome f_result a_op a_opA a_opB a_opLine a_length a_guards a_handlers a_kept a_keptLoad a_counter a_raised a_stopped a_caught a_unbegun a_leads a_counts a_adds a_goes a_needed a_known a_solved a_open a_unknown a_balance a_group a_first a_last a_sum a_often a_told a_method a_pc a_start a_here a_path a_coming a_variable)) :
    ∀ d s, s + d = s0 → (wX_close_38 post (nI f) (nI m) (nI (40 * m + T)) f_load f_depth f_begun f_outcome f_result a_op a_opA a_opB a_opLine a_length a_guards a_handlers a_kept a_keptLoad a_counter a_raised a_stopped a_caught a_unbegun a_leads a_counts a_adds a_goes a_needed a_known a_solved a_open a_unknown a_balance a_group a_first a_last a_sum a_often a_told a_method a_pc a_start a_here a_path a_coming a_variable (d + 1) (nI (40 * m + s))) := by
  have i6 : vp_in (nI f) 6 := pk_in f 6 hf
  have rf : ∀ g : Nat → Int32, g (nI f).toNatClampNeg = g f := fun g => qa_rr f rfl
  have rfL : ∀ g : Nat → Int64, g (nI f).toNatClampNeg = g f := fun g => qa_rr f rfl
  intro d
  induction d with
  | zero =>
    intro s hs
    obtain rfl : s = s0 := by omega
    rcases Nat.lt_or_ge s T with c | c
    · have i1 : vp_in (nI (40 * m + s)) 160 := pk_in (40 * m + s) 160 (by omega)
      have rs : ∀ g : Nat → Int32, g (nI (40 * m + s)).toNatClampNeg = g (40 * m + s) := fun g => qa_rr _ rfl
      have rsL : ∀ g : Nat → Int64, g (nI (40 * m + s)).toNatClampNeg = g (40 * m + s) := fun g => qa_rr _ rfl
      rcases hy with z | ⟨z1, z2, z3⟩
      · omega
      · exact br_f (nI_ge (by omega) (by omega)) ⟨i1, i6, br_t (by rw [rs a_first, rf a_start, z1]) ⟨i1, i6, br_t (by rw [rs a_last, rf a_here, z2]) ⟨i1, i6, br_t (by rw [rsL a_sum, rfL a_path, z3]) K⟩⟩⟩
    · exact br_t (nI_le (by omega) (by omega)) K
  | succ d ih =>
    intro s hs
    have h := ih (s + 1) (by omega)
    have i1 : vp_in (nI (40 * m + s)) 160 := pk_in (40 * m + s) 160 (by omega)
    have rs : ∀ g : Nat → Int32, g (nI (40 * m + s)).toNatClampNeg = g (40 * m + s) := fun g => qa_rr _ rfl
    have rsL : ∀ g : Nat → Int64, g (nI (40 * m + s)).toNatClampNeg = g (40 * m + s) := fun g => qa_rr _ rfl
    refine br_f (nI_ge (by omega) (by omega)) ⟨i1, i6, ?_⟩
    by_cases c1 : a_first (40 * m + s) = a_start f
    · refine br_t (by rw [rs a_first, rf a_start, c1]) ⟨i1, i6, ?_⟩
      by_cases c2 : a_last (40 * m + s) = a_here f
      · refine br_t (by rw [rs a_last, rf a_here, c2]) ⟨i1, i6, br_f ?_ (nm_r (nI_1 _) h)⟩
        rw [rsL a_sum, rfL a_path]
        exact fun z => hno s (by omega) ⟨c1, c2, z⟩
      · exact br_f (by rw [rs a_last, rf a_here]; exact c2) (nm_r (nI_1 _) h)
    · exact br_f (by rw [rs a_first, rf a_start]; exact c1) (nm_r (nI_1 _) h)
theorem cy_same {f S D : Nat} (hf : f < 6) (hS : S < 160) (hD : D < 24) {post : Int32 → Prop} (K1 : (b_rowLength S = nI (D + 1) ∧ ∀ j, j < D + 1 → st_eq b_hereI b_hereWay b_rowI b_rowWay f S j) → post 1) (K0 : ¬ (b_rowLength S = nI (D + 1) ∧ ∀ j, j < D + 1 → st_eq b_hereI b_hereWay b_rowI b_rowWay f S j) → post 0) :
    (wpY_isSame post (g_depth, g_steps, g_result, g_outcome, g_load, g_over, b_op, b_a, b_b, b_line, b_length, b_from, b_to, b_at, b_handlers, b_begun, b_taken, b_thrown, b_rowI, b_rowWay, b_rowLength, b_times, b_told, b_kOp, b_kA, b_kB, b_kLine, b_kLength, b_kFrom, b_kTo, b_kAt, b_kHandlers, b_kBegun, b_kTaken, b_kThrown, b_kept, b_method, b_pc, b_variable, b_hereI, b_hereWay, b_hereLength, b_into, b_kLoad, b_part) (nI S) (nI f) (nI (D + 1))) := by
  have iS : vp_in (nI S) 160 := pk_in S 160 hS
  have rl : b_rowLength (nI S).toNatClampNeg = b_rowLength S := qa_rr S rfl
  refine ⟨iS, ?_⟩
  by_cases c : b_rowLength S = nI (D + 1)
  · refine br_t (rl.trans c) ⟨D + 1 + 1, ?_⟩
    have main : ∀ d j, j + d = D + 1 → (∀ j', j' < j → st_eq b_hereI b_hereWay b_rowI b_rowWay f S j') → (wY_isSame_15 post (nI S) (nI f) (nI (D + 1)) g_depth g_steps g_result g_outcome g_load g_over b_op b_a b_b b_line b_length b_from b_to b_at b_handlers b_begun b_taken b_thrown b_rowI b_rowWay b_rowLength b_times b_told b_kOp b_kA b_kB b_kLine b_kLength b_kFrom b_kTo b_kAt b_kHandlers b_kBegun b_kTaken b_kThrown b_kept b_method b_pc b_variable b_hereI b_hereWay b_hereLength b_into b_kLoad b_part (d + 1) (nI j)) := by
      intro d
      induction d with
      | zero =>
        intro j hj hb
        obtain rfl : j = D + 1 := by omega
        exact br_t (nI_le (Nat.le_refl _) (by omega)) (K1 ⟨c, hb⟩)
      | succ d ih =>
        intro j hj hb
        have i1 : vp_in (24 * nI S + nI j) 3840 := pk_in (24 * S + j) 3840 (by omega) (qa_24 S j)
        have i2 : vp_in (24 * nI f + nI j) 144 := pk_in (24 * f + j) 144 (by omega) (qa_24 f j)
        have r1 : ∀ g : Nat → Int32, g (24 * nI S + nI j).toNatClampNeg = g (24 * S + j) := fun g => qa_rr _ (qa_24 S j)
        have r2 : ∀ g : Nat → Int32, g (24 * nI f + nI j).toNatClampNeg = g (24 * f + j) := fun g => qa_rr _ (qa_24 f j)
        refine br_f (nI_ge (by omega) (by omega)) ⟨i1, i2, ?_⟩
        by_cases c1 : b_rowI (24 * S + j) = b_hereI (24 * f + j)
        · refine br_t (by rw [r1 b_rowI, r2 b_hereI, c1]) ⟨i1, i2, ?_⟩
          by_cases c2 : b_rowWay (24 * S + j) = b_hereWay (24 * f + j)
          · refine br_t (by rw [r1 b_rowWay, r2 b_hereWay, c2]) (nm_r (nI_1 j) (ih (j + 1) (by omega) (fun j' hj' => ?_)))
            by_cases cj : j' = j
            · subst cj
              exact ⟨c1, c2⟩
            · exact hb j' (by omega)
          · exact br_f (by rw [r1 b_rowWay, r2 b_hereWay]; exact c2) (K0 (fun z => c2 (z.2 j (by omega)).2))
        · exact br_f (by rw [r1 b_rowI, r2 b_hereI]; exact c1) (K0 (fun z => c1 (z.2 j (by omega)).1))
    exact main (D + 1) 0 (by omega) (fun j' hj' => absurd hj' (by omega))
  · exact br_f (by rw [rl]; exact c) (K0 (fun z => c z.1))
theorem cy_115 {f m S D T : Nat} (hf : f < 6) (hm : m < 4) (hS : S < 160) (hD : D < 24) (hT : b_told m = nI T) {post : SY → Prop}
    (K : post (g_depth, g_steps, g_result, g_outcome, g_load, g_over, b_op, b_a, b_b, b_line, b_length, b_from, b_to, b_at, b_handlers, b_begun, b_taken, b_thrown, (cy b_rowI b_hereI (24 * f) (24 * S) (D + 1)), (cy b_rowWay b_hereWay (24 * f) (24 * S) (D + 1)), (upd b_rowLength S (nI (D + 1))), (upd b_times S 1), (upd b_told m (nI (T + 1))), b_kOp, b_kA, b_kB, b_kLine, b_kLength, b_kFrom, b_kTo, b_kAt, b_kHandlers, b_kBegun, b_kTaken, b_kThrown, b_kept, b_method, b_pc, b_variable, b_hereI, b_hereWay, b_hereLength, b_into, b_kLoad, b_part)) :
    ∀ d j, j + d = D + 1 → (wY_endStretch_115 post (nI f) (nI m) (nI (D + 1)) (nI S) g_depth g_steps g_result g_outcome g_load g_over (d + 1) (nI j) b_op b_a b_b b_line b_length b_from b_to b_at b_handlers b_begun b_taken b_thrown (cy b_rowI b_hereI (24 * f) (24 * S) j) (cy b_rowWay b_hereWay (24 * f) (24 * S) j) b_rowLength b_times b_told b_kOp b_kA b_kB b_kLine b_kLength b_kFrom b_kTo b_kAt b_kHandlers b_kBegun b_kTaken b_kThrown b_kept b_method b_pc b_variable b_hereI b_hereWay b_hereLength b_into b_kLoad b_part) := by
  have iS : vp_in (nI S) 160 := pk_in S 160 hS
  have i4 : vp_in (nI m) 4 := pk_in m 4 hm
  intro d
  induction d with
  | zero =>
    intro j hj
    obtain rfl : j = D + 1 := by omega
    refine br_t (nI_le (Nat.le_refl _) (by omega)) ⟨iS, nm_r (e' := upd b_rowLength S (nI (D + 1))) (by rw [nI_clamp (by omega)]) ⟨iS, nm_r (e' := upd b_times S 1) (by rw [nI_clamp (by omega)]) ⟨i4, i4, nm_r (e' := upd b_told m (nI (T + 1))) ?_ K⟩⟩⟩
    rw [nI_clamp (by omega), hT, nI_1]
  | succ d ih =>
    intro j hj
    have i1 : vp_in (24 * nI S + nI j) 3840 := pk_in (24 * S + j) 3840 (by omega) (qa_24 S j)
    have i2 : vp_in (24 * nI f + nI j) 144 := pk_in (24 * f + j) 144 (by omega) (qa_24 f j)
    have st : ∀ g g' : Nat → Int32, upd (cy g g' (24 * f) (24 * S) j) (24 * nI S + nI j).toNatClampNeg (g' (24 * nI f + nI j).toNatClampNeg) = cy g g' (24 * f) (24 * S) (j + 1) := by
      intro g g'
      rw [qa_24, qa_24, nI_clamp (by omega), nI_clamp (by omega)]
      exact cy_s rfl
    exact br_f (nI_ge (by omega) (by omega)) ⟨i2, i1, nm_r (st _ _) ⟨i2, i1, nm_r (st _ _) (nm_r (nI_1 j) (ih (j + 1) (by omega)))⟩⟩
theorem cy_39 {f m T s0 D : Nat} (hf : f < 6) (hm : m < 4) (hT : T ≤ 40) (hD : D < 24) (h0 : s0 ≤ T) (ht : b_told m = nI T) (hno : ∀ s, s < s0 → ¬ (b_rowLength (40 * m + s) = nI (D + 1) ∧ ∀ j, j < D + 1 → st_eq b_hereI b_hereWay b_rowI b_rowWay f (40 * m + s) j))
    {post : SY → Prop} (K : ∃ n, (wY_endStretch_39 post (nI f) (nI m) (nI (D + 1)) g_depth g_steps g_result g_outcome g_load g_over b_op b_a b_b b_line b_length b_from b_to b_at b_handlers b_begun b_taken b_thrown b_rowI b_rowWay b_rowLength b_times b_told b_kOp b_kA b_kB b_kLine b_kLength b_kFrom b_kTo b_kAt b_kHandlers b_kBegun b_kTaken b_kThrown b_kept b_method b_pc b_variable b_hereI b_hereWay b_hereLength b_into b_kLoad b_part n (nI (40 * m + s0)))) :
    ∀ d s, s + d = s0 → ∃ n, (wY_endStretch_39 post (nI f) (nI m) (nI (D + 1)) g_depth g_steps g_result g_outcome g_load g_over b_op b_a b_b b_line b_length b_from b_to b_at b_handlers b_begun b_taken b_thrown b_rowI b_rowWay b_rowLength b_times b_told b_kOp b_kA b_kB b_kLine b_kLength b_kFrom b_kTo b_kAt b_kHandlers b_kBegun b_kTaken b_kThrown b_kept b_method b_pc b_variable b_hereI b_hereWay b_hereLength b_into b_kLoad b_part n (nI (40 * m + s))) := by
  have i4 : vp_in (nI m) 4 := pk_in m 4 hm
  have rt : (40 : Int32) * nI m + b_told (nI m).toNatClampNeg = nI (40 * m + T) := by rw [qa_r m rfl ht, qa_40]
  intro d
  induction d with
  | zero =>
    intro s hs
    obtain rfl : s = s0 := by omega
    exact K
  | succ d ih =>
    intro s hs
    obtain ⟨n, h⟩ := ih (s + 1) (by omega)
    refine ⟨n + 1, i4, br_f (by rw [rt]; exact nI_ge (by omega) (by omega)) ?_⟩
    exact cy_same hf (by omega) hD (fun z => absurd z (hno s (by omega))) (fun _ => br_t rfl (nm_r (nI_1 _) h))
end
end
section
/-! a run: a stretch ends on both sides -/
theorem rs_upd {ld : Nat → Nat} {n : Nat} {ads : Nat → Int64} {fi la : Nat → Int32} {su : Nat → Int64} {oft : Nat → Int32} {tx : Int32} {rI rW rL ti : Nat → Int32} {ty : Int32} {m : Nat} {fi2 la2 : Nat → Int32} {su2 : Nat → Int64} {oft2 : Nat → Int32} {tx2 : Int32} {rI2 rW2 rL2 ti2 : Nat → Int32} {ty2 : Int32} (hn : n ≤ 24)
    (h : rs_ok ld n ads fi la su oft tx rI rW rL ti ty m) (e1 : tx2 = tx) (e2 : ty2 = ty)
    (e : ∀ s, s < 40 → fi2 (40 * m + s) = fi (40 * m + s) ∧ la2 (40 * m + s) = la (40 * m + s) ∧ su2 (40 * m + s) = su (40 * m + s) ∧ oft2 (40 * m + s) = oft (40 * m + s) ∧ rL2 (40 * m + s) = rL (40 * m + s) ∧ ti2 (40 * m + s) = ti (40 * m + s) ∧ ∀ j, j < 24 → rI2 (24 * (40 * m + s) + j) = rI (24 * (40 * m + s) + j) ∧ rW2 (24 * (40 * m + s) + j) = rW (24 * (40 * m + s) + j)) :
    rs_ok ld n ads fi2 la2 su2 oft2 tx2 rI2 rW2 rL2 ti2 ty2 m := by
  subst e1 e2
  obtain ⟨T, h1, h2, h3, h4⟩ := h
  refine ⟨T, h1, h2, h3, fun s hs => ?_⟩
  obtain ⟨a1, a2, a3, a4, a5, a6, a7⟩ := e s (by omega)
  obtain ⟨g1, D, p, w, k1, k2, k3, k4, k5, k6⟩ := h4 s hs
  have hD := pt_len hn k1
  refine ⟨by rw [a4, a6]; exact g1, D, p, w, k1, a5.trans k2, fun j hj => ?_, a1.trans k4, a2.trans k5, a3.trans k6⟩
  obtain ⟨b1, b2⟩ := a7 j (by omega)
  exact ⟨b1.trans (k3 j hj).1, b2.trans (k3 j hj).2⟩
section
variable {f_load : Int32} {f_depth : Int32} {f_begun : Int32} {f_outcome : Int32} {f_result : Int32} {a_op : (Nat → Int32)} {a_opA : (Nat → Int32)} {a_opB : (Nat → Int32)} {a_opLine : (Nat → Int32)} {a_length : (Nat → Int32)} {a_guards : (Nat → Int32)} {a_handlers : (Nat → Int32)} {a_kept : (Nat → Int32)} {a_keptLoad : (Nat → Int32)} {a_counter : (Nat → Int32)} {a_raised : (Nat → Int32)} {a_stopped : (Nat → Int32)} {a_caught : (Nat → Int32)} {a_unbegun : (Nat → Int32)} {a_leads : (Nat → Int32)} {a_counts : (Nat → Int32)} {a_adds : (Nat → Int64)} {a_goes : (Nat → Int64)} {a_needed : (Nat → Int32)} {a_known : (Nat → Int32)} {a_solved : (Nat → Int32)} {a_open : (Nat → Int32)} {a_unknown : (Nat → Int32)} {a_balance : (Nat → Int32)} {a_group : (Nat → Int32)} {a_first : (Nat → Int32)} {a_last : (Nat → Int32)} {a_sum : (Nat → Int64)} {a_often : (Nat → Int32)} {a_told : (Nat → Int32)} {a_method : (Nat → Int32)} {a_pc : (Nat → Int32)} {a_start : (Nat → Int32)} {a_here : (Nat → Int32)} {a_path : (Nat → Int64)} {a_coming : (Nat → Int64)} {a_variable : (Nat → Int32)} {g_depth : Int32} {g_steps : Int32} {g_result : Int32} {g_outcome : Int32} {g_load : Int32} {g_over : Int32} {b_op : (Nat → Int32)} {b_a : (Nat → Int32)} {b_b : (Nat → Int32)} {b_line : (Nat → Int32)} {b_length : (Nat → Int32)} {b_from : (Nat → Int32)} {b_to : (Nat → Int32)} {b_at : (Nat → Int32)} {b_handlers : (Nat → Int32)} {b_begun : (Nat → Int32)} {b_taken : (Nat → Int32)} {b_thrown : (Nat → Int32)} {b_rowI : (Nat → Int32)} {b_rowWay : (Nat → Int32)} {b_rowLength : (Nat → Int32)} {b_times : (Nat → Int32)} {b_told : (Nat → Int32)} {b_kOp : (Nat → Int32)} {b_kA : (Nat → Int32)} {b_kB : (Nat → Int32)} {b_kLine : (Nat → Int32)} {b_kLength : (Nat → Int32)} {b_kFrom : (Nat → Int32)} {b_kTo : (Nat → Int32)} {b_kAt : (Nat → Int32)} {b_kHandlers : (Nat → Int32)} {b_kBegun : (Nat → Int32)} {b_kTaken : (Nat → Int32)} {b_kThrown : (Nat → Int32)} {b_kept : (Nat → Int32)} {b_method : (Nat → Int32)} {b_pc : (Nat → Int32)} {b_variable : (Nat → Int32)} {b_hereI : (Nat → Int32)} {b_hereWay : (Nat → Int32)} {b_hereLength : (Nat → Int32)} {b_into : (Nat → Int32)} {b_kLoad : (Nat → Int32)} {b_part : (Nat → Int32)}
theorem cl_close {f m : Nat} (hf : f < 6) (hm : m < 4) (h0 : 0 < xn a_length m) (C : (rc_code a_op a_opA a_opB a_opLine a_guards a_length a_handlers b_op b_a b_b b_line b_from b_to b_at b_length b_handlers)) (P : (rc_plan a_length a_op a_opB a_leads a_counts a_adds a_needed)) (hS : (rc_str a_length a_op a_opB a_adds a_first a_last a_sum a_often a_told b_rowI b_rowWay b_rowLength b_times b_told)) (e1 : a_method f = nI m) (e2 : b_method f = nI m)
    (hp : (∃ D p w, (fr_p a_length a_op a_opB a_adds a_start a_here a_path b_hereI b_hereWay b_hereLength) f m D p w) ∨ (b_hereLength f = 0 ∧ a_here f = -1 ∧ ∃ x, x < 24 ∧ a_start f = nI x)) :
    ∃ (fi la : Nat → Int32) (su : Nat → Int64) (oft tx he rI rW rL ti ty : Nat → Int32), (rc_str a_length a_op a_opB a_adds fi la su oft tx rI rW rL ti ty) ∧ he f = -1 ∧ (∀ g, g ≠ f → he g = a_here g) ∧
      (∀ post : SX → Prop, post (f_load, f_depth, f_begun, f_outcome, f_result, a_op, a_opA, a_opB, a_opLine, a_length, a_guards, a_handlers, a_kept, a_keptLoad, a_counter, a_raised, a_stopped, a_caught, a_unbegun, a_leads, a_counts, a_adds, a_goes, a_needed, a_known, a_solved, a_open, a_unknown, a_balance, a_group, fi, la, su, oft, tx, a_method, a_pc, a_start, he, a_path, a_coming, a_variable) → (wpX_close post (f_load, f_depth, f_begun, f_outcome, f_result, a_op, a_opA, a_opB, a_opLine, a_length, a_guards, a_handlers, a_kept, a_keptLoad, a_counter, a_raised, a_stopped, a_caught, a_unbegun, a_leads, a_counts, a_adds, a_goes, a_needed, a_known, a_solved, a_open, a_unknown, a_balance, a_group, a_first, a_last, a_sum, a_often, a_told, a_method, a_pc, a_start, a_here, a_path, a_coming, a_variable) (nI f))) ∧ (∀ post : SY → Prop, post ((nI (f + 1)), g_steps, g_result, g_outcome, g_load, g_over, b_op, b_a, b_b, b_line, b_length, b_from, b_to, b_at, b_handlers, b_begun, b_taken, b_thrown, rI, rW, rL, ti, ty, b_kOp, b_kA, b_kB, b_kLine, b_kLength, b_kFrom, b_kTo, b_kAt, b_kHandlers, b_kBegun, b_kTaken, b_kThrown, b_kept, b_method, b_pc, b_variable, b_hereI, b_hereWay, (upd b_hereLength f 0), b_into, b_kLoad, b_part) → (wpY_endStretch post ((nI (f + 1)), g_steps, g_result, g_outcome, g_load, g_over, b_op, b_a, b_b, b_line, b_length, b_from, b_to, b_at, b_handlers, b_begun, b_taken, b_thrown, b_rowI, b_rowWay, b_rowLength, b_times, b_told, b_kOp, b_kA, b_kB, b_kLine, b_kLength, b_kFrom, b_kTo, b_kAt, b_kHandlers, b_kBegun, b_kTaken, b_kThrown, b_kept, b_method, b_pc, b_variable, b_hereI, b_hereWay, b_hereLength, b_into, b_kLoad, b_part))) := by
  have hn := (rc_len C (r := m) (by omega)).2.2
  have i6 : vp_in (nI f) 6 := pk_in f 6 hf
  have i4 : vp_in (nI m) 4 := pk_in m 4 hm
  have rf : ∀ g : Nat → Int32, g (nI f).toNatClampNeg = g f := fun g => qa_rr f rfl
  have rfL : ∀ g : Nat → Int64, g (nI f).toNatClampNeg = g f := fun g => qa_rr f rfl
  have rm : ∀ g : Nat → Int32, g (nI m).toNatClampNeg = g m := fun g => qa_rr m rfl
  have rmx : a_method (nI f).toNatClampNeg = nI m := (rf a_method).trans e1
  have rmy : b_method (nI f).toNatClampNeg = nI m := (rf b_method).trans e2
  have ehl : upd b_hereLength (nI f).toNatClampNeg 0 = upd b_hereLength f 0 := by rw [nI_clamp (by omega)]
  rcases hp with ⟨D, p, w, pa⟩ | ⟨q1, q2, x, hx, q3⟩
  · have pa0 := pa
    obtain ⟨k1, k2, k3, k4, k5, k6⟩ := pa
    have hD := pt_len hn k1
    obtain ⟨T, hT, t1, t2, hs⟩ := hS m hm h0
    have PL := P m hm h0
    have p0 := (k1.2.1 0 (by omega)).1
    have pD := (k1.2.1 D (by omega)).1
    have inc := pt_inc k1 D 0 (by omega)
    rw [Nat.zero_add] at inc
    have le : a_start (nI f).toNatClampNeg ≤ a_here (nI f).toNatClampNeg := by
      rw [rf a_start, rf a_here, k4, k5]; exact nI_le (by omega) (by omega)
    have eqv : ∀ s, s < T → ((a_first (40 * m + s) = a_start f ∧ a_last (40 * m + s) = a_here f ∧ a_sum (40 * m + s) = a_path f) ↔ (b_rowLength (40 * m + s) = nI (D + 1) ∧ ∀ j, j < D + 1 → st_eq b_hereI b_hereWay b_rowI b_rowWay f (40 * m + s) j)) := by
      intro s hsT
      obtain ⟨_, D', p', w', pa'⟩ := hs s hsT
      have q := pa_first hn PL pa0 pa'
      rw [← k2]
      exact q
    have ehe : upd a_here (nI f).toNatClampNeg (vp_nar .byte (-1)) = upd a_here f (-1) := by rw [nI_clamp (by omega), qa_bm]
    have nz : ¬ nI (D + 1) = 0 := nI_ne0 (by omega) (by omega)
    have xin : ∀ post : SX → Prop, (∃ n, (wX_close_38 post (nI f) (nI m) (nI (40 * m + T)) f_load f_depth f_begun f_outcome f_result a_op a_opA a_opB a_opLine a_length a_guards a_handlers a_kept a_keptLoad a_counter a_raised a_stopped a_caught a_unbegun a_leads a_counts a_adds a_goes a_needed a_known a_solved a_open a_unknown a_balance a_group a_first a_last a_sum a_often a_told a_method a_pc a_start a_here a_path a_coming a_variable n (nI (40 * m + 0)))) → (wpX_close post (f_load, f_depth, f_begun, f_outcome, f_result, a_op, a_opA, a_opB, a_opLine, a_length, a_guards, a_handlers, a_kept, a_keptLoad, a_counter, a_raised, a_stopped, a_caught, a_unbegun, a_leads, a_counts, a_adds, a_goes, a_needed, a_known, a_solved, a_open, a_unknown, a_balance, a_group, a_first, a_last, a_sum, a_often, a_told, a_method, a_pc, a_start, a_here, a_path, a_coming, a_variable) (nI f)) := by
      intro post h
      exact ⟨i6, nm_r rmx ⟨i6, i6, br_t le (nm_r (qa_m40 m) ⟨i4, nm_r (e' := nI (40 * m + T)) (by rw [rm a_told, t1, nI_add]) h⟩)⟩⟩
    have yin : ∀ post : SY → Prop, (∃ n, (wY_endStretch_39 post (nI f) (nI m) (nI (D + 1)) (nI (f + 1)) g_steps g_result g_outcome g_load g_over b_op b_a b_b b_line b_length b_from b_to b_at b_handlers b_begun b_taken b_thrown b_rowI b_rowWay b_rowLength b_times b_told b_kOp b_kA b_kB b_kLine b_kLength b_kFrom b_kTo b_kAt b_kHandlers b_kBegun b_kTaken b_kThrown b_kept b_method b_pc b_variable b_hereI b_hereWay (upd b_hereLength f 0) b_into b_kLoad b_part n (nI (40 * m + 0)))) → (wpY_endStretch post ((nI (f + 1)), g_steps, g_result, g_outcome, g_load, g_over, b_op, b_a, b_b, b_line, b_length, b_from, b_to, b_at, b_handlers, b_begun, b_taken, b_thrown, b_rowI, b_rowWay, b_rowLength, b_times, b_told, b_kOp, b_kA, b_kB, b_kLine, b_kLength, b_kFrom, b_kTo, b_kAt, b_kHandlers, b_kBegun, b_kTaken, b_kThrown, b_kept, b_method, b_pc, b_variable, b_hereI, b_hereWay, b_hereLength, b_into, b_kLoad, b_part)) := by
      intro post h
      exact nm_r (nI_pred f) ⟨i6, nm_r rmy ⟨i6, nm_r (e' := nI (D + 1)) ((rf b_hereLength).trans k2) ⟨i6, nm_r ehl (br_f nz (nm_r (qa_m40 m) h))⟩⟩⟩
    by_cases hex : ∃ s, s < T ∧ (a_first (40 * m + s) = a_start f ∧ a_last (40 * m + s) = a_here f ∧ a_sum (40 * m + s) = a_path f)
    · obtain ⟨s0, ⟨hsT, hm0⟩, hmin⟩ := pk_least _ hex
      have hno : ∀ s, s < s0 → ¬ (a_first (40 * m + s) = a_start f ∧ a_last (40 * m + s) = a_here f ∧ a_sum (40 * m + s) = a_path f) := fun s hs0 z => hmin s hs0 ⟨by omega, z⟩
      have hnoY : ∀ s, s < s0 → ¬ (b_rowLength (40 * m + s) = nI (D + 1) ∧ ∀ j, j < D + 1 → st_eq b_hereI b_hereWay b_rowI b_rowWay f (40 * m + s) j) := fun s hs0 z => hno s hs0 ((eqv s (by omega)).mpr z)
      have iS : vp_in (nI (40 * m + s0)) 160 := pk_in (40 * m + s0) 160 (by omega)
      refine ⟨a_first, a_last, a_sum, upd a_often (40 * m + s0) (a_often (40 * m + s0) + 1), a_told, upd a_here f (-1), b_rowI, b_rowWay, b_rowLength, upd b_times (40 * m + s0) (b_times (40 * m + s0) + 1), b_told, ?_, pk_us, fun g hg => pk_un hg, fun post hpost => xin post ⟨_, cx_38 hf hm hT (by omega) hno (Or.inr hm0) ?_ s0 0 (by omega)⟩, fun post hpost => yin post ?_⟩
      · intro q hq hq0
        have hnq := (rc_len C (r := q) (by omega)).2.2
        by_cases cq : q = m
        · subst cq
          refine ⟨T, hT, t1, t2, fun s hsT' => ?_⟩
          obtain ⟨g1, rest⟩ := hs s hsT'
          refine ⟨?_, rest⟩
          by_cases cs : s = s0
          · subst cs
            rw [pk_us, pk_us, g1]
          · rw [pk_un (by omega), pk_un (by omega), g1]
        · exact rs_upd hnq (hS q hq hq0) rfl rfl (fun s hs40 => ⟨rfl, rfl, rfl, pk_un (by omega), rfl, pk_un (by omega), fun j hj => ⟨rfl, rfl⟩⟩)
      · refine br_f (nI_ge (by omega) (by omega)) ⟨iS, iS, nm_r (e' := upd a_often (40 * m + s0) (a_often (40 * m + s0) + 1)) (by rw [nI_clamp (by omega)]) ⟨i6, nm_r ehe hpost⟩⟩
      · refine cy_39 (s0 := s0) hf hm hT hD (by omega) t2 hnoY ⟨1, i4, br_f ?_ ?_⟩ s0 0 (by omega)
        · rw [rm b_told, t2, qa_40]; exact nI_ge (by omega) (by omega)
        · exact cy_same hf (by omega) hD (fun _ => br_f (by decide) ⟨iS, iS, nm_r (e' := upd b_times (40 * m + s0) (b_times (40 * m + s0) + 1)) (by rw [nI_clamp (by omega)]) hpost⟩) (fun z => absurd ((eqv s0 hsT).mp hm0) z)
    · have hno : ∀ s, s < T → ¬ (a_first (40 * m + s) = a_start f ∧ a_last (40 * m + s) = a_here f ∧ a_sum (40 * m + s) = a_path f) := fun s hs0 z => hex ⟨s, hs0, z⟩
      have hnoY : ∀ s, s < T → ¬ (b_rowLength (40 * m + s) = nI (D + 1) ∧ ∀ j, j < D + 1 → st_eq b_hereI b_hereWay b_rowI b_rowWay f (40 * m + s) j) := fun s hs0 z => hno s hs0 ((eqv s hs0).mpr z)
      have rt : b_told (nI m).toNatClampNeg = nI T := (rm b_told).trans t2
      by_cases c40 : T = 40
      · refine ⟨a_first, a_last, a_sum, a_often, a_told, upd a_here f (-1), b_rowI, b_rowWay, b_rowLength, b_times, b_told, hS, pk_us, fun g hg => pk_un hg, fun post hpost => xin post ⟨_, cx_38 hf hm hT (Nat.le_refl _) hno (Or.inl rfl) ?_ T 0 (by omega)⟩, fun post hpost => yin post ?_⟩
        · refine br_t (nI_le (Nat.le_refl _) (by omega)) ⟨i4, br_t ?_ ⟨i6, nm_r ehe hpost⟩⟩
          rw [rm a_told, t1, c40]; exact nI_le (a := 40) (Nat.le_refl _) (by decide)
        · refine cy_39 (s0 := T) hf hm hT hD (Nat.le_refl _) t2 hnoY ⟨1, i4, br_t ?_ ⟨i4, br_t ?_ hpost⟩⟩ T 0 (by omega)
          · rw [rt, qa_40]; exact nI_le (Nat.le_refl _) (by omega)
          · rw [rt, c40]; rfl
      · have iS : vp_in (nI (40 * m + T)) 160 := pk_in (40 * m + T) 160 (by omega)
        have p0b : p 0 < 24 := by omega
        have pDb : p D < 24 := by omega
        refine ⟨upd a_first (40 * m + T) (nI (p 0)), upd a_last (40 * m + T) (nI (p D)), vp_updL a_sum (40 * m + T) (a_path f), upd a_often (40 * m + T) 1, upd a_told m (nI (T + 1)), upd a_here f (-1), cy b_rowI b_hereI (24 * f) (24 * (40 * m + T)) (D + 1), cy b_rowWay b_hereWay (24 * f) (24 * (40 * m + T)) (D + 1), upd b_rowLength (40 * m + T) (nI (D + 1)), upd b_times (40 * m + T) 1, upd b_told m (nI (T + 1)), ?_, pk_us, fun g hg => pk_un hg, fun post hpost => xin post ⟨_, cx_38 hf hm hT (Nat.le_refl _) hno (Or.inl rfl) ?_ T 0 (by omega)⟩, fun post hpost => yin post ?_⟩
        · intro q hq hq0
          have hnq := (rc_len C (r := q) (by omega)).2.2
          by_cases cq : q = m
          · subst cq
            refine ⟨T + 1, by omega, pk_us, pk_us, fun s hsT' => ?_⟩
            by_cases cs : s = T
            · subst cs
              refine ⟨pk_us.trans pk_us.symm, D, p, w, k1, pk_us, fun j hj => ?_, pk_us, pk_us, ?_⟩
              · exact ⟨(cy_at (by omega) (by omega) (by omega)).trans (k3 j hj).1, (cy_at (by omega) (by omega) (by omega)).trans (k3 j hj).2⟩
              · exact pk_uLs.trans k6
            · obtain ⟨g1, D', p', w', x1, x2, x3, x4, x5, x6⟩ := hs s (by omega)
              have hD' := pt_len hn x1
              refine ⟨by rw [pk_un (by omega), pk_un (by omega), g1], D', p', w', x1, (pk_un (by omega)).trans x2, fun j hj => ?_, (pk_un (by omega)).trans x4, (pk_un (by omega)).trans x5, (pk_uLn (by omega)).trans x6⟩
              exact ⟨(cy_out (by omega)).trans (x3 j hj).1, (cy_out (by omega)).trans (x3 j hj).2⟩
          · exact rs_upd hnq (hS q hq hq0) (pk_un cq) (pk_un cq) (fun s hs40 => ⟨pk_un (by omega), pk_un (by omega), pk_uLn (by omega), pk_un (by omega), pk_un (by omega), pk_un (by omega), fun j hj => ⟨cy_out (by omega), cy_out (by omega)⟩⟩)
        · refine br_t (nI_le (Nat.le_refl _) (by omega)) ⟨i4, br_f ?_ ⟨i4, i4, nm_r (e' := upd a_told m (nI (T + 1))) ?_ ⟨i6, iS, nm_r (e' := upd a_first (40 * m + T) (nI (p 0))) ?_ ⟨i6, iS, nm_r (e' := upd a_last (40 * m + T) (nI (p D))) ?_ ⟨i6, iS, nm_r (e' := vp_updL a_sum (40 * m + T) (a_path f)) ?_ ⟨iS, nm_r (e' := upd a_often (40 * m + T) 1) ?_ ⟨i6, nm_r ehe hpost⟩⟩⟩⟩⟩⟩⟩
          · rw [rm a_told, t1]; exact nI_ge (b := 40) (by omega) (by decide)
          · rw [nI_clamp (by omega), t1, nI_1, qa_bb (by omega)]
          · rw [rf a_start, k4, qa_b (by omega), nI_clamp (by omega)]
          · rw [rf a_here, k5, qa_b (by omega), nI_clamp (by omega)]
          · rw [rfL a_path, nI_clamp (by omega)]
          · rw [nI_clamp (by omega)]
        · refine cy_39 (s0 := T) hf hm hT hD (Nat.le_refl _) t2 hnoY ⟨1, i4, br_t ?_ ⟨i4, br_f ?_ ⟨i4, nm_r (e' := nI (40 * m + T)) ?_ ⟨D + 1 + 1, ?_⟩⟩⟩⟩ T 0 (by omega)
          · rw [rt, qa_40]; exact nI_le (Nat.le_refl _) (by omega)
          · rw [rt]; exact fun z => c40 ((nI_eq (b := 40) (by omega) (by omega)).mp z)
          · rw [rt, qa_40]
          · have go := cy_115 (g_depth := (nI (f + 1))) (g_steps := g_steps) (g_result := g_result) (g_outcome := g_outcome) (g_load := g_load) (g_over := g_over) (b_op := b_op) (b_a := b_a) (b_b := b_b) (b_line := b_line) (b_length := b_length) (b_from := b_from) (b_to := b_to) (b_at := b_at) (b_handlers := b_handlers) (b_begun := b_begun) (b_taken := b_taken) (b_thrown := b_thrown) (b_rowI := b_rowI) (b_rowWay := b_rowWay) (b_rowLength := b_rowLength) (b_times := b_times) (b_told := b_told) (b_kOp := b_kOp) (b_kA := b_kA) (b_kB := b_kB) (b_kLine := b_kLine) (b_kLength := b_kLength) (b_kFrom := b_kFrom) (b_kTo := b_kTo) (b_kAt := b_kAt) (b_kHandlers := b_kHandlers) (b_kBegun := b_kBegun) (b_kTaken := b_kTaken) (b_kThrown := b_kThrown) (b_kept := b_kept) (b_method := b_method) (b_pc := b_pc) (b_variable := b_variable) (b_hereI := b_hereI) (b_hereWay := b_hereWay) (b_hereLength := (upd b_hereLength f 0)) (b_into := b_into) (b_kLoad := b_kLoad) (b_part := b_part) (S := 40 * m + T) (T := T) hf hm (by omega) hD t2 hpost (D + 1) 0 (by omega)
            rw [cy_0, cy_0] at go
            exact go
  · refine ⟨a_first, a_last, a_sum, a_often, a_told, a_here, b_rowI, b_rowWay, b_rowLength, b_times, b_told, hS, q2, fun g hg => rfl, fun post hpost => ⟨i6, nm_r rmx ⟨i6, i6, br_f ?_ hpost⟩⟩, fun post hpost => nm_r (nI_pred f) ⟨i6, nm_r rmy ⟨i6, nm_r (e' := 0) ((rf b_hereLength).trans q1) ⟨i6, nm_r ehl (br_t rfl hpost)⟩⟩⟩⟩
    rw [rf a_start, rf a_here, q2, q3]
    intro z
    exact absurd (Int32.le_trans (nI_pos' (n := x) (by omega)) z) (by decide)
end
end
section
/-! a run: outcomes -/
def ro_ok (a_length : (Nat → Int32)) (a_op : (Nat → Int32)) (a_opB : (Nat → Int32)) (a_adds : (Nat → Int64)) (b_kBegun : (Nat → Int32)) (b_kTaken : (Nat → Int32)) (b_kThrown : (Nat → Int32)) (f_depth : Int32) (f_outcome : Int32) (f_result : Int32) (a_counter : (Nat → Int32)) (a_raised : (Nat → Int32)) (a_stopped : (Nat → Int32)) (a_caught : (Nat → Int32)) (a_unbegun : (Nat → Int32)) (a_first : (Nat → Int32)) (a_last : (Nat → Int32)) (a_sum : (Nat → Int64)) (a_often : (Nat → Int32)) (a_told : (Nat → Int32)) (a_method : (Nat → Int32)) (a_pc : (Nat → Int32)) (a_start : (Nat → Int32)) (a_here : (Nat → Int32)) (a_path : (Nat → Int64)) (a_coming : (Nat → Int64)) (a_variable : (Nat → Int32)) (g_depth : Int32) (g_result : Int32) (g_outcome : Int32) (g_over : Int32) (b_begun : (Nat → Int32)) (b_taken : (Nat → Int32)) (b_thrown : (Nat → Int32)) (b_rowI : (Nat → Int32)) (b_rowWay : (Nat → Int32)) (b_rowLength : (Nat → Int32)) (b_times : (Nat → Int32)) (b_told : (Nat → Int32)) (b_method : (Nat → Int32)) (b_pc : (Nat → Int32)) (b_variable : (Nat → Int32)) (b_hereI : (Nat → Int32)) (b_hereWay : (Nat → Int32)) (b_hereLength : (Nat → Int32)) (b_into : (Nat → Int32)) (ent : Nat → Int32) : Prop :=
  (rc_str a_length a_op a_opB a_adds a_first a_last a_sum a_often a_told b_rowI b_rowWay b_rowLength b_times b_told) ∧ a_variable = b_variable ∧
  ((∃ d m i, d < 6 ∧ f_depth = nI (d + 1) ∧ g_depth = nI (d + 1) ∧ g_over = 0 ∧ f_outcome = 0 ∧ g_outcome = 0 ∧ f_result = 0 ∧ g_result = 0 ∧ (fr_W a_length a_op a_opB a_adds a_method a_pc a_start a_here a_path b_method b_pc b_hereI b_hereWay b_hereLength) d ∧ (fr_R a_length a_op a_opB a_adds a_method a_pc a_start a_here a_path a_coming b_method b_pc b_hereI b_hereWay b_hereLength b_into) d m i ∧ (rg_flow a_length a_op a_opB a_raised a_stopped a_caught a_unbegun a_counter b_begun b_taken b_thrown b_kBegun b_kTaken b_kThrown) ent (fun m' p => fr_n a_method a_pc d m' p + rn_y m i m' p) (rn_y m i)) ∨
   (f_depth = 0 ∧ g_over = 1 ∧ f_outcome = g_outcome ∧ f_result = g_result ∧ (rg_flow a_length a_op a_opB a_raised a_stopped a_caught a_unbegun a_counter b_begun b_taken b_thrown b_kBegun b_kTaken b_kThrown) ent (fun _ _ => 0) (fun _ _ => 0)))
theorem fr_n_congr {method pc method2 pc2 : Nat → Int32} {d : Nat} (h : ∀ f, f < d → method2 f = method f ∧ pc2 f = pc f) : fr_n method2 pc2 d = fr_n method pc d := by
  funext m p
  unfold fr_n
  exact sn_I_congr (fun f hf => by rw [(h f hf).1, (h f hf).2])
theorem fr_n_succ {method pc : Nat → Int32} {d m0 i0 m p : Nat} (h1 : method d = nI m0) (h2 : pc d = nI i0) (hm0 : m0 < 4) (hi0 : i0 < 24) (hm : m < 4) (hp : p < 24) : fr_n method pc (d + 1) m p = fr_n method pc d m p + rn_y m0 i0 m p := by
  show sn_I _ d + (if method d = nI m ∧ pc d = nI p then 1 else 0) = sn_I _ d + rn_y m0 i0 m p
  have : (if method d = nI m ∧ pc d = nI p then (1 : Int32) else 0) = rn_y m0 i0 m p := by
    unfold rn_y
    rw [h1, h2]
    by_cases c : m = m0 ∧ p = i0
    · rw [if_pos c, if_pos ⟨by rw [c.1], by rw [c.2]⟩]
    · rw [if_neg c, if_neg (fun z => c ⟨((nI_eq (by omega) (by omega)).mp z.1).symm, ((nI_eq (by omega) (by omega)).mp z.2).symm⟩)]
  rw [this]
section
variable {f_load : Int32} {f_depth : Int32} {f_begun : Int32} {f_outcome : Int32} {f_result : Int32} {a_op : (Nat → Int32)} {a_opA : (Nat → Int32)} {a_opB : (Nat → Int32)} {a_opLine : (Nat → Int32)} {a_length : (Nat → Int32)} {a_guards : (Nat → Int32)} {a_handlers : (Nat → Int32)} {a_kept : (Nat → Int32)} {a_keptLoad : (Nat → Int32)} {a_counter : (Nat → Int32)} {a_raised : (Nat → Int32)} {a_stopped : (Nat → Int32)} {a_caught : (Nat → Int32)} {a_unbegun : (Nat → Int32)} {a_leads : (Nat → Int32)} {a_counts : (Nat → Int32)} {a_adds : (Nat → Int64)} {a_goes : (Nat → Int64)} {a_needed : (Nat → Int32)} {a_known : (Nat → Int32)} {a_solved : (Nat → Int32)} {a_open : (Nat → Int32)} {a_unknown : (Nat → Int32)} {a_balance : (Nat → Int32)} {a_group : (Nat → Int32)} {a_first : (Nat → Int32)} {a_last : (Nat → Int32)} {a_sum : (Nat → Int64)} {a_often : (Nat → Int32)} {a_told : (Nat → Int32)} {a_method : (Nat → Int32)} {a_pc : (Nat → Int32)} {a_start : (Nat → Int32)} {a_here : (Nat → Int32)} {a_path : (Nat → Int64)} {a_coming : (Nat → Int64)} {a_variable : (Nat → Int32)} {g_depth : Int32} {g_steps : Int32} {g_result : Int32} {g_outcome : Int32} {g_load : Int32} {g_over : Int32} {b_op : (Nat → Int32)} {b_a : (Nat → Int32)} {b_b : (Nat → Int32)} {b_line : (Nat → Int32)} {b_length : (Nat → Int32)} {b_from : (Nat → Int32)} {b_to : (Nat → Int32)} {b_at : (Nat → Int32)} {b_handlers : (Nat → Int32)} {b_begun : (Nat → Int32)} {b_taken : (Nat → Int32)} {b_thrown : (Nat → Int32)} {b_rowI : (Nat → Int32)} {b_rowWay : (Nat → Int32)} {b_rowLength : (Nat → Int32)} {b_times : (Nat → Int32)} {b_told : (Nat → Int32)} {b_kOp : (Nat → Int32)} {b_kA : (Nat → Int32)} {b_kB : (Nat → Int32)} {b_kLine : (Nat → Int32)} {b_kLength : (Nat → Int32)} {b_kFrom : (Nat → Int32)} {b_kTo : (Nat → Int32)} {b_kAt : (Nat → Int32)} {b_kHandlers : (Nat → Int32)} {b_kBegun : (Nat → Int32)} {b_kTaken : (Nat → Int32)} {b_kThrown : (Nat → Int32)} {b_kept : (Nat → Int32)} {b_method : (Nat → Int32)} {b_pc : (Nat → Int32)} {b_variable : (Nat → Int32)} {b_hereI : (Nat → Int32)} {b_hereWay : (Nat → Int32)} {b_hereLength : (Nat → Int32)} {b_into : (Nat → Int32)} {b_kLoad : (Nat → Int32)} {b_part : (Nat → Int32)}
variable {method2 pc2 start2 here2 : Nat → Int32} {path2 : Nat → Int64} {method2' pc2' hI2 hW2 hL2 : Nat → Int32}
theorem fr_W_congr {d : Nat} (hn : ∀ m, m < 4 → xn a_length m ≤ 24) (h : (fr_W a_length a_op a_opB a_adds a_method a_pc a_start a_here a_path b_method b_pc b_hereI b_hereWay b_hereLength) d) (e : ∀ f, f < d → method2 f = a_method f ∧ pc2 f = a_pc f ∧ start2 f = a_start f ∧ here2 f = a_here f ∧ path2 f = a_path f ∧ method2' f = b_method f ∧ pc2' f = b_pc f ∧ hL2 f = b_hereLength f ∧ ∀ j, j < 24 → hI2 (24 * f + j) = b_hereI (24 * f + j) ∧ hW2 (24 * f + j) = b_hereWay (24 * f + j)) :
    (fr_W a_length a_op a_opB a_adds method2 pc2 start2 here2 path2 (method2') (pc2') hI2 hW2 hL2) d := by
  intro f hf
  obtain ⟨m, i, ⟨⟨c1, c2, c3, c4, c5, c6⟩, D, p, w, ⟨k1, k2, k3, k4, k5, k6⟩, hD⟩, ho⟩ := h f hf
  obtain ⟨e1, e2, e3, e4, e5, e6, e7, e8, e9⟩ := e f hf
  have hD24 := pt_len (hn m c1) k1
  refine ⟨m, i, ⟨⟨c1, c2, e1.trans c3, e6.trans c4, e2.trans c5, e7.trans c6⟩, D, p, w, ⟨k1, e8.trans k2, fun j hj => ?_, e3.trans k4, e4.trans k5, e5.trans k6⟩, hD⟩, ho⟩
  obtain ⟨x1, x2⟩ := e9 j (by omega)
  exact ⟨x1.trans (k3 j hj).1, x2.trans (k3 j hj).2⟩
theorem fr_W_le {d d' : Nat} (h : (fr_W a_length a_op a_opB a_adds a_method a_pc a_start a_here a_path b_method b_pc b_hereI b_hereWay b_hereLength) d) (hd : d' ≤ d) : (fr_W a_length a_op a_opB a_adds a_method a_pc a_start a_here a_path b_method b_pc b_hereI b_hereWay b_hereLength) d' := fun f hf => h f (by omega)
/-- the reference takes a way: up to where it leads -/
theorem ry_pre {f m i k t : Nat} (hf : f < 6) (hm : m < 4) (hi : i < xn a_length m) (C : (rc_code a_op a_opA a_opB a_opLine a_guards a_length a_handlers b_op b_a b_b b_line b_from b_to b_at b_length b_handlers)) (hk : k < pw_ways (a_op (24 * m + i))) (e1 : b_method f = nI m) (e2 : b_pc f = nI i) (ht : ul a_length a_op a_opB m (1 + 4 * i + k) = t) :
    t ≤ 24 ∧ ∃ tt : Int32, (t < 24 → tt = nI t) ∧ ∀ post : Int32 → SY → Prop, (wY_take_71 post (nI k) (nI f) (nI i) tt (if t = 24 then 1 else 0) (nI (f + 1)) g_steps g_result g_outcome g_load g_over b_op b_a b_b b_line b_length b_from b_to b_at b_handlers b_begun (upd b_taken (96 * m + (4 * i + k)) (b_taken (96 * m + (4 * i + k)) + 1)) b_thrown b_rowI b_rowWay b_rowLength b_times b_told b_kOp b_kA b_kB b_kLine b_kLength b_kFrom b_kTo b_kAt b_kHandlers b_kBegun b_kTaken b_kThrown b_kept b_method b_pc b_variable b_hereI b_hereWay b_hereLength b_into b_kLoad b_part) → (wpY_take post ((nI (f + 1)), g_steps, g_result, g_outcome, g_load, g_over, b_op, b_a, b_b, b_line, b_length, b_from, b_to, b_at, b_handlers, b_begun, b_taken, b_thrown, b_rowI, b_rowWay, b_rowLength, b_times, b_told, b_kOp, b_kA, b_kB, b_kLine, b_kLength, b_kFrom, b_kTo, b_kAt, b_kHandlers, b_kBegun, b_kTaken, b_kThrown, b_kept, b_method, b_pc, b_variable, b_hereI, b_hereWay, b_hereLength, b_into, b_kLoad, b_part) (nI k)) := by
  obtain ⟨l1, l2, hn⟩ := rc_len C (r := m) (by omega)
  have hw := pw_ways_le (a_op (24 * m + i))
  obtain ⟨⟨o, ho, o1, o2⟩, _, eb, _⟩ := (C m (by omega)).2.2.1 i (by omega)
  have eo : b_op (24 * m + i) = a_op (24 * m + i) := o2.trans o1.symm
  have i6 : vp_in (nI f) 6 := pk_in f 6 hf
  have rf : ∀ g : Nat → Int32, g (nI f).toNatClampNeg = g f := fun g => qa_rr f rfl
  have el : ul a_length a_op a_opB m (1 + 4 * i + k) = pw_tgt (xn a_length m) (fun j => a_op (24 * m + j)) (fun j => a_opB (24 * m + j)) i k := by
    show pw_ld _ _ _ _ = _
    rw [pw_ld_s _ _ _ (by omega), if_pos ⟨hi, hk⟩]
  have it : vp_in (4 * (24 * nI m + nI i) + nI k) 384 := pk_in (96 * m + (4 * i + k)) 384 (by omega) (qa_t m i k)
  have et : upd b_taken (4 * (24 * nI m + nI i) + nI k).toNatClampNeg (b_taken (4 * (24 * nI m + nI i) + nI k).toNatClampNeg + 1) = upd b_taken (96 * m + (4 * i + k)) (b_taken (96 * m + (4 * i + k)) + 1) := by
    rw [qa_t, nI_clamp (by omega)]
  have rl : b_length (nI m).toNatClampNeg = nI (xn a_length m) := qa_r m rfl l2
  obtain ⟨tt, htt, hcase⟩ := yt_target (g_depth := (nI (f + 1))) (g_steps := g_steps) (g_result := g_result) (g_outcome := g_outcome) (g_load := g_load) (g_over := g_over) (b_op := b_op) (b_a := b_a) (b_b := b_b) (b_line := b_line) (b_length := b_length) (b_from := b_from) (b_to := b_to) (b_at := b_at) (b_handlers := b_handlers) (b_begun := b_begun) (b_taken := b_taken) (b_thrown := b_thrown) (b_rowI := b_rowI) (b_rowWay := b_rowWay) (b_rowLength := b_rowLength) (b_times := b_times) (b_told := b_told) (b_kOp := b_kOp) (b_kA := b_kA) (b_kB := b_kB) (b_kLine := b_kLine) (b_kLength := b_kLength) (b_kFrom := b_kFrom) (b_kTo := b_kTo) (b_kAt := b_kAt) (b_kHandlers := b_kHandlers) (b_kBegun := b_kBegun) (b_kTaken := b_kTaken) (b_kThrown := b_kThrown) (b_kept := b_kept) (b_method := b_method) (b_pc := b_pc) (b_variable := b_variable) (b_hereI := b_hereI) (b_hereWay := b_hereWay) (b_hereLength := b_hereLength) (b_into := b_into) (b_kLoad := b_kLoad) (b_part := b_part) hm hn hi (show k < 4 by omega) eo eb.symm
  rcases hcase with ⟨j, hj, rfl, ej, g⟩ | ⟨ej, g⟩
  · have tj : t = j := by rw [← ht, el, ej]
    subst tj
    refine ⟨by omega, nI t, fun _ => rfl, fun post hp => nm_r (nI_pred f) ⟨i6, nm_r ((rf b_method).trans e1) ⟨i6, nm_r ((rf b_pc).trans e2) ?_⟩⟩⟩
    refine htt _ ?_
    refine ⟨it, it, nm_r et ⟨pk_in m 5 (by omega), ?_⟩⟩
    rw [rl]
    refine g _ ?_
    rw [if_neg (by omega)] at hp
    exact br_f (by decide) hp
  · have tj : t = 24 := by rw [← ht, el, ej]
    subst tj
    refine ⟨by omega, tt, fun h => absurd h (by omega), fun post hp => nm_r (nI_pred f) ⟨i6, nm_r ((rf b_method).trans e1) ⟨i6, nm_r ((rf b_pc).trans e2) ?_⟩⟩⟩
    refine htt _ ?_
    refine ⟨it, it, nm_r et ⟨pk_in m 5 (by omega), ?_⟩⟩
    rw [rl]
    refine g _ ?_
    rw [if_pos rfl] at hp
    exact br_t rfl hp
end
end
section
/-! a run: an invocation ends with a value -/
section
variable {f_load : Int32} {f_depth : Int32} {f_begun : Int32} {f_outcome : Int32} {f_result : Int32} {a_op : (Nat → Int32)} {a_opA : (Nat → Int32)} {a_opB : (Nat → Int32)} {a_opLine : (Nat → Int32)} {a_length : (Nat → Int32)} {a_guards : (Nat → Int32)} {a_handlers : (Nat → Int32)} {a_kept : (Nat → Int32)} {a_keptLoad : (Nat → Int32)} {a_counter : (Nat → Int32)} {a_raised : (Nat → Int32)} {a_stopped : (Nat → Int32)} {a_caught : (Nat → Int32)} {a_unbegun : (Nat → Int32)} {a_leads : (Nat → Int32)} {a_counts : (Nat → Int32)} {a_adds : (Nat → Int64)} {a_goes : (Nat → Int64)} {a_needed : (Nat → Int32)} {a_known : (Nat → Int32)} {a_solved : (Nat → Int32)} {a_open : (Nat → Int32)} {a_unknown : (Nat → Int32)} {a_balance : (Nat → Int32)} {a_group : (Nat → Int32)} {a_first : (Nat → Int32)} {a_last : (Nat → Int32)} {a_sum : (Nat → Int64)} {a_often : (Nat → Int32)} {a_told : (Nat → Int32)} {a_method : (Nat → Int32)} {a_pc : (Nat → Int32)} {a_start : (Nat → Int32)} {a_here : (Nat → Int32)} {a_path : (Nat → Int64)} {a_coming : (Nat → Int64)} {a_variable : (Nat → Int32)} {g_depth : Int32} {g_steps : Int32} {g_result : Int32} {g_outcome : Int32} {g_load : Int32} {g_over : Int32} {b_op : (Nat → Int32)} {b_a : (Nat → Int32)} {b_b : (Nat → Int32)} {b_line : (Nat → Int32)} {b_length : (Nat → Int32)} {b_from : (Nat → Int32)} {b_to : (Nat → Int32)} {b_at : (Nat → Int32)} {b_handlers : (Nat → Int32)} {b_begun : (Nat → Int32)} {b_taken : (Nat → Int32)} {b_thrown : (Nat → Int32)} {b_rowI : (Nat → Int32)} {b_rowWay : (Nat → Int32)} {b_rowLength : (Nat → Int32)} {b_times : (Nat → Int32)} {b_told : (Nat → Int32)} {b_kOp : (Nat → Int32)} {b_kA : (Nat → Int32)} {b_kB : (Nat → Int32)} {b_kLine : (Nat → Int32)} {b_kLength : (Nat → Int32)} {b_kFrom : (Nat → Int32)} {b_kTo : (Nat → Int32)} {b_kAt : (Nat → Int32)} {b_kHandlers : (Nat → Int32)} {b_kBegun : (Nat → Int32)} {b_kTaken : (Nat → Int32)} {b_kThrown : (Nat → Int32)} {b_kept : (Nat → Int32)} {b_method : (Nat → Int32)} {b_pc : (Nat → Int32)} {b_variable : (Nat → Int32)} {b_hereI : (Nat → Int32)} {b_hereWay : (Nat → Int32)} {b_hereLength : (Nat → Int32)} {b_into : (Nat → Int32)} {b_kLoad : (Nat → Int32)} {b_part : (Nat → Int32)}
/-- a counter, if the way has one -/
theorem cx_cnt {m i k : Nat} (hm : m < 4) (hi : i < 24) (hk : k < 4) (P : rp_ok (ul a_length a_op a_opB m) (xn a_length m) (fun e => a_leads (97 * m + e)) (fun e => a_counts (97 * m + e)) (fun e => a_adds (97 * m + e)) (a_needed m)) :
    ∃ ct2 : Nat → Int32, ((pg_cn (ul a_length a_op a_opB m) (1 + 4 * i + k) = 1 ∧ ct2 = upd a_counter (97 * m + (1 + 4 * i + k)) (a_counter (97 * m + (1 + 4 * i + k)) + 1)) ∨ (pg_cn (ul a_length a_op a_opB m) (1 + 4 * i + k) = 0 ∧ ct2 = a_counter)) ∧
      ∀ A : (Nat → Int32) → Prop, A ct2 → ((a_counts (nI (97 * m + (1 + 4 * i + k))).toNatClampNeg = 0 → A a_counter) ∧ (¬ a_counts (nI (97 * m + (1 + 4 * i + k))).toNatClampNeg = 0 → vp_in (nI (97 * m + (1 + 4 * i + k))) 1649 ∧ (vp_in (nI (97 * m + (1 + 4 * i + k))) 1649 ∧ ∀ c', c' = upd a_counter (nI (97 * m + (1 + 4 * i + k))).toNatClampNeg (a_counter (nI (97 * m + (1 + 4 * i + k))).toNatClampNeg + 1) → A c'))) := by
  have rc : a_counts (nI (97 * m + (1 + 4 * i + k))).toNatClampNeg = nI (pg_cn (ul a_length a_op a_opB m) (1 + 4 * i + k)) := qa_r _ rfl (P.2.1 _ (by omega))
  have i1 : vp_in (nI (97 * m + (1 + 4 * i + k))) 1649 := pk_in (97 * m + (1 + 4 * i + k)) 1649 (by omega)
  have c01 : pg_cn (ul a_length a_op a_opB m) (1 + 4 * i + k) = 0 ∨ pg_cn (ul a_length a_op a_opB m) (1 + 4 * i + k) = 1 := by
    have := pg_cn_le (ul a_length a_op a_opB m) (1 + 4 * i + k)
    omega
  rcases c01 with c | c
  · exact ⟨a_counter, Or.inr ⟨c, rfl⟩, fun A h => br_t (by rw [rc, c]; rfl) h⟩
  · exact ⟨_, Or.inl ⟨c, rfl⟩, fun A h => br_f (by rw [rc, c]; decide) ⟨i1, i1, nm_r (by rw [nI_clamp (by omega)]) h⟩⟩
/-- where the way behind a CALL leads -/
theorem cx_call {m i : Nat} (C : (rc_code a_op a_opA a_opB a_opLine a_guards a_length a_handlers b_op b_a b_b b_line b_from b_to b_at b_length b_handlers)) (hm : m < 4) (hi : i < xn a_length m) (ho : a_op (24 * m + i) = 8) : 0 < pw_ways (a_op (24 * m + i)) ∧ (ul a_length a_op a_opB m (1 + 4 * i + 0) = 24 ∨ (ul a_length a_op a_opB m (1 + 4 * i + 0) = i + 1 ∧ i + 1 < xn a_length m)) := by
  have hw : pw_ways (a_op (24 * m + i)) = 1 := by rw [ho]; decide
  have hn := (rc_len C (r := m) (by omega)).2.2
  refine ⟨by omega, ?_⟩
  have el : ul a_length a_op a_opB m (1 + 4 * i + 0) = pw_tgt (xn a_length m) (fun j => a_op (24 * m + j)) (fun j => a_opB (24 * m + j)) i 0 := by
    show pw_ld _ _ _ _ = _
    rw [pw_ld_s _ _ _ (by omega), if_pos ⟨hi, by show 0 < pw_ways (a_op (24 * m + i)); omega⟩]
  rw [el]
  unfold pw_tgt pw_t
  have n9 : ¬ a_op (24 * m + i) = 9 := by rw [ho]; decide
  have n4 : ¬ a_op (24 * m + i) = 4 := by rw [ho]; decide
  simp only [if_neg n9, if_neg n4, if_true]
  by_cases c : 0 ≤ (i : Int) + 1 ∧ (i : Int) + 1 < (xn a_length m : Int)
  · rw [if_pos c]
    exact Or.inr ⟨by omega, by omega⟩
  · rw [if_neg c]
    exact Or.inl rfl
theorem rl_leave {ent : Nat → Int32} (C : (rc_code a_op a_opA a_opB a_opLine a_guards a_length a_handlers b_op b_a b_b b_line b_from b_to b_at b_length b_handlers)) (P : (rc_plan a_length a_op a_opB a_leads a_counts a_adds a_needed)) : ∀ d, d < 6 → ∀ (val : Int32) (a_counter : (Nat → Int32)) (a_raised : (Nat → Int32)) (a_stopped : (Nat → Int32)) (a_caught : (Nat → Int32)) (a_unbegun : (Nat → Int32)) (a_first : (Nat → Int32)) (a_last : (Nat → Int32)) (a_sum : (Nat → Int64)) (a_often : (Nat → Int32)) (a_told : (Nat → Int32)) (a_method : (Nat → Int32)) (a_pc : (Nat → Int32)) (a_start : (Nat → Int32)) (a_here : (Nat → Int32)) (a_path : (Nat → Int64)) (a_coming : (Nat → Int64)) (a_variable : (Nat → Int32)) (b_begun : (Nat → Int32)) (b_taken : (Nat → Int32)) (b_thrown : (Nat → Int32)) (b_rowI : (Nat → Int32)) (b_rowWay : (Nat → Int32)) (b_rowLength : (Nat → Int32)) (b_times : (Nat → Int32)) (b_told : (Nat → Int32)) (b_method : (Nat → Int32)) (b_pc : (Nat → Int32)) (b_hereI : (Nat → Int32)) (b_hereWay : (Nat → Int32)) (b_hereLength : (Nat → Int32)) (b_into : (Nat → Int32)), (rc_str a_length a_op a_opB a_adds a_first a_last a_sum a_often a_told b_rowI b_rowWay b_rowLength b_times b_told) → (fr_W a_length a_op a_opB a_adds a_method a_pc a_start a_here a_path b_method b_pc b_hereI b_hereWay b_hereLength) d → (rg_flow a_length a_op a_opB a_raised a_stopped a_caught a_unbegun a_counter b_begun b_taken b_thrown b_kBegun b_kTaken b_kThrown) ent (fr_n a_method a_pc d) (fun _ _ => 0) →
    ∃ (f_depth' : Int32) (f_outcome' : Int32) (f_result' : Int32) (a_counter' : (Nat → Int32)) (a_raised' : (Nat → Int32)) (a_stopped' : (Nat → Int32)) (a_caught' : (Nat → Int32)) (a_unbegun' : (Nat → Int32)) (a_first' : (Nat → Int32)) (a_last' : (Nat → Int32)) (a_sum' : (Nat → Int64)) (a_often' : (Nat → Int32)) (a_told' : (Nat → Int32)) (a_method' : (Nat → Int32)) (a_pc' : (Nat → Int32)) (a_start' : (Nat → Int32)) (a_here' : (Nat → Int32)) (a_path' : (Nat → Int64)) (a_coming' : (Nat → Int64)) (a_variable' : (Nat → Int32)) (g_depth' : Int32) (g_result' : Int32) (g_outcome' : Int32) (g_over' : Int32) (b_begun' : (Nat → Int32)) (b_taken' : (Nat → Int32)) (b_thrown' : (Nat → Int32)) (b_rowI' : (Nat → Int32)) (b_rowWay' : (Nat → Int32)) (b_rowLength' : (Nat → Int32)) (b_times' : (Nat → Int32)) (b_told' : (Nat → Int32)) (b_method' : (Nat → Int32)) (b_pc' : (Nat → Int32)) (b_variable' : (Nat → Int32)) (b_hereI' : (Nat → Int32)) (b_hereWay' : (Nat → Int32)) (b_hereLength' : (Nat → Int32)) (b_into' : (Nat → Int32)), (ro_ok a_length a_op a_opB a_adds b_kBegun b_kTaken b_kThrown f_depth' f_outcome' f_result' a_counter' a_raised' a_stopped' a_caught' a_unbegun' a_first' a_last' a_sum' a_often' a_told' a_method' a_pc' a_start' a_here' a_path' a_coming' a_variable' g_depth' g_result' g_outcome' g_over' b_begun' b_taken' b_thrown' b_rowI' b_rowWay' b_rowLength' b_times' b_told' b_method' b_pc' b_variable' b_hereI' b_hereWay' b_hereLength' b_into') ent ∧ (∀ post : SX → Prop, post (f_load, f_depth', f_begun, f_outcome', f_result', a_op, a_opA, a_opB, a_opLine, a_length, a_guards, a_handlers, a_kept, a_keptLoad, a_counter', a_raised', a_stopped', a_caught', a_unbegun', a_leads, a_counts, a_adds, a_goes, a_needed, a_known, a_solved, a_open, a_unknown, a_balance, a_group, a_first', a_last', a_sum', a_often', a_told', a_method', a_pc', a_start', a_here', a_path', a_coming', a_variable') → ∀ n, d < n → (wX_leave_12 post n val f_load (nI d) f_begun 0 0 a_op a_opA a_opB a_opLine a_length a_guards a_handlers a_kept a_keptLoad a_counter a_raised a_stopped a_caught a_unbegun a_leads a_counts a_adds a_goes a_needed a_known a_solved a_open a_unknown a_balance a_group a_first a_last a_sum a_often a_told a_method a_pc a_start a_here a_path a_coming a_variable)) ∧ (∀ post : SY → Prop, post (g_depth', g_steps, g_result', g_outcome', g_load, g_over', b_op, b_a, b_b, b_line, b_length, b_from, b_to, b_at, b_handlers, b_begun', b_taken', b_thrown', b_rowI', b_rowWay', b_rowLength', b_times', b_told', b_kOp, b_kA, b_kB, b_kLine, b_kLength, b_kFrom, b_kTo, b_kAt, b_kHandlers, b_kBegun, b_kTaken, b_kThrown, b_kept, b_method', b_pc', b_variable', b_hereI', b_hereWay', b_hereLength', b_into', b_kLoad, b_part) → ∀ n, d + 1 < n → (wY_end_4 post n val 1 (nI (d + 1)) g_steps 0 0 g_load 0 b_op b_a b_b b_line b_length b_from b_to b_at b_handlers b_begun b_taken b_thrown b_rowI b_rowWay b_rowLength b_times b_told b_kOp b_kA b_kB b_kLine b_kLength b_kFrom b_kTo b_kAt b_kHandlers b_kBegun b_kTaken b_kThrown b_kept b_method b_pc a_variable b_hereI b_hereWay b_hereLength b_into b_kLoad b_part)) := by
  have hn4 : ∀ m, m < 4 → xn a_length m ≤ 24 := fun m hm => (rc_len C (r := m) (by omega)).2.2
  intro d
  induction d with
  | zero =>
    intro hd val a_counter a_raised a_stopped a_caught a_unbegun a_first a_last a_sum a_often a_told a_method a_pc a_start a_here a_path a_coming a_variable b_begun b_taken b_thrown b_rowI b_rowWay b_rowLength b_times b_told b_method b_pc b_hereI b_hereWay b_hereLength b_into hS hW hF
    refine ⟨(nI 0), 0, val, a_counter, a_raised, a_stopped, a_caught, a_unbegun, a_first, a_last, a_sum, a_often, a_told, a_method, a_pc, a_start, a_here, a_path, a_coming, a_variable, (nI 0), val, 0, 1, b_begun, b_taken, b_thrown, b_rowI, b_rowWay, b_rowLength, b_times, b_told, b_method, b_pc, a_variable, b_hereI, b_hereWay, b_hereLength, b_into, ⟨hS, rfl, Or.inr ⟨rfl, rfl, rfl, rfl, hF⟩⟩, fun post hp n hn => ?_, fun post hp n hn => ?_⟩
    · obtain ⟨n', rfl⟩ : ∃ n', n = n' + 1 := ⟨n - 1, by omega⟩
      exact br_t (nI_le (b := 0) (Nat.le_refl 0) (by decide)) hp
    · obtain ⟨n', rfl⟩ : ∃ n', n = n' + 1 := ⟨n - 1, by omega⟩
      exact br_f (by decide) (nm_r (nI_pred 0) (br_t rfl hp))
  | succ d ih =>
    intro hd val a_counter a_raised a_stopped a_caught a_unbegun a_first a_last a_sum a_often a_told a_method a_pc a_start a_here a_path a_coming a_variable b_begun b_taken b_thrown b_rowI b_rowWay b_rowLength b_times b_told b_method b_pc b_hereI b_hereWay b_hereLength b_into hS hW hF
    obtain ⟨m, i, ⟨⟨hm, hi, c3, c4, c5, c6⟩, D, p, w, pa, hpD⟩, ho⟩ := hW d (by omega)
    have hn := hn4 m hm
    obtain ⟨hw0, htl⟩ := cx_call C hm hi ho
    obtain ⟨_, ⟨c, hc, a1, a2⟩, _, _⟩ := (C m (by omega)).2.2.1 i (by omega)
    have PL := P m hm (by omega)
    obtain ⟨ct2, hct2, hgo⟩ := cx_cnt (a_counter := a_counter) (k := 0) hm (show i < 24 by omega) (by omega) PL
    have i6 : vp_in (nI d) 6 := pk_in d 6 (by omega)
    have rf : ∀ g : Nat → Int32, g (nI d).toNatClampNeg = g d := fun g => qa_rr d rfl
    have ix : vp_in (24 * nI m + nI i) 408 := pk_in (24 * m + i) 408 (by omega) (qa_24 m i)
    have iy : vp_in (24 * nI m + nI i) 120 := pk_in (24 * m + i) 120 (by omega) (qa_24 m i)
    have eA : (4 : Int32) * nI d + a_opA (24 * nI m + nI i).toNatClampNeg = nI (4 * d + c) := by rw [qa_r _ (qa_24 m i) a1, qa_4]
    have eAy : (4 : Int32) * nI d + b_a (24 * b_method (nI d).toNatClampNeg + b_pc (nI d).toNatClampNeg).toNatClampNeg = nI (4 * d + c) := by
      rw [rf b_method, rf b_pc, c4, c6, qa_r _ (qa_24 m i) a2, qa_4]
    have iyy : vp_in (24 * b_method (nI d).toNatClampNeg + b_pc (nI d).toNatClampNeg) 120 := by rw [rf b_method, rf b_pc, c4, c6]; exact iy
    have ev : upd a_variable (4 * nI d + a_opA (24 * nI m + nI i).toNatClampNeg).toNatClampNeg val = upd a_variable (4 * d + c) val := by rw [eA, nI_clamp (by omega)]
    have evy : upd a_variable (4 * nI d + b_a (24 * b_method (nI d).toNatClampNeg + b_pc (nI d).toNatClampNeg).toNatClampNeg).toNatClampNeg val = upd a_variable (4 * d + c) val := by rw [eAy, nI_clamp (by omega)]
    have ie : vp_in (nI (97 * m + (1 + 4 * i + 0))) 388 := pk_in (97 * m + (1 + 4 * i + 0)) 388 (by omega)
    have hB : (rg_flow a_length a_op a_opB a_raised a_stopped a_caught a_unbegun a_counter b_begun b_taken b_thrown b_kBegun b_kTaken b_kThrown) ent (fun m' p => fr_n a_method a_pc d m' p + rn_y m i m' p) (fun _ _ => 0) := eg_fc hF (fun m' p' hm' hp' => ⟨(fr_n_succ c3 c5 hm (by omega) hm' (Nat.lt_of_lt_of_le hp' (hn4 m' hm'))).symm, rfl⟩)
    generalize htt : ul a_length a_op a_opB m (1 + 4 * i + 0) = t at htl
    have hF2 := eg_take (k := 0) (t := t) hn4 (show i < 24 by omega) (by omega) htt (by omega) hct2 hB
    have rl : a_leads (nI (97 * m + (1 + 4 * i + 0))).toNatClampNeg = nI t := qa_r _ rfl ((PL.1 _ (by omega)).trans (by rw [htt, if_pos (by omega)]))
    obtain ⟨ht24, tt, htt2, hpre⟩ := ry_pre (k := 0) (g_steps := g_steps) (g_result := 0) (g_outcome := 0) (g_load := g_load) (g_over := 0) (b_op := b_op) (b_a := b_a) (b_b := b_b) (b_line := b_line) (b_length := b_length) (b_from := b_from) (b_to := b_to) (b_at := b_at) (b_handlers := b_handlers) (b_begun := b_begun) (b_taken := b_taken) (b_thrown := b_thrown) (b_rowI := b_rowI) (b_rowWay := b_rowWay) (b_rowLength := b_rowLength) (b_times := b_times) (b_told := b_told) (b_kOp := b_kOp) (b_kA := b_kA) (b_kB := b_kB) (b_kLine := b_kLine) (b_kLength := b_kLength) (b_kFrom := b_kFrom) (b_kTo := b_kTo) (b_kAt := b_kAt) (b_kHandlers := b_kHandlers) (b_kBegun := b_kBegun) (b_kTaken := b_kTaken) (b_kThrown := b_kThrown) (b_kept := b_kept) (b_method := b_method) (b_pc := b_pc) (b_variable := (upd a_variable (4 * d + c) val)) (b_hereI := b_hereI) (b_hereWay := b_hereWay) (b_hereLength := b_hereLength) (b_into := b_into) (b_kLoad := b_kLoad) (b_part := b_part) (show d < 6 by omega) hm hi C hw0 c4 c6 htt
    -- both sides up to the way
    have goX : ∀ (post : SX → Prop) (n : Nat), (wX_leave_100 post (wX_leave_12 post n) (nI d) (nI (97 * m + (1 + 4 * i + 0))) f_load (nI (d + 1)) f_begun 0 0 a_op a_opA a_opB a_opLine a_length a_guards a_handlers a_kept a_keptLoad ct2 a_raised a_stopped a_caught a_unbegun a_leads a_counts a_adds a_goes a_needed a_known a_solved a_open a_unknown a_balance a_group a_first a_last a_sum a_often a_told a_method a_pc a_start a_here a_path a_coming (upd a_variable (4 * d + c) val)) → (wX_leave_12 post (n + 1) val f_load (nI (d + 1)) f_begun 0 0 a_op a_opA a_opB a_opLine a_length a_guards a_handlers a_kept a_keptLoad a_counter a_raised a_stopped a_caught a_unbegun a_leads a_counts a_adds a_goes a_needed a_known a_solved a_open a_unknown a_balance a_group a_first a_last a_sum a_often a_told a_method a_pc a_start a_here a_path a_coming a_variable) := by
      intro post n h
      exact br_f (nI_nle (by omega) (by omega)) (nm_r (nI_pred d) ⟨i6, nm_r ((rf a_method).trans c3) ⟨i6, nm_r ((rf a_pc).trans c5) ⟨ix, pk_in (4 * d + c) 24 (by omega) eA, nm_r ev (nm_r (qa_e0 m i) ⟨ie, hgo (fun ct => (wX_leave_100 post (wX_leave_12 post n) (nI d) (nI (97 * m + (1 + 4 * i + 0))) f_load (nI (d + 1)) f_begun 0 0 a_op a_opA a_opB a_opLine a_length a_guards a_handlers a_kept a_keptLoad ct a_raised a_stopped a_caught a_unbegun a_leads a_counts a_adds a_goes a_needed a_known a_solved a_open a_unknown a_balance a_group a_first a_last a_sum a_often a_told a_method a_pc a_start a_here a_path a_coming (upd a_variable (4 * d + c) val))) h⟩)⟩⟩⟩)
    have nz1 : ¬ nI (d + 1) = 0 := nI_ne0 (by omega) (by omega)
    have goY : ∀ (post : SY → Prop) (n : Nat), (wY_take_71 (fun r_10 u => match u with | (g_depth, g_steps, g_result, g_outcome, g_load, g_over, b_op, b_a, b_b, b_line, b_length, b_from, b_to, b_at, b_handlers, b_begun, b_taken, b_thrown, b_rowI, b_rowWay, b_rowLength, b_times, b_told, b_kOp, b_kA, b_kB, b_kLine, b_kLength, b_kFrom, b_kTo, b_kAt, b_kHandlers, b_kBegun, b_kTaken, b_kThrown, b_kept, b_method, b_pc, b_variable, b_hereI, b_hereWay, b_hereLength, b_into, b_kLoad, b_part) => wY_end_4 post n 0 r_10 g_depth g_steps g_result g_outcome g_load g_over b_op b_a b_b b_line b_length b_from b_to b_at b_handlers b_begun b_taken b_thrown b_rowI b_rowWay b_rowLength b_times b_told b_kOp b_kA b_kB b_kLine b_kLength b_kFrom b_kTo b_kAt b_kHandlers b_kBegun b_kTaken b_kThrown b_kept b_method b_pc b_variable b_hereI b_hereWay b_hereLength b_into b_kLoad b_part) (nI 0) (nI d) (nI i) tt (if t = 24 then 1 else 0) (nI (d + 1)) g_steps 0 0 g_load 0 b_op b_a b_b b_line b_length b_from b_to b_at b_handlers b_begun (upd b_taken (96 * m + (4 * i + 0)) (b_taken (96 * m + (4 * i + 0)) + 1)) b_thrown b_rowI b_rowWay b_rowLength b_times b_told b_kOp b_kA b_kB b_kLine b_kLength b_kFrom b_kTo b_kAt b_kHandlers b_kBegun b_kTaken b_kThrown b_kept b_method b_pc (upd a_variable (4 * d + c) val) b_hereI b_hereWay b_hereLength b_into b_kLoad b_part) → (wY_end_4 post (n + 1) val 1 (nI (d + 1 + 1)) g_steps 0 0 g_load 0 b_op b_a b_b b_line b_length b_from b_to b_at b_handlers b_begun b_taken b_thrown b_rowI b_rowWay b_rowLength b_times b_told b_kOp b_kA b_kB b_kLine b_kLength b_kFrom b_kTo b_kAt b_kHandlers b_kBegun b_kTaken b_kThrown b_kept b_method b_pc a_variable b_hereI b_hereWay b_hereLength b_into b_kLoad b_part) := by
      intro post n h
      exact br_f (by decide) (nm_r (nI_pred (d + 1)) (br_f nz1 (nm_r (nI_pred d) ⟨i6, i6, iyy, pk_in (4 * d + c) 24 (by omega) eAy, nm_r evy (hpre _ h)⟩)))
    rcases htl with h24 | ⟨hti, htn⟩
    · -- it ends, too
      subst h24
      obtain ⟨fi, la, su, oft, tx, he, rI, rW, rL, ti, ty, hS', he1, he2, cX, cY⟩ := cl_close (f_load := f_load) (f_depth := (nI (d + 1))) (f_begun := f_begun) (f_outcome := 0) (f_result := 0) (a_op := a_op) (a_opA := a_opA) (a_opB := a_opB) (a_opLine := a_opLine) (a_length := a_length) (a_guards := a_guards) (a_handlers := a_handlers) (a_kept := a_kept) (a_keptLoad := a_keptLoad) (a_counter := ct2) (a_raised := a_raised) (a_stopped := a_stopped) (a_caught := a_caught) (a_unbegun := a_unbegun) (a_leads := a_leads) (a_counts := a_counts) (a_adds := a_adds) (a_goes := a_goes) (a_needed := a_needed) (a_known := a_known) (a_solved := a_solved) (a_open := a_open) (a_unknown := a_unknown) (a_balance := a_balance) (a_group := a_group) (a_first := a_first) (a_last := a_last) (a_sum := a_sum) (a_often := a_often) (a_told := a_told) (a_method := a_method) (a_pc := a_pc) (a_start := a_start) (a_here := a_here) (a_path := a_path) (a_coming := a_coming) (a_variable := (upd a_variable (4 * d + c) val)) (g_steps := g_steps) (g_result := 0) (g_outcome := 0) (g_load := g_load) (g_over := 0) (b_op := b_op) (b_a := b_a) (b_b := b_b) (b_line := b_line) (b_length := b_length) (b_from := b_from) (b_to := b_to) (b_at := b_at) (b_handlers := b_handlers) (b_begun := b_begun) (b_taken := (upd b_taken (96 * m + (4 * i + 0)) (b_taken (96 * m + (4 * i + 0)) + 1))) (b_thrown := b_thrown) (b_rowI := b_rowI) (b_rowWay := b_rowWay) (b_rowLength := b_rowLength) (b_times := b_times) (b_told := b_told) (b_kOp := b_kOp) (b_kA := b_kA) (b_kB := b_kB) (b_kLine := b_kLine) (b_kLength := b_kLength) (b_kFrom := b_kFrom) (b_kTo := b_kTo) (b_kAt := b_kAt) (b_kHandlers := b_kHandlers) (b_kBegun := b_kBegun) (b_kTaken := b_kTaken) (b_kThrown := b_kThrown) (b_kept := b_kept) (b_method := b_method) (b_pc := b_pc) (b_variable := (upd a_variable (4 * d + c) val)) (b_hereI := b_hereI) (b_hereWay := b_hereWay) (b_hereLength := b_hereLength) (b_into := b_into) (b_kLoad := b_kLoad) (b_part := b_part) (show d < 6 by omega) hm (by omega) C P hS c3 c4 (Or.inl ⟨D, p, w, pa⟩)
      have W' := fr_W_congr (method2 := a_method) (pc2 := a_pc) (start2 := a_start) (here2 := he) (path2 := a_path) (method2' := b_method) (pc2' := upd b_pc d tt) (hI2 := b_hereI) (hW2 := b_hereWay) (hL2 := upd b_hereLength d 0) hn4 (fr_W_le hW (show d ≤ d + 1 by omega)) (fun f hf => ⟨rfl, rfl, rfl, he2 f (by omega), rfl, rfl, pk_un (by omega), pk_un (by omega), fun j hj => ⟨rfl, rfl⟩⟩)
      have F' : (rg_flow a_length a_op a_opB a_raised a_stopped a_caught a_unbegun ct2 b_begun (upd b_taken (96 * m + (4 * i + 0)) (b_taken (96 * m + (4 * i + 0)) + 1)) b_thrown b_kBegun b_kTaken b_kThrown) ent (fr_n a_method a_pc d) (fun _ _ => 0) := eg_fc hF2 (fun m' p' hm' hp' => by
        have h24 : p' < 24 := Nat.lt_of_lt_of_le hp' (hn4 m' hm')
        have z : rn_y m 24 m' p' = 0 := if_neg (fun z => by have := z.2; omega)
        exact ⟨by show _ = _ + rn_y m 24 m' p'; rw [z]; grind, z.symm⟩)
      obtain ⟨f_depth', f_outcome', f_result', a_counter', a_raised', a_stopped', a_caught', a_unbegun', a_first', a_last', a_sum', a_often', a_told', a_method', a_pc', a_start', a_here', a_path', a_coming', a_variable', g_depth', g_result', g_outcome', g_over', b_begun', b_taken', b_thrown', b_rowI', b_rowWay', b_rowLength', b_times', b_told', b_method', b_pc', b_variable', b_hereI', b_hereWay', b_hereLength', b_into', R, hX, hY⟩ := ih (by omega) 0 ct2 a_raised a_stopped a_caught a_unbegun fi la su oft tx a_method a_pc a_start he a_path a_coming (upd a_variable (4 * d + c) val) b_begun (upd b_taken (96 * m + (4 * i + 0)) (b_taken (96 * m + (4 * i + 0)) + 1)) b_thrown rI rW rL ti ty b_method (upd b_pc d tt) b_hereI b_hereWay (upd b_hereLength d 0) (upd b_into d (nI 0)) hS' W' F'
      refine ⟨f_depth', f_outcome', f_result', a_counter', a_raised', a_stopped', a_caught', a_unbegun', a_first', a_last', a_sum', a_often', a_told', a_method', a_pc', a_start', a_here', a_path', a_coming', a_variable', g_depth', g_result', g_outcome', g_over', b_begun', b_taken', b_thrown', b_rowI', b_rowWay', b_rowLength', b_times', b_told', b_method', b_pc', b_variable', b_hereI', b_hereWay', b_hereLength', b_into', R, fun post hp n hn => ?_, fun post hp n hn => ?_⟩
      · obtain ⟨n', rfl⟩ : ∃ n', n = n' + 1 := ⟨n - 1, by omega⟩
        refine goX post n' ⟨ie, br_t rl ?_⟩
        refine cX _ ?_
        exact nm_r (nI_pred d) (hX post hp n' (by omega))
      · obtain ⟨n', rfl⟩ : ∃ n', n = n' + 1 := ⟨n - 1, by omega⟩
        refine goY post n' (br_f (by decide) ?_)
        refine cY _ ?_
        exact ⟨i6, nm_r (e' := upd b_pc d tt) (by rw [nI_clamp (by omega)]) ⟨i6, nm_r (e' := upd b_into d (nI 0)) (by rw [nI_clamp (by omega)]) ⟨rfl, hY post hp n' (by omega)⟩⟩⟩
    · subst hti
      have t24 : ¬ i + 1 = 24 := by omega
      rw [if_neg t24] at goY
      have ett := htt2 (by omega)
      subst ett
      have ra : a_adds (nI (97 * m + (1 + 4 * i + 0))).toNatClampNeg = a_adds (97 * m + (1 + 4 * i + 0)) := qa_rr _ rfl
      have W' := fr_W_congr (method2 := a_method) (pc2 := upd a_pc d (nI (i + 1))) (start2 := a_start) (here2 := a_here) (path2 := a_path) (method2' := b_method) (pc2' := upd b_pc d (nI (i + 1))) (hI2 := b_hereI) (hW2 := b_hereWay) (hL2 := b_hereLength) hn4 (fr_W_le hW (show d ≤ d + 1 by omega)) (fun f hf => ⟨rfl, pk_un (by omega), rfl, rfl, rfl, rfl, pk_un (by omega), rfl, fun j hj => ⟨rfl, rfl⟩⟩)
      have en : fr_n a_method (upd a_pc d (nI (i + 1))) d = fr_n a_method a_pc d := fr_n_congr (fun f hf => ⟨rfl, pk_un (by omega)⟩)
      refine ⟨(nI (d + 1)), 0, 0, ct2, a_raised, a_stopped, a_caught, a_unbegun, a_first, a_last, a_sum, a_often, a_told, a_method, (upd a_pc d (nI (i + 1))), a_start, a_here, a_path, (vp_updL a_coming d (a_adds (97 * m + (1 + 4 * i + 0)))), (upd a_variable (4 * d + c) val), (nI (d + 1)), 0, 0, 0, b_begun, (upd b_taken (96 * m + (4 * i + 0)) (b_taken (96 * m + (4 * i + 0)) + 1)), b_thrown, b_rowI, b_rowWay, b_rowLength, b_times, b_told, b_method, (upd b_pc d (nI (i + 1))), (upd a_variable (4 * d + c) val), b_hereI, b_hereWay, b_hereLength, (upd b_into d (nI 0)), ⟨hS, rfl, Or.inl ⟨d, m, i + 1, by omega, rfl, rfl, rfl, rfl, rfl, rfl, rfl, W', ⟨⟨hm, htn, c3, c4, pk_us, pk_us⟩, Or.inr ⟨D, p, w, 0, pa, by omega, pk_us, by omega, by rw [hpD]; exact htt, by rw [hpD]; exact pk_uLs⟩⟩, ?_⟩⟩, fun post hp n hn => ?_, fun post hp n hn => ?_⟩
      · rw [en]
        exact hF2
      · obtain ⟨n', rfl⟩ : ∃ n', n = n' + 1 := ⟨n - 1, by omega⟩
        refine goX post n' ⟨ie, br_f (by rw [rl]; exact fun z => t24 ((nI_eq (b := 24) (by omega) (by omega)).mp z)) ⟨ie, i6, nm_r (e' := vp_updL a_coming d (a_adds (97 * m + (1 + 4 * i + 0)))) (by rw [ra, nI_clamp (by omega)]) ⟨ie, i6, nm_r (e' := upd a_pc d (nI (i + 1))) (by rw [rl, qa_b (by omega), nI_clamp (by omega)]) hp⟩⟩⟩
      · obtain ⟨n', rfl⟩ : ∃ n', n = n' + 1 := ⟨n - 1, by omega⟩
        obtain ⟨n'', rfl⟩ : ∃ n'', n' = n'' + 1 := ⟨n' - 1, by omega⟩
        refine goY post (n'' + 1) (br_t rfl (br_t (nI_lt (by omega) (by omega)) ⟨i6, nm_r (e' := upd b_pc d (nI (i + 1))) (by rw [nI_clamp (by omega)]) ⟨i6, nm_r (e' := upd b_into d (nI 0)) (by rw [nI_clamp (by omega)]) ⟨rfl, br_t rfl hp⟩⟩⟩))
end
end
section
/-! a run: exceptions -/
theorem rh_bits {f t c : Nat} (hf : f < 24) (ht : t < 24) (hc : c < 24) : (nI (f + 32 * t + 1024 * c) &&& 31 = nI f) ∧ (((nI (f + 32 * t + 1024 * c)).toUInt32 >>> ((5 : Int32).toUInt32 &&& Int32.toUInt32 31)).toInt32 &&& 31 = nI t) ∧ ((nI (f + 32 * t + 1024 * c)).toUInt32 >>> ((10 : Int32).toUInt32 &&& Int32.toUInt32 31)).toInt32 = nI c := by
  refine ⟨?_, ?_, ?_⟩
  · rw [pk_andN (by omega) (m := 31) 5 (by decide)]
    exact congrArg nI (by omega)
  · rw [pk_ushrN (by omega) 5 5 (by decide), pk_andN (by omega) (m := 31) 5 (by decide)]
    exact congrArg nI (by omega)
  · rw [pk_ushrN (by omega) 10 10 (by decide)]
    exact congrArg nI (by omega)
section
variable {f_load : Int32} {f_depth : Int32} {f_begun : Int32} {f_outcome : Int32} {f_result : Int32} {a_op : (Nat → Int32)} {a_opA : (Nat → Int32)} {a_opB : (Nat → Int32)} {a_opLine : (Nat → Int32)} {a_length : (Nat → Int32)} {a_guards : (Nat → Int32)} {a_handlers : (Nat → Int32)} {a_kept : (Nat → Int32)} {a_keptLoad : (Nat → Int32)} {a_counter : (Nat → Int32)} {a_raised : (Nat → Int32)} {a_stopped : (Nat → Int32)} {a_caught : (Nat → Int32)} {a_unbegun : (Nat → Int32)} {a_leads : (Nat → Int32)} {a_counts : (Nat → Int32)} {a_adds : (Nat → Int64)} {a_goes : (Nat → Int64)} {a_needed : (Nat → Int32)} {a_known : (Nat → Int32)} {a_solved : (Nat → Int32)} {a_open : (Nat → Int32)} {a_unknown : (Nat → Int32)} {a_balance : (Nat → Int32)} {a_group : (Nat → Int32)} {a_first : (Nat → Int32)} {a_last : (Nat → Int32)} {a_sum : (Nat → Int64)} {a_often : (Nat → Int32)} {a_told : (Nat → Int32)} {a_method : (Nat → Int32)} {a_pc : (Nat → Int32)} {a_start : (Nat → Int32)} {a_here : (Nat → Int32)} {a_path : (Nat → Int64)} {a_coming : (Nat → Int64)} {a_variable : (Nat → Int32)} {g_depth : Int32} {g_steps : Int32} {g_result : Int32} {g_outcome : Int32} {g_load : Int32} {g_over : Int32} {b_op : (Nat → Int32)} {b_a : (Nat → Int32)} {b_b : (Nat → Int32)} {b_line : (Nat → Int32)} {b_length : (Nat → Int32)} {b_from : (Nat → Int32)} {b_to : (Nat → Int32)} {b_at : (Nat → Int32)} {b_handlers : (Nat → Int32)} {b_begun : (Nat → Int32)} {b_taken : (Nat → Int32)} {b_thrown : (Nat → Int32)} {b_rowI : (Nat → Int32)} {b_rowWay : (Nat → Int32)} {b_rowLength : (Nat → Int32)} {b_times : (Nat → Int32)} {b_told : (Nat → Int32)} {b_kOp : (Nat → Int32)} {b_kA : (Nat → Int32)} {b_kB : (Nat → Int32)} {b_kLine : (Nat → Int32)} {b_kLength : (Nat → Int32)} {b_kFrom : (Nat → Int32)} {b_kTo : (Nat → Int32)} {b_kAt : (Nat → Int32)} {b_kHandlers : (Nat → Int32)} {b_kBegun : (Nat → Int32)} {b_kTaken : (Nat → Int32)} {b_kThrown : (Nat → Int32)} {b_kept : (Nat → Int32)} {b_method : (Nat → Int32)} {b_pc : (Nat → Int32)} {b_variable : (Nat → Int32)} {b_hereI : (Nat → Int32)} {b_hereWay : (Nat → Int32)} {b_hereLength : (Nat → Int32)} {b_into : (Nat → Int32)} {b_kLoad : (Nat → Int32)} {b_part : (Nat → Int32)}
def rh_hit (fr to' : Nat → Int32) (m i h : Nat) : Prop := ¬ nI i < fr (3 * m + h) ∧ nI i ≤ to' (3 * m + h)
theorem rh_x {m i h : Nat} (hm : m < 4) (hi : i < 24) (hh : h < 3) (C : (rc_code a_op a_opA a_opB a_opLine a_guards a_length a_handlers b_op b_a b_b b_line b_from b_to b_at b_length b_handlers)) : ∃ c, c < 24 ∧ b_at (3 * m + h) = nI c ∧ ((a_guards (3 * m + h)).toUInt32 >>> ((10 : Int32).toUInt32 &&& Int32.toUInt32 31)).toInt32 = nI c ∧
    (¬ nI i < a_guards (3 * m + h) &&& 31 ↔ ¬ nI i < b_from (3 * m + h)) ∧ (¬ (((a_guards (3 * m + h)).toUInt32 >>> ((5 : Int32).toUInt32 &&& Int32.toUInt32 31)).toInt32 &&& 31) < nI i ↔ nI i ≤ b_to (3 * m + h)) := by
  obtain ⟨f, t, c, hf, ht, hc, v1, v2, v3, v4⟩ := (C m (by omega)).2.2.2 h hh
  obtain ⟨b1, b2, b3⟩ := rh_bits hf ht hc
  have w1 : b_from (3 * m + h) = nI f := v1
  have w2 : b_to (3 * m + h) = nI t := v2
  have w4 : a_guards (3 * m + h) = nI (f + 32 * t + 1024 * c) := v4
  refine ⟨c, hc, v3, by rw [w4]; exact b3, by rw [w4, b1, w1], ?_⟩
  rw [w4, b2, w2, nI_ltI (by omega) (by omega), nI_leI (by omega) (by omega)]
  omega
theorem rh_reachX {m i H : Nat} (hm : m < 4) (hi : i < 24) (hH : H ≤ 3) (C : (rc_code a_op a_opA a_opB a_opLine a_guards a_length a_handlers b_op b_a b_b b_line b_from b_to b_at b_length b_handlers)) (e1 : a_handlers m = nI H) {post : Int32 → Prop} : ∀ k, k ≤ H → (∀ h, h < k → ¬ rh_hit b_from b_to m i h) → ∀ n, (wX_handler_4 post (nI m) (nI i) f_load f_depth f_begun f_outcome f_result a_op a_opA a_opB a_opLine a_length a_guards a_handlers a_kept a_keptLoad a_counter a_raised a_stopped a_caught a_unbegun a_leads a_counts a_adds a_goes a_needed a_known a_solved a_open a_unknown a_balance a_group a_first a_last a_sum a_often a_told a_method a_pc a_start a_here a_path a_coming a_variable n (nI (3 * m + k))) → ∃ n', (wX_handler_4 post (nI m) (nI i) f_load f_depth f_begun f_outcome f_result a_op a_opA a_opB a_opLine a_length a_guards a_handlers a_kept a_keptLoad a_counter a_raised a_stopped a_caught a_unbegun a_leads a_counts a_adds a_goes a_needed a_known a_solved a_open a_unknown a_balance a_group a_first a_last a_sum a_often a_told a_method a_pc a_start a_here a_path a_coming a_variable (n') (nI (3 * m))) := by
  have i17 : vp_in (nI m) 17 := pk_in m 17 (by omega)
  have rx : (3 : Int32) * nI m + a_handlers (nI m).toNatClampNeg = nI (3 * m + H) := by rw [qa_r m rfl e1, qa_3]
  intro k
  induction k with
  | zero => exact fun _ _ n h => ⟨n, h⟩
  | succ k ih =>
    intro hk hno n h
    refine ih (by omega) (fun h' hh' => hno h' (by omega)) (n + 1) ⟨i17, br_f (by rw [rx]; exact nI_ge (by omega) (by omega)) ?_⟩
    have i51 : vp_in (nI (3 * m + k)) 51 := pk_in (3 * m + k) 51 (by omega)
    have rg : a_guards (nI (3 * m + k)).toNatClampNeg = a_guards (3 * m + k) := qa_rr _ rfl
    obtain ⟨c, _, _, _, g1, g2⟩ := rh_x (h := k) hm hi (by omega) C
    have nh := hno k (by omega)
    refine ⟨i51, ?_⟩
    rw [rg]
    by_cases c1 : nI i < a_guards (3 * m + k) &&& 31
    · exact br_t c1 (nm_r (nI_1 _) h)
    · refine br_f c1 ⟨i51, br_t ?_ (nm_r (nI_1 _) h)⟩
      apply Classical.byContradiction
      intro c2
      exact nh ⟨g1.mp c1, g2.mp c2⟩
theorem rh_reachY {m i H : Nat} {x1 x2 : Int32} (hm : m < 4) (hi : i < 24) (hH : H ≤ 3) (e2 : b_handlers m = nI H) {post : SY → Prop} {J : Int32 → Int32 → Int32 → Int32 → Int32 → Int32 → (Nat → Int32) → (Nat → Int32) → (Nat → Int32) → (Nat → Int32) → (Nat → Int32) → (Nat → Int32) → (Nat → Int32) → (Nat → Int32) → (Nat → Int32) → (Nat → Int32) → (Nat → Int32) → (Nat → Int32) → (Nat → Int32) → (Nat → Int32) → (Nat → Int32) → (Nat → Int32) → (Nat → Int32) → (Nat → Int32) → (Nat → Int32) → (Nat → Int32) → (Nat → Int32) → (Nat → Int32) → (Nat → Int32) → (Nat → Int32) → (Nat → Int32) → (Nat → Int32) → (Nat → Int32) → (Nat → Int32) → (Nat → Int32) → (Nat → Int32) → (Nat → Int32) → (Nat → Int32) → (Nat → Int32) → (Nat → Int32) → (Nat → Int32) → (Nat → Int32) → (Nat → Int32) → (Nat → Int32) → (Nat → Int32) → Prop} : ∀ k, k ≤ H → (∀ h, h < k → ¬ rh_hit b_from b_to m i h) → ∀ n, (wY_raise_54 post J x1 x2 (nI m) (nI i) g_depth g_steps g_result g_outcome g_load g_over b_op b_a b_b b_line b_length b_from b_to b_at b_handlers b_begun b_taken b_thrown b_rowI b_rowWay b_rowLength b_times b_told b_kOp b_kA b_kB b_kLine b_kLength b_kFrom b_kTo b_kAt b_kHandlers b_kBegun b_kTaken b_kThrown b_kept b_method b_pc b_variable b_hereI b_hereWay b_hereLength b_into b_kLoad b_part n (nI (3 * m + k))) → ∃ n', (wY_raise_54 post J x1 x2 (nI m) (nI i) g_depth g_steps g_result g_outcome g_load g_over b_op b_a b_b b_line b_length b_from b_to b_at b_handlers b_begun b_taken b_thrown b_rowI b_rowWay b_rowLength b_times b_told b_kOp b_kA b_kB b_kLine b_kLength b_kFrom b_kTo b_kAt b_kHandlers b_kBegun b_kTaken b_kThrown b_kept b_method b_pc b_variable b_hereI b_hereWay b_hereLength b_into b_kLoad b_part (n') (nI (3 * m))) := by
  have i5 : vp_in (nI m) 5 := pk_in m 5 (by omega)
  have ry : (3 : Int32) * nI m + b_handlers (nI m).toNatClampNeg = nI (3 * m + H) := by rw [qa_r m rfl e2, qa_3]
  intro k
  induction k with
  | zero => exact fun _ _ n h => ⟨n, h⟩
  | succ k ih =>
    intro hk hno n h
    refine ih (by omega) (fun h' hh' => hno h' (by omega)) (n + 1) ⟨i5, br_f (by rw [ry]; exact nI_ge (by omega) (by omega)) ?_⟩
    have i15 : vp_in (nI (3 * m + k)) 15 := pk_in (3 * m + k) 15 (by omega)
    have r1 : b_from (nI (3 * m + k)).toNatClampNeg = b_from (3 * m + k) := qa_rr _ rfl
    have r2 : b_to (nI (3 * m + k)).toNatClampNeg = b_to (3 * m + k) := qa_rr _ rfl
    have nh := hno k (by omega)
    refine ⟨i15, ?_⟩
    by_cases c1 : nI i < b_from (3 * m + k)
    · exact br_t (by rw [r1]; exact c1) (nm_r (nI_1 _) h)
    · refine br_f (by rw [r1]; exact c1) ⟨i15, br_f ?_ (nm_r (nI_1 _) h)⟩
      rw [r2]
      exact fun c2 => nh ⟨c1, c2⟩
theorem rl_raise {ent : Nat → Int32} (C : (rc_code a_op a_opA a_opB a_opLine a_guards a_length a_handlers b_op b_a b_b b_line b_from b_to b_at b_length b_handlers)) (P : (rc_plan a_length a_op a_opB a_leads a_counts a_adds a_needed)) : ∀ d, d < 6 → ∀ (x : Int32) (m i : Nat) (a_counter : (Nat → Int32)) (a_raised : (Nat → Int32)) (a_stopped : (Nat → Int32)) (a_caught : (Nat → Int32)) (a_unbegun : (Nat → Int32)) (a_first : (Nat → Int32)) (a_last : (Nat → Int32)) (a_sum : (Nat → Int64)) (a_often : (Nat → Int32)) (a_told : (Nat → Int32)) (a_method : (Nat → Int32)) (a_pc : (Nat → Int32)) (a_start : (Nat → Int32)) (a_here : (Nat → Int32)) (a_path : (Nat → Int64)) (a_coming : (Nat → Int64)) (a_variable : (Nat → Int32)) (b_begun : (Nat → Int32)) (b_taken : (Nat → Int32)) (b_thrown : (Nat → Int32)) (b_rowI : (Nat → Int32)) (b_rowWay : (Nat → Int32)) (b_rowLength : (Nat → Int32)) (b_times : (Nat → Int32)) (b_told : (Nat → Int32)) (b_method : (Nat → Int32)) (b_pc : (Nat → Int32)) (b_hereI : (Nat → Int32)) (b_hereWay : (Nat → Int32)) (b_hereLength : (Nat → Int32)) (b_into : (Nat → Int32)), (rc_str a_length a_op a_opB a_adds a_first a_last a_sum a_often a_told b_rowI b_rowWay b_rowLength b_times b_told) → (fr_W a_length a_op a_opB a_adds a_method a_pc a_start a_here a_path b_method b_pc b_hereI b_hereWay b_hereLength) d → (fr_B a_length a_op a_opB a_adds a_method a_pc a_start a_here a_path b_method b_pc b_hereI b_hereWay b_hereLength) d m i → (rg_flow a_length a_op a_opB a_raised a_stopped a_caught a_unbegun a_counter b_begun b_taken b_thrown b_kBegun b_kTaken b_kThrown) ent (fun m' p => fr_n a_method a_pc d m' p + rn_y m i m' p) (fun _ _ => 0) →
    ∃ (f_depth' : Int32) (f_outcome' : Int32) (f_result' : Int32) (a_counter' : (Nat → Int32)) (a_raised' : (Nat → Int32)) (a_stopped' : (Nat → Int32)) (a_caught' : (Nat → Int32)) (a_unbegun' : (Nat → Int32)) (a_first' : (Nat → Int32)) (a_last' : (Nat → Int32)) (a_sum' : (Nat → Int64)) (a_often' : (Nat → Int32)) (a_told' : (Nat → Int32)) (a_method' : (Nat → Int32)) (a_pc' : (Nat → Int32)) (a_start' : (Nat → Int32)) (a_here' : (Nat → Int32)) (a_path' : (Nat → Int64)) (a_coming' : (Nat → Int64)) (a_variable' : (Nat → Int32)) (g_depth' : Int32) (g_result' : Int32) (g_outcome' : Int32) (g_over' : Int32) (b_begun' : (Nat → Int32)) (b_taken' : (Nat → Int32)) (b_thrown' : (Nat → Int32)) (b_rowI' : (Nat → Int32)) (b_rowWay' : (Nat → Int32)) (b_rowLength' : (Nat → Int32)) (b_times' : (Nat → Int32)) (b_told' : (Nat → Int32)) (b_method' : (Nat → Int32)) (b_pc' : (Nat → Int32)) (b_variable' : (Nat → Int32)) (b_hereI' : (Nat → Int32)) (b_hereWay' : (Nat → Int32)) (b_hereLength' : (Nat → Int32)) (b_into' : (Nat → Int32)), (ro_ok a_length a_op a_opB a_adds b_kBegun b_kTaken b_kThrown f_depth' f_outcome' f_result' a_counter' a_raised' a_stopped' a_caught' a_unbegun' a_first' a_last' a_sum' a_often' a_told' a_method' a_pc' a_start' a_here' a_path' a_coming' a_variable' g_depth' g_result' g_outcome' g_over' b_begun' b_taken' b_thrown' b_rowI' b_rowWay' b_rowLength' b_times' b_told' b_method' b_pc' b_variable' b_hereI' b_hereWay' b_hereLength' b_into') ent ∧ (∀ post : SX → Prop, post (f_load, f_depth', f_begun, f_outcome', f_result', a_op, a_opA, a_opB, a_opLine, a_length, a_guards, a_handlers, a_kept, a_keptLoad, a_counter', a_raised', a_stopped', a_caught', a_unbegun', a_leads, a_counts, a_adds, a_goes, a_needed, a_known, a_solved, a_open, a_unknown, a_balance, a_group, a_first', a_last', a_sum', a_often', a_told', a_method', a_pc', a_start', a_here', a_path', a_coming', a_variable') → ∀ n, d + 1 < n → (wX_raise_0 post x n f_load (nI (d + 1)) f_begun 0 0 a_op a_opA a_opB a_opLine a_length a_guards a_handlers a_kept a_keptLoad a_counter a_raised a_stopped a_caught a_unbegun a_leads a_counts a_adds a_goes a_needed a_known a_solved a_open a_unknown a_balance a_group a_first a_last a_sum a_often a_told a_method a_pc a_start a_here a_path a_coming a_variable)) ∧ (∀ post : SY → Prop, post (g_depth', g_steps, g_result', g_outcome', g_load, g_over', b_op, b_a, b_b, b_line, b_length, b_from, b_to, b_at, b_handlers, b_begun', b_taken', b_thrown', b_rowI', b_rowWay', b_rowLength', b_times', b_told', b_kOp, b_kA, b_kB, b_kLine, b_kLength, b_kFrom, b_kTo, b_kAt, b_kHandlers, b_kBegun, b_kTaken, b_kThrown, b_kept, b_method', b_pc', b_variable', b_hereI', b_hereWay', b_hereLength', b_into', b_kLoad, b_part) → ∀ n, d + 1 < n → (wY_raise_0 post x n (nI (d + 1)) g_steps 0 0 g_load 0 b_op b_a b_b b_line b_length b_from b_to b_at b_handlers b_begun b_taken b_thrown b_rowI b_rowWay b_rowLength b_times b_told b_kOp b_kA b_kB b_kLine b_kLength b_kFrom b_kTo b_kAt b_kHandlers b_kBegun b_kTaken b_kThrown b_kept b_method b_pc a_variable b_hereI b_hereWay b_hereLength b_into b_kLoad b_part)) := by
  have hn4 : ∀ m, m < 4 → xn a_length m ≤ 24 := fun m hm => (rc_len C (r := m) (by omega)).2.2
  intro d
  induction d with
  | zero =>
    intro hd x m i a_counter a_raised a_stopped a_caught a_unbegun a_first a_last a_sum a_often a_told a_method a_pc a_start a_here a_path a_coming a_variable b_begun b_taken b_thrown b_rowI b_rowWay b_rowLength b_times b_told b_method b_pc b_hereI b_hereWay b_hereLength b_into hS hW hB hF
    obtain ⟨⟨hm, hi, c3, c4, c5, c6⟩, D, p, w, pa, hpD⟩ := hB
    have hn := hn4 m hm
    obtain ⟨l1, l2, _⟩ := rc_len C (r := m) (by omega)
    obtain ⟨H, hH, e1, e2⟩ := (C m (by omega)).2.1
    have i6 : vp_in (nI (0)) 6 := pk_in (0) 6 (by omega)
    have rf : ∀ g : Nat → Int32, g (nI (0)).toNatClampNeg = g (0) := fun g => qa_rr (0) rfl
    have ix : vp_in (24 * nI m + nI i) 408 := pk_in (24 * m + i) 408 (by omega) (qa_24 m i)
    have iy : vp_in (24 * nI m + nI i) 96 := pk_in (24 * m + i) 96 (by omega) (qa_24 m i)
    have er : upd a_raised (24 * nI m + nI i).toNatClampNeg (a_raised (24 * nI m + nI i).toNatClampNeg + 1) = upd a_raised (24 * m + i) (a_raised (24 * m + i) + 1) := by rw [qa_24, nI_clamp (by omega)]
    have et : upd b_thrown (24 * nI m + nI i).toNatClampNeg (b_thrown (24 * nI m + nI i).toNatClampNeg + 1) = upd b_thrown (24 * m + i) (b_thrown (24 * m + i) + 1) := by rw [qa_24, nI_clamp (by omega)]
    have hF2 := eg_raise hn4 (show i < 24 by omega) hF
    obtain ⟨fi, la, su, oft, tx, he, rI, rW, rL, ti, ty, hS', he1, he2, cX, cY⟩ := cl_close (f_load := f_load) (f_depth := (nI (0 + 1))) (f_begun := f_begun) (f_outcome := 0) (f_result := 0) (a_op := a_op) (a_opA := a_opA) (a_opB := a_opB) (a_opLine := a_opLine) (a_length := a_length) (a_guards := a_guards) (a_handlers := a_handlers) (a_kept := a_kept) (a_keptLoad := a_keptLoad) (a_counter := a_counter) (a_raised := (upd a_raised (24 * m + i) (a_raised (24 * m + i) + 1))) (a_stopped := a_stopped) (a_caught := a_caught) (a_unbegun := a_unbegun) (a_leads := a_leads) (a_counts := a_counts) (a_adds := a_adds) (a_goes := a_goes) (a_needed := a_needed) (a_known := a_known) (a_solved := a_solved) (a_open := a_open) (a_unknown := a_unknown) (a_balance := a_balance) (a_group := a_group) (a_first := a_first) (a_last := a_last) (a_sum := a_sum) (a_often := a_often) (a_told := a_told) (a_method := a_method) (a_pc := a_pc) (a_start := a_start) (a_here := a_here) (a_path := a_path) (a_coming := a_coming) (a_variable := a_variable) (g_steps := g_steps) (g_result := 0) (g_outcome := 0) (g_load := g_load) (g_over := 0) (b_op := b_op) (b_a := b_a) (b_b := b_b) (b_line := b_line) (b_length := b_length) (b_from := b_from) (b_to := b_to) (b_at := b_at) (b_handlers := b_handlers) (b_begun := b_begun) (b_taken := b_taken) (b_thrown := (upd b_thrown (24 * m + i) (b_thrown (24 * m + i) + 1))) (b_rowI := b_rowI) (b_rowWay := b_rowWay) (b_rowLength := b_rowLength) (b_times := b_times) (b_told := b_told) (b_kOp := b_kOp) (b_kA := b_kA) (b_kB := b_kB) (b_kLine := b_kLine) (b_kLength := b_kLength) (b_kFrom := b_kFrom) (b_kTo := b_kTo) (b_kAt := b_kAt) (b_kHandlers := b_kHandlers) (b_kBegun := b_kBegun) (b_kTaken := b_kTaken) (b_kThrown := b_kThrown) (b_kept := b_kept) (b_method := b_method) (b_pc := b_pc) (b_variable := a_variable) (b_hereI := b_hereI) (b_hereWay := b_hereWay) (b_hereLength := b_hereLength) (b_into := b_into) (b_kLoad := b_kLoad) (b_part := b_part) (show 0 < 6 by omega) hm (by omega) C P hS c3 c4 (Or.inl ⟨D, p, w, pa⟩)
    have goY : ∀ (post : SY → Prop) (n : Nat), (∃ n54, (wY_raise_54 post (wY_raise_0 post x n) x (nI (0)) (nI m) (nI i) (nI (0 + 1)) g_steps 0 0 g_load 0 b_op b_a b_b b_line b_length b_from b_to b_at b_handlers b_begun b_taken (upd b_thrown (24 * m + i) (b_thrown (24 * m + i) + 1)) rI rW rL ti ty b_kOp b_kA b_kB b_kLine b_kLength b_kFrom b_kTo b_kAt b_kHandlers b_kBegun b_kTaken b_kThrown b_kept b_method b_pc a_variable b_hereI b_hereWay (upd b_hereLength (0) 0) b_into b_kLoad b_part n54 (nI (3 * m)))) → (wY_raise_0 post x (n + 1) (nI (0 + 1)) g_steps 0 0 g_load 0 b_op b_a b_b b_line b_length b_from b_to b_at b_handlers b_begun b_taken b_thrown b_rowI b_rowWay b_rowLength b_times b_told b_kOp b_kA b_kB b_kLine b_kLength b_kFrom b_kTo b_kAt b_kHandlers b_kBegun b_kTaken b_kThrown b_kept b_method b_pc a_variable b_hereI b_hereWay b_hereLength b_into b_kLoad b_part) := by
      intro post n h
      refine br_f (nI_nle (by omega) (by omega)) (nm_r (nI_pred (0)) ⟨i6, nm_r ((rf b_method).trans c4) ⟨i6, nm_r ((rf b_pc).trans c6) ⟨iy, iy, nm_r et ?_⟩⟩⟩)
      refine cY _ ?_
      exact nm_r (qa_m3 m) h
    by_cases hex : ∃ h, h < H ∧ rh_hit b_from b_to m i h
    · obtain ⟨h, ⟨hh, hhit⟩, hmin⟩ := pk_least _ hex
      have hno : ∀ h', h' < h → ¬ rh_hit b_from b_to m i h' := fun h' hh' z => hmin h' hh' ⟨by omega, z⟩
      obtain ⟨c, hc, y3, g3, g1, g2⟩ := rh_x (h := h) hm (show i < 24 by omega) (by omega) C
      have i51 : vp_in (nI (3 * m + h)) 51 := pk_in (3 * m + h) 51 (by omega)
      have i15 : vp_in (nI (3 * m + h)) 15 := pk_in (3 * m + h) 15 (by omega)
      have i17 : vp_in (nI m) 17 := pk_in m 17 (by omega)
      have i5 : vp_in (nI m) 5 := pk_in m 5 (by omega)
      have rg : a_guards (nI (3 * m + h)).toNatClampNeg = a_guards (3 * m + h) := qa_rr _ rfl
      have r1 : b_from (nI (3 * m + h)).toNatClampNeg = b_from (3 * m + h) := qa_rr _ rfl
      have r2 : b_to (nI (3 * m + h)).toNatClampNeg = b_to (3 * m + h) := qa_rr _ rfl
      have r3 : b_at (nI (3 * m + h)).toNatClampNeg = nI c := qa_r _ rfl y3
      have rxl : a_length (nI m).toNatClampNeg = nI (xn a_length m) := qa_r m rfl l1
      have ryl : b_length (nI m).toNatClampNeg = nI (xn a_length m) := qa_r m rfl l2
      have rxh : (3 : Int32) * nI m + a_handlers (nI m).toNatClampNeg = nI (3 * m + H) := by rw [qa_r m rfl e1, qa_3]
      have ryh : (3 : Int32) * nI m + b_handlers (nI m).toNatClampNeg = nI (3 * m + H) := by rw [qa_r m rfl e2, qa_3]
      have iv : vp_in (4 * nI (0)) 24 := pk_in (4 * (0)) 24 (by omega) (qa_m4 _)
      have ev : upd a_variable (4 * nI (0)).toNatClampNeg x = upd a_variable (4 * (0)) x := by rw [qa_m4, nI_clamp (by omega)]
      have fX : ∀ post : Int32 → Prop, post (nI (3 * m + h)) → (wpX_handler post (f_load, (nI (0 + 1)), f_begun, 0, 0, a_op, a_opA, a_opB, a_opLine, a_length, a_guards, a_handlers, a_kept, a_keptLoad, a_counter, (upd a_raised (24 * m + i) (a_raised (24 * m + i) + 1)), a_stopped, a_caught, a_unbegun, a_leads, a_counts, a_adds, a_goes, a_needed, a_known, a_solved, a_open, a_unknown, a_balance, a_group, fi, la, su, oft, tx, a_method, a_pc, a_start, he, a_path, a_coming, a_variable) (nI m) (nI i)) := by
        intro post hp
        refine nm_r (qa_m3 m) (rh_reachX hm (show i < 24 by omega) hH C e1 h (by omega) hno 1 ⟨i17, br_f (by rw [rxh]; exact nI_ge (by omega) (by omega)) ⟨i51, ?_⟩⟩)
        rw [rg]
        exact br_f (g1.mpr hhit.1) ⟨i51, br_f (g2.mpr hhit.2) hp⟩
      have epc : upd b_pc (nI (0)).toNatClampNeg (b_at (nI (3 * m + h)).toNatClampNeg) = upd b_pc (0) (nI c) := by rw [r3, nI_clamp (by omega)]
      have fY : ∀ (post : SY → Prop) (J : Int32 → Int32 → Int32 → Int32 → Int32 → Int32 → (Nat → Int32) → (Nat → Int32) → (Nat → Int32) → (Nat → Int32) → (Nat → Int32) → (Nat → Int32) → (Nat → Int32) → (Nat → Int32) → (Nat → Int32) → (Nat → Int32) → (Nat → Int32) → (Nat → Int32) → (Nat → Int32) → (Nat → Int32) → (Nat → Int32) → (Nat → Int32) → (Nat → Int32) → (Nat → Int32) → (Nat → Int32) → (Nat → Int32) → (Nat → Int32) → (Nat → Int32) → (Nat → Int32) → (Nat → Int32) → (Nat → Int32) → (Nat → Int32) → (Nat → Int32) → (Nat → Int32) → (Nat → Int32) → (Nat → Int32) → (Nat → Int32) → (Nat → Int32) → (Nat → Int32) → (Nat → Int32) → (Nat → Int32) → (Nat → Int32) → (Nat → Int32) → (Nat → Int32) → (Nat → Int32) → Prop), (((nI c) < (nI (xn a_length m)) → (post ((nI (0 + 1)), g_steps, 0, 0, g_load, 0, b_op, b_a, b_b, b_line, b_length, b_from, b_to, b_at, b_handlers, b_begun, b_taken, (upd b_thrown (24 * m + i) (b_thrown (24 * m + i) + 1)), rI, rW, rL, ti, ty, b_kOp, b_kA, b_kB, b_kLine, b_kLength, b_kFrom, b_kTo, b_kAt, b_kHandlers, b_kBegun, b_kTaken, b_kThrown, b_kept, b_method, (upd b_pc (0) (nI c)), (upd a_variable (4 * (0)) x), b_hereI, b_hereWay, (upd b_hereLength (0) 0), b_into, b_kLoad, b_part))) ∧ (¬ (nI c) < (nI (xn a_length m)) → (wpY_end post ((nI (0 + 1)), g_steps, 0, 0, g_load, 0, b_op, b_a, b_b, b_line, b_length, b_from, b_to, b_at, b_handlers, b_begun, b_taken, (upd b_thrown (24 * m + i) (b_thrown (24 * m + i) + 1)), rI, rW, rL, ti, ty, b_kOp, b_kA, b_kB, b_kLine, b_kLength, b_kFrom, b_kTo, b_kAt, b_kHandlers, b_kBegun, b_kTaken, b_kThrown, b_kept, b_method, (upd b_pc (0) (nI c)), (upd a_variable (4 * (0)) x), b_hereI, b_hereWay, (upd b_hereLength (0) 0), b_into, b_kLoad, b_part) 0))) → ∃ n54, (wY_raise_54 post J x (nI (0)) (nI m) (nI i) (nI (0 + 1)) g_steps 0 0 g_load 0 b_op b_a b_b b_line b_length b_from b_to b_at b_handlers b_begun b_taken (upd b_thrown (24 * m + i) (b_thrown (24 * m + i) + 1)) rI rW rL ti ty b_kOp b_kA b_kB b_kLine b_kLength b_kFrom b_kTo b_kAt b_kHandlers b_kBegun b_kTaken b_kThrown b_kept b_method b_pc a_variable b_hereI b_hereWay (upd b_hereLength (0) 0) b_into b_kLoad b_part n54 (nI (3 * m))) := by
        intro post J hp
        refine rh_reachY hm (show i < 24 by omega) hH e2 h (by omega) hno 1 ⟨i5, br_f (by rw [ryh]; exact nI_ge (by omega) (by omega)) ⟨i15, br_f (by rw [r1]; exact hhit.1) ⟨i15, br_t (by rw [r2]; exact hhit.2) ⟨iv, nm_r ev ⟨i15, i6, nm_r epc ⟨i15, i5, ?_⟩⟩⟩⟩⟩⟩
        rw [r3, ryl]
        exact hp
      have n0 : ¬ nI (3 * m + h) < 0 := nI_pos (by omega)
      have ex6 : ((a_guards (nI (3 * m + h)).toNatClampNeg).toUInt32 >>> ((10 : Int32).toUInt32 &&& Int32.toUInt32 31)).toInt32 = nI c := by rw [rg]; exact g3
      by_cases cl : c < xn a_length m
      · -- caught here
        have hF3 := eg_caught (m0 := m) (i0 := c) hn4 (by omega) hF2
        have ic : vp_in (24 * nI m + nI c) 408 := pk_in (24 * m + c) 408 (by omega) (qa_24 m c)
        have ecc : upd a_caught (24 * nI m + nI c).toNatClampNeg (a_caught (24 * nI m + nI c).toNatClampNeg + 1) = upd a_caught (24 * m + c) (a_caught (24 * m + c) + 1) := by rw [qa_24, nI_clamp (by omega)]
        have W' := fr_W_congr (method2 := a_method) (pc2 := upd a_pc (0) (nI c)) (start2 := upd a_start (0) (nI c)) (here2 := upd he (0) (-1)) (path2 := vp_updL a_path (0) 0) (method2' := b_method) (pc2' := upd b_pc (0) (nI c)) (hI2 := b_hereI) (hW2 := b_hereWay) (hL2 := upd b_hereLength (0) 0) hn4 hW (fun f hf => ⟨rfl, pk_un (by omega), pk_un (by omega), (pk_un (by omega)).trans (he2 f (by omega)), pk_uLn (by omega), rfl, pk_un (by omega), pk_un (by omega), fun j hj => ⟨rfl, rfl⟩⟩)
        have en : fr_n a_method (upd a_pc (0) (nI c)) (0) = fr_n a_method a_pc (0) := fr_n_congr (fun f hf => ⟨rfl, pk_un (by omega)⟩)
        refine ⟨(nI (0 + 1)), 0, 0, a_counter, (upd a_raised (24 * m + i) (a_raised (24 * m + i) + 1)), a_stopped, (upd a_caught (24 * m + c) (a_caught (24 * m + c) + 1)), a_unbegun, fi, la, su, oft, tx, a_method, (upd a_pc (0) (nI c)), (upd a_start (0) (nI c)), (upd he (0) (-1)), (vp_updL a_path (0) 0), (vp_updL a_coming (0) 0), (upd a_variable (4 * (0)) x), (nI (0 + 1)), 0, 0, 0, b_begun, b_taken, (upd b_thrown (24 * m + i) (b_thrown (24 * m + i) + 1)), rI, rW, rL, ti, ty, b_method, (upd b_pc (0) (nI c)), (upd a_variable (4 * (0)) x), b_hereI, b_hereWay, (upd b_hereLength (0) 0), b_into, ⟨hS', rfl, Or.inl ⟨0, m, c, by omega, rfl, rfl, rfl, rfl, rfl, rfl, rfl, W', ⟨⟨hm, cl, c3, c4, pk_us, pk_us⟩, Or.inl ⟨pk_us, pk_us, pk_us, pk_uLs, pk_uLs⟩⟩, ?_⟩⟩, fun post hp n hn => ?_, fun post hp n hn => ?_⟩
        · rw [en]
          exact hF3
        · obtain ⟨n', rfl⟩ : ∃ n', n = n' + 1 := ⟨n - 1, by omega⟩
          refine br_f (nI_nle (by omega) (by omega)) (nm_r (nI_pred (0)) ⟨i6, nm_r ((rf a_method).trans c3) ⟨i6, nm_r ((rf a_pc).trans c5) ⟨ix, ix, nm_r er ?_⟩⟩⟩)
          refine cX _ ?_
          refine fX _ ?_
          exact br_f n0 ⟨i51, nm_r ex6 ⟨iv, nm_r ev ⟨i17, br_t (by rw [rxl]; exact nI_lt cl (by omega)) ⟨ic, ic, nm_r ecc ⟨i6, nm_r (e' := upd a_pc (0) (nI c)) (by rw [qa_bb (by omega), nI_clamp (by omega)]) ⟨i6, nm_r (e' := upd a_start (0) (nI c)) (by rw [qa_bb (by omega), nI_clamp (by omega)]) ⟨i6, nm_r (e' := upd he (0) (-1)) (by rw [qa_bm, nI_clamp (by omega)]) ⟨i6, nm_r (e' := vp_updL a_path (0) 0) (by rw [nI_clamp (by omega)]) ⟨i6, nm_r (e' := vp_updL a_coming (0) 0) (by rw [nI_clamp (by omega)]) hp⟩⟩⟩⟩⟩⟩⟩⟩⟩
        · obtain ⟨n', rfl⟩ : ∃ n', n = n' + 1 := ⟨n - 1, by omega⟩
          exact goY post n' (fY post _ (br_t (nI_lt cl (by omega)) hp))
      · -- the handler lies outside: the invocation ends
        have W' := fr_W_congr (method2 := a_method) (pc2 := a_pc) (start2 := a_start) (here2 := he) (path2 := a_path) (method2' := b_method) (pc2' := upd b_pc (0) (nI c)) (hI2 := b_hereI) (hW2 := b_hereWay) (hL2 := upd b_hereLength (0) 0) hn4 hW (fun f hf => ⟨rfl, rfl, rfl, he2 f (by omega), rfl, rfl, pk_un (by omega), pk_un (by omega), fun j hj => ⟨rfl, rfl⟩⟩)
        obtain ⟨f_depth', f_outcome', f_result', a_counter', a_raised', a_stopped', a_caught', a_unbegun', a_first', a_last', a_sum', a_often', a_told', a_method', a_pc', a_start', a_here', a_path', a_coming', a_variable', g_depth', g_result', g_outcome', g_over', b_begun', b_taken', b_thrown', b_rowI', b_rowWay', b_rowLength', b_times', b_told', b_method', b_pc', b_variable', b_hereI', b_hereWay', b_hereLength', b_into', R, hX, hY⟩ := rl_leave C P (0) (by omega) 0 a_counter (upd a_raised (24 * m + i) (a_raised (24 * m + i) + 1)) a_stopped a_caught a_unbegun fi la su oft tx a_method a_pc a_start he a_path a_coming (upd a_variable (4 * (0)) x) b_begun b_taken (upd b_thrown (24 * m + i) (b_thrown (24 * m + i) + 1)) rI rW rL ti ty b_method (upd b_pc (0) (nI c)) b_hereI b_hereWay (upd b_hereLength (0) 0) b_into hS' W' hF2
        refine ⟨f_depth', f_outcome', f_result', a_counter', a_raised', a_stopped', a_caught', a_unbegun', a_first', a_last', a_sum', a_often', a_told', a_method', a_pc', a_start', a_here', a_path', a_coming', a_variable', g_depth', g_result', g_outcome', g_over', b_begun', b_taken', b_thrown', b_rowI', b_rowWay', b_rowLength', b_times', b_told', b_method', b_pc', b_variable', b_hereI', b_hereWay', b_hereLength', b_into', R, fun post hp n hn => ?_, fun post hp n hn => ?_⟩
        · obtain ⟨n', rfl⟩ : ∃ n', n = n' + 1 := ⟨n - 1, by omega⟩
          refine br_f (nI_nle (by omega) (by omega)) (nm_r (nI_pred (0)) ⟨i6, nm_r ((rf a_method).trans c3) ⟨i6, nm_r ((rf a_pc).trans c5) ⟨ix, ix, nm_r er ?_⟩⟩⟩)
          refine cX _ ?_
          refine fX _ ?_
          exact br_f n0 ⟨i51, nm_r ex6 ⟨iv, nm_r ev ⟨i17, br_f (by rw [rxl]; exact nI_nlt (by omega) (by omega)) (nm_r (nI_pred (0)) ⟨0 + 1, hX post hp _ (by omega)⟩)⟩⟩⟩
        · obtain ⟨n', rfl⟩ : ∃ n', n = n' + 1 := ⟨n - 1, by omega⟩
          exact goY post n' (fY post _ (br_f (nI_nlt (by omega) (by omega)) ⟨0 + 2, hY post hp _ (by omega)⟩))
    · have hno : ∀ h', h' < H → ¬ rh_hit b_from b_to m i h' := fun h' hh' z => hex ⟨h', hh', z⟩
      have i17 : vp_in (nI m) 17 := pk_in m 17 (by omega)
      have i5 : vp_in (nI m) 5 := pk_in m 5 (by omega)
      have rxh : (3 : Int32) * nI m + a_handlers (nI m).toNatClampNeg = nI (3 * m + H) := by rw [qa_r m rfl e1, qa_3]
      have ryh : (3 : Int32) * nI m + b_handlers (nI m).toNatClampNeg = nI (3 * m + H) := by rw [qa_r m rfl e2, qa_3]
      have fX : ∀ post : Int32 → Prop, post (-1) → (wpX_handler post (f_load, (nI (0 + 1)), f_begun, 0, 0, a_op, a_opA, a_opB, a_opLine, a_length, a_guards, a_handlers, a_kept, a_keptLoad, a_counter, (upd a_raised (24 * m + i) (a_raised (24 * m + i) + 1)), a_stopped, a_caught, a_unbegun, a_leads, a_counts, a_adds, a_goes, a_needed, a_known, a_solved, a_open, a_unknown, a_balance, a_group, fi, la, su, oft, tx, a_method, a_pc, a_start, he, a_path, a_coming, a_variable) (nI m) (nI i)) := by
        intro post hp
        exact nm_r (qa_m3 m) (rh_reachX hm (show i < 24 by omega) hH C e1 H (Nat.le_refl _) hno 1 ⟨i17, br_t (by rw [rxh]; exact nI_le (Nat.le_refl _) (by omega)) hp⟩)
      have fY : ∀ (post : SY → Prop) (J : Int32 → Int32 → Int32 → Int32 → Int32 → Int32 → (Nat → Int32) → (Nat → Int32) → (Nat → Int32) → (Nat → Int32) → (Nat → Int32) → (Nat → Int32) → (Nat → Int32) → (Nat → Int32) → (Nat → Int32) → (Nat → Int32) → (Nat → Int32) → (Nat → Int32) → (Nat → Int32) → (Nat → Int32) → (Nat → Int32) → (Nat → Int32) → (Nat → Int32) → (Nat → Int32) → (Nat → Int32) → (Nat → Int32) → (Nat → Int32) → (Nat → Int32) → (Nat → Int32) → (Nat → Int32) → (Nat → Int32) → (Nat → Int32) → (Nat → Int32) → (Nat → Int32) → (Nat → Int32) → (Nat → Int32) → (Nat → Int32) → (Nat → Int32) → (Nat → Int32) → (Nat → Int32) → (Nat → Int32) → (Nat → Int32) → (Nat → Int32) → (Nat → Int32) → (Nat → Int32) → Prop), J (nI (0)) g_steps 0 0 g_load 0 b_op b_a b_b b_line b_length b_from b_to b_at b_handlers b_begun b_taken (upd b_thrown (24 * m + i) (b_thrown (24 * m + i) + 1)) rI rW rL ti ty b_kOp b_kA b_kB b_kLine b_kLength b_kFrom b_kTo b_kAt b_kHandlers b_kBegun b_kTaken b_kThrown b_kept b_method b_pc a_variable b_hereI b_hereWay (upd b_hereLength (0) 0) b_into b_kLoad b_part → ∃ n54, (wY_raise_54 post J x (nI (0)) (nI m) (nI i) (nI (0 + 1)) g_steps 0 0 g_load 0 b_op b_a b_b b_line b_length b_from b_to b_at b_handlers b_begun b_taken (upd b_thrown (24 * m + i) (b_thrown (24 * m + i) + 1)) rI rW rL ti ty b_kOp b_kA b_kB b_kLine b_kLength b_kFrom b_kTo b_kAt b_kHandlers b_kBegun b_kTaken b_kThrown b_kept b_method b_pc a_variable b_hereI b_hereWay (upd b_hereLength (0) 0) b_into b_kLoad b_part n54 (nI (3 * m))) := by
        intro post J hp
        exact rh_reachY hm (show i < 24 by omega) hH e2 H (Nat.le_refl _) hno 1 ⟨i5, br_t (by rw [ryh]; exact nI_le (Nat.le_refl _) (by omega)) (nm_r (nI_pred (0)) hp)⟩
      have W' := fr_W_congr (method2 := a_method) (pc2 := a_pc) (start2 := a_start) (here2 := he) (path2 := a_path) (method2' := b_method) (pc2' := b_pc) (hI2 := b_hereI) (hW2 := b_hereWay) (hL2 := upd b_hereLength (0) 0) hn4 hW (fun f hf => ⟨rfl, rfl, rfl, he2 f (by omega), rfl, rfl, rfl, pk_un (by omega), fun j hj => ⟨rfl, rfl⟩⟩)
      refine ⟨(nI 0), 1, x, a_counter, (upd a_raised (24 * m + i) (a_raised (24 * m + i) + 1)), a_stopped, a_caught, a_unbegun, fi, la, su, oft, tx, a_method, a_pc, a_start, he, a_path, a_coming, a_variable, (nI 0), x, 1, 1, b_begun, b_taken, (upd b_thrown (24 * m + i) (b_thrown (24 * m + i) + 1)), rI, rW, rL, ti, ty, b_method, b_pc, a_variable, b_hereI, b_hereWay, (upd b_hereLength (0) 0), b_into, ⟨hS', rfl, Or.inr ⟨rfl, rfl, rfl, rfl, hF2⟩⟩, fun post hp n hn => ?_, fun post hp n hn => ?_⟩
      · obtain ⟨n', rfl⟩ : ∃ n', n = n' + 1 + 1 := ⟨n - 2, by omega⟩
        refine br_f (nI_nle (by omega) (by omega)) (nm_r (nI_pred (0)) ⟨i6, nm_r ((rf a_method).trans c3) ⟨i6, nm_r ((rf a_pc).trans c5) ⟨ix, ix, nm_r er ?_⟩⟩⟩)
        refine cX _ ?_
        refine fX _ ?_
        exact br_t (by decide) (nm_r (nI_pred 0) (br_t (nI_le (b := 0) (Nat.le_refl 0) (by decide)) hp))
      · obtain ⟨n', rfl⟩ : ∃ n', n = n' + 1 + 1 := ⟨n - 2, by omega⟩
        exact goY post (n' + 1) (fY post _ (br_t (nI_le (b := 0) (Nat.le_refl 0) (by decide)) hp))
  | succ d ih =>
    intro hd x m i a_counter a_raised a_stopped a_caught a_unbegun a_first a_last a_sum a_often a_told a_method a_pc a_start a_here a_path a_coming a_variable b_begun b_taken b_thrown b_rowI b_rowWay b_rowLength b_times b_told b_method b_pc b_hereI b_hereWay b_hereLength b_into hS hW hB hF
    obtain ⟨⟨hm, hi, c3, c4, c5, c6⟩, D, p, w, pa, hpD⟩ := hB
    have hn := hn4 m hm
    obtain ⟨l1, l2, _⟩ := rc_len C (r := m) (by omega)
    obtain ⟨H, hH, e1, e2⟩ := (C m (by omega)).2.1
    have i6 : vp_in (nI ((d + 1))) 6 := pk_in ((d + 1)) 6 (by omega)
    have rf : ∀ g : Nat → Int32, g (nI ((d + 1))).toNatClampNeg = g ((d + 1)) := fun g => qa_rr ((d + 1)) rfl
    have ix : vp_in (24 * nI m + nI i) 408 := pk_in (24 * m + i) 408 (by omega) (qa_24 m i)
    have iy : vp_in (24 * nI m + nI i) 96 := pk_in (24 * m + i) 96 (by omega) (qa_24 m i)
    have er : upd a_raised (24 * nI m + nI i).toNatClampNeg (a_raised (24 * nI m + nI i).toNatClampNeg + 1) = upd a_raised (24 * m + i) (a_raised (24 * m + i) + 1) := by rw [qa_24, nI_clamp (by omega)]
    have et : upd b_thrown (24 * nI m + nI i).toNatClampNeg (b_thrown (24 * nI m + nI i).toNatClampNeg + 1) = upd b_thrown (24 * m + i) (b_thrown (24 * m + i) + 1) := by rw [qa_24, nI_clamp (by omega)]
    have hF2 := eg_raise hn4 (show i < 24 by omega) hF
    obtain ⟨fi, la, su, oft, tx, he, rI, rW, rL, ti, ty, hS', he1, he2, cX, cY⟩ := cl_close (f_load := f_load) (f_depth := (nI ((d + 1) + 1))) (f_begun := f_begun) (f_outcome := 0) (f_result := 0) (a_op := a_op) (a_opA := a_opA) (a_opB := a_opB) (a_opLine := a_opLine) (a_length := a_length) (a_guards := a_guards) (a_handlers := a_handlers) (a_kept := a_kept) (a_keptLoad := a_keptLoad) (a_counter := a_counter) (a_raised := (upd a_raised (24 * m + i) (a_raised (24 * m + i) + 1))) (a_stopped := a_stopped) (a_caught := a_caught) (a_unbegun := a_unbegun) (a_leads := a_leads) (a_counts := a_counts) (a_adds := a_adds) (a_goes := a_goes) (a_needed := a_needed) (a_known := a_known) (a_solved := a_solved) (a_open := a_open) (a_unknown := a_unknown) (a_balance := a_balance) (a_group := a_group) (a_first := a_first) (a_last := a_last) (a_sum := a_sum) (a_often := a_often) (a_told := a_told) (a_method := a_method) (a_pc := a_pc) (a_start := a_start) (a_here := a_here) (a_path := a_path) (a_coming := a_coming) (a_variable := a_variable) (g_steps := g_steps) (g_result := 0) (g_outcome := 0) (g_load := g_load) (g_over := 0) (b_op := b_op) (b_a := b_a) (b_b := b_b) (b_line := b_line) (b_length := b_length) (b_from := b_from) (b_to := b_to) (b_at := b_at) (b_handlers := b_handlers) (b_begun := b_begun) (b_taken := b_taken) (b_thrown := (upd b_thrown (24 * m + i) (b_thrown (24 * m + i) + 1))) (b_rowI := b_rowI) (b_rowWay := b_rowWay) (b_rowLength := b_rowLength) (b_times := b_times) (b_told := b_told) (b_kOp := b_kOp) (b_kA := b_kA) (b_kB := b_kB) (b_kLine := b_kLine) (b_kLength := b_kLength) (b_kFrom := b_kFrom) (b_kTo := b_kTo) (b_kAt := b_kAt) (b_kHandlers := b_kHandlers) (b_kBegun := b_kBegun) (b_kTaken := b_kTaken) (b_kThrown := b_kThrown) (b_kept := b_kept) (b_method := b_method) (b_pc := b_pc) (b_variable := a_variable) (b_hereI := b_hereI) (b_hereWay := b_hereWay) (b_hereLength := b_hereLength) (b_into := b_into) (b_kLoad := b_kLoad) (b_part := b_part) (show (d + 1) < 6 by omega) hm (by omega) C P hS c3 c4 (Or.inl ⟨D, p, w, pa⟩)
    have goY : ∀ (post : SY → Prop) (n : Nat), (∃ n54, (wY_raise_54 post (wY_raise_0 post x n) x (nI ((d + 1))) (nI m) (nI i) (nI ((d + 1) + 1)) g_steps 0 0 g_load 0 b_op b_a b_b b_line b_length b_from b_to b_at b_handlers b_begun b_taken (upd b_thrown (24 * m + i) (b_thrown (24 * m + i) + 1)) rI rW rL ti ty b_kOp b_kA b_kB b_kLine b_kLength b_kFrom b_kTo b_kAt b_kHandlers b_kBegun b_kTaken b_kThrown b_kept b_method b_pc a_variable b_hereI b_hereWay (upd b_hereLength ((d + 1)) 0) b_into b_kLoad b_part n54 (nI (3 * m)))) → (wY_raise_0 post x (n + 1) (nI ((d + 1) + 1)) g_steps 0 0 g_load 0 b_op b_a b_b b_line b_length b_from b_to b_at b_handlers b_begun b_taken b_thrown b_rowI b_rowWay b_rowLength b_times b_told b_kOp b_kA b_kB b_kLine b_kLength b_kFrom b_kTo b_kAt b_kHandlers b_kBegun b_kTaken b_kThrown b_kept b_method b_pc a_variable b_hereI b_hereWay b_hereLength b_into b_kLoad b_part) := by
      intro post n h
      refine br_f (nI_nle (by omega) (by omega)) (nm_r (nI_pred ((d + 1))) ⟨i6, nm_r ((rf b_method).trans c4) ⟨i6, nm_r ((rf b_pc).trans c6) ⟨iy, iy, nm_r et ?_⟩⟩⟩)
      refine cY _ ?_
      exact nm_r (qa_m3 m) h
    by_cases hex : ∃ h, h < H ∧ rh_hit b_from b_to m i h
    · obtain ⟨h, ⟨hh, hhit⟩, hmin⟩ := pk_least _ hex
      have hno : ∀ h', h' < h → ¬ rh_hit b_from b_to m i h' := fun h' hh' z => hmin h' hh' ⟨by omega, z⟩
      obtain ⟨c, hc, y3, g3, g1, g2⟩ := rh_x (h := h) hm (show i < 24 by omega) (by omega) C
      have i51 : vp_in (nI (3 * m + h)) 51 := pk_in (3 * m + h) 51 (by omega)
      have i15 : vp_in (nI (3 * m + h)) 15 := pk_in (3 * m + h) 15 (by omega)
      have i17 : vp_in (nI m) 17 := pk_in m 17 (by omega)
      have i5 : vp_in (nI m) 5 := pk_in m 5 (by omega)
      have rg : a_guards (nI (3 * m + h)).toNatClampNeg = a_guards (3 * m + h) := qa_rr _ rfl
      have r1 : b_from (nI (3 * m + h)).toNatClampNeg = b_from (3 * m + h) := qa_rr _ rfl
      have r2 : b_to (nI (3 * m + h)).toNatClampNeg = b_to (3 * m + h) := qa_rr _ rfl
      have r3 : b_at (nI (3 * m + h)).toNatClampNeg = nI c := qa_r _ rfl y3
      have rxl : a_length (nI m).toNatClampNeg = nI (xn a_length m) := qa_r m rfl l1
      have ryl : b_length (nI m).toNatClampNeg = nI (xn a_length m) := qa_r m rfl l2
      have rxh : (3 : Int32) * nI m + a_handlers (nI m).toNatClampNeg = nI (3 * m + H) := by rw [qa_r m rfl e1, qa_3]
      have ryh : (3 : Int32) * nI m + b_handlers (nI m).toNatClampNeg = nI (3 * m + H) := by rw [qa_r m rfl e2, qa_3]
      have iv : vp_in (4 * nI ((d + 1))) 24 := pk_in (4 * ((d + 1))) 24 (by omega) (qa_m4 _)
      have ev : upd a_variable (4 * nI ((d + 1))).toNatClampNeg x = upd a_variable (4 * ((d + 1))) x := by rw [qa_m4, nI_clamp (by omega)]
      have fX : ∀ post : Int32 → Prop, post (nI (3 * m + h)) → (wpX_handler post (f_load, (nI ((d + 1) + 1)), f_begun, 0, 0, a_op, a_opA, a_opB, a_opLine, a_length, a_guards, a_handlers, a_kept, a_keptLoad, a_counter, (upd a_raised (24 * m + i) (a_raised (24 * m + i) + 1)), a_stopped, a_caught, a_unbegun, a_leads, a_counts, a_adds, a_goes, a_needed, a_known, a_solved, a_open, a_unknown, a_balance, a_group, fi, la, su, oft, tx, a_method, a_pc, a_start, he, a_path, a_coming, a_variable) (nI m) (nI i)) := by
        intro post hp
        refine nm_r (qa_m3 m) (rh_reachX hm (show i < 24 by omega) hH C e1 h (by omega) hno 1 ⟨i17, br_f (by rw [rxh]; exact nI_ge (by omega) (by omega)) ⟨i51, ?_⟩⟩)
        rw [rg]
        exact br_f (g1.mpr hhit.1) ⟨i51, br_f (g2.mpr hhit.2) hp⟩
      have epc : upd b_pc (nI ((d + 1))).toNatClampNeg (b_at (nI (3 * m + h)).toNatClampNeg) = upd b_pc ((d + 1)) (nI c) := by rw [r3, nI_clamp (by omega)]
      have fY : ∀ (post : SY → Prop) (J : Int32 → Int32 → Int32 → Int32 → Int32 → Int32 → (Nat → Int32) → (Nat → Int32) → (Nat → Int32) → (Nat → Int32) → (Nat → Int32) → (Nat → Int32) → (Nat → Int32) → (Nat → Int32) → (Nat → Int32) → (Nat → Int32) → (Nat → Int32) → (Nat → Int32) → (Nat → Int32) → (Nat → Int32) → (Nat → Int32) → (Nat → Int32) → (Nat → Int32) → (Nat → Int32) → (Nat → Int32) → (Nat → Int32) → (Nat → Int32) → (Nat → Int32) → (Nat → Int32) → (Nat → Int32) → (Nat → Int32) → (Nat → Int32) → (Nat → Int32) → (Nat → Int32) → (Nat → Int32) → (Nat → Int32) → (Nat → Int32) → (Nat → Int32) → (Nat → Int32) → (Nat → Int32) → (Nat → Int32) → (Nat → Int32) → (Nat → Int32) → (Nat → Int32) → (Nat → Int32) → Prop), (((nI c) < (nI (xn a_length m)) → (post ((nI ((d + 1) + 1)), g_steps, 0, 0, g_load, 0, b_op, b_a, b_b, b_line, b_length, b_from, b_to, b_at, b_handlers, b_begun, b_taken, (upd b_thrown (24 * m + i) (b_thrown (24 * m + i) + 1)), rI, rW, rL, ti, ty, b_kOp, b_kA, b_kB, b_kLine, b_kLength, b_kFrom, b_kTo, b_kAt, b_kHandlers, b_kBegun, b_kTaken, b_kThrown, b_kept, b_method, (upd b_pc ((d + 1)) (nI c)), (upd a_variable (4 * ((d + 1))) x), b_hereI, b_hereWay, (upd b_hereLength ((d + 1)) 0), b_into, b_kLoad, b_part))) ∧ (¬ (nI c) < (nI (xn a_length m)) → (wpY_end post ((nI ((d + 1) + 1)), g_steps, 0, 0, g_load, 0, b_op, b_a, b_b, b_line, b_length, b_from, b_to, b_at, b_handlers, b_begun, b_taken, (upd b_thrown (24 * m + i) (b_thrown (24 * m + i) + 1)), rI, rW, rL, ti, ty, b_kOp, b_kA, b_kB, b_kLine, b_kLength, b_kFrom, b_kTo, b_kAt, b_kHandlers, b_kBegun, b_kTaken, b_kThrown, b_kept, b_method, (upd b_pc ((d + 1)) (nI c)), (upd a_variable (4 * ((d + 1))) x), b_hereI, b_hereWay, (upd b_hereLength ((d + 1)) 0), b_into, b_kLoad, b_part) 0))) → ∃ n54, (wY_raise_54 post J x (nI ((d + 1))) (nI m) (nI i) (nI ((d + 1) + 1)) g_steps 0 0 g_load 0 b_op b_a b_b b_line b_length b_from b_to b_at b_handlers b_begun b_taken (upd b_thrown (24 * m + i) (b_thrown (24 * m + i) + 1)) rI rW rL ti ty b_kOp b_kA b_kB b_kLine b_kLength b_kFrom b_kTo b_kAt b_kHandlers b_kBegun b_kTaken b_kThrown b_kept b_method b_pc a_variable b_hereI b_hereWay (upd b_hereLength ((d + 1)) 0) b_into b_kLoad b_part n54 (nI (3 * m))) := by
        intro post J hp
        refine rh_reachY hm (show i < 24 by omega) hH e2 h (by omega) hno 1 ⟨i5, br_f (by rw [ryh]; exact nI_ge (by omega) (by omega)) ⟨i15, br_f (by rw [r1]; exact hhit.1) ⟨i15, br_t (by rw [r2]; exact hhit.2) ⟨iv, nm_r ev ⟨i15, i6, nm_r epc ⟨i15, i5, ?_⟩⟩⟩⟩⟩⟩
        rw [r3, ryl]
        exact hp
      have n0 : ¬ nI (3 * m + h) < 0 := nI_pos (by omega)
      have ex6 : ((a_guards (nI (3 * m + h)).toNatClampNeg).toUInt32 >>> ((10 : Int32).toUInt32 &&& Int32.toUInt32 31)).toInt32 = nI c := by rw [rg]; exact g3
      by_cases cl : c < xn a_length m
      · -- caught here
        have hF3 := eg_caught (m0 := m) (i0 := c) hn4 (by omega) hF2
        have ic : vp_in (24 * nI m + nI c) 408 := pk_in (24 * m + c) 408 (by omega) (qa_24 m c)
        have ecc : upd a_caught (24 * nI m + nI c).toNatClampNeg (a_caught (24 * nI m + nI c).toNatClampNeg + 1) = upd a_caught (24 * m + c) (a_caught (24 * m + c) + 1) := by rw [qa_24, nI_clamp (by omega)]
        have W' := fr_W_congr (method2 := a_method) (pc2 := upd a_pc ((d + 1)) (nI c)) (start2 := upd a_start ((d + 1)) (nI c)) (here2 := upd he ((d + 1)) (-1)) (path2 := vp_updL a_path ((d + 1)) 0) (method2' := b_method) (pc2' := upd b_pc ((d + 1)) (nI c)) (hI2 := b_hereI) (hW2 := b_hereWay) (hL2 := upd b_hereLength ((d + 1)) 0) hn4 hW (fun f hf => ⟨rfl, pk_un (by omega), pk_un (by omega), (pk_un (by omega)).trans (he2 f (by omega)), pk_uLn (by omega), rfl, pk_un (by omega), pk_un (by omega), fun j hj => ⟨rfl, rfl⟩⟩)
        have en : fr_n a_method (upd a_pc ((d + 1)) (nI c)) ((d + 1)) = fr_n a_method a_pc ((d + 1)) := fr_n_congr (fun f hf => ⟨rfl, pk_un (by omega)⟩)
        refine ⟨(nI ((d + 1) + 1)), 0, 0, a_counter, (upd a_raised (24 * m + i) (a_raised (24 * m + i) + 1)), a_stopped, (upd a_caught (24 * m + c) (a_caught (24 * m + c) + 1)), a_unbegun, fi, la, su, oft, tx, a_method, (upd a_pc ((d + 1)) (nI c)), (upd a_start ((d + 1)) (nI c)), (upd he ((d + 1)) (-1)), (vp_updL a_path ((d + 1)) 0), (vp_updL a_coming ((d + 1)) 0), (upd a_variable (4 * ((d + 1))) x), (nI ((d + 1) + 1)), 0, 0, 0, b_begun, b_taken, (upd b_thrown (24 * m + i) (b_thrown (24 * m + i) + 1)), rI, rW, rL, ti, ty, b_method, (upd b_pc ((d + 1)) (nI c)), (upd a_variable (4 * ((d + 1))) x), b_hereI, b_hereWay, (upd b_hereLength ((d + 1)) 0), b_into, ⟨hS', rfl, Or.inl ⟨(d + 1), m, c, by omega, rfl, rfl, rfl, rfl, rfl, rfl, rfl, W', ⟨⟨hm, cl, c3, c4, pk_us, pk_us⟩, Or.inl ⟨pk_us, pk_us, pk_us, pk_uLs, pk_uLs⟩⟩, ?_⟩⟩, fun post hp n hn => ?_, fun post hp n hn => ?_⟩
        · rw [en]
          exact hF3
        · obtain ⟨n', rfl⟩ : ∃ n', n = n' + 1 := ⟨n - 1, by omega⟩
          refine br_f (nI_nle (by omega) (by omega)) (nm_r (nI_pred ((d + 1))) ⟨i6, nm_r ((rf a_method).trans c3) ⟨i6, nm_r ((rf a_pc).trans c5) ⟨ix, ix, nm_r er ?_⟩⟩⟩)
          refine cX _ ?_
          refine fX _ ?_
          exact br_f n0 ⟨i51, nm_r ex6 ⟨iv, nm_r ev ⟨i17, br_t (by rw [rxl]; exact nI_lt cl (by omega)) ⟨ic, ic, nm_r ecc ⟨i6, nm_r (e' := upd a_pc ((d + 1)) (nI c)) (by rw [qa_bb (by omega), nI_clamp (by omega)]) ⟨i6, nm_r (e' := upd a_start ((d + 1)) (nI c)) (by rw [qa_bb (by omega), nI_clamp (by omega)]) ⟨i6, nm_r (e' := upd he ((d + 1)) (-1)) (by rw [qa_bm, nI_clamp (by omega)]) ⟨i6, nm_r (e' := vp_updL a_path ((d + 1)) 0) (by rw [nI_clamp (by omega)]) ⟨i6, nm_r (e' := vp_updL a_coming ((d + 1)) 0) (by rw [nI_clamp (by omega)]) hp⟩⟩⟩⟩⟩⟩⟩⟩⟩
        · obtain ⟨n', rfl⟩ : ∃ n', n = n' + 1 := ⟨n - 1, by omega⟩
          exact goY post n' (fY post _ (br_t (nI_lt cl (by omega)) hp))
      · -- the handler lies outside: the invocation ends
        have W' := fr_W_congr (method2 := a_method) (pc2 := a_pc) (start2 := a_start) (here2 := he) (path2 := a_path) (method2' := b_method) (pc2' := upd b_pc ((d + 1)) (nI c)) (hI2 := b_hereI) (hW2 := b_hereWay) (hL2 := upd b_hereLength ((d + 1)) 0) hn4 hW (fun f hf => ⟨rfl, rfl, rfl, he2 f (by omega), rfl, rfl, pk_un (by omega), pk_un (by omega), fun j hj => ⟨rfl, rfl⟩⟩)
        obtain ⟨f_depth', f_outcome', f_result', a_counter', a_raised', a_stopped', a_caught', a_unbegun', a_first', a_last', a_sum', a_often', a_told', a_method', a_pc', a_start', a_here', a_path', a_coming', a_variable', g_depth', g_result', g_outcome', g_over', b_begun', b_taken', b_thrown', b_rowI', b_rowWay', b_rowLength', b_times', b_told', b_method', b_pc', b_variable', b_hereI', b_hereWay', b_hereLength', b_into', R, hX, hY⟩ := rl_leave C P ((d + 1)) (by omega) 0 a_counter (upd a_raised (24 * m + i) (a_raised (24 * m + i) + 1)) a_stopped a_caught a_unbegun fi la su oft tx a_method a_pc a_start he a_path a_coming (upd a_variable (4 * ((d + 1))) x) b_begun b_taken (upd b_thrown (24 * m + i) (b_thrown (24 * m + i) + 1)) rI rW rL ti ty b_method (upd b_pc ((d + 1)) (nI c)) b_hereI b_hereWay (upd b_hereLength ((d + 1)) 0) b_into hS' W' hF2
        refine ⟨f_depth', f_outcome', f_result', a_counter', a_raised', a_stopped', a_caught', a_unbegun', a_first', a_last', a_sum', a_often', a_told', a_method', a_pc', a_start', a_here', a_path', a_coming', a_variable', g_depth', g_result', g_outcome', g_over', b_begun', b_taken', b_thrown', b_rowI', b_rowWay', b_rowLength', b_times', b_told', b_method', b_pc', b_variable', b_hereI', b_hereWay', b_hereLength', b_into', R, fun post hp n hn => ?_, fun post hp n hn => ?_⟩
        · obtain ⟨n', rfl⟩ : ∃ n', n = n' + 1 := ⟨n - 1, by omega⟩
          refine br_f (nI_nle (by omega) (by omega)) (nm_r (nI_pred ((d + 1))) ⟨i6, nm_r ((rf a_method).trans c3) ⟨i6, nm_r ((rf a_pc).trans c5) ⟨ix, ix, nm_r er ?_⟩⟩⟩)
          refine cX _ ?_
          refine fX _ ?_
          exact br_f n0 ⟨i51, nm_r ex6 ⟨iv, nm_r ev ⟨i17, br_f (by rw [rxl]; exact nI_nlt (by omega) (by omega)) (nm_r (nI_pred ((d + 1))) ⟨(d + 1) + 1, hX post hp _ (by omega)⟩)⟩⟩⟩
        · obtain ⟨n', rfl⟩ : ∃ n', n = n' + 1 := ⟨n - 1, by omega⟩
          exact goY post n' (fY post _ (br_f (nI_nlt (by omega) (by omega)) ⟨(d + 1) + 2, hY post hp _ (by omega)⟩))
    · have hno : ∀ h', h' < H → ¬ rh_hit b_from b_to m i h' := fun h' hh' z => hex ⟨h', hh', z⟩
      have i17 : vp_in (nI m) 17 := pk_in m 17 (by omega)
      have i5 : vp_in (nI m) 5 := pk_in m 5 (by omega)
      have rxh : (3 : Int32) * nI m + a_handlers (nI m).toNatClampNeg = nI (3 * m + H) := by rw [qa_r m rfl e1, qa_3]
      have ryh : (3 : Int32) * nI m + b_handlers (nI m).toNatClampNeg = nI (3 * m + H) := by rw [qa_r m rfl e2, qa_3]
      have fX : ∀ post : Int32 → Prop, post (-1) → (wpX_handler post (f_load, (nI ((d + 1) + 1)), f_begun, 0, 0, a_op, a_opA, a_opB, a_opLine, a_length, a_guards, a_handlers, a_kept, a_keptLoad, a_counter, (upd a_raised (24 * m + i) (a_raised (24 * m + i) + 1)), a_stopped, a_caught, a_unbegun, a_leads, a_counts, a_adds, a_goes, a_needed, a_known, a_solved, a_open, a_unknown, a_balance, a_group, fi, la, su, oft, tx, a_method, a_pc, a_start, he, a_path, a_coming, a_variable) (nI m) (nI i)) := by
        intro post hp
        exact nm_r (qa_m3 m) (rh_reachX hm (show i < 24 by omega) hH C e1 H (Nat.le_refl _) hno 1 ⟨i17, br_t (by rw [rxh]; exact nI_le (Nat.le_refl _) (by omega)) hp⟩)
      have fY : ∀ (post : SY → Prop) (J : Int32 → Int32 → Int32 → Int32 → Int32 → Int32 → (Nat → Int32) → (Nat → Int32) → (Nat → Int32) → (Nat → Int32) → (Nat → Int32) → (Nat → Int32) → (Nat → Int32) → (Nat → Int32) → (Nat → Int32) → (Nat → Int32) → (Nat → Int32) → (Nat → Int32) → (Nat → Int32) → (Nat → Int32) → (Nat → Int32) → (Nat → Int32) → (Nat → Int32) → (Nat → Int32) → (Nat → Int32) → (Nat → Int32) → (Nat → Int32) → (Nat → Int32) → (Nat → Int32) → (Nat → Int32) → (Nat → Int32) → (Nat → Int32) → (Nat → Int32) → (Nat → Int32) → (Nat → Int32) → (Nat → Int32) → (Nat → Int32) → (Nat → Int32) → (Nat → Int32) → (Nat → Int32) → (Nat → Int32) → (Nat → Int32) → (Nat → Int32) → (Nat → Int32) → (Nat → Int32) → Prop), J (nI ((d + 1))) g_steps 0 0 g_load 0 b_op b_a b_b b_line b_length b_from b_to b_at b_handlers b_begun b_taken (upd b_thrown (24 * m + i) (b_thrown (24 * m + i) + 1)) rI rW rL ti ty b_kOp b_kA b_kB b_kLine b_kLength b_kFrom b_kTo b_kAt b_kHandlers b_kBegun b_kTaken b_kThrown b_kept b_method b_pc a_variable b_hereI b_hereWay (upd b_hereLength ((d + 1)) 0) b_into b_kLoad b_part → ∃ n54, (wY_raise_54 post J x (nI ((d + 1))) (nI m) (nI i) (nI ((d + 1) + 1)) g_steps 0 0 g_load 0 b_op b_a b_b b_line b_length b_from b_to b_at b_handlers b_begun b_taken (upd b_thrown (24 * m + i) (b_thrown (24 * m + i) + 1)) rI rW rL ti ty b_kOp b_kA b_kB b_kLine b_kLength b_kFrom b_kTo b_kAt b_kHandlers b_kBegun b_kTaken b_kThrown b_kept b_method b_pc a_variable b_hereI b_hereWay (upd b_hereLength ((d + 1)) 0) b_into b_kLoad b_part n54 (nI (3 * m))) := by
        intro post J hp
        exact rh_reachY hm (show i < 24 by omega) hH e2 H (Nat.le_refl _) hno 1 ⟨i5, br_t (by rw [ryh]; exact nI_le (Nat.le_refl _) (by omega)) (nm_r (nI_pred ((d + 1))) hp)⟩
      have W' := fr_W_congr (method2 := a_method) (pc2 := a_pc) (start2 := a_start) (here2 := he) (path2 := a_path) (method2' := b_method) (pc2' := b_pc) (hI2 := b_hereI) (hW2 := b_hereWay) (hL2 := upd b_hereLength ((d + 1)) 0) hn4 hW (fun f hf => ⟨rfl, rfl, rfl, he2 f (by omega), rfl, rfl, rfl, pk_un (by omega), fun j hj => ⟨rfl, rfl⟩⟩)
      obtain ⟨m1, i1, hB1, ho1⟩ := W' d (by omega)
      have hF4 : (rg_flow a_length a_op a_opB (upd a_raised (24 * m + i) (a_raised (24 * m + i) + 1)) a_stopped a_caught a_unbegun a_counter b_begun b_taken (upd b_thrown (24 * m + i) (b_thrown (24 * m + i) + 1)) b_kBegun b_kTaken b_kThrown) ent (fun m' p => fr_n a_method a_pc d m' p + rn_y m1 i1 m' p) (fun _ _ => 0) := eg_fc hF2 (fun m' p' hm' hp' => ⟨(fr_n_succ hB1.1.2.2.1 hB1.1.2.2.2.2.1 hB1.1.1 (Nat.lt_of_lt_of_le hB1.1.2.1 (hn4 m1 hB1.1.1)) hm' (Nat.lt_of_lt_of_le hp' (hn4 m' hm'))).symm, rfl⟩)
      obtain ⟨f_depth', f_outcome', f_result', a_counter', a_raised', a_stopped', a_caught', a_unbegun', a_first', a_last', a_sum', a_often', a_told', a_method', a_pc', a_start', a_here', a_path', a_coming', a_variable', g_depth', g_result', g_outcome', g_over', b_begun', b_taken', b_thrown', b_rowI', b_rowWay', b_rowLength', b_times', b_told', b_method', b_pc', b_variable', b_hereI', b_hereWay', b_hereLength', b_into', R, hX, hY⟩ := ih (by omega) x m1 i1 a_counter (upd a_raised (24 * m + i) (a_raised (24 * m + i) + 1)) a_stopped a_caught a_unbegun fi la su oft tx a_method a_pc a_start he a_path a_coming a_variable b_begun b_taken (upd b_thrown (24 * m + i) (b_thrown (24 * m + i) + 1)) rI rW rL ti ty b_method b_pc b_hereI b_hereWay (upd b_hereLength ((d + 1)) 0) b_into hS' (fr_W_le W' (show d ≤ d + 1 by omega)) hB1 hF4
      refine ⟨f_depth', f_outcome', f_result', a_counter', a_raised', a_stopped', a_caught', a_unbegun', a_first', a_last', a_sum', a_often', a_told', a_method', a_pc', a_start', a_here', a_path', a_coming', a_variable', g_depth', g_result', g_outcome', g_over', b_begun', b_taken', b_thrown', b_rowI', b_rowWay', b_rowLength', b_times', b_told', b_method', b_pc', b_variable', b_hereI', b_hereWay', b_hereLength', b_into', R, fun post hp n hn => ?_, fun post hp n hn => ?_⟩
      · obtain ⟨n', rfl⟩ : ∃ n', n = n' + 1 := ⟨n - 1, by omega⟩
        refine br_f (nI_nle (by omega) (by omega)) (nm_r (nI_pred ((d + 1))) ⟨i6, nm_r ((rf a_method).trans c3) ⟨i6, nm_r ((rf a_pc).trans c5) ⟨ix, ix, nm_r er ?_⟩⟩⟩)
        refine cX _ ?_
        refine fX _ ?_
        exact br_t (by decide) (nm_r (nI_pred (d + 1)) (hX post hp n' (by omega)))
      · obtain ⟨n', rfl⟩ : ∃ n', n = n' + 1 := ⟨n - 1, by omega⟩
        exact goY post n' (fY post _ (hY post hp n' (by omega)))
end
end
section
/-! a run: a way is taken -/
section
variable {f_load : Int32} {f_depth : Int32} {f_begun : Int32} {f_outcome : Int32} {f_result : Int32} {a_op : (Nat → Int32)} {a_opA : (Nat → Int32)} {a_opB : (Nat → Int32)} {a_opLine : (Nat → Int32)} {a_length : (Nat → Int32)} {a_guards : (Nat → Int32)} {a_handlers : (Nat → Int32)} {a_kept : (Nat → Int32)} {a_keptLoad : (Nat → Int32)} {a_counter : (Nat → Int32)} {a_raised : (Nat → Int32)} {a_stopped : (Nat → Int32)} {a_caught : (Nat → Int32)} {a_unbegun : (Nat → Int32)} {a_leads : (Nat → Int32)} {a_counts : (Nat → Int32)} {a_adds : (Nat → Int64)} {a_goes : (Nat → Int64)} {a_needed : (Nat → Int32)} {a_known : (Nat → Int32)} {a_solved : (Nat → Int32)} {a_open : (Nat → Int32)} {a_unknown : (Nat → Int32)} {a_balance : (Nat → Int32)} {a_group : (Nat → Int32)} {a_first : (Nat → Int32)} {a_last : (Nat → Int32)} {a_sum : (Nat → Int64)} {a_often : (Nat → Int32)} {a_told : (Nat → Int32)} {a_method : (Nat → Int32)} {a_pc : (Nat → Int32)} {a_start : (Nat → Int32)} {a_here : (Nat → Int32)} {a_path : (Nat → Int64)} {a_coming : (Nat → Int64)} {a_variable : (Nat → Int32)} {g_depth : Int32} {g_steps : Int32} {g_result : Int32} {g_outcome : Int32} {g_load : Int32} {g_over : Int32} {b_op : (Nat → Int32)} {b_a : (Nat → Int32)} {b_b : (Nat → Int32)} {b_line : (Nat → Int32)} {b_length : (Nat → Int32)} {b_from : (Nat → Int32)} {b_to : (Nat → Int32)} {b_at : (Nat → Int32)} {b_handlers : (Nat → Int32)} {b_begun : (Nat → Int32)} {b_taken : (Nat → Int32)} {b_thrown : (Nat → Int32)} {b_rowI : (Nat → Int32)} {b_rowWay : (Nat → Int32)} {b_rowLength : (Nat → Int32)} {b_times : (Nat → Int32)} {b_told : (Nat → Int32)} {b_kOp : (Nat → Int32)} {b_kA : (Nat → Int32)} {b_kB : (Nat → Int32)} {b_kLine : (Nat → Int32)} {b_kLength : (Nat → Int32)} {b_kFrom : (Nat → Int32)} {b_kTo : (Nat → Int32)} {b_kAt : (Nat → Int32)} {b_kHandlers : (Nat → Int32)} {b_kBegun : (Nat → Int32)} {b_kTaken : (Nat → Int32)} {b_kThrown : (Nat → Int32)} {b_kept : (Nat → Int32)} {b_method : (Nat → Int32)} {b_pc : (Nat → Int32)} {b_variable : (Nat → Int32)} {b_hereI : (Nat → Int32)} {b_hereWay : (Nat → Int32)} {b_hereLength : (Nat → Int32)} {b_into : (Nat → Int32)} {b_kLoad : (Nat → Int32)} {b_part : (Nat → Int32)}
theorem rl_go {ent : Nat → Int32} {d m i k : Nat} (hd : d < 6) (C : (rc_code a_op a_opA a_opB a_opLine a_guards a_length a_handlers b_op b_a b_b b_line b_from b_to b_at b_length b_handlers)) (P : (rc_plan a_length a_op a_opB a_leads a_counts a_adds a_needed)) (hk : k < pw_ways (a_op (24 * m + i))) (hS : (rc_str a_length a_op a_opB a_adds a_first a_last a_sum a_often a_told b_rowI b_rowWay b_rowLength b_times b_told)) (hW : (fr_W a_length a_op a_opB a_adds a_method a_pc a_start a_here a_path b_method b_pc b_hereI b_hereWay b_hereLength) d) (hB : (fr_B a_length a_op a_opB a_adds a_method a_pc a_start a_here a_path b_method b_pc b_hereI b_hereWay b_hereLength) d m i) (hF : (rg_flow a_length a_op a_opB a_raised a_stopped a_caught a_unbegun a_counter b_begun b_taken b_thrown b_kBegun b_kTaken b_kThrown) ent (fun m' p => fr_n a_method a_pc d m' p + rn_y m i m' p) (fun _ _ => 0)) :
    ∃ (f_depth' : Int32) (f_outcome' : Int32) (f_result' : Int32) (a_counter' : (Nat → Int32)) (a_raised' : (Nat → Int32)) (a_stopped' : (Nat → Int32)) (a_caught' : (Nat → Int32)) (a_unbegun' : (Nat → Int32)) (a_first' : (Nat → Int32)) (a_last' : (Nat → Int32)) (a_sum' : (Nat → Int64)) (a_often' : (Nat → Int32)) (a_told' : (Nat → Int32)) (a_method' : (Nat → Int32)) (a_pc' : (Nat → Int32)) (a_start' : (Nat → Int32)) (a_here' : (Nat → Int32)) (a_path' : (Nat → Int64)) (a_coming' : (Nat → Int64)) (a_variable' : (Nat → Int32)) (g_depth' : Int32) (g_result' : Int32) (g_outcome' : Int32) (g_over' : Int32) (b_begun' : (Nat → Int32)) (b_taken' : (Nat → Int32)) (b_thrown' : (Nat → Int32)) (b_rowI' : (Nat → Int32)) (b_rowWay' : (Nat → Int32)) (b_rowLength' : (Nat → Int32)) (b_times' : (Nat → Int32)) (b_told' : (Nat → Int32)) (b_method' : (Nat → Int32)) (b_pc' : (Nat → Int32)) (b_variable' : (Nat → Int32)) (b_hereI' : (Nat → Int32)) (b_hereWay' : (Nat → Int32)) (b_hereLength' : (Nat → Int32)) (b_into' : (Nat → Int32)), (ro_ok a_length a_op a_opB a_adds b_kBegun b_kTaken b_kThrown f_depth' f_outcome' f_result' a_counter' a_raised' a_stopped' a_caught' a_unbegun' a_first' a_last' a_sum' a_often' a_told' a_method' a_pc' a_start' a_here' a_path' a_coming' a_variable' g_depth' g_result' g_outcome' g_over' b_begun' b_taken' b_thrown' b_rowI' b_rowWay' b_rowLength' b_times' b_told' b_method' b_pc' b_variable' b_hereI' b_hereWay' b_hereLength' b_into') ent ∧ (∀ post : SX → Prop, post (f_load, f_depth', f_begun, f_outcome', f_result', a_op, a_opA, a_opB, a_opLine, a_length, a_guards, a_handlers, a_kept, a_keptLoad, a_counter', a_raised', a_stopped', a_caught', a_unbegun', a_leads, a_counts, a_adds, a_goes, a_needed, a_known, a_solved, a_open, a_unknown, a_balance, a_group, a_first', a_last', a_sum', a_often', a_told', a_method', a_pc', a_start', a_here', a_path', a_coming', a_variable') → (wpX_go post (f_load, (nI (d + 1)), f_begun, 0, 0, a_op, a_opA, a_opB, a_opLine, a_length, a_guards, a_handlers, a_kept, a_keptLoad, a_counter, a_raised, a_stopped, a_caught, a_unbegun, a_leads, a_counts, a_adds, a_goes, a_needed, a_known, a_solved, a_open, a_unknown, a_balance, a_group, a_first, a_last, a_sum, a_often, a_told, a_method, a_pc, a_start, a_here, a_path, a_coming, a_variable) (nI d) (nI k) 0)) ∧ (∀ post : SY → Prop, post (g_depth', g_steps, g_result', g_outcome', g_load, g_over', b_op, b_a, b_b, b_line, b_length, b_from, b_to, b_at, b_handlers, b_begun', b_taken', b_thrown', b_rowI', b_rowWay', b_rowLength', b_times', b_told', b_kOp, b_kA, b_kB, b_kLine, b_kLength, b_kFrom, b_kTo, b_kAt, b_kHandlers, b_kBegun, b_kTaken, b_kThrown, b_kept, b_method', b_pc', b_variable', b_hereI', b_hereWay', b_hereLength', b_into', b_kLoad, b_part) → (wpY_leave post ((nI (d + 1)), g_steps, 0, 0, g_load, 0, b_op, b_a, b_b, b_line, b_length, b_from, b_to, b_at, b_handlers, b_begun, b_taken, b_thrown, b_rowI, b_rowWay, b_rowLength, b_times, b_told, b_kOp, b_kA, b_kB, b_kLine, b_kLength, b_kFrom, b_kTo, b_kAt, b_kHandlers, b_kBegun, b_kTaken, b_kThrown, b_kept, b_method, b_pc, a_variable, b_hereI, b_hereWay, b_hereLength, b_into, b_kLoad, b_part) (nI k))) := by
  have hn4 : ∀ m, m < 4 → xn a_length m ≤ 24 := fun m hm => (rc_len C (r := m) (by omega)).2.2
  obtain ⟨⟨hm, hi, c3, c4, c5, c6⟩, D, p, w, pa, hpD⟩ := hB
  have hn := hn4 m hm
  have PL := P m hm (by omega)
  have hw := pw_ways_le (a_op (24 * m + i))
  obtain ⟨ct2, hct2, hgo⟩ := cx_cnt (a_counter := a_counter) (k := k) hm (show i < 24 by omega) (by omega) PL
  have i6 : vp_in (nI d) 6 := pk_in d 6 (by omega)
  have rf : ∀ g : Nat → Int32, g (nI d).toNatClampNeg = g d := fun g => qa_rr d rfl
  have ie : vp_in (nI (97 * m + (1 + 4 * i + k))) 388 := pk_in (97 * m + (1 + 4 * i + k)) 388 (by omega)
  generalize htt : ul a_length a_op a_opB m (1 + 4 * i + k) = t
  obtain ⟨ht24, tt, htt2, hpre⟩ := ry_pre (k := k) (g_steps := g_steps) (g_result := 0) (g_outcome := 0) (g_load := g_load) (g_over := 0) (b_op := b_op) (b_a := b_a) (b_b := b_b) (b_line := b_line) (b_length := b_length) (b_from := b_from) (b_to := b_to) (b_at := b_at) (b_handlers := b_handlers) (b_begun := b_begun) (b_taken := b_taken) (b_thrown := b_thrown) (b_rowI := b_rowI) (b_rowWay := b_rowWay) (b_rowLength := b_rowLength) (b_times := b_times) (b_told := b_told) (b_kOp := b_kOp) (b_kA := b_kA) (b_kB := b_kB) (b_kLine := b_kLine) (b_kLength := b_kLength) (b_kFrom := b_kFrom) (b_kTo := b_kTo) (b_kAt := b_kAt) (b_kHandlers := b_kHandlers) (b_kBegun := b_kBegun) (b_kTaken := b_kTaken) (b_kThrown := b_kThrown) (b_kept := b_kept) (b_method := b_method) (b_pc := b_pc) (b_variable := a_variable) (b_hereI := b_hereI) (b_hereWay := b_hereWay) (b_hereLength := b_hereLength) (b_into := b_into) (b_kLoad := b_kLoad) (b_part := b_part) (show d < 6 by omega) hm hi C hk c4 c6 htt
  have hF2 := eg_take (k := k) (t := t) hn4 (show i < 24 by omega) (by omega) htt (by omega) hct2 hF
  have rl : a_leads (nI (97 * m + (1 + 4 * i + k))).toNatClampNeg = nI t := qa_r _ rfl ((PL.1 _ (by omega)).trans (by rw [htt, if_pos (by omega)]))
  have goX : ∀ post : SX → Prop, (wX_go_53 post (nI d) 0 (nI i) (nI (97 * m + (1 + 4 * i + k))) f_load (nI (d + 1)) f_begun 0 0 a_op a_opA a_opB a_opLine a_length a_guards a_handlers a_kept a_keptLoad ct2 a_raised a_stopped a_caught a_unbegun a_leads a_counts a_adds a_goes a_needed a_known a_solved a_open a_unknown a_balance a_group a_first a_last a_sum a_often a_told a_method a_pc a_start a_here a_path a_coming a_variable) → (wpX_go post (f_load, (nI (d + 1)), f_begun, 0, 0, a_op, a_opA, a_opB, a_opLine, a_length, a_guards, a_handlers, a_kept, a_keptLoad, a_counter, a_raised, a_stopped, a_caught, a_unbegun, a_leads, a_counts, a_adds, a_goes, a_needed, a_known, a_solved, a_open, a_unknown, a_balance, a_group, a_first, a_last, a_sum, a_often, a_told, a_method, a_pc, a_start, a_here, a_path, a_coming, a_variable) (nI d) (nI k) 0) := by
    intro post h
    exact ⟨i6, nm_r ((rf a_method).trans c3) ⟨i6, nm_r ((rf a_pc).trans c5) (nm_r (qa_e m i k) ⟨ie, hgo (fun ct => (wX_go_53 post (nI d) 0 (nI i) (nI (97 * m + (1 + 4 * i + k))) f_load (nI (d + 1)) f_begun 0 0 a_op a_opA a_opB a_opLine a_length a_guards a_handlers a_kept a_keptLoad ct a_raised a_stopped a_caught a_unbegun a_leads a_counts a_adds a_goes a_needed a_known a_solved a_open a_unknown a_balance a_group a_first a_last a_sum a_often a_told a_method a_pc a_start a_here a_path a_coming a_variable)) h⟩)⟩⟩
  by_cases h24 : t = 24
  · subst h24
    obtain ⟨fi, la, su, oft, tx, he, rI, rW, rL, ti, ty, hS', he1, he2, cX, cY⟩ := cl_close (f_load := f_load) (f_depth := (nI (d + 1))) (f_begun := f_begun) (f_outcome := 0) (f_result := 0) (a_op := a_op) (a_opA := a_opA) (a_opB := a_opB) (a_opLine := a_opLine) (a_length := a_length) (a_guards := a_guards) (a_handlers := a_handlers) (a_kept := a_kept) (a_keptLoad := a_keptLoad) (a_counter := ct2) (a_raised := a_raised) (a_stopped := a_stopped) (a_caught := a_caught) (a_unbegun := a_unbegun) (a_leads := a_leads) (a_counts := a_counts) (a_adds := a_adds) (a_goes := a_goes) (a_needed := a_needed) (a_known := a_known) (a_solved := a_solved) (a_open := a_open) (a_unknown := a_unknown) (a_balance := a_balance) (a_group := a_group) (a_first := a_first) (a_last := a_last) (a_sum := a_sum) (a_often := a_often) (a_told := a_told) (a_method := a_method) (a_pc := a_pc) (a_start := a_start) (a_here := a_here) (a_path := a_path) (a_coming := a_coming) (a_variable := a_variable) (g_steps := g_steps) (g_result := 0) (g_outcome := 0) (g_load := g_load) (g_over := 0) (b_op := b_op) (b_a := b_a) (b_b := b_b) (b_line := b_line) (b_length := b_length) (b_from := b_from) (b_to := b_to) (b_at := b_at) (b_handlers := b_handlers) (b_begun := b_begun) (b_taken := (upd b_taken (96 * m + (4 * i + k)) (b_taken (96 * m + (4 * i + k)) + 1))) (b_thrown := b_thrown) (b_rowI := b_rowI) (b_rowWay := b_rowWay) (b_rowLength := b_rowLength) (b_times := b_times) (b_told := b_told) (b_kOp := b_kOp) (b_kA := b_kA) (b_kB := b_kB) (b_kLine := b_kLine) (b_kLength := b_kLength) (b_kFrom := b_kFrom) (b_kTo := b_kTo) (b_kAt := b_kAt) (b_kHandlers := b_kHandlers) (b_kBegun := b_kBegun) (b_kTaken := b_kTaken) (b_kThrown := b_kThrown) (b_kept := b_kept) (b_method := b_method) (b_pc := b_pc) (b_variable := a_variable) (b_hereI := b_hereI) (b_hereWay := b_hereWay) (b_hereLength := b_hereLength) (b_into := b_into) (b_kLoad := b_kLoad) (b_part := b_part) (show d < 6 by omega) hm (by omega) C P hS c3 c4 (Or.inl ⟨D, p, w, pa⟩)
    have W' := fr_W_congr (method2 := a_method) (pc2 := a_pc) (start2 := a_start) (here2 := he) (path2 := a_path) (method2' := b_method) (pc2' := upd b_pc d tt) (hI2 := b_hereI) (hW2 := b_hereWay) (hL2 := upd b_hereLength d 0) hn4 hW (fun f hf => ⟨rfl, rfl, rfl, he2 f (by omega), rfl, rfl, pk_un (by omega), pk_un (by omega), fun j hj => ⟨rfl, rfl⟩⟩)
    have F' : (rg_flow a_length a_op a_opB a_raised a_stopped a_caught a_unbegun ct2 b_begun (upd b_taken (96 * m + (4 * i + k)) (b_taken (96 * m + (4 * i + k)) + 1)) b_thrown b_kBegun b_kTaken b_kThrown) ent (fr_n a_method a_pc d) (fun _ _ => 0) := eg_fc hF2 (fun m' p' hm' hp' => by
      have h24 : p' < 24 := Nat.lt_of_lt_of_le hp' (hn4 m' hm')
      have z : rn_y m 24 m' p' = 0 := if_neg (fun z => by have := z.2; omega)
      exact ⟨by show _ = _ + rn_y m 24 m' p'; rw [z]; grind, z.symm⟩)
    obtain ⟨f_depth', f_outcome', f_result', a_counter', a_raised', a_stopped', a_caught', a_unbegun', a_first', a_last', a_sum', a_often', a_told', a_method', a_pc', a_start', a_here', a_path', a_coming', a_variable', g_depth', g_result', g_outcome', g_over', b_begun', b_taken', b_thrown', b_rowI', b_rowWay', b_rowLength', b_times', b_told', b_method', b_pc', b_variable', b_hereI', b_hereWay', b_hereLength', b_into', R, hX, hY⟩ := rl_leave C P d hd 0 ct2 a_raised a_stopped a_caught a_unbegun fi la su oft tx a_method a_pc a_start he a_path a_coming a_variable b_begun (upd b_taken (96 * m + (4 * i + k)) (b_taken (96 * m + (4 * i + k)) + 1)) b_thrown rI rW rL ti ty b_method (upd b_pc d tt) b_hereI b_hereWay (upd b_hereLength d 0) (upd b_into d (nI k)) hS' W' F'
    refine ⟨f_depth', f_outcome', f_result', a_counter', a_raised', a_stopped', a_caught', a_unbegun', a_first', a_last', a_sum', a_often', a_told', a_method', a_pc', a_start', a_here', a_path', a_coming', a_variable', g_depth', g_result', g_outcome', g_over', b_begun', b_taken', b_thrown', b_rowI', b_rowWay', b_rowLength', b_times', b_told', b_method', b_pc', b_variable', b_hereI', b_hereWay', b_hereLength', b_into', R, fun post hp => goX post ⟨ie, nm_r rl (br_t rfl ?_)⟩, fun post hp => ?_⟩
    · refine cX _ ?_
      exact nm_r (nI_pred d) ⟨d + 1, hX _ hp _ (by omega)⟩
    · unfold wpY_leave
      refine hpre _ (br_f (by decide) ?_)
      refine cY _ ?_
      exact ⟨i6, nm_r (e' := upd b_pc d tt) (by rw [nI_clamp (by omega)]) ⟨i6, nm_r (e' := upd b_into d (nI k)) (by rw [nI_clamp (by omega)]) ⟨rfl, br_f (by decide) ⟨d + 2, hY _ hp _ (by omega)⟩⟩⟩⟩
  · have t24 : t < 24 := by omega
    have ett := htt2 t24
    subst ett
    rw [if_neg h24] at hpre
    have htn : t < xn a_length m := by
      have := pw_ld_lt (n := xn a_length m) (by omega) (show pw_ld _ _ _ (1 + 4 * i + k) < 24 from by rw [show pw_ld _ _ _ (1 + 4 * i + k) = t from htt]; exact t24)
      rw [show pw_ld _ _ _ (1 + 4 * i + k) = t from htt] at this
      exact this
    have n24 : ¬ nI t = 24 := fun z => h24 ((nI_eq (b := 24) (by omega) (by omega)).mp z)
    have en : fr_n a_method (upd a_pc d (nI t)) d = fr_n a_method a_pc d := fr_n_congr (fun f hf => ⟨rfl, pk_un (by omega)⟩)
    by_cases hle : t ≤ i
    · obtain ⟨fi, la, su, oft, tx, he, rI, rW, rL, ti, ty, hS', he1, he2, cX, cY⟩ := cl_close (f_load := f_load) (f_depth := (nI (d + 1))) (f_begun := f_begun) (f_outcome := 0) (f_result := 0) (a_op := a_op) (a_opA := a_opA) (a_opB := a_opB) (a_opLine := a_opLine) (a_length := a_length) (a_guards := a_guards) (a_handlers := a_handlers) (a_kept := a_kept) (a_keptLoad := a_keptLoad) (a_counter := ct2) (a_raised := a_raised) (a_stopped := a_stopped) (a_caught := a_caught) (a_unbegun := a_unbegun) (a_leads := a_leads) (a_counts := a_counts) (a_adds := a_adds) (a_goes := a_goes) (a_needed := a_needed) (a_known := a_known) (a_solved := a_solved) (a_open := a_open) (a_unknown := a_unknown) (a_balance := a_balance) (a_group := a_group) (a_first := a_first) (a_last := a_last) (a_sum := a_sum) (a_often := a_often) (a_told := a_told) (a_method := a_method) (a_pc := a_pc) (a_start := a_start) (a_here := a_here) (a_path := a_path) (a_coming := a_coming) (a_variable := a_variable) (g_steps := g_steps) (g_result := 0) (g_outcome := 0) (g_load := g_load) (g_over := 0) (b_op := b_op) (b_a := b_a) (b_b := b_b) (b_line := b_line) (b_length := b_length) (b_from := b_from) (b_to := b_to) (b_at := b_at) (b_handlers := b_handlers) (b_begun := b_begun) (b_taken := (upd b_taken (96 * m + (4 * i + k)) (b_taken (96 * m + (4 * i + k)) + 1))) (b_thrown := b_thrown) (b_rowI := b_rowI) (b_rowWay := b_rowWay) (b_rowLength := b_rowLength) (b_times := b_times) (b_told := b_told) (b_kOp := b_kOp) (b_kA := b_kA) (b_kB := b_kB) (b_kLine := b_kLine) (b_kLength := b_kLength) (b_kFrom := b_kFrom) (b_kTo := b_kTo) (b_kAt := b_kAt) (b_kHandlers := b_kHandlers) (b_kBegun := b_kBegun) (b_kTaken := b_kTaken) (b_kThrown := b_kThrown) (b_kept := b_kept) (b_method := b_method) (b_pc := b_pc) (b_variable := a_variable) (b_hereI := b_hereI) (b_hereWay := b_hereWay) (b_hereLength := b_hereLength) (b_into := b_into) (b_kLoad := b_kLoad) (b_part := b_part) (show d < 6 by omega) hm (by omega) C P hS c3 c4 (Or.inl ⟨D, p, w, pa⟩)
      have W' := fr_W_congr (method2 := a_method) (pc2 := upd a_pc d (nI t)) (start2 := upd a_start d (nI t)) (here2 := upd he d (-1)) (path2 := vp_updL a_path d 0) (method2' := b_method) (pc2' := upd b_pc d (nI t)) (hI2 := b_hereI) (hW2 := b_hereWay) (hL2 := upd b_hereLength d 0) hn4 hW (fun f hf => ⟨rfl, pk_un (by omega), pk_un (by omega), (pk_un (by omega)).trans (he2 f (by omega)), pk_uLn (by omega), rfl, pk_un (by omega), pk_un (by omega), fun j hj => ⟨rfl, rfl⟩⟩)
      refine ⟨(nI (d + 1)), 0, 0, ct2, a_raised, a_stopped, a_caught, a_unbegun, fi, la, su, oft, tx, a_method, (upd a_pc d (nI t)), (upd a_start d (nI t)), (upd he d (-1)), (vp_updL a_path d 0), (vp_updL a_coming d 0), a_variable, (nI (d + 1)), 0, 0, 0, b_begun, (upd b_taken (96 * m + (4 * i + k)) (b_taken (96 * m + (4 * i + k)) + 1)), b_thrown, rI, rW, rL, ti, ty, b_method, (upd b_pc d (nI t)), a_variable, b_hereI, b_hereWay, (upd b_hereLength d 0), (upd b_into d (nI k)), ⟨hS', rfl, Or.inl ⟨d, m, t, hd, rfl, rfl, rfl, rfl, rfl, rfl, rfl, W', ⟨⟨hm, htn, c3, c4, pk_us, pk_us⟩, Or.inl ⟨pk_us, pk_us, pk_us, pk_uLs, pk_uLs⟩⟩, ?_⟩⟩, fun post hp => goX post ⟨ie, nm_r rl (br_f n24 (br_t (nI_le hle (by omega)) ?_))⟩, fun post hp => ?_⟩
      · rw [en]
        exact hF2
      · refine cX _ ?_
        exact ⟨i6, nm_r (e' := upd a_pc d (nI t)) (by rw [qa_bb (by omega), nI_clamp (by omega)]) ⟨i6, nm_r (e' := upd a_start d (nI t)) (by rw [qa_bb (by omega), nI_clamp (by omega)]) ⟨i6, nm_r (e' := upd he d (-1)) (by rw [qa_bm, nI_clamp (by omega)]) ⟨i6, nm_r (e' := vp_updL a_path d 0) (by rw [nI_clamp (by omega)]) ⟨i6, nm_r (e' := vp_updL a_coming d 0) (by rw [nI_clamp (by omega)]) hp⟩⟩⟩⟩⟩
      · unfold wpY_leave
        refine hpre _ (br_t rfl (br_f (nI_nlt hle (by omega)) ?_))
        refine cY _ ?_
        exact ⟨i6, nm_r (e' := upd b_pc d (nI t)) (by rw [nI_clamp (by omega)]) ⟨i6, nm_r (e' := upd b_into d (nI k)) (by rw [nI_clamp (by omega)]) ⟨rfl, br_t rfl hp⟩⟩⟩
    · have ra : a_adds (nI (97 * m + (1 + 4 * i + k))).toNatClampNeg = a_adds (97 * m + (1 + 4 * i + k)) := qa_rr _ rfl
      have W' := fr_W_congr (method2 := a_method) (pc2 := upd a_pc d (nI t)) (start2 := a_start) (here2 := a_here) (path2 := a_path) (method2' := b_method) (pc2' := upd b_pc d (nI t)) (hI2 := b_hereI) (hW2 := b_hereWay) (hL2 := b_hereLength) hn4 hW (fun f hf => ⟨rfl, pk_un (by omega), rfl, rfl, rfl, rfl, pk_un (by omega), rfl, fun j hj => ⟨rfl, rfl⟩⟩)
      refine ⟨(nI (d + 1)), 0, 0, ct2, a_raised, a_stopped, a_caught, a_unbegun, a_first, a_last, a_sum, a_often, a_told, a_method, (upd a_pc d (nI t)), a_start, a_here, a_path, (vp_updL a_coming d (a_adds (97 * m + (1 + 4 * i + k)))), a_variable, (nI (d + 1)), 0, 0, 0, b_begun, (upd b_taken (96 * m + (4 * i + k)) (b_taken (96 * m + (4 * i + k)) + 1)), b_thrown, b_rowI, b_rowWay, b_rowLength, b_times, b_told, b_method, (upd b_pc d (nI t)), a_variable, b_hereI, b_hereWay, b_hereLength, (upd b_into d (nI k)), ⟨hS, rfl, Or.inl ⟨d, m, t, hd, rfl, rfl, rfl, rfl, rfl, rfl, rfl, W', ⟨⟨hm, htn, c3, c4, pk_us, pk_us⟩, Or.inr ⟨D, p, w, k, pa, by omega, pk_us, by omega, by rw [hpD]; exact htt, by rw [hpD]; exact pk_uLs⟩⟩, ?_⟩⟩, fun post hp => goX post ⟨ie, nm_r rl (br_f n24 (br_f (nI_ge (by omega) (by omega)) ⟨ie, i6, nm_r (e' := vp_updL a_coming d (a_adds (97 * m + (1 + 4 * i + k)))) (by rw [ra, nI_clamp (by omega)]) ⟨i6, nm_r (e' := upd a_pc d (nI t)) (by rw [qa_bb (by omega), nI_clamp (by omega)]) hp⟩⟩))⟩, fun post hp => ?_⟩
      · rw [en]
        exact hF2
      · unfold wpY_leave
        exact hpre _ (br_t rfl (br_t (nI_lt (by omega) (by omega)) ⟨i6, nm_r (e' := upd b_pc d (nI t)) (by rw [nI_clamp (by omega)]) ⟨i6, nm_r (e' := upd b_into d (nI k)) (by rw [nI_clamp (by omega)]) ⟨rfl, br_t rfl hp⟩⟩⟩))
/-- a RETURN -/
theorem rl_ret {ent : Nat → Int32} {d m i : Nat} {val : Int32} (hd : d < 6) (C : (rc_code a_op a_opA a_opB a_opLine a_guards a_length a_handlers b_op b_a b_b b_line b_from b_to b_at b_length b_handlers)) (P : (rc_plan a_length a_op a_opB a_leads a_counts a_adds a_needed)) (ho : a_op (24 * m + i) = 9) (hS : (rc_str a_length a_op a_opB a_adds a_first a_last a_sum a_often a_told b_rowI b_rowWay b_rowLength b_times b_told)) (hW : (fr_W a_length a_op a_opB a_adds a_method a_pc a_start a_here a_path b_method b_pc b_hereI b_hereWay b_hereLength) d) (hB : (fr_B a_length a_op a_opB a_adds a_method a_pc a_start a_here a_path b_method b_pc b_hereI b_hereWay b_hereLength) d m i) (hF : (rg_flow a_length a_op a_opB a_raised a_stopped a_caught a_unbegun a_counter b_begun b_taken b_thrown b_kBegun b_kTaken b_kThrown) ent (fun m' p => fr_n a_method a_pc d m' p + rn_y m i m' p) (fun _ _ => 0)) :
    ∃ (f_depth' : Int32) (f_outcome' : Int32) (f_result' : Int32) (a_counter' : (Nat → Int32)) (a_raised' : (Nat → Int32)) (a_stopped' : (Nat → Int32)) (a_caught' : (Nat → Int32)) (a_unbegun' : (Nat → Int32)) (a_first' : (Nat → Int32)) (a_last' : (Nat → Int32)) (a_sum' : (Nat → Int64)) (a_often' : (Nat → Int32)) (a_told' : (Nat → Int32)) (a_method' : (Nat → Int32)) (a_pc' : (Nat → Int32)) (a_start' : (Nat → Int32)) (a_here' : (Nat → Int32)) (a_path' : (Nat → Int64)) (a_coming' : (Nat → Int64)) (a_variable' : (Nat → Int32)) (g_depth' : Int32) (g_result' : Int32) (g_outcome' : Int32) (g_over' : Int32) (b_begun' : (Nat → Int32)) (b_taken' : (Nat → Int32)) (b_thrown' : (Nat → Int32)) (b_rowI' : (Nat → Int32)) (b_rowWay' : (Nat → Int32)) (b_rowLength' : (Nat → Int32)) (b_times' : (Nat → Int32)) (b_told' : (Nat → Int32)) (b_method' : (Nat → Int32)) (b_pc' : (Nat → Int32)) (b_variable' : (Nat → Int32)) (b_hereI' : (Nat → Int32)) (b_hereWay' : (Nat → Int32)) (b_hereLength' : (Nat → Int32)) (b_into' : (Nat → Int32)), (ro_ok a_length a_op a_opB a_adds b_kBegun b_kTaken b_kThrown f_depth' f_outcome' f_result' a_counter' a_raised' a_stopped' a_caught' a_unbegun' a_first' a_last' a_sum' a_often' a_told' a_method' a_pc' a_start' a_here' a_path' a_coming' a_variable' g_depth' g_result' g_outcome' g_over' b_begun' b_taken' b_thrown' b_rowI' b_rowWay' b_rowLength' b_times' b_told' b_method' b_pc' b_variable' b_hereI' b_hereWay' b_hereLength' b_into') ent ∧ (∀ post : SX → Prop, post (f_load, f_depth', f_begun, f_outcome', f_result', a_op, a_opA, a_opB, a_opLine, a_length, a_guards, a_handlers, a_kept, a_keptLoad, a_counter', a_raised', a_stopped', a_caught', a_unbegun', a_leads, a_counts, a_adds, a_goes, a_needed, a_known, a_solved, a_open, a_unknown, a_balance, a_group, a_first', a_last', a_sum', a_often', a_told', a_method', a_pc', a_start', a_here', a_path', a_coming', a_variable') → (wpX_go post (f_load, (nI (d + 1)), f_begun, 0, 0, a_op, a_opA, a_opB, a_opLine, a_length, a_guards, a_handlers, a_kept, a_keptLoad, a_counter, a_raised, a_stopped, a_caught, a_unbegun, a_leads, a_counts, a_adds, a_goes, a_needed, a_known, a_solved, a_open, a_unknown, a_balance, a_group, a_first, a_last, a_sum, a_often, a_told, a_method, a_pc, a_start, a_here, a_path, a_coming, a_variable) (nI d) 0 val)) ∧ (∀ post : SY → Prop, post (g_depth', g_steps, g_result', g_outcome', g_load, g_over', b_op, b_a, b_b, b_line, b_length, b_from, b_to, b_at, b_handlers, b_begun', b_taken', b_thrown', b_rowI', b_rowWay', b_rowLength', b_times', b_told', b_kOp, b_kA, b_kB, b_kLine, b_kLength, b_kFrom, b_kTo, b_kAt, b_kHandlers, b_kBegun, b_kTaken, b_kThrown, b_kept, b_method', b_pc', b_variable', b_hereI', b_hereWay', b_hereLength', b_into', b_kLoad, b_part) → (wpY_endStretch (fun u => match u with | (g_depth, g_steps, g_result, g_outcome, g_load, g_over, b_op, b_a, b_b, b_line, b_length, b_from, b_to, b_at, b_handlers, b_begun, b_taken, b_thrown, b_rowI, b_rowWay, b_rowLength, b_times, b_told, b_kOp, b_kA, b_kB, b_kLine, b_kLength, b_kFrom, b_kTo, b_kAt, b_kHandlers, b_kBegun, b_kTaken, b_kThrown, b_kept, b_method, b_pc, b_variable, b_hereI, b_hereWay, b_hereLength, b_into, b_kLoad, b_part) => (wpY_end (fun u => match u with | (g_depth, g_steps, g_result, g_outcome, g_load, g_over, b_op, b_a, b_b, b_line, b_length, b_from, b_to, b_at, b_handlers, b_begun, b_taken, b_thrown, b_rowI, b_rowWay, b_rowLength, b_times, b_told, b_kOp, b_kA, b_kB, b_kLine, b_kLength, b_kFrom, b_kTo, b_kAt, b_kHandlers, b_kBegun, b_kTaken, b_kThrown, b_kept, b_method, b_pc, b_variable, b_hereI, b_hereWay, b_hereLength, b_into, b_kLoad, b_part) => post (g_depth, g_steps, g_result, g_outcome, g_load, g_over, b_op, b_a, b_b, b_line, b_length, b_from, b_to, b_at, b_handlers, b_begun, b_taken, b_thrown, b_rowI, b_rowWay, b_rowLength, b_times, b_told, b_kOp, b_kA, b_kB, b_kLine, b_kLength, b_kFrom, b_kTo, b_kAt, b_kHandlers, b_kBegun, b_kTaken, b_kThrown, b_kept, b_method, b_pc, b_variable, b_hereI, b_hereWay, b_hereLength, b_into, b_kLoad, b_part)) (g_depth, g_steps, g_result, g_outcome, g_load, g_over, b_op, b_a, b_b, b_line, b_length, b_from, b_to, b_at, b_handlers, b_begun, b_taken, b_thrown, b_rowI, b_rowWay, b_rowLength, b_times, b_told, b_kOp, b_kA, b_kB, b_kLine, b_kLength, b_kFrom, b_kTo, b_kAt, b_kHandlers, b_kBegun, b_kTaken, b_kThrown, b_kept, b_method, b_pc, b_variable, b_hereI, b_hereWay, b_hereLength, b_into, b_kLoad, b_part) val)) ((nI (d + 1)), g_steps, 0, 0, g_load, 0, b_op, b_a, b_b, b_line, b_length, b_from, b_to, b_at, b_handlers, b_begun, (upd b_taken (96 * m + (4 * i + 0)) (b_taken (96 * m + (4 * i + 0)) + 1)), b_thrown, b_rowI, b_rowWay, b_rowLength, b_times, b_told, b_kOp, b_kA, b_kB, b_kLine, b_kLength, b_kFrom, b_kTo, b_kAt, b_kHandlers, b_kBegun, b_kTaken, b_kThrown, b_kept, b_method, b_pc, a_variable, b_hereI, b_hereWay, b_hereLength, b_into, b_kLoad, b_part))) := by
  have hn4 : ∀ m, m < 4 → xn a_length m ≤ 24 := fun m hm => (rc_len C (r := m) (by omega)).2.2
  obtain ⟨⟨hm, hi, c3, c4, c5, c6⟩, D, p, w, pa, hpD⟩ := hB
  have hn := hn4 m hm
  have PL := P m hm (by omega)
  have hw : pw_ways (a_op (24 * m + i)) = 1 := by rw [ho]; decide
  obtain ⟨ct2, hct2, hgo⟩ := cx_cnt (a_counter := a_counter) (k := 0) hm (show i < 24 by omega) (by omega) PL
  have i6 : vp_in (nI d) 6 := pk_in d 6 (by omega)
  have rf : ∀ g : Nat → Int32, g (nI d).toNatClampNeg = g d := fun g => qa_rr d rfl
  have ie : vp_in (nI (97 * m + (1 + 4 * i + 0))) 388 := pk_in (97 * m + (1 + 4 * i + 0)) 388 (by omega)
  have htt : ul a_length a_op a_opB m (1 + 4 * i + 0) = 24 := by
    show pw_ld _ _ _ _ = _
    rw [pw_ld_s _ _ _ (by omega), if_pos ⟨hi, by show 0 < pw_ways (a_op (24 * m + i)); omega⟩]
    exact if_pos ho
  have hF2 := eg_take (k := 0) (t := 24) hn4 (show i < 24 by omega) (by omega) htt (by omega) hct2 hF
  have rl : a_leads (nI (97 * m + (1 + 4 * i + 0))).toNatClampNeg = nI 24 := qa_r _ rfl ((PL.1 _ (by omega)).trans (by rw [htt, if_pos (by omega)]))
  obtain ⟨fi, la, su, oft, tx, he, rI, rW, rL, ti, ty, hS', he1, he2, cX, cY⟩ := cl_close (f_load := f_load) (f_depth := (nI (d + 1))) (f_begun := f_begun) (f_outcome := 0) (f_result := 0) (a_op := a_op) (a_opA := a_opA) (a_opB := a_opB) (a_opLine := a_opLine) (a_length := a_length) (a_guards := a_guards) (a_handlers := a_handlers) (a_kept := a_kept) (a_keptLoad := a_keptLoad) (a_counter := ct2) (a_raised := a_raised) (a_stopped := a_stopped) (a_caught := a_caught) (a_unbegun := a_unbegun) (a_leads := a_leads) (a_counts := a_counts) (a_adds := a_adds) (a_goes := a_goes) (a_needed := a_needed) (a_known := a_known) (a_solved := a_solved) (a_open := a_open) (a_unknown := a_unknown) (a_balance := a_balance) (a_group := a_group) (a_first := a_first) (a_last := a_last) (a_sum := a_sum) (a_often := a_often) (a_told := a_told) (a_method := a_method) (a_pc := a_pc) (a_start := a_start) (a_here := a_here) (a_path := a_path) (a_coming := a_coming) (a_variable := a_variable) (g_steps := g_steps) (g_result := 0) (g_outcome := 0) (g_load := g_load) (g_over := 0) (b_op := b_op) (b_a := b_a) (b_b := b_b) (b_line := b_line) (b_length := b_length) (b_from := b_from) (b_to := b_to) (b_at := b_at) (b_handlers := b_handlers) (b_begun := b_begun) (b_taken := (upd b_taken (96 * m + (4 * i + 0)) (b_taken (96 * m + (4 * i + 0)) + 1))) (b_thrown := b_thrown) (b_rowI := b_rowI) (b_rowWay := b_rowWay) (b_rowLength := b_rowLength) (b_times := b_times) (b_told := b_told) (b_kOp := b_kOp) (b_kA := b_kA) (b_kB := b_kB) (b_kLine := b_kLine) (b_kLength := b_kLength) (b_kFrom := b_kFrom) (b_kTo := b_kTo) (b_kAt := b_kAt) (b_kHandlers := b_kHandlers) (b_kBegun := b_kBegun) (b_kTaken := b_kTaken) (b_kThrown := b_kThrown) (b_kept := b_kept) (b_method := b_method) (b_pc := b_pc) (b_variable := a_variable) (b_hereI := b_hereI) (b_hereWay := b_hereWay) (b_hereLength := b_hereLength) (b_into := b_into) (b_kLoad := b_kLoad) (b_part := b_part) (show d < 6 by omega) hm (by omega) C P hS c3 c4 (Or.inl ⟨D, p, w, pa⟩)
  have W' := fr_W_congr (method2 := a_method) (pc2 := a_pc) (start2 := a_start) (here2 := he) (path2 := a_path) (method2' := b_method) (pc2' := b_pc) (hI2 := b_hereI) (hW2 := b_hereWay) (hL2 := upd b_hereLength d 0) hn4 hW (fun f hf => ⟨rfl, rfl, rfl, he2 f (by omega), rfl, rfl, rfl, pk_un (by omega), fun j hj => ⟨rfl, rfl⟩⟩)
  have F' : (rg_flow a_length a_op a_opB a_raised a_stopped a_caught a_unbegun ct2 b_begun (upd b_taken (96 * m + (4 * i + 0)) (b_taken (96 * m + (4 * i + 0)) + 1)) b_thrown b_kBegun b_kTaken b_kThrown) ent (fr_n a_method a_pc d) (fun _ _ => 0) := eg_fc hF2 (fun m' p' hm' hp' => by
    have h24 : p' < 24 := Nat.lt_of_lt_of_le hp' (hn4 m' hm')
    have z : rn_y m 24 m' p' = 0 := if_neg (fun z => by have := z.2; omega)
    exact ⟨by show _ = _ + rn_y m 24 m' p'; rw [z]; grind, z.symm⟩)
  obtain ⟨f_depth', f_outcome', f_result', a_counter', a_raised', a_stopped', a_caught', a_unbegun', a_first', a_last', a_sum', a_often', a_told', a_method', a_pc', a_start', a_here', a_path', a_coming', a_variable', g_depth', g_result', g_outcome', g_over', b_begun', b_taken', b_thrown', b_rowI', b_rowWay', b_rowLength', b_times', b_told', b_method', b_pc', b_variable', b_hereI', b_hereWay', b_hereLength', b_into', R, hX, hY⟩ := rl_leave C P d hd val ct2 a_raised a_stopped a_caught a_unbegun fi la su oft tx a_method a_pc a_start he a_path a_coming a_variable b_begun (upd b_taken (96 * m + (4 * i + 0)) (b_taken (96 * m + (4 * i + 0)) + 1)) b_thrown rI rW rL ti ty b_method b_pc b_hereI b_hereWay (upd b_hereLength d 0) b_into hS' W' F'
  refine ⟨f_depth', f_outcome', f_result', a_counter', a_raised', a_stopped', a_caught', a_unbegun', a_first', a_last', a_sum', a_often', a_told', a_method', a_pc', a_start', a_here', a_path', a_coming', a_variable', g_depth', g_result', g_outcome', g_over', b_begun', b_taken', b_thrown', b_rowI', b_rowWay', b_rowLength', b_times', b_told', b_method', b_pc', b_variable', b_hereI', b_hereWay', b_hereLength', b_into', R, fun post hp => ?_, fun post hp => ?_⟩
  · have h : (wX_go_53 post (nI d) val (nI i) (nI (97 * m + (1 + 4 * i + 0))) f_load (nI (d + 1)) f_begun 0 0 a_op a_opA a_opB a_opLine a_length a_guards a_handlers a_kept a_keptLoad ct2 a_raised a_stopped a_caught a_unbegun a_leads a_counts a_adds a_goes a_needed a_known a_solved a_open a_unknown a_balance a_group a_first a_last a_sum a_often a_told a_method a_pc a_start a_here a_path a_coming a_variable) := by
      refine ⟨ie, nm_r rl (br_t rfl ?_)⟩
      refine cX _ ?_
      exact nm_r (nI_pred d) ⟨d + 1, hX _ hp _ (by omega)⟩
    exact ⟨i6, nm_r ((rf a_method).trans c3) ⟨i6, nm_r ((rf a_pc).trans c5) (nm_r (qa_e m i 0) ⟨ie, hgo (fun ct => (wX_go_53 post (nI d) val (nI i) (nI (97 * m + (1 + 4 * i + 0))) f_load (nI (d + 1)) f_begun 0 0 a_op a_opA a_opB a_opLine a_length a_guards a_handlers a_kept a_keptLoad ct a_raised a_stopped a_caught a_unbegun a_leads a_counts a_adds a_goes a_needed a_known a_solved a_open a_unknown a_balance a_group a_first a_last a_sum a_often a_told a_method a_pc a_start a_here a_path a_coming a_variable)) h⟩)⟩⟩
  · refine cY _ ?_
    exact ⟨d + 2, hY _ hp _ (by omega)⟩
end
end
section
/-! a run: calls -/
section
variable {f_load : Int32} {f_depth : Int32} {f_begun : Int32} {f_outcome : Int32} {f_result : Int32} {a_op : (Nat → Int32)} {a_opA : (Nat → Int32)} {a_opB : (Nat → Int32)} {a_opLine : (Nat → Int32)} {a_length : (Nat → Int32)} {a_guards : (Nat → Int32)} {a_handlers : (Nat → Int32)} {a_kept : (Nat → Int32)} {a_keptLoad : (Nat → Int32)} {a_counter : (Nat → Int32)} {a_raised : (Nat → Int32)} {a_stopped : (Nat → Int32)} {a_caught : (Nat → Int32)} {a_unbegun : (Nat → Int32)} {a_leads : (Nat → Int32)} {a_counts : (Nat → Int32)} {a_adds : (Nat → Int64)} {a_goes : (Nat → Int64)} {a_needed : (Nat → Int32)} {a_known : (Nat → Int32)} {a_solved : (Nat → Int32)} {a_open : (Nat → Int32)} {a_unknown : (Nat → Int32)} {a_balance : (Nat → Int32)} {a_group : (Nat → Int32)} {a_first : (Nat → Int32)} {a_last : (Nat → Int32)} {a_sum : (Nat → Int64)} {a_often : (Nat → Int32)} {a_told : (Nat → Int32)} {a_method : (Nat → Int32)} {a_pc : (Nat → Int32)} {a_start : (Nat → Int32)} {a_here : (Nat → Int32)} {a_path : (Nat → Int64)} {a_coming : (Nat → Int64)} {a_variable : (Nat → Int32)} {g_depth : Int32} {g_steps : Int32} {g_result : Int32} {g_outcome : Int32} {g_load : Int32} {g_over : Int32} {b_op : (Nat → Int32)} {b_a : (Nat → Int32)} {b_b : (Nat → Int32)} {b_line : (Nat → Int32)} {b_length : (Nat → Int32)} {b_from : (Nat → Int32)} {b_to : (Nat → Int32)} {b_at : (Nat → Int32)} {b_handlers : (Nat → Int32)} {b_begun : (Nat → Int32)} {b_taken : (Nat → Int32)} {b_thrown : (Nat → Int32)} {b_rowI : (Nat → Int32)} {b_rowWay : (Nat → Int32)} {b_rowLength : (Nat → Int32)} {b_times : (Nat → Int32)} {b_told : (Nat → Int32)} {b_kOp : (Nat → Int32)} {b_kA : (Nat → Int32)} {b_kB : (Nat → Int32)} {b_kLine : (Nat → Int32)} {b_kLength : (Nat → Int32)} {b_kFrom : (Nat → Int32)} {b_kTo : (Nat → Int32)} {b_kAt : (Nat → Int32)} {b_kHandlers : (Nat → Int32)} {b_kBegun : (Nat → Int32)} {b_kTaken : (Nat → Int32)} {b_kThrown : (Nat → Int32)} {b_kept : (Nat → Int32)} {b_method : (Nat → Int32)} {b_pc : (Nat → Int32)} {b_variable : (Nat → Int32)} {b_hereI : (Nat → Int32)} {b_hereWay : (Nat → Int32)} {b_hereLength : (Nat → Int32)} {b_into : (Nat → Int32)} {b_kLoad : (Nat → Int32)} {b_part : (Nat → Int32)}
theorem rl_enterX {f q : Nat} {x y : Int32} (hf : f < 6) (hq : q < 4) {post : SX → Prop} (K : post (f_load, (nI (f + 1)), f_begun, f_outcome, f_result, a_op, a_opA, a_opB, a_opLine, a_length, a_guards, a_handlers, a_kept, a_keptLoad, a_counter, a_raised, a_stopped, a_caught, a_unbegun, a_leads, a_counts, a_adds, a_goes, a_needed, a_known, a_solved, a_open, a_unknown, a_balance, a_group, a_first, a_last, a_sum, a_often, a_told, (upd a_method f (nI q)), (upd a_pc f (nI 0)), (upd a_start f (nI 0)), (upd a_here f (-1)), (vp_updL a_path f 0), (vp_updL a_coming f 0), (upd (upd (upd (upd a_variable (4 * f) x) (4 * f + 1) y) (4 * f + 2) 0) (4 * f + 3) 0))) :
    (wpX_invoke post (f_load, (nI f), f_begun, f_outcome, f_result, a_op, a_opA, a_opB, a_opLine, a_length, a_guards, a_handlers, a_kept, a_keptLoad, a_counter, a_raised, a_stopped, a_caught, a_unbegun, a_leads, a_counts, a_adds, a_goes, a_needed, a_known, a_solved, a_open, a_unknown, a_balance, a_group, a_first, a_last, a_sum, a_often, a_told, a_method, a_pc, a_start, a_here, a_path, a_coming, a_variable) (nI q) x y) := by
  have i6 : vp_in (nI f) 6 := pk_in f 6 hf
  have e0 : (4 : Int32) * nI f = nI (4 * f) := qa_m4 f
  have e1 : (4 : Int32) * nI f + 1 = nI (4 * f + 1) := by rw [e0, nI_1]
  have e2 : (4 : Int32) * nI f + 2 = nI (4 * f + 2) := by rw [e0]; exact nI_add (4 * f) 2
  have e3 : (4 : Int32) * nI f + 3 = nI (4 * f + 3) := by rw [e0]; exact nI_add (4 * f) 3
  refine nm_r (nI_1 f) ⟨i6, nm_r (e' := upd a_method f (nI q)) (by rw [qa_bb (by omega), nI_clamp (by omega)]) ⟨pk_in (4 * f) 24 (by omega) e0, nm_r (e' := upd a_variable (4 * f) x) (by rw [e0, nI_clamp (by omega)]) ⟨pk_in (4 * f + 1) 24 (by omega) e1, nm_r (e' := upd (upd a_variable (4 * f) x) (4 * f + 1) y) (by rw [e1, nI_clamp (by omega)]) ⟨pk_in (4 * f + 2) 24 (by omega) e2, nm_r (e' := upd (upd (upd a_variable (4 * f) x) (4 * f + 1) y) (4 * f + 2) 0) (by rw [e2, nI_clamp (by omega)]) ⟨pk_in (4 * f + 3) 24 (by omega) e3, nm_r (e' := (upd (upd (upd (upd a_variable (4 * f) x) (4 * f + 1) y) (4 * f + 2) 0) (4 * f + 3) 0)) (by rw [e3, nI_clamp (by omega)]) ?_⟩⟩⟩⟩⟩
  exact ⟨i6, nm_r (e' := upd a_pc f (nI 0)) (by rw [show (0 : Int32) = nI 0 from rfl, qa_bb (by omega), nI_clamp (by omega)]) ⟨i6, nm_r (e' := upd a_start f (nI 0)) (by rw [show (0 : Int32) = nI 0 from rfl, qa_bb (by omega), nI_clamp (by omega)]) ⟨i6, nm_r (e' := upd a_here f (-1)) (by rw [qa_bm, nI_clamp (by omega)]) ⟨i6, nm_r (e' := vp_updL a_path f 0) (by rw [nI_clamp (by omega)]) ⟨i6, nm_r (e' := vp_updL a_coming f 0) (by rw [nI_clamp (by omega)]) K⟩⟩⟩⟩⟩
theorem rl_enterY {f q : Nat} {x y : Int32} (hf : f < 6) {post : SY → Prop} (K : post ((nI (f + 1)), g_steps, g_result, g_outcome, g_load, g_over, b_op, b_a, b_b, b_line, b_length, b_from, b_to, b_at, b_handlers, b_begun, b_taken, b_thrown, b_rowI, b_rowWay, b_rowLength, b_times, b_told, b_kOp, b_kA, b_kB, b_kLine, b_kLength, b_kFrom, b_kTo, b_kAt, b_kHandlers, b_kBegun, b_kTaken, b_kThrown, b_kept, (upd b_method f (nI q)), (upd b_pc f (nI 0)), (upd (upd (upd (upd a_variable (4 * f) x) (4 * f + 1) y) (4 * f + 2) 0) (4 * f + 3) 0), b_hereI, b_hereWay, (upd b_hereLength f 0), (upd b_into f 0), b_kLoad, b_part)) :
    (wpY_enter post ((nI f), g_steps, g_result, g_outcome, g_load, g_over, b_op, b_a, b_b, b_line, b_length, b_from, b_to, b_at, b_handlers, b_begun, b_taken, b_thrown, b_rowI, b_rowWay, b_rowLength, b_times, b_told, b_kOp, b_kA, b_kB, b_kLine, b_kLength, b_kFrom, b_kTo, b_kAt, b_kHandlers, b_kBegun, b_kTaken, b_kThrown, b_kept, b_method, b_pc, a_variable, b_hereI, b_hereWay, b_hereLength, b_into, b_kLoad, b_part) (nI q) x y) := by
  have i6 : vp_in (nI f) 6 := pk_in f 6 hf
  have e0 : (4 : Int32) * nI f = nI (4 * f) := qa_m4 f
  have e1 : (4 : Int32) * nI f + 1 = nI (4 * f + 1) := by rw [e0, nI_1]
  have e2 : (4 : Int32) * nI f + 2 = nI (4 * f + 2) := by rw [e0]; exact nI_add (4 * f) 2
  have e3 : (4 : Int32) * nI f + 3 = nI (4 * f + 3) := by rw [e0]; exact nI_add (4 * f) 3
  exact ⟨i6, nm_r (e' := upd b_method f (nI q)) (by rw [nI_clamp (by omega)]) ⟨i6, nm_r (e' := upd b_pc f (nI 0)) (by rw [nI_clamp (by omega)]; rfl) ⟨pk_in (4 * f) 24 (by omega) e0, nm_r (e' := upd a_variable (4 * f) x) (by rw [e0, nI_clamp (by omega)]) ⟨pk_in (4 * f + 1) 24 (by omega) e1, nm_r (e' := upd (upd a_variable (4 * f) x) (4 * f + 1) y) (by rw [e1, nI_clamp (by omega)]) ⟨pk_in (4 * f + 2) 24 (by omega) e2, nm_r (e' := upd (upd (upd a_variable (4 * f) x) (4 * f + 1) y) (4 * f + 2) 0) (by rw [e2, nI_clamp (by omega)]) ⟨pk_in (4 * f + 3) 24 (by omega) e3, nm_r (e' := (upd (upd (upd (upd a_variable (4 * f) x) (4 * f + 1) y) (4 * f + 2) 0) (4 * f + 3) 0)) (by rw [e3, nI_clamp (by omega)]) ⟨i6, nm_r (e' := upd b_hereLength f 0) (by rw [nI_clamp (by omega)]) ⟨i6, nm_r (e' := upd b_into f 0) (by rw [nI_clamp (by omega)]) (nm_r (nI_1 f) K)⟩⟩⟩⟩⟩⟩⟩⟩
theorem rl_call {ent : Nat → Int32} {d m i q : Nat} (hd : d < 6) (hq : q < 4) (C : (rc_code a_op a_opA a_opB a_opLine a_guards a_length a_handlers b_op b_a b_b b_line b_from b_to b_at b_length b_handlers)) (P : (rc_plan a_length a_op a_opB a_leads a_counts a_adds a_needed)) (ho : a_op (24 * m + i) = 8) (hS : (rc_str a_length a_op a_opB a_adds a_first a_last a_sum a_often a_told b_rowI b_rowWay b_rowLength b_times b_told)) (hW : (fr_W a_length a_op a_opB a_adds a_method a_pc a_start a_here a_path b_method b_pc b_hereI b_hereWay b_hereLength) d) (hB : (fr_B a_length a_op a_opB a_adds a_method a_pc a_start a_here a_path b_method b_pc b_hereI b_hereWay b_hereLength) d m i) (hF : (rg_flow a_length a_op a_opB a_raised a_stopped a_caught a_unbegun a_counter b_begun b_taken b_thrown b_kBegun b_kTaken b_kThrown) ent (fun m' p => fr_n a_method a_pc d m' p + rn_y m i m' p) (fun _ _ => 0)) :
    ∃ ent' : Nat → Int32, ∃ (f_depth' : Int32) (f_outcome' : Int32) (f_result' : Int32) (a_counter' : (Nat → Int32)) (a_raised' : (Nat → Int32)) (a_stopped' : (Nat → Int32)) (a_caught' : (Nat → Int32)) (a_unbegun' : (Nat → Int32)) (a_first' : (Nat → Int32)) (a_last' : (Nat → Int32)) (a_sum' : (Nat → Int64)) (a_often' : (Nat → Int32)) (a_told' : (Nat → Int32)) (a_method' : (Nat → Int32)) (a_pc' : (Nat → Int32)) (a_start' : (Nat → Int32)) (a_here' : (Nat → Int32)) (a_path' : (Nat → Int64)) (a_coming' : (Nat → Int64)) (a_variable' : (Nat → Int32)) (g_depth' : Int32) (g_result' : Int32) (g_outcome' : Int32) (g_over' : Int32) (b_begun' : (Nat → Int32)) (b_taken' : (Nat → Int32)) (b_thrown' : (Nat → Int32)) (b_rowI' : (Nat → Int32)) (b_rowWay' : (Nat → Int32)) (b_rowLength' : (Nat → Int32)) (b_times' : (Nat → Int32)) (b_told' : (Nat → Int32)) (b_method' : (Nat → Int32)) (b_pc' : (Nat → Int32)) (b_variable' : (Nat → Int32)) (b_hereI' : (Nat → Int32)) (b_hereWay' : (Nat → Int32)) (b_hereLength' : (Nat → Int32)) (b_into' : (Nat → Int32)), (ro_ok a_length a_op a_opB a_adds b_kBegun b_kTaken b_kThrown f_depth' f_outcome' f_result' a_counter' a_raised' a_stopped' a_caught' a_unbegun' a_first' a_last' a_sum' a_often' a_told' a_method' a_pc' a_start' a_here' a_path' a_coming' a_variable' g_depth' g_result' g_outcome' g_over' b_begun' b_taken' b_thrown' b_rowI' b_rowWay' b_rowLength' b_times' b_told' b_method' b_pc' b_variable' b_hereI' b_hereWay' b_hereLength' b_into') ent' ∧ (∀ post : SX → Prop, post (f_load, f_depth', f_begun, f_outcome', f_result', a_op, a_opA, a_opB, a_opLine, a_length, a_guards, a_handlers, a_kept, a_keptLoad, a_counter', a_raised', a_stopped', a_caught', a_unbegun', a_leads, a_counts, a_adds, a_goes, a_needed, a_known, a_solved, a_open, a_unknown, a_balance, a_group, a_first', a_last', a_sum', a_often', a_told', a_method', a_pc', a_start', a_here', a_path', a_coming', a_variable') → (wpX_call post (f_load, (nI (d + 1)), f_begun, 0, 0, a_op, a_opA, a_opB, a_opLine, a_length, a_guards, a_handlers, a_kept, a_keptLoad, a_counter, a_raised, a_stopped, a_caught, a_unbegun, a_leads, a_counts, a_adds, a_goes, a_needed, a_known, a_solved, a_open, a_unknown, a_balance, a_group, a_first, a_last, a_sum, a_often, a_told, a_method, a_pc, a_start, a_here, a_path, a_coming, a_variable) (nI d) (nI q))) ∧ (∀ post : SY → Prop, post (g_depth', g_steps, g_result', g_outcome', g_load, g_over', b_op, b_a, b_b, b_line, b_length, b_from, b_to, b_at, b_handlers, b_begun', b_taken', b_thrown', b_rowI', b_rowWay', b_rowLength', b_times', b_told', b_kOp, b_kA, b_kB, b_kLine, b_kLength, b_kFrom, b_kTo, b_kAt, b_kHandlers, b_kBegun, b_kTaken, b_kThrown, b_kept, b_method', b_pc', b_variable', b_hereI', b_hereWay', b_hereLength', b_into', b_kLoad, b_part) → (wpY_call post ((nI (d + 1)), g_steps, 0, 0, g_load, 0, b_op, b_a, b_b, b_line, b_length, b_from, b_to, b_at, b_handlers, b_begun, b_taken, b_thrown, b_rowI, b_rowWay, b_rowLength, b_times, b_told, b_kOp, b_kA, b_kB, b_kLine, b_kLength, b_kFrom, b_kTo, b_kAt, b_kHandlers, b_kBegun, b_kTaken, b_kThrown, b_kept, b_method, b_pc, a_variable, b_hereI, b_hereWay, b_hereLength, b_into, b_kLoad, b_part) (nI q))) := by
  have hn4 : ∀ m, m < 4 → xn a_length m ≤ 24 := fun m hm => (rc_len C (r := m) (by omega)).2.2
  obtain ⟨l1, l2, _⟩ := rc_len C (r := q) (by omega)
  have i5 : vp_in (nI q) 5 := pk_in q 5 (by omega)
  have ry : b_length (nI q).toNatClampNeg = nI (xn a_length q) := qa_r q rfl l2
  rcases qb_thX (f_load := f_load) (f_depth := (nI (d + 1))) (f_begun := f_begun) (f_outcome := 0) (f_result := 0) (a_op := a_op) (a_opA := a_opA) (a_opB := a_opB) (a_opLine := a_opLine) (a_length := a_length) (a_guards := a_guards) (a_handlers := a_handlers) (a_kept := a_kept) (a_keptLoad := a_keptLoad) (a_counter := a_counter) (a_raised := a_raised) (a_stopped := a_stopped) (a_caught := a_caught) (a_unbegun := a_unbegun) (a_leads := a_leads) (a_counts := a_counts) (a_adds := a_adds) (a_goes := a_goes) (a_needed := a_needed) (a_known := a_known) (a_solved := a_solved) (a_open := a_open) (a_unknown := a_unknown) (a_balance := a_balance) (a_group := a_group) (a_first := a_first) (a_last := a_last) (a_sum := a_sum) (a_often := a_often) (a_told := a_told) (a_method := a_method) (a_pc := a_pc) (a_start := a_start) (a_here := a_here) (a_path := a_path) (a_coming := a_coming) (a_variable := a_variable) (g_depth := (nI (d + 1))) (g_steps := g_steps) (g_result := 0) (g_outcome := 0) (g_load := g_load) (g_over := 0) (b_op := b_op) (b_a := b_a) (b_b := b_b) (b_line := b_line) (b_length := b_length) (b_from := b_from) (b_to := b_to) (b_at := b_at) (b_handlers := b_handlers) (b_begun := b_begun) (b_taken := b_taken) (b_thrown := b_thrown) (b_rowI := b_rowI) (b_rowWay := b_rowWay) (b_rowLength := b_rowLength) (b_times := b_times) (b_told := b_told) (b_kOp := b_kOp) (b_kA := b_kA) (b_kB := b_kB) (b_kLine := b_kLine) (b_kLength := b_kLength) (b_kFrom := b_kFrom) (b_kTo := b_kTo) (b_kAt := b_kAt) (b_kHandlers := b_kHandlers) (b_kBegun := b_kBegun) (b_kTaken := b_kTaken) (b_kThrown := b_kThrown) (b_kept := b_kept) (b_method := b_method) (b_pc := b_pc) (b_variable := a_variable) (b_hereI := b_hereI) (b_hereWay := b_hereWay) (b_hereLength := b_hereLength) (b_into := b_into) (b_kLoad := b_kLoad) (b_part := b_part) C hq with ⟨z, tX, _⟩ | ⟨z, tX, _⟩
  · have ny : ¬ b_length (nI q).toNatClampNeg = 0 := by rw [ry]; exact nI_ne0 z (by have := hn4 q hq; omega)
    by_cases c6 : d + 1 = 6
    · obtain ⟨f_depth', f_outcome', f_result', a_counter', a_raised', a_stopped', a_caught', a_unbegun', a_first', a_last', a_sum', a_often', a_told', a_method', a_pc', a_start', a_here', a_path', a_coming', a_variable', g_depth', g_result', g_outcome', g_over', b_begun', b_taken', b_thrown', b_rowI', b_rowWay', b_rowLength', b_times', b_told', b_method', b_pc', b_variable', b_hereI', b_hereWay', b_hereLength', b_into', R, hX, hY⟩ := rl_raise (ent := ent) C P d hd (-2) m i a_counter a_raised a_stopped a_caught a_unbegun a_first a_last a_sum a_often a_told a_method a_pc a_start a_here a_path a_coming a_variable b_begun b_taken b_thrown b_rowI b_rowWay b_rowLength b_times b_told b_method b_pc b_hereI b_hereWay b_hereLength b_into hS hW hB hF
      refine ⟨ent, f_depth', f_outcome', f_result', a_counter', a_raised', a_stopped', a_caught', a_unbegun', a_first', a_last', a_sum', a_often', a_told', a_method', a_pc', a_start', a_here', a_path', a_coming', a_variable', g_depth', g_result', g_outcome', g_over', b_begun', b_taken', b_thrown', b_rowI', b_rowWay', b_rowLength', b_times', b_told', b_method', b_pc', b_variable', b_hereI', b_hereWay', b_hereLength', b_into', R, fun post hp => ?_, fun post hp => ?_⟩
      · unfold wpX_call
        refine tX _ ?_
        exact br_f (by decide) (br_t (by rw [c6]; rfl) ⟨d + 2, hX _ hp _ (by omega)⟩)
      · exact nm_r (nI_pred d) ⟨i5, br_f ny (br_t (by rw [c6]; rfl) ⟨d + 2, hY _ hp _ (by omega)⟩)⟩
    · have n6 : ¬ nI (d + 1) = 6 := fun zz => c6 ((nI_eq (b := 6) (by omega) (by omega)).mp zz)
      have e0 : (4 : Int32) * nI d = nI (4 * d) := qa_m4 d
      have e1 : (4 : Int32) * nI d + 1 = nI (4 * d + 1) := by rw [e0, nI_1]
      have i0 : vp_in (4 * nI d) 24 := pk_in (4 * d) 24 (by omega) e0
      have i1 : vp_in (4 * nI d + 1) 24 := pk_in (4 * d + 1) 24 (by omega) e1
      have hF2 := eg_enter (m0 := q) hn4 hF
      have hBc := hB.1
      have W' := fr_W_congr (d := d + 1) (method2 := upd a_method (d + 1) (nI q)) (pc2 := upd a_pc (d + 1) (nI 0)) (start2 := upd a_start (d + 1) (nI 0)) (here2 := upd a_here (d + 1) (-1)) (path2 := vp_updL a_path (d + 1) 0) (method2' := upd b_method (d + 1) (nI q)) (pc2' := upd b_pc (d + 1) (nI 0)) (hI2 := b_hereI) (hW2 := b_hereWay) (hL2 := upd b_hereLength (d + 1) 0) hn4 (fun f hf => by
        by_cases cf : f = d
        · subst cf
          exact ⟨m, i, hB, ho⟩
        · exact hW f (by omega)) (fun f hf => ⟨pk_un (by omega), pk_un (by omega), pk_un (by omega), pk_un (by omega), pk_uLn (by omega), pk_un (by omega), pk_un (by omega), pk_un (by omega), fun j hj => ⟨rfl, rfl⟩⟩)
      have en : fr_n (upd a_method (d + 1) (nI q)) (upd a_pc (d + 1) (nI 0)) (d + 1) = fr_n a_method a_pc (d + 1) := fr_n_congr (fun f hf => ⟨pk_un (by omega), pk_un (by omega)⟩)
      refine ⟨fun m => if m = q then ent m + 1 else ent m, (nI (d + 1 + 1)), 0, 0, a_counter, a_raised, a_stopped, a_caught, a_unbegun, a_first, a_last, a_sum, a_often, a_told, (upd a_method (d + 1) (nI q)), (upd a_pc (d + 1) (nI 0)), (upd a_start (d + 1) (nI 0)), (upd a_here (d + 1) (-1)), (vp_updL a_path (d + 1) 0), (vp_updL a_coming (d + 1) 0), (upd (upd (upd (upd a_variable (4 * (d + 1)) (a_variable (4 * d))) (4 * (d + 1) + 1) (a_variable (4 * d + 1))) (4 * (d + 1) + 2) 0) (4 * (d + 1) + 3) 0), (nI (d + 1 + 1)), 0, 0, 0, b_begun, b_taken, b_thrown, b_rowI, b_rowWay, b_rowLength, b_times, b_told, (upd b_method (d + 1) (nI q)), (upd b_pc (d + 1) (nI 0)), (upd (upd (upd (upd a_variable (4 * (d + 1)) (a_variable (4 * d))) (4 * (d + 1) + 1) (a_variable (4 * d + 1))) (4 * (d + 1) + 2) 0) (4 * (d + 1) + 3) 0), b_hereI, b_hereWay, (upd b_hereLength (d + 1) 0), (upd b_into (d + 1) 0), ⟨hS, rfl, Or.inl ⟨d + 1, q, 0, by omega, rfl, rfl, rfl, rfl, rfl, rfl, rfl, W', ⟨⟨hq, z, pk_us, pk_us, pk_us, pk_us⟩, Or.inl ⟨pk_us, pk_us, pk_us, pk_uLs, pk_uLs⟩⟩, ?_⟩⟩, fun post hp => ?_, fun post hp => ?_⟩
      · rw [en]
        exact eg_fc hF2 (fun m' p' hm' hp' => ⟨by
          show fr_n a_method a_pc (d + 1) m' p' + rn_y q 0 m' p' = fr_n a_method a_pc d m' p' + rn_y m i m' p' + rn_y q 0 m' p'
          rw [fr_n_succ hBc.2.2.1 hBc.2.2.2.2.1 hBc.1 (Nat.lt_of_lt_of_le hBc.2.1 (hn4 m hBc.1)) hm' (Nat.lt_of_lt_of_le hp' (hn4 m' hm'))], rfl⟩)
      · unfold wpX_call
        refine tX _ ?_
        refine br_f (by decide) (br_f n6 ⟨i0, i1, ?_⟩)
        rw [e1, e0, nI_clamp (by omega), nI_clamp (by omega)]
        exact rl_enterX (by omega) hq hp
      · refine nm_r (nI_pred d) ⟨i5, br_f ny (br_f n6 ⟨i0, i1, ?_⟩)⟩
        rw [e1, e0, nI_clamp (by omega), nI_clamp (by omega)]
        exact rl_enterY (by omega) hp
  · obtain ⟨f_depth', f_outcome', f_result', a_counter', a_raised', a_stopped', a_caught', a_unbegun', a_first', a_last', a_sum', a_often', a_told', a_method', a_pc', a_start', a_here', a_path', a_coming', a_variable', g_depth', g_result', g_outcome', g_over', b_begun', b_taken', b_thrown', b_rowI', b_rowWay', b_rowLength', b_times', b_told', b_method', b_pc', b_variable', b_hereI', b_hereWay', b_hereLength', b_into', R, hX, hY⟩ := rl_raise (ent := ent) C P d hd (-1) m i a_counter a_raised a_stopped a_caught a_unbegun a_first a_last a_sum a_often a_told a_method a_pc a_start a_here a_path a_coming a_variable b_begun b_taken b_thrown b_rowI b_rowWay b_rowLength b_times b_told b_method b_pc b_hereI b_hereWay b_hereLength b_into hS hW hB hF
    refine ⟨ent, f_depth', f_outcome', f_result', a_counter', a_raised', a_stopped', a_caught', a_unbegun', a_first', a_last', a_sum', a_often', a_told', a_method', a_pc', a_start', a_here', a_path', a_coming', a_variable', g_depth', g_result', g_outcome', g_over', b_begun', b_taken', b_thrown', b_rowI', b_rowWay', b_rowLength', b_times', b_told', b_method', b_pc', b_variable', b_hereI', b_hereWay', b_hereLength', b_into', R, fun post hp => ?_, fun post hp => ?_⟩
    · unfold wpX_call
      refine tX _ ?_
      exact br_t rfl ⟨d + 2, hX _ hp _ (by omega)⟩
    · exact nm_r (nI_pred d) ⟨i5, br_t (by rw [ry, z]; rfl) ⟨d + 2, hY _ hp _ (by omega)⟩⟩
end
end
section
/-! a run: one step -/
theorem rl_neg (x : Int32) : x / (-1) = -x := by
  apply Int32.toInt_inj.mp
  rw [Int32.toInt_div, show (-1 : Int32).toInt = -1 from by decide, Int.tdiv_neg, Int.tdiv_one, Int32.toInt_neg]
section
variable {f_load : Int32} {f_depth : Int32} {f_begun : Int32} {f_outcome : Int32} {f_result : Int32} {a_op : (Nat → Int32)} {a_opA : (Nat → Int32)} {a_opB : (Nat → Int32)} {a_opLine : (Nat → Int32)} {a_length : (Nat → Int32)} {a_guards : (Nat → Int32)} {a_handlers : (Nat → Int32)} {a_kept : (Nat → Int32)} {a_keptLoad : (Nat → Int32)} {a_counter : (Nat → Int32)} {a_raised : (Nat → Int32)} {a_stopped : (Nat → Int32)} {a_caught : (Nat → Int32)} {a_unbegun : (Nat → Int32)} {a_leads : (Nat → Int32)} {a_counts : (Nat → Int32)} {a_adds : (Nat → Int64)} {a_goes : (Nat → Int64)} {a_needed : (Nat → Int32)} {a_known : (Nat → Int32)} {a_solved : (Nat → Int32)} {a_open : (Nat → Int32)} {a_unknown : (Nat → Int32)} {a_balance : (Nat → Int32)} {a_group : (Nat → Int32)} {a_first : (Nat → Int32)} {a_last : (Nat → Int32)} {a_sum : (Nat → Int64)} {a_often : (Nat → Int32)} {a_told : (Nat → Int32)} {a_method : (Nat → Int32)} {a_pc : (Nat → Int32)} {a_start : (Nat → Int32)} {a_here : (Nat → Int32)} {a_path : (Nat → Int64)} {a_coming : (Nat → Int64)} {a_variable : (Nat → Int32)} {g_depth : Int32} {g_steps : Int32} {g_result : Int32} {g_outcome : Int32} {g_load : Int32} {g_over : Int32} {b_op : (Nat → Int32)} {b_a : (Nat → Int32)} {b_b : (Nat → Int32)} {b_line : (Nat → Int32)} {b_length : (Nat → Int32)} {b_from : (Nat → Int32)} {b_to : (Nat → Int32)} {b_at : (Nat → Int32)} {b_handlers : (Nat → Int32)} {b_begun : (Nat → Int32)} {b_taken : (Nat → Int32)} {b_thrown : (Nat → Int32)} {b_rowI : (Nat → Int32)} {b_rowWay : (Nat → Int32)} {b_rowLength : (Nat → Int32)} {b_times : (Nat → Int32)} {b_told : (Nat → Int32)} {b_kOp : (Nat → Int32)} {b_kA : (Nat → Int32)} {b_kB : (Nat → Int32)} {b_kLine : (Nat → Int32)} {b_kLength : (Nat → Int32)} {b_kFrom : (Nat → Int32)} {b_kTo : (Nat → Int32)} {b_kAt : (Nat → Int32)} {b_kHandlers : (Nat → Int32)} {b_kBegun : (Nat → Int32)} {b_kTaken : (Nat → Int32)} {b_kThrown : (Nat → Int32)} {b_kept : (Nat → Int32)} {b_method : (Nat → Int32)} {b_pc : (Nat → Int32)} {b_variable : (Nat → Int32)} {b_hereI : (Nat → Int32)} {b_hereWay : (Nat → Int32)} {b_hereLength : (Nat → Int32)} {b_into : (Nat → Int32)} {b_kLoad : (Nat → Int32)} {b_part : (Nat → Int32)}
theorem rl_begin {d m i : Nat} (hn : xn a_length m ≤ 24) (h : (fr_R a_length a_op a_opB a_adds a_method a_pc a_start a_here a_path a_coming b_method b_pc b_hereI b_hereWay b_hereLength b_into) d m i) : ∃ (L : Nat) (z0 : Int32), L < 24 ∧ b_hereLength d = nI L ∧ (L = 0 → z0 = 0) ∧ (L ≠ 0 → z0 = b_into d) ∧ (fr_B a_length a_op a_opB a_adds a_method a_pc a_start (upd a_here d (nI i)) (vp_updL a_path d (a_path d + a_coming d)) b_method b_pc (upd b_hereI (24 * d + L) (nI i)) (upd b_hereWay (24 * d + L) z0) (upd b_hereLength d (nI (L + 1)))) d m i := by
  obtain ⟨hc, hcase⟩ := h
  have hi := hc.2.1
  rcases hcase with ⟨q1, q2, q3, q4, q5⟩ | ⟨D, p, w, k, ⟨k1, k2, k3, k4, k5, k6⟩, hk, e1, e2, e3, e4⟩
  · refine ⟨0, 0, by omega, q1, fun _ => rfl, fun z => absurd rfl z, hc, 0, fun _ => i, fun _ => 0, ⟨⟨rfl, fun j hj => ⟨hi, Nat.zero_lt_succ 3⟩, fun j hj => absurd hj (by omega)⟩, pk_us, fun j hj => ?_, q2, pk_us, ?_⟩, rfl⟩
    · obtain rfl : j = 0 := by omega
      exact ⟨pk_us, pk_us⟩
    · refine pk_uLs.trans ?_
      rw [q4, q5]; rfl
  · have inc := pt_inc k1 D 0 (by omega)
    rw [Nat.zero_add] at inc
    have hp : pt_path (ul a_length a_op a_opB m) (xn a_length m) (fun j => if j ≤ D then p j else i) (fun j => if j ≤ D then w j else k) (D + 1) := by
      refine ⟨?_, fun j hj => ?_, fun j hj => ?_⟩
      · show (if 0 ≤ D then w 0 else k) = 0
        rw [if_pos (by omega)]; exact k1.1
      · show (if j ≤ D then p j else i) < _ ∧ (if j ≤ D then w j else k) < 4
        by_cases c : j ≤ D
        · rw [if_pos c, if_pos c]; exact k1.2.1 j c
        · rw [if_neg c, if_neg c]; exact ⟨hi, hk⟩
      · show (if j ≤ D then p j else i) < (if j + 1 ≤ D then p (j + 1) else i) ∧ ul a_length a_op a_opB m (1 + 4 * (if j ≤ D then p j else i) + (if j + 1 ≤ D then w (j + 1) else k)) = (if j + 1 ≤ D then p (j + 1) else i)
        by_cases c : j + 1 ≤ D
        · rw [if_pos c, if_pos c, if_pos (by omega)]; exact k1.2.2 j (by omega)
        · rw [if_neg c, if_neg c, if_pos (by omega)]
          obtain rfl : j = D := by omega
          exact ⟨e2, e3⟩
    refine ⟨D + 1, b_into d, by omega, k2, fun z => absurd z (by omega), fun _ => rfl, hc, D + 1, (fun j => if j ≤ D then p j else i), (fun j => if j ≤ D then w j else k), ⟨hp, pk_us, fun j hj => ?_, ?_, ?_, ?_⟩, ?_⟩
    · show upd b_hereI (24 * d + (D + 1)) (nI i) (24 * d + j) = nI (if j ≤ D then p j else i) ∧ upd b_hereWay (24 * d + (D + 1)) (b_into d) (24 * d + j) = nI (if j ≤ D then w j else k)
      by_cases c : j ≤ D
      · rw [pk_un (by omega), pk_un (by omega), if_pos c, if_pos c]; exact k3 j c
      · obtain rfl : j = D + 1 := by omega
        rw [pk_us, pk_us, if_neg c, if_neg c]; exact ⟨rfl, e1⟩
    · show a_start d = nI (if 0 ≤ D then p 0 else i)
      rw [if_pos (by omega)]; exact k4
    · show upd a_here d (nI i) d = nI (if D + 1 ≤ D then p (D + 1) else i)
      rw [if_neg (by omega)]; exact pk_us
    · show vp_updL a_path d (a_path d + a_coming d) d = pt_sL (fun e => a_adds (97 * m + e)) (fun j => if j ≤ D then p j else i) (fun j => if j ≤ D then w j else k) D + a_adds (97 * m + (1 + 4 * (if D ≤ D then p D else i) + (if D + 1 ≤ D then w (D + 1) else k)))
      rw [pk_uLs, if_pos (Nat.le_refl _), if_neg (by omega), e4, k6, pt_sL_congr (p := p) (w := w) (p' := fun j => if j ≤ D then p j else i) (w' := fun j => if j ≤ D then w j else k) D (fun j hj => ⟨(if_pos hj).symm, (if_pos hj).symm⟩)]
    · show (if D + 1 ≤ D then p (D + 1) else i) = i
      rw [if_neg (by omega)]
theorem rl_step {ent : Nat → Int32} {d m i : Nat} (hd : d < 6) (C : (rc_code a_op a_opA a_opB a_opLine a_guards a_length a_handlers b_op b_a b_b b_line b_from b_to b_at b_length b_handlers)) (P : (rc_plan a_length a_op a_opB a_leads a_counts a_adds a_needed)) (hS : (rc_str a_length a_op a_opB a_adds a_first a_last a_sum a_often a_told b_rowI b_rowWay b_rowLength b_times b_told)) (hW : (fr_W a_length a_op a_opB a_adds a_method a_pc a_start a_here a_path b_method b_pc b_hereI b_hereWay b_hereLength) d) (hR : (fr_R a_length a_op a_opB a_adds a_method a_pc a_start a_here a_path a_coming b_method b_pc b_hereI b_hereWay b_hereLength b_into) d m i) (hF : (rg_flow a_length a_op a_opB a_raised a_stopped a_caught a_unbegun a_counter b_begun b_taken b_thrown b_kBegun b_kTaken b_kThrown) ent (fun m' p => fr_n a_method a_pc d m' p + rn_y m i m' p) (rn_y m i)) :
    ∃ ent' : Nat → Int32, ∃ (f_depth' : Int32) (f_outcome' : Int32) (f_result' : Int32) (a_counter' : (Nat → Int32)) (a_raised' : (Nat → Int32)) (a_stopped' : (Nat → Int32)) (a_caught' : (Nat → Int32)) (a_unbegun' : (Nat → Int32)) (a_first' : (Nat → Int32)) (a_last' : (Nat → Int32)) (a_sum' : (Nat → Int64)) (a_often' : (Nat → Int32)) (a_told' : (Nat → Int32)) (a_method' : (Nat → Int32)) (a_pc' : (Nat → Int32)) (a_start' : (Nat → Int32)) (a_here' : (Nat → Int32)) (a_path' : (Nat → Int64)) (a_coming' : (Nat → Int64)) (a_variable' : (Nat → Int32)) (g_depth' : Int32) (g_result' : Int32) (g_outcome' : Int32) (g_over' : Int32) (b_begun' : (Nat → Int32)) (b_taken' : (Nat → Int32)) (b_thrown' : (Nat → Int32)) (b_rowI' : (Nat → Int32)) (b_rowWay' : (Nat → Int32)) (b_rowLength' : (Nat → Int32)) (b_times' : (Nat → Int32)) (b_told' : (Nat → Int32)) (b_method' : (Nat → Int32)) (b_pc' : (Nat → Int32)) (b_variable' : (Nat → Int32)) (b_hereI' : (Nat → Int32)) (b_hereWay' : (Nat → Int32)) (b_hereLength' : (Nat → Int32)) (b_into' : (Nat → Int32)), (ro_ok a_length a_op a_opB a_adds b_kBegun b_kTaken b_kThrown f_depth' f_outcome' f_result' a_counter' a_raised' a_stopped' a_caught' a_unbegun' a_first' a_last' a_sum' a_often' a_told' a_method' a_pc' a_start' a_here' a_path' a_coming' a_variable' g_depth' g_result' g_outcome' g_over' b_begun' b_taken' b_thrown' b_rowI' b_rowWay' b_rowLength' b_times' b_told' b_method' b_pc' b_variable' b_hereI' b_hereWay' b_hereLength' b_into') ent' ∧ (∀ post : SX → Prop, post (f_load, f_depth', (f_begun + 1), f_outcome', f_result', a_op, a_opA, a_opB, a_opLine, a_length, a_guards, a_handlers, a_kept, a_keptLoad, a_counter', a_raised', a_stopped', a_caught', a_unbegun', a_leads, a_counts, a_adds, a_goes, a_needed, a_known, a_solved, a_open, a_unknown, a_balance, a_group, a_first', a_last', a_sum', a_often', a_told', a_method', a_pc', a_start', a_here', a_path', a_coming', a_variable') → (wpX_step post (f_load, (nI (d + 1)), f_begun, 0, 0, a_op, a_opA, a_opB, a_opLine, a_length, a_guards, a_handlers, a_kept, a_keptLoad, a_counter, a_raised, a_stopped, a_caught, a_unbegun, a_leads, a_counts, a_adds, a_goes, a_needed, a_known, a_solved, a_open, a_unknown, a_balance, a_group, a_first, a_last, a_sum, a_often, a_told, a_method, a_pc, a_start, a_here, a_path, a_coming, a_variable))) ∧ (∀ post : SY → Prop, post (g_depth', (g_steps + 1), g_result', g_outcome', (g_load + 1), g_over', b_op, b_a, b_b, b_line, b_length, b_from, b_to, b_at, b_handlers, b_begun', b_taken', b_thrown', b_rowI', b_rowWay', b_rowLength', b_times', b_told', b_kOp, b_kA, b_kB, b_kLine, b_kLength, b_kFrom, b_kTo, b_kAt, b_kHandlers, b_kBegun, b_kTaken, b_kThrown, b_kept, b_method', b_pc', b_variable', b_hereI', b_hereWay', b_hereLength', b_into', b_kLoad, b_part) → (wpY_step post ((nI (d + 1)), g_steps, 0, 0, g_load, 0, b_op, b_a, b_b, b_line, b_length, b_from, b_to, b_at, b_handlers, b_begun, b_taken, b_thrown, b_rowI, b_rowWay, b_rowLength, b_times, b_told, b_kOp, b_kA, b_kB, b_kLine, b_kLength, b_kFrom, b_kTo, b_kAt, b_kHandlers, b_kBegun, b_kTaken, b_kThrown, b_kept, b_method, b_pc, a_variable, b_hereI, b_hereWay, b_hereLength, b_into, b_kLoad, b_part))) := by
  have hn4 : ∀ m, m < 4 → xn a_length m ≤ 24 := fun m hm => (rc_len C (r := m) (by omega)).2.2
  obtain ⟨hm, hi, c3, c4, c5, c6⟩ := hR.1
  have hn := hn4 m hm
  obtain ⟨L, z0, hL, hhl, hz0, hz1, hB⟩ := rl_begin hn hR
  have hF2 := eg_begin hn4 (show i < 24 by omega) hF
  have W' := fr_W_congr (method2 := a_method) (pc2 := a_pc) (start2 := a_start) (here2 := upd a_here d (nI i)) (path2 := vp_updL a_path d (a_path d + a_coming d)) (method2' := b_method) (pc2' := b_pc) (hI2 := upd b_hereI (24 * d + L) (nI i)) (hW2 := upd b_hereWay (24 * d + L) z0) (hL2 := upd b_hereLength d (nI (L + 1))) hn4 hW (fun f hf => ⟨rfl, rfl, rfl, pk_un (by omega), pk_uLn (by omega), rfl, rfl, pk_un (by omega), fun j hj => ⟨pk_un (by omega), pk_un (by omega)⟩⟩)
  obtain ⟨⟨o, ho, o1, o2⟩, ⟨c, hc, a1, a2⟩, bb, _⟩ := (C m (by omega)).2.2.1 i (by omega)
  have o1' : a_op (24 * m + i) = nI o := o1
  have o2' : b_op (24 * m + i) = nI o := o2
  have bb' : a_opB (24 * m + i) = b_b (24 * m + i) := bb
  have i6 : vp_in (nI d) 6 := pk_in d 6 hd
  have rf : ∀ g : Nat → Int32, g (nI d).toNatClampNeg = g d := fun g => qa_rr d rfl
  have rfL : ∀ g : Nat → Int64, g (nI d).toNatClampNeg = g d := fun g => qa_rr d rfl
  have ix : vp_in (24 * nI m + nI i) 408 := pk_in (24 * m + i) 408 (by omega) (qa_24 m i)
  have rX : ∀ g : Nat → Int32, g (24 * nI m + nI i).toNatClampNeg = g (24 * m + i) := fun g => qa_rr _ (qa_24 m i)
  have ix120 : vp_in (nI (24 * m + i)) 120 := pk_in (24 * m + i) 120 (by omega)
  have ix96 : vp_in (nI (24 * m + i)) 96 := pk_in (24 * m + i) 96 (by omega)
  have rY : ∀ g : Nat → Int32, g (nI (24 * m + i)).toNatClampNeg = g (24 * m + i) := fun g => qa_rr _ rfl
  obtain ⟨q, hq, eq⟩ := pk_andE (a_opB (24 * m + i)) (m := 3) 2 (by decide)
  have eqx : (4 : Int32) * nI d + (a_opB (24 * m + i) &&& 3) = nI (4 * d + q) := by rw [eq, qa_4]
  have eqy : (4 : Int32) * nI d + (b_b (nI (24 * m + i)).toNatClampNeg &&& 3) = nI (4 * d + q) := by rw [rY b_b, ← bb', eq, qa_4]
  have iv : vp_in (nI (4 * d + c)) 24 := pk_in (4 * d + c) 24 (by omega)
  have eax : (4 : Int32) * nI d + a_opA (24 * nI m + nI i).toNatClampNeg = nI (4 * d + c) := by rw [rX a_opA, show a_opA (24 * m + i) = nI c from a1, qa_4]
  have eay : (4 : Int32) * nI d + b_a (nI (24 * m + i)).toNatClampNeg = nI (4 * d + c) := by rw [rY b_a, show b_a (24 * m + i) = nI c from a2, qa_4]
  have rV : ∀ g : Nat → Int32, g (nI (4 * d + c)).toNatClampNeg = g (4 * d + c) := fun g => qa_rr _ rfl
  have eS : ∀ (g : Nat → Int32) (x : Int32), upd g (nI (4 * d + c)).toNatClampNeg x = upd g (4 * d + c) x := fun g x => by rw [nI_clamp (by omega)]
  have i144 : vp_in (nI (24 * d + L)) 144 := pk_in (24 * d + L) 144 (by omega)
  have ehl : (24 : Int32) * nI d + b_hereLength (nI d).toNatClampNeg = nI (24 * d + L) := by rw [rf b_hereLength, hhl, qa_24]
  -- the reference up to its first branch
  have preY : ∀ post : SY → Prop, (wY_step_106 post (nI d) (nI (24 * m + i)) z0 (nI (24 * d + L)) (nI (d + 1)) (g_steps + 1) 0 0 (g_load + 1) 0 b_op b_a b_b b_line b_length b_from b_to b_at b_handlers (upd b_begun (24 * m + i) (b_begun (24 * m + i) + 1)) b_taken b_thrown b_rowI b_rowWay b_rowLength b_times b_told b_kOp b_kA b_kB b_kLine b_kLength b_kFrom b_kTo b_kAt b_kHandlers b_kBegun b_kTaken b_kThrown b_kept b_method b_pc a_variable (upd b_hereI (24 * d + L) (nI i)) b_hereWay b_hereLength b_into b_kLoad b_part) → (wpY_step post ((nI (d + 1)), g_steps, 0, 0, g_load, 0, b_op, b_a, b_b, b_line, b_length, b_from, b_to, b_at, b_handlers, b_begun, b_taken, b_thrown, b_rowI, b_rowWay, b_rowLength, b_times, b_told, b_kOp, b_kA, b_kB, b_kLine, b_kLength, b_kFrom, b_kTo, b_kAt, b_kHandlers, b_kBegun, b_kTaken, b_kThrown, b_kept, b_method, b_pc, a_variable, b_hereI, b_hereWay, b_hereLength, b_into, b_kLoad, b_part)) := by
    intro post h
    refine nm_r (nI_pred d) ⟨i6, nm_r ((rf b_method).trans c4) ⟨i6, nm_r ((rf b_pc).trans c6) (nm_r (qa_24 m i) ⟨i6, nm_r ehl (nm_e (nm_e ⟨ix96, ix96, nm_r (e' := upd b_begun (24 * m + i) (b_begun (24 * m + i) + 1)) (by rw [nI_clamp (by omega)]) ⟨i144, nm_r (e' := upd b_hereI (24 * d + L) (nI i)) (by rw [nI_clamp (by omega)]) ⟨i6, ?_⟩⟩⟩))⟩)⟩⟩
    rw [rf b_hereLength, hhl]
    by_cases cL : L = 0
    · have := hz0 cL
      subst this
      exact br_t (by rw [cL]; rfl) h
    · have := hz1 cL
      subst this
      refine br_f (nI_ne0 (by omega) (by omega)) ⟨i6, ?_⟩
      rw [rf b_into]
      exact h
  have ehw : upd b_hereWay (nI (24 * d + L)).toNatClampNeg z0 = upd b_hereWay (24 * d + L) z0 := by rw [nI_clamp (by omega)]
  have ehl2 : upd b_hereLength (nI d).toNatClampNeg (b_hereLength (nI d).toNatClampNeg + 1) = upd b_hereLength d (nI (L + 1)) := by rw [rf b_hereLength, hhl, nI_1, nI_clamp (by omega)]
  have rv : a_variable (4 * nI d + (b_b (nI (24 * m + i)).toNatClampNeg &&& 3)).toNatClampNeg = a_variable (4 * d + q) := qa_rr _ eqy
  have rvx : a_variable (4 * nI d + (a_opB (24 * m + i) &&& 3)).toNatClampNeg = a_variable (4 * d + q) := qa_rr _ eqx
  have i24y : vp_in (4 * nI d + (b_b (nI (24 * m + i)).toNatClampNeg &&& 3)) 24 := pk_in (4 * d + q) 24 (by omega) eqy
  have i24x : vp_in (4 * nI d + (a_opB (24 * m + i) &&& 3)) 24 := pk_in (4 * d + q) 24 (by omega) eqx
  have goYn : ¬ o = 0 → ∀ post : SY → Prop, (wY_step_178 post (nI (24 * m + i)) (nI (4 * d + c)) (a_variable (4 * d + q)) (nI o) (nI (d + 1)) (g_steps + 1) 0 0 (g_load + 1) 0 b_op b_a b_b b_line b_length b_from b_to b_at b_handlers (upd b_begun (24 * m + i) (b_begun (24 * m + i) + 1)) b_taken b_thrown b_rowI b_rowWay b_rowLength b_times b_told b_kOp b_kA b_kB b_kLine b_kLength b_kFrom b_kTo b_kAt b_kHandlers b_kBegun b_kTaken b_kThrown b_kept b_method b_pc a_variable (upd b_hereI (24 * d + L) (nI i)) (upd b_hereWay (24 * d + L) z0) (upd b_hereLength d (nI (L + 1))) b_into b_kLoad b_part) → (wpY_step post ((nI (d + 1)), g_steps, 0, 0, g_load, 0, b_op, b_a, b_b, b_line, b_length, b_from, b_to, b_at, b_handlers, b_begun, b_taken, b_thrown, b_rowI, b_rowWay, b_rowLength, b_times, b_told, b_kOp, b_kA, b_kB, b_kLine, b_kLength, b_kFrom, b_kTo, b_kAt, b_kHandlers, b_kBegun, b_kTaken, b_kThrown, b_kept, b_method, b_pc, a_variable, b_hereI, b_hereWay, b_hereLength, b_into, b_kLoad, b_part)) := by
    intro no post h
    exact preY post ⟨i144, nm_r ehw ⟨i6, i6, nm_r ehl2 ⟨ix120, nm_r eay ⟨ix120, i24y, nm_r rv ⟨ix120, nm_r ((rY b_op).trans o2') (br_f (nI_ne0 (by omega) (by omega)) h)⟩⟩⟩⟩⟩
  have goY0 : o = 0 → ∀ post : SY → Prop, (wY_step_178 post (nI (24 * m + i)) (nI (4 * d + c)) (a_variable (4 * d + q)) (nI o) (nI (d + 1)) (g_steps + 1) 0 0 (g_load + 1) 0 b_op b_a b_b b_line b_length b_from b_to b_at b_handlers (upd b_begun (24 * m + i) (b_begun (24 * m + i) + 1)) b_taken b_thrown b_rowI b_rowWay b_rowLength b_times b_told b_kOp b_kA b_kB b_kLine b_kLength b_kFrom b_kTo b_kAt b_kHandlers b_kBegun b_kTaken b_kThrown b_kept b_method b_pc (upd a_variable (4 * d + c) (a_opB (24 * m + i))) (upd b_hereI (24 * d + L) (nI i)) (upd b_hereWay (24 * d + L) z0) (upd b_hereLength d (nI (L + 1))) b_into b_kLoad b_part) → (wpY_step post ((nI (d + 1)), g_steps, 0, 0, g_load, 0, b_op, b_a, b_b, b_line, b_length, b_from, b_to, b_at, b_handlers, b_begun, b_taken, b_thrown, b_rowI, b_rowWay, b_rowLength, b_times, b_told, b_kOp, b_kA, b_kB, b_kLine, b_kLength, b_kFrom, b_kTo, b_kAt, b_kHandlers, b_kBegun, b_kTaken, b_kThrown, b_kept, b_method, b_pc, a_variable, b_hereI, b_hereWay, b_hereLength, b_into, b_kLoad, b_part)) := by
    intro no post h
    exact preY post ⟨i144, nm_r ehw ⟨i6, i6, nm_r ehl2 ⟨ix120, nm_r eay ⟨ix120, i24y, nm_r rv ⟨ix120, nm_r ((rY b_op).trans o2') (br_t (by rw [no]; rfl) ⟨ix120, iv, nm_r (e' := upd a_variable (4 * d + c) (a_opB (24 * m + i))) (by rw [eS, rY b_b, bb']) h⟩)⟩⟩⟩⟩⟩
  have eher : upd a_here (nI d).toNatClampNeg (vp_nar .byte (nI i).toInt8.toInt32) = upd a_here d (nI i) := by rw [qa_bb (by omega), nI_clamp (by omega)]
  have epa : vp_updL a_path (nI d).toNatClampNeg (a_path (nI d).toNatClampNeg + a_coming (nI d).toNatClampNeg) = vp_updL a_path d (a_path d + a_coming d) := by rw [nI_clamp (by omega)]
  have eco : vp_updL a_coming (nI d).toNatClampNeg 0 = vp_updL a_coming d 0 := by rw [nI_clamp (by omega)]
  have co : o = 0 ∨ o = 1 ∨ o = 2 ∨ o = 3 ∨ o = 4 ∨ o = 5 ∨ o = 6 ∨ o = 7 ∨ o = 8 ∨ o = 9 ∨ o = 10 ∨ o = 11 := by omega
  rcases co with rfl | rfl | rfl | rfl | rfl | rfl | rfl | rfl | rfl | rfl | rfl | rfl
  · obtain ⟨f_depth', f_outcome', f_result', a_counter', a_raised', a_stopped', a_caught', a_unbegun', a_first', a_last', a_sum', a_often', a_told', a_method', a_pc', a_start', a_here', a_path', a_coming', a_variable', g_depth', g_result', g_outcome', g_over', b_begun', b_taken', b_thrown', b_rowI', b_rowWay', b_rowLength', b_times', b_told', b_method', b_pc', b_variable', b_hereI', b_hereWay', b_hereLength', b_into', R, hX, hY⟩ := rl_go (ent := ent) (k := 0) (f_load := f_load) (f_begun := (f_begun + 1)) (a_op := a_op) (a_opA := a_opA) (a_opB := a_opB) (a_opLine := a_opLine) (a_length := a_length) (a_guards := a_guards) (a_handlers := a_handlers) (a_kept := a_kept) (a_keptLoad := a_keptLoad) (a_counter := a_counter) (a_raised := a_raised) (a_stopped := a_stopped) (a_caught := a_caught) (a_unbegun := a_unbegun) (a_leads := a_leads) (a_counts := a_counts) (a_adds := a_adds) (a_goes := a_goes) (a_needed := a_needed) (a_known := a_known) (a_solved := a_solved) (a_open := a_open) (a_unknown := a_unknown) (a_balance := a_balance) (a_group := a_group) (a_first := a_first) (a_last := a_last) (a_sum := a_sum) (a_often := a_often) (a_told := a_told) (a_method := a_method) (a_pc := a_pc) (a_start := a_start) (a_here := (upd a_here d (nI i))) (a_path := (vp_updL a_path d (a_path d + a_coming d))) (a_coming := (vp_updL a_coming d 0)) (a_variable := (upd a_variable (4 * d + c) (a_opB (24 * m + i)))) (g_steps := (g_steps + 1)) (g_load := (g_load + 1)) (b_op := b_op) (b_a := b_a) (b_b := b_b) (b_line := b_line) (b_length := b_length) (b_from := b_from) (b_to := b_to) (b_at := b_at) (b_handlers := b_handlers) (b_begun := (upd b_begun (24 * m + i) (b_begun (24 * m + i) + 1))) (b_taken := b_taken) (b_thrown := b_thrown) (b_rowI := b_rowI) (b_rowWay := b_rowWay) (b_rowLength := b_rowLength) (b_times := b_times) (b_told := b_told) (b_kOp := b_kOp) (b_kA := b_kA) (b_kB := b_kB) (b_kLine := b_kLine) (b_kLength := b_kLength) (b_kFrom := b_kFrom) (b_kTo := b_kTo) (b_kAt := b_kAt) (b_kHandlers := b_kHandlers) (b_kBegun := b_kBegun) (b_kTaken := b_kTaken) (b_kThrown := b_kThrown) (b_kept := b_kept) (b_method := b_method) (b_pc := b_pc) (b_hereI := (upd b_hereI (24 * d + L) (nI i))) (b_hereWay := (upd b_hereWay (24 * d + L) z0)) (b_hereLength := (upd b_hereLength d (nI (L + 1)))) (b_into := b_into) (b_kLoad := b_kLoad) (b_part := b_part) hd C P (by rw [o1']; decide) hS W' hB hF2
    refine ⟨ent, f_depth', f_outcome', f_result', a_counter', a_raised', a_stopped', a_caught', a_unbegun', a_first', a_last', a_sum', a_often', a_told', a_method', a_pc', a_start', a_here', a_path', a_coming', a_variable', g_depth', g_result', g_outcome', g_over', b_begun', b_taken', b_thrown', b_rowI', b_rowWay', b_rowLength', b_times', b_told', b_method', b_pc', b_variable', b_hereI', b_hereWay', b_hereLength', b_into', R, fun post hp => nm_r (nI_pred d) ⟨i6, nm_r ((rf a_method).trans c3) ⟨i6, nm_r ((rf a_pc).trans c5) (nm_e ⟨i6, nm_r eher ⟨i6, i6, i6, nm_r epa ⟨i6, nm_r eco ⟨ix, nm_r ((rX a_op).trans o1') ⟨ix, nm_r eax ⟨ix, nm_r (e' := a_opB (24 * m + i)) (rX a_opB) ⟨i24x, nm_r rvx (br_f (by decide) (br_f (by decide) (br_t rfl (⟨iv, nm_r (eS _ _) (br_f (by decide) (hX _ hp))⟩))))⟩⟩⟩⟩⟩⟩⟩)⟩⟩, fun post hp => goY0 rfl post (br_f (by decide) (br_f (by decide) (br_f (by decide) ⟨iv, nm_e (br_f (by decide) (br_f (by decide) (br_f (by decide) (br_f (by decide) (br_f (by decide) (br_f (by decide) (br_f (by decide) (br_f (by decide) (hY _ hp)))))))))⟩)))⟩
  · obtain ⟨f_depth', f_outcome', f_result', a_counter', a_raised', a_stopped', a_caught', a_unbegun', a_first', a_last', a_sum', a_often', a_told', a_method', a_pc', a_start', a_here', a_path', a_coming', a_variable', g_depth', g_result', g_outcome', g_over', b_begun', b_taken', b_thrown', b_rowI', b_rowWay', b_rowLength', b_times', b_told', b_method', b_pc', b_variable', b_hereI', b_hereWay', b_hereLength', b_into', R, hX, hY⟩ := rl_go (ent := ent) (k := 0) (f_load := f_load) (f_begun := (f_begun + 1)) (a_op := a_op) (a_opA := a_opA) (a_opB := a_opB) (a_opLine := a_opLine) (a_length := a_length) (a_guards := a_guards) (a_handlers := a_handlers) (a_kept := a_kept) (a_keptLoad := a_keptLoad) (a_counter := a_counter) (a_raised := a_raised) (a_stopped := a_stopped) (a_caught := a_caught) (a_unbegun := a_unbegun) (a_leads := a_leads) (a_counts := a_counts) (a_adds := a_adds) (a_goes := a_goes) (a_needed := a_needed) (a_known := a_known) (a_solved := a_solved) (a_open := a_open) (a_unknown := a_unknown) (a_balance := a_balance) (a_group := a_group) (a_first := a_first) (a_last := a_last) (a_sum := a_sum) (a_often := a_often) (a_told := a_told) (a_method := a_method) (a_pc := a_pc) (a_start := a_start) (a_here := (upd a_here d (nI i))) (a_path := (vp_updL a_path d (a_path d + a_coming d))) (a_coming := (vp_updL a_coming d 0)) (a_variable := (upd a_variable (4 * d + c) (a_variable (4 * d + c) + a_opB (24 * m + i)))) (g_steps := (g_steps + 1)) (g_load := (g_load + 1)) (b_op := b_op) (b_a := b_a) (b_b := b_b) (b_line := b_line) (b_length := b_length) (b_from := b_from) (b_to := b_to) (b_at := b_at) (b_handlers := b_handlers) (b_begun := (upd b_begun (24 * m + i) (b_begun (24 * m + i) + 1))) (b_taken := b_taken) (b_thrown := b_thrown) (b_rowI := b_rowI) (b_rowWay := b_rowWay) (b_rowLength := b_rowLength) (b_times := b_times) (b_told := b_told) (b_kOp := b_kOp) (b_kA := b_kA) (b_kB := b_kB) (b_kLine := b_kLine) (b_kLength := b_kLength) (b_kFrom := b_kFrom) (b_kTo := b_kTo) (b_kAt := b_kAt) (b_kHandlers := b_kHandlers) (b_kBegun := b_kBegun) (b_kTaken := b_kTaken) (b_kThrown := b_kThrown) (b_kept := b_kept) (b_method := b_method) (b_pc := b_pc) (b_hereI := (upd b_hereI (24 * d + L) (nI i))) (b_hereWay := (upd b_hereWay (24 * d + L) z0)) (b_hereLength := (upd b_hereLength d (nI (L + 1)))) (b_into := b_into) (b_kLoad := b_kLoad) (b_part := b_part) hd C P (by rw [o1']; decide) hS W' hB hF2
    refine ⟨ent, f_depth', f_outcome', f_result', a_counter', a_raised', a_stopped', a_caught', a_unbegun', a_first', a_last', a_sum', a_often', a_told', a_method', a_pc', a_start', a_here', a_path', a_coming', a_variable', g_depth', g_result', g_outcome', g_over', b_begun', b_taken', b_thrown', b_rowI', b_rowWay', b_rowLength', b_times', b_told', b_method', b_pc', b_variable', b_hereI', b_hereWay', b_hereLength', b_into', R, fun post hp => nm_r (nI_pred d) ⟨i6, nm_r ((rf a_method).trans c3) ⟨i6, nm_r ((rf a_pc).trans c5) (nm_e ⟨i6, nm_r eher ⟨i6, i6, i6, nm_r epa ⟨i6, nm_r eco ⟨ix, nm_r ((rX a_op).trans o1') ⟨ix, nm_r eax ⟨ix, nm_r (e' := a_opB (24 * m + i)) (rX a_opB) ⟨i24x, nm_r rvx (br_f (by decide) (br_f (by decide) (br_f (by decide) (br_t rfl (⟨iv, iv, nm_r (e' := (upd a_variable (4 * d + c) (a_variable (4 * d + c) + a_opB (24 * m + i)))) (by rw [rV a_variable, eS]) (br_f (by decide) (hX _ hp))⟩)))))⟩⟩⟩⟩⟩⟩⟩)⟩⟩, fun post hp => goYn (by omega) post (br_t rfl ⟨iv, ix120, iv, nm_r (e' := (upd a_variable (4 * d + c) (a_variable (4 * d + c) + a_opB (24 * m + i)))) (by rw [rV a_variable, eS, rY b_b, bb']) (br_f (by decide) (br_f (by decide) ⟨iv, nm_e (br_f (by decide) (br_f (by decide) (br_f (by decide) (br_f (by decide) (br_f (by decide) (br_f (by decide) (br_f (by decide) (br_f (by decide) (hY _ hp)))))))))⟩))⟩)⟩
  · obtain ⟨f_depth', f_outcome', f_result', a_counter', a_raised', a_stopped', a_caught', a_unbegun', a_first', a_last', a_sum', a_often', a_told', a_method', a_pc', a_start', a_here', a_path', a_coming', a_variable', g_depth', g_result', g_outcome', g_over', b_begun', b_taken', b_thrown', b_rowI', b_rowWay', b_rowLength', b_times', b_told', b_method', b_pc', b_variable', b_hereI', b_hereWay', b_hereLength', b_into', R, hX, hY⟩ := rl_go (ent := ent) (k := 0) (f_load := f_load) (f_begun := (f_begun + 1)) (a_op := a_op) (a_opA := a_opA) (a_opB := a_opB) (a_opLine := a_opLine) (a_length := a_length) (a_guards := a_guards) (a_handlers := a_handlers) (a_kept := a_kept) (a_keptLoad := a_keptLoad) (a_counter := a_counter) (a_raised := a_raised) (a_stopped := a_stopped) (a_caught := a_caught) (a_unbegun := a_unbegun) (a_leads := a_leads) (a_counts := a_counts) (a_adds := a_adds) (a_goes := a_goes) (a_needed := a_needed) (a_known := a_known) (a_solved := a_solved) (a_open := a_open) (a_unknown := a_unknown) (a_balance := a_balance) (a_group := a_group) (a_first := a_first) (a_last := a_last) (a_sum := a_sum) (a_often := a_often) (a_told := a_told) (a_method := a_method) (a_pc := a_pc) (a_start := a_start) (a_here := (upd a_here d (nI i))) (a_path := (vp_updL a_path d (a_path d + a_coming d))) (a_coming := (vp_updL a_coming d 0)) (a_variable := (upd a_variable (4 * d + c) (a_variable (4 * d + q)))) (g_steps := (g_steps + 1)) (g_load := (g_load + 1)) (b_op := b_op) (b_a := b_a) (b_b := b_b) (b_line := b_line) (b_length := b_length) (b_from := b_from) (b_to := b_to) (b_at := b_at) (b_handlers := b_handlers) (b_begun := (upd b_begun (24 * m + i) (b_begun (24 * m + i) + 1))) (b_taken := b_taken) (b_thrown := b_thrown) (b_rowI := b_rowI) (b_rowWay := b_rowWay) (b_rowLength := b_rowLength) (b_times := b_times) (b_told := b_told) (b_kOp := b_kOp) (b_kA := b_kA) (b_kB := b_kB) (b_kLine := b_kLine) (b_kLength := b_kLength) (b_kFrom := b_kFrom) (b_kTo := b_kTo) (b_kAt := b_kAt) (b_kHandlers := b_kHandlers) (b_kBegun := b_kBegun) (b_kTaken := b_kTaken) (b_kThrown := b_kThrown) (b_kept := b_kept) (b_method := b_method) (b_pc := b_pc) (b_hereI := (upd b_hereI (24 * d + L) (nI i))) (b_hereWay := (upd b_hereWay (24 * d + L) z0)) (b_hereLength := (upd b_hereLength d (nI (L + 1)))) (b_into := b_into) (b_kLoad := b_kLoad) (b_part := b_part) hd C P (by rw [o1']; decide) hS W' hB hF2
    refine ⟨ent, f_depth', f_outcome', f_result', a_counter', a_raised', a_stopped', a_caught', a_unbegun', a_first', a_last', a_sum', a_often', a_told', a_method', a_pc', a_start', a_here', a_path', a_coming', a_variable', g_depth', g_result', g_outcome', g_over', b_begun', b_taken', b_thrown', b_rowI', b_rowWay', b_rowLength', b_times', b_told', b_method', b_pc', b_variable', b_hereI', b_hereWay', b_hereLength', b_into', R, fun post hp => nm_r (nI_pred d) ⟨i6, nm_r ((rf a_method).trans c3) ⟨i6, nm_r ((rf a_pc).trans c5) (nm_e ⟨i6, nm_r eher ⟨i6, i6, i6, nm_r epa ⟨i6, nm_r eco ⟨ix, nm_r ((rX a_op).trans o1') ⟨ix, nm_r eax ⟨ix, nm_r (e' := a_opB (24 * m + i)) (rX a_opB) ⟨i24x, nm_r rvx (br_f (by decide) (br_f (by decide) (br_f (by decide) (br_f (by decide) (br_t rfl (⟨iv, nm_r (eS _ _) (br_f (by decide) (hX _ hp))⟩))))))⟩⟩⟩⟩⟩⟩⟩)⟩⟩, fun post hp => goYn (by omega) post (br_f (by decide) (br_t rfl ⟨iv, nm_r (eS _ _) (br_f (by decide) ⟨iv, nm_e (br_f (by decide) (br_f (by decide) (br_f (by decide) (br_f (by decide) (br_f (by decide) (br_f (by decide) (br_f (by decide) (br_f (by decide) (hY _ hp)))))))))⟩)⟩))⟩
  · obtain ⟨f_depth', f_outcome', f_result', a_counter', a_raised', a_stopped', a_caught', a_unbegun', a_first', a_last', a_sum', a_often', a_told', a_method', a_pc', a_start', a_here', a_path', a_coming', a_variable', g_depth', g_result', g_outcome', g_over', b_begun', b_taken', b_thrown', b_rowI', b_rowWay', b_rowLength', b_times', b_told', b_method', b_pc', b_variable', b_hereI', b_hereWay', b_hereLength', b_into', R, hX, hY⟩ := rl_go (ent := ent) (k := 0) (f_load := f_load) (f_begun := (f_begun + 1)) (a_op := a_op) (a_opA := a_opA) (a_opB := a_opB) (a_opLine := a_opLine) (a_length := a_length) (a_guards := a_guards) (a_handlers := a_handlers) (a_kept := a_kept) (a_keptLoad := a_keptLoad) (a_counter := a_counter) (a_raised := a_raised) (a_stopped := a_stopped) (a_caught := a_caught) (a_unbegun := a_unbegun) (a_leads := a_leads) (a_counts := a_counts) (a_adds := a_adds) (a_goes := a_goes) (a_needed := a_needed) (a_known := a_known) (a_solved := a_solved) (a_open := a_open) (a_unknown := a_unknown) (a_balance := a_balance) (a_group := a_group) (a_first := a_first) (a_last := a_last) (a_sum := a_sum) (a_often := a_often) (a_told := a_told) (a_method := a_method) (a_pc := a_pc) (a_start := a_start) (a_here := (upd a_here d (nI i))) (a_path := (vp_updL a_path d (a_path d + a_coming d))) (a_coming := (vp_updL a_coming d 0)) (a_variable := (upd a_variable (4 * d + c) (a_variable (4 * d + c) - a_variable (4 * d + q)))) (g_steps := (g_steps + 1)) (g_load := (g_load + 1)) (b_op := b_op) (b_a := b_a) (b_b := b_b) (b_line := b_line) (b_length := b_length) (b_from := b_from) (b_to := b_to) (b_at := b_at) (b_handlers := b_handlers) (b_begun := (upd b_begun (24 * m + i) (b_begun (24 * m + i) + 1))) (b_taken := b_taken) (b_thrown := b_thrown) (b_rowI := b_rowI) (b_rowWay := b_rowWay) (b_rowLength := b_rowLength) (b_times := b_times) (b_told := b_told) (b_kOp := b_kOp) (b_kA := b_kA) (b_kB := b_kB) (b_kLine := b_kLine) (b_kLength := b_kLength) (b_kFrom := b_kFrom) (b_kTo := b_kTo) (b_kAt := b_kAt) (b_kHandlers := b_kHandlers) (b_kBegun := b_kBegun) (b_kTaken := b_kTaken) (b_kThrown := b_kThrown) (b_kept := b_kept) (b_method := b_method) (b_pc := b_pc) (b_hereI := (upd b_hereI (24 * d + L) (nI i))) (b_hereWay := (upd b_hereWay (24 * d + L) z0)) (b_hereLength := (upd b_hereLength d (nI (L + 1)))) (b_into := b_into) (b_kLoad := b_kLoad) (b_part := b_part) hd C P (by rw [o1']; decide) hS W' hB hF2
    refine ⟨ent, f_depth', f_outcome', f_result', a_counter', a_raised', a_stopped', a_caught', a_unbegun', a_first', a_last', a_sum', a_often', a_told', a_method', a_pc', a_start', a_here', a_path', a_coming', a_variable', g_depth', g_result', g_outcome', g_over', b_begun', b_taken', b_thrown', b_rowI', b_rowWay', b_rowLength', b_times', b_told', b_method', b_pc', b_variable', b_hereI', b_hereWay', b_hereLength', b_into', R, fun post hp => nm_r (nI_pred d) ⟨i6, nm_r ((rf a_method).trans c3) ⟨i6, nm_r ((rf a_pc).trans c5) (nm_e ⟨i6, nm_r eher ⟨i6, i6, i6, nm_r epa ⟨i6, nm_r eco ⟨ix, nm_r ((rX a_op).trans o1') ⟨ix, nm_r eax ⟨ix, nm_r (e' := a_opB (24 * m + i)) (rX a_opB) ⟨i24x, nm_r rvx (br_f (by decide) (br_f (by decide) (br_f (by decide) (br_f (by decide) (br_f (by decide) (br_t rfl (⟨iv, iv, nm_r (e' := (upd a_variable (4 * d + c) (a_variable (4 * d + c) - a_variable (4 * d + q)))) (by rw [rV a_variable, eS]) (br_f (by decide) (hX _ hp))⟩)))))))⟩⟩⟩⟩⟩⟩⟩)⟩⟩, fun post hp => goYn (by omega) post (br_f (by decide) (br_f (by decide) (br_t rfl ⟨iv, iv, nm_r (e' := (upd a_variable (4 * d + c) (a_variable (4 * d + c) - a_variable (4 * d + q)))) (by rw [rV a_variable, eS]) ⟨iv, nm_e (br_f (by decide) (br_f (by decide) (br_f (by decide) (br_f (by decide) (br_f (by decide) (br_f (by decide) (br_f (by decide) (br_f (by decide) (hY _ hp)))))))))⟩⟩)))⟩
  · obtain ⟨f_depth', f_outcome', f_result', a_counter', a_raised', a_stopped', a_caught', a_unbegun', a_first', a_last', a_sum', a_often', a_told', a_method', a_pc', a_start', a_here', a_path', a_coming', a_variable', g_depth', g_result', g_outcome', g_over', b_begun', b_taken', b_thrown', b_rowI', b_rowWay', b_rowLength', b_times', b_told', b_method', b_pc', b_variable', b_hereI', b_hereWay', b_hereLength', b_into', R, hX, hY⟩ := rl_go (ent := ent) (k := 0) (f_load := f_load) (f_begun := (f_begun + 1)) (a_op := a_op) (a_opA := a_opA) (a_opB := a_opB) (a_opLine := a_opLine) (a_length := a_length) (a_guards := a_guards) (a_handlers := a_handlers) (a_kept := a_kept) (a_keptLoad := a_keptLoad) (a_counter := a_counter) (a_raised := a_raised) (a_stopped := a_stopped) (a_caught := a_caught) (a_unbegun := a_unbegun) (a_leads := a_leads) (a_counts := a_counts) (a_adds := a_adds) (a_goes := a_goes) (a_needed := a_needed) (a_known := a_known) (a_solved := a_solved) (a_open := a_open) (a_unknown := a_unknown) (a_balance := a_balance) (a_group := a_group) (a_first := a_first) (a_last := a_last) (a_sum := a_sum) (a_often := a_often) (a_told := a_told) (a_method := a_method) (a_pc := a_pc) (a_start := a_start) (a_here := (upd a_here d (nI i))) (a_path := (vp_updL a_path d (a_path d + a_coming d))) (a_coming := (vp_updL a_coming d 0)) (a_variable := a_variable) (g_steps := (g_steps + 1)) (g_load := (g_load + 1)) (b_op := b_op) (b_a := b_a) (b_b := b_b) (b_line := b_line) (b_length := b_length) (b_from := b_from) (b_to := b_to) (b_at := b_at) (b_handlers := b_handlers) (b_begun := (upd b_begun (24 * m + i) (b_begun (24 * m + i) + 1))) (b_taken := b_taken) (b_thrown := b_thrown) (b_rowI := b_rowI) (b_rowWay := b_rowWay) (b_rowLength := b_rowLength) (b_times := b_times) (b_told := b_told) (b_kOp := b_kOp) (b_kA := b_kA) (b_kB := b_kB) (b_kLine := b_kLine) (b_kLength := b_kLength) (b_kFrom := b_kFrom) (b_kTo := b_kTo) (b_kAt := b_kAt) (b_kHandlers := b_kHandlers) (b_kBegun := b_kBegun) (b_kTaken := b_kTaken) (b_kThrown := b_kThrown) (b_kept := b_kept) (b_method := b_method) (b_pc := b_pc) (b_hereI := (upd b_hereI (24 * d + L) (nI i))) (b_hereWay := (upd b_hereWay (24 * d + L) z0)) (b_hereLength := (upd b_hereLength d (nI (L + 1)))) (b_into := b_into) (b_kLoad := b_kLoad) (b_part := b_part) hd C P (by rw [o1']; decide) hS W' hB hF2
    refine ⟨ent, f_depth', f_outcome', f_result', a_counter', a_raised', a_stopped', a_caught', a_unbegun', a_first', a_last', a_sum', a_often', a_told', a_method', a_pc', a_start', a_here', a_path', a_coming', a_variable', g_depth', g_result', g_outcome', g_over', b_begun', b_taken', b_thrown', b_rowI', b_rowWay', b_rowLength', b_times', b_told', b_method', b_pc', b_variable', b_hereI', b_hereWay', b_hereLength', b_into', R, fun post hp => nm_r (nI_pred d) ⟨i6, nm_r ((rf a_method).trans c3) ⟨i6, nm_r ((rf a_pc).trans c5) (nm_e ⟨i6, nm_r eher ⟨i6, i6, i6, nm_r epa ⟨i6, nm_r eco ⟨ix, nm_r ((rX a_op).trans o1') ⟨ix, nm_r eax ⟨ix, nm_r (e' := a_opB (24 * m + i)) (rX a_opB) ⟨i24x, nm_r rvx (br_f (by decide) (br_f (by decide) (br_f (by decide) (br_f (by decide) (br_f (by decide) (br_f (by decide) (br_t rfl (br_f (by decide) (hX _ hp)))))))))⟩⟩⟩⟩⟩⟩⟩)⟩⟩, fun post hp => goYn (by omega) post (br_f (by decide) (br_f (by decide) (br_f (by decide) ⟨iv, nm_e (br_f (by decide) (br_f (by decide) (br_f (by decide) (br_f (by decide) (br_f (by decide) (br_f (by decide) (br_f (by decide) (br_f (by decide) (hY _ hp)))))))))⟩)))⟩
  · by_cases cv : a_variable (4 * d + c) = 0
    · obtain ⟨f_depth', f_outcome', f_result', a_counter', a_raised', a_stopped', a_caught', a_unbegun', a_first', a_last', a_sum', a_often', a_told', a_method', a_pc', a_start', a_here', a_path', a_coming', a_variable', g_depth', g_result', g_outcome', g_over', b_begun', b_taken', b_thrown', b_rowI', b_rowWay', b_rowLength', b_times', b_told', b_method', b_pc', b_variable', b_hereI', b_hereWay', b_hereLength', b_into', R, hX, hY⟩ := rl_go (ent := ent) (k := 1) (f_load := f_load) (f_begun := (f_begun + 1)) (a_op := a_op) (a_opA := a_opA) (a_opB := a_opB) (a_opLine := a_opLine) (a_length := a_length) (a_guards := a_guards) (a_handlers := a_handlers) (a_kept := a_kept) (a_keptLoad := a_keptLoad) (a_counter := a_counter) (a_raised := a_raised) (a_stopped := a_stopped) (a_caught := a_caught) (a_unbegun := a_unbegun) (a_leads := a_leads) (a_counts := a_counts) (a_adds := a_adds) (a_goes := a_goes) (a_needed := a_needed) (a_known := a_known) (a_solved := a_solved) (a_open := a_open) (a_unknown := a_unknown) (a_balance := a_balance) (a_group := a_group) (a_first := a_first) (a_last := a_last) (a_sum := a_sum) (a_often := a_often) (a_told := a_told) (a_method := a_method) (a_pc := a_pc) (a_start := a_start) (a_here := (upd a_here d (nI i))) (a_path := (vp_updL a_path d (a_path d + a_coming d))) (a_coming := (vp_updL a_coming d 0)) (a_variable := a_variable) (g_steps := (g_steps + 1)) (g_load := (g_load + 1)) (b_op := b_op) (b_a := b_a) (b_b := b_b) (b_line := b_line) (b_length := b_length) (b_from := b_from) (b_to := b_to) (b_at := b_at) (b_handlers := b_handlers) (b_begun := (upd b_begun (24 * m + i) (b_begun (24 * m + i) + 1))) (b_taken := b_taken) (b_thrown := b_thrown) (b_rowI := b_rowI) (b_rowWay := b_rowWay) (b_rowLength := b_rowLength) (b_times := b_times) (b_told := b_told) (b_kOp := b_kOp) (b_kA := b_kA) (b_kB := b_kB) (b_kLine := b_kLine) (b_kLength := b_kLength) (b_kFrom := b_kFrom) (b_kTo := b_kTo) (b_kAt := b_kAt) (b_kHandlers := b_kHandlers) (b_kBegun := b_kBegun) (b_kTaken := b_kTaken) (b_kThrown := b_kThrown) (b_kept := b_kept) (b_method := b_method) (b_pc := b_pc) (b_hereI := (upd b_hereI (24 * d + L) (nI i))) (b_hereWay := (upd b_hereWay (24 * d + L) z0)) (b_hereLength := (upd b_hereLength d (nI (L + 1)))) (b_into := b_into) (b_kLoad := b_kLoad) (b_part := b_part) hd C P (by rw [o1']; decide) hS W' hB hF2
      refine ⟨ent, f_depth', f_outcome', f_result', a_counter', a_raised', a_stopped', a_caught', a_unbegun', a_first', a_last', a_sum', a_often', a_told', a_method', a_pc', a_start', a_here', a_path', a_coming', a_variable', g_depth', g_result', g_outcome', g_over', b_begun', b_taken', b_thrown', b_rowI', b_rowWay', b_rowLength', b_times', b_told', b_method', b_pc', b_variable', b_hereI', b_hereWay', b_hereLength', b_into', R, fun post hp => nm_r (nI_pred d) ⟨i6, nm_r ((rf a_method).trans c3) ⟨i6, nm_r ((rf a_pc).trans c5) (nm_e ⟨i6, nm_r eher ⟨i6, i6, i6, nm_r epa ⟨i6, nm_r eco ⟨ix, nm_r ((rX a_op).trans o1') ⟨ix, nm_r eax ⟨ix, nm_r (e' := a_opB (24 * m + i)) (rX a_opB) ⟨i24x, nm_r rvx (br_f (by decide) (br_f (by decide) (br_f (by decide) (br_f (by decide) (br_f (by decide) (br_f (by decide) (br_f (by decide) (br_t rfl (⟨iv, br_t (by rw [rV a_variable]; exact cv) (br_f (by decide) (hX _ hp))⟩)))))))))⟩⟩⟩⟩⟩⟩⟩)⟩⟩, fun post hp => goYn (by omega) post (br_f (by decide) (br_f (by decide) (br_f (by decide) ⟨iv, nm_r (rV a_variable) (br_t rfl (br_t cv (hY _ hp)))⟩)))⟩
    · obtain ⟨f_depth', f_outcome', f_result', a_counter', a_raised', a_stopped', a_caught', a_unbegun', a_first', a_last', a_sum', a_often', a_told', a_method', a_pc', a_start', a_here', a_path', a_coming', a_variable', g_depth', g_result', g_outcome', g_over', b_begun', b_taken', b_thrown', b_rowI', b_rowWay', b_rowLength', b_times', b_told', b_method', b_pc', b_variable', b_hereI', b_hereWay', b_hereLength', b_into', R, hX, hY⟩ := rl_go (ent := ent) (k := 0) (f_load := f_load) (f_begun := (f_begun + 1)) (a_op := a_op) (a_opA := a_opA) (a_opB := a_opB) (a_opLine := a_opLine) (a_length := a_length) (a_guards := a_guards) (a_handlers := a_handlers) (a_kept := a_kept) (a_keptLoad := a_keptLoad) (a_counter := a_counter) (a_raised := a_raised) (a_stopped := a_stopped) (a_caught := a_caught) (a_unbegun := a_unbegun) (a_leads := a_leads) (a_counts := a_counts) (a_adds := a_adds) (a_goes := a_goes) (a_needed := a_needed) (a_known := a_known) (a_solved := a_solved) (a_open := a_open) (a_unknown := a_unknown) (a_balance := a_balance) (a_group := a_group) (a_first := a_first) (a_last := a_last) (a_sum := a_sum) (a_often := a_often) (a_told := a_told) (a_method := a_method) (a_pc := a_pc) (a_start := a_start) (a_here := (upd a_here d (nI i))) (a_path := (vp_updL a_path d (a_path d + a_coming d))) (a_coming := (vp_updL a_coming d 0)) (a_variable := a_variable) (g_steps := (g_steps + 1)) (g_load := (g_load + 1)) (b_op := b_op) (b_a := b_a) (b_b := b_b) (b_line := b_line) (b_length := b_length) (b_from := b_from) (b_to := b_to) (b_at := b_at) (b_handlers := b_handlers) (b_begun := (upd b_begun (24 * m + i) (b_begun (24 * m + i) + 1))) (b_taken := b_taken) (b_thrown := b_thrown) (b_rowI := b_rowI) (b_rowWay := b_rowWay) (b_rowLength := b_rowLength) (b_times := b_times) (b_told := b_told) (b_kOp := b_kOp) (b_kA := b_kA) (b_kB := b_kB) (b_kLine := b_kLine) (b_kLength := b_kLength) (b_kFrom := b_kFrom) (b_kTo := b_kTo) (b_kAt := b_kAt) (b_kHandlers := b_kHandlers) (b_kBegun := b_kBegun) (b_kTaken := b_kTaken) (b_kThrown := b_kThrown) (b_kept := b_kept) (b_method := b_method) (b_pc := b_pc) (b_hereI := (upd b_hereI (24 * d + L) (nI i))) (b_hereWay := (upd b_hereWay (24 * d + L) z0)) (b_hereLength := (upd b_hereLength d (nI (L + 1)))) (b_into := b_into) (b_kLoad := b_kLoad) (b_part := b_part) hd C P (by rw [o1']; decide) hS W' hB hF2
      refine ⟨ent, f_depth', f_outcome', f_result', a_counter', a_raised', a_stopped', a_caught', a_unbegun', a_first', a_last', a_sum', a_often', a_told', a_method', a_pc', a_start', a_here', a_path', a_coming', a_variable', g_depth', g_result', g_outcome', g_over', b_begun', b_taken', b_thrown', b_rowI', b_rowWay', b_rowLength', b_times', b_told', b_method', b_pc', b_variable', b_hereI', b_hereWay', b_hereLength', b_into', R, fun post hp => nm_r (nI_pred d) ⟨i6, nm_r ((rf a_method).trans c3) ⟨i6, nm_r ((rf a_pc).trans c5) (nm_e ⟨i6, nm_r eher ⟨i6, i6, i6, nm_r epa ⟨i6, nm_r eco ⟨ix, nm_r ((rX a_op).trans o1') ⟨ix, nm_r eax ⟨ix, nm_r (e' := a_opB (24 * m + i)) (rX a_opB) ⟨i24x, nm_r rvx (br_f (by decide) (br_f (by decide) (br_f (by decide) (br_f (by decide) (br_f (by decide) (br_f (by decide) (br_f (by decide) (br_t rfl (⟨iv, br_f (by rw [rV a_variable]; exact cv) (br_f (by decide) (hX _ hp))⟩)))))))))⟩⟩⟩⟩⟩⟩⟩)⟩⟩, fun post hp => goYn (by omega) post (br_f (by decide) (br_f (by decide) (br_f (by decide) ⟨iv, nm_r (rV a_variable) (br_t rfl (br_f cv (br_f (by decide) (br_f (by decide) (br_f (by decide) (br_f (by decide) (br_f (by decide) (br_f (by decide) (br_f (by decide) (hY _ hp))))))))))⟩)))⟩
  · by_cases cv : 0 ≤ a_variable (4 * d + c)
    · obtain ⟨f_depth', f_outcome', f_result', a_counter', a_raised', a_stopped', a_caught', a_unbegun', a_first', a_last', a_sum', a_often', a_told', a_method', a_pc', a_start', a_here', a_path', a_coming', a_variable', g_depth', g_result', g_outcome', g_over', b_begun', b_taken', b_thrown', b_rowI', b_rowWay', b_rowLength', b_times', b_told', b_method', b_pc', b_variable', b_hereI', b_hereWay', b_hereLength', b_into', R, hX, hY⟩ := rl_go (ent := ent) (k := 0) (f_load := f_load) (f_begun := (f_begun + 1)) (a_op := a_op) (a_opA := a_opA) (a_opB := a_opB) (a_opLine := a_opLine) (a_length := a_length) (a_guards := a_guards) (a_handlers := a_handlers) (a_kept := a_kept) (a_keptLoad := a_keptLoad) (a_counter := a_counter) (a_raised := a_raised) (a_stopped := a_stopped) (a_caught := a_caught) (a_unbegun := a_unbegun) (a_leads := a_leads) (a_counts := a_counts) (a_adds := a_adds) (a_goes := a_goes) (a_needed := a_needed) (a_known := a_known) (a_solved := a_solved) (a_open := a_open) (a_unknown := a_unknown) (a_balance := a_balance) (a_group := a_group) (a_first := a_first) (a_last := a_last) (a_sum := a_sum) (a_often := a_often) (a_told := a_told) (a_method := a_method) (a_pc := a_pc) (a_start := a_start) (a_here := (upd a_here d (nI i))) (a_path := (vp_updL a_path d (a_path d + a_coming d))) (a_coming := (vp_updL a_coming d 0)) (a_variable := a_variable) (g_steps := (g_steps + 1)) (g_load := (g_load + 1)) (b_op := b_op) (b_a := b_a) (b_b := b_b) (b_line := b_line) (b_length := b_length) (b_from := b_from) (b_to := b_to) (b_at := b_at) (b_handlers := b_handlers) (b_begun := (upd b_begun (24 * m + i) (b_begun (24 * m + i) + 1))) (b_taken := b_taken) (b_thrown := b_thrown) (b_rowI := b_rowI) (b_rowWay := b_rowWay) (b_rowLength := b_rowLength) (b_times := b_times) (b_told := b_told) (b_kOp := b_kOp) (b_kA := b_kA) (b_kB := b_kB) (b_kLine := b_kLine) (b_kLength := b_kLength) (b_kFrom := b_kFrom) (b_kTo := b_kTo) (b_kAt := b_kAt) (b_kHandlers := b_kHandlers) (b_kBegun := b_kBegun) (b_kTaken := b_kTaken) (b_kThrown := b_kThrown) (b_kept := b_kept) (b_method := b_method) (b_pc := b_pc) (b_hereI := (upd b_hereI (24 * d + L) (nI i))) (b_hereWay := (upd b_hereWay (24 * d + L) z0)) (b_hereLength := (upd b_hereLength d (nI (L + 1)))) (b_into := b_into) (b_kLoad := b_kLoad) (b_part := b_part) hd C P (by rw [o1']; decide) hS W' hB hF2
      refine ⟨ent, f_depth', f_outcome', f_result', a_counter', a_raised', a_stopped', a_caught', a_unbegun', a_first', a_last', a_sum', a_often', a_told', a_method', a_pc', a_start', a_here', a_path', a_coming', a_variable', g_depth', g_result', g_outcome', g_over', b_begun', b_taken', b_thrown', b_rowI', b_rowWay', b_rowLength', b_times', b_told', b_method', b_pc', b_variable', b_hereI', b_hereWay', b_hereLength', b_into', R, fun post hp => nm_r (nI_pred d) ⟨i6, nm_r ((rf a_method).trans c3) ⟨i6, nm_r ((rf a_pc).trans c5) (nm_e ⟨i6, nm_r eher ⟨i6, i6, i6, nm_r epa ⟨i6, nm_r eco ⟨ix, nm_r ((rX a_op).trans o1') ⟨ix, nm_r eax ⟨ix, nm_r (e' := a_opB (24 * m + i)) (rX a_opB) ⟨i24x, nm_r rvx (br_f (by decide) (br_f (by decide) (br_f (by decide) (br_f (by decide) (br_f (by decide) (br_f (by decide) (br_f (by decide) (br_f (by decide) (br_t rfl (⟨iv, br_t (by rw [rV a_variable]; exact cv) (br_f (by decide) (hX _ hp))⟩))))))))))⟩⟩⟩⟩⟩⟩⟩)⟩⟩, fun post hp => goYn (by omega) post (br_f (by decide) (br_f (by decide) (br_f (by decide) ⟨iv, nm_r (rV a_variable) (br_f (by decide) (br_t rfl (br_t cv (br_f (by decide) (br_f (by decide) (br_f (by decide) (br_f (by decide) (br_f (by decide) (br_f (by decide) (hY _ hp))))))))))⟩)))⟩
    · obtain ⟨f_depth', f_outcome', f_result', a_counter', a_raised', a_stopped', a_caught', a_unbegun', a_first', a_last', a_sum', a_often', a_told', a_method', a_pc', a_start', a_here', a_path', a_coming', a_variable', g_depth', g_result', g_outcome', g_over', b_begun', b_taken', b_thrown', b_rowI', b_rowWay', b_rowLength', b_times', b_told', b_method', b_pc', b_variable', b_hereI', b_hereWay', b_hereLength', b_into', R, hX, hY⟩ := rl_go (ent := ent) (k := 1) (f_load := f_load) (f_begun := (f_begun + 1)) (a_op := a_op) (a_opA := a_opA) (a_opB := a_opB) (a_opLine := a_opLine) (a_length := a_length) (a_guards := a_guards) (a_handlers := a_handlers) (a_kept := a_kept) (a_keptLoad := a_keptLoad) (a_counter := a_counter) (a_raised := a_raised) (a_stopped := a_stopped) (a_caught := a_caught) (a_unbegun := a_unbegun) (a_leads := a_leads) (a_counts := a_counts) (a_adds := a_adds) (a_goes := a_goes) (a_needed := a_needed) (a_known := a_known) (a_solved := a_solved) (a_open := a_open) (a_unknown := a_unknown) (a_balance := a_balance) (a_group := a_group) (a_first := a_first) (a_last := a_last) (a_sum := a_sum) (a_often := a_often) (a_told := a_told) (a_method := a_method) (a_pc := a_pc) (a_start := a_start) (a_here := (upd a_here d (nI i))) (a_path := (vp_updL a_path d (a_path d + a_coming d))) (a_coming := (vp_updL a_coming d 0)) (a_variable := a_variable) (g_steps := (g_steps + 1)) (g_load := (g_load + 1)) (b_op := b_op) (b_a := b_a) (b_b := b_b) (b_line := b_line) (b_length := b_length) (b_from := b_from) (b_to := b_to) (b_at := b_at) (b_handlers := b_handlers) (b_begun := (upd b_begun (24 * m + i) (b_begun (24 * m + i) + 1))) (b_taken := b_taken) (b_thrown := b_thrown) (b_rowI := b_rowI) (b_rowWay := b_rowWay) (b_rowLength := b_rowLength) (b_times := b_times) (b_told := b_told) (b_kOp := b_kOp) (b_kA := b_kA) (b_kB := b_kB) (b_kLine := b_kLine) (b_kLength := b_kLength) (b_kFrom := b_kFrom) (b_kTo := b_kTo) (b_kAt := b_kAt) (b_kHandlers := b_kHandlers) (b_kBegun := b_kBegun) (b_kTaken := b_kTaken) (b_kThrown := b_kThrown) (b_kept := b_kept) (b_method := b_method) (b_pc := b_pc) (b_hereI := (upd b_hereI (24 * d + L) (nI i))) (b_hereWay := (upd b_hereWay (24 * d + L) z0)) (b_hereLength := (upd b_hereLength d (nI (L + 1)))) (b_into := b_into) (b_kLoad := b_kLoad) (b_part := b_part) hd C P (by rw [o1']; decide) hS W' hB hF2
      refine ⟨ent, f_depth', f_outcome', f_result', a_counter', a_raised', a_stopped', a_caught', a_unbegun', a_first', a_last', a_sum', a_often', a_told', a_method', a_pc', a_start', a_here', a_path', a_coming', a_variable', g_depth', g_result', g_outcome', g_over', b_begun', b_taken', b_thrown', b_rowI', b_rowWay', b_rowLength', b_times', b_told', b_method', b_pc', b_variable', b_hereI', b_hereWay', b_hereLength', b_into', R, fun post hp => nm_r (nI_pred d) ⟨i6, nm_r ((rf a_method).trans c3) ⟨i6, nm_r ((rf a_pc).trans c5) (nm_e ⟨i6, nm_r eher ⟨i6, i6, i6, nm_r epa ⟨i6, nm_r eco ⟨ix, nm_r ((rX a_op).trans o1') ⟨ix, nm_r eax ⟨ix, nm_r (e' := a_opB (24 * m + i)) (rX a_opB) ⟨i24x, nm_r rvx (br_f (by decide) (br_f (by decide) (br_f (by decide) (br_f (by decide) (br_f (by decide) (br_f (by decide) (br_f (by decide) (br_f (by decide) (br_t rfl (⟨iv, br_f (by rw [rV a_variable]; exact cv) (br_f (by decide) (hX _ hp))⟩))))))))))⟩⟩⟩⟩⟩⟩⟩)⟩⟩, fun post hp => goYn (by omega) post (br_f (by decide) (br_f (by decide) (br_f (by decide) ⟨iv, nm_r (rV a_variable) (br_f (by decide) (br_t rfl (br_f cv (hY _ hp))))⟩)))⟩
  · by_cases cv : a_variable (4 * d + c) ≤ 0
    · obtain ⟨f_depth', f_outcome', f_result', a_counter', a_raised', a_stopped', a_caught', a_unbegun', a_first', a_last', a_sum', a_often', a_told', a_method', a_pc', a_start', a_here', a_path', a_coming', a_variable', g_depth', g_result', g_outcome', g_over', b_begun', b_taken', b_thrown', b_rowI', b_rowWay', b_rowLength', b_times', b_told', b_method', b_pc', b_variable', b_hereI', b_hereWay', b_hereLength', b_into', R, hX, hY⟩ := rl_go (ent := ent) (k := 0) (f_load := f_load) (f_begun := (f_begun + 1)) (a_op := a_op) (a_opA := a_opA) (a_opB := a_opB) (a_opLine := a_opLine) (a_length := a_length) (a_guards := a_guards) (a_handlers := a_handlers) (a_kept := a_kept) (a_keptLoad := a_keptLoad) (a_counter := a_counter) (a_raised := a_raised) (a_stopped := a_stopped) (a_caught := a_caught) (a_unbegun := a_unbegun) (a_leads := a_leads) (a_counts := a_counts) (a_adds := a_adds) (a_goes := a_goes) (a_needed := a_needed) (a_known := a_known) (a_solved := a_solved) (a_open := a_open) (a_unknown := a_unknown) (a_balance := a_balance) (a_group := a_group) (a_first := a_first) (a_last := a_last) (a_sum := a_sum) (a_often := a_often) (a_told := a_told) (a_method := a_method) (a_pc := a_pc) (a_start := a_start) (a_here := (upd a_here d (nI i))) (a_path := (vp_updL a_path d (a_path d + a_coming d))) (a_coming := (vp_updL a_coming d 0)) (a_variable := a_variable) (g_steps := (g_steps + 1)) (g_load := (g_load + 1)) (b_op := b_op) (b_a := b_a) (b_b := b_b) (b_line := b_line) (b_length := b_length) (b_from := b_from) (b_to := b_to) (b_at := b_at) (b_handlers := b_handlers) (b_begun := (upd b_begun (24 * m + i) (b_begun (24 * m + i) + 1))) (b_taken := b_taken) (b_thrown := b_thrown) (b_rowI := b_rowI) (b_rowWay := b_rowWay) (b_rowLength := b_rowLength) (b_times := b_times) (b_told := b_told) (b_kOp := b_kOp) (b_kA := b_kA) (b_kB := b_kB) (b_kLine := b_kLine) (b_kLength := b_kLength) (b_kFrom := b_kFrom) (b_kTo := b_kTo) (b_kAt := b_kAt) (b_kHandlers := b_kHandlers) (b_kBegun := b_kBegun) (b_kTaken := b_kTaken) (b_kThrown := b_kThrown) (b_kept := b_kept) (b_method := b_method) (b_pc := b_pc) (b_hereI := (upd b_hereI (24 * d + L) (nI i))) (b_hereWay := (upd b_hereWay (24 * d + L) z0)) (b_hereLength := (upd b_hereLength d (nI (L + 1)))) (b_into := b_into) (b_kLoad := b_kLoad) (b_part := b_part) hd C P (by rw [o1']; decide) hS W' hB hF2
      refine ⟨ent, f_depth', f_outcome', f_result', a_counter', a_raised', a_stopped', a_caught', a_unbegun', a_first', a_last', a_sum', a_often', a_told', a_method', a_pc', a_start', a_here', a_path', a_coming', a_variable', g_depth', g_result', g_outcome', g_over', b_begun', b_taken', b_thrown', b_rowI', b_rowWay', b_rowLength', b_times', b_told', b_method', b_pc', b_variable', b_hereI', b_hereWay', b_hereLength', b_into', R, fun post hp => nm_r (nI_pred d) ⟨i6, nm_r ((rf a_method).trans c3) ⟨i6, nm_r ((rf a_pc).trans c5) (nm_e ⟨i6, nm_r eher ⟨i6, i6, i6, nm_r epa ⟨i6, nm_r eco ⟨ix, nm_r ((rX a_op).trans o1') ⟨ix, nm_r eax ⟨ix, nm_r (e' := a_opB (24 * m + i)) (rX a_opB) ⟨i24x, nm_r rvx (br_f (by decide) (br_f (by decide) (br_f (by decide) (br_f (by decide) (br_f (by decide) (br_f (by decide) (br_f (by decide) (br_f (by decide) (br_f (by decide) (br_t rfl (⟨iv, br_t (by rw [rV a_variable]; exact cv) (br_f (by decide) (hX _ hp))⟩)))))))))))⟩⟩⟩⟩⟩⟩⟩)⟩⟩, fun post hp => goYn (by omega) post (br_f (by decide) (br_f (by decide) (br_f (by decide) ⟨iv, nm_r (rV a_variable) (br_f (by decide) (br_f (by decide) (br_t rfl (br_t cv (br_f (by decide) (br_f (by decide) (br_f (by decide) (br_f (by decide) (br_f (by decide) (hY _ hp))))))))))⟩)))⟩
    · by_cases cw : 4 ≤ a_variable (4 * d + c)
      · obtain ⟨f_depth', f_outcome', f_result', a_counter', a_raised', a_stopped', a_caught', a_unbegun', a_first', a_last', a_sum', a_often', a_told', a_method', a_pc', a_start', a_here', a_path', a_coming', a_variable', g_depth', g_result', g_outcome', g_over', b_begun', b_taken', b_thrown', b_rowI', b_rowWay', b_rowLength', b_times', b_told', b_method', b_pc', b_variable', b_hereI', b_hereWay', b_hereLength', b_into', R, hX, hY⟩ := rl_go (ent := ent) (k := 0) (f_load := f_load) (f_begun := (f_begun + 1)) (a_op := a_op) (a_opA := a_opA) (a_opB := a_opB) (a_opLine := a_opLine) (a_length := a_length) (a_guards := a_guards) (a_handlers := a_handlers) (a_kept := a_kept) (a_keptLoad := a_keptLoad) (a_counter := a_counter) (a_raised := a_raised) (a_stopped := a_stopped) (a_caught := a_caught) (a_unbegun := a_unbegun) (a_leads := a_leads) (a_counts := a_counts) (a_adds := a_adds) (a_goes := a_goes) (a_needed := a_needed) (a_known := a_known) (a_solved := a_solved) (a_open := a_open) (a_unknown := a_unknown) (a_balance := a_balance) (a_group := a_group) (a_first := a_first) (a_last := a_last) (a_sum := a_sum) (a_often := a_often) (a_told := a_told) (a_method := a_method) (a_pc := a_pc) (a_start := a_start) (a_here := (upd a_here d (nI i))) (a_path := (vp_updL a_path d (a_path d + a_coming d))) (a_coming := (vp_updL a_coming d 0)) (a_variable := a_variable) (g_steps := (g_steps + 1)) (g_load := (g_load + 1)) (b_op := b_op) (b_a := b_a) (b_b := b_b) (b_line := b_line) (b_length := b_length) (b_from := b_from) (b_to := b_to) (b_at := b_at) (b_handlers := b_handlers) (b_begun := (upd b_begun (24 * m + i) (b_begun (24 * m + i) + 1))) (b_taken := b_taken) (b_thrown := b_thrown) (b_rowI := b_rowI) (b_rowWay := b_rowWay) (b_rowLength := b_rowLength) (b_times := b_times) (b_told := b_told) (b_kOp := b_kOp) (b_kA := b_kA) (b_kB := b_kB) (b_kLine := b_kLine) (b_kLength := b_kLength) (b_kFrom := b_kFrom) (b_kTo := b_kTo) (b_kAt := b_kAt) (b_kHandlers := b_kHandlers) (b_kBegun := b_kBegun) (b_kTaken := b_kTaken) (b_kThrown := b_kThrown) (b_kept := b_kept) (b_method := b_method) (b_pc := b_pc) (b_hereI := (upd b_hereI (24 * d + L) (nI i))) (b_hereWay := (upd b_hereWay (24 * d + L) z0)) (b_hereLength := (upd b_hereLength d (nI (L + 1)))) (b_into := b_into) (b_kLoad := b_kLoad) (b_part := b_part) hd C P (by rw [o1']; decide) hS W' hB hF2
        refine ⟨ent, f_depth', f_outcome', f_result', a_counter', a_raised', a_stopped', a_caught', a_unbegun', a_first', a_last', a_sum', a_often', a_told', a_method', a_pc', a_start', a_here', a_path', a_coming', a_variable', g_depth', g_result', g_outcome', g_over', b_begun', b_taken', b_thrown', b_rowI', b_rowWay', b_rowLength', b_times', b_told', b_method', b_pc', b_variable', b_hereI', b_hereWay', b_hereLength', b_into', R, fun post hp => nm_r (nI_pred d) ⟨i6, nm_r ((rf a_method).trans c3) ⟨i6, nm_r ((rf a_pc).trans c5) (nm_e ⟨i6, nm_r eher ⟨i6, i6, i6, nm_r epa ⟨i6, nm_r eco ⟨ix, nm_r ((rX a_op).trans o1') ⟨ix, nm_r eax ⟨ix, nm_r (e' := a_opB (24 * m + i)) (rX a_opB) ⟨i24x, nm_r rvx (br_f (by decide) (br_f (by decide) (br_f (by decide) (br_f (by decide) (br_f (by decide) (br_f (by decide) (br_f (by decide) (br_f (by decide) (br_f (by decide) (br_t rfl (⟨iv, br_f (by rw [rV a_variable]; exact cv) ⟨iv, br_t (by rw [rV a_variable]; exact cw) (br_f (by decide) (hX _ hp))⟩⟩)))))))))))⟩⟩⟩⟩⟩⟩⟩)⟩⟩, fun post hp => goYn (by omega) post (br_f (by decide) (br_f (by decide) (br_f (by decide) ⟨iv, nm_r (rV a_variable) (br_f (by decide) (br_f (by decide) (br_t rfl (br_f cv (br_t cw (br_f (by decide) (br_f (by decide) (br_f (by decide) (br_f (by decide) (br_f (by decide) (hY _ hp)))))))))))⟩)))⟩
      · obtain ⟨kk, hkk, ek⟩ : ∃ kk, kk < 4 ∧ a_variable (4 * d + c) = nI kk := by
          have nz : ¬ a_variable (4 * d + c) < 0 := fun z => cv (Int32.le_of_lt z)
          obtain ⟨kk, hk1, ek⟩ := nI_of nz
          refine ⟨kk, ?_, ek⟩
          apply Classical.byContradiction
          intro hc4
          exact cw (by rw [ek]; exact nI_le (a := 4) (by omega) (by omega))
        obtain ⟨f_depth', f_outcome', f_result', a_counter', a_raised', a_stopped', a_caught', a_unbegun', a_first', a_last', a_sum', a_often', a_told', a_method', a_pc', a_start', a_here', a_path', a_coming', a_variable', g_depth', g_result', g_outcome', g_over', b_begun', b_taken', b_thrown', b_rowI', b_rowWay', b_rowLength', b_times', b_told', b_method', b_pc', b_variable', b_hereI', b_hereWay', b_hereLength', b_into', R, hX, hY⟩ := rl_go (ent := ent) (k := kk) (f_load := f_load) (f_begun := (f_begun + 1)) (a_op := a_op) (a_opA := a_opA) (a_opB := a_opB) (a_opLine := a_opLine) (a_length := a_length) (a_guards := a_guards) (a_handlers := a_handlers) (a_kept := a_kept) (a_keptLoad := a_keptLoad) (a_counter := a_counter) (a_raised := a_raised) (a_stopped := a_stopped) (a_caught := a_caught) (a_unbegun := a_unbegun) (a_leads := a_leads) (a_counts := a_counts) (a_adds := a_adds) (a_goes := a_goes) (a_needed := a_needed) (a_known := a_known) (a_solved := a_solved) (a_open := a_open) (a_unknown := a_unknown) (a_balance := a_balance) (a_group := a_group) (a_first := a_first) (a_last := a_last) (a_sum := a_sum) (a_often := a_often) (a_told := a_told) (a_method := a_method) (a_pc := a_pc) (a_start := a_start) (a_here := (upd a_here d (nI i))) (a_path := (vp_updL a_path d (a_path d + a_coming d))) (a_coming := (vp_updL a_coming d 0)) (a_variable := a_variable) (g_steps := (g_steps + 1)) (g_load := (g_load + 1)) (b_op := b_op) (b_a := b_a) (b_b := b_b) (b_line := b_line) (b_length := b_length) (b_from := b_from) (b_to := b_to) (b_at := b_at) (b_handlers := b_handlers) (b_begun := (upd b_begun (24 * m + i) (b_begun (24 * m + i) + 1))) (b_taken := b_taken) (b_thrown := b_thrown) (b_rowI := b_rowI) (b_rowWay := b_rowWay) (b_rowLength := b_rowLength) (b_times := b_times) (b_told := b_told) (b_kOp := b_kOp) (b_kA := b_kA) (b_kB := b_kB) (b_kLine := b_kLine) (b_kLength := b_kLength) (b_kFrom := b_kFrom) (b_kTo := b_kTo) (b_kAt := b_kAt) (b_kHandlers := b_kHandlers) (b_kBegun := b_kBegun) (b_kTaken := b_kTaken) (b_kThrown := b_kThrown) (b_kept := b_kept) (b_method := b_method) (b_pc := b_pc) (b_hereI := (upd b_hereI (24 * d + L) (nI i))) (b_hereWay := (upd b_hereWay (24 * d + L) z0)) (b_hereLength := (upd b_hereLength d (nI (L + 1)))) (b_into := b_into) (b_kLoad := b_kLoad) (b_part := b_part) hd C P (by rw [o1', show pw_ways (nI 7) = 4 by decide]; exact hkk) hS W' hB hF2
        refine ⟨ent, f_depth', f_outcome', f_result', a_counter', a_raised', a_stopped', a_caught', a_unbegun', a_first', a_last', a_sum', a_often', a_told', a_method', a_pc', a_start', a_here', a_path', a_coming', a_variable', g_depth', g_result', g_outcome', g_over', b_begun', b_taken', b_thrown', b_rowI', b_rowWay', b_rowLength', b_times', b_told', b_method', b_pc', b_variable', b_hereI', b_hereWay', b_hereLength', b_into', R, fun post hp => nm_r (nI_pred d) ⟨i6, nm_r ((rf a_method).trans c3) ⟨i6, nm_r ((rf a_pc).trans c5) (nm_e ⟨i6, nm_r eher ⟨i6, i6, i6, nm_r epa ⟨i6, nm_r eco ⟨ix, nm_r ((rX a_op).trans o1') ⟨ix, nm_r eax ⟨ix, nm_r (e' := a_opB (24 * m + i)) (rX a_opB) ⟨i24x, nm_r rvx (br_f (by decide) (br_f (by decide) (br_f (by decide) (br_f (by decide) (br_f (by decide) (br_f (by decide) (br_f (by decide) (br_f (by decide) (br_f (by decide) (br_t rfl (⟨iv, br_f (by rw [rV a_variable]; exact cv) ⟨iv, br_f (by rw [rV a_variable]; exact cw) ⟨iv, br_f (by decide) (by rw [rV a_variable, ek]; exact hX _ hp)⟩⟩⟩)))))))))))⟩⟩⟩⟩⟩⟩⟩)⟩⟩, fun post hp => goYn (by omega) post (br_f (by decide) (br_f (by decide) (br_f (by decide) ⟨iv, nm_r (rV a_variable) (br_f (by decide) (br_f (by decide) (br_t rfl (br_f cv (br_f cw (by rw [ek]; exact hY _ hp))))))⟩)))⟩
  · obtain ⟨ent', f_depth', f_outcome', f_result', a_counter', a_raised', a_stopped', a_caught', a_unbegun', a_first', a_last', a_sum', a_often', a_told', a_method', a_pc', a_start', a_here', a_path', a_coming', a_variable', g_depth', g_result', g_outcome', g_over', b_begun', b_taken', b_thrown', b_rowI', b_rowWay', b_rowLength', b_times', b_told', b_method', b_pc', b_variable', b_hereI', b_hereWay', b_hereLength', b_into', R, hX, hY⟩ := rl_call (ent := ent) (q := q) (f_load := f_load) (f_begun := (f_begun + 1)) (a_op := a_op) (a_opA := a_opA) (a_opB := a_opB) (a_opLine := a_opLine) (a_length := a_length) (a_guards := a_guards) (a_handlers := a_handlers) (a_kept := a_kept) (a_keptLoad := a_keptLoad) (a_counter := a_counter) (a_raised := a_raised) (a_stopped := a_stopped) (a_caught := a_caught) (a_unbegun := a_unbegun) (a_leads := a_leads) (a_counts := a_counts) (a_adds := a_adds) (a_goes := a_goes) (a_needed := a_needed) (a_known := a_known) (a_solved := a_solved) (a_open := a_open) (a_unknown := a_unknown) (a_balance := a_balance) (a_group := a_group) (a_first := a_first) (a_last := a_last) (a_sum := a_sum) (a_often := a_often) (a_told := a_told) (a_method := a_method) (a_pc := a_pc) (a_start := a_start) (a_here := (upd a_here d (nI i))) (a_path := (vp_updL a_path d (a_path d + a_coming d))) (a_coming := (vp_updL a_coming d 0)) (a_variable := a_variable) (g_steps := (g_steps + 1)) (g_load := (g_load + 1)) (b_op := b_op) (b_a := b_a) (b_b := b_b) (b_line := b_line) (b_length := b_length) (b_from := b_from) (b_to := b_to) (b_at := b_at) (b_handlers := b_handlers) (b_begun := (upd b_begun (24 * m + i) (b_begun (24 * m + i) + 1))) (b_taken := b_taken) (b_thrown := b_thrown) (b_rowI := b_rowI) (b_rowWay := b_rowWay) (b_rowLength := b_rowLength) (b_times := b_times) (b_told := b_told) (b_kOp := b_kOp) (b_kA := b_kA) (b_kB := b_kB) (b_kLine := b_kLine) (b_kLength := b_kLength) (b_kFrom := b_kFrom) (b_kTo := b_kTo) (b_kAt := b_kAt) (b_kHandlers := b_kHandlers) (b_kBegun := b_kBegun) (b_kTaken := b_kTaken) (b_kThrown := b_kThrown) (b_kept := b_kept) (b_method := b_method) (b_pc := b_pc) (b_hereI := (upd b_hereI (24 * d + L) (nI i))) (b_hereWay := (upd b_hereWay (24 * d + L) z0)) (b_hereLength := (upd b_hereLength d (nI (L + 1)))) (b_into := b_into) (b_kLoad := b_kLoad) (b_part := b_part) hd hq C P o1' hS W' hB hF2
    refine ⟨ent', f_depth', f_outcome', f_result', a_counter', a_raised', a_stopped', a_caught', a_unbegun', a_first', a_last', a_sum', a_often', a_told', a_method', a_pc', a_start', a_here', a_path', a_coming', a_variable', g_depth', g_result', g_outcome', g_over', b_begun', b_taken', b_thrown', b_rowI', b_rowWay', b_rowLength', b_times', b_told', b_method', b_pc', b_variable', b_hereI', b_hereWay', b_hereLength', b_into', R, fun post hp => nm_r (nI_pred d) ⟨i6, nm_r ((rf a_method).trans c3) ⟨i6, nm_r ((rf a_pc).trans c5) (nm_e ⟨i6, nm_r eher ⟨i6, i6, i6, nm_r epa ⟨i6, nm_r eco ⟨ix, nm_r ((rX a_op).trans o1') ⟨ix, nm_r eax ⟨ix, nm_r (e' := a_opB (24 * m + i)) (rX a_opB) ⟨i24x, nm_r rvx (br_f (by decide) (br_f (by decide) (br_f (by decide) (br_f (by decide) (br_f (by decide) (br_f (by decide) (br_f (by decide) (br_f (by decide) (br_f (by decide) (br_f (by decide) (br_t rfl (by rw [eq]; exact hX _ hp))))))))))))⟩⟩⟩⟩⟩⟩⟩)⟩⟩, fun post hp => goYn (by omega) post (br_f (by decide) (br_f (by decide) (br_f (by decide) ⟨iv, nm_r (rV a_variable) (br_f (by decide) (br_f (by decide) (br_f (by decide) (br_t rfl ⟨ix120, by rw [rY b_b, ← bb', eq]; exact hY _ hp⟩))))⟩)))⟩
  · obtain ⟨f_depth', f_outcome', f_result', a_counter', a_raised', a_stopped', a_caught', a_unbegun', a_first', a_last', a_sum', a_often', a_told', a_method', a_pc', a_start', a_here', a_path', a_coming', a_variable', g_depth', g_result', g_outcome', g_over', b_begun', b_taken', b_thrown', b_rowI', b_rowWay', b_rowLength', b_times', b_told', b_method', b_pc', b_variable', b_hereI', b_hereWay', b_hereLength', b_into', R, hX, hY⟩ := rl_ret (ent := ent) (val := a_variable (4 * d + c)) (f_load := f_load) (f_begun := (f_begun + 1)) (a_op := a_op) (a_opA := a_opA) (a_opB := a_opB) (a_opLine := a_opLine) (a_length := a_length) (a_guards := a_guards) (a_handlers := a_handlers) (a_kept := a_kept) (a_keptLoad := a_keptLoad) (a_counter := a_counter) (a_raised := a_raised) (a_stopped := a_stopped) (a_caught := a_caught) (a_unbegun := a_unbegun) (a_leads := a_leads) (a_counts := a_counts) (a_adds := a_adds) (a_goes := a_goes) (a_needed := a_needed) (a_known := a_known) (a_solved := a_solved) (a_open := a_open) (a_unknown := a_unknown) (a_balance := a_balance) (a_group := a_group) (a_first := a_first) (a_last := a_last) (a_sum := a_sum) (a_often := a_often) (a_told := a_told) (a_method := a_method) (a_pc := a_pc) (a_start := a_start) (a_here := (upd a_here d (nI i))) (a_path := (vp_updL a_path d (a_path d + a_coming d))) (a_coming := (vp_updL a_coming d 0)) (a_variable := a_variable) (g_steps := (g_steps + 1)) (g_load := (g_load + 1)) (b_op := b_op) (b_a := b_a) (b_b := b_b) (b_line := b_line) (b_length := b_length) (b_from := b_from) (b_to := b_to) (b_at := b_at) (b_handlers := b_handlers) (b_begun := (upd b_begun (24 * m + i) (b_begun (24 * m + i) + 1))) (b_taken := b_taken) (b_thrown := b_thrown) (b_rowI := b_rowI) (b_rowWay := b_rowWay) (b_rowLength := b_rowLength) (b_times := b_times) (b_told := b_told) (b_kOp := b_kOp) (b_kA := b_kA) (b_kB := b_kB) (b_kLine := b_kLine) (b_kLength := b_kLength) (b_kFrom := b_kFrom) (b_kTo := b_kTo) (b_kAt := b_kAt) (b_kHandlers := b_kHandlers) (b_kBegun := b_kBegun) (b_kTaken := b_kTaken) (b_kThrown := b_kThrown) (b_kept := b_kept) (b_method := b_method) (b_pc := b_pc) (b_hereI := (upd b_hereI (24 * d + L) (nI i))) (b_hereWay := (upd b_hereWay (24 * d + L) z0)) (b_hereLength := (upd b_hereLength d (nI (L + 1)))) (b_into := b_into) (b_kLoad := b_kLoad) (b_part := b_part) hd C P o1' hS W' hB hF2
    have e4 : (4 : Int32) * nI (24 * m + i) = nI (96 * m + (4 * i + 0)) := by
      rw [qa_m4]; exact congrArg nI (by omega)
    have i384 : vp_in (4 * nI (24 * m + i)) 384 := pk_in (96 * m + (4 * i + 0)) 384 (by omega) e4
    refine ⟨ent, f_depth', f_outcome', f_result', a_counter', a_raised', a_stopped', a_caught', a_unbegun', a_first', a_last', a_sum', a_often', a_told', a_method', a_pc', a_start', a_here', a_path', a_coming', a_variable', g_depth', g_result', g_outcome', g_over', b_begun', b_taken', b_thrown', b_rowI', b_rowWay', b_rowLength', b_times', b_told', b_method', b_pc', b_variable', b_hereI', b_hereWay', b_hereLength', b_into', R, fun post hp => nm_r (nI_pred d) ⟨i6, nm_r ((rf a_method).trans c3) ⟨i6, nm_r ((rf a_pc).trans c5) (nm_e ⟨i6, nm_r eher ⟨i6, i6, i6, nm_r epa ⟨i6, nm_r eco ⟨ix, nm_r ((rX a_op).trans o1') ⟨ix, nm_r eax ⟨ix, nm_r (e' := a_opB (24 * m + i)) (rX a_opB) ⟨i24x, nm_r rvx (br_f (by decide) (br_f (by decide) (br_f (by decide) (br_f (by decide) (br_f (by decide) (br_f (by decide) (br_f (by decide) (br_f (by decide) (br_f (by decide) (br_f (by decide) (br_f (by decide) (br_t rfl (br_t rfl ⟨iv, by rw [rV a_variable]; exact hX _ hp⟩)))))))))))))⟩⟩⟩⟩⟩⟩⟩)⟩⟩, fun post hp => goYn (by omega) post (br_f (by decide) (br_f (by decide) (br_f (by decide) ⟨iv, nm_r (rV a_variable) (br_f (by decide) (br_f (by decide) (br_f (by decide) (br_f (by decide) (br_t rfl ⟨i384, i384, nm_r (e' := upd b_taken (96 * m + (4 * i + 0)) (b_taken (96 * m + (4 * i + 0)) + 1)) (by rw [e4, nI_clamp (by omega)]) (hY _ hp)⟩)))))⟩)))⟩
  · obtain ⟨f_depth', f_outcome', f_result', a_counter', a_raised', a_stopped', a_caught', a_unbegun', a_first', a_last', a_sum', a_often', a_told', a_method', a_pc', a_start', a_here', a_path', a_coming', a_variable', g_depth', g_result', g_outcome', g_over', b_begun', b_taken', b_thrown', b_rowI', b_rowWay', b_rowLength', b_times', b_told', b_method', b_pc', b_variable', b_hereI', b_hereWay', b_hereLength', b_into', R, hX, hY⟩ := rl_raise (ent := ent) (f_begun := f_begun + 1) (g_steps := g_steps + 1) (g_load := g_load + 1) C P d hd (a_variable (4 * d + c)) m i a_counter a_raised a_stopped a_caught a_unbegun a_first a_last a_sum a_often a_told a_method a_pc a_start (upd a_here d (nI i)) (vp_updL a_path d (a_path d + a_coming d)) (vp_updL a_coming d 0) a_variable (upd b_begun (24 * m + i) (b_begun (24 * m + i) + 1)) b_taken b_thrown b_rowI b_rowWay b_rowLength b_times b_told b_method b_pc (upd b_hereI (24 * d + L) (nI i)) (upd b_hereWay (24 * d + L) z0) (upd b_hereLength d (nI (L + 1))) b_into hS W' hB hF2
    refine ⟨ent, f_depth', f_outcome', f_result', a_counter', a_raised', a_stopped', a_caught', a_unbegun', a_first', a_last', a_sum', a_often', a_told', a_method', a_pc', a_start', a_here', a_path', a_coming', a_variable', g_depth', g_result', g_outcome', g_over', b_begun', b_taken', b_thrown', b_rowI', b_rowWay', b_rowLength', b_times', b_told', b_method', b_pc', b_variable', b_hereI', b_hereWay', b_hereLength', b_into', R, fun post hp => nm_r (nI_pred d) ⟨i6, nm_r ((rf a_method).trans c3) ⟨i6, nm_r ((rf a_pc).trans c5) (nm_e ⟨i6, nm_r eher ⟨i6, i6, i6, nm_r epa ⟨i6, nm_r eco ⟨ix, nm_r ((rX a_op).trans o1') ⟨ix, nm_r eax ⟨ix, nm_r (e' := a_opB (24 * m + i)) (rX a_opB) ⟨i24x, nm_r rvx (br_f (by decide) (br_f (by decide) (br_f (by decide) (br_f (by decide) (br_f (by decide) (br_f (by decide) (br_f (by decide) (br_f (by decide) (br_f (by decide) (br_f (by decide) (br_f (by decide) (br_f (by decide) (br_t rfl (⟨iv, by rw [rV a_variable]; exact ⟨d + 2, hX _ hp _ (by omega)⟩⟩))))))))))))))⟩⟩⟩⟩⟩⟩⟩)⟩⟩, fun post hp => goYn (by omega) post (br_f (by decide) (br_f (by decide) (br_f (by decide) ⟨iv, nm_r (rV a_variable) (br_f (by decide) (br_f (by decide) (br_f (by decide) (br_f (by decide) (br_f (by decide) (br_t rfl ⟨d + 2, hY _ hp _ (by omega)⟩))))))⟩)))⟩
  · by_cases cv : a_variable (4 * d + q) = 0
    · obtain ⟨f_depth', f_outcome', f_result', a_counter', a_raised', a_stopped', a_caught', a_unbegun', a_first', a_last', a_sum', a_often', a_told', a_method', a_pc', a_start', a_here', a_path', a_coming', a_variable', g_depth', g_result', g_outcome', g_over', b_begun', b_taken', b_thrown', b_rowI', b_rowWay', b_rowLength', b_times', b_told', b_method', b_pc', b_variable', b_hereI', b_hereWay', b_hereLength', b_into', R, hX, hY⟩ := rl_raise (ent := ent) (f_begun := f_begun + 1) (g_steps := g_steps + 1) (g_load := g_load + 1) C P d hd 0 m i a_counter a_raised a_stopped a_caught a_unbegun a_first a_last a_sum a_often a_told a_method a_pc a_start (upd a_here d (nI i)) (vp_updL a_path d (a_path d + a_coming d)) (vp_updL a_coming d 0) a_variable (upd b_begun (24 * m + i) (b_begun (24 * m + i) + 1)) b_taken b_thrown b_rowI b_rowWay b_rowLength b_times b_told b_method b_pc (upd b_hereI (24 * d + L) (nI i)) (upd b_hereWay (24 * d + L) z0) (upd b_hereLength d (nI (L + 1))) b_into hS W' hB hF2
      refine ⟨ent, f_depth', f_outcome', f_result', a_counter', a_raised', a_stopped', a_caught', a_unbegun', a_first', a_last', a_sum', a_often', a_told', a_method', a_pc', a_start', a_here', a_path', a_coming', a_variable', g_depth', g_result', g_outcome', g_over', b_begun', b_taken', b_thrown', b_rowI', b_rowWay', b_rowLength', b_times', b_told', b_method', b_pc', b_variable', b_hereI', b_hereWay', b_hereLength', b_into', R, fun post hp => nm_r (nI_pred d) ⟨i6, nm_r ((rf a_method).trans c3) ⟨i6, nm_r ((rf a_pc).trans c5) (nm_e ⟨i6, nm_r eher ⟨i6, i6, i6, nm_r epa ⟨i6, nm_r eco ⟨ix, nm_r ((rX a_op).trans o1') ⟨ix, nm_r eax ⟨ix, nm_r (e' := a_opB (24 * m + i)) (rX a_opB) ⟨i24x, nm_r rvx (br_f (by decide) (br_f (by decide) (br_f (by decide) (br_f (by decide) (br_f (by decide) (br_f (by decide) (br_f (by decide) (br_f (by decide) (br_f (by decide) (br_f (by decide) (br_f (by decide) (br_f (by decide) (br_f (by decide) (br_t rfl (br_t cv ⟨d + 2, hX _ hp _ (by omega)⟩)))))))))))))))⟩⟩⟩⟩⟩⟩⟩)⟩⟩, fun post hp => goYn (by omega) post (br_f (by decide) (br_f (by decide) (br_f (by decide) ⟨iv, nm_r (rV a_variable) (br_f (by decide) (br_f (by decide) (br_f (by decide) (br_f (by decide) (br_f (by decide) (br_f (by decide) (br_t rfl (br_t cv ⟨d + 2, hY _ hp _ (by omega)⟩))))))))⟩)))⟩
    · obtain ⟨f_depth', f_outcome', f_result', a_counter', a_raised', a_stopped', a_caught', a_unbegun', a_first', a_last', a_sum', a_often', a_told', a_method', a_pc', a_start', a_here', a_path', a_coming', a_variable', g_depth', g_result', g_outcome', g_over', b_begun', b_taken', b_thrown', b_rowI', b_rowWay', b_rowLength', b_times', b_told', b_method', b_pc', b_variable', b_hereI', b_hereWay', b_hereLength', b_into', R, hX, hY⟩ := rl_go (ent := ent) (k := 0) (f_load := f_load) (f_begun := (f_begun + 1)) (a_op := a_op) (a_opA := a_opA) (a_opB := a_opB) (a_opLine := a_opLine) (a_length := a_length) (a_guards := a_guards) (a_handlers := a_handlers) (a_kept := a_kept) (a_keptLoad := a_keptLoad) (a_counter := a_counter) (a_raised := a_raised) (a_stopped := a_stopped) (a_caught := a_caught) (a_unbegun := a_unbegun) (a_leads := a_leads) (a_counts := a_counts) (a_adds := a_adds) (a_goes := a_goes) (a_needed := a_needed) (a_known := a_known) (a_solved := a_solved) (a_open := a_open) (a_unknown := a_unknown) (a_balance := a_balance) (a_group := a_group) (a_first := a_first) (a_last := a_last) (a_sum := a_sum) (a_often := a_often) (a_told := a_told) (a_method := a_method) (a_pc := a_pc) (a_start := a_start) (a_here := (upd a_here d (nI i))) (a_path := (vp_updL a_path d (a_path d + a_coming d))) (a_coming := (vp_updL a_coming d 0)) (a_variable := (upd a_variable (4 * d + c) (a_variable (4 * d + c) / a_variable (4 * d + q)))) (g_steps := (g_steps + 1)) (g_load := (g_load + 1)) (b_op := b_op) (b_a := b_a) (b_b := b_b) (b_line := b_line) (b_length := b_length) (b_from := b_from) (b_to := b_to) (b_at := b_at) (b_handlers := b_handlers) (b_begun := (upd b_begun (24 * m + i) (b_begun (24 * m + i) + 1))) (b_taken := b_taken) (b_thrown := b_thrown) (b_rowI := b_rowI) (b_rowWay := b_rowWay) (b_rowLength := b_rowLength) (b_times := b_times) (b_told := b_told) (b_kOp := b_kOp) (b_kA := b_kA) (b_kB := b_kB) (b_kLine := b_kLine) (b_kLength := b_kLength) (b_kFrom := b_kFrom) (b_kTo := b_kTo) (b_kAt := b_kAt) (b_kHandlers := b_kHandlers) (b_kBegun := b_kBegun) (b_kTaken := b_kTaken) (b_kThrown := b_kThrown) (b_kept := b_kept) (b_method := b_method) (b_pc := b_pc) (b_hereI := (upd b_hereI (24 * d + L) (nI i))) (b_hereWay := (upd b_hereWay (24 * d + L) z0)) (b_hereLength := (upd b_hereLength d (nI (L + 1)))) (b_into := b_into) (b_kLoad := b_kLoad) (b_part := b_part) hd C P (by rw [o1']; decide) hS W' hB hF2
      refine ⟨ent, f_depth', f_outcome', f_result', a_counter', a_raised', a_stopped', a_caught', a_unbegun', a_first', a_last', a_sum', a_often', a_told', a_method', a_pc', a_start', a_here', a_path', a_coming', a_variable', g_depth', g_result', g_outcome', g_over', b_begun', b_taken', b_thrown', b_rowI', b_rowWay', b_rowLength', b_times', b_told', b_method', b_pc', b_variable', b_hereI', b_hereWay', b_hereLength', b_into', R, fun post hp => nm_r (nI_pred d) ⟨i6, nm_r ((rf a_method).trans c3) ⟨i6, nm_r ((rf a_pc).trans c5) (nm_e ⟨i6, nm_r eher ⟨i6, i6, i6, nm_r epa ⟨i6, nm_r eco ⟨ix, nm_r ((rX a_op).trans o1') ⟨ix, nm_r eax ⟨ix, nm_r (e' := a_opB (24 * m + i)) (rX a_opB) ⟨i24x, nm_r rvx (br_f (by decide) (br_f (by decide) (br_f (by decide) (br_f (by decide) (br_f (by decide) (br_f (by decide) (br_f (by decide) (br_f (by decide) (br_f (by decide) (br_f (by decide) (br_f (by decide) (br_f (by decide) (br_f (by decide) (br_t rfl (br_f cv ⟨iv, cv, iv, nm_r (e' := (upd a_variable (4 * d + c) (a_variable (4 * d + c) / a_variable (4 * d + q)))) (by rw [rV a_variable, eS]) (br_f (by decide) (hX _ hp))⟩)))))))))))))))⟩⟩⟩⟩⟩⟩⟩)⟩⟩, fun post hp => goYn (by omega) post (br_f (by decide) (br_f (by decide) (br_f (by decide) ⟨iv, nm_r (rV a_variable) (br_f (by decide) (br_f (by decide) (br_f (by decide) (br_f (by decide) (br_f (by decide) (br_f (by decide) (br_t rfl (br_f cv (br_t rfl ?_)))))))))⟩)))⟩
      by_cases cm : a_variable (4 * d + q) = -1
      · exact br_t cm ⟨iv, nm_r (e' := (upd a_variable (4 * d + c) (a_variable (4 * d + c) / a_variable (4 * d + q)))) (by rw [eS, cm, rl_neg]) (hY _ hp)⟩
      · exact br_f cm ⟨cv, iv, nm_r (eS _ _) (hY _ hp)⟩
end
end
section
/-! a run: it is given up -/
def fr_G (length op opB : Nat → Int32) (adds : Nat → Int64) (method pc start here : Nat → Int32) (path : Nat → Int64) (method' pc' hI hW hL : Nat → Int32) (d : Nat) : Prop :=
  ∀ f, f < d → ∃ m i, fr_c length method pc method' pc' f m i ∧ ((∃ D p w, fr_p length op opB adds start here path hI hW hL f m D p w) ∨ (hL f = 0 ∧ here f = -1 ∧ ∃ x, x < 24 ∧ start f = nI x))
section
variable {f_load : Int32} {f_depth : Int32} {f_begun : Int32} {f_outcome : Int32} {f_result : Int32} {a_op : (Nat → Int32)} {a_opA : (Nat → Int32)} {a_opB : (Nat → Int32)} {a_opLine : (Nat → Int32)} {a_length : (Nat → Int32)} {a_guards : (Nat → Int32)} {a_handlers : (Nat → Int32)} {a_kept : (Nat → Int32)} {a_keptLoad : (Nat → Int32)} {a_counter : (Nat → Int32)} {a_raised : (Nat → Int32)} {a_stopped : (Nat → Int32)} {a_caught : (Nat → Int32)} {a_unbegun : (Nat → Int32)} {a_leads : (Nat → Int32)} {a_counts : (Nat → Int32)} {a_adds : (Nat → Int64)} {a_goes : (Nat → Int64)} {a_needed : (Nat → Int32)} {a_known : (Nat → Int32)} {a_solved : (Nat → Int32)} {a_open : (Nat → Int32)} {a_unknown : (Nat → Int32)} {a_balance : (Nat → Int32)} {a_group : (Nat → Int32)} {a_first : (Nat → Int32)} {a_last : (Nat → Int32)} {a_sum : (Nat → Int64)} {a_often : (Nat → Int32)} {a_told : (Nat → Int32)} {a_method : (Nat → Int32)} {a_pc : (Nat → Int32)} {a_start : (Nat → Int32)} {a_here : (Nat → Int32)} {a_path : (Nat → Int64)} {a_coming : (Nat → Int64)} {a_variable : (Nat → Int32)} {g_depth : Int32} {g_steps : Int32} {g_result : Int32} {g_outcome : Int32} {g_load : Int32} {g_over : Int32} {b_op : (Nat → Int32)} {b_a : (Nat → Int32)} {b_b : (Nat → Int32)} {b_line : (Nat → Int32)} {b_length : (Nat → Int32)} {b_from : (Nat → Int32)} {b_to : (Nat → Int32)} {b_at : (Nat → Int32)} {b_handlers : (Nat → Int32)} {b_begun : (Nat → Int32)} {b_taken : (Nat → Int32)} {b_thrown : (Nat → Int32)} {b_rowI : (Nat → Int32)} {b_rowWay : (Nat → Int32)} {b_rowLength : (Nat → Int32)} {b_times : (Nat → Int32)} {b_told : (Nat → Int32)} {b_kOp : (Nat → Int32)} {b_kA : (Nat → Int32)} {b_kB : (Nat → Int32)} {b_kLine : (Nat → Int32)} {b_kLength : (Nat → Int32)} {b_kFrom : (Nat → Int32)} {b_kTo : (Nat → Int32)} {b_kAt : (Nat → Int32)} {b_kHandlers : (Nat → Int32)} {b_kBegun : (Nat → Int32)} {b_kTaken : (Nat → Int32)} {b_kThrown : (Nat → Int32)} {b_kept : (Nat → Int32)} {b_method : (Nat → Int32)} {b_pc : (Nat → Int32)} {b_variable : (Nat → Int32)} {b_hereI : (Nat → Int32)} {b_hereWay : (Nat → Int32)} {b_hereLength : (Nat → Int32)} {b_into : (Nat → Int32)} {b_kLoad : (Nat → Int32)} {b_part : (Nat → Int32)}
theorem rl_give {ent : Nat → Int32} (C : (rc_code a_op a_opA a_opB a_opLine a_guards a_length a_handlers b_op b_a b_b b_line b_from b_to b_at b_length b_handlers)) (P : (rc_plan a_length a_op a_opB a_leads a_counts a_adds a_needed)) : ∀ d, d < 7 → ∀ (a_stopped a_first a_last : Nat → Int32) (a_sum : Nat → Int64) (a_often a_told a_here b_rowI b_rowWay b_rowLength b_times b_told b_hereLength : Nat → Int32), (rc_str a_length a_op a_opB a_adds a_first a_last a_sum a_often a_told b_rowI b_rowWay b_rowLength b_times b_told) → (fr_G a_length a_op a_opB a_adds a_method a_pc a_start a_here a_path b_method b_pc b_hereI b_hereWay b_hereLength) d → (rg_flow a_length a_op a_opB a_raised a_stopped a_caught a_unbegun a_counter b_begun b_taken b_thrown b_kBegun b_kTaken b_kThrown) ent (fr_n a_method a_pc d) (fun _ _ => 0) →
    ∃ (sp fi la : Nat → Int32) (su : Nat → Int64) (oft tx he rI rW rL ti ty hl : Nat → Int32), (rc_str a_length a_op a_opB a_adds fi la su oft tx rI rW rL ti ty) ∧ (rg_flow a_length a_op a_opB a_raised sp a_caught a_unbegun a_counter b_begun b_taken b_thrown b_kBegun b_kTaken b_kThrown) ent (fun _ _ => 0) (fun _ _ => 0) ∧
      (∀ post : SX → Prop, post (f_load, (nI 0), f_begun, f_outcome, f_result, a_op, a_opA, a_opB, a_opLine, a_length, a_guards, a_handlers, a_kept, a_keptLoad, a_counter, a_raised, sp, a_caught, a_unbegun, a_leads, a_counts, a_adds, a_goes, a_needed, a_known, a_solved, a_open, a_unknown, a_balance, a_group, fi, la, su, oft, tx, a_method, a_pc, a_start, he, a_path, a_coming, a_variable) → ∀ n, d < n → (wX_giveUp_44 post n f_load (nI d) f_begun f_outcome f_result a_op a_opA a_opB a_opLine a_length a_guards a_handlers a_kept a_keptLoad a_counter a_raised a_stopped a_caught a_unbegun a_leads a_counts a_adds a_goes a_needed a_known a_solved a_open a_unknown a_balance a_group a_first a_last a_sum a_often a_told a_method a_pc a_start a_here a_path a_coming a_variable)) ∧
      (∀ post : Int32 → SY → Prop, post 2 ((nI 0), g_steps, g_result, g_outcome, g_load, g_over, b_op, b_a, b_b, b_line, b_length, b_from, b_to, b_at, b_handlers, b_begun, b_taken, b_thrown, rI, rW, rL, ti, ty, b_kOp, b_kA, b_kB, b_kLine, b_kLength, b_kFrom, b_kTo, b_kAt, b_kHandlers, b_kBegun, b_kTaken, b_kThrown, b_kept, b_method, b_pc, b_variable, b_hereI, b_hereWay, hl, b_into, b_kLoad, b_part) → ∀ n, d < n → (wY_run_68 post n (nI d) g_steps g_result g_outcome g_load g_over b_op b_a b_b b_line b_length b_from b_to b_at b_handlers b_begun b_taken b_thrown b_rowI b_rowWay b_rowLength b_times b_told b_kOp b_kA b_kB b_kLine b_kLength b_kFrom b_kTo b_kAt b_kHandlers b_kBegun b_kTaken b_kThrown b_kept b_method b_pc b_variable b_hereI b_hereWay b_hereLength b_into b_kLoad b_part)) := by
  have hn4 : ∀ m, m < 4 → xn a_length m ≤ 24 := fun m hm => (rc_len C (r := m) (by omega)).2.2
  intro d
  induction d with
  | zero =>
    intro hd a_stopped a_first a_last a_sum a_often a_told a_here b_rowI b_rowWay b_rowLength b_times b_told b_hereLength hS hG hF
    refine ⟨a_stopped, a_first, a_last, a_sum, a_often, a_told, a_here, b_rowI, b_rowWay, b_rowLength, b_times, b_told, b_hereLength, hS, hF, fun post hp n hn => ?_, fun post hp n hn => ?_⟩
    · obtain ⟨n', rfl⟩ : ∃ n', n = n' + 1 := ⟨n - 1, by omega⟩
      exact br_t (nI_le (b := 0) (Nat.le_refl 0) (by decide)) hp
    · obtain ⟨n', rfl⟩ : ∃ n', n = n' + 1 := ⟨n - 1, by omega⟩
      exact br_t (nI_le (b := 0) (Nat.le_refl 0) (by decide)) hp
  | succ d ih =>
    intro hd a_stopped a_first a_last a_sum a_often a_told a_here b_rowI b_rowWay b_rowLength b_times b_told b_hereLength hS hG hF
    obtain ⟨m, i, ⟨hm, hi, c3, c4, c5, c6⟩, hcl⟩ := hG d (by omega)
    have hn := hn4 m hm
    have i6 : vp_in (nI d) 6 := pk_in d 6 (by omega)
    have rf : ∀ g : Nat → Int32, g (nI d).toNatClampNeg = g d := fun g => qa_rr d rfl
    have hF1 : (rg_flow a_length a_op a_opB a_raised a_stopped a_caught a_unbegun a_counter b_begun b_taken b_thrown b_kBegun b_kTaken b_kThrown) ent (fun m' p => fr_n a_method a_pc d m' p + rn_y m i m' p) (fun _ _ => 0) := eg_fc hF (fun m' p' hm' hp' => ⟨(fr_n_succ c3 c5 hm (by omega) hm' (Nat.lt_of_lt_of_le hp' (hn4 m' hm'))).symm, rfl⟩)
    have hF2 := eg_stop hn4 (show i < 24 by omega) hF1
    obtain ⟨fi, la, su, oft, tx, he, rI, rW, rL, ti, ty, hS', he1, he2, cX, cY⟩ := cl_close (f_load := f_load) (f_depth := (nI (d + 1))) (f_begun := f_begun) (f_outcome := f_outcome) (f_result := f_result) (a_op := a_op) (a_opA := a_opA) (a_opB := a_opB) (a_opLine := a_opLine) (a_length := a_length) (a_guards := a_guards) (a_handlers := a_handlers) (a_kept := a_kept) (a_keptLoad := a_keptLoad) (a_counter := a_counter) (a_raised := a_raised) (a_stopped := a_stopped) (a_caught := a_caught) (a_unbegun := a_unbegun) (a_leads := a_leads) (a_counts := a_counts) (a_adds := a_adds) (a_goes := a_goes) (a_needed := a_needed) (a_known := a_known) (a_solved := a_solved) (a_open := a_open) (a_unknown := a_unknown) (a_balance := a_balance) (a_group := a_group) (a_first := a_first) (a_last := a_last) (a_sum := a_sum) (a_often := a_often) (a_told := a_told) (a_method := a_method) (a_pc := a_pc) (a_start := a_start) (a_here := a_here) (a_path := a_path) (a_coming := a_coming) (a_variable := a_variable) (g_steps := g_steps) (g_result := g_result) (g_outcome := g_outcome) (g_load := g_load) (g_over := g_over) (b_op := b_op) (b_a := b_a) (b_b := b_b) (b_line := b_line) (b_length := b_length) (b_from := b_from) (b_to := b_to) (b_at := b_at) (b_handlers := b_handlers) (b_begun := b_begun) (b_taken := b_taken) (b_thrown := b_thrown) (b_rowI := b_rowI) (b_rowWay := b_rowWay) (b_rowLength := b_rowLength) (b_times := b_times) (b_told := b_told) (b_kOp := b_kOp) (b_kA := b_kA) (b_kB := b_kB) (b_kLine := b_kLine) (b_kLength := b_kLength) (b_kFrom := b_kFrom) (b_kTo := b_kTo) (b_kAt := b_kAt) (b_kHandlers := b_kHandlers) (b_kBegun := b_kBegun) (b_kTaken := b_kTaken) (b_kThrown := b_kThrown) (b_kept := b_kept) (b_method := b_method) (b_pc := b_pc) (b_variable := b_variable) (b_hereI := b_hereI) (b_hereWay := b_hereWay) (b_hereLength := b_hereLength) (b_into := b_into) (b_kLoad := b_kLoad) (b_part := b_part) (show d < 6 by omega) hm (by omega) C P hS c3 c4 hcl
    have G' : (fr_G a_length a_op a_opB a_adds a_method a_pc a_start he a_path b_method b_pc b_hereI b_hereWay (upd b_hereLength d 0)) d := by
      intro f hf
      obtain ⟨m', i', k1, k2⟩ := hG f (by omega)
      refine ⟨m', i', k1, ?_⟩
      have e1 : he f = a_here f := he2 f (by omega)
      have e2 : upd b_hereLength d 0 f = b_hereLength f := pk_un (by omega)
      rcases k2 with ⟨D, p, w, x1, x2, x3, x4, x5, x6⟩ | ⟨x1, x2, x3⟩
      · exact Or.inl ⟨D, p, w, x1, e2.trans x2, x3, x4, e1.trans x5, x6⟩
      · exact Or.inr ⟨e2.trans x1, e1.trans x2, x3⟩
    obtain ⟨sp2, fi2, la2, su2, oft2, tx2, he2', rI2, rW2, rL2, ti2, ty2, hl2, S2, F2, hX, hY⟩ := ih (by omega) (upd a_stopped (24 * m + i) (a_stopped (24 * m + i) + 1)) fi la su oft tx he rI rW rL ti ty (upd b_hereLength d 0) hS' G' hF2
    have ex : (24 : Int32) * a_method (nI d).toNatClampNeg + a_pc (nI d).toNatClampNeg = nI (24 * m + i) := by rw [rf a_method, rf a_pc, c3, c5, qa_24]
    have ix : vp_in (24 * a_method (nI d).toNatClampNeg + a_pc (nI d).toNatClampNeg) 408 := pk_in (24 * m + i) 408 (by omega) ex
    refine ⟨sp2, fi2, la2, su2, oft2, tx2, he2', rI2, rW2, rL2, ti2, ty2, hl2, S2, F2, fun post hp n hn => ?_, fun post hp n hn => ?_⟩
    · obtain ⟨n', rfl⟩ : ∃ n', n = n' + 1 := ⟨n - 1, by omega⟩
      refine br_f (nI_nle (by omega) (by omega)) (nm_r (nI_pred d) ?_)
      refine cX _ ?_
      exact ⟨i6, i6, ix, ix, nm_r (e' := upd a_stopped (24 * m + i) (a_stopped (24 * m + i) + 1)) (by rw [ex, nI_clamp (by omega)]) (nm_r (nI_pred d) (hX post hp n' (by omega)))⟩
    · obtain ⟨n', rfl⟩ : ∃ n', n = n' + 1 := ⟨n - 1, by omega⟩
      refine br_f (nI_nle (by omega) (by omega)) ?_
      refine cY _ ?_
      exact nm_r (nI_pred d) (hY post hp n' (by omega))
/-- steps until the end -/
theorem rl_run {Lx : Nat} (C : (rc_code a_op a_opA a_opB a_opLine a_guards a_length a_handlers b_op b_a b_b b_line b_from b_to b_at b_length b_handlers)) (P : (rc_plan a_length a_op a_opB a_leads a_counts a_adds a_needed)) : ∀ r s, s + r = 200 → ∀ (ent : Nat → Int32) (f_depth : Int32) (f_outcome : Int32) (f_result : Int32) (a_counter : (Nat → Int32)) (a_raised : (Nat → Int32)) (a_stopped : (Nat → Int32)) (a_caught : (Nat → Int32)) (a_unbegun : (Nat → Int32)) (a_first : (Nat → Int32)) (a_last : (Nat → Int32)) (a_sum : (Nat → Int64)) (a_often : (Nat → Int32)) (a_told : (Nat → Int32)) (a_method : (Nat → Int32)) (a_pc : (Nat → Int32)) (a_start : (Nat → Int32)) (a_here : (Nat → Int32)) (a_path : (Nat → Int64)) (a_coming : (Nat → Int64)) (a_variable : (Nat → Int32)) (g_depth : Int32) (g_result : Int32) (g_outcome : Int32) (g_over : Int32) (b_begun : (Nat → Int32)) (b_taken : (Nat → Int32)) (b_thrown : (Nat → Int32)) (b_rowI : (Nat → Int32)) (b_rowWay : (Nat → Int32)) (b_rowLength : (Nat → Int32)) (b_times : (Nat → Int32)) (b_told : (Nat → Int32)) (b_method : (Nat → Int32)) (b_pc : (Nat → Int32)) (b_variable : (Nat → Int32)) (b_hereI : (Nat → Int32)) (b_hereWay : (Nat → Int32)) (b_hereLength : (Nat → Int32)) (b_into : (Nat → Int32)), (ro_ok a_length a_op a_opB a_adds b_kBegun b_kTaken b_kThrown f_depth f_outcome f_result a_counter a_raised a_stopped a_caught a_unbegun a_first a_last a_sum a_often a_told a_method a_pc a_start a_here a_path a_coming a_variable g_depth g_result g_outcome g_over b_begun b_taken b_thrown b_rowI b_rowWay b_rowLength b_times b_told b_method b_pc b_variable b_hereI b_hereWay b_hereLength b_into) ent →
    ∃ (r0 : Int32) (bz : Nat) (ent' : Nat → Int32), ∃ (f_depth' : Int32) (f_outcome' : Int32) (f_result' : Int32) (a_counter' : (Nat → Int32)) (a_raised' : (Nat → Int32)) (a_stopped' : (Nat → Int32)) (a_caught' : (Nat → Int32)) (a_unbegun' : (Nat → Int32)) (a_first' : (Nat → Int32)) (a_last' : (Nat → Int32)) (a_sum' : (Nat → Int64)) (a_often' : (Nat → Int32)) (a_told' : (Nat → Int32)) (a_method' : (Nat → Int32)) (a_pc' : (Nat → Int32)) (a_start' : (Nat → Int32)) (a_here' : (Nat → Int32)) (a_path' : (Nat → Int64)) (a_coming' : (Nat → Int64)) (a_variable' : (Nat → Int32)) (g_depth' : Int32) (g_result' : Int32) (g_outcome' : Int32) (g_over' : Int32) (b_begun' : (Nat → Int32)) (b_taken' : (Nat → Int32)) (b_thrown' : (Nat → Int32)) (b_rowI' : (Nat → Int32)) (b_rowWay' : (Nat → Int32)) (b_rowLength' : (Nat → Int32)) (b_times' : (Nat → Int32)) (b_told' : (Nat → Int32)) (b_method' : (Nat → Int32)) (b_pc' : (Nat → Int32)) (b_variable' : (Nat → Int32)) (b_hereI' : (Nat → Int32)) (b_hereWay' : (Nat → Int32)) (b_hereLength' : (Nat → Int32)) (b_into' : (Nat → Int32)), ((rc_str a_length a_op a_opB a_adds a_first' a_last' a_sum' a_often' a_told' b_rowI' b_rowWay' b_rowLength' b_times' b_told') ∧ a_variable' = b_variable' ∧ f_result' = g_result' ∧ (rg_flow a_length a_op a_opB a_raised' a_stopped' a_caught' a_unbegun' a_counter' b_begun' b_taken' b_thrown' b_kBegun b_kTaken b_kThrown) ent' (fun _ _ => 0) (fun _ _ => 0) ∧ bz ≤ 200) ∧
      (∀ post : Int32 → SX → Prop, post r0 ((nI (Lx + bz)), f_depth', (nI bz), f_outcome', f_result', a_op, a_opA, a_opB, a_opLine, a_length, a_guards, a_handlers, a_kept, a_keptLoad, a_counter', a_raised', a_stopped', a_caught', a_unbegun', a_leads, a_counts, a_adds, a_goes, a_needed, a_known, a_solved, a_open, a_unknown, a_balance, a_group, a_first', a_last', a_sum', a_often', a_told', a_method', a_pc', a_start', a_here', a_path', a_coming', a_variable') → ∀ n, r + 2 ≤ n → (wX_run_69 post n (nI Lx) f_depth (nI s) f_outcome f_result a_op a_opA a_opB a_opLine a_length a_guards a_handlers a_kept a_keptLoad a_counter a_raised a_stopped a_caught a_unbegun a_leads a_counts a_adds a_goes a_needed a_known a_solved a_open a_unknown a_balance a_group a_first a_last a_sum a_often a_told a_method a_pc a_start a_here a_path a_coming a_variable)) ∧
      (∀ post : Int32 → SY → Prop, post r0 (g_depth', (nI bz), g_result', g_outcome', (nI (Lx + bz)), g_over', b_op, b_a, b_b, b_line, b_length, b_from, b_to, b_at, b_handlers, b_begun', b_taken', b_thrown', b_rowI', b_rowWay', b_rowLength', b_times', b_told', b_kOp, b_kA, b_kB, b_kLine, b_kLength, b_kFrom, b_kTo, b_kAt, b_kHandlers, b_kBegun, b_kTaken, b_kThrown, b_kept, b_method', b_pc', b_variable', b_hereI', b_hereWay', b_hereLength', b_into', b_kLoad, b_part) → ∀ n, r + 2 ≤ n → (wY_run_51 post n g_depth (nI s) g_result g_outcome (nI (Lx + s)) g_over b_op b_a b_b b_line b_length b_from b_to b_at b_handlers b_begun b_taken b_thrown b_rowI b_rowWay b_rowLength b_times b_told b_kOp b_kA b_kB b_kLine b_kLength b_kFrom b_kTo b_kAt b_kHandlers b_kBegun b_kTaken b_kThrown b_kept b_method b_pc b_variable b_hereI b_hereWay b_hereLength b_into b_kLoad b_part)) := by
  have hn4 : ∀ m, m < 4 → xn a_length m ≤ 24 := fun m hm => (rc_len C (r := m) (by omega)).2.2
  have done : ∀ r s, s + r = 200 → ∀ (ent : Nat → Int32) (f_depth : Int32) (f_outcome : Int32) (f_result : Int32) (a_counter : (Nat → Int32)) (a_raised : (Nat → Int32)) (a_stopped : (Nat → Int32)) (a_caught : (Nat → Int32)) (a_unbegun : (Nat → Int32)) (a_first : (Nat → Int32)) (a_last : (Nat → Int32)) (a_sum : (Nat → Int64)) (a_often : (Nat → Int32)) (a_told : (Nat → Int32)) (a_method : (Nat → Int32)) (a_pc : (Nat → Int32)) (a_start : (Nat → Int32)) (a_here : (Nat → Int32)) (a_path : (Nat → Int64)) (a_coming : (Nat → Int64)) (a_variable : (Nat → Int32)) (g_depth : Int32) (g_result : Int32) (g_outcome : Int32) (g_over : Int32) (b_begun : (Nat → Int32)) (b_taken : (Nat → Int32)) (b_thrown : (Nat → Int32)) (b_rowI : (Nat → Int32)) (b_rowWay : (Nat → Int32)) (b_rowLength : (Nat → Int32)) (b_times : (Nat → Int32)) (b_told : (Nat → Int32)) (b_method : (Nat → Int32)) (b_pc : (Nat → Int32)) (b_variable : (Nat → Int32)) (b_hereI : (Nat → Int32)) (b_hereWay : (Nat → Int32)) (b_hereLength : (Nat → Int32)) (b_into : (Nat → Int32)), (rc_str a_length a_op a_opB a_adds a_first a_last a_sum a_often a_told b_rowI b_rowWay b_rowLength b_times b_told) → a_variable = b_variable → f_depth = 0 → g_over = 1 → f_outcome = g_outcome → f_result = g_result → (rg_flow a_length a_op a_opB a_raised a_stopped a_caught a_unbegun a_counter b_begun b_taken b_thrown b_kBegun b_kTaken b_kThrown) ent (fun _ _ => 0) (fun _ _ => 0) →
    ∃ (r0 : Int32) (bz : Nat) (ent' : Nat → Int32), ∃ (f_depth' : Int32) (f_outcome' : Int32) (f_result' : Int32) (a_counter' : (Nat → Int32)) (a_raised' : (Nat → Int32)) (a_stopped' : (Nat → Int32)) (a_caught' : (Nat → Int32)) (a_unbegun' : (Nat → Int32)) (a_first' : (Nat → Int32)) (a_last' : (Nat → Int32)) (a_sum' : (Nat → Int64)) (a_often' : (Nat → Int32)) (a_told' : (Nat → Int32)) (a_method' : (Nat → Int32)) (a_pc' : (Nat → Int32)) (a_start' : (Nat → Int32)) (a_here' : (Nat → Int32)) (a_path' : (Nat → Int64)) (a_coming' : (Nat → Int64)) (a_variable' : (Nat → Int32)) (g_depth' : Int32) (g_result' : Int32) (g_outcome' : Int32) (g_over' : Int32) (b_begun' : (Nat → Int32)) (b_taken' : (Nat → Int32)) (b_thrown' : (Nat → Int32)) (b_rowI' : (Nat → Int32)) (b_rowWay' : (Nat → Int32)) (b_rowLength' : (Nat → Int32)) (b_times' : (Nat → Int32)) (b_told' : (Nat → Int32)) (b_method' : (Nat → Int32)) (b_pc' : (Nat → Int32)) (b_variable' : (Nat → Int32)) (b_hereI' : (Nat → Int32)) (b_hereWay' : (Nat → Int32)) (b_hereLength' : (Nat → Int32)) (b_into' : (Nat → Int32)), ((rc_str a_length a_op a_opB a_adds a_first' a_last' a_sum' a_often' a_told' b_rowI' b_rowWay' b_rowLength' b_times' b_told') ∧ a_variable' = b_variable' ∧ f_result' = g_result' ∧ (rg_flow a_length a_op a_opB a_raised' a_stopped' a_caught' a_unbegun' a_counter' b_begun' b_taken' b_thrown' b_kBegun b_kTaken b_kThrown) ent' (fun _ _ => 0) (fun _ _ => 0) ∧ bz ≤ 200) ∧
      (∀ post : Int32 → SX → Prop, post r0 ((nI (Lx + bz)), f_depth', (nI bz), f_outcome', f_result', a_op, a_opA, a_opB, a_opLine, a_length, a_guards, a_handlers, a_kept, a_keptLoad, a_counter', a_raised', a_stopped', a_caught', a_unbegun', a_leads, a_counts, a_adds, a_goes, a_needed, a_known, a_solved, a_open, a_unknown, a_balance, a_group, a_first', a_last', a_sum', a_often', a_told', a_method', a_pc', a_start', a_here', a_path', a_coming', a_variable') → ∀ n, r + 2 ≤ n → (wX_run_69 post n (nI Lx) f_depth (nI s) f_outcome f_result a_op a_opA a_opB a_opLine a_length a_guards a_handlers a_kept a_keptLoad a_counter a_raised a_stopped a_caught a_unbegun a_leads a_counts a_adds a_goes a_needed a_known a_solved a_open a_unknown a_balance a_group a_first a_last a_sum a_often a_told a_method a_pc a_start a_here a_path a_coming a_variable)) ∧
      (∀ post : Int32 → SY → Prop, post r0 (g_depth', (nI bz), g_result', g_outcome', (nI (Lx + bz)), g_over', b_op, b_a, b_b, b_line, b_length, b_from, b_to, b_at, b_handlers, b_begun', b_taken', b_thrown', b_rowI', b_rowWay', b_rowLength', b_times', b_told', b_kOp, b_kA, b_kB, b_kLine, b_kLength, b_kFrom, b_kTo, b_kAt, b_kHandlers, b_kBegun, b_kTaken, b_kThrown, b_kept, b_method', b_pc', b_variable', b_hereI', b_hereWay', b_hereLength', b_into', b_kLoad, b_part) → ∀ n, r + 2 ≤ n → (wY_run_51 post n g_depth (nI s) g_result g_outcome (nI (Lx + s)) g_over b_op b_a b_b b_line b_length b_from b_to b_at b_handlers b_begun b_taken b_thrown b_rowI b_rowWay b_rowLength b_times b_told b_kOp b_kA b_kB b_kLine b_kLength b_kFrom b_kTo b_kAt b_kHandlers b_kBegun b_kTaken b_kThrown b_kept b_method b_pc b_variable b_hereI b_hereWay b_hereLength b_into b_kLoad b_part)) := by
    intro r s hrs ent f_depth f_outcome f_result a_counter a_raised a_stopped a_caught a_unbegun a_first a_last a_sum a_often a_told a_method a_pc a_start a_here a_path a_coming a_variable g_depth g_result g_outcome g_over b_begun b_taken b_thrown b_rowI b_rowWay b_rowLength b_times b_told b_method b_pc b_variable b_hereI b_hereWay b_hereLength b_into hS hv h1 h2 h3 h4 hF
    refine ⟨f_outcome, s, ent, f_depth, f_outcome, f_result, a_counter, a_raised, a_stopped, a_caught, a_unbegun, a_first, a_last, a_sum, a_often, a_told, a_method, a_pc, a_start, a_here, a_path, a_coming, a_variable, g_depth, g_result, g_outcome, g_over, b_begun, b_taken, b_thrown, b_rowI, b_rowWay, b_rowLength, b_times, b_told, b_method, b_pc, b_variable, b_hereI, b_hereWay, b_hereLength, b_into, ⟨hS, hv, h4, hF, by omega⟩, fun post hp n hn => ?_, fun post hp n hn => ?_⟩
    · obtain ⟨n', rfl⟩ : ∃ n', n = n' + 1 := ⟨n - 1, by omega⟩
      exact br_t (by rw [h1]; decide) (nm_r (nI_add Lx s) hp)
    · obtain ⟨n', rfl⟩ : ∃ n', n = n' + 1 := ⟨n - 1, by omega⟩
      rw [h3] at hp
      exact br_f (by rw [h2]; decide) hp
  intro r
  induction r with
  | zero =>
    intro s hs ent f_depth f_outcome f_result a_counter a_raised a_stopped a_caught a_unbegun a_first a_last a_sum a_often a_told a_method a_pc a_start a_here a_path a_coming a_variable g_depth g_result g_outcome g_over b_begun b_taken b_thrown b_rowI b_rowWay b_rowLength b_times b_told b_method b_pc b_variable b_hereI b_hereWay b_hereLength b_into hro
    obtain ⟨hS, hv, hcase⟩ := hro
    rcases hcase with ⟨d, m, i, hd, rfl, rfl, rfl, rfl, rfl, rfl, rfl, hW, hR, hF⟩ | ⟨h1, h2, h3, h4, hF⟩
    · subst hv
      obtain rfl : s = 200 := by omega
      obtain ⟨hm, hi, c3, c4, c5, c6⟩ := hR.1
      have hn := hn4 m hm
      have i6 : vp_in (nI d) 6 := pk_in d 6 hd
      have rf : ∀ g : Nat → Int32, g (nI d).toNatClampNeg = g d := fun g => qa_rr d rfl
      have hF1 := eg_unbegun hn4 (show i < 24 by omega) hF
      have hF2 : (rg_flow a_length a_op a_opB a_raised a_stopped a_caught (upd a_unbegun (24 * m + i) (a_unbegun (24 * m + i) + 1)) a_counter b_begun b_taken b_thrown b_kBegun b_kTaken b_kThrown) ent (fr_n a_method a_pc (d + 1)) (fun _ _ => 0) := eg_fc hF1 (fun m' p' hm' hp' => ⟨fr_n_succ c3 c5 hm (by omega) hm' (Nat.lt_of_lt_of_le hp' (hn4 m' hm')), rfl⟩)
      have hG : (fr_G a_length a_op a_opB a_adds a_method a_pc a_start a_here a_path b_method b_pc b_hereI b_hereWay b_hereLength) (d + 1) := by
        intro f hf
        by_cases cf : f = d
        · subst cf
          refine ⟨m, i, hR.1, ?_⟩
          rcases hR.2 with ⟨q1, q2, q3, _, _⟩ | ⟨D, p, w, k, x, _⟩
          · exact Or.inr ⟨q1, q3, i, by omega, q2⟩
          · exact Or.inl ⟨D, p, w, x⟩
        · obtain ⟨m', i', ⟨k1, D, p, w, k2, _⟩, _⟩ := hW f (by omega)
          exact ⟨m', i', k1, Or.inl ⟨D, p, w, k2⟩⟩
      obtain ⟨sp, fi, la, su, oft, tx, he, rI, rW, rL, ti, ty, hl, S2, F2, hX, hY⟩ := rl_give (f_load := nI Lx) (f_begun := nI 200) (f_outcome := 2) (f_result := 0) (g_steps := nI 200) (g_load := nI (Lx + 200)) (g_result := 0) (g_outcome := 0) (g_over := 0) (a_variable := a_variable) (b_variable := a_variable) (a_coming := a_coming) (b_into := b_into) C P (d + 1) (by omega) a_stopped a_first a_last a_sum a_often a_told a_here b_rowI b_rowWay b_rowLength b_times b_told b_hereLength hS hG hF2
      have ex : (24 : Int32) * a_method (nI d).toNatClampNeg + a_pc (nI d).toNatClampNeg = nI (24 * m + i) := by rw [rf a_method, rf a_pc, c3, c5, qa_24]
      have ix : vp_in (nI (24 * m + i)) 408 := pk_in (24 * m + i) 408 (by omega)
      refine ⟨2, 200, ent, (nI 0), 2, 0, a_counter, a_raised, sp, a_caught, (upd a_unbegun (24 * m + i) (a_unbegun (24 * m + i) + 1)), fi, la, su, oft, tx, a_method, a_pc, a_start, he, a_path, a_coming, a_variable, (nI 0), 0, 0, 0, b_begun, b_taken, b_thrown, rI, rW, rL, ti, ty, b_method, b_pc, a_variable, b_hereI, b_hereWay, hl, b_into, ⟨S2, rfl, rfl, F2, by omega⟩, fun post hp n hn => ?_, fun post hp n hn => ?_⟩
      · obtain ⟨n', rfl⟩ : ∃ n', n = n' + 1 + 1 := ⟨n - 2, by omega⟩
        refine br_f (nI_nle (by omega) (by omega)) (br_t rfl ?_)
        refine nm_r (nI_pred d) ⟨i6, i6, nm_r ex ⟨ix, ix, nm_r (e' := upd a_unbegun (24 * m + i) (a_unbegun (24 * m + i) + 1)) (by rw [nI_clamp (by omega)]) ⟨d + 2, hX _ ?_ _ (by omega)⟩⟩⟩
        exact br_t (by decide) (nm_r (nI_add Lx 200) hp)
      · obtain ⟨n', rfl⟩ : ∃ n', n = n' + 1 + 1 := ⟨n - 2, by omega⟩
        exact br_t rfl (br_t rfl ⟨d + 2, hY _ hp _ (by omega)⟩)
    · exact done 0 s hs ent f_depth f_outcome f_result a_counter a_raised a_stopped a_caught a_unbegun a_first a_last a_sum a_often a_told a_method a_pc a_start a_here a_path a_coming a_variable g_depth g_result g_outcome g_over b_begun b_taken b_thrown b_rowI b_rowWay b_rowLength b_times b_told b_method b_pc b_variable b_hereI b_hereWay b_hereLength b_into hS hv h1 h2 h3 h4 hF
  | succ r ih =>
    intro s hs ent f_depth f_outcome f_result a_counter a_raised a_stopped a_caught a_unbegun a_first a_last a_sum a_often a_told a_method a_pc a_start a_here a_path a_coming a_variable g_depth g_result g_outcome g_over b_begun b_taken b_thrown b_rowI b_rowWay b_rowLength b_times b_told b_method b_pc b_variable b_hereI b_hereWay b_hereLength b_into hro
    obtain ⟨hS, hv, hcase⟩ := hro
    rcases hcase with ⟨d, m, i, hd, rfl, rfl, rfl, rfl, rfl, rfl, rfl, hW, hR, hF⟩ | ⟨h1, h2, h3, h4, hF⟩
    · subst hv
      obtain ⟨ent1, f_depth', f_outcome', f_result', a_counter', a_raised', a_stopped', a_caught', a_unbegun', a_first', a_last', a_sum', a_often', a_told', a_method', a_pc', a_start', a_here', a_path', a_coming', a_variable', g_depth', g_result', g_outcome', g_over', b_begun', b_taken', b_thrown', b_rowI', b_rowWay', b_rowLength', b_times', b_told', b_method', b_pc', b_variable', b_hereI', b_hereWay', b_hereLength', b_into', R1, sX, sY⟩ := rl_step (f_load := (nI Lx)) (f_begun := (nI s)) (a_op := a_op) (a_opA := a_opA) (a_opB := a_opB) (a_opLine := a_opLine) (a_length := a_length) (a_guards := a_guards) (a_handlers := a_handlers) (a_kept := a_kept) (a_keptLoad := a_keptLoad) (a_counter := a_counter) (a_raised := a_raised) (a_stopped := a_stopped) (a_caught := a_caught) (a_unbegun := a_unbegun) (a_leads := a_leads) (a_counts := a_counts) (a_adds := a_adds) (a_goes := a_goes) (a_needed := a_needed) (a_known := a_known) (a_solved := a_solved) (a_open := a_open) (a_unknown := a_unknown) (a_balance := a_balance) (a_group := a_group) (a_first := a_first) (a_last := a_last) (a_sum := a_sum) (a_often := a_often) (a_told := a_told) (a_method := a_method) (a_pc := a_pc) (a_start := a_start) (a_here := a_here) (a_path := a_path) (a_coming := a_coming) (a_variable := a_variable) (g_steps := (nI s)) (g_load := (nI (Lx + s))) (b_op := b_op) (b_a := b_a) (b_b := b_b) (b_line := b_line) (b_length := b_length) (b_from := b_from) (b_to := b_to) (b_at := b_at) (b_handlers := b_handlers) (b_begun := b_begun) (b_taken := b_taken) (b_thrown := b_thrown) (b_rowI := b_rowI) (b_rowWay := b_rowWay) (b_rowLength := b_rowLength) (b_times := b_times) (b_told := b_told) (b_kOp := b_kOp) (b_kA := b_kA) (b_kB := b_kB) (b_kLine := b_kLine) (b_kLength := b_kLength) (b_kFrom := b_kFrom) (b_kTo := b_kTo) (b_kAt := b_kAt) (b_kHandlers := b_kHandlers) (b_kBegun := b_kBegun) (b_kTaken := b_kTaken) (b_kThrown := b_kThrown) (b_kept := b_kept) (b_method := b_method) (b_pc := b_pc) (b_hereI := b_hereI) (b_hereWay := b_hereWay) (b_hereLength := b_hereLength) (b_into := b_into) (b_kLoad := b_kLoad) (b_part := b_part) hd C P hS hW hR hF
      rw [nI_1] at sX
      rw [nI_1, nI_1] at sY
      obtain ⟨r0, bz, ent2, f_depth2, f_outcome2, f_result2, a_counter2, a_raised2, a_stopped2, a_caught2, a_unbegun2, a_first2, a_last2, a_sum2, a_often2, a_told2, a_method2, a_pc2, a_start2, a_here2, a_path2, a_coming2, a_variable2, g_depth2, g_result2, g_outcome2, g_over2, b_begun2, b_taken2, b_thrown2, b_rowI2, b_rowWay2, b_rowLength2, b_times2, b_told2, b_method2, b_pc2, b_variable2, b_hereI2, b_hereWay2, b_hereLength2, b_into2, FIN, hX, hY⟩ := ih (s + 1) (by omega) ent1 f_depth' f_outcome' f_result' a_counter' a_raised' a_stopped' a_caught' a_unbegun' a_first' a_last' a_sum' a_often' a_told' a_method' a_pc' a_start' a_here' a_path' a_coming' a_variable' g_depth' g_result' g_outcome' g_over' b_begun' b_taken' b_thrown' b_rowI' b_rowWay' b_rowLength' b_times' b_told' b_method' b_pc' b_variable' b_hereI' b_hereWay' b_hereLength' b_into' R1
      have n200 : ¬ nI s = 200 := fun z => by have := (nI_eq (b := 200) (by omega) (by omega)).mp z; omega
      refine ⟨r0, bz, ent2, f_depth2, f_outcome2, f_result2, a_counter2, a_raised2, a_stopped2, a_caught2, a_unbegun2, a_first2, a_last2, a_sum2, a_often2, a_told2, a_method2, a_pc2, a_start2, a_here2, a_path2, a_coming2, a_variable2, g_depth2, g_result2, g_outcome2, g_over2, b_begun2, b_taken2, b_thrown2, b_rowI2, b_rowWay2, b_rowLength2, b_times2, b_told2, b_method2, b_pc2, b_variable2, b_hereI2, b_hereWay2, b_hereLength2, b_into2, FIN, fun post hp n hn => ?_, fun post hp n hn => ?_⟩
      · obtain ⟨n', rfl⟩ : ∃ n', n = n' + 1 := ⟨n - 1, by omega⟩
        refine br_f (nI_nle (by omega) (by omega)) (br_f n200 ?_)
        exact sX _ (hX post hp n' (by omega))
      · obtain ⟨n', rfl⟩ : ∃ n', n = n' + 1 := ⟨n - 1, by omega⟩
        refine br_t rfl (br_f n200 ?_)
        exact sY _ (hY post hp n' (by omega))
    · exact done (r + 1) s hs ent f_depth f_outcome f_result a_counter a_raised a_stopped a_caught a_unbegun a_first a_last a_sum a_often a_told a_method a_pc a_start a_here a_path a_coming a_variable g_depth g_result g_outcome g_over b_begun b_taken b_thrown b_rowI b_rowWay b_rowLength b_times b_told b_method b_pc b_variable b_hereI b_hereWay b_hereLength b_into hS hv h1 h2 h3 h4 hF
end
end
section
/-! owed: the small ones -/
theorem i_vc0 : wpX_init (fun u => wpY_init (fun v => i_Rel 0 u v)) := by
  refine ⟨fun _ => 0, fun _ => 0, ?_, ?_, ?_, ?_, ?_, ?_, ?_, ?_, ?_, rfl, rfl⟩
  · intro r hr
    exact ⟨⟨0, by omega, rfl, rfl⟩, ⟨0, by omega, rfl, rfl⟩, fun i hi => ⟨⟨0, by omega, rfl, rfl⟩, ⟨0, by omega, rfl, rfl⟩, rfl, ⟨0, by omega, rfl, rfl⟩⟩, fun j hj => ⟨0, 0, 0, by omega, by omega, by omega, rfl, rfl, rfl, rfl⟩⟩
  · intro r hr
    exact ⟨⟨0, by omega, rfl, rfl⟩, ⟨0, by omega, rfl, rfl⟩, fun i hi => ⟨⟨0, by omega, rfl, rfl⟩, ⟨0, by omega, rfl, rfl⟩, rfl, ⟨0, by omega, rfl, rfl⟩⟩, fun j hj => ⟨0, 0, 0, by omega, by omega, by omega, rfl, rfl, rfl, rfl⟩⟩
  · exact fun m hm z => absurd z (show ¬ 0 < (0 : Int32).toNatClampNeg by decide)
  · exact fun m hm z => absurd z (show ¬ 0 < (0 : Int32).toNatClampNeg by decide)
  · exact fun s hs => ⟨rfl, 0, by omega, rfl, rfl⟩
  · exact fun m hm z => absurd z (show ¬ 0 < (0 : Int32).toNatClampNeg by decide)
  · exact fun m hm z => absurd z (show ¬ 0 < (0 : Int32).toNatClampNeg by decide)
  · exact fun m hm z => absurd z (show ¬ 0 < (0 : Int32).toNatClampNeg by decide)
  · exact ⟨0, by omega, rfl, rfl⟩
theorem i_vc_result {k : Nat} {u : SX} {v : SY} (I : i_Rel k u v) (hk : k + 5 ≤ 2560) : wpX_result (fun r => wpY_result (fun r' => r' = r ∧ i_Rel (k + 5) u v) v) u := by
  refine ze_el (P := fun u v => wpX_result (fun r => wpY_result (fun r' => r' = r ∧ i_Rel (k + 5) u v) v) u) ?_ I
  intro f_load f_depth f_begun f_outcome f_result g_depth g_steps g_result g_outcome g_load g_over a_op a_opA a_opB a_opLine a_length a_guards a_handlers a_kept a_keptLoad a_counter a_raised a_stopped a_caught a_unbegun a_leads a_counts a_adds a_goes a_needed a_known a_solved a_open a_unknown a_balance a_group a_first a_last a_sum a_often a_told a_method a_pc a_start a_here a_path a_coming a_variable b_op b_a b_b b_line b_length b_from b_to b_at b_handlers b_begun b_taken b_thrown b_rowI b_rowWay b_rowLength b_times b_told b_kOp b_kA b_kB b_kLine b_kLength b_kFrom b_kTo b_kAt b_kHandlers b_kBegun b_kTaken b_kThrown b_kept b_method b_pc b_variable b_hereI b_hereWay b_hereLength b_into b_kLoad b_part ent ek C hK hP hD hL hF hS hN hl hv hr
  have R : i_Rel (k + 5) (f_load, f_depth, f_begun, f_outcome, f_result, a_op, a_opA, a_opB, a_opLine, a_length, a_guards, a_handlers, a_kept, a_keptLoad, a_counter, a_raised, a_stopped, a_caught, a_unbegun, a_leads, a_counts, a_adds, a_goes, a_needed, a_known, a_solved, a_open, a_unknown, a_balance, a_group, a_first, a_last, a_sum, a_often, a_told, a_method, a_pc, a_start, a_here, a_path, a_coming, a_variable) (g_depth, g_steps, g_result, g_outcome, g_load, g_over, b_op, b_a, b_b, b_line, b_length, b_from, b_to, b_at, b_handlers, b_begun, b_taken, b_thrown, b_rowI, b_rowWay, b_rowLength, b_times, b_told, b_kOp, b_kA, b_kB, b_kLine, b_kLength, b_kFrom, b_kTo, b_kAt, b_kHandlers, b_kBegun, b_kTaken, b_kThrown, b_kept, b_method, b_pc, b_variable, b_hereI, b_hereWay, b_hereLength, b_into, b_kLoad, b_part) := ze_mk C hK hP hD hL hF hS hN hl hv hr
  exact ⟨hr.symm, R⟩
theorem i_vc_thrown {k : Nat} {u : SX} {v : SY} (I : i_Rel k u v) (hk : k + 5 ≤ 2560) (v1 : Int32) (v2 : Int32) : wpX_thrown (fun r => wpY_thrown (fun r' => r' = r ∧ i_Rel (k + 5) u v) v v1 v2) u v1 v2 := by
  refine ze_el (P := fun u v => wpX_thrown (fun r => wpY_thrown (fun r' => r' = r ∧ i_Rel (k + 5) u v) v v1 v2) u v1 v2) ?_ I
  intro f_load f_depth f_begun f_outcome f_result g_depth g_steps g_result g_outcome g_load g_over a_op a_opA a_opB a_opLine a_length a_guards a_handlers a_kept a_keptLoad a_counter a_raised a_stopped a_caught a_unbegun a_leads a_counts a_adds a_goes a_needed a_known a_solved a_open a_unknown a_balance a_group a_first a_last a_sum a_often a_told a_method a_pc a_start a_here a_path a_coming a_variable b_op b_a b_b b_line b_length b_from b_to b_at b_handlers b_begun b_taken b_thrown b_rowI b_rowWay b_rowLength b_times b_told b_kOp b_kA b_kB b_kLine b_kLength b_kFrom b_kTo b_kAt b_kHandlers b_kBegun b_kTaken b_kThrown b_kept b_method b_pc b_variable b_hereI b_hereWay b_hereLength b_into b_kLoad b_part ent ek C hK hP hD hL hF hS hN hl hv hr
  have R : i_Rel (k + 5) (f_load, f_depth, f_begun, f_outcome, f_result, a_op, a_opA, a_opB, a_opLine, a_length, a_guards, a_handlers, a_kept, a_keptLoad, a_counter, a_raised, a_stopped, a_caught, a_unbegun, a_leads, a_counts, a_adds, a_goes, a_needed, a_known, a_solved, a_open, a_unknown, a_balance, a_group, a_first, a_last, a_sum, a_often, a_told, a_method, a_pc, a_start, a_here, a_path, a_coming, a_variable) (g_depth, g_steps, g_result, g_outcome, g_load, g_over, b_op, b_a, b_b, b_line, b_length, b_from, b_to, b_at, b_handlers, b_begun, b_taken, b_thrown, b_rowI, b_rowWay, b_rowLength, b_times, b_told, b_kOp, b_kA, b_kB, b_kLine, b_kLength, b_kFrom, b_kTo, b_kAt, b_kHandlers, b_kBegun, b_kTaken, b_kThrown, b_kept, b_method, b_pc, b_variable, b_hereI, b_hereWay, b_hereLength, b_into, b_kLoad, b_part) := ze_mk C hK hP hD hL hF hS hN hl hv hr
  unfold wpX_thrown
  rcases qb_has C v1 v2 with ⟨m, i, hm, hi, rfl, rfl, h1, h2⟩ | ⟨h1, h2⟩
  · have e3 := (rc_len C (r := m) (by omega)).2.2
    refine h1 _ ?_
    refine br_f (by decide) ⟨pk_in (24 * m + i) 408 (by omega) (qa_24 m i), ?_⟩
    unfold wpY_thrown
    refine h2 _ ?_
    refine br_f (by decide) ⟨pk_in (24 * m + i) 96 (by omega) (qa_24 m i), ?_, R⟩
    rw [qa_24, nI_clamp (by omega)]
    exact ((hF m hm (by omega)).2 i hi).1
  · refine h1 _ ?_
    refine br_t rfl ?_
    unfold wpY_thrown
    refine h2 _ ?_
    exact br_t rfl ⟨rfl, R⟩
theorem i_vc_stretches {k : Nat} {u : SX} {v : SY} (I : i_Rel k u v) (hk : k + 5 ≤ 2560) (v1 : Int32) : wpX_stretches (fun r => wpY_stretches (fun r' => r' = r ∧ i_Rel (k + 5) u v) v v1) u v1 := by
  refine ze_el (P := fun u v => wpX_stretches (fun r => wpY_stretches (fun r' => r' = r ∧ i_Rel (k + 5) u v) v v1) u v1) ?_ I
  intro f_load f_depth f_begun f_outcome f_result g_depth g_steps g_result g_outcome g_load g_over a_op a_opA a_opB a_opLine a_length a_guards a_handlers a_kept a_keptLoad a_counter a_raised a_stopped a_caught a_unbegun a_leads a_counts a_adds a_goes a_needed a_known a_solved a_open a_unknown a_balance a_group a_first a_last a_sum a_often a_told a_method a_pc a_start a_here a_path a_coming a_variable b_op b_a b_b b_line b_length b_from b_to b_at b_handlers b_begun b_taken b_thrown b_rowI b_rowWay b_rowLength b_times b_told b_kOp b_kA b_kB b_kLine b_kLength b_kFrom b_kTo b_kAt b_kHandlers b_kBegun b_kTaken b_kThrown b_kept b_method b_pc b_variable b_hereI b_hereWay b_hereLength b_into b_kLoad b_part ent ek C hK hP hD hL hF hS hN hl hv hr
  have R : i_Rel (k + 5) (f_load, f_depth, f_begun, f_outcome, f_result, a_op, a_opA, a_opB, a_opLine, a_length, a_guards, a_handlers, a_kept, a_keptLoad, a_counter, a_raised, a_stopped, a_caught, a_unbegun, a_leads, a_counts, a_adds, a_goes, a_needed, a_known, a_solved, a_open, a_unknown, a_balance, a_group, a_first, a_last, a_sum, a_often, a_told, a_method, a_pc, a_start, a_here, a_path, a_coming, a_variable) (g_depth, g_steps, g_result, g_outcome, g_load, g_over, b_op, b_a, b_b, b_line, b_length, b_from, b_to, b_at, b_handlers, b_begun, b_taken, b_thrown, b_rowI, b_rowWay, b_rowLength, b_times, b_told, b_kOp, b_kA, b_kB, b_kLine, b_kLength, b_kFrom, b_kTo, b_kAt, b_kHandlers, b_kBegun, b_kTaken, b_kThrown, b_kept, b_method, b_pc, b_variable, b_hereI, b_hereWay, b_hereLength, b_into, b_kLoad, b_part) := ze_mk C hK hP hD hL hF hS hN hl hv hr
  unfold wpX_stretches
  rcases qb_there C v1 with ⟨m, hm, rfl, z, h1, h2⟩ | ⟨h1, h2⟩
  · refine h1 _ ?_
    refine br_f (by decide) ⟨pk_in m 4 (by omega), ?_⟩
    unfold wpY_stretches
    refine h2 _ ?_
    refine br_f (by decide) ⟨pk_in m 4 (by omega), ?_, R⟩
    obtain ⟨T, hT, e1, e2, _⟩ := hS m hm z
    rw [nI_clamp (by omega)]
    exact e2.trans e1.symm
  · refine h1 _ ?_
    refine br_t rfl ?_
    unfold wpY_stretches
    refine h2 _ ?_
    exact br_t rfl ⟨rfl, R⟩
theorem i_vc_add {k : Nat} {u : SX} {v : SY} (I : i_Rel k u v) (hk : k + 5 ≤ 2560) (v1 : Int32) (v2 : Int32) (v3 : Int32) (v4 : Int32) : wpX_add (fun r u' => wpY_add (fun r' v' => r' = r ∧ i_Rel (k + 5) u' v') v v1 v2 v3 v4) u v1 v2 v3 v4 := by
  refine ze_el (P := fun u v => wpX_add (fun r u' => wpY_add (fun r' v' => r' = r ∧ i_Rel (k + 5) u' v') v v1 v2 v3 v4) u v1 v2 v3 v4) ?_ I
  intro f_load f_depth f_begun f_outcome f_result g_depth g_steps g_result g_outcome g_load g_over a_op a_opA a_opB a_opLine a_length a_guards a_handlers a_kept a_keptLoad a_counter a_raised a_stopped a_caught a_unbegun a_leads a_counts a_adds a_goes a_needed a_known a_solved a_open a_unknown a_balance a_group a_first a_last a_sum a_often a_told a_method a_pc a_start a_here a_path a_coming a_variable b_op b_a b_b b_line b_length b_from b_to b_at b_handlers b_begun b_taken b_thrown b_rowI b_rowWay b_rowLength b_times b_told b_kOp b_kA b_kB b_kLine b_kLength b_kFrom b_kTo b_kAt b_kHandlers b_kBegun b_kTaken b_kThrown b_kept b_method b_pc b_variable b_hereI b_hereWay b_hereLength b_into b_kLoad b_part ent ek C hK hP hD hL hF hS hN hl hv hr
  have R : i_Rel (k + 5) (f_load, f_depth, f_begun, f_outcome, f_result, a_op, a_opA, a_opB, a_opLine, a_length, a_guards, a_handlers, a_kept, a_keptLoad, a_counter, a_raised, a_stopped, a_caught, a_unbegun, a_leads, a_counts, a_adds, a_goes, a_needed, a_known, a_solved, a_open, a_unknown, a_balance, a_group, a_first, a_last, a_sum, a_often, a_told, a_method, a_pc, a_start, a_here, a_path, a_coming, a_variable) (g_depth, g_steps, g_result, g_outcome, g_load, g_over, b_op, b_a, b_b, b_line, b_length, b_from, b_to, b_at, b_handlers, b_begun, b_taken, b_thrown, b_rowI, b_rowWay, b_rowLength, b_times, b_told, b_kOp, b_kA, b_kB, b_kLine, b_kLength, b_kFrom, b_kTo, b_kAt, b_kHandlers, b_kBegun, b_kTaken, b_kThrown, b_kept, b_method, b_pc, b_variable, b_hereI, b_hereWay, b_hereLength, b_into, b_kLoad, b_part) := ze_mk C hK hP hD hL hF hS hN hl hv hr
  unfold wpX_add
  rcases qb_no (x := v1) (l := 12) 12 rfl (by decide) with ⟨o, ho, rfl, a1, a2⟩ | ⟨a1, a2⟩
  · refine a1 _ ?_
    refine br_t rfl ?_
    rcases qb_no (x := v2) (l := 4) 4 rfl (by decide) with ⟨a, ha, rfl, b1, b2⟩ | ⟨b1, b2⟩
    · refine b1 _ ?_
      refine br_t rfl ?_
      rcases qb_no (x := v4) (l := 16) 16 rfl (by decide) with ⟨l, hl4, rfl, c1, c2⟩ | ⟨c1, c2⟩
      · refine c1 _ ?_
        refine br_t rfl ?_
        obtain ⟨e1, e2, e3⟩ := rc_len C (r := 4) (by omega)
        generalize hn0 : xn a_length 4 = n at e1 e2 e3
        by_cases c : n = 24
        · subst c
          refine br_t e1 ?_
          unfold wpY_add
          refine a2 _ ?_
          refine br_f (by decide) ?_
          refine b2 _ ?_
          refine br_f (by decide) ?_
          refine c2 _ ?_
          refine br_f (by decide) ?_
          exact br_t e2 ⟨rfl, R⟩
        · have ne : ¬ nI n = 24 := fun z => c ((nI_eq (b := 24) (by omega) (by omega)).mp z)
          have nx : ¬ a_length 4 = 24 := by rw [e1]; exact ne
          have ny : ¬ b_length 4 = 24 := by rw [e2]; exact ne
          have f1 : (96 : Int32) + a_length 4 = nI (96 + n) := by rw [e1]; exact nI_add 96 n
          have f2 : (96 : Int32) + b_length 4 = nI (96 + n) := by rw [e2]; exact nI_add 96 n
          have ix : vp_in (nI (96 + n)) 408 := pk_in (96 + n) 408 (by omega)
          have iy : vp_in (nI (96 + n)) 120 := pk_in (96 + n) 120 (by omega)
          have st : ∀ (f : Nat → Int32) (x y : Int32), x = y → upd f (nI (96 + n)).toNatClampNeg x = upd f (96 + n) y := fun f x y h => by rw [nI_clamp (by omega), h]
          refine br_f nx (nm_r (e' := upd a_length 4 (nI (n + 1))) (by rw [e1, nI_1, qa_bb (by omega)]) (nm_r f1 ⟨ix, nm_r (st _ _ _ (qa_bb (by omega))) ⟨ix, nm_r (st _ _ _ (qa_bb (by omega))) ⟨ix, nm_r (st _ _ _ rfl) ⟨ix, nm_r (st _ _ _ (qa_bb (by omega))) ?_⟩⟩⟩⟩))
          unfold wpY_add
          refine a2 _ ?_
          refine br_f (by decide) ?_
          refine b2 _ ?_
          refine br_f (by decide) ?_
          refine c2 _ ?_
          refine br_f (by decide) ?_
          refine (br_f ny (nm_r f2 ⟨iy, nm_r (st _ _ _ rfl) ⟨iy, nm_r (st _ _ _ rfl) ⟨iy, nm_r (st _ _ _ rfl) ⟨iy, nm_r (st _ _ _ rfl) (nm_r (e' := upd b_length 4 (nI (n + 1))) (by rw [e2, nI_1]) ⟨rfl, ?_⟩)⟩⟩⟩⟩))
          have U : ∀ r, r ≠ 4 → xn a_length r ≤ 24 → tr_eq a_length a_op a_opB (upd a_length 4 (nI (n + 1))) (upd a_op (96 + n) (nI o)) (upd a_opB (96 + n) v3) r := fun r h4 hn => tr_mk (pk_un h4) hn (fun i hi => ⟨pk_un (by omega), pk_un (by omega)⟩)
          have U1 : ∀ r, r < 4 → tr_eq a_length a_op a_opB (upd a_length 4 (nI (n + 1))) (upd a_op (96 + n) (nI o)) (upd a_opB (96 + n) v3) r := fun r h4 => U r (by omega) (rc_len C (by omega)).2.2
          have U2 : ∀ q, q < 12 → tr_eq a_length a_op a_opB (upd a_length 4 (nI (n + 1))) (upd a_op (96 + n) (nI o)) (upd a_opB (96 + n) v3) (5 + q) := fun q h4 => U (5 + q) (by omega) (rc_klen hK h4).2.2
          exact ze_mk (tr_add C (by omega) e1 ho ha hl4) (tr_addk hK (by omega)) (tr_plan U1 hP) (tr_kdat U2 hD) hL (tr_flow U1 hF) (tr_str U1 hS) (tr_known U1 hN) hl hv hr
      · refine c1 _ ?_
        refine br_f (by decide) ?_
        unfold wpY_add
        refine a2 _ ?_
        refine br_f (by decide) ?_
        refine b2 _ ?_
        refine br_f (by decide) ?_
        refine c2 _ ?_
        exact br_t rfl ⟨rfl, R⟩
    · refine b1 _ ?_
      refine br_f (by decide) ?_
      unfold wpY_add
      refine a2 _ ?_
      refine br_f (by decide) ?_
      refine b2 _ ?_
      exact br_t rfl ⟨rfl, R⟩
  · refine a1 _ ?_
    refine br_f (by decide) ?_
    unfold wpY_add
    refine a2 _ ?_
    exact br_t rfl ⟨rfl, R⟩
end
section
/-! owed: guard -/
theorem qg_or {a b : Nat} (ha : a < 2 ^ 31) (hb : b < 2 ^ 31) : nI a ||| nI b = nI (a ||| b) := by
  apply Int32.toBitVec_inj.mp
  apply BitVec.eq_of_toNat_eq
  have h : a ||| b < 2 ^ 31 := Nat.or_lt_two_pow ha hb
  rw [Int32.toBitVec_or, BitVec.toNat_or, pk_tn (by omega), pk_tn (by omega), pk_tn (by omega)]
theorem qg_enc {f t c : Nat} (hf : f < 24) (ht : t < 24) (hc : c < 24) : ((nI f ||| (nI t <<< ((5 : Int32) &&& 31))) ||| (nI c <<< ((10 : Int32) &&& 31))) = nI (f + 32 * t + 1024 * c) := by
  rw [pk_shlN ((5 : Int32) &&& 31) 5 (by decide) (by omega), pk_shlN ((10 : Int32) &&& 31) 10 (by decide) (by omega)]
  have e1 : f ||| t * 2 ^ 5 = f + 32 * t := by
    rw [Nat.or_comm, Nat.mul_comm t, ← Nat.two_pow_add_eq_or_of_lt (by omega)]; omega
  have e2 : (f + 32 * t) ||| c * 2 ^ 10 = f + 32 * t + 1024 * c := by
    rw [Nat.or_comm, Nat.mul_comm c, ← Nat.two_pow_add_eq_or_of_lt (by omega)]; omega
  rw [qg_or (by omega) (by omega), e1, qg_or (by omega) (by omega), e2]
section
variable {f_load : Int32} {f_depth : Int32} {f_begun : Int32} {f_outcome : Int32} {f_result : Int32} {a_op : (Nat → Int32)} {a_opA : (Nat → Int32)} {a_opB : (Nat → Int32)} {a_opLine : (Nat → Int32)} {a_length : (Nat → Int32)} {a_guards : (Nat → Int32)} {a_handlers : (Nat → Int32)} {a_kept : (Nat → Int32)} {a_keptLoad : (Nat → Int32)} {a_counter : (Nat → Int32)} {a_raised : (Nat → Int32)} {a_stopped : (Nat → Int32)} {a_caught : (Nat → Int32)} {a_unbegun : (Nat → Int32)} {a_leads : (Nat → Int32)} {a_counts : (Nat → Int32)} {a_adds : (Nat → Int64)} {a_goes : (Nat → Int64)} {a_needed : (Nat → Int32)} {a_known : (Nat → Int32)} {a_solved : (Nat → Int32)} {a_open : (Nat → Int32)} {a_unknown : (Nat → Int32)} {a_balance : (Nat → Int32)} {a_group : (Nat → Int32)} {a_first : (Nat → Int32)} {a_last : (Nat → Int32)} {a_sum : (Nat → Int64)} {a_often : (Nat → Int32)} {a_told : (Nat → Int32)} {a_method : (Nat → Int32)} {a_pc : (Nat → Int32)} {a_start : (Nat → Int32)} {a_here : (Nat → Int32)} {a_path : (Nat → Int64)} {a_coming : (Nat → Int64)} {a_variable : (Nat → Int32)} {g_depth : Int32} {g_steps : Int32} {g_result : Int32} {g_outcome : Int32} {g_load : Int32} {g_over : Int32} {b_op : (Nat → Int32)} {b_a : (Nat → Int32)} {b_b : (Nat → Int32)} {b_line : (Nat → Int32)} {b_length : (Nat → Int32)} {b_from : (Nat → Int32)} {b_to : (Nat → Int32)} {b_at : (Nat → Int32)} {b_handlers : (Nat → Int32)} {b_begun : (Nat → Int32)} {b_taken : (Nat → Int32)} {b_thrown : (Nat → Int32)} {b_rowI : (Nat → Int32)} {b_rowWay : (Nat → Int32)} {b_rowLength : (Nat → Int32)} {b_times : (Nat → Int32)} {b_told : (Nat → Int32)} {b_kOp : (Nat → Int32)} {b_kA : (Nat → Int32)} {b_kB : (Nat → Int32)} {b_kLine : (Nat → Int32)} {b_kLength : (Nat → Int32)} {b_kFrom : (Nat → Int32)} {b_kTo : (Nat → Int32)} {b_kAt : (Nat → Int32)} {b_kHandlers : (Nat → Int32)} {b_kBegun : (Nat → Int32)} {b_kTaken : (Nat → Int32)} {b_kThrown : (Nat → Int32)} {b_kept : (Nat → Int32)} {b_method : (Nat → Int32)} {b_pc : (Nat → Int32)} {b_variable : (Nat → Int32)} {b_hereI : (Nat → Int32)} {b_hereWay : (Nat → Int32)} {b_hereLength : (Nat → Int32)} {b_into : (Nat → Int32)} {b_kLoad : (Nat → Int32)} {b_part : (Nat → Int32)}
theorem tr_guard {h f t c : Nat} (C : (rc_code a_op a_opA a_opB a_opLine a_guards a_length a_handlers b_op b_a b_b b_line b_from b_to b_at b_length b_handlers)) (hh : h < 3) (hf : f < 24) (ht : t < 24) (hc : c < 24) :
    (rc_code a_op a_opA a_opB a_opLine (upd a_guards (12 + h) (nI (f + 32 * t + 1024 * c))) a_length (upd a_handlers 4 (nI (h + 1))) b_op b_a b_b b_line (upd b_from (12 + h) (nI f)) (upd b_to (12 + h) (nI t)) (upd b_at (12 + h) (nI c)) b_length (upd b_handlers 4 (nI (h + 1)))) := by
  intro r hr
  by_cases d : r = 4
  · subst d
    obtain ⟨h1, _, h3, h4⟩ := C 4 hr
    refine ⟨h1, ⟨h + 1, by omega, pk_us, pk_us⟩, h3, fun j hj => ?_⟩
    by_cases e : j = h
    · subst e
      exact ⟨f, t, c, hf, ht, hc, pk_us, pk_us, pk_us, pk_us⟩
    · have ne : 3 * 4 + j ≠ 12 + h := by omega
      have q : ∀ (g : Nat → Int32) (x : Int32), upd g (12 + h) x (3 * 4 + j) = g (3 * 4 + j) := fun g x => pk_un ne
      obtain ⟨f', t', c', g1, g2, g3, g4, g5, g6, g7⟩ := h4 j hj
      exact ⟨f', t', c', g1, g2, g3, (q _ _).trans g4, (q _ _).trans g5, (q _ _).trans g6, (q _ _).trans g7⟩
  · refine rw_congr (C r hr) (fun i hi => ⟨rfl, rfl, rfl, rfl⟩) (fun j hj => pk_un (by omega)) rfl (pk_un d) (fun i hi => ⟨rfl, rfl, rfl, rfl⟩) (fun j hj => ?_) rfl (pk_un d)
    have ne : 3 * r + j ≠ 12 + h := by omega
    exact ⟨pk_un ne, pk_un ne, pk_un ne⟩
theorem tr_guardk {h : Nat} {x y : Int32} (C : (rc_kept a_op a_opA a_opB a_opLine a_guards a_length a_handlers b_kOp b_kA b_kB b_kLine b_kFrom b_kTo b_kAt b_kLength b_kHandlers)) (hh : h < 3) : (rc_kept a_op a_opA a_opB a_opLine (upd a_guards (12 + h) y) a_length (upd a_handlers 4 x) b_kOp b_kA b_kB b_kLine b_kFrom b_kTo b_kAt b_kLength b_kHandlers) := by
  intro q hq
  exact rw_congr (C q hq) (fun i hi => ⟨rfl, rfl, rfl, rfl⟩) (fun j hj => pk_un (by omega)) rfl (pk_un (by omega)) (fun i hi => ⟨rfl, rfl, rfl, rfl⟩) (fun j hj => ⟨rfl, rfl, rfl⟩) rfl rfl
end
theorem i_vc_guard {k : Nat} {u : SX} {v : SY} (I : i_Rel k u v) (hk : k + 5 ≤ 2560) (v1 : Int32) (v2 : Int32) (v3 : Int32) : wpX_guard (fun r u' => wpY_guard (fun r' v' => r' = r ∧ i_Rel (k + 5) u' v') v v1 v2 v3) u v1 v2 v3 := by
  refine ze_el (P := fun u v => wpX_guard (fun r u' => wpY_guard (fun r' v' => r' = r ∧ i_Rel (k + 5) u' v') v v1 v2 v3) u v1 v2 v3) ?_ I
  intro f_load f_depth f_begun f_outcome f_result g_depth g_steps g_result g_outcome g_load g_over a_op a_opA a_opB a_opLine a_length a_guards a_handlers a_kept a_keptLoad a_counter a_raised a_stopped a_caught a_unbegun a_leads a_counts a_adds a_goes a_needed a_known a_solved a_open a_unknown a_balance a_group a_first a_last a_sum a_often a_told a_method a_pc a_start a_here a_path a_coming a_variable b_op b_a b_b b_line b_length b_from b_to b_at b_handlers b_begun b_taken b_thrown b_rowI b_rowWay b_rowLength b_times b_told b_kOp b_kA b_kB b_kLine b_kLength b_kFrom b_kTo b_kAt b_kHandlers b_kBegun b_kTaken b_kThrown b_kept b_method b_pc b_variable b_hereI b_hereWay b_hereLength b_into b_kLoad b_part ent ek C hK hP hD hL hF hS hN hl hv hr
  have R : i_Rel (k + 5) (f_load, f_depth, f_begun, f_outcome, f_result, a_op, a_opA, a_opB, a_opLine, a_length, a_guards, a_handlers, a_kept, a_keptLoad, a_counter, a_raised, a_stopped, a_caught, a_unbegun, a_leads, a_counts, a_adds, a_goes, a_needed, a_known, a_solved, a_open, a_unknown, a_balance, a_group, a_first, a_last, a_sum, a_often, a_told, a_method, a_pc, a_start, a_here, a_path, a_coming, a_variable) (g_depth, g_steps, g_result, g_outcome, g_load, g_over, b_op, b_a, b_b, b_line, b_length, b_from, b_to, b_at, b_handlers, b_begun, b_taken, b_thrown, b_rowI, b_rowWay, b_rowLength, b_times, b_told, b_kOp, b_kA, b_kB, b_kLine, b_kLength, b_kFrom, b_kTo, b_kAt, b_kHandlers, b_kBegun, b_kTaken, b_kThrown, b_kept, b_method, b_pc, b_variable, b_hereI, b_hereWay, b_hereLength, b_into, b_kLoad, b_part) := ze_mk C hK hP hD hL hF hS hN hl hv hr
  unfold wpX_guard
  rcases qb_no (x := v1) (l := 24) 24 rfl (by decide) with ⟨f, hf, rfl, a1, a2⟩ | ⟨a1, a2⟩
  · refine a1 _ ?_
    refine br_t rfl ?_
    rcases qb_no (x := v2) (l := 24) 24 rfl (by decide) with ⟨t, ht, rfl, b1, b2⟩ | ⟨b1, b2⟩
    · refine b1 _ ?_
      refine br_t rfl ?_
      rcases qb_no (x := v3) (l := 24) 24 rfl (by decide) with ⟨c, hc, rfl, c1, c2⟩ | ⟨c1, c2⟩
      · refine c1 _ ?_
        refine br_t rfl ?_
        obtain ⟨h, hh, e1, e2⟩ := (C 4 (by omega)).2.1
        by_cases d0 : nI t < nI f
        · refine br_t d0 ?_
          unfold wpY_guard
          refine a2 _ ?_
          refine br_f (by decide) ?_
          refine b2 _ ?_
          refine br_f (by decide) ?_
          refine c2 _ ?_
          refine br_f (by decide) ?_
          exact br_t d0 ⟨rfl, R⟩
        · refine br_f d0 ?_
          by_cases d : h = 3
          · subst d
            refine br_t e1 ?_
            unfold wpY_guard
            refine a2 _ ?_
            refine br_f (by decide) ?_
            refine b2 _ ?_
            refine br_f (by decide) ?_
            refine c2 _ ?_
            refine br_f (by decide) ?_
            exact br_f d0 (br_t e2 ⟨rfl, R⟩)
          · have ne : ¬ nI h = 3 := fun z => d ((nI_eq (b := 3) (by omega) (by omega)).mp z)
            have nx : ¬ a_handlers 4 = 3 := by rw [e1]; exact ne
            have ny : ¬ b_handlers 4 = 3 := by rw [e2]; exact ne
            have f1 : (12 : Int32) + a_handlers 4 = nI (12 + h) := by rw [e1]; exact nI_add 12 h
            have f2 : (12 : Int32) + b_handlers 4 = nI (12 + h) := by rw [e2]; exact nI_add 12 h
            have iy : vp_in (nI (12 + h)) 15 := pk_in (12 + h) 15 (by omega)
            have st : ∀ (g : Nat → Int32) (x y : Int32), x = y → upd g (nI (12 + h)).toNatClampNeg x = upd g (12 + h) y := fun g x y e => by rw [nI_clamp (by omega), e]
            refine br_f nx (nm_r (e' := upd a_handlers 4 (nI (h + 1))) (by rw [e1, nI_1, qa_bb (by omega)]) (nm_r f1 ⟨pk_in (12 + h) 51 (by omega), nm_r (st _ _ (nI (f + 32 * t + 1024 * c)) (by rw [qg_enc hf ht hc, qa_ss (by omega)])) ?_⟩))
            unfold wpY_guard
            refine a2 _ ?_
            refine br_f (by decide) ?_
            refine b2 _ ?_
            refine br_f (by decide) ?_
            refine c2 _ ?_
            refine br_f (by decide) ?_
            refine br_f d0 (br_f ny (nm_r f2 ⟨iy, nm_r (st _ _ _ rfl) ⟨iy, nm_r (st _ _ _ rfl) ⟨iy, nm_r (st _ _ _ rfl) (nm_r (e' := upd b_handlers 4 (nI (h + 1))) (by rw [e2, nI_1]) ⟨rfl, ?_⟩)⟩⟩⟩))
            exact ze_mk (tr_guard C (by omega) hf ht hc) (tr_guardk hK (by omega)) hP hD hL hF hS hN hl hv hr
      · refine c1 _ ?_
        refine br_f (by decide) ?_
        unfold wpY_guard
        refine a2 _ ?_
        refine br_f (by decide) ?_
        refine b2 _ ?_
        refine br_f (by decide) ?_
        refine c2 _ ?_
        exact br_t rfl ⟨rfl, R⟩
    · refine b1 _ ?_
      refine br_f (by decide) ?_
      unfold wpY_guard
      refine a2 _ ?_
      refine br_f (by decide) ?_
      refine b2 _ ?_
      exact br_t rfl ⟨rfl, R⟩
  · refine a1 _ ?_
    refine br_f (by decide) ?_
    unfold wpY_guard
    refine a2 _ ?_
    exact br_t rfl ⟨rfl, R⟩
end
section
/-! owed: define, reset -/
section
variable {f_load : Int32} {f_depth : Int32} {f_begun : Int32} {f_outcome : Int32} {f_result : Int32} {a_op : (Nat → Int32)} {a_opA : (Nat → Int32)} {a_opB : (Nat → Int32)} {a_opLine : (Nat → Int32)} {a_length : (Nat → Int32)} {a_guards : (Nat → Int32)} {a_handlers : (Nat → Int32)} {a_kept : (Nat → Int32)} {a_keptLoad : (Nat → Int32)} {a_counter : (Nat → Int32)} {a_raised : (Nat → Int32)} {a_stopped : (Nat → Int32)} {a_caught : (Nat → Int32)} {a_unbegun : (Nat → Int32)} {a_leads : (Nat → Int32)} {a_counts : (Nat → Int32)} {a_adds : (Nat → Int64)} {a_goes : (Nat → Int64)} {a_needed : (Nat → Int32)} {a_known : (Nat → Int32)} {a_solved : (Nat → Int32)} {a_open : (Nat → Int32)} {a_unknown : (Nat → Int32)} {a_balance : (Nat → Int32)} {a_group : (Nat → Int32)} {a_first : (Nat → Int32)} {a_last : (Nat → Int32)} {a_sum : (Nat → Int64)} {a_often : (Nat → Int32)} {a_told : (Nat → Int32)} {a_method : (Nat → Int32)} {a_pc : (Nat → Int32)} {a_start : (Nat → Int32)} {a_here : (Nat → Int32)} {a_path : (Nat → Int64)} {a_coming : (Nat → Int64)} {a_variable : (Nat → Int32)} {g_depth : Int32} {g_steps : Int32} {g_result : Int32} {g_outcome : Int32} {g_load : Int32} {g_over : Int32} {b_op : (Nat → Int32)} {b_a : (Nat → Int32)} {b_b : (Nat → Int32)} {b_line : (Nat → Int32)} {b_length : (Nat → Int32)} {b_from : (Nat → Int32)} {b_to : (Nat → Int32)} {b_at : (Nat → Int32)} {b_handlers : (Nat → Int32)} {b_begun : (Nat → Int32)} {b_taken : (Nat → Int32)} {b_thrown : (Nat → Int32)} {b_rowI : (Nat → Int32)} {b_rowWay : (Nat → Int32)} {b_rowLength : (Nat → Int32)} {b_times : (Nat → Int32)} {b_told : (Nat → Int32)} {b_kOp : (Nat → Int32)} {b_kA : (Nat → Int32)} {b_kB : (Nat → Int32)} {b_kLine : (Nat → Int32)} {b_kLength : (Nat → Int32)} {b_kFrom : (Nat → Int32)} {b_kTo : (Nat → Int32)} {b_kAt : (Nat → Int32)} {b_kHandlers : (Nat → Int32)} {b_kBegun : (Nat → Int32)} {b_kTaken : (Nat → Int32)} {b_kThrown : (Nat → Int32)} {b_kept : (Nat → Int32)} {b_method : (Nat → Int32)} {b_pc : (Nat → Int32)} {b_variable : (Nat → Int32)} {b_hereI : (Nat → Int32)} {b_hereWay : (Nat → Int32)} {b_hereLength : (Nat → Int32)} {b_into : (Nat → Int32)} {b_kLoad : (Nat → Int32)} {b_part : (Nat → Int32)}
theorem cc_len {f : Nat → Int32} {m r : Nat} (h4 : r ≠ 4) (hm : r ≠ m) {x y : Int32} : upd (upd f m x) 4 y r = f r := by rw [pk_un h4, pk_un hm]
theorem tr_def {m : Nat} (hm : m < 4) (C : (rc_code a_op a_opA a_opB a_opLine a_guards a_length a_handlers b_op b_a b_b b_line b_from b_to b_at b_length b_handlers)) :
    (rc_code (cz_c a_op (24 * 4) (24 * m) 24) (cz_c a_opA (24 * 4) (24 * m) 24) (cz_c a_opB (24 * 4) (24 * m) 24) (cz_c a_opLine (24 * 4) (24 * m) 24) (cz_c a_guards (3 * 4) (3 * m) 3) (upd (upd a_length m (a_length 4)) 4 0) (upd (upd a_handlers m (a_handlers 4)) 4 0) (cz_c b_op 96 (24 * m) 24) (cz_c b_a 96 (24 * m) 24) (cz_c b_b 96 (24 * m) 24) (cz_c b_line 96 (24 * m) 24) (cz_c b_from 12 (3 * m) 3) (cz_c b_to 12 (3 * m) 3) (cz_c b_at 12 (3 * m) 3) (upd (upd b_length m (b_length 4)) 4 0) (upd (upd b_handlers m (b_handlers 4)) 4 0)) := by
  intro r hr
  by_cases c4 : r = 4
  · subst c4
    obtain ⟨_, _, h3, h4⟩ := C 4 hr
    have o1 : ∀ (f : Nat → Int32) (i : Nat), cz_c f (24 * 4) (24 * m) 24 (24 * 4 + i) = f (24 * 4 + i) := fun f i => cz_c_out (by omega)
    have o2 : ∀ (f : Nat → Int32) (i : Nat), cz_c f 96 (24 * m) 24 (24 * 4 + i) = f (24 * 4 + i) := fun f i => cz_c_out (by omega)
    have o3 : ∀ (f : Nat → Int32) (i : Nat), cz_c f (3 * 4) (3 * m) 3 (3 * 4 + i) = f (3 * 4 + i) := fun f i => cz_c_out (by omega)
    have o4 : ∀ (f : Nat → Int32) (i : Nat), cz_c f 12 (3 * m) 3 (3 * 4 + i) = f (3 * 4 + i) := fun f i => cz_c_out (by omega)
    refine ⟨⟨0, by omega, pk_us, pk_us⟩, ⟨0, by omega, pk_us, pk_us⟩, fun i hi => ?_, fun j hj => ?_⟩
    · simp only [o1, o2]
      exact h3 i hi
    · simp only [o3, o4]
      exact h4 j hj
  · by_cases cm : r = m
    · subst cm
      refine rw_congr (C 4 (by omega)) (fun i hi => ⟨cz_c_in hi, cz_c_in hi, cz_c_in hi, cz_c_in hi⟩) (fun j hj => cz_c_in hj) (by rw [pk_un c4, pk_us]) (by rw [pk_un c4, pk_us]) (fun i hi => ⟨cz_c_in hi, cz_c_in hi, cz_c_in hi, cz_c_in hi⟩) (fun j hj => ⟨cz_c_in hj, cz_c_in hj, cz_c_in hj⟩) (by rw [pk_un c4, pk_us]) (by rw [pk_un c4, pk_us])
    · have o1 : ∀ (f : Nat → Int32) (s i : Nat), i < 24 → cz_c f s (24 * m) 24 (24 * r + i) = f (24 * r + i) := fun f s i hi => cz_c_out (by omega)
      have o2 : ∀ (f : Nat → Int32) (s i : Nat), i < 3 → cz_c f s (3 * m) 3 (3 * r + i) = f (3 * r + i) := fun f s i hi => cz_c_out (by omega)
      exact rw_congr (C r hr) (fun i hi => ⟨o1 _ _ i hi, o1 _ _ i hi, o1 _ _ i hi, o1 _ _ i hi⟩) (fun j hj => o2 _ _ j hj) (cc_len c4 cm) (cc_len c4 cm) (fun i hi => ⟨o1 _ _ i hi, o1 _ _ i hi, o1 _ _ i hi, o1 _ _ i hi⟩) (fun j hj => ⟨o2 _ _ j hj, o2 _ _ j hj, o2 _ _ j hj⟩) (cc_len c4 cm) (cc_len c4 cm)
theorem tr_defk {m : Nat} (hm : m < 4) (C : (rc_kept a_op a_opA a_opB a_opLine a_guards a_length a_handlers b_kOp b_kA b_kB b_kLine b_kFrom b_kTo b_kAt b_kLength b_kHandlers)) :
    (rc_kept (cz_c a_op (24 * 4) (24 * m) 24) (cz_c a_opA (24 * 4) (24 * m) 24) (cz_c a_opB (24 * 4) (24 * m) 24) (cz_c a_opLine (24 * 4) (24 * m) 24) (cz_c a_guards (3 * 4) (3 * m) 3) (upd (upd a_length m (a_length 4)) 4 0) (upd (upd a_handlers m (a_handlers 4)) 4 0) b_kOp b_kA b_kB b_kLine b_kFrom b_kTo b_kAt b_kLength b_kHandlers) := by
  intro q hq
  have o1 : ∀ (f : Nat → Int32) (s i : Nat), i < 24 → cz_c f s (24 * m) 24 (24 * (5 + q) + i) = f (24 * (5 + q) + i) := fun f s i hi => cz_c_out (by omega)
  have o2 : ∀ (f : Nat → Int32) (s i : Nat), i < 3 → cz_c f s (3 * m) 3 (3 * (5 + q) + i) = f (3 * (5 + q) + i) := fun f s i hi => cz_c_out (by omega)
  exact rw_congr (C q hq) (fun i hi => ⟨o1 _ _ i hi, o1 _ _ i hi, o1 _ _ i hi, o1 _ _ i hi⟩) (fun j hj => o2 _ _ j hj) (cc_len (by omega) (by omega)) (cc_len (by omega) (by omega)) (fun i hi => ⟨rfl, rfl, rfl, rfl⟩) (fun j hj => ⟨rfl, rfl, rfl⟩) rfl rfl
/-- a method's data are cleared -/
theorem tr_zero {m : Nat} {ent : Nat → Int32} {ek : Nat → Int32} (hm : m < 4) (hn : ∀ r, r < 4 → xn a_length r ≤ 24) (h : ∀ q, q < 4 → q ≠ m → 0 < xn a_length q → rd_ok (ul a_length a_op a_opB q) (xn a_length q) (fun i => a_raised (24 * q + i)) (fun i => a_stopped (24 * q + i)) (fun i => a_caught (24 * q + i)) (fun i => a_unbegun (24 * q + i)) (fun e => a_counter (97 * q + e)) (fun i => b_begun (24 * q + i)) (fun e => b_taken (96 * q + e)) (fun i => b_thrown (24 * q + i)) (ent q) (fun _ => 0) (fun _ => 0)) :
    (rc_flow a_length a_op a_opB (cz_z a_raised (24 * m) 24) (cz_z a_stopped (24 * m) 24) (cz_z a_caught (24 * m) 24) (cz_z a_unbegun (24 * m) 24) (cz_z a_counter (97 * m) 97) (cz_z b_begun (24 * m) 24) (cz_z b_taken (96 * m) 96) (cz_z b_thrown (24 * m) 24)) (fun q => if q = m then 0 else ent q) (fun _ _ => 0) (fun _ _ => 0) := by
  intro q hq h0
  by_cases c : q = m
  · subst c
    have e : (if q = q then (0 : Int32) else ent q) = 0 := if_pos rfl
    show rd_ok _ _ _ _ _ _ _ _ _ _ (if q = q then (0 : Int32) else ent q) _ _
    rw [e]
    exact rd_zero (hn q hq) (fun i hi => ⟨cz_z_in hi, cz_z_in hi, cz_z_in hi, cz_z_in hi, cz_z_in hi, cz_z_in hi⟩) (fun e he => cz_z_in he) (fun x hx => cz_z_in hx)
  · have e : (if q = m then (0 : Int32) else ent q) = ent q := if_neg c
    show rd_ok _ _ _ _ _ _ _ _ _ _ (if q = m then (0 : Int32) else ent q) _ _
    rw [e]
    have o1 : ∀ (f : Nat → Int32) (i : Nat), i < 24 → cz_z f (24 * m) 24 (24 * q + i) = f (24 * q + i) := fun f i hi => cz_z_out (by omega)
    exact rd_congr (hn q hq) (h q hq c h0) (fun i hi => ⟨o1 _ i hi, o1 _ i hi, o1 _ i hi, o1 _ i hi, o1 _ i hi, o1 _ i hi⟩) (fun e he => cz_z_out (by omega)) (fun x hx => cz_z_out (by omega))
theorem tr_zerok {m : Nat} {ek : Nat → Int32} (hm : m < 4) (hn : ∀ q, q < 12 → xn a_length (5 + q) ≤ 24) (h : (rc_kdat a_length a_op a_opB a_raised a_stopped a_caught a_unbegun a_counter b_kBegun b_kTaken b_kThrown) ek) : (rc_kdat a_length a_op a_opB (cz_z a_raised (24 * m) 24) (cz_z a_stopped (24 * m) 24) (cz_z a_caught (24 * m) 24) (cz_z a_unbegun (24 * m) 24) (cz_z a_counter (97 * m) 97) b_kBegun b_kTaken b_kThrown) ek := by
  intro q hq h0
  have o1 : ∀ (f : Nat → Int32) (i : Nat), i < 24 → cz_z f (24 * m) 24 (24 * (5 + q) + i) = f (24 * (5 + q) + i) := fun f i hi => cz_z_out (by omega)
  exact rd_congr (hn q hq) (h q hq h0) (fun i hi => ⟨o1 _ i hi, o1 _ i hi, o1 _ i hi, o1 _ i hi, rfl, rfl⟩) (fun e he => cz_z_out (by omega)) (fun x hx => rfl)
end
theorem i_vc_reset {k : Nat} {u : SX} {v : SY} (I : i_Rel k u v) (hk : k + 5 ≤ 2560) (v1 : Int32) : wpX_reset (fun r u' => wpY_reset (fun r' v' => r' = r ∧ i_Rel (k + 5) u' v') v v1) u v1 := by
  refine ze_el (P := fun u v => wpX_reset (fun r u' => wpY_reset (fun r' v' => r' = r ∧ i_Rel (k + 5) u' v') v v1) u v1) ?_ I
  intro f_load f_depth f_begun f_outcome f_result g_depth g_steps g_result g_outcome g_load g_over a_op a_opA a_opB a_opLine a_length a_guards a_handlers a_kept a_keptLoad a_counter a_raised a_stopped a_caught a_unbegun a_leads a_counts a_adds a_goes a_needed a_known a_solved a_open a_unknown a_balance a_group a_first a_last a_sum a_often a_told a_method a_pc a_start a_here a_path a_coming a_variable b_op b_a b_b b_line b_length b_from b_to b_at b_handlers b_begun b_taken b_thrown b_rowI b_rowWay b_rowLength b_times b_told b_kOp b_kA b_kB b_kLine b_kLength b_kFrom b_kTo b_kAt b_kHandlers b_kBegun b_kTaken b_kThrown b_kept b_method b_pc b_variable b_hereI b_hereWay b_hereLength b_into b_kLoad b_part ent ek C hK hP hD hL hF hS hN hl hv hr
  have R : i_Rel (k + 5) (f_load, f_depth, f_begun, f_outcome, f_result, a_op, a_opA, a_opB, a_opLine, a_length, a_guards, a_handlers, a_kept, a_keptLoad, a_counter, a_raised, a_stopped, a_caught, a_unbegun, a_leads, a_counts, a_adds, a_goes, a_needed, a_known, a_solved, a_open, a_unknown, a_balance, a_group, a_first, a_last, a_sum, a_often, a_told, a_method, a_pc, a_start, a_here, a_path, a_coming, a_variable) (g_depth, g_steps, g_result, g_outcome, g_load, g_over, b_op, b_a, b_b, b_line, b_length, b_from, b_to, b_at, b_handlers, b_begun, b_taken, b_thrown, b_rowI, b_rowWay, b_rowLength, b_times, b_told, b_kOp, b_kA, b_kB, b_kLine, b_kLength, b_kFrom, b_kTo, b_kAt, b_kHandlers, b_kBegun, b_kTaken, b_kThrown, b_kept, b_method, b_pc, b_variable, b_hereI, b_hereWay, b_hereLength, b_into, b_kLoad, b_part) := ze_mk C hK hP hD hL hF hS hN hl hv hr
  unfold wpX_reset
  rcases qb_there C v1 with ⟨m, hm, rfl, z, h1, h2⟩ | ⟨h1, h2⟩
  · refine h1 _ ?_
    refine br_f (by decide) ?_
    refine xk_clear hm ?_
    unfold wpY_reset
    refine h2 _ ?_
    refine br_f (by decide) ?_
    refine yk_forget hm ⟨rfl, ?_⟩
    have hn4 : ∀ r, r < 4 → xn a_length r ≤ 24 := fun r hr => (rc_len C (by omega)).2.2
    refine ze_mk C hK hP (tr_zerok hm (fun q hq => (rc_klen hK hq).2.2) hD) hL (tr_zero (ent := ent) (ek := ek) hm hn4 (fun q hq _ h0 => hF q hq h0)) ?_ ?_ hl hv hr
    · intro q hq h0
      by_cases c : q = m
      · subst c
        exact ⟨0, by omega, pk_us, pk_us, fun s hs => absurd hs (by omega)⟩
      · exact rs_congr (hn4 q hq) (hS q hq h0) (fun x hx => rfl) (pk_un c) (pk_un c)
    · intro q hq h0 hs e he hle
      by_cases c : q = m
      · subst c
        exact absurd pk_us hs
      · rw [show upd a_solved m 0 q = a_solved q from pk_un c] at hs
        have := hN q hq h0 hs e he hle
        rw [this]
        show _ = rd_F (if q = m then (0 : Int32) else ent q) _ e
        rw [if_neg c]
        exact (rd_Fc (fun x hx => cz_z_out (by omega)) e he).symm
  · refine h1 _ ?_
    refine br_t rfl ?_
    unfold wpY_reset
    refine h2 _ ?_
    exact br_t rfl ⟨rfl, R⟩
theorem i_vc_define {k : Nat} {u : SX} {v : SY} (I : i_Rel k u v) (hk : k + 5 ≤ 2560) (v1 : Int32) : wpX_define (fun r u' => wpY_define (fun r' v' => r' = r ∧ i_Rel (k + 5) u' v') v v1) u v1 := by
  refine ze_el (P := fun u v => wpX_define (fun r u' => wpY_define (fun r' v' => r' = r ∧ i_Rel (k + 5) u' v') v v1) u v1) ?_ I
  intro f_load f_depth f_begun f_outcome f_result g_depth g_steps g_result g_outcome g_load g_over a_op a_opA a_opB a_opLine a_length a_guards a_handlers a_kept a_keptLoad a_counter a_raised a_stopped a_caught a_unbegun a_leads a_counts a_adds a_goes a_needed a_known a_solved a_open a_unknown a_balance a_group a_first a_last a_sum a_often a_told a_method a_pc a_start a_here a_path a_coming a_variable b_op b_a b_b b_line b_length b_from b_to b_at b_handlers b_begun b_taken b_thrown b_rowI b_rowWay b_rowLength b_times b_told b_kOp b_kA b_kB b_kLine b_kLength b_kFrom b_kTo b_kAt b_kHandlers b_kBegun b_kTaken b_kThrown b_kept b_method b_pc b_variable b_hereI b_hereWay b_hereLength b_into b_kLoad b_part ent ek C hK hP hD hL hF hS hN hl hv hr
  have R : i_Rel (k + 5) (f_load, f_depth, f_begun, f_outcome, f_result, a_op, a_opA, a_opB, a_opLine, a_length, a_guards, a_handlers, a_kept, a_keptLoad, a_counter, a_raised, a_stopped, a_caught, a_unbegun, a_leads, a_counts, a_adds, a_goes, a_needed, a_known, a_solved, a_open, a_unknown, a_balance, a_group, a_first, a_last, a_sum, a_often, a_told, a_method, a_pc, a_start, a_here, a_path, a_coming, a_variable) (g_depth, g_steps, g_result, g_outcome, g_load, g_over, b_op, b_a, b_b, b_line, b_length, b_from, b_to, b_at, b_handlers, b_begun, b_taken, b_thrown, b_rowI, b_rowWay, b_rowLength, b_times, b_told, b_kOp, b_kA, b_kB, b_kLine, b_kLength, b_kFrom, b_kTo, b_kAt, b_kHandlers, b_kBegun, b_kTaken, b_kThrown, b_kept, b_method, b_pc, b_variable, b_hereI, b_hereWay, b_hereLength, b_into, b_kLoad, b_part) := ze_mk C hK hP hD hL hF hS hN hl hv hr
  rcases qb_no (x := v1) (l := 4) 4 rfl (by decide) with ⟨m, hm, rfl, _, _⟩ | ⟨h1, h2⟩
  · refine xk_define hm C ?_
    intro lds cts nd gr ads gos hx
    obtain ⟨hx1, hx2, hx3⟩ := hx
    obtain ⟨l1, l2, l3⟩ := rc_len C (r := 4) (by omega)
    refine yk_define hm ⟨l2.trans l1.symm, ?_⟩
    have C' := tr_def hm C
    have hK' := tr_defk (a_handlers := a_handlers) hm hK
    have U : ∀ r, r ≠ 4 → r ≠ m → xn a_length r ≤ 24 → tr_eq a_length a_op a_opB (upd (upd a_length m (a_length 4)) 4 0) (cz_c a_op (24 * 4) (24 * m) 24) (cz_c a_opB (24 * 4) (24 * m) 24) r := fun r h4 hr hn => tr_mk (cc_len h4 hr) hn (fun i hi => ⟨cz_c_out (by omega), cz_c_out (by omega)⟩)
    have hn4 : ∀ r, r < 4 → xn (upd (upd a_length m (a_length 4)) 4 0) r ≤ 24 := fun r hr => (rc_len C' (by omega)).2.2
    have ho4 : ∀ r, r < 4 → xn a_length r ≤ 24 := fun r hr => (rc_len C (by omega)).2.2
    have hok : ∀ q, q < 12 → xn a_length (5 + q) ≤ 24 := fun q hq => (rc_klen hK hq).2.2
    have U2 : ∀ q, q < 12 → tr_eq a_length a_op a_opB (upd (upd a_length m (a_length 4)) 4 0) (cz_c a_op (24 * 4) (24 * m) 24) (cz_c a_opB (24 * 4) (24 * m) 24) (5 + q) := fun q hq => U (5 + q) (by omega) (by omega) (hok q hq)
    refine ze_mk C' hK' ?_ (tr_zerok hm (fun q hq => by rw [(U2 q hq).2]; exact hok q hq) (tr_kdat U2 hD)) hL (tr_zero (ent := ent) (ek := ek) hm hn4 (fun q hq c h0 => ?_)) ?_ ?_ hl hv hr
    · intro q hq h0
      by_cases c : q = m
      · subst c
        exact hx1 h0
      · obtain ⟨e1, e2⟩ := U q (by omega) c (ho4 q hq)
        rw [e2] at h0
        rw [e1, e2]
        exact rp_congr (ho4 q hq) (hP q hq h0) (fun e he => hx2 _ (by omega)) (hx3 q c)
    · obtain ⟨e1, e2⟩ := U q (by omega) c (ho4 q hq)
      rw [e2] at h0
      rw [e1, e2]
      exact hF q hq h0
    · intro q hq h0
      by_cases c : q = m
      · subst c
        exact ⟨0, by omega, pk_us, pk_us, fun s hs => absurd hs (by omega)⟩
      · obtain ⟨e1, e2⟩ := U q (by omega) c (ho4 q hq)
        rw [e2] at h0
        rw [e1, e2]
        exact rs_congr (ho4 q hq) (hS q hq h0) (fun x hx => (hx2 _ (by omega)).2.2) (pk_un c) (pk_un c)
    · intro q hq h0 hs e he hle
      by_cases c : q = m
      · subst c
        exact absurd pk_us hs
      · obtain ⟨e1, e2⟩ := U q (by omega) c (ho4 q hq)
        rw [e2] at h0
        rw [e1] at hle
        rw [show upd a_solved m 0 q = a_solved q from pk_un c] at hs
        have := hN q hq h0 hs e he hle
        rw [this]
        show _ = rd_F (if q = m then (0 : Int32) else ent q) _ e
        rw [if_neg c]
        exact (rd_Fc (fun x hx => cz_z_out (by omega)) e he).symm
  · unfold wpX_define
    refine h1 _ ?_
    refine br_f (by decide) ?_
    unfold wpY_define
    refine h2 _ ?_
    exact br_t rfl ⟨rfl, R⟩
end
section
/-! owed: begun, taken -/
theorem i_vc_begun {k : Nat} {u : SX} {v : SY} (I : i_Rel k u v) (hk : k + 5 ≤ 2560) (v1 : Int32) (v2 : Int32) : wpX_begun (fun r u' => wpY_begun (fun r' => r' = r ∧ i_Rel (k + 5) u' v) v v1 v2) u v1 v2 := by
  refine ze_el (P := fun u v => wpX_begun (fun r u' => wpY_begun (fun r' => r' = r ∧ i_Rel (k + 5) u' v) v v1 v2) u v1 v2) ?_ I
  intro f_load f_depth f_begun f_outcome f_result g_depth g_steps g_result g_outcome g_load g_over a_op a_opA a_opB a_opLine a_length a_guards a_handlers a_kept a_keptLoad a_counter a_raised a_stopped a_caught a_unbegun a_leads a_counts a_adds a_goes a_needed a_known a_solved a_open a_unknown a_balance a_group a_first a_last a_sum a_often a_told a_method a_pc a_start a_here a_path a_coming a_variable b_op b_a b_b b_line b_length b_from b_to b_at b_handlers b_begun b_taken b_thrown b_rowI b_rowWay b_rowLength b_times b_told b_kOp b_kA b_kB b_kLine b_kLength b_kFrom b_kTo b_kAt b_kHandlers b_kBegun b_kTaken b_kThrown b_kept b_method b_pc b_variable b_hereI b_hereWay b_hereLength b_into b_kLoad b_part ent ek C hK hP hD hL hF hS hN hl hv hr
  have R : i_Rel (k + 5) (f_load, f_depth, f_begun, f_outcome, f_result, a_op, a_opA, a_opB, a_opLine, a_length, a_guards, a_handlers, a_kept, a_keptLoad, a_counter, a_raised, a_stopped, a_caught, a_unbegun, a_leads, a_counts, a_adds, a_goes, a_needed, a_known, a_solved, a_open, a_unknown, a_balance, a_group, a_first, a_last, a_sum, a_often, a_told, a_method, a_pc, a_start, a_here, a_path, a_coming, a_variable) (g_depth, g_steps, g_result, g_outcome, g_load, g_over, b_op, b_a, b_b, b_line, b_length, b_from, b_to, b_at, b_handlers, b_begun, b_taken, b_thrown, b_rowI, b_rowWay, b_rowLength, b_times, b_told, b_kOp, b_kA, b_kB, b_kLine, b_kLength, b_kFrom, b_kTo, b_kAt, b_kHandlers, b_kBegun, b_kTaken, b_kThrown, b_kept, b_method, b_pc, b_variable, b_hereI, b_hereWay, b_hereLength, b_into, b_kLoad, b_part) := ze_mk C hK hP hD hL hF hS hN hl hv hr
  unfold wpX_begun
  rcases qb_has C v1 v2 with ⟨m, i, hm, hi, rfl, rfl, h1, h2⟩ | ⟨h1, h2⟩
  · have e3 := (rc_len C (r := m) (by omega)).2.2
    refine h1 _ ?_
    refine br_f (by decide) ?_
    refine xv_begins (ent := ent) hm hi C hP hF hN ?_
    intro kn ao un ba so g1 g2
    unfold wpY_begun
    refine h2 _ ?_
    refine br_f (by decide) ⟨pk_in (24 * m + i) 96 (by omega) (qa_24 m i), ?_, ze_mk C hK hP hD hL hF hS g1 hl hv hr⟩
    rw [qa_24, nI_clamp (by omega)]
  · refine h1 _ ?_
    refine br_t rfl ?_
    unfold wpY_begun
    refine h2 _ ?_
    exact br_t rfl ⟨rfl, R⟩
theorem i_vc_taken {k : Nat} {u : SX} {v : SY} (I : i_Rel k u v) (hk : k + 5 ≤ 2560) (v1 : Int32) (v2 : Int32) (v3 : Int32) : wpX_taken (fun r u' => wpY_taken (fun r' => r' = r ∧ i_Rel (k + 5) u' v) v v1 v2 v3) u v1 v2 v3 := by
  refine ze_el (P := fun u v => wpX_taken (fun r u' => wpY_taken (fun r' => r' = r ∧ i_Rel (k + 5) u' v) v v1 v2 v3) u v1 v2 v3) ?_ I
  intro f_load f_depth f_begun f_outcome f_result g_depth g_steps g_result g_outcome g_load g_over a_op a_opA a_opB a_opLine a_length a_guards a_handlers a_kept a_keptLoad a_counter a_raised a_stopped a_caught a_unbegun a_leads a_counts a_adds a_goes a_needed a_known a_solved a_open a_unknown a_balance a_group a_first a_last a_sum a_often a_told a_method a_pc a_start a_here a_path a_coming a_variable b_op b_a b_b b_line b_length b_from b_to b_at b_handlers b_begun b_taken b_thrown b_rowI b_rowWay b_rowLength b_times b_told b_kOp b_kA b_kB b_kLine b_kLength b_kFrom b_kTo b_kAt b_kHandlers b_kBegun b_kTaken b_kThrown b_kept b_method b_pc b_variable b_hereI b_hereWay b_hereLength b_into b_kLoad b_part ent ek C hK hP hD hL hF hS hN hl hv hr
  have R : i_Rel (k + 5) (f_load, f_depth, f_begun, f_outcome, f_result, a_op, a_opA, a_opB, a_opLine, a_length, a_guards, a_handlers, a_kept, a_keptLoad, a_counter, a_raised, a_stopped, a_caught, a_unbegun, a_leads, a_counts, a_adds, a_goes, a_needed, a_known, a_solved, a_open, a_unknown, a_balance, a_group, a_first, a_last, a_sum, a_often, a_told, a_method, a_pc, a_start, a_here, a_path, a_coming, a_variable) (g_depth, g_steps, g_result, g_outcome, g_load, g_over, b_op, b_a, b_b, b_line, b_length, b_from, b_to, b_at, b_handlers, b_begun, b_taken, b_thrown, b_rowI, b_rowWay, b_rowLength, b_times, b_told, b_kOp, b_kA, b_kB, b_kLine, b_kLength, b_kFrom, b_kTo, b_kAt, b_kHandlers, b_kBegun, b_kTaken, b_kThrown, b_kept, b_method, b_pc, b_variable, b_hereI, b_hereWay, b_hereLength, b_into, b_kLoad, b_part) := ze_mk C hK hP hD hL hF hS hN hl hv hr
  unfold wpX_taken
  rcases qb_has C v1 v2 with ⟨m, i, hm, hi, rfl, rfl, h1, h2⟩ | ⟨h1, h2⟩
  · have e3 := (rc_len C (r := m) (by omega)).2.2
    refine h1 _ ?_
    refine br_f (by decide) ⟨pk_in (24 * m + i) 408 (by omega) (qa_24 m i), ?_⟩
    obtain ⟨o, ho, eo1, eo2⟩ := ((C m (by omega)).2.2.1 i (by omega)).1
    have ro : a_op (24 * nI m + nI i).toNatClampNeg = nI o := qa_r _ (qa_24 m i) eo1
    have ro2 : b_op (24 * nI m + nI i).toNatClampNeg = nI o := qa_r _ (qa_24 m i) eo2
    have hw := pw_ways_le (nI o)
    rw [ro]
    refine qw_ways _ ?_
    unfold wX_taken_27
    have goY : ∀ post : Int32 → Prop, wpY_in (fun r_50 => (((r_50 = 0 → (post (-1))) ∧ (¬ r_50 = 0 → (vp_in ((4 * ((24 * nI m) + nI i)) + v3) 384 ∧ (post (b_taken ((4 * ((24 * nI m) + nI i)) + v3).toNatClampNeg))))))) v3 (nI (pw_ways (nI o))) → (wpY_taken post (g_depth, g_steps, g_result, g_outcome, g_load, g_over, b_op, b_a, b_b, b_line, b_length, b_from, b_to, b_at, b_handlers, b_begun, b_taken, b_thrown, b_rowI, b_rowWay, b_rowLength, b_times, b_told, b_kOp, b_kA, b_kB, b_kLine, b_kLength, b_kFrom, b_kTo, b_kAt, b_kHandlers, b_kBegun, b_kTaken, b_kThrown, b_kept, b_method, b_pc, b_variable, b_hereI, b_hereWay, b_hereLength, b_into, b_kLoad, b_part) (nI m) (nI i) v3) := by
      intro post h
      unfold wpY_taken
      refine h2 _ ?_
      refine br_f (by decide) ⟨pk_in (24 * m + i) 120 (by omega) (qa_24 m i), ?_⟩
      rw [ro2]
      exact qw_waysY _ h
    rcases qb_no (x := v3) (l := nI (pw_ways (nI o))) (pw_ways (nI o)) rfl (by omega) with ⟨w, hw2, rfl, a1, a2⟩ | ⟨a1, a2⟩
    · refine a1 _ ?_
      refine br_t rfl ?_
      refine xv_solve (ent := ent) hm (by omega) C hP hF hN ?_
      intro kn ao un ba so g1 g2
      refine ⟨pk_in (97 * m + (1 + 4 * i + w)) 388 (by omega) (qa_e m i w), ?_⟩
      refine goY _ ?_
      refine a2 _ ?_
      refine br_f (by decide) ⟨pk_in (96 * m + (4 * i + w)) 384 (by omega) (qa_t m i w), ?_, ze_mk C hK hP hD hL hF hS g1 hl hv hr⟩
      rw [qa_t, qa_e, nI_clamp (by omega), nI_clamp (by omega)]
      have hv25 : ul a_length a_op a_opB m (1 + 4 * i + w) < 25 := by
        show pw_ld _ _ _ _ < 25
        rw [pw_ld_s _ _ _ (by omega), if_pos ⟨hi, by show w < pw_ways (a_op (24 * m + i)); rw [show a_op (24 * m + i) = nI o from eo1]; exact hw2⟩]
        exact Nat.lt_succ_of_le (pw_tgt_le e3 _ _ _ _)
      rw [g2 (1 + 4 * i + w) (by omega) hv25]
      show _ = (if 1 + 4 * i + w = 0 then _ else b_taken (96 * m + (1 + 4 * i + w - 1)))
      rw [if_neg (by omega), show 1 + 4 * i + w - 1 = 4 * i + w by omega]
    · refine a1 _ ?_
      refine br_f (by decide) ?_
      refine goY _ ?_
      refine a2 _ ?_
      exact br_t rfl ⟨rfl, R⟩
  · refine h1 _ ?_
    refine br_t rfl ?_
    unfold wX_taken_27
    have no0 : ∀ post : Int32 → Prop, post 1 → wpX_no post v3 0 := by
      intro post p
      by_cases c : v3 < 0
      · exact br_t c p
      · exact br_f c (br_f c p)
    refine no0 _ ?_
    refine br_f (by decide) ?_
    unfold wpY_taken
    refine h2 _ ?_
    exact br_t rfl ⟨rfl, R⟩
end
section
/-! owed: line -/
section
variable {f_load : Int32} {f_depth : Int32} {f_begun : Int32} {f_outcome : Int32} {f_result : Int32} {a_op : (Nat → Int32)} {a_opA : (Nat → Int32)} {a_opB : (Nat → Int32)} {a_opLine : (Nat → Int32)} {a_length : (Nat → Int32)} {a_guards : (Nat → Int32)} {a_handlers : (Nat → Int32)} {a_kept : (Nat → Int32)} {a_keptLoad : (Nat → Int32)} {a_counter : (Nat → Int32)} {a_raised : (Nat → Int32)} {a_stopped : (Nat → Int32)} {a_caught : (Nat → Int32)} {a_unbegun : (Nat → Int32)} {a_leads : (Nat → Int32)} {a_counts : (Nat → Int32)} {a_adds : (Nat → Int64)} {a_goes : (Nat → Int64)} {a_needed : (Nat → Int32)} {a_known : (Nat → Int32)} {a_solved : (Nat → Int32)} {a_open : (Nat → Int32)} {a_unknown : (Nat → Int32)} {a_balance : (Nat → Int32)} {a_group : (Nat → Int32)} {a_first : (Nat → Int32)} {a_last : (Nat → Int32)} {a_sum : (Nat → Int64)} {a_often : (Nat → Int32)} {a_told : (Nat → Int32)} {a_method : (Nat → Int32)} {a_pc : (Nat → Int32)} {a_start : (Nat → Int32)} {a_here : (Nat → Int32)} {a_path : (Nat → Int64)} {a_coming : (Nat → Int64)} {a_variable : (Nat → Int32)} {g_depth : Int32} {g_steps : Int32} {g_result : Int32} {g_outcome : Int32} {g_load : Int32} {g_over : Int32} {b_op : (Nat → Int32)} {b_a : (Nat → Int32)} {b_b : (Nat → Int32)} {b_line : (Nat → Int32)} {b_length : (Nat → Int32)} {b_from : (Nat → Int32)} {b_to : (Nat → Int32)} {b_at : (Nat → Int32)} {b_handlers : (Nat → Int32)} {b_begun : (Nat → Int32)} {b_taken : (Nat → Int32)} {b_thrown : (Nat → Int32)} {b_rowI : (Nat → Int32)} {b_rowWay : (Nat → Int32)} {b_rowLength : (Nat → Int32)} {b_times : (Nat → Int32)} {b_told : (Nat → Int32)} {b_kOp : (Nat → Int32)} {b_kA : (Nat → Int32)} {b_kB : (Nat → Int32)} {b_kLine : (Nat → Int32)} {b_kLength : (Nat → Int32)} {b_kFrom : (Nat → Int32)} {b_kTo : (Nat → Int32)} {b_kAt : (Nat → Int32)} {b_kHandlers : (Nat → Int32)} {b_kBegun : (Nat → Int32)} {b_kTaken : (Nat → Int32)} {b_kThrown : (Nat → Int32)} {b_kept : (Nat → Int32)} {b_method : (Nat → Int32)} {b_pc : (Nat → Int32)} {b_variable : (Nat → Int32)} {b_hereI : (Nat → Int32)} {b_hereWay : (Nat → Int32)} {b_hereLength : (Nat → Int32)} {b_into : (Nat → Int32)} {b_kLoad : (Nat → Int32)} {b_part : (Nat → Int32)}
/-- the flag after w ways -/
def ln_z (f : Nat → Int32) (z : Nat) : Nat → Nat
  | 0 => z
  | w + 1 => if f w = 0 then 0 else ln_z f z w
theorem ln_01 {f : Nat → Int32} {z : Nat} (hz : z ≤ 1) : ∀ w, ln_z f z w ≤ 1
  | 0 => hz
  | w + 1 => by
    show (if f w = 0 then 0 else ln_z f z w) ≤ 1
    split
    · omega
    · exact ln_01 hz w
theorem xl_121 {m i W A B z : Nat} {x2 : Int32} {f : Nat → Int32} (hm : m < 4) (hi : i < 24) (hW : W ≤ 4) (hf : ∀ w, w < W → a_known (97 * m + (1 + 4 * i + w)) = f w) {post : Int32 → SX → Prop} {J : Int32 → Int32 → Int32 → Int32 → Int32 → Int32 → Int32 → Int32 → Int32 → (Nat → Int32) → (Nat → Int32) → (Nat → Int32) → (Nat → Int32) → (Nat → Int32) → (Nat → Int32) → (Nat → Int32) → (Nat → Int32) → (Nat → Int32) → (Nat → Int32) → (Nat → Int32) → (Nat → Int32) → (Nat → Int32) → (Nat → Int32) → (Nat → Int32) → (Nat → Int32) → (Nat → Int64) → (Nat → Int64) → (Nat → Int32) → (Nat → Int32) → (Nat → Int32) → (Nat → Int32) → (Nat → Int32) → (Nat → Int32) → (Nat → Int32) → (Nat → Int32) → (Nat → Int32) → (Nat → Int64) → (Nat → Int32) → (Nat → Int32) → (Nat → Int32) → (Nat → Int32) → (Nat → Int32) → (Nat → Int32) → (Nat → Int64) → (Nat → Int64) → (Nat → Int32) → Prop}
    (K : J (nI A) (nI B) (nI (ln_z f z W)) (nI (i + 1)) f_load f_depth f_begun f_outcome f_result a_op a_opA a_opB a_opLine a_length a_guards a_handlers a_kept a_keptLoad a_counter a_raised a_stopped a_caught a_unbegun a_leads a_counts a_adds a_goes a_needed a_known a_solved a_open a_unknown a_balance a_group a_first a_last a_sum a_often a_told a_method a_pc a_start a_here a_path a_coming a_variable) :
    ∀ d w, w + d = W → (wX_line_121 post J (nI m) x2 (nI A) (nI B) (nI i) (nI W) f_load f_depth f_begun f_outcome f_result a_op a_opA a_opB a_opLine a_length a_guards a_handlers a_kept a_keptLoad a_counter a_raised a_stopped a_caught a_unbegun a_leads a_counts a_adds a_goes a_needed a_known a_solved a_open a_unknown a_balance a_group a_first a_last a_sum a_often a_told a_method a_pc a_start a_here a_path a_coming a_variable (d + 1) (nI (ln_z f z w)) (nI w)) := by
  intro d
  induction d with
  | zero =>
    intro w hw
    obtain rfl : w = W := by omega
    exact br_t (nI_le (Nat.le_refl _) (by omega)) (nm_r (nI_1 i) K)
  | succ d ih =>
    intro w hw
    have h := ih (w + 1) (by omega)
    have rk : a_known (((97 * nI m + 1) + 4 * nI i) + nI w).toNatClampNeg = f w := qa_r _ (qa_e m i w) (hf w (by omega))
    refine br_f (nI_ge (by omega) (by omega)) ⟨pk_in (97 * m + (1 + 4 * i + w)) 388 (by omega) (qa_e m i w), ?_⟩
    by_cases c : f w = 0
    · have e : ln_z f z (w + 1) = 0 := if_pos c
      rw [e] at h
      exact br_t (rk.trans c) (nm_r (nI_1 w) h)
    · have e : ln_z f z (w + 1) = ln_z f z w := if_neg c
      rw [e] at h
      exact br_f (fun q => c (rk.symm.trans q)) (nm_r (nI_1 w) h)
theorem yl_82 {m i W A B z : Nat} {x1 x2 : Int32} {f : Nat → Int32} (hm : m < 4) (hi : i < 24) (hW : pw_ways (b_op (24 * m + i)) = W) (h5 : ¬ b_op (24 * m + i) ≤ 4) (h8 : ¬ 8 ≤ b_op (24 * m + i)) (hf : ∀ w, w < W → b_taken (96 * m + (4 * i + w)) = f w) {post : Int32 → Prop} {J : Int32 → Int32 → Int32 → Int32 → Prop}
    (K : J (nI B) (nI A) (nI (ln_z f z W)) (nI (24 * m + i + 1))) :
    ∀ d w, w + d = W → (wY_line_82 post J x1 x2 (nI B) (nI A) (nI (24 * m + i)) g_depth g_steps g_result g_outcome g_load g_over b_op b_a b_b b_line b_length b_from b_to b_at b_handlers b_begun b_taken b_thrown b_rowI b_rowWay b_rowLength b_times b_told b_kOp b_kA b_kB b_kLine b_kLength b_kFrom b_kTo b_kAt b_kHandlers b_kBegun b_kTaken b_kThrown b_kept b_method b_pc b_variable b_hereI b_hereWay b_hereLength b_into b_kLoad b_part (d + 1) (nI (ln_z f z w)) (nI w)) := by
  have hw4 := pw_ways_le (b_op (24 * m + i))
  have ii : vp_in (nI (24 * m + i)) 120 := pk_in (24 * m + i) 120 (by omega)
  have ro : b_op (nI (24 * m + i)).toNatClampNeg = b_op (24 * m + i) := qa_rr _ rfl
  intro d
  induction d with
  | zero =>
    intro w hw
    obtain rfl : w = W := by omega
    refine ⟨ii, ?_⟩
    rw [ro]
    refine qw_waysY _ ?_
    rw [hW]
    exact br_t (nI_le (Nat.le_refl _) (by omega)) (nm_r (nI_1 _) K)
  | succ d ih =>
    intro w hw
    have h := ih (w + 1) (by omega)
    have e4 : (4 : Int32) * nI (24 * m + i) + nI w = nI (96 * m + (4 * i + w)) := by
      rw [qa_4]; exact congrArg nI (by omega)
    have rk : b_taken (4 * nI (24 * m + i) + nI w).toNatClampNeg = f w := qa_r _ e4 (hf w (by omega))
    refine ⟨ii, ?_⟩
    rw [ro]
    refine qw_waysY _ ?_
    rw [hW]
    refine br_f (nI_ge (by omega) (by omega)) ⟨ii, br_f h5 ⟨ii, br_f h8 ⟨pk_in (96 * m + (4 * i + w)) 384 (by omega) e4, ?_⟩⟩⟩
    by_cases c : f w = 0
    · have e : ln_z f z (w + 1) = 0 := if_pos c
      rw [e] at h
      exact br_t (rk.trans c) (nm_r (nI_1 w) h)
    · have e : ln_z f z (w + 1) = ln_z f z w := if_neg c
      rw [e] at h
      exact br_f (fun q => c (rk.symm.trans q)) (nm_r (nI_1 w) h)
/-- what is said of a line -/
def ln_r (A B z : Nat) : Int32 := if A = 0 then 0 else if B = 0 then 1 else if B = A then (if z = 0 then 2 else 3) else 2
theorem xl_30 {m l : Nat} {ent : Nat → Int32} (hm : m < 4) (hn : xn a_length m ≤ 24) (hl : l < 16) (C : (rc_code a_op a_opA a_opB a_opLine a_guards a_length a_handlers b_op b_a b_b b_line b_from b_to b_at b_length b_handlers)) (P : (rc_plan a_length a_op a_opB a_leads a_counts a_adds a_needed)) (D : (rc_flow a_length a_op a_opB a_raised a_stopped a_caught a_unbegun a_counter b_begun b_taken b_thrown) ent (fun _ _ => 0) (fun _ _ => 0)) :
    ∀ d i, i + d = xn a_length m → ∀ A B z, B ≤ A → A ≤ i → z ≤ 1 → ∃ r : Int32,
      (∀ (post : Int32 → SX → Prop) (kn ao un ba so : Nat → Int32), (rc_known a_length a_op a_opB so kn b_taken) ent → (∀ kn ao un ba so, (rc_known a_length a_op a_opB so kn b_taken) ent → post r (f_load, f_depth, f_begun, f_outcome, f_result, a_op, a_opA, a_opB, a_opLine, a_length, a_guards, a_handlers, a_kept, a_keptLoad, a_counter, a_raised, a_stopped, a_caught, a_unbegun, a_leads, a_counts, a_adds, a_goes, a_needed, kn, so, ao, un, ba, a_group, a_first, a_last, a_sum, a_often, a_told, a_method, a_pc, a_start, a_here, a_path, a_coming, a_variable)) →
        (wX_line_30 post (nI m) (nI l) (d + 1) (nI A) (nI B) (nI z) (nI i) f_load f_depth f_begun f_outcome f_result a_op a_opA a_opB a_opLine a_length a_guards a_handlers a_kept a_keptLoad a_counter a_raised a_stopped a_caught a_unbegun a_leads a_counts a_adds a_goes a_needed kn so ao un ba a_group a_first a_last a_sum a_often a_told a_method a_pc a_start a_here a_path a_coming a_variable)) ∧
      (∀ post : Int32 → Prop, post r → (wY_line_33 post (nI m) (nI l) g_depth g_steps g_result g_outcome g_load g_over b_op b_a b_b b_line b_length b_from b_to b_at b_handlers b_begun b_taken b_thrown b_rowI b_rowWay b_rowLength b_times b_told b_kOp b_kA b_kB b_kLine b_kLength b_kFrom b_kTo b_kAt b_kHandlers b_kBegun b_kTaken b_kThrown b_kept b_method b_pc b_variable b_hereI b_hereWay b_hereLength b_into b_kLoad b_part (d + 1) (nI B) (nI A) (nI z) (nI (24 * m + i)))) := by
  obtain ⟨l1, l2, _⟩ := rc_len C (r := m) (by omega)
  have i17 : vp_in (nI m) 17 := pk_in m 17 (by omega)
  have i5 : vp_in (nI m) 5 := pk_in m 5 (by omega)
  have rx : a_length (nI m).toNatClampNeg = nI (xn a_length m) := qa_r m rfl l1
  have ry : (24 : Int32) * nI m + b_length (nI m).toNatClampNeg = nI (24 * m + xn a_length m) := by
    rw [qa_r m rfl l2, qa_24]
  intro d
  induction d with
  | zero =>
    intro i hi A B z hBA hAi hz
    obtain rfl : i = xn a_length m := by omega
    refine ⟨ln_r A B z, fun post kn ao un ba so hN hp => ⟨i17, ?_⟩, fun post hp => ⟨i5, ?_⟩⟩
    · refine br_t (by rw [rx]; exact nI_le (Nat.le_refl _) (by omega)) ?_
      have K := hp kn ao un ba so hN
      unfold ln_r at K
      by_cases a0 : A = 0
      · rw [if_pos a0] at K
        exact br_t (by rw [a0]; rfl) K
      · rw [if_neg a0] at K
        refine br_f (nI_ne0 (by omega) (by omega)) ?_
        by_cases b0 : B = 0
        · rw [if_pos b0] at K
          exact br_t (by rw [b0]; rfl) K
        · rw [if_neg b0] at K
          refine br_f (nI_ne0 (by omega) (by omega)) ?_
          by_cases ab : B = A
          · rw [if_pos ab] at K
            refine br_t (by rw [ab]) ?_
            by_cases z0 : z = 0
            · rw [if_pos z0] at K
              exact br_t (by rw [z0]; rfl) K
            · rw [if_neg z0] at K
              exact br_f (nI_ne0 (by omega) (by omega)) K
          · rw [if_neg ab] at K
            exact br_f (fun q => ab ((nI_eq (by omega) (by omega)).mp q)) K
    · refine br_t (by rw [ry]; exact nI_le (Nat.le_refl _) (by omega)) ?_
      unfold ln_r at hp
      by_cases a0 : A = 0
      · rw [if_pos a0] at hp
        exact br_t (by rw [a0]; rfl) hp
      · rw [if_neg a0] at hp
        refine br_f (nI_ne0 (by omega) (by omega)) ?_
        by_cases b0 : B = 0
        · rw [if_pos b0] at hp
          exact br_t (by rw [b0]; rfl) hp
        · rw [if_neg b0] at hp
          refine br_f (nI_ne0 (by omega) (by omega)) ?_
          by_cases ab : B = A
          · rw [if_pos ab] at hp
            refine br_f (nI_nlt (by omega) (by omega)) ?_
            by_cases z0 : z = 0
            · rw [if_pos z0] at hp
              exact br_t (by rw [z0]; rfl) hp
            · rw [if_neg z0] at hp
              exact br_f (nI_ne0 (by omega) (by omega)) hp
          · rw [if_neg ab] at hp
            exact br_t (nI_lt (by omega) (by omega)) hp
  | succ d ih =>
    intro i hi A B z hBA hAi hz
    have i1 : vp_in (24 * nI m + nI i) 408 := pk_in (24 * m + i) 408 (by omega) (qa_24 m i)
    have iy : vp_in (nI (24 * m + i)) 120 := pk_in (24 * m + i) 120 (by omega)
    have iy96 : vp_in (nI (24 * m + i)) 96 := pk_in (24 * m + i) 96 (by omega)
    obtain ⟨⟨o, ho, o1, o2⟩, _, _, ⟨l', hl', n1, n2⟩⟩ := (C m (by omega)).2.2.1 i (by omega)
    have o1' : a_op (24 * m + i) = nI o := o1
    have o2' : b_op (24 * m + i) = nI o := o2
    have rlx : a_opLine (24 * nI m + nI i).toNatClampNeg = nI l' := qa_r _ (qa_24 m i) n1
    have rly : b_line (nI (24 * m + i)).toNatClampNeg = nI l' := qa_r _ rfl n2
    have gx : ¬ a_length (nI m).toNatClampNeg ≤ nI i := by rw [rx]; exact nI_ge (by omega) (by omega)
    have gy : ¬ (24 : Int32) * nI m + b_length (nI m).toNatClampNeg ≤ nI (24 * m + i) := by rw [ry]; exact nI_ge (by omega) (by omega)
    by_cases cl : l' = l
    · -- of this line
      obtain ⟨B', eB'⟩ : ∃ x : Nat, x = (if b_begun (24 * m + i) ≤ 0 then B else B + 1) := ⟨_, rfl⟩
      obtain ⟨f, ef⟩ : ∃ x : Nat → Int32, ∀ w, x w = b_taken (96 * m + (4 * i + w)) := ⟨fun w => _, fun w => rfl⟩
      obtain ⟨W, eW'⟩ : ∃ x : Nat, x = (if o ≤ 4 then 0 else if 8 ≤ o then 0 else pw_ways (nI o)) := ⟨_, rfl⟩
      have hB' : B' ≤ A + 1 := by rw [eB']; clear ef eW'; split <;> omega
      have hww := pw_ways_le (nI o)
      have hWw : W ≤ pw_ways (nI o) := by
        rw [eW']
        by_cases c4 : o ≤ 4
        · rw [if_pos c4]; exact Nat.zero_le _
        · rw [if_neg c4]
          by_cases c8 : 8 ≤ o
          · rw [if_pos c8]; exact Nat.zero_le _
          · rw [if_neg c8]; exact Nat.le_refl _
      have hW4 : W ≤ 4 := by omega
      obtain ⟨r, hX, hY⟩ := ih (i + 1) (by omega) (A + 1) B' (ln_z f z W) hB' (by omega) (ln_01 hz W)
      refine ⟨r, fun post kn ao un ba so hN hp => ⟨i17, br_f gx ⟨i1, br_t (by rw [rlx, cl]) (nm_r (nI_1 A) ?_)⟩⟩, fun post hp => ⟨i5, br_f gy ⟨iy, br_t (by rw [rly, cl]) (nm_r (nI_1 A) ⟨iy96, ?_⟩)⟩⟩⟩
      · refine xv_begins (ent := ent) hm (by omega) C P D hN ?_
        intro kn2 ao2 un2 ba2 so2 g1 g2
        have hf : ∀ w, w < W → kn2 (97 * m + (1 + 4 * i + w)) = f w := by
          intro w hw
          have hw2 : w < pw_ways (nI o) := by omega
          have hv25 : (ul a_length a_op a_opB m) (1 + 4 * i + w) < 25 := by
            show pw_ld _ _ _ _ < 25
            rw [pw_ld_s _ _ _ (by omega), if_pos ⟨show i < xn a_length m by omega, by show w < pw_ways (a_op (24 * m + i)); rw [o1']; exact hw2⟩]
            exact Nat.lt_succ_of_le (pw_tgt_le hn _ _ _ _)
          rw [g2 (1 + 4 * i + w) (by omega) hv25]
          rw [ef]
          show (if 1 + 4 * i + w = 0 then _ else b_taken (96 * m + (1 + 4 * i + w - 1))) = b_taken (96 * m + (4 * i + w))
          rw [if_neg (by omega), show 1 + 4 * i + w - 1 = 4 * i + w by omega]
        have K2 := hX post kn2 ao2 un2 ba2 so2 g1 hp
        have go : (wX_line_80 post (wX_line_30 post (nI m) (nI l) (d + 1)) (nI m) (nI l) (nI (A + 1)) (nI B') (nI z) (nI i) f_load f_depth f_begun f_outcome f_result a_op a_opA a_opB a_opLine a_length a_guards a_handlers a_kept a_keptLoad a_counter a_raised a_stopped a_caught a_unbegun a_leads a_counts a_adds a_goes a_needed kn2 so2 ao2 un2 ba2 a_group a_first a_last a_sum a_often a_told a_method a_pc a_start a_here a_path a_coming a_variable) := by
          refine ⟨i1, nm_r (e' := nI o) (qa_r _ (qa_24 m i) o1') ?_⟩
          have inner := xl_121 (post := post) (x2 := nI l) (A := A + 1) (B := B') (z := z) hm (by omega) hW4 hf (J := wX_line_30 post (nI m) (nI l) (d + 1)) K2 W 0 (by omega)
          by_cases c4 : o ≤ 4
          · have eW : W = 0 := eW'.trans (if_pos c4)
            rw [eW] at inner
            exact br_t (nI_le (b := 4) c4 (by decide)) ⟨_, inner⟩
          · refine br_f (nI_ge (a := 4) (by omega) (by omega)) ?_
            by_cases c8 : 8 ≤ o
            · have eW : W = 0 := eW'.trans ((if_neg c4).trans (if_pos c8))
              rw [eW] at inner
              exact br_t (nI_le (a := 8) c8 (by omega)) ⟨_, inner⟩
            · have eW : W = pw_ways (nI o) := eW'.trans ((if_neg c4).trans (if_neg c8))
              rw [eW] at inner
              refine br_f (nI_ge (b := 8) (by omega) (by omega)) ?_
              exact qw_ways _ ⟨_, inner⟩
        by_cases cb : b_begun (24 * m + i) ≤ 0
        · have eB : B' = B := eB'.trans (if_pos cb)
          rw [eB] at go
          exact br_t cb go
        · have eB : B' = B + 1 := eB'.trans (if_neg cb)
          rw [eB] at go
          exact br_f cb (nm_r (nI_1 B) go)
      · have K2 := hY post hp
        have go : ∃ n82, (wY_line_82 post (wY_line_33 post (nI m) (nI l) g_depth g_steps g_result g_outcome g_load g_over b_op b_a b_b b_line b_length b_from b_to b_at b_handlers b_begun b_taken b_thrown b_rowI b_rowWay b_rowLength b_times b_told b_kOp b_kA b_kB b_kLine b_kLength b_kFrom b_kTo b_kAt b_kHandlers b_kBegun b_kTaken b_kThrown b_kept b_method b_pc b_variable b_hereI b_hereWay b_hereLength b_into b_kLoad b_part (d + 1)) (nI m) (nI l) (nI B') (nI (A + 1)) (nI (24 * m + i)) g_depth g_steps g_result g_outcome g_load g_over b_op b_a b_b b_line b_length b_from b_to b_at b_handlers b_begun b_taken b_thrown b_rowI b_rowWay b_rowLength b_times b_told b_kOp b_kA b_kB b_kLine b_kLength b_kFrom b_kTo b_kAt b_kHandlers b_kBegun b_kTaken b_kThrown b_kept b_method b_pc b_variable b_hereI b_hereWay b_hereLength b_into b_kLoad b_part n82 (nI z) 0) := by
          have K3 : wY_line_33 post (nI m) (nI l) g_depth g_steps g_result g_outcome g_load g_over b_op b_a b_b b_line b_length b_from b_to b_at b_handlers b_begun b_taken b_thrown b_rowI b_rowWay b_rowLength b_times b_told b_kOp b_kA b_kB b_kLine b_kLength b_kFrom b_kTo b_kAt b_kHandlers b_kBegun b_kTaken b_kThrown b_kept b_method b_pc b_variable b_hereI b_hereWay b_hereLength b_into b_kLoad b_part (d + 1) (nI B') (nI (A + 1)) (nI (ln_z f z W)) (nI (24 * m + i + 1)) := K2
          by_cases c4 : o ≤ 4
          · have eW : W = 0 := eW'.trans (if_pos c4)
            rw [eW] at K3
            refine ⟨1, iy, ?_⟩
            rw [qa_r _ rfl o2']
            refine qw_waysY _ ?_
            refine br_c (fun _ => nm_r (nI_1 _) K3) (fun _ => ⟨iy, br_t ?_ (nm_r (nI_1 _) K3)⟩)
            exact nI_le (b := 4) c4 (by decide)
          · by_cases c8 : 8 ≤ o
            · have eW : W = 0 := eW'.trans ((if_neg c4).trans (if_pos c8))
              rw [eW] at K3
              refine ⟨1, iy, ?_⟩
              rw [qa_r _ rfl o2']
              refine qw_waysY _ ?_
              refine br_c (fun _ => nm_r (nI_1 _) K3) (fun _ => ⟨iy, br_f ?_ ⟨iy, br_t ?_ (nm_r (nI_1 _) K3)⟩⟩)
              · exact nI_ge (a := 4) (by omega) (by omega)
              · exact nI_le (a := 8) c8 (by omega)
            · have eW : W = pw_ways (nI o) := eW'.trans ((if_neg c4).trans (if_neg c8))
              exact ⟨W + 1, yl_82 (z := z) hm (by omega) (by rw [o2', eW]) (by rw [o2']; exact nI_ge (a := 4) (by omega) (by omega)) (by rw [o2']; exact nI_ge (b := 8) (by omega) (by omega)) (fun w hw => (ef w).symm) K3 W 0 (by omega)⟩
        have rb : b_begun (nI (24 * m + i)).toNatClampNeg = b_begun (24 * m + i) := qa_rr _ rfl
        by_cases cb : b_begun (24 * m + i) ≤ 0
        · have eB : B' = B := eB'.trans (if_pos cb)
          rw [eB] at go
          exact br_t (by rw [rb]; exact cb) go
        · have eB : B' = B + 1 := eB'.trans (if_neg cb)
          rw [eB] at go
          exact br_f (by rw [rb]; exact cb) (nm_r (nI_1 B) go)
    · obtain ⟨r, hX, hY⟩ := ih (i + 1) (by omega) A B z hBA (by omega) hz
      have ne : ¬ nI l' = nI l := fun q => cl ((nI_eq (by omega) (by omega)).mp q)
      exact ⟨r, fun post kn ao un ba so hN hp => ⟨i17, br_f gx ⟨i1, br_f (by rw [rlx]; exact ne) (nm_r (nI_1 i) (hX post kn ao un ba so hN hp))⟩⟩, fun post hp => ⟨i5, br_f gy ⟨iy, br_f (by rw [rly]; exact ne) (nm_r (nI_1 _) (hY post hp))⟩⟩⟩
end
theorem i_vc_line {k : Nat} {u : SX} {v : SY} (I : i_Rel k u v) (hk : k + 5 ≤ 2560) (v1 : Int32) (v2 : Int32) : wpX_line (fun r u' => wpY_line (fun r' => r' = r ∧ i_Rel (k + 5) u' v) v v1 v2) u v1 v2 := by
  refine ze_el (P := fun u v => wpX_line (fun r u' => wpY_line (fun r' => r' = r ∧ i_Rel (k + 5) u' v) v v1 v2) u v1 v2) ?_ I
  intro f_load f_depth f_begun f_outcome f_result g_depth g_steps g_result g_outcome g_load g_over a_op a_opA a_opB a_opLine a_length a_guards a_handlers a_kept a_keptLoad a_counter a_raised a_stopped a_caught a_unbegun a_leads a_counts a_adds a_goes a_needed a_known a_solved a_open a_unknown a_balance a_group a_first a_last a_sum a_often a_told a_method a_pc a_start a_here a_path a_coming a_variable b_op b_a b_b b_line b_length b_from b_to b_at b_handlers b_begun b_taken b_thrown b_rowI b_rowWay b_rowLength b_times b_told b_kOp b_kA b_kB b_kLine b_kLength b_kFrom b_kTo b_kAt b_kHandlers b_kBegun b_kTaken b_kThrown b_kept b_method b_pc b_variable b_hereI b_hereWay b_hereLength b_into b_kLoad b_part ent ek C hK hP hD hL hF hS hN hl hv hr
  have R : i_Rel (k + 5) (f_load, f_depth, f_begun, f_outcome, f_result, a_op, a_opA, a_opB, a_opLine, a_length, a_guards, a_handlers, a_kept, a_keptLoad, a_counter, a_raised, a_stopped, a_caught, a_unbegun, a_leads, a_counts, a_adds, a_goes, a_needed, a_known, a_solved, a_open, a_unknown, a_balance, a_group, a_first, a_last, a_sum, a_often, a_told, a_method, a_pc, a_start, a_here, a_path, a_coming, a_variable) (g_depth, g_steps, g_result, g_outcome, g_load, g_over, b_op, b_a, b_b, b_line, b_length, b_from, b_to, b_at, b_handlers, b_begun, b_taken, b_thrown, b_rowI, b_rowWay, b_rowLength, b_times, b_told, b_kOp, b_kA, b_kB, b_kLine, b_kLength, b_kFrom, b_kTo, b_kAt, b_kHandlers, b_kBegun, b_kTaken, b_kThrown, b_kept, b_method, b_pc, b_variable, b_hereI, b_hereWay, b_hereLength, b_into, b_kLoad, b_part) := ze_mk C hK hP hD hL hF hS hN hl hv hr
  unfold wpX_line
  rcases qb_there C v1 with ⟨m, hm, rfl, z, h1, h2⟩ | ⟨h1, h2⟩
  · refine h1 _ ?_
    refine br_f (by decide) ?_
    have e3 := (rc_len C (r := m) (by omega)).2.2
    rcases qb_no (x := v2) (l := 16) 16 rfl (by decide) with ⟨l, hl16, rfl, a1, a2⟩ | ⟨a1, a2⟩
    · refine a1 _ ?_
      obtain ⟨r, hX, hY⟩ := xl_30 (ent := ent) hm e3 hl16 C hP hF (xn a_length m) 0 (by omega) 0 0 1 (by omega) (by omega) (by omega)
      refine br_t rfl ⟨_, hX _ a_known a_open a_unknown a_balance a_solved hN ?_⟩
      intro kn ao un ba so g1
      unfold wpY_line
      refine h2 _ ?_
      refine br_f (by decide) ?_
      refine a2 _ ?_
      exact br_f (by decide) (nm_r (qa_m24 m) ⟨_, hY _ ⟨rfl, ze_mk C hK hP hD hL hF hS g1 hl hv hr⟩⟩)
    · refine a1 _ ?_
      refine br_f (by decide) ?_
      unfold wpY_line
      refine h2 _ ?_
      refine br_f (by decide) ?_
      refine a2 _ ?_
      exact br_t rfl ⟨rfl, R⟩
  · refine h1 _ ?_
    refine br_t rfl ?_
    unfold wpY_line
    refine h2 _ ?_
    exact br_t rfl ⟨rfl, R⟩
end
section
/-! owed: counters -/
def yp_f (h : Nat → Nat) (n : Nat) (b : Nat → Int32) : Nat → Int32 := fun j => if j ≤ n then nI (h j) else b j
def yp_k (h h' : Nat → Nat) (n : Nat) (b : Nat → Int32) (k : Nat) : Nat → Int32 := fun j => if j ≤ n then (if j < k then nI (h' j) else nI (h j)) else b j
def yp_i (b : Nat → Int32) (k : Nat) : Nat → Int32 := fun j => if j < k then nI j else b j
section
variable {f_load : Int32} {f_depth : Int32} {f_begun : Int32} {f_outcome : Int32} {f_result : Int32} {a_op : (Nat → Int32)} {a_opA : (Nat → Int32)} {a_opB : (Nat → Int32)} {a_opLine : (Nat → Int32)} {a_length : (Nat → Int32)} {a_guards : (Nat → Int32)} {a_handlers : (Nat → Int32)} {a_kept : (Nat → Int32)} {a_keptLoad : (Nat → Int32)} {a_counter : (Nat → Int32)} {a_raised : (Nat → Int32)} {a_stopped : (Nat → Int32)} {a_caught : (Nat → Int32)} {a_unbegun : (Nat → Int32)} {a_leads : (Nat → Int32)} {a_counts : (Nat → Int32)} {a_adds : (Nat → Int64)} {a_goes : (Nat → Int64)} {a_needed : (Nat → Int32)} {a_known : (Nat → Int32)} {a_solved : (Nat → Int32)} {a_open : (Nat → Int32)} {a_unknown : (Nat → Int32)} {a_balance : (Nat → Int32)} {a_group : (Nat → Int32)} {a_first : (Nat → Int32)} {a_last : (Nat → Int32)} {a_sum : (Nat → Int64)} {a_often : (Nat → Int32)} {a_told : (Nat → Int32)} {a_method : (Nat → Int32)} {a_pc : (Nat → Int32)} {a_start : (Nat → Int32)} {a_here : (Nat → Int32)} {a_path : (Nat → Int64)} {a_coming : (Nat → Int64)} {a_variable : (Nat → Int32)} {g_depth : Int32} {g_steps : Int32} {g_result : Int32} {g_outcome : Int32} {g_load : Int32} {g_over : Int32} {b_op : (Nat → Int32)} {b_a : (Nat → Int32)} {b_b : (Nat → Int32)} {b_line : (Nat → Int32)} {b_length : (Nat → Int32)} {b_from : (Nat → Int32)} {b_to : (Nat → Int32)} {b_at : (Nat → Int32)} {b_handlers : (Nat → Int32)} {b_begun : (Nat → Int32)} {b_taken : (Nat → Int32)} {b_thrown : (Nat → Int32)} {b_rowI : (Nat → Int32)} {b_rowWay : (Nat → Int32)} {b_rowLength : (Nat → Int32)} {b_times : (Nat → Int32)} {b_told : (Nat → Int32)} {b_kOp : (Nat → Int32)} {b_kA : (Nat → Int32)} {b_kB : (Nat → Int32)} {b_kLine : (Nat → Int32)} {b_kLength : (Nat → Int32)} {b_kFrom : (Nat → Int32)} {b_kTo : (Nat → Int32)} {b_kAt : (Nat → Int32)} {b_kHandlers : (Nat → Int32)} {b_kBegun : (Nat → Int32)} {b_kTaken : (Nat → Int32)} {b_kThrown : (Nat → Int32)} {b_kept : (Nat → Int32)} {b_method : (Nat → Int32)} {b_pc : (Nat → Int32)} {b_variable : (Nat → Int32)} {b_hereI : (Nat → Int32)} {b_hereWay : (Nat → Int32)} {b_hereLength : (Nat → Int32)} {b_into : (Nat → Int32)} {b_kLoad : (Nat → Int32)} {b_part : (Nat → Int32)}
theorem yu_unite {n a c : Nat} {h : Nat → Nat} {b : Nat → Int32} (hn : n ≤ 24) (hh : ∀ p, p ≤ n → h p ≤ p) (ha : a ≤ n) (hc : c ≤ n) {post : SY → Prop} (K : post (g_depth, g_steps, g_result, g_outcome, g_load, g_over, b_op, b_a, b_b, b_line, b_length, b_from, b_to, b_at, b_handlers, b_begun, b_taken, b_thrown, b_rowI, b_rowWay, b_rowLength, b_times, b_told, b_kOp, b_kA, b_kB, b_kLine, b_kLength, b_kFrom, b_kTo, b_kAt, b_kHandlers, b_kBegun, b_kTaken, b_kThrown, b_kept, b_method, b_pc, b_variable, b_hereI, b_hereWay, b_hereLength, b_into, b_kLoad, (yp_f (pu_u h a c) n b))) :
    (wpY_unite post (g_depth, g_steps, g_result, g_outcome, g_load, g_over, b_op, b_a, b_b, b_line, b_length, b_from, b_to, b_at, b_handlers, b_begun, b_taken, b_thrown, b_rowI, b_rowWay, b_rowLength, b_times, b_told, b_kOp, b_kA, b_kB, b_kLine, b_kLength, b_kFrom, b_kTo, b_kAt, b_kHandlers, b_kBegun, b_kTaken, b_kThrown, b_kept, b_method, b_pc, b_variable, b_hereI, b_hereWay, b_hereLength, b_into, b_kLoad, (yp_f h n b)) (nI a) (nI c) (nI n)) := by
  have la := hh a ha
  have lc := hh c hc
  have ia : vp_in (nI a) 25 := pk_in a 25 (by omega)
  have ic : vp_in (nI c) 25 := pk_in c 25 (by omega)
  have ra : yp_f h n b (nI a).toNatClampNeg = nI (h a) := qa_r a rfl (if_pos ha)
  have rc : yp_f h n b (nI c).toNatClampNeg = nI (h c) := qa_r c rfl (if_pos hc)
  have main : ∀ d k, k + d = n + 1 → (wY_unite_67 post (nI n) (nI (pu_x (h a) (h c))) (nI (pu_y (h a) (h c))) g_depth g_steps g_result g_outcome g_load g_over (d + 1) (nI k) b_op b_a b_b b_line b_length b_from b_to b_at b_handlers b_begun b_taken b_thrown b_rowI b_rowWay b_rowLength b_times b_told b_kOp b_kA b_kB b_kLine b_kLength b_kFrom b_kTo b_kAt b_kHandlers b_kBegun b_kTaken b_kThrown b_kept b_method b_pc b_variable b_hereI b_hereWay b_hereLength b_into b_kLoad (yp_k h (pu_u h a c) n b k)) := by
    have ly : pu_y (h a) (h c) ≤ 24 := by
      unfold pu_y
      split <;> omega
    intro d
    induction d with
    | zero =>
      intro k hk
      obtain rfl : k = n + 1 := by omega
      have e : yp_k h (pu_u h a c) n b (n + 1) = yp_f (pu_u h a c) n b := by
        funext j
        unfold yp_k yp_f
        by_cases cj : j ≤ n
        · rw [if_pos cj, if_pos cj, if_pos (by omega)]
        · rw [if_neg cj, if_neg cj]
      rw [e]
      exact br_t (nI_lt (by omega) (by omega)) K
    | succ d ih =>
      intro k hk
      have h1 := ih (k + 1) (by omega)
      have lk := hh k (by omega)
      have ik : vp_in (nI k) 25 := pk_in k 25 (by omega)
      have rk : yp_k h (pu_u h a c) n b k (nI k).toNatClampNeg = nI (h k) := qa_r k rfl ((if_pos (by omega)).trans (if_neg (by omega)))
      refine br_f (nI_nlt (by omega) (by omega)) ⟨ik, ?_⟩
      by_cases cy : h k = pu_y (h a) (h c)
      · refine br_t (by rw [rk, cy]) ⟨ik, nm_r (e' := yp_k h (pu_u h a c) n b (k + 1)) ?_ (nm_r (nI_1 k) h1)⟩
        rw [nI_clamp (by omega)]
        funext j
        unfold upd yp_k
        by_cases cj : j = k
        · subst cj
          rw [if_pos rfl, if_pos (by omega), if_pos (by omega)]
          show _ = nI (if h j = _ then _ else _)
          rw [if_pos cy]
        · rw [if_neg cj]
          by_cases c2 : j ≤ n
          · rw [if_pos c2, if_pos c2]
            by_cases c3 : j < k
            · rw [if_pos c3, if_pos (by omega)]
            · rw [if_neg c3, if_neg (by omega)]
          · rw [if_neg c2, if_neg c2]
      · refine br_f (by rw [rk]; exact fun z => cy ((nI_eq (by omega) (by omega)).mp z)) (nm_r (nI_1 k) ?_)
        have e : yp_k h (pu_u h a c) n b k = yp_k h (pu_u h a c) n b (k + 1) := by
          funext j
          unfold yp_k
          by_cases c2 : j ≤ n
          · rw [if_pos c2, if_pos c2]
            by_cases c3 : j < k
            · rw [if_pos c3, if_pos (by omega)]
            · rw [if_neg c3]
              by_cases c4 : j < k + 1
              · rw [if_pos c4]
                obtain rfl : j = k := by omega
                show _ = nI (if h j = _ then _ else _)
                rw [if_neg cy]
              · rw [if_neg c4]
          · rw [if_neg c2, if_neg c2]
        rw [e]
        exact h1
  have go := main (n + 1) 0 (by omega)
  have e0 : yp_k h (pu_u h a c) n b 0 = yp_f h n b := by
    funext j
    unfold yp_k yp_f
    by_cases cj : j ≤ n
    · rw [if_pos cj, if_pos cj, if_neg (by omega)]
    · rw [if_neg cj, if_neg cj]
  rw [e0] at go
  refine ⟨ia, ic, ?_⟩
  by_cases cc : h c ≤ h a
  · have ex : pu_x (h a) (h c) = h c := if_pos cc
    have ey : pu_y (h a) (h c) = h a := if_pos cc
    rw [ex, ey] at go
    have cond : yp_f h n b (nI c).toNatClampNeg ≤ yp_f h n b (nI a).toNatClampNeg := by rw [ra, rc]; exact nI_le cc (by omega)
    refine br_t cond ⟨ic, ia, ic, br_t cond ⟨ia, nm_r ra ⟨n + 1 + 1, ?_⟩⟩⟩
    rw [rc]
    exact go
  · have ex : pu_x (h a) (h c) = h a := if_neg cc
    have ey : pu_y (h a) (h c) = h c := if_neg cc
    rw [ex, ey] at go
    have cond : ¬ yp_f h n b (nI c).toNatClampNeg ≤ yp_f h n b (nI a).toNatClampNeg := by rw [ra, rc]; exact nI_ge (by omega) (by omega)
    refine br_f cond ⟨ia, ia, ic, br_f cond ⟨ic, nm_r rc ⟨n + 1 + 1, ?_⟩⟩⟩
    rw [ra]
    exact go
theorem pu_skip {ld : Nat → Nat} {n E : Nat} {h : Nat → Nat} (ho : pu_ok ld n E h) : ∀ d, (∀ e, E ≤ e → e < E + d → ¬ ld e < 25) → pu_ok ld n (E + d) h ∧ sn_N (pg_vn ld) (E + d) = sn_N (pg_vn ld) E ∧ sn_N (pg_jn ld) (E + d) = sn_N (pg_jn ld) E
  | 0, _ => ⟨ho, rfl, rfl⟩
  | d + 1, hz => by
    obtain ⟨h1, h2, h3⟩ := pu_skip ho d (fun e h1 h2 => hz e h1 (by omega))
    have hv := hz (E + d) (by omega) (by omega)
    refine ⟨pu_no h1 hv, ?_, ?_⟩
    · show sn_N (pg_vn ld) (E + d) + pg_vn ld (E + d) = _
      rw [h2, show pg_vn ld (E + d) = 0 from if_neg hv]; rfl
    · show sn_N (pg_jn ld) (E + d) + pg_jn ld (E + d) = _
      rw [h3, show pg_jn ld (E + d) = 0 from if_neg (fun z => hv z.1)]; rfl
def yc_ok (ld : Nat → Nat) (n E : Nat) (h : Nat → Nat) (L : Nat) : Prop := pu_ok ld n E h ∧ L = sn_N (pg_vn ld) E ∧ sn_N (pu_r h) (n + 1) + sn_N (pg_jn ld) E = n + 1
theorem yc_skip {ld : Nat → Nat} {n E E' L : Nat} {h : Nat → Nat} (ho : yc_ok ld n E h L) (hE : E ≤ E') (hz : ∀ e, E ≤ e → e < E' → ¬ ld e < 25) : yc_ok ld n E' h L := by
  obtain ⟨d, rfl⟩ : ∃ d, E' = E + d := ⟨E' - E, by omega⟩
  obtain ⟨h1, h2, h3⟩ := pu_skip ho.1 d hz
  exact ⟨h1, ho.2.1.trans h2.symm, by rw [h3]; exact ho.2.2⟩
theorem yc_step {ld : Nat → Nat} {n E L a c : Nat} {h : Nat → Nat} (ho : yc_ok ld n E h L) (hv : ld E < 25) (ha : a ≤ n) (hc : c ≤ n) (ea : pu_f n a = pw_src E) (ec : pu_f n c = ld E) : yc_ok ld n (E + 1) (pu_u h a c) (L + 1) := by
  obtain ⟨h1, h2⟩ := pu_st ho.1 hv ha hc ea ec
  refine ⟨h1, ?_, ?_⟩
  · show L + 1 = sn_N (pg_vn ld) E + pg_vn ld E
    rw [show pg_vn ld E = 1 from if_pos hv, ho.2.1]
  · show _ + (sn_N (pg_jn ld) E + pg_jn ld E) = n + 1
    have := ho.2.2
    omega
theorem yc_140 {n L : Nat} {h : Nat → Nat} {b : Nat → Int32} (hn : n ≤ 24) (hh : ∀ p, p ≤ n → h p ≤ p) {post : Int32 → SY → Prop} (K : post ((nI L - (nI n + 1)) + nI (sn_N (pu_r h) (n + 1))) (g_depth, g_steps, g_result, g_outcome, g_load, g_over, b_op, b_a, b_b, b_line, b_length, b_from, b_to, b_at, b_handlers, b_begun, b_taken, b_thrown, b_rowI, b_rowWay, b_rowLength, b_times, b_told, b_kOp, b_kA, b_kB, b_kLine, b_kLength, b_kFrom, b_kTo, b_kAt, b_kHandlers, b_kBegun, b_kTaken, b_kThrown, b_kept, b_method, b_pc, b_variable, b_hereI, b_hereWay, b_hereLength, b_into, b_kLoad, (yp_f h n b))) :
    ∀ d p, p + d = n + 1 → (wY_counters_140 post (nI n) (nI L) g_depth g_steps g_result g_outcome g_load g_over b_op b_a b_b b_line b_length b_from b_to b_at b_handlers b_begun b_taken b_thrown b_rowI b_rowWay b_rowLength b_times b_told b_kOp b_kA b_kB b_kLine b_kLength b_kFrom b_kTo b_kAt b_kHandlers b_kBegun b_kTaken b_kThrown b_kept b_method b_pc b_variable b_hereI b_hereWay b_hereLength b_into b_kLoad (yp_f h n b) (d + 1) (nI (sn_N (pu_r h) p)) (nI p)) := by
  intro d
  induction d with
  | zero =>
    intro p hp
    obtain rfl : p = n + 1 := by omega
    exact br_t (nI_lt (by omega) (by omega)) K
  | succ d ih =>
    intro p hp
    have h1 := ih (p + 1) (by omega)
    have lp := hh p (by omega)
    have rp : yp_f h n b (nI p).toNatClampNeg = nI (h p) := qa_r p rfl (if_pos (by omega))
    have es : sn_N (pu_r h) (p + 1) = sn_N (pu_r h) p + pu_r h p := rfl
    refine br_f (nI_nlt (by omega) (by omega)) ⟨pk_in p 25 (by omega), ?_⟩
    by_cases c : h p = p
    · rw [es, show pu_r h p = 1 from if_pos c] at h1
      exact br_t (by rw [rp, c]) (nm_r (nI_1 _) (nm_r (nI_1 p) h1))
    · rw [es, show pu_r h p = 0 from if_neg c] at h1
      exact br_f (by rw [rp]; exact fun z => c ((nI_eq (by omega) (by omega)).mp z)) (nm_r (nI_1 p) h1)
theorem yc_65 {m i : Nat} {b : Nat → Int32} (hm : m < 4) (hn : (xn a_length m) ≤ 24) (h0 : 0 < (xn a_length m)) (hi : i < (xn a_length m)) (C : (rc_code a_op a_opA a_opB a_opLine a_guards a_length a_handlers b_op b_a b_b b_line b_from b_to b_at b_length b_handlers)) {post : Int32 → SY → Prop} {J : Int32 → Int32 → Int32 → Int32 → Int32 → Int32 → Int32 → Int32 → (Nat → Int32) → (Nat → Int32) → (Nat → Int32) → (Nat → Int32) → (Nat → Int32) → (Nat → Int32) → (Nat → Int32) → (Nat → Int32) → (Nat → Int32) → (Nat → Int32) → (Nat → Int32) → (Nat → Int32) → (Nat → Int32) → (Nat → Int32) → (Nat → Int32) → (Nat → Int32) → (Nat → Int32) → (Nat → Int32) → (Nat → Int32) → (Nat → Int32) → (Nat → Int32) → (Nat → Int32) → (Nat → Int32) → (Nat → Int32) → (Nat → Int32) → (Nat → Int32) → (Nat → Int32) → (Nat → Int32) → (Nat → Int32) → (Nat → Int32) → (Nat → Int32) → (Nat → Int32) → (Nat → Int32) → (Nat → Int32) → (Nat → Int32) → (Nat → Int32) → (Nat → Int32) → (Nat → Int32) → (Nat → Int32) → Prop}
    (K : ∀ h L, yc_ok (ul a_length a_op a_opB m) (xn a_length m) (1 + 4 * (i + 1)) h L → J (nI L) (nI (i + 1)) g_depth g_steps g_result g_outcome g_load g_over b_op b_a b_b b_line b_length b_from b_to b_at b_handlers b_begun b_taken b_thrown b_rowI b_rowWay b_rowLength b_times b_told b_kOp b_kA b_kB b_kLine b_kLength b_kFrom b_kTo b_kAt b_kHandlers b_kBegun b_kTaken b_kThrown b_kept b_method b_pc b_variable b_hereI b_hereWay b_hereLength b_into b_kLoad (yp_f h (xn a_length m) b)) :
    ∀ d w, w + d = pw_ways (a_op (24 * m + i)) → ∀ h L, yc_ok (ul a_length a_op a_opB m) (xn a_length m) (1 + 4 * i + w) h L → (wY_counters_65 post J (nI m) (nI (xn a_length m)) 0 (nI i) (d + 1) (nI L) (nI w) g_depth g_steps g_result g_outcome g_load g_over b_op b_a b_b b_line b_length b_from b_to b_at b_handlers b_begun b_taken b_thrown b_rowI b_rowWay b_rowLength b_times b_told b_kOp b_kA b_kB b_kLine b_kLength b_kFrom b_kTo b_kAt b_kHandlers b_kBegun b_kTaken b_kThrown b_kept b_method b_pc b_variable b_hereI b_hereWay b_hereLength b_into b_kLoad (yp_f h (xn a_length m) b)) := by
  have hw := pw_ways_le (a_op (24 * m + i))
  have i1 : vp_in (24 * nI m + nI i) 120 := pk_in (24 * m + i) 120 (by omega) (qa_24 m i)
  obtain ⟨⟨o, ho, o1, o2⟩, _, eb, _⟩ := (C m (by omega)).2.2.1 i (by omega)
  have eo : b_op (24 * m + i) = a_op (24 * m + i) := o2.trans o1.symm
  have ro : b_op (24 * nI m + nI i).toNatClampNeg = a_op (24 * m + i) := qa_r _ (qa_24 m i) eo
  intro d
  induction d with
  | zero =>
    intro w hwd h L hc
    obtain rfl : w = pw_ways (a_op (24 * m + i)) := by omega
    refine ⟨i1, ?_⟩
    rw [ro]
    refine qw_waysY _ ?_
    refine br_t (nI_le (Nat.le_refl _) (by omega)) (nm_r (nI_1 i) (K h L (yc_skip hc (by omega) (fun e h1 h2 => ?_))))
    obtain ⟨w', rfl⟩ : ∃ w', e = 1 + 4 * i + w' := ⟨e - (1 + 4 * i), by omega⟩
    show ¬ pw_ld _ _ _ _ < 25
    rw [pw_ld_s _ _ _ (by omega), if_neg (fun z => by have z2 : w' < pw_ways (a_op (24 * m + i)) := z.2; omega)]
    omega
  | succ d ih =>
    intro w hwd h L hc
    refine ⟨i1, ?_⟩
    rw [ro]
    refine qw_waysY _ ?_
    refine br_f (nI_ge (by omega) (by omega)) ?_
    obtain ⟨t, ht, hcase⟩ := yt_target (g_depth := g_depth) (g_steps := g_steps) (g_result := g_result) (g_outcome := g_outcome) (g_load := g_load) (g_over := g_over) (b_part := yp_f h (xn a_length m) b) hm hn hi (show w < 4 by omega) eo eb.symm
    have el : (ul a_length a_op a_opB m) (1 + 4 * i + w) = pw_tgt (xn a_length m) (fun j => a_op (24 * m + j)) (fun j => a_opB (24 * m + j)) i w := by
      show pw_ld _ _ _ _ = _
      rw [pw_ld_s _ _ _ (by omega), if_pos ⟨hi, by show w < pw_ways (a_op (24 * m + i)); omega⟩]
    have es : pw_src (1 + 4 * i + w) = i := pw_src_s (by omega)
    have ei : pu_f (xn a_length m) i = pw_src (1 + 4 * i + w) := by
      rw [es]; exact if_neg (by omega)
    have hh : ∀ p, p ≤ (xn a_length m) → h p ≤ p := fun p hp => (hc.1.2 p hp).1
    refine ht _ ?_
    rcases hcase with ⟨j, hj, rfl, ej, g⟩ | ⟨ej, g⟩
    · refine g _ ?_
      refine br_f (by decide) ?_
      refine yu_unite hn hh (by omega) (by omega) ?_
      have st := yc_step (E := 1 + 4 * i + w) (a := i) (c := j) hc (by rw [el, ej]; omega) (by omega) (by omega) ei (by rw [el, ej]; exact if_neg (by omega))
      exact nm_r (nI_1 L) (nm_r (nI_1 w) (ih (w + 1) (by omega) _ _ st))
    · refine g _ ?_
      refine br_t rfl ?_
      refine yu_unite hn hh (by omega) (Nat.le_refl _) ?_
      have st := yc_step (E := 1 + 4 * i + w) (a := i) (c := (xn a_length m)) hc (by rw [el, ej]; omega) (by omega) (Nat.le_refl _) ei (by rw [el, ej]; exact if_pos rfl)
      exact nm_r (nI_1 L) (nm_r (nI_1 w) (ih (w + 1) (by omega) _ _ st))
theorem yc_56 {m : Nat} {b : Nat → Int32} (hm : m < 4) (hn : (xn a_length m) ≤ 24) (h0 : 0 < (xn a_length m)) (C : (rc_code a_op a_opA a_opB a_opLine a_guards a_length a_handlers b_op b_a b_b b_line b_from b_to b_at b_length b_handlers)) {post : Int32 → SY → Prop} (K : ∀ x, post (nI (sn_N (pg_cn (ul a_length a_op a_opB m)) 97)) (g_depth, g_steps, g_result, g_outcome, g_load, g_over, b_op, b_a, b_b, b_line, b_length, b_from, b_to, b_at, b_handlers, b_begun, b_taken, b_thrown, b_rowI, b_rowWay, b_rowLength, b_times, b_told, b_kOp, b_kA, b_kB, b_kLine, b_kLength, b_kFrom, b_kTo, b_kAt, b_kHandlers, b_kBegun, b_kTaken, b_kThrown, b_kept, b_method, b_pc, b_variable, b_hereI, b_hereWay, b_hereLength, b_into, b_kLoad, x)) :
    ∀ d i, i + d = (xn a_length m) → ∀ h L, yc_ok (ul a_length a_op a_opB m) (xn a_length m) (1 + 4 * i) h L → (wY_counters_56 post (nI m) (nI (xn a_length m)) 0 (d + 1) (nI L) (nI i) g_depth g_steps g_result g_outcome g_load g_over b_op b_a b_b b_line b_length b_from b_to b_at b_handlers b_begun b_taken b_thrown b_rowI b_rowWay b_rowLength b_times b_told b_kOp b_kA b_kB b_kLine b_kLength b_kFrom b_kTo b_kAt b_kHandlers b_kBegun b_kTaken b_kThrown b_kept b_method b_pc b_variable b_hereI b_hereWay b_hereLength b_into b_kLoad (yp_f h (xn a_length m) b)) := by
  intro d
  induction d with
  | zero =>
    intro i hi h L hc
    obtain rfl : i = (xn a_length m) := by omega
    have hc' := yc_skip (E' := 97) hc (by omega) (fun e h1 h2 => by
      show ¬ pw_ld _ _ _ _ < 25
      unfold pw_ld
      rw [if_neg (by omega), if_neg (fun z => by have h4 : (e - 1) / 4 < (xn a_length m) := z.1; omega)]
      omega)
    refine br_t (nI_le (Nat.le_refl _) (by omega)) ⟨_, yc_140 hn (fun p hp => (hc.1.2 p hp).1) ?_ ((xn a_length m) + 1) 0 (by omega)⟩
    have e : (nI L - (nI (xn a_length m) + 1)) + nI (sn_N (pu_r h) ((xn a_length m) + 1)) = nI (sn_N (pg_cn (ul a_length a_op a_opB m)) 97) := by
      have h1 := hc'.2.1
      have h2 := hc'.2.2
      have h3 := pg_jcvs (ul a_length a_op a_opB m) 97
      have h4 : nI L + nI (sn_N (pu_r h) ((xn a_length m) + 1)) = nI (sn_N (pg_cn (ul a_length a_op a_opB m)) 97) + (nI (xn a_length m) + 1) := by
        rw [nI_add, nI_1, nI_add]
        exact congrArg nI (by omega)
      grind
    rw [e]
    exact K _
  | succ d ih =>
    intro i hi h L hc
    exact br_f (nI_ge (by omega) (by omega)) ⟨_, yc_65 hm hn h0 (by omega) C (fun h' L' hc' => ih (i + 1) (by omega) h' L' hc') (pw_ways (a_op (24 * m + i))) 0 (by omega) h L hc⟩
theorem yc_counters {m : Nat} (hm : m < 4) (hn : (xn a_length m) ≤ 24) (h0 : 0 < (xn a_length m)) (C : (rc_code a_op a_opA a_opB a_opLine a_guards a_length a_handlers b_op b_a b_b b_line b_from b_to b_at b_length b_handlers)) {post : Int32 → SY → Prop} (K : ∀ x, post (nI (sn_N (pg_cn (ul a_length a_op a_opB m)) 97)) (g_depth, g_steps, g_result, g_outcome, g_load, g_over, b_op, b_a, b_b, b_line, b_length, b_from, b_to, b_at, b_handlers, b_begun, b_taken, b_thrown, b_rowI, b_rowWay, b_rowLength, b_times, b_told, b_kOp, b_kA, b_kB, b_kLine, b_kLength, b_kFrom, b_kTo, b_kAt, b_kHandlers, b_kBegun, b_kTaken, b_kThrown, b_kept, b_method, b_pc, b_variable, b_hereI, b_hereWay, b_hereLength, b_into, b_kLoad, x)) :
    ∀ d k, k + d = (xn a_length m) + 1 → (wY_counters_25 post (nI m) (nI (xn a_length m)) 1 0 g_depth g_steps g_result g_outcome g_load g_over (d + 1) (nI k) b_op b_a b_b b_line b_length b_from b_to b_at b_handlers b_begun b_taken b_thrown b_rowI b_rowWay b_rowLength b_times b_told b_kOp b_kA b_kB b_kLine b_kLength b_kFrom b_kTo b_kAt b_kHandlers b_kBegun b_kTaken b_kThrown b_kept b_method b_pc b_variable b_hereI b_hereWay b_hereLength b_into b_kLoad (yp_i b_part k)) := by
  intro d
  induction d with
  | zero =>
    intro k hk
    obtain rfl : k = (xn a_length m) + 1 := by omega
    have e : yp_i b_part ((xn a_length m) + 1) = yp_f (fun p => p) (xn a_length m) b_part := by
      funext j
      unfold yp_i yp_f
      by_cases c : j ≤ (xn a_length m)
      · rw [if_pos c, if_pos (by omega)]
      · rw [if_neg c, if_neg (by omega)]
    rw [e]
    refine br_t (nI_lt (by omega) (by omega)) ?_
    refine yu_unite (h := fun p => p) (a := (xn a_length m)) (c := 0) hn (fun p hp => Nat.le_refl _) (Nat.le_refl _) (by omega) ⟨(xn a_length m) + 1, ?_⟩
    obtain ⟨u1, u2⟩ := pu_0 (ld := (ul a_length a_op a_opB m)) hn
    have c0 : yc_ok (ul a_length a_op a_opB m) (xn a_length m) 0 (fun p => p) 0 := ⟨u1, rfl, u2⟩
    have c1 := yc_step (a := (xn a_length m)) (c := 0) c0 (show pw_ld _ _ _ 0 < 25 by rw [pw_ld_0]; omega) (Nat.le_refl _) (by omega) (if_pos rfl) (by show (if 0 = (xn a_length m) then 24 else 0) = pw_ld _ _ _ 0; rw [pw_ld_0, if_neg (by omega)])
    exact yc_56 hm hn h0 C K (xn a_length m) 0 (by omega) _ _ c1
  | succ d ih =>
    intro k hk
    refine br_f (nI_nlt (by omega) (by omega)) ⟨pk_in k 25 (by omega), nm_r (e' := yp_i b_part (k + 1)) ?_ (nm_r (nI_1 k) (ih (k + 1) (by omega)))⟩
    rw [nI_clamp (by omega)]
    funext j
    unfold upd yp_i
    by_cases cj : j = k
    · rw [if_pos cj, if_pos (by omega), cj]
    · rw [if_neg cj]
      by_cases c2 : j < k
      · rw [if_pos c2, if_pos (by omega)]
      · rw [if_neg c2, if_neg (by omega)]
theorem yc_start {m : Nat} (hm : m < 4) (hn : (xn a_length m) ≤ 24) (h0 : 0 < (xn a_length m)) (C : (rc_code a_op a_opA a_opB a_opLine a_guards a_length a_handlers b_op b_a b_b b_line b_from b_to b_at b_length b_handlers)) {post : Int32 → SY → Prop} (K : ∀ x, post (nI (sn_N (pg_cn (ul a_length a_op a_opB m)) 97)) (g_depth, g_steps, g_result, g_outcome, g_load, g_over, b_op, b_a, b_b, b_line, b_length, b_from, b_to, b_at, b_handlers, b_begun, b_taken, b_thrown, b_rowI, b_rowWay, b_rowLength, b_times, b_told, b_kOp, b_kA, b_kB, b_kLine, b_kLength, b_kFrom, b_kTo, b_kAt, b_kHandlers, b_kBegun, b_kTaken, b_kThrown, b_kept, b_method, b_pc, b_variable, b_hereI, b_hereWay, b_hereLength, b_into, b_kLoad, x)) :
    (wY_counters_25 post (nI m) (nI (xn a_length m)) 1 0 g_depth g_steps g_result g_outcome g_load g_over ((xn a_length m) + 1 + 1) 0 b_op b_a b_b b_line b_length b_from b_to b_at b_handlers b_begun b_taken b_thrown b_rowI b_rowWay b_rowLength b_times b_told b_kOp b_kA b_kB b_kLine b_kLength b_kFrom b_kTo b_kAt b_kHandlers b_kBegun b_kTaken b_kThrown b_kept b_method b_pc b_variable b_hereI b_hereWay b_hereLength b_into b_kLoad b_part) := by
  have go := yc_counters (b_part := b_part) hm hn h0 C K ((xn a_length m) + 1) 0 (by omega)
  have e0 : yp_i b_part 0 = b_part := by
    funext j
    exact if_neg (by omega)
  rw [e0] at go
  exact go
end
theorem i_vc_counters {k : Nat} {u : SX} {v : SY} (I : i_Rel k u v) (hk : k + 5 ≤ 2560) (v1 : Int32) : wpX_counters (fun r => wpY_counters (fun r' v' => r' = r ∧ i_Rel (k + 5) u v') v v1) u v1 := by
  refine ze_el (P := fun u v => wpX_counters (fun r => wpY_counters (fun r' v' => r' = r ∧ i_Rel (k + 5) u v') v v1) u v1) ?_ I
  intro f_load f_depth f_begun f_outcome f_result g_depth g_steps g_result g_outcome g_load g_over a_op a_opA a_opB a_opLine a_length a_guards a_handlers a_kept a_keptLoad a_counter a_raised a_stopped a_caught a_unbegun a_leads a_counts a_adds a_goes a_needed a_known a_solved a_open a_unknown a_balance a_group a_first a_last a_sum a_often a_told a_method a_pc a_start a_here a_path a_coming a_variable b_op b_a b_b b_line b_length b_from b_to b_at b_handlers b_begun b_taken b_thrown b_rowI b_rowWay b_rowLength b_times b_told b_kOp b_kA b_kB b_kLine b_kLength b_kFrom b_kTo b_kAt b_kHandlers b_kBegun b_kTaken b_kThrown b_kept b_method b_pc b_variable b_hereI b_hereWay b_hereLength b_into b_kLoad b_part ent ek C hK hP hD hL hF hS hN hl hv hr
  have R : i_Rel (k + 5) (f_load, f_depth, f_begun, f_outcome, f_result, a_op, a_opA, a_opB, a_opLine, a_length, a_guards, a_handlers, a_kept, a_keptLoad, a_counter, a_raised, a_stopped, a_caught, a_unbegun, a_leads, a_counts, a_adds, a_goes, a_needed, a_known, a_solved, a_open, a_unknown, a_balance, a_group, a_first, a_last, a_sum, a_often, a_told, a_method, a_pc, a_start, a_here, a_path, a_coming, a_variable) (g_depth, g_steps, g_result, g_outcome, g_load, g_over, b_op, b_a, b_b, b_line, b_length, b_from, b_to, b_at, b_handlers, b_begun, b_taken, b_thrown, b_rowI, b_rowWay, b_rowLength, b_times, b_told, b_kOp, b_kA, b_kB, b_kLine, b_kLength, b_kFrom, b_kTo, b_kAt, b_kHandlers, b_kBegun, b_kTaken, b_kThrown, b_kept, b_method, b_pc, b_variable, b_hereI, b_hereWay, b_hereLength, b_into, b_kLoad, b_part) := ze_mk C hK hP hD hL hF hS hN hl hv hr
  unfold wpX_counters
  rcases qb_there C v1 with ⟨m, hm, rfl, z, h1, h2⟩ | ⟨h1, h2⟩
  · refine h1 _ ?_
    refine br_f (by decide) ⟨pk_in m 4 (by omega), ?_⟩
    obtain ⟨l1, l2, e3⟩ := rc_len C (r := m) (by omega)
    unfold wpY_counters
    refine h2 _ ?_
    refine br_f (by decide) ⟨pk_in m 5 (by omega), nm_r (e' := nI (xn a_length m)) (qa_r m rfl l2) ?_⟩
    refine ⟨_, yc_start hm e3 z C (fun x => ⟨?_, ze_mk C hK hP hD hL hF hS hN hl hv hr⟩)⟩
    rw [nI_clamp (by omega)]
    exact (hP m hm z).2.2.1.symm
  · refine h1 _ ?_
    refine br_t rfl ?_
    unfold wpY_counters
    refine h2 _ ?_
    exact br_t rfl ⟨rfl, R⟩
end
section
/-! owed: stretch -/
section
variable {f_load : Int32} {f_depth : Int32} {f_begun : Int32} {f_outcome : Int32} {f_result : Int32} {a_op : (Nat → Int32)} {a_opA : (Nat → Int32)} {a_opB : (Nat → Int32)} {a_opLine : (Nat → Int32)} {a_length : (Nat → Int32)} {a_guards : (Nat → Int32)} {a_handlers : (Nat → Int32)} {a_kept : (Nat → Int32)} {a_keptLoad : (Nat → Int32)} {a_counter : (Nat → Int32)} {a_raised : (Nat → Int32)} {a_stopped : (Nat → Int32)} {a_caught : (Nat → Int32)} {a_unbegun : (Nat → Int32)} {a_leads : (Nat → Int32)} {a_counts : (Nat → Int32)} {a_adds : (Nat → Int64)} {a_goes : (Nat → Int64)} {a_needed : (Nat → Int32)} {a_known : (Nat → Int32)} {a_solved : (Nat → Int32)} {a_open : (Nat → Int32)} {a_unknown : (Nat → Int32)} {a_balance : (Nat → Int32)} {a_group : (Nat → Int32)} {a_first : (Nat → Int32)} {a_last : (Nat → Int32)} {a_sum : (Nat → Int64)} {a_often : (Nat → Int32)} {a_told : (Nat → Int32)} {a_method : (Nat → Int32)} {a_pc : (Nat → Int32)} {a_start : (Nat → Int32)} {a_here : (Nat → Int32)} {a_path : (Nat → Int64)} {a_coming : (Nat → Int64)} {a_variable : (Nat → Int32)} {g_depth : Int32} {g_steps : Int32} {g_result : Int32} {g_outcome : Int32} {g_load : Int32} {g_over : Int32} {b_op : (Nat → Int32)} {b_a : (Nat → Int32)} {b_b : (Nat → Int32)} {b_line : (Nat → Int32)} {b_length : (Nat → Int32)} {b_from : (Nat → Int32)} {b_to : (Nat → Int32)} {b_at : (Nat → Int32)} {b_handlers : (Nat → Int32)} {b_begun : (Nat → Int32)} {b_taken : (Nat → Int32)} {b_thrown : (Nat → Int32)} {b_rowI : (Nat → Int32)} {b_rowWay : (Nat → Int32)} {b_rowLength : (Nat → Int32)} {b_times : (Nat → Int32)} {b_told : (Nat → Int32)} {b_kOp : (Nat → Int32)} {b_kA : (Nat → Int32)} {b_kB : (Nat → Int32)} {b_kLine : (Nat → Int32)} {b_kLength : (Nat → Int32)} {b_kFrom : (Nat → Int32)} {b_kTo : (Nat → Int32)} {b_kAt : (Nat → Int32)} {b_kHandlers : (Nat → Int32)} {b_kBegun : (Nat → Int32)} {b_kTaken : (Nat → Int32)} {b_kThrown : (Nat → Int32)} {b_kept : (Nat → Int32)} {b_method : (Nat → Int32)} {b_pc : (Nat → Int32)} {b_variable : (Nat → Int32)} {b_hereI : (Nat → Int32)} {b_hereWay : (Nat → Int32)} {b_hereLength : (Nat → Int32)} {b_into : (Nat → Int32)} {b_kLoad : (Nat → Int32)} {b_part : (Nat → Int32)}
/-- back to the way -/
theorem xz_45 {m i w : Nat} {x2 x3 : Int32} {rest t : Nat} {az : Nat → Nat → Nat} {gz : Nat → Nat} (hm : m < 4) (hi : i < 24) (hw : w < 4) (hl : ∀ e, e < 97 → a_leads (97 * m + e) = xp_I (ul a_length a_op a_opB m) e) (ha : ∀ k, k < 4 → a_adds (97 * m + (1 + 4 * i + k)) = lN (az i k) ∧ az i k ≤ 2 ^ 48)
    (h3 : ∀ k k', k < k' → k' < 4 → pt_fw (ul a_length a_op a_opB m) i k → az i k + gz ((ul a_length a_op a_opB m) (1 + 4 * i + k)) ≤ az i k') (hr : rest < 2 ^ 62) (et : (ul a_length a_op a_opB m) (1 + 4 * i + w) = t) (hit : i < t) (ht : t < 24) (hle : az i w ≤ rest) (hlt : rest < az i w + gz t)
    {post : Int32 → Prop} {J : Int32 → Int32 → Int64 → Prop} (K : J (x3 + 1) (nI t) (lN (rest - az i w))) :
    ∀ d, w + 1 + d ≤ 4 → (wX_size_45 post J (nI m) x2 x3 (nI i) (lN rest) (nI (97 * m + (1 + 4 * i))) f_load f_depth f_begun f_outcome f_result a_op a_opA a_opB a_opLine a_length a_guards a_handlers a_kept a_keptLoad a_counter a_raised a_stopped a_caught a_unbegun a_leads a_counts a_adds a_goes a_needed a_known a_solved a_open a_unknown a_balance a_group a_first a_last a_sum a_often a_told a_method a_pc a_start a_here a_path a_coming a_variable (d + 1) (nI (w + 1 + d))) := by
  have ix : ∀ k, nI (97 * m + (1 + 4 * i)) + nI k = nI (97 * m + (1 + 4 * i + k)) := fun k => by
    rw [nI_add]; exact congrArg nI (by omega)
  have iv : ∀ k, k < 4 → vp_in (nI (97 * m + (1 + 4 * i)) + nI k) 388 := fun k hk => pk_in (97 * m + (1 + 4 * i + k)) 388 (by omega) (ix k)
  have rl : ∀ k, k < 4 → a_leads (nI (97 * m + (1 + 4 * i)) + nI k).toNatClampNeg = xp_I (ul a_length a_op a_opB m) (1 + 4 * i + k) := fun k hk => qa_r _ (ix k) (hl _ (by omega))
  have ra : ∀ k, k < 4 → a_adds (nI (97 * m + (1 + 4 * i)) + nI k).toNatClampNeg = lN (az i k) := fun k hk => qa_r _ (ix k) (ha k hk).1
  intro d
  induction d with
  | zero =>
    intro hd
    have rlw : a_leads (nI (97 * m + (1 + 4 * i)) + nI w).toNatClampNeg = nI t := (rl w hw).trans (by unfold xp_I; rw [et, if_pos (by omega)])
    have aw := (ha w hw).2
    refine nm_r (e' := nI w) (pk_m1 w) ⟨iv w hw, br_f (by rw [rlw]; exact nI_ge hit (by omega)) ⟨iv w hw, br_f (by rw [rlw]; exact fun z => by have := (nI_eq (b := 24) (by omega) (by omega)).mp z; omega) ⟨iv w hw, br_f (by rw [ra w hw, pk_lLT (by omega) (by omega)]; omega) ⟨iv w hw, nm_r (e' := lN (rest - az i w)) (by rw [ra w hw]; exact lN_sub hle) ⟨iv w hw, nm_r rlw (nm_e K)⟩⟩⟩⟩⟩
  | succ d ih =>
    intro hd
    have h := ih (by omega)
    have hk : w + 1 + d < 4 := by omega
    have ak := (ha (w + 1 + d) hk).2
    refine nm_r (e' := nI (w + 1 + d)) (pk_m1 (w + 1 + d)) ⟨iv _ hk, ?_⟩
    by_cases c1 : (ul a_length a_op a_opB m) (1 + 4 * i + (w + 1 + d)) < 25
    · have rlk : a_leads (nI (97 * m + (1 + 4 * i)) + nI (w + 1 + d)).toNatClampNeg = nI ((ul a_length a_op a_opB m) (1 + 4 * i + (w + 1 + d))) := (rl _ hk).trans (if_pos c1)
      by_cases c2 : (ul a_length a_op a_opB m) (1 + 4 * i + (w + 1 + d)) ≤ i
      · exact br_t (by rw [rlk]; exact nI_le c2 (by omega)) h
      · refine br_f (by rw [rlk]; exact nI_ge (by omega) (by omega)) ⟨iv _ hk, ?_⟩
        by_cases c3 : (ul a_length a_op a_opB m) (1 + 4 * i + (w + 1 + d)) = 24
        · exact br_t (by rw [rlk, c3]; rfl) h
        · refine br_f (by rw [rlk]; exact fun z => c3 ((nI_eq (b := 24) (by omega) (by omega)).mp z)) ⟨iv _ hk, br_t ?_ h⟩
          have q := h3 w (w + 1 + d) (by omega) hk ⟨by rw [et]; exact hit, by rw [et]; exact ht⟩
          rw [et] at q
          rw [ra _ hk, pk_lLT (by omega) (by omega)]
          omega
    · have rlk : a_leads (nI (97 * m + (1 + 4 * i)) + nI (w + 1 + d)).toNatClampNeg = -1 := (rl _ hk).trans (if_neg c1)
      exact br_t (by rw [rlk]; exact Int32.le_trans (show (-1 : Int32) ≤ 0 by decide) (nI_pos' (by omega))) h
theorem xz_18 {m s D : Nat} {p w : Nat → Nat} {az : Nat → Nat → Nat} {gz : Nat → Nat} (hm : m < 4) (hs : s < 160) (hn : (xn a_length m) ≤ 24) (hl : ∀ e, e < 97 → a_leads (97 * m + e) = xp_I (ul a_length a_op a_opB m) e) (ha : ∀ i k, i < (xn a_length m) → k < 4 → a_adds (97 * m + (1 + 4 * i + k)) = lN (az i k) ∧ az i k ≤ 2 ^ 48)
    (hg : pt_ok (ul a_length a_op a_opB m) (xn a_length m) gz az) (hg2 : ∀ i, i < (xn a_length m) → gz i ≤ 2 ^ 48) (hp : pt_path (ul a_length a_op a_opB m) (xn a_length m) p w D) (hla : a_last s = nI (p D)) {post : Int32 → Prop} (K : post (nI (D + 1))) :
    ∀ d j, j + d = D → (wX_size_18 post (nI m) (nI s) f_load f_depth f_begun f_outcome f_result a_op a_opA a_opB a_opLine a_length a_guards a_handlers a_kept a_keptLoad a_counter a_raised a_stopped a_caught a_unbegun a_leads a_counts a_adds a_goes a_needed a_known a_solved a_open a_unknown a_balance a_group a_first a_last a_sum a_often a_told a_method a_pc a_start a_here a_path a_coming a_variable (d + 1) (nI (j + 1)) (nI (p j)) (lN (pt_sm az p w D - pt_sm az p w j))) := by
  have is : vp_in (nI s) 160 := pk_in s 160 hs
  have rla : a_last (nI s).toNatClampNeg = nI (p D) := qa_r s rfl hla
  have hD := pt_len hn hp
  intro d
  induction d with
  | zero =>
    intro j hj
    obtain rfl : j = D := by omega
    exact ⟨is, br_t rla.symm K⟩
  | succ d ih =>
    intro j hj
    have h := ih (j + 1) (by omega)
    have q0 := hp.2.1 j (by omega)
    have q1 := hp.2.1 (j + 1) (by omega)
    have q2 := hp.2.2 j (by omega)
    have qD := hp.2.1 D (Nat.le_refl _)
    have inc := pt_inc hp (D - j) j (by omega)
    rw [show j + (D - j) = D by omega] at inc
    have r0 := pt_rest hn hg hp (D - j) (by omega)
    rw [show D - (D - j) = j by omega] at r0
    have r1 := pt_rest hn hg hp (D - (j + 1)) (by omega)
    rw [show D - (D - (j + 1)) = j + 1 by omega] at r1
    have m1 := pt_sm_mono az p w (j + 1) (D - (j + 1))
    rw [show j + 1 + (D - (j + 1)) = D by omega] at m1
    have s1 : pt_sm az p w (j + 1) = pt_sm az p w j + az (p j) (w (j + 1)) := rfl
    have g0 := hg2 (p j) q0.1
    have e : pt_sm az p w D - pt_sm az p w j - az (p j) (w (j + 1)) = pt_sm az p w D - pt_sm az p w (j + 1) := by omega
    rw [← e, ← nI_1 (j + 1)] at h
    have go := xz_45 (f_load := f_load) (f_depth := f_depth) (f_begun := f_begun) (f_outcome := f_outcome) (f_result := f_result) (a_op := a_op) (a_opA := a_opA) (a_opB := a_opB) (a_opLine := a_opLine) (a_length := a_length) (a_guards := a_guards) (a_handlers := a_handlers) (a_kept := a_kept) (a_keptLoad := a_keptLoad) (a_counter := a_counter) (a_raised := a_raised) (a_stopped := a_stopped) (a_caught := a_caught) (a_unbegun := a_unbegun) (a_leads := a_leads) (a_counts := a_counts) (a_adds := a_adds) (a_goes := a_goes) (a_needed := a_needed) (a_known := a_known) (a_solved := a_solved) (a_open := a_open) (a_unknown := a_unknown) (a_balance := a_balance) (a_group := a_group) (a_first := a_first) (a_last := a_last) (a_sum := a_sum) (a_often := a_often) (a_told := a_told) (a_method := a_method) (a_pc := a_pc) (a_start := a_start) (a_here := a_here) (a_path := a_path) (a_coming := a_coming) (a_variable := a_variable) (post := post) (x2 := nI s) hm (show p j < 24 by omega) q1.2 hl (fun k hk => ha (p j) k q0.1 hk) (hg (p j) q0.1).2.2 (rest := pt_sm az p w D - pt_sm az p w j) (by omega) q2.2 q2.1 (by omega) (by omega) (by omega) h (3 - w (j + 1)) (by omega)
    rw [show w (j + 1) + 1 + (3 - w (j + 1)) = 4 by omega] at go
    exact ⟨is, br_f (by rw [rla]; exact fun z => by have := (nI_eq (by omega) (by omega)).mp z; omega) (nm_r (qa_e0 m (p j)) ⟨_, go⟩)⟩
end
theorem i_vc_stretch {k : Nat} {u : SX} {v : SY} (I : i_Rel k u v) (hk : k + 5 ≤ 2560) (v1 : Int32) (v2 : Int32) (v3 : Int32) : wpX_stretch (fun r => wpY_stretch (fun r' => r' = r ∧ i_Rel (k + 5) u v) v v1 v2 v3) u v1 v2 v3 := by
  refine ze_el (P := fun u v => wpX_stretch (fun r => wpY_stretch (fun r' => r' = r ∧ i_Rel (k + 5) u v) v v1 v2 v3) u v1 v2 v3) ?_ I
  intro f_load f_depth f_begun f_outcome f_result g_depth g_steps g_result g_outcome g_load g_over a_op a_opA a_opB a_opLine a_length a_guards a_handlers a_kept a_keptLoad a_counter a_raised a_stopped a_caught a_unbegun a_leads a_counts a_adds a_goes a_needed a_known a_solved a_open a_unknown a_balance a_group a_first a_last a_sum a_often a_told a_method a_pc a_start a_here a_path a_coming a_variable b_op b_a b_b b_line b_length b_from b_to b_at b_handlers b_begun b_taken b_thrown b_rowI b_rowWay b_rowLength b_times b_told b_kOp b_kA b_kB b_kLine b_kLength b_kFrom b_kTo b_kAt b_kHandlers b_kBegun b_kTaken b_kThrown b_kept b_method b_pc b_variable b_hereI b_hereWay b_hereLength b_into b_kLoad b_part ent ek C hK hP hD hL hF hS hN hl hv hr
  have R : i_Rel (k + 5) (f_load, f_depth, f_begun, f_outcome, f_result, a_op, a_opA, a_opB, a_opLine, a_length, a_guards, a_handlers, a_kept, a_keptLoad, a_counter, a_raised, a_stopped, a_caught, a_unbegun, a_leads, a_counts, a_adds, a_goes, a_needed, a_known, a_solved, a_open, a_unknown, a_balance, a_group, a_first, a_last, a_sum, a_often, a_told, a_method, a_pc, a_start, a_here, a_path, a_coming, a_variable) (g_depth, g_steps, g_result, g_outcome, g_load, g_over, b_op, b_a, b_b, b_line, b_length, b_from, b_to, b_at, b_handlers, b_begun, b_taken, b_thrown, b_rowI, b_rowWay, b_rowLength, b_times, b_told, b_kOp, b_kA, b_kB, b_kLine, b_kLength, b_kFrom, b_kTo, b_kAt, b_kHandlers, b_kBegun, b_kTaken, b_kThrown, b_kept, b_method, b_pc, b_variable, b_hereI, b_hereWay, b_hereLength, b_into, b_kLoad, b_part) := ze_mk C hK hP hD hL hF hS hN hl hv hr
  unfold wpX_stretch
  rcases qb_there C v1 with ⟨m, hm, rfl, z, h1, h2⟩ | ⟨h1, h2⟩
  · refine h1 _ ?_
    refine br_f (by decide) ⟨pk_in m 4 (by omega), ?_⟩
    have e3 := (rc_len C (r := m) (by omega)).2.2
    obtain ⟨T, hT, t1, t2, hs⟩ := hS m hm z
    have rt1 : a_told (nI m).toNatClampNeg = nI T := qa_r m rfl t1
    have rt2 : b_told (nI m).toNatClampNeg = nI T := qa_r m rfl t2
    rw [rt1]
    rcases qb_no (x := v2) (l := nI T) T rfl (by omega) with ⟨s, hsT, rfl, a1, a2⟩ | ⟨a1, a2⟩
    · refine a1 _ ?_
      refine br_t rfl (nm_r (qa_40 m s) ?_)
      have i1 : vp_in (nI (40 * m + s)) 160 := pk_in (40 * m + s) 160 (by omega)
      obtain ⟨eo, D, p, w, pa⟩ := hs s hsT
      obtain ⟨hp, pl, pi, pf, ph, psm⟩ := pa
      have hD := pt_len e3 hp
      have r1 : ∀ f : Nat → Int32, f (nI (40 * m + s)).toNatClampNeg = f (40 * m + s) := fun f => qa_rr _ rfl
      rcases qb_no (x := v3) (l := 4) 4 rfl (by decide) with ⟨w3, hw3, rfl, b1, b2⟩ | ⟨b1, b2⟩
      · have n0 : ¬ nI w3 < 0 := nI_pos (by omega)
        have n3 : ¬ (3 : Int32) < nI w3 := nI_nlt (b := w3) (a := 3) (by omega) (by decide)
        refine br_f n0 (br_f n3 ?_)
        have c4 : w3 = 0 ∨ w3 = 1 ∨ w3 = 2 ∨ w3 = 3 := by omega
        rcases c4 with rfl | rfl | rfl | rfl
        · refine br_t rfl ⟨i1, ?_⟩
          (unfold wpY_stretch; refine h2 _ ?_; refine br_f (by decide) ⟨pk_in m 4 (by omega), ?_⟩; rw [rt2]; refine a2 _ ?_; refine br_f (by decide) ?_)
          refine b2 _ ?_
          refine br_f (by decide) (nm_r (qa_40 m s) (br_t rfl ⟨i1, ?_, R⟩))
          rw [r1 b_times, r1 a_often]; exact eo.symm
        · refine br_f (by decide) (br_t rfl ?_)
          obtain ⟨p1, _, _, gz, az, g1, g2, g3⟩ := hP m hm z
          refine ⟨i1, nm_r (e' := nI (p 0)) (qa_r _ rfl pf) ⟨i1, nm_r (e' := lN (pt_sm az p w D)) (qa_r _ rfl (psm.trans (pt_sL_eq (fun i k hi hk => (g3 i k hi hk).1) D hp.2.1))) ⟨_, xz_18 hm (by omega) e3 p1 g3 g1 g2 hp ph ?_ D 0 (by omega)⟩⟩⟩
          (unfold wpY_stretch; refine h2 _ ?_; refine br_f (by decide) ⟨pk_in m 4 (by omega), ?_⟩; rw [rt2]; refine a2 _ ?_; refine br_f (by decide) ?_)
          refine b2 _ ?_
          refine br_f (by decide) (nm_r (qa_40 m s) (br_f (by decide) (br_t rfl ⟨i1, ?_, R⟩)))
          rw [r1 b_rowLength]; exact pl
        · refine br_f (by decide) (br_f (by decide) (br_t rfl ⟨i1, ?_⟩))
          (unfold wpY_stretch; refine h2 _ ?_; refine br_f (by decide) ⟨pk_in m 4 (by omega), ?_⟩; rw [rt2]; refine a2 _ ?_; refine br_f (by decide) ?_)
          refine b2 _ ?_
          refine br_f (by decide) (nm_r (qa_40 m s) (br_f (by decide) (br_f (by decide) (br_t rfl ⟨pk_in (24 * (40 * m + s)) 3840 (by omega) (qa_m24 _), ?_, R⟩))))
          rw [r1 a_first, qa_m24, nI_clamp (by omega)]
          exact ((pi 0 (by omega)).1).trans pf.symm
        · refine br_f (by decide) (br_f (by decide) (br_f (by decide) (br_t rfl ⟨i1, ?_⟩)))
          (unfold wpY_stretch; refine h2 _ ?_; refine br_f (by decide) ⟨pk_in m 4 (by omega), ?_⟩; rw [rt2]; refine a2 _ ?_; refine br_f (by decide) ?_)
          refine b2 _ ?_
          have ee : (24 * nI (40 * m + s)) + (b_rowLength (nI (40 * m + s)).toNatClampNeg) - 1 = nI (24 * (40 * m + s) + D) := by
            rw [r1 b_rowLength, pl, qa_24, show 24 * (40 * m + s) + (D + 1) = (24 * (40 * m + s) + D) + 1 by omega, nI_pred]
          refine br_f (by decide) (nm_r (qa_40 m s) (br_f (by decide) (br_f (by decide) (br_f (by decide) ⟨i1, pk_in (24 * (40 * m + s) + D) 3840 (by omega) ee, ?_, R⟩))))
          rw [r1 a_last, ee, nI_clamp (by omega)]
          exact ((pi D (by omega)).1).trans ph.symm
      · have goB : (wpY_stretch (fun r' => r' = -1 ∧ i_Rel (k + 5) (f_load, f_depth, f_begun, f_outcome, f_result, a_op, a_opA, a_opB, a_opLine, a_length, a_guards, a_handlers, a_kept, a_keptLoad, a_counter, a_raised, a_stopped, a_caught, a_unbegun, a_leads, a_counts, a_adds, a_goes, a_needed, a_known, a_solved, a_open, a_unknown, a_balance, a_group, a_first, a_last, a_sum, a_often, a_told, a_method, a_pc, a_start, a_here, a_path, a_coming, a_variable) (g_depth, g_steps, g_result, g_outcome, g_load, g_over, b_op, b_a, b_b, b_line, b_length, b_from, b_to, b_at, b_handlers, b_begun, b_taken, b_thrown, b_rowI, b_rowWay, b_rowLength, b_times, b_told, b_kOp, b_kA, b_kB, b_kLine, b_kLength, b_kFrom, b_kTo, b_kAt, b_kHandlers, b_kBegun, b_kTaken, b_kThrown, b_kept, b_method, b_pc, b_variable, b_hereI, b_hereWay, b_hereLength, b_into, b_kLoad, b_part)) (g_depth, g_steps, g_result, g_outcome, g_load, g_over, b_op, b_a, b_b, b_line, b_length, b_from, b_to, b_at, b_handlers, b_begun, b_taken, b_thrown, b_rowI, b_rowWay, b_rowLength, b_times, b_told, b_kOp, b_kA, b_kB, b_kLine, b_kLength, b_kFrom, b_kTo, b_kAt, b_kHandlers, b_kBegun, b_kTaken, b_kThrown, b_kept, b_method, b_pc, b_variable, b_hereI, b_hereWay, b_hereLength, b_into, b_kLoad, b_part) (nI m) (nI s) v3) := by
          (unfold wpY_stretch; refine h2 _ ?_; refine br_f (by decide) ⟨pk_in m 4 (by omega), ?_⟩; rw [rt2]; refine a2 _ ?_; refine br_f (by decide) ?_)
          refine b2 _ ?_
          exact br_t rfl ⟨rfl, R⟩
        by_cases n0 : v3 < 0
        · exact br_t n0 goB
        · refine br_f n0 ?_
          by_cases n3 : (3 : Int32) < v3
          · exact br_t n3 goB
          · exfalso
            obtain ⟨j, hj, rfl⟩ := nI_of n0
            have hj4 : j < 4 := by
              apply Classical.byContradiction
              intro hc
              exact n3 (nI_lt (a := 3) (by omega) (by omega))
            have q := b2 (fun r => r = 0) rfl
            have q2 := (q.2 (nI_pos (by omega))).2 (nI_ge (b := 4) hj4 (by decide))
            exact absurd q2 (by decide)
    · refine a1 _ ?_
      refine br_f (by decide) ?_
      unfold wpY_stretch
      refine h2 _ ?_
      refine br_f (by decide) ⟨pk_in m 4 (by omega), ?_⟩
      rw [rt2]
      refine a2 _ ?_
      exact br_t rfl ⟨rfl, R⟩
  · refine h1 _ ?_
    refine br_t rfl ?_
    unfold wpY_stretch
    refine h2 _ ?_
    exact br_t rfl ⟨rfl, R⟩
end
section
/-! owed: keep -/
theorem cz_at {f : Nat → Int32} {s t k j x : Nat} (h1 : t ≤ j) (h2 : j < t + k) (e : j - t + s = x) : cz_c f s t k j = f x := by
  unfold cz_c
  rw [if_pos ⟨h1, h2⟩, e]
/-- one more piece behind those that were copied -/
theorem ce_cat {f : Nat → Int32} {T p N t2 q : Nat} (h : p + N ≤ T) (e : t2 = T + p) (eq : q = p + N) : cz_c (cz_c f 0 T p) p t2 N = cz_c f 0 T q := by
  subst e eq
  funext j
  unfold cz_c
  by_cases c1 : T + p ≤ j ∧ j < T + p + N
  · rw [if_pos c1, if_neg (by omega), if_pos (by omega)]
    exact congrArg f (by omega)
  · rw [if_neg c1]
    by_cases c2 : T ≤ j ∧ j < T + p
    · rw [if_pos c2, if_pos (by omega)]
    · rw [if_neg c2, if_neg (by omega)]
theorem ce_one {f : Nat → Int32} {T k : Nat} (h : k < T) : upd (cz_c f 0 T k) (T + k) (cz_c f 0 T k k) = cz_c f 0 T (k + 1) := by
  refine cz_c_s (K := k + 1) (by omega) (by omega) ?_
  rw [cz_c_out (by omega), Nat.zero_add]
section
variable {f_load : Int32} {f_depth : Int32} {f_begun : Int32} {f_outcome : Int32} {f_result : Int32} {a_op : (Nat → Int32)} {a_opA : (Nat → Int32)} {a_opB : (Nat → Int32)} {a_opLine : (Nat → Int32)} {a_length : (Nat → Int32)} {a_guards : (Nat → Int32)} {a_handlers : (Nat → Int32)} {a_kept : (Nat → Int32)} {a_keptLoad : (Nat → Int32)} {a_counter : (Nat → Int32)} {a_raised : (Nat → Int32)} {a_stopped : (Nat → Int32)} {a_caught : (Nat → Int32)} {a_unbegun : (Nat → Int32)} {a_leads : (Nat → Int32)} {a_counts : (Nat → Int32)} {a_adds : (Nat → Int64)} {a_goes : (Nat → Int64)} {a_needed : (Nat → Int32)} {a_known : (Nat → Int32)} {a_solved : (Nat → Int32)} {a_open : (Nat → Int32)} {a_unknown : (Nat → Int32)} {a_balance : (Nat → Int32)} {a_group : (Nat → Int32)} {a_first : (Nat → Int32)} {a_last : (Nat → Int32)} {a_sum : (Nat → Int64)} {a_often : (Nat → Int32)} {a_told : (Nat → Int32)} {a_method : (Nat → Int32)} {a_pc : (Nat → Int32)} {a_start : (Nat → Int32)} {a_here : (Nat → Int32)} {a_path : (Nat → Int64)} {a_coming : (Nat → Int64)} {a_variable : (Nat → Int32)} {g_depth : Int32} {g_steps : Int32} {g_result : Int32} {g_outcome : Int32} {g_load : Int32} {g_over : Int32} {b_op : (Nat → Int32)} {b_a : (Nat → Int32)} {b_b : (Nat → Int32)} {b_line : (Nat → Int32)} {b_length : (Nat → Int32)} {b_from : (Nat → Int32)} {b_to : (Nat → Int32)} {b_at : (Nat → Int32)} {b_handlers : (Nat → Int32)} {b_begun : (Nat → Int32)} {b_taken : (Nat → Int32)} {b_thrown : (Nat → Int32)} {b_rowI : (Nat → Int32)} {b_rowWay : (Nat → Int32)} {b_rowLength : (Nat → Int32)} {b_times : (Nat → Int32)} {b_told : (Nat → Int32)} {b_kOp : (Nat → Int32)} {b_kA : (Nat → Int32)} {b_kB : (Nat → Int32)} {b_kLine : (Nat → Int32)} {b_kLength : (Nat → Int32)} {b_kFrom : (Nat → Int32)} {b_kTo : (Nat → Int32)} {b_kAt : (Nat → Int32)} {b_kHandlers : (Nat → Int32)} {b_kBegun : (Nat → Int32)} {b_kTaken : (Nat → Int32)} {b_kThrown : (Nat → Int32)} {b_kept : (Nat → Int32)} {b_method : (Nat → Int32)} {b_pc : (Nat → Int32)} {b_variable : (Nat → Int32)} {b_hereI : (Nat → Int32)} {b_hereWay : (Nat → Int32)} {b_hereLength : (Nat → Int32)} {b_into : (Nat → Int32)} {b_kLoad : (Nat → Int32)} {b_part : (Nat → Int32)}
theorem xe_29 {s : Nat} (hs : s < 3) (C : (rc_code a_op a_opA a_opB a_opLine a_guards a_length a_handlers b_op b_a b_b b_line b_from b_to b_at b_length b_handlers)) {post : Int32 → SX → Prop} (K : post 1 (f_load, f_depth, f_begun, f_outcome, f_result, (cz_c a_op 0 (24 * (5 + 4 * s)) (24 * 4)), (cz_c a_opA 0 (24 * (5 + 4 * s)) (24 * 4)), (cz_c a_opB 0 (24 * (5 + 4 * s)) (24 * 4)), (cz_c a_opLine 0 (24 * (5 + 4 * s)) (24 * 4)), (cz_c a_length 0 (5 + 4 * s) 4), (cz_c a_guards 0 (3 * (5 + 4 * s)) (3 * 4)), (cz_c a_handlers 0 (5 + 4 * s) 4), a_kept, a_keptLoad, (cz_c a_counter 0 (97 * (5 + 4 * s)) (97 * 4)), (cz_c a_raised 0 (24 * (5 + 4 * s)) (24 * 4)), (cz_c a_stopped 0 (24 * (5 + 4 * s)) (24 * 4)), (cz_c a_caught 0 (24 * (5 + 4 * s)) (24 * 4)), (cz_c a_unbegun 0 (24 * (5 + 4 * s)) (24 * 4)), a_leads, a_counts, a_adds, a_goes, a_needed, a_known, a_solved, a_open, a_unknown, a_balance, a_group, a_first, a_last, a_sum, a_often, a_told, a_method, a_pc, a_start, a_here, a_path, a_coming, a_variable)) :
    ∀ d k, k + d = 4 → (wX_keep_29 post (nI s) (d + 1) (nI k) f_load f_depth f_begun f_outcome f_result (cz_c a_op 0 (24 * (5 + 4 * s)) (24 * k)) (cz_c a_opA 0 (24 * (5 + 4 * s)) (24 * k)) (cz_c a_opB 0 (24 * (5 + 4 * s)) (24 * k)) (cz_c a_opLine 0 (24 * (5 + 4 * s)) (24 * k)) (cz_c a_length 0 (5 + 4 * s) k) (cz_c a_guards 0 (3 * (5 + 4 * s)) (3 * k)) (cz_c a_handlers 0 (5 + 4 * s) k) a_kept a_keptLoad (cz_c a_counter 0 (97 * (5 + 4 * s)) (97 * k)) (cz_c a_raised 0 (24 * (5 + 4 * s)) (24 * k)) (cz_c a_stopped 0 (24 * (5 + 4 * s)) (24 * k)) (cz_c a_caught 0 (24 * (5 + 4 * s)) (24 * k)) (cz_c a_unbegun 0 (24 * (5 + 4 * s)) (24 * k)) a_leads a_counts a_adds a_goes a_needed a_known a_solved a_open a_unknown a_balance a_group a_first a_last a_sum a_often a_told a_method a_pc a_start a_here a_path a_coming a_variable) := by
  intro d
  induction d with
  | zero =>
    intro k hk
    obtain rfl : k = 4 := by omega
    exact br_t (nI_le (b := 4) (Nat.le_refl 4) (by decide)) K
  | succ d ih =>
    intro k hk
    have h := ih (k + 1) (by omega)
    obtain ⟨⟨n, hn, l1, _⟩, ⟨hh, hhn, g1, _⟩, hi, hg⟩ := C k (by omega)
    have ei : (5 + 4 * nI s) + nI k = nI ((5 + 4 * s) + k) := by
      rw [qa_m4, show (5 : Int32) + nI (4 * s) = nI (5 + 4 * s) from nI_add 5 (4 * s), nI_add]
    have o1 : ∀ f : Nat → Int32, cz_c f 0 (5 + 4 * s) k k = f k := fun f => cz_c_out (by omega)
    have o2 : ∀ (f : Nat → Int32) (i : Nat), i < 24 → cz_c f 0 (24 * (5 + 4 * s)) (24 * k) (24 * k + i) = f (24 * k + i) := fun f i hi => cz_c_out (by omega)
    have o3 : ∀ (f : Nat → Int32) (i : Nat), i < 3 → cz_c f 0 (3 * (5 + 4 * s)) (3 * k) (3 * k + i) = f (3 * k + i) := fun f i hi => cz_c_out (by omega)
    have b0 : vp_nar .byte (cz_c a_length 0 (5 + 4 * s) k k) = cz_c a_length 0 (5 + 4 * s) k k := by rw [o1, l1]; exact qa_b (by omega)
    have b1 : vp_nar .byte (cz_c a_handlers 0 (5 + 4 * s) k k) = cz_c a_handlers 0 (5 + 4 * s) k k := by rw [o1, g1]; exact qa_b (by omega)
    have b2 : xk_byte (cz_c a_op 0 (24 * (5 + 4 * s)) (24 * k)) k := fun i h => by
      obtain ⟨o, ho, e, _⟩ := (hi i h).1
      rw [o2 _ i h, show a_op (24 * k + i) = nI o from e]; exact qa_b (by omega)
    have b3 : xk_byte (cz_c a_opA 0 (24 * (5 + 4 * s)) (24 * k)) k := fun i h => by
      obtain ⟨o, ho, e, _⟩ := (hi i h).2.1
      rw [o2 _ i h, show a_opA (24 * k + i) = nI o from e]; exact qa_b (by omega)
    have b4 : xk_byte (cz_c a_opLine 0 (24 * (5 + 4 * s)) (24 * k)) k := fun i h => by
      obtain ⟨o, ho, e, _⟩ := (hi i h).2.2.2
      rw [o2 _ i h, show a_opLine (24 * k + i) = nI o from e]; exact qa_b (by omega)
    have b5 : ∀ i, i < 3 → vp_nar .short (cz_c a_guards 0 (3 * (5 + 4 * s)) (3 * k) (3 * k + i)) = cz_c a_guards 0 (3 * (5 + 4 * s)) (3 * k) (3 * k + i) := fun i h => by
      obtain ⟨f, t, c, hf, ht, hc, _, _, _, e⟩ := hg i h
      rw [o3 _ i h, show a_guards (3 * k + i) = _ from e]; exact qa_s (by omega)
    refine br_f (nI_ge (b := 4) (by omega) (by decide)) ?_
    rw [ei]
    refine xk_copyCode (a := k) (b := (5 + 4 * s) + k) (by omega) (by omega) (by omega) b0 b1 b2 b3 b4 b5 ?_
    refine xd_copyData (a := k) (b := (5 + 4 * s) + k) (z := 0) (by omega) (by omega) (by omega) (by omega) ?_
    have u1 : ∀ f : Nat → Int32, upd (cz_c f 0 (5 + 4 * s) k) ((5 + 4 * s) + k) (cz_c f 0 (5 + 4 * s) k k) = cz_c f 0 (5 + 4 * s) (k + 1) := fun f => ce_one (by omega)
    have u2 : ∀ f : Nat → Int32, cz_c (cz_c f 0 (24 * (5 + 4 * s)) (24 * k)) (24 * k) (24 * ((5 + 4 * s) + k)) 24 = cz_c f 0 (24 * (5 + 4 * s)) (24 * (k + 1)) := fun f => ce_cat (by omega) (by omega) (by omega)
    have u3 : ∀ f : Nat → Int32, cz_c (cz_c f 0 (3 * (5 + 4 * s)) (3 * k)) (3 * k) (3 * ((5 + 4 * s) + k)) 3 = cz_c f 0 (3 * (5 + 4 * s)) (3 * (k + 1)) := fun f => ce_cat (by omega) (by omega) (by omega)
    have u4 : ∀ f : Nat → Int32, dz (cz_c f 0 (24 * (5 + 4 * s)) (24 * k)) (24 * k) (24 * ((5 + 4 * s) + k)) 24 0 = cz_c f 0 (24 * (5 + 4 * s)) (24 * (k + 1)) := fun f => (dz_c _ _ _ _).trans (u2 f)
    have u5 : ∀ f : Nat → Int32, dz (cz_c f 0 (97 * (5 + 4 * s)) (97 * k)) (97 * k) (97 * ((5 + 4 * s) + k)) 97 0 = cz_c f 0 (97 * (5 + 4 * s)) (97 * (k + 1)) := fun f => (dz_c _ _ _ _).trans (ce_cat (by omega) (by omega) (by omega))
    refine nm_r (nI_1 k) ?_
    rw [u1, u1, u2, u2, u2, u2, u3, u4, u4, u4, u4, u5]
    exact h
theorem ye_224 {s : Nat} (hs : s < 3) {post : Int32 → SY → Prop} (K : post 1 (g_depth, g_steps, g_result, g_outcome, g_load, g_over, b_op, b_a, b_b, b_line, b_length, b_from, b_to, b_at, b_handlers, b_begun, b_taken, b_thrown, b_rowI, b_rowWay, b_rowLength, b_times, b_told, b_kOp, b_kA, b_kB, b_kLine, (cy b_kLength b_length 0 (4 * s) 4), b_kFrom, b_kTo, b_kAt, (cy b_kHandlers b_handlers 0 (4 * s) 4), b_kBegun, b_kTaken, b_kThrown, b_kept, b_method, b_pc, b_variable, b_hereI, b_hereWay, b_hereLength, b_into, b_kLoad, b_part)) : ∀ d k, k + d = 4 → (wY_keep_224 post (nI s) g_depth g_steps g_result g_outcome g_load g_over (d + 1) (nI k) b_op b_a b_b b_line b_length b_from b_to b_at b_handlers b_begun b_taken b_thrown b_rowI b_rowWay b_rowLength b_times b_told b_kOp b_kA b_kB b_kLine (cy b_kLength b_length 0 (4 * s) k) b_kFrom b_kTo b_kAt (cy b_kHandlers b_handlers 0 (4 * s) k) b_kBegun b_kTaken b_kThrown b_kept b_method b_pc b_variable b_hereI b_hereWay b_hereLength b_into b_kLoad b_part) := by
  intro d
  induction d with
  | zero =>
    intro k hk
    obtain rfl : k = 4 := by omega
    exact br_t (nI_le (b := 4) (Nat.le_refl 4) (by decide)) K
  | succ d ih =>
    intro k hk
    have i1 : vp_in (nI k) 5 := pk_in k 5 (by omega)
    have i2 : vp_in (4 * nI s + nI k) 12 := pk_in (4 * s + k) 12 (by omega) (qa_4 s k)
    have st : ∀ f g : Nat → Int32, upd (cy f g 0 (4 * s) k) (4 * nI s + nI k).toNatClampNeg (g (nI k).toNatClampNeg) = cy f g 0 (4 * s) (k + 1) := by
      intro f g
      rw [qa_4, nI_clamp (by omega), nI_clamp (by omega)]
      exact cy_s (by rw [Nat.zero_add])
    exact br_f (nI_ge (b := 4) (by omega) (by decide)) ⟨i1, i2, nm_r (st _ _) ⟨i1, i2, nm_r (st _ _) (nm_r (nI_1 k) (ih (k + 1) (by omega)))⟩⟩
theorem ye_159 {s : Nat} (hs : s < 3) {post : Int32 → SY → Prop} (K : post 1 (g_depth, g_steps, g_result, g_outcome, g_load, g_over, b_op, b_a, b_b, b_line, b_length, b_from, b_to, b_at, b_handlers, b_begun, b_taken, b_thrown, b_rowI, b_rowWay, b_rowLength, b_times, b_told, b_kOp, b_kA, b_kB, b_kLine, (cy b_kLength b_length 0 (4 * s) 4), (cy b_kFrom b_from 0 (12 * s) 12), (cy b_kTo b_to 0 (12 * s) 12), (cy b_kAt b_at 0 (12 * s) 12), (cy b_kHandlers b_handlers 0 (4 * s) 4), b_kBegun, b_kTaken, b_kThrown, b_kept, b_method, b_pc, b_variable, b_hereI, b_hereWay, b_hereLength, b_into, b_kLoad, b_part)) : ∀ d k, k + d = 12 → (wY_keep_159 post (nI s) g_depth g_steps g_result g_outcome g_load g_over (d + 1) (nI k) b_op b_a b_b b_line b_length b_from b_to b_at b_handlers b_begun b_taken b_thrown b_rowI b_rowWay b_rowLength b_times b_told b_kOp b_kA b_kB b_kLine b_kLength (cy b_kFrom b_from 0 (12 * s) k) (cy b_kTo b_to 0 (12 * s) k) (cy b_kAt b_at 0 (12 * s) k) b_kHandlers b_kBegun b_kTaken b_kThrown b_kept b_method b_pc b_variable b_hereI b_hereWay b_hereLength b_into b_kLoad b_part) := by
  intro d
  induction d with
  | zero =>
    intro k hk
    obtain rfl : k = 12 := by omega
    have h := ye_224 hs K 4 0 rfl
    rw [cy_0, cy_0] at h
    exact br_t (nI_le (b := 12) (Nat.le_refl 12) (by decide)) ⟨_, h⟩
  | succ d ih =>
    intro k hk
    have i1 : vp_in (nI k) 15 := pk_in k 15 (by omega)
    have i2 : vp_in (12 * nI s + nI k) 36 := pk_in (12 * s + k) 36 (by omega) (qa_12 s k)
    have st : ∀ f g : Nat → Int32, upd (cy f g 0 (12 * s) k) (12 * nI s + nI k).toNatClampNeg (g (nI k).toNatClampNeg) = cy f g 0 (12 * s) (k + 1) := by
      intro f g
      rw [qa_12, nI_clamp (by omega), nI_clamp (by omega)]
      exact cy_s (by rw [Nat.zero_add])
    exact br_f (nI_ge (b := 12) (by omega) (by decide)) ⟨i1, i2, nm_r (st _ _) ⟨i1, i2, nm_r (st _ _) ⟨i1, i2, nm_r (st _ _) (nm_r (nI_1 k) (ih (k + 1) (by omega)))⟩⟩⟩
theorem ye_117 {s i : Nat} (hs : s < 3) (hi : i < 96) {post : Int32 → SY → Prop} {J : Int32 → (Nat → Int32) → (Nat → Int32) → (Nat → Int32) → (Nat → Int32) → (Nat → Int32) → (Nat → Int32) → (Nat → Int32) → (Nat → Int32) → (Nat → Int32) → (Nat → Int32) → (Nat → Int32) → (Nat → Int32) → (Nat → Int32) → (Nat → Int32) → (Nat → Int32) → (Nat → Int32) → (Nat → Int32) → (Nat → Int32) → (Nat → Int32) → (Nat → Int32) → (Nat → Int32) → (Nat → Int32) → (Nat → Int32) → (Nat → Int32) → (Nat → Int32) → (Nat → Int32) → (Nat → Int32) → (Nat → Int32) → (Nat → Int32) → (Nat → Int32) → (Nat → Int32) → (Nat → Int32) → (Nat → Int32) → (Nat → Int32) → (Nat → Int32) → (Nat → Int32) → (Nat → Int32) → (Nat → Int32) → (Nat → Int32) → Prop} (K : J (nI (i + 1)) b_op b_a b_b b_line b_length b_from b_to b_at b_handlers b_begun b_taken b_thrown b_rowI b_rowWay b_rowLength b_times b_told b_kOp b_kA b_kB b_kLine b_kLength b_kFrom b_kTo b_kAt b_kHandlers b_kBegun (cy b_kTaken b_taken 0 (384 * s) (4 * (i + 1))) b_kThrown b_kept b_method b_pc b_variable b_hereI b_hereWay b_hereLength b_into b_kLoad b_part) :
    ∀ d w, w + d = 4 → (wY_keep_117 post J (nI s) (nI i) (nI (96 * s + i)) g_depth g_steps g_result g_outcome g_load g_over (d + 1) (nI w) b_op b_a b_b b_line b_length b_from b_to b_at b_handlers b_begun b_taken b_thrown b_rowI b_rowWay b_rowLength b_times b_told b_kOp b_kA b_kB b_kLine b_kLength b_kFrom b_kTo b_kAt b_kHandlers b_kBegun (cy b_kTaken b_taken 0 (384 * s) (4 * i + w)) b_kThrown b_kept b_method b_pc b_variable b_hereI b_hereWay b_hereLength b_into b_kLoad b_part) := by
  intro d
  induction d with
  | zero =>
    intro w hw
    obtain rfl : w = 4 := by omega
    exact br_t (nI_le (b := 4) (Nat.le_refl 4) (by decide)) (nm_r (nI_1 i) K)
  | succ d ih =>
    intro w hw
    have e2 : (4 : Int32) * nI (96 * s + i) + nI w = nI (384 * s + (4 * i + w)) := by
      rw [qa_4]; exact congrArg nI (by omega)
    refine br_f (nI_ge (b := 4) (by omega) (by decide)) ⟨pk_in (4 * i + w) 384 (by omega) (qa_4 i w), pk_in (384 * s + (4 * i + w)) 1152 (by omega) e2, nm_r (e' := cy b_kTaken b_taken 0 (384 * s) (4 * i + (w + 1))) ?_ (nm_r (nI_1 w) (ih (w + 1) (by omega)))⟩
    rw [e2, qa_4, nI_clamp (by omega), nI_clamp (by omega)]
    exact cy_s (by rw [Nat.zero_add])
theorem ye_29 {s : Nat} (hs : s < 3) {post : Int32 → SY → Prop} (K : post 1 (g_depth, g_steps, g_result, g_outcome, g_load, g_over, b_op, b_a, b_b, b_line, b_length, b_from, b_to, b_at, b_handlers, b_begun, b_taken, b_thrown, b_rowI, b_rowWay, b_rowLength, b_times, b_told, (cy b_kOp b_op 0 (96 * s) 96), (cy b_kA b_a 0 (96 * s) 96), (cy b_kB b_b 0 (96 * s) 96), (cy b_kLine b_line 0 (96 * s) 96), (cy b_kLength b_length 0 (4 * s) 4), (cy b_kFrom b_from 0 (12 * s) 12), (cy b_kTo b_to 0 (12 * s) 12), (cy b_kAt b_at 0 (12 * s) 12), (cy b_kHandlers b_handlers 0 (4 * s) 4), (cy b_kBegun b_begun 0 (96 * s) 96), (cy b_kTaken b_taken 0 (384 * s) (4 * 96)), (cy b_kThrown b_thrown 0 (96 * s) 96), b_kept, b_method, b_pc, b_variable, b_hereI, b_hereWay, b_hereLength, b_into, b_kLoad, b_part)) : ∀ d i, i + d = 96 → (wY_keep_29 post (nI s) g_depth g_steps g_result g_outcome g_load g_over (d + 1) (nI i) b_op b_a b_b b_line b_length b_from b_to b_at b_handlers b_begun b_taken b_thrown b_rowI b_rowWay b_rowLength b_times b_told (cy b_kOp b_op 0 (96 * s) i) (cy b_kA b_a 0 (96 * s) i) (cy b_kB b_b 0 (96 * s) i) (cy b_kLine b_line 0 (96 * s) i) b_kLength b_kFrom b_kTo b_kAt b_kHandlers (cy b_kBegun b_begun 0 (96 * s) i) (cy b_kTaken b_taken 0 (384 * s) (4 * i)) (cy b_kThrown b_thrown 0 (96 * s) i) b_kept b_method b_pc b_variable b_hereI b_hereWay b_hereLength b_into b_kLoad b_part) := by
  intro d
  induction d with
  | zero =>
    intro i hi
    obtain rfl : i = 96 := by omega
    have h := ye_159 hs K 12 0 rfl
    rw [cy_0, cy_0, cy_0] at h
    exact br_t (nI_le (b := 96) (Nat.le_refl 96) (by decide)) ⟨_, h⟩
  | succ d ih =>
    intro i hi
    have h := ih (i + 1) (by omega)
    have i1 : vp_in (nI i) 120 := pk_in i 120 (by omega)
    have i1' : vp_in (nI i) 96 := pk_in i 96 (by omega)
    have i2 : vp_in (nI (96 * s + i)) 288 := pk_in (96 * s + i) 288 (by omega)
    have st : ∀ f g : Nat → Int32, upd (cy f g 0 (96 * s) i) (nI (96 * s + i)).toNatClampNeg (g (nI i).toNatClampNeg) = cy f g 0 (96 * s) (i + 1) := by
      intro f g
      rw [nI_clamp (by omega), nI_clamp (by omega)]
      exact cy_s (by rw [Nat.zero_add])
    exact br_f (nI_ge (b := 96) (by omega) (by decide)) (nm_r (qa_96 s i) ⟨i1, i2, nm_r (st _ _) ⟨i1, i2, nm_r (st _ _) ⟨i1, i2, nm_r (st _ _) ⟨i1, i2, nm_r (st _ _) ⟨i1', i2, nm_r (st _ _) ⟨i1', i2, nm_r (st _ _) ⟨_, ye_117 hs (by omega) h 4 0 rfl⟩⟩⟩⟩⟩⟩⟩)
theorem ye_keep {s : Nat} (hs : s < 3) {post : Int32 → SY → Prop} (K : post 1 (g_depth, g_steps, g_result, g_outcome, g_load, g_over, b_op, b_a, b_b, b_line, b_length, b_from, b_to, b_at, b_handlers, b_begun, b_taken, b_thrown, b_rowI, b_rowWay, b_rowLength, b_times, b_told, (cy b_kOp b_op 0 (96 * s) 96), (cy b_kA b_a 0 (96 * s) 96), (cy b_kB b_b 0 (96 * s) 96), (cy b_kLine b_line 0 (96 * s) 96), (cy b_kLength b_length 0 (4 * s) 4), (cy b_kFrom b_from 0 (12 * s) 12), (cy b_kTo b_to 0 (12 * s) 12), (cy b_kAt b_at 0 (12 * s) 12), (cy b_kHandlers b_handlers 0 (4 * s) 4), (cy b_kBegun b_begun 0 (96 * s) 96), (cy b_kTaken b_taken 0 (384 * s) (4 * 96)), (cy b_kThrown b_thrown 0 (96 * s) 96), (upd b_kept s 1), b_method, b_pc, b_variable, b_hereI, b_hereWay, b_hereLength, b_into, (upd b_kLoad s g_load), b_part)) : (wpY_keep post (g_depth, g_steps, g_result, g_outcome, g_load, g_over, b_op, b_a, b_b, b_line, b_length, b_from, b_to, b_at, b_handlers, b_begun, b_taken, b_thrown, b_rowI, b_rowWay, b_rowLength, b_times, b_told, b_kOp, b_kA, b_kB, b_kLine, b_kLength, b_kFrom, b_kTo, b_kAt, b_kHandlers, b_kBegun, b_kTaken, b_kThrown, b_kept, b_method, b_pc, b_variable, b_hereI, b_hereWay, b_hereLength, b_into, b_kLoad, b_part) (nI s)) := by
  have h := ye_29 hs K 96 0 rfl
  simp only [Nat.mul_zero, cy_0] at h
  exact br_f (nI_pos (by omega)) (br_f (nI_ge (b := 3) hs (by decide)) (br_f (by decide) ⟨pk_in s 3 hs, nm_r (e' := upd b_kept s 1) (by rw [nI_clamp (by omega)]; rfl) ⟨pk_in s 3 hs, nm_r (e' := upd b_kLoad s g_load) (by rw [nI_clamp (by omega)]) ⟨_, h⟩⟩⟩))
theorem xe_keep {s : Nat} (hs : s < 3) (C : (rc_code a_op a_opA a_opB a_opLine a_guards a_length a_handlers b_op b_a b_b b_line b_from b_to b_at b_length b_handlers)) {post : Int32 → SX → Prop} (K : post 1 (f_load, f_depth, f_begun, f_outcome, f_result, (cz_c a_op 0 (24 * (5 + 4 * s)) (24 * 4)), (cz_c a_opA 0 (24 * (5 + 4 * s)) (24 * 4)), (cz_c a_opB 0 (24 * (5 + 4 * s)) (24 * 4)), (cz_c a_opLine 0 (24 * (5 + 4 * s)) (24 * 4)), (cz_c a_length 0 (5 + 4 * s) 4), (cz_c a_guards 0 (3 * (5 + 4 * s)) (3 * 4)), (cz_c a_handlers 0 (5 + 4 * s) 4), (upd a_kept s 1), (upd a_keptLoad s f_load), (cz_c a_counter 0 (97 * (5 + 4 * s)) (97 * 4)), (cz_c a_raised 0 (24 * (5 + 4 * s)) (24 * 4)), (cz_c a_stopped 0 (24 * (5 + 4 * s)) (24 * 4)), (cz_c a_caught 0 (24 * (5 + 4 * s)) (24 * 4)), (cz_c a_unbegun 0 (24 * (5 + 4 * s)) (24 * 4)), a_leads, a_counts, a_adds, a_goes, a_needed, a_known, a_solved, a_open, a_unknown, a_balance, a_group, a_first, a_last, a_sum, a_often, a_told, a_method, a_pc, a_start, a_here, a_path, a_coming, a_variable)) : (wpX_keep post (f_load, f_depth, f_begun, f_outcome, f_result, a_op, a_opA, a_opB, a_opLine, a_length, a_guards, a_handlers, a_kept, a_keptLoad, a_counter, a_raised, a_stopped, a_caught, a_unbegun, a_leads, a_counts, a_adds, a_goes, a_needed, a_known, a_solved, a_open, a_unknown, a_balance, a_group, a_first, a_last, a_sum, a_often, a_told, a_method, a_pc, a_start, a_here, a_path, a_coming, a_variable) (nI s)) := by
  have h := xe_29 hs C K 4 0 rfl
  simp only [Nat.mul_zero, cz_c_0] at h
  exact br_f (nI_pos (by omega)) (br_t (nI_lt (b := 3) hs (by decide)) (br_t rfl ⟨pk_in s 3 hs, nm_r (e' := upd a_kept s 1) (by rw [nI_clamp (by omega)]; rfl) ⟨pk_in s 3 hs, nm_r (e' := upd a_keptLoad s f_load) (by rw [nI_clamp (by omega)]) ⟨_, h⟩⟩⟩))
/-- the relation behind a keep -/
theorem ke_code {s : Nat} (hs : s < 3) (C : (rc_code a_op a_opA a_opB a_opLine a_guards a_length a_handlers b_op b_a b_b b_line b_from b_to b_at b_length b_handlers)) : (rc_code (cz_c a_op 0 (24 * (5 + 4 * s)) (24 * 4)) (cz_c a_opA 0 (24 * (5 + 4 * s)) (24 * 4)) (cz_c a_opB 0 (24 * (5 + 4 * s)) (24 * 4)) (cz_c a_opLine 0 (24 * (5 + 4 * s)) (24 * 4)) (cz_c a_guards 0 (3 * (5 + 4 * s)) (3 * 4)) (cz_c a_length 0 (5 + 4 * s) 4) (cz_c a_handlers 0 (5 + 4 * s) 4) b_op b_a b_b b_line b_from b_to b_at b_length b_handlers) := by
  intro r hr
  exact rw_congr (C r hr) (fun i hi => ⟨cz_c_out (by omega), cz_c_out (by omega), cz_c_out (by omega), cz_c_out (by omega)⟩) (fun j hj => cz_c_out (by omega)) (cz_c_out (by omega)) (cz_c_out (by omega)) (fun i hi => ⟨rfl, rfl, rfl, rfl⟩) (fun j hj => ⟨rfl, rfl, rfl⟩) rfl rfl
theorem ke_kept {s : Nat} (hs : s < 3) (C : (rc_code a_op a_opA a_opB a_opLine a_guards a_length a_handlers b_op b_a b_b b_line b_from b_to b_at b_length b_handlers)) (hK : (rc_kept a_op a_opA a_opB a_opLine a_guards a_length a_handlers b_kOp b_kA b_kB b_kLine b_kFrom b_kTo b_kAt b_kLength b_kHandlers)) : (rc_kept (cz_c a_op 0 (24 * (5 + 4 * s)) (24 * 4)) (cz_c a_opA 0 (24 * (5 + 4 * s)) (24 * 4)) (cz_c a_opB 0 (24 * (5 + 4 * s)) (24 * 4)) (cz_c a_opLine 0 (24 * (5 + 4 * s)) (24 * 4)) (cz_c a_guards 0 (3 * (5 + 4 * s)) (3 * 4)) (cz_c a_length 0 (5 + 4 * s) 4) (cz_c a_handlers 0 (5 + 4 * s) 4) (cy b_kOp b_op 0 (96 * s) 96) (cy b_kA b_a 0 (96 * s) 96) (cy b_kB b_b 0 (96 * s) 96) (cy b_kLine b_line 0 (96 * s) 96) (cy b_kFrom b_from 0 (12 * s) 12) (cy b_kTo b_to 0 (12 * s) 12) (cy b_kAt b_at 0 (12 * s) 12) (cy b_kLength b_length 0 (4 * s) 4) (cy b_kHandlers b_handlers 0 (4 * s) 4)) := by
  intro q hq
  by_cases c : 4 * s ≤ q ∧ q < 4 * s + 4
  · obtain ⟨m, rfl⟩ : ∃ m, q = 4 * s + m := ⟨q - 4 * s, by omega⟩
    exact rw_congr (C m (by omega)) (fun i hi => ⟨cz_at (by omega) (by omega) (by omega), cz_at (by omega) (by omega) (by omega), cz_at (by omega) (by omega) (by omega), cz_at (by omega) (by omega) (by omega)⟩) (fun j hj => cz_at (by omega) (by omega) (by omega)) (cz_at (by omega) (by omega) (by omega)) (cz_at (by omega) (by omega) (by omega))
      (fun i hi => ⟨cy_at (by omega) (by omega) (by omega), cy_at (by omega) (by omega) (by omega), cy_at (by omega) (by omega) (by omega), cy_at (by omega) (by omega) (by omega)⟩) (fun j hj => ⟨cy_at (by omega) (by omega) (by omega), cy_at (by omega) (by omega) (by omega), cy_at (by omega) (by omega) (by omega)⟩) (cy_at (by omega) (by omega) (by omega)) (cy_at (by omega) (by omega) (by omega))
  · exact rw_congr (hK q hq) (fun i hi => ⟨cz_c_out (by omega), cz_c_out (by omega), cz_c_out (by omega), cz_c_out (by omega)⟩) (fun j hj => cz_c_out (by omega)) (cz_c_out (by omega)) (cz_c_out (by omega)) (fun i hi => ⟨cy_out (by omega), cy_out (by omega), cy_out (by omega), cy_out (by omega)⟩) (fun j hj => ⟨cy_out (by omega), cy_out (by omega), cy_out (by omega)⟩) (cy_out (by omega)) (cy_out (by omega))
theorem ke_tr {s : Nat} (hs : s < 3) (C : (rc_code a_op a_opA a_opB a_opLine a_guards a_length a_handlers b_op b_a b_b b_line b_from b_to b_at b_length b_handlers)) : ∀ r, r < 4 → tr_eq a_length a_op a_opB (cz_c a_length 0 (5 + 4 * s) 4) (cz_c a_op 0 (24 * (5 + 4 * s)) (24 * 4)) (cz_c a_opB 0 (24 * (5 + 4 * s)) (24 * 4)) r := fun r hr => tr_mk (cz_c_out (by omega)) (rc_len C (by omega)).2.2 (fun i hi => ⟨cz_c_out (by omega), cz_c_out (by omega)⟩)
theorem ke_flow {s : Nat} {ent : Nat → Int32} {fc rd : Nat → Nat → Int32} (hs : s < 3) (C : (rc_code a_op a_opA a_opB a_opLine a_guards a_length a_handlers b_op b_a b_b b_line b_from b_to b_at b_length b_handlers)) (h : (rc_flow a_length a_op a_opB a_raised a_stopped a_caught a_unbegun a_counter b_begun b_taken b_thrown) ent fc rd) : (rc_flow a_length a_op a_opB (cz_c a_raised 0 (24 * (5 + 4 * s)) (24 * 4)) (cz_c a_stopped 0 (24 * (5 + 4 * s)) (24 * 4)) (cz_c a_caught 0 (24 * (5 + 4 * s)) (24 * 4)) (cz_c a_unbegun 0 (24 * (5 + 4 * s)) (24 * 4)) (cz_c a_counter 0 (97 * (5 + 4 * s)) (97 * 4)) b_begun b_taken b_thrown) ent fc rd := by
  intro m hm h0
  exact rd_congr (rc_len C (by omega)).2.2 (h m hm h0) (fun i hi => ⟨cz_c_out (by omega), cz_c_out (by omega), cz_c_out (by omega), cz_c_out (by omega), rfl, rfl⟩) (fun e he => cz_c_out (by omega)) (fun x hx => rfl)
theorem ke_kdat {s : Nat} {ent ek : Nat → Int32} (hs : s < 3) (C : (rc_code a_op a_opA a_opB a_opLine a_guards a_length a_handlers b_op b_a b_b b_line b_from b_to b_at b_length b_handlers)) (hK : (rc_kept a_op a_opA a_opB a_opLine a_guards a_length a_handlers b_kOp b_kA b_kB b_kLine b_kFrom b_kTo b_kAt b_kLength b_kHandlers)) (hF : (rc_flow a_length a_op a_opB a_raised a_stopped a_caught a_unbegun a_counter b_begun b_taken b_thrown) ent (fun _ _ => 0) (fun _ _ => 0)) (hD : (rc_kdat a_length a_op a_opB a_raised a_stopped a_caught a_unbegun a_counter b_kBegun b_kTaken b_kThrown) ek) :
    (rc_kdat (cz_c a_length 0 (5 + 4 * s) 4) (cz_c a_op 0 (24 * (5 + 4 * s)) (24 * 4)) (cz_c a_opB 0 (24 * (5 + 4 * s)) (24 * 4)) (cz_c a_raised 0 (24 * (5 + 4 * s)) (24 * 4)) (cz_c a_stopped 0 (24 * (5 + 4 * s)) (24 * 4)) (cz_c a_caught 0 (24 * (5 + 4 * s)) (24 * 4)) (cz_c a_unbegun 0 (24 * (5 + 4 * s)) (24 * 4)) (cz_c a_counter 0 (97 * (5 + 4 * s)) (97 * 4)) (cy b_kBegun b_begun 0 (96 * s) 96) (cy b_kTaken b_taken 0 (384 * s) (4 * 96)) (cy b_kThrown b_thrown 0 (96 * s) 96)) (fun q => if 4 * s ≤ q ∧ q < 4 * s + 4 then ent (q - 4 * s) else ek q) := by
  intro q hq h0
  by_cases c : 4 * s ≤ q ∧ q < 4 * s + 4
  · obtain ⟨m, rfl⟩ : ∃ m, q = 4 * s + m := ⟨q - 4 * s, by omega⟩
    have e1 : cz_c a_length 0 (5 + 4 * s) 4 (5 + (4 * s + m)) = a_length m := cz_at (by omega) (by omega) (by omega)
    have hn := (rc_len C (r := m) (by omega)).2.2
    have e2 : ul (cz_c a_length 0 (5 + 4 * s) 4) (cz_c a_op 0 (24 * (5 + 4 * s)) (24 * 4)) (cz_c a_opB 0 (24 * (5 + 4 * s)) (24 * 4)) (5 + (4 * s + m)) = ul a_length a_op a_opB m := ul_congr e1 (fun i hi => by
      have hi2 : i < 24 := Nat.lt_of_lt_of_le hi hn
      exact ⟨cz_at (by omega) (by omega) (by omega), cz_at (by omega) (by omega) (by omega)⟩)
    have e3 : xn (cz_c a_length 0 (5 + 4 * s) 4) (5 + (4 * s + m)) = xn a_length m := congrArg Int32.toNatClampNeg e1
    rw [e3] at h0
    show rd_ok _ _ _ _ _ _ _ _ _ _ (if 4 * s ≤ 4 * s + m ∧ 4 * s + m < 4 * s + 4 then ent (4 * s + m - 4 * s) else ek (4 * s + m)) _ _
    rw [e2, e3, if_pos c, show 4 * s + m - 4 * s = m by omega]
    exact rd_congr hn (hF m (by omega) h0) (fun i hi => ⟨cz_at (by omega) (by omega) (by omega), cz_at (by omega) (by omega) (by omega), cz_at (by omega) (by omega) (by omega), cz_at (by omega) (by omega) (by omega), cy_at (by omega) (by omega) (by omega), cy_at (by omega) (by omega) (by omega)⟩) (fun e he => cz_at (by omega) (by omega) (by omega)) (fun x hx => cy_at (by omega) (by omega) (by omega))
  · have e1 : cz_c a_length 0 (5 + 4 * s) 4 (5 + q) = a_length (5 + q) := cz_c_out (by omega)
    have hn := (rc_klen hK (q := q) hq).2.2
    have e2 : ul (cz_c a_length 0 (5 + 4 * s) 4) (cz_c a_op 0 (24 * (5 + 4 * s)) (24 * 4)) (cz_c a_opB 0 (24 * (5 + 4 * s)) (24 * 4)) (5 + q) = ul a_length a_op a_opB (5 + q) := ul_congr e1 (fun i hi => by
      have hi2 : i < 24 := Nat.lt_of_lt_of_le hi hn
      exact ⟨cz_c_out (by omega), cz_c_out (by omega)⟩)
    have e3 : xn (cz_c a_length 0 (5 + 4 * s) 4) (5 + q) = xn a_length (5 + q) := congrArg Int32.toNatClampNeg e1
    rw [e3] at h0
    show rd_ok _ _ _ _ _ _ _ _ _ _ (if 4 * s ≤ q ∧ q < 4 * s + 4 then ent (q - 4 * s) else ek q) _ _
    rw [e2, e3, if_neg c]
    exact rd_congr hn (hD q hq h0) (fun i hi => ⟨cz_c_out (by omega), cz_c_out (by omega), cz_c_out (by omega), cz_c_out (by omega), cy_out (by omega), cy_out (by omega)⟩) (fun e he => cz_c_out (by omega)) (fun x hx => cy_out (by omega))
end
theorem i_vc_keep {k : Nat} {u : SX} {v : SY} (I : i_Rel k u v) (hk : k + 5 ≤ 2560) (v1 : Int32) : wpX_keep (fun r u' => wpY_keep (fun r' v' => r' = r ∧ i_Rel (k + 5) u' v') v v1) u v1 := by
  refine ze_el (P := fun u v => wpX_keep (fun r u' => wpY_keep (fun r' v' => r' = r ∧ i_Rel (k + 5) u' v') v v1) u v1) ?_ I
  intro f_load f_depth f_begun f_outcome f_result g_depth g_steps g_result g_outcome g_load g_over a_op a_opA a_opB a_opLine a_length a_guards a_handlers a_kept a_keptLoad a_counter a_raised a_stopped a_caught a_unbegun a_leads a_counts a_adds a_goes a_needed a_known a_solved a_open a_unknown a_balance a_group a_first a_last a_sum a_often a_told a_method a_pc a_start a_here a_path a_coming a_variable b_op b_a b_b b_line b_length b_from b_to b_at b_handlers b_begun b_taken b_thrown b_rowI b_rowWay b_rowLength b_times b_told b_kOp b_kA b_kB b_kLine b_kLength b_kFrom b_kTo b_kAt b_kHandlers b_kBegun b_kTaken b_kThrown b_kept b_method b_pc b_variable b_hereI b_hereWay b_hereLength b_into b_kLoad b_part ent ek C hK hP hD hL hF hS hN hl hv hr
  have R : i_Rel (k + 5) (f_load, f_depth, f_begun, f_outcome, f_result, a_op, a_opA, a_opB, a_opLine, a_length, a_guards, a_handlers, a_kept, a_keptLoad, a_counter, a_raised, a_stopped, a_caught, a_unbegun, a_leads, a_counts, a_adds, a_goes, a_needed, a_known, a_solved, a_open, a_unknown, a_balance, a_group, a_first, a_last, a_sum, a_often, a_told, a_method, a_pc, a_start, a_here, a_path, a_coming, a_variable) (g_depth, g_steps, g_result, g_outcome, g_load, g_over, b_op, b_a, b_b, b_line, b_length, b_from, b_to, b_at, b_handlers, b_begun, b_taken, b_thrown, b_rowI, b_rowWay, b_rowLength, b_times, b_told, b_kOp, b_kA, b_kB, b_kLine, b_kLength, b_kFrom, b_kTo, b_kAt, b_kHandlers, b_kBegun, b_kTaken, b_kThrown, b_kept, b_method, b_pc, b_variable, b_hereI, b_hereWay, b_hereLength, b_into, b_kLoad, b_part) := ze_mk C hK hP hD hL hF hS hN hl hv hr
  rcases qb_no (x := v1) (l := 3) 3 rfl (by decide) with ⟨s, hs, rfl, _, _⟩ | ⟨h1, h2⟩
  · refine xe_keep hs C ?_
    refine ye_keep hs ⟨rfl, ?_⟩
    refine ze_mk (ke_code hs C) (ke_kept hs C hK) (tr_plan (ke_tr hs C) hP) (ke_kdat hs C hK hF hD) ?_ (tr_flow (ke_tr hs C) (ke_flow hs C hF)) (tr_str (ke_tr hs C) hS) (tr_known (ke_tr hs C) hN) hl hv hr
    intro t ht
    by_cases c : t = s
    · subst c
      exact ⟨pk_us.trans pk_us.symm, hl.elim (fun L h => ⟨L, h.1, pk_us.trans h.2.1, pk_us.trans h.2.2⟩)⟩
    · obtain ⟨g1, L, g2, g3, g4⟩ := hL t ht
      exact ⟨(pk_un c).trans (g1.trans (pk_un c).symm), L, g2, (pk_un c).trans g3, (pk_un c).trans g4⟩
  · unfold wpX_keep
    refine h1 _ ?_
    refine br_f (by decide) ?_
    unfold wpY_keep
    refine h2 _ ?_
    exact br_t rfl ⟨rfl, R⟩
end
section
/-! owed: merge -/
section
variable {f_load : Int32} {f_depth : Int32} {f_begun : Int32} {f_outcome : Int32} {f_result : Int32} {a_op : (Nat → Int32)} {a_opA : (Nat → Int32)} {a_opB : (Nat → Int32)} {a_opLine : (Nat → Int32)} {a_length : (Nat → Int32)} {a_guards : (Nat → Int32)} {a_handlers : (Nat → Int32)} {a_kept : (Nat → Int32)} {a_keptLoad : (Nat → Int32)} {a_counter : (Nat → Int32)} {a_raised : (Nat → Int32)} {a_stopped : (Nat → Int32)} {a_caught : (Nat → Int32)} {a_unbegun : (Nat → Int32)} {a_leads : (Nat → Int32)} {a_counts : (Nat → Int32)} {a_adds : (Nat → Int64)} {a_goes : (Nat → Int64)} {a_needed : (Nat → Int32)} {a_known : (Nat → Int32)} {a_solved : (Nat → Int32)} {a_open : (Nat → Int32)} {a_unknown : (Nat → Int32)} {a_balance : (Nat → Int32)} {a_group : (Nat → Int32)} {a_first : (Nat → Int32)} {a_last : (Nat → Int32)} {a_sum : (Nat → Int64)} {a_often : (Nat → Int32)} {a_told : (Nat → Int32)} {a_method : (Nat → Int32)} {a_pc : (Nat → Int32)} {a_start : (Nat → Int32)} {a_here : (Nat → Int32)} {a_path : (Nat → Int64)} {a_coming : (Nat → Int64)} {a_variable : (Nat → Int32)} {g_depth : Int32} {g_steps : Int32} {g_result : Int32} {g_outcome : Int32} {g_load : Int32} {g_over : Int32} {b_op : (Nat → Int32)} {b_a : (Nat → Int32)} {b_b : (Nat → Int32)} {b_line : (Nat → Int32)} {b_length : (Nat → Int32)} {b_from : (Nat → Int32)} {b_to : (Nat → Int32)} {b_at : (Nat → Int32)} {b_handlers : (Nat → Int32)} {b_begun : (Nat → Int32)} {b_taken : (Nat → Int32)} {b_thrown : (Nat → Int32)} {b_rowI : (Nat → Int32)} {b_rowWay : (Nat → Int32)} {b_rowLength : (Nat → Int32)} {b_times : (Nat → Int32)} {b_told : (Nat → Int32)} {b_kOp : (Nat → Int32)} {b_kA : (Nat → Int32)} {b_kB : (Nat → Int32)} {b_kLine : (Nat → Int32)} {b_kLength : (Nat → Int32)} {b_kFrom : (Nat → Int32)} {b_kTo : (Nat → Int32)} {b_kAt : (Nat → Int32)} {b_kHandlers : (Nat → Int32)} {b_kBegun : (Nat → Int32)} {b_kTaken : (Nat → Int32)} {b_kThrown : (Nat → Int32)} {b_kept : (Nat → Int32)} {b_method : (Nat → Int32)} {b_pc : (Nat → Int32)} {b_variable : (Nat → Int32)} {b_hereI : (Nat → Int32)} {b_hereWay : (Nat → Int32)} {b_hereLength : (Nat → Int32)} {b_into : (Nat → Int32)} {b_kLoad : (Nat → Int32)} {b_part : (Nat → Int32)}
theorem yj_32 {s m i : Nat} (hs : s < 3) (hm : m < 4) (hi : i < 24) {post : SY → Prop} (K : post (g_depth, g_steps, g_result, g_outcome, g_load, g_over, b_op, b_a, b_b, b_line, b_length, b_from, b_to, b_at, b_handlers, b_begun, (dy b_taken b_kTaken (384 * s + 96 * m) (96 * m) (4 * (i + 1))), b_thrown, b_rowI, b_rowWay, b_rowLength, b_times, b_told, b_kOp, b_kA, b_kB, b_kLine, b_kLength, b_kFrom, b_kTo, b_kAt, b_kHandlers, b_kBegun, b_kTaken, b_kThrown, b_kept, b_method, b_pc, b_variable, b_hereI, b_hereWay, b_hereLength, b_into, b_kLoad, b_part)) :
    ∀ d w, w + d = 4 → (wY_join_32 post (nI (96 * s + (24 * m + i))) (nI (24 * m + i)) g_depth g_steps g_result g_outcome g_load g_over (d + 1) (nI w) b_op b_a b_b b_line b_length b_from b_to b_at b_handlers b_begun (dy b_taken b_kTaken (384 * s + 96 * m) (96 * m) (4 * i + w)) b_thrown b_rowI b_rowWay b_rowLength b_times b_told b_kOp b_kA b_kB b_kLine b_kLength b_kFrom b_kTo b_kAt b_kHandlers b_kBegun b_kTaken b_kThrown b_kept b_method b_pc b_variable b_hereI b_hereWay b_hereLength b_into b_kLoad b_part) := by
  intro d
  induction d with
  | zero =>
    intro w hw
    obtain rfl : w = 4 := by omega
    exact br_t (nI_le (b := 4) (Nat.le_refl 4) (by decide)) K
  | succ d ih =>
    intro w hw
    have e1 : (4 : Int32) * nI (24 * m + i) + nI w = nI (96 * m + (4 * i + w)) := by
      rw [qa_4]; exact congrArg nI (by omega)
    have e2 : (4 : Int32) * nI (96 * s + (24 * m + i)) + nI w = nI (384 * s + 96 * m + (4 * i + w)) := by
      rw [qa_4]; exact congrArg nI (by omega)
    have i1 : vp_in (4 * nI (24 * m + i) + nI w) 384 := pk_in (96 * m + (4 * i + w)) 384 (by omega) e1
    refine br_f (nI_ge (b := 4) (by omega) (by decide)) ⟨i1, pk_in (384 * s + 96 * m + (4 * i + w)) 1152 (by omega) e2, i1, nm_r (e' := dy b_taken b_kTaken (384 * s + 96 * m) (96 * m) (4 * i + (w + 1))) ?_ (nm_r (nI_1 w) (ih (w + 1) (by omega)))⟩
    rw [e1, e2, nI_clamp (by omega), nI_clamp (by omega)]
    exact dy_s (by rw [dy_out (by omega)])
theorem yj_80 {s m c : Nat} (hs : s < 3) (hm : m < 4) (C : (rc_code a_op a_opA a_opB a_opLine a_guards a_length a_handlers b_op b_a b_b b_line b_from b_to b_at b_length b_handlers)) {post : Int32 → SY → Prop} {J : Int32 → Int32 → Int32 → Int32 → Int32 → Int32 → Int32 → Int32 → (Nat → Int32) → (Nat → Int32) → (Nat → Int32) → (Nat → Int32) → (Nat → Int32) → (Nat → Int32) → (Nat → Int32) → (Nat → Int32) → (Nat → Int32) → (Nat → Int32) → (Nat → Int32) → (Nat → Int32) → (Nat → Int32) → (Nat → Int32) → (Nat → Int32) → (Nat → Int32) → (Nat → Int32) → (Nat → Int32) → (Nat → Int32) → (Nat → Int32) → (Nat → Int32) → (Nat → Int32) → (Nat → Int32) → (Nat → Int32) → (Nat → Int32) → (Nat → Int32) → (Nat → Int32) → (Nat → Int32) → (Nat → Int32) → (Nat → Int32) → (Nat → Int32) → (Nat → Int32) → (Nat → Int32) → (Nat → Int32) → (Nat → Int32) → (Nat → Int32) → (Nat → Int32) → (Nat → Int32) → (Nat → Int32) → Prop} (K : J (nI c) (nI (m + 1)) g_depth g_steps g_result g_outcome g_load g_over b_op b_a b_b b_line b_length b_from b_to b_at b_handlers (dy b_begun b_kBegun (96 * s + 24 * m) (24 * m) (xn a_length m)) (dy b_taken b_kTaken (384 * s + 96 * m) (96 * m) (4 * (xn a_length m))) (dy b_thrown b_kThrown (96 * s + 24 * m) (24 * m) (xn a_length m)) b_rowI b_rowWay b_rowLength b_times b_told b_kOp b_kA b_kB b_kLine b_kLength b_kFrom b_kTo b_kAt b_kHandlers b_kBegun b_kTaken b_kThrown b_kept b_method b_pc b_variable b_hereI b_hereWay b_hereLength b_into b_kLoad b_part) :
    ∀ d i, i + d = (xn a_length m) → (wY_merge_80 post J (nI s) (nI c) (nI m) (d + 1) (nI (24 * m + i)) g_depth g_steps g_result g_outcome g_load g_over b_op b_a b_b b_line b_length b_from b_to b_at b_handlers (dy b_begun b_kBegun (96 * s + 24 * m) (24 * m) i) (dy b_taken b_kTaken (384 * s + 96 * m) (96 * m) (4 * i)) (dy b_thrown b_kThrown (96 * s + 24 * m) (24 * m) i) b_rowI b_rowWay b_rowLength b_times b_told b_kOp b_kA b_kB b_kLine b_kLength b_kFrom b_kTo b_kAt b_kHandlers b_kBegun b_kTaken b_kThrown b_kept b_method b_pc b_variable b_hereI b_hereWay b_hereLength b_into b_kLoad b_part) := by
  obtain ⟨l1, l2, l3⟩ := rc_len C (r := m) (by omega)
  have i5 : vp_in (nI m) 5 := pk_in m 5 (by omega)
  have ry : (24 : Int32) * nI m + b_length (nI m).toNatClampNeg = nI (24 * m + (xn a_length m)) := by rw [qa_r m rfl l2, qa_24]
  intro d
  induction d with
  | zero =>
    intro i hi
    obtain rfl : i = (xn a_length m) := by omega
    exact ⟨i5, br_t (by rw [ry]; exact nI_le (Nat.le_refl _) (by omega)) (nm_r (nI_1 m) K)⟩
  | succ d ih =>
    intro i hi
    have h := ih (i + 1) (by omega)
    have i1 : vp_in (nI (24 * m + i)) 96 := pk_in (24 * m + i) 96 (by omega)
    have i2 : vp_in (nI (96 * s + (24 * m + i))) 288 := pk_in (96 * s + (24 * m + i)) 288 (by omega)
    refine ⟨i5, br_f (by rw [ry]; exact nI_ge (by omega) (by omega)) ?_⟩
    rw [qa_96]
    have st : ∀ f g : Nat → Int32, upd (dy f g (96 * s + 24 * m) (24 * m) i) (nI (24 * m + i)).toNatClampNeg (dy f g (96 * s + 24 * m) (24 * m) i (nI (24 * m + i)).toNatClampNeg + g (nI (96 * s + (24 * m + i))).toNatClampNeg) = dy f g (96 * s + 24 * m) (24 * m) (i + 1) := by
      intro f g
      rw [nI_clamp (by omega), nI_clamp (by omega)]
      refine dy_s ?_
      rw [dy_out (by omega), show 96 * s + (24 * m + i) = 96 * s + 24 * m + i by omega]
    exact ⟨i1, i2, i1, nm_r (st _ _) ⟨i1, i2, i1, nm_r (st _ _) ⟨_, yj_32 hs hm (by omega) (nm_r (nI_1 _) h) 4 0 rfl⟩⟩⟩
theorem mg_v {n : Nat} {op b : Nat → Int32} : ∀ e, e < 97 → pw_ld n op b e < 25 → e ≤ 4 * n := by
  intro e he h
  unfold pw_ld at h
  by_cases c : e = 0
  · omega
  · rw [if_neg c] at h
    by_cases d : (e - 1) / 4 < n ∧ (e - 1) % 4 < pw_ways (op ((e - 1) / 4))
    · have := d.1; omega
    · rw [if_neg d] at h; omega
theorem mg_54 {s : Nat} {ek : Nat → Int32} (hs : s < 3) (C : (rc_code a_op a_opA a_opB a_opLine a_guards a_length a_handlers b_op b_a b_b b_line b_from b_to b_at b_length b_handlers)) (hK : (rc_kept a_op a_opA a_opB a_opLine a_guards a_length a_handlers b_kOp b_kA b_kB b_kLine b_kFrom b_kTo b_kAt b_kLength b_kHandlers)) :
    ∀ d m, m + d = 4 → ∀ (c : Nat) (ct rs st ca ub so bg tk th ent : Nat → Int32), (rc_flow a_length a_op a_opB rs st ca ub ct bg tk th) ent (fun _ _ => 0) (fun _ _ => 0) → (rc_kdat a_length a_op a_opB rs st ca ub ct b_kBegun b_kTaken b_kThrown) ek → (rc_known a_length a_op a_opB so a_known tk) ent →
      ∃ (r : Int32) (ct2 rs2 st2 ca2 ub2 so2 bg2 tk2 th2 ent2 : Nat → Int32),
        (rc_flow a_length a_op a_opB rs2 st2 ca2 ub2 ct2 bg2 tk2 th2) ent2 (fun _ _ => 0) (fun _ _ => 0) ∧ (rc_kdat a_length a_op a_opB rs2 st2 ca2 ub2 ct2 b_kBegun b_kTaken b_kThrown) ek ∧ (rc_known a_length a_op a_opB so2 a_known tk2) ent2 ∧
        (∀ post : Int32 → SX → Prop, post r (f_load, f_depth, f_begun, f_outcome, f_result, a_op, a_opA, a_opB, a_opLine, a_length, a_guards, a_handlers, a_kept, a_keptLoad, ct2, rs2, st2, ca2, ub2, a_leads, a_counts, a_adds, a_goes, a_needed, a_known, so2, a_open, a_unknown, a_balance, a_group, a_first, a_last, a_sum, a_often, a_told, a_method, a_pc, a_start, a_here, a_path, a_coming, a_variable) → (wX_merge_54 post (nI s) (d + 1) (nI c) (nI m) f_load f_depth f_begun f_outcome f_result a_op a_opA a_opB a_opLine a_length a_guards a_handlers a_kept a_keptLoad ct rs st ca ub a_leads a_counts a_adds a_goes a_needed a_known so a_open a_unknown a_balance a_group a_first a_last a_sum a_often a_told a_method a_pc a_start a_here a_path a_coming a_variable)) ∧
        (∀ post : Int32 → SY → Prop, post r (g_depth, g_steps, g_result, g_outcome, g_load, g_over, b_op, b_a, b_b, b_line, b_length, b_from, b_to, b_at, b_handlers, bg2, tk2, th2, b_rowI, b_rowWay, b_rowLength, b_times, b_told, b_kOp, b_kA, b_kB, b_kLine, b_kLength, b_kFrom, b_kTo, b_kAt, b_kHandlers, b_kBegun, b_kTaken, b_kThrown, b_kept, b_method, b_pc, b_variable, b_hereI, b_hereWay, b_hereLength, b_into, b_kLoad, b_part) → (wY_merge_54 post (nI s) (d + 1) (nI c) (nI m) g_depth g_steps g_result g_outcome g_load g_over b_op b_a b_b b_line b_length b_from b_to b_at b_handlers bg tk th b_rowI b_rowWay b_rowLength b_times b_told b_kOp b_kA b_kB b_kLine b_kLength b_kFrom b_kTo b_kAt b_kHandlers b_kBegun b_kTaken b_kThrown b_kept b_method b_pc b_variable b_hereI b_hereWay b_hereLength b_into b_kLoad b_part)) := by
  intro d
  induction d with
  | zero =>
    intro m hm c ct rs st ca ub so bg tk th ent h1 h2 h3
    obtain rfl : m = 4 := by omega
    exact ⟨nI c, ct, rs, st, ca, ub, so, bg, tk, th, ent, h1, h2, h3, fun post hp => br_t (nI_le (b := 4) (Nat.le_refl 4) (by decide)) hp, fun post hp => br_t (nI_le (b := 4) (Nat.le_refl 4) (by decide)) hp⟩
  | succ d ih =>
    intro m hm c ct rs st ca ub so bg tk th ent h1 h2 h3
    have hm4 : m < 4 := by omega
    obtain ⟨l1, l2, l3⟩ := rc_len C (r := m) (by omega)
    have gx : ¬ (4 : Int32) ≤ nI m := nI_ge (b := 4) hm4 (by decide)
    have i17 : vp_in (nI m) 17 := pk_in m 17 (by omega)
    have i5 : vp_in (nI m) 5 := pk_in m 5 (by omega)
    have eQ : (5 + 4 * nI s) + nI m = nI (5 + (4 * s + m)) := by
      rw [qa_m4, show (5 : Int32) + nI (4 * s) = nI (5 + 4 * s) from nI_add 5 (4 * s), nI_add]
      exact congrArg nI (by omega)
    have rx : a_length (nI m).toNatClampNeg = nI (xn a_length m) := qa_r m rfl l1
    have ry : b_length (nI m).toNatClampNeg = nI (xn a_length m) := qa_r m rfl l2
    rcases Nat.eq_zero_or_pos (xn a_length m) with z | z
    · obtain ⟨r, ct2, rs2, st2, ca2, ub2, so2, bg2, tk2, th2, ent2, g1, g2, g3, hX, hY⟩ := ih (m + 1) (by omega) c ct rs st ca ub so bg tk th ent h1 h2 h3
      refine ⟨r, ct2, rs2, st2, ca2, ub2, so2, bg2, tk2, th2, ent2, g1, g2, g3, fun post hp => br_f gx (nm_r eQ ⟨i17, br_t (by rw [rx, z]; rfl) (nm_r (nI_1 m) (hX post hp))⟩), fun post hp => br_f gx ?_⟩
      exact ⟨i5, br_t (by rw [ry, z]; rfl) (br_t rfl (nm_r (nI_1 m) (hY post hp)))⟩
    · have nz : ¬ a_length (nI m).toNatClampNeg = 0 := by rw [rx]; exact nI_ne0 z (by omega)
      obtain ⟨r0, hr0, sX, sY, sE⟩ := ms_same (f_load := f_load) (f_depth := f_depth) (f_begun := f_begun) (f_outcome := f_outcome) (f_result := f_result) (a_op := a_op) (a_opA := a_opA) (a_opB := a_opB) (a_opLine := a_opLine) (a_length := a_length) (a_guards := a_guards) (a_handlers := a_handlers) (a_kept := a_kept) (a_keptLoad := a_keptLoad) (a_counter := ct) (a_raised := rs) (a_stopped := st) (a_caught := ca) (a_unbegun := ub) (a_leads := a_leads) (a_counts := a_counts) (a_adds := a_adds) (a_goes := a_goes) (a_needed := a_needed) (a_known := a_known) (a_solved := so) (a_open := a_open) (a_unknown := a_unknown) (a_balance := a_balance) (a_group := a_group) (a_first := a_first) (a_last := a_last) (a_sum := a_sum) (a_often := a_often) (a_told := a_told) (a_method := a_method) (a_pc := a_pc) (a_start := a_start) (a_here := a_here) (a_path := a_path) (a_coming := a_coming) (a_variable := a_variable) (g_depth := g_depth) (g_steps := g_steps) (g_result := g_result) (g_outcome := g_outcome) (g_load := g_load) (g_over := g_over) (b_op := b_op) (b_a := b_a) (b_b := b_b) (b_line := b_line) (b_length := b_length) (b_from := b_from) (b_to := b_to) (b_at := b_at) (b_handlers := b_handlers) (b_begun := bg) (b_taken := tk) (b_thrown := th) (b_rowI := b_rowI) (b_rowWay := b_rowWay) (b_rowLength := b_rowLength) (b_times := b_times) (b_told := b_told) (b_kOp := b_kOp) (b_kA := b_kA) (b_kB := b_kB) (b_kLine := b_kLine) (b_kLength := b_kLength) (b_kFrom := b_kFrom) (b_kTo := b_kTo) (b_kAt := b_kAt) (b_kHandlers := b_kHandlers) (b_kBegun := b_kBegun) (b_kTaken := b_kTaken) (b_kThrown := b_kThrown) (b_kept := b_kept) (b_method := b_method) (b_pc := b_pc) (b_variable := b_variable) (b_hereI := b_hereI) (b_hereWay := b_hereWay) (b_hereLength := b_hereLength) (b_into := b_into) (b_kLoad := b_kLoad) (b_part := b_part) hs hm4 z C hK
      rcases hr0 with rfl | rfl
      · obtain ⟨r, ct2, rs2, st2, ca2, ub2, so2, bg2, tk2, th2, ent2, g1, g2, g3, hX, hY⟩ := ih (m + 1) (by omega) c ct rs st ca ub so bg tk th ent h1 h2 h3
        refine ⟨r, ct2, rs2, st2, ca2, ub2, so2, bg2, tk2, th2, ent2, g1, g2, g3, fun post hp => br_f gx (nm_r eQ ⟨i17, br_f nz ?_⟩), fun post hp => br_f gx ?_⟩
        · refine sX _ ?_
          exact br_t rfl (nm_r (nI_1 m) (hX post hp))
        · refine sY _ ?_
          exact br_t rfl (nm_r (nI_1 m) (hY post hp))
      · obtain ⟨sU, sN⟩ := sE rfl
        have kd := h2 (4 * s + m) (by omega) (by rw [sN]; exact z)
        have f1 : (rc_flow a_length a_op a_opB (dz rs (24 * (5 + (4 * s + m))) (24 * m) 24 1) (dz st (24 * (5 + (4 * s + m))) (24 * m) 24 1) (dz ca (24 * (5 + (4 * s + m))) (24 * m) 24 1) (dz ub (24 * (5 + (4 * s + m))) (24 * m) 24 1) (dz ct (97 * (5 + (4 * s + m))) (97 * m) 97 1) (dy bg b_kBegun (96 * s + 24 * m) (24 * m) (xn a_length m)) (dy tk b_kTaken (384 * s + 96 * m) (96 * m) (4 * (xn a_length m))) (dy th b_kThrown (96 * s + 24 * m) (24 * m) (xn a_length m))) (fun q => if q = m then ent m + ek (4 * s + m) else ent q) (fun _ _ => 0) (fun _ _ => 0) := by
          intro q hq hq0
          by_cases cq : q = m
          · subst cq
            show rd_ok _ _ _ _ _ _ _ _ _ _ (if q = q then ent q + ek (4 * s + q) else ent q) _ _
            rw [if_pos rfl]
            rw [sU, sN] at kd
            refine md_add l3 mg_v (h1 q hq hq0) kd (fun i hi => ?_) (fun e he => ?_) (fun x hx => ?_)
            · have hi24 : i < 24 := by omega
              have d1 : ∀ f : Nat → Int32, dz f (24 * (5 + (4 * s + q))) (24 * q) 24 1 (24 * q + i) = f (24 * (5 + (4 * s + q)) + i) + f (24 * q + i) := fun f => (dz_in hi24).trans (by rw [if_neg (by decide)])
              refine ⟨d1 _, d1 _, d1 _, d1 _, ?_, ?_⟩
              · rw [dy_in hi, show 96 * s + 24 * q + i = 24 * (4 * s + q) + i by omega]
              · rw [dy_in hi, show 96 * s + 24 * q + i = 24 * (4 * s + q) + i by omega]
            · exact (dz_in he).trans (by rw [if_neg (by decide)])
            · rw [dy_in hx, show 384 * s + 96 * q + x = 96 * (4 * s + q) + x by omega]
          · show rd_ok _ _ _ _ _ _ _ _ _ _ (if q = m then ent m + ek (4 * s + m) else ent q) _ _
            rw [if_neg cq]
            exact rd_congr (rc_len C (r := q) (by omega)).2.2 (h1 q hq hq0) (fun i hi => ⟨dz_out (by omega), dz_out (by omega), dz_out (by omega), dz_out (by omega), dy_out (by omega), dy_out (by omega)⟩) (fun e he => dz_out (by omega)) (fun x hx => dy_out (by omega))
        have f2 : (rc_kdat a_length a_op a_opB (dz rs (24 * (5 + (4 * s + m))) (24 * m) 24 1) (dz st (24 * (5 + (4 * s + m))) (24 * m) 24 1) (dz ca (24 * (5 + (4 * s + m))) (24 * m) 24 1) (dz ub (24 * (5 + (4 * s + m))) (24 * m) 24 1) (dz ct (97 * (5 + (4 * s + m))) (97 * m) 97 1) b_kBegun b_kTaken b_kThrown) ek := by
          intro q hq hq0
          exact rd_congr (rc_klen hK hq).2.2 (h2 q hq hq0) (fun i hi => ⟨dz_out (by omega), dz_out (by omega), dz_out (by omega), dz_out (by omega), rfl, rfl⟩) (fun e he => dz_out (by omega)) (fun x hx => rfl)
        have f3 : (rc_known a_length a_op a_opB (upd so m 0) a_known (dy tk b_kTaken (384 * s + 96 * m) (96 * m) (4 * (xn a_length m)))) (fun q => if q = m then ent m + ek (4 * s + m) else ent q) := by
          intro q hq hq0 hso e he hle
          by_cases cq : q = m
          · subst cq
            exact absurd pk_us hso
          · rw [show upd so m 0 q = so q from pk_un cq] at hso
            rw [h3 q hq hq0 hso e he hle]
            show _ = rd_F (if q = m then ent m + ek (4 * s + m) else ent q) _ e
            rw [if_neg cq]
            exact (rd_Fc (fun x hx => dy_out (by omega)) e he).symm
        obtain ⟨r, ct2, rs2, st2, ca2, ub2, so2, bg2, tk2, th2, ent2, g1, g2, g3, hX, hY⟩ := ih (m + 1) (by omega) (c + 1) _ _ _ _ _ _ _ _ _ _ f1 f2 f3
        refine ⟨r, ct2, rs2, st2, ca2, ub2, so2, bg2, tk2, th2, ent2, g1, g2, g3, fun post hp => br_f gx (nm_r eQ ⟨i17, br_f nz ?_⟩), fun post hp => br_f gx ?_⟩
        · refine sX _ ?_
          refine br_f (by decide) (nm_r (nI_1 c) ?_)
          refine xd_copyData (a := (5 + (4 * s + m))) (b := m) (z := 1) (by omega) (by omega) (by omega) (by omega) ?_
          exact ⟨pk_in m 4 hm4, nm_r (e' := upd so m 0) (by rw [nI_clamp (by omega)]; rfl) (nm_r (nI_1 m) (hX post hp))⟩
        · refine sY _ ?_
          refine br_f (by decide) (nm_r (nI_1 c) (nm_r (qa_m24 m) ⟨(xn a_length m) + 1, ?_⟩))
          have go := yj_80 (g_depth := g_depth) (g_steps := g_steps) (g_result := g_result) (g_outcome := g_outcome) (g_load := g_load) (g_over := g_over) (post := post) (c := c + 1) hs hm4 C (b_begun := bg) (b_taken := tk) (b_thrown := th) (J := wY_merge_54 post (nI s) (d + 1)) (hY post hp) (xn a_length m) 0 (by omega)
          simp only [Nat.mul_zero, dy_0, Nat.add_zero] at go
          exact go
end
theorem mg_le {L L' : Nat} (h : L ≤ 1000000200) (h' : L' ≤ 1000000200) : ((nI L + nI L' ≤ (1000000000 : Int32)) ↔ L + L' ≤ 1000000000) ∧ ((nI L ≤ (1000000000 : Int32) - nI L') ↔ L + L' ≤ 1000000000) := by
  constructor
  · rw [nI_add, show (1000000000 : Int32) = nI 1000000000 from rfl, nI_leI (by omega) (by omega)]
  · rw [Int32.le_iff_toInt_le, nI_toInt (by omega), show (1000000000 : Int32) = nI 1000000000 from rfl, Int32.toInt_sub, nI_toInt (by omega), nI_toInt (by omega), Int.bmod_eq_of_le (by omega) (by omega)]
    omega
theorem i_vc_merge {k : Nat} {u : SX} {v : SY} (I : i_Rel k u v) (hk : k + 5 ≤ 2560) (v1 : Int32) : wpX_merge (fun r u' => wpY_merge (fun r' v' => r' = r ∧ i_Rel (k + 5) u' v') v v1) u v1 := by
  refine ze_el (P := fun u v => wpX_merge (fun r u' => wpY_merge (fun r' v' => r' = r ∧ i_Rel (k + 5) u' v') v v1) u v1) ?_ I
  intro f_load f_depth f_begun f_outcome f_result g_depth g_steps g_result g_outcome g_load g_over a_op a_opA a_opB a_opLine a_length a_guards a_handlers a_kept a_keptLoad a_counter a_raised a_stopped a_caught a_unbegun a_leads a_counts a_adds a_goes a_needed a_known a_solved a_open a_unknown a_balance a_group a_first a_last a_sum a_often a_told a_method a_pc a_start a_here a_path a_coming a_variable b_op b_a b_b b_line b_length b_from b_to b_at b_handlers b_begun b_taken b_thrown b_rowI b_rowWay b_rowLength b_times b_told b_kOp b_kA b_kB b_kLine b_kLength b_kFrom b_kTo b_kAt b_kHandlers b_kBegun b_kTaken b_kThrown b_kept b_method b_pc b_variable b_hereI b_hereWay b_hereLength b_into b_kLoad b_part ent ek C hK hP hD hL hF hS hN hl hv hr
  have R : i_Rel (k + 5) (f_load, f_depth, f_begun, f_outcome, f_result, a_op, a_opA, a_opB, a_opLine, a_length, a_guards, a_handlers, a_kept, a_keptLoad, a_counter, a_raised, a_stopped, a_caught, a_unbegun, a_leads, a_counts, a_adds, a_goes, a_needed, a_known, a_solved, a_open, a_unknown, a_balance, a_group, a_first, a_last, a_sum, a_often, a_told, a_method, a_pc, a_start, a_here, a_path, a_coming, a_variable) (g_depth, g_steps, g_result, g_outcome, g_load, g_over, b_op, b_a, b_b, b_line, b_length, b_from, b_to, b_at, b_handlers, b_begun, b_taken, b_thrown, b_rowI, b_rowWay, b_rowLength, b_times, b_told, b_kOp, b_kA, b_kB, b_kLine, b_kLength, b_kFrom, b_kTo, b_kAt, b_kHandlers, b_kBegun, b_kTaken, b_kThrown, b_kept, b_method, b_pc, b_variable, b_hereI, b_hereWay, b_hereLength, b_into, b_kLoad, b_part) := ze_mk C hK hP hD hL hF hS hN hl hv hr
  rcases qb_no (x := v1) (l := 3) 3 rfl (by decide) with ⟨s, hs, rfl, a1, a2⟩ | ⟨h1, h2⟩
  · have i3 : vp_in (nI s) 3 := pk_in s 3 hs
    obtain ⟨ks, L', hL', q1, q2⟩ := hL s hs
    obtain ⟨L, hL0, p1, p2⟩ := hl
    have rk : a_kept (nI s).toNatClampNeg = a_kept s := qa_rr s rfl
    have rky : b_kept (nI s).toNatClampNeg = a_kept s := qa_r s rfl ks.symm
    have rl : a_keptLoad (nI s).toNatClampNeg = nI L' := qa_r s rfl q1
    have rly : b_kLoad (nI s).toNatClampNeg = nI L' := qa_r s rfl q2
    obtain ⟨m1, m2⟩ := mg_le hL0 hL'
    unfold wpX_merge
    refine a1 _ ?_
    by_cases ck : a_kept s = 0
    · refine br_t rfl ⟨i3, br_t (rk.trans ck) ?_⟩
      unfold wpY_merge
      refine a2 _ ?_
      exact br_f (by decide) ⟨i3, br_t (rky.trans ck) ⟨rfl, R⟩⟩
    · refine br_t rfl ⟨i3, br_f (fun z => ck (rk.symm.trans z)) ⟨i3, ?_⟩⟩
      have nk : ¬ b_kept (nI s).toNatClampNeg = 0 := fun z => ck (rky.symm.trans z)
      by_cases cl : L + L' ≤ 1000000000
      · have e1 : f_load + a_keptLoad (nI s).toNatClampNeg = nI (L + L') := by rw [p1, rl, nI_add]
        have e2 : g_load + b_kLoad (nI s).toNatClampNeg = nI (L + L') := by rw [p2, rly, nI_add]
        obtain ⟨r, ct2, rs2, st2, ca2, ub2, so2, bg2, tk2, th2, ent2, g1, g2, g3, hX, hY⟩ := mg_54 (f_load := (nI (L + L'))) (f_depth := f_depth) (f_begun := f_begun) (f_outcome := f_outcome) (f_result := f_result) (a_op := a_op) (a_opA := a_opA) (a_opB := a_opB) (a_opLine := a_opLine) (a_length := a_length) (a_guards := a_guards) (a_handlers := a_handlers) (a_kept := a_kept) (a_keptLoad := a_keptLoad) (a_leads := a_leads) (a_counts := a_counts) (a_adds := a_adds) (a_goes := a_goes) (a_needed := a_needed) (a_known := a_known) (a_open := a_open) (a_unknown := a_unknown) (a_balance := a_balance) (a_group := a_group) (a_first := a_first) (a_last := a_last) (a_sum := a_sum) (a_often := a_often) (a_told := a_told) (a_method := a_method) (a_pc := a_pc) (a_start := a_start) (a_here := a_here) (a_path := a_path) (a_coming := a_coming) (a_variable := a_variable) (g_depth := g_depth) (g_steps := g_steps) (g_result := g_result) (g_outcome := g_outcome) (g_load := (nI (L + L'))) (g_over := g_over) (b_op := b_op) (b_a := b_a) (b_b := b_b) (b_line := b_line) (b_length := b_length) (b_from := b_from) (b_to := b_to) (b_at := b_at) (b_handlers := b_handlers) (b_rowI := b_rowI) (b_rowWay := b_rowWay) (b_rowLength := b_rowLength) (b_times := b_times) (b_told := b_told) (b_kOp := b_kOp) (b_kA := b_kA) (b_kB := b_kB) (b_kLine := b_kLine) (b_kLength := b_kLength) (b_kFrom := b_kFrom) (b_kTo := b_kTo) (b_kAt := b_kAt) (b_kHandlers := b_kHandlers) (b_kBegun := b_kBegun) (b_kTaken := b_kTaken) (b_kThrown := b_kThrown) (b_kept := b_kept) (b_method := b_method) (b_pc := b_pc) (b_variable := b_variable) (b_hereI := b_hereI) (b_hereWay := b_hereWay) (b_hereLength := b_hereLength) (b_into := b_into) (b_kLoad := b_kLoad) (b_part := b_part) hs C hK 4 0 rfl 0 a_counter a_raised a_stopped a_caught a_unbegun a_solved b_begun b_taken b_thrown ent hF hD hN
        refine br_t (by rw [p1, rl]; exact m1.mpr cl) ⟨i3, nm_r e1 ⟨_, hX _ ?_⟩⟩
        unfold wpY_merge
        refine a2 _ ?_
        exact br_f (by decide) ⟨i3, br_f nk ⟨i3, br_t (by rw [p2, rly]; exact m2.mpr cl) ⟨i3, nm_r e2 ⟨_, hY _ ⟨rfl, ze_mk C hK hP g2 hL g1 hS g3 ⟨L + L', by omega, rfl, rfl⟩ hv hr⟩⟩⟩⟩⟩
      · refine br_f (by rw [p1, rl]; exact fun z => cl (m1.mp z)) ?_
        unfold wpY_merge
        refine a2 _ ?_
        exact br_f (by decide) ⟨i3, br_f nk ⟨i3, br_f (by rw [p2, rly]; exact fun z => cl (m2.mp z)) ⟨rfl, R⟩⟩⟩
  · unfold wpX_merge
    refine h1 _ ?_
    refine br_f (by decide) ?_
    unfold wpY_merge
    refine h2 _ ?_
    exact br_t rfl ⟨rfl, R⟩
end
section
/-! owed: run -/
section
variable {f_load : Int32} {f_depth : Int32} {f_begun : Int32} {f_outcome : Int32} {f_result : Int32} {a_op : (Nat → Int32)} {a_opA : (Nat → Int32)} {a_opB : (Nat → Int32)} {a_opLine : (Nat → Int32)} {a_length : (Nat → Int32)} {a_guards : (Nat → Int32)} {a_handlers : (Nat → Int32)} {a_kept : (Nat → Int32)} {a_keptLoad : (Nat → Int32)} {a_counter : (Nat → Int32)} {a_raised : (Nat → Int32)} {a_stopped : (Nat → Int32)} {a_caught : (Nat → Int32)} {a_unbegun : (Nat → Int32)} {a_leads : (Nat → Int32)} {a_counts : (Nat → Int32)} {a_adds : (Nat → Int64)} {a_goes : (Nat → Int64)} {a_needed : (Nat → Int32)} {a_known : (Nat → Int32)} {a_solved : (Nat → Int32)} {a_open : (Nat → Int32)} {a_unknown : (Nat → Int32)} {a_balance : (Nat → Int32)} {a_group : (Nat → Int32)} {a_first : (Nat → Int32)} {a_last : (Nat → Int32)} {a_sum : (Nat → Int64)} {a_often : (Nat → Int32)} {a_told : (Nat → Int32)} {a_method : (Nat → Int32)} {a_pc : (Nat → Int32)} {a_start : (Nat → Int32)} {a_here : (Nat → Int32)} {a_path : (Nat → Int64)} {a_coming : (Nat → Int64)} {a_variable : (Nat → Int32)} {g_depth : Int32} {g_steps : Int32} {g_result : Int32} {g_outcome : Int32} {g_load : Int32} {g_over : Int32} {b_op : (Nat → Int32)} {b_a : (Nat → Int32)} {b_b : (Nat → Int32)} {b_line : (Nat → Int32)} {b_length : (Nat → Int32)} {b_from : (Nat → Int32)} {b_to : (Nat → Int32)} {b_at : (Nat → Int32)} {b_handlers : (Nat → Int32)} {b_begun : (Nat → Int32)} {b_taken : (Nat → Int32)} {b_thrown : (Nat → Int32)} {b_rowI : (Nat → Int32)} {b_rowWay : (Nat → Int32)} {b_rowLength : (Nat → Int32)} {b_times : (Nat → Int32)} {b_told : (Nat → Int32)} {b_kOp : (Nat → Int32)} {b_kA : (Nat → Int32)} {b_kB : (Nat → Int32)} {b_kLine : (Nat → Int32)} {b_kLength : (Nat → Int32)} {b_kFrom : (Nat → Int32)} {b_kTo : (Nat → Int32)} {b_kAt : (Nat → Int32)} {b_kHandlers : (Nat → Int32)} {b_kBegun : (Nat → Int32)} {b_kTaken : (Nat → Int32)} {b_kThrown : (Nat → Int32)} {b_kept : (Nat → Int32)} {b_method : (Nat → Int32)} {b_pc : (Nat → Int32)} {b_variable : (Nat → Int32)} {b_hereI : (Nat → Int32)} {b_hereWay : (Nat → Int32)} {b_hereLength : (Nat → Int32)} {b_into : (Nat → Int32)} {b_kLoad : (Nat → Int32)} {b_part : (Nat → Int32)}
theorem ru_22 {m : Nat} {x y : Int32} {post : Int32 → SX → Prop} (K : ∃ n22, (wX_run_22 post (nI m) x y f_load f_depth f_begun f_outcome f_result (n22 + 1) (nI 4) a_op a_opA a_opB a_opLine a_length a_guards a_handlers a_kept a_keptLoad a_counter a_raised a_stopped a_caught a_unbegun a_leads a_counts a_adds a_goes a_needed a_known (cz_z a_solved 0 4) a_open a_unknown a_balance a_group a_first a_last a_sum a_often a_told a_method a_pc a_start a_here a_path a_coming a_variable)) : ∃ n22, (wX_run_22 post (nI m) x y f_load f_depth f_begun f_outcome f_result n22 0 a_op a_opA a_opB a_opLine a_length a_guards a_handlers a_kept a_keptLoad a_counter a_raised a_stopped a_caught a_unbegun a_leads a_counts a_adds a_goes a_needed a_known a_solved a_open a_unknown a_balance a_group a_first a_last a_sum a_often a_told a_method a_pc a_start a_here a_path a_coming a_variable) := by
  obtain ⟨n0, K⟩ := K
  have main : ∀ d k, k + d = 4 → (wX_run_22 post (nI m) x y f_load f_depth f_begun f_outcome f_result (n0 + 1 + d) (nI k) a_op a_opA a_opB a_opLine a_length a_guards a_handlers a_kept a_keptLoad a_counter a_raised a_stopped a_caught a_unbegun a_leads a_counts a_adds a_goes a_needed a_known (cz_z a_solved 0 k) a_open a_unknown a_balance a_group a_first a_last a_sum a_often a_told a_method a_pc a_start a_here a_path a_coming a_variable) := by
    intro d
    induction d with
    | zero =>
      intro k hk
      obtain rfl : k = 4 := by omega
      exact K
    | succ d ih =>
      intro k hk
      refine br_f (nI_ge (b := 4) (by omega) (by decide)) ⟨pk_in k 4 (by omega), nm_r (e' := cz_z a_solved 0 (k + 1)) ?_ (nm_r (nI_1 k) (ih (k + 1) (by omega)))⟩
      rw [qa_z0, nI_clamp (by omega)]
      have := cz_z_s (a := a_solved) (t := 0) (k := k)
      rw [Nat.zero_add] at this
      exact this
  have h := main 4 0 rfl
  rw [cz_z_0] at h
  exact ⟨_, h⟩
end
theorem i_vc_run {k : Nat} {u : SX} {v : SY} (I : i_Rel k u v) (hk : k + 5 ≤ 2560) (v1 : Int32) (v2 : Int32) (v3 : Int32) : wpX_run (fun r u' => wpY_run (fun r' v' => r' = r ∧ i_Rel (k + 5) u' v') v v1 v2 v3) u v1 v2 v3 := by
  refine ze_el (P := fun u v => wpX_run (fun r u' => wpY_run (fun r' v' => r' = r ∧ i_Rel (k + 5) u' v') v v1 v2 v3) u v1 v2 v3) ?_ I
  intro f_load f_depth f_begun f_outcome f_result g_depth g_steps g_result g_outcome g_load g_over a_op a_opA a_opB a_opLine a_length a_guards a_handlers a_kept a_keptLoad a_counter a_raised a_stopped a_caught a_unbegun a_leads a_counts a_adds a_goes a_needed a_known a_solved a_open a_unknown a_balance a_group a_first a_last a_sum a_often a_told a_method a_pc a_start a_here a_path a_coming a_variable b_op b_a b_b b_line b_length b_from b_to b_at b_handlers b_begun b_taken b_thrown b_rowI b_rowWay b_rowLength b_times b_told b_kOp b_kA b_kB b_kLine b_kLength b_kFrom b_kTo b_kAt b_kHandlers b_kBegun b_kTaken b_kThrown b_kept b_method b_pc b_variable b_hereI b_hereWay b_hereLength b_into b_kLoad b_part ent ek C hK hP hD hL hF hS hN hl hv hr
  have R : i_Rel (k + 5) (f_load, f_depth, f_begun, f_outcome, f_result, a_op, a_opA, a_opB, a_opLine, a_length, a_guards, a_handlers, a_kept, a_keptLoad, a_counter, a_raised, a_stopped, a_caught, a_unbegun, a_leads, a_counts, a_adds, a_goes, a_needed, a_known, a_solved, a_open, a_unknown, a_balance, a_group, a_first, a_last, a_sum, a_often, a_told, a_method, a_pc, a_start, a_here, a_path, a_coming, a_variable) (g_depth, g_steps, g_result, g_outcome, g_load, g_over, b_op, b_a, b_b, b_line, b_length, b_from, b_to, b_at, b_handlers, b_begun, b_taken, b_thrown, b_rowI, b_rowWay, b_rowLength, b_times, b_told, b_kOp, b_kA, b_kB, b_kLine, b_kLength, b_kFrom, b_kTo, b_kAt, b_kHandlers, b_kBegun, b_kTaken, b_kThrown, b_kept, b_method, b_pc, b_variable, b_hereI, b_hereWay, b_hereLength, b_into, b_kLoad, b_part) := ze_mk C hK hP hD hL hF hS hN hl hv hr
  have hn4 : ∀ m, m < 4 → xn a_length m ≤ 24 := fun m hm => (rc_len C (r := m) (by omega)).2.2
  unfold wpX_run
  rcases qb_there (f_load := f_load) (f_depth := f_depth) (f_begun := f_begun) (f_outcome := f_outcome) (f_result := f_result) (a_op := a_op) (a_opA := a_opA) (a_opB := a_opB) (a_opLine := a_opLine) (a_length := a_length) (a_guards := a_guards) (a_handlers := a_handlers) (a_kept := a_kept) (a_keptLoad := a_keptLoad) (a_counter := a_counter) (a_raised := a_raised) (a_stopped := a_stopped) (a_caught := a_caught) (a_unbegun := a_unbegun) (a_leads := a_leads) (a_counts := a_counts) (a_adds := a_adds) (a_goes := a_goes) (a_needed := a_needed) (a_known := a_known) (a_solved := a_solved) (a_open := a_open) (a_unknown := a_unknown) (a_balance := a_balance) (a_group := a_group) (a_first := a_first) (a_last := a_last) (a_sum := a_sum) (a_often := a_often) (a_told := a_told) (a_method := a_method) (a_pc := a_pc) (a_start := a_start) (a_here := a_here) (a_path := a_path) (a_coming := a_coming) (a_variable := a_variable) (g_depth := g_depth) (g_steps := g_steps) (g_result := g_result) (g_outcome := g_outcome) (g_load := g_load) (g_over := g_over) (b_op := b_op) (b_a := b_a) (b_b := b_b) (b_line := b_line) (b_length := b_length) (b_from := b_from) (b_to := b_to) (b_at := b_at) (b_handlers := b_handlers) (b_begun := b_begun) (b_taken := b_taken) (b_thrown := b_thrown) (b_rowI := b_rowI) (b_rowWay := b_rowWay) (b_rowLength := b_rowLength) (b_times := b_times) (b_told := b_told) (b_kOp := b_kOp) (b_kA := b_kA) (b_kB := b_kB) (b_kLine := b_kLine) (b_kLength := b_kLength) (b_kFrom := b_kFrom) (b_kTo := b_kTo) (b_kAt := b_kAt) (b_kHandlers := b_kHandlers) (b_kBegun := b_kBegun) (b_kTaken := b_kTaken) (b_kThrown := b_kThrown) (b_kept := b_kept) (b_method := b_method) (b_pc := b_pc) (b_variable := b_variable) (b_hereI := b_hereI) (b_hereWay := b_hereWay) (b_hereLength := b_hereLength) (b_into := b_into) (b_kLoad := b_kLoad) (b_part := b_part) C v1 with ⟨m, hm, rfl, z, h1, h2⟩ | ⟨h1, h2⟩
  · refine h1 _ ?_
    obtain ⟨Lx, hLx, p1, p2⟩ := hl
    refine br_f (by decide) ?_
    by_cases cl : Lx ≤ 1000000000
    · have lx : f_load ≤ 1000000000 := by rw [p1]; exact nI_le (b := 1000000000) cl (by decide)
      have ly : g_load ≤ 1000000000 := by rw [p2]; exact nI_le (b := 1000000000) cl (by decide)
      subst hv
      have F0 : (rg_flow a_length a_op a_opB a_raised a_stopped a_caught a_unbegun a_counter b_begun b_taken b_thrown b_kBegun b_kTaken b_kThrown) ent (fun _ _ => 0) (fun _ _ => 0) := ⟨hF, fun q hq => (rc_klen hK hq).2.2, ek, hD⟩
      have F1 := eg_enter (m0 := m) (B := fun _ _ => 0) hn4 F0
      have RO : (ro_ok a_length a_op a_opB a_adds b_kBegun b_kTaken b_kThrown (nI (0 + 1)) 0 0 a_counter a_raised a_stopped a_caught a_unbegun a_first a_last a_sum a_often a_told (upd a_method 0 (nI m)) (upd a_pc 0 (nI 0)) (upd a_start 0 (nI 0)) (upd a_here 0 (-1)) (vp_updL a_path 0 0) (vp_updL a_coming 0 0) (upd (upd (upd (upd a_variable (4 * 0) v2) (4 * 0 + 1) v3) (4 * 0 + 2) 0) (4 * 0 + 3) 0) (nI (0 + 1)) 0 0 0 b_begun b_taken b_thrown b_rowI b_rowWay b_rowLength b_times b_told (upd b_method 0 (nI m)) (upd b_pc 0 (nI 0)) (upd (upd (upd (upd a_variable (4 * 0) v2) (4 * 0 + 1) v3) (4 * 0 + 2) 0) (4 * 0 + 3) 0) b_hereI b_hereWay (upd b_hereLength 0 0) (upd b_into 0 0)) (fun q => if q = m then ent q + 1 else ent q) :=
        ⟨hS, rfl, Or.inl ⟨0, m, 0, by omega, rfl, rfl, rfl, rfl, rfl, rfl, rfl, fun f hf => absurd hf (by omega), ⟨⟨hm, z, pk_us, pk_us, pk_us, pk_us⟩, Or.inl ⟨pk_us, pk_us, pk_us, pk_uLs, pk_uLs⟩⟩, F1⟩⟩
      obtain ⟨r0, bz, ent2, f_depth', f_outcome', f_result', a_counter', a_raised', a_stopped', a_caught', a_unbegun', a_first', a_last', a_sum', a_often', a_told', a_method', a_pc', a_start', a_here', a_path', a_coming', a_variable', g_depth', g_result', g_outcome', g_over', b_begun', b_taken', b_thrown', b_rowI', b_rowWay', b_rowLength', b_times', b_told', b_method', b_pc', b_variable', b_hereI', b_hereWay', b_hereLength', b_into', ⟨S2, V2, R2, F2, hbz⟩, hX, hY⟩ := rl_run (a_op := a_op) (a_opA := a_opA) (a_opB := a_opB) (a_opLine := a_opLine) (a_length := a_length) (a_guards := a_guards) (a_handlers := a_handlers) (a_kept := a_kept) (a_keptLoad := a_keptLoad) (a_leads := a_leads) (a_counts := a_counts) (a_adds := a_adds) (a_goes := a_goes) (a_needed := a_needed) (a_known := a_known) (a_solved := (cz_z a_solved 0 4)) (a_open := a_open) (a_unknown := a_unknown) (a_balance := a_balance) (a_group := a_group) (b_op := b_op) (b_a := b_a) (b_b := b_b) (b_line := b_line) (b_length := b_length) (b_from := b_from) (b_to := b_to) (b_at := b_at) (b_handlers := b_handlers) (b_kOp := b_kOp) (b_kA := b_kA) (b_kB := b_kB) (b_kLine := b_kLine) (b_kLength := b_kLength) (b_kFrom := b_kFrom) (b_kTo := b_kTo) (b_kAt := b_kAt) (b_kHandlers := b_kHandlers) (b_kBegun := b_kBegun) (b_kTaken := b_kTaken) (b_kThrown := b_kThrown) (b_kept := b_kept) (b_kLoad := b_kLoad) (b_part := b_part) (Lx := Lx) C hP 200 0 (by omega) _ (nI (0 + 1)) 0 0 a_counter a_raised a_stopped a_caught a_unbegun a_first a_last a_sum a_often a_told (upd a_method 0 (nI m)) (upd a_pc 0 (nI 0)) (upd a_start 0 (nI 0)) (upd a_here 0 (-1)) (vp_updL a_path 0 0) (vp_updL a_coming 0 0) (upd (upd (upd (upd a_variable (4 * 0) v2) (4 * 0 + 1) v3) (4 * 0 + 2) 0) (4 * 0 + 3) 0) (nI (0 + 1)) 0 0 0 b_begun b_taken b_thrown b_rowI b_rowWay b_rowLength b_times b_told (upd b_method 0 (nI m)) (upd b_pc 0 (nI 0)) (upd (upd (upd (upd a_variable (4 * 0) v2) (4 * 0 + 1) v3) (4 * 0 + 2) 0) (4 * 0 + 3) 0) b_hereI b_hereWay (upd b_hereLength 0 0) (upd b_into 0 0) RO
      obtain ⟨F2a, _, ek2, F2b⟩ := F2
      refine br_t lx (ru_22 ⟨0, ?_⟩)
      refine br_t (nI_le (b := 4) (Nat.le_refl 4) (by decide)) ?_
      refine rl_enterX (f := 0) (by omega) hm ⟨202, ?_⟩
      rw [p1]
      refine hX _ ?_ 202 (by omega)
      unfold wpY_run
      refine h2 _ ?_
      refine br_f (by decide) (br_t ly ?_)
      refine rl_enterY (f := 0) (by omega) ⟨202, ?_⟩
      rw [p2]
      refine hY _ ⟨rfl, ?_⟩ 202 (by omega)
      refine ze_mk C hK hP F2b hL F2a S2 ?_ ⟨Lx + bz, by omega, rfl, rfl⟩ V2 R2
      intro q hq hq0 hs
      exact absurd (show cz_z a_solved 0 4 q = 0 from if_pos (by omega)) hs
    · have lx : ¬ f_load ≤ 1000000000 := by rw [p1]; exact nI_ge (a := 1000000000) (by omega) (by omega)
      have ly : ¬ g_load ≤ 1000000000 := by rw [p2]; exact nI_ge (a := 1000000000) (by omega) (by omega)
      have goB : (wpY_run (fun r' v' => r' = -1 ∧ i_Rel (k + 5) (f_load, f_depth, f_begun, f_outcome, f_result, a_op, a_opA, a_opB, a_opLine, a_length, a_guards, a_handlers, a_kept, a_keptLoad, a_counter, a_raised, a_stopped, a_caught, a_unbegun, a_leads, a_counts, a_adds, a_goes, a_needed, a_known, a_solved, a_open, a_unknown, a_balance, a_group, a_first, a_last, a_sum, a_often, a_told, a_method, a_pc, a_start, a_here, a_path, a_coming, a_variable) v') (g_depth, g_steps, g_result, g_outcome, g_load, g_over, b_op, b_a, b_b, b_line, b_length, b_from, b_to, b_at, b_handlers, b_begun, b_taken, b_thrown, b_rowI, b_rowWay, b_rowLength, b_times, b_told, b_kOp, b_kA, b_kB, b_kLine, b_kLength, b_kFrom, b_kTo, b_kAt, b_kHandlers, b_kBegun, b_kTaken, b_kThrown, b_kept, b_method, b_pc, b_variable, b_hereI, b_hereWay, b_hereLength, b_into, b_kLoad, b_part) (nI m) v2 v3) := by
        unfold wpY_run
        dsimp only
        refine h2 _ ?_
        exact br_f (by decide) (br_f ly ⟨rfl, R⟩)
      exact br_f lx goB
  · refine h1 _ ?_
    have goB : (wpY_run (fun r' v' => r' = -1 ∧ i_Rel (k + 5) (f_load, f_depth, f_begun, f_outcome, f_result, a_op, a_opA, a_opB, a_opLine, a_length, a_guards, a_handlers, a_kept, a_keptLoad, a_counter, a_raised, a_stopped, a_caught, a_unbegun, a_leads, a_counts, a_adds, a_goes, a_needed, a_known, a_solved, a_open, a_unknown, a_balance, a_group, a_first, a_last, a_sum, a_often, a_told, a_method, a_pc, a_start, a_here, a_path, a_coming, a_variable) v') (g_depth, g_steps, g_result, g_outcome, g_load, g_over, b_op, b_a, b_b, b_line, b_length, b_from, b_to, b_at, b_handlers, b_begun, b_taken, b_thrown, b_rowI, b_rowWay, b_rowLength, b_times, b_told, b_kOp, b_kA, b_kB, b_kLine, b_kLength, b_kFrom, b_kTo, b_kAt, b_kHandlers, b_kBegun, b_kTaken, b_kThrown, b_kept, b_method, b_pc, b_variable, b_hereI, b_hereWay, b_hereLength, b_into, b_kLoad, b_part) v1 v2 v3) := by
      unfold wpY_run
      dsimp only
      refine h2 _ ?_
      exact br_t rfl ⟨rfl, R⟩
    exact br_t rfl goB
end
