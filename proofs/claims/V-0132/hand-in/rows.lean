section
/-! pure rows to paste: stores, nI and lN arithmetic, masks, shifts, narrowing, branches by naturals (pk_le, pk_lt, pk_eq), loops (lp1 .. lp16: the measure of the state; rp1 ..: recursion), negatives. Take what you need -/
theorem pk_us {f : Nat → Int32} {k : Nat} {x : Int32} : upd f k x k = x := if_pos rfl
theorem pk_un {f : Nat → Int32} {k j : Nat} {x : Int32} (h : j ≠ k) : upd f k x j = f j := if_neg h
theorem pk_uLs {f : Nat → Int64} {k : Nat} {x : Int64} : vp_updL f k x k = x := if_pos rfl
theorem pk_uLn {f : Nat → Int64} {k j : Nat} {x : Int64} (h : j ≠ k) : vp_updL f k x j = f j := if_neg h
theorem pk_sub {a b : Nat} (h : b ≤ a) : nI a - nI b = nI (a - b) := by
  obtain ⟨c, rfl⟩ : ∃ c, a = c + b := ⟨a - b, by omega⟩
  rw [← nI_add, Int32.add_sub_cancel, Nat.add_sub_cancel]
theorem pk_m1 (n : Nat) : nI (n + 1) + (-1) = nI n := by
  rw [← nI_1, Int32.add_assoc, show (1 : Int32) + (-1) = 0 from rfl, Int32.add_zero]
theorem pk_mul (a b : Nat) : nI a * nI b = nI (a * b) := (Int32.ofNat_mul a b).symm
theorem pk_div {a d : Nat} (ha : a < 2 ^ 31) (h0 : 0 < d) (hd : d < 2 ^ 31) : nI a / nI d = nI (a / d) := by
  apply Int32.toInt_inj.mp
  rw [lg_idiv_nonneg (by rw [nI_toInt ha]; omega) (by rw [nI_toInt hd]; omega), nI_toInt ha, nI_toInt hd, nI_toInt (Nat.lt_of_le_of_lt (Nat.div_le_self a d) ha)]
  first | rfl | exact (Int.natCast_ediv _ _).symm
theorem pk_rem {a d : Nat} (ha : a < 2 ^ 31) (h0 : 0 < d) (hd : d < 2 ^ 31) : nI a - nI a / nI d * nI d = nI (a % d) := by
  rw [pk_div ha h0 hd, pk_mul, pk_sub (Nat.div_mul_le_self a d)]
  exact congrArg nI (by have := Nat.div_add_mod' a d; omega)
theorem pk_sub_toInt {a b : Nat} (ha : a < 2 ^ 30) (hb : b < 2 ^ 30) : (nI a - nI b).toInt = (a : Int) - b := by
  rw [Int32.toInt_sub, nI_toInt (by omega), nI_toInt (by omega)]
  exact Int.bmod_eq_of_le (by omega) (by omega)
theorem pk_sneg {a b : Nat} (hb : b < 2 ^ 30) (h : a < b) : nI a - nI b < 0 := by
  rw [Int32.lt_iff_toInt_lt, pk_sub_toInt (by omega) hb, show (0 : Int32).toInt = 0 from by decide]
  omega
theorem pk_ix (x : Int32) {n : Nat} (hn : n < 2 ^ 31) : x < 0 ∨ nI n ≤ x ∨ ∃ j : Nat, j < n ∧ x = nI j := by
  by_cases h : x < 0
  · exact Or.inl h
  · obtain ⟨j, hj, rfl⟩ := nI_of h
    by_cases h2 : j < n
    · exact Or.inr (Or.inr ⟨j, h2, rfl⟩)
    · exact Or.inr (Or.inl (nI_le (by omega) hj))
theorem pk_le {x y : Int32} {A B : Prop} (a b : Nat) (f : a ≤ b → A) (g : b < a → B) (hx : x = nI a := by rfl) (hy : y = nI b := by rfl) (ha : a < 2 ^ 31 := by omega) (hb : b < 2 ^ 31 := by omega) : (x ≤ y → A) ∧ (¬ x ≤ y → B) := by
  subst hx hy
  rw [nI_leI ha hb]
  exact ⟨f, fun z => g (by omega)⟩
theorem pk_lt {x y : Int32} {A B : Prop} (a b : Nat) (f : a < b → A) (g : b ≤ a → B) (hx : x = nI a := by rfl) (hy : y = nI b := by rfl) (ha : a < 2 ^ 31 := by omega) (hb : b < 2 ^ 31 := by omega) : (x < y → A) ∧ (¬ x < y → B) := by
  subst hx hy
  rw [nI_ltI ha hb]
  exact ⟨f, fun z => g (by omega)⟩
theorem pk_eq {x y : Int32} {A B : Prop} (a b : Nat) (f : a = b → A) (g : a ≠ b → B) (hx : x = nI a := by rfl) (hy : y = nI b := by rfl) (ha : a < 2 ^ 31 := by omega) (hb : b < 2 ^ 31 := by omega) : (x = y → A) ∧ (¬ x = y → B) := by
  subst hx hy
  rw [nI_eq ha hb]
  exact ⟨f, g⟩
theorem pk_in {x : Int32} (n N : Nat) (h : n < N) (hx : x = nI n := by rfl) (hN : N < 2 ^ 31 := by omega) : vp_in x N := by
  subst hx
  exact vp_in_nI h hN
theorem pk_cl {x : Int32} (n : Nat) (hx : x = nI n := by rfl) (h : n < 2 ^ 31 := by omega) : x.toNatClampNeg = n := by
  subst hx
  exact nI_clamp h
theorem pk_tn {n : Nat} (h : n < 2 ^ 32) : (nI n).toBitVec.toNat = n := Nat.mod_eq_of_lt h
theorem pk_and (x : Int32) {m : Int32} (k : Nat) (hm : m.toBitVec.toNat = 2 ^ k - 1) : x &&& m = nI (x.toBitVec.toNat % 2 ^ k) := by
  apply Int32.toBitVec_inj.mp
  apply BitVec.eq_of_toNat_eq
  rw [Int32.toBitVec_and, BitVec.toNat_and, hm, Nat.and_two_pow_sub_one_eq_mod]
  show _ = (BitVec.ofNat 32 _).toNat
  rw [BitVec.toNat_ofNat]
  exact (Nat.mod_eq_of_lt (Nat.lt_of_le_of_lt (Nat.mod_le _ _) x.toBitVec.isLt)).symm
theorem pk_andN {n : Nat} (h : n < 2 ^ 32) {m : Int32} (k : Nat) (hm : m.toBitVec.toNat = 2 ^ k - 1) : nI n &&& m = nI (n % 2 ^ k) := by
  rw [pk_and _ k hm, pk_tn h]
theorem pk_andE (x : Int32) {m : Int32} (k : Nat) (hm : m.toBitVec.toNat = 2 ^ k - 1) : ∃ j : Nat, j < 2 ^ k ∧ x &&& m = nI j := ⟨_, Nat.mod_lt _ (Nat.two_pow_pos k), pk_and x k hm⟩
theorem pk_andIn (x : Int32) {m : Int32} (k : Nat) (hm : m.toBitVec.toNat = 2 ^ k - 1) (hk : k ≤ 30) : vp_in (x &&& m) (2 ^ k) := by
  obtain ⟨j, hj, e⟩ := pk_andE x k hm
  rw [e]
  exact vp_in_nI hj (Nat.lt_of_le_of_lt (Nat.pow_le_pow_right (by decide) hk) (by decide))
theorem pk_shl (a s : Int32) (k : Nat) (hs : (s.toBitVec.smod 32).toNat = k) : (a <<< s).toBitVec.toNat = a.toBitVec.toNat * 2 ^ k % 2 ^ 32 := by
  show (a.toBitVec <<< (s.toBitVec.smod 32).toNat).toNat = _
  rw [hs, BitVec.toNat_shiftLeft, Nat.shiftLeft_eq]
theorem pk_shlN {n : Nat} (s : Int32) (k : Nat) (hs : (s.toBitVec.smod 32).toNat = k) (h : n * 2 ^ k < 2 ^ 32) : nI n <<< s = nI (n * 2 ^ k) := by
  apply Int32.toBitVec_inj.mp
  apply BitVec.eq_of_toNat_eq
  have hn : n < 2 ^ 32 := Nat.lt_of_le_of_lt (Nat.le_mul_of_pos_right n (Nat.two_pow_pos k)) h
  rw [pk_shl _ _ k hs, pk_tn hn, pk_tn h, Nat.mod_eq_of_lt h]
theorem pk_shr (a s : Int32) (k : Nat) (hs : (s.toBitVec.smod 32).toNat = k) : (a >>> s).toInt = a.toInt >>> k := by
  show (a.toBitVec.sshiftRight (s.toBitVec.smod 32).toNat).toInt = _
  rw [hs, BitVec.toInt_sshiftRight]
  rfl
theorem pk_shrN {n : Nat} (h : n < 2 ^ 31) (s : Int32) (k : Nat) (hs : (s.toBitVec.smod 32).toNat = k) : nI n >>> s = nI (n / 2 ^ k) := by
  apply Int32.toInt_inj.mp
  have h2 : n / 2 ^ k ≤ n := Nat.div_le_self _ _
  rw [pk_shr _ _ k hs, nI_toInt h, nI_toInt (by omega), Int.shiftRight_eq_div_pow]
  rfl
theorem pk_ushr (x s : Int32) (k : Nat) (hs : ((s.toUInt32 &&& Int32.toUInt32 31).toBitVec % 32).toNat = k) : (x.toUInt32 >>> (s.toUInt32 &&& Int32.toUInt32 31)).toInt32.toBitVec.toNat = x.toBitVec.toNat / 2 ^ k := by
  have e : (x.toUInt32 >>> (s.toUInt32 &&& Int32.toUInt32 31)).toInt32.toBitVec = x.toBitVec >>> k := by
    rw [← hs]
    exact UInt32.toBitVec_shiftRight _ _
  rw [e, BitVec.toNat_ushiftRight, Nat.shiftRight_eq_div_pow]
theorem pk_ushrN {n : Nat} (hn : n < 2 ^ 32) (s : Int32) (k : Nat) (hs : ((s.toUInt32 &&& Int32.toUInt32 31).toBitVec % 32).toNat = k) : ((nI n).toUInt32 >>> (s.toUInt32 &&& Int32.toUInt32 31)).toInt32 = nI (n / 2 ^ k) := by
  apply Int32.toBitVec_inj.mp
  apply BitVec.eq_of_toNat_eq
  rw [pk_ushr _ s k hs, pk_tn hn, pk_tn (Nat.lt_of_le_of_lt (Nat.div_le_self _ _) hn)]
theorem pk_nb (z : Int32) : narrow .byte (.int z.toInt8.toInt32) = .int z.toInt8.toInt32 := congrArg Value.int (by simp)
theorem pk_ns (z : Int32) : narrow .short (.int z.toInt16.toInt32) = .int z.toInt16.toInt32 := congrArg Value.int (by simp)
theorem pk_fb (r : Int32) : fits .byte (.int r.toInt8.toInt32) = true := by
  have ⟨a, b⟩ := lg_i2b_range r
  have h1 : (-128 : Int32).toInt = -128 := by decide
  have h2 : (127 : Int32).toInt = 127 := by decide
  simp only [fits, Bool.and_eq_true, decide_eq_true_eq, Int32.le_iff_toInt_le, h1, h2]
  omega
theorem pk_fs (r : Int32) : fits .short (.int r.toInt16.toInt32) = true := by
  have ⟨a, b⟩ := lg_i2s_range r
  have h1 : (-32768 : Int32).toInt = -32768 := by decide
  have h2 : (32767 : Int32).toInt = 32767 := by decide
  simp only [fits, Bool.and_eq_true, decide_eq_true_eq, Int32.le_iff_toInt_le, h1, h2]
  omega
theorem pk_charN {q : Nat} (hq : q < 65536) : narrow .char (.int (nI q)) = .int (nI q) ∧ fits .char (.int (nI q)) = true := by
  constructor
  · have e : (nI q).toUInt32.toUInt16.toUInt32.toInt32 = nI q := by
      apply Int32.toBitVec_inj.mp
      apply BitVec.eq_of_toNat_eq
      show (nI q).toUInt32.toUInt16.toUInt32.toNat = q % 2 ^ 32
      rw [UInt16.toNat_toUInt32, UInt32.toNat_toUInt16, show (nI q).toUInt32.toNat = q % 2 ^ 32 from rfl]
      omega
    exact congrArg Value.int e
  · have a : (0 : Int32) ≤ nI q := nI_pos' (by omega)
    have b : nI q ≤ 65535 := nI_le (b := 65535) (by omega) (by decide)
    show (decide ((0 : Int32) ≤ nI q) && decide (nI q ≤ 65535)) = true
    rw [decide_eq_true a, decide_eq_true b]
    rfl
theorem pk_char (x : Int32) : (x.toUInt32 % 65536).toInt32 = nI (x.toBitVec.toNat % 65536) := by
  apply Int32.toBitVec_inj.mp
  apply BitVec.eq_of_toNat_eq
  rw [pk_tn (by omega)]
  show (x.toUInt32 % 65536).toNat = _
  rw [UInt32.toNat_mod]
  rfl
theorem pk_nc (x : Int32) : narrow .char (.int (x.toUInt32 % 65536).toInt32) = .int (x.toUInt32 % 65536).toInt32 := by
  rw [pk_char]
  exact (pk_charN (Nat.mod_lt _ (by decide))).1
theorem pk_fc (x : Int32) : fits .char (.int (x.toUInt32 % 65536).toInt32) = true := by
  rw [pk_char]
  exact (pk_charN (Nat.mod_lt _ (by decide))).2
theorem pk_vb (z : Int32) : vp_nar .byte z.toInt8.toInt32 = z.toInt8.toInt32 := by rw [vp_nar_byte]; simp
theorem pk_vs (z : Int32) : vp_nar .short z.toInt16.toInt32 = z.toInt16.toInt32 := by rw [vp_nar_short]; simp
theorem pk_vc (z : Int32) : vp_nar .char (z.toUInt32 % 65536).toInt32 = (z.toUInt32 % 65536).toInt32 := Value.int.inj (pk_nc z)
theorem pk_lT {n : Nat} (h : n < 2 ^ 63) : (lN n).toInt = (n : Int) := lg_ofNat_toInt h
theorem pk_lLT {a b : Nat} (ha : a < 2 ^ 63) (hb : b < 2 ^ 63) : lN a < lN b ↔ a < b := by
  rw [Int64.lt_iff_toInt_lt, pk_lT ha, pk_lT hb]; omega
theorem pk_lLE {a b : Nat} (ha : a < 2 ^ 63) (hb : b < 2 ^ 63) : lN a ≤ lN b ↔ a ≤ b := by
  rw [Int64.le_iff_toInt_le, pk_lT ha, pk_lT hb]; omega
theorem pk_lEQ {a b : Nat} (ha : a < 2 ^ 63) (hb : b < 2 ^ 63) : lN a = lN b ↔ a = b := by
  rw [← Int64.toInt_inj, pk_lT ha, pk_lT hb]; omega
theorem pk_lOf {x : Int64} (h : ¬ x < 0) : ∃ k : Nat, k < 2 ^ 63 ∧ x = lN k := by
  rw [Int64.lt_iff_toInt_lt] at h
  have h0 : (0 : Int64).toInt = 0 := by decide
  have hx := Int64.toInt_lt x
  refine ⟨x.toInt.toNat, by omega, Int64.toInt_inj.mp ?_⟩
  rw [pk_lT (by omega)]
  omega
theorem pk_lDiv {a b : Nat} (ha : a < 2 ^ 63) (h0 : 0 < b) (hb : b < 2 ^ 63) : lN a / lN b = lN (a / b) := by
  apply Int64.toInt_inj.mp
  rw [lg_ldiv_nonneg (by rw [pk_lT ha]; omega) (by rw [pk_lT hb]; omega), pk_lT ha, pk_lT hb, pk_lT (Nat.lt_of_le_of_lt (Nat.div_le_self a b) ha)]
  rfl
theorem pk_lRem {a b : Nat} (ha : a < 2 ^ 63) (h0 : 0 < b) (hb : b < 2 ^ 63) : lN a - lN a / lN b * lN b = lN (a % b) := by
  rw [pk_lDiv ha h0 hb, lN_mul, lN_sub (Nat.div_mul_le_self a b)]
  exact congrArg lN (by have := Nat.div_add_mod' a b; omega)
theorem pk_loop {σ : Type} (W : Nat → Nat → σ → Prop) (I : Nat → σ → Prop) (e i0 : Nat) (s : σ) (hi : i0 ≤ e) (h0 : I i0 s) (hx : ∀ n s, I e s → W (n + 1) e s)
    (hs : ∀ n i s, i < e → I i s → (∀ s', I (i + 1) s' → W n (i + 1) s') → W (n + 1) i s) : ∃ n, W n i0 s :=
  ⟨e + 1, loop_i W I e hx hs (e + 1) i0 s hi (by omega) h0⟩
theorem pk_loopD {σ : Type} (W : Nat → Nat → σ → Prop) (I : Nat → σ → Prop) (hx : ∀ n s, I 0 s → W (n + 1) 0 s)
    (hs : ∀ n i s, I (i + 1) s → (∀ s', I i s' → W n i s') → W (n + 1) (i + 1) s) : ∀ (e : Nat) (s : σ), I e s → W (e + 1) e s := by
  intro e
  induction e with
  | zero => exact fun s h => hx 0 s h
  | succ e ih => exact fun s h => hs (e + 1) e s h (fun s' h' => ih s' h')
theorem lp1 {A1 : Type} (W : Nat → A1 → Prop) (I : A1 → Prop) (μ : A1 → Nat) (hs : ∀ (n : Nat) (a1 : A1), I a1 → (∀ (b1 : A1), I b1 → μ b1 < μ a1 → W n b1) → W (n + 1) a1) (a1 : A1) (h : I a1) : ∃ n, W n a1 :=
  loop_m (σ := A1) (fun n s => W n s) (fun s => I s) (fun s => μ s) (fun n s hI hk => hs n s hI (fun b1 h9 hm => hk b1 h9 hm)) a1 h
theorem lp2 {A1 A2 : Type} (W : Nat → A1 → A2 → Prop) (I : A1 → A2 → Prop) (μ : A1 → A2 → Nat) (hs : ∀ (n : Nat) (a1 : A1) (a2 : A2), I a1 a2 → (∀ (b1 : A1) (b2 : A2), I b1 b2 → μ b1 b2 < μ a1 a2 → W n b1 b2) → W (n + 1) a1 a2) (a1 : A1) (a2 : A2) (h : I a1 a2) : ∃ n, W n a1 a2 :=
  loop_m (σ := A1 × A2) (fun n s => W n s.1 s.2) (fun s => I s.1 s.2) (fun s => μ s.1 s.2) (fun n s hI hk => hs n s.1 s.2 hI (fun b1 b2 h9 hm => hk (b1, b2) h9 hm)) (a1, a2) h
theorem lp3 {A1 A2 A3 : Type} (W : Nat → A1 → A2 → A3 → Prop) (I : A1 → A2 → A3 → Prop) (μ : A1 → A2 → A3 → Nat) (hs : ∀ (n : Nat) (a1 : A1) (a2 : A2) (a3 : A3), I a1 a2 a3 → (∀ (b1 : A1) (b2 : A2) (b3 : A3), I b1 b2 b3 → μ b1 b2 b3 < μ a1 a2 a3 → W n b1 b2 b3) → W (n + 1) a1 a2 a3) (a1 : A1) (a2 : A2) (a3 : A3) (h : I a1 a2 a3) : ∃ n, W n a1 a2 a3 :=
  loop_m (σ := A1 × A2 × A3) (fun n s => W n s.1 s.2.1 s.2.2) (fun s => I s.1 s.2.1 s.2.2) (fun s => μ s.1 s.2.1 s.2.2) (fun n s hI hk => hs n s.1 s.2.1 s.2.2 hI (fun b1 b2 b3 h9 hm => hk (b1, b2, b3) h9 hm)) (a1, a2, a3) h
theorem lp4 {A1 A2 A3 A4 : Type} (W : Nat → A1 → A2 → A3 → A4 → Prop) (I : A1 → A2 → A3 → A4 → Prop) (μ : A1 → A2 → A3 → A4 → Nat) (hs : ∀ (n : Nat) (a1 : A1) (a2 : A2) (a3 : A3) (a4 : A4), I a1 a2 a3 a4 → (∀ (b1 : A1) (b2 : A2) (b3 : A3) (b4 : A4), I b1 b2 b3 b4 → μ b1 b2 b3 b4 < μ a1 a2 a3 a4 → W n b1 b2 b3 b4) → W (n + 1) a1 a2 a3 a4) (a1 : A1) (a2 : A2) (a3 : A3) (a4 : A4) (h : I a1 a2 a3 a4) : ∃ n, W n a1 a2 a3 a4 :=
  loop_m (σ := A1 × A2 × A3 × A4) (fun n s => W n s.1 s.2.1 s.2.2.1 s.2.2.2) (fun s => I s.1 s.2.1 s.2.2.1 s.2.2.2) (fun s => μ s.1 s.2.1 s.2.2.1 s.2.2.2) (fun n s hI hk => hs n s.1 s.2.1 s.2.2.1 s.2.2.2 hI (fun b1 b2 b3 b4 h9 hm => hk (b1, b2, b3, b4) h9 hm)) (a1, a2, a3, a4) h
theorem lp5 {A1 A2 A3 A4 A5 : Type} (W : Nat → A1 → A2 → A3 → A4 → A5 → Prop) (I : A1 → A2 → A3 → A4 → A5 → Prop) (μ : A1 → A2 → A3 → A4 → A5 → Nat) (hs : ∀ (n : Nat) (a1 : A1) (a2 : A2) (a3 : A3) (a4 : A4) (a5 : A5), I a1 a2 a3 a4 a5 → (∀ (b1 : A1) (b2 : A2) (b3 : A3) (b4 : A4) (b5 : A5), I b1 b2 b3 b4 b5 → μ b1 b2 b3 b4 b5 < μ a1 a2 a3 a4 a5 → W n b1 b2 b3 b4 b5) → W (n + 1) a1 a2 a3 a4 a5) (a1 : A1) (a2 : A2) (a3 : A3) (a4 : A4) (a5 : A5) (h : I a1 a2 a3 a4 a5) : ∃ n, W n a1 a2 a3 a4 a5 :=
  loop_m (σ := A1 × A2 × A3 × A4 × A5) (fun n s => W n s.1 s.2.1 s.2.2.1 s.2.2.2.1 s.2.2.2.2) (fun s => I s.1 s.2.1 s.2.2.1 s.2.2.2.1 s.2.2.2.2) (fun s => μ s.1 s.2.1 s.2.2.1 s.2.2.2.1 s.2.2.2.2) (fun n s hI hk => hs n s.1 s.2.1 s.2.2.1 s.2.2.2.1 s.2.2.2.2 hI (fun b1 b2 b3 b4 b5 h9 hm => hk (b1, b2, b3, b4, b5) h9 hm)) (a1, a2, a3, a4, a5) h
theorem lp6 {A1 A2 A3 A4 A5 A6 : Type} (W : Nat → A1 → A2 → A3 → A4 → A5 → A6 → Prop) (I : A1 → A2 → A3 → A4 → A5 → A6 → Prop) (μ : A1 → A2 → A3 → A4 → A5 → A6 → Nat) (hs : ∀ (n : Nat) (a1 : A1) (a2 : A2) (a3 : A3) (a4 : A4) (a5 : A5) (a6 : A6), I a1 a2 a3 a4 a5 a6 → (∀ (b1 : A1) (b2 : A2) (b3 : A3) (b4 : A4) (b5 : A5) (b6 : A6), I b1 b2 b3 b4 b5 b6 → μ b1 b2 b3 b4 b5 b6 < μ a1 a2 a3 a4 a5 a6 → W n b1 b2 b3 b4 b5 b6) → W (n + 1) a1 a2 a3 a4 a5 a6) (a1 : A1) (a2 : A2) (a3 : A3) (a4 : A4) (a5 : A5) (a6 : A6) (h : I a1 a2 a3 a4 a5 a6) : ∃ n, W n a1 a2 a3 a4 a5 a6 :=
  loop_m (σ := A1 × A2 × A3 × A4 × A5 × A6) (fun n s => W n s.1 s.2.1 s.2.2.1 s.2.2.2.1 s.2.2.2.2.1 s.2.2.2.2.2) (fun s => I s.1 s.2.1 s.2.2.1 s.2.2.2.1 s.2.2.2.2.1 s.2.2.2.2.2) (fun s => μ s.1 s.2.1 s.2.2.1 s.2.2.2.1 s.2.2.2.2.1 s.2.2.2.2.2) (fun n s hI hk => hs n s.1 s.2.1 s.2.2.1 s.2.2.2.1 s.2.2.2.2.1 s.2.2.2.2.2 hI (fun b1 b2 b3 b4 b5 b6 h9 hm => hk (b1, b2, b3, b4, b5, b6) h9 hm)) (a1, a2, a3, a4, a5, a6) h
theorem lp7 {A1 A2 A3 A4 A5 A6 A7 : Type} (W : Nat → A1 → A2 → A3 → A4 → A5 → A6 → A7 → Prop) (I : A1 → A2 → A3 → A4 → A5 → A6 → A7 → Prop) (μ : A1 → A2 → A3 → A4 → A5 → A6 → A7 → Nat) (hs : ∀ (n : Nat) (a1 : A1) (a2 : A2) (a3 : A3) (a4 : A4) (a5 : A5) (a6 : A6) (a7 : A7), I a1 a2 a3 a4 a5 a6 a7 → (∀ (b1 : A1) (b2 : A2) (b3 : A3) (b4 : A4) (b5 : A5) (b6 : A6) (b7 : A7), I b1 b2 b3 b4 b5 b6 b7 → μ b1 b2 b3 b4 b5 b6 b7 < μ a1 a2 a3 a4 a5 a6 a7 → W n b1 b2 b3 b4 b5 b6 b7) → W (n + 1) a1 a2 a3 a4 a5 a6 a7) (a1 : A1) (a2 : A2) (a3 : A3) (a4 : A4) (a5 : A5) (a6 : A6) (a7 : A7) (h : I a1 a2 a3 a4 a5 a6 a7) : ∃ n, W n a1 a2 a3 a4 a5 a6 a7 :=
  loop_m (σ := A1 × A2 × A3 × A4 × A5 × A6 × A7) (fun n s => W n s.1 s.2.1 s.2.2.1 s.2.2.2.1 s.2.2.2.2.1 s.2.2.2.2.2.1 s.2.2.2.2.2.2) (fun s => I s.1 s.2.1 s.2.2.1 s.2.2.2.1 s.2.2.2.2.1 s.2.2.2.2.2.1 s.2.2.2.2.2.2) (fun s => μ s.1 s.2.1 s.2.2.1 s.2.2.2.1 s.2.2.2.2.1 s.2.2.2.2.2.1 s.2.2.2.2.2.2) (fun n s hI hk => hs n s.1 s.2.1 s.2.2.1 s.2.2.2.1 s.2.2.2.2.1 s.2.2.2.2.2.1 s.2.2.2.2.2.2 hI (fun b1 b2 b3 b4 b5 b6 b7 h9 hm => hk (b1, b2, b3, b4, b5, b6, b7) h9 hm)) (a1, a2, a3, a4, a5, a6, a7) h
theorem lp8 {A1 A2 A3 A4 A5 A6 A7 A8 : Type} (W : Nat → A1 → A2 → A3 → A4 → A5 → A6 → A7 → A8 → Prop) (I : A1 → A2 → A3 → A4 → A5 → A6 → A7 → A8 → Prop) (μ : A1 → A2 → A3 → A4 → A5 → A6 → A7 → A8 → Nat) (hs : ∀ (n : Nat) (a1 : A1) (a2 : A2) (a3 : A3) (a4 : A4) (a5 : A5) (a6 : A6) (a7 : A7) (a8 : A8), I a1 a2 a3 a4 a5 a6 a7 a8 → (∀ (b1 : A1) (b2 : A2) (b3 : A3) (b4 : A4) (b5 : A5) (b6 : A6) (b7 : A7) (b8 : A8), I b1 b2 b3 b4 b5 b6 b7 b8 → μ b1 b2 b3 b4 b5 b6 b7 b8 < μ a1 a2 a3 a4 a5 a6 a7 a8 → W n b1 b2 b3 b4 b5 b6 b7 b8) → W (n + 1) a1 a2 a3 a4 a5 a6 a7 a8) (a1 : A1) (a2 : A2) (a3 : A3) (a4 : A4) (a5 : A5) (a6 : A6) (a7 : A7) (a8 : A8) (h : I a1 a2 a3 a4 a5 a6 a7 a8) : ∃ n, W n a1 a2 a3 a4 a5 a6 a7 a8 :=
  loop_m (σ := A1 × A2 × A3 × A4 × A5 × A6 × A7 × A8) (fun n s => W n s.1 s.2.1 s.2.2.1 s.2.2.2.1 s.2.2.2.2.1 s.2.2.2.2.2.1 s.2.2.2.2.2.2.1 s.2.2.2.2.2.2.2) (fun s => I s.1 s.2.1 s.2.2.1 s.2.2.2.1 s.2.2.2.2.1 s.2.2.2.2.2.1 s.2.2.2.2.2.2.1 s.2.2.2.2.2.2.2) (fun s => μ s.1 s.2.1 s.2.2.1 s.2.2.2.1 s.2.2.2.2.1 s.2.2.2.2.2.1 s.2.2.2.2.2.2.1 s.2.2.2.2.2.2.2) (fun n s hI hk => hs n s.1 s.2.1 s.2.2.1 s.2.2.2.1 s.2.2.2.2.1 s.2.2.2.2.2.1 s.2.2.2.2.2.2.1 s.2.2.2.2.2.2.2 hI (fun b1 b2 b3 b4 b5 b6 b7 b8 h9 hm => hk (b1, b2, b3, b4, b5, b6, b7, b8) h9 hm)) (a1, a2, a3, a4, a5, a6, a7, a8) h
theorem lp9 {A1 A2 A3 A4 A5 A6 A7 A8 A9 : Type} (W : Nat → A1 → A2 → A3 → A4 → A5 → A6 → A7 → A8 → A9 → Prop) (I : A1 → A2 → A3 → A4 → A5 → A6 → A7 → A8 → A9 → Prop) (μ : A1 → A2 → A3 → A4 → A5 → A6 → A7 → A8 → A9 → Nat) (hs : ∀ (n : Nat) (a1 : A1) (a2 : A2) (a3 : A3) (a4 : A4) (a5 : A5) (a6 : A6) (a7 : A7) (a8 : A8) (a9 : A9), I a1 a2 a3 a4 a5 a6 a7 a8 a9 → (∀ (b1 : A1) (b2 : A2) (b3 : A3) (b4 : A4) (b5 : A5) (b6 : A6) (b7 : A7) (b8 : A8) (b9 : A9), I b1 b2 b3 b4 b5 b6 b7 b8 b9 → μ b1 b2 b3 b4 b5 b6 b7 b8 b9 < μ a1 a2 a3 a4 a5 a6 a7 a8 a9 → W n b1 b2 b3 b4 b5 b6 b7 b8 b9) → W (n + 1) a1 a2 a3 a4 a5 a6 a7 a8 a9) (a1 : A1) (a2 : A2) (a3 : A3) (a4 : A4) (a5 : A5) (a6 : A6) (a7 : A7) (a8 : A8) (a9 : A9) (h : I a1 a2 a3 a4 a5 a6 a7 a8 a9) : ∃ n, W n a1 a2 a3 a4 a5 a6 a7 a8 a9 :=
  loop_m (σ := A1 × A2 × A3 × A4 × A5 × A6 × A7 × A8 × A9) (fun n s => W n s.1 s.2.1 s.2.2.1 s.2.2.2.1 s.2.2.2.2.1 s.2.2.2.2.2.1 s.2.2.2.2.2.2.1 s.2.2.2.2.2.2.2.1 s.2.2.2.2.2.2.2.2) (fun s => I s.1 s.2.1 s.2.2.1 s.2.2.2.1 s.2.2.2.2.1 s.2.2.2.2.2.1 s.2.2.2.2.2.2.1 s.2.2.2.2.2.2.2.1 s.2.2.2.2.2.2.2.2) (fun s => μ s.1 s.2.1 s.2.2.1 s.2.2.2.1 s.2.2.2.2.1 s.2.2.2.2.2.1 s.2.2.2.2.2.2.1 s.2.2.2.2.2.2.2.1 s.2.2.2.2.2.2.2.2) (fun n s hI hk => hs n s.1 s.2.1 s.2.2.1 s.2.2.2.1 s.2.2.2.2.1 s.2.2.2.2.2.1 s.2.2.2.2.2.2.1 s.2.2.2.2.2.2.2.1 s.2.2.2.2.2.2.2.2 hI (fun b1 b2 b3 b4 b5 b6 b7 b8 b9 h9 hm => hk (b1, b2, b3, b4, b5, b6, b7, b8, b9) h9 hm)) (a1, a2, a3, a4, a5, a6, a7, a8, a9) h
theorem lp10 {A1 A2 A3 A4 A5 A6 A7 A8 A9 A10 : Type} (W : Nat → A1 → A2 → A3 → A4 → A5 → A6 → A7 → A8 → A9 → A10 → Prop) (I : A1 → A2 → A3 → A4 → A5 → A6 → A7 → A8 → A9 → A10 → Prop) (μ : A1 → A2 → A3 → A4 → A5 → A6 → A7 → A8 → A9 → A10 → Nat) (hs : ∀ (n : Nat) (a1 : A1) (a2 : A2) (a3 : A3) (a4 : A4) (a5 : A5) (a6 : A6) (a7 : A7) (a8 : A8) (a9 : A9) (a10 : A10), I a1 a2 a3 a4 a5 a6 a7 a8 a9 a10 → (∀ (b1 : A1) (b2 : A2) (b3 : A3) (b4 : A4) (b5 : A5) (b6 : A6) (b7 : A7) (b8 : A8) (b9 : A9) (b10 : A10), I b1 b2 b3 b4 b5 b6 b7 b8 b9 b10 → μ b1 b2 b3 b4 b5 b6 b7 b8 b9 b10 < μ a1 a2 a3 a4 a5 a6 a7 a8 a9 a10 → W n b1 b2 b3 b4 b5 b6 b7 b8 b9 b10) → W (n + 1) a1 a2 a3 a4 a5 a6 a7 a8 a9 a10) (a1 : A1) (a2 : A2) (a3 : A3) (a4 : A4) (a5 : A5) (a6 : A6) (a7 : A7) (a8 : A8) (a9 : A9) (a10 : A10) (h : I a1 a2 a3 a4 a5 a6 a7 a8 a9 a10) : ∃ n, W n a1 a2 a3 a4 a5 a6 a7 a8 a9 a10 :=
  loop_m (σ := A1 × A2 × A3 × A4 × A5 × A6 × A7 × A8 × A9 × A10) (fun n s => W n s.1 s.2.1 s.2.2.1 s.2.2.2.1 s.2.2.2.2.1 s.2.2.2.2.2.1 s.2.2.2.2.2.2.1 s.2.2.2.2.2.2.2.1 s.2.2.2.2.2.2.2.2.1 s.2.2.2.2.2.2.2.2.2) (fun s => I s.1 s.2.1 s.2.2.1 s.2.2.2.1 s.2.2.2.2.1 s.2.2.2.2.2.1 s.2.2.2.2.2.2.1 s.2.2.2.2.2.2.2.1 s.2.2.2.2.2.2.2.2.1 s.2.2.2.2.2.2.2.2.2) (fun s => μ s.1 s.2.1 s.2.2.1 s.2.2.2.1 s.2.2.2.2.1 s.2.2.2.2.2.1 s.2.2.2.2.2.2.1 s.2.2.2.2.2.2.2.1 s.2.2.2.2.2.2.2.2.1 s.2.2.2.2.2.2.2.2.2) (fun n s hI hk => hs n s.1 s.2.1 s.2.2.1 s.2.2.2.1 s.2.2.2.2.1 s.2.2.2.2.2.1 s.2.2.2.2.2.2.1 s.2.2.2.2.2.2.2.1 s.2.2.2.2.2.2.2.2.1 s.2.2.2.2.2.2.2.2.2 hI (fun b1 b2 b3 b4 b5 b6 b7 b8 b9 b10 h9 hm => hk (b1, b2, b3, b4, b5, b6, b7, b8, b9, b10) h9 hm)) (a1, a2, a3, a4, a5, a6, a7, a8, a9, a10) h
theorem lp11 {A1 A2 A3 A4 A5 A6 A7 A8 A9 A10 A11 : Type} (W : Nat → A1 → A2 → A3 → A4 → A5 → A6 → A7 → A8 → A9 → A10 → A11 → Prop) (I : A1 → A2 → A3 → A4 → A5 → A6 → A7 → A8 → A9 → A10 → A11 → Prop) (μ : A1 → A2 → A3 → A4 → A5 → A6 → A7 → A8 → A9 → A10 → A11 → Nat) (hs : ∀ (n : Nat) (a1 : A1) (a2 : A2) (a3 : A3) (a4 : A4) (a5 : A5) (a6 : A6) (a7 : A7) (a8 : A8) (a9 : A9) (a10 : A10) (a11 : A11), I a1 a2 a3 a4 a5 a6 a7 a8 a9 a10 a11 → (∀ (b1 : A1) (b2 : A2) (b3 : A3) (b4 : A4) (b5 : A5) (b6 : A6) (b7 : A7) (b8 : A8) (b9 : A9) (b10 : A10) (b11 : A11), I b1 b2 b3 b4 b5 b6 b7 b8 b9 b10 b11 → μ b1 b2 b3 b4 b5 b6 b7 b8 b9 b10 b11 < μ a1 a2 a3 a4 a5 a6 a7 a8 a9 a10 a11 → W n b1 b2 b3 b4 b5 b6 b7 b8 b9 b10 b11) → W (n + 1) a1 a2 a3 a4 a5 a6 a7 a8 a9 a10 a11) (a1 : A1) (a2 : A2) (a3 : A3) (a4 : A4) (a5 : A5) (a6 : A6) (a7 : A7) (a8 : A8) (a9 : A9) (a10 : A10) (a11 : A11) (h : I a1 a2 a3 a4 a5 a6 a7 a8 a9 a10 a11) : ∃ n, W n a1 a2 a3 a4 a5 a6 a7 a8 a9 a10 a11 :=
  loop_m (σ := A1 × A2 × A3 × A4 × A5 × A6 × A7 × A8 × A9 × A10 × A11) (fun n s => W n s.1 s.2.1 s.2.2.1 s.2.2.2.1 s.2.2.2.2.1 s.2.2.2.2.2.1 s.2.2.2.2.2.2.1 s.2.2.2.2.2.2.2.1 s.2.2.2.2.2.2.2.2.1 s.2.2.2.2.2.2.2.2.2.1 s.2.2.2.2.2.2.2.2.2.2) (fun s => I s.1 s.2.1 s.2.2.1 s.2.2.2.1 s.2.2.2.2.1 s.2.2.2.2.2.1 s.2.2.2.2.2.2.1 s.2.2.2.2.2.2.2.1 s.2.2.2.2.2.2.2.2.1 s.2.2.2.2.2.2.2.2.2.1 s.2.2.2.2.2.2.2.2.2.2) (fun s => μ s.1 s.2.1 s.2.2.1 s.2.2.2.1 s.2.2.2.2.1 s.2.2.2.2.2.1 s.2.2.2.2.2.2.1 s.2.2.2.2.2.2.2.1 s.2.2.2.2.2.2.2.2.1 s.2.2.2.2.2.2.2.2.2.1 s.2.2.2.2.2.2.2.2.2.2) (fun n s hI hk => hs n s.1 s.2.1 s.2.2.1 s.2.2.2.1 s.2.2.2.2.1 s.2.2.2.2.2.1 s.2.2.2.2.2.2.1 s.2.2.2.2.2.2.2.1 s.2.2.2.2.2.2.2.2.1 s.2.2.2.2.2.2.2.2.2.1 s.2.2.2.2.2.2.2.2.2.2 hI (fun b1 b2 b3 b4 b5 b6 b7 b8 b9 b10 b11 h9 hm => hk (b1, b2, b3, b4, b5, b6, b7, b8, b9, b10, b11) h9 hm)) (a1, a2, a3, a4, a5, a6, a7, a8, a9, a10, a11) h
theorem lp12 {A1 A2 A3 A4 A5 A6 A7 A8 A9 A10 A11 A12 : Type} (W : Nat → A1 → A2 → A3 → A4 → A5 → A6 → A7 → A8 → A9 → A10 → A11 → A12 → Prop) (I : A1 → A2 → A3 → A4 → A5 → A6 → A7 → A8 → A9 → A10 → A11 → A12 → Prop) (μ : A1 → A2 → A3 → A4 → A5 → A6 → A7 → A8 → A9 → A10 → A11 → A12 → Nat) (hs : ∀ (n : Nat) (a1 : A1) (a2 : A2) (a3 : A3) (a4 : A4) (a5 : A5) (a6 : A6) (a7 : A7) (a8 : A8) (a9 : A9) (a10 : A10) (a11 : A11) (a12 : A12), I a1 a2 a3 a4 a5 a6 a7 a8 a9 a10 a11 a12 → (∀ (b1 : A1) (b2 : A2) (b3 : A3) (b4 : A4) (b5 : A5) (b6 : A6) (b7 : A7) (b8 : A8) (b9 : A9) (b10 : A10) (b11 : A11) (b12 : A12), I b1 b2 b3 b4 b5 b6 b7 b8 b9 b10 b11 b12 → μ b1 b2 b3 b4 b5 b6 b7 b8 b9 b10 b11 b12 < μ a1 a2 a3 a4 a5 a6 a7 a8 a9 a10 a11 a12 → W n b1 b2 b3 b4 b5 b6 b7 b8 b9 b10 b11 b12) → W (n + 1) a1 a2 a3 a4 a5 a6 a7 a8 a9 a10 a11 a12) (a1 : A1) (a2 : A2) (a3 : A3) (a4 : A4) (a5 : A5) (a6 : A6) (a7 : A7) (a8 : A8) (a9 : A9) (a10 : A10) (a11 : A11) (a12 : A12) (h : I a1 a2 a3 a4 a5 a6 a7 a8 a9 a10 a11 a12) : ∃ n, W n a1 a2 a3 a4 a5 a6 a7 a8 a9 a10 a11 a12 :=
  loop_m (σ := A1 × A2 × A3 × A4 × A5 × A6 × A7 × A8 × A9 × A10 × A11 × A12) (fun n s => W n s.1 s.2.1 s.2.2.1 s.2.2.2.1 s.2.2.2.2.1 s.2.2.2.2.2.1 s.2.2.2.2.2.2.1 s.2.2.2.2.2.2.2.1 s.2.2.2.2.2.2.2.2.1 s.2.2.2.2.2.2.2.2.2.1 s.2.2.2.2.2.2.2.2.2.2.1 s.2.2.2.2.2.2.2.2.2.2.2) (fun s => I s.1 s.2.1 s.2.2.1 s.2.2.2.1 s.2.2.2.2.1 s.2.2.2.2.2.1 s.2.2.2.2.2.2.1 s.2.2.2.2.2.2.2.1 s.2.2.2.2.2.2.2.2.1 s.2.2.2.2.2.2.2.2.2.1 s.2.2.2.2.2.2.2.2.2.2.1 s.2.2.2.2.2.2.2.2.2.2.2) (fun s => μ s.1 s.2.1 s.2.2.1 s.2.2.2.1 s.2.2.2.2.1 s.2.2.2.2.2.1 s.2.2.2.2.2.2.1 s.2.2.2.2.2.2.2.1 s.2.2.2.2.2.2.2.2.1 s.2.2.2.2.2.2.2.2.2.1 s.2.2.2.2.2.2.2.2.2.2.1 s.2.2.2.2.2.2.2.2.2.2.2) (fun n s hI hk => hs n s.1 s.2.1 s.2.2.1 s.2.2.2.1 s.2.2.2.2.1 s.2.2.2.2.2.1 s.2.2.2.2.2.2.1 s.2.2.2.2.2.2.2.1 s.2.2.2.2.2.2.2.2.1 s.2.2.2.2.2.2.2.2.2.1 s.2.2.2.2.2.2.2.2.2.2.1 s.2.2.2.2.2.2.2.2.2.2.2 hI (fun b1 b2 b3 b4 b5 b6 b7 b8 b9 b10 b11 b12 h9 hm => hk (b1, b2, b3, b4, b5, b6, b7, b8, b9, b10, b11, b12) h9 hm)) (a1, a2, a3, a4, a5, a6, a7, a8, a9, a10, a11, a12) h
theorem lp13 {A1 A2 A3 A4 A5 A6 A7 A8 A9 A10 A11 A12 A13 : Type} (W : Nat → A1 → A2 → A3 → A4 → A5 → A6 → A7 → A8 → A9 → A10 → A11 → A12 → A13 → Prop) (I : A1 → A2 → A3 → A4 → A5 → A6 → A7 → A8 → A9 → A10 → A11 → A12 → A13 → Prop) (μ : A1 → A2 → A3 → A4 → A5 → A6 → A7 → A8 → A9 → A10 → A11 → A12 → A13 → Nat) (hs : ∀ (n : Nat) (a1 : A1) (a2 : A2) (a3 : A3) (a4 : A4) (a5 : A5) (a6 : A6) (a7 : A7) (a8 : A8) (a9 : A9) (a10 : A10) (a11 : A11) (a12 : A12) (a13 : A13), I a1 a2 a3 a4 a5 a6 a7 a8 a9 a10 a11 a12 a13 → (∀ (b1 : A1) (b2 : A2) (b3 : A3) (b4 : A4) (b5 : A5) (b6 : A6) (b7 : A7) (b8 : A8) (b9 : A9) (b10 : A10) (b11 : A11) (b12 : A12) (b13 : A13), I b1 b2 b3 b4 b5 b6 b7 b8 b9 b10 b11 b12 b13 → μ b1 b2 b3 b4 b5 b6 b7 b8 b9 b10 b11 b12 b13 < μ a1 a2 a3 a4 a5 a6 a7 a8 a9 a10 a11 a12 a13 → W n b1 b2 b3 b4 b5 b6 b7 b8 b9 b10 b11 b12 b13) → W (n + 1) a1 a2 a3 a4 a5 a6 a7 a8 a9 a10 a11 a12 a13) (a1 : A1) (a2 : A2) (a3 : A3) (a4 : A4) (a5 : A5) (a6 : A6) (a7 : A7) (a8 : A8) (a9 : A9) (a10 : A10) (a11 : A11) (a12 : A12) (a13 : A13) (h : I a1 a2 a3 a4 a5 a6 a7 a8 a9 a10 a11 a12 a13) : ∃ n, W n a1 a2 a3 a4 a5 a6 a7 a8 a9 a10 a11 a12 a13 :=
  loop_m (σ := A1 × A2 × A3 × A4 × A5 × A6 × A7 × A8 × A9 × A10 × A11 × A12 × A13) (fun n s => W n s.1 s.2.1 s.2.2.1 s.2.2.2.1 s.2.2.2.2.1 s.2.2.2.2.2.1 s.2.2.2.2.2.2.1 s.2.2.2.2.2.2.2.1 s.2.2.2.2.2.2.2.2.1 s.2.2.2.2.2.2.2.2.2.1 s.2.2.2.2.2.2.2.2.2.2.1 s.2.2.2.2.2.2.2.2.2.2.2.1 s.2.2.2.2.2.2.2.2.2.2.2.2) (fun s => I s.1 s.2.1 s.2.2.1 s.2.2.2.1 s.2.2.2.2.1 s.2.2.2.2.2.1 s.2.2.2.2.2.2.1 s.2.2.2.2.2.2.2.1 s.2.2.2.2.2.2.2.2.1 s.2.2.2.2.2.2.2.2.2.1 s.2.2.2.2.2.2.2.2.2.2.1 s.2.2.2.2.2.2.2.2.2.2.2.1 s.2.2.2.2.2.2.2.2.2.2.2.2) (fun s => μ s.1 s.2.1 s.2.2.1 s.2.2.2.1 s.2.2.2.2.1 s.2.2.2.2.2.1 s.2.2.2.2.2.2.1 s.2.2.2.2.2.2.2.1 s.2.2.2.2.2.2.2.2.1 s.2.2.2.2.2.2.2.2.2.1 s.2.2.2.2.2.2.2.2.2.2.1 s.2.2.2.2.2.2.2.2.2.2.2.1 s.2.2.2.2.2.2.2.2.2.2.2.2) (fun n s hI hk => hs n s.1 s.2.1 s.2.2.1 s.2.2.2.1 s.2.2.2.2.1 s.2.2.2.2.2.1 s.2.2.2.2.2.2.1 s.2.2.2.2.2.2.2.1 s.2.2.2.2.2.2.2.2.1 s.2.2.2.2.2.2.2.2.2.1 s.2.2.2.2.2.2.2.2.2.2.1 s.2.2.2.2.2.2.2.2.2.2.2.1 s.2.2.2.2.2.2.2.2.2.2.2.2 hI (fun b1 b2 b3 b4 b5 b6 b7 b8 b9 b10 b11 b12 b13 h9 hm => hk (b1, b2, b3, b4, b5, b6, b7, b8, b9, b10, b11, b12, b13) h9 hm)) (a1, a2, a3, a4, a5, a6, a7, a8, a9, a10, a11, a12, a13) h
theorem lp14 {A1 A2 A3 A4 A5 A6 A7 A8 A9 A10 A11 A12 A13 A14 : Type} (W : Nat → A1 → A2 → A3 → A4 → A5 → A6 → A7 → A8 → A9 → A10 → A11 → A12 → A13 → A14 → Prop) (I : A1 → A2 → A3 → A4 → A5 → A6 → A7 → A8 → A9 → A10 → A11 → A12 → A13 → A14 → Prop) (μ : A1 → A2 → A3 → A4 → A5 → A6 → A7 → A8 → A9 → A10 → A11 → A12 → A13 → A14 → Nat) (hs : ∀ (n : Nat) (a1 : A1) (a2 : A2) (a3 : A3) (a4 : A4) (a5 : A5) (a6 : A6) (a7 : A7) (a8 : A8) (a9 : A9) (a10 : A10) (a11 : A11) (a12 : A12) (a13 : A13) (a14 : A14), I a1 a2 a3 a4 a5 a6 a7 a8 a9 a10 a11 a12 a13 a14 → (∀ (b1 : A1) (b2 : A2) (b3 : A3) (b4 : A4) (b5 : A5) (b6 : A6) (b7 : A7) (b8 : A8) (b9 : A9) (b10 : A10) (b11 : A11) (b12 : A12) (b13 : A13) (b14 : A14), I b1 b2 b3 b4 b5 b6 b7 b8 b9 b10 b11 b12 b13 b14 → μ b1 b2 b3 b4 b5 b6 b7 b8 b9 b10 b11 b12 b13 b14 < μ a1 a2 a3 a4 a5 a6 a7 a8 a9 a10 a11 a12 a13 a14 → W n b1 b2 b3 b4 b5 b6 b7 b8 b9 b10 b11 b12 b13 b14) → W (n + 1) a1 a2 a3 a4 a5 a6 a7 a8 a9 a10 a11 a12 a13 a14) (a1 : A1) (a2 : A2) (a3 : A3) (a4 : A4) (a5 : A5) (a6 : A6) (a7 : A7) (a8 : A8) (a9 : A9) (a10 : A10) (a11 : A11) (a12 : A12) (a13 : A13) (a14 : A14) (h : I a1 a2 a3 a4 a5 a6 a7 a8 a9 a10 a11 a12 a13 a14) : ∃ n, W n a1 a2 a3 a4 a5 a6 a7 a8 a9 a10 a11 a12 a13 a14 :=
  loop_m (σ := A1 × A2 × A3 × A4 × A5 × A6 × A7 × A8 × A9 × A10 × A11 × A12 × A13 × A14) (fun n s => W n s.1 s.2.1 s.2.2.1 s.2.2.2.1 s.2.2.2.2.1 s.2.2.2.2.2.1 s.2.2.2.2.2.2.1 s.2.2.2.2.2.2.2.1 s.2.2.2.2.2.2.2.2.1 s.2.2.2.2.2.2.2.2.2.1 s.2.2.2.2.2.2.2.2.2.2.1 s.2.2.2.2.2.2.2.2.2.2.2.1 s.2.2.2.2.2.2.2.2.2.2.2.2.1 s.2.2.2.2.2.2.2.2.2.2.2.2.2) (fun s => I s.1 s.2.1 s.2.2.1 s.2.2.2.1 s.2.2.2.2.1 s.2.2.2.2.2.1 s.2.2.2.2.2.2.1 s.2.2.2.2.2.2.2.1 s.2.2.2.2.2.2.2.2.1 s.2.2.2.2.2.2.2.2.2.1 s.2.2.2.2.2.2.2.2.2.2.1 s.2.2.2.2.2.2.2.2.2.2.2.1 s.2.2.2.2.2.2.2.2.2.2.2.2.1 s.2.2.2.2.2.2.2.2.2.2.2.2.2) (fun s => μ s.1 s.2.1 s.2.2.1 s.2.2.2.1 s.2.2.2.2.1 s.2.2.2.2.2.1 s.2.2.2.2.2.2.1 s.2.2.2.2.2.2.2.1 s.2.2.2.2.2.2.2.2.1 s.2.2.2.2.2.2.2.2.2.1 s.2.2.2.2.2.2.2.2.2.2.1 s.2.2.2.2.2.2.2.2.2.2.2.1 s.2.2.2.2.2.2.2.2.2.2.2.2.1 s.2.2.2.2.2.2.2.2.2.2.2.2.2) (fun n s hI hk => hs n s.1 s.2.1 s.2.2.1 s.2.2.2.1 s.2.2.2.2.1 s.2.2.2.2.2.1 s.2.2.2.2.2.2.1 s.2.2.2.2.2.2.2.1 s.2.2.2.2.2.2.2.2.1 s.2.2.2.2.2.2.2.2.2.1 s.2.2.2.2.2.2.2.2.2.2.1 s.2.2.2.2.2.2.2.2.2.2.2.1 s.2.2.2.2.2.2.2.2.2.2.2.2.1 s.2.2.2.2.2.2.2.2.2.2.2.2.2 hI (fun b1 b2 b3 b4 b5 b6 b7 b8 b9 b10 b11 b12 b13 b14 h9 hm => hk (b1, b2, b3, b4, b5, b6, b7, b8, b9, b10, b11, b12, b13, b14) h9 hm)) (a1, a2, a3, a4, a5, a6, a7, a8, a9, a10, a11, a12, a13, a14) h
theorem lp15 {A1 A2 A3 A4 A5 A6 A7 A8 A9 A10 A11 A12 A13 A14 A15 : Type} (W : Nat → A1 → A2 → A3 → A4 → A5 → A6 → A7 → A8 → A9 → A10 → A11 → A12 → A13 → A14 → A15 → Prop) (I : A1 → A2 → A3 → A4 → A5 → A6 → A7 → A8 → A9 → A10 → A11 → A12 → A13 → A14 → A15 → Prop) (μ : A1 → A2 → A3 → A4 → A5 → A6 → A7 → A8 → A9 → A10 → A11 → A12 → A13 → A14 → A15 → Nat) (hs : ∀ (n : Nat) (a1 : A1) (a2 : A2) (a3 : A3) (a4 : A4) (a5 : A5) (a6 : A6) (a7 : A7) (a8 : A8) (a9 : A9) (a10 : A10) (a11 : A11) (a12 : A12) (a13 : A13) (a14 : A14) (a15 : A15), I a1 a2 a3 a4 a5 a6 a7 a8 a9 a10 a11 a12 a13 a14 a15 → (∀ (b1 : A1) (b2 : A2) (b3 : A3) (b4 : A4) (b5 : A5) (b6 : A6) (b7 : A7) (b8 : A8) (b9 : A9) (b10 : A10) (b11 : A11) (b12 : A12) (b13 : A13) (b14 : A14) (b15 : A15), I b1 b2 b3 b4 b5 b6 b7 b8 b9 b10 b11 b12 b13 b14 b15 → μ b1 b2 b3 b4 b5 b6 b7 b8 b9 b10 b11 b12 b13 b14 b15 < μ a1 a2 a3 a4 a5 a6 a7 a8 a9 a10 a11 a12 a13 a14 a15 → W n b1 b2 b3 b4 b5 b6 b7 b8 b9 b10 b11 b12 b13 b14 b15) → W (n + 1) a1 a2 a3 a4 a5 a6 a7 a8 a9 a10 a11 a12 a13 a14 a15) (a1 : A1) (a2 : A2) (a3 : A3) (a4 : A4) (a5 : A5) (a6 : A6) (a7 : A7) (a8 : A8) (a9 : A9) (a10 : A10) (a11 : A11) (a12 : A12) (a13 : A13) (a14 : A14) (a15 : A15) (h : I a1 a2 a3 a4 a5 a6 a7 a8 a9 a10 a11 a12 a13 a14 a15) : ∃ n, W n a1 a2 a3 a4 a5 a6 a7 a8 a9 a10 a11 a12 a13 a14 a15 :=
  loop_m (σ := A1 × A2 × A3 × A4 × A5 × A6 × A7 × A8 × A9 × A10 × A11 × A12 × A13 × A14 × A15) (fun n s => W n s.1 s.2.1 s.2.2.1 s.2.2.2.1 s.2.2.2.2.1 s.2.2.2.2.2.1 s.2.2.2.2.2.2.1 s.2.2.2.2.2.2.2.1 s.2.2.2.2.2.2.2.2.1 s.2.2.2.2.2.2.2.2.2.1 s.2.2.2.2.2.2.2.2.2.2.1 s.2.2.2.2.2.2.2.2.2.2.2.1 s.2.2.2.2.2.2.2.2.2.2.2.2.1 s.2.2.2.2.2.2.2.2.2.2.2.2.2.1 s.2.2.2.2.2.2.2.2.2.2.2.2.2.2) (fun s => I s.1 s.2.1 s.2.2.1 s.2.2.2.1 s.2.2.2.2.1 s.2.2.2.2.2.1 s.2.2.2.2.2.2.1 s.2.2.2.2.2.2.2.1 s.2.2.2.2.2.2.2.2.1 s.2.2.2.2.2.2.2.2.2.1 s.2.2.2.2.2.2.2.2.2.2.1 s.2.2.2.2.2.2.2.2.2.2.2.1 s.2.2.2.2.2.2.2.2.2.2.2.2.1 s.2.2.2.2.2.2.2.2.2.2.2.2.2.1 s.2.2.2.2.2.2.2.2.2.2.2.2.2.2) (fun s => μ s.1 s.2.1 s.2.2.1 s.2.2.2.1 s.2.2.2.2.1 s.2.2.2.2.2.1 s.2.2.2.2.2.2.1 s.2.2.2.2.2.2.2.1 s.2.2.2.2.2.2.2.2.1 s.2.2.2.2.2.2.2.2.2.1 s.2.2.2.2.2.2.2.2.2.2.1 s.2.2.2.2.2.2.2.2.2.2.2.1 s.2.2.2.2.2.2.2.2.2.2.2.2.1 s.2.2.2.2.2.2.2.2.2.2.2.2.2.1 s.2.2.2.2.2.2.2.2.2.2.2.2.2.2) (fun n s hI hk => hs n s.1 s.2.1 s.2.2.1 s.2.2.2.1 s.2.2.2.2.1 s.2.2.2.2.2.1 s.2.2.2.2.2.2.1 s.2.2.2.2.2.2.2.1 s.2.2.2.2.2.2.2.2.1 s.2.2.2.2.2.2.2.2.2.1 s.2.2.2.2.2.2.2.2.2.2.1 s.2.2.2.2.2.2.2.2.2.2.2.1 s.2.2.2.2.2.2.2.2.2.2.2.2.1 s.2.2.2.2.2.2.2.2.2.2.2.2.2.1 s.2.2.2.2.2.2.2.2.2.2.2.2.2.2 hI (fun b1 b2 b3 b4 b5 b6 b7 b8 b9 b10 b11 b12 b13 b14 b15 h9 hm => hk (b1, b2, b3, b4, b5, b6, b7, b8, b9, b10, b11, b12, b13, b14, b15) h9 hm)) (a1, a2, a3, a4, a5, a6, a7, a8, a9, a10, a11, a12, a13, a14, a15) h
theorem lp16 {A1 A2 A3 A4 A5 A6 A7 A8 A9 A10 A11 A12 A13 A14 A15 A16 : Type} (W : Nat → A1 → A2 → A3 → A4 → A5 → A6 → A7 → A8 → A9 → A10 → A11 → A12 → A13 → A14 → A15 → A16 → Prop) (I : A1 → A2 → A3 → A4 → A5 → A6 → A7 → A8 → A9 → A10 → A11 → A12 → A13 → A14 → A15 → A16 → Prop) (μ : A1 → A2 → A3 → A4 → A5 → A6 → A7 → A8 → A9 → A10 → A11 → A12 → A13 → A14 → A15 → A16 → Nat) (hs : ∀ (n : Nat) (a1 : A1) (a2 : A2) (a3 : A3) (a4 : A4) (a5 : A5) (a6 : A6) (a7 : A7) (a8 : A8) (a9 : A9) (a10 : A10) (a11 : A11) (a12 : A12) (a13 : A13) (a14 : A14) (a15 : A15) (a16 : A16), I a1 a2 a3 a4 a5 a6 a7 a8 a9 a10 a11 a12 a13 a14 a15 a16 → (∀ (b1 : A1) (b2 : A2) (b3 : A3) (b4 : A4) (b5 : A5) (b6 : A6) (b7 : A7) (b8 : A8) (b9 : A9) (b10 : A10) (b11 : A11) (b12 : A12) (b13 : A13) (b14 : A14) (b15 : A15) (b16 : A16), I b1 b2 b3 b4 b5 b6 b7 b8 b9 b10 b11 b12 b13 b14 b15 b16 → μ b1 b2 b3 b4 b5 b6 b7 b8 b9 b10 b11 b12 b13 b14 b15 b16 < μ a1 a2 a3 a4 a5 a6 a7 a8 a9 a10 a11 a12 a13 a14 a15 a16 → W n b1 b2 b3 b4 b5 b6 b7 b8 b9 b10 b11 b12 b13 b14 b15 b16) → W (n + 1) a1 a2 a3 a4 a5 a6 a7 a8 a9 a10 a11 a12 a13 a14 a15 a16) (a1 : A1) (a2 : A2) (a3 : A3) (a4 : A4) (a5 : A5) (a6 : A6) (a7 : A7) (a8 : A8) (a9 : A9) (a10 : A10) (a11 : A11) (a12 : A12) (a13 : A13) (a14 : A14) (a15 : A15) (a16 : A16) (h : I a1 a2 a3 a4 a5 a6 a7 a8 a9 a10 a11 a12 a13 a14 a15 a16) : ∃ n, W n a1 a2 a3 a4 a5 a6 a7 a8 a9 a10 a11 a12 a13 a14 a15 a16 :=
  loop_m (σ := A1 × A2 × A3 × A4 × A5 × A6 × A7 × A8 × A9 × A10 × A11 × A12 × A13 × A14 × A15 × A16) (fun n s => W n s.1 s.2.1 s.2.2.1 s.2.2.2.1 s.2.2.2.2.1 s.2.2.2.2.2.1 s.2.2.2.2.2.2.1 s.2.2.2.2.2.2.2.1 s.2.2.2.2.2.2.2.2.1 s.2.2.2.2.2.2.2.2.2.1 s.2.2.2.2.2.2.2.2.2.2.1 s.2.2.2.2.2.2.2.2.2.2.2.1 s.2.2.2.2.2.2.2.2.2.2.2.2.1 s.2.2.2.2.2.2.2.2.2.2.2.2.2.1 s.2.2.2.2.2.2.2.2.2.2.2.2.2.2.1 s.2.2.2.2.2.2.2.2.2.2.2.2.2.2.2) (fun s => I s.1 s.2.1 s.2.2.1 s.2.2.2.1 s.2.2.2.2.1 s.2.2.2.2.2.1 s.2.2.2.2.2.2.1 s.2.2.2.2.2.2.2.1 s.2.2.2.2.2.2.2.2.1 s.2.2.2.2.2.2.2.2.2.1 s.2.2.2.2.2.2.2.2.2.2.1 s.2.2.2.2.2.2.2.2.2.2.2.1 s.2.2.2.2.2.2.2.2.2.2.2.2.1 s.2.2.2.2.2.2.2.2.2.2.2.2.2.1 s.2.2.2.2.2.2.2.2.2.2.2.2.2.2.1 s.2.2.2.2.2.2.2.2.2.2.2.2.2.2.2) (fun s => μ s.1 s.2.1 s.2.2.1 s.2.2.2.1 s.2.2.2.2.1 s.2.2.2.2.2.1 s.2.2.2.2.2.2.1 s.2.2.2.2.2.2.2.1 s.2.2.2.2.2.2.2.2.1 s.2.2.2.2.2.2.2.2.2.1 s.2.2.2.2.2.2.2.2.2.2.1 s.2.2.2.2.2.2.2.2.2.2.2.1 s.2.2.2.2.2.2.2.2.2.2.2.2.1 s.2.2.2.2.2.2.2.2.2.2.2.2.2.1 s.2.2.2.2.2.2.2.2.2.2.2.2.2.2.1 s.2.2.2.2.2.2.2.2.2.2.2.2.2.2.2) (fun n s hI hk => hs n s.1 s.2.1 s.2.2.1 s.2.2.2.1 s.2.2.2.2.1 s.2.2.2.2.2.1 s.2.2.2.2.2.2.1 s.2.2.2.2.2.2.2.1 s.2.2.2.2.2.2.2.2.1 s.2.2.2.2.2.2.2.2.2.1 s.2.2.2.2.2.2.2.2.2.2.1 s.2.2.2.2.2.2.2.2.2.2.2.1 s.2.2.2.2.2.2.2.2.2.2.2.2.1 s.2.2.2.2.2.2.2.2.2.2.2.2.2.1 s.2.2.2.2.2.2.2.2.2.2.2.2.2.2.1 s.2.2.2.2.2.2.2.2.2.2.2.2.2.2.2 hI (fun b1 b2 b3 b4 b5 b6 b7 b8 b9 b10 b11 b12 b13 b14 b15 b16 h9 hm => hk (b1, b2, b3, b4, b5, b6, b7, b8, b9, b10, b11, b12, b13, b14, b15, b16) h9 hm)) (a1, a2, a3, a4, a5, a6, a7, a8, a9, a10, a11, a12, a13, a14, a15, a16) h
theorem pk_least (P : Nat → Prop) (h : ∃ k, P k) : ∃ k, P k ∧ ∀ j, j < k → ¬ P j := by
  obtain ⟨k, hk⟩ := h
  induction k using Nat.strongRecOn with
  | ind k ih =>
    by_cases e : ∃ j, j < k ∧ P j
    · obtain ⟨j, hj, pj⟩ := e
      exact ih j hj pj
    · exact ⟨k, hk, fun j hj pj => e ⟨j, hj, pj⟩⟩
theorem rp1 {ρ A1 : Type} (W : Nat → (ρ → Prop) → A1 → Prop) (ok : A1 → Prop) (μ : A1 → Nat) (val : A1 → ρ)
    (hs : ∀ (d : Nat) (post : ρ → Prop) (a1 : A1), ok a1 → post (val a1) → (∀ (post' : ρ → Prop) (b1 : A1), ok b1 → μ b1 < μ a1 → post' (val b1) → W d post' b1) → W (d + 1) post a1) :
    ∀ (d : Nat) (post : ρ → Prop) (a1 : A1), ok a1 → μ a1 < d → post (val a1) → W d post a1 := by
  intro d
  induction d with
  | zero => intro post a1 _ h; omega
  | succ d ih =>
    intro post a1 ho hm hp
    exact hs d post a1 ho hp (fun post' b1 ho' hm' hp' => ih post' b1 ho' (by omega) hp')
theorem rp2 {ρ A1 A2 : Type} (W : Nat → (ρ → Prop) → A1 → A2 → Prop) (ok : A1 → A2 → Prop) (μ : A1 → A2 → Nat) (val : A1 → A2 → ρ)
    (hs : ∀ (d : Nat) (post : ρ → Prop) (a1 : A1) (a2 : A2), ok a1 a2 → post (val a1 a2) → (∀ (post' : ρ → Prop) (b1 : A1) (b2 : A2), ok b1 b2 → μ b1 b2 < μ a1 a2 → post' (val b1 b2) → W d post' b1 b2) → W (d + 1) post a1 a2) :
    ∀ (d : Nat) (post : ρ → Prop) (a1 : A1) (a2 : A2), ok a1 a2 → μ a1 a2 < d → post (val a1 a2) → W d post a1 a2 := by
  intro d
  induction d with
  | zero => intro post a1 a2 _ h; omega
  | succ d ih =>
    intro post a1 a2 ho hm hp
    exact hs d post a1 a2 ho hp (fun post' b1 b2 ho' hm' hp' => ih post' b1 b2 ho' (by omega) hp')
theorem rp3 {ρ A1 A2 A3 : Type} (W : Nat → (ρ → Prop) → A1 → A2 → A3 → Prop) (ok : A1 → A2 → A3 → Prop) (μ : A1 → A2 → A3 → Nat) (val : A1 → A2 → A3 → ρ)
    (hs : ∀ (d : Nat) (post : ρ → Prop) (a1 : A1) (a2 : A2) (a3 : A3), ok a1 a2 a3 → post (val a1 a2 a3) → (∀ (post' : ρ → Prop) (b1 : A1) (b2 : A2) (b3 : A3), ok b1 b2 b3 → μ b1 b2 b3 < μ a1 a2 a3 → post' (val b1 b2 b3) → W d post' b1 b2 b3) → W (d + 1) post a1 a2 a3) :
    ∀ (d : Nat) (post : ρ → Prop) (a1 : A1) (a2 : A2) (a3 : A3), ok a1 a2 a3 → μ a1 a2 a3 < d → post (val a1 a2 a3) → W d post a1 a2 a3 := by
  intro d
  induction d with
  | zero => intro post a1 a2 a3 _ h; omega
  | succ d ih =>
    intro post a1 a2 a3 ho hm hp
    exact hs d post a1 a2 a3 ho hp (fun post' b1 b2 b3 ho' hm' hp' => ih post' b1 b2 b3 ho' (by omega) hp')
theorem rp4 {ρ A1 A2 A3 A4 : Type} (W : Nat → (ρ → Prop) → A1 → A2 → A3 → A4 → Prop) (ok : A1 → A2 → A3 → A4 → Prop) (μ : A1 → A2 → A3 → A4 → Nat) (val : A1 → A2 → A3 → A4 → ρ)
    (hs : ∀ (d : Nat) (post : ρ → Prop) (a1 : A1) (a2 : A2) (a3 : A3) (a4 : A4), ok a1 a2 a3 a4 → post (val a1 a2 a3 a4) → (∀ (post' : ρ → Prop) (b1 : A1) (b2 : A2) (b3 : A3) (b4 : A4), ok b1 b2 b3 b4 → μ b1 b2 b3 b4 < μ a1 a2 a3 a4 → post' (val b1 b2 b3 b4) → W d post' b1 b2 b3 b4) → W (d + 1) post a1 a2 a3 a4) :
    ∀ (d : Nat) (post : ρ → Prop) (a1 : A1) (a2 : A2) (a3 : A3) (a4 : A4), ok a1 a2 a3 a4 → μ a1 a2 a3 a4 < d → post (val a1 a2 a3 a4) → W d post a1 a2 a3 a4 := by
  intro d
  induction d with
  | zero => intro post a1 a2 a3 a4 _ h; omega
  | succ d ih =>
    intro post a1 a2 a3 a4 ho hm hp
    exact hs d post a1 a2 a3 a4 ho hp (fun post' b1 b2 b3 b4 ho' hm' hp' => ih post' b1 b2 b3 b4 ho' (by omega) hp')
theorem rp5 {ρ A1 A2 A3 A4 A5 : Type} (W : Nat → (ρ → Prop) → A1 → A2 → A3 → A4 → A5 → Prop) (ok : A1 → A2 → A3 → A4 → A5 → Prop) (μ : A1 → A2 → A3 → A4 → A5 → Nat) (val : A1 → A2 → A3 → A4 → A5 → ρ)
    (hs : ∀ (d : Nat) (post : ρ → Prop) (a1 : A1) (a2 : A2) (a3 : A3) (a4 : A4) (a5 : A5), ok a1 a2 a3 a4 a5 → post (val a1 a2 a3 a4 a5) → (∀ (post' : ρ → Prop) (b1 : A1) (b2 : A2) (b3 : A3) (b4 : A4) (b5 : A5), ok b1 b2 b3 b4 b5 → μ b1 b2 b3 b4 b5 < μ a1 a2 a3 a4 a5 → post' (val b1 b2 b3 b4 b5) → W d post' b1 b2 b3 b4 b5) → W (d + 1) post a1 a2 a3 a4 a5) :
    ∀ (d : Nat) (post : ρ → Prop) (a1 : A1) (a2 : A2) (a3 : A3) (a4 : A4) (a5 : A5), ok a1 a2 a3 a4 a5 → μ a1 a2 a3 a4 a5 < d → post (val a1 a2 a3 a4 a5) → W d post a1 a2 a3 a4 a5 := by
  intro d
  induction d with
  | zero => intro post a1 a2 a3 a4 a5 _ h; omega
  | succ d ih =>
    intro post a1 a2 a3 a4 a5 ho hm hp
    exact hs d post a1 a2 a3 a4 a5 ho hp (fun post' b1 b2 b3 b4 b5 ho' hm' hp' => ih post' b1 b2 b3 b4 b5 ho' (by omega) hp')
theorem rp6 {ρ A1 A2 A3 A4 A5 A6 : Type} (W : Nat → (ρ → Prop) → A1 → A2 → A3 → A4 → A5 → A6 → Prop) (ok : A1 → A2 → A3 → A4 → A5 → A6 → Prop) (μ : A1 → A2 → A3 → A4 → A5 → A6 → Nat) (val : A1 → A2 → A3 → A4 → A5 → A6 → ρ)
    (hs : ∀ (d : Nat) (post : ρ → Prop) (a1 : A1) (a2 : A2) (a3 : A3) (a4 : A4) (a5 : A5) (a6 : A6), ok a1 a2 a3 a4 a5 a6 → post (val a1 a2 a3 a4 a5 a6) → (∀ (post' : ρ → Prop) (b1 : A1) (b2 : A2) (b3 : A3) (b4 : A4) (b5 : A5) (b6 : A6), ok b1 b2 b3 b4 b5 b6 → μ b1 b2 b3 b4 b5 b6 < μ a1 a2 a3 a4 a5 a6 → post' (val b1 b2 b3 b4 b5 b6) → W d post' b1 b2 b3 b4 b5 b6) → W (d + 1) post a1 a2 a3 a4 a5 a6) :
    ∀ (d : Nat) (post : ρ → Prop) (a1 : A1) (a2 : A2) (a3 : A3) (a4 : A4) (a5 : A5) (a6 : A6), ok a1 a2 a3 a4 a5 a6 → μ a1 a2 a3 a4 a5 a6 < d → post (val a1 a2 a3 a4 a5 a6) → W d post a1 a2 a3 a4 a5 a6 := by
  intro d
  induction d with
  | zero => intro post a1 a2 a3 a4 a5 a6 _ h; omega
  | succ d ih =>
    intro post a1 a2 a3 a4 a5 a6 ho hm hp
    exact hs d post a1 a2 a3 a4 a5 a6 ho hp (fun post' b1 b2 b3 b4 b5 b6 ho' hm' hp' => ih post' b1 b2 b3 b4 b5 b6 ho' (by omega) hp')
theorem rec_p {σ ρ : Type} (W : Nat → (ρ → Prop) → σ → Prop) (ok : σ → Prop) (μ : σ → Nat) (val : σ → ρ)
    (hs : ∀ d s post, ok s → post (val s) → (∀ s' post', ok s' → μ s' < μ s → post' (val s') → W d post' s') → W (d + 1) post s) :
    ∀ d s post, ok s → μ s < d → post (val s) → W d post s := by
  intro d
  induction d with
  | zero => intro s post _ h; omega
  | succ d ih =>
    intro s post ho hm hp
    exact hs d s post ho hp (fun s' post' ho' hm' hp' => ih s' post' ho' (by omega) hp')
theorem rec_q {σ ρ : Type} (W : Nat → (ρ → Prop) → σ → Prop) (ok : σ → Prop) (μ : σ → Nat) (Q : σ → ρ → Prop)
    (hs : ∀ d s post, ok s → (∀ r, Q s r → post r) → (∀ s' post', ok s' → μ s' < μ s → (∀ r, Q s' r → post' r) → W d post' s') → W (d + 1) post s) :
    ∀ d s post, ok s → μ s < d → (∀ r, Q s r → post r) → W d post s := by
  intro d
  induction d with
  | zero => intro s post _ h; omega
  | succ d ih =>
    intro s post ho hm hp
    exact hs d s post ho hp (fun s' post' ho' hm' hp' => ih s' post' ho' (by omega) hp')
def bx_sum (f : Nat → Int32) : Nat → Int32
  | 0 => 0
  | n + 1 => bx_sum f n + f n
theorem ek_u {A : Prop} {B : Nat → Prop} {k N : Nat} (hk : k < N) (h : B k) : (some k = none → A) ∧ (∀ y : Nat, some k = some y → (y < N ∧ B y)) :=
  ⟨fun z => absurd z (Option.some_ne_none k), fun _ e => (by cases e; exact ⟨hk, h⟩)⟩
theorem ek_nu {A : Prop} {B : Nat → Prop} (h : A) : ((none : Option Nat) = none → A) ∧ (∀ y : Nat, (none : Option Nat) = some y → B y) :=
  ⟨fun _ => h, fun _ e => (by cases e)⟩
theorem ek_if {c d A B : Prop} (e : c ↔ d) (f : d → A) (g : ¬ d → B) : (c → A) ∧ (¬ c → B) :=
  ⟨fun z => f (e.mp z), fun z => g (fun y => z (e.mpr y))⟩
theorem ek_v {α : Sort _} {P : α → Prop} {a b : α} (e : a = b) (h : P b) : P a := e ▸ h
theorem co_some {x : Option Nat} {A : Prop} {B : Nat → Prop} (i : Nat) (h : B i) (hx : x = some i := by rfl) : (x = none → A) ∧ (∀ y : Nat, x = some y → B y) := by
  subst hx
  exact ⟨fun e => (nomatch e), fun y e => Option.some.inj e ▸ h⟩
theorem co_none {x : Option Nat} {A : Prop} {B : Nat → Prop} (h : A) (hx : x = none := by rfl) : (x = none → A) ∧ (∀ y : Nat, x = some y → B y) := by
  subst hx
  exact ⟨fun _ => h, fun y e => (nomatch e)⟩
theorem co_any {x : Option Nat} {A : Prop} {B : Nat → Prop} (hn : x = none → A) (hs : ∀ i : Nat, x = some i → B i) : (x = none → A) ∧ (∀ y : Nat, x = some y → B y) := ⟨hn, hs⟩
theorem co_2 {P : Nat → Prop} (h0 : P 0) (h1 : P 1) {i : Nat} (hi : i < 2) : P i :=
  match i, hi with
  | 0, _ => h0
  | 1, _ => h1
theorem co_3 {P : Nat → Prop} (h0 : P 0) (h1 : P 1) (h2 : P 2) {i : Nat} (hi : i < 3) : P i :=
  match i, hi with
  | 0, _ => h0
  | 1, _ => h1
  | 2, _ => h2
theorem co_4 {P : Nat → Prop} (h0 : P 0) (h1 : P 1) (h2 : P 2) (h3 : P 3) {i : Nat} (hi : i < 4) : P i :=
  match i, hi with
  | 0, _ => h0
  | 1, _ => h1
  | 2, _ => h2
  | 3, _ => h3
theorem co_dec {N : Nat} {P : Nat → Prop} [DecidablePred P] (h : (List.range N).all (fun i => decide (P i)) = true) {i : Nat} (hi : i < N) : P i := by
  have := List.all_eq_true.mp h i (List.mem_range.mpr hi)
  exact of_decide_eq_true this
theorem co_tab {α : Type} {l : List α} {d : α} {P : α → Prop} (h : ∀ a, a ∈ l → P a) {i : Nat} (hi : i < l.length) : P (l.getD i d) := by
  rw [List.getD_eq_getElem?_getD, List.getElem?_eq_getElem hi]
  exact h _ (List.getElem_mem hi)
theorem pk_mu {x : Int32} {L : Nat} (h0 : ¬ x < 0) (h : ¬ nI L ≤ x) (hL : L < 2 ^ 31) : ∃ j : Nat, j < L ∧ x = nI j ∧ x + 1 = nI (j + 1) ∧ x.toNatClampNeg = j ∧ L - (x + 1).toNatClampNeg < L - x.toNatClampNeg := by
  obtain ⟨j, hj, rfl⟩ := nI_of h0
  have hl : j < L := Nat.not_le.mp fun q => h (nI_le q hj)
  refine ⟨j, hl, rfl, nI_1 j, nI_clamp hj, ?_⟩
  rw [nI_1, nI_clamp (by omega), nI_clamp hj]
  omega
theorem op_s {α : Type} {r : Option α} {A : Prop} {B : α → Prop} {y : α} (h : r = some y) (b : B y) : (r = none → A) ∧ ∀ z, r = some z → B z :=
  ⟨fun e => (by rw [h] at e; cases e), fun z e => (by rw [h] at e; cases e; exact b)⟩
def l_holds {α : Type} (a : Nat → Option Nat) (LP : List Nat) (p : Nat → α) (c : Nat) (b : Nat → α) : Prop :=
  ∀ j, j < c → ∃ y, a j = some y ∧ y ∈ LP ∧ p y = b j
theorem l_holds_0 {α : Type} {a : Nat → Option Nat} {LP : List Nat} {p b : Nat → α} : l_holds a LP p 0 b := fun j h => absurd h (Nat.not_lt_zero j)
theorem l_in_new (LP : List Nat) (q : Nat) : q ∈ LP ++ [q] := List.mem_append.mpr (Or.inr (List.mem_singleton.mpr rfl))
def l_sum (b : Nat → Int32) : Nat → Int32
  | 0 => 0
  | k + 1 => l_sum b k + b k
theorem sb_shr0 (x : Int32) : x >>> ((0 : Int32) &&& 31) = x := by
  rw [show ((0 : Int32) &&& 31) = 0 by decide]
  simp
theorem sb_shl0 (x : Int32) : x <<< ((0 : Int32) &&& 31) = x := by
  rw [show ((0 : Int32) &&& 31) = 0 by decide]
  simp
theorem sb_cl0 : (0 : Int32).toNatClampNeg = 0 := by decide
theorem sb_m1 {p : Nat} (h : 0 < p) : nI p + (-1) = nI (p - 1) := by
  obtain ⟨q, rfl⟩ : ∃ q, p = q + 1 := ⟨p - 1, by omega⟩
  exact pk_m1 q
def sb_b (c : Nat) : Int32 := (nI c).toInt8.toInt32
theorem sb_byte : ∀ c, c < 256 → sb_b c &&& 255 = nI c ∧ ((nI c).toUInt32 % 65536).toInt32 = nI c ∧ nI c ≤ 255 := by decide +kernel
def sb_Fit (a : Nat → Int32) : Prop := ∀ j, fits .byte (.int (a j)) = true
def sb_Lat (t : Nat → Nat) (n : Nat) (a : Nat → Int32) : Prop := ∀ j, j < n → t j < 256 ∧ a j = sb_b (t j)
theorem sb_fitB (c : Nat) : fits .byte (.int (sb_b c)) = true := pk_fb _
theorem sb_fit0 : sb_Fit (fun _ => 0) := fun _ => by
  show fits .byte (.int 0) = true
  decide
theorem sb_fitU {a : Nat → Int32} {k : Nat} {x : Int32} (h : sb_Fit a) (hx : fits .byte (.int x) = true) : sb_Fit (upd a k x) := by
  intro j
  by_cases e : j = k
  · subst e
    rw [pk_us]
    exact hx
  · rw [pk_un e]
    exact h j
def sb_cat (t : Nat → Nat) (n : Nat) (s : Nat → Nat) : Nat → Nat := fun j => if j < n then t j else s (j - n)
theorem sb_cat_lo {t s : Nat → Nat} {n j : Nat} (h : j < n) : sb_cat t n s j = t j := if_pos h
theorem sb_cat_hi {t s : Nat → Nat} {n j : Nat} : sb_cat t n s (n + j) = s j := by
  show (if n + j < n then t (n + j) else s (n + j - n)) = s j
  rw [if_neg (by omega), Nat.add_sub_cancel_left]
theorem sb_latPut {t s : Nat → Nat} {n w : Nat} {a a' : Nat → Int32} (h : sb_Lat t n a) (hk : ∀ j, j < n → a' j = a j) (hs : ∀ i, i < w → s i < 256 ∧ a' (n + i) = sb_b (s i)) : sb_Lat (sb_cat t n s) (n + w) a' := by
  intro j hj
  by_cases e : j < n
  · rw [sb_cat_lo e, hk j e]
    exact h j e
  · obtain ⟨i, rfl⟩ : ∃ i, j = n + i := ⟨j - n, by omega⟩
    rw [sb_cat_hi]
    exact hs i (by omega)
theorem sb_latKeep {t : Nat → Nat} {n : Nat} {a a' : Nat → Int32} (h : sb_Lat t n a) (hk : ∀ j, j < n → a' j = a j) : sb_Lat t n a' := fun j hj => by
  rw [hk j hj]
  exact h j hj
def sb_cap (q m : Nat) : Nat := if q ≤ m then m else if 2 * m + 2 < q then q else 2 * m + 2
def sb_Room (q m mc ms : Nat) : Prop := q ≤ m ∨ (1 ≤ mc ∧ sb_cap q m ≤ ms ∧ sb_cap q m ≤ 65536)
theorem sb_cap_ge (q m : Nat) : q ≤ sb_cap q m := by
  unfold sb_cap
  split
  · omega
  · split <;> omega
theorem sb_cap_gem (q m : Nat) : m ≤ sb_cap q m := by
  unfold sb_cap
  split
  · omega
  · split <;> omega
theorem sb_cap_le {q m mc ms : Nat} (hm : m ≤ 65536) (hr : sb_Room q m mc ms) : sb_cap q m ≤ 65536 := by
  rcases hr with h | h
  · rw [sb_cap, if_pos h]
    exact hm
  · exact h.2.2
theorem sb_at {P : Int32 → Prop} {x y : Int32} (e : x = y) (h : P y) : P x := e ▸ h
def sb_dg (w : Nat) : Nat := if w < 10 then 1 else if w < 100 then 2 else if w < 1000 then 3 else if w < 10000 then 4 else if w < 100000 then 5 else if w < 1000000 then 6 else if w < 10000000 then 7 else if w < 100000000 then 8 else if w < 1000000000 then 9 else 10
def sb_dec (v : Nat) : Nat → Nat := fun i => 48 + v / 10 ^ (sb_dg v - 1 - i) % 10
theorem sb_dg_in (w : Nat) : 1 ≤ sb_dg w ∧ sb_dg w ≤ 10 := by
  unfold sb_dg
  constructor <;> (repeat' split) <;> omega
theorem sb_dg100 {w : Nat} (h : 100 ≤ w) (hw : w < 2 ^ 31) : sb_dg w = sb_dg (w / 100) + 2 := by
  rw [sb_dg, sb_dg, if_neg (show ¬ w < 10 by omega), if_neg (show ¬ w < 100 by omega)]
  by_cases h3 : w < 1000
  · rw [if_pos h3, if_pos (show w / 100 < 10 by omega)]
  rw [if_neg h3, if_neg (show ¬ w / 100 < 10 by omega)]
  by_cases h4 : w < 10000
  · rw [if_pos h4, if_pos (show w / 100 < 100 by omega)]
  rw [if_neg h4, if_neg (show ¬ w / 100 < 100 by omega)]
  by_cases h5 : w < 100000
  · rw [if_pos h5, if_pos (show w / 100 < 1000 by omega)]
  rw [if_neg h5, if_neg (show ¬ w / 100 < 1000 by omega)]
  by_cases h6 : w < 1000000
  · rw [if_pos h6, if_pos (show w / 100 < 10000 by omega)]
  rw [if_neg h6, if_neg (show ¬ w / 100 < 10000 by omega)]
  by_cases h7 : w < 10000000
  · rw [if_pos h7, if_pos (show w / 100 < 100000 by omega)]
  rw [if_neg h7, if_neg (show ¬ w / 100 < 100000 by omega)]
  by_cases h8 : w < 100000000
  · rw [if_pos h8, if_pos (show w / 100 < 1000000 by omega)]
  rw [if_neg h8, if_neg (show ¬ w / 100 < 1000000 by omega)]
  by_cases h9 : w < 1000000000
  · rw [if_pos h9, if_pos (show w / 100 < 10000000 by omega)]
  rw [if_neg h9, if_neg (show ¬ w / 100 < 10000000 by omega)]
  rw [if_pos (show w / 100 < 100000000 by omega)]
theorem sb_negT {w : Nat} (h : w < 2 ^ 31) : (-nI w).toInt = -(w : Int) := by
  rw [Int32.toInt_neg, nI_toInt h]
  exact Int.bmod_eq_of_le (by omega) (by omega)
theorem sb_nle {a b : Nat} (ha : a < 2 ^ 31) (hb : b < 2 ^ 31) : -nI a ≤ -nI b ↔ b ≤ a := by
  rw [Int32.le_iff_toInt_le, sb_negT ha, sb_negT hb]
  omega
theorem sb_nlt {a b : Nat} (ha : a < 2 ^ 31) (hb : b < 2 ^ 31) : -nI a < -nI b ↔ b < a := by
  rw [Int32.lt_iff_toInt_lt, sb_negT ha, sb_negT hb]
  omega
theorem sb_cmp {A B : Prop} {x : Int32} (v c : Nat) (f : c ≤ v → A) (g : v < c → B) (hv : v < 2 ^ 31) (hx : x = -nI c := by rfl) (hc : c < 2 ^ 31 := by omega) : (-nI v ≤ x → A) ∧ (¬ -nI v ≤ x → B) := by
  subst hx
  rw [sb_nle hv hc]
  exact ⟨f, fun z => g (by omega)⟩
theorem sb_ndiv {w : Nat} (hw : w < 2 ^ 31) : (-nI w) / 100 = -nI (w / 100) := by
  apply Int32.toInt_inj.mp
  have h100 : (100 : Int32).toInt = 100 := by decide
  rw [Int32.toInt_div, sb_negT hw, h100, sb_negT (by omega), Int.neg_tdiv, Int.tdiv_eq_ediv_of_nonneg (by omega), Int.bmod_eq_of_le (by omega) (by omega)]
  omega
theorem sb_nrem {w : Nat} (hw : w < 2 ^ 31) : (-nI (w / 100)) * 100 - (-nI w) = nI (w % 100) := by
  have h := pk_rem (a := w) (d := 100) hw (by decide) (by decide)
  rw [pk_div hw (by decide) (by decide)] at h
  rw [← h]
  show (-nI (w / 100)) * nI 100 - (-nI w) = nI w - nI (w / 100) * nI 100
  rw [Int32.neg_mul, Int32.sub_neg, Int32.add_comm, ← Int32.sub_eq_add_neg]
end
section
/-! rows on bits, shifts and unsigned numbers, to paste: each family out of a closed proof of our own, whole with what it rests on; each by itself clean at Lean in its own claim (generation 39, form 5). Take a family whole -/
/-! ===== Int32 by its bits: bt x i ===== -/
def bt (x : Int32) (i : Nat) : Bool := x.toBitVec.getLsbD i
theorem b_ext {x y : Int32} (h : ∀ i, i < 32 → bt x i = bt y i) : x = y := Int32.toBitVec_inj.mp (BitVec.eq_of_getLsbD_eq (fun i hi => h i hi))
theorem b_or (x y : Int32) (i : Nat) : bt (x ||| y) i = (bt x i || bt y i) := by unfold bt; rw [Int32.toBitVec_or, BitVec.getLsbD_or]
theorem b_and (x y : Int32) (i : Nat) : bt (x &&& y) i = (bt x i && bt y i) := by unfold bt; rw [Int32.toBitVec_and, BitVec.getLsbD_and]
theorem b_xor (x y : Int32) (i : Nat) : bt (x ^^^ y) i = (bt x i ^^ bt y i) := by unfold bt; rw [Int32.toBitVec_xor, BitVec.getLsbD_xor]
theorem b_big {x : Int32} {i : Nat} (h : 32 ≤ i) : bt x i = false := BitVec.getLsbD_of_ge _ _ h
theorem b_255 (i : Nat) : bt 255 i = decide (i < 8) := by
  rcases Nat.lt_or_ge i 32 with h | h
  · exact (by decide +kernel : ∀ i, i < 32 → bt 255 i = decide (i < 8)) i h
  · rw [b_big h, decide_eq_false (by omega)]
theorem b_65535 (i : Nat) : bt 65535 i = decide (i < 16) := by
  rcases Nat.lt_or_ge i 32 with h | h
  · exact (by decide +kernel : ∀ i, i < 32 → bt 65535 i = decide (i < 16)) i h
  · rw [b_big h, decide_eq_false (by omega)]
theorem b_m1 : ∀ i, i < 32 → bt (-1) i = true := by decide +kernel
theorem b_0 (i : Nat) : bt 0 i = false := BitVec.getLsbD_zero
theorem s_l : ∀ n, n < 32 → ((nI n &&& 31).toBitVec.smod 32).toNat = n := by decide +kernel
theorem s_u : ∀ n, n < 32 → (((nI n).toUInt32 &&& Int32.toUInt32 31).toBitVec % 32).toNat = n := by decide +kernel
theorem b_shl (n : Nat) (hn : n < 32) (x : Int32) {i : Nat} (hi : i < 32) : bt (x <<< (nI n &&& 31)) i = (decide (n ≤ i) && bt x (i - n)) := by
  unfold bt
  rw [Int32.toBitVec_shiftLeft]
  show (x.toBitVec <<< ((nI n &&& 31).toBitVec.smod 32).toNat).getLsbD i = _
  rw [s_l n hn, BitVec.getLsbD_shiftLeft]
  rcases Nat.lt_or_ge i n with h | h
  · simp [h, Nat.not_le.mpr h]
  · simp [hi, h, Nat.not_lt.mpr h]
theorem b_ushr (n : Nat) (hn : n < 32) (x : Int32) (i : Nat) : bt ((x.toUInt32 >>> ((nI n).toUInt32 &&& Int32.toUInt32 31)).toInt32) i = bt x (n + i) := by
  show (x.toUInt32 >>> ((nI n).toUInt32 &&& Int32.toUInt32 31)).toBitVec.getLsbD i = x.toUInt32.toBitVec.getLsbD (n + i)
  rw [UInt32.toBitVec_shiftRight]
  show (x.toUInt32.toBitVec >>> (((nI n).toUInt32 &&& Int32.toUInt32 31).toBitVec % 32).toNat).getLsbD i = _
  rw [s_u n hn, BitVec.getLsbD_ushiftRight]
theorem b_sshr (n : Nat) (hn : n < 32) (x : Int32) {i : Nat} (hi : i < 32) : bt (x >>> (nI n &&& 31)) i = if n + i < 32 then bt x (n + i) else bt x 31 := by
  unfold bt
  rw [Int32.toBitVec_shiftRight]
  show (x.toBitVec.sshiftRight ((nI n &&& 31).toBitVec.smod 32).toNat).getLsbD i = _
  rw [s_l n hn, BitVec.getLsbD_sshiftRight, BitVec.msb_eq_getLsbD_last]
  simp [hi]
theorem b_shl8 (x : Int32) {i : Nat} (hi : i < 32) : bt (x <<< ((8 : Int32) &&& 31)) i = (decide (8 ≤ i) && bt x (i - 8)) := b_shl 8 (by omega) x hi
theorem b_shl16 (x : Int32) {i : Nat} (hi : i < 32) : bt (x <<< ((16 : Int32) &&& 31)) i = (decide (16 ≤ i) && bt x (i - 16)) := b_shl 16 (by omega) x hi
theorem b_shl24 (x : Int32) {i : Nat} (hi : i < 32) : bt (x <<< ((24 : Int32) &&& 31)) i = (decide (24 ≤ i) && bt x (i - 24)) := b_shl 24 (by omega) x hi
theorem b_sshr8 (x : Int32) {i : Nat} (hi : i < 32) : bt (x >>> ((8 : Int32) &&& 31)) i = if 8 + i < 32 then bt x (8 + i) else bt x 31 := b_sshr 8 (by omega) x hi
/-! ===== nI under and, xor, >>>, one bit, 65535 ===== -/
theorem nx_and (a b : Nat) : nI a &&& nI b = nI (a &&& b) := by
  apply Int32.toBitVec_inj.1
  show BitVec.ofNat 32 a &&& BitVec.ofNat 32 b = BitVec.ofNat 32 (a &&& b)
  apply BitVec.eq_of_getLsbD_eq
  intro i hi
  simp [hi]
theorem nx_xor (a b : Nat) : nI a ^^^ nI b = nI (a ^^^ b) := by
  apply Int32.toBitVec_inj.1
  show BitVec.ofNat 32 a ^^^ BitVec.ofNat 32 b = BitVec.ofNat 32 (a ^^^ b)
  apply BitVec.eq_of_getLsbD_eq
  intro i hi
  simp [hi]
theorem nx_cnt : ∀ j : Fin 32, (UInt32.ofNat j.val &&& Int32.toUInt32 31).toNat % 32 = j.val := by decide +kernel
theorem nx_ush {k j : Nat} (hk : k < 65536) (hj : j < 32) : ((nI k).toUInt32 >>> ((nI j).toUInt32 &&& Int32.toUInt32 31)).toInt32 = nI (k >>> j) := by
  have hs : k >>> j ≤ k := by
    rw [Nat.shiftRight_eq_div_pow]
    exact Nat.div_le_self _ _
  have e2 : UInt32.ofNat k >>> (UInt32.ofNat j &&& Int32.toUInt32 31) = UInt32.ofNat (k >>> j) := by
    apply UInt32.toNat_inj.1
    have h1 : (UInt32.ofNat k).toNat = k := Nat.mod_eq_of_lt (by omega)
    have h2 : (UInt32.ofNat (k >>> j)).toNat = k >>> j := Nat.mod_eq_of_lt (by omega)
    rw [UInt32.toNat_shiftRight, nx_cnt ⟨j, hj⟩, h1, h2]
  show (UInt32.ofNat k >>> (UInt32.ofNat j &&& Int32.toUInt32 31)).toInt32 = _
  rw [e2]
  rfl
theorem nx_bit {k j : Nat} (hk : k < 65536) (hj : j < 16) : (((nI k).toUInt32 >>> ((nI j).toUInt32 &&& Int32.toUInt32 31)).toInt32 &&& 1) = 0 ↔ k.testBit j = false := by
  rw [nx_ush hk (by omega)]
  show nI (k >>> j) &&& nI 1 = 0 ↔ _
  rw [nx_and, Nat.and_one_is_mod, ← nI_0, nI_eq (by omega) (by omega), Nat.testBit_eq_decide_div_mod_eq, Nat.shiftRight_eq_div_pow, decide_eq_false_iff_not]
  generalize k / 2 ^ j = z
  omega
theorem nx_mod (k : Nat) : nI k &&& 65535 = nI (k % 65536) := by
  show nI k &&& nI 65535 = _
  rw [nx_and, show (65535 : Nat) = 2 ^ 16 - 1 from rfl, Nat.and_two_pow_sub_one_eq_mod]
theorem nx_m16 {k : Nat} (h : k < 65536) : nI k &&& 65535 = nI k := by rw [nx_mod, Nat.mod_eq_of_lt h]
theorem nx_mask (x : Int32) : ∃ k, k < 65536 ∧ x &&& 65535 = nI k := by
  have e : x = nI x.toBitVec.toNat := by
    apply Int32.toBitVec_inj.1
    show x.toBitVec = BitVec.ofNat 32 x.toBitVec.toNat
    simp
  refine ⟨x.toBitVec.toNat % 65536, Nat.mod_lt _ (by omega), ?_⟩
  rw [← nx_mod, ← e]
/-! ===== Int32 as a set of bits: test, set ===== -/
def nf_M (m : Int32) : Nat := 4294967296 - m.toBitVec.toNat
theorem nf_sh : ∀ l, l < 32 → ((1 : Int32) <<< (nI l &&& 31)).toBitVec = BitVec.twoPow 32 l := by decide +kernel
theorem nf_sl : ∀ l, l < 32 → (((nI l).toUInt32 &&& Int32.toUInt32 31).toBitVec % 32).toNat = l := by decide +kernel
theorem nf_tp : ∀ l, l < 32 → BitVec.twoPow 32 l ≠ 0#32 := by decide +kernel
theorem nf_bit (m : Int32) (l : Nat) (hl : l < 32) : ((m.toUInt32 >>> ((nI l).toUInt32 &&& Int32.toUInt32 31)).toInt32 &&& 1) = 0 ↔ (m &&& ((1 : Int32) <<< (nI l &&& 31))) = 0 := by
  have e : ((m.toUInt32 >>> ((nI l).toUInt32 &&& Int32.toUInt32 31)).toInt32).toBitVec = m.toBitVec >>> l := by
    show m.toBitVec >>> (((nI l).toUInt32 &&& Int32.toUInt32 31).toBitVec % 32) = m.toBitVec >>> l
    rw [BitVec.ushiftRight_eq', nf_sl l hl]
  rw [← Int32.toBitVec_inj, ← Int32.toBitVec_inj, Int32.toBitVec_and, Int32.toBitVec_and, nf_sh l hl, e, BitVec.and_twoPow]
  show (m.toBitVec >>> l &&& 1#32) = 0#32 ↔ _ = 0#32
  rw [BitVec.and_one_eq_setWidth_ofBool_getLsbD, BitVec.getLsbD_ushiftRight, Nat.add_zero]
  cases hb : m.toBitVec.getLsbD l
  · exact ⟨fun _ => by simp, fun _ => by decide⟩
  · exact ⟨fun z => absurd z (by decide), fun z => absurd ((if_pos rfl).symm.trans z) (nf_tp l hl)⟩
theorem nf_gr (m k : Int32) (h : m &&& k = 0) (hk : k ≠ 0) : nf_M (m ||| k) < nf_M m := by
  have hm := m.toBitVec.isLt
  have hm' := (m ||| k).toBitVec.isLt
  have h1 : m.toBitVec.toNat ≤ (m ||| k).toBitVec.toNat := by
    rw [Int32.toBitVec_or, BitVec.toNat_or]
    exact Nat.left_le_or
  have h2 : m.toBitVec.toNat ≠ (m ||| k).toBitVec.toNat := by
    intro e
    have e2 : m = m ||| k := Int32.toBitVec_inj.mp (BitVec.eq_of_toNat_eq e)
    apply hk
    apply Int32.toBitVec_inj.mp
    show k.toBitVec = 0#32
    apply BitVec.eq_of_getLsbD_eq
    intro i hi
    have a : m.toBitVec.getLsbD i = (m.toBitVec.getLsbD i || k.toBitVec.getLsbD i) := by rw [← BitVec.getLsbD_or, ← Int32.toBitVec_or, ← e2]
    have b : (m.toBitVec.getLsbD i && k.toBitVec.getLsbD i) = false := by
      rw [← BitVec.getLsbD_and, ← Int32.toBitVec_and, h]
      exact BitVec.getLsbD_zero
    rw [BitVec.getLsbD_zero]
    revert a b
    cases m.toBitVec.getLsbD i <;> cases k.toBitVec.getLsbD i <;> simp
  unfold nf_M
  omega
/-! ===== a byte read unsigned ===== -/
theorem bp_b (x : Int32) : x.toInt8.toInt32 &&& 255 = x &&& 255 := by
  apply Int32.toBitVec_inj.mp
  rw [Int32.toBitVec_and, Int32.toBitVec_and, Int8.toBitVec_toInt32, Int32.toBitVec_toInt8]
  apply BitVec.eq_of_getLsbD_eq
  intro i hi
  rw [BitVec.getLsbD_and, BitVec.getLsbD_and]
  have hm : ∀ i < 32, 8 ≤ i → (255 : Int32).toBitVec.getLsbD i = false := by decide
  rcases Nat.lt_or_ge i 8 with z | z
  · rw [BitVec.getLsbD_signExtend, BitVec.getLsbD_signExtend, if_pos z, if_pos hi]
    simp only [z, hi, decide_true, Bool.true_and]
  · rw [hm i hi z]; simp
/-! ===== the char cast and 65535 ===== -/
theorem em_w (v : Int32) : ∃ w : Nat, w < 65536 ∧ (v.toUInt32 % 65536).toInt32 = nI w ∧ v &&& 65535 = nI w := by
  have hr := lw_u16_r v
  have h0 : (0 : Int32).toInt = 0 := by decide
  obtain ⟨w, h1, h2⟩ := nI_of (x := lw_u16 v) (by rw [Int32.lt_iff_toInt_lt]; omega)
  have h3 : (v.toUInt32 % 65536).toInt32 = nI w := h2
  rw [h2, nI_toInt h1] at hr
  exact ⟨w, by omega, h3, by rw [← lg_i2c_mask, ← lg_i2c_nf, h3]⟩
/-! ===== Int64 as a set of bits: test, set, clear ===== -/
theorem ts_nf {x : Bool} (h : ¬ x = false) : x = true := by cases x <;> first | rfl | exact absurd rfl h
theorem ts_nt {x : Bool} (h : ¬ x = true) : x = false := by cases x <;> first | rfl | exact absurd rfl h
theorem ts_bit {w : Int64} {s : UInt64} {j : Nat} (hj : j < 64) (hs : s.toNat = j) : ((w.toUInt64 >>> s).toInt64 &&& 1) = 0 ↔ w.toBitVec.getLsbD j = false := by
  have e : (w.toUInt64 >>> s).toInt64.toBitVec = w.toBitVec >>> j := by
    apply BitVec.eq_of_toNat_eq
    show (w.toUInt64 >>> s).toNat = _
    rw [UInt64.toNat_shiftRight, hs, Nat.mod_eq_of_lt hj, BitVec.toNat_ushiftRight]
    rfl
  rw [← Int64.toBitVec_inj, Int64.toBitVec_and, e]
  show w.toBitVec >>> j &&& 1#64 = 0#64 ↔ _
  constructor
  · intro h
    have t := congrArg (fun x => x.getLsbD 0) h
    simpa using t
  · intro h
    apply BitVec.eq_of_getLsbD_eq
    intro i hi
    cases i with
    | zero => simp [h]
    | succ i => simp
theorem ts_or {w m : Int64} {j : Nat} (hj : j < 64) (hm : m.toBitVec = BitVec.twoPow 64 j) : (w ||| m) = w ↔ w.toBitVec.getLsbD j = true := by
  rw [← Int64.toBitVec_inj, Int64.toBitVec_or, hm]
  constructor
  · intro h
    have t := congrArg (fun x => x.getLsbD j) h
    simp only [BitVec.getLsbD_or, BitVec.getLsbD_twoPow] at t
    simpa [hj] using t.symm
  · intro h
    apply BitVec.eq_of_getLsbD_eq
    intro i hi
    rw [BitVec.getLsbD_or, BitVec.getLsbD_twoPow]
    by_cases e : j = i
    · subst e; rw [h, Bool.true_or]
    · simp [e]
theorem ts_and {w m : Int64} {j : Nat} (hj : j < 64) (hm : m.toBitVec = BitVec.twoPow 64 j) : (w &&& (m ^^^ (-1))) = w ↔ w.toBitVec.getLsbD j = false := by
  have ha : (-1 : Int64).toBitVec = BitVec.allOnes 64 := by decide
  rw [← Int64.toBitVec_inj, Int64.toBitVec_and, Int64.toBitVec_xor, hm, ha]
  constructor
  · intro h
    have t := congrArg (fun x => x.getLsbD j) h
    simp only [BitVec.getLsbD_and, BitVec.getLsbD_xor, BitVec.getLsbD_twoPow, BitVec.getLsbD_allOnes] at t
    simpa [hj] using t.symm
  · intro h
    apply BitVec.eq_of_getLsbD_eq
    intro i hi
    rw [BitVec.getLsbD_and, BitVec.getLsbD_xor, BitVec.getLsbD_twoPow, BitVec.getLsbD_allOnes]
    by_cases e : j = i
    · subst e; rw [h, Bool.false_and]
    · simp [e, hi]
/-! ===== lN n to 2^64: shifts, and, or, masks, one bit ===== -/
theorem wb_tb (n : Nat) : (lN n).toBitVec = BitVec.ofNat 64 n := rfl
theorem wb_inj {a b : Int64} (h : a.toBitVec = b.toBitVec) : a = b := Int64.toBitVec_inj.mp h
theorem wb_tn {n : Nat} (h : n < 2 ^ 64) : (lN n).toBitVec.toNat = n := by rw [wb_tb, BitVec.toNat_ofNat, Nat.mod_eq_of_lt h]
theorem wb_of (x : Int64) : ∃ n, n < 2 ^ 64 ∧ x = lN n := ⟨x.toBitVec.toNat, x.toBitVec.isLt, wb_inj (by rw [wb_tb]; simp)⟩
theorem wb_of32 (x : Int32) : ∃ n, n < 2 ^ 32 ∧ x = nI n := ⟨x.toBitVec.toNat, x.toBitVec.isLt, Int32.toBitVec_inj.mp (by show _ = BitVec.ofNat 32 _; simp)⟩
theorem wb_c : ∀ k, k < 64 → ((nI k).toInt64 &&& 63) = lN k := by decide +kernel
theorem wb_cu : ∀ k, k < 64 → ((nI k).toInt64.toUInt64 &&& Int64.toUInt64 63) = UInt64.ofNat k := by decide +kernel
theorem wb_sm : ∀ k, k < 64 → (BitVec.ofNat 64 k).smod 64 = BitVec.ofNat 64 k := by decide +kernel
theorem wb_pw {a b : Nat} (h : a ≤ b) : 2 ^ b = 2 ^ a * 2 ^ (b - a) := by rw [← Nat.pow_add]; congr 1; omega
theorem wb_lt2 {a b : Nat} (h : a < b) : 2 ^ a < 2 ^ b := Nat.pow_lt_pow_right (by decide) h
theorem wb_mod (n : Nat) : lN n = lN (n % 2 ^ 64) := wb_inj (by rw [wb_tb, wb_tb]; apply BitVec.eq_of_toNat_eq; rw [BitVec.toNat_ofNat, BitVec.toNat_ofNat, Nat.mod_mod])
theorem wb_shr {n k : Nat} (hn : n < 2 ^ 64) (hk : k < 64) : ((lN n).toUInt64 >>> ((nI k).toInt64.toUInt64 &&& Int64.toUInt64 63)).toInt64 = lN (n / 2 ^ k) := by
  rw [wb_cu k hk]
  apply wb_inj
  apply BitVec.eq_of_toNat_eq
  show ((lN n).toUInt64 >>> UInt64.ofNat k).toNat = (BitVec.ofNat 64 _).toNat
  have h1 : (UInt64.ofNat k).toNat = k := by
    show (BitVec.ofNat 64 k).toNat = k
    rw [BitVec.toNat_ofNat, Nat.mod_eq_of_lt (by omega)]
  have h2 : (lN n).toUInt64.toNat = n := wb_tn hn
  rw [UInt64.toNat_shiftRight, h1, h2, Nat.mod_eq_of_lt hk, Nat.shiftRight_eq_div_pow, BitVec.toNat_ofNat, Nat.mod_eq_of_lt (Nat.lt_of_le_of_lt (Nat.div_le_self _ _) hn)]
theorem wb_shl (n : Nat) {k : Nat} (hk : k < 64) : lN n <<< ((nI k).toInt64 &&& 63) = lN (n * 2 ^ k) := by
  rw [wb_c k hk]
  apply wb_inj
  rw [Int64.toBitVec_shiftLeft, wb_tb, wb_tb, wb_tb, wb_sm k hk]
  apply BitVec.eq_of_toNat_eq
  rw [BitVec.shiftLeft_eq', BitVec.toNat_shiftLeft, BitVec.toNat_ofNat, BitVec.toNat_ofNat, BitVec.toNat_ofNat, Nat.mod_eq_of_lt (show k < 2 ^ 64 by omega), Nat.shiftLeft_eq, Nat.mul_mod, Nat.mod_mod, ← Nat.mul_mod]
theorem wb_and {a b : Nat} (ha : a < 2 ^ 64) (hb : b < 2 ^ 64) : lN a &&& lN b = lN (a &&& b) := by
  apply wb_inj
  rw [Int64.toBitVec_and, wb_tb, wb_tb, wb_tb]
  apply BitVec.eq_of_toNat_eq
  rw [BitVec.toNat_and, BitVec.toNat_ofNat, BitVec.toNat_ofNat, BitVec.toNat_ofNat, Nat.mod_eq_of_lt ha, Nat.mod_eq_of_lt hb, Nat.mod_eq_of_lt (Nat.and_lt_two_pow _ hb)]
theorem wb_or {a b : Nat} (ha : a < 2 ^ 64) (hb : b < 2 ^ 64) : lN a ||| lN b = lN (a ||| b) := by
  apply wb_inj
  rw [Int64.toBitVec_or, wb_tb, wb_tb, wb_tb]
  apply BitVec.eq_of_toNat_eq
  rw [BitVec.toNat_or, BitVec.toNat_ofNat, BitVec.toNat_ofNat, BitVec.toNat_ofNat, Nat.mod_eq_of_lt ha, Nat.mod_eq_of_lt hb, Nat.mod_eq_of_lt (Nat.or_lt_two_pow ha hb)]
theorem wb_mask {n k : Nat} (hn : n < 2 ^ 64) (hk : k < 64) : lN n &&& lN (2 ^ k - 1) = lN (n % 2 ^ k) := by
  rw [wb_and hn (by have := wb_lt2 hk; omega), Nat.and_two_pow_sub_one_eq_mod]
theorem wb_a1 {n : Nat} (hn : n < 2 ^ 64) : lN n &&& 1 = lN (n % 2) := wb_mask (k := 1) hn (by decide)
theorem wb_bit {n k : Nat} (hn : n < 2 ^ 64) (hk : k < 64) : ((lN n).toUInt64 >>> ((nI k).toInt64.toUInt64 &&& Int64.toUInt64 63)).toInt64 &&& 1 = lN (n / 2 ^ k % 2) := by
  rw [wb_shr hn hk, wb_a1 (Nat.lt_of_le_of_lt (Nat.div_le_self _ _) hn)]
theorem wb_xor {q k : Nat} (hk : k < 63) (h : 2 ^ k ≤ q) (h2 : q < 2 ^ (k + 1)) : lN q ^^^ lN (2 ^ k) = lN (q - 2 ^ k) := by
  obtain ⟨r, rfl⟩ : ∃ r, q = 2 ^ k + r := ⟨q - 2 ^ k, by omega⟩
  have hr : r < 2 ^ k := by rw [Nat.pow_succ] at h2; omega
  have hx : (2 ^ k + r) ^^^ 2 ^ k = r := by
    apply Nat.eq_of_testBit_eq
    intro i
    rw [Nat.testBit_xor, Nat.testBit_two_pow]
    rcases Nat.lt_trichotomy i k with h | h | h
    · rw [Nat.testBit_two_pow_add_gt h]
      simp [show ¬ k = i by omega]
    · subst h
      rw [Nat.testBit_two_pow_add_eq]
      simp
    · have a1 : 2 ^ (k + 1) ≤ 2 ^ i := Nat.pow_le_pow_right (by decide) h
      rw [Nat.testBit_lt_two_pow (show 2 ^ k + r < 2 ^ i by omega), Nat.testBit_lt_two_pow (show r < 2 ^ i by omega)]
      simp [show ¬ k = i by omega]
  have b1 := wb_lt2 (show k + 1 < 64 by omega)
  have b2 := wb_lt2 (show k < 64 by omega)
  apply wb_inj
  rw [Int64.toBitVec_xor, wb_tb, wb_tb, wb_tb]
  apply BitVec.eq_of_toNat_eq
  rw [BitVec.toNat_xor, BitVec.toNat_ofNat, BitVec.toNat_ofNat, BitVec.toNat_ofNat, Nat.mod_eq_of_lt (by omega : 2 ^ k + r < 2 ^ 64), Nat.mod_eq_of_lt b2, hx, Nat.add_sub_cancel_left, Nat.mod_eq_of_lt (by omega)]
/-! ===== lN: masks, 'or' of parts that don't overlap is a sum ===== -/
theorem u_tn {n : Nat} (h : n < 2 ^ 64) : (UInt64.ofNat n).toNat = n := Nat.mod_eq_of_lt h
theorem g_and {a b c : Nat} (ha : a < 2 ^ 64) (hb : b < 2 ^ 64) (hc : a &&& b = c) : lN a &&& lN b = lN c := by
  subst hc
  have h : UInt64.ofNat a &&& UInt64.ofNat b = UInt64.ofNat (a &&& b) := UInt64.toNat_inj.mp (by rw [UInt64.toNat_and, u_tn ha, u_tn hb, u_tn (Nat.and_lt_two_pow a hb)])
  have h2 := congrArg UInt64.toInt64 h
  exact h2
theorem g_and1 {a : Nat} (ha : a < 2 ^ 64) : lN a &&& 1 = lN (a % 2) := g_and (b := 1) ha (by decide) (Nat.and_two_pow_sub_one_eq_mod a 1)
theorem g_mask {a s p : Nat} (hp : 2 ^ s = p) (hs : s < 64) (ha : a < 2 ^ 64) : lN a &&& lN (p - 1) = lN (a % p) := by
  subst hp
  have := Nat.pow_lt_pow_right (show 1 < 2 by decide) hs
  exact g_and ha (by omega) (Nat.and_two_pow_sub_one_eq_mod a s)
theorem g_or {k p a b : Nat} (hp : 2 ^ k = p) (ha : a < p) (h : b * p + a < 2 ^ 64) : lN (b * p) ||| lN a = lN (b * p + a) := by
  subst hp
  have h1 : b * 2 ^ k ||| a = b * 2 ^ k + a := by rw [← Nat.shiftLeft_eq, Nat.shiftLeft_add_eq_or_of_lt ha]
  have h3 : UInt64.ofNat (b * 2 ^ k) ||| UInt64.ofNat a = UInt64.ofNat (b * 2 ^ k + a) := UInt64.toNat_inj.mp (by rw [UInt64.toNat_or, u_tn (by omega), u_tn (by omega), u_tn h, h1])
  have h2 := congrArg UInt64.toInt64 h3
  exact h2
theorem g_or' {k p a b : Nat} (hp : 2 ^ k = p) (ha : a < p) (h : a + b * p < 2 ^ 64) : lN a ||| lN (b * p) = lN (a + b * p) := by
  rw [Int64.or_comm, g_or hp ha (by omega), Nat.add_comm]
theorem g_ushr {a k p : Nat} {y : UInt64} (hy : y = UInt64.ofNat k) (hk : k < 64) (hp : 2 ^ k = p) (ha : a < 2 ^ 64) : ((lN a).toUInt64 >>> y).toInt64 = lN (a / p) := by
  subst hy hp
  have h : UInt64.ofNat a >>> UInt64.ofNat k = UInt64.ofNat (a / 2 ^ k) := UInt64.toNat_inj.mp (by rw [UInt64.toNat_shiftRight, u_tn ha, u_tn (by omega), u_tn (Nat.lt_of_le_of_lt (Nat.div_le_self _ _) ha), Nat.mod_eq_of_lt hk, Nat.shiftRight_eq_div_pow])
  have h2 := congrArg UInt64.toInt64 h
  exact h2
theorem g_shl {a k p : Nat} {y : Int64} (hy : y.toBitVec.smod 64 = BitVec.ofNat 64 k) (hk : k < 64) (hp : 2 ^ k = p) (ha : a < 2 ^ 64) : lN a <<< y = lN (a * p) := by
  subst hp
  apply Int64.toBitVec_inj.mp
  rw [Int64.toBitVec_shiftLeft, hy]
  apply BitVec.eq_of_toNat_eq
  have hb : (lN a).toBitVec.toNat = a := Nat.mod_eq_of_lt ha
  have hk' : (BitVec.ofNat 64 k).toNat = k := Nat.mod_eq_of_lt (by omega)
  have h : ((lN a).toBitVec <<< BitVec.ofNat 64 k).toNat = (a * 2 ^ k) % 2 ^ 64 := by simp only [BitVec.shiftLeft_eq', BitVec.toNat_shiftLeft, hb, hk', Nat.shiftLeft_eq]
  exact h
/-! ===== lN to 2^62 under >> and >>> ===== -/
theorem pf_lI {a : Nat} (h : a < 2 ^ 63) : (lN a).toInt = (a : Int) := lg_ofNat_toInt h
theorem pf_shr {a d : Nat} {D : Int64} (hD : (D.toBitVec.smod 64).toNat = d) (h : a < 2 ^ 62) : lN a >>> D = lN (a / 2 ^ d) := by
  have hd : a / 2 ^ d ≤ a := Nat.div_le_self _ _
  apply Int64.toInt_inj.mp
  have e : (lN a >>> D).toInt = (lN a).toInt >>> d := by
    rw [← hD]
    exact BitVec.toInt_sshiftRight ..
  rw [e, Int.shiftRight_eq_div_pow, pf_lI (by omega), pf_lI (by omega)]
  rfl
theorem pf_ushr {a d : Nat} {D : UInt64} (hD : D.toNat % 64 = d) (h : a < 2 ^ 62) : ((lN a).toUInt64 >>> D).toInt64 = lN (a / 2 ^ d) := by
  have hd : a / 2 ^ d ≤ a := Nat.div_le_self _ _
  have e : (lN a).toUInt64 >>> D = UInt64.ofNat (a / 2 ^ d) := UInt64.toNat_inj.mp (by
    rw [UInt64.toNat_shiftRight, hD, Nat.shiftRight_eq_div_pow, UInt64.toNat_ofNat']
    show (UInt64.ofNat a).toNat / 2 ^ d = _
    rw [UInt64.toNat_ofNat', Nat.mod_eq_of_lt (by omega), Nat.mod_eq_of_lt (by omega)])
  rw [e]
  rfl
theorem pf_andw (x : Int64) : ∃ m, m < 2 ^ 32 ∧ x &&& 4294967295 = lN m := ⟨x.toBitVec.toNat % 2 ^ 32, Nat.mod_lt _ (by decide), Int64.toBitVec_inj.mp (BitVec.eq_of_toNat_eq (by
  show (x.toBitVec &&& 4294967295#64).toNat = (BitVec.ofNat 64 (x.toBitVec.toNat % 2 ^ 32)).toNat
  rw [BitVec.toNat_and, show (4294967295#64).toNat = 2 ^ 32 - 1 from by decide, Nat.and_two_pow_sub_one_eq_mod, BitVec.toNat_ofNat]
  omega))⟩
/-! ===== Int64 as an unsigned number: uN x ===== -/
def uN (x : Int64) : Nat := x.toUInt64.toNat
theorem uN_lt (x : Int64) : uN x < 18446744073709551616 := x.toUInt64.toNat_lt
theorem uN_inj {x y : Int64} (h : uN x = uN y) : x = y := congrArg UInt64.toInt64 (UInt64.toNat_inj.mp h)
theorem uN_add (x y : Int64) : uN (x + y) = (uN x + uN y) % 18446744073709551616 := by
  show (x.toUInt64 + y.toUInt64).toNat = _
  exact UInt64.toNat_add _ _
theorem uN_mul (x y : Int64) : uN (x * y) = (uN x * uN y) % 18446744073709551616 := by
  show (x.toUInt64 * y.toUInt64).toNat = _
  exact UInt64.toNat_mul _ _
theorem uN_shl (x : Int64) : uN (x <<< ((1 : Int32).toInt64 &&& 63)) = (2 * uN x) % 18446744073709551616 := by
  have h : (((1 : Int32).toInt64 &&& 63).toBitVec.smod 64).toNat = 1 := by decide
  show (x.toBitVec <<< (((1 : Int32).toInt64 &&& 63).toBitVec.smod 64).toNat).toNat = _
  rw [h, BitVec.toNat_shiftLeft, Nat.shiftLeft_eq, Nat.mul_comm]
  rfl
theorem uN_shr (x : Int64) (s : UInt64) : uN (x.toUInt64 >>> s).toInt64 = uN x / 2 ^ (s.toNat % 64) := by
  show (x.toUInt64 >>> s).toNat = _
  rw [UInt64.toNat_shiftRight, Nat.shiftRight_eq_div_pow]
  rfl
theorem uN_s32 (x : Int64) : uN (x.toUInt64 >>> ((32 : Int32).toInt64.toUInt64 &&& Int64.toUInt64 63)).toInt64 = uN x / 4294967296 := by
  have h : ((32 : Int32).toInt64.toUInt64 &&& Int64.toUInt64 63).toNat % 64 = 32 := by decide
  rw [uN_shr, h]
theorem uN_s63 (x : Int64) : uN (x.toUInt64 >>> ((63 : Int32).toInt64.toUInt64 &&& Int64.toUInt64 63)).toInt64 = uN x / 9223372036854775808 := by
  have h : ((63 : Int32).toInt64.toUInt64 &&& Int64.toUInt64 63).toNat % 64 = 63 := by decide
  rw [uN_shr, h]
theorem uN_lo (x : Int64) : uN (x &&& 4294967295) = uN x % 4294967296 := by
  show (x.toUInt64 &&& Int64.toUInt64 4294967295).toNat = _
  rw [UInt64.toNat_and]
  exact Nat.and_two_pow_sub_one_eq_mod _ 32
theorem uN_bit (x : Int64) : (x &&& 1) = 0 ↔ uN x % 2 = 0 := by
  have h : uN (x &&& 1) = uN x % 2 := by
    show (x.toUInt64 &&& Int64.toUInt64 1).toNat = _
    rw [UInt64.toNat_and]
    exact Nat.and_two_pow_sub_one_eq_mod _ 1
  rw [← h]
  exact ⟨fun z => by rw [z]; rfl, fun z => uN_inj (z.trans rfl)⟩
theorem uN_or {x y : Int64} (hy : uN y < 2) : uN ((x <<< ((1 : Int32).toInt64 &&& 63)) ||| y) = (2 * uN x) % 18446744073709551616 + uN y := by
  have h1 : uN ((x <<< ((1 : Int32).toInt64 &&& 63)) ||| y) = uN (x <<< ((1 : Int32).toInt64 &&& 63)) ||| uN y := UInt64.toNat_or _ _
  have h2 : (2 * uN x) % 18446744073709551616 = 2 ^ 1 * (uN x % 9223372036854775808) := by omega
  rw [h1, uN_shl, h2]
  exact (Nat.two_pow_add_eq_or_of_lt (i := 1) hy _).symm
theorem nat_xor {a : Nat} (h : a < 18446744073709551616) : a ^^^ 2 ^ 63 = (a + 9223372036854775808) % 18446744073709551616 := by
  have h1 : (a ^^^ 2 ^ 63) % 2 ^ 63 = a % 2 ^ 63 := by rw [Nat.xor_mod_two_pow, Nat.mod_self, Nat.xor_zero]
  have h2 : (a ^^^ 2 ^ 63) / 2 ^ 63 = (a / 2 ^ 63) ^^^ 1 := by rw [Nat.xor_div_two_pow, Nat.div_self (Nat.two_pow_pos 63)]
  have h3 : a / 2 ^ 63 = 0 ∨ a / 2 ^ 63 = 1 := by omega
  generalize a ^^^ 2 ^ 63 = t at h1 h2
  rcases h3 with h3 | h3
  · rw [h3] at h2
    have h2 : t / 2 ^ 63 = 1 := h2
    omega
  · rw [h3] at h2
    have h2 : t / 2 ^ 63 = 0 := h2
    omega
theorem uN_xor (x : Int64) : uN (x ^^^ (-9223372036854775808)) = (uN x + 9223372036854775808) % 18446744073709551616 := by
  rw [← nat_xor (uN_lt x)]
  exact UInt64.toNat_xor _ _
theorem uN_int (x : Int64) : x.toInt = if 2 * uN x < 18446744073709551616 then (uN x : Int) else (uN x : Int) - 18446744073709551616 := BitVec.toInt_eq_toNat_cond _
theorem uN_le (x y : Int64) : (x ^^^ (-9223372036854775808)) ≤ (y ^^^ (-9223372036854775808)) ↔ uN x ≤ uN y := by
  have hx := uN_lt x
  have hy := uN_lt y
  rw [Int64.le_iff_toInt_le, uN_int, uN_int, uN_xor, uN_xor]
  omega
theorem uN_sk (x : Int64) {k : Nat} (hk : k < 64) : uN (x.toUInt64 >>> ((nI k).toInt64.toUInt64 &&& Int64.toUInt64 63)).toInt64 = uN x / 2 ^ k := by
  have h : ((nI k).toInt64.toUInt64 &&& Int64.toUInt64 63).toNat % 64 = k := by
    rw [nI_l (by omega), UInt64.toNat_and]
    have e : (lN k).toUInt64.toNat = k % 2 ^ 64 := rfl
    have e2 : (Int64.toUInt64 63).toNat = 2 ^ 6 - 1 := by decide
    rw [e, e2, Nat.and_two_pow_sub_one_eq_mod]
    omega
  rw [uN_shr, h]
/-! ===== unsigned comparison by xor with the least ===== -/
theorem lN_bv (n : Nat) : (lN n).toBitVec = BitVec.ofNat 64 n := rfl
theorem lN_nat {n : Nat} (h : n < 2 ^ 64) : (lN n).toBitVec.toNat = n := by rw [lN_bv, BitVec.toNat_ofNat]; exact Nat.mod_eq_of_lt h
theorem lN_xor (a b : Nat) : lN a ^^^ lN b = lN (a ^^^ b) := by
  apply Int64.toBitVec_inj.mp; rw [Int64.toBitVec_xor, lN_bv, lN_bv, lN_bv]; apply BitVec.eq_of_getLsbD_eq; intro i hi; simp [BitVec.getLsbD_ofNat, Nat.testBit_xor, hi]
theorem lN_ti {m : Nat} (h : m < 2 ^ 64) : (lN m).toInt = if m < 2 ^ 63 then (m : Int) else (m : Int) - 2 ^ 64 := by
  have c := BitVec.toInt_eq_toNat_cond (lN m).toBitVec
  rw [lN_nat h] at c
  show (lN m).toBitVec.toInt = _
  rw [c]
  split <;> split <;> omega
theorem xor63 {x : Nat} (h : x < 2 ^ 63) : x ^^^ 2 ^ 63 = 2 ^ 63 + x := by
  apply Nat.eq_of_testBit_eq
  intro i
  rw [Nat.testBit_xor, Nat.testBit_two_pow]
  rcases Nat.lt_trichotomy i 63 with z | z | z
  · rw [Nat.testBit_two_pow_add_gt z, decide_eq_false (by omega)]; simp
  · subst z; rw [Nat.testBit_two_pow_add_eq]; simp
  · have hp : 2 ^ 64 ≤ 2 ^ i := Nat.pow_le_pow_right (by decide) z
    rw [Nat.testBit_lt_two_pow (show x < 2 ^ i by omega), Nat.testBit_lt_two_pow (show 2 ^ 63 + x < 2 ^ i by omega), decide_eq_false (by omega)]; rfl
theorem xorS {a : Nat} (h : a < 2 ^ 64) : (lN a ^^^ (-9223372036854775808)).toInt = (a : Int) - 2 ^ 63 := by
  rw [show (-9223372036854775808 : Int64) = lN (2 ^ 63) from by decide +kernel, lN_xor]
  rcases Nat.lt_or_ge a (2 ^ 63) with z | z
  · rw [xor63 z, lN_ti (by omega), if_neg (by omega)]; omega
  · obtain ⟨x, rfl⟩ : ∃ x, a = 2 ^ 63 + x := ⟨a - 2 ^ 63, by omega⟩
    rw [← xor63 (by omega), Nat.xor_assoc, Nat.xor_self, Nat.xor_zero, lN_ti (by omega), if_pos (by omega), xor63 (by omega)]; omega
theorem ultL {a b : Nat} (ha : a < 2 ^ 64) (hb : b < 2 ^ 64) : ((lN b ^^^ (-9223372036854775808)) ≤ (lN a ^^^ (-9223372036854775808))) ↔ b ≤ a := by
  rw [Int64.le_iff_toInt_le, xorS ha, xorS hb]; omega
/-! ===== Int64 masks of n low bits ===== -/
theorem cr_bits (W U M : BitVec 64) : ((W &&& U) &&& (U &&& (M ^^^ BitVec.allOnes 64))) = 0#64 ↔ (W &&& U) &&& M = W &&& U := by
  constructor
  · intro h
    apply BitVec.eq_of_getLsbD_eq
    intro i hi
    have e := congrArg (fun x => BitVec.getLsbD x i) h
    simp only [BitVec.getLsbD_and, BitVec.getLsbD_xor, BitVec.getLsbD_allOnes, BitVec.getLsbD_zero, hi, decide_true] at e ⊢
    revert e
    cases W.getLsbD i <;> cases U.getLsbD i <;> cases M.getLsbD i <;> decide
  · intro h
    apply BitVec.eq_of_getLsbD_eq
    intro i hi
    have e := congrArg (fun x => BitVec.getLsbD x i) h
    simp only [BitVec.getLsbD_and, BitVec.getLsbD_xor, BitVec.getLsbD_allOnes, BitVec.getLsbD_zero, hi, decide_true] at e ⊢
    revert e
    cases W.getLsbD i <;> cases U.getLsbD i <;> cases M.getLsbD i <;> decide
theorem cr_mask (w U m : Int64) (n : Nat) (hm : m.toBitVec.toNat = 2 ^ n - 1) : ((w &&& U) &&& (U &&& (m ^^^ (-1)))) = 0 ↔ (w &&& U).toBitVec.toNat < 2 ^ n := by
  have e0 : (-1 : Int64).toBitVec = BitVec.allOnes 64 := by decide
  have z0 : (0 : Int64).toBitVec = 0#64 := by decide
  rw [← Int64.toBitVec_inj, z0, Int64.toBitVec_and, Int64.toBitVec_and, Int64.toBitVec_and, Int64.toBitVec_xor, e0, cr_bits]
  generalize w.toBitVec &&& U.toBitVec = T
  rw [← BitVec.toNat_inj, BitVec.toNat_and, hm, Nat.and_two_pow_sub_one_eq_mod]
  constructor
  · intro h
    have t := Nat.mod_lt T.toNat (Nat.two_pow_pos n)
    rw [h] at t
    exact t
  · exact Nat.mod_eq_of_lt
theorem cr_shr (t : Int64) (x : UInt64) (n : Nat) (hx : x.toNat % 64 = n) : (t.toUInt64 >>> x).toInt64 = 0 ↔ t.toBitVec.toNat < 2 ^ n := by
  rw [← Int64.toBitVec_inj, ← BitVec.toNat_inj]
  show (t.toUInt64 >>> x).toNat = 0 ↔ t.toUInt64.toNat < 2 ^ n
  rw [UInt64.toNat_shiftRight, hx, Nat.shiftRight_eq_div_pow]
  constructor
  · intro h
    have d : t.toUInt64.toNat / 2 ^ n < 1 := by
      rw [h]
      decide
    have e := (Nat.div_lt_iff_lt_mul (Nat.two_pow_pos n)).mp d
    rw [Nat.one_mul] at e
    exact e
  · exact Nat.div_eq_of_lt
theorem cr_amt (s : Int64) : ∃ n, n < 64 ∧ s &&& 63 = lN n ∧ (s.toUInt64 &&& Int64.toUInt64 63).toNat % 64 = n := by
  have e : (s.toUInt64 &&& Int64.toUInt64 63).toNat = s.toUInt64.toNat % 2 ^ 6 := by
    rw [UInt64.toNat_and, show (Int64.toUInt64 63).toNat = 2 ^ 6 - 1 from by decide, Nat.and_two_pow_sub_one_eq_mod]
  refine ⟨s.toUInt64.toNat % 2 ^ 6, by omega, ?_, by omega⟩
  rw [← Int64.toBitVec_inj, ← BitVec.toNat_inj]
  show (s.toUInt64 &&& Int64.toUInt64 63).toNat = (BitVec.ofNat 64 (s.toUInt64.toNat % 2 ^ 6)).toNat
  rw [e, BitVec.toNat_ofNat]
  omega
end
section
/-! sums -/
def sm (f : Nat → Nat) : Nat → Nat
  | 0 => 0
  | n + 1 => sm f n + f n
theorem sm_congr {f g : Nat → Nat} : ∀ n, (∀ i, i < n → f i = g i) → sm f n = sm g n := by
  intro n
  induction n with
  | zero => intro _; rfl
  | succ n ih => intro h; show sm f n + f n = sm g n + g n; rw [ih (fun i hi => h i (by omega)), h n (by omega)]
theorem sm_upd {f g : Nat → Nat} {j : Nat} : ∀ n, j < n → (∀ i, i < n → i ≠ j → g i = f i) → sm g n + f j = sm f n + g j := by
  intro n
  induction n with
  | zero => intro h; omega
  | succ n ih =>
    intro hj h
    show sm g n + g n + f j = sm f n + f n + g j
    by_cases e : j = n
    · subst e
      rw [sm_congr j (f := g) (g := f) (fun i hi => h i (by omega) (by omega))]; omega
    · have := ih (by omega) (fun i hi => h i (by omega))
      rw [h n (by omega) (by omega)]; omega
theorem sm_le {f : Nat → Nat} {b : Nat} : ∀ n, (∀ i, i < n → f i ≤ b) → sm f n ≤ n * b := by
  intro n
  induction n with
  | zero => intro _; show 0 ≤ _; omega
  | succ n ih =>
    intro h
    have h1 := ih (fun i hi => h i (by omega))
    have h2 := h n (by omega)
    show sm f n + f n ≤ (n + 1) * b
    rw [Nat.succ_mul]; omega
theorem sm_zero {f : Nat → Nat} : ∀ n, sm f n = 0 → ∀ i, i < n → f i = 0 := by
  intro n
  induction n with
  | zero => intro _ i h; omega
  | succ n ih =>
    intro h i hi
    have h' : sm f n + f n = 0 := h
    by_cases e : i = n
    · subst e; omega
    · exact ih (by omega) i (by omega)
theorem sm_z {f : Nat → Nat} : ∀ n, (∀ i, i < n → f i = 0) → sm f n = 0 := by
  intro n
  induction n with
  | zero => intro _; rfl
  | succ n ih => intro h; show sm f n + f n = 0; rw [ih (fun i hi => h i (by omega)), h n (by omega)]
theorem sm_ge {f : Nat → Nat} : ∀ n i, i < n → f i ≤ sm f n := by
  intro n
  induction n with
  | zero => intro i h; omega
  | succ n ih =>
    intro i hi
    show f i ≤ sm f n + f n
    by_cases e : i = n
    · subst e; omega
    · have := ih i (by omega); omega
theorem sm_full {f : Nat → Nat} {b : Nat} : ∀ n, (∀ i, i < n → f i ≤ b) → n * b ≤ sm f n → ∀ i, i < n → f i = b := by
  intro n
  induction n with
  | zero => intro _ _ i h; omega
  | succ n ih =>
    intro h h2 i hi
    have h3 : (n + 1) * b ≤ sm f n + f n := h2
    rw [Nat.succ_mul] at h3
    have h4 := sm_le n (fun i hi => h i (by omega))
    have h5 := h n (by omega)
    by_cases e : i = n
    · subst e; omega
    · exact ih (fun i hi => h i (by omega)) (by omega) i (by omega)

/-! a slot or nobody -/
def oI (n : Nat) : Int32 := if n < 16 then nI n else -1
theorem oI_p {n : Nat} (h : n < 16) : oI n = nI n := if_pos h
theorem oI_n : oI 16 = -1 := rfl
theorem oI_neg {n : Nat} (h : 16 ≤ n) : oI n = -1 := if_neg (by omega)
theorem oI_inj {a b : Nat} (ha : a ≤ 16) (hb : b ≤ 16) : oI a = oI b ↔ a = b := by
  have : ∀ a, a < 17 → ∀ b, b < 17 → (oI a = oI b ↔ a = b) := by decide +kernel
  exact this a (by omega) b (by omega)
theorem oI_lt0 {a : Nat} (ha : a ≤ 16) : oI a < 0 ↔ a = 16 := by
  have : ∀ a, a < 17 → (oI a < 0 ↔ a = 16) := by decide +kernel
  exact this a (by omega)
def hI : Option Nat → Int32
  | none => -1
  | some a => nI a
theorem hI_neg {l : List Nat} (h : ∀ a, a ∈ l → a < 16) : hI l.head? < 0 ↔ l = [] := by
  cases l with
  | nil => exact ⟨fun _ => rfl, fun _ => by decide⟩
  | cons a t =>
    have := h a (by simp)
    constructor
    · intro h; exact absurd h (nI_pos (by omega))
    · intro h; simp at h

/-! linked lists -/
def LC (nx : Nat → Int32) : List Nat → Prop
  | [] => True
  | a :: t => nx a = hI t.head? ∧ LC nx t
theorem LC_fr {nx nx' : Nat → Int32} : ∀ l : List Nat, (∀ a, a ∈ l → nx' a = nx a) → LC nx l → LC nx' l := by
  intro l
  induction l with
  | nil => intro _ _; trivial
  | cons a t ih =>
    intro h hl
    exact ⟨by rw [h a (by simp)]; exact hl.1, ih (fun b hb => h b (by simp [hb])) hl.2⟩
theorem LC_app {nx : Nat → Int32} {p : Nat} : ∀ l : List Nat, l.Nodup → p ∉ l → LC nx l →
    LC (match l.getLast? with | none => upd nx p (-1) | some b => upd (upd nx p (-1)) b (nI p)) (l ++ [p]) := by
  intro l
  induction l with
  | nil => intro _ _ _; exact ⟨by show upd nx p (-1) p = -1; exact pk_us, trivial⟩
  | cons a t ih =>
    intro hn hp hl
    rw [List.nodup_cons] at hn
    rw [List.mem_cons] at hp
    have h1 := ih hn.2 (fun h => hp (.inr h)) hl.2
    cases t with
    | nil =>
      refine ⟨?_, ?_, trivial⟩
      · show upd (upd nx p (-1)) a (nI p) a = nI p
        exact pk_us
      · show upd (upd nx p (-1)) a (nI p) p = -1
        rw [pk_un (fun h => hp (.inl h)), pk_us]
    | cons b t =>
      obtain ⟨z, hz⟩ : ∃ z, (b :: t).getLast? = some z := by
        cases h : (b :: t).getLast? with
        | none => rw [List.getLast?_eq_none_iff] at h; cases h
        | some z => exact ⟨z, rfl⟩
      have e : (a :: b :: t).getLast? = some z := by rw [List.getLast?_cons_cons]; exact hz
      rw [hz] at h1
      rw [e]
      refine ⟨?_, h1⟩
      have hza : a ≠ z := by
        rintro rfl
        exact hn.1 (List.mem_of_getLast? hz)
      show upd (upd nx p (-1)) z (nI p) a = nI b
      rw [pk_un hza, pk_un (fun h => hp (.inl h.symm))]
      exact hl.1
theorem LC_pop {nx : Nat → Int32} {p : Nat} {t : List Nat} (hn : (p :: t).Nodup) (h : LC nx (p :: t)) : nx p = hI t.head? ∧ LC (upd nx p (-1)) t := by
  refine ⟨h.1, LC_fr t ?_ h.2⟩
  intro a ha
  rw [List.nodup_cons] at hn
  exact pk_un (by rintro rfl; exact hn.1 ha)

/-! the shape of the mesh -/
def gLd (c id : Nat) : Nat := if id % 8 = 0 then id / 8 + 1 else if id % 8 = 1 then id / 8 - 1 else if id % 8 = 2 then id / 8 - c else if id % 8 = 3 then id / 8 + c else id / 8
def gOk (c r id : Nat) : Bool := decide (id / 8 < c * r) && (if id % 8 = 0 then decide (id / 8 % c + 1 < c) else if id % 8 = 1 then decide (0 < id / 8 % c) else if id % 8 = 2 then decide (0 < id / 8 / c) else if id % 8 = 3 then decide (id / 8 / c + 1 < r) else decide (id % 8 < 6))
def gNp (c n d k : Nat) : Nat := if n % c ≠ d % c ∧ (k = 0 ∨ n / c = d / c) then (if n % c < d % c then 0 else 1) else if n / c ≠ d / c then (if n / c < d / c then 3 else 2) else 4
def gNx (c d k id : Nat) : Nat := gLd c id * 8 + gNp c (gLd c id) d k
def gP (c s d k : Nat) : Nat → Nat
  | 0 => s * 8 + 5
  | i + 1 => gNx c d k (gP c s d k i)
def gDi (c n d : Nat) : Nat := (n % c - d % c) + (d % c - n % c) + ((n / c - d / c) + (d / c - n / c))
/-- by node * 5 + input: the port id that feeds it, 999 if none -/
def gIn (c r x : Nat) : Nat := if x / 5 < c * r then (if x % 5 = 4 then x / 5 * 8 + 5 else if x % 5 = 0 then (if 0 < x / 5 % c then (x / 5 - 1) * 8 else 999) else if x % 5 = 1 then (if x / 5 % c + 1 < c then (x / 5 + 1) * 8 + 1 else 999)
  else if x % 5 = 2 then (if x / 5 / c + 1 < r then (x / 5 + c) * 8 + 2 else 999) else (if 0 < x / 5 / c then (x / 5 - c) * 8 + 3 else 999)) else 999
def gRk (c ch : Nat) : Nat := if ch / 2 % 8 = 5 then 0 else if ch / 2 % 8 = 4 then 60 else
  if ch / 2 % 8 = 0 then (if ch % 2 = 0 then 1 else 20) + ch / 16 % c % 8 else if ch / 2 % 8 = 1 then (if ch % 2 = 0 then 1 else 20) + (3 - ch / 16 % c)
  else if ch / 2 % 8 = 3 then (if ch % 2 = 0 then 20 else 1) + ch / 16 / c % 8 else (if ch % 2 = 0 then 20 else 1) + (3 - ch / 16 / c)
def gSh (c r : Nat) : Prop := 2 ≤ c ∧ c ≤ 4 ∧ 2 ≤ r ∧ r ≤ 4

def gTe (c r n d k : Nat) : Bool := (decide (n ≠ d) || (decide (gNp c n d k = 4) && decide (gDi c n d = 0))) &&
    (decide (n = d) || (decide (gNp c n d k < 4) && decide (gLd c (n * 8 + gNp c n d k) < c * r) && decide (gDi c (gLd c (n * 8 + gNp c n d k)) d + 1 = gDi c n d) && gOk c r (n * 8 + gNp c n d k) &&
      decide (gIn c r (gLd c (n * 8 + gNp c n d k) * 5 + gNp c n d k) = n * 8 + gNp c n d k) &&
      decide (gRk c ((n * 8 + gNp c n d k) * 2 + k) < gRk c (gNx c d k (n * 8 + gNp c n d k) * 2 + k)))) && decide (0 < gRk c ((n * 8 + gNp c n d k) * 2 + k)) && decide (gDi c n d ≤ 6)
theorem ge_te : ∀ c, c < 3 → ∀ r, r < 3 → ∀ n, n < (c + 2) * (r + 2) → ∀ d, d < (c + 2) * (r + 2) → ∀ k, k < 2 → gTe (c + 2) (r + 2) n d k = true := by decide +kernel
theorem ge_loc (c : Nat) (hc : c < 5) (r : Nat) (hr : r < 5) (hc2 : 2 ≤ c) (hr2 : 2 ≤ r) (n : Nat) (hn : n < c * r) (d : Nat) (hd : d < c * r) (k : Nat) (hk : k < 2) :
    (n = d → gNp c n d k = 4 ∧ gDi c n d = 0) ∧
    (n ≠ d → gNp c n d k < 4 ∧ gLd c (n * 8 + gNp c n d k) < c * r ∧ gDi c (gLd c (n * 8 + gNp c n d k)) d + 1 = gDi c n d ∧ gOk c r (n * 8 + gNp c n d k) = true ∧
      gIn c r (gLd c (n * 8 + gNp c n d k) * 5 + gNp c n d k) = n * 8 + gNp c n d k ∧
      gRk c ((n * 8 + gNp c n d k) * 2 + k) < gRk c (gNx c d k (n * 8 + gNp c n d k) * 2 + k)) ∧ 0 < gRk c ((n * 8 + gNp c n d k) * 2 + k) ∧ gDi c n d ≤ 6 := by
  obtain ⟨c', rfl⟩ : ∃ c', c = c' + 2 := ⟨c - 2, by omega⟩
  obtain ⟨r', rfl⟩ : ∃ r', r = r' + 2 := ⟨r - 2, by omega⟩
  have h := ge_te c' (by omega) r' (by omega) n hn d hd k hk
  unfold gTe at h
  simp only [Bool.and_eq_true, Bool.or_eq_true, decide_eq_true_eq] at h
  obtain ⟨⟨⟨h1, h2⟩, h3⟩, h4⟩ := h
  refine ⟨fun e => h1.resolve_left (fun z => z e), fun e => ?_, h3, h4⟩
  obtain ⟨⟨⟨⟨⟨a1, a2⟩, a3⟩, a4⟩, a5⟩, a6⟩ := h2.resolve_left e
  exact ⟨a1, a2, a3, a4, a5, a6⟩
theorem ge_in' : ∀ c, c < 3 → ∀ r, r < 3 → ∀ x, x < 80 → (decide (gIn (c + 2) (r + 2) x = 999) || (decide (gIn (c + 2) (r + 2) x < 128) && decide (gLd (c + 2) (gIn (c + 2) (r + 2) x) = x / 5) && gOk (c + 2) (r + 2) (gIn (c + 2) (r + 2) x) && decide (gIn (c + 2) (r + 2) x % 8 ≠ 4))) = true := by decide +kernel
theorem ge_in (c : Nat) (hc : c < 5) (r : Nat) (hr : r < 5) (hc2 : 2 ≤ c) (hr2 : 2 ≤ r) (x : Nat) (hx : x < 80) (h9 : gIn c r x ≠ 999) : gIn c r x < 128 ∧ gLd c (gIn c r x) = x / 5 ∧ gOk c r (gIn c r x) = true ∧ gIn c r x % 8 ≠ 4 := by
  obtain ⟨c', rfl⟩ : ∃ c', c = c' + 2 := ⟨c - 2, by omega⟩
  obtain ⟨r', rfl⟩ : ∃ r', r = r' + 2 := ⟨r - 2, by omega⟩
  have h := ge_in' c' (by omega) r' (by omega) x hx
  simp only [Bool.and_eq_true, Bool.or_eq_true, decide_eq_true_eq] at h
  obtain ⟨⟨⟨a1, a2⟩, a3⟩, a4⟩ := h.resolve_left h9
  exact ⟨a1, a2, a3, a4⟩
theorem ge_ok' : ∀ c, c < 3 → ∀ r, r < 3 → ∀ x, x < 128 → (!(gOk (c + 2) (r + 2) x) || decide (gLd (c + 2) x < (c + 2) * (r + 2))) = true := by decide +kernel
theorem ge_ok (c : Nat) (hc : c < 5) (r : Nat) (hr : r < 5) (hc2 : 2 ≤ c) (hr2 : 2 ≤ r) (x : Nat) (hx : x < 128) (ho : gOk c r x = true) : gLd c x < c * r := by
  obtain ⟨c', rfl⟩ : ∃ c', c = c' + 2 := ⟨c - 2, by omega⟩
  obtain ⟨r', rfl⟩ : ∃ r', r = r' + 2 := ⟨r - 2, by omega⟩
  have h := ge_ok' c' (by omega) r' (by omega) x hx
  rw [ho] at h
  simpa using h
theorem ge_rk (c ch : Nat) (hc : c < 5) (h0 : 0 < c) : gRk c ch < 64 := by
  have h1 : ch / 16 / c % 8 < 8 := Nat.mod_lt _ (by omega)
  have h2 : ch / 16 % c % 8 < 8 := Nat.mod_lt _ (by omega)
  have h3 : 3 - ch / 16 / c ≤ 3 := Nat.sub_le _ _
  have h4 : 3 - ch / 16 % c ≤ 3 := Nat.sub_le _ _
  unfold gRk
  generalize ch / 16 / c % 8 = a1 at *
  generalize ch / 16 % c % 8 = a2 at *
  generalize 3 - ch / 16 / c = a3 at *
  generalize 3 - ch / 16 % c = a4 at *
  repeat' split
  all_goals omega

theorem gs_le {c r : Nat} (S : gSh c r) : 4 ≤ c * r ∧ c * r ≤ 16 := by
  obtain ⟨h1, h2, h3, h4⟩ := S
  constructor
  · exact Nat.mul_le_mul h1 h3
  · exact Nat.mul_le_mul h2 h4

/-- a route: last step, nodes and ports -/
theorem gp_step {c r s d k : Nat} (S : gSh c r) (hs : s < c * r) (hd : d < c * r) (hk : k < 2) : ∀ i, i ≤ gDi c s d →
    ∃ n, n < c * r ∧ gP c s d k (i + 1) = n * 8 + gNp c n d k ∧ gLd c (gP c s d k i) = n ∧ gDi c n d + i = gDi c s d := by
  obtain ⟨h1, h2, h3, h4⟩ := S
  intro i
  induction i with
  | zero =>
    intro _
    have e : gLd c (s * 8 + 5) = s := by
      unfold gLd
      have e1 : (s * 8 + 5) % 8 = 5 := by omega
      rw [e1, if_neg (by decide), if_neg (by decide), if_neg (by decide), if_neg (by decide)]
      omega
    refine ⟨s, hs, ?_, e, rfl⟩
    show gNx c d k (s * 8 + 5) = _
    unfold gNx
    rw [e]
  | succ i ih =>
    intro hi
    obtain ⟨n, g1, g2, g3, g4⟩ := ih (by omega)
    have G := ge_loc c (by omega) r (by omega) h1 h3 n g1 d hd k hk
    have hne : n ≠ d := by
      intro e
      have := (G.1 e).2
      omega
    obtain ⟨a1, a2, a3, a4, a5, a6⟩ := G.2.1 hne
    refine ⟨gLd c (n * 8 + gNp c n d k), a2, ?_, by rw [g2], by omega⟩
    show gNx c d k (gP c s d k (i + 1)) = _
    rw [g2]; rfl
/-- step i of the route, i at least 1 -/
theorem gp_at {c r s d k i : Nat} (S : gSh c r) (hs : s < c * r) (hd : d < c * r) (hk : k < 2) (h1 : 1 ≤ i) (hi : i ≤ gDi c s d + 1) :
    ∃ n, n < c * r ∧ gP c s d k i = n * 8 + gNp c n d k ∧ gLd c (gP c s d k (i - 1)) = n ∧ gDi c n d + i = gDi c s d + 1 ∧ gNp c n d k ≤ 4 ∧ (gNp c n d k = 4 ↔ i = gDi c s d + 1) ∧ (n = d ↔ i = gDi c s d + 1) := by
  obtain ⟨j, rfl⟩ : ∃ j, i = j + 1 := ⟨i - 1, by omega⟩
  obtain ⟨n, g1, g2, g3, g4⟩ := gp_step S hs hd hk j (by omega)
  obtain ⟨s1, s2, s3, s4⟩ := S
  have G := ge_loc c (by omega) r (by omega) s1 s3 n g1 d hd k hk
  refine ⟨n, g1, g2, g3, by omega, ?_, ?_, ?_⟩
  · by_cases e : n = d
    · have := (G.1 e).1; omega
    · have := (G.2.1 e).1; omega
  · by_cases e : n = d
    · have := G.1 e
      exact ⟨fun _ => by omega, fun _ => this.1⟩
    · have := G.2.1 e
      exact ⟨fun h => by omega, fun h => by omega⟩
  · by_cases e : n = d
    · have := G.1 e
      exact ⟨fun _ => by omega, fun _ => e⟩
    · have := G.2.1 e
      exact ⟨fun h => absurd h e, fun h => by omega⟩
theorem gp_0 {c s d k : Nat} : gP c s d k 0 = s * 8 + 5 := rfl
theorem gd_le {c r s d : Nat} (S : gSh c r) (hs : s < c * r) (hd : d < c * r) : gDi c s d ≤ 6 := by
  obtain ⟨s1, s2, s3, s4⟩ := S
  exact (ge_loc c (by omega) r (by omega) s1 s3 s hs d hd 0 (by omega)).2.2.2
theorem gp_lt {c r s d k i : Nat} (S : gSh c r) (hs : s < c * r) (hd : d < c * r) (hk : k < 2) (hi : i ≤ gDi c s d + 1) : gP c s d k i < 128 := by
  have := (gs_le S).2
  by_cases e : i = 0
  · subst e; rw [gp_0]; omega
  · obtain ⟨n, g1, g2, g3, g4, g5, g6⟩ := gp_at S hs hd hk (by omega) hi
    omega
/-- all that a step before the last has -/
theorem gp_mid {c r s d k i : Nat} (S : gSh c r) (hs : s < c * r) (hd : d < c * r) (hk : k < 2) (hi : i ≤ gDi c s d) :
    gLd c (gP c s d k i) < c * r ∧ gOk c r (gP c s d k i) = true ∧ gIn c r (gLd c (gP c s d k i) * 5 + (if gP c s d k i % 8 = 5 then 4 else gP c s d k i % 8)) = gP c s d k i ∧
    gP c s d k i % 8 ≠ 4 ∧ gP c s d k i % 8 < 6 ∧ gRk c (gP c s d k i * 2 + k) < gRk c (gP c s d k (i + 1) * 2 + k) := by
  have h16 := (gs_le S).2
  by_cases e : i = 0
  · subst e
    obtain ⟨n, g1, g2, g3, g4⟩ := gp_step S hs hd hk 0 (by omega)
    have S' := S
    obtain ⟨s1, s2, s3, s4⟩ := S
    have G := ge_loc c (by omega) r (by omega) s1 s3 n g1 d hd k hk
    rw [gp_0] at g3 ⊢
    have e1 : (s * 8 + 5) % 8 = 5 := by omega
    have e2 : (s * 8 + 5) / 8 = s := by omega
    have en : n = s := by
      rw [← g3]; unfold gLd
      rw [e1, if_neg (by decide), if_neg (by decide), if_neg (by decide), if_neg (by decide)]; exact e2
    subst en
    refine ⟨by rw [g3]; exact g1, ?_, ?_, by omega, by omega, ?_⟩
    · unfold gOk; rw [e1, e2]; simp [hs]
    · rw [g3, e1, if_pos rfl]
      unfold gIn
      have e3 : (n * 5 + 4) / 5 = n := by omega
      have e4 : (n * 5 + 4) % 5 = 4 := by omega
      rw [e3, e4, if_pos hs, if_pos rfl]
    · have e5 : gRk c ((n * 8 + 5) * 2 + k) = 0 := by
        unfold gRk
        have : ((n * 8 + 5) * 2 + k) / 2 % 8 = 5 := by omega
        rw [this, if_pos rfl]
      rw [e5, g2]
      exact G.2.2.1
  · obtain ⟨n, g1, g2, g3, g4, g5, g6, g7⟩ := gp_at S hs hd hk (i := i) (by omega) (by omega)
    obtain ⟨s1, s2, s3, s4⟩ := S
    have G := ge_loc c (by omega) r (by omega) s1 s3 n g1 d hd k hk
    have hne : n ≠ d := fun h => by have := g7.mp h; omega
    obtain ⟨a1, a2, a3, a4, a5, a6⟩ := G.2.1 hne
    have e1 : (n * 8 + gNp c n d k) % 8 = gNp c n d k := by omega
    have e3 : gP c s d k (i + 1) = gNx c d k (gP c s d k i) := rfl
    rw [e3, g2]
    refine ⟨a2, a4, ?_, by omega, by omega, a6⟩
    rw [e1, if_neg (by omega)]; exact a5
theorem gp_end {c r s d k : Nat} (S : gSh c r) (hs : s < c * r) (hd : d < c * r) (hk : k < 2) : gP c s d k (gDi c s d + 1) = d * 8 + 4 := by
  obtain ⟨n, g1, g2, g3, g4, g5, g6, g7⟩ := gp_at S hs hd hk (i := gDi c s d + 1) (by omega) (by omega)
  rw [g2, g6.mpr rfl, g7.mpr rfl]
end
section
section
variable {rk : Nat → Nat} {m : Nat → Nat} {R : Nat → Nat → Nat} {st ln la : Nat → Nat} {K : Nat → Nat → Nat} {B : Nat → List Nat} {w : Nat → Nat} {Q : Nat → List Nat} {cr : Nat → Nat} {rt : List Nat} {D : Nat}

/-- a packet that is open or closed, not yet released -/
def Lv (st : Nat → Nat) (p : Nat) : Prop := p < 16 ∧ (st p = 1 ∨ st p = 2)

/-- what the routes of the live packets have -/
def zGR (rk m : Nat → Nat) (R : Nat → Nat → Nat) (st la : Nat → Nat) : Prop :=
  (∀ p, Lv st p → 1 ≤ m p ∧ m p ≤ 7) ∧
  (∀ p i, Lv st p → i ≤ m p → R p i < 256 ∧ (R p i / 2 % 8 = 4 ↔ i = m p)) ∧
  (∀ p i, Lv st p → i < m p → rk (R p i) < rk (R p (i + 1))) ∧
  (∀ p q i, Lv st p → Lv st q → i ≤ m q → R q i = R p 0 → i = 0 ∧ la q = la p) ∧
  (∀ p q, Lv st p → Lv st q → la q = la p → R q 0 = R p 0) ∧
  (∀ ch, rk ch < 64)

def zMo (m : Nat → Nat) (st ln : Nat → Nat) (K : Nat → Nat → Nat) : Prop :=
  ∀ p, Lv st p → ln p ≤ 4 ∧ K p 0 ≤ ln p ∧ ∀ i, i < m p → K p (i + 1) ≤ K p i

def zMe (m : Nat → Nat) (R : Nat → Nat → Nat) (st : Nat → Nat) (K : Nat → Nat → Nat) (B : Nat → List Nat) : Prop :=
  ∀ ch f, f ∈ B ch ↔ Lv st (f / 4) ∧ ∃ i, i < m (f / 4) ∧ R (f / 4) i = ch ∧ K (f / 4) (i + 1) ≤ f % 4 ∧ f % 4 < K (f / 4) i

def zPw (B : Nat → List Nat) : Prop := ∀ ch, (B ch).Pairwise (fun x y => x / 4 = y / 4 → x < y)

def zNn (B : Nat → List Nat) : Prop := ∀ ch k f, (B ch)[k + 1]? = some f → f % 4 ≠ 0 → (B ch)[k]? = some (f - 1)

def zLa (m : Nat → Nat) (R : Nat → Nat → Nat) (K : Nat → Nat → Nat) (B : Nat → List Nat) (w : Nat → Nat) : Prop :=
  ∀ ch p, p < 16 → w ch = p → B ch ≠ [] → ∃ i, i ≤ m p ∧ R p i = ch ∧ (B ch).getLast? = some (4 * p + K p i - 1)

def zOw (m : Nat → Nat) (R : Nat → Nat → Nat) (st ln : Nat → Nat) (K : Nat → Nat → Nat) (w : Nat → Nat) : Prop :=
  ∀ ch, w ch ≤ 16 ∧ ∀ p, p < 16 → (w ch = p ↔ Lv st p ∧ ∃ i, i ≤ m p ∧ R p i = ch ∧ 0 < K p i ∧ ¬ (st p = 2 ∧ K p i = ln p))

def zCr (B : Nat → List Nat) (cr : Nat → Nat) (rt : List Nat) (D : Nat) : Prop :=
  ∀ ch, ch < 256 → ch / 2 % 8 ≠ 4 → cr ch + (B ch).length + rt.count ch = D

def zQu (st ln la : Nat → Nat) (K : Nat → Nat → Nat) (Q : Nat → List Nat) : Prop :=
  ∀ l, (Q l).Nodup ∧ (∀ p, p ∈ Q l ↔ Lv st p ∧ la p = l ∧ ¬ (st p = 2 ∧ K p 0 = ln p)) ∧ ∀ p, p ∈ (Q l).tail → K p 0 = 0

def zIv (m : Nat → Nat) (R : Nat → Nat → Nat) (st ln la : Nat → Nat) (K : Nat → Nat → Nat) (B : Nat → List Nat) (w : Nat → Nat) (Q : Nat → List Nat) (cr : Nat → Nat) (rt : List Nat) (D : Nat) : Prop :=
  zMo m st ln K ∧ zMe m R st K B ∧ zPw B ∧ zNn B ∧ zLa m R K B w ∧ zOw m R st ln K w ∧ zCr B cr rt D ∧ zQu st ln la K Q

/-- flit K p i of packet p can cross the channel of step i (but for a stall) -/
def zVm (m : Nat → Nat) (R : Nat → Nat → Nat) (st ln la : Nat → Nat) (K : Nat → Nat → Nat) (B : Nat → List Nat) (w : Nat → Nat) (Q : Nat → List Nat) (cr : Nat → Nat) (p i : Nat) : Prop :=
  Lv st p ∧ i ≤ m p ∧ K p i < ln p ∧ (i = 0 → (Q (la p)).head? = some p) ∧ (∀ j, i = j + 1 → (B (R p j)).head? = some (4 * p + K p i)) ∧
  w (R p i) = (if K p i = 0 then 16 else p) ∧ (i = m p ∨ 0 < cr (R p i))

theorem zg_lt (G : zGR rk m R st la) {p : Nat} (hp : Lv st p) : ∀ d i, i + d + 1 ≤ m p → rk (R p i) < rk (R p (i + d + 1)) := by
  intro d
  induction d with
  | zero => intro i h; exact G.2.2.1 p i hp (by omega)
  | succ d ih =>
    intro i h
    have h1 := ih i (by omega)
    have h2 := G.2.2.1 p (i + d + 1) hp (by omega)
    have e : i + (d + 1) + 1 = i + d + 1 + 1 := by omega
    rw [e]; omega

theorem zg_inj (G : zGR rk m R st la) {p i j : Nat} (hp : Lv st p) (hi : i ≤ m p) (hj : j ≤ m p) (h : R p i = R p j) : i = j := by
  rcases Nat.lt_trichotomy i j with c | c | c
  · have := zg_lt G hp (j - i - 1) i (by omega)
    have e : i + (j - i - 1) + 1 = j := by omega
    rw [e, h] at this; omega
  · exact c
  · have := zg_lt G hp (i - j - 1) j (by omega)
    have e : j + (i - j - 1) + 1 = i := by omega
    rw [e, h] at this; omega

/-- the first flit of a buffer -/
theorem zg_front (I : zIv m R st ln la K B w Q cr rt D) {ch f : Nat} (h : (B ch).head? = some f) :
    Lv st (f / 4) ∧ ∃ i, i < m (f / 4) ∧ R (f / 4) i = ch ∧ f % 4 = K (f / 4) (i + 1) ∧ K (f / 4) (i + 1) < K (f / 4) i := by
  obtain ⟨_, Me, Pw, _⟩ := I
  obtain ⟨t, ht⟩ : ∃ t, B ch = f :: t := by
    cases hb : B ch with
    | nil => rw [hb] at h; simp at h
    | cons a t => rw [hb] at h; simp at h; exact ⟨t, by rw [h]⟩
  have hm : f ∈ B ch := by rw [ht]; simp
  obtain ⟨hl, i, h1, h2, h3, h4⟩ := (Me ch f).mp hm
  refine ⟨hl, i, h1, h2, ?_, by omega⟩
  rcases Nat.lt_or_ge (K (f / 4) (i + 1)) (f % 4) with c | c
  · have hd : (4 * (f / 4) + K (f / 4) (i + 1)) / 4 = f / 4 := by omega
    have hr : (4 * (f / 4) + K (f / 4) (i + 1)) % 4 = K (f / 4) (i + 1) := by omega
    have hg : 4 * (f / 4) + K (f / 4) (i + 1) ∈ B ch := by
      refine (Me ch _).mpr ?_
      rw [hd, hr]
      exact ⟨hl, i, h1, h2, by omega, by omega⟩
    have hp := Pw ch
    rw [ht] at hg hp
    rw [List.pairwise_cons] at hp
    rw [List.mem_cons] at hg
    rcases hg with hg | hg
    · omega
    · have := hp.1 _ hg (by rw [hd]); omega
  · omega

def sK (K : Nat → Nat → Nat) (p i : Nat) : Nat → Nat → Nat := fun a b => if a = p ∧ b = i then K p i + 1 else K a b
def sB (m : Nat → Nat) (R : Nat → Nat → Nat) (K : Nat → Nat → Nat) (B : Nat → List Nat) (p i : Nat) : Nat → List Nat := fun ch =>
  if i < m p ∧ ch = R p i then B ch ++ [4 * p + K p i] else if 0 < i ∧ ch = R p (i - 1) then (B ch).tail else B ch
def sW (R : Nat → Nat → Nat) (st ln : Nat → Nat) (K : Nat → Nat → Nat) (w : Nat → Nat) (p i : Nat) : Nat → Nat := fun ch =>
  if ch = R p i then (if st p = 2 ∧ K p i + 1 = ln p then 16 else p) else w ch
def sQ (st ln la : Nat → Nat) (K : Nat → Nat → Nat) (Q : Nat → List Nat) (p i : Nat) : Nat → List Nat := fun l =>
  if i = 0 ∧ st p = 2 ∧ K p i + 1 = ln p ∧ l = la p then (Q l).tail else Q l
def sC (m : Nat → Nat) (R : Nat → Nat → Nat) (cr : Nat → Nat) (p i : Nat) : Nat → Nat := fun ch =>
  if i < m p ∧ ch = R p i then cr ch - 1 else cr ch
def sR (R : Nat → Nat → Nat) (rt : List Nat) (p i : Nat) : List Nat := if 0 < i then rt ++ [R p (i - 1)] else rt

theorem sK_s {p i : Nat} : sK K p i p i = K p i + 1 := by unfold sK; rw [if_pos ⟨rfl, rfl⟩]
theorem sK_n {p i a b : Nat} (h : ¬ (a = p ∧ b = i)) : sK K p i a b = K a b := by unfold sK; rw [if_neg h]

theorem zs_up (G : zGR rk m R st la) (I : zIv m R st ln la K B w Q cr rt D) {p j : Nat} (V : zVm m R st ln la K B w Q cr p (j + 1)) : K p (j + 1) < K p j := by
  obtain ⟨hl, hi, hk, _, hb, _⟩ := V
  have h := zg_front I (hb j rfl)
  have h4 : ln p ≤ 4 := (I.1 p hl).1
  have e1 : (4 * p + K p (j + 1)) / 4 = p := by omega
  have e2 : (4 * p + K p (j + 1)) % 4 = K p (j + 1) := by omega
  rw [e1, e2] at h
  obtain ⟨_, i, h1, h2, h3, h4⟩ := h
  have := zg_inj G hl (by omega) (by omega) h2
  subst this
  exact h4

theorem zs_mo (G : zGR rk m R st la) (I : zIv m R st ln la K B w Q cr rt D) {p i : Nat} (V : zVm m R st ln la K B w Q cr p i) : zMo m st ln (sK K p i) := by
  intro q hq
  obtain ⟨h4, h0, hm⟩ := I.1 q hq
  refine ⟨h4, ?_, ?_⟩
  · by_cases e : q = p ∧ 0 = i
    · obtain ⟨rfl, rfl⟩ := e
      rw [sK_s]; have := V.2.2.1; omega
    · rw [sK_n e]; exact h0
  · intro j hj
    have hm := hm j hj
    by_cases e : q = p
    · subst e
      by_cases e1 : j + 1 = i
      · subst e1
        rw [sK_s, sK_n (by omega)]
        have := zs_up G I V; omega
      · rw [sK_n (a := q) (b := j + 1) (by omega)]
        by_cases e2 : j = i
        · subst e2; rw [sK_s]; omega
        · rw [sK_n (by omega)]; exact hm
    · rw [sK_n (by omega), sK_n (by omega)]; exact hm

theorem zg_noej (G : zGR rk m R st la) (I : zIv m R st ln la K B w Q cr rt D) {p : Nat} (hp : Lv st p) : B (R p (m p)) = [] := by
  cases hb : B (R p (m p)) with
  | nil => rfl
  | cons f t =>
    have hm : f ∈ B (R p (m p)) := by rw [hb]; simp
    obtain ⟨hl, i, h1, h2, _⟩ := (I.2.1 _ f).mp hm
    have a := (G.2.1 p (m p) hp (Nat.le_refl _)).2.mpr rfl
    have b := (G.2.1 (f / 4) i hl (by omega)).2
    rw [h2] at b
    have := b.mp a; omega

/-- the buffers behind a move, by cases -/
theorem sB_to {p i : Nat} (h : i < m p) : sB m R K B p i (R p i) = B (R p i) ++ [4 * p + K p i] := by unfold sB; rw [if_pos ⟨h, rfl⟩]
theorem sB_from (G : zGR rk m R st la) {p j : Nat} (hp : Lv st p) (h : j + 1 ≤ m p) : sB m R K B p (j + 1) (R p j) = (B (R p j)).tail := by
  unfold sB
  rw [if_neg, if_pos ⟨by omega, rfl⟩]
  intro c
  have := zg_inj G hp (by omega) (by omega) c.2; omega
theorem sB_else {p i ch : Nat} (h1 : ¬ (i < m p ∧ ch = R p i)) (h2 : ¬ (0 < i ∧ ch = R p (i - 1))) : sB m R K B p i ch = B ch := by unfold sB; rw [if_neg h1, if_neg h2]

theorem zs_me (G : zGR rk m R st la) (I : zIv m R st ln la K B w Q cr rt D) {p i : Nat} (V : zVm m R st ln la K B w Q cr p i) : zMe m R st (sK K p i) (sB m R K B p i) := by
  obtain ⟨Mo, Me, Pw, _⟩ := I
  have V0 := V
  obtain ⟨hl, hi, hk, _, hb, _⟩ := V
  have h4 : ln p ≤ 4 := (Mo p hl).1
  intro ch f
  have hKq : ∀ q b, q ≠ p → sK K p i q b = K q b := fun q b h => sK_n (by omega)
  by_cases c1 : i < m p ∧ ch = R p i
  · obtain ⟨c1, rfl⟩ := c1
    rw [sB_to c1, List.mem_append, List.mem_singleton, Me]
    by_cases e : f / 4 = p
    · subst e
      constructor
      · rintro (⟨_, i', h1, h2, h3, h5⟩ | h)
        · have := zg_inj G hl (by omega) (by omega) h2
          subst this
          refine ⟨hl, i', h1, rfl, ?_, ?_⟩
          · rw [sK_n (by omega)]; exact h3
          · rw [sK_s]; omega
        · refine ⟨hl, i, c1, rfl, ?_, ?_⟩
          · rw [sK_n (by omega)]
            have := (Mo _ hl).2.2 i c1
            omega
          · rw [sK_s]; omega
      · rintro ⟨_, i', h1, h2, h3, h5⟩
        have := zg_inj G hl (by omega) (by omega) h2
        subst this
        rw [sK_n (by omega)] at h3
        rw [sK_s] at h5
        by_cases e : f % 4 = K (f / 4) i'
        · right; omega
        · left; exact ⟨hl, i', h1, rfl, h3, by omega⟩
    · constructor
      · rintro (⟨h0, i', h1, h2, h3, h5⟩ | h)
        · refine ⟨h0, i', h1, h2, ?_, ?_⟩
          · rw [hKq _ _ e]; exact h3
          · rw [hKq _ _ e]; exact h5
        · exact absurd (by omega) e
      · rintro ⟨h0, i', h1, h2, h3, h5⟩
        rw [hKq _ _ e] at h3 h5
        exact .inl ⟨h0, i', h1, h2, h3, h5⟩
  · by_cases c2 : 0 < i ∧ ch = R p (i - 1)
    · obtain ⟨c2, rfl⟩ := c2
      obtain ⟨j, rfl⟩ : ∃ j, i = j + 1 := ⟨i - 1, by omega⟩
      have hup := zs_up G ⟨Mo, Me, Pw, by assumption⟩ V0
      have e0 : j + 1 - 1 = j := by omega
      rw [e0, sB_from G hl hi]
      obtain ⟨t, ht⟩ : ∃ t, B (R p j) = (4 * p + K p (j + 1)) :: t := by
        have := hb j rfl
        cases hx : B (R p j) with
        | nil => rw [hx] at this; simp at this
        | cons a t => rw [hx] at this; simp at this; exact ⟨t, by rw [this]⟩
      have hpw := Pw (R p j)
      have hme := Me (R p j) f
      rw [ht] at hpw hme
      rw [List.pairwise_cons] at hpw
      rw [ht, List.tail_cons]
      have key : f ∈ t ↔ f ∈ (4 * p + K p (j + 1)) :: t ∧ f ≠ 4 * p + K p (j + 1) := by
        constructor
        · intro h
          refine ⟨List.mem_cons_of_mem _ h, ?_⟩
          intro e
          have := hpw.1 f h (by rw [e])
          omega
        · rintro ⟨h, h'⟩
          rw [List.mem_cons] at h
          exact h.resolve_left h'
      rw [key, hme]
      by_cases e : f / 4 = p
      · subst e
        constructor
        · rintro ⟨⟨_, i', h1, h2, h3, h5⟩, hne⟩
          have := zg_inj G hl (by omega) (by omega) h2
          subst this
          refine ⟨hl, i', h1, rfl, ?_, ?_⟩
          · rw [sK_s]; omega
          · rw [sK_n (by omega)]; exact h5
        · rintro ⟨_, i', h1, h2, h3, h5⟩
          have := zg_inj G hl (by omega) (by omega) h2
          subst this
          rw [sK_s] at h3
          rw [sK_n (by omega)] at h5
          exact ⟨⟨hl, i', h1, rfl, by omega, h5⟩, by omega⟩
      · constructor
        · rintro ⟨⟨h0, i', h1, h2, h3, h5⟩, _⟩
          refine ⟨h0, i', h1, h2, ?_, ?_⟩
          · rw [hKq _ _ e]; exact h3
          · rw [hKq _ _ e]; exact h5
        · rintro ⟨h0, i', h1, h2, h3, h5⟩
          rw [hKq _ _ e] at h3 h5
          exact ⟨⟨h0, i', h1, h2, h3, h5⟩, by omega⟩
    · rw [sB_else c1 c2, Me]
      have hh : ∀ i', i' < m (f / 4) → R (f / 4) i' = ch → Lv st (f / 4) → sK K p i (f / 4) (i' + 1) = K (f / 4) (i' + 1) ∧ sK K p i (f / 4) i' = K (f / 4) i' := by
        intro i' h1 h2 h0
        by_cases e : f / 4 = p
        · constructor
          · refine sK_n ?_
            rintro ⟨_, rfl⟩
            exact c2 ⟨by omega, by rw [← h2, e]; rfl⟩
          · refine sK_n ?_
            rintro ⟨_, rfl⟩
            exact c1 ⟨by rw [← e]; exact h1, by rw [← h2, e]⟩
        · exact ⟨hKq _ _ e, hKq _ _ e⟩
      constructor
      · rintro ⟨h0, i', h1, h2, h3, h5⟩
        have := hh i' h1 h2 h0
        exact ⟨h0, i', h1, h2, by rw [this.1]; exact h3, by rw [this.2]; exact h5⟩
      · rintro ⟨h0, i', h1, h2, h3, h5⟩
        have := hh i' h1 h2 h0
        rw [this.1] at h3
        rw [this.2] at h5
        exact ⟨h0, i', h1, h2, h3, h5⟩

theorem zs_pw (G : zGR rk m R st la) (I : zIv m R st ln la K B w Q cr rt D) {p i : Nat} (V : zVm m R st ln la K B w Q cr p i) : zPw (sB m R K B p i) := by
  obtain ⟨Mo, Me, Pw, _⟩ := I
  obtain ⟨hl, hi, hk, _, hb, _⟩ := V
  have h4 : ln p ≤ 4 := (Mo p hl).1
  intro ch
  by_cases c1 : i < m p ∧ ch = R p i
  · obtain ⟨c1, rfl⟩ := c1
    rw [sB_to c1, List.pairwise_append]
    refine ⟨Pw _, List.pairwise_singleton _ _, ?_⟩
    intro x hx y hy e
    rw [List.mem_singleton] at hy
    obtain ⟨_, i', h1, h2, h3, h5⟩ := (Me _ x).mp hx
    have e1 : x / 4 = p := by omega
    rw [e1] at h1 h2 h3 h5
    have := zg_inj G hl (by omega) (by omega) h2
    subst this
    omega
  · by_cases c2 : 0 < i ∧ ch = R p (i - 1)
    · obtain ⟨c2, rfl⟩ := c2
      obtain ⟨j, rfl⟩ : ∃ j, i = j + 1 := ⟨i - 1, by omega⟩
      have e0 : j + 1 - 1 = j := by omega
      rw [e0, sB_from G hl hi]
      exact (Pw (R p j)).sublist (List.tail_sublist _)
    · rw [sB_else c1 c2]; exact Pw ch

theorem zs_nn (G : zGR rk m R st la) (I : zIv m R st ln la K B w Q cr rt D) {p i : Nat} (V : zVm m R st ln la K B w Q cr p i) : zNn (sB m R K B p i) := by
  obtain ⟨Mo, Me, Pw, Nn, La, _⟩ := I
  obtain ⟨hl, hi, hk, _, hb, hw, _⟩ := V
  have h4 : ln p ≤ 4 := (Mo p hl).1
  intro ch k f hf h0
  by_cases c1 : i < m p ∧ ch = R p i
  · obtain ⟨c1, rfl⟩ := c1
    rw [sB_to c1] at hf ⊢
    rcases Nat.lt_trichotomy (k + 1) (B (R p i)).length with c | c | c
    · rw [List.getElem?_append_left c] at hf
      rw [List.getElem?_append_left (by omega)]
      exact Nn _ k f hf h0
    · rw [List.getElem?_append_right (by omega)] at hf
      rw [List.getElem?_append_left (by omega)]
      have ef : f = 4 * p + K p i := by
        rw [c, Nat.sub_self] at hf; simp at hf; exact hf.symm
      have hk0 : K p i ≠ 0 := by omega
      rw [if_neg hk0] at hw
      have hne : B (R p i) ≠ [] := by intro e; rw [e] at c; simp at c
      obtain ⟨i', hi', h2, h3⟩ := La (R p i) p hl.1 hw hne
      have := zg_inj G hl hi' hi h2
      subst this
      rw [List.getLast?_eq_getElem?] at h3
      have e : (B (R p i')).length - 1 = k := by omega
      rw [e] at h3
      rw [h3, ef]
    · rw [List.getElem?_append_right (by omega)] at hf
      have : k + 1 - (B (R p i)).length ≠ 0 := by omega
      obtain ⟨d, hd⟩ : ∃ d, k + 1 - (B (R p i)).length = d + 1 := ⟨_, (Nat.succ_pred this).symm⟩
      rw [hd] at hf; simp at hf
  · by_cases c2 : 0 < i ∧ ch = R p (i - 1)
    · obtain ⟨c2, rfl⟩ := c2
      obtain ⟨j, rfl⟩ : ∃ j, i = j + 1 := ⟨i - 1, by omega⟩
      have e0 : j + 1 - 1 = j := by omega
      rw [e0, sB_from G hl hi] at hf ⊢
      rw [List.getElem?_tail] at hf ⊢
      exact Nn _ (k + 1) f hf h0
    · rw [sB_else c1 c2] at hf ⊢; exact Nn ch k f hf h0

theorem zs_la (G : zGR rk m R st la) (I : zIv m R st ln la K B w Q cr rt D) {p i : Nat} (V : zVm m R st ln la K B w Q cr p i) : zLa m R (sK K p i) (sB m R K B p i) (sW R st ln K w p i) := by
  have hej := zg_noej G I V.1
  obtain ⟨Mo, Me, Pw, Nn, La, _⟩ := I
  obtain ⟨hl, hi, hk, _, hb, hw, _⟩ := V
  intro ch q hq hwq hne
  by_cases c0 : ch = R p i
  · subst c0
    unfold sW at hwq
    rw [if_pos rfl] at hwq
    have eq : q = p := by
      by_cases c : st p = 2 ∧ K p i + 1 = ln p
      · rw [if_pos c] at hwq; omega
      · rw [if_neg c] at hwq; exact hwq.symm
    subst eq
    by_cases c1 : i < m q
    · refine ⟨i, hi, rfl, ?_⟩
      rw [sB_to c1, sK_s, List.getLast?_append]
      simp
    · have ei : i = m q := by omega
      subst ei
      rw [sB_else (by omega) ?_, hej] at hne
      · exact absurd rfl hne
      · rintro ⟨a, b⟩
        have := zg_inj G hl (by omega) (by omega) b; omega
  · have hw' : w ch = q := by unfold sW at hwq; rw [if_neg c0] at hwq; exact hwq
    by_cases c2 : 0 < i ∧ ch = R p (i - 1)
    · obtain ⟨c2, rfl⟩ := c2
      obtain ⟨j, rfl⟩ : ∃ j, i = j + 1 := ⟨i - 1, by omega⟩
      have e0 : j + 1 - 1 = j := by omega
      rw [e0] at hw' c0 hne ⊢
      rw [sB_from G hl hi] at hne ⊢
      obtain ⟨a, t, ht⟩ : ∃ a t, B (R p j) = a :: t := by
        cases hx : B (R p j) with
        | nil => rw [hx] at hne; simp at hne
        | cons a t => exact ⟨a, t, rfl⟩
      obtain ⟨i', hi', h2, h3⟩ := La (R p j) q hq hw' (by rw [ht]; simp)
      refine ⟨i', hi', h2, ?_⟩
      rw [sK_n]
      · rw [ht] at h3 hne ⊢
        rw [List.tail_cons] at hne ⊢
        rw [← h3]
        cases t with
        | nil => exact absurd rfl hne
        | cons b t => simp
      · rintro ⟨rfl, rfl⟩
        exact c0 h2.symm
    · rw [sB_else (fun c => c0 c.2) c2] at hne ⊢
      obtain ⟨i', hi', h2, h3⟩ := La ch q hq hw' hne
      refine ⟨i', hi', h2, ?_⟩
      rw [sK_n]
      · exact h3
      · rintro ⟨rfl, rfl⟩
        exact c0 h2.symm

theorem zs_ow (G : zGR rk m R st la) (I : zIv m R st ln la K B w Q cr rt D) {p i : Nat} (V : zVm m R st ln la K B w Q cr p i) : zOw m R st ln (sK K p i) (sW R st ln K w p i) := by
  obtain ⟨Mo, Me, Pw, Nn, La, Ow, _⟩ := I
  obtain ⟨hl, hi, hk, _, hb, hw, _⟩ := V
  intro ch
  by_cases c0 : ch = R p i
  · subst c0
    have es : sW R st ln K w p i (R p i) = if st p = 2 ∧ K p i + 1 = ln p then 16 else p := by unfold sW; rw [if_pos rfl]
    rw [es]
    have h16 := hl.1
    refine ⟨by split <;> omega, ?_⟩
    intro q hq
    by_cases eq : q = p
    · subst eq
      constructor
      · intro h
        by_cases c : st q = 2 ∧ K q i + 1 = ln q
        · rw [if_pos c] at h; omega
        · exact ⟨hl, i, hi, rfl, by rw [sK_s]; omega, by rw [sK_s]; exact c⟩
      · rintro ⟨_, i', h1, h2, h3, h5⟩
        have := zg_inj G hl h1 hi h2
        subst this
        rw [sK_s] at h5
        rw [if_neg h5]
    · constructor
      · intro h
        by_cases c : st p = 2 ∧ K p i + 1 = ln p
        · rw [if_pos c] at h; omega
        · rw [if_neg c] at h; exact absurd h.symm eq
      · rintro ⟨h0, i', h1, h2, h3, h5⟩
        rw [sK_n (by omega)] at h3 h5
        have := ((Ow (R p i)).2 q hq).mpr ⟨h0, i', h1, h2, h3, h5⟩
        rw [hw] at this
        by_cases c : K p i = 0
        · rw [if_pos c] at this; omega
        · rw [if_neg c] at this; exact absurd this.symm eq
  · have es : sW R st ln K w p i ch = w ch := by unfold sW; rw [if_neg c0]
    rw [es]
    refine ⟨(Ow ch).1, ?_⟩
    intro q hq
    rw [(Ow ch).2 q hq]
    have key : ∀ i', R q i' = ch → sK K p i q i' = K q i' := by
      intro i' h
      refine sK_n ?_
      rintro ⟨rfl, rfl⟩
      exact c0 h.symm
    constructor
    · rintro ⟨h0, i', h1, h2, h3, h5⟩
      exact ⟨h0, i', h1, h2, by rw [key i' h2]; exact h3, by rw [key i' h2]; exact h5⟩
    · rintro ⟨h0, i', h1, h2, h3, h5⟩
      rw [key i' h2] at h3 h5
      exact ⟨h0, i', h1, h2, h3, h5⟩

theorem zs_cr (G : zGR rk m R st la) (I : zIv m R st ln la K B w Q cr rt D) {p i : Nat} (V : zVm m R st ln la K B w Q cr p i) : zCr (sB m R K B p i) (sC m R cr p i) (sR R rt p i) D := by
  obtain ⟨Mo, Me, Pw, Nn, La, Ow, Cr, _⟩ := I
  obtain ⟨hl, hi, hk, _, hb, hw, hc⟩ := V
  intro ch h1 h2
  have h := Cr ch h1 h2
  have hcnt : ∀ x : Nat, (rt ++ [x]).count ch = rt.count ch + if x = ch then 1 else 0 := by
    intro x
    rw [List.count_append, List.count_singleton]
    by_cases e : x = ch
    · subst e; simp
    · simp [e]
  by_cases c1 : i < m p ∧ ch = R p i
  · obtain ⟨c1, rfl⟩ := c1
    have e1 : (sR R rt p i).count (R p i) = rt.count (R p i) := by
      unfold sR
      by_cases c : 0 < i
      · rw [if_pos c, hcnt, if_neg]
        · rfl
        · intro e
          have := zg_inj G hl (by omega) (by omega) e; omega
      · rw [if_neg c]
    have hc' : 0 < cr (R p i) := by rcases hc with hc | hc; omega; exact hc
    rw [sB_to c1, e1, List.length_append]
    unfold sC
    rw [if_pos ⟨c1, rfl⟩]
    simp only [List.length_singleton]
    omega
  · have e2 : sC m R cr p i ch = cr ch := by unfold sC; rw [if_neg c1]
    rw [e2]
    by_cases c2 : 0 < i ∧ ch = R p (i - 1)
    · obtain ⟨c2, rfl⟩ := c2
      obtain ⟨j, rfl⟩ : ∃ j, i = j + 1 := ⟨i - 1, by omega⟩
      have e0 : j + 1 - 1 = j := by omega
      rw [e0] at h ⊢
      rw [sB_from G hl hi]
      have hb' := hb j rfl
      have hlen : (B (R p j)).length ≠ 0 := by
        intro e
        rw [List.length_eq_zero_iff] at e
        rw [e] at hb'; simp at hb'
      have e1 : (sR R rt p (j + 1)).count (R p j) = rt.count (R p j) + 1 := by
        unfold sR
        rw [if_pos c2, e0]
        rw [List.count_append, List.count_singleton]; simp
      rw [e1, List.length_tail]
      omega
    · rw [sB_else c1 c2]
      have e1 : (sR R rt p i).count ch = rt.count ch := by
        unfold sR
        by_cases c : 0 < i
        · rw [if_pos c, hcnt, if_neg]
          · rfl
          · intro e; exact c2 ⟨c, e.symm⟩
        · rw [if_neg c]
      rw [e1]; exact h

theorem zs_qu (G : zGR rk m R st la) (I : zIv m R st ln la K B w Q cr rt D) {p i : Nat} (V : zVm m R st ln la K B w Q cr p i) : zQu st ln la (sK K p i) (sQ st ln la K Q p i) := by
  obtain ⟨Mo, Me, Pw, Nn, La, Ow, Cr, Qu⟩ := I
  obtain ⟨hl, hi, hk, hq, hb, hw, hc⟩ := V
  intro l
  obtain ⟨hn, hmem, htl⟩ := Qu l
  by_cases ci : i = 0
  · subst ci
    obtain ⟨t, ht⟩ : ∃ t, Q (la p) = p :: t := by
      have := hq rfl
      cases hx : Q (la p) with
      | nil => rw [hx] at this; simp at this
      | cons a t => rw [hx] at this; simp at this; exact ⟨t, by rw [this]⟩
    by_cases cl : l = la p
    · subst cl
      rw [ht] at hn hmem htl
      rw [List.nodup_cons] at hn
      rw [List.tail_cons] at htl
      have hkq : ∀ q, q ≠ p → sK K p 0 q 0 = K q 0 := fun q h => sK_n (by omega)
      by_cases c : st p = 2 ∧ K p 0 + 1 = ln p
      · have e : sQ st ln la K Q p 0 (la p) = t := by
          unfold sQ; rw [if_pos ⟨rfl, c.1, c.2, rfl⟩, ht, List.tail_cons]
        rw [e]
        refine ⟨hn.2, ?_, ?_⟩
        · intro q
          have := hmem q
          rw [List.mem_cons] at this
          by_cases eq : q = p
          · subst eq
            constructor
            · intro h; exact absurd h hn.1
            · rintro ⟨_, _, h3⟩
              exact absurd ⟨c.1, by rw [sK_s]; exact c.2⟩ h3
          · rw [hkq q eq, ← this]
            constructor
            · intro h; exact .inr h
            · intro h; exact h.resolve_left eq
        · intro q hq'
          have h1 : q ∈ t := List.mem_of_mem_tail hq'
          have h2 : q ≠ p := by rintro rfl; exact hn.1 h1
          rw [hkq q h2]; exact htl q h1
      · have e : sQ st ln la K Q p 0 (la p) = p :: t := by
          unfold sQ; rw [if_neg (fun h => c ⟨h.2.1, h.2.2.1⟩), ht]
        rw [e]
        refine ⟨List.nodup_cons.mpr hn, ?_, ?_⟩
        · intro q
          by_cases eq : q = p
          · subst eq
            constructor
            · intro h; exact ⟨hl, rfl, by rw [sK_s]; exact c⟩
            · intro _; simp
          · rw [hkq q eq]; exact hmem q
        · intro q hq'
          rw [List.tail_cons] at hq'
          have h2 : q ≠ p := by rintro rfl; exact hn.1 hq'
          rw [hkq q h2]; exact htl q hq'
    · have e : sQ st ln la K Q p 0 l = Q l := by unfold sQ; rw [if_neg (fun h => cl h.2.2.2)]
      rw [e]
      have hkq : ∀ q, la q = l → sK K p 0 q 0 = K q 0 := fun q h => sK_n (by rintro ⟨rfl, _⟩; exact cl h.symm)
      refine ⟨hn, ?_, ?_⟩
      · intro q
        rw [hmem q]
        constructor
        · rintro ⟨h1, h2, h3⟩; exact ⟨h1, h2, by rw [hkq q h2]; exact h3⟩
        · rintro ⟨h1, h2, h3⟩; rw [hkq q h2] at h3; exact ⟨h1, h2, h3⟩
      · intro q h
        have := (hmem q).mp (List.mem_of_mem_tail h)
        rw [hkq q this.2.1]; exact htl q h
  · have e : sQ st ln la K Q p i l = Q l := by unfold sQ; rw [if_neg (fun h => ci h.1)]
    have hkq : ∀ q, sK K p i q 0 = K q 0 := fun q => sK_n (by omega)
    rw [e]
    refine ⟨hn, ?_, ?_⟩
    · intro q; rw [hkq q]; exact hmem q
    · intro q h; rw [hkq q]; exact htl q h

theorem zs_iv (G : zGR rk m R st la) (I : zIv m R st ln la K B w Q cr rt D) {p i : Nat} (V : zVm m R st ln la K B w Q cr p i) :
    zIv m R st ln la (sK K p i) (sB m R K B p i) (sW R st ln K w p i) (sQ st ln la K Q p i) (sC m R cr p i) (sR R rt p i) D :=
  ⟨zs_mo G I V, zs_me G I V, zs_pw G I V, zs_nn G I V, zs_la G I V, zs_ow G I V, zs_cr G I V, zs_qu G I V⟩

/-- a move at another channel keeps a move possible -/
theorem zs_vm (G : zGR rk m R st la) (I : zIv m R st ln la K B w Q cr rt D) {p i q j : Nat} (V : zVm m R st ln la K B w Q cr p i) (W : zVm m R st ln la K B w Q cr q j) (hne : R p i ≠ R q j) :
    zVm m R st ln la (sK K p i) (sB m R K B p i) (sW R st ln K w p i) (sQ st ln la K Q p i) (sC m R cr p i) q j := by
  have hk4 := (I.1 p V.1).1
  have hk4' := (I.1 q W.1).1
  obtain ⟨hl, hi, hk, hq, hb, hw, hc⟩ := V
  obtain ⟨hl', hi', hk', hq', hb', hw', hc'⟩ := W
  have eK : sK K p i q j = K q j := sK_n (by rintro ⟨rfl, rfl⟩; exact hne rfl)
  refine ⟨hl', hi', by rw [eK]; exact hk', ?_, ?_, ?_, ?_⟩
  · intro ej
    subst ej
    have := hq' rfl
    unfold sQ
    rw [if_neg, this]
    rintro ⟨rfl, _, _, h⟩
    have h1 := hq rfl
    rw [← h, this] at h1
    simp at h1
    subst h1
    exact hne rfl
  · intro l el
    subst el
    have hh := hb' l rfl
    rw [eK]
    by_cases c1 : i < m p ∧ R q l = R p i
    · have e : sB m R K B p i (R q l) = B (R q l) ++ [4 * p + K p i] := by rw [c1.2, sB_to c1.1]
      rw [e, List.head?_append, hh]; rfl
    · by_cases c2 : 0 < i ∧ R q l = R p (i - 1)
      · obtain ⟨n, rfl⟩ : ∃ n, i = n + 1 := ⟨i - 1, by omega⟩
        have e0 : n + 1 - 1 = n := by omega
        rw [e0] at c2
        have h1 := hb n rfl
        rw [← c2.2, hh] at h1
        simp at h1
        have : q = p := by omega
        subst this
        have := zg_inj G hl (by omega) (by omega) c2.2
        subst this
        exact absurd rfl hne
      · rw [sB_else c1 c2]; exact hh
  · rw [eK]
    unfold sW
    rw [if_neg (fun h => hne h.symm)]
    exact hw'
  · rcases hc' with h | h
    · exact .inl h
    · right
      unfold sC
      rw [if_neg (fun h => hne h.2.symm)]
      exact h

/-! ### nothing can move: the packets that nobody holds are through -/
section
variable {sl U : Nat → Prop}

theorem zd_A (G : zGR rk m R st la) (I : zIv m R st ln la K B w Q cr [] D) (hD : 1 ≤ D)
    (idle : ∀ p i, zVm m R st ln la K B w Q cr p i → sl (R p i / 2))
    (hU1 : ∀ p, U p → Lv st p ∧ st p = 2 ∧ ∀ i, i ≤ m p → ¬ sl (R p i / 2)) {p : Nat} (hp : U p) :
    ∀ i, i ≤ m p → 0 < K p i → K p i < ln p → B (R p i) = [] → False := by
  have I0 := I
  obtain ⟨Mo, Me, Pw, Nn, La, Ow, Cr, Qu⟩ := I
  obtain ⟨hl, hst, hns⟩ := hU1 p hp
  have h4 := (Mo p hl).1
  have cred : ∀ i, i ≤ m p → B (R p i) = [] → i = m p ∨ 0 < cr (R p i) := by
    intro i hi hb
    by_cases e : i = m p
    · exact .inl e
    · right
      have g := G.2.1 p i hl hi
      have := Cr (R p i) g.1 (fun h => e (g.2.mp h))
      rw [hb] at this
      simp at this
      omega
  have own : ∀ i, i ≤ m p → 0 < K p i → K p i < ln p → w (R p i) = p := by
    intro i hi h0 h1
    exact ((Ow (R p i)).2 p hl.1).mpr ⟨hl, i, hi, rfl, h0, fun h => by omega⟩
  intro i
  induction i with
  | zero =>
    intro hi h0 h1 hb
    refine hns 0 hi (idle p 0 ⟨hl, hi, h1, ?_, ?_, ?_, cred 0 hi hb⟩)
    · intro _
      obtain ⟨hn, hmem, htl⟩ := Qu (la p)
      have hin : p ∈ Q (la p) := (hmem p).mpr ⟨hl, rfl, fun h => by omega⟩
      cases hx : Q (la p) with
      | nil => rw [hx] at hin; simp at hin
      | cons a t =>
        rw [hx] at hin htl
        rw [List.mem_cons] at hin
        rcases hin with h | h
        · rw [h]; rfl
        · have := htl p h; omega
    · intro j h; omega
    · rw [if_neg (by omega)]; exact own 0 hi h0 h1
  | succ j ih =>
    intro hi h0 h1 hb
    have hm := (Mo p hl).2.2 j (by omega)
    by_cases e : K p (j + 1) = K p j
    · refine ih (by omega) (by omega) (by omega) ?_
      by_cases hne : B (R p j) = []
      · exact hne
      · exfalso
        have ho := own j (by omega) (by omega) (by omega)
        obtain ⟨i', hi', h2, h3⟩ := La (R p j) p hl.1 ho hne
        have := zg_inj G hl hi' (by omega) h2
        subst this
        have hin := List.mem_of_getLast? h3
        have e1 : (4 * p + K p i' - 1) / 4 = p := by omega
        have e2 : (4 * p + K p i' - 1) % 4 = K p i' - 1 := by omega
        have := (Me _ _).mp hin
        rw [e1, e2] at this
        obtain ⟨_, i2, g1, g2, g3, g4⟩ := this
        have := zg_inj G hl (by omega) (by omega) g2
        subst this
        omega
    · have e1 : (4 * p + K p (j + 1)) / 4 = p := by omega
      have e2 : (4 * p + K p (j + 1)) % 4 = K p (j + 1) := by omega
      have hin : 4 * p + K p (j + 1) ∈ B (R p j) := by
        refine (Me _ _).mpr ?_
        rw [e1, e2]
        exact ⟨hl, j, by omega, rfl, by omega, by omega⟩
      obtain ⟨k, hk⟩ := List.mem_iff_getElem?.mp hin
      have hk0 : k = 0 := by
        cases k with
        | zero => rfl
        | succ k =>
          have h5 := Nn _ k _ hk (by omega)
          have h6 := List.mem_of_getElem? h5
          have e3 : (4 * p + K p (j + 1) - 1) / 4 = p := by omega
          have e4 : (4 * p + K p (j + 1) - 1) % 4 = K p (j + 1) - 1 := by omega
          have := (Me _ _).mp h6
          rw [e3, e4] at this
          obtain ⟨_, i2, g1, g2, g3, g4⟩ := this
          have := zg_inj G hl (by omega) (by omega) g2
          subst this
          omega
      subst hk0
      refine hns (j + 1) hi (idle p (j + 1) ⟨hl, hi, h1, by omega, ?_, ?_, cred (j + 1) hi hb⟩)
      · intro j' hj'
        have : j' = j := by omega
        subst this
        rw [List.head?_eq_getElem?]; exact hk
      · rw [if_neg (by omega)]; exact own (j + 1) hi h0 h1

theorem zd_E (G : zGR rk m R st la) (I : zIv m R st ln la K B w Q cr [] D) (hD : 1 ≤ D)
    (idle : ∀ p i, zVm m R st ln la K B w Q cr p i → sl (R p i / 2))
    (hU1 : ∀ p, U p → Lv st p ∧ st p = 2 ∧ ∀ i, i ≤ m p → ¬ sl (R p i / 2))
    (hU2 : ∀ p q i j, U p → Lv st q → i ≤ m p → j ≤ m q → R p i = R q j → U q) :
    ∀ n p i, U p → i ≤ m p → 64 ≤ rk (R p i) + n → B (R p i) = [] := by
  intro n
  induction n with
  | zero =>
    intro p i _ _ h
    have := G.2.2.2.2.2 (R p i)
    omega
  | succ n ih =>
    intro p i hp hi h
    cases hb : B (R p i) with
    | nil => rfl
    | cons f t =>
      exfalso
      have hf : (B (R p i)).head? = some f := by rw [hb]; rfl
      obtain ⟨hl, k, g1, g2, g3, g4⟩ := zg_front I hf
      have hq : U (f / 4) := hU2 p (f / 4) i k hp hl hi (by omega) g2.symm
      have hrk := G.2.2.1 (f / 4) k hl g1
      rw [g2] at hrk
      have hemp := ih (f / 4) (k + 1) hq (by omega) (by omega)
      have hmo := I.1 (f / 4) hl
      have hle : ∀ k, k ≤ m (f / 4) → K (f / 4) k ≤ ln (f / 4) := by
        intro k
        induction k with
        | zero => intro _; exact hmo.2.1
        | succ k ihk => intro hk; have := hmo.2.2 k (by omega); have := ihk (by omega); omega
      have hlt : K (f / 4) (k + 1) < ln (f / 4) := by have := hle k (by omega); omega
      by_cases c : K (f / 4) (k + 1) = 0
      · refine (hU1 _ hq).2.2 (k + 1) (by omega) (idle (f / 4) (k + 1) ⟨hl, by omega, hlt, by omega, ?_, ?_, ?_⟩)
        · intro j hj
          have : j = k := by omega
          subst this
          rw [g2, hf, ← g3]
          congr 1; omega
        · rw [if_pos c]
          have ho := I.2.2.2.2.2.1 (R (f / 4) (k + 1))
          by_cases e : w (R (f / 4) (k + 1)) = 16
          · exact e
          · exfalso
            obtain ⟨hs, i', h1, h2, h3, h5⟩ := (ho.2 _ (by omega)).mp rfl
            generalize w (R (f / 4) (k + 1)) = s at *
            have hus : U s := hU2 (f / 4) s (k + 1) i' hq hs (by omega) h1 h2.symm
            have hs2 := (hU1 s hus).2.1
            have hmo := I.1 s hs
            have hle : ∀ k, k ≤ m s → K s k ≤ ln s := by
              intro k
              induction k with
              | zero => intro _; exact hmo.2.1
              | succ k ihk => intro hk; have := hmo.2.2 k (by omega); have := ihk (by omega); omega
            have := hle i' h1
            exact zd_A G I hD idle hU1 hus i' h1 h3 (by omega) (by rw [h2]; exact hemp)
        · by_cases e : k + 1 = m (f / 4)
          · exact .inl e
          · right
            have g := G.2.1 (f / 4) (k + 1) hl (by omega)
            have := I.2.2.2.2.2.2.1 (R (f / 4) (k + 1)) g.1 (fun h => e (g.2.mp h))
            rw [hemp] at this
            simp at this
            omega
      · exact zd_A G I hD idle hU1 hq (k + 1) (by omega) (by omega) hlt hemp

theorem zm_le (I : zIv m R st ln la K B w Q cr rt D) {p : Nat} (hl : Lv st p) : ∀ k, k ≤ m p → K p k ≤ ln p := by
  have hmo := I.1 p hl
  intro k
  induction k with
  | zero => intro _; exact hmo.2.1
  | succ k ihk => intro hk; have := hmo.2.2 k (by omega); have := ihk (by omega); omega

theorem zd_done (G : zGR rk m R st la) (I : zIv m R st ln la K B w Q cr [] D) (hD : 1 ≤ D)
    (idle : ∀ p i, zVm m R st ln la K B w Q cr p i → sl (R p i / 2))
    (hU1 : ∀ p, U p → Lv st p ∧ st p = 2 ∧ ∀ i, i ≤ m p → ¬ sl (R p i / 2))
    (hU2 : ∀ p q i j, U p → Lv st q → i ≤ m p → j ≤ m q → R p i = R q j → U q) {p : Nat} (hp : U p) : ∀ i, i ≤ m p → K p i = ln p := by
  have E := zd_E G I hD idle hU1 hU2
  have Emp : ∀ p i, U p → i ≤ m p → B (R p i) = [] := fun p i h1 h2 => E 64 p i h1 h2 (by omega)
  obtain ⟨hl, hst, hns⟩ := hU1 p hp
  have h4 := (I.1 p hl).1
  have flat : ∀ i, i ≤ m p → K p i = K p 0 := by
    intro i
    induction i with
    | zero => intro _; rfl
    | succ j ih =>
      intro hj
      have e := ih (by omega)
      have hm := (I.1 p hl).2.2 j (by omega)
      have h0 := (I.1 p hl).2.1
      by_cases c : K p (j + 1) = K p j
      · omega
      · exfalso
        have e1 : (4 * p + K p (j + 1)) / 4 = p := by omega
        have e2 : (4 * p + K p (j + 1)) % 4 = K p (j + 1) := by omega
        have hin : 4 * p + K p (j + 1) ∈ B (R p j) := by
          refine (I.2.1 _ _).mpr ?_
          rw [e1, e2]
          exact ⟨hl, j, by omega, rfl, by omega, by omega⟩
        rw [Emp p j hp (by omega)] at hin
        simp at hin
  have hle := zm_le I hl
  suffices K p 0 = ln p by
    intro i hi; rw [flat i hi]; exact this
  have h0 := hle 0 (by omega)
  by_cases c : K p 0 = ln p
  · exact c
  · exfalso
    by_cases c0 : K p 0 = 0
    · obtain ⟨hn, hmem, htl⟩ := I.2.2.2.2.2.2.2 (la p)
      have hin : p ∈ Q (la p) := (hmem p).mpr ⟨hl, rfl, fun h => c h.2⟩
      obtain ⟨a, t, hx⟩ : ∃ a t, Q (la p) = a :: t := by
        cases hx : Q (la p) with
        | nil => rw [hx] at hin; simp at hin
        | cons a t => exact ⟨a, t, rfl⟩
      have ha : a ∈ Q (la p) := by rw [hx]; simp
      obtain ⟨hla, hlane, hnd⟩ := (hmem a).mp ha
      have hR := G.2.2.2.2.1 p a hl hla hlane
      have hua : U a := hU2 p a 0 0 hp hla (by omega) (by omega) hR.symm
      obtain ⟨_, hsta, hnsa⟩ := hU1 a hua
      have hlea := zm_le I hla 0 (by omega)
      have hlt : K a 0 < ln a := by
        by_cases e : K a 0 = ln a
        · exact absurd ⟨hsta, e⟩ hnd
        · omega
      by_cases ca : K a 0 = 0
      · refine hnsa 0 (by omega) (idle a 0 ⟨hla, by omega, hlt, ?_, by omega, ?_, ?_⟩)
        · intro _; rw [hlane, hx]; rfl
        · rw [if_pos ca]
          have ho := I.2.2.2.2.2.1 (R a 0)
          by_cases e : w (R a 0) = 16
          · exact e
          · exfalso
            obtain ⟨hs, i', h1, h2, h3, h5⟩ := (ho.2 _ (by omega)).mp rfl
            generalize w (R a 0) = s at *
            have hus : U s := hU2 a s 0 i' hua hs (by omega) h1 h2.symm
            have hs2 := (hU1 s hus).2.1
            have := zm_le I hs i' h1
            exact zd_A G I hD idle hU1 hus i' h1 h3 (by omega) (Emp s i' hus h1)
        · right
          have g := G.2.1 a 0 hla (by omega)
          have hm1 := (G.1 a hla).1
          have := I.2.2.2.2.2.2.1 (R a 0) g.1 (fun h => by have := g.2.mp h; omega)
          rw [Emp a 0 hua (by omega)] at this
          simp at this
          omega
      · exact zd_A G I hD idle hU1 hua 0 (by omega) (by omega) hlt (Emp a 0 hua (by omega))
    · exact zd_A G I hD idle hU1 hp 0 (by omega) (by omega) (by omega) (Emp p 0 hp (by omega))
end
end
end
section
/-! how the arrays hold the mesh -/
section
variable {B : Nat → List Nat} {cel bH bC res : Nat → Int32} {c : Nat}

def rBuf (B : Nat → List Nat) (cel bH bC : Nat → Int32) : Prop := ∀ ch, ch < 256 → (B ch).length ≤ 3 ∧ bC ch = nI (B ch).length ∧ ∃ h, h < 4 ∧ bH ch = nI h ∧ ∀ j, j < (B ch).length → cel (ch * 4 + (h + j) % 4) = nI ((B ch).getD j 0)

theorem ra_3 {n : Nat} (h : n < 2 ^ 31) : nI n &&& 3 = nI (n % 4) := pk_andN (by omega) 2 (by decide)

theorem rBuf_front (H : rBuf B cel bH bC) {ch f : Nat} {t : List Nat} (hc : ch < 256) (hb : B ch = f :: t) : ∃ h, h < 4 ∧ bH ch = nI h ∧ cel (ch * 4 + h) = nI f := by
  obtain ⟨_, _, h, h4, e, hj⟩ := H ch hc
  refine ⟨h, h4, e, ?_⟩
  have := hj 0 (by rw [hb]; simp)
  rw [hb] at this
  have e2 : (h + 0) % 4 = h := by omega
  rw [e2] at this
  exact this

theorem rBuf_pop (H : rBuf B cel bH bC) {ch f : Nat} {t : List Nat} (hc : ch < 256) (hb : B ch = f :: t) : rBuf (fun x => if x = ch then t else B x) cel (upd bH ch ((bH ch + 1) &&& 3)) (upd bC ch (bC ch - 1)) := by
  intro x hx
  by_cases e : x = ch
  · subst e
    obtain ⟨h3, eC, h, h4, e, hj⟩ := H x hx
    rw [hb] at h3 eC hj
    simp only [List.length_cons] at h3 eC hj
    simp only [if_pos]
    refine ⟨by omega, by rw [pk_us, eC, nI_pred], (h + 1) % 4, by omega, ?_, ?_⟩
    · rw [pk_us, e, nI_1, ra_3 (by omega)]
    · intro j hjt
      have := hj (j + 1) (by omega)
      have e2 : ((h + 1) % 4 + j) % 4 = (h + (j + 1)) % 4 := by omega
      rw [e2, this]
      simp
  · simp only [if_neg e]
    obtain ⟨h3, eC, h, h4, e', hj⟩ := H x hx
    exact ⟨h3, by rw [pk_un e]; exact eC, h, h4, by rw [pk_un e]; exact e', hj⟩

theorem rBuf_push (H : rBuf B cel bH bC) {ch f h : Nat} (hc : ch < 256) (hl : (B ch).length < 3) (h4 : h < 4) (eH : bH ch = nI h) :
    rBuf (fun x => if x = ch then B ch ++ [f] else B x) (upd cel (ch * 4 + (h + (B ch).length) % 4) (nI f)) bH (upd bC ch (bC ch + 1)) := by
  intro x hx
  by_cases e : x = ch
  · subst e
    obtain ⟨h3, eC, h', h4', e', hj⟩ := H x hx
    have : h' = h := by
      rw [eH] at e'
      exact ((nI_eq (by omega) (by omega)).mp e').symm
    subst this
    simp only [if_pos, List.length_append, List.length_singleton]
    refine ⟨by omega, by rw [pk_us, eC, nI_1], h', h4, e', ?_⟩
    intro j hjt
    by_cases ej : j = (B x).length
    · subst ej
      rw [pk_us]
      simp
    · have hlt : j < (B x).length := by omega
      rw [pk_un (by omega), hj j hlt]
      congr 1
      simp [List.getD_eq_getElem?_getD, List.getElem?_append_left hlt]
  · simp only [if_neg e]
    obtain ⟨h3, eC, h', h4', e', hj⟩ := H x hx
    refine ⟨h3, by rw [pk_un e]; exact eC, h', h4', e', ?_⟩
    intro j hjt
    rw [pk_un (by omega)]; exact hj j hjt

def rRes (c : Nat) (B : Nat → List Nat) (res : Nat → Int32) : Prop := ∀ n, n < 16 → res n = nI (sm (fun ch => if gLd c (ch / 2) = n then (B ch).length else 0) 256)

theorem rRes_pop (H : rRes c B res) {ch f n0 : Nat} {t : List Nat} (hc : ch < 256) (hb : B ch = f :: t) (hn : gLd c (ch / 2) = n0) : rRes c (fun x => if x = ch then t else B x) (upd res n0 (res n0 - 1)) := by
  intro n h16
  show upd res n0 (res n0 - 1) n = nI (sm (fun x => if gLd c (x / 2) = n then (if x = ch then t else B x).length else 0) 256)
  have key := sm_upd (f := fun x => if gLd c (x / 2) = n then (B x).length else 0) (g := fun x => if gLd c (x / 2) = n then (if x = ch then t else B x).length else 0) (j := ch) 256 hc (by
    intro i _ hne
    simp only [if_neg hne])
  simp only [if_pos] at key
  by_cases e : n = n0
  · subst e
    rw [pk_us, H n h16]
    rw [if_pos hn, if_pos hn, hb, List.length_cons] at key
    rw [show sm (fun ch => if gLd c (ch / 2) = n then (B ch).length else 0) 256 = sm (fun x => if gLd c (x / 2) = n then (if x = ch then t else B x).length else 0) 256 + 1 by omega, nI_pred]
  · rw [pk_un e, H n h16]
    rw [if_neg (by omega), if_neg (by omega)] at key
    congr 1
    omega

theorem rRes_push (H : rRes c B res) {ch f n0 : Nat} (hc : ch < 256) (hn : gLd c (ch / 2) = n0) : rRes c (fun x => if x = ch then B ch ++ [f] else B x) (upd res n0 (res n0 + 1)) := by
  intro n h16
  show upd res n0 (res n0 + 1) n = nI (sm (fun x => if gLd c (x / 2) = n then (if x = ch then B ch ++ [f] else B x).length else 0) 256)
  have key := sm_upd (f := fun x => if gLd c (x / 2) = n then (B x).length else 0) (g := fun x => if gLd c (x / 2) = n then (if x = ch then B ch ++ [f] else B x).length else 0) (j := ch) 256 hc (by
    intro i _ hne
    simp only [if_neg hne])
  simp only [if_pos] at key
  by_cases e : n = n0
  · subst e
    rw [pk_us, H n h16, nI_1]
    rw [if_pos hn, if_pos hn, List.length_append, List.length_singleton] at key
    congr 1
    omega
  · rw [pk_un e, H n h16]
    rw [if_neg (by omega), if_neg (by omega)] at key
    congr 1
    omega

theorem rRes_0 (H : rRes c B res) {n ch : Nat} (h16 : n < 16) (h0 : res n = 0) (hb : ∀ x, x < 256 → (B x).length ≤ 3) (hc : ch < 256) (hn : gLd c (ch / 2) = n) : B ch = [] := by
  have h := H n h16
  rw [h0] at h
  have hle := sm_le (f := fun x => if gLd c (x / 2) = n then (B x).length else 0) (b := 3) 256 (by
    intro i hi
    have := hb i hi
    show (if gLd c (i / 2) = n then (B i).length else 0) ≤ 3
    split <;> omega)
  have hz : sm (fun x => if gLd c (x / 2) = n then (B x).length else 0) 256 = 0 := by
    have := (nI_eq (a := 0) (b := sm (fun x => if gLd c (x / 2) = n then (B x).length else 0) 256) (by omega) (by omega)).mp h
    omega
  have := sm_zero 256 hz ch hc
  have h2 : (if gLd c (ch / 2) = n then (B ch).length else 0) = 0 := this
  rw [if_pos hn] at h2
  exact List.length_eq_zero_iff.mp h2
end

section
variable {m : Nat → Nat} {R : Nat → Nat → Nat} {st : Nat → Nat} {K : Nat → Nat → Nat} {base cx : Nat → Int32}
def gx1 (m : Nat → Nat) (R : Nat → Nat → Nat) (K : Nat → Nat → Nat) (ch a : Nat) : Nat := sm (fun i => if i ≤ m a ∧ R a i = ch then K a i else 0) 8
def gX (m : Nat → Nat) (R : Nat → Nat → Nat) (st : Nat → Nat) (K : Nat → Nat → Nat) (ch : Nat) : Nat := sm (fun p => if st p = 1 ∨ st p = 2 then gx1 m R K ch p else 0) 16
def gF (K : Nat → Nat → Nat) : Nat := sm (fun p => sm (fun i => K p i) 8) 16
def rCx (m : Nat → Nat) (R : Nat → Nat → Nat) (st : Nat → Nat) (K : Nat → Nat → Nat) (base cx : Nat → Int32) : Prop := ∀ ch, ch < 256 → cx ch = base ch + nI (gX m R st K ch)

theorem gx1_o {p i a ch : Nat} (h : a ≠ p) : gx1 m R (sK K p i) ch a = gx1 m R K ch a := by
  refine sm_congr 8 ?_
  intro j _
  show (if j ≤ m a ∧ R a j = ch then sK K p i a j else 0) = if j ≤ m a ∧ R a j = ch then K a j else 0
  rw [sK_n (by omega)]
theorem gx1_p {p i ch : Nat} (h8 : i < 8) : gx1 m R (sK K p i) ch p + (if i ≤ m p ∧ R p i = ch then K p i else 0) = gx1 m R K ch p + (if i ≤ m p ∧ R p i = ch then K p i + 1 else 0) := by
  have key := sm_upd (f := fun j => if j ≤ m p ∧ R p j = ch then K p j else 0) (g := fun j => if j ≤ m p ∧ R p j = ch then sK K p i p j else 0) (j := i) 8 h8 (by
    intro j _ hne
    show (if j ≤ m p ∧ R p j = ch then sK K p i p j else 0) = if j ≤ m p ∧ R p j = ch then K p j else 0
    rw [sK_n (by omega)])
  simp only [sK_s] at key
  exact key
theorem gX_d {p i ch : Nat} (hl : Lv st p) (h8 : i < 8) : gX m R st (sK K p i) ch + (if i ≤ m p ∧ R p i = ch then K p i else 0) = gX m R st K ch + (if i ≤ m p ∧ R p i = ch then K p i + 1 else 0) := by
  have key := sm_upd (f := fun a => if st a = 1 ∨ st a = 2 then gx1 m R K ch a else 0) (g := fun a => if st a = 1 ∨ st a = 2 then gx1 m R (sK K p i) ch a else 0) (j := p) 16 hl.1 (by
    intro a _ hne
    show (if st a = 1 ∨ st a = 2 then gx1 m R (sK K p i) ch a else 0) = if st a = 1 ∨ st a = 2 then gx1 m R K ch a else 0
    rw [gx1_o hne])
  have h1 := gx1_p (m := m) (R := R) (K := K) (p := p) (i := i) (ch := ch) h8
  simp only [if_pos hl.2] at key
  show sm _ 16 + _ = sm _ 16 + _
  omega
theorem rCx_step (H : rCx m R st K base cx) {p i : Nat} (hl : Lv st p) (hi : i ≤ m p) (h7 : m p ≤ 7) : rCx m R st (sK K p i) base (upd cx (R p i) (cx (R p i) + 1)) := by
  intro ch hc
  have h := gX_d (m := m) (R := R) (K := K) (ch := ch) hl (i := i) (by omega)
  by_cases e : ch = R p i
  · subst e
    rw [if_pos ⟨hi, rfl⟩, if_pos ⟨hi, rfl⟩] at h
    rw [pk_us, H _ hc, show gX m R st (sK K p i) (R p i) = gX m R st K (R p i) + 1 by omega, nI_succ, Int32.add_assoc]
  · rw [if_neg (fun h => e h.2.symm), if_neg (fun h => e h.2.symm)] at h
    rw [pk_un e, H _ hc, show gX m R st (sK K p i) ch = gX m R st K ch by omega]
theorem gF_step {p i : Nat} (hp : p < 16) (h8 : i < 8) : gF (sK K p i) = gF K + 1 := by
  have k1 := sm_upd (f := fun j => K p j) (g := fun j => sK K p i p j) (j := i) 8 h8 (by
    intro j _ hne
    show sK K p i p j = K p j
    rw [sK_n (by omega)])
  simp only [sK_s] at k1
  have k2 := sm_upd (f := fun a => sm (fun j => K a j) 8) (g := fun a => sm (fun j => sK K p i a j) 8) (j := p) 16 hp (by
    intro a _ hne
    refine sm_congr 8 ?_
    intro j _
    show sK K p i a j = K a j
    rw [sK_n (by omega)])
  show sm _ 16 = sm _ 16 + 1
  omega
theorem gF_full (h4 : ∀ p i, p < 16 → i < 8 → K p i ≤ 4) (hF : 512 ≤ gF K) {p i : Nat} (hp : p < 16) (hi : i < 8) : K p i = 4 := by
  have h1 := sm_full (f := fun p => sm (fun i => K p i) 8) (b := 32) 16 (fun a ha => by
    have := sm_le (f := fun i => K a i) (b := 4) 8 (fun j hj => h4 a j ha hj)
    exact this) hF p hp
  exact sm_full (f := fun i => K p i) (b := 4) 8 (fun j hj => h4 p j hp hj) (by
    show 8 * 4 ≤ sm (fun i => K p i) 8
    have : sm (fun i => K p i) 8 = 32 := h1
    omega) i hi
end

section
variable {N : Nat} {Q : Nat → List Nat} {h t nx : Nat → Int32}
/-- queues linked by slot: first, last, next -/
def rL (N : Nat) (Q : Nat → List Nat) (h t nx : Nat → Int32) : Prop := ∀ l, l < N → h l = hI (Q l).head? ∧ t l = hI (Q l).getLast? ∧ LC nx (Q l)

theorem rL_pop (H : rL N Q h t nx) {l0 p : Nat} {s : List Nat} (hq : Q l0 = p :: s) (hn : (Q l0).Nodup) (hd : ∀ l, l < N → l ≠ l0 → p ∉ Q l) :
    rL N (fun l => if l = l0 then s else Q l) (upd h l0 (nx p)) (if s = [] then upd t l0 (-1) else t) (upd nx p (-1)) := by
  intro l hl
  obtain ⟨h1, h2, h3⟩ := H l hl
  by_cases e : l = l0
  · subst e
    rw [hq] at hn h2 h3
    have hp := LC_pop hn h3
    simp only [if_pos]
    refine ⟨by rw [pk_us]; exact hp.1, ?_, hp.2⟩
    by_cases es : s = []
    · rw [if_pos es, pk_us, es]; rfl
    · rw [if_neg es, h2]
      obtain ⟨a, b, rfl⟩ : ∃ a b, s = a :: b := by
        cases s with
        | nil => exact absurd rfl es
        | cons a b => exact ⟨a, b, rfl⟩
      rw [List.getLast?_cons_cons]
  · simp only [if_neg e]
    refine ⟨by rw [pk_un e]; exact h1, ?_, ?_⟩
    · by_cases es : s = []
      · rw [if_pos es, pk_un e]; exact h2
      · rw [if_neg es]; exact h2
    · refine LC_fr _ ?_ h3
      intro a ha
      exact pk_un (by rintro rfl; exact hd l hl e ha)

theorem rL_app (H : rL N Q h t nx) {l0 p : Nat} (hl0 : l0 < N) (hn : (Q l0).Nodup) (hd : ∀ l, l < N → p ∉ Q l) (hd2 : ∀ l a, l < N → l ≠ l0 → a ∈ Q l → a ∉ Q l0) :
    rL N (fun l => if l = l0 then Q l0 ++ [p] else Q l) (if Q l0 = [] then upd h l0 (nI p) else h) (upd t l0 (nI p)) (match (Q l0).getLast? with | none => upd nx p (-1) | some b => upd (upd nx p (-1)) b (nI p)) := by
  intro l hl
  obtain ⟨h1, h2, h3⟩ := H l hl
  by_cases e : l = l0
  · subst e
    simp only [if_pos]
    refine ⟨?_, ?_, LC_app _ hn (hd l hl) h3⟩
    · by_cases es : Q l = []
      · rw [if_pos es, pk_us, es]; rfl
      · rw [if_neg es, h1]
        obtain ⟨a, b, hab⟩ : ∃ a b, Q l = a :: b := by
          cases hx : Q l with
          | nil => exact absurd hx es
          | cons a b => exact ⟨a, b, rfl⟩
        rw [hab]; rfl
    · rw [pk_us, List.getLast?_append]; simp [hI]
  · simp only [if_neg e]
    refine ⟨?_, by rw [pk_un e]; exact h2, ?_⟩
    · by_cases es : Q l0 = []
      · rw [if_pos es, pk_un e]; exact h1
      · rw [if_neg es]; exact h1
    · refine LC_fr _ ?_ h3
      intro a ha
      have hap : a ≠ p := by rintro rfl; exact hd l hl ha
      cases hx : (Q l0).getLast? with
      | none => exact pk_un hap
      | some b =>
        have hab : a ≠ b := by
          rintro rfl
          exact hd2 l a hl e ha (List.mem_of_getLast? hx)
        show upd (upd nx p (-1)) b (nI p) a = nx a
        rw [pk_un hab, pk_un hap]
end
end
section
/-! the routes of the packets over the shape -/
section
variable {c r D : Nat} {st sr ds cl ln : Nat → Nat}
def gm (c : Nat) (sr ds : Nat → Nat) (p : Nat) : Nat := gDi c (sr p) (ds p) + 1
def gR (c : Nat) (sr ds cl : Nat → Nat) (p i : Nat) : Nat := gP c (sr p) (ds p) (cl p) i * 2 + cl p
def gl (sr cl : Nat → Nat) (p : Nat) : Nat := sr p * 2 + cl p
def gW (c r : Nat) (sr ds cl : Nat → Nat) : Prop := gSh c r ∧ ∀ p, p < 16 → sr p < c * r ∧ ds p < c * r ∧ cl p < 2

theorem gr_of (W : gW c r sr ds cl) : zGR (gRk c) (gm c sr ds) (gR c sr ds cl) st (gl sr cl) := by
  obtain ⟨S, H⟩ := W
  have hc := S.2.1
  have hc0 := S.1
  refine ⟨?_, ?_, ?_, ?_, ?_, ?_⟩
  · intro p hp
    obtain ⟨h1, h2, h3⟩ := H p hp.1
    have := gd_le S h1 h2
    unfold gm; omega
  · intro p i hp hi
    obtain ⟨h1, h2, h3⟩ := H p hp.1
    have hl := gp_lt S h1 h2 h3 hi
    unfold gR
    refine ⟨by omega, ?_⟩
    have e : (gP c (sr p) (ds p) (cl p) i * 2 + cl p) / 2 = gP c (sr p) (ds p) (cl p) i := by omega
    rw [e]
    by_cases e0 : i = 0
    · subst e0
      rw [gp_0]
      unfold gm
      constructor
      · intro h; omega
      · intro h; omega
    · obtain ⟨n, g1, g2, g3, g4, g5, g6, g7⟩ := gp_at S h1 h2 h3 (i := i) (by omega) hi
      rw [g2]
      have e1 : (n * 8 + gNp c n (ds p) (cl p)) % 8 = gNp c n (ds p) (cl p) := by omega
      rw [e1]; exact g6
  · intro p i hp hi
    obtain ⟨h1, h2, h3⟩ := H p hp.1
    have hi' : i < gDi c (sr p) (ds p) + 1 := hi
    exact (gp_mid S h1 h2 h3 (by omega)).2.2.2.2.2
  · intro p q i hp hq hi h
    obtain ⟨h1, h2, h3⟩ := H p hp.1
    obtain ⟨k1, k2, k3⟩ := H q hq.1
    have h : gP c (sr q) (ds q) (cl q) i * 2 + cl q = (sr p * 8 + 5) * 2 + cl p := h
    by_cases e0 : i = 0
    · subst e0
      refine ⟨rfl, ?_⟩
      rw [gp_0] at h
      unfold gl; omega
    · obtain ⟨n, g1, g2, g3, g4, g5, g6, g7⟩ := gp_at S k1 k2 k3 (i := i) (by omega) hi
      rw [g2] at h
      omega
  · intro p q hp hq h
    obtain ⟨h1, h2, h3⟩ := H p hp.1
    obtain ⟨k1, k2, k3⟩ := H q hq.1
    have h : sr q * 2 + cl q = sr p * 2 + cl p := h
    show (sr q * 8 + 5) * 2 + cl q = (sr p * 8 + 5) * 2 + cl p
    omega
  · intro ch
    exact ge_rk c ch (by omega) (by omega)

/-- from one channel of a route to the next -/
theorem gR_nx (W : gW c r sr ds cl) {p i : Nat} (hp : p < 16) (hi : i < gm c sr ds p) :
    gR c sr ds cl p i % 2 = cl p ∧ gR c sr ds cl p i / 2 < 128 ∧ gLd c (gR c sr ds cl p i / 2) < c * r ∧ gOk c r (gR c sr ds cl p i / 2) = true ∧
    gR c sr ds cl p (i + 1) = (gLd c (gR c sr ds cl p i / 2) * 8 + gNp c (gLd c (gR c sr ds cl p i / 2)) (ds p) (cl p)) * 2 + cl p ∧
    gNp c (gLd c (gR c sr ds cl p i / 2)) (ds p) (cl p) ≤ 4 ∧
    gIn c r (gLd c (gR c sr ds cl p i / 2) * 5 + (if gR c sr ds cl p i / 2 % 8 = 5 then 4 else gR c sr ds cl p i / 2 % 8)) = gR c sr ds cl p i / 2 ∧
    gR c sr ds cl p i / 2 % 8 ≠ 4 ∧ gR c sr ds cl p i / 2 % 8 < 6 := by
  obtain ⟨S, H⟩ := W
  obtain ⟨h1, h2, h3⟩ := H p hp
  have hi' : i < gDi c (sr p) (ds p) + 1 := hi
  have hl := gp_lt S h1 h2 h3 (i := i) (by omega)
  obtain ⟨a1, a2, a3, a4, a5, a6⟩ := gp_mid S h1 h2 h3 (i := i) (by omega)
  obtain ⟨n, g1, g2, g3, g4, g5, g6, g7⟩ := gp_at S h1 h2 h3 (i := i + 1) (by omega) (by omega)
  have e : gR c sr ds cl p i / 2 = gP c (sr p) (ds p) (cl p) i := by unfold gR; omega
  rw [e]
  have e1 : i + 1 - 1 = i := by omega
  rw [e1] at g3
  refine ⟨by unfold gR; omega, by omega, a1, a2, ?_, ?_, a3, a4, a5⟩
  · show gP c (sr p) (ds p) (cl p) (i + 1) * 2 + cl p = _
    rw [g2, g3]
  · rw [g3]; exact g5
theorem gR_0 {p : Nat} : gR c sr ds cl p 0 = (sr p * 8 + 5) * 2 + cl p := rfl
theorem gR_e (W : gW c r sr ds cl) {p : Nat} (hp : p < 16) : gR c sr ds cl p (gm c sr ds p) = (ds p * 8 + 4) * 2 + cl p := by
  obtain ⟨S, H⟩ := W
  obtain ⟨h1, h2, h3⟩ := H p hp
  unfold gR gm
  rw [gp_end S h1 h2 h3]
end

/-- the packets, as the arrays hold them -/
def xPk (c r kk : Nat) (st sr ds cl ln tk : Nat → Nat) (stO srO taO clO leO tkO : Nat → Int32) : Prop := ∀ p, p < 16 →
  stO p = nI (st p) ∧ srO p = nI (sr p) ∧ taO p = nI (ds p) ∧ clO p = nI (cl p) ∧ leO p = nI (ln p) ∧ tkO p = nI (tk p) ∧
  st p ≤ 3 ∧ ln p ≤ 4 ∧ (st p = 1 → ln p ≤ 3) ∧ (2 ≤ st p → 1 ≤ ln p) ∧ sr p < c * r ∧ ds p < c * r ∧ cl p < kk ∧ (st p = 3 → tk p < ln p) ∧ (tk p ≤ 4 ∧ (st p = 1 ∨ st p = 2 → tk p = 0))
/-- the shape, as fields and arrays hold it -/
def xGeo (c r kk D : Nat) (fC fR fK fD fN : Int32) (cO rO lT iB : Nat → Int32) : Prop :=
  gSh c r ∧ 1 ≤ kk ∧ kk ≤ 2 ∧ 1 ≤ D ∧ D ≤ 3 ∧ fC = nI c ∧ fR = nI r ∧ fK = nI kk ∧ fD = nI D ∧ fN = nI (c * r) ∧
  (∀ n, n < c * r → cO n = nI (n % c) ∧ rO n = nI (n / c)) ∧
  (∀ id, id < 128 → lT id = if gOk c r id = true then nI (gLd c id) else -1) ∧
  (∀ x, x < 80 → iB x = if gIn c r x = 999 then -1 else nI (gIn c r x))
/-- the mesh: invariant, and how the arrays hold it -/
def zM (c D : Nat) (st sr ds cl ln : Nat → Nat) (base : Nat → Int32) (K : Nat → Nat → Nat) (B : Nat → List Nat) (w : Nat → Nat) (Q : Nat → List Nat) (cr : Nat → Nat) (rt : List Nat)
    (fT : Int32) (seO ejO sH sT sN ow crd cx cel bH bC ret res arr : Nat → Int32) : Prop :=
  zIv (gm c sr ds) (gR c sr ds cl) st ln (gl sr cl) K B w Q cr rt D ∧
  rBuf B cel bH bC ∧ rRes c B res ∧ rCx (gm c sr ds) (gR c sr ds cl) st K base cx ∧ rL 32 Q sH sT sN ∧
  (fT = nI rt.length ∧ rt.length ≤ 96 ∧ ∀ j, j < rt.length → ret j = nI (rt.getD j 0) ∧ rt.getD j 0 < 256 ∧ rt.getD j 0 / 2 % 8 ≠ 4) ∧
  (∀ ch, ch < 256 → ow ch = oI (w ch)) ∧ (∀ ch, ch < 256 → crd ch = nI (cr ch)) ∧
  (∀ p, Lv st p → seO p = nI (K p 0) ∧ ejO p = nI (K p (gm c sr ds p))) ∧
  (∀ l, l < 32 → arr l = oI (w ((l / 2 * 8 + 4) * 2 + l % 2))) ∧
  (∀ p i, p < 16 → i < 8 → K p i ≤ 4)
end
section
/-! numbers -/
theorem ix2 (a b : Nat) : nI a * 2 + nI b = nI (a * 2 + b) := by show nI a * nI 2 + nI b = _; rw [pk_mul, nI_add]
theorem ix4 (a b : Nat) : nI a * 4 + nI b = nI (a * 4 + b) := by show nI a * nI 4 + nI b = _; rw [pk_mul, nI_add]
theorem ix5 (a b : Nat) : nI a * 5 + nI b = nI (a * 5 + b) := by show nI a * nI 5 + nI b = _; rw [pk_mul, nI_add]
theorem ix8 (a b : Nat) : nI a * 8 + nI b = nI (a * 8 + b) := by show nI a * nI 8 + nI b = _; rw [pk_mul, nI_add]
theorem im2 (a : Nat) : nI a * 2 = nI (a * 2) := by show nI a * nI 2 = _; rw [pk_mul]
theorem im8 (a : Nat) : nI a * 8 = nI (a * 8) := by show nI a * nI 8 = _; rw [pk_mul]
theorem is1 {n : Nat} (h : n < 2 ^ 31) : nI n >>> ((1 : Int32) &&& 31) = nI (n / 2) := pk_shrN h _ 1 (by decide)
theorem is2 {n : Nat} (h : n < 2 ^ 31) : nI n >>> ((2 : Int32) &&& 31) = nI (n / 4) := pk_shrN h _ 2 (by decide)
theorem is3 {n : Nat} (h : n < 2 ^ 31) : nI n >>> ((3 : Int32) &&& 31) = nI (n / 8) := pk_shrN h _ 3 (by decide)
theorem is6 {n : Nat} (h : n < 2 ^ 31) : nI n >>> ((6 : Int32) &&& 31) = nI (n / 64) := pk_shrN h _ 6 (by decide)
theorem ia1 {n : Nat} (h : n < 2 ^ 31) : nI n &&& 1 = nI (n % 2) := pk_andN (by omega) 1 (by decide)
theorem ia7 {n : Nat} (h : n < 2 ^ 31) : nI n &&& 7 = nI (n % 8) := pk_andN (by omega) 3 (by decide)
theorem ia63 {n : Nat} (h : n < 2 ^ 31) : nI n &&& 63 = nI (n % 64) := pk_andN (by omega) 6 (by decide)
theorem icl {n : Nat} (h : n < 4096) : (nI n).toNatClampNeg = n := nI_clamp (by omega)
theorem ivp {n N : Nat} (h : n < N) (hN : N < 4096) : vp_in (nI n) N := vp_in_nI h (by omega)
theorem ieq {a b : Nat} (ha : a < 4096) (hb : b < 4096) : nI a = nI b ↔ a = b := nI_eq (by omega) (by omega)
theorem isb : ∀ a, a < 4 → ∀ b, b < 4 → (nI a - nI b = 0 ↔ a = b) ∧ (nI a - nI b ≤ 0 ↔ a ≤ b) := by decide +kernel

/-- bit id of the set that lies at o -/
def bL (a : Nat → Int64) (o id : Nat) : Bool := (a (o + id / 64)).toBitVec.getLsbD (id % 64)

section
variable {fC fR fK fD fN fU fT fM fA oT pT rT tT cT fF : Int32} {cO rO lT iB stO srO taO clO leO tkO seO ejO pay ord sH sT sN iH iT iN ow crd cx cel bH bC ret res tur itu arr mF mT mL hB : Nat → Int32} {rM sM hM : Nat → Int64}
variable {post : Int32 → Prop} {N c r kk D : Nat}

theorem xw_isNode_t {j : Nat} (hN : fN = nI N) (hN6 : N < 4096) (hj : j < N) (h : post 1) : wpX_isNode post (fC, fR, fK, fD, fN, fU, fT, fM, fA, oT, pT, rT, tT, cT, fF, cO, rO, lT, iB, stO, srO, taO, clO, leO, tkO, seO, ejO, pay, rM, ord, sH, sT, sN, iH, iT, iN, ow, crd, cx, cel, bH, bC, ret, sM, res, tur, itu, arr, mF, mT, mL, hB, hM) (nI j) := by
  refine br_f (nI_pos (by omega)) (br_f ?_ h)
  rw [hN]; exact nI_ge hj (by omega)
theorem xw_isNode_f {v : Int32} (hN : fN = nI N) (hv : v < 0 ∨ nI N ≤ v) (h : post 0) : wpX_isNode post (fC, fR, fK, fD, fN, fU, fT, fM, fA, oT, pT, rT, tT, cT, fF, cO, rO, lT, iB, stO, srO, taO, clO, leO, tkO, seO, ejO, pay, rM, ord, sH, sT, sN, iH, iT, iN, ow, crd, cx, cel, bH, bC, ret, sM, res, tur, itu, arr, mF, mT, mL, hB, hM) v := by
  refine br_c (fun _ => h) (fun hn => br_t ?_ h)
  rw [hN]; exact hv.resolve_left hn
theorem xw_isClass_t {j : Nat} (hN : fK = nI N) (hN6 : N < 4096) (hj : j < N) (h : post 1) : wpX_isClass post (fC, fR, fK, fD, fN, fU, fT, fM, fA, oT, pT, rT, tT, cT, fF, cO, rO, lT, iB, stO, srO, taO, clO, leO, tkO, seO, ejO, pay, rM, ord, sH, sT, sN, iH, iT, iN, ow, crd, cx, cel, bH, bC, ret, sM, res, tur, itu, arr, mF, mT, mL, hB, hM) (nI j) := by
  refine br_f (nI_pos (by omega)) (br_f ?_ h)
  rw [hN]; exact nI_ge hj (by omega)
theorem xw_isClass_f {v : Int32} (hN : fK = nI N) (hv : v < 0 ∨ nI N ≤ v) (h : post 0) : wpX_isClass post (fC, fR, fK, fD, fN, fU, fT, fM, fA, oT, pT, rT, tT, cT, fF, cO, rO, lT, iB, stO, srO, taO, clO, leO, tkO, seO, ejO, pay, rM, ord, sH, sT, sN, iH, iT, iN, ow, crd, cx, cel, bH, bC, ret, sM, res, tur, itu, arr, mF, mT, mL, hB, hM) v := by
  refine br_c (fun _ => h) (fun hn => br_t ?_ h)
  rw [hN]; exact hv.resolve_left hn
theorem xw_isHandle_t {j : Nat} (hj : j < 16) (h : post 1) : wpX_isHandle post (fC, fR, fK, fD, fN, fU, fT, fM, fA, oT, pT, rT, tT, cT, fF, cO, rO, lT, iB, stO, srO, taO, clO, leO, tkO, seO, ejO, pay, rM, ord, sH, sT, sN, iH, iT, iN, ow, crd, cx, cel, bH, bC, ret, sM, res, tur, itu, arr, mF, mT, mL, hB, hM) (nI j) :=
  br_f (nI_pos (by omega)) (br_f (nI_ge (b := 16) hj (by omega)) h)
theorem xw_isHandle_f {v : Int32} (hv : v < 0 ∨ nI 16 ≤ v) (h : post 0) : wpX_isHandle post (fC, fR, fK, fD, fN, fU, fT, fM, fA, oT, pT, rT, tT, cT, fF, cO, rO, lT, iB, stO, srO, taO, clO, leO, tkO, seO, ejO, pay, rM, ord, sH, sT, sN, iH, iT, iN, ow, crd, cx, cel, bH, bC, ret, sM, res, tur, itu, arr, mF, mT, mL, hB, hM) v :=
  br_c (fun _ => h) (fun hn => br_t (hv.resolve_left hn) h)

theorem xw_nextPort {n d k : Nat} (hn : n < 16) (hd : d < 16) (hk : k < 2) (hc : 2 ≤ c) (hc4 : c ≤ 4) (hr : n / c < 4 ∧ d / c < 4) (e1 : cO n = nI (n % c)) (e2 : cO d = nI (d % c)) (e3 : rO n = nI (n / c)) (e4 : rO d = nI (d / c))
    (h : post (nI (gNp c n d k))) : wpX_nextPort post (fC, fR, fK, fD, fN, fU, fT, fM, fA, oT, pT, rT, tT, cT, fF, cO, rO, lT, iB, stO, srO, taO, clO, leO, tkO, seO, ejO, pay, rM, ord, sH, sT, sN, iH, iT, iN, ow, crd, cx, cel, bH, bC, ret, sM, res, tur, itu, arr, mF, mT, mL, hB, hM) (nI n) (nI d) (nI k) := by
  have m1 : n % c < 4 := Nat.lt_of_lt_of_le (Nat.mod_lt _ (by omega)) hc4
  have m2 : d % c < 4 := Nat.lt_of_lt_of_le (Nat.mod_lt _ (by omega)) hc4
  have A := isb (d % c) m2 (n % c) m1
  have A' := isb (d / c) hr.2 (n / c) hr.1
  have vn := ivp (N := 16) hn (by omega)
  have vd := ivp (N := 16) hd (by omega)
  refine ⟨vd, vn, nm_r (e' := nI (d % c) - nI (n % c)) (by rw [icl (by omega), icl (by omega), e1, e2]) ⟨vd, vn, nm_r (e' := nI (d / c) - nI (n / c)) (by rw [icl (by omega), icl (by omega), e3, e4]) ?_⟩⟩
  have hk0 : nI k = 0 ↔ k = 0 := ieq (b := 0) (by omega) (by omega)
  have J55 : (¬ (n % c ≠ d % c ∧ (k = 0 ∨ n / c = d / c))) → wX_nextPort_55 post (nI (d / c) - nI (n / c)) fC fR fK fD fN fU fT fM fA oT pT rT tT cT fF cO rO lT iB stO srO taO clO leO tkO seO ejO pay rM ord sH sT sN iH iT iN ow crd cx cel bH bC ret sM res tur itu arr mF mT mL hB hM := by
    intro hh
    unfold gNp at h
    rw [if_neg hh] at h
    by_cases q : n / c = d / c
    · rw [if_neg (by omega)] at h
      exact br_t (A'.1.mpr q.symm) h
    · rw [if_pos q] at h
      refine br_f (fun z => q (A'.1.mp z).symm) ?_
      by_cases q2 : n / c < d / c
      · rw [if_pos q2] at h
        exact br_f (fun z => by have := A'.2.mp z; omega) h
      · rw [if_neg q2] at h
        exact br_t (A'.2.mpr (by omega)) h
  have J44 : (n % c ≠ d % c ∧ (k = 0 ∨ n / c = d / c)) → wX_nextPort_44 post (nI (d % c) - nI (n % c)) fC fR fK fD fN fU fT fM fA oT pT rT tT cT fF cO rO lT iB stO srO taO clO leO tkO seO ejO pay rM ord sH sT sN iH iT iN ow crd cx cel bH bC ret sM res tur itu arr mF mT mL hB hM := by
    intro hh
    unfold gNp at h
    rw [if_pos hh] at h
    by_cases q2 : n % c < d % c
    · rw [if_pos q2] at h
      exact br_f (fun z => by have := A.2.mp z; omega) h
    · rw [if_neg q2] at h
      exact br_t (A.2.mpr (by omega)) h
  refine br_c (fun z => J55 (fun hh => hh.1 (A.1.mp z).symm)) (fun z => ?_)
  have z' : n % c ≠ d % c := fun e => z (A.1.mpr e.symm)
  refine br_c (fun z2 => J44 ⟨z', .inl (hk0.mp z2)⟩) (fun z2 => ?_)
  refine br_c (fun z3 => J44 ⟨z', .inr (A'.1.mp z3).symm⟩) (fun z3 => J55 (fun hh => ?_))
  rcases hh.2 with q | q
  · exact z2 (hk0.mpr q)
  · exact z3 (A'.1.mpr q.symm)

theorem xw_isStalled {id : Nat} (hi : id < 128) (h1 : bL sM 0 id = true → post 1) (h0 : bL sM 0 id = false → post 0) : wpX_isStalled post (fC, fR, fK, fD, fN, fU, fT, fM, fA, oT, pT, rT, tT, cT, fF, cO, rO, lT, iB, stO, srO, taO, clO, leO, tkO, seO, ejO, pay, rM, ord, sH, sT, sN, iH, iT, iN, ow, crd, cx, cel, bH, bC, ret, sM, res, tur, itu, arr, mF, mT, mL, hB, hM) (nI id) := by
  have e6 : nI id >>> ((6 : Int32) &&& 31) = nI (id / 64) := is6 (by omega)
  have e63 : nI id &&& 63 = nI (id % 64) := ia63 (by omega)
  have hm : id % 64 < 64 := Nat.mod_lt _ (by omega)
  have key := ts_bit (w := sM (id / 64)) (s := UInt64.ofNat (id % 64)) hm (u_tn (by omega))
  have e0 : 0 + id / 64 = id / 64 := by omega
  unfold bL at h1 h0
  rw [e0] at h1 h0
  refine ⟨by rw [e6]; exact ivp (by omega) (by omega), ?_⟩
  rw [e6, e63, icl (n := id / 64) (by omega), wb_cu _ hm]
  exact br_c (fun z => h0 (key.mp z)) (fun z => h1 (ts_nf (fun y => z (key.mpr y))))

/-- may the flit cross -/
def xC (sM : Nat → Int64) (f id wv cv : Nat) : Prop := bL sM 0 id = false ∧ wv = (if f % 4 = 0 then 16 else f / 4) ∧ (id % 8 = 4 ∨ 0 < cv)

theorem xw_canCross {f id k wv cv : Nat} (hf : f < 64) (hi : id < 128) (hk : k < 2) (hw : ow (id * 2 + k) = oI wv) (hw6 : wv ≤ 16) (hc : id % 8 ≠ 4 → crd (id * 2 + k) = nI cv ∧ cv < 4096)
    (h1 : xC sM f id wv cv → post 1) (h0 : ¬ xC sM f id wv cv → post 0) : wpX_canCross post (fC, fR, fK, fD, fN, fU, fT, fM, fA, oT, pT, rT, tT, cT, fF, cO, rO, lT, iB, stO, srO, taO, clO, leO, tkO, seO, ejO, pay, rM, ord, sH, sT, sN, iH, iT, iN, ow, crd, cx, cel, bH, bC, ret, sM, res, tur, itu, arr, mF, mT, mL, hB, hM) (nI f) (nI id) (nI k) := by
  unfold wpX_canCross
  refine xw_isStalled hi (fun z => ?_) (fun z => ?_)
  · refine br_f (by decide) (h0 (fun x => ?_))
    rw [x.1] at z; cases z
  · refine br_t rfl (nm_r (e' := nI (id * 2 + k)) (ix2 id k) ?_)
    have J : ∀ nd, nd ≤ 16 → nd = (if f % 4 = 0 then 16 else f / 4) → wX_canCross_30 post (nI id) (nI (id * 2 + k)) (oI nd) fC fR fK fD fN fU fT fM fA oT pT rT tT cT fF cO rO lT iB stO srO taO clO leO tkO seO ejO pay rM ord sH sT sN iH iT iN ow crd cx cel bH bC ret sM res tur itu arr mF mT mL hB hM := by
      intro nd hnd end_
      have vi := ivp (n := id * 2 + k) (N := 256) (by omega) (by omega)
      refine ⟨vi, ?_⟩
      rw [icl (by omega), hw]
      refine br_c (fun y => ?_) (fun y => h0 (fun x => y (by rw [x.2.1, ← end_])))
      have y' : wv = nd := (oI_inj hw6 hnd).mp y
      rw [ia7 (by omega)]
      by_cases q : id % 8 = 4
      · refine br_t (by rw [q]; rfl) (h1 ⟨z, by rw [y', end_], .inl q⟩)
      · refine br_f (fun x => q ((ieq (b := 4) (by omega) (by omega)).mp x)) ⟨vi, ?_⟩
        obtain ⟨hc1, hc2⟩ := hc q
        rw [hc1]
        by_cases qc : cv = 0
        · subst qc
          exact br_t (by decide) (h0 (fun x => by rcases x.2.2 with x | x; exact q x; omega))
        · exact br_f (nI_nle (by omega) (by omega)) (h1 ⟨z, by rw [y', end_], .inr (by omega)⟩)
    rw [ra_3 (by omega), is2 (by omega)]
    by_cases q : f % 4 = 0
    · refine br_t (by rw [q]; rfl) ?_
      exact J 16 (by omega) (by rw [if_pos q])
    · refine br_f (fun x => q ((ieq (b := 0) (by omega) (by omega)).mp x)) ?_
      have := J (f / 4) (by omega) (by rw [if_neg q])
      rw [oI_p (by omega)] at this
      exact this
end
end
section
section
variable {fC fR fK fD fN fU fT fM fA oT pT rT tT cT fF : Int32} {cO rO lT iB stO srO taO clO leO tkO seO ejO pay ord sH sT sN iH iT iN ow crd cx cel bH bC ret res tur itu arr mF mT mL hB : Nat → Int32} {rM sM hM : Nat → Int64}
variable {post : SX → Prop} {N c r kk D : Nat} {st sr ds cl ln tk : Nat → Nat} {base : Nat → Int32} {K : Nat → Nat → Nat} {B : Nat → List Nat} {w : Nat → Nat} {Q : Nat → List Nat} {cr : Nat → Nat} {rt : List Nat}

theorem xw_isTail {pst : Int32 → Prop} {f s l : Nat} (hf : f < 64) (hs : stO (f / 4) = nI s) (hs4 : s < 4096) (hl : leO (f / 4) = nI l) (hl4 : l < 4096) (hsl : s = 1 ∨ 1 ≤ l)
    (h1 : s ≠ 1 ∧ f % 4 + 1 = l → pst 1) (h0 : ¬ (s ≠ 1 ∧ f % 4 + 1 = l) → pst 0) : wpX_isTail pst (fC, fR, fK, fD, fN, fU, fT, fM, fA, oT, pT, rT, tT, cT, fF, cO, rO, lT, iB, stO, srO, taO, clO, leO, tkO, seO, ejO, pay, rM, ord, sH, sT, sN, iH, iT, iN, ow, crd, cx, cel, bH, bC, ret, sM, res, tur, itu, arr, mF, mT, mL, hB, hM) (nI f) := by
  have vi := ivp (n := f / 4) (N := 16) (by omega) (by omega)
  refine nm_r (e' := nI (f / 4)) (is2 (by omega)) ⟨vi, ?_⟩
  rw [icl (by omega), hs, hl, ra_3 (by omega)]
  by_cases e : s = 1
  · subst e
    exact br_t rfl (h0 (fun h => h.1 rfl))
  · refine br_f (fun z => e ((ieq (b := 1) hs4 (by omega)).mp z)) ⟨vi, ?_⟩
    have hl1 : nI l - 1 = nI (l - 1) := pk_sub (b := 1) (by omega)
    rw [hl1]
    by_cases q : f % 4 + 1 = l
    · exact br_t (by rw [← q]; rfl) (h1 ⟨e, q⟩)
    · exact br_f (fun z => q (by have := (ieq (by omega) (by omega)).mp z; omega)) (h0 (fun h => q h.2))

theorem xw_popFront {ch n t : Nat} (hc : ch < 256) (hl : lT (ch / 2) = nI n) (hn : n < 16) (hT : fT = nI t) (ht : t < 96)
    (h : post (fC, fR, fK, fD, fN, fU, nI (t + 1), fM, fA, oT, pT, rT, tT, cT, fF, cO, rO, lT, iB, stO, srO, taO, clO, leO, tkO, seO, ejO, pay, rM, ord, sH, sT, sN, iH, iT, iN, ow, crd, cx, cel, upd bH ch ((bH ch + 1) &&& 3), upd bC ch (bC ch - 1), upd ret t (nI ch), sM, upd res n (res n - 1), tur, itu, arr, mF, mT, mL, hB, hM)) : wpX_popFront post (fC, fR, fK, fD, fN, fU, fT, fM, fA, oT, pT, rT, tT, cT, fF, cO, rO, lT, iB, stO, srO, taO, clO, leO, tkO, seO, ejO, pay, rM, ord, sH, sT, sN, iH, iT, iN, ow, crd, cx, cel, bH, bC, ret, sM, res, tur, itu, arr, mF, mT, mL, hB, hM) (nI ch) := by
  have vc := ivp (N := 256) hc (by omega)
  have vn := ivp (N := 16) hn (by omega)
  have e1 : nI ch >>> ((1 : Int32) &&& 31) = nI (ch / 2) := is1 (by omega)
  have ec : (nI ch).toNatClampNeg = ch := icl (by omega)
  have e2 : (nI (ch / 2)).toNatClampNeg = ch / 2 := icl (by omega)
  have e3 : (nI n).toNatClampNeg = n := icl (by omega)
  have e4 : (nI t).toNatClampNeg = t := icl (by omega)
  refine ⟨vc, vc, nm_r (e' := upd bH ch ((bH ch + 1) &&& 3)) (by rw [ec]) ⟨vc, vc, nm_r (e' := upd bC ch (bC ch - 1)) (by rw [ec]) ⟨?_, ?_, ?_, nm_r (e' := upd res n (res n - 1)) (by rw [e1, e2, hl, e3]) ?_⟩⟩⟩
  · rw [e1]; exact ivp (by omega) (by omega)
  · rw [e1, e2, hl]; exact vn
  · rw [e1, e2, hl]; exact vn
  · rw [hT]
    refine br_f (nI_ge (b := 96) ht (by omega)) ⟨ivp ht (by omega), nm_r (e' := upd ret t (nI ch)) (by rw [e4]) (nm_r (e' := nI (t + 1)) (nI_1 t) h)⟩

theorem xw_leaveSender {p s k : Nat} {t : List Nat} (hp : p < 16) (hs : srO p = nI s) (hk : clO p = nI k) (hl : s * 2 + k < 32) (hN : sN p = hI t.head?) (ht : ∀ a, a ∈ t → a < 16)
    (h : post (fC, fR, fK, fD, fN, fU, fT, fM, fA, oT, pT, rT, tT, cT, fF, cO, rO, lT, iB, stO, srO, taO, clO, leO, tkO, seO, ejO, pay, rM, ord, upd sH (s * 2 + k) (sN p), if t = [] then upd sT (s * 2 + k) (-1) else sT, upd sN p (-1), iH, iT, iN, ow, crd, cx, cel, bH, bC, ret, sM, res, tur, itu, arr, mF, mT, mL, hB, hM)) : wpX_leaveSender post (fC, fR, fK, fD, fN, fU, fT, fM, fA, oT, pT, rT, tT, cT, fF, cO, rO, lT, iB, stO, srO, taO, clO, leO, tkO, seO, ejO, pay, rM, ord, sH, sT, sN, iH, iT, iN, ow, crd, cx, cel, bH, bC, ret, sM, res, tur, itu, arr, mF, mT, mL, hB, hM) (nI p) := by
  have vp := ivp (N := 16) hp (by omega)
  have vl := ivp (N := 32) hl (by omega)
  have ep : (nI p).toNatClampNeg = p := icl (by omega)
  have el : (nI (s * 2 + k)).toNatClampNeg = s * 2 + k := icl (by omega)
  refine ⟨vp, vp, nm_r (e' := nI (s * 2 + k)) (by rw [ep, hs, hk, ix2]) ⟨vp, vl, nm_r (e' := upd sH (s * 2 + k) (sN p)) (by rw [ep, el]) ⟨vp, nm_r (e' := upd sN p (-1)) (by rw [ep]) ⟨vl, ?_⟩⟩⟩⟩
  rw [el, pk_us, hN]
  have hz := hI_neg ht
  by_cases e : t = []
  · rw [if_pos e, hN] at h
    refine br_f (fun z => ?_) ⟨vl, nm_e h⟩
    exact (Int32.not_lt.mpr z) (hz.mpr e)
  · rw [if_neg e, hN] at h
    exact br_t (Int32.not_lt.mp (fun z => e (hz.mp z))) h

theorem xw_pushBack {ch n l h' : Nat} {v : Int32} (hc : ch < 256) (hl : lT (ch / 2) = nI n) (hn : n < 16) (hb : bC ch = nI l) (hD : fD = nI D) (hlD : l < D) (hD4 : D < 4096) (hh : bH ch = nI h') (hh4 : h' < 4)
    (h : post (fC, fR, fK, fD, fN, fU, fT, fM, fA, oT, pT, rT, tT, cT, fF, cO, rO, lT, iB, stO, srO, taO, clO, leO, tkO, seO, ejO, pay, rM, ord, sH, sT, sN, iH, iT, iN, ow, crd, cx, upd cel (ch * 4 + (h' + l) % 4) v, bH, upd bC ch (bC ch + 1), ret, sM, upd res n (res n + 1), tur, itu, arr, mF, mT, mL, hB, hM)) : wpX_pushBack post (fC, fR, fK, fD, fN, fU, fT, fM, fA, oT, pT, rT, tT, cT, fF, cO, rO, lT, iB, stO, srO, taO, clO, leO, tkO, seO, ejO, pay, rM, ord, sH, sT, sN, iH, iT, iN, ow, crd, cx, cel, bH, bC, ret, sM, res, tur, itu, arr, mF, mT, mL, hB, hM) (nI ch) v := by
  have vc := ivp (N := 256) hc (by omega)
  have vn := ivp (N := 16) hn (by omega)
  have e1 : nI ch >>> ((1 : Int32) &&& 31) = nI (ch / 2) := is1 (by omega)
  have ec : (nI ch).toNatClampNeg = ch := icl (by omega)
  have e2 : (nI (ch / 2)).toNatClampNeg = ch / 2 := icl (by omega)
  have e3 : (nI n).toNatClampNeg = n := icl (by omega)
  have e5 : (nI (ch * 4 + (h' + l) % 4)).toNatClampNeg = ch * 4 + (h' + l) % 4 := icl (by omega)
  refine ⟨vc, br_t (by rw [ec, hb, hD]; exact nI_lt hlD (by omega)) ?_⟩
  refine ⟨vc, vc, nm_r (e' := nI ((h' + l) % 4)) (by rw [ec, hb, hh, nI_add, ra_3 (by omega)]) ⟨?_, nm_r (e' := upd cel (ch * 4 + (h' + l) % 4) v) (by rw [ix4, e5]) ⟨vc, vc, nm_r (e' := upd bC ch (bC ch + 1)) (by rw [ec]) ⟨?_, ?_, ?_, nm_r (e' := upd res n (res n + 1)) (by rw [e1, e2, hl, e3]) h⟩⟩⟩⟩
  · rw [ix4]; exact ivp (by omega) (by omega)
  · rw [e1]; exact ivp (by omega) (by omega)
  · rw [e1, e2, hl]; exact vn
  · rw [e1, e2, hl]; exact vn

theorem xw_deliver {n k f p s l : Nat} (hf : f < 64) (hp : f / 4 = p) (hn : n * 2 + k < 32) (hta : taO p = nI n) (hs : stO p = nI s) (hs4 : s < 4096) (hl : leO p = nI l) (hl4 : l < 4096) (hsl : s = 1 ∨ 1 ≤ l)
    (hej : ejO p = nI (f % 4)) (har : arr (n * 2 + k) = if f % 4 = 0 then -1 else nI p)
    (h : post (fC, fR, fK, fD, fN, fU, fT, fM, fA, oT, pT, rT, tT, cT, fF, cO, rO, lT, iB, stO, srO, taO, clO, leO, tkO, seO, upd ejO p (ejO p + 1), pay, rM, ord, sH, sT, sN, iH, iT, iN, ow, crd, cx, cel, bH, bC, ret, sM, res, tur, itu, upd arr (n * 2 + k) (if s ≠ 1 ∧ f % 4 + 1 = l then -1 else nI p), mF, mT, mL, hB, hM)) : wpX_deliver post (fC, fR, fK, fD, fN, fU, fT, fM, fA, oT, pT, rT, tT, cT, fF, cO, rO, lT, iB, stO, srO, taO, clO, leO, tkO, seO, ejO, pay, rM, ord, sH, sT, sN, iH, iT, iN, ow, crd, cx, cel, bH, bC, ret, sM, res, tur, itu, arr, mF, mT, mL, hB, hM) (nI n) (nI k) (nI f) := by
  have vi := ivp (n := p) (N := 16) (by omega) (by omega)
  have vl := ivp (N := 32) hn (by omega)
  have ep : (nI p).toNatClampNeg = p := icl (by omega)
  have el : (nI (n * 2 + k)).toNatClampNeg = n * 2 + k := icl (by omega)
  refine nm_r (e' := nI p) (by rw [is2 (by omega), hp]) (nm_r (e' := nI (f % 4)) (ra_3 (by omega)) (nm_r (e' := nI (n * 2 + k)) (ix2 n k) ⟨vi, br_t (by rw [ep, hta]) ?_⟩))
  have J85 : wX_deliver_85 post (nI f) (nI p) (nI (n * 2 + k)) fC fR fK fD fN fU fT fM fA oT pT rT tT cT fF cO rO lT iB stO srO taO clO leO tkO seO ejO pay rM ord sH sT sN iH iT iN ow crd cx cel bH bC ret sM res tur itu arr mF mT mL hB hM := by
    refine xw_isTail hf (by rw [hp]; exact hs) hs4 (by rw [hp]; exact hl) hl4 hsl (fun z => ?_) (fun z => ?_)
    · rw [if_pos z] at h
      refine br_f (by decide) ⟨vl, nm_r (e' := upd arr (n * 2 + k) (-1)) (by rw [el]) ⟨vi, vi, nm_r (e' := upd ejO p (ejO p + 1)) (by rw [ep]) h⟩⟩
    · rw [if_neg z] at h
      refine br_t rfl ⟨vl, nm_r (e' := upd arr (n * 2 + k) (nI p)) (by rw [el]) ⟨vi, vi, nm_r (e' := upd ejO p (ejO p + 1)) (by rw [ep]) h⟩⟩
  have J49 : ∀ z : Int32, arr (n * 2 + k) = z → wX_deliver_49 post (nI f) (nI p) (nI (f % 4)) (nI (n * 2 + k)) z fC fR fK fD fN fU fT fM fA oT pT rT tT cT fF cO rO lT iB stO srO taO clO leO tkO seO ejO pay rM ord sH sT sN iH iT iN ow crd cx cel bH bC ret sM res tur itu arr mF mT mL hB hM := by
    intro z hz
    exact ⟨vi, br_t (by rw [ep, hej]) ⟨vl, br_t (by rw [el]; exact hz) J85⟩⟩
  by_cases q : f % 4 = 0
  · rw [if_pos q] at har
    exact br_t (by rw [q]; rfl) (J49 _ har)
  · rw [if_neg q] at har
    exact br_f (fun z => q ((ieq (b := 0) (by omega) (by omega)).mp z)) (J49 _ har)
end
end
section
section
variable {m : Nat → Nat} {R : Nat → Nat → Nat} {K : Nat → Nat → Nat} {B : Nat → List Nat}
def sB1 (R : Nat → Nat → Nat) (B : Nat → List Nat) (p i : Nat) : Nat → List Nat := fun x => if 0 < i ∧ x = R p (i - 1) then (B x).tail else B x
theorem sB_e1 {p i : Nat} (h : i < m p) (hne : ¬ (0 < i ∧ R p i = R p (i - 1))) : (fun x => if x = R p i then sB1 R B p i (R p i) ++ [4 * p + K p i] else sB1 R B p i x) = sB m R K B p i := by
  funext x
  unfold sB sB1
  by_cases e : x = R p i
  · subst e
    rw [if_pos rfl, if_neg hne, if_pos ⟨h, rfl⟩]
  · rw [if_neg e, if_neg (c := i < m p ∧ x = R p i) (fun z => e z.2)]
theorem sB_e2 {p i : Nat} (h : ¬ i < m p) : sB1 R B p i = sB m R K B p i := by
  funext x
  unfold sB sB1
  rw [if_neg (c := i < m p ∧ x = R p i) (fun z => h z.1)]
end
section
variable {fC fR fK fD fN fU fT fM fA oT pT rT tT cT fF : Int32} {cO rO lT iB stO srO taO clO leO tkO seO ejO pay ord sH sT sN iH iT iN ow crd cx cel bH bC ret res tur itu arr mF mT mL hB : Nat → Int32} {rM sM hM : Nat → Int64}
variable {post : SX → Prop} {N c r kk D : Nat} {st sr ds cl ln tk : Nat → Nat} {base : Nat → Int32} {K : Nat → Nat → Nat} {B : Nat → List Nat} {w : Nat → Nat} {Q : Nat → List Nat} {cr : Nat → Nat} {rt : List Nat}

/-- behind the leaving of the old place -/
def zR1 (c : Nat) (st sr ds cl ln : Nat → Nat) (K : Nat → Nat → Nat) (B : Nat → List Nat) (Q : Nat → List Nat) (rt : List Nat) (p i : Nat) (fT : Int32) (seO sH sT sN cel bH bC ret res : Nat → Int32) : Prop :=
  rBuf (sB1 (gR c sr ds cl) B p i) cel bH bC ∧ rRes c (sB1 (gR c sr ds cl) B p i) res ∧ rL 32 (sQ st ln (gl sr cl) K Q p i) sH sT sN ∧
  (fT = nI (sR (gR c sr ds cl) rt p i).length ∧ (sR (gR c sr ds cl) rt p i).length ≤ 96 ∧ ∀ j, j < (sR (gR c sr ds cl) rt p i).length → ret j = nI ((sR (gR c sr ds cl) rt p i).getD j 0) ∧ (sR (gR c sr ds cl) rt p i).getD j 0 < 256 ∧ (sR (gR c sr ds cl) rt p i).getD j 0 / 2 % 8 ≠ 4) ∧
  ∀ q, Lv st q → seO q = nI (sK K p i q 0)

theorem xw_cross62 (W : gW c r sr ds cl) (geo : ∀ id, id < 128 → lT id = if gOk c r id = true then nI (gLd c id) else -1) (hD : fD = nI D) (hD3 : D ≤ 3)
    (P : xPk c r kk st sr ds cl ln tk stO srO taO clO leO tkO) {seO0 sH0 sT0 sN0 bH0 bC0 ret0 res0 : Nat → Int32} {fT0 : Int32}
    (M : zM c D st sr ds cl ln base K B w Q cr rt fT0 seO0 ejO sH0 sT0 sN0 ow crd cx cel bH0 bC0 ret0 res0 arr) {p i : Nat} (V : zVm (gm c sr ds) (gR c sr ds cl) st ln (gl sr cl) K B w Q cr p i)
    (H1 : zR1 c st sr ds cl ln K B Q rt p i fT seO sH sT sN cel bH bC ret res)
    (k : ∀ (fT' : Int32) (seO' ejO' sH' sT' sN' ow' crd' cx' cel' bH' bC' ret' res' arr' : Nat → Int32), zM c D st sr ds cl ln base (sK K p i) (sB (gm c sr ds) (gR c sr ds cl) K B p i) (sW (gR c sr ds cl) st ln K w p i) (sQ st ln (gl sr cl) K Q p i) (sC (gm c sr ds) (gR c sr ds cl) cr p i) (sR (gR c sr ds cl) rt p i) fT' seO' ejO' sH' sT' sN' ow' crd' cx' cel' bH' bC' ret' res' arr' → post (fC, fR, fK, fD, fN, fU, fT', fM, fA, oT, pT, rT, tT, cT, fF, cO, rO, lT, iB, stO, srO, taO, clO, leO, tkO, seO', ejO', pay, rM, ord, sH', sT', sN', iH, iT, iN, ow', crd', cx', cel', bH', bC', ret', sM, res', tur, itu, arr', mF, mT, mL, hB, hM))
    {z0 : Int32} (hz : z0 = if st p = 2 ∧ K p i + 1 = ln p then -1 else nI p) :
    wX_cross_62 post (nI (gR c sr ds cl p i)) (nI (4 * p + K p i)) z0 (nI (gR c sr ds cl p i)) fC fR fK fD fN fU fT fM fA oT pT rT tT cT fF cO rO lT iB stO srO taO clO leO tkO seO ejO pay rM ord sH sT sN iH iT iN ow crd cx cel bH bC ret sM res tur itu arr mF mT mL hB hM := by
  have G := gr_of (st := st) W
  have hiv := zs_iv G M.1 V
  obtain ⟨I, _, _, mcx, _, _, mow, mcr, mse, mar, m4⟩ := M
  obtain ⟨h1b, h1r, h1q, h1t, h1s⟩ := H1
  have V0 := V
  obtain ⟨hl, hi, hk, _, hb, hw, hc⟩ := V
  have hp := hl.1
  obtain ⟨p1, p2, p3, p4, p5, p6, p7, p8, p9, p10, p11, p12, p13, p14, p15⟩ := P p hp
  obtain ⟨W1, W2⟩ := W
  obtain ⟨w1, w2, w3⟩ := W2 p hp
  have h16 := (gs_le W1).2
  obtain ⟨g1, g2⟩ := G.2.1 p i hl hi
  have hm7 := (G.1 p hl).2
  have hm1 := (G.1 p hl).1
  have hk4 := (I.1 p hl).1
  have hR2 : gR c sr ds cl p i % 2 = cl p := by unfold gR; omega
  generalize hch : gR c sr ds cl p i = ch at *
  have ef4 : (4 * p + K p i) / 4 = p := by omega
  have ef3 : (4 * p + K p i) % 4 = K p i := by omega
  have vch := ivp (N := 256) g1 (by omega)
  have ech : (nI ch).toNatClampNeg = ch := icl (by omega)
  have hz' : z0 = oI (if st p = 2 ∧ K p i + 1 = ln p then 16 else p) := by
    rw [hz]
    by_cases q : st p = 2 ∧ K p i + 1 = ln p
    · rw [if_pos q, if_pos q]; rfl
    · rw [if_neg q, if_neg q, oI_p hp]
  have fow : ∀ x, x < 256 → upd ow ch z0 x = oI (sW (gR c sr ds cl) st ln K w p i x) := by
    intro x hx
    unfold sW
    rw [hch]
    by_cases e : x = ch
    · subst e; rw [pk_us, if_pos rfl]; exact hz'
    · rw [pk_un e, if_neg e]; exact mow x hx
  have fcx : rCx (gm c sr ds) (gR c sr ds cl) st (sK K p i) base (upd cx ch (cx ch + 1)) := by
    have := rCx_step mcx hl hi hm7
    rw [hch] at this; exact this
  have f4 : ∀ q j, q < 16 → j < 8 → sK K p i q j ≤ 4 := by
    intro q j hq hj
    by_cases e : q = p ∧ j = i
    · obtain ⟨rfl, rfl⟩ := e
      rw [sK_s]; omega
    · rw [sK_n e]; exact m4 q j hq hj
  refine ⟨vch, nm_r (e' := upd ow ch z0) (by rw [ech]) ⟨vch, vch, nm_r (e' := upd cx ch (cx ch + 1)) (by rw [ech]) (nm_r (e' := nI (ch / 2)) (is1 (by omega)) ?_)⟩⟩
  rw [ia7 (by omega)]
  by_cases ej : i = gm c sr ds p
  · have e4 : ch / 2 % 8 = 4 := g2.mpr ej
    have ech2 : ch = (ds p * 8 + 4) * 2 + cl p := by rw [← hch, ej]; exact gR_e ⟨W1, W2⟩ hp
    have e8 : ch / 2 / 8 = ds p := by omega
    refine br_t (by rw [e4]; rfl) ?_
    rw [is3 (by omega), e8, ia1 (by omega), hR2]
    have hlane : ds p * 2 + cl p < 32 := by omega
    have ear : arr (ds p * 2 + cl p) = oI (w ch) := by
      rw [mar _ hlane]
      have e1 : (ds p * 2 + cl p) / 2 = ds p := by omega
      have e2 : (ds p * 2 + cl p) % 2 = cl p := by omega
      rw [e1, e2, ← ech2]
    have hzz : (if st p ≠ 1 ∧ (4 * p + K p i) % 4 + 1 = ln p then -1 else nI p) = z0 := by
      rw [hz, ef3]
      by_cases q : st p = 2 ∧ K p i + 1 = ln p
      · rw [if_pos q, if_pos ⟨by omega, q.2⟩]
      · rw [if_neg q, if_neg]
        intro z
        rcases hl.2 with y | y
        · exact z.1 y
        · exact q ⟨y, z.2⟩
    refine xw_deliver (p := p) (s := st p) (l := ln p) (by omega) ef4 hlane p3 p1 (by omega) p5 (by omega) (by rcases hl.2 with y | y; exact .inl y; exact .inr (p10 (by omega))) ?_ ?_ ?_
    · rw [ef3, (mse p hl).2, ← ej]
    · rw [ear, hw, ef3]
      by_cases q : K p i = 0
      · rw [if_pos q, if_pos q]; rfl
      · rw [if_neg q, if_neg q, oI_p hp]
    · rw [hzz]
      refine k fT seO (upd ejO p (ejO p + 1)) sH sT sN (upd ow ch z0) crd (upd cx ch (cx ch + 1)) cel bH bC ret res (upd arr (ds p * 2 + cl p) z0) ⟨hiv, ?_, ?_, fcx, h1q, h1t, fow, ?_, ?_, ?_, f4⟩
      · rw [← sB_e2 (by omega)]; exact h1b
      · rw [← sB_e2 (by omega)]; exact h1r
      · intro x hx
        unfold sC
        rw [if_neg (fun z => by omega)]
        exact mcr x hx
      · intro q hq
        refine ⟨h1s q hq, ?_⟩
        by_cases e : q = p
        · subst e
          rw [pk_us, (mse q hq).2, nI_1, ← ej, sK_s]
        · rw [pk_un e, (mse q hq).2, sK_n (fun z => e z.1)]
      · intro l hl32
        unfold sW
        rw [hch]
        by_cases e : l = ds p * 2 + cl p
        · subst e
          have e1 : (ds p * 2 + cl p) / 2 = ds p := by omega
          have e2 : (ds p * 2 + cl p) % 2 = cl p := by omega
          rw [pk_us, e1, e2, ← ech2, if_pos rfl]; exact hz'
        · rw [pk_un e, if_neg (by omega)]; exact mar l hl32
  · have him : i < gm c sr ds p := by omega
    have e4 : ch / 2 % 8 ≠ 4 := fun z => ej (g2.mp z)
    refine br_f (fun z => e4 ((ieq (b := 4) (by omega) (by omega)).mp z)) ⟨vch, vch, nm_r (e' := upd crd ch (crd ch - 1)) (by rw [ech]) ?_⟩
    obtain ⟨x1, x2, x3, x4, x5, x6, x7, x8, x9⟩ := gR_nx (r := r) ⟨W1, W2⟩ hp him
    rw [hch] at x1 x2 x3 x4 x5 x6 x7 x8 x9
    have hgeo := geo (ch / 2) x2
    rw [if_pos x4] at hgeo
    have hc' : 0 < cr ch := hc.resolve_left ej
    have hcr := I.2.2.2.2.2.2.1 ch g1 e4
    have hne : ¬ (0 < i ∧ gR c sr ds cl p i = gR c sr ds cl p (i - 1)) := by
      rintro ⟨a, b⟩
      have := zg_inj G hl hi (by omega) b; omega
    have hB1 : sB1 (gR c sr ds cl) B p i ch = B ch := by
      unfold sB1
      rw [if_neg]
      intro z
      exact hne ⟨z.1, by rw [hch]; exact z.2⟩
    obtain ⟨b1, b2, h', b3, b4, b5⟩ := h1b ch g1
    rw [hB1] at b1 b2 b5
    refine xw_pushBack (n := gLd c (ch / 2)) (l := (B ch).length) (h' := h') g1 hgeo (by omega) b2 hD (by omega) (by omega) b4 b3 ?_
    refine k fT seO ejO sH sT sN (upd ow ch z0) (upd crd ch (crd ch - 1)) (upd cx ch (cx ch + 1)) (upd cel (ch * 4 + (h' + (B ch).length) % 4) (nI (4 * p + K p i))) bH (upd bC ch (bC ch + 1)) ret (upd res (gLd c (ch / 2)) (res (gLd c (ch / 2)) + 1)) arr ⟨hiv, ?_, ?_, fcx, h1q, h1t, fow, ?_, ?_, ?_, f4⟩
    · have := rBuf_push (f := 4 * p + K p i) h1b g1 (by rw [hB1]; omega) b3 b4
      rw [hB1] at this
      rw [← sB_e1 him hne, hch, hB1]
      exact this
    · have := rRes_push (f := 4 * p + K p i) h1r g1 rfl
      rw [hB1] at this
      rw [← sB_e1 him hne, hch, hB1]
      exact this
    · intro x hx
      unfold sC
      rw [hch]
      by_cases e : x = ch
      · subst e
        rw [pk_us, if_pos ⟨him, rfl⟩, mcr x hx]
        exact pk_sub (b := 1) (by omega)
      · rw [pk_un e, if_neg (fun z => e z.2)]; exact mcr x hx
    · intro q hq
      refine ⟨h1s q hq, ?_⟩
      rw [(mse q hq).2, sK_n]
      rintro ⟨rfl, z⟩
      omega
    · intro l hl32
      unfold sW
      rw [hch, if_neg (by omega)]
      exact mar l hl32

theorem xw_cross (W : gW c r sr ds cl) (geo : ∀ id, id < 128 → lT id = if gOk c r id = true then nI (gLd c id) else -1) (hD : fD = nI D) (hD3 : D ≤ 3)
    (P : xPk c r kk st sr ds cl ln tk stO srO taO clO leO tkO)
    (M : zM c D st sr ds cl ln base K B w Q cr rt fT seO ejO sH sT sN ow crd cx cel bH bC ret res arr) {p i : Nat} (V : zVm (gm c sr ds) (gR c sr ds cl) st ln (gl sr cl) K B w Q cr p i) (hrt : rt.length < 96)
    (k : ∀ (fT' : Int32) (seO' ejO' sH' sT' sN' ow' crd' cx' cel' bH' bC' ret' res' arr' : Nat → Int32), zM c D st sr ds cl ln base (sK K p i) (sB (gm c sr ds) (gR c sr ds cl) K B p i) (sW (gR c sr ds cl) st ln K w p i) (sQ st ln (gl sr cl) K Q p i) (sC (gm c sr ds) (gR c sr ds cl) cr p i) (sR (gR c sr ds cl) rt p i) fT' seO' ejO' sH' sT' sN' ow' crd' cx' cel' bH' bC' ret' res' arr' → post (fC, fR, fK, fD, fN, fU, fT', fM, fA, oT, pT, rT, tT, cT, fF, cO, rO, lT, iB, stO, srO, taO, clO, leO, tkO, seO', ejO', pay, rM, ord, sH', sT', sN', iH, iT, iN, ow', crd', cx', cel', bH', bC', ret', sM, res', tur, itu, arr', mF, mT, mL, hB, hM)) :
    wpX_cross post (fC, fR, fK, fD, fN, fU, fT, fM, fA, oT, pT, rT, tT, cT, fF, cO, rO, lT, iB, stO, srO, taO, clO, leO, tkO, seO, ejO, pay, rM, ord, sH, sT, sN, iH, iT, iN, ow, crd, cx, cel, bH, bC, ret, sM, res, tur, itu, arr, mF, mT, mL, hB, hM) (if i = 0 then -1 else nI (gR c sr ds cl p (i - 1))) (nI (gR c sr ds cl p i)) (nI (4 * p + K p i)) := by
  have G := gr_of (st := st) W
  have M0 := M
  obtain ⟨I, mbu, mre, mcx, mq, mrt, mow, mcr, mse, mar, m4⟩ := M
  have V0 := V
  obtain ⟨hl, hi, hk, hq, hb, hw, hc⟩ := V
  have hp := hl.1
  obtain ⟨p1, p2, p3, p4, p5, p6, p7, p8, p9, p10, p11, p12, p13, p14, p15⟩ := P p hp
  obtain ⟨w1, w2, w3⟩ := W.2 p hp
  have h16 := (gs_le W.1).2
  have hk4 := (I.1 p hl).1
  have ef4 : (4 * p + K p i) / 4 = p := by omega
  have ef3 : (4 * p + K p i) % 4 = K p i := by omega
  have vp := ivp (N := 16) hp (by omega)
  have ep : (nI p).toNatClampNeg = p := icl (by omega)
  have J46 : ∀ (rr : Int32), (rr = 1 ∧ (st p = 2 ∧ K p i + 1 = ln p)) ∨ (rr = 0 ∧ ¬ (st p = 2 ∧ K p i + 1 = ln p)) →
      ∀ (fT' : Int32) (seO' sH' sT' sN' bH' bC' ret' res' : Nat → Int32), zR1 c st sr ds cl ln K B Q rt p i fT' seO' sH' sT' sN' cel bH' bC' ret' res' →
      wX_cross_46 post (nI (gR c sr ds cl p i)) (nI (4 * p + K p i)) (nI p) rr fC fR fK fD fN fU fT' fM fA oT pT rT tT cT fF cO rO lT iB stO srO taO clO leO tkO seO' ejO pay rM ord sH' sT' sN' iH iT iN ow crd cx cel bH' bC' ret' sM res' tur itu arr mF mT mL hB hM := by
    intro rr hr fT' seO' sH' sT' sN' bH' bC' ret' res' H1
    rcases hr with ⟨rfl, T⟩ | ⟨rfl, T⟩
    · exact br_f (by decide) (xw_cross62 W geo hD hD3 P M0 V0 H1 k (by rw [if_pos T]))
    · exact br_t rfl (xw_cross62 W geo hD hD3 P M0 V0 H1 k (by rw [if_neg T]))
  have LV : ∀ (rr : Int32), (rr = 1 ∧ (st p = 2 ∧ K p i + 1 = ln p)) ∨ (rr = 0 ∧ ¬ (st p = 2 ∧ K p i + 1 = ln p)) →
      (((if i = 0 then -1 else nI (gR c sr ds cl p (i - 1))) < 0 → (vp_in (nI p) 16 ∧ (vp_in (nI p) 16 ∧ ∀ a_sent_59 : Nat → Int32, a_sent_59 = upd seO (nI p).toNatClampNeg ((seO (nI p).toNatClampNeg) + 1) →
        (((rr = 0 → (wX_cross_46 post (nI (gR c sr ds cl p i)) (nI (4 * p + K p i)) (nI p) rr fC fR fK fD fN fU fT fM fA oT pT rT tT cT fF cO rO lT iB stO srO taO clO leO tkO a_sent_59 ejO pay rM ord sH sT sN iH iT iN ow crd cx cel bH bC ret sM res tur itu arr mF mT mL hB hM)) ∧ (¬ rr = 0 → (wpX_leaveSender (fun u => match u with | (fC, fR, fK, fD, fN, fU, fT, fM, fA, oT, pT, rT, tT, cT, fF, cO, rO, lT, iB, stO, srO, taO, clO, leO, tkO, seO, ejO, pay, rM, ord, sH, sT, sN, iH, iT, iN, ow, crd, cx, cel, bH, bC, ret, sM, res, tur, itu, arr, mF, mT, mL, hB, hM) => (wX_cross_46 post (nI (gR c sr ds cl p i)) (nI (4 * p + K p i)) (nI p) rr fC fR fK fD fN fU fT fM fA oT pT rT tT cT fF cO rO lT iB stO srO taO clO leO tkO seO ejO pay rM ord sH sT sN iH iT iN ow crd cx cel bH bC ret sM res tur itu arr mF mT mL hB hM)) (fC, fR, fK, fD, fN, fU, fT, fM, fA, oT, pT, rT, tT, cT, fF, cO, rO, lT, iB, stO, srO, taO, clO, leO, tkO, a_sent_59, ejO, pay, rM, ord, sH, sT, sN, iH, iT, iN, ow, crd, cx, cel, bH, bC, ret, sM, res, tur, itu, arr, mF, mT, mL, hB, hM) (nI p))))))) ) ∧
      (¬ (if i = 0 then -1 else nI (gR c sr ds cl p (i - 1))) < 0 → (wpX_popFront (fun u => match u with | (fC, fR, fK, fD, fN, fU, fT, fM, fA, oT, pT, rT, tT, cT, fF, cO, rO, lT, iB, stO, srO, taO, clO, leO, tkO, seO, ejO, pay, rM, ord, sH, sT, sN, iH, iT, iN, ow, crd, cx, cel, bH, bC, ret, sM, res, tur, itu, arr, mF, mT, mL, hB, hM) => (wX_cross_46 post (nI (gR c sr ds cl p i)) (nI (4 * p + K p i)) (nI p) rr fC fR fK fD fN fU fT fM fA oT pT rT tT cT fF cO rO lT iB stO srO taO clO leO tkO seO ejO pay rM ord sH sT sN iH iT iN ow crd cx cel bH bC ret sM res tur itu arr mF mT mL hB hM)) (fC, fR, fK, fD, fN, fU, fT, fM, fA, oT, pT, rT, tT, cT, fF, cO, rO, lT, iB, stO, srO, taO, clO, leO, tkO, seO, ejO, pay, rM, ord, sH, sT, sN, iH, iT, iN, ow, crd, cx, cel, bH, bC, ret, sM, res, tur, itu, arr, mF, mT, mL, hB, hM) (if i = 0 then -1 else nI (gR c sr ds cl p (i - 1)))))) := by
    intro rr hr
    by_cases i0 : i = 0
    · subst i0
      have eB1 : sB1 (gR c sr ds cl) B p 0 = B := by
        funext x; unfold sB1; rw [if_neg (by omega)]
      have eR : sR (gR c sr ds cl) rt p 0 = rt := by unfold sR; rw [if_neg (by omega)]
      have hse : ∀ q, Lv st q → upd seO p (seO p + 1) q = nI (sK K p 0 q 0) := by
        intro q hq2
        by_cases e : q = p
        · rw [e, pk_us, (mse p hl).1, nI_1, sK_s]
        · rw [pk_un e, (mse q hq2).1, sK_n (fun z => e z.1)]
      refine br_t (by rw [if_pos rfl]; decide) ⟨vp, vp, nm_r (e' := upd seO p (seO p + 1)) (by rw [ep]) ?_⟩
      rcases hr with ⟨rfl, T⟩ | ⟨rfl, T⟩
      · refine br_f (by decide) ?_
        obtain ⟨t, ht⟩ : ∃ t, Q (gl sr cl p) = p :: t := by
          have := hq rfl
          cases hx : Q (gl sr cl p) with
          | nil => rw [hx] at this; simp at this
          | cons a t => rw [hx] at this; simp at this; exact ⟨t, by rw [this]⟩
        have hlane : gl sr cl p < 32 := by unfold gl; omega
        obtain ⟨qn, qm, qt⟩ := I.2.2.2.2.2.2.2 (gl sr cl p)
        have hLC := (mq _ hlane).2.2
        rw [ht] at hLC
        refine xw_leaveSender (s := sr p) (k := cl p) (t := t) hp p2 p4 hlane hLC.1 ?_ ?_
        · intro a ha
          exact ((qm a).mp (by rw [ht]; simp [ha])).1.1
        · refine J46 1 (.inl ⟨rfl, T⟩) _ _ _ _ _ _ _ _ _ ⟨by rw [eB1]; exact mbu, by rw [eB1]; exact mre, ?_, by rw [eR]; exact mrt, hse⟩
          have hpop := rL_pop mq ht qn (by
            intro l hl32 hne hin
            have := ((I.2.2.2.2.2.2.2 l).2.1 p).mp hin
            exact hne this.2.1.symm)
          have eQ : sQ st ln (gl sr cl) K Q p 0 = fun l => if l = gl sr cl p then t else Q l := by
            funext l
            unfold sQ
            by_cases e : l = gl sr cl p
            · subst e; rw [if_pos ⟨rfl, T.1, T.2, rfl⟩, if_pos rfl, ht, List.tail_cons]
            · rw [if_neg (fun z => e z.2.2.2), if_neg e]
          rw [eQ]; exact hpop
      · refine br_t rfl (J46 0 (.inr ⟨rfl, T⟩) _ _ _ _ _ _ _ _ _ ⟨by rw [eB1]; exact mbu, by rw [eB1]; exact mre, ?_, by rw [eR]; exact mrt, hse⟩)
        have eQ : sQ st ln (gl sr cl) K Q p 0 = Q := by
          funext l
          unfold sQ
          rw [if_neg (fun z => T ⟨z.2.1, z.2.2.1⟩)]
        rw [eQ]; exact mq
    · obtain ⟨j, rfl⟩ : ∃ j, i = j + 1 := ⟨i - 1, by omega⟩
      have ej : j + 1 - 1 = j := by omega
      rw [if_neg i0, ej]
      obtain ⟨x1, x2, x3, x4, x5, x6, x7, x8, x9⟩ := gR_nx W hp (show j < gm c sr ds p by omega)
      obtain ⟨g1, g2⟩ := G.2.1 p j hl (by omega)
      have hgeo := geo _ x2
      rw [if_pos x4] at hgeo
      obtain ⟨t, ht⟩ : ∃ t, B (gR c sr ds cl p j) = (4 * p + K p (j + 1)) :: t := by
        have := hb j rfl
        cases hx : B (gR c sr ds cl p j) with
        | nil => rw [hx] at this; simp at this
        | cons a t => rw [hx] at this; simp at this; exact ⟨t, by rw [this]⟩
      have eB1 : sB1 (gR c sr ds cl) B p (j + 1) = fun x => if x = gR c sr ds cl p j then t else B x := by
        funext x
        unfold sB1
        rw [ej]
        by_cases e : x = gR c sr ds cl p j
        · subst e; rw [if_pos ⟨by omega, rfl⟩, if_pos rfl, ht, List.tail_cons]
        · rw [if_neg (fun z => e z.2), if_neg e]
      have eR : sR (gR c sr ds cl) rt p (j + 1) = rt ++ [gR c sr ds cl p j] := by unfold sR; rw [if_pos (by omega), ej]
      have eQ : sQ st ln (gl sr cl) K Q p (j + 1) = Q := by
        funext l
        unfold sQ
        rw [if_neg (fun z => by omega)]
      refine br_f (nI_pos (by omega)) (xw_popFront (n := gLd c (gR c sr ds cl p j / 2)) (t := rt.length) g1 hgeo (by omega) mrt.1 hrt ?_)
      refine J46 rr hr _ _ _ _ _ _ _ _ _ ⟨by rw [eB1]; exact rBuf_pop mbu g1 ht, by rw [eB1]; exact rRes_pop mre g1 ht rfl, by rw [eQ]; exact mq, ?_, ?_⟩
      · rw [eR]
        refine ⟨by simp, by simp; omega, ?_⟩
        intro a ha
        simp only [List.length_append, List.length_singleton] at ha
        by_cases e : a = rt.length
        · subst e
          rw [pk_us]
          have : (rt ++ [gR c sr ds cl p j]).getD rt.length 0 = gR c sr ds cl p j := by simp
          rw [this]
          exact ⟨rfl, g1, x8⟩
        · have hlt : a < rt.length := by omega
          have : (rt ++ [gR c sr ds cl p j]).getD a 0 = rt.getD a 0 := by
            simp [List.getD_eq_getElem?_getD, List.getElem?_append_left hlt]
          rw [pk_un e, this]
          exact mrt.2.2 a hlt
      · intro q hq
        rw [(mse q hq).1, sK_n (by omega)]
  refine nm_r (e' := nI p) (by rw [is2 (by omega), ef4]) (xw_isTail (s := st p) (l := ln p) (by omega) (by rw [ef4]; exact p1) (by omega) (by rw [ef4]; exact p5) (by omega) (by rcases hl.2 with y | y; exact .inl y; exact .inr (p10 (by omega))) (fun z => ?_) (fun z => ?_))
  · refine LV 1 (.inl ⟨rfl, ?_⟩)
    rw [ef3] at z
    rcases hl.2 with y | y
    · exact absurd y z.1
    · exact ⟨y, z.2⟩
  · refine LV 0 (.inr ⟨rfl, fun T => z ⟨by omega, by rw [ef3]; exact T.2⟩⟩)
end
end
section
/-! bits of the used ports -/
def pc5 (u : Nat) : Nat := u % 2 + u / 2 % 2 + u / 4 % 2 + u / 8 % 2 + u / 16 % 2
theorem bf_all : ∀ u, u < 32 → ∀ o, o < 5 → ((decide ((nI u &&& ((1 : Int32) <<< (nI o &&& 31))) = 0) == decide (u / 2 ^ o % 2 = 0)) &&
    (decide (u / 2 ^ o % 2 = 1) || (decide ((nI u ||| ((1 : Int32) <<< (nI o &&& 31))) = nI (u + 2 ^ o)) && decide (u + 2 ^ o < 32) && decide (pc5 (u + 2 ^ o) = pc5 u + 1) &&
      (List.range 5).all (fun x => decide ((u + 2 ^ o) / 2 ^ x % 2 = if x = o then 1 else u / 2 ^ x % 2))))) = true := by decide +kernel
theorem bf_0 {u o : Nat} (hu : u < 32) (ho : o < 5) : (nI u &&& ((1 : Int32) <<< (nI o &&& 31))) = 0 ↔ u / 2 ^ o % 2 = 0 := by
  have h := bf_all u hu o ho
  simp only [Bool.and_eq_true, beq_iff_eq, decide_eq_decide] at h
  exact h.1
theorem bf_1 {u o : Nat} (hu : u < 32) (ho : o < 5) (hb : u / 2 ^ o % 2 = 0) : (nI u ||| ((1 : Int32) <<< (nI o &&& 31))) = nI (u + 2 ^ o) ∧ u + 2 ^ o < 32 ∧ pc5 (u + 2 ^ o) = pc5 u + 1 ∧ ∀ x, x < 5 → (u + 2 ^ o) / 2 ^ x % 2 = if x = o then 1 else u / 2 ^ x % 2 := by
  have h := bf_all u hu o ho
  simp only [Bool.and_eq_true, Bool.or_eq_true, decide_eq_true_eq, List.all_eq_true, List.mem_range] at h
  rcases h.2 with e | e
  · omega
  · exact ⟨e.1.1.1, e.1.1.2, e.1.2, e.2⟩
theorem pc5_le (u : Nat) : pc5 u ≤ 5 := by unfold pc5; omega

/-! the crossings granted so far -/
section
variable {R : Nat → Nat → Nat} {K : Nat → Nat → Nat} {mv : List (Nat × Nat)} {fM : Int32} {mF mT mL : Nat → Int32}
def zMv (R K : Nat → Nat → Nat) (mv : List (Nat × Nat)) (fM : Int32) (mF mT mL : Nat → Int32) : Prop :=
  fM = nI mv.length ∧ ∀ j p i, mv[j]? = some (p, i) → mF j = (if i = 0 then -1 else nI (R p (i - 1))) ∧ mT j = nI (R p i) ∧ mL j = nI (4 * p + K p i)
theorem zMv_0 : zMv R K [] 0 mF mT mL := ⟨rfl, fun j p i h => by simp at h⟩
theorem zMv_push (H : zMv R K mv fM mF mT mL) {p i : Nat} {a b d : Int32} (ha : a = if i = 0 then -1 else nI (R p (i - 1))) (hb : b = nI (R p i)) (hd : d = nI (4 * p + K p i)) :
    zMv R K (mv ++ [(p, i)]) (nI (mv.length + 1)) (upd mF mv.length a) (upd mT mv.length b) (upd mL mv.length d) := by
  refine ⟨by simp, ?_⟩
  intro j q l h
  rcases Nat.lt_trichotomy j mv.length with c | c | c
  · rw [List.getElem?_append_left c] at h
    rw [pk_un (by omega), pk_un (by omega), pk_un (by omega)]
    exact H.2 j q l h
  · subst c
    rw [List.getElem?_append_right (by omega), Nat.sub_self] at h
    simp at h
    obtain ⟨rfl, rfl⟩ := h
    rw [pk_us, pk_us, pk_us]
    exact ⟨ha, hb, hd⟩
  · rw [List.getElem?_append_right (by omega)] at h
    obtain ⟨d, hd⟩ : ∃ d, j - mv.length = d + 1 := ⟨j - mv.length - 1, by omega⟩
    rw [hd] at h; simp at h
end

section
variable {fC fR fK fD fN fU fT fM fA oT pT rT tT cT fF : Int32} {cO rO lT iB stO srO taO clO leO tkO seO ejO pay ord sH sT sN iH iT iN ow crd cx cel bH bC ret res tur itu arr mF mT mL hB : Nat → Int32} {rM sM hM : Nat → Int64}
variable {N c r kk D : Nat} {st sr ds cl ln tk : Nat → Nat} {base : Nat → Int32} {K : Nat → Nat → Nat} {B : Nat → List Nat} {w : Nat → Nat} {Q : Nat → List Nat} {cr : Nat → Nat} {rt : List Nat}

theorem xw_grant {post : SX → Prop} {M : Nat} {a b d : Int32} (eqM : fM = nI M) (h96 : M < 96) (h : post (fC, fR, fK, fD, fN, fU, fT, nI (M + 1), fA, oT, pT, rT, tT, cT, fF, cO, rO, lT, iB, stO, srO, taO, clO, leO, tkO, seO, ejO, pay, rM, ord, sH, sT, sN, iH, iT, iN, ow, crd, cx, cel, bH, bC, ret, sM, res, tur, itu, arr, upd mF M a, upd mT M b, upd mL M d, hB, hM)) : wpX_grant post (fC, fR, fK, fD, fN, fU, fT, fM, fA, oT, pT, rT, tT, cT, fF, cO, rO, lT, iB, stO, srO, taO, clO, leO, tkO, seO, ejO, pay, rM, ord, sH, sT, sN, iH, iT, iN, ow, crd, cx, cel, bH, bC, ret, sM, res, tur, itu, arr, mF, mT, mL, hB, hM) a b d := by
  have vM := ivp (N := 96) h96 (by omega)
  have eM : (nI M).toNatClampNeg = M := icl (by omega)
  subst eqM
  refine br_f (nI_ge (b := 96) h96 (by omega)) ⟨vM, nm_r (e' := upd mF M a) (by rw [eM]) ⟨vM, nm_r (e' := upd mT M b) (by rw [eM]) ⟨vM, nm_r (e' := upd mL M d) (by rw [eM]) (nm_r (e' := nI (M + 1)) (nI_1 M) h)⟩⟩⟩

theorem xw_readyPort_0 {post : Int32 → Prop} {ch : Nat} {n : Int32} (hc : ch < 256) (hb : bC ch = 0) (h : post (-1)) : wpX_readyPort post (fC, fR, fK, fD, fN, fU, fT, fM, fA, oT, pT, rT, tT, cT, fF, cO, rO, lT, iB, stO, srO, taO, clO, leO, tkO, seO, ejO, pay, rM, ord, sH, sT, sN, iH, iT, iN, ow, crd, cx, cel, bH, bC, ret, sM, res, tur, itu, arr, mF, mT, mL, hB, hM) n (nI ch) := by
  refine ⟨ivp hc (by omega), br_t ?_ h⟩
  rw [icl (by omega)]; exact hb
theorem xw_readyPort_1 {post : Int32 → Prop} {ch n l f h' d wv cv k : Nat} (X : xGeo c r kk D fC fR fK fD fN cO rO lT iB) (hc : ch < 256) (hb : bC ch = nI l) (hl0 : 0 < l) (hl4 : l < 4096) (hh : bH ch = nI h') (hh4 : h' < 4) (hcel : cel (ch * 4 + h') = nI f) (hf : f < 64)
    (hn : n < c * r) (hd : d < c * r) (ht : taO (f / 4) = nI d) (hk : ch % 2 = k) (hw : ow ((n * 8 + gNp c n d k) * 2 + k) = oI wv) (hw6 : wv ≤ 16) (ho : gNp c n d k ≤ 4) (hcr : (n * 8 + gNp c n d k) % 8 ≠ 4 → crd ((n * 8 + gNp c n d k) * 2 + k) = nI cv ∧ cv < 4096)
    (h1 : xC sM f (n * 8 + gNp c n d k) wv cv → post (nI (gNp c n d k))) (h0 : ¬ xC sM f (n * 8 + gNp c n d k) wv cv → post (-1)) : wpX_readyPort post (fC, fR, fK, fD, fN, fU, fT, fM, fA, oT, pT, rT, tT, cT, fF, cO, rO, lT, iB, stO, srO, taO, clO, leO, tkO, seO, ejO, pay, rM, ord, sH, sT, sN, iH, iT, iN, ow, crd, cx, cel, bH, bC, ret, sM, res, tur, itu, arr, mF, mT, mL, hB, hM) (nI n) (nI ch) := by
  obtain ⟨S, _, _, _, _, _, _, _, _, _, Xc, _, _⟩ := X
  have h16 := (gs_le S).2
  have vc := ivp (N := 256) hc (by omega)
  have ec : (nI ch).toNatClampNeg = ch := icl (by omega)
  have ex : (nI (ch * 4 + h')).toNatClampNeg = ch * 4 + h' := icl (by omega)
  obtain ⟨s1, s2, s3, s4⟩ := S
  have hrow : ∀ x, x < c * r → x / c < 4 := by
    intro x hx
    have : x / c < r := (Nat.div_lt_iff_lt_mul (by omega)).mpr (by rw [Nat.mul_comm]; exact hx)
    omega
  refine ⟨vc, br_f (by rw [ec, hb]; exact nI_ne0 hl0 (by omega)) ⟨vc, ?_, nm_r (e' := nI f) (by rw [ec, hh, ix4, ex, hcel]) (nm_r (e' := nI k) (by rw [ia1 (by omega), hk]) ⟨?_, ?_⟩)⟩⟩
  · rw [ec, hh, ix4]; exact ivp (by omega) (by omega)
  · rw [is2 (by omega)]; exact ivp (by omega) (by omega)
  · rw [is2 (by omega), icl (n := f / 4) (by omega), ht]
    refine xw_nextPort (by omega) (by omega) (by omega) s1 s2 ⟨hrow n hn, hrow d hd⟩ (Xc n hn).1 (Xc d hd).1 (Xc n hn).2 (Xc d hd).2 ?_
    rw [ix8]
    refine xw_canCross hf (by omega) (by omega) hw hw6 hcr (fun z => br_f (by decide) (h1 z)) (fun z => br_t rfl (h0 z))
end
end
section
/-! one router grants -/
def laneOf (ch : Nat) : Nat := (if ch / 2 % 8 = 5 then 4 else ch / 2 % 8) * 2 + ch % 2
section
variable {fC fR fK fD fN fU fT fM fA oT pT rT tT cT fF : Int32} {cO rO lT iB stO srO taO clO leO tkO seO ejO pay ord sH sT sN iH iT iN ow crd cx cel bH bC ret res tur itu arr mF mT mL hB : Nat → Int32} {rM sM hM : Nat → Int64}
variable {N c r kk D : Nat} {st sr ds cl ln tk : Nat → Nat} {base : Nat → Int32} {K : Nat → Nat → Nat} {B : Nat → List Nat} {w : Nat → Nat} {Q : Nat → List Nat} {cr : Nat → Nat} {rt : List Nat}

/-- in the router of node n, behind i lanes from turn t on -/
def zAr (sM : Nat → Int64) (c : Nat) (st sr ds cl ln : Nat → Nat) (K : Nat → Nat → Nat) (B : Nat → List Nat) (w : Nat → Nat) (Q : Nat → List Nat) (cr : Nat → Nat) (n t i ui uo : Nat) (mv : List (Nat × Nat)) (fM fA : Int32) (mF mT mL : Nat → Int32) : Prop :=
  zMv (gR c sr ds cl) K mv fM mF mT mL ∧ mv.length ≤ 6 * n + pc5 uo ∧ ui < 32 ∧ uo < 32 ∧
  (∀ x, x ∈ mv → zVm (gm c sr ds) (gR c sr ds cl) st ln (gl sr cl) K B w Q cr x.1 x.2 ∧ (gR c sr ds cl x.1 x.2 / 16 < n ∨ (gR c sr ds cl x.1 x.2 / 16 = n ∧ gR c sr ds cl x.1 x.2 / 2 % 8 < 5 ∧ uo / 2 ^ (gR c sr ds cl x.1 x.2 / 2 % 8) % 2 = 1))) ∧
  mv.Pairwise (fun x y => gR c sr ds cl x.1 x.2 ≠ gR c sr ds cl y.1 y.2) ∧
  (mv = [] → fA = 0 ∧ ui = 0 ∧ uo = 0 ∧ (∀ p j, zVm (gm c sr ds) (gR c sr ds cl) st ln (gl sr cl) K B w Q cr p j → gR c sr ds cl p j / 16 < n → bL sM 0 (gR c sr ds cl p j / 2) = true) ∧
    ∀ k, k < i → ∀ p j, zVm (gm c sr ds) (gR c sr ds cl) st ln (gl sr cl) K B w Q cr p (j + 1) → gR c sr ds cl p (j + 1) / 16 = n → laneOf (gR c sr ds cl p j) = (t + k) % 10 → bL sM 0 (gR c sr ds cl p (j + 1) / 2) = true)

/-- one lane: nothing to grant -/
theorem zAr_no {n t i ui uo : Nat} {mv : List (Nat × Nat)} (A : zAr sM c st sr ds cl ln K B w Q cr n t i ui uo mv fM fA mF mT mL)
    (h : ∀ p j, zVm (gm c sr ds) (gR c sr ds cl) st ln (gl sr cl) K B w Q cr p (j + 1) → gR c sr ds cl p (j + 1) / 16 = n → laneOf (gR c sr ds cl p j) = (t + i) % 10 → bL sM 0 (gR c sr ds cl p (j + 1) / 2) = true) :
    zAr sM c st sr ds cl ln K B w Q cr n t (i + 1) ui uo mv fM fA mF mT mL := by
  obtain ⟨a1, a2, a3, a4, a5, a6, a7⟩ := A
  refine ⟨a1, a2, a3, a4, a5, a6, fun e => ?_⟩
  obtain ⟨b1, b2, b3, b4, b5⟩ := a7 e
  refine ⟨b1, b2, b3, b4, ?_⟩
  intro k hk
  by_cases ek : k = i
  · subst ek; exact h
  · exact b5 k (by omega)
theorem zAr_busy {n t i ui uo : Nat} {mv : List (Nat × Nat)} {fA2 : Int32} (A : zAr sM c st sr ds cl ln K B w Q cr n t i ui uo mv fM fA mF mT mL) (h : mv ≠ []) :
    zAr sM c st sr ds cl ln K B w Q cr n t (i + 1) ui uo mv fM fA2 mF mT mL := by
  obtain ⟨a1, a2, a3, a4, a5, a6, a7⟩ := A
  exact ⟨a1, a2, a3, a4, a5, a6, fun e => absurd e h⟩

/-- the first flit of a buffer that feeds node n -/
theorem zl_front (W : gW c r sr ds cl) (I : zIv (gm c sr ds) (gR c sr ds cl) st ln (gl sr cl) K B w Q cr rt D) {ch f n : Nat} {t : List Nat} (hb : B ch = f :: t) (hn : gLd c (ch / 2) = n) :
    ∃ q j, q < 16 ∧ f / 4 = q ∧ Lv st q ∧ j < gm c sr ds q ∧ gR c sr ds cl q j = ch ∧ f % 4 = K q (j + 1) ∧ f = 4 * q + K q (j + 1) ∧ K q (j + 1) < ln q ∧ ch % 2 = cl q ∧
      gR c sr ds cl q (j + 1) = (n * 8 + gNp c n (ds q) (cl q)) * 2 + cl q ∧ gNp c n (ds q) (cl q) ≤ 4 ∧ n < c * r := by
  obtain ⟨hl, j, h1, h2, h3, h4⟩ := zg_front I (show (B ch).head? = some f by rw [hb]; rfl)
  obtain ⟨x1, x2, x3, x4, x5, x6, x7, x8, x9⟩ := gR_nx W hl.1 h1
  rw [h2, hn] at x5 x6 x3
  rw [h2] at x1
  have := zm_le I hl j (by omega)
  exact ⟨f / 4, j, hl.1, rfl, hl, h1, h2, h3, by omega, by omega, x1, x5, x6, x3⟩

/-- what can cross out of lane l at node n stands in the buffer that feeds the lane -/
theorem zl_lane (W : gW c r sr ds cl) {p j n l : Nat} (V : zVm (gm c sr ds) (gR c sr ds cl) st ln (gl sr cl) K B w Q cr p (j + 1)) (hn : gR c sr ds cl p (j + 1) / 16 = n) (hl : laneOf (gR c sr ds cl p j) = l) :
    gIn c r (n * 5 + l / 2) * 2 + l % 2 = gR c sr ds cl p j ∧ gIn c r (n * 5 + l / 2) < 128 ∧ (B (gR c sr ds cl p j)).head? = some (4 * p + K p (j + 1)) := by
  obtain ⟨hv, hi, hk, _, hb, _⟩ := V
  obtain ⟨x1, x2, x3, x4, x5, x6, x7, x8, x9⟩ := gR_nx W hv.1 (show j < gm c sr ds p by omega)
  have w3 := (W.2 p hv.1).2.2
  have en : gLd c (gR c sr ds cl p j / 2) = n := by
    rw [x5] at hn; omega
  unfold laneOf at hl
  rw [en] at x7
  have e2 : l / 2 = (if gR c sr ds cl p j / 2 % 8 = 5 then 4 else gR c sr ds cl p j / 2 % 8) := by omega
  rw [e2, x7]
  exact ⟨by omega, x2, hb j rfl⟩

theorem xw_ar51 {post : SX → Prop} {J : Int32 → Int32 → Int32 → Int32 → Int32 → Int32 → Int32 → Int32 → Int32 → Int32 → Int32 → Int32 → Int32 → Int32 → Int32 → Int32 → Int32 → Int32 → Int32 → Int32 → (Nat → Int32) → (Nat → Int32) → (Nat → Int32) → (Nat → Int32) → (Nat → Int32) → (Nat → Int32) → (Nat → Int32) → (Nat → Int32) → (Nat → Int32) → (Nat → Int32) → (Nat → Int32) → (Nat → Int32) → (Nat → Int32) → (Nat → Int64) → (Nat → Int32) → (Nat → Int32) → (Nat → Int32) → (Nat → Int32) → (Nat → Int32) → (Nat → Int32) → (Nat → Int32) → (Nat → Int32) → (Nat → Int32) → (Nat → Int32) → (Nat → Int32) → (Nat → Int32) → (Nat → Int32) → (Nat → Int32) → (Nat → Int64) → (Nat → Int32) → (Nat → Int32) → (Nat → Int32) → (Nat → Int32) → (Nat → Int32) → (Nat → Int32) → (Nat → Int32) → (Nat → Int32) → (Nat → Int64) → Prop} (X : xGeo c r kk D fC fR fK fD fN cO rO lT iB) (P : xPk c r kk st sr ds cl ln tk stO srO taO clO leO tkO)
    (M : zM c D st sr ds cl ln base K B w Q cr rt fT seO ejO sH sT sN ow crd cx cel bH bC ret res arr) {n t i l ui uo : Nat} {mv : List (Nat × Nat)} {x5 z0 : Int32}
    (A : zAr sM c st sr ds cl ln K B w Q cr n t i ui uo mv fM fA mF mT mL) (hn : n < c * r) (hl : l = (t + i) % 10)
    (hJ : ∀ (ui' uo' : Nat) (mv' : List (Nat × Nat)) (y5 : Int32) (fM' fA' : Int32) (mF' mT' mL' : Nat → Int32), zAr sM c st sr ds cl ln K B w Q cr n t (i + 1) ui' uo' mv' fM' fA' mF' mT' mL' → (y5 = x5 ∨ y5 = z0) → J (nI ui') (nI uo') z0 y5 (nI (i + 1)) fC fR fK fD fN fU fT fM' fA' oT pT rT tT cT fF cO rO lT iB stO srO taO clO leO tkO seO ejO pay rM ord sH sT sN iH iT iN ow crd cx cel bH bC ret sM res tur itu arr mF' mT' mL' hB hM) :
    wX_allocateRouter_51 post J (nI n) (nI ui) (nI uo) (nI l) x5 (nI i) z0 fC fR fK fD fN fU fT fM fA oT pT rT tT cT fF cO rO lT iB stO srO taO clO leO tkO seO ejO pay rM ord sH sT sN iH iT iN ow crd cx cel bH bC ret sM res tur itu arr mF mT mL hB hM := by
  have X0 := X
  obtain ⟨S, k1, k2, D1, D3, _, _, _, _, _, Xc, Xl, Xi⟩ := X
  have W : gW c r sr ds cl := ⟨S, fun p hp => by have := P p hp; exact ⟨this.2.2.2.2.2.2.2.2.2.2.1, this.2.2.2.2.2.2.2.2.2.2.2.1, by have := this.2.2.2.2.2.2.2.2.2.2.2.2.1; omega⟩⟩
  have G := gr_of (st := st) W
  have h16 := (gs_le S).2
  obtain ⟨I, mbu, mre, mcx, mq, mrt, mow, mcr, mse, mar, m4⟩ := M
  have hl10 : l < 10 := by omega
  have vi := ivp (n := n * 5 + l / 2) (N := 80) (by omega) (by omega)
  have ei : (nI (n * 5 + l / 2)).toNatClampNeg = n * 5 + l / 2 := icl (by omega)
  refine nm_r (e' := nI (l / 2)) (is1 (by omega)) (nm_r (e' := nI (l % 2)) (ia1 (by omega)) ⟨by rw [ix5]; exact vi, nm_r (e' := if gIn c r (n * 5 + l / 2) = 999 then -1 else nI (gIn c r (n * 5 + l / 2))) (by rw [ix5, ei, Xi _ (by omega)]) ?_⟩)
  have NO : ∀ v10 : Int32, (∀ p j, zVm (gm c sr ds) (gR c sr ds cl) st ln (gl sr cl) K B w Q cr p (j + 1) → gR c sr ds cl p (j + 1) / 16 = n → laneOf (gR c sr ds cl p j) = (t + i) % 10 → bL sM 0 (gR c sr ds cl p (j + 1) / 2) = true) →
      wX_allocateRouter_99 post J (nI n) (nI ui) (nI uo) x5 (nI i) z0 (nI (l / 2)) (nI (l % 2)) v10 (-1) fC fR fK fD fN fU fT fM fA oT pT rT tT cT fF cO rO lT iB stO srO taO clO leO tkO seO ejO pay rM ord sH sT sN iH iT iN ow crd cx cel bH bC ret sM res tur itu arr mF mT mL hB hM := by
    intro v10 h
    exact br_t (by decide) (nm_r (e' := nI (i + 1)) (nI_1 i) (hJ ui uo mv x5 _ _ _ _ _ (zAr_no A h) (.inl rfl)))
  by_cases e9 : gIn c r (n * 5 + l / 2) = 999
  · rw [if_pos e9]
    refine br_f (by decide) (NO _ ?_)
    intro p j V hnn hll
    have := zl_lane W V hnn (hll.trans hl.symm)
    omega
  · rw [if_neg e9]
    obtain ⟨s1, s2, s3, s4⟩ := S
    obtain ⟨y1, y2, y3, y4⟩ := ge_in c (by omega) r (by omega) s1 s3 (n * 5 + l / 2) (by omega) e9
    have e5 : (n * 5 + l / 2) / 5 = n := by omega
    rw [e5] at y2
    have e10 : gIn c r (n * 5 + l / 2) * 2 + l % 2 < 256 := by omega
    generalize hfe : gIn c r (n * 5 + l / 2) = fe at *
    have ec2 : (fe * 2 + l % 2) / 2 = fe := by omega
    refine br_t (nI_pos' (by omega)) ?_
    rw [ix2]
    obtain ⟨b1, b2, h', b3, b4, b5⟩ := mbu (fe * 2 + l % 2) e10
    cases hbq : B (fe * 2 + l % 2) with
    | nil =>
      rw [hbq] at b2
      refine xw_readyPort_0 e10 b2 (NO _ ?_)
      intro p j V hnn hll
      obtain ⟨z1, z2, z3⟩ := zl_lane W V hnn (hll.trans hl.symm)
      rw [hfe] at z1
      rw [← z1, hbq] at z3
      simp at z3
    | cons f tl =>
      rw [hbq] at b1 b2 b5
      obtain ⟨q, j, q1, q2, q3, q4, q5, q6, q7, q8, q9, q10, q11, q12⟩ := zl_front (n := n) W I hbq (by rw [ec2]; exact y2)
      obtain ⟨p1, p2, p3, p4, p5, p6, p7, p8, p9, p10, p11, p12, p13, p14, p15⟩ := P q q1
      have hid : gR c sr ds cl q (j + 1) / 2 = n * 8 + gNp c n (ds q) (cl q) := by rw [q10]; omega
      obtain ⟨r1, r2⟩ := G.2.1 q (j + 1) q3 (by omega)
      rw [hid] at r2
      have hcel := b5 0 (by simp)
      have e0 : (h' + 0) % 4 = h' := by omega
      rw [e0] at hcel
      have hcel : cel ((fe * 2 + l % 2) * 4 + h') = nI f := hcel
      have hcb : ∀ x, x < 256 → x / 2 % 8 ≠ 4 → cr x ≤ 3 := fun x hx hx4 => by have := I.2.2.2.2.2.2.1 x hx hx4; omega
      refine xw_readyPort_1 (c := c) (r := r) (l := tl.length + 1) (d := ds q) (wv := w (gR c sr ds cl q (j + 1))) (cv := cr (gR c sr ds cl q (j + 1))) X0 e10 b2 (by omega) (by simp at b1; omega) b4 b3 hcel (by omega) hn p12 (by rw [q2]; exact p3) q9 (by rw [← q10]; exact mow _ r1) (I.2.2.2.2.2.1 _).1 q11 ?_ ?_ ?_
      · intro h4
        rw [← q10]
        exact ⟨mcr _ r1, by have := hcb _ r1 (by rw [hid]; exact h4); omega⟩
      · intro C
        obtain ⟨C1, C2, C3⟩ := C
        have V : zVm (gm c sr ds) (gR c sr ds cl) st ln (gl sr cl) K B w Q cr q (j + 1) := by
          refine ⟨q3, by omega, q8, by omega, ?_, ?_, ?_⟩
          · intro j' hj'
            have : j' = j := by omega
            subst this
            rw [q5, hbq, q7]; rfl
          · rw [C2, q6, q2]
          · rcases C3 with C3 | C3
            · exact .inl (r2.mp C3)
            · exact .inr C3
        have A0 := A
        obtain ⟨a1, a2, a3, a4, a5, a6, a7⟩ := A
        have hu2 : l / 2 < 5 := by omega
        have ho5 : gNp c n (ds q) (cl q) < 5 := by omega
        refine br_f (nI_pos (by omega)) (nm_e (nm_e (nm_e ?_)))
        by_cases bi : ui / 2 ^ (l / 2) % 2 = 0
        · refine br_t ((bf_0 a3 hu2).mpr bi) ?_
          by_cases bo : uo / 2 ^ (gNp c n (ds q) (cl q)) % 2 = 0
          · refine br_t ((bf_0 a4 ho5).mpr bo) ?_
            obtain ⟨u1, u2, u3, u4⟩ := bf_1 a3 hu2 bi
            obtain ⟨o1, o2, o3, o4⟩ := bf_1 a4 ho5 bo
            have h5 := pc5_le (uo + 2 ^ (gNp c n (ds q) (cl q)))
            have key : ∀ y5 : Int32, (y5 = x5 ∨ y5 = z0) → wX_allocateRouter_150 post J (nI n) (nI ui) (nI uo) y5 (nI i) z0 (nI (l % 2)) (nI fe) (nI (gNp c n (ds q) (cl q))) ((1 : Int32) <<< (nI (l / 2) &&& 31)) ((1 : Int32) <<< (nI (gNp c n (ds q) (cl q)) &&& 31)) fC fR fK fD fN fU fT fM (fA + 1) oT pT rT tT cT fF cO rO lT iB stO srO taO clO leO tkO seO ejO pay rM ord sH sT sN iH iT iN ow crd cx cel bH bC ret sM res tur itu arr mF mT mL hB hM := by
              intro y5 hy
              refine nm_r u1 (nm_r o1 (nm_r (ix2 fe (l % 2)) ⟨ivp e10 (by omega), ?_, ?_⟩))
              · rw [icl (by omega), b4, ix4]; exact ivp (by omega) (by omega)
              · rw [icl (by omega), b4, ix4, icl (by omega), hcel, ix8, ix2]
                refine xw_grant (M := mv.length) a1.1 (by omega) (nm_r (nI_1 i) (hJ (ui + 2 ^ (l / 2)) (uo + 2 ^ (gNp c n (ds q) (cl q))) (mv ++ [(q, j + 1)]) y5 _ _ _ _ _ ?_ hy))
                have qe : l % 2 = cl q := by omega
                refine ⟨zMv_push a1 ?_ ?_ ?_, ?_, u2, o2, ?_, ?_, ?_⟩
                · rw [if_neg (by omega)]
                  have e1 : j + 1 - 1 = j := by omega
                  rw [e1, q5]
                · rw [q10, qe]
                · rw [← q7]
                · simp; omega
                · intro x hx
                  rw [List.mem_append, List.mem_singleton] at hx
                  rcases hx with hx | hx
                  · obtain ⟨v1, v2⟩ := a5 x hx
                    refine ⟨v1, ?_⟩
                    rcases v2 with v2 | ⟨v2, v3, v4⟩
                    · exact .inl v2
                    · refine .inr ⟨v2, v3, ?_⟩
                      rw [o4 _ v3]
                      split
                      · rfl
                      · exact v4
                  · subst hx
                    refine ⟨V, .inr ?_⟩
                    dsimp only
                    have hp8 : gR c sr ds cl q (j + 1) / 2 % 8 = gNp c n (ds q) (cl q) := by rw [hid]; omega
                    rw [hp8]
                    refine ⟨by rw [q10]; omega, by omega, ?_⟩
                    rw [o4 _ (by omega), if_pos rfl]
                · rw [List.pairwise_append]
                  refine ⟨a6, List.pairwise_singleton _ _, ?_⟩
                  intro x hx y hy
                  rw [List.mem_singleton] at hy
                  subst hy
                  dsimp only
                  intro he
                  have hp8 : gR c sr ds cl q (j + 1) / 2 % 8 = gNp c n (ds q) (cl q) := by rw [hid]; omega
                  have hp16 : gR c sr ds cl q (j + 1) / 16 = n := by rw [q10]; omega
                  rcases (a5 x hx).2 with v2 | ⟨v2, v3, v4⟩
                  · rw [he] at v2; omega
                  · rw [he, hp8] at v4; omega
                · intro e; simp at e
            by_cases z : ui = 0
            · subst z
              exact br_t rfl (key _ (.inr rfl))
            · exact br_f (nI_ne0 (by omega) (by omega)) (key _ (.inl rfl))
          · refine br_f (fun z => bo ((bf_0 a4 ho5).mp z)) (nm_r (nI_1 i) (hJ ui uo mv x5 _ _ _ _ _ (zAr_busy A0 ?_) (.inl rfl)))
            intro e
            have := (a7 e).2.2.1
            subst this
            simp at bo
        · refine br_f (fun z => bi ((bf_0 a3 hu2).mp z)) (nm_r (nI_1 i) (hJ ui uo mv x5 _ _ _ _ _ (zAr_busy A0 ?_) (.inl rfl)))
          intro e
          have := (a7 e).2.1
          subst this
          simp at bi
      · intro C
        refine NO _ ?_
        intro p j' V hnn hll
        obtain ⟨z1, z2, z3⟩ := zl_lane W V hnn (hll.trans hl.symm)
        rw [hfe] at z1
        rw [← z1, hbq] at z3
        have z3 : f = 4 * p + K p (j' + 1) := by simpa using z3
        obtain ⟨hv, hi, hk, _, hb, hw, hc⟩ := V
        have hk4 := (I.1 p hv).1
        have ep : p = q := by omega
        subst ep
        have ejj := zg_inj G q3 (show j' ≤ gm c sr ds p by omega) (by omega) (z1.symm.trans q5.symm)
        subst ejj
        rw [hid]
        by_cases bb : bL sM 0 (n * 8 + gNp c n (ds p) (cl p)) = true
        · exact bb
        · exfalso
          refine C ⟨by simpa using bb, ?_, ?_⟩
          · rw [hw, q6, q2]
          · rcases hc with hc | hc
            · exact .inl (r2.mpr hc)
            · exact .inr hc
end
end
section
/-! one node grants: its router, its sender -/
section
variable {fC fR fK fD fN fU fT fM fA oT pT rT tT cT fF : Int32} {cO rO lT iB stO srO taO clO leO tkO seO ejO pay ord sH sT sN iH iT iN ow crd cx cel bH bC ret res tur itu arr mF mT mL hB : Nat → Int32} {rM sM hM : Nat → Int64}
variable {N c r kk D : Nat} {st sr ds cl ln tk : Nat → Nat} {base : Nat → Int32} {K : Nat → Nat → Nat} {B : Nat → List Nat} {w : Nat → Nat} {Q : Nat → List Nat} {cr : Nat → Nat} {rt : List Nat}

def xTu (tur itu : Nat → Int32) : Prop := (∀ n, n < 16 → ∃ t, t < 10 ∧ tur n = nI t) ∧ ∀ n, n < 16 → ∃ b, b < 2 ∧ itu n = nI b

/-- ahead of node n -/
def zAn (sM : Nat → Int64) (c : Nat) (st sr ds cl ln : Nat → Nat) (K : Nat → Nat → Nat) (B : Nat → List Nat) (w : Nat → Nat) (Q : Nat → List Nat) (cr : Nat → Nat) (n : Nat) (mv : List (Nat × Nat)) (fM fA : Int32) (mF mT mL : Nat → Int32) : Prop :=
  zMv (gR c sr ds cl) K mv fM mF mT mL ∧ mv.length ≤ 6 * n ∧
  (∀ x, x ∈ mv → zVm (gm c sr ds) (gR c sr ds cl) st ln (gl sr cl) K B w Q cr x.1 x.2 ∧ gR c sr ds cl x.1 x.2 / 16 < n) ∧
  mv.Pairwise (fun x y => gR c sr ds cl x.1 x.2 ≠ gR c sr ds cl y.1 y.2) ∧
  (mv = [] → fA = 0 ∧ ∀ p j, zVm (gm c sr ds) (gR c sr ds cl) st ln (gl sr cl) K B w Q cr p j → gR c sr ds cl p j / 16 < n → bL sM 0 (gR c sr ds cl p j / 2) = true)

/-- in node n: behind its router, and behind i classes of its sender, g grants there -/
def zAm (sM : Nat → Int64) (c : Nat) (st sr ds cl ln : Nat → Nat) (K : Nat → Nat → Nat) (B : Nat → List Nat) (w : Nat → Nat) (Q : Nat → List Nat) (cr : Nat → Nat) (n b i g : Nat) (mv : List (Nat × Nat)) (fM fA : Int32) (mF mT mL : Nat → Int32) : Prop :=
  zMv (gR c sr ds cl) K mv fM mF mT mL ∧ mv.length ≤ 6 * n + 5 + g ∧
  (∀ x, x ∈ mv → zVm (gm c sr ds) (gR c sr ds cl) st ln (gl sr cl) K B w Q cr x.1 x.2 ∧ (gR c sr ds cl x.1 x.2 / 16 < n ∨ (gR c sr ds cl x.1 x.2 / 16 = n ∧ (gR c sr ds cl x.1 x.2 / 2 % 8 < 5 ∨ g = 1)))) ∧
  mv.Pairwise (fun x y => gR c sr ds cl x.1 x.2 ≠ gR c sr ds cl y.1 y.2) ∧
  (mv = [] → fA = 0 ∧ g = 0 ∧ (∀ p j, zVm (gm c sr ds) (gR c sr ds cl) st ln (gl sr cl) K B w Q cr p j → gR c sr ds cl p j / 16 < n → bL sM 0 (gR c sr ds cl p j / 2) = true) ∧
    (∀ p j, zVm (gm c sr ds) (gR c sr ds cl) st ln (gl sr cl) K B w Q cr p (j + 1) → gR c sr ds cl p (j + 1) / 16 = n → bL sM 0 (gR c sr ds cl p (j + 1) / 2) = true) ∧
    ∀ p, zVm (gm c sr ds) (gR c sr ds cl) st ln (gl sr cl) K B w Q cr p 0 → gR c sr ds cl p 0 / 16 = n → ((1 ≤ i ∧ cl p = b) ∨ (2 ≤ i ∧ cl p = 1 - b)) → bL sM 0 (gR c sr ds cl p 0 / 2) = true)

theorem xGW (X : xGeo c r kk D fC fR fK fD fN cO rO lT iB) (P : xPk c r kk st sr ds cl ln tk stO srO taO clO leO tkO) : gW c r sr ds cl :=
  ⟨X.1, fun p hp => by have := P p hp; exact ⟨this.2.2.2.2.2.2.2.2.2.2.1, this.2.2.2.2.2.2.2.2.2.2.2.1, by have := this.2.2.2.2.2.2.2.2.2.2.2.2.1; have := X.2.2.1; omega⟩⟩

theorem xw_ar29 {post : SX → Prop} (X : xGeo c r kk D fC fR fK fD fN cO rO lT iB) (P : xPk c r kk st sr ds cl ln tk stO srO taO clO leO tkO)
    (M : zM c D st sr ds cl ln base K B w Q cr rt fT seO ejO sH sT sN ow crd cx cel bH bC ret res arr) {n t : Nat} (hn : n < c * r) (ht : t < 10)
    (hp : ∀ (nt ui uo : Nat) (mv : List (Nat × Nat)) (fM' fA' : Int32) (mF' mT' mL' : Nat → Int32), nt < 10 → zAr sM c st sr ds cl ln K B w Q cr n t 10 ui uo mv fM' fA' mF' mT' mL' → post (fC, fR, fK, fD, fN, fU, fT, fM', fA', oT, pT, rT, tT, cT, fF, cO, rO, lT, iB, stO, srO, taO, clO, leO, tkO, seO, ejO, pay, rM, ord, sH, sT, sN, iH, iT, iN, ow, crd, cx, cel, bH, bC, ret, sM, res, upd tur n (nI nt), itu, arr, mF', mT', mL', hB, hM)) :
    ∀ (fu i l ui uo nt : Nat) (mv : List (Nat × Nat)) (fM' fA' : Int32) (mF' mT' mL' : Nat → Int32), l = (t + i) % 10 → i ≤ 10 → 10 - i < fu → nt < 10 → zAr sM c st sr ds cl ln K B w Q cr n t i ui uo mv fM' fA' mF' mT' mL' →
      wX_allocateRouter_29 post (nI n) fu (nI ui) (nI uo) (nI l) (nI nt) (nI i) fC fR fK fD fN fU fT fM' fA' oT pT rT tT cT fF cO rO lT iB stO srO taO clO leO tkO seO ejO pay rM ord sH sT sN iH iT iN ow crd cx cel bH bC ret sM res tur itu arr mF' mT' mL' hB hM := by
  have h16 := (gs_le X.1).2
  intro fu
  induction fu with
  | zero => intro i l ui uo nt mv fM' fA' mF' mT' mL' hl h1 h2; omega
  | succ fu ih =>
    intro i l ui uo nt mv fM' fA' mF' mT' mL' hl h1 h2 h3 A
    subst hl
    by_cases e : i = 10
    · subst e
      refine br_t (by decide) ⟨ivp (by omega) (by omega), nm_r (e' := upd tur n (nI nt)) (by rw [icl (by omega)]) (hp nt ui uo mv _ _ _ _ _ h3 A)⟩
    · refine br_f (nI_ge (b := 10) (by omega) (by omega)) ?_
      have step : ∀ z0 : Int32, z0 = nI ((t + (i + 1)) % 10) → wX_allocateRouter_51 post (wX_allocateRouter_29 post (nI n) fu) (nI n) (nI ui) (nI uo) (nI ((t + i) % 10)) (nI nt) (nI i) z0 fC fR fK fD fN fU fT fM' fA' oT pT rT tT cT fF cO rO lT iB stO srO taO clO leO tkO seO ejO pay rM ord sH sT sN iH iT iN ow crd cx cel bH bC ret sM res tur itu arr mF' mT' mL' hB hM := by
        intro z0 hz
        refine xw_ar51 X P M A hn rfl ?_
        intro ui' uo' mv' y5 fM2 fA2 mF2 mT2 mL2 A' hy
        rw [hz]
        rcases hy with hy | hy
        · rw [hy]; exact ih (i + 1) _ ui' uo' nt mv' _ _ _ _ _ rfl (by omega) (by omega) h3 A'
        · rw [hy, hz]; exact ih (i + 1) _ ui' uo' _ mv' _ _ _ _ _ rfl (by omega) (by omega) (by omega) A'
      by_cases e9 : (t + i) % 10 = 9
      · refine br_t (by rw [e9]; rfl) (step 0 ?_)
        have : (t + (i + 1)) % 10 = 0 := by omega
        rw [this]; rfl
      · refine br_f (fun z => e9 ((ieq (b := 9) (by omega) (by omega)).mp z)) (step _ ?_)
        rw [nI_1]
        congr 1; omega

theorem xw_allocateRouter {post : SX → Prop} (X : xGeo c r kk D fC fR fK fD fN cO rO lT iB) (P : xPk c r kk st sr ds cl ln tk stO srO taO clO leO tkO)
    (M : zM c D st sr ds cl ln base K B w Q cr rt fT seO ejO sH sT sN ow crd cx cel bH bC ret res arr) (T : xTu tur itu) {n : Nat} {mv : List (Nat × Nat)} (hn : n < c * r) (A : zAn sM c st sr ds cl ln K B w Q cr n mv fM fA mF mT mL)
    (hp : ∀ (mv : List (Nat × Nat)) (fM' fA' : Int32) (tur' mF' mT' mL' : Nat → Int32), xTu tur' itu → (∀ b, zAm sM c st sr ds cl ln K B w Q cr n b 0 0 mv fM' fA' mF' mT' mL') → post (fC, fR, fK, fD, fN, fU, fT, fM', fA', oT, pT, rT, tT, cT, fF, cO, rO, lT, iB, stO, srO, taO, clO, leO, tkO, seO, ejO, pay, rM, ord, sH, sT, sN, iH, iT, iN, ow, crd, cx, cel, bH, bC, ret, sM, res, tur', itu, arr, mF', mT', mL', hB, hM)) : wpX_allocateRouter post (fC, fR, fK, fD, fN, fU, fT, fM, fA, oT, pT, rT, tT, cT, fF, cO, rO, lT, iB, stO, srO, taO, clO, leO, tkO, seO, ejO, pay, rM, ord, sH, sT, sN, iH, iT, iN, ow, crd, cx, cel, bH, bC, ret, sM, res, tur, itu, arr, mF, mT, mL, hB, hM) (nI n) := by
  have W := xGW X P
  have h16 := (gs_le X.1).2
  have vn := ivp (n := n) (N := 16) (by omega) (by omega)
  have en : (nI n).toNatClampNeg = n := icl (by omega)
  obtain ⟨a1, a2, a3, a4, a5⟩ := A
  refine ⟨vn, ?_⟩
  rw [en]
  refine br_c (fun z => ?_) (fun z => ⟨vn, ?_⟩)
  · refine hp mv fM fA tur mF mT mL T (fun b => ⟨a1, by omega, fun x hx => ⟨(a3 x hx).1, .inl (a3 x hx).2⟩, a4, fun e => ?_⟩)
    obtain ⟨b1, b2⟩ := a5 e
    refine ⟨b1, rfl, b2, ?_, fun p _ _ h => by omega⟩
    intro p j V hnn
    obtain ⟨hv, hi, hk, _, hb, _⟩ := V
    obtain ⟨x1, x2, x3, x4, x5, x6, x7, x8, x9⟩ := gR_nx W hv.1 (show j < gm c sr ds p by omega)
    have w3 := (W.2 p hv.1).2.2
    have en : gLd c (gR c sr ds cl p j / 2) = n := by rw [x5] at hnn; omega
    have := rRes_0 M.2.2.1 (by omega) z (fun x hx => (M.2.1 x hx).1) (show gR c sr ds cl p j < 256 by omega) en
    have hb := hb j rfl
    rw [this] at hb
    simp at hb
  · obtain ⟨t, ht, et⟩ := T.1 n (by omega)
    refine nm_r (e' := nI t) et ⟨11, ?_⟩
    refine xw_ar29 (post := post) X P M hn ht ?_ 11 0 t 0 0 t mv fM fA mF mT mL (by omega) (by omega) (by omega) ht ⟨a1, by omega, by omega, by omega, fun x hx => ⟨(a3 x hx).1, .inl (a3 x hx).2⟩, a4, fun e => ⟨(a5 e).1, rfl, rfl, (a5 e).2, fun k hk => by omega⟩⟩
    · intro nt ui uo mv2 fM2 fA2 mF2 mT2 mL2 hnt A2
      obtain ⟨c1, c2, c3, c4, c5, c6, c7⟩ := A2
      have h5 := pc5_le uo
      refine hp mv2 fM2 fA2 (upd tur n (nI nt)) mF2 mT2 mL2 ⟨?_, T.2⟩ (fun b => ⟨c1, by omega, ?_, c6, ?_⟩)
      · intro x hx
        by_cases e : x = n
        · subst e; exact ⟨nt, hnt, pk_us⟩
        · rw [pk_un e]; exact T.1 x hx
      · intro x hx
        obtain ⟨v1, v2⟩ := c5 x hx
        refine ⟨v1, ?_⟩
        rcases v2 with v2 | v2
        · exact .inl v2
        · exact .inr ⟨v2.1, .inl v2.2.1⟩
      · intro e
        obtain ⟨d1, d2, d3, d4, d5⟩ := c7 e
        refine ⟨d1, rfl, d4, ?_, fun p _ _ h => by omega⟩
        intro p j V hnn
        obtain ⟨x1, x2, x3, x4, x5, x6, x7, x8, x9⟩ := gR_nx W V.1.1 (show j < gm c sr ds p by have := V.2.1; omega)
        have hl10 : laneOf (gR c sr ds cl p j) < 10 := by unfold laneOf; split <;> omega
        exact d5 ((laneOf (gR c sr ds cl p j) + 10 - t) % 10) (by omega) p j V hnn (by omega)

theorem xw_as20 {post : SX → Prop} (X : xGeo c r kk D fC fR fK fD fN cO rO lT iB) (P : xPk c r kk st sr ds cl ln tk stO srO taO clO leO tkO)
    (M : zM c D st sr ds cl ln base K B w Q cr rt fT seO ejO sH sT sN ow crd cx cel bH bC ret res arr) {n b : Nat} (hn : n < c * r) (hb : b < 2)
    (hp : ∀ (g : Nat) (mv : List (Nat × Nat)) (fM' fA' : Int32) (itu' mF' mT' mL' : Nat → Int32), g ≤ 1 → (∀ n, n < 16 → ∃ b, b < 2 ∧ itu' n = nI b) → zAm sM c st sr ds cl ln K B w Q cr n b 2 g mv fM' fA' mF' mT' mL' → post (fC, fR, fK, fD, fN, fU, fT, fM', fA', oT, pT, rT, tT, cT, fF, cO, rO, lT, iB, stO, srO, taO, clO, leO, tkO, seO, ejO, pay, rM, ord, sH, sT, sN, iH, iT, iN, ow, crd, cx, cel, bH, bC, ret, sM, res, tur, itu', arr, mF', mT', mL', hB, hM)) :
    ∀ (fu i g : Nat) (mv : List (Nat × Nat)) (fM' fA' : Int32) (itu' mF' mT' mL' : Nat → Int32), i ≤ 2 → 2 - i < fu → g ≤ 1 → (∀ n, n < 16 → ∃ b, b < 2 ∧ itu' n = nI b) → zAm sM c st sr ds cl ln K B w Q cr n b i g mv fM' fA' mF' mT' mL' →
      wX_allocateSender_20 post (nI n) (nI (n * 8 + 5)) fu (nI (if i % 2 = 0 then b else 1 - b)) (nI g) (nI i) fC fR fK fD fN fU fT fM' fA' oT pT rT tT cT fF cO rO lT iB stO srO taO clO leO tkO seO ejO pay rM ord sH sT sN iH iT iN ow crd cx cel bH bC ret sM res tur itu' arr mF' mT' mL' hB hM := by
  have W := xGW X P
  have G := gr_of (st := st) W
  have h16 := (gs_le X.1).2
  have D1 := X.2.2.2.1
  have D3 := X.2.2.2.2.1
  obtain ⟨I, mbu, mre, mcx, mq, mrt, mow, mcr, mse, mar, m4⟩ := M
  intro fu
  induction fu with
  | zero => intro i g mv fM' fA' itu' mF' mT' mL' h1 h2; omega
  | succ fu ih =>
    intro i g mv fM' fA' itu' mF' mT' mL' h1 h2 h3 h4 A
    by_cases e : i = 2
    · subst e
      exact br_t (by decide) (hp g mv _ _ _ _ _ _ h3 h4 A)
    · refine br_f (nI_ge (b := 2) (by omega) (by omega)) ?_
      generalize hk : (if i % 2 = 0 then b else 1 - b) = k
      have hk2 : k < 2 := by rw [← hk]; split <;> omega
      have hnext : (1 : Int32) - nI k = nI (if (i + 1) % 2 = 0 then b else 1 - b) := by
        have : (1 : Int32) - nI k = nI (1 - k) := pk_sub (a := 1) (by omega)
        rw [this, ← hk]
        congr 1
        by_cases q : i % 2 = 0
        · rw [if_pos q, if_neg (by omega)]
        · rw [if_neg q, if_pos (by omega)]; omega
      have hvis : ∀ p, ((1 ≤ i + 1 ∧ cl p = b) ∨ (2 ≤ i + 1 ∧ cl p = 1 - b)) → cl p = k ∨ ((1 ≤ i ∧ cl p = b) ∨ (2 ≤ i ∧ cl p = 1 - b)) := by
        intro p hv
        by_cases q : i % 2 = 0
        · rw [if_pos q] at hk; omega
        · rw [if_neg q] at hk; omega
      have A0 := A
      obtain ⟨a1, a2, a3, a4, a5⟩ := A
      have NO : (∀ p, zVm (gm c sr ds) (gR c sr ds cl) st ln (gl sr cl) K B w Q cr p 0 → gR c sr ds cl p 0 / 16 = n → cl p = k → bL sM 0 (gR c sr ds cl p 0 / 2) = true) →
          zAm sM c st sr ds cl ln K B w Q cr n b (i + 1) g mv fM' fA' mF' mT' mL' := by
        intro h
        refine ⟨a1, a2, a3, a4, fun e => ?_⟩
        obtain ⟨b1, b2, b3, b4, b5⟩ := a5 e
        refine ⟨b1, b2, b3, b4, ?_⟩
        intro p V hnn hv
        rcases hvis p hv with q | q
        · exact h p V hnn q
        · exact b5 p V hnn q
      have lane : ∀ p, zVm (gm c sr ds) (gR c sr ds cl) st ln (gl sr cl) K B w Q cr p 0 → gR c sr ds cl p 0 / 16 = n → cl p = k → (Q (n * 2 + k)).head? = some p ∧ gl sr cl p = n * 2 + k := by
        intro p V hnn hck
        have e1 : gl sr cl p = n * 2 + k := by
          rw [gR_0] at hnn
          unfold gl
          have := (W.2 p V.1.1).2.2
          omega
        rw [← e1]
        exact ⟨V.2.2.2.1 rfl, rfl⟩
      have vl := ivp (n := n * 2 + k) (N := 32) (by omega) (by omega)
      obtain ⟨l1, l2, l3⟩ := mq (n * 2 + k) (by omega)
      obtain ⟨qn, qm, qt⟩ := I.2.2.2.2.2.2.2 (n * 2 + k)
      refine ⟨by rw [ix2]; exact vl, ?_⟩
      cases hq : Q (n * 2 + k) with
      | nil =>
        refine nm_r (e' := -1) (by rw [ix2, icl (by omega), l1, hq]; rfl) (br_t (by decide) (nm_r hnext (nm_r (nI_1 i) (ih (i + 1) g mv _ _ _ _ _ _ (by omega) (by omega) h3 h4 (NO ?_)))))
        intro p V hnn hck
        have := (lane p V hnn hck).1
        rw [hq] at this; simp at this
      | cons q tl =>
        have hql := (qm q).mp (by rw [hq]; simp)
        obtain ⟨q1, q2, q3⟩ := hql
        have q16 := q1.1
        obtain ⟨p1, p2, p3, p4, p5, p6, p7, p8, p9, p10, p11, p12, p13, p14, p15⟩ := P q q16
        obtain ⟨w1, w2, w3⟩ := W.2 q q16
        have vq := ivp (n := q) (N := 16) q16 (by omega)
        have eq : (nI q).toNatClampNeg = q := icl (by omega)
        have hm1 := (G.1 q q1).1
        have hK0 := zm_le I q1 0 (by omega)
        have q2' : sr q = n ∧ cl q = k := by unfold gl at q2; omega
        have same : ∀ p, zVm (gm c sr ds) (gR c sr ds cl) st ln (gl sr cl) K B w Q cr p 0 → gR c sr ds cl p 0 / 16 = n → cl p = k → p = q := by
          intro p V hnn hck
          have := (lane p V hnn hck).1
          rw [hq] at this
          simp at this
          exact this.symm
        refine nm_r (e' := nI q) (by rw [ix2, icl (by omega), l1, hq]; rfl) (br_f (nI_pos (by omega)) ⟨vq, vq, ?_⟩)
        rw [eq, p5, (mse q q1).1]
        by_cases hlt : ln q ≤ K q 0
        · refine br_t (nI_le hlt (by omega)) (nm_r hnext (nm_r (nI_1 i) (ih (i + 1) g mv _ _ _ _ _ _ (by omega) (by omega) h3 h4 (NO ?_))))
          intro p V hnn hck
          have := same p V hnn hck
          subst this
          have := V.2.2.1; omega
        · refine br_f (nI_ge (by omega) (by omega)) ⟨vq, nm_r (e' := nI (4 * q + K q 0)) (by rw [ix4]; congr 1; omega) ?_⟩
          have hR : gR c sr ds cl q 0 = (n * 8 + 5) * 2 + k := by rw [gR_0, q2'.1, q2'.2]
          obtain ⟨r1, r2⟩ := G.2.1 q 0 q1 (by omega)
          have f4 : (4 * q + K q 0) / 4 = q := by omega
          have f3 : (4 * q + K q 0) % 4 = K q 0 := by omega
          have hcb : cr (gR c sr ds cl q 0) ≤ 3 := by have := I.2.2.2.2.2.2.1 _ r1 (fun z => by have := r2.mp z; omega); omega
          refine xw_canCross (wv := w (gR c sr ds cl q 0)) (cv := cr (gR c sr ds cl q 0)) (by omega) (by omega) hk2 (by rw [← hR]; exact mow _ r1) (I.2.2.2.2.2.1 _).1 (fun _ => ⟨by rw [← hR]; exact mcr _ r1, by omega⟩) (fun C => ?_) (fun C => ?_)
          · obtain ⟨C1, C2, C3⟩ := C
            have V : zVm (gm c sr ds) (gR c sr ds cl) st ln (gl sr cl) K B w Q cr q 0 := by
              refine ⟨q1, by omega, by omega, ?_, by omega, ?_, ?_⟩
              · intro _; rw [q2, hq]; rfl
              · rw [C2, f3, f4]
              · rcases C3 with C3 | C3
                · omega
                · exact .inr C3
            refine br_f (by decide) (nm_e ?_)
            by_cases hg : g = 0
            · subst hg
              refine br_t rfl ⟨ivp (by omega) (by omega), nm_r (e' := upd itu' n (1 - nI k)) (by rw [icl (by omega)]) ?_⟩
              refine xw_grant (M := mv.length) a1.1 (by omega) (nm_r hnext (nm_r (nI_1 i) ?_))
              refine ih (i + 1) 1 (mv ++ [(q, 0)]) _ _ _ _ _ _ (by omega) (by omega) (by omega) ?_ ⟨zMv_push a1 (by rw [if_pos rfl]) (by rw [ix2, hR]) rfl, ?_, ?_, ?_, ?_⟩
              · intro x hx
                by_cases e : x = n
                · subst e; exact ⟨1 - k, by omega, by rw [pk_us]; exact pk_sub (a := 1) (by omega)⟩
                · rw [pk_un e]; exact h4 x hx
              · simp; omega
              · intro x hx
                rw [List.mem_append, List.mem_singleton] at hx
                rcases hx with hx | hx
                · obtain ⟨v1, v2⟩ := a3 x hx
                  refine ⟨v1, ?_⟩
                  rcases v2 with v2 | v2
                  · exact .inl v2
                  · exact .inr ⟨v2.1, .inr rfl⟩
                · subst hx
                  exact ⟨V, .inr ⟨by dsimp only; rw [hR]; omega, .inr rfl⟩⟩
              · rw [List.pairwise_append]
                refine ⟨a4, List.pairwise_singleton _ _, ?_⟩
                intro x hx y hy
                rw [List.mem_singleton] at hy
                subst hy
                dsimp only
                intro he
                rcases (a3 x hx).2 with v2 | ⟨v2, v3 | v3⟩
                · rw [he, hR] at v2; omega
                · rw [he, hR] at v3; omega
                · omega
              · intro e; simp at e
            · have : g = 1 := by omega
              subst this
              refine br_f (by decide) (nm_r hnext (nm_r (nI_1 i) (ih (i + 1) 1 mv _ _ _ _ _ _ (by omega) (by omega) h3 h4 ⟨a1, a2, a3, a4, fun e => ?_⟩)))
              have := (a5 e).2.1; omega
          · refine br_t rfl (nm_r hnext (nm_r (nI_1 i) (ih (i + 1) g mv _ _ _ _ _ _ (by omega) (by omega) h3 h4 (NO ?_))))
            intro p V hnn hck
            have := same p V hnn hck
            subst this
            have hid : gR c sr ds cl p 0 / 2 = n * 8 + 5 := by rw [hR]; omega
            rw [hid]
            by_cases bb : bL sM 0 (n * 8 + 5) = true
            · exact bb
            · exfalso
              obtain ⟨hv, hi, hk, _, hb, hw, hc⟩ := V
              refine C ⟨by simpa using bb, ?_, ?_⟩
              · rw [hw, f3, f4]
              · rcases hc with hc | hc
                · omega
                · exact .inr hc

theorem xw_allocateSender {post : SX → Prop} (X : xGeo c r kk D fC fR fK fD fN cO rO lT iB) (P : xPk c r kk st sr ds cl ln tk stO srO taO clO leO tkO)
    (M : zM c D st sr ds cl ln base K B w Q cr rt fT seO ejO sH sT sN ow crd cx cel bH bC ret res arr) (T : xTu tur itu) {n : Nat} {mv : List (Nat × Nat)} (hn : n < c * r) (A : ∀ b, zAm sM c st sr ds cl ln K B w Q cr n b 0 0 mv fM fA mF mT mL)
    (hp : ∀ (mv : List (Nat × Nat)) (fM' fA' : Int32) (itu' mF' mT' mL' : Nat → Int32), xTu tur itu' → zAn sM c st sr ds cl ln K B w Q cr (n + 1) mv fM' fA' mF' mT' mL' → post (fC, fR, fK, fD, fN, fU, fT, fM', fA', oT, pT, rT, tT, cT, fF, cO, rO, lT, iB, stO, srO, taO, clO, leO, tkO, seO, ejO, pay, rM, ord, sH, sT, sN, iH, iT, iN, ow, crd, cx, cel, bH, bC, ret, sM, res, tur, itu', arr, mF', mT', mL', hB, hM)) : wpX_allocateSender post (fC, fR, fK, fD, fN, fU, fT, fM, fA, oT, pT, rT, tT, cT, fF, cO, rO, lT, iB, stO, srO, taO, clO, leO, tkO, seO, ejO, pay, rM, ord, sH, sT, sN, iH, iT, iN, ow, crd, cx, cel, bH, bC, ret, sM, res, tur, itu, arr, mF, mT, mL, hB, hM) (nI n) := by
  have h16 := (gs_le X.1).2
  have W := xGW X P
  obtain ⟨b, hb, eb⟩ := T.2 n (by omega)
  refine ⟨ivp (by omega) (by omega), nm_r (e' := nI b) (by rw [icl (by omega)]; exact eb) (nm_r (e' := nI (n * 8 + 5)) (ix8 n 5) ⟨3, ?_⟩)⟩
  refine xw_as20 (post := post) X P M hn hb ?_ 3 0 0 mv fM fA itu mF mT mL (by omega) (by omega) (by omega) T.2 (A b)
  intro g mv2 fM2 fA2 itu2 mF2 mT2 mL2 hg h4 A2
  obtain ⟨a1, a2, a3, a4, a5⟩ := A2
  refine hp mv2 _ _ _ _ _ _ ⟨T.1, h4⟩ ⟨a1, by omega, ?_, a4, fun e => ?_⟩
  · intro x hx
    obtain ⟨v1, v2⟩ := a3 x hx
    refine ⟨v1, ?_⟩
    rcases v2 with v2 | v2
    · omega
    · omega
  · obtain ⟨b1, b2, b3, b4, b5⟩ := a5 e
    refine ⟨b1, ?_⟩
    intro p j V hnn
    by_cases q : gR c sr ds cl p j / 16 < n
    · exact b3 p j V q
    · have hnn : gR c sr ds cl p j / 16 = n := by omega
      cases j with
      | zero =>
        refine b5 p V hnn ?_
        have := (W.2 p V.1.1).2.2
        omega
      | succ j => exact b4 p j V hnn
end
end
section
/-! one clock -/
section
variable {m : Nat → Nat} {R : Nat → Nat → Nat} {st ln la : Nat → Nat} {K : Nat → Nat → Nat} {B : Nat → List Nat} {w : Nat → Nat} {Q : Nat → List Nat} {cr cr2 : Nat → Nat} {rt : List Nat} {D : Nat}
theorem zIv_cr (I : zIv m R st ln la K B w Q cr rt D) (h : ∀ ch, cr2 ch = cr ch + rt.count ch) : zIv m R st ln la K B w Q cr2 [] D := by
  obtain ⟨i1, i2, i3, i4, i5, i6, i7, i8⟩ := I
  refine ⟨i1, i2, i3, i4, i5, i6, ?_, i8⟩
  intro ch h1 h2
  have := i7 ch h1 h2
  rw [h ch]
  simp
  omega
theorem zVm_cr {p i : Nat} (V : zVm m R st ln la K B w Q cr p i) (h : ∀ ch, cr ch ≤ cr2 ch) : zVm m R st ln la K B w Q cr2 p i := by
  obtain ⟨v1, v2, v3, v4, v5, v6, v7⟩ := V
  refine ⟨v1, v2, v3, v4, v5, v6, ?_⟩
  rcases v7 with v | v
  · exact .inl v
  · have := h (R p i); exact .inr (by omega)
end
section
variable {fC fR fK fD fN fU fT fM fA oT pT rT tT cT fF : Int32} {cO rO lT iB stO srO taO clO leO tkO seO ejO pay ord sH sT sN iH iT iN ow crd cx cel bH bC ret res tur itu arr mF mT mL hB : Nat → Int32} {rM sM hM : Nat → Int64}
variable {N c r kk D : Nat} {st sr ds cl ln tk : Nat → Nat} {base : Nat → Int32} {K : Nat → Nat → Nat} {B : Nat → List Nat} {w : Nat → Nat} {Q : Nat → List Nat} {cr : Nat → Nat} {rt : List Nat}

theorem xw_rc2 {post : SX → Prop} (hT : fT = nI rt.length) (h96 : rt.length ≤ 96) (hr : ∀ j, j < rt.length → ret j = nI (rt.getD j 0) ∧ rt.getD j 0 < 256)
    (hp : ∀ crd' : Nat → Int32, (∀ ch, ch < 256 → crd' ch = nI (cr ch + rt.count ch)) → post (fC, fR, fK, fD, fN, fU, 0, fM, fA, oT, pT, rT, tT, cT, fF, cO, rO, lT, iB, stO, srO, taO, clO, leO, tkO, seO, ejO, pay, rM, ord, sH, sT, sN, iH, iT, iN, ow, crd', cx, cel, bH, bC, ret, sM, res, tur, itu, arr, mF, mT, mL, hB, hM)) :
    ∀ (fu i : Nat) (crd' : Nat → Int32), i ≤ rt.length → rt.length - i < fu → (∀ ch, ch < 256 → crd' ch = nI (cr ch + (rt.take i).count ch)) → wX_returnCredits_2 post fC fR fK fD fN fU fT fM fA oT pT rT tT cT fF fu (nI i) cO rO lT iB stO srO taO clO leO tkO seO ejO pay rM ord sH sT sN iH iT iN ow crd' cx cel bH bC ret sM res tur itu arr mF mT mL hB hM := by
  intro fu
  induction fu with
  | zero => intro i crd' h1 h2; omega
  | succ fu ih =>
    intro i crd' h1 h2 H
    by_cases e : i = rt.length
    · have fin := hp crd' (by
        intro ch hc
        have := H ch hc
        rw [e, List.take_length] at this
        exact this)
      refine br_c (fun _ => fin) (fun _ => br_t ?_ fin)
      rw [hT, e]; exact Int32.le_refl _
    · obtain ⟨r1, r2⟩ := hr i (by omega)
      have vi := ivp (n := i) (N := 96) (by omega) (by omega)
      have ei : (nI i).toNatClampNeg = i := icl (by omega)
      have vr := ivp (N := 256) r2 (by omega)
      have er : (nI (rt.getD i 0)).toNatClampNeg = rt.getD i 0 := icl (by omega)
      refine br_f (nI_ge (b := 96) (by omega) (by omega)) (br_f (by rw [hT]; exact nI_ge (by omega) (by omega)) ⟨vi, by rw [ei, r1]; exact vr, by rw [ei, r1]; exact vr, nm_r (e' := upd crd' (rt.getD i 0) (crd' (rt.getD i 0) + 1)) (by rw [ei, r1, er]) (nm_r (nI_1 i) (ih (i + 1) _ (by omega) (by omega) ?_))⟩)
      intro ch hc
      have hcnt : (rt.take (i + 1)).count ch = (rt.take i).count ch + if rt.getD i 0 = ch then 1 else 0 := by
        have hlt : i < rt.length := by omega
        rw [List.take_succ, List.getElem?_eq_getElem hlt, List.count_append]
        simp only [Option.toList, List.count_singleton, List.getD_eq_getElem?_getD, List.getElem?_eq_getElem hlt, Option.getD_some, beq_iff_eq]
      rw [hcnt]
      by_cases ec : ch = rt.getD i 0
      · rw [if_pos ec.symm, ec, pk_us, H _ r2, nI_1]
        rfl
      · rw [if_neg (fun z => ec z.symm), pk_un ec]
        exact H ch hc

theorem xw_t42 {post : Int32 → SX → Prop} (X : xGeo c r kk D fC fR fK fD fN cO rO lT iB) (P : xPk c r kk st sr ds cl ln tk stO srO taO clO leO tkO)
    {mv : List (Nat × Nat)} (hlen : mv.length ≤ 96) (hM' : fM = nI mv.length) (hpw : mv.Pairwise (fun x y => gR c sr ds cl x.1 x.2 ≠ gR c sr ds cl y.1 y.2)) {K0 : Nat → Nat → Nat}
    (k : ∀ (K : Nat → Nat → Nat) (B : Nat → List Nat) (w : Nat → Nat) (Q : Nat → List Nat) (cr : Nat → Nat) (rt : List Nat) (fT' : Int32) (seO' ejO' sH' sT' sN' ow' crd' cx' cel' bH' bC' ret' res' arr' : Nat → Int32), zM c D st sr ds cl ln base K B w Q cr rt fT' seO' ejO' sH' sT' sN' ow' crd' cx' cel' bH' bC' ret' res' arr' → gF K = gF K0 + mv.length → (mv.length = 0 → K = K0 ∧ rt = []) → wX_tick_84 post fC fR fK fD fN fU fT' fM fA oT pT rT tT cT fF cO rO lT iB stO srO taO clO leO tkO seO' ejO' pay rM ord sH' sT' sN' iH iT iN ow' crd' cx' cel' bH' bC' ret' sM res' tur itu arr' mF mT mL hB hM) :
    ∀ (fu j : Nat) (K : Nat → Nat → Nat) (B : Nat → List Nat) (w : Nat → Nat) (Q : Nat → List Nat) (cr : Nat → Nat) (rt : List Nat) (fT' : Int32) (seO' ejO' sH' sT' sN' ow' crd' cx' cel' bH' bC' ret' res' arr' : Nat → Int32), j ≤ mv.length → mv.length - j < fu → zM c D st sr ds cl ln base K B w Q cr rt fT' seO' ejO' sH' sT' sN' ow' crd' cx' cel' bH' bC' ret' res' arr' →
      rt.length ≤ j → gF K = gF K0 + j → (j = 0 → K = K0 ∧ rt = []) →
      (∀ a p i, j ≤ a → mv[a]? = some (p, i) → zVm (gm c sr ds) (gR c sr ds cl) st ln (gl sr cl) K B w Q cr p i ∧ mF a = (if i = 0 then -1 else nI (gR c sr ds cl p (i - 1))) ∧ mT a = nI (gR c sr ds cl p i) ∧ mL a = nI (4 * p + K p i)) →
      wX_tick_42 post fu (nI j) fC fR fK fD fN fU fT' fM fA oT pT rT tT cT fF cO rO lT iB stO srO taO clO leO tkO seO' ejO' pay rM ord sH' sT' sN' iH iT iN ow' crd' cx' cel' bH' bC' ret' sM res' tur itu arr' mF mT mL hB hM := by
  have W := xGW X P
  have G := gr_of (st := st) W
  intro fu
  induction fu with
  | zero => intro j K B w Q cr rt fT' seO' ejO' sH' sT' sN' ow' crd' cx' cel' bH' bC' ret' res' arr' h1 h2; omega
  | succ fu ih =>
    intro j K B w Q cr rt fT' seO' ejO' sH' sT' sN' ow' crd' cx' cel' bH' bC' ret' res' arr' h1 h2 M h3 h4 h5 hmv
    by_cases e : j = mv.length
    · subst e
      have fin := k K B w Q cr rt fT' seO' ejO' sH' sT' sN' ow' crd' cx' cel' bH' bC' ret' res' arr' M h4 h5
      refine br_c (fun _ => fin) (fun _ => br_t ?_ fin)
      rw [hM']; exact Int32.le_refl _
    · have hlt : j < mv.length := by omega
      have vj := ivp (n := j) (N := 96) (by omega) (by omega)
      have ej : (nI j).toNatClampNeg = j := icl (by omega)
      obtain ⟨p, i, hpi⟩ : ∃ p i, mv[j]? = some (p, i) := ⟨mv[j].1, mv[j].2, by rw [List.getElem?_eq_getElem hlt]⟩
      obtain ⟨V, f1, f2, f3⟩ := hmv j p i (Nat.le_refl _) hpi
      refine br_f (nI_ge (b := 96) (by omega) (by omega)) (br_f (by rw [hM']; exact nI_ge hlt (by omega)) ⟨vj, vj, vj, ?_⟩)
      rw [ej, f1, f2, f3]
      have hm7 := (G.1 p V.1).2
      refine xw_cross W X.2.2.2.2.2.2.2.2.2.2.2.1 X.2.2.2.2.2.2.2.2.1 X.2.2.2.2.1 P M V (by omega) ?_
      intro fT2 seO2 ejO2 sH2 sT2 sN2 ow2 crd2 cx2 cel2 bH2 bC2 ret2 res2 arr2 M2
      refine nm_r (nI_1 j) (ih (j + 1) _ _ _ _ _ _ fT2 seO2 ejO2 sH2 sT2 sN2 ow2 crd2 cx2 cel2 bH2 bC2 ret2 res2 arr2 (by omega) (by omega) M2 ?_ ?_ (by omega) ?_)
      · unfold sR
        split
        · simp; omega
        · omega
      · rw [gF_step V.1.1 (by have := V.2.1; omega)]; omega
      · intro a q l ha hq
        obtain ⟨V2, g1, g2, g3⟩ := hmv a q l (by omega) hq
        have hne : gR c sr ds cl p i ≠ gR c sr ds cl q l := by
          have hal : a < mv.length := by
            rcases Nat.lt_or_ge a mv.length with h | h
            · exact h
            · rw [List.getElem?_eq_none h] at hq; cases hq
          have := (List.pairwise_iff_getElem.mp hpw) j a hlt hal (by omega)
          rw [List.getElem?_eq_getElem hlt] at hpi
          rw [List.getElem?_eq_getElem hal] at hq
          have e1 : mv[j] = (p, i) := by simpa using hpi
          have e2 : mv[a] = (q, l) := by simpa using hq
          rw [e1, e2] at this
          exact this
        refine ⟨zs_vm G M.1 V V2 hne, g1, g2, ?_⟩
        rw [sK_n (by rintro ⟨rfl, rfl⟩; exact hne rfl)]
        exact g3

theorem xw_t12 {post : Int32 → SX → Prop} (X : xGeo c r kk D fC fR fK fD fN cO rO lT iB) (P : xPk c r kk st sr ds cl ln tk stO srO taO clO leO tkO)
    (M : zM c D st sr ds cl ln base K B w Q cr rt fT seO ejO sH sT sN ow crd cx cel bH bC ret res arr)
    (k : ∀ (mv : List (Nat × Nat)) (fM' fA' : Int32) (tur' itu' mF' mT' mL' : Nat → Int32), xTu tur' itu' → zAn sM c st sr ds cl ln K B w Q cr (c * r) mv fM' fA' mF' mT' mL' → wpX_returnCredits (fun u => match u with | (fC, fR, fK, fD, fN, fU, fT, fM, fA, oT, pT, rT, tT, cT, fF, cO, rO, lT, iB, stO, srO, taO, clO, leO, tkO, seO, ejO, pay, rM, ord, sH, sT, sN, iH, iT, iN, ow, crd, cx, cel, bH, bC, ret, sM, res, tur, itu, arr, mF, mT, mL, hB, hM) => (∃ n42 : Nat, wX_tick_42 post n42 0 fC fR fK fD fN fU fT fM fA oT pT rT tT cT fF cO rO lT iB stO srO taO clO leO tkO seO ejO pay rM ord sH sT sN iH iT iN ow crd cx cel bH bC ret sM res tur itu arr mF mT mL hB hM)) (fC, fR, fK, fD, fN, fU, fT, fM', fA', oT, pT, rT, tT, cT, fF, cO, rO, lT, iB, stO, srO, taO, clO, leO, tkO, seO, ejO, pay, rM, ord, sH, sT, sN, iH, iT, iN, ow, crd, cx, cel, bH, bC, ret, sM, res, tur', itu', arr, mF', mT', mL', hB, hM)) :
    ∀ (fu n : Nat) (mv : List (Nat × Nat)) (fM' fA' : Int32) (tur' itu' mF' mT' mL' : Nat → Int32), n ≤ c * r → c * r - n < fu → xTu tur' itu' → zAn sM c st sr ds cl ln K B w Q cr n mv fM' fA' mF' mT' mL' → wX_tick_12 post fu (nI n) fC fR fK fD fN fU fT fM' fA' oT pT rT tT cT fF cO rO lT iB stO srO taO clO leO tkO seO ejO pay rM ord sH sT sN iH iT iN ow crd cx cel bH bC ret sM res tur' itu' arr mF' mT' mL' hB hM := by
  have h16 := (gs_le X.1).2
  have hN : fN = nI (c * r) := X.2.2.2.2.2.2.2.2.2.1
  intro fu
  induction fu with
  | zero => intro n mv fM' fA' tur' itu' mF' mT' mL' h1 h2; omega
  | succ fu ih =>
    intro n mv fM' fA' tur' itu' mF' mT' mL' h1 h2 T A
    by_cases e : n = c * r
    · subst e
      refine br_t ?_ (k mv fM' fA' tur' itu' mF' mT' mL' T A)
      rw [hN]; exact Int32.le_refl _
    · refine br_f (by rw [hN]; exact nI_ge (by omega) (by omega)) ?_
      refine xw_allocateRouter X P M T (by omega) A ?_
      intro mv2 fM2 fA2 tur2 mF2 mT2 mL2 T2 A2
      refine xw_allocateSender X P M T2 (by omega) A2 ?_
      intro mv3 fM3 fA3 itu3 mF3 mT3 mL3 T3 A3
      exact nm_r (nI_1 n) (ih (n + 1) mv3 fM3 fA3 tur2 itu3 mF3 mT3 mL3 (by omega) (by omega) T3 A3)

theorem xw_tick {post : Int32 → SX → Prop} (X : xGeo c r kk D fC fR fK fD fN cO rO lT iB) (P : xPk c r kk st sr ds cl ln tk stO srO taO clO leO tkO)
    (M : zM c D st sr ds cl ln base K B w Q cr rt fT seO ejO sH sT sN ow crd cx cel bH bC ret res arr) (T : xTu tur itu)
    (k : ∀ (n : Nat) (K' : Nat → Nat → Nat) (B' : Nat → List Nat) (w' : Nat → Nat) (Q' : Nat → List Nat) (cr' : Nat → Nat) (rt' : List Nat) (fT' fM' fA' : Int32) (seO' ejO' sH' sT' sN' ow' crd' cx' cel' bH' bC' ret' res' tur' itu' arr' mF' mT' mL' : Nat → Int32), zM c D st sr ds cl ln base K' B' w' Q' cr' rt' fT' seO' ejO' sH' sT' sN' ow' crd' cx' cel' bH' bC' ret' res' arr' → xTu tur' itu' → gF K' = gF K + n → n ≤ 96 →
      (n = 0 → rt' = [] ∧ K' = K ∧ (rt = [] → ∀ p i, zVm (gm c sr ds) (gR c sr ds cl) st ln (gl sr cl) K B w Q cr p i → bL sM 0 (gR c sr ds cl p i / 2) = true)) → post (nI n) (fC, fR, fK, fD, fN, fU, fT', fM', fA', oT, pT, rT, tT, cT, fF, cO, rO, lT, iB, stO, srO, taO, clO, leO, tkO, seO', ejO', pay, rM, ord, sH', sT', sN', iH, iT, iN, ow', crd', cx', cel', bH', bC', ret', sM, res', tur', itu', arr', mF', mT', mL', hB, hM)) :
    wpX_tick post (fC, fR, fK, fD, fN, fU, fT, fM, fA, oT, pT, rT, tT, cT, fF, cO, rO, lT, iB, stO, srO, taO, clO, leO, tkO, seO, ejO, pay, rM, ord, sH, sT, sN, iH, iT, iN, ow, crd, cx, cel, bH, bC, ret, sM, res, tur, itu, arr, mF, mT, mL, hB, hM) := by
  have W := xGW X P
  have G := gr_of (st := st) W
  have h16 := (gs_le X.1).2
  refine ⟨17, ?_⟩
  refine xw_t12 (post := post) X P M ?_ 17 0 [] 0 0 tur itu mF mT mL (by omega) (by omega) T ⟨zMv_0, by simp, fun x hx => by simp at hx, List.Pairwise.nil, fun _ => ⟨rfl, fun p j _ h => by omega⟩⟩
  intro mv fM2 fA2 tur2 itu2 mF2 mT2 mL2 T2 A
  obtain ⟨a1, a2, a3, a4, a5⟩ := A
  obtain ⟨I, mbu, mre, mcx, mq, mrt, mow, mcr, mse, mar, m4⟩ := M
  refine ⟨97, ?_⟩
  refine xw_rc2 (cr := cr) (rt := rt) mrt.1 mrt.2.1 (fun j hj => ⟨(mrt.2.2 j hj).1, (mrt.2.2 j hj).2.1⟩) ?_ 97 0 crd (by omega) (by omega) (by intro ch hc; rw [mcr ch hc]; simp)
  intro crd2 hcrd
  refine ⟨97, ?_⟩
  refine xw_t42 (post := post) (K0 := K) X P (mv := mv) (by omega) a1.1 a4 ?_ 97 0 K B w Q (fun ch => cr ch + rt.count ch) [] 0 seO ejO sH sT sN ow crd2 cx cel bH bC ret res arr (by omega) (by omega) ⟨zIv_cr I (fun _ => rfl), mbu, mre, mcx, mq, ⟨rfl, by simp, fun j hj => by simp at hj⟩, mow, hcrd, mse, mar, m4⟩ (by simp) (by omega) (fun _ => ⟨rfl, rfl⟩) ?_
  · intro K' B' w' Q' cr' rt' fT' seO' ejO' sH' sT' sN' ow' crd' cx' cel' bH' bC' ret' res' arr' M' hF hz
    have fin := k mv.length K' B' w' Q' cr' rt' fT' fM2 fA2 seO' ejO' sH' sT' sN' ow' crd' cx' cel' bH' bC' ret' res' tur2 itu2 arr' mF2 mT2 mL2 M' T2 hF (by omega) (by
      intro h0
      have e0 : mv = [] := List.length_eq_zero_iff.mp h0
      refine ⟨(hz h0).2, (hz h0).1, fun _ p i V => ?_⟩
      refine (a5 e0).2 p i V ?_
      have g := (G.2.1 p i V.1 V.2.1).1
      by_cases hi : i = 0
      · subst hi
        rw [gR_0]
        obtain ⟨w1, w2, w3⟩ := W.2 p V.1.1
        omega
      · obtain ⟨j, rfl⟩ : ∃ j, i = j + 1 := ⟨i - 1, by omega⟩
        obtain ⟨x1, x2, x3, x4, x5, x6, x7, x8, x9⟩ := gR_nx W V.1.1 (show j < gm c sr ds p by have := V.2.1; omega)
        obtain ⟨w1, w2, w3⟩ := W.2 p V.1.1
        rw [x5]; omega)
    rw [← a1.1] at fin
    by_cases e0 : mv = []
    · exact br_t (by rw [(a5 e0).1]; exact Int32.le_refl _) fin
    · refine br_c (fun _ => fin) (fun _ => br_f ?_ fin)
      rw [a1.1]
      have : mv.length ≠ 0 := fun h => e0 (List.length_eq_zero_iff.mp h)
      exact nI_ne0 (by omega) (by omega)
  · intro a p i _ hpi
    have hm := List.mem_of_getElem? hpi
    refine ⟨zVm_cr (a3 _ hm).1 (fun ch => by omega), a1.2 a p i hpi⟩
end
end
section
/-! who is held: the rounds -/
noncomputable def cif {α : Type} (P : Prop) (a b : α) : α := @ite α P (Classical.propDecidable P) a b
theorem cif_t {α : Type} {P : Prop} {a b : α} (h : P) : cif P a b = a := by unfold cif; exact if_pos h
theorem cif_f {α : Type} {P : Prop} {a b : α} (h : ¬ P) : cif P a b = b := by unfold cif; exact if_neg h
section
variable {st : Nat → Nat} {sh : Nat → Nat → Prop} {h h0 : Nat → Nat}
def hC (st : Nat → Nat) (sh : Nat → Nat → Prop) (h : Nat → Nat) (p : Nat) : Prop := st p = 2 ∧ h p = 0 ∧ ∃ q, q < 16 ∧ h q ≠ 0 ∧ sh p q
noncomputable def hs (st : Nat → Nat) (sh : Nat → Nat → Prop) (p : Nat) (h : Nat → Nat) : Nat → Nat := cif (hC st sh h p) (fun x => if x = p then 3 else h x) h
noncomputable def hr (st : Nat → Nat) (sh : Nat → Nat → Prop) : Nat → (Nat → Nat) → Nat → Nat
  | 0, h => h
  | k + 1, h => hs st sh k (hr st sh k h)
noncomputable def hn (st : Nat → Nat) (sh : Nat → Nat → Prop) (h0 : Nat → Nat) : Nat → Nat → Nat
  | 0 => h0
  | n + 1 => hr st sh 16 (hn st sh h0 n)
def cn16 (h : Nat → Nat) : Nat := sm (fun x => if h x = 0 then 0 else 1) 16

theorem hs_t {p : Nat} (c : hC st sh h p) : hs st sh p h = fun x => if x = p then 3 else h x := cif_t c
theorem hs_f {p : Nat} (c : ¬ hC st sh h p) : hs st sh p h = h := cif_f c
theorem hs_keep {p x : Nat} (hx : h x ≠ 0) : hs st sh p h x = h x := by
  by_cases c : hC st sh h p
  · rw [hs_t c]
    show (if x = p then 3 else h x) = h x
    rw [if_neg (by rintro rfl; exact hx c.2.1)]
  · rw [hs_f c]
theorem hr_keep {x : Nat} (hx : h x ≠ 0) : ∀ k, hr st sh k h x = h x := by
  intro k
  induction k with
  | zero => rfl
  | succ k ih =>
    show hs st sh k (hr st sh k h) x = h x
    rw [hs_keep (by rw [ih]; exact hx), ih]
theorem hn_keep {x : Nat} (hx : h0 x ≠ 0) : ∀ n, hn st sh h0 n x = h0 x := by
  intro n
  induction n with
  | zero => rfl
  | succ n ih =>
    show hr st sh 16 (hn st sh h0 n) x = h0 x
    rw [hr_keep (by rw [ih]; exact hx), ih]
theorem hn_new {x : Nat} : ∀ n, hn st sh h0 n x ≠ 0 → h0 x = 0 → hn st sh h0 n x = 3 ∧ st x = 2 := by
  have one : ∀ (p : Nat) (h : Nat → Nat), (h x ≠ 0 → h0 x = 0 → h x = 3 ∧ st x = 2) → hs st sh p h x ≠ 0 → h0 x = 0 → hs st sh p h x = 3 ∧ st x = 2 := by
    intro p h H1 H2 H3
    by_cases c : hC st sh h p
    · rw [hs_t c] at H2 ⊢
      by_cases e : x = p
      · subst e
        show (if x = x then 3 else h x) = 3 ∧ _
        rw [if_pos rfl]; exact ⟨rfl, c.1⟩
      · have H2 : (if x = p then 3 else h x) ≠ 0 := H2
        show (if x = p then 3 else h x) = 3 ∧ _
        rw [if_neg e] at H2 ⊢
        exact H1 H2 H3
    · rw [hs_f c] at H2 ⊢
      exact H1 H2 H3
  have many : ∀ (k : Nat) (h : Nat → Nat), (h x ≠ 0 → h0 x = 0 → h x = 3 ∧ st x = 2) → hr st sh k h x ≠ 0 → h0 x = 0 → hr st sh k h x = 3 ∧ st x = 2 := by
    intro k
    induction k with
    | zero => intro h H1; exact H1
    | succ k ih => intro h H1; exact one k _ (ih h H1)
  intro n
  induction n with
  | zero => intro H1 H2; exact absurd H2 H1
  | succ n ih => exact many 16 _ ih
theorem cn_hs {p : Nat} (hp : p < 16) (c : hC st sh h p) : cn16 (hs st sh p h) = cn16 h + 1 := by
  rw [hs_t c]
  have key := sm_upd (f := fun x => if h x = 0 then 0 else 1) (g := fun x => if (if x = p then 3 else h x) = 0 then 0 else 1) (j := p) 16 hp (by
    intro i _ hne
    show (if (if i = p then 3 else h i) = 0 then 0 else 1) = if h i = 0 then 0 else 1
    rw [if_neg (c := i = p) hne])
  simp only [if_pos, c.2.1] at key
  show sm (fun x => if (if x = p then 3 else h x) = 0 then 0 else 1) 16 = sm (fun x => if h x = 0 then 0 else 1) 16 + 1
  have e : (if (3 : Nat) = 0 then 0 else 1) = 1 := rfl
  omega
theorem cn_hr : ∀ k, k ≤ 16 → cn16 h ≤ cn16 (hr st sh k h) ∧ (cn16 (hr st sh k h) = cn16 h → ∀ j, j ≤ k → hr st sh j h = h) := by
  intro k
  induction k with
  | zero => intro _; exact ⟨Nat.le_refl _, fun _ j hj => by have : j = 0 := by omega
                                                            subst this; rfl⟩
  | succ k ih =>
    intro hk
    obtain ⟨i1, i2⟩ := ih (by omega)
    have e : hr st sh (k + 1) h = hs st sh k (hr st sh k h) := rfl
    by_cases c : hC st sh (hr st sh k h) k
    · have := cn_hs (by omega) c
      rw [e]
      exact ⟨by omega, fun z => by omega⟩
    · rw [e, hs_f c]
      refine ⟨i1, fun z j hj => ?_⟩
      by_cases ej : j = k + 1
      · subst ej; rw [e, hs_f c]; exact i2 z k (Nat.le_refl _)
      · exact i2 z j (by omega)
theorem hr_fix (e : hr st sh 16 h = h) : ∀ p, p < 16 → ¬ hC st sh h p := by
  intro p hp c
  have k := (cn_hr (st := st) (sh := sh) (h := h) 16 (Nat.le_refl _)).2 (by rw [e])
  have a1 := k p (by omega)
  have a2 : hs st sh p (hr st sh p h) = h := k (p + 1) (by omega)
  rw [a1] at a2
  have := cn_hs hp c
  rw [a2] at this
  omega
theorem hn_stay {n : Nat} (e : hr st sh 16 (hn st sh h0 n) = hn st sh h0 n) : ∀ k, hn st sh h0 (n + k) = hn st sh h0 n := by
  intro k
  induction k with
  | zero => rfl
  | succ k ih =>
    show hr st sh 16 (hn st sh h0 (n + k)) = _
    rw [ih]; exact e
theorem hn_closed : ∀ p, p < 16 → ¬ hC st sh (hn st sh h0 16) p := by
  have grow : ∀ n, n ≤ 16 → (∃ j, j < n ∧ hr st sh 16 (hn st sh h0 j) = hn st sh h0 j) ∨ n ≤ cn16 (hn st sh h0 n) := by
    intro n
    induction n with
    | zero => intro _; exact .inr (by omega)
    | succ n ih =>
      intro hle
      rcases ih (by omega) with ⟨j, h1, h2⟩ | h1
      · exact .inl ⟨j, by omega, h2⟩
      · obtain ⟨g1, g2⟩ := cn_hr (st := st) (sh := sh) (h := hn st sh h0 n) 16 (Nat.le_refl _)
        by_cases e : cn16 (hr st sh 16 (hn st sh h0 n)) = cn16 (hn st sh h0 n)
        · exact .inl ⟨n, by omega, g2 e 16 (Nat.le_refl _)⟩
        · right
          show n + 1 ≤ cn16 (hr st sh 16 (hn st sh h0 n))
          omega
  intro p hp
  rcases grow 16 (Nat.le_refl _) with ⟨j, h1, h2⟩ | h1
  · have := hn_stay h2 (16 - j)
    rw [show j + (16 - j) = 16 by omega] at this
    rw [this]
    exact hr_fix h2 p hp
  · intro c
    have := sm_full (f := fun x => if hn st sh h0 16 x = 0 then 0 else 1) (b := 1) 16 (by
      intro i _
      show (if hn st sh h0 16 i = 0 then 0 else 1) ≤ 1
      split <;> omega) h1 p hp
    have : (if hn st sh h0 16 p = 0 then 0 else 1) = 1 := this
    rw [if_pos c.2.1] at this
    omega
end
end
section
/-! sets of port ids as bits -/
theorem bo_or (x y : Int64) (i : Nat) : (x ||| y).toBitVec.getLsbD i = (x.toBitVec.getLsbD i || y.toBitVec.getLsbD i) := by
  rw [Int64.toBitVec_or, BitVec.getLsbD_or]
theorem bo_and (x y : Int64) (i : Nat) : (x &&& y).toBitVec.getLsbD i = (x.toBitVec.getLsbD i && y.toBitVec.getLsbD i) := by
  rw [Int64.toBitVec_and, BitVec.getLsbD_and]
theorem bo_xor (x y : Int64) (i : Nat) : (x ^^^ y).toBitVec.getLsbD i = (x.toBitVec.getLsbD i ^^ y.toBitVec.getLsbD i) := by
  rw [Int64.toBitVec_xor, BitVec.getLsbD_xor]
theorem bo_1 {j i : Nat} (hj : j < 64) : ((1 : Int64) <<< ((nI j).toInt64 &&& 63)).toBitVec.getLsbD i = decide (i = j) := by
  have e : (1 : Int64) <<< ((nI j).toInt64 &&& 63) = lN (1 * 2 ^ j) := wb_shl 1 hj
  rw [e, wb_tb, BitVec.getLsbD_ofNat, Nat.one_mul, Nat.testBit_two_pow]
  by_cases h : i = j
  · subst h; simp [hj]
  · simp [h, Ne.symm h]
theorem bo_z {x : Int64} : x = 0 ↔ ∀ j, j < 64 → x.toBitVec.getLsbD j = false := by
  constructor
  · intro e j _; rw [e]; simp
  · intro h
    apply wb_inj
    apply BitVec.eq_of_getLsbD_eq
    intro i hi
    rw [h i hi]; simp
theorem bo_t {x : Int64} {j : Nat} (hj : j < 64) : (x &&& ((1 : Int64) <<< ((nI j).toInt64 &&& 63))) = 0 ↔ x.toBitVec.getLsbD j = false := by
  rw [bo_z]
  constructor
  · intro h
    have := h j hj
    rw [bo_and, bo_1 hj] at this
    simpa using this
  · intro h i hi
    rw [bo_and, bo_1 hj]
    by_cases e : i = j
    · subst e; rw [h]; rfl
    · simp [e]
/-- two sets meet -/
theorem bo_meet {a b : Nat → Int64} {o o' : Nat} : ((a o &&& b o') ||| (a (o + 1) &&& b (o' + 1))) = 0 ↔ ¬ ∃ id, id < 128 ∧ bL a o id = true ∧ bL b o' id = true := by
  rw [bo_z]
  constructor
  · rintro h ⟨id, h1, h2, h3⟩
    have := h (id % 64) (Nat.mod_lt _ (by omega))
    rw [bo_or, bo_and, bo_and] at this
    unfold bL at h2 h3
    have hd : id / 64 = 0 ∨ id / 64 = 1 := by omega
    rcases hd with e | e
    · rw [e] at h2 h3
      rw [show o + 0 = o from rfl] at h2
      rw [show o' + 0 = o' from rfl] at h3
      rw [h2, h3] at this
      simp at this
    · rw [e] at h2 h3
      rw [h2, h3] at this
      simp at this
  · intro h j hj
    rw [bo_or, bo_and, bo_and]
    have m1 : j % 64 = j := Nat.mod_eq_of_lt hj
    have d1 : j / 64 = 0 := Nat.div_eq_of_lt hj
    have m2 : (j + 64) % 64 = j := by omega
    have d2 : (j + 64) / 64 = 1 := by omega
    have c1 : ¬ (bL a o j = true ∧ bL b o' j = true) := fun z => h ⟨j, by omega, z⟩
    have c2 : ¬ (bL a o (j + 64) = true ∧ bL b o' (j + 64) = true) := fun z => h ⟨j + 64, by omega, z⟩
    unfold bL at c1 c2
    rw [m1, d1] at c1
    rw [m2, d2] at c2
    rw [show o + 0 = o from rfl, show o' + 0 = o' from rfl] at c1
    cases x1 : (a o).toBitVec.getLsbD j <;> cases x2 : (b o').toBitVec.getLsbD j <;> cases x3 : (a (o + 1)).toBitVec.getLsbD j <;> cases x4 : (b (o' + 1)).toBitVec.getLsbD j <;> simp_all
/-- a set joins another -/
theorem bo_join {a b : Nat → Int64} {o k : Nat} : ∀ o' id, id < 128 → o' % 2 = o % 2 → bL (vp_updL (vp_updL a o (a o ||| b k)) (o + 1) (a (o + 1) ||| b (k + 1))) o' id = if o' = o then (bL a o id || bL b k id) else bL a o' id := by
  intro o' id hid hp
  unfold bL
  have hd : id / 64 = 0 ∨ id / 64 = 1 := by omega
  by_cases e : o' = o
  · subst e
    rw [if_pos rfl]
    rcases hd with e | e
    · rw [e, pk_uLn (by omega), show o' + 0 = o' from rfl, show k + 0 = k from rfl, pk_uLs, bo_or]
    · rw [e, pk_uLs, bo_or]
  · rw [if_neg e, pk_uLn (by omega), pk_uLn (by omega)]
theorem bo_zero (o id : Nat) {a : Nat → Int64} (h : a o = 0) (h' : a (o + 1) = 0) (hid : id < 128) : bL a o id = false := by
  unfold bL
  have hd : id / 64 = 0 ∨ id / 64 = 1 := by omega
  rcases hd with e | e
  · rw [e, show o + 0 = o from rfl, h]; simp
  · rw [e, h']; simp

/-! the marks -/
def onR (c : Nat) (sr ds cl : Nat → Nat) (p id : Nat) : Prop := ∃ i, i ≤ gm c sr ds p ∧ gR c sr ds cl p i / 2 = id
def shR (c : Nat) (sr ds cl : Nat → Nat) (p q : Nat) : Prop := cl q = cl p ∧ ∃ id, onR c sr ds cl p id ∧ onR c sr ds cl q id
noncomputable def hz (sM : Nat → Int64) (c : Nat) (st sr ds cl : Nat → Nat) (p : Nat) : Nat := if st p = 1 then 1 else cif (st p = 2 ∧ ∃ id, onR c sr ds cl p id ∧ bL sM 0 id = true) 2 0
def xRt (c : Nat) (st sr ds cl : Nat → Nat) (rM : Nat → Int64) : Prop := ∀ p, Lv st p → ∀ id, id < 128 → (bL rM (p * 2) id = true ↔ onR c sr ds cl p id)
def xHb (h : Nat → Nat) (hB : Nat → Int32) : Prop := ∀ p, p < 16 → hB p = nI (h p) ∧ h p ≤ 3
def xHm (c : Nat) (sr ds cl : Nat → Nat) (h : Nat → Nat) (hM : Nat → Int64) : Prop := ∀ k, k < 2 → ∀ id, id < 128 → (bL hM (k * 2) id = true ↔ ∃ q, q < 16 ∧ h q ≠ 0 ∧ cl q = k ∧ onR c sr ds cl q id)

theorem onR_lt {c r : Nat} {st sr ds cl : Nat → Nat} (W : gW c r sr ds cl) {p id : Nat} (hp : Lv st p) (h : onR c sr ds cl p id) : id < 128 := by
  obtain ⟨i, h1, h2⟩ := h
  have := ((gr_of (st := st) W).2.1 p i hp h1).1
  omega

section
variable {fC fR fK fD fN fU fT fM fA oT pT rT tT cT fF : Int32} {cO rO lT iB stO srO taO clO leO tkO seO ejO pay ord sH sT sN iH iT iN ow crd cx cel bH bC ret res tur itu arr mF mT mL hB : Nat → Int32} {rM sM hM : Nat → Int64}
variable {N c r kk D : Nat} {st sr ds cl ln tk : Nat → Nat}

theorem xw_addHeld {post : SX → Prop} {p k : Nat} (hp : p < 16) (hk : clO p = nI k) (hk2 : k < 2)
    (h : post (fC, fR, fK, fD, fN, fU, fT, fM, fA, oT, pT, rT, tT, cT, fF, cO, rO, lT, iB, stO, srO, taO, clO, leO, tkO, seO, ejO, pay, rM, ord, sH, sT, sN, iH, iT, iN, ow, crd, cx, cel, bH, bC, ret, sM, res, tur, itu, arr, mF, mT, mL, hB, vp_updL (vp_updL hM (k * 2) (hM (k * 2) ||| rM (p * 2))) (k * 2 + 1) (hM (k * 2 + 1) ||| rM (p * 2 + 1)))) : wpX_addHeld post (fC, fR, fK, fD, fN, fU, fT, fM, fA, oT, pT, rT, tT, cT, fF, cO, rO, lT, iB, stO, srO, taO, clO, leO, tkO, seO, ejO, pay, rM, ord, sH, sT, sN, iH, iT, iN, ow, crd, cx, cel, bH, bC, ret, sM, res, tur, itu, arr, mF, mT, mL, hB, hM) (nI p) := by
  have ep : (nI p).toNatClampNeg = p := icl (by omega)
  have e2 : (nI (k * 2)).toNatClampNeg = k * 2 := icl (by omega)
  have e3 : (nI (k * 2 + 1)).toNatClampNeg = k * 2 + 1 := icl (by omega)
  have e4 : (nI (p * 2)).toNatClampNeg = p * 2 := icl (by omega)
  have e5 : (nI (p * 2 + 1)).toNatClampNeg = p * 2 + 1 := icl (by omega)
  have v2 := ivp (n := k * 2) (N := 4) (by omega) (by omega)
  have v3 := ivp (n := k * 2 + 1) (N := 4) (by omega) (by omega)
  have v4 := ivp (n := p * 2) (N := 32) (by omega) (by omega)
  have v5 := ivp (n := p * 2 + 1) (N := 32) (by omega) (by omega)
  refine ⟨ivp hp (by omega), nm_r (e' := nI (k * 2)) (by rw [ep, hk, im2]) ⟨v2, by rw [im2]; exact v4, v2, nm_r (e' := vp_updL hM (k * 2) (hM (k * 2) ||| rM (p * 2))) (by rw [im2, e2, e4]) ⟨by rw [nI_1]; exact v3, by rw [im2, nI_1]; exact v5, by rw [nI_1]; exact v3, nm_r (e' := vp_updL (vp_updL hM (k * 2) (hM (k * 2) ||| rM (p * 2))) (k * 2 + 1) (hM (k * 2 + 1) ||| rM (p * 2 + 1))) ?_ h⟩⟩⟩
  rw [im2, nI_1, nI_1, e3, e5, pk_uLn (by omega)]

theorem xHm_add {h : Nat → Nat} (H : xHm c sr ds cl h hM) (R : xRt c st sr ds cl rM) {p v : Nat} (hl : Lv st p) (hk2 : cl p < 2) (hv : v ≠ 0) (h0 : h p = 0) :
    xHm c sr ds cl (fun x => if x = p then v else h x) (vp_updL (vp_updL hM (cl p * 2) (hM (cl p * 2) ||| rM (p * 2))) (cl p * 2 + 1) (hM (cl p * 2 + 1) ||| rM (p * 2 + 1))) := by
  intro k hk id hid
  rw [bo_join (k * 2) id hid (by omega)]
  by_cases e : k = cl p
  · subst e
    rw [if_pos rfl, Bool.or_eq_true, H _ hk id hid, R p hl id hid]
    constructor
    · rintro (⟨q, q1, q2, q3, q4⟩ | q)
      · refine ⟨q, q1, ?_, q3, q4⟩
        show (if q = p then v else h q) ≠ 0
        rw [if_neg (by rintro rfl; exact q2 h0)]; exact q2
      · refine ⟨p, hl.1, ?_, rfl, q⟩
        show (if p = p then v else h p) ≠ 0
        rw [if_pos rfl]; exact hv
    · rintro ⟨q, q1, q2, q3, q4⟩
      by_cases e : q = p
      · subst e; exact .inr q4
      · have q2 : (if q = p then v else h q) ≠ 0 := q2
        rw [if_neg e] at q2
        exact .inl ⟨q, q1, q2, q3, q4⟩
  · rw [if_neg (by omega), H _ hk id hid]
    constructor
    · rintro ⟨q, q1, q2, q3, q4⟩
      refine ⟨q, q1, ?_, q3, q4⟩
      show (if q = p then v else h q) ≠ 0
      rw [if_neg (by rintro rfl; exact q2 h0)]; exact q2
    · rintro ⟨q, q1, q2, q3, q4⟩
      have q2 : (if q = p then v else h q) ≠ 0 := q2
      rw [if_neg (by rintro rfl; exact e q3.symm)] at q2
      exact ⟨q, q1, q2, q3, q4⟩

theorem xw_gh4 {post : Int32 → SX → Prop} (W : gW c r sr ds cl) (P : xPk c r kk st sr ds cl ln tk stO srO taO clO leO tkO) (Rt : xRt c st sr ds cl rM) {hst : Nat → Nat}
    (k : ∀ (g : Nat) (hB' : Nat → Int32) (hM' : Nat → Int64), g < 2 → (g = 0 → hr st (shR c sr ds cl) 16 hst = hst) → xHb (hr st (shR c sr ds cl) 16 hst) hB' → xHm c sr ds cl (hr st (shR c sr ds cl) 16 hst) hM' → post (nI g) (fC, fR, fK, fD, fN, fU, fT, fM, fA, oT, pT, rT, tT, cT, fF, cO, rO, lT, iB, stO, srO, taO, clO, leO, tkO, seO, ejO, pay, rM, ord, sH, sT, sN, iH, iT, iN, ow, crd, cx, cel, bH, bC, ret, sM, res, tur, itu, arr, mF, mT, mL, hB', hM')) :
    ∀ (fu i g : Nat) (hB' : Nat → Int32) (hM' : Nat → Int64), i ≤ 16 → 16 - i < fu → g < 2 → (g = 0 → hr st (shR c sr ds cl) i hst = hst) → xHb (hr st (shR c sr ds cl) i hst) hB' → xHm c sr ds cl (hr st (shR c sr ds cl) i hst) hM' →
      wX_growHeld_4 post fu (nI g) (nI i) fC fR fK fD fN fU fT fM fA oT pT rT tT cT fF cO rO lT iB stO srO taO clO leO tkO seO ejO pay rM ord sH sT sN iH iT iN ow crd cx cel bH bC ret sM res tur itu arr mF mT mL hB' hM' := by
  intro fu
  induction fu with
  | zero => intro i g hB' hM' h1 h2; omega
  | succ fu ih =>
    intro i g hB' hM' h1 h2 h3 h4 Hb Hm
    by_cases e : i = 16
    · subst e
      refine br_t (by decide) ⟨?_, k g _ _ h3 h4 Hb Hm⟩
      have : g = 0 ∨ g = 1 := by omega
      rcases this with rfl | rfl <;> rfl
    · have hi : i < 16 := by omega
      have vi := ivp (n := i) (N := 16) hi (by omega)
      have ei : (nI i).toNatClampNeg = i := icl (by omega)
      obtain ⟨p1, p2, p3, p4, p5, p6, p7, p8, p9, p10, p11, p12, p13, p14, p15⟩ := P i hi
      have w3 := (W.2 i hi).2.2
      obtain ⟨b1, b2⟩ := Hb i hi
      have es : hr st (shR c sr ds cl) (i + 1) hst = hs st (shR c sr ds cl) i (hr st (shR c sr ds cl) i hst) := rfl
      have NO : ¬ hC st (shR c sr ds cl) (hr st (shR c sr ds cl) i hst) i → wX_growHeld_4 post fu (nI g) (nI (i + 1)) fC fR fK fD fN fU fT fM fA oT pT rT tT cT fF cO rO lT iB stO srO taO clO leO tkO seO ejO pay rM ord sH sT sN iH iT iN ow crd cx cel bH bC ret sM res tur itu arr mF mT mL hB' hM' := by
        intro hc
        have es2 := es.trans (hs_f hc)
        exact ih (i + 1) g _ _ (by omega) (by omega) h3 (fun z => by rw [es2]; exact h4 z) (by rw [es2]; exact Hb) (by rw [es2]; exact Hm)
      refine br_f (nI_ge (b := 16) hi (by omega)) ⟨vi, ?_⟩
      rw [ei, p1]
      by_cases s2 : st i = 2
      · refine br_t (by rw [s2]; rfl) ⟨vi, ?_⟩
        rw [b1]
        by_cases z : hr st (shR c sr ds cl) i hst i = 0
        · refine br_t (by rw [z]; rfl) ⟨vi, nm_r (e' := nI (cl i * 2)) (by rw [p4, im2]) ?_⟩
          have e2 : (nI (cl i * 2)).toNatClampNeg = cl i * 2 := icl (by omega)
          have e3 : (nI (cl i * 2 + 1)).toNatClampNeg = cl i * 2 + 1 := icl (by omega)
          have e4 : (nI (i * 2)).toNatClampNeg = i * 2 := icl (by omega)
          have e5 : (nI (i * 2 + 1)).toNatClampNeg = i * 2 + 1 := icl (by omega)
          have hl : Lv st i := ⟨hi, .inr s2⟩
          refine ⟨by rw [im2]; exact ivp (by omega) (by omega), ivp (by omega) (by omega), nm_r (e' := rM (i * 2) &&& hM' (cl i * 2)) (by rw [im2, e2, e4]) ⟨by rw [im2, nI_1]; exact ivp (by omega) (by omega), by rw [nI_1]; exact ivp (by omega) (by omega), nm_r (e' := rM (i * 2 + 1) &&& hM' (cl i * 2 + 1)) (by rw [im2, nI_1, nI_1, e3, e5]) ?_⟩⟩
          have key := bo_meet (a := rM) (b := hM') (o := i * 2) (o' := cl i * 2)
          have keyC : (∃ id, id < 128 ∧ bL rM (i * 2) id = true ∧ bL hM' (cl i * 2) id = true) ↔ hC st (shR c sr ds cl) (hr st (shR c sr ds cl) i hst) i := by
            constructor
            · rintro ⟨id, d1, d2, d3⟩
              rw [Rt i hl id d1] at d2
              rw [Hm (cl i) w3 id d1] at d3
              obtain ⟨q, q1, q2, q3, q4⟩ := d3
              exact ⟨s2, z, q, q1, q2, q3, id, d2, q4⟩
            · rintro ⟨_, _, q, q1, q2, q3, id, d2, q4⟩
              have hid := onR_lt W hl d2
              exact ⟨id, hid, (Rt i hl id hid).mpr d2, (Hm (cl i) w3 id hid).mpr ⟨q, q1, q2, q3, q4⟩⟩
          refine br_c (fun y => nm_r (nI_1 i) (NO (fun hc => key.mp y (keyC.mpr hc)))) (fun y => ⟨vi, nm_r (e' := upd hB' i 3) rfl ?_⟩)
          have hc : hC st (shR c sr ds cl) (hr st (shR c sr ds cl) i hst) i := by
            refine keyC.mp ?_
            by_cases q : ∃ id, id < 128 ∧ bL rM (i * 2) id = true ∧ bL hM' (cl i * 2) id = true
            · exact q
            · exact absurd (key.mpr q) y
          have es2 := es.trans (hs_t hc)
          refine xw_addHeld hi p4 w3 (nm_r (nI_1 i) (ih (i + 1) 1 _ _ (by omega) (by omega) (by omega) (by omega) ?_ ?_))
          · rw [es2]
            intro q hq
            show upd hB' i 3 q = nI (if q = i then 3 else _) ∧ (if q = i then 3 else _) ≤ 3
            by_cases eq : q = i
            · subst eq; rw [pk_us, if_pos rfl]; exact ⟨rfl, by omega⟩
            · rw [pk_un eq, if_neg eq]; exact Hb q hq
          · rw [es2]
            exact xHm_add Hm Rt hl w3 (by omega) z
        · refine br_f (fun y => z ((ieq (b := 0) (by omega) (by omega)).mp y)) (nm_r (nI_1 i) (NO (fun hc => z hc.2.1)))
      · refine br_f (fun y => s2 ((ieq (b := 2) (by omega) (by omega)).mp y)) (nm_r (nI_1 i) (NO (fun hc => s2 hc.1)))

theorem xw_mh63 {post : SX → Prop} (W : gW c r sr ds cl) (P : xPk c r kk st sr ds cl ln tk stO srO taO clO leO tkO) (Rt : xRt c st sr ds cl rM) {h0 : Nat → Nat}
    (k : ∀ (hB' : Nat → Int32) (hM' : Nat → Int64), xHb (hn st (shR c sr ds cl) h0 16) hB' → post (fC, fR, fK, fD, fN, fU, fT, fM, fA, oT, pT, rT, tT, cT, fF, cO, rO, lT, iB, stO, srO, taO, clO, leO, tkO, seO, ejO, pay, rM, ord, sH, sT, sN, iH, iT, iN, ow, crd, cx, cel, bH, bC, ret, sM, res, tur, itu, arr, mF, mT, mL, hB', hM')) :
    ∀ (fu n g : Nat) (hB' : Nat → Int32) (hM' : Nat → Int64), n ≤ 16 → 16 - n < fu → g < 2 → (g = 0 → hr st (shR c sr ds cl) 16 (hn st (shR c sr ds cl) h0 n) = hn st (shR c sr ds cl) h0 n) → xHb (hn st (shR c sr ds cl) h0 n) hB' → xHm c sr ds cl (hn st (shR c sr ds cl) h0 n) hM' →
      wX_markHeld_63 post fu (nI g) (nI n) fC fR fK fD fN fU fT fM fA oT pT rT tT cT fF cO rO lT iB stO srO taO clO leO tkO seO ejO pay rM ord sH sT sN iH iT iN ow crd cx cel bH bC ret sM res tur itu arr mF mT mL hB' hM' := by
  intro fu
  induction fu with
  | zero => intro n g hB' hM' h1 h2; omega
  | succ fu ih =>
    intro n g hB' hM' h1 h2 h3 h4 Hb Hm
    by_cases e : n = 16
    · subst e
      exact br_t (by decide) (k _ _ Hb)
    · refine br_f (nI_ge (b := 16) (by omega) (by omega)) ?_
      by_cases eg : g = 0
      · subst eg
        refine br_t rfl (k _ _ ?_)
        have := hn_stay (h4 rfl) (16 - n)
        rw [show n + (16 - n) = 16 by omega] at this
        rw [this]; exact Hb
      · refine br_f (nI_ne0 (by omega) (by omega)) ⟨17, ?_⟩
        refine xw_gh4 W P Rt (hst := hn st (shR c sr ds cl) h0 n) ?_ 17 0 0 hB' hM' (by omega) (by omega) (by omega) (fun _ => rfl) Hb Hm
        intro g2 hB2 hM2 k1 k2 k3 k4
        refine nm_r (nI_1 n) (ih (n + 1) g2 hB2 hM2 (by omega) (by omega) k1 (fun z => ?_) k3 k4)
        have := k2 z
        show hr st (shR c sr ds cl) 16 (hr st (shR c sr ds cl) 16 (hn st (shR c sr ds cl) h0 n)) = hr st (shR c sr ds cl) 16 (hn st (shR c sr ds cl) h0 n)
        rw [this, this]

theorem xw_directCause {post : Int32 → Prop} (W : gW c r sr ds cl) (P : xPk c r kk st sr ds cl ln tk stO srO taO clO leO tkO) (Rt : xRt c st sr ds cl rM) {p : Nat} (hp : p < 16)
    (h : post (nI (hz sM c st sr ds cl p))) : wpX_directCause post (fC, fR, fK, fD, fN, fU, fT, fM, fA, oT, pT, rT, tT, cT, fF, cO, rO, lT, iB, stO, srO, taO, clO, leO, tkO, seO, ejO, pay, rM, ord, sH, sT, sN, iH, iT, iN, ow, crd, cx, cel, bH, bC, ret, sM, res, tur, itu, arr, mF, mT, mL, hB, hM) (nI p) := by
  obtain ⟨p1, p2, p3, p4, p5, p6, p7, p8, p9, p10, p11, p12, p13, p14, p15⟩ := P p hp
  have vp := ivp (N := 16) hp (by omega)
  have ep : (nI p).toNatClampNeg = p := icl (by omega)
  refine ⟨vp, ?_⟩
  rw [ep, p1]
  unfold hz at h
  by_cases s1 : st p = 1
  · rw [if_pos s1] at h
    exact br_t (by rw [s1]; rfl) h
  · rw [if_neg s1] at h
    refine br_f (fun y => s1 ((ieq (b := 1) (by omega) (by omega)).mp y)) ⟨vp, ?_⟩
    by_cases s2 : st p = 2
    · have hl : Lv st p := ⟨hp, .inr s2⟩
      have e4 : (nI (p * 2)).toNatClampNeg = p * 2 := icl (by omega)
      have e5 : (nI (p * 2 + 1)).toNatClampNeg = p * 2 + 1 := icl (by omega)
      refine br_t (by rw [s2]; rfl) ⟨by rw [im2]; exact ivp (by omega) (by omega), nm_r (e' := rM (p * 2) &&& sM 0) (by rw [im2, e4]) ⟨by rw [im2, nI_1]; exact ivp (by omega) (by omega), nm_r (e' := rM (p * 2 + 1) &&& sM (0 + 1)) (by rw [im2, nI_1, e5]) ?_⟩⟩
      have key := bo_meet (a := rM) (b := sM) (o := p * 2) (o' := 0)
      have keyC : (∃ id, id < 128 ∧ bL rM (p * 2) id = true ∧ bL sM 0 id = true) ↔ ∃ id, onR c sr ds cl p id ∧ bL sM 0 id = true := by
        constructor
        · rintro ⟨id, d1, d2, d3⟩
          exact ⟨id, (Rt p hl id d1).mp d2, d3⟩
        · rintro ⟨id, d2, d3⟩
          have hid := onR_lt W hl d2
          exact ⟨id, hid, (Rt p hl id hid).mpr d2, d3⟩
      refine br_c (fun y => ?_) (fun y => ?_)
      · rw [cif_f (fun z => key.mp y (keyC.mpr z.2))] at h; exact h
      · rw [cif_t] at h
        · exact h
        · refine ⟨s2, keyC.mp ?_⟩
          by_cases q : ∃ id, id < 128 ∧ bL rM (p * 2) id = true ∧ bL sM 0 id = true
          · exact q
          · exact absurd (key.mpr q) y
    · rw [cif_f (fun z => s2 z.1)] at h
      exact br_f (fun y => s2 ((ieq (b := 2) (by omega) (by omega)).mp y)) h

theorem hz_le (p : Nat) : hz sM c st sr ds cl p ≤ 3 ∧ (hz sM c st sr ds cl p ≠ 0 → st p = 1 ∨ st p = 2) := by
  unfold hz
  by_cases s1 : st p = 1
  · rw [if_pos s1]; exact ⟨by omega, fun _ => .inl s1⟩
  · rw [if_neg s1]
    by_cases q : st p = 2 ∧ ∃ id, onR c sr ds cl p id ∧ bL sM 0 id = true
    · rw [cif_t q]; exact ⟨by omega, fun _ => .inr q.1⟩
    · rw [cif_f q]; exact ⟨by omega, fun z => absurd rfl z⟩

theorem xw_mh22 {post : SX → Prop} (W : gW c r sr ds cl) (P : xPk c r kk st sr ds cl ln tk stO srO taO clO leO tkO) (Rt : xRt c st sr ds cl rM)
    (k : ∀ (hB' : Nat → Int32) (hM' : Nat → Int64), xHb (hn st (shR c sr ds cl) (hz sM c st sr ds cl) 16) hB' → post (fC, fR, fK, fD, fN, fU, fT, fM, fA, oT, pT, rT, tT, cT, fF, cO, rO, lT, iB, stO, srO, taO, clO, leO, tkO, seO, ejO, pay, rM, ord, sH, sT, sN, iH, iT, iN, ow, crd, cx, cel, bH, bC, ret, sM, res, tur, itu, arr, mF, mT, mL, hB', hM')) :
    ∀ (fu i : Nat) (hB' : Nat → Int32) (hM' : Nat → Int64), i ≤ 16 → 16 - i < fu → (∀ p, p < i → hB' p = nI (hz sM c st sr ds cl p)) → xHm c sr ds cl (fun x => if x < i then hz sM c st sr ds cl x else 0) hM' →
      wX_markHeld_22 post fu (nI i) fC fR fK fD fN fU fT fM fA oT pT rT tT cT fF cO rO lT iB stO srO taO clO leO tkO seO ejO pay rM ord sH sT sN iH iT iN ow crd cx cel bH bC ret sM res tur itu arr mF mT mL hB' hM' := by
  intro fu
  induction fu with
  | zero => intro i hB' hM' h1 h2; omega
  | succ fu ih =>
    intro i hB' hM' h1 h2 Hb Hm
    by_cases e : i = 16
    · subst e
      refine br_t (by decide) ⟨17, ?_⟩
      refine xw_mh63 W P Rt k 17 0 1 hB' hM' (by omega) (by omega) (by omega) (by omega) (fun p hp => ⟨Hb p hp, hz_le p |>.1⟩) ?_
      intro k' hk' id hid
      rw [Hm k' hk' id hid]
      constructor
      · rintro ⟨q, q1, q2, q3, q4⟩
        have q2 : (if q < 16 then hz sM c st sr ds cl q else 0) ≠ 0 := q2
        rw [if_pos q1] at q2
        exact ⟨q, q1, q2, q3, q4⟩
      · rintro ⟨q, q1, q2, q3, q4⟩
        refine ⟨q, q1, ?_, q3, q4⟩
        show (if q < 16 then hz sM c st sr ds cl q else 0) ≠ 0
        rw [if_pos q1]; exact q2
    · have hi : i < 16 := by omega
      have vi := ivp (n := i) (N := 16) hi (by omega)
      have ei : (nI i).toNatClampNeg = i := icl (by omega)
      obtain ⟨p1, p2, p3, p4, p5, p6, p7, p8, p9, p10, p11, p12, p13, p14, p15⟩ := P i hi
      have w3 := (W.2 i hi).2.2
      refine br_f (nI_ge (b := 16) hi (by omega)) (xw_directCause W P Rt hi ⟨vi, nm_r (e' := upd hB' i (nI (hz sM c st sr ds cl i))) (by rw [ei]) ⟨vi, ?_⟩⟩)
      rw [ei, pk_us]
      have Hb2 : ∀ p, p < i + 1 → upd hB' i (nI (hz sM c st sr ds cl i)) p = nI (hz sM c st sr ds cl p) := by
        intro p hp
        by_cases eq : p = i
        · subst eq; rw [pk_us]
        · rw [pk_un eq]; exact Hb p (by omega)
      have hle := (hz_le (sM := sM) (c := c) (st := st) (sr := sr) (ds := ds) (cl := cl) i)
      by_cases z : hz sM c st sr ds cl i = 0
      · refine br_t (by rw [z]; rfl) (nm_r (nI_1 i) (ih (i + 1) _ _ (by omega) (by omega) Hb2 ?_))
        have ef : (fun x => if x < i + 1 then hz sM c st sr ds cl x else 0) = fun x => if x < i then hz sM c st sr ds cl x else 0 := by
          funext x
          by_cases ex : x = i
          · subst ex; rw [if_pos (by omega), if_neg (by omega), z]
          · by_cases lx : x < i
            · rw [if_pos (by omega), if_pos lx]
            · rw [if_neg (by omega), if_neg lx]
        rw [ef]; exact Hm
      · refine br_f (nI_ne0 (by omega) (by omega)) (xw_addHeld hi p4 w3 (nm_r (nI_1 i) (ih (i + 1) _ _ (by omega) (by omega) Hb2 ?_)))
        have := xHm_add (v := hz sM c st sr ds cl i) Hm Rt ⟨hi, hle.2 z⟩ w3 z (if_neg (by omega))
        have ef : (fun x => if x < i + 1 then hz sM c st sr ds cl x else 0) = fun x => if x = i then hz sM c st sr ds cl i else if x < i then hz sM c st sr ds cl x else 0 := by
          funext x
          by_cases ex : x = i
          · subst ex; rw [if_pos (by omega), if_pos rfl]
          · rw [if_neg ex]
            by_cases lx : x < i
            · rw [if_pos (by omega), if_pos lx]
            · rw [if_neg (by omega), if_neg lx]
        rw [ef]; exact this

theorem xw_markHeld {post : SX → Prop} (W : gW c r sr ds cl) (P : xPk c r kk st sr ds cl ln tk stO srO taO clO leO tkO) (Rt : xRt c st sr ds cl rM)
    (k : ∀ (hB' : Nat → Int32) (hM' : Nat → Int64), xHb (hn st (shR c sr ds cl) (hz sM c st sr ds cl) 16) hB' → post (fC, fR, fK, fD, fN, fU, fT, fM, fA, oT, pT, rT, tT, cT, fF, cO, rO, lT, iB, stO, srO, taO, clO, leO, tkO, seO, ejO, pay, rM, ord, sH, sT, sN, iH, iT, iN, ow, crd, cx, cel, bH, bC, ret, sM, res, tur, itu, arr, mF, mT, mL, hB', hM')) : wpX_markHeld post (fC, fR, fK, fD, fN, fU, fT, fM, fA, oT, pT, rT, tT, cT, fF, cO, rO, lT, iB, stO, srO, taO, clO, leO, tkO, seO, ejO, pay, rM, ord, sH, sT, sN, iH, iT, iN, ow, crd, cx, cel, bH, bC, ret, sM, res, tur, itu, arr, mF, mT, mL, hB, hM) := by
  have lp : ∀ (fu i : Nat) (hM' : Nat → Int64), i ≤ 4 → 4 - i < fu → (∀ j, j < i → hM' j = 0) → wX_markHeld_2 post fC fR fK fD fN fU fT fM fA oT pT rT tT cT fF fu (nI i) cO rO lT iB stO srO taO clO leO tkO seO ejO pay rM ord sH sT sN iH iT iN ow crd cx cel bH bC ret sM res tur itu arr mF mT mL hB hM' := by
    intro fu
    induction fu with
    | zero => intro i hM' h1 h2; omega
    | succ fu ih =>
      intro i hM' h1 h2 h3
      by_cases e : i = 4
      · subst e
        refine br_t (by decide) ⟨17, ?_⟩
        refine xw_mh22 W P Rt k 17 0 hB hM' (by omega) (by omega) (fun p hp => by omega) ?_
        intro k' hk' id hid
        rw [bo_zero (k' * 2) id (h3 _ (by omega)) (h3 _ (by omega)) hid]
        constructor
        · intro z; cases z
        · rintro ⟨q, q1, q2, q3, q4⟩
          exact absurd (if_neg (by omega)) q2
      · refine br_f (nI_ge (b := 4) (by omega) (by omega)) ⟨ivp (by omega) (by omega), nm_r (e' := vp_updL hM' i 0) (by rw [icl (by omega)]) (nm_r (nI_1 i) (ih (i + 1) _ (by omega) (by omega) ?_))⟩
        intro j hj
        by_cases ej : j = i
        · subst ej; exact pk_uLs
        · rw [pk_uLn ej]; exact h3 j (by omega)
  exact ⟨5, lp 5 0 hM (by omega) (by omega) (fun j hj => by omega)⟩
end
end
section
/-! the reference: routes, marks -/
def yRt (c : Nat) (st sr ds cl : Nat → Nat) (pth : Nat → Int32) : Prop := ∀ p, Lv st p → ∀ i, i < 8 → pth (p * 8 + i) = if i ≤ gm c sr ds p then nI (gR c sr ds cl p i / 2) else -9
def xyS (sM : Nat → Int64) (blk : Nat → Int32) : Prop := ∀ id, id < 128 → blk id = if bL sM 0 id = true then 1 else 0
def yHb (h : Nat → Nat) (mrk : Nat → Int32) : Prop := ∀ p, p < 16 → mrk p = if h p = 0 then 0 else 1
theorem m9 {id : Nat} (h : id < 128) : ¬ ((-9 : Int32) = nI id) := by
  have : ∀ id, id < 128 → ¬ ((-9 : Int32) = nI id) := by decide +kernel
  exact this id h
section
variable {fC fR fK fD : Int32} {stO srO taO clO leO tkO age rnk pay pth ysn tot blk mrk : Nat → Int32}
variable {c r kk D : Nat} {st sr ds cl ln tk : Nat → Nat} {sM : Nat → Int64}

theorem yp_lt (W : gW c r sr ds cl) {p i : Nat} (hl : Lv st p) (hi : i ≤ gm c sr ds p) : gR c sr ds cl p i / 2 < 128 := by
  have := ((gr_of (st := st) W).2.1 p i hl hi).1
  omega

theorem yp_eq (W : gW c r sr ds cl) (Rt : yRt c st sr ds cl pth) {p i id : Nat} (hl : Lv st p) (hi : i < 8) (hid : id < 128) : pth (p * 8 + i) = nI id ↔ i ≤ gm c sr ds p ∧ gR c sr ds cl p i / 2 = id := by
  rw [Rt p hl i hi]
  by_cases e : i ≤ gm c sr ds p
  · have := yp_lt W hl e
    rw [if_pos e, ieq (by omega) (by omega)]
    exact ⟨fun z => ⟨e, z⟩, fun z => z.2⟩
  · rw [if_neg e]
    exact ⟨fun z => absurd z (m9 hid), fun z => absurd z.1 e⟩

theorem yw_passes {post : Int32 → Prop} (W : gW c r sr ds cl) (Rt : yRt c st sr ds cl pth) {p id : Nat} (hl : Lv st p) (hid : id < 128) (h1 : onR c sr ds cl p id → post 1) (h0 : ¬ onR c sr ds cl p id → post 0) :
    wpY_passes post (fC, fR, fK, fD, stO, srO, taO, clO, leO, tkO, age, rnk, pay, pth, ysn, tot, blk, mrk) (nI p) (nI id) := by
  have hp := hl.1
  have hm := ((gr_of (st := st) W).1 p hl).2
  have lp : ∀ fu i : Nat, i ≤ 8 → 8 - i < fu → (∀ j, j < i → ¬ pth (p * 8 + j) = nI id) → wY_passes_2 post (nI p) (nI id) fC fR fK fD stO srO taO clO leO tkO age rnk pay pth ysn tot blk mrk fu (nI i) := by
    intro fu
    induction fu with
    | zero => intro i h1 h2; omega
    | succ fu ih =>
      intro i g1 g2 g3
      by_cases e : i = 8
      · subst e
        refine br_t (by decide) (h0 ?_)
        rintro ⟨j, j1, j2⟩
        exact g3 j (by omega) ((yp_eq W Rt hl (by omega) hid).mpr ⟨j1, j2⟩)
      · refine br_f (nI_ge (b := 8) (by omega) (by omega)) ⟨by rw [ix8]; exact ivp (by omega) (by omega), ?_⟩
        rw [ix8, icl (by omega)]
        refine br_c (fun z => h1 ?_) (fun z => nm_r (nI_1 i) (ih (i + 1) (by omega) (by omega) ?_))
        · have := (yp_eq W Rt hl (by omega) hid).mp z
          exact ⟨i, this⟩
        · intro j hj
          by_cases ej : j = i
          · subst ej; exact z
          · exact g3 j (by omega)
  exact ⟨9, lp 9 0 (by omega) (by omega) (fun j hj => by omega)⟩

theorem yw_share {post : Int32 → Prop} (W : gW c r sr ds cl) (P : xPk c r kk st sr ds cl ln tk stO srO taO clO leO tkO) (Rt : yRt c st sr ds cl pth) {p q : Nat} (hl : Lv st p) (hq : Lv st q)
    (h1 : shR c sr ds cl p q → post 1) (h0 : ¬ shR c sr ds cl p q → post 0) : wpY_share post (fC, fR, fK, fD, stO, srO, taO, clO, leO, tkO, age, rnk, pay, pth, ysn, tot, blk, mrk) (nI p) (nI q) := by
  have hp := hl.1
  have hq6 := hq.1
  have hm := ((gr_of (st := st) W).1 p hl).2
  have c1 := (P p hp).2.2.2.1
  have c2 := (P q hq6).2.2.2.1
  have w1 := (W.2 p hp).2.2
  have w2 := (W.2 q hq6).2.2
  have lp : ∀ fu i : Nat, i ≤ 8 → 8 - i < fu → (∀ j, j < i → j ≤ gm c sr ds p → ¬ onR c sr ds cl q (gR c sr ds cl p j / 2)) → wY_share_2 post (nI p) (nI q) fC fR fK fD stO srO taO clO leO tkO age rnk pay pth ysn tot blk mrk fu (nI i) := by
    intro fu
    induction fu with
    | zero => intro i h1 h2; omega
    | succ fu ih =>
      intro i g1 g2 g3
      by_cases e : i = 8
      · subst e
        refine br_t (by decide) (h0 ?_)
        rintro ⟨_, id, ⟨j, j1, j2⟩, j3⟩
        exact g3 j (by omega) j1 (by rw [j2]; exact j3)
      · refine br_f (nI_ge (b := 8) (by omega) (by omega)) ⟨ivp hp (by omega), ivp hq6 (by omega), ?_⟩
        rw [icl (n := p) (by omega), icl (n := q) (by omega), c1, c2]
        by_cases ec : cl p = cl q
        · refine br_t (by rw [ec]) ⟨by rw [ix8]; exact ivp (by omega) (by omega), ?_⟩
          rw [ix8, icl (by omega), Rt p hl i (by omega)]
          by_cases ei : i ≤ gm c sr ds p
          · have hlt := yp_lt W hl ei
            rw [if_pos ei]
            refine br_f (nI_pos (by omega)) ⟨ivp (by omega) (by omega), ?_⟩
            refine yw_passes W Rt hq hlt (fun z => br_f (by decide) (h1 ⟨ec.symm, _, ⟨i, ei, rfl⟩, z⟩)) (fun z => br_t rfl (nm_r (nI_1 i) (ih (i + 1) (by omega) (by omega) ?_)))
            intro j hj hjm
            by_cases ej : j = i
            · subst ej; exact z
            · exact g3 j (by omega) hjm
          · rw [if_neg ei]
            refine br_t (by decide) (nm_r (nI_1 i) (ih (i + 1) (by omega) (by omega) ?_))
            intro j hj hjm
            exact g3 j (by omega) hjm
        · exact br_f (fun z => ec ((ieq (by omega) (by omega)).mp z)) (h0 (fun z => ec z.1.symm))
  exact ⟨9, lp 9 0 (by omega) (by omega) (fun j hj => by omega)⟩

theorem yw_onStall {post : Int32 → Prop} (W : gW c r sr ds cl) (Rt : yRt c st sr ds cl pth) (S : xyS sM blk) {p : Nat} (hl : Lv st p)
    (h1 : (∃ id, onR c sr ds cl p id ∧ bL sM 0 id = true) → post 1) (h0 : ¬ (∃ id, onR c sr ds cl p id ∧ bL sM 0 id = true) → post 0) : wpY_onStall post (fC, fR, fK, fD, stO, srO, taO, clO, leO, tkO, age, rnk, pay, pth, ysn, tot, blk, mrk) (nI p) := by
  have hp := hl.1
  have hm := ((gr_of (st := st) W).1 p hl).2
  have lp : ∀ fu i : Nat, i ≤ 8 → 8 - i < fu → (∀ j, j < i → j ≤ gm c sr ds p → ¬ bL sM 0 (gR c sr ds cl p j / 2) = true) → wY_onStall_2 post (nI p) fC fR fK fD stO srO taO clO leO tkO age rnk pay pth ysn tot blk mrk fu (nI i) := by
    intro fu
    induction fu with
    | zero => intro i h1 h2; omega
    | succ fu ih =>
      intro i g1 g2 g3
      by_cases e : i = 8
      · subst e
        refine br_t (by decide) (h0 ?_)
        rintro ⟨id, ⟨j, j1, j2⟩, j3⟩
        exact g3 j (by omega) j1 (by rw [j2]; exact j3)
      · refine br_f (nI_ge (b := 8) (by omega) (by omega)) ⟨by rw [ix8]; exact ivp (by omega) (by omega), ?_⟩
        rw [ix8, icl (by omega), Rt p hl i (by omega)]
        by_cases ei : i ≤ gm c sr ds p
        · have hlt := yp_lt W hl ei
          rw [if_pos ei]
          refine br_f (nI_pos (by omega)) ⟨ivp (by omega) (by omega), ivp hlt (by omega), ?_⟩
          rw [icl (by omega), S _ hlt]
          by_cases b : bL sM 0 (gR c sr ds cl p i / 2) = true
          · rw [if_pos b]
            exact br_f (by decide) (h1 ⟨_, ⟨i, ei, rfl⟩, b⟩)
          · rw [if_neg b]
            refine br_t rfl (nm_r (nI_1 i) (ih (i + 1) (by omega) (by omega) ?_))
            intro j hj hjm
            by_cases ej : j = i
            · subst ej; exact b
            · exact g3 j (by omega) hjm
        · rw [if_neg ei]
          refine br_t (by decide) (nm_r (nI_1 i) (ih (i + 1) (by omega) (by omega) ?_))
          intro j hj hjm
          exact g3 j (by omega) hjm
  exact ⟨9, lp 9 0 (by omega) (by omega) (fun j hj => by omega)⟩

theorem yw_fh71 {post : SY → Prop} {J55 J63 : Int32 → (Nat → Int32) → (Nat → Int32) → (Nat → Int32) → (Nat → Int32) → (Nat → Int32) → (Nat → Int32) → (Nat → Int32) → (Nat → Int32) → (Nat → Int32) → (Nat → Int32) → (Nat → Int32) → (Nat → Int32) → (Nat → Int32) → (Nat → Int32) → Prop} {x1 : Int32} (W : gW c r sr ds cl) (P : xPk c r kk st sr ds cl ln tk stO srO taO clO leO tkO) (Rt : yRt c st sr ds cl pth) {h : Nat → Nat} (hlv : ∀ q, q < 16 → h q ≠ 0 → Lv st q) {p : Nat} (hp : p < 16)
    (hJ : ∀ mrk' : Nat → Int32, yHb (hs st (shR c sr ds cl) p h) mrk' → J63 (nI (p + 1)) stO srO taO clO leO tkO age rnk pay pth ysn tot blk mrk') :
    ∀ (fu q : Nat) (mrk' : Nat → Int32), q ≤ 16 → 16 - q < fu → yHb (cif (st p = 2 ∧ h p = 0 ∧ ∃ q', q' < q ∧ h q' ≠ 0 ∧ shR c sr ds cl p q') (fun x => if x = p then 3 else h x) h) mrk' →
      wY_findHeld_71 post J55 J63 x1 (nI p) fC fR fK fD fu (nI q) stO srO taO clO leO tkO age rnk pay pth ysn tot blk mrk' := by
  have vp := ivp (n := p) (N := 16) hp (by omega)
  have ep : (nI p).toNatClampNeg = p := icl (by omega)
  have p1 := (P p hp).1
  have p7 := (P p hp).2.2.2.2.2.2.1
  intro fu
  induction fu with
  | zero => intro q mrk' h1 h2; omega
  | succ fu ih =>
    intro q mrk' h1 h2 Hb
    by_cases e : q = 16
    · subst e
      refine br_t (by decide) (nm_r (nI_1 p) (hJ mrk' ?_))
      exact Hb
    · have hq : q < 16 := by omega
      have vq := ivp (n := q) (N := 16) hq (by omega)
      have eq : (nI q).toNatClampNeg = q := icl (by omega)
      have STAY : ((st p = 2 ∧ h p = 0 ∧ ∃ q', q' < q + 1 ∧ h q' ≠ 0 ∧ shR c sr ds cl p q') → (st p = 2 ∧ h p = 0 ∧ ∃ q', q' < q ∧ h q' ≠ 0 ∧ shR c sr ds cl p q')) → wY_findHeld_71 post J55 J63 x1 (nI p) fC fR fK fD fu (nI (q + 1)) stO srO taO clO leO tkO age rnk pay pth ysn tot blk mrk' := by
        intro imp
        refine ih (q + 1) mrk' (by omega) (by omega) ?_
        by_cases cc : st p = 2 ∧ h p = 0 ∧ ∃ q', q' < q ∧ h q' ≠ 0 ∧ shR c sr ds cl p q'
        · rw [cif_t cc] at Hb
          obtain ⟨d1, d2, q', d3, d4⟩ := cc
          rw [cif_t ⟨d1, d2, q', by omega, d4⟩]; exact Hb
        · rw [cif_f cc] at Hb
          rw [cif_f (fun z => cc (imp z))]; exact Hb
      refine br_f (nI_ge (b := 16) hq (by omega)) ⟨vp, ?_⟩
      rw [ep, p1]
      by_cases s2 : st p = 2
      · refine br_t (by rw [s2]; rfl) ⟨vp, ?_⟩
        have hmp := Hb p hp
        by_cases cc : st p = 2 ∧ h p = 0 ∧ ∃ q', q' < q ∧ h q' ≠ 0 ∧ shR c sr ds cl p q'
        · rw [cif_t cc] at hmp
          have hmp : mrk' p = if (if p = p then 3 else h p) = 0 then 0 else 1 := hmp
          rw [if_pos rfl] at hmp
          rw [hmp]
          refine br_f (by decide) (nm_r (nI_1 q) (STAY (fun _ => cc)))
        · rw [cif_f cc] at hmp
          rw [hmp]
          by_cases z : h p = 0
          · rw [if_pos z]
            refine br_t rfl ⟨vq, ?_⟩
            have hmq := Hb q hq
            rw [cif_f cc] at hmq
            rw [eq, hmq]
            by_cases zq : h q = 0
            · rw [if_pos zq]
              refine br_t rfl (nm_r (nI_1 q) (STAY ?_))
              rintro ⟨d1, d2, q', d3, d4, d5⟩
              refine ⟨d1, d2, q', ?_, d4, d5⟩
              have : q' ≠ q := by rintro rfl; exact d4 zq
              omega
            · rw [if_neg zq]
              refine br_f (by decide) (yw_share W P Rt ⟨hp, .inr s2⟩ (hlv q hq zq) (fun y => br_f (by decide) ⟨vp, nm_r (e' := upd mrk' p 1) rfl (nm_r (nI_1 q) (ih (q + 1) _ (by omega) (by omega) ?_))⟩) (fun y => br_t rfl (nm_r (nI_1 q) (STAY ?_))))
              · rw [cif_t ⟨s2, z, q, by omega, zq, y⟩]
                intro x hx
                show upd mrk' p 1 x = if (if x = p then 3 else h x) = 0 then 0 else 1
                by_cases ex : x = p
                · subst ex; rw [pk_us, if_pos rfl]; rfl
                · have := Hb x hx
                  rw [cif_f cc] at this
                  rw [pk_un ex, if_neg ex]; exact this
              · rintro ⟨d1, d2, q', d3, d4, d5⟩
                refine ⟨d1, d2, q', ?_, d4, d5⟩
                have : q' ≠ q := by rintro rfl; exact y d5
                omega
          · rw [if_neg z]
            exact br_f (by decide) (nm_r (nI_1 q) (STAY (fun y => absurd y.2.1 z)))
      · exact br_f (fun y => s2 ((ieq (b := 2) (by omega) (by omega)).mp y)) (nm_r (nI_1 q) (STAY (fun y => absurd y.1 s2)))

theorem hs_lv {h : Nat → Nat} {sh : Nat → Nat → Prop} (hlv : ∀ q, q < 16 → h q ≠ 0 → Lv st q) (p : Nat) : ∀ q, q < 16 → hs st sh p h q ≠ 0 → Lv st q := by
  intro q hq hz
  by_cases c : hC st sh h p
  · rw [hs_t c] at hz
    have hz : (if q = p then 3 else h q) ≠ 0 := hz
    by_cases e : q = p
    · subst e; exact ⟨hq, .inr c.1⟩
    · rw [if_neg e] at hz; exact hlv q hq hz
  · rw [hs_f c] at hz; exact hlv q hq hz
theorem hr_lv {h : Nat → Nat} {sh : Nat → Nat → Prop} (hlv : ∀ q, q < 16 → h q ≠ 0 → Lv st q) : ∀ k q, q < 16 → hr st sh k h q ≠ 0 → Lv st q := by
  intro k
  induction k with
  | zero => exact hlv
  | succ k ih => exact hs_lv ih k
theorem hn_lv {h : Nat → Nat} {sh : Nat → Nat → Prop} (hlv : ∀ q, q < 16 → h q ≠ 0 → Lv st q) : ∀ k q, q < 16 → hn st sh h k q ≠ 0 → Lv st q := by
  intro k
  induction k with
  | zero => exact hlv
  | succ k ih => exact hr_lv ih 16

theorem yw_fh63 {post : SY → Prop} {J55 : Int32 → (Nat → Int32) → (Nat → Int32) → (Nat → Int32) → (Nat → Int32) → (Nat → Int32) → (Nat → Int32) → (Nat → Int32) → (Nat → Int32) → (Nat → Int32) → (Nat → Int32) → (Nat → Int32) → (Nat → Int32) → (Nat → Int32) → (Nat → Int32) → Prop} {x1 : Int32} (W : gW c r sr ds cl) (P : xPk c r kk st sr ds cl ln tk stO srO taO clO leO tkO) (Rt : yRt c st sr ds cl pth) {h : Nat → Nat} (hlv : ∀ q, q < 16 → h q ≠ 0 → Lv st q)
    (hJ : ∀ mrk' : Nat → Int32, yHb (hr st (shR c sr ds cl) 16 h) mrk' → J55 (x1 + 1) stO srO taO clO leO tkO age rnk pay pth ysn tot blk mrk') :
    ∀ (fu p : Nat) (mrk' : Nat → Int32), p ≤ 16 → 16 - p < fu → yHb (hr st (shR c sr ds cl) p h) mrk' → wY_findHeld_63 post J55 x1 fC fR fK fD fu (nI p) stO srO taO clO leO tkO age rnk pay pth ysn tot blk mrk' := by
  intro fu
  induction fu with
  | zero => intro p mrk' h1 h2; omega
  | succ fu ih =>
    intro p mrk' h1 h2 Hb
    by_cases e : p = 16
    · subst e
      exact br_t (by decide) (nm_e (hJ mrk' Hb))
    · refine br_f (nI_ge (b := 16) (by omega) (by omega)) ⟨17, ?_⟩
      refine yw_fh71 W P Rt (h := hr st (shR c sr ds cl) p h) (hr_lv hlv p) (by omega) ?_ 17 0 mrk' (by omega) (by omega) ?_
      · intro mrk2 Hb2
        exact ih (p + 1) mrk2 (by omega) (by omega) Hb2
      · rw [cif_f (fun z => by obtain ⟨_, _, q', h, _⟩ := z; omega)]; exact Hb

theorem yw_fh55 {post : SY → Prop} (W : gW c r sr ds cl) (P : xPk c r kk st sr ds cl ln tk stO srO taO clO leO tkO) (Rt : yRt c st sr ds cl pth) {h : Nat → Nat} (hlv : ∀ q, q < 16 → h q ≠ 0 → Lv st q)
    (k : ∀ mrk' : Nat → Int32, yHb (hn st (shR c sr ds cl) h 16) mrk' → post (fC, fR, fK, fD, stO, srO, taO, clO, leO, tkO, age, rnk, pay, pth, ysn, tot, blk, mrk')) :
    ∀ (fu n : Nat) (mrk' : Nat → Int32), n ≤ 16 → 16 - n < fu → yHb (hn st (shR c sr ds cl) h n) mrk' → wY_findHeld_55 post fC fR fK fD fu (nI n) stO srO taO clO leO tkO age rnk pay pth ysn tot blk mrk' := by
  intro fu
  induction fu with
  | zero => intro n mrk' h1 h2; omega
  | succ fu ih =>
    intro n mrk' h1 h2 Hb
    by_cases e : n = 16
    · subst e
      exact br_t (by decide) (k mrk' Hb)
    · refine br_f (nI_ge (b := 16) (by omega) (by omega)) ⟨17, ?_⟩
      refine yw_fh63 W P Rt (h := hn st (shR c sr ds cl) h n) (hn_lv hlv n) ?_ 17 0 mrk' (by omega) (by omega) Hb
      intro mrk2 Hb2
      rw [nI_1]
      exact ih (n + 1) mrk2 (by omega) (by omega) Hb2

theorem yw_findHeld {post : SY → Prop} (W : gW c r sr ds cl) (P : xPk c r kk st sr ds cl ln tk stO srO taO clO leO tkO) (Rt : yRt c st sr ds cl pth) (S : xyS sM blk)
    (k : ∀ mrk' : Nat → Int32, yHb (hn st (shR c sr ds cl) (hz sM c st sr ds cl) 16) mrk' → post (fC, fR, fK, fD, stO, srO, taO, clO, leO, tkO, age, rnk, pay, pth, ysn, tot, blk, mrk')) : wpY_findHeld post (fC, fR, fK, fD, stO, srO, taO, clO, leO, tkO, age, rnk, pay, pth, ysn, tot, blk, mrk) := by
  have lp : ∀ (fu i : Nat) (mrk' : Nat → Int32), i ≤ 16 → 16 - i < fu → (∀ p, p < i → mrk' p = if hz sM c st sr ds cl p = 0 then 0 else 1) → wY_findHeld_2 post fC fR fK fD fu (nI i) stO srO taO clO leO tkO age rnk pay pth ysn tot blk mrk' := by
    intro fu
    induction fu with
    | zero => intro i mrk' h1 h2; omega
    | succ fu ih =>
      intro i mrk' h1 h2 Hb
      by_cases e : i = 16
      · subst e
        refine br_t (by decide) ⟨17, ?_⟩
        refine yw_fh55 W P Rt (h := hz sM c st sr ds cl) (fun q hq z => ⟨hq, (hz_le q).2 z⟩) k 17 0 mrk' (by omega) (by omega) Hb
      · have hi : i < 16 := by omega
        have vi := ivp (n := i) (N := 16) hi (by omega)
        have ei : (nI i).toNatClampNeg = i := icl (by omega)
        have p1 := (P i hi).1
        have p7 := (P i hi).2.2.2.2.2.2.1
        have fin : ∀ v : Int32, v = (if hz sM c st sr ds cl i = 0 then 0 else 1) → wY_findHeld_2 post fC fR fK fD fu (nI (i + 1)) stO srO taO clO leO tkO age rnk pay pth ysn tot blk (upd mrk' i v) := by
          intro v hv
          refine ih (i + 1) _ (by omega) (by omega) ?_
          intro p hp
          by_cases eq : p = i
          · subst eq; rw [pk_us]; exact hv
          · rw [pk_un eq]; exact Hb p (by omega)
        refine br_f (nI_ge (b := 16) hi (by omega)) ⟨vi, ?_⟩
        rw [ei, p1]
        unfold hz at fin
        by_cases s1 : st i = 1
        · rw [if_pos s1] at fin
          exact br_t (by rw [s1]; rfl) ⟨vi, nm_r (e' := upd mrk' i 1) rfl (nm_r (nI_1 i) (fin 1 rfl))⟩
        · rw [if_neg s1] at fin
          refine br_f (fun y => s1 ((ieq (b := 1) (by omega) (by omega)).mp y)) ⟨vi, ?_⟩
          by_cases s2 : st i = 2
          · refine br_t (by rw [s2]; rfl) (yw_onStall W Rt S ⟨hi, .inr s2⟩ (fun z => br_f (by decide) ⟨vi, nm_r (e' := upd mrk' i 1) rfl (nm_r (nI_1 i) (fin 1 ?_))⟩) (fun z => br_t rfl ⟨vi, nm_r (e' := upd mrk' i 0) rfl (nm_r (nI_1 i) (fin 0 ?_))⟩))
            · rw [cif_t ⟨s2, z⟩]; rfl
            · rw [cif_f (fun y => z y.2)]; rfl
          · refine br_f (fun y => s2 ((ieq (b := 2) (by omega) (by omega)).mp y)) ⟨vi, nm_r (e' := upd mrk' i 0) rfl (nm_r (nI_1 i) (fin 0 ?_))⟩
            rw [cif_f (fun y => s2 y.1)]; rfl
  exact ⟨17, lp 17 0 mrk (by omega) (by omega) (fun j hj => by omega)⟩
end
end
section
/-! lists of slots against counts over all slots -/
def lsm (f : Nat → Nat) : List Nat → Nat
  | [] => 0
  | a :: t => f a + lsm f t
theorem lsm_sm {f : Nat → Nat} {N : Nat} : ∀ l : List Nat, l.Nodup → (∀ a, a ∈ l → a < N) → lsm f l = sm (fun p => if p ∈ l then f p else 0) N := by
  intro l
  induction l with
  | nil =>
    intro _ _
    symm
    refine sm_z N ?_
    intro i _
    show (if i ∈ ([] : List Nat) then f i else 0) = 0
    rw [if_neg (by simp)]
  | cons a t ih =>
    intro hn hl
    rw [List.nodup_cons] at hn
    have i1 := ih hn.2 (fun b hb => hl b (by simp [hb]))
    have key := sm_upd (f := fun p => if p ∈ t then f p else 0) (g := fun p => if p ∈ a :: t then f p else 0) (j := a) N (hl a (by simp)) (by
      intro i _ hne
      show (if i ∈ a :: t then f i else 0) = if i ∈ t then f i else 0
      by_cases h : i ∈ t
      · rw [if_pos h, if_pos (by simp [h])]
      · rw [if_neg h, if_neg (by simp [h, hne])])
    simp only [if_neg hn.1] at key
    rw [if_pos (by simp)] at key
    show f a + lsm f t = _
    rw [i1]
    omega
theorem lsm_app {f : Nat → Nat} : ∀ l l' : List Nat, lsm f (l ++ l') = lsm f l + lsm f l' := by
  intro l l'
  induction l with
  | nil => show lsm f l' = 0 + lsm f l'; omega
  | cons a t ih => show f a + lsm f (t ++ l') = f a + lsm f t + lsm f l'; omega
theorem lsm_congr {f g : Nat → Nat} : ∀ l : List Nat, (∀ a, a ∈ l → f a = g a) → lsm f l = lsm g l := by
  intro l
  induction l with
  | nil => intro _; rfl
  | cons a t ih => intro h; show f a + lsm f t = g a + lsm g t; rw [h a (by simp), ih (fun b hb => h b (by simp [hb]))]
theorem lsm_one {f : Nat → Nat} : ∀ l : List Nat, (∀ a, a ∈ l → f a = 1) → lsm f l = l.length := by
  intro l
  induction l with
  | nil => intro _; rfl
  | cons a t ih => intro h; show f a + lsm f t = t.length + 1; rw [h a (by simp), ih (fun b hb => h b (by simp [hb]))]; omega
theorem lsm_zero {f : Nat → Nat} : ∀ l : List Nat, (∀ a, a ∈ l → f a = 0) → lsm f l = 0 := by
  intro l
  induction l with
  | nil => intro _; rfl
  | cons a t ih => intro h; show f a + lsm f t = 0; rw [h a (by simp), ih (fun b hb => h b (by simp [hb]))]
theorem lsm_le {f : Nat → Nat} {b : Nat} : ∀ l : List Nat, (∀ a, a ∈ l → f a ≤ b) → lsm f l ≤ l.length * b := by
  intro l
  induction l with
  | nil => intro _; show 0 ≤ _; omega
  | cons a t ih =>
    intro h
    have h1 := ih (fun b hb => h b (by simp [hb]))
    have h2 := h a (by simp)
    show f a + lsm f t ≤ (t.length + 1) * b
    rw [Nat.succ_mul]; omega
theorem nd_len : ∀ (n : Nat) (l : List Nat), l.Nodup → (∀ a, a ∈ l → a < n) → l.length ≤ n := by
  intro n l hn hl
  have h1 := lsm_one (f := fun _ => 1) l (fun _ _ => rfl)
  have h2 := lsm_sm (f := fun _ => 1) l hn hl
  have h3 := sm_le (f := fun p => if p ∈ l then 1 else 0) (b := 1) n (by
    intro i _
    show (if i ∈ l then 1 else 0) ≤ 1
    split <;> omega)
  omega
theorem pw_nd {g : Nat → Nat} {l : List Nat} (h : l.Pairwise (fun a b => g a < g b)) : l.Nodup := by
  refine List.Pairwise.imp ?_ h
  intro a b hab e
  subst e; omega
/-- the place in a sorted list is the number of the smaller ones -/
theorem pw_cnt {g : Nat → Nat} {l t : List Nat} {x : Nat} (h : (l ++ x :: t).Pairwise (fun a b => g a < g b)) : lsm (fun p => if g p < g x then 1 else 0) (l ++ x :: t) = l.length := by
  rw [List.pairwise_append] at h
  obtain ⟨_, h2, h3⟩ := h
  rw [List.pairwise_cons] at h2
  rw [lsm_app, lsm_one l (by
    intro a ha
    show (if g a < g x then 1 else 0) = 1
    rw [if_pos (h3 a ha x (by simp))]), lsm_zero (x :: t) (by
    intro a ha
    show (if g a < g x then 1 else 0) = 0
    rw [List.mem_cons] at ha
    rcases ha with rfl | ha
    · rw [if_neg (by omega)]
    · have := h2.1 a ha
      rw [if_neg (by omega)])]
  rfl
/-- the least of a sorted list is its first -/
theorem pw_first {g : Nat → Nat} {t : List Nat} {x p : Nat} (h : (x :: t).Pairwise (fun a b => g a < g b)) (hp : p ∈ x :: t) (hl : ∀ q, q ∈ x :: t → g p ≤ g q) : p = x := by
  rw [List.pairwise_cons] at h
  rw [List.mem_cons] at hp
  rcases hp with e | e
  · exact e
  · have := h.1 p e
    have := hl x (by simp)
    omega
theorem mem_split {x : Nat} : ∀ l : List Nat, x ∈ l → ∃ a b, l = a ++ x :: b := by
  intro l
  induction l with
  | nil => intro h; simp at h
  | cons y t ih =>
    intro h
    rw [List.mem_cons] at h
    rcases h with e | e
    · exact ⟨[], t, by rw [e]; rfl⟩
    · obtain ⟨a, b, hab⟩ := ih e
      exact ⟨y :: a, b, by rw [hab]; rfl⟩
end
section
/-! the relation -/
def zOd (st ag : Nat → Nat) (od : List Nat) (no : Nat) (fU : Int32) (ord age : Nat → Int32) : Prop :=
  fU = nI od.length ∧ (∀ j, j < od.length → ord j = nI (od.getD j 0)) ∧ (∀ p, p ∈ od ↔ Lv st p) ∧ od.Pairwise (fun a b => ag a < ag b) ∧ ∀ p, Lv st p → age p = nI (ag p) ∧ ag p < no
def zIb (st ds rk : Nat → Nat) (IB : Nat → List Nat) (nr : Nat) (iH iT iN rnk : Nat → Int32) : Prop :=
  rL 16 IB iH iT iN ∧ (∀ n, n < 16 → ∀ p, p ∈ IB n ↔ p < 16 ∧ st p = 3 ∧ ds p = n) ∧ (∀ n, n < 16 → (IB n).Pairwise (fun a b => rk a < rk b)) ∧ ∀ p, p < 16 → st p = 3 → rnk p = nI (rk p) ∧ rk p < nr
def zTo (no nr lo : Nat) (oT pT rT tT cT fF : Int32) (tot : Nat → Int32) : Prop :=
  oT = nI no ∧ no ≤ 1000000 ∧ rT = nI nr ∧ nr + lo ≤ no ∧ tot 0 = oT ∧ tot 1 = pT ∧ tot 2 = rT ∧ tot 3 = tT ∧ tot 4 = cT ∧ tot 5 = fF ∧ fF = 0
section
variable {fC fR fK fD fN fU fT fM fA oT pT rT tT cT fF : Int32} {cO rO lT iB stO srO taO clO leO tkO seO ejO pay ord sH sT sN iH iT iN ow crd cx cel bH bC ret res tur itu arr mF mT mL hB : Nat → Int32} {rM sM hM : Nat → Int64}
variable {age rnk pth ysn tot blk mrk : Nat → Int32}
variable {c r kk D no nr : Nat} {st sr ds cl ln tk ag rk : Nat → Nat} {K : Nat → Nat → Nat} {B : Nat → List Nat} {w : Nat → Nat} {Q : Nat → List Nat} {cr : Nat → Nat} {rt od : List Nat} {IB : Nat → List Nat}

def i_Rel (_ : Nat) (u : SX) (v : SY) : Prop :=
  ∃ (fC fR fK fD fN fU fT fM fA oT pT rT tT cT fF : Int32) (cO rO lT iB stO srO taO clO leO tkO seO ejO pay : Nat → Int32) (rM : Nat → Int64) (ord sH sT sN iH iT iN ow crd cx cel bH bC ret : Nat → Int32) (sM : Nat → Int64) (res tur itu arr mF mT mL hB : Nat → Int32) (hM : Nat → Int64)
    (age rnk pth ysn tot blk mrk : Nat → Int32)
    (c r kk D no nr : Nat) (st sr ds cl ln tk ag rk : Nat → Nat) (K : Nat → Nat → Nat) (B : Nat → List Nat) (w : Nat → Nat) (Q : Nat → List Nat) (cr : Nat → Nat) (rt od : List Nat) (IB : Nat → List Nat),
    u = (fC, fR, fK, fD, fN, fU, fT, fM, fA, oT, pT, rT, tT, cT, fF, cO, rO, lT, iB, stO, srO, taO, clO, leO, tkO, seO, ejO, pay, rM, ord, sH, sT, sN, iH, iT, iN, ow, crd, cx, cel, bH, bC, ret, sM, res, tur, itu, arr, mF, mT, mL, hB, hM) ∧ v = (fC, fR, fK, fD, stO, srO, taO, clO, leO, tkO, age, rnk, pay, pth, ysn, tot, blk, mrk) ∧
    xGeo c r kk D fC fR fK fD fN cO rO lT iB ∧ xPk c r kk st sr ds cl ln tk stO srO taO clO leO tkO ∧ zM c D st sr ds cl ln ysn K B w Q cr rt fT seO ejO sH sT sN ow crd cx cel bH bC ret res arr ∧ xTu tur itu ∧
    xRt c st sr ds cl rM ∧ yRt c st sr ds cl pth ∧ xyS sM blk ∧ zOd st ag od no fU ord age ∧ zIb st ds rk IB nr iH iT iN rnk ∧ zTo no nr od.length oT pT rT tT cT fF tot

theorem i_up {k : Nat} {u : SX} {v : SY} (h : i_Rel k u v) : i_Rel (k + 5) u v := h

theorem zz_in {k : Nat} (h1 : xGeo c r kk D fC fR fK fD fN cO rO lT iB) (h2 : xPk c r kk st sr ds cl ln tk stO srO taO clO leO tkO) (h3 : zM c D st sr ds cl ln ysn K B w Q cr rt fT seO ejO sH sT sN ow crd cx cel bH bC ret res arr) (h4 : xTu tur itu)
    (h5 : xRt c st sr ds cl rM) (h6 : yRt c st sr ds cl pth) (h7 : xyS sM blk) (h8 : zOd st ag od no fU ord age) (h9 : zIb st ds rk IB nr iH iT iN rnk) (h10 : zTo no nr od.length oT pT rT tT cT fF tot) :
    i_Rel k (fC, fR, fK, fD, fN, fU, fT, fM, fA, oT, pT, rT, tT, cT, fF, cO, rO, lT, iB, stO, srO, taO, clO, leO, tkO, seO, ejO, pay, rM, ord, sH, sT, sN, iH, iT, iN, ow, crd, cx, cel, bH, bC, ret, sM, res, tur, itu, arr, mF, mT, mL, hB, hM) (fC, fR, fK, fD, stO, srO, taO, clO, leO, tkO, age, rnk, pay, pth, ysn, tot, blk, mrk) :=
  ⟨fC, fR, fK, fD, fN, fU, fT, fM, fA, oT, pT, rT, tT, cT, fF, cO, rO, lT, iB, stO, srO, taO, clO, leO, tkO, seO, ejO, pay, rM, ord, sH, sT, sN, iH, iT, iN, ow, crd, cx, cel, bH, bC, ret, sM, res, tur, itu, arr, mF, mT, mL, hB, hM,
    age, rnk, pth, ysn, tot, blk, mrk, c, r, kk, D, no, nr, st, sr, ds, cl, ln, tk, ag, rk, K, B, w, Q, cr, rt, od, IB, rfl, rfl, h1, h2, h3, h4, h5, h6, h7, h8, h9, h10⟩

theorem zz_el {k : Nat} {u : SX} {v : SY} {P : SX → SY → Prop}
    (h : ∀ (fC fR fK fD fN fU fT fM fA oT pT rT tT cT fF : Int32) (cO rO lT iB stO srO taO clO leO tkO seO ejO pay : Nat → Int32) (rM : Nat → Int64) (ord sH sT sN iH iT iN ow crd cx cel bH bC ret : Nat → Int32) (sM : Nat → Int64) (res tur itu arr mF mT mL hB : Nat → Int32) (hM : Nat → Int64)
    (age rnk pth ysn tot blk mrk : Nat → Int32)
    (c r kk D no nr : Nat) (st sr ds cl ln tk ag rk : Nat → Nat) (K : Nat → Nat → Nat) (B : Nat → List Nat) (w : Nat → Nat) (Q : Nat → List Nat) (cr : Nat → Nat) (rt od : List Nat) (IB : Nat → List Nat),
    xGeo c r kk D fC fR fK fD fN cO rO lT iB → xPk c r kk st sr ds cl ln tk stO srO taO clO leO tkO → zM c D st sr ds cl ln ysn K B w Q cr rt fT seO ejO sH sT sN ow crd cx cel bH bC ret res arr → xTu tur itu →
    xRt c st sr ds cl rM → yRt c st sr ds cl pth → xyS sM blk → zOd st ag od no fU ord age → zIb st ds rk IB nr iH iT iN rnk → zTo no nr od.length oT pT rT tT cT fF tot → P (fC, fR, fK, fD, fN, fU, fT, fM, fA, oT, pT, rT, tT, cT, fF, cO, rO, lT, iB, stO, srO, taO, clO, leO, tkO, seO, ejO, pay, rM, ord, sH, sT, sN, iH, iT, iN, ow, crd, cx, cel, bH, bC, ret, sM, res, tur, itu, arr, mF, mT, mL, hB, hM) (fC, fR, fK, fD, stO, srO, taO, clO, leO, tkO, age, rnk, pay, pth, ysn, tot, blk, mrk)) (I : i_Rel k u v) : P u v :=
  Exists.elim I fun fC I => Exists.elim I fun fR I => Exists.elim I fun fK I => Exists.elim I fun fD I => Exists.elim I fun fN I => Exists.elim I fun fU I => Exists.elim I fun fT I => Exists.elim I fun fM I => Exists.elim I fun fA I => Exists.elim I fun oT I => Exists.elim I fun pT I => Exists.elim I fun rT I => Exists.elim I fun tT I => Exists.elim I fun cT I => Exists.elim I fun fF I => Exists.elim I fun cO I => Exists.elim I fun rO I => Exists.elim I fun lT I => Exists.elim I fun iB I => Exists.elim I fun stO I => Exists.elim I fun srO I => Exists.elim I fun taO I => Exists.elim I fun clO I => Exists.elim I fun leO I => Exists.elim I fun tkO I => Exists.elim I fun seO I => Exists.elim I fun ejO I => Exists.elim I fun pay I => Exists.elim I fun rM I => Exists.elim I fun ord I => Exists.elim I fun sH I => Exists.elim I fun sT I => Exists.elim I fun sN I => Exists.elim I fun iH I => Exists.elim I fun iT I => Exists.elim I fun iN I => Exists.elim I fun ow I => Exists.elim I fun crd I => Exists.elim I fun cx I => Exists.elim I fun cel I => Exists.elim I fun bH I => Exists.elim I fun bC I => Exists.elim I fun ret I => Exists.elim I fun sM I => Exists.elim I fun res I => Exists.elim I fun tur I => Exists.elim I fun itu I => Exists.elim I fun arr I => Exists.elim I fun mF I => Exists.elim I fun mT I => Exists.elim I fun mL I => Exists.elim I fun hB I => Exists.elim I fun hM I => Exists.elim I fun age I => Exists.elim I fun rnk I => Exists.elim I fun pth I => Exists.elim I fun ysn I => Exists.elim I fun tot I => Exists.elim I fun blk I => Exists.elim I fun mrk I => Exists.elim I fun c I => Exists.elim I fun r I => Exists.elim I fun kk I => Exists.elim I fun D I => Exists.elim I fun no I => Exists.elim I fun nr I => Exists.elim I fun st I => Exists.elim I fun sr I => Exists.elim I fun ds I => Exists.elim I fun cl I => Exists.elim I fun ln I => Exists.elim I fun tk I => Exists.elim I fun ag I => Exists.elim I fun rk I => Exists.elim I fun K I => Exists.elim I fun B I => Exists.elim I fun w I => Exists.elim I fun Q I => Exists.elim I fun cr I => Exists.elim I fun rt I => Exists.elim I fun od I => Exists.elim I fun IB I => by
    rw [I.1, I.2.1]
    exact h fC fR fK fD fN fU fT fM fA oT pT rT tT cT fF cO rO lT iB stO srO taO clO leO tkO seO ejO pay rM ord sH sT sN iH iT iN ow crd cx cel bH bC ret sM res tur itu arr mF mT mL hB hM age rnk pth ysn tot blk mrk c r kk D no nr st sr ds cl ln tk ag rk K B w Q cr rt od IB I.2.2.1 I.2.2.2.1 I.2.2.2.2.1 I.2.2.2.2.2.1 I.2.2.2.2.2.2.1 I.2.2.2.2.2.2.2.1 I.2.2.2.2.2.2.2.2.1 I.2.2.2.2.2.2.2.2.2.1 I.2.2.2.2.2.2.2.2.2.2.1 I.2.2.2.2.2.2.2.2.2.2.2
end
end
section
/-! coordinates -/
theorem gc_div {c r n : Nat} (hc : 2 ≤ c) (hn : n < c * r) : n / c < r := (Nat.div_lt_iff_lt_mul (by omega)).mpr (by rw [Nat.mul_comm]; exact hn)
theorem gc_mod {c n : Nat} (hc : 2 ≤ c) : n % c < c := Nat.mod_lt _ (by omega)
theorem gc_eq (c n : Nat) : n / c * c + n % c = n := by rw [Nat.mul_comm]; exact Nat.div_add_mod n c
theorem gc_of {c a b : Nat} (hb : b < c) : (a * c + b) / c = a ∧ (a * c + b) % c = b := by
  have hc : 0 < c := by omega
  constructor
  · rw [Nat.mul_comm, Nat.mul_add_div hc, Nat.div_eq_of_lt hb]; rfl
  · rw [Nat.mul_comm, Nat.mul_add_mod, Nat.mod_eq_of_lt hb]
section
variable {fC fR fK fD fN fU fT fM fA oT pT rT tT cT fF : Int32} {cO rO lT iB stO srO taO clO leO tkO seO ejO pay ord sH sT sN iH iT iN ow crd cx cel bH bC ret res tur itu arr mF mT mL hB : Nat → Int32} {rM sM hM : Nat → Int64}
variable {N c r kk D : Nat} {st sr ds cl ln tk : Nat → Nat}
theorem xw_isPort_f {post : Int32 → Prop} {v1 v2 : Int32} (X : xGeo c r kk D fC fR fK fD fN cO rO lT iB) (h : v1 < 0 ∨ nI (c * r) ≤ v1) (h0 : post 0) : wpX_isPort post (fC, fR, fK, fD, fN, fU, fT, fM, fA, oT, pT, rT, tT, cT, fF, cO, rO, lT, iB, stO, srO, taO, clO, leO, tkO, seO, ejO, pay, rM, ord, sH, sT, sN, iH, iT, iN, ow, crd, cx, cel, bH, bC, ret, sM, res, tur, itu, arr, mF, mT, mL, hB, hM) v1 v2 := by
  unfold wpX_isPort
  exact xw_isNode_f X.2.2.2.2.2.2.2.2.2.1 h (br_t rfl h0)
theorem xw_isPort_f2 {post : Int32 → Prop} {n : Nat} {v2 : Int32} (X : xGeo c r kk D fC fR fK fD fN cO rO lT iB) (hn : n < c * r) (h : v2 < 0 ∨ nI 6 ≤ v2) (h0 : post 0) : wpX_isPort post (fC, fR, fK, fD, fN, fU, fT, fM, fA, oT, pT, rT, tT, cT, fF, cO, rO, lT, iB, stO, srO, taO, clO, leO, tkO, seO, ejO, pay, rM, ord, sH, sT, sN, iH, iT, iN, ow, crd, cx, cel, bH, bC, ret, sM, res, tur, itu, arr, mF, mT, mL, hB, hM) (nI n) v2 := by
  have h16 := (gs_le X.1).2
  unfold wpX_isPort
  refine xw_isNode_t X.2.2.2.2.2.2.2.2.2.1 (by omega) hn (br_f (by decide) (br_c (fun _ => h0) (fun z => br_f ?_ h0)))
  have h6 := h.resolve_left z
  intro y
  rw [Int32.le_iff_toInt_le] at h6 y
  have e6 : (nI 6).toInt = 6 := by decide
  have e5 : (5 : Int32).toInt = 5 := by decide
  omega
theorem xw_isPort_t {post : Int32 → Prop} {n p : Nat} (X : xGeo c r kk D fC fR fK fD fN cO rO lT iB) (hn : n < c * r) (hp : p < 6) (h1 : gOk c r (n * 8 + p) = true → post 1) (h0 : ¬ gOk c r (n * 8 + p) = true → post 0) : wpX_isPort post (fC, fR, fK, fD, fN, fU, fT, fM, fA, oT, pT, rT, tT, cT, fF, cO, rO, lT, iB, stO, srO, taO, clO, leO, tkO, seO, ejO, pay, rM, ord, sH, sT, sN, iH, iT, iN, ow, crd, cx, cel, bH, bC, ret, sM, res, tur, itu, arr, mF, mT, mL, hB, hM) (nI n) (nI p) := by
  have h16 := (gs_le X.1).2
  unfold wpX_isPort
  refine xw_isNode_t X.2.2.2.2.2.2.2.2.2.1 (by omega) hn (br_f (by decide) (br_f (nI_pos (by omega)) (br_t (nI_le (b := 5) (by omega) (by omega)) ⟨by rw [ix8]; exact ivp (by omega) (by omega), ?_⟩)))
  rw [ix8, icl (by omega), X.2.2.2.2.2.2.2.2.2.2.2.1 _ (by omega)]
  by_cases e : gOk c r (n * 8 + p) = true
  · rw [if_pos e]
    obtain ⟨s1, s2, s3, s4⟩ := X.1
    have := ge_ok c (by omega) r (by omega) s1 s3 (n * 8 + p) (by omega) e
    exact br_f (nI_pos (by omega)) (h1 e)
  · rw [if_neg e]
    exact br_t (by decide) (h0 e)
/-- nextPort between nodes of the mesh -/
theorem xw_np {post : Int32 → Prop} {n d k : Nat} (X : xGeo c r kk D fC fR fK fD fN cO rO lT iB) (hn : n < c * r) (hd : d < c * r) (hk : k < 2) (h : post (nI (gNp c n d k))) : wpX_nextPort post (fC, fR, fK, fD, fN, fU, fT, fM, fA, oT, pT, rT, tT, cT, fF, cO, rO, lT, iB, stO, srO, taO, clO, leO, tkO, seO, ejO, pay, rM, ord, sH, sT, sN, iH, iT, iN, ow, crd, cx, cel, bH, bC, ret, sM, res, tur, itu, arr, mF, mT, mL, hB, hM) (nI n) (nI d) (nI k) := by
  have h16 := (gs_le X.1).2
  obtain ⟨S, _, _, _, _, _, _, _, _, _, Xc, _, _⟩ := X
  obtain ⟨s1, s2, s3, s4⟩ := S
  have hrow : ∀ x, x < c * r → x / c < 4 := fun x hx => by have := gc_div s1 hx; omega
  exact xw_nextPort (by omega) (by omega) hk s1 s2 ⟨hrow n hn, hrow d hd⟩ (Xc n hn).1 (Xc d hd).1 (Xc n hn).2 (Xc d hd).2 h
/-- the answer of route -/
def rvI (c s d k t : Nat) : Int32 := if t ≤ gDi c s d + 1 then nI (gP c s d k t) else -9
theorem xw_route49 {post : Int32 → Prop} {s d k t : Nat} (X : xGeo c r kk D fC fR fK fD fN cO rO lT iB) (hs : s < c * r) (hd : d < c * r) (hk : k < 2) (ht : t < 2 ^ 31) (h : post (rvI c s d k t)) :
    ∀ fu i n : Nat, 1 ≤ i → i ≤ gDi c s d + 1 → i ≤ t → 8 - i < fu → gLd c (gP c s d k (i - 1)) = n → wX_route_49 post (nI d) (nI k) (nI t) fC fR fK fD fN fU fT fM fA oT pT rT tT cT fF cO rO lT iB stO srO taO clO leO tkO seO ejO pay rM ord sH sT sN iH iT iN ow crd cx cel bH bC ret sM res tur itu arr mF mT mL hB hM fu (nI n) (nI i) := by
  have h16 := (gs_le X.1).2
  have h6 := gd_le X.1 hs hd
  intro fu
  induction fu with
  | zero => intro i n h1 h2 h3 h4; omega
  | succ fu ih =>
    intro i n h1 h2 h3 h4 hn
    obtain ⟨n', g1, g2, g3, g4, g5, g6, g7⟩ := gp_at X.1 hs hd hk h1 h2
    have en : n' = n := g3.symm.trans hn
    subst en
    refine br_f (nI_ge (b := 8) (by omega) (by omega)) (xw_np X g1 hd hk ?_)
    by_cases e : i = t
    · subst e
      refine br_t rfl ?_
      unfold rvI at h
      rw [if_pos h2, g2] at h
      rw [ix8]; exact h
    · refine br_f (fun z => e ((nI_eq (by omega) ht).mp z)) ?_
      by_cases e4 : gNp c n' d k = 4
      · refine br_t (by rw [e4]; rfl) ?_
        unfold rvI at h
        have := g6.mp e4
        rw [if_neg (by omega)] at h
        exact h
      · have hlt : i ≤ gDi c s d := by
          have : ¬ i = gDi c s d + 1 := fun z => e4 (g6.mpr z)
          omega
        obtain ⟨m1, m2, m3, m4, m5, m6⟩ := gp_mid X.1 hs hd hk hlt
        refine br_f (fun z => e4 ((ieq (b := 4) (by omega) (by omega)).mp z)) ⟨by rw [ix8]; exact ivp (by omega) (by omega), nm_r (e' := nI (gLd c (gP c s d k i))) ?_ (nm_r (nI_1 i) (ih (i + 1) _ (by omega) (by omega) (by omega) (by omega) rfl))⟩
        rw [ix8, icl (by omega), ← g2, X.2.2.2.2.2.2.2.2.2.2.2.1 _ (gp_lt X.1 hs hd hk h2), if_pos m2]
end
section
variable {fC fR fK fD : Int32} {stO srO taO clO leO tkO age rnk pay pth ysn tot blk mrk : Nat → Int32}
variable {N c r kk D : Nat} {st sr ds cl ln tk : Nat → Nat}
theorem yw_isNode_t {post : Int32 → Prop} {j : Nat} (hC : fC = nI c) (hR : fR = nI r) (hN : c * r < 4096) (hj : j < c * r) (h : post 1) : wpY_isNode post (fC, fR, fK, fD, stO, srO, taO, clO, leO, tkO, age, rnk, pay, pth, ysn, tot, blk, mrk) (nI j) := by
  refine br_f (nI_pos (by omega)) (br_f ?_ h)
  rw [hC, hR, pk_mul]; exact nI_ge hj (by omega)
theorem yw_isNode_f {post : Int32 → Prop} {v : Int32} (hC : fC = nI c) (hR : fR = nI r) (hv : v < 0 ∨ nI (c * r) ≤ v) (h : post 0) : wpY_isNode post (fC, fR, fK, fD, stO, srO, taO, clO, leO, tkO, age, rnk, pay, pth, ysn, tot, blk, mrk) v := by
  refine br_c (fun _ => h) (fun hn => br_t ?_ h)
  rw [hC, hR, pk_mul]; exact hv.resolve_left hn
theorem yw_rowOf {post : Int32 → Prop} {n : Nat} (S : gSh c r) (hC : fC = nI c) (hR : fR = nI r) (hn : n < c * r) (h : post (nI (n / c))) : wpY_rowOf post (fC, fR, fK, fD, stO, srO, taO, clO, leO, tkO, age, rnk, pay, pth, ysn, tot, blk, mrk) (nI n) := by
  have h16 := (gs_le S).2
  obtain ⟨s1, s2, s3, s4⟩ := S
  have hd := gc_div s1 hn
  have hk : ∀ i, n < i * c ↔ n / c < i := fun i => (Nat.div_lt_iff_lt_mul (by omega)).symm
  generalize n / c = a at *
  have lp : ∀ fu i x : Nat, 1 ≤ i → i ≤ r → r - i < fu → x ≤ a → x < i → (a < i → x = a) → (i ≤ a → x + 1 = i) → wY_rowOf_4 post (nI n) fC fR fK fD stO srO taO clO leO tkO age rnk pay pth ysn tot blk mrk fu (nI x) (nI i) := by
    intro fu
    induction fu with
    | zero => intro i x h1 h2 h3; omega
    | succ fu ih =>
      intro i x h1 h2 h3 h4 h5 h6 h7
      by_cases e : i = r
      · subst e
        refine br_t (by rw [hR]; exact Int32.le_refl _) ?_
        rw [h6 hd]; exact h
      · refine br_f (by rw [hR]; exact nI_ge (by omega) (by omega)) ?_
        have hic : i * c ≤ 16 := by
          have : i * c ≤ 4 * 4 := Nat.mul_le_mul (by omega) (by omega)
          omega
        by_cases q : n < i * c
        · have := (hk i).mp q
          refine br_t (by rw [hC, pk_mul]; exact nI_lt q (by omega)) (nm_r (nI_1 i) (ih (i + 1) x (by omega) (by omega) (by omega) h4 (by omega) (fun _ => h6 this) (by omega)))
        · have : ¬ a < i := fun z => q ((hk i).mpr z)
          refine br_f (by rw [hC, pk_mul]; exact nI_nlt (by omega) (by omega)) (nm_r (nI_1 i) (ih (i + 1) i (by omega) (by omega) (by omega) (by omega) (by omega) (by omega) (by omega)))
  exact ⟨5, lp 5 1 0 (by omega) (by omega) (by omega) (by omega) (by omega) (by omega) (by omega)⟩
theorem yw_exists_f {post : Int32 → Prop} {v1 v2 : Int32} (hC : fC = nI c) (hR : fR = nI r) (h : v1 < 0 ∨ nI (c * r) ≤ v1) (h0 : post 0) : wpY_exists post (fC, fR, fK, fD, stO, srO, taO, clO, leO, tkO, age, rnk, pay, pth, ysn, tot, blk, mrk) v1 v2 := by
  unfold wpY_exists
  exact yw_isNode_f hC hR h (br_t rfl h0)
theorem yw_exists_f2 {post : Int32 → Prop} {n : Nat} {v2 : Int32} (S : gSh c r) (hC : fC = nI c) (hR : fR = nI r) (hn : n < c * r) (h : v2 < 0 ∨ nI 6 ≤ v2) (h0 : post 0) : wpY_exists post (fC, fR, fK, fD, stO, srO, taO, clO, leO, tkO, age, rnk, pay, pth, ysn, tot, blk, mrk) (nI n) v2 := by
  have h16 := (gs_le S).2
  unfold wpY_exists
  refine yw_isNode_t hC hR (by omega) hn (br_f (by decide) (br_c (fun _ => h0) (fun z => br_f ?_ h0)))
  have h6 := h.resolve_left z
  intro y
  rw [Int32.le_iff_toInt_le] at h6 y
  have e6 : (nI 6).toInt = 6 := by decide
  have e5 : (5 : Int32).toInt = 5 := by decide
  omega
theorem gOk_at {n p : Nat} (hn : n < c * r) (hp : p < 6) : gOk c r (n * 8 + p) = true ↔ ¬ ((p = 0 ∧ n % c + 1 = c) ∨ (p = 1 ∧ n % c = 0) ∨ (p = 2 ∧ n / c = 0) ∨ (p = 3 ∧ n / c + 1 = r)) := by
  have hc : 0 < c := by
    rcases Nat.eq_zero_or_pos c with e | e
    · subst e; omega
    · exact e
  have hm : n % c < c := Nat.mod_lt _ hc
  have hd : n / c < r := (Nat.div_lt_iff_lt_mul hc).mpr (by rw [Nat.mul_comm]; exact hn)
  have e8 : (n * 8 + p) % 8 = p := by omega
  have e9 : (n * 8 + p) / 8 = n := by omega
  unfold gOk
  rw [e8, e9]
  have hp' : p = 0 ∨ p = 1 ∨ p = 2 ∨ p = 3 ∨ p = 4 ∨ p = 5 := by omega
  rcases hp' with rfl | rfl | rfl | rfl | rfl | rfl <;> simp [hn] <;> omega
theorem yw_exists_t {post : Int32 → Prop} {n p : Nat} (S : gSh c r) (hC : fC = nI c) (hR : fR = nI r) (hn : n < c * r) (hp : p < 6) (h1 : gOk c r (n * 8 + p) = true → post 1) (h0 : ¬ gOk c r (n * 8 + p) = true → post 0) : wpY_exists post (fC, fR, fK, fD, stO, srO, taO, clO, leO, tkO, age, rnk, pay, pth, ysn, tot, blk, mrk) (nI n) (nI p) := by
  have h16 := (gs_le S).2
  have S' := S
  obtain ⟨s1, s2, s3, s4⟩ := S
  have hd := gc_div s1 hn
  have hm := gc_mod (c := c) (n := n) s1
  have heq := gc_eq c n
  have key := gOk_at (c := c) (r := r) hn hp
  have hrow : ∀ {post : Int32 → Prop}, post (nI (n / c)) → wpY_rowOf post (fC, fR, fK, fD, stO, srO, taO, clO, leO, tkO, age, rnk, pay, pth, ysn, tot, blk, mrk) (nI n) := fun h => yw_rowOf S' hC hR hn h
  generalize n / c = a at *
  generalize n % c = b at *
  unfold wpY_exists
  refine yw_isNode_t hC hR (by omega) hn (br_f (by decide) (br_f (nI_pos (by omega)) (br_t (nI_le (b := 5) (by omega) (by omega)) (hrow (nm_r (e' := nI b) ?_ ?_)))))
  · rw [hC, pk_mul, pk_sub (by omega)]
    congr 1; omega
  have ep : ∀ a, a < 6 → (nI p = nI a ↔ p = a) := fun a ha => ieq (by omega) (by omega)
  have ec1 : fC - 1 = nI (c - 1) := by rw [hC]; exact pk_sub (b := 1) (by omega)
  have er1 : fR - 1 = nI (r - 1) := by rw [hR]; exact pk_sub (b := 1) (by omega)
  have J69 : ¬ (p = 0 ∧ b + 1 = c) → ¬ (p = 1 ∧ b = 0) → ¬ (p = 2 ∧ a = 0) → wY_exists_69 post (nI p) (nI (a)) fC fR fK fD stO srO taO clO leO tkO age rnk pay pth ysn tot blk mrk := by
    intro a1 a2 a3
    refine br_c (fun z => ?_) (fun z => h1 (key.mpr (fun y => ?_)))
    · have z := (ep 3 (by omega)).mp z
      rw [er1]
      refine br_c (fun y => h0 (fun g => ?_)) (fun y => h1 (key.mpr (fun g => ?_)))
      · have y := (ieq (by omega) (by omega)).mp y
        have := key.mp g
        omega
      · have : a + 1 = r := by omega
        exact y ((ieq (by omega) (by omega)).mpr (by omega))
    · have : p = 3 := by omega
      exact z ((ep 3 (by omega)).mpr this)
  have J60 : ¬ (p = 0 ∧ b + 1 = c) → ¬ (p = 1 ∧ b = 0) → wY_exists_60 post (nI p) (nI (a)) fC fR fK fD stO srO taO clO leO tkO age rnk pay pth ysn tot blk mrk := by
    intro a1 a2
    refine br_c (fun z => ?_) (fun z => J69 a1 a2 (fun y => z ((ep 2 (by omega)).mpr y.1)))
    have z := (ep 2 (by omega)).mp z
    refine br_c (fun y => h0 (fun g => ?_)) (fun y => J69 a1 a2 (fun g => y ((ieq (b := 0) (by omega) (by omega)).mpr g.2)))
    have y := (ieq (b := 0) (by omega) (by omega)).mp y
    have := key.mp g
    omega
  have J50 : ¬ (p = 0 ∧ b + 1 = c) → wY_exists_50 post (nI p) (nI (a)) (nI (b)) fC fR fK fD stO srO taO clO leO tkO age rnk pay pth ysn tot blk mrk := by
    intro a1
    refine br_c (fun z => ?_) (fun z => J60 a1 (fun y => z ((ep 1 (by omega)).mpr y.1)))
    have z := (ep 1 (by omega)).mp z
    refine br_c (fun y => h0 (fun g => ?_)) (fun y => J60 a1 (fun g => y ((ieq (b := 0) (by omega) (by omega)).mpr g.2)))
    have y := (ieq (b := 0) (by omega) (by omega)).mp y
    have := key.mp g
    omega
  refine br_c (fun z => ?_) (fun z => J50 (fun y => z ((ep 0 (by omega)).mpr y.1)))
  have z := (ep 0 (by omega)).mp z
  rw [ec1]
  refine br_c (fun y => h0 (fun g => ?_)) (fun y => J50 (fun g => y ((ieq (by omega) (by omega)).mpr (by omega))))
  have y := (ieq (by omega) (by omega)).mp y
  have := key.mp g
  omega
end
end
section
/-! the reference's channelAt -/
section
variable {fC fR fK fD : Int32} {stO srO taO clO leO tkO age rnk pay pth ysn tot blk mrk : Nat → Int32}
variable {N c r kk D : Nat}
theorem gLd_p {n p : Nat} (hp : p < 8) : gLd c (n * 8 + p) = if p = 0 then n + 1 else if p = 1 then n - 1 else if p = 2 then n - c else if p = 3 then n + c else n := by
  unfold gLd
  have e8 : (n * 8 + p) % 8 = p := by omega
  have e9 : (n * 8 + p) / 8 = n := by omega
  rw [e8, e9]
theorem yw_ch51 {post : Int32 → Prop} {s d k t : Nat} (S : gSh c r) (hC : fC = nI c) (hs : s < c * r) (hd : d < c * r) (hk : k < 2) (ht : t < 2 ^ 31) (h : post (rvI c s d k t)) :
    ∀ fu i n : Nat, 1 ≤ i → i ≤ gDi c s d + 1 → i ≤ t → 8 - i < fu → gLd c (gP c s d k (i - 1)) = n → wY_channelAt_51 post (nI k) (nI t) (nI (d / c)) (nI (d % c)) fC fR fK fD stO srO taO clO leO tkO age rnk pay pth ysn tot blk mrk fu (nI (n / c)) (nI (n % c)) (nI i) := by
  have h16 := (gs_le S).2
  have h6 := gd_le S hs hd
  intro fu
  induction fu with
  | zero => intro i n h1 h2 h3 h4; omega
  | succ fu ih =>
    intro i n h1 h2 h3 h4 hn
    obtain ⟨n', g1, g2, g3, g4, g5, g6, g7⟩ := gp_at S hs hd hk h1 h2
    have en : n' = n := g3.symm.trans hn
    subst en
    have S' := S
    obtain ⟨s1, s2, s3, s4⟩ := S
    have ha : n' / c < 4 := by have := gc_div s1 g1; omega
    have ha' : d / c < 4 := by have := gc_div s1 hd; omega
    have hb : n' % c < c := gc_mod s1
    have hb' : d % c < c := gc_mod s1
    have heq := gc_eq c n'
    have hnp : gNp c n' d k = if n' % c ≠ d % c ∧ (k = 0 ∨ n' / c = d / c) then (if n' % c < d % c then 0 else 1) else if n' / c ≠ d / c then (if n' / c < d / c then 3 else 2) else 4 := rfl
    -- the next node's coordinates
    have nxt : ∀ a2 b2 : Nat, b2 < c → gLd c (n' * 8 + gNp c n' d k) = a2 * c + b2 → i ≠ t → gNp c n' d k ≠ 4 → wY_channelAt_51 post (nI k) (nI t) (nI (d / c)) (nI (d % c)) fC fR fK fD stO srO taO clO leO tkO age rnk pay pth ysn tot blk mrk fu (nI a2) (nI b2) (nI (i + 1)) := by
      intro a2 b2 hb2 he hit h4'
      have hlt : i ≤ gDi c s d := by
        have : ¬ i = gDi c s d + 1 := fun z => h4' (g6.mpr z)
        omega
      have := ih (i + 1) (a2 * c + b2) (by omega) (by omega) (by omega) (by omega) (by
        have e1 : i + 1 - 1 = i := by omega
        rw [e1, g2, he])
      obtain ⟨q1, q2⟩ := gc_of (c := c) (a := a2) (b := b2) hb2
      rw [q1, q2] at this
      exact this
    have hrv : i = t → rvI c s d k t = nI (n' * 8 + gNp c n' d k) := by
      intro e
      subst e
      unfold rvI
      rw [if_pos h2, g2]
    have hrv4 : i ≠ t → gNp c n' d k = 4 → rvI c s d k t = -9 := by
      intro e e4
      have := g6.mp e4
      unfold rvI
      rw [if_neg (by omega)]
    clear ih g2 g4 g6 g7 hn g3
    generalize n' / c = a at *
    generalize n' % c = b at *
    generalize d / c = a' at *
    generalize d % c = b' at *
    generalize hJ : wY_channelAt_51 post (nI k) (nI t) (nI a') (nI b') fC fR fK fD stO srO taO clO leO tkO age rnk pay pth ysn tot blk mrk fu = J at *
    have fin : ∀ (x10 x11 : Int32) (o : Nat), o = gNp c n' d k → (i ≠ t → o ≠ 4 → ((x10 = 0 → wY_channelAt_196 post J (nI k) (nI t) (nI a) (nI b) (nI a') (nI b') (nI i) x11 (nI o) fC fR fK fD stO srO taO clO leO tkO age rnk pay pth ysn tot blk mrk) ∧
        (¬ x10 = 0 → ((nI o = 0 → wY_channelAt_193 post J (nI k) (nI t) (nI a) (nI a') (nI b') (nI i) x11 (nI o) 1 (nI b) fC fR fK fD stO srO taO clO leO tkO age rnk pay pth ysn tot blk mrk) ∧ (¬ nI o = 0 → wY_channelAt_193 post J (nI k) (nI t) (nI a) (nI a') (nI b') (nI i) x11 (nI o) (-1) (nI b) fC fR fK fD stO srO taO clO leO tkO age rnk pay pth ysn tot blk mrk))))) →
        wY_channelAt_143 post J (nI k) (nI t) (nI a) (nI b) (nI a') (nI b') (nI i) x10 x11 (nI o) fC fR fK fD stO srO taO clO leO tkO age rnk pay pth ysn tot blk mrk := by
      intro x10 x11 o ho K
      by_cases e : i = t
      · refine br_t (by rw [e]) ?_
        rw [hC, pk_mul, nI_add, heq, ix8, ho, ← hrv e]; exact h
      · refine br_f (fun z => e ((nI_eq (by omega) ht).mp z)) ?_
        by_cases e4 : o = 4
        · refine br_t (by rw [e4]; rfl) ?_
          rw [← hrv4 e (by omega)]; exact h
        · exact br_f (fun z => e4 ((ieq (b := 4) (by omega) (by omega)).mp z)) (K e e4)
    have eb : nI b = nI b' ↔ b = b' := ieq (by omega) (by omega)
    have ea : nI a = nI a' ↔ a = a' := ieq (by omega) (by omega)
    have ek : nI k = 0 ↔ k = 0 := ieq (b := 0) (by omega) (by omega)
    refine br_f (nI_ge (b := 8) (by omega) (by omega)) ?_
    have C100 : (b ≠ b' ∧ (k = 0 ∨ a = a')) → wY_channelAt_100 post J (nI k) (nI t) (nI a) (nI b) (nI a') (nI b') (nI i) 1 0 fC fR fK fD stO srO taO clO leO tkO age rnk pay pth ysn tot blk mrk := by
      intro hc
      rw [if_pos hc] at hnp
      refine br_f (by decide) ?_
      by_cases q : b < b'
      · rw [if_pos q] at hnp
        refine br_f (nI_ge q (by omega)) (br_t rfl (fin 1 0 0 hnp.symm (fun e _ => br_f (by decide) (br_t rfl (nm_r (nI_1 b) (br_t rfl (nm_r (nI_1 i) ?_)))))))
        refine nxt a (b + 1) (by omega) ?_ e (by omega)
        rw [gLd_p (by omega), hnp, if_pos rfl]; omega
      · rw [if_neg q] at hnp
        refine br_t (nI_le (by omega) (by omega)) (br_t rfl (fin 1 0 1 hnp.symm (fun e _ => br_f (by decide) (br_f (by decide) (nm_r (e' := nI (b - 1)) (sb_m1 (by omega)) (br_t rfl (nm_r (nI_1 i) ?_)))))))
        refine nxt a (b - 1) (by omega) ?_ e (by omega)
        rw [gLd_p (by omega), hnp, if_neg (by decide), if_pos rfl]; omega
    have C76 : (b ≠ b' ∧ (k = 0 ∨ a = a')) → wY_channelAt_76 post J (nI k) (nI t) (nI a) (nI b) (nI a') (nI b') (nI i) fC fR fK fD stO srO taO clO leO tkO age rnk pay pth ysn tot blk mrk := by
      intro hc
      exact br_c (fun _ => C100 hc) (fun _ => br_f (by decide) (C100 hc))
    have C80 : ¬ (b ≠ b' ∧ (k = 0 ∨ a = a')) → wY_channelAt_80 post J (nI k) (nI t) (nI a) (nI b) (nI a') (nI b') (nI i) fC fR fK fD stO srO taO clO leO tkO age rnk pay pth ysn tot blk mrk := by
      intro hc
      rw [if_neg hc] at hnp
      by_cases q : a = a'
      · rw [if_neg (by omega)] at hnp
        refine br_t (ea.mpr q) (br_t rfl (br_t rfl (fin 0 0 4 hnp.symm (fun _ e => absurd rfl e))))
      · rw [if_pos q] at hnp
        refine br_f (fun z => q (ea.mp z)) (br_t rfl (br_t rfl (br_f (by decide) ?_)))
        by_cases q2 : a < a'
        · rw [if_pos q2] at hnp
          refine br_f (nI_ge q2 (by omega)) (fin 0 1 3 hnp.symm (fun e _ => br_t rfl (br_f (by decide) (br_t rfl (nm_r (nI_1 a) (nm_r (nI_1 i) ?_))))))
          refine nxt (a + 1) b hb ?_ e (by omega)
          rw [gLd_p (by omega), hnp, if_neg (by decide), if_neg (by decide), if_neg (by decide), if_pos rfl, Nat.succ_mul]; omega
        · rw [if_neg q2] at hnp
          refine br_t (nI_le (by omega) (by omega)) (fin 0 1 2 hnp.symm (fun e _ => br_t rfl (br_f (by decide) (br_f (by decide) (nm_r (e' := nI (a - 1)) (sb_m1 (by omega)) (nm_r (nI_1 i) ?_))))))
          refine nxt (a - 1) b hb ?_ e (by omega)
          rw [gLd_p (by omega), hnp, if_neg (by decide), if_neg (by decide), if_pos rfl]
          obtain ⟨a1, rfl⟩ : ∃ a1, a = a1 + 1 := ⟨a - 1, by omega⟩
          rw [Nat.succ_mul] at heq
          have : a1 + 1 - 1 = a1 := by omega
          rw [this]; omega
    subst hJ
    refine br_c (fun z => C80 (fun hc => hc.1 (eb.mp z))) (fun z => ?_)
    have z' : b ≠ b' := fun e => z (eb.mpr e)
    refine br_c (fun y => C76 ⟨z', .inl (ek.mp y)⟩) (fun y => ?_)
    refine br_c (fun x => C76 ⟨z', .inr (ea.mp x)⟩) (fun x => C80 (fun hc => ?_))
    rcases hc.2 with q | q
    · exact y (ek.mpr q)
    · exact x (ea.mpr q)

theorem yw_channelAt {post : Int32 → Prop} {s d k t : Nat} (S : gSh c r) (hC : fC = nI c) (hR : fR = nI r) (hs : s < c * r) (hd : d < c * r) (hk : k < 2) (ht : t < 2 ^ 31) (h : post (rvI c s d k t)) :
    wpY_channelAt post (fC, fR, fK, fD, stO, srO, taO, clO, leO, tkO, age, rnk, pay, pth, ysn, tot, blk, mrk) (nI s) (nI d) (nI k) (nI t) := by
  by_cases e : t = 0
  · subst e
    refine br_t rfl ?_
    have : rvI c s d k 0 = nI s * 8 + 5 := by
      unfold rvI
      rw [if_pos (by omega)]
      exact (ix8 s 5).symm
    rw [← this]; exact h
  · refine br_f (nI_ne0 (by omega) ht) ?_
    have hcol : ∀ n, nI n - nI (n / c) * fC = nI (n % c) := by
      intro n
      have := gc_eq c n
      rw [hC, pk_mul, pk_sub (by omega)]
      congr 1; omega
    refine yw_rowOf S hC hR hs (nm_r (hcol s) (yw_rowOf S hC hR hd (nm_r (hcol d) ⟨9, ?_⟩)))
    refine yw_ch51 S hC hs hd hk ht h 9 1 s (by omega) (by omega) (by omega) (by omega) ?_
    show gLd c (s * 8 + 5) = s
    rw [gLd_p (by omega), if_neg (by decide), if_neg (by decide), if_neg (by decide), if_neg (by decide)]
end
end
section
/-! calls that look -/
theorem i_vc_config {k : Nat} {u : SX} {v : SY} (I : i_Rel k u v) (hk : k + 5 ≤ 2564) (v1 : Int32) : wpX_config (fun r => wpY_config (fun r' => r' = r ∧ i_Rel (k + 5) u v) v v1) u v1 := by
  refine zz_el (P := fun u v => wpX_config (fun r => wpY_config (fun r' => r' = r ∧ i_Rel (k + 5) u v) v v1) u v1) ?_ I
  intro fC fR fK fD fN fU fT fM fA oT pT rT tT cT fF cO rO lT iB stO srO taO clO leO tkO seO ejO pay rM ord sH sT sN iH iT iN ow crd cx cel bH bC ret sM res tur itu arr mF mT mL hB hM age rnk pth ysn tot blk mrk c r kk D no nr st sr ds cl ln tk ag rk K B w Q cr rt od IB X P M T Rx Ry S Od Ib To
  have J : i_Rel (k + 5) (fC, fR, fK, fD, fN, fU, fT, fM, fA, oT, pT, rT, tT, cT, fF, cO, rO, lT, iB, stO, srO, taO, clO, leO, tkO, seO, ejO, pay, rM, ord, sH, sT, sN, iH, iT, iN, ow, crd, cx, cel, bH, bC, ret, sM, res, tur, itu, arr, mF, mT, mL, hB, hM) (fC, fR, fK, fD, stO, srO, taO, clO, leO, tkO, age, rnk, pay, pth, ysn, tot, blk, mrk) := zz_in X P M T Rx Ry S Od Ib To
  by_cases e0 : v1 = 0
  · subst e0
    exact br_t rfl (br_f (by decide) (br_t (by decide) (br_f (by decide) (br_t rfl ⟨rfl, J⟩))))
  · refine br_f e0 ?_
    by_cases e1 : v1 = 1
    · subst e1
      exact br_t rfl (br_f (by decide) (br_t (by decide) (br_f (by decide) (br_f (by decide) ⟨rfl, J⟩))))
    · refine br_f e1 ?_
      by_cases e2 : v1 = 2
      · subst e2
        exact br_t rfl (br_f (by decide) (br_t (by decide) (br_t (by decide) (br_t rfl ⟨rfl, J⟩))))
      · refine br_f e2 ?_
        by_cases e3 : v1 = 3
        · subst e3
          exact br_t rfl (br_f (by decide) (br_t (by decide) (br_t (by decide) (br_f (by decide) ⟨rfl, J⟩))))
        · refine br_f e3 (br_c (fun _ => ⟨rfl, J⟩) (fun hn => br_f ?_ ⟨rfl, J⟩))
          intro h3
          obtain ⟨j, hj, rfl⟩ := nI_of2 (M := 3) (n := 3) (by decide) hn h3
          have : j = 0 ∨ j = 1 ∨ j = 2 ∨ j = 3 := by omega
          rcases this with rfl | rfl | rfl | rfl
          · exact e0 rfl
          · exact e1 rfl
          · exact e2 rfl
          · exact e3 rfl
theorem i_vc_total {k : Nat} {u : SX} {v : SY} (I : i_Rel k u v) (hk : k + 5 ≤ 2564) (v1 : Int32) : wpX_total (fun r => wpY_total (fun r' => r' = r ∧ i_Rel (k + 5) u v) v v1) u v1 := by
  refine zz_el (P := fun u v => wpX_total (fun r => wpY_total (fun r' => r' = r ∧ i_Rel (k + 5) u v) v v1) u v1) ?_ I
  intro fC fR fK fD fN fU fT fM fA oT pT rT tT cT fF cO rO lT iB stO srO taO clO leO tkO seO ejO pay rM ord sH sT sN iH iT iN ow crd cx cel bH bC ret sM res tur itu arr mF mT mL hB hM age rnk pth ysn tot blk mrk c r kk D no nr st sr ds cl ln tk ag rk K B w Q cr rt od IB X P M T Rx Ry S Od Ib To
  have J : i_Rel (k + 5) (fC, fR, fK, fD, fN, fU, fT, fM, fA, oT, pT, rT, tT, cT, fF, cO, rO, lT, iB, stO, srO, taO, clO, leO, tkO, seO, ejO, pay, rM, ord, sH, sT, sN, iH, iT, iN, ow, crd, cx, cel, bH, bC, ret, sM, res, tur, itu, arr, mF, mT, mL, hB, hM) (fC, fR, fK, fD, stO, srO, taO, clO, leO, tkO, age, rnk, pay, pth, ysn, tot, blk, mrk) := zz_in X P M T Rx Ry S Od Ib To
  obtain ⟨t1, t2, t3, t4, t5, t6, t7, t8, t9, t10, t11⟩ := To
  have fin : ∀ j : Nat, j < 6 → ∀ a : Int32, tot j = a → wpY_total (fun r' => r' = a ∧ i_Rel (k + 5) (fC, fR, fK, fD, fN, fU, fT, fM, fA, oT, pT, rT, tT, cT, fF, cO, rO, lT, iB, stO, srO, taO, clO, leO, tkO, seO, ejO, pay, rM, ord, sH, sT, sN, iH, iT, iN, ow, crd, cx, cel, bH, bC, ret, sM, res, tur, itu, arr, mF, mT, mL, hB, hM) (fC, fR, fK, fD, stO, srO, taO, clO, leO, tkO, age, rnk, pay, pth, ysn, tot, blk, mrk)) (fC, fR, fK, fD, stO, srO, taO, clO, leO, tkO, age, rnk, pay, pth, ysn, tot, blk, mrk) (nI j) := by
    intro j hj a ha
    refine br_f (nI_pos (by omega)) (br_t (nI_le (b := 5) (by omega) (by omega)) ⟨ivp hj (by omega), ?_, J⟩)
    rw [icl (by omega)]; exact ha
  by_cases e0 : v1 = 0
  · subst e0; exact br_t rfl (fin 0 (by omega) _ t5)
  · refine br_f e0 ?_
    by_cases e1 : v1 = 1
    · subst e1; exact br_t rfl (fin 1 (by omega) _ t6)
    · refine br_f e1 ?_
      by_cases e2 : v1 = 2
      · subst e2; exact br_t rfl (fin 2 (by omega) _ t7)
      · refine br_f e2 ?_
        by_cases e3 : v1 = 3
        · subst e3; exact br_t rfl (fin 3 (by omega) _ t8)
        · refine br_f e3 ?_
          by_cases e4 : v1 = 4
          · subst e4; exact br_t rfl (fin 4 (by omega) _ t9)
          · refine br_f e4 ?_
            by_cases e5 : v1 = 5
            · subst e5; exact br_t rfl (fin 5 (by omega) _ t10)
            · refine br_f e5 (br_c (fun _ => ⟨rfl, J⟩) (fun hn => br_f ?_ ⟨rfl, J⟩))
              intro h3
              obtain ⟨j, hj, rfl⟩ := nI_of2 (M := 5) (n := 5) (by decide) hn h3
              have : j = 0 ∨ j = 1 ∨ j = 2 ∨ j = 3 ∨ j = 4 ∨ j = 5 := by omega
              rcases this with rfl | rfl | rfl | rfl | rfl | rfl
              · exact e0 rfl
              · exact e1 rfl
              · exact e2 rfl
              · exact e3 rfl
              · exact e4 rfl
              · exact e5 rfl
/-- a handle out of range, as both sides ask -/
theorem h_out {v : Int32} (h : nI 16 ≤ v) : ¬ v ≤ 15 ∧ 15 < v ∧ ¬ v < 0 := by
  rw [Int32.le_iff_toInt_le] at h
  have e6 : (nI 16).toInt = 16 := by decide
  have e5 : (15 : Int32).toInt = 15 := by decide
  have e0 : (0 : Int32).toInt = 0 := by decide
  refine ⟨fun z => ?_, Int32.lt_iff_toInt_lt.mpr (by omega), fun z => ?_⟩
  · rw [Int32.le_iff_toInt_le] at z; omega
  · rw [Int32.lt_iff_toInt_lt] at z; omega
theorem h_in {j : Nat} (h : j < 16) : nI j ≤ 15 ∧ ¬ 15 < nI j ∧ ¬ nI j < 0 :=
  ⟨nI_le (b := 15) (by omega) (by omega), nI_nlt (b := j) (a := 15) (by omega) (by omega), nI_pos (by omega)⟩
theorem i_vc_state {k : Nat} {u : SX} {v : SY} (I : i_Rel k u v) (hk : k + 5 ≤ 2564) (v1 : Int32) : wpX_state (fun r => wpY_state (fun r' => r' = r ∧ i_Rel (k + 5) u v) v v1) u v1 := by
  refine zz_el (P := fun u v => wpX_state (fun r => wpY_state (fun r' => r' = r ∧ i_Rel (k + 5) u v) v v1) u v1) ?_ I
  intro fC fR fK fD fN fU fT fM fA oT pT rT tT cT fF cO rO lT iB stO srO taO clO leO tkO seO ejO pay rM ord sH sT sN iH iT iN ow crd cx cel bH bC ret sM res tur itu arr mF mT mL hB hM age rnk pth ysn tot blk mrk c r kk D no nr st sr ds cl ln tk ag rk K B w Q cr rt od IB X P M T Rx Ry S Od Ib To
  have J : i_Rel (k + 5) (fC, fR, fK, fD, fN, fU, fT, fM, fA, oT, pT, rT, tT, cT, fF, cO, rO, lT, iB, stO, srO, taO, clO, leO, tkO, seO, ejO, pay, rM, ord, sH, sT, sN, iH, iT, iN, ow, crd, cx, cel, bH, bC, ret, sM, res, tur, itu, arr, mF, mT, mL, hB, hM) (fC, fR, fK, fD, stO, srO, taO, clO, leO, tkO, age, rnk, pay, pth, ysn, tot, blk, mrk) := zz_in X P M T Rx Ry S Od Ib To
  unfold wpX_state
  rcases pk_ix v1 (n := 16) (by omega) with h | h | ⟨j, hj, rfl⟩
  · exact xw_isHandle_f (.inl h) (br_t rfl (br_t h ⟨rfl, J⟩))
  · obtain ⟨a1, a2, a3⟩ := h_out h
    exact xw_isHandle_f (.inr h) (br_t rfl (br_f a3 (br_f a1 ⟨rfl, J⟩)))
  · obtain ⟨a1, a2, a3⟩ := h_in hj
    exact xw_isHandle_t hj (br_f (by decide) ⟨ivp hj (by omega), br_f a3 (br_t a1 ⟨ivp hj (by omega), rfl, J⟩)⟩)
theorem i_vc_field {k : Nat} {u : SX} {v : SY} (I : i_Rel k u v) (hk : k + 5 ≤ 2564) (v1 : Int32) (v2 : Int32) : wpX_field (fun r => wpY_field (fun r' => r' = r ∧ i_Rel (k + 5) u v) v v1 v2) u v1 v2 := by
  refine zz_el (P := fun u v => wpX_field (fun r => wpY_field (fun r' => r' = r ∧ i_Rel (k + 5) u v) v v1 v2) u v1 v2) ?_ I
  intro fC fR fK fD fN fU fT fM fA oT pT rT tT cT fF cO rO lT iB stO srO taO clO leO tkO seO ejO pay rM ord sH sT sN iH iT iN ow crd cx cel bH bC ret sM res tur itu arr mF mT mL hB hM age rnk pth ysn tot blk mrk c r kk D no nr st sr ds cl ln tk ag rk K B w Q cr rt od IB X P M T Rx Ry S Od Ib To
  have J : i_Rel (k + 5) (fC, fR, fK, fD, fN, fU, fT, fM, fA, oT, pT, rT, tT, cT, fF, cO, rO, lT, iB, stO, srO, taO, clO, leO, tkO, seO, ejO, pay, rM, ord, sH, sT, sN, iH, iT, iN, ow, crd, cx, cel, bH, bC, ret, sM, res, tur, itu, arr, mF, mT, mL, hB, hM) (fC, fR, fK, fD, stO, srO, taO, clO, leO, tkO, age, rnk, pay, pth, ysn, tot, blk, mrk) := zz_in X P M T Rx Ry S Od Ib To
  unfold wpX_field
  rcases pk_ix v1 (n := 16) (by omega) with h | h | ⟨j, hj, rfl⟩
  · exact xw_isHandle_f (.inl h) (br_t rfl (br_t h ⟨rfl, J⟩))
  · obtain ⟨a1, a2, a3⟩ := h_out h
    exact xw_isHandle_f (.inr h) (br_t rfl (br_f a3 (br_t a2 ⟨rfl, J⟩)))
  · obtain ⟨a1, a2, a3⟩ := h_in hj
    have vj := ivp (N := 16) hj (by omega)
    refine xw_isHandle_t hj (br_f (by decide) ?_)
    by_cases b0 : v2 < 0
    · exact br_t b0 (br_f a3 (br_f a2 (br_t b0 ⟨rfl, J⟩)))
    · refine br_f b0 ?_
      by_cases b4 : v2 ≤ 4
      · refine br_t b4 ⟨vj, ?_⟩
        by_cases s0 : stO (nI j).toNatClampNeg = 0
        · exact br_t s0 (br_f a3 (br_f a2 (br_f b0 (br_t b4 ⟨vj, br_t s0 ⟨rfl, J⟩⟩))))
        · refine br_f s0 ?_
          by_cases c0 : v2 = 0
          · exact br_t c0 ⟨vj, br_f a3 (br_f a2 (br_f b0 (br_t b4 ⟨vj, br_f s0 (br_t c0 ⟨vj, rfl, J⟩)⟩)))⟩
          · refine br_f c0 ?_
            by_cases c1 : v2 = 1
            · exact br_t c1 ⟨vj, br_f a3 (br_f a2 (br_f b0 (br_t b4 ⟨vj, br_f s0 (br_f c0 (br_t c1 ⟨vj, rfl, J⟩))⟩)))⟩
            · refine br_f c1 ?_
              by_cases c2 : v2 = 2
              · exact br_t c2 ⟨vj, br_f a3 (br_f a2 (br_f b0 (br_t b4 ⟨vj, br_f s0 (br_f c0 (br_f c1 (br_t c2 ⟨vj, rfl, J⟩)))⟩)))⟩
              · refine br_f c2 ?_
                by_cases c3 : v2 = 3
                · exact br_t c3 ⟨vj, br_f a3 (br_f a2 (br_f b0 (br_t b4 ⟨vj, br_f s0 (br_f c0 (br_f c1 (br_f c2 (br_t c3 ⟨vj, rfl, J⟩))))⟩)))⟩
                · exact br_f c3 ⟨vj, br_f a3 (br_f a2 (br_f b0 (br_t b4 ⟨vj, br_f s0 (br_f c0 (br_f c1 (br_f c2 (br_f c3 ⟨vj, rfl, J⟩))))⟩)))⟩
      · exact br_f b4 (br_f a3 (br_f a2 (br_f b0 (br_f b4 ⟨rfl, J⟩))))
theorem i_vc_flit {k : Nat} {u : SX} {v : SY} (I : i_Rel k u v) (hk : k + 5 ≤ 2564) (v1 : Int32) (v2 : Int32) : wpX_flit (fun r => wpY_flit (fun r' => r' = r ∧ i_Rel (k + 5) u v) v v1 v2) u v1 v2 := by
  refine zz_el (P := fun u v => wpX_flit (fun r => wpY_flit (fun r' => r' = r ∧ i_Rel (k + 5) u v) v v1 v2) u v1 v2) ?_ I
  intro fC fR fK fD fN fU fT fM fA oT pT rT tT cT fF cO rO lT iB stO srO taO clO leO tkO seO ejO pay rM ord sH sT sN iH iT iN ow crd cx cel bH bC ret sM res tur itu arr mF mT mL hB hM age rnk pth ysn tot blk mrk c r kk D no nr st sr ds cl ln tk ag rk K B w Q cr rt od IB X P M T Rx Ry S Od Ib To
  have J : i_Rel (k + 5) (fC, fR, fK, fD, fN, fU, fT, fM, fA, oT, pT, rT, tT, cT, fF, cO, rO, lT, iB, stO, srO, taO, clO, leO, tkO, seO, ejO, pay, rM, ord, sH, sT, sN, iH, iT, iN, ow, crd, cx, cel, bH, bC, ret, sM, res, tur, itu, arr, mF, mT, mL, hB, hM) (fC, fR, fK, fD, stO, srO, taO, clO, leO, tkO, age, rnk, pay, pth, ysn, tot, blk, mrk) := zz_in X P M T Rx Ry S Od Ib To
  unfold wpX_flit
  rcases pk_ix v1 (n := 16) (by omega) with h | h | ⟨j, hj, rfl⟩
  · exact xw_isHandle_f (.inl h) (br_t rfl (br_t h ⟨rfl, J⟩))
  · obtain ⟨a1, a2, a3⟩ := h_out h
    exact xw_isHandle_f (.inr h) (br_t rfl (br_f a3 (br_f a1 ⟨rfl, J⟩)))
  · obtain ⟨a1, a2, a3⟩ := h_in hj
    have vj := ivp (N := 16) hj (by omega)
    refine xw_isHandle_t hj (br_f (by decide) ⟨vj, ?_⟩)
    by_cases s0 : stO (nI j).toNatClampNeg = 0
    · exact br_t s0 (br_f a3 (br_t a1 ⟨vj, br_t s0 ⟨rfl, J⟩⟩))
    · refine br_f s0 ?_
      by_cases b0 : v2 < 0
      · exact br_t b0 (br_f a3 (br_t a1 ⟨vj, br_f s0 (br_t b0 ⟨rfl, J⟩)⟩))
      · refine br_f b0 ⟨vj, ?_⟩
        by_cases b4 : v2 < leO (nI j).toNatClampNeg
        · have vi : vp_in (nI j * 4 + v2) 64 := by
            obtain ⟨i, hi, rfl⟩ := nI_of b0
            have p8 := (P j hj).2.2.2.2.2.2.2.1
            rw [icl (by omega), (P j hj).2.2.2.2.1, nI_ltI hi (by omega)] at b4
            rw [ix4]; exact ivp (by omega) (by omega)
          exact br_t b4 ⟨vi, br_f a3 (br_t a1 ⟨vj, br_f s0 (br_f b0 ⟨vj, br_t b4 ⟨vi, rfl, J⟩⟩)⟩)⟩
        · exact br_f b4 (br_f a3 (br_t a1 ⟨vj, br_f s0 (br_f b0 ⟨vj, br_f b4 ⟨rfl, J⟩⟩)⟩))
theorem i_vc_stalled {k : Nat} {u : SX} {v : SY} (I : i_Rel k u v) (hk : k + 5 ≤ 2564) (v1 : Int32) (v2 : Int32) : wpX_stalled (fun r => wpY_stalled (fun r' => r' = r ∧ i_Rel (k + 5) u v) v v1 v2) u v1 v2 := by
  refine zz_el (P := fun u v => wpX_stalled (fun r => wpY_stalled (fun r' => r' = r ∧ i_Rel (k + 5) u v) v v1 v2) u v1 v2) ?_ I
  intro fC fR fK fD fN fU fT fM fA oT pT rT tT cT fF cO rO lT iB stO srO taO clO leO tkO seO ejO pay rM ord sH sT sN iH iT iN ow crd cx cel bH bC ret sM res tur itu arr mF mT mL hB hM age rnk pth ysn tot blk mrk c r kk D no nr st sr ds cl ln tk ag rk K B w Q cr rt od IB X P M T Rx Ry S Od Ib To
  have J : i_Rel (k + 5) (fC, fR, fK, fD, fN, fU, fT, fM, fA, oT, pT, rT, tT, cT, fF, cO, rO, lT, iB, stO, srO, taO, clO, leO, tkO, seO, ejO, pay, rM, ord, sH, sT, sN, iH, iT, iN, ow, crd, cx, cel, bH, bC, ret, sM, res, tur, itu, arr, mF, mT, mL, hB, hM) (fC, fR, fK, fD, stO, srO, taO, clO, leO, tkO, age, rnk, pay, pth, ysn, tot, blk, mrk) := zz_in X P M T Rx Ry S Od Ib To
  have h16 := (gs_le X.1).2
  have hC := X.2.2.2.2.2.1
  have hR := X.2.2.2.2.2.2.1
  unfold wpX_stalled
  rcases pk_ix v1 (n := c * r) (by omega) with h | h | ⟨n, hn, rfl⟩
  · refine xw_isPort_f X (.inl h) (br_t rfl ?_)
    unfold wpY_stalled
    exact yw_exists_f hC hR (.inl h) (br_t rfl ⟨rfl, J⟩)
  · refine xw_isPort_f X (.inr h) (br_t rfl ?_)
    unfold wpY_stalled
    exact yw_exists_f hC hR (.inr h) (br_t rfl ⟨rfl, J⟩)
  · rcases pk_ix v2 (n := 6) (by omega) with h | h | ⟨p, hp, rfl⟩
    · refine xw_isPort_f2 X hn (.inl h) (br_t rfl ?_)
      unfold wpY_stalled
      exact yw_exists_f2 X.1 hC hR hn (.inl h) (br_t rfl ⟨rfl, J⟩)
    · refine xw_isPort_f2 X hn (.inr h) (br_t rfl ?_)
      unfold wpY_stalled
      exact yw_exists_f2 X.1 hC hR hn (.inr h) (br_t rfl ⟨rfl, J⟩)
    · refine xw_isPort_t X hn hp (fun ok => br_f (by decide) (nm_r (ix8 n p) ?_)) (fun no' => br_t rfl ?_)
      · have sb := S (n * 8 + p) (by omega)
        refine xw_isStalled (by omega) (fun z => br_f (by decide) ?_) (fun z => br_t rfl ?_)
        · unfold wpY_stalled
          refine yw_exists_t X.1 hC hR hn hp (fun _ => br_f (by decide) ⟨by rw [ix8]; exact ivp (by omega) (by omega), ?_⟩) (fun no' => absurd ok no')
          rw [ix8, icl (by omega), sb, if_pos z]
          exact br_f (by decide) ⟨rfl, J⟩
        · unfold wpY_stalled
          refine yw_exists_t X.1 hC hR hn hp (fun _ => br_f (by decide) ⟨by rw [ix8]; exact ivp (by omega) (by omega), ?_⟩) (fun no' => absurd ok no')
          rw [ix8, icl (by omega), sb, if_neg (by rw [z]; decide)]
          exact br_t rfl ⟨rfl, J⟩
      · unfold wpY_stalled
        exact yw_exists_t X.1 hC hR hn hp (fun ok => absurd ok no') (fun _ => br_t rfl ⟨rfl, J⟩)
theorem i_vc_route {k : Nat} {u : SX} {v : SY} (I : i_Rel k u v) (hk : k + 5 ≤ 2564) (v1 : Int32) (v2 : Int32) (v3 : Int32) (v4 : Int32) : wpX_route (fun r => wpY_route (fun r' => r' = r ∧ i_Rel (k + 5) u v) v v1 v2 v3 v4) u v1 v2 v3 v4 := by
  refine zz_el (P := fun u v => wpX_route (fun r => wpY_route (fun r' => r' = r ∧ i_Rel (k + 5) u v) v v1 v2 v3 v4) u v1 v2 v3 v4) ?_ I
  intro fC fR fK fD fN fU fT fM fA oT pT rT tT cT fF cO rO lT iB stO srO taO clO leO tkO seO ejO pay rM ord sH sT sN iH iT iN ow crd cx cel bH bC ret sM res tur itu arr mF mT mL hB hM age rnk pth ysn tot blk mrk c r kk D no nr st sr ds cl ln tk ag rk K B w Q cr rt od IB X P M T Rx Ry S Od Ib To
  have J : i_Rel (k + 5) (fC, fR, fK, fD, fN, fU, fT, fM, fA, oT, pT, rT, tT, cT, fF, cO, rO, lT, iB, stO, srO, taO, clO, leO, tkO, seO, ejO, pay, rM, ord, sH, sT, sN, iH, iT, iN, ow, crd, cx, cel, bH, bC, ret, sM, res, tur, itu, arr, mF, mT, mL, hB, hM) (fC, fR, fK, fD, stO, srO, taO, clO, leO, tkO, age, rnk, pay, pth, ysn, tot, blk, mrk) := zz_in X P M T Rx Ry S Od Ib To
  have h16 := (gs_le X.1).2
  have hC := X.2.2.2.2.2.1
  have hR := X.2.2.2.2.2.2.1
  have hK := X.2.2.2.2.2.2.2.1
  have hN := X.2.2.2.2.2.2.2.2.2.1
  have k2 := X.2.2.1
  unfold wpX_route
  rcases pk_ix v1 (n := c * r) (by omega) with h | h | ⟨s, hs, rfl⟩
  · refine xw_isNode_f hN (.inl h) (br_t rfl ?_)
    unfold wpY_route
    exact yw_isNode_f hC hR (.inl h) (br_t rfl ⟨rfl, J⟩)
  · refine xw_isNode_f hN (.inr h) (br_t rfl ?_)
    unfold wpY_route
    exact yw_isNode_f hC hR (.inr h) (br_t rfl ⟨rfl, J⟩)
  · refine xw_isNode_t hN (by omega) hs (br_f (by decide) ?_)
    rcases pk_ix v2 (n := c * r) (by omega) with h | h | ⟨d, hd, rfl⟩
    · refine xw_isNode_f hN (.inl h) (br_t rfl ?_)
      unfold wpY_route
      exact yw_isNode_t hC hR (by omega) hs (br_f (by decide) (yw_isNode_f hC hR (.inl h) (br_t rfl ⟨rfl, J⟩)))
    · refine xw_isNode_f hN (.inr h) (br_t rfl ?_)
      unfold wpY_route
      exact yw_isNode_t hC hR (by omega) hs (br_f (by decide) (yw_isNode_f hC hR (.inr h) (br_t rfl ⟨rfl, J⟩)))
    · refine xw_isNode_t hN (by omega) hd (br_f (by decide) ?_)
      rcases pk_ix v3 (n := kk) (by omega) with h | h | ⟨q, hq, rfl⟩
      · refine xw_isClass_f hK (.inl h) (br_t rfl ?_)
        unfold wpY_route
        exact yw_isNode_t hC hR (by omega) hs (br_f (by decide) (yw_isNode_t hC hR (by omega) hd (br_f (by decide) (br_t h ⟨rfl, J⟩))))
      · refine xw_isClass_f hK (.inr h) (br_t rfl ?_)
        unfold wpY_route
        exact yw_isNode_t hC hR (by omega) hs (br_f (by decide) (yw_isNode_t hC hR (by omega) hd (br_f (by decide) (br_c (fun _ => ⟨rfl, J⟩) (fun _ => br_t (by rw [hK]; exact h) ⟨rfl, J⟩)))))
      · refine xw_isClass_t hK (by omega) hq (br_f (by decide) ?_)
        by_cases b0 : 0 ≤ v4
        · obtain ⟨t, ht, rfl⟩ := nI_of (x := v4) (Int32.not_lt.mpr b0)
          have fin : wpY_route (fun r' => r' = rvI c s d q t ∧ i_Rel (k + 5) (fC, fR, fK, fD, fN, fU, fT, fM, fA, oT, pT, rT, tT, cT, fF, cO, rO, lT, iB, stO, srO, taO, clO, leO, tkO, seO, ejO, pay, rM, ord, sH, sT, sN, iH, iT, iN, ow, crd, cx, cel, bH, bC, ret, sM, res, tur, itu, arr, mF, mT, mL, hB, hM) (fC, fR, fK, fD, stO, srO, taO, clO, leO, tkO, age, rnk, pay, pth, ysn, tot, blk, mrk)) (fC, fR, fK, fD, stO, srO, taO, clO, leO, tkO, age, rnk, pay, pth, ysn, tot, blk, mrk) (nI s) (nI d) (nI q) (nI t) := by
            unfold wpY_route
            exact yw_isNode_t hC hR (by omega) hs (br_f (by decide) (yw_isNode_t hC hR (by omega) hd (br_f (by decide) (br_f (nI_pos (by omega)) (br_f (by rw [hK]; exact nI_ge hq (by omega)) (br_t b0 (yw_channelAt X.1 hC hR hs hd (by omega) ht ⟨rfl, J⟩)))))))
          refine br_t b0 ?_
          by_cases t0 : t = 0
          · subst t0
            refine br_t rfl ?_
            have : rvI c s d q 0 = nI s * 8 + 5 := by
              unfold rvI
              rw [if_pos (by omega)]
              exact (ix8 s 5).symm
            rw [← this]; exact fin
          · refine br_f (nI_ne0 (by omega) ht) ⟨9, ?_⟩
            refine xw_route49 X hs hd (by omega) ht fin 9 1 s (by omega) (by omega) (by omega) (by omega) ?_
            show gLd c (s * 8 + 5) = s
            rw [gLd_p (by omega), if_neg (by decide), if_neg (by decide), if_neg (by decide), if_neg (by decide)]
        · refine br_f b0 ?_
          unfold wpY_route
          exact yw_isNode_t hC hR (by omega) hs (br_f (by decide) (yw_isNode_t hC hR (by omega) hd (br_f (by decide) (br_f (nI_pos (by omega)) (br_f (by rw [hK]; exact nI_ge hq (by omega)) (br_f b0 ⟨rfl, J⟩))))))
end
section
/-! inboxes -/
section
variable {fC fR fK fD : Int32} {stO srO taO clO leO tkO age rnk pay pth ysn tot blk mrk : Nat → Int32}
variable {N c r kk D nr : Nat} {st sr ds cl ln tk rk : Nat → Nat} {IB : Nat → List Nat} {iH iT iN : Nat → Int32}
theorem yw_next {post : Int32 → Prop} {n : Nat} {a : Int32} (af : Nat → Prop) (P : xPk c r kk st sr ds cl ln tk stO srO taO clO leO tkO) (hn : n < 16) (h16 : c * r ≤ 16) (hrk : ∀ p, p < 16 → st p = 3 → rnk p = nI (rk p) ∧ rk p < 2 ^ 31)
    (haf : ∀ p, p < 16 → st p = 3 → (rnk p ≤ a ↔ ¬ af p)) (h0 : (∀ p, p < 16 → st p = 3 → ds p = n → ¬ af p) → post (-1))
    (h1 : ∀ p, p < 16 → st p = 3 → ds p = n → af p → (∀ q, q < 16 → st q = 3 → ds q = n → af q → rk p ≤ rk q) → post (nI p)) : wpY_next post (fC, fR, fK, fD, stO, srO, taO, clO, leO, tkO, age, rnk, pay, pth, ysn, tot, blk, mrk) (nI n) a := by
  have lp : ∀ (fu i : Nat) (x : Int32), i ≤ 16 → 16 - i < fu → ((x = -1 ∧ ∀ p, p < i → st p = 3 → ds p = n → ¬ af p) ∨ (∃ b, x = nI b ∧ b < i ∧ st b = 3 ∧ ds b = n ∧ af b ∧ ∀ q, q < i → st q = 3 → ds q = n → af q → rk b ≤ rk q)) →
      wY_next_5 post (nI n) a fC fR fK fD stO srO taO clO leO tkO age rnk pay pth ysn tot blk mrk fu x (nI i) := by
    intro fu
    induction fu with
    | zero => intro i x g1 g2; omega
    | succ fu ih =>
      intro i x g1 g2 H
      by_cases e : i = 16
      · subst e
        refine br_t (by decide) ?_
        rcases H with ⟨rfl, H⟩ | ⟨b, rfl, b1, b2, b3, b4, b5⟩
        · exact h0 H
        · exact h1 b b1 b2 b3 b4 b5
      · have hi : i < 16 := by omega
        have vi := ivp (n := i) (N := 16) hi (by omega)
        have ei : (nI i).toNatClampNeg = i := icl (by omega)
        obtain ⟨p1, p2, p3, p4, p5, p6, p7, p8, p9, p10, p11, p12, p13, p14, p15⟩ := P i hi
        have SKIP : ¬ (st i = 3 ∧ ds i = n ∧ af i) → wY_next_5 post (nI n) a fC fR fK fD stO srO taO clO leO tkO age rnk pay pth ysn tot blk mrk fu x (nI (i + 1)) := by
          intro hno
          refine ih (i + 1) x (by omega) (by omega) ?_
          rcases H with ⟨rfl, H⟩ | ⟨b, rfl, b1, b2, b3, b4, b5⟩
          · refine .inl ⟨rfl, fun p hp q1 q2 q3 => ?_⟩
            by_cases ep : p = i
            · subst ep; exact hno ⟨q1, q2, q3⟩
            · exact H p (by omega) q1 q2 q3
          · refine .inr ⟨b, rfl, by omega, b2, b3, b4, fun q hq q1 q2 q3 => ?_⟩
            by_cases ep : q = i
            · subst ep; exact absurd ⟨q1, q2, q3⟩ hno
            · exact b5 q (by omega) q1 q2 q3
        refine br_f (nI_ge (b := 16) hi (by omega)) ⟨vi, ?_⟩
        rw [ei, p1]
        by_cases s3 : st i = 3
        · refine br_t (by rw [s3]; rfl) ⟨vi, ?_⟩
          rw [p3]
          by_cases d3 : ds i = n
          · refine br_t (by rw [d3]) ⟨vi, ?_⟩
            have hr := hrk i hi s3
            refine br_c (fun z => nm_r (nI_1 i) (SKIP (fun y => ((haf i hi s3).mp z) y.2.2))) (fun z => ?_)
            have haf' : af i := by
              by_cases q : af i
              · exact q
              · exact absurd ((haf i hi s3).mpr q) z
            have TAKE : (∀ q, q < i → st q = 3 → ds q = n → af q → rk i ≤ rk q) → wY_next_5 post (nI n) a fC fR fK fD stO srO taO clO leO tkO age rnk pay pth ysn tot blk mrk fu (nI i) (nI (i + 1)) := by
              intro hle
              refine ih (i + 1) (nI i) (by omega) (by omega) (.inr ⟨i, rfl, by omega, s3, d3, haf', fun q hq q1 q2 q3 => ?_⟩)
              by_cases ep : q = i
              · subst ep; omega
              · exact hle q (by omega) q1 q2 q3
            rcases H with ⟨rfl, H⟩ | ⟨b, rfl, b1, b2, b3, b4, b5⟩
            · exact br_t (by decide) (nm_r (nI_1 i) (TAKE (fun q hq q1 q2 q3 => absurd q3 (H q hq q1 q2))))
            · refine br_f (nI_pos (by omega)) ⟨vi, ivp (by omega) (by omega), ?_⟩
              have hb := hrk b (by omega) b2
              rw [icl (n := b) (by omega), hb.1, hr.1]
              by_cases le : rk b ≤ rk i
              · refine br_t (nI_le le hr.2) (nm_r (nI_1 i) (ih (i + 1) (nI b) (by omega) (by omega) (.inr ⟨b, rfl, by omega, b2, b3, b4, fun q hq q1 q2 q3 => ?_⟩)))
                by_cases ep : q = i
                · subst ep; exact le
                · exact b5 q (by omega) q1 q2 q3
              · refine br_f (nI_ge (by omega) hb.2) (nm_r (nI_1 i) (TAKE (fun q hq q1 q2 q3 => ?_)))
                have := b5 q hq q1 q2 q3
                omega
          · exact br_f (fun z => d3 ((ieq (by omega) (by omega)).mp z)) (nm_r (nI_1 i) (SKIP (fun y => d3 y.2.1)))
        · exact br_f (fun z => s3 ((ieq (b := 3) (by omega) (by omega)).mp z)) (nm_r (nI_1 i) (SKIP (fun y => s3 y.1)))
  exact ⟨17, lp 17 0 (-1) (by omega) (by omega) (.inl ⟨rfl, fun p hp => by omega⟩)⟩

theorem m1_nle {n : Nat} (h : n < 2 ^ 31) : ¬ nI n ≤ -1 := by
  intro z
  rw [Int32.le_iff_toInt_le, nI_toInt h] at z
  have : (-1 : Int32).toInt = -1 := by decide
  omega
theorem yw_next_hd {post : Int32 → Prop} {n : Nat} (P : xPk c r kk st sr ds cl ln tk stO srO taO clO leO tkO) (hn : n < 16) (h16 : c * r ≤ 16) (Ib : zIb st ds rk IB nr iH iT iN rnk) (hnr : nr ≤ 1000000)
    (h : post (hI (IB n).head?)) : wpY_next post (fC, fR, fK, fD, stO, srO, taO, clO, leO, tkO, age, rnk, pay, pth, ysn, tot, blk, mrk) (nI n) (-1) := by
  obtain ⟨_, I2, I3, I4⟩ := Ib
  have hrk : ∀ p, p < 16 → st p = 3 → rnk p = nI (rk p) ∧ rk p < 2 ^ 31 := fun p hp h3 => ⟨(I4 p hp h3).1, by have := (I4 p hp h3).2; omega⟩
  refine yw_next (fun _ => True) P hn h16 hrk ?_ ?_ ?_
  · intro p hp h3
    have := hrk p hp h3
    rw [this.1]
    exact ⟨fun z => absurd z (m1_nle this.2), fun z => absurd trivial z⟩
  · intro H
    cases hl : IB n with
    | nil => rw [hl] at h; exact h
    | cons x t =>
      have := (I2 n hn x).mp (by rw [hl]; simp)
      exact absurd trivial (H x this.1 this.2.1 this.2.2)
  · intro p hp h3 hd _ hmin
    have hin := (I2 n hn p).mpr ⟨hp, h3, hd⟩
    have hpw := I3 n hn
    cases hl : IB n with
    | nil => rw [hl] at hin; simp at hin
    | cons x t =>
      rw [hl] at hin h hpw
      have := pw_first hpw hin (fun q hq => by
        have := (I2 n hn q).mp (by rw [hl]; exact hq)
        exact hmin q this.1 this.2.1 this.2.2 trivial)
      subst this
      exact h
theorem yw_next_tl {post : Int32 → Prop} {n x : Nat} {l t : List Nat} (P : xPk c r kk st sr ds cl ln tk stO srO taO clO leO tkO) (hn : n < 16) (h16 : c * r ≤ 16) (Ib : zIb st ds rk IB nr iH iT iN rnk) (hnr : nr ≤ 1000000)
    (hl : IB n = l ++ x :: t) (h : post (hI t.head?)) : wpY_next post (fC, fR, fK, fD, stO, srO, taO, clO, leO, tkO, age, rnk, pay, pth, ysn, tot, blk, mrk) (nI n) (rnk x) := by
  obtain ⟨_, I2, I3, I4⟩ := Ib
  have hrk : ∀ p, p < 16 → st p = 3 → rnk p = nI (rk p) ∧ rk p < 2 ^ 31 := fun p hp h3 => ⟨(I4 p hp h3).1, by have := (I4 p hp h3).2; omega⟩
  have hx := (I2 n hn x).mp (by rw [hl]; simp)
  have hxr := hrk x hx.1 hx.2.1
  have hpw := I3 n hn
  rw [hl, List.pairwise_append] at hpw
  obtain ⟨w1, w2, w3⟩ := hpw
  rw [List.pairwise_cons] at w2
  have cand : ∀ q, q < 16 → st q = 3 → ds q = n → rk x < rk q → q ∈ t := by
    intro q hq q3 qd qr
    have hin := (I2 n hn q).mpr ⟨hq, q3, qd⟩
    rw [hl, List.mem_append, List.mem_cons] at hin
    rcases hin with h | h | h
    · have := w3 q h x (by simp); omega
    · subst h; omega
    · exact h
  refine yw_next (fun q => rk x < rk q) P hn h16 hrk ?_ ?_ ?_
  · intro p hp h3
    have := hrk p hp h3
    rw [this.1, hxr.1, nI_leI this.2 hxr.2]
    omega
  · intro H
    cases ht : t with
    | nil => rw [ht] at h; exact h
    | cons y t' =>
      have hy := (I2 n hn y).mp (by rw [hl, ht]; simp)
      have := w2.1 y (by rw [ht]; simp)
      exact absurd this (H y hy.1 hy.2.1 hy.2.2)
  · intro p hp h3 hd hr hmin
    have hin := cand p hp h3 hd hr
    cases ht : t with
    | nil => rw [ht] at hin; simp at hin
    | cons y t' =>
      rw [ht] at hin h
      have hpw2 := w2.2
      rw [ht] at hpw2
      have := pw_first hpw2 hin (fun q hq => by
        have hq' := (I2 n hn q).mp (by rw [hl, ht]; simp only [List.mem_append, List.mem_cons]; rw [List.mem_cons] at hq; exact .inr (.inr hq))
        exact hmin q hq'.1 hq'.2.1 hq'.2.2 (w2.1 q (by rw [ht]; exact hq)))
      subst this
      exact h
end
/-- the flit that peek sees -/
def fvI (pay : Nat → Int32) (ln : Nat → Nat) (x i : Nat) : Int32 := if i + 1 = ln x then pay (x * 4 + i) + 65536 else pay (x * 4 + i)
def pkv (pay : Nat → Int32) (ln tk : Nat → Nat) : List Nat → Nat → Int32
  | [], _ => -7
  | x :: t, a => if a < ln x - tk x then fvI pay ln x (tk x + a) else pkv pay ln tk t (a - (ln x - tk x))
section
variable {fC fR fK fD fN fU fT fM fA oT pT rT tT cT fF : Int32} {cO rO lT iB stO srO taO clO leO tkO seO ejO pay ord sH sT sN iH iT iN ow crd cx cel bH bC ret res tur itu arr mF mT mL hB : Nat → Int32} {rM sM hM : Nat → Int64}
variable {age rnk pth ysn tot blk mrk : Nat → Int32}
variable {c r kk D no nr : Nat} {st sr ds cl ln tk ag rk : Nat → Nat} {IB : Nat → List Nat}
theorem xw_flitAnswer {post : Int32 → Prop} {x i : Nat} (P : xPk c r kk st sr ds cl ln tk stO srO taO clO leO tkO) (hx : x < 16) (hi : i < ln x) (h : post (fvI pay ln x i)) : wpX_flitAnswer post (fC, fR, fK, fD, fN, fU, fT, fM, fA, oT, pT, rT, tT, cT, fF, cO, rO, lT, iB, stO, srO, taO, clO, leO, tkO, seO, ejO, pay, rM, ord, sH, sT, sN, iH, iT, iN, ow, crd, cx, cel, bH, bC, ret, sM, res, tur, itu, arr, mF, mT, mL, hB, hM) (nI x) (nI i) := by
  obtain ⟨p1, p2, p3, p4, p5, p6, p7, p8, p9, p10, p11, p12, p13, p14, p15⟩ := P x hx
  refine ⟨by rw [ix4]; exact ivp (by omega) (by omega), nm_r (e' := pay (x * 4 + i)) (by rw [ix4, icl (by omega)]) ⟨ivp hx (by omega), ?_⟩⟩
  have e1 : leO (nI x).toNatClampNeg - 1 = nI (ln x - 1) := by rw [icl (by omega), p5]; exact pk_sub (b := 1) (by omega)
  rw [e1]
  unfold fvI at h
  by_cases e : i + 1 = ln x
  · rw [if_pos e] at h
    exact br_t (by rw [← e]; rfl) (nm_e h)
  · rw [if_neg e] at h
    exact br_f (fun z => e (by have := (ieq (by omega) (by omega)).mp z; omega)) h
theorem xw_peek27 {post : Int32 → Prop} (P : xPk c r kk st sr ds cl ln tk stO srO taO clO leO tkO) :
    ∀ (l : List Nat) (fu i a : Nat), (∀ x, x ∈ l → x < 16 ∧ st x = 3) → LC iN l → i + l.length ≤ 16 → l.length < fu → a < 2 ^ 31 → post (pkv pay ln tk l a) → wX_peek_27 post fC fR fK fD fN fU fT fM fA oT pT rT tT cT fF cO rO lT iB stO srO taO clO leO tkO seO ejO pay rM ord sH sT sN iH iT iN ow crd cx cel bH bC ret sM res tur itu arr mF mT mL hB hM fu (nI a) (hI l.head?) (nI i) := by
  intro l
  induction l with
  | nil =>
    intro fu i a _ _ h1 h2 _ h
    obtain ⟨f, rfl⟩ : ∃ f, fu = f + 1 := ⟨fu - 1, by omega⟩
    exact br_c (fun _ => h) (fun _ => br_t (by decide) h)
  | cons x t ih =>
    intro fu i a hm hc h1 h2 ha h
    obtain ⟨f, rfl⟩ : ∃ f, fu = f + 1 := ⟨fu - 1, by omega⟩
    simp only [List.length_cons] at h1 h2
    obtain ⟨hx, hx3⟩ := hm x (by simp)
    obtain ⟨p1, p2, p3, p4, p5, p6, p7, p8, p9, p10, p11, p12, p13, p14, p15⟩ := P x hx
    have vx := ivp (N := 16) hx (by omega)
    have ex : (nI x).toNatClampNeg = x := icl (by omega)
    have hlt := p14 hx3
    refine br_f (nI_ge (b := 16) (by omega) (by omega)) (br_f (nI_pos (by omega)) ⟨vx, vx, nm_r (e' := nI (ln x - tk x)) ?_ ?_⟩)
    · show leO (nI x).toNatClampNeg - tkO (nI x).toNatClampNeg = _
      rw [ex, p5, p6, pk_sub (by omega)]
    · have h : post (if a < ln x - tk x then fvI pay ln x (tk x + a) else pkv pay ln tk t (a - (ln x - tk x))) := h
      by_cases q : a < ln x - tk x
      · rw [if_pos q] at h
        refine br_f (nI_ge q (by omega)) ⟨vx, ?_⟩
        show wpX_flitAnswer _ _ (nI x) (tkO (nI x).toNatClampNeg + nI a)
        rw [ex, p6, nI_add]
        exact xw_flitAnswer P hx (by omega) h
      · rw [if_neg q] at h
        refine br_t (nI_le (by omega) ha) (nm_r (pk_sub (by omega)) ⟨vx, nm_r (e' := hI t.head?) ?_ (nm_r (nI_1 i) ?_)⟩)
        · show iN (nI x).toNatClampNeg = _
          rw [ex]; exact hc.1
        · exact ih f (i + 1) _ (fun y hy => hm y (by simp [hy])) hc.2 (by omega) (by omega) (by omega) h
theorem yw_peek27 {post : Int32 → Prop} {n : Nat} (P : xPk c r kk st sr ds cl ln tk stO srO taO clO leO tkO) (hn : n < 16) (h16 : c * r ≤ 16) (Ib : zIb st ds rk IB nr iH iT iN rnk) (hnr : nr ≤ 1000000) :
    ∀ (l pre : List Nat) (fu i a : Nat), IB n = pre ++ l → i + l.length ≤ 16 → l.length < fu → a < 2 ^ 31 → post (pkv pay ln tk l a) → wY_peek_27 post (nI n) fC fR fK fD stO srO taO clO leO tkO age rnk pay pth ysn tot blk mrk fu (nI a) (hI l.head?) (nI i) := by
  intro l
  induction l with
  | nil =>
    intro pre fu i a _ h1 h2 _ h
    obtain ⟨f, rfl⟩ : ∃ f, fu = f + 1 := ⟨fu - 1, by omega⟩
    exact br_c (fun _ => h) (fun _ => br_t (by decide) h)
  | cons x t ih =>
    intro pre fu i a hl h1 h2 ha h
    obtain ⟨f, rfl⟩ : ∃ f, fu = f + 1 := ⟨fu - 1, by omega⟩
    simp only [List.length_cons] at h1 h2
    obtain ⟨hx, hx3, _⟩ := (Ib.2.1 n hn x).mp (by rw [hl]; simp)
    obtain ⟨p1, p2, p3, p4, p5, p6, p7, p8, p9, p10, p11, p12, p13, p14, p15⟩ := P x hx
    have vx := ivp (N := 16) hx (by omega)
    have ex : (nI x).toNatClampNeg = x := icl (by omega)
    have hlt := p14 hx3
    have hsub : nI (ln x) - nI (tk x) = nI (ln x - tk x) := pk_sub (by omega)
    refine br_f (nI_ge (b := 16) (by omega) (by omega)) (br_f (nI_pos (by omega)) ⟨vx, nm_r (e' := nI (tk x)) ?_ ⟨vx, ?_⟩⟩)
    · show tkO (nI x).toNatClampNeg = _
      rw [ex, p6]
    · have e1 : leO (hI (x :: t).head?).toNatClampNeg = nI (ln x) := by
        show leO (nI x).toNatClampNeg = _
        rw [ex, p5]
      rw [e1, hsub]
      have h : post (if a < ln x - tk x then fvI pay ln x (tk x + a) else pkv pay ln tk t (a - (ln x - tk x))) := h
      by_cases q : a < ln x - tk x
      · rw [if_pos q] at h
        have e2 : hI (x :: t).head? * 4 + nI (tk x) + nI a = nI (x * 4 + (tk x + a)) := by
          show nI x * 4 + nI (tk x) + nI a = _
          rw [ix4, nI_add]; congr 1; omega
        refine br_f (nI_ge q (by omega)) ⟨by rw [e2]; exact ivp (by omega) (by omega), vx, ?_⟩
        rw [e2, icl (by omega), nI_add]
        have e3 : nI (ln x) - 1 = nI (ln x - 1) := pk_sub (b := 1) (by omega)
        rw [e3]
        unfold fvI at h
        by_cases e : tk x + a + 1 = ln x
        · rw [if_pos e] at h
          exact br_t (by rw [← e]; rfl) h
        · rw [if_neg e] at h
          refine br_f (fun z => e (by have := (ieq (by omega) (by omega)).mp z; omega)) ?_
          rw [Int32.add_zero]; exact h
      · rw [if_neg q] at h
        refine br_t (nI_le (by omega) ha) ⟨vx, nm_r (pk_sub (by omega)) ⟨vx, ?_⟩⟩
        show wpY_next _ _ (nI n) (rnk (nI x).toNatClampNeg)
        rw [ex]
        refine yw_next_tl P hn h16 Ib hnr (l := pre) (t := t) hl (nm_r (nI_1 i) ?_)
        exact ih (pre ++ [x]) f (i + 1) _ (by rw [hl]; simp) (by omega) (by omega) (by omega) h
theorem ib_len (Ib : zIb st ds rk IB nr iH iT iN rnk) {n : Nat} (hn : n < 16) : (IB n).length ≤ 16 ∧ (IB n).Nodup ∧ (∀ x, x ∈ IB n → x < 16 ∧ st x = 3 ∧ ds x = n) := by
  obtain ⟨_, I2, I3, I4⟩ := Ib
  have hm : ∀ x, x ∈ IB n → x < 16 ∧ st x = 3 ∧ ds x = n := fun x hx => (I2 n hn x).mp hx
  have hnd := pw_nd (I3 n hn)
  exact ⟨nd_len 16 _ hnd (fun a ha => (hm a ha).1), hnd, hm⟩
end
theorem i_vc_front {k : Nat} {u : SX} {v : SY} (I : i_Rel k u v) (hk : k + 5 ≤ 2564) (v1 : Int32) : wpX_front (fun r => wpY_front (fun r' => r' = r ∧ i_Rel (k + 5) u v) v v1) u v1 := by
  refine zz_el (P := fun u v => wpX_front (fun r => wpY_front (fun r' => r' = r ∧ i_Rel (k + 5) u v) v v1) u v1) ?_ I
  intro fC fR fK fD fN fU fT fM fA oT pT rT tT cT fF cO rO lT iB stO srO taO clO leO tkO seO ejO pay rM ord sH sT sN iH iT iN ow crd cx cel bH bC ret sM res tur itu arr mF mT mL hB hM age rnk pth ysn tot blk mrk c r kk D no nr st sr ds cl ln tk ag rk K B w Q cr rt od IB X P M T Rx Ry S Od Ib To
  have J : i_Rel (k + 5) (fC, fR, fK, fD, fN, fU, fT, fM, fA, oT, pT, rT, tT, cT, fF, cO, rO, lT, iB, stO, srO, taO, clO, leO, tkO, seO, ejO, pay, rM, ord, sH, sT, sN, iH, iT, iN, ow, crd, cx, cel, bH, bC, ret, sM, res, tur, itu, arr, mF, mT, mL, hB, hM) (fC, fR, fK, fD, stO, srO, taO, clO, leO, tkO, age, rnk, pay, pth, ysn, tot, blk, mrk) := zz_in X P M T Rx Ry S Od Ib To
  have h16 := (gs_le X.1).2
  have hC := X.2.2.2.2.2.1
  have hR := X.2.2.2.2.2.2.1
  have hN := X.2.2.2.2.2.2.2.2.2.1
  have hnr : nr ≤ 1000000 := by have := To.2.1; have := To.2.2.2.1; omega
  unfold wpX_front
  rcases pk_ix v1 (n := c * r) (by omega) with h | h | ⟨n, hn, rfl⟩
  · refine xw_isNode_f hN (.inl h) (br_t rfl ?_)
    unfold wpY_front
    exact yw_isNode_f hC hR (.inl h) (br_t rfl ⟨rfl, J⟩)
  · refine xw_isNode_f hN (.inr h) (br_t rfl ?_)
    unfold wpY_front
    exact yw_isNode_f hC hR (.inr h) (br_t rfl ⟨rfl, J⟩)
  · obtain ⟨L1, L2, L3⟩ := Ib.1 n (by omega)
    refine xw_isNode_t hN (by omega) hn (br_f (by decide) ⟨ivp (by omega) (by omega), nm_r (e' := hI (IB n).head?) (by rw [icl (by omega)]; exact L1) ?_⟩)
    refine br_c (fun z => ?_) (fun z => ?_)
    · unfold wpY_front
      exact yw_isNode_t hC hR (by omega) hn (br_f (by decide) (yw_next_hd P (by omega) h16 Ib hnr (br_t z ⟨rfl, J⟩)))
    · unfold wpY_front
      exact yw_isNode_t hC hR (by omega) hn (br_f (by decide) (yw_next_hd P (by omega) h16 Ib hnr (br_f z ⟨rfl, J⟩)))
theorem i_vc_peek {k : Nat} {u : SX} {v : SY} (I : i_Rel k u v) (hk : k + 5 ≤ 2564) (v1 : Int32) (v2 : Int32) : wpX_peek (fun r => wpY_peek (fun r' => r' = r ∧ i_Rel (k + 5) u v) v v1 v2) u v1 v2 := by
  refine zz_el (P := fun u v => wpX_peek (fun r => wpY_peek (fun r' => r' = r ∧ i_Rel (k + 5) u v) v v1 v2) u v1 v2) ?_ I
  intro fC fR fK fD fN fU fT fM fA oT pT rT tT cT fF cO rO lT iB stO srO taO clO leO tkO seO ejO pay rM ord sH sT sN iH iT iN ow crd cx cel bH bC ret sM res tur itu arr mF mT mL hB hM age rnk pth ysn tot blk mrk c r kk D no nr st sr ds cl ln tk ag rk K B w Q cr rt od IB X P M T Rx Ry S Od Ib To
  have J : i_Rel (k + 5) (fC, fR, fK, fD, fN, fU, fT, fM, fA, oT, pT, rT, tT, cT, fF, cO, rO, lT, iB, stO, srO, taO, clO, leO, tkO, seO, ejO, pay, rM, ord, sH, sT, sN, iH, iT, iN, ow, crd, cx, cel, bH, bC, ret, sM, res, tur, itu, arr, mF, mT, mL, hB, hM) (fC, fR, fK, fD, stO, srO, taO, clO, leO, tkO, age, rnk, pay, pth, ysn, tot, blk, mrk) := zz_in X P M T Rx Ry S Od Ib To
  have h16 := (gs_le X.1).2
  have hC := X.2.2.2.2.2.1
  have hR := X.2.2.2.2.2.2.1
  have hN := X.2.2.2.2.2.2.2.2.2.1
  have hnr : nr ≤ 1000000 := by have := To.2.1; have := To.2.2.2.1; omega
  unfold wpX_peek
  rcases pk_ix v1 (n := c * r) (by omega) with h | h | ⟨n, hn, rfl⟩
  · refine xw_isNode_f hN (.inl h) (br_t rfl ?_)
    unfold wpY_peek
    exact yw_isNode_f hC hR (.inl h) (br_t rfl ⟨rfl, J⟩)
  · refine xw_isNode_f hN (.inr h) (br_t rfl ?_)
    unfold wpY_peek
    exact yw_isNode_f hC hR (.inr h) (br_t rfl ⟨rfl, J⟩)
  · obtain ⟨L1, L2, L3⟩ := Ib.1 n (by omega)
    obtain ⟨len, hnd, hm⟩ := ib_len Ib (n := n) (by omega)
    refine xw_isNode_t hN (by omega) hn (br_f (by decide) ?_)
    by_cases b0 : 0 ≤ v2
    · obtain ⟨a, ha, rfl⟩ := nI_of (x := v2) (Int32.not_lt.mpr b0)
      refine br_t b0 ⟨ivp (by omega) (by omega), nm_r (e' := hI (IB n).head?) (by rw [icl (by omega)]; exact L1) ⟨17, ?_⟩⟩
      refine xw_peek27 P (IB n) 17 0 a (fun x hx => ⟨(hm x hx).1, (hm x hx).2.1⟩) L3 (by omega) (by omega) ha ?_
      unfold wpY_peek
      exact yw_isNode_t hC hR (by omega) hn (br_f (by decide) (br_t b0 (yw_next_hd P (by omega) h16 Ib hnr ⟨17, yw_peek27 P (by omega) h16 Ib hnr (IB n) [] 17 0 a rfl (by omega) (by omega) ha ⟨rfl, J⟩⟩)))
    · refine br_f b0 ?_
      unfold wpY_peek
      exact yw_isNode_t hC hR (by omega) hn (br_f (by decide) (br_f b0 ⟨rfl, J⟩))
end
section
/-! waiting, place, load, carried -/
section
variable {fC fR fK fD fN fU fT fM fA oT pT rT tT cT fF : Int32} {cO rO lT iB stO srO taO clO leO tkO seO ejO pay ord sH sT sN iH iT iN ow crd cx cel bH bC ret res tur itu arr mF mT mL hB : Nat → Int32} {rM sM hM : Nat → Int64}
variable {age rnk pth ysn tot blk mrk : Nat → Int32}
variable {c r kk D no nr : Nat} {st sr ds cl ln tk ag rk : Nat → Nat} {IB : Nat → List Nat} {od : List Nat}
theorem xw_wait22 {post : Int32 → Prop} (P : xPk c r kk st sr ds cl ln tk stO srO taO clO leO tkO) :
    ∀ (l : List Nat) (fu i s : Nat), (∀ x, x ∈ l → x < 16 ∧ st x = 3) → LC iN l → i + l.length ≤ 16 → l.length < fu → post (nI (s + lsm (fun x => ln x - tk x) l)) → wX_waiting_22 post fC fR fK fD fN fU fT fM fA oT pT rT tT cT fF cO rO lT iB stO srO taO clO leO tkO seO ejO pay rM ord sH sT sN iH iT iN ow crd cx cel bH bC ret sM res tur itu arr mF mT mL hB hM fu (nI s) (hI l.head?) (nI i) := by
  intro l
  induction l with
  | nil =>
    intro fu i s _ _ h1 h2 h
    obtain ⟨f, rfl⟩ : ∃ f, fu = f + 1 := ⟨fu - 1, by omega⟩
    exact br_c (fun _ => h) (fun _ => br_t (by decide) h)
  | cons x t ih =>
    intro fu i s hm hc h1 h2 h
    obtain ⟨f, rfl⟩ : ∃ f, fu = f + 1 := ⟨fu - 1, by omega⟩
    simp only [List.length_cons] at h1 h2
    obtain ⟨hx, hx3⟩ := hm x (by simp)
    obtain ⟨p1, p2, p3, p4, p5, p6, p7, p8, p9, p10, p11, p12, p13, p14, p15⟩ := P x hx
    have vx := ivp (N := 16) hx (by omega)
    have ex : (nI x).toNatClampNeg = x := icl (by omega)
    have hlt := p14 hx3
    refine br_f (nI_ge (b := 16) (by omega) (by omega)) (br_f (nI_pos (by omega)) ⟨vx, vx, nm_r (e' := nI (s + (ln x - tk x))) ?_ ⟨vx, nm_r (e' := hI t.head?) ?_ (nm_r (nI_1 i) (ih f (i + 1) _ (fun y hy => hm y (by simp [hy])) hc.2 (by omega) (by omega) ?_))⟩⟩)
    · show nI s + (leO (nI x).toNatClampNeg - tkO (nI x).toNatClampNeg) = _
      rw [ex, p5, p6, pk_sub (by omega), nI_add]
    · show iN (nI x).toNatClampNeg = _
      rw [ex]; exact hc.1
    · have e : lsm (fun x => ln x - tk x) (x :: t) = (ln x - tk x) + lsm (fun x => ln x - tk x) t := rfl
      rw [e] at h
      rw [Nat.add_assoc]; exact h
theorem yw_wait14 {post : Int32 → Prop} {n : Nat} (P : xPk c r kk st sr ds cl ln tk stO srO taO clO leO tkO) (hn : n < 16) (h16 : c * r ≤ 16) (h : post (nI (sm (fun p => if st p = 3 ∧ ds p = n then ln p - tk p else 0) 16))) :
    ∀ fu i : Nat, i ≤ 16 → 16 - i < fu → wY_waiting_14 post (nI n) fC fR fK fD stO srO taO clO leO tkO age rnk pay pth ysn tot blk mrk fu (nI (sm (fun p => if st p = 3 ∧ ds p = n then ln p - tk p else 0) i)) (nI i) := by
  intro fu
  induction fu with
  | zero => intro i g1 g2; omega
  | succ fu ih =>
    intro i g1 g2
    by_cases e : i = 16
    · subst e; exact br_t (by decide) h
    · have hi : i < 16 := by omega
      have vi := ivp (n := i) (N := 16) hi (by omega)
      have ei : (nI i).toNatClampNeg = i := icl (by omega)
      obtain ⟨p1, p2, p3, p4, p5, p6, p7, p8, p9, p10, p11, p12, p13, p14, p15⟩ := P i hi
      have es : sm (fun p => if st p = 3 ∧ ds p = n then ln p - tk p else 0) (i + 1) = sm (fun p => if st p = 3 ∧ ds p = n then ln p - tk p else 0) i + (if st i = 3 ∧ ds i = n then ln i - tk i else 0) := rfl
      have ih' := ih (i + 1) (by omega) (by omega)
      rw [es] at ih'
      refine br_f (nI_ge (b := 16) hi (by omega)) ⟨vi, ?_⟩
      rw [ei, p1]
      by_cases s3 : st i = 3
      · refine br_t (by rw [s3]; rfl) ⟨vi, ?_⟩
        rw [p3]
        have hlt := p14 s3
        by_cases d3 : ds i = n
        · rw [if_pos ⟨s3, d3⟩] at ih'
          refine br_t (by rw [d3]) ⟨vi, vi, nm_r (e' := nI (sm (fun p => if st p = 3 ∧ ds p = n then ln p - tk p else 0) i + (ln i - tk i))) ?_ (nm_r (nI_1 i) ih')⟩
          rw [p5, p6, pk_sub (by omega), nI_add]
        · rw [if_neg (fun z => d3 z.2)] at ih'
          exact br_f (fun z => d3 ((ieq (by omega) (by omega)).mp z)) (nm_r (nI_1 i) ih')
      · rw [if_neg (fun z => s3 z.1)] at ih'
        exact br_f (fun z => s3 ((ieq (b := 3) (by omega) (by omega)).mp z)) (nm_r (nI_1 i) ih')
theorem ib_sum (Ib : zIb st ds rk IB nr iH iT iN rnk) {n : Nat} (hn : n < 16) (f : Nat → Nat) : lsm f (IB n) = sm (fun p => if st p = 3 ∧ ds p = n then f p else 0) 16 := by
  obtain ⟨len, hnd, hm⟩ := ib_len Ib hn
  rw [lsm_sm (IB n) hnd (fun a ha => (hm a ha).1)]
  refine sm_congr 16 ?_
  intro i hi
  show (if i ∈ IB n then f i else 0) = if st i = 3 ∧ ds i = n then f i else 0
  have := Ib.2.1 n hn i
  by_cases q : i ∈ IB n
  · rw [if_pos q, if_pos (this.mp q).2]
  · rw [if_neg q, if_neg (fun z => q (this.mpr ⟨hi, z⟩))]
theorem od_facts (Od : zOd st ag od no fU ord age) : od.length ≤ 16 ∧ od.Nodup ∧ (∀ x, x ∈ od → x < 16) := by
  obtain ⟨_, _, O3, O4, _⟩ := Od
  have hnd := pw_nd O4
  have hm : ∀ x, x ∈ od → x < 16 := fun x hx => ((O3 x).mp hx).1
  exact ⟨nd_len 16 _ hnd hm, hnd, hm⟩
theorem od_sum (Od : zOd st ag od no fU ord age) (f : Nat → Nat) : lsm f od = sm (fun p => if st p = 1 ∨ st p = 2 then f p else 0) 16 := by
  obtain ⟨len, hnd, hm⟩ := od_facts Od
  rw [lsm_sm od hnd hm]
  refine sm_congr 16 ?_
  intro i hi
  show (if i ∈ od then f i else 0) = if st i = 1 ∨ st i = 2 then f i else 0
  have := Od.2.2.1 i
  by_cases q : i ∈ od
  · rw [if_pos q, if_pos (this.mp q).2]
  · rw [if_neg q, if_neg (fun z => q (this.mpr ⟨hi, z⟩))]
theorem od_at (Od : zOd st ag od no fU ord age) {a b : List Nat} {x : Nat} (h : od = a ++ x :: b) : ord a.length = nI x := by
  rw [Od.2.1 a.length (by rw [h]; simp), h]
  simp

theorem xw_place42 {post : Int32 → Prop} {h : Nat} {a b : List Nat} (Od : zOd st ag od no fU ord age) (hod : od = a ++ h :: b) (hp : post (nI a.length)) :
    ∀ (l pre : List Nat) (fu : Nat), a = pre ++ l → l.length < fu → wX_place_42 post (nI h) fC fR fK fD fN fU fT fM fA oT pT rT tT cT fF cO rO lT iB stO srO taO clO leO tkO seO ejO pay rM ord sH sT sN iH iT iN ow crd cx cel bH bC ret sM res tur itu arr mF mT mL hB hM fu (nI pre.length) (nI pre.length) := by
  obtain ⟨len, hnd, hm⟩ := od_facts Od
  have hlen : a.length + (b.length + 1) ≤ 16 := by rw [hod] at len; simpa using len
  have hh : h < 16 := hm h (by rw [hod]; simp)
  have hfU := Od.1
  rw [hod] at hfU
  simp only [List.length_append, List.length_cons] at hfU
  intro l
  induction l with
  | nil =>
    intro pre fu ha hf
    obtain ⟨f, rfl⟩ : ∃ f, fu = f + 1 := ⟨fu - 1, by omega⟩
    rw [List.append_nil] at ha
    subst ha
    have vi := ivp (n := a.length) (N := 16) (by omega) (by omega)
    refine br_f (nI_ge (b := 16) (by omega) (by omega)) (br_f (by rw [hfU]; exact nI_ge (by omega) (by omega)) ⟨vi, br_t ?_ hp⟩)
    rw [icl (by omega)]; exact od_at Od hod
  | cons x t ih =>
    intro pre fu ha hf
    obtain ⟨f, rfl⟩ : ∃ f, fu = f + 1 := ⟨fu - 1, by omega⟩
    simp only [List.length_cons] at hf
    have hpl : pre.length < a.length := by rw [ha]; simp
    have vi := ivp (n := pre.length) (N := 16) (by omega) (by omega)
    have hod2 : od = pre ++ x :: (t ++ h :: b) := by rw [hod, ha]; simp
    have hx : x < 16 := hm x (by rw [hod2]; simp)
    have hxh : x ≠ h := by
      rintro rfl
      rw [hod2, List.nodup_append] at hnd
      have := hnd.2.1
      rw [List.nodup_cons] at this
      exact this.1 (by simp)
    refine br_f (nI_ge (b := 16) (by omega) (by omega)) (br_f (by rw [hfU]; exact nI_ge (by omega) (by omega)) ⟨vi, br_f ?_ ?_⟩)
    · rw [icl (by omega), od_at Od hod2]
      exact fun z => hxh ((ieq (by omega) (by omega)).mp z)
    · have := ih (pre ++ [x]) f (by rw [ha]; simp) (by omega)
      simp only [List.length_append, List.length_singleton] at this
      exact nm_r (nI_1 _) (nm_r (nI_1 _) this)
theorem xw_placeIn {post : Int32 → Prop} {h : Nat} {b : List Nat} (hh : h < 16) :
    ∀ (a : List Nat) (fu i s : Nat), (∀ x, x ∈ a → x < 16 ∧ x ≠ h) → LC iN (a ++ h :: b) → i + a.length < 16 → a.length < fu → post (nI (s + a.length)) → wX_placeInInbox_17 post (nI h) fC fR fK fD fN fU fT fM fA oT pT rT tT cT fF cO rO lT iB stO srO taO clO leO tkO seO ejO pay rM ord sH sT sN iH iT iN ow crd cx cel bH bC ret sM res tur itu arr mF mT mL hB hM fu (nI s) (hI (a ++ h :: b).head?) (nI i) := by
  intro a
  induction a with
  | nil =>
    intro fu i s _ _ h1 h2 hp
    obtain ⟨f, rfl⟩ : ∃ f, fu = f + 1 := ⟨fu - 1, by omega⟩
    simp only [List.length_nil] at h1
    exact br_f (nI_ge (b := 16) (by omega) (by omega)) (br_f (nI_pos (by omega)) (br_t rfl hp))
  | cons x t ih =>
    intro fu i s hm hc h1 h2 hp
    obtain ⟨f, rfl⟩ : ∃ f, fu = f + 1 := ⟨fu - 1, by omega⟩
    simp only [List.length_cons] at h1 h2 hp
    obtain ⟨hx, hxh⟩ := hm x (by simp)
    refine br_f (nI_ge (b := 16) (by omega) (by omega)) (br_f (nI_pos (by omega)) (br_f (fun z => hxh ((ieq (by omega) (by omega)).mp z)) (nm_r (nI_1 s) ⟨ivp hx (by omega), nm_r (e' := hI (t ++ h :: b).head?) ?_ (nm_r (nI_1 i) (ih f (i + 1) (s + 1) (fun y hy => hm y (by simp [hy])) hc.2 (by omega) (by omega) ?_))⟩)))
    · show iN (nI x).toNatClampNeg = _
      rw [icl (by omega)]; exact hc.1
    · have : s + 1 + t.length = s + (t.length + 1) := by omega
      rw [this]; exact hp
theorem yw_unreleased {post : Int32 → Prop} (P : xPk c r kk st sr ds cl ln tk stO srO taO clO leO tkO) {p : Nat} (hp : p < 16) (h1 : (st p = 1 ∨ st p = 2) → post 1) (h0 : ¬ (st p = 1 ∨ st p = 2) → post 0) : wpY_unreleased post (fC, fR, fK, fD, stO, srO, taO, clO, leO, tkO, age, rnk, pay, pth, ysn, tot, blk, mrk) (nI p) := by
  obtain ⟨p1, p2, p3, p4, p5, p6, p7, p8, p9, p10, p11, p12, p13, p14, p15⟩ := P p hp
  have vp := ivp (N := 16) hp (by omega)
  refine ⟨vp, ?_⟩
  rw [icl (by omega), p1]
  by_cases s1 : st p = 1
  · exact br_t (by rw [s1]; rfl) (h1 (.inl s1))
  · refine br_f (fun z => s1 ((ieq (b := 1) (by omega) (by omega)).mp z)) ⟨vp, ?_⟩
    by_cases s2 : st p = 2
    · exact br_t (by rw [s2]; rfl) (h1 (.inr s2))
    · exact br_f (fun z => s2 ((ieq (b := 2) (by omega) (by omega)).mp z)) (h0 (by omega))
/-- what place counts -/
def plc (st ds ag rk : Nat → Nat) (h p : Nat) : Nat := if st h = 3 then (if st p = 3 ∧ ds p = ds h ∧ rk p < rk h then 1 else 0) else (if (st p = 1 ∨ st p = 2) ∧ ag p < ag h then 1 else 0)
theorem yw_place28 {post : Int32 → Prop} {h : Nat} (P : xPk c r kk st sr ds cl ln tk stO srO taO clO leO tkO) (h16 : c * r ≤ 16) (hh : h < 16) (hs : st h ≠ 0)
    (hag : ∀ p, Lv st p → age p = nI (ag p) ∧ ag p < 2 ^ 31) (hrk : ∀ p, p < 16 → st p = 3 → rnk p = nI (rk p) ∧ rk p < 2 ^ 31) (hp : post (nI (sm (plc st ds ag rk h) 16))) :
    ∀ fu i : Nat, i ≤ 16 → 16 - i < fu → wY_place_28 post (nI h) fC fR fK fD stO srO taO clO leO tkO age rnk pay pth ysn tot blk mrk fu (nI (sm (plc st ds ag rk h) i)) (nI i) := by
  obtain ⟨q1, q2, q3, q4, q5, q6, q7, q8, q9, q10, q11, q12, q13, q14, q15⟩ := P h hh
  have vh := ivp (N := 16) hh (by omega)
  have eh : (nI h).toNatClampNeg = h := icl (by omega)
  intro fu
  induction fu with
  | zero => intro i g1 g2; omega
  | succ fu ih =>
    intro i g1 g2
    by_cases e : i = 16
    · subst e; exact br_t (by decide) hp
    · have hi : i < 16 := by omega
      have vi := ivp (n := i) (N := 16) hi (by omega)
      have ei : (nI i).toNatClampNeg = i := icl (by omega)
      obtain ⟨p1, p2, p3, p4, p5, p6, p7, p8, p9, p10, p11, p12, p13, p14, p15⟩ := P i hi
      have es : sm (plc st ds ag rk h) (i + 1) = sm (plc st ds ag rk h) i + plc st ds ag rk h i := rfl
      have ih' := ih (i + 1) (by omega) (by omega)
      rw [es] at ih'
      unfold plc at ih'
      refine br_f (nI_ge (b := 16) hi (by omega)) ?_
      by_cases s3 : st h = 3
      · rw [if_pos s3] at ih'
        refine yw_unreleased P hh (fun z => by omega) (fun _ => br_t rfl ⟨vh, ?_⟩)
        rw [eh, q1]
        refine br_t (by rw [s3]; rfl) ⟨vi, ?_⟩
        rw [ei, p1]
        by_cases t3 : st i = 3
        · refine br_t (by rw [t3]; rfl) ⟨vi, vh, ?_⟩
          rw [p3, q3]
          by_cases d3 : ds i = ds h
          · refine br_t (by rw [d3]) ⟨vi, vh, ?_⟩
            have a1 := hrk i hi t3
            have a2 := hrk h hh s3
            rw [a1.1, a2.1]
            by_cases lt : rk i < rk h
            · rw [if_pos ⟨t3, d3, lt⟩] at ih'
              exact br_f (nI_ge lt a2.2) (nm_r (nI_1 _) (nm_r (nI_1 i) ih'))
            · rw [if_neg (fun z => lt z.2.2)] at ih'
              exact br_t (nI_le (by omega) a1.2) (nm_r (nI_1 i) ih')
          · rw [if_neg (fun z => d3 z.2.1)] at ih'
            exact br_f (fun z => d3 ((ieq (by omega) (by omega)).mp z)) (nm_r (nI_1 i) ih')
        · rw [if_neg (fun z => t3 z.1)] at ih'
          exact br_f (fun z => t3 ((ieq (b := 3) (by omega) (by omega)).mp z)) (nm_r (nI_1 i) ih')
      · rw [if_neg s3] at ih'
        have J68 : ∀ x : Nat, wY_place_28 post (nI h) fC fR fK fD stO srO taO clO leO tkO age rnk pay pth ysn tot blk mrk fu (nI x) (nI (i + 1)) → wY_place_68 post (wY_place_28 post (nI h) fC fR fK fD stO srO taO clO leO tkO age rnk pay pth ysn tot blk mrk fu) (nI h) (nI x) (nI i) fC fR fK fD stO srO taO clO leO tkO age rnk pay pth ysn tot blk mrk := by
          intro x hx
          refine ⟨vh, br_f ?_ (nm_r (nI_1 i) hx)⟩
          rw [eh, q1]
          exact fun z => s3 ((ieq (b := 3) (by omega) (by omega)).mp z)
        have hlh : Lv st h := ⟨hh, by omega⟩
        refine yw_unreleased P hh (fun _ => br_f (by decide) ?_) (fun z => by omega)
        refine yw_unreleased P hi (fun z => br_f (by decide) ⟨vi, vh, ?_⟩) (fun z => br_t rfl (J68 _ ?_))
        · have a1 := hag i ⟨hi, z⟩
          have a2 := hag h hlh
          rw [eh, ei, a1.1, a2.1]
          by_cases lt : ag i < ag h
          · rw [if_pos ⟨z, lt⟩] at ih'
            exact br_f (nI_ge lt a2.2) (nm_r (nI_1 _) (J68 _ ih'))
          · rw [if_neg (fun y => lt y.2)] at ih'
            exact br_t (nI_le (by omega) a1.2) (J68 _ ih')
        · rw [if_neg (fun y => z y.1)] at ih'; exact ih'

/-- what load counts -/
def ldc (rM : Nat → Int64) (cl : Nat → Nat) (q id p : Nat) : Nat := if cl p = q ∧ bL rM (p * 2) id = true then 1 else 0
theorem xw_cu19 {post : Int32 → Prop} {q id : Nat} (P : xPk c r kk st sr ds cl ln tk stO srO taO clO leO tkO) (hkk : kk ≤ 2) (Od : zOd st ag od no fU ord age) (hid : id < 128) (hq : q < 2) :
    ∀ (l pre : List Nat) (fu s : Nat), od = pre ++ l → l.length < fu → post (nI (s + lsm (ldc rM cl q id) l)) →
      wX_countUsers_19 post (nI q) (nI (id / 64)) ((1 : Int64) <<< ((nI (id % 64)).toInt64 &&& 63)) fC fR fK fD fN fU fT fM fA oT pT rT tT cT fF cO rO lT iB stO srO taO clO leO tkO seO ejO pay rM ord sH sT sN iH iT iN ow crd cx cel bH bC ret sM res tur itu arr mF mT mL hB hM fu (nI s) (nI pre.length) := by
  obtain ⟨len, hnd, hm⟩ := od_facts Od
  have hfU := Od.1
  intro l
  induction l with
  | nil =>
    intro pre fu s ho hf h
    obtain ⟨f, rfl⟩ : ∃ f, fu = f + 1 := ⟨fu - 1, by omega⟩
    rw [List.append_nil] at ho
    refine br_c (fun _ => h) (fun _ => br_t ?_ h)
    rw [hfU, ho]; exact Int32.le_refl _
  | cons x t ih =>
    intro pre fu s ho hf h
    obtain ⟨f, rfl⟩ : ∃ f, fu = f + 1 := ⟨fu - 1, by omega⟩
    simp only [List.length_cons] at hf
    have hlen : pre.length + (t.length + 1) ≤ 16 := by rw [ho] at len; simpa using len
    have hx : x < 16 := hm x (by rw [ho]; simp)
    obtain ⟨p1, p2, p3, p4, p5, p6, p7, p8, p9, p10, p11, p12, p13, p14, p15⟩ := P x hx
    have vi := ivp (n := pre.length) (N := 16) (by omega) (by omega)
    have vx := ivp (N := 16) hx (by omega)
    have ex : (nI x).toNatClampNeg = x := icl (by omega)
    have es : lsm (ldc rM cl q id) (x :: t) = ldc rM cl q id x + lsm (ldc rM cl q id) t := rfl
    rw [es] at h
    have ih' := fun s' => ih (pre ++ [x]) f s' (by rw [ho]; simp) (by omega)
    simp only [List.length_append, List.length_singleton] at ih'
    refine br_f (nI_ge (b := 16) (by omega) (by omega)) (br_f (by rw [hfU, ho]; simp only [List.length_append, List.length_cons]; exact nI_ge (by omega) (by omega)) ⟨vi, nm_r (e' := nI x) (by rw [icl (by omega)]; exact od_at Od ho) ⟨vx, ?_⟩⟩)
    rw [ex, p4]
    unfold ldc at h
    by_cases ec : cl x = q
    · refine br_t (by rw [ec]) ⟨by rw [ix2]; exact ivp (by omega) (by omega), ?_⟩
      rw [ix2, icl (by omega)]
      have key := bo_t (x := rM (x * 2 + id / 64)) (j := id % 64) (Nat.mod_lt _ (by omega))
      by_cases b : bL rM (x * 2) id = true
      · rw [if_pos ⟨ec, b⟩] at h
        refine br_f (fun z => ?_) (nm_r (nI_1 s) (nm_r (nI_1 _) (ih' (s + 1) ?_)))
        · have := key.mp z
          unfold bL at b
          rw [b] at this; cases this
        · rw [← Nat.add_assoc] at h; exact h
      · rw [if_neg (fun z => b z.2)] at h
        refine br_t (key.mpr ?_) (nm_r (nI_1 _) (ih' s ?_))
        · unfold bL at b
          exact ts_nt b
        · rw [Nat.zero_add] at h; exact h
    · rw [if_neg (fun z => ec z.1)] at h
      refine br_f (fun z => ec ((ieq (by omega) (by omega)).mp z)) (nm_r (nI_1 _) (ih' s ?_))
      rw [Nat.zero_add] at h; exact h
theorem xw_countUsers {post : Int32 → Prop} {q id : Nat} (P : xPk c r kk st sr ds cl ln tk stO srO taO clO leO tkO) (hkk : kk ≤ 2) (Od : zOd st ag od no fU ord age) (hid : id < 128) (hq : q < 2) (h : post (nI (lsm (ldc rM cl q id) od))) : wpX_countUsers post (fC, fR, fK, fD, fN, fU, fT, fM, fA, oT, pT, rT, tT, cT, fF, cO, rO, lT, iB, stO, srO, taO, clO, leO, tkO, seO, ejO, pay, rM, ord, sH, sT, sN, iH, iT, iN, ow, crd, cx, cel, bH, bC, ret, sM, res, tur, itu, arr, mF, mT, mL, hB, hM) (nI id) (nI q) := by
  have len := (od_facts Od).1
  refine nm_r (is6 (by omega)) (nm_r (e' := (1 : Int64) <<< ((nI (id % 64)).toInt64 &&& 63)) (by rw [ia63 (by omega)]) ⟨17, ?_⟩)
  refine xw_cu19 P hkk Od hid hq od [] 17 0 rfl (by omega) ?_
  rw [Nat.zero_add]; exact h
theorem yw_load29 {post : Int32 → Prop} {n p q : Nat} (W : gW c r sr ds cl) (P : xPk c r kk st sr ds cl ln tk stO srO taO clO leO tkO) (Rx : xRt c st sr ds cl rM) (Ry : yRt c st sr ds cl pth) (hn : n < 16) (hp : p < 8) (hq : q < 2)
    (h : post (nI (sm (fun x => if st x = 1 ∨ st x = 2 then ldc rM cl q (n * 8 + p) x else 0) 16))) :
    ∀ fu i : Nat, i ≤ 16 → 16 - i < fu → wY_load_29 post (nI n) (nI p) (nI q) fC fR fK fD stO srO taO clO leO tkO age rnk pay pth ysn tot blk mrk fu (nI (sm (fun x => if st x = 1 ∨ st x = 2 then ldc rM cl q (n * 8 + p) x else 0) i)) (nI i) := by
  intro fu
  induction fu with
  | zero => intro i g1 g2; omega
  | succ fu ih =>
    intro i g1 g2
    by_cases e : i = 16
    · subst e; exact br_t (by decide) h
    · have hi : i < 16 := by omega
      have vi := ivp (n := i) (N := 16) hi (by omega)
      have ei : (nI i).toNatClampNeg = i := icl (by omega)
      obtain ⟨p1, p2, p3, p4, p5, p6, p7, p8, p9, p10, p11, p12, p13, p14, p15⟩ := P i hi
      have w3 := (W.2 i hi).2.2
      have es : sm (fun x => if st x = 1 ∨ st x = 2 then ldc rM cl q (n * 8 + p) x else 0) (i + 1) = sm (fun x => if st x = 1 ∨ st x = 2 then ldc rM cl q (n * 8 + p) x else 0) i + (if st i = 1 ∨ st i = 2 then ldc rM cl q (n * 8 + p) i else 0) := rfl
      have ih' := ih (i + 1) (by omega) (by omega)
      rw [es] at ih'
      unfold ldc at ih' ⊢
      refine br_f (nI_ge (b := 16) hi (by omega)) (yw_unreleased P hi (fun z => br_f (by decide) ⟨vi, ?_⟩) (fun z => br_t rfl ?_))
      · rw [if_pos z] at ih'
        rw [ei, p4]
        by_cases ec : cl i = q
        · refine br_t (by rw [ec]) ?_
          rw [ix8]
          have hl : Lv st i := ⟨hi, z⟩
          have hb := Rx i hl (n * 8 + p) (by omega)
          refine yw_passes W Ry hl (by omega) (fun y => br_f (by decide) ?_) (fun y => br_t rfl ?_)
          · rw [if_pos ⟨ec, hb.mpr y⟩] at ih'
            exact nm_r (nI_1 _) (nm_r (nI_1 i) ih')
          · rw [if_neg (fun x => y (hb.mp x.2))] at ih'
            exact nm_r (nI_1 i) ih'
        · rw [if_neg (fun x => ec x.1)] at ih'
          exact br_f (fun x => ec ((ieq (by omega) (by omega)).mp x)) (nm_r (nI_1 i) ih')
      · rw [if_neg z] at ih'
        exact nm_r (nI_1 i) ih'
end
theorem i_vc_waiting {k : Nat} {u : SX} {v : SY} (I : i_Rel k u v) (hk : k + 5 ≤ 2564) (v1 : Int32) : wpX_waiting (fun r => wpY_waiting (fun r' => r' = r ∧ i_Rel (k + 5) u v) v v1) u v1 := by
  refine zz_el (P := fun u v => wpX_waiting (fun r => wpY_waiting (fun r' => r' = r ∧ i_Rel (k + 5) u v) v v1) u v1) ?_ I
  intro fC fR fK fD fN fU fT fM fA oT pT rT tT cT fF cO rO lT iB stO srO taO clO leO tkO seO ejO pay rM ord sH sT sN iH iT iN ow crd cx cel bH bC ret sM res tur itu arr mF mT mL hB hM age rnk pth ysn tot blk mrk c r kk D no nr st sr ds cl ln tk ag rk K B w Q cr rt od IB X P M T Rx Ry S Od Ib To
  have J : i_Rel (k + 5) (fC, fR, fK, fD, fN, fU, fT, fM, fA, oT, pT, rT, tT, cT, fF, cO, rO, lT, iB, stO, srO, taO, clO, leO, tkO, seO, ejO, pay, rM, ord, sH, sT, sN, iH, iT, iN, ow, crd, cx, cel, bH, bC, ret, sM, res, tur, itu, arr, mF, mT, mL, hB, hM) (fC, fR, fK, fD, stO, srO, taO, clO, leO, tkO, age, rnk, pay, pth, ysn, tot, blk, mrk) := zz_in X P M T Rx Ry S Od Ib To
  have h16 := (gs_le X.1).2
  have hC := X.2.2.2.2.2.1
  have hR := X.2.2.2.2.2.2.1
  have hN := X.2.2.2.2.2.2.2.2.2.1
  unfold wpX_waiting
  rcases pk_ix v1 (n := c * r) (by omega) with h | h | ⟨n, hn, rfl⟩
  · refine xw_isNode_f hN (.inl h) (br_t rfl ?_)
    unfold wpY_waiting
    exact yw_isNode_f hC hR (.inl h) (br_t rfl ⟨rfl, J⟩)
  · refine xw_isNode_f hN (.inr h) (br_t rfl ?_)
    unfold wpY_waiting
    exact yw_isNode_f hC hR (.inr h) (br_t rfl ⟨rfl, J⟩)
  · obtain ⟨L1, L2, L3⟩ := Ib.1 n (by omega)
    obtain ⟨len, hnd, hm⟩ := ib_len Ib (n := n) (by omega)
    refine xw_isNode_t hN (by omega) hn (br_f (by decide) ⟨ivp (by omega) (by omega), nm_r (e' := hI (IB n).head?) (by rw [icl (by omega)]; exact L1) ⟨17, ?_⟩⟩)
    refine xw_wait22 P (IB n) 17 0 0 (fun x hx => ⟨(hm x hx).1, (hm x hx).2.1⟩) L3 (by omega) (by omega) ?_
    rw [Nat.zero_add, ib_sum Ib (by omega)]
    unfold wpY_waiting
    exact yw_isNode_t hC hR (by omega) hn (br_f (by decide) ⟨17, yw_wait14 P (by omega) h16 ⟨rfl, J⟩ 17 0 (by omega) (by omega)⟩)
theorem i_vc_place {k : Nat} {u : SX} {v : SY} (I : i_Rel k u v) (hk : k + 5 ≤ 2564) (v1 : Int32) : wpX_place (fun r => wpY_place (fun r' => r' = r ∧ i_Rel (k + 5) u v) v v1) u v1 := by
  refine zz_el (P := fun u v => wpX_place (fun r => wpY_place (fun r' => r' = r ∧ i_Rel (k + 5) u v) v v1) u v1) ?_ I
  intro fC fR fK fD fN fU fT fM fA oT pT rT tT cT fF cO rO lT iB stO srO taO clO leO tkO seO ejO pay rM ord sH sT sN iH iT iN ow crd cx cel bH bC ret sM res tur itu arr mF mT mL hB hM age rnk pth ysn tot blk mrk c r kk D no nr st sr ds cl ln tk ag rk K B w Q cr rt od IB X P M T Rx Ry S Od Ib To
  have J : i_Rel (k + 5) (fC, fR, fK, fD, fN, fU, fT, fM, fA, oT, pT, rT, tT, cT, fF, cO, rO, lT, iB, stO, srO, taO, clO, leO, tkO, seO, ejO, pay, rM, ord, sH, sT, sN, iH, iT, iN, ow, crd, cx, cel, bH, bC, ret, sM, res, tur, itu, arr, mF, mT, mL, hB, hM) (fC, fR, fK, fD, stO, srO, taO, clO, leO, tkO, age, rnk, pay, pth, ysn, tot, blk, mrk) := zz_in X P M T Rx Ry S Od Ib To
  have h16 := (gs_le X.1).2
  have hno := To.2.1
  have hnr : nr ≤ 1000000 := by have := To.2.2.2.1; omega
  unfold wpX_place
  rcases pk_ix v1 (n := 16) (by omega) with h | h | ⟨j, hj, rfl⟩
  · exact xw_isHandle_f (.inl h) (br_t rfl (br_t h ⟨rfl, J⟩))
  · obtain ⟨a1, a2, a3⟩ := h_out h
    exact xw_isHandle_f (.inr h) (br_t rfl (br_f a3 (br_f a1 ⟨rfl, J⟩)))
  · obtain ⟨a1, a2, a3⟩ := h_in hj
    have vj := ivp (N := 16) hj (by omega)
    have ej : (nI j).toNatClampNeg = j := icl (by omega)
    obtain ⟨p1, p2, p3, p4, p5, p6, p7, p8, p9, p10, p11, p12, p13, p14, p15⟩ := P j hj
    refine xw_isHandle_t hj (br_f (by decide) ⟨vj, ?_⟩)
    rw [ej, p1]
    have Y0 : st j ≠ 0 → ∀ a : Nat, sm (plc st ds ag rk j) 16 = a → wpY_place (fun r' => r' = nI a ∧ i_Rel (k + 5) (fC, fR, fK, fD, fN, fU, fT, fM, fA, oT, pT, rT, tT, cT, fF, cO, rO, lT, iB, stO, srO, taO, clO, leO, tkO, seO, ejO, pay, rM, ord, sH, sT, sN, iH, iT, iN, ow, crd, cx, cel, bH, bC, ret, sM, res, tur, itu, arr, mF, mT, mL, hB, hM) (fC, fR, fK, fD, stO, srO, taO, clO, leO, tkO, age, rnk, pay, pth, ysn, tot, blk, mrk)) (fC, fR, fK, fD, stO, srO, taO, clO, leO, tkO, age, rnk, pay, pth, ysn, tot, blk, mrk) (nI j) := by
      intro hs a ha
      refine br_f a3 (br_t a1 ⟨vj, br_f ?_ ⟨17, ?_⟩⟩)
      · rw [ej, p1]; exact fun z => hs ((ieq (b := 0) (by omega) (by omega)).mp z)
      · refine yw_place28 P h16 hj hs (fun p hp => ⟨(Od.2.2.2.2 p hp).1, by have := (Od.2.2.2.2 p hp).2; omega⟩) (fun p hp h3 => ⟨(Ib.2.2.2 p hp h3).1, by have := (Ib.2.2.2 p hp h3).2; omega⟩) ?_ 17 0 (by omega) (by omega)
        rw [ha]; exact ⟨rfl, J⟩
    by_cases s0 : st j = 0
    · refine br_t (by rw [s0]; rfl) (br_f a3 (br_t a1 ⟨vj, br_t ?_ ⟨rfl, J⟩⟩))
      rw [ej, p1, s0]; rfl
    · refine br_f (fun z => s0 ((ieq (b := 0) (by omega) (by omega)).mp z)) ⟨vj, ?_⟩
      by_cases s3 : st j = 3
      · refine br_t (by rw [s3]; rfl) ⟨vj, ?_, ?_⟩
        · rw [ej, p3]; exact ivp (by omega) (by omega)
        · rw [ej, p3, icl (by omega)]
          obtain ⟨L1, L2, L3⟩ := Ib.1 (ds j) (by omega)
          obtain ⟨len, hnd, hm⟩ := ib_len Ib (n := ds j) (by omega)
          have hin := (Ib.2.1 (ds j) (by omega) j).mpr ⟨hj, s3, rfl⟩
          obtain ⟨a, b, hab⟩ := mem_split _ hin
          refine nm_r (e' := hI (IB (ds j)).head?) L1 ⟨17, ?_⟩
          rw [hab] at L3 len hnd hm ⊢
          simp only [List.length_append, List.length_cons] at len
          refine xw_placeIn hj a 17 0 0 ?_ L3 (by omega) (by omega) ?_
          · intro x hx
            refine ⟨(hm x (by simp [hx])).1, ?_⟩
            rintro rfl
            rw [List.nodup_append] at hnd
            exact hnd.2.2 x hx x (by simp) rfl
          · rw [Nat.zero_add]
            refine Y0 s0 _ ?_
            have hpw := Ib.2.2.1 (ds j) (by omega)
            rw [hab] at hpw
            have h1 := pw_cnt hpw
            rw [← hab, ib_sum Ib (by omega)] at h1
            rw [← h1]
            refine sm_congr 16 ?_
            intro i _
            unfold plc
            rw [if_pos s3]
            by_cases q : st i = 3 ∧ ds i = ds j
            · by_cases q2 : rk i < rk j
              · rw [if_pos ⟨q.1, q.2, q2⟩, if_pos q, if_pos q2]
              · rw [if_neg (fun z => q2 z.2.2), if_pos q, if_neg q2]
            · rw [if_neg (fun z => q ⟨z.1, z.2.1⟩), if_neg q]
      · refine br_f (fun z => s3 ((ieq (b := 3) (by omega) (by omega)).mp z)) ⟨17, ?_⟩
        have hl : Lv st j := ⟨hj, by omega⟩
        obtain ⟨a, b, hab⟩ := mem_split _ ((Od.2.2.1 j).mpr hl)
        have len := (od_facts Od).1
        rw [hab] at len
        simp only [List.length_append, List.length_cons] at len
        refine xw_place42 Od hab ?_ a [] 17 rfl (by omega)
        refine Y0 s0 _ ?_
        have hpw := Od.2.2.2.1
        rw [hab] at hpw
        have h1 := pw_cnt hpw
        rw [← hab, od_sum Od] at h1
        rw [← h1]
        refine sm_congr 16 ?_
        intro i _
        unfold plc
        rw [if_neg s3]
        by_cases q : st i = 1 ∨ st i = 2
        · by_cases q2 : ag i < ag j
          · rw [if_pos ⟨q, q2⟩, if_pos q, if_pos q2]
          · rw [if_neg (fun z => q2 z.2), if_pos q, if_neg q2]
        · rw [if_neg (fun z => q z.1), if_neg q]
end
section
section
variable {c r kk D no nr : Nat} {st sr ds cl ln tk ag rk : Nat → Nat} {K : Nat → Nat → Nat} {rM : Nat → Int64}
theorem gX_none (W : gW c r sr ds cl) (Rx : xRt c st sr ds cl rM) {id q : Nat} (hid : id < 128) (hq : q < 2) (h : sm (fun x => if st x = 1 ∨ st x = 2 then ldc rM cl q id x else 0) 16 = 0) : gX (gm c sr ds) (gR c sr ds cl) st K (id * 2 + q) = 0 := by
  refine sm_z 16 ?_
  intro p hp
  show (if st p = 1 ∨ st p = 2 then gx1 (gm c sr ds) (gR c sr ds cl) K (id * 2 + q) p else 0) = 0
  by_cases z : st p = 1 ∨ st p = 2
  · rw [if_pos z]
    refine sm_z 8 ?_
    intro i _
    show (if i ≤ gm c sr ds p ∧ gR c sr ds cl p i = id * 2 + q then K p i else 0) = 0
    rw [if_neg]
    rintro ⟨h1, h2⟩
    have hl : Lv st p := ⟨hp, z⟩
    have w3 := (W.2 p hp).2.2
    have hcl : cl p = q := by
      have : gR c sr ds cl p i = gP c (sr p) (ds p) (cl p) i * 2 + cl p := rfl
      omega
    have hz := sm_zero 16 h p hp
    have hz : (if st p = 1 ∨ st p = 2 then ldc rM cl q id p else 0) = 0 := hz
    rw [if_pos z] at hz
    unfold ldc at hz
    rw [if_pos ⟨hcl, (Rx p hl id hid).mpr ⟨i, h1, by omega⟩⟩] at hz
    omega
  · rw [if_neg z]
end
theorem i_vc_load {k : Nat} {u : SX} {v : SY} (I : i_Rel k u v) (hk : k + 5 ≤ 2564) (v1 : Int32) (v2 : Int32) (v3 : Int32) : wpX_load (fun r => wpY_load (fun r' => r' = r ∧ i_Rel (k + 5) u v) v v1 v2 v3) u v1 v2 v3 := by
  refine zz_el (P := fun u v => wpX_load (fun r => wpY_load (fun r' => r' = r ∧ i_Rel (k + 5) u v) v v1 v2 v3) u v1 v2 v3) ?_ I
  intro fC fR fK fD fN fU fT fM fA oT pT rT tT cT fF cO rO lT iB stO srO taO clO leO tkO seO ejO pay rM ord sH sT sN iH iT iN ow crd cx cel bH bC ret sM res tur itu arr mF mT mL hB hM age rnk pth ysn tot blk mrk c r kk D no nr st sr ds cl ln tk ag rk K B w Q cr rt od IB X P M T Rx Ry S Od Ib To
  have J : i_Rel (k + 5) (fC, fR, fK, fD, fN, fU, fT, fM, fA, oT, pT, rT, tT, cT, fF, cO, rO, lT, iB, stO, srO, taO, clO, leO, tkO, seO, ejO, pay, rM, ord, sH, sT, sN, iH, iT, iN, ow, crd, cx, cel, bH, bC, ret, sM, res, tur, itu, arr, mF, mT, mL, hB, hM) (fC, fR, fK, fD, stO, srO, taO, clO, leO, tkO, age, rnk, pay, pth, ysn, tot, blk, mrk) := zz_in X P M T Rx Ry S Od Ib To
  have h16 := (gs_le X.1).2
  have hC := X.2.2.2.2.2.1
  have hR := X.2.2.2.2.2.2.1
  have hK := X.2.2.2.2.2.2.2.1
  have k2 := X.2.2.1
  have W := xGW X P
  unfold wpX_load
  rcases pk_ix v1 (n := c * r) (by omega) with h | h | ⟨n, hn, rfl⟩
  · refine xw_isPort_f X (.inl h) (br_t rfl ?_)
    unfold wpY_load
    exact yw_exists_f hC hR (.inl h) (br_t rfl ⟨rfl, J⟩)
  · refine xw_isPort_f X (.inr h) (br_t rfl ?_)
    unfold wpY_load
    exact yw_exists_f hC hR (.inr h) (br_t rfl ⟨rfl, J⟩)
  · rcases pk_ix v2 (n := 6) (by omega) with h | h | ⟨p, hp, rfl⟩
    · refine xw_isPort_f2 X hn (.inl h) (br_t rfl ?_)
      unfold wpY_load
      exact yw_exists_f2 X.1 hC hR hn (.inl h) (br_t rfl ⟨rfl, J⟩)
    · refine xw_isPort_f2 X hn (.inr h) (br_t rfl ?_)
      unfold wpY_load
      exact yw_exists_f2 X.1 hC hR hn (.inr h) (br_t rfl ⟨rfl, J⟩)
    · refine xw_isPort_t X hn hp (fun ok => br_f (by decide) ?_) (fun no' => br_t rfl ?_)
      · rcases pk_ix v3 (n := kk) (by omega) with h | h | ⟨q, hq, rfl⟩
        · refine xw_isClass_f hK (.inl h) (br_t rfl ?_)
          unfold wpY_load
          exact yw_exists_t X.1 hC hR hn hp (fun _ => br_f (by decide) (br_t h ⟨rfl, J⟩)) (fun no' => absurd ok no')
        · refine xw_isClass_f hK (.inr h) (br_t rfl ?_)
          unfold wpY_load
          exact yw_exists_t X.1 hC hR hn hp (fun _ => br_f (by decide) (br_c (fun _ => ⟨rfl, J⟩) (fun _ => br_f (by rw [hK]; exact Int32.not_lt.mpr h) ⟨rfl, J⟩))) (fun no' => absurd ok no')
        · refine xw_isClass_t hK (by omega) hq (br_f (by decide) ?_)
          rw [ix8]
          refine xw_countUsers P k2 Od (by omega) (by omega) ?_
          rw [od_sum Od]
          unfold wpY_load
          exact yw_exists_t X.1 hC hR hn hp (fun _ => br_f (by decide) (br_f (nI_pos (by omega)) (br_t (by rw [hK]; exact nI_lt hq (by omega)) ⟨17, yw_load29 W P Rx Ry (by omega) (by omega) (by omega) ⟨rfl, J⟩ 17 0 (by omega) (by omega)⟩))) (fun no' => absurd ok no')
      · unfold wpY_load
        exact yw_exists_t X.1 hC hR hn hp (fun ok => absurd ok no') (fun _ => br_t rfl ⟨rfl, J⟩)
theorem i_vc_carried {k : Nat} {u : SX} {v : SY} (I : i_Rel k u v) (hk : k + 5 ≤ 2564) (v1 : Int32) (v2 : Int32) (v3 : Int32) : wpX_carried (fun r => wpY_carried (fun r' => r' = r ∧ i_Rel (k + 5) u v) v v1 v2 v3) u v1 v2 v3 := by
  refine zz_el (P := fun u v => wpX_carried (fun r => wpY_carried (fun r' => r' = r ∧ i_Rel (k + 5) u v) v v1 v2 v3) u v1 v2 v3) ?_ I
  intro fC fR fK fD fN fU fT fM fA oT pT rT tT cT fF cO rO lT iB stO srO taO clO leO tkO seO ejO pay rM ord sH sT sN iH iT iN ow crd cx cel bH bC ret sM res tur itu arr mF mT mL hB hM age rnk pth ysn tot blk mrk c r kk D no nr st sr ds cl ln tk ag rk K B w Q cr rt od IB X P M T Rx Ry S Od Ib To
  have J : i_Rel (k + 5) (fC, fR, fK, fD, fN, fU, fT, fM, fA, oT, pT, rT, tT, cT, fF, cO, rO, lT, iB, stO, srO, taO, clO, leO, tkO, seO, ejO, pay, rM, ord, sH, sT, sN, iH, iT, iN, ow, crd, cx, cel, bH, bC, ret, sM, res, tur, itu, arr, mF, mT, mL, hB, hM) (fC, fR, fK, fD, stO, srO, taO, clO, leO, tkO, age, rnk, pay, pth, ysn, tot, blk, mrk) := zz_in X P M T Rx Ry S Od Ib To
  have h16 := (gs_le X.1).2
  have hC := X.2.2.2.2.2.1
  have hR := X.2.2.2.2.2.2.1
  have hK := X.2.2.2.2.2.2.2.1
  have k2 := X.2.2.1
  have W := xGW X P
  unfold wpX_carried
  rcases pk_ix v1 (n := c * r) (by omega) with h | h | ⟨n, hn, rfl⟩
  · refine xw_isPort_f X (.inl h) (br_t rfl ?_)
    unfold wpY_carried wpY_load
    exact yw_exists_f hC hR (.inl h) (br_t rfl (br_f (by decide) ⟨rfl, J⟩))
  · refine xw_isPort_f X (.inr h) (br_t rfl ?_)
    unfold wpY_carried wpY_load
    exact yw_exists_f hC hR (.inr h) (br_t rfl (br_f (by decide) ⟨rfl, J⟩))
  · rcases pk_ix v2 (n := 6) (by omega) with h | h | ⟨p, hp, rfl⟩
    · refine xw_isPort_f2 X hn (.inl h) (br_t rfl ?_)
      unfold wpY_carried wpY_load
      exact yw_exists_f2 X.1 hC hR hn (.inl h) (br_t rfl (br_f (by decide) ⟨rfl, J⟩))
    · refine xw_isPort_f2 X hn (.inr h) (br_t rfl ?_)
      unfold wpY_carried wpY_load
      exact yw_exists_f2 X.1 hC hR hn (.inr h) (br_t rfl (br_f (by decide) ⟨rfl, J⟩))
    · refine xw_isPort_t X hn hp (fun ok => br_f (by decide) ?_) (fun no' => br_t rfl ?_)
      · rcases pk_ix v3 (n := kk) (by omega) with h | h | ⟨q, hq, rfl⟩
        · refine xw_isClass_f hK (.inl h) (br_t rfl ?_)
          unfold wpY_carried wpY_load
          exact yw_exists_t X.1 hC hR hn hp (fun _ => br_f (by decide) (br_t h (br_f (by decide) ⟨rfl, J⟩))) (fun no' => absurd ok no')
        · refine xw_isClass_f hK (.inr h) (br_t rfl ?_)
          unfold wpY_carried wpY_load
          exact yw_exists_t X.1 hC hR hn hp (fun _ => br_f (by decide) (br_c (fun _ => br_f (by decide) ⟨rfl, J⟩) (fun _ => br_f (by rw [hK]; exact Int32.not_lt.mpr h) (br_f (by decide) ⟨rfl, J⟩)))) (fun no' => absurd ok no')
        · refine xw_isClass_t hK (by omega) hq (br_f (by decide) (nm_r (ix8 n p) ?_))
          refine xw_countUsers P k2 Od (by omega) (by omega) ?_
          have hle := sm_le (f := fun x => if st x = 1 ∨ st x = 2 then ldc rM cl q (n * 8 + p) x else 0) (b := 1) 16 (by
            intro i _
            show (if st i = 1 ∨ st i = 2 then ldc rM cl q (n * 8 + p) i else 0) ≤ 1
            unfold ldc
            split
            · split <;> omega
            · omega)
          have vc : vp_in ((nI n * 8 + nI p) * 2 + nI q) 256 := by rw [ix8, ix2]; exact ivp (by omega) (by omega)
          have YW : ∀ {post : Int32 → Prop}, (post (nI (sm (fun x => if st x = 1 ∨ st x = 2 then ldc rM cl q (n * 8 + p) x else 0) 16))) → wpY_load post (fC, fR, fK, fD, stO, srO, taO, clO, leO, tkO, age, rnk, pay, pth, ysn, tot, blk, mrk) (nI n) (nI p) (nI q) := by
            intro post hpost
            unfold wpY_load
            exact yw_exists_t X.1 hC hR hn hp (fun _ => br_f (by decide) (br_f (nI_pos (by omega)) (br_t (by rw [hK]; exact nI_lt hq (by omega)) ⟨17, yw_load29 W P Rx Ry (by omega) (by omega) (by omega) hpost 17 0 (by omega) (by omega)⟩))) (fun no' => absurd ok no')
          rw [od_sum Od]
          by_cases z : sm (fun x => if st x = 1 ∨ st x = 2 then ldc rM cl q (n * 8 + p) x else 0) 16 = 0
          · rw [z] at YW ⊢
            refine br_t (by decide) ⟨by rw [ix2]; exact ivp (by omega) (by omega), ?_⟩
            unfold wpY_carried
            refine YW (br_t (by decide) (br_t (by decide) ⟨vc, ?_, J⟩))
            rw [ix2, ix8, ix2, icl (by omega), M.2.2.2.1 _ (by omega), gX_none W Rx (by omega) (by omega) z]
            exact (Int32.add_zero _).symm
          · refine br_f (nI_nle (by omega) (by omega)) ?_
            unfold wpY_carried
            exact YW (br_t (nI_pos' (by omega)) (br_f (nI_nle (by omega) (by omega)) ⟨rfl, J⟩))
      · unfold wpY_carried wpY_load
        exact yw_exists_t X.1 hC hR hn hp (fun ok => absurd ok no') (fun _ => br_t rfl (br_f (by decide) ⟨rfl, J⟩))
end
section
/-! stall, clock, held -/
theorem bo_flip {a : Nat → Int64} {id : Nat} (hid : id < 128) : ∀ id', id' < 128 → bL (vp_updL a (id / 64) (a (id / 64) ^^^ ((1 : Int64) <<< ((nI (id % 64)).toInt64 &&& 63)))) 0 id' = if id' = id then !(bL a 0 id') else bL a 0 id' := by
  intro id' h'
  unfold bL
  rw [Nat.zero_add]
  by_cases e : id' / 64 = id / 64
  · rw [e, pk_uLs, bo_xor, bo_1 (Nat.mod_lt _ (by omega))]
    by_cases q : id' = id
    · subst q; rw [if_pos rfl]; simp
    · have : ¬ id' % 64 = id % 64 := by omega
      rw [if_neg q]; simp [this]
  · rw [pk_uLn e, if_neg (by rintro rfl; exact e rfl)]
theorem i_vc_stall {k : Nat} {u : SX} {v : SY} (I : i_Rel k u v) (hk : k + 5 ≤ 2564) (v1 : Int32) (v2 : Int32) (v3 : Int32) : wpX_stall (fun r u' => wpY_stall (fun r' v' => r' = r ∧ i_Rel (k + 5) u' v') v v1 v2 (lw_bz v3)) u v1 v2 (lw_bz v3) := by
  refine zz_el (P := fun u v => wpX_stall (fun r u' => wpY_stall (fun r' v' => r' = r ∧ i_Rel (k + 5) u' v') v v1 v2 (lw_bz v3)) u v1 v2 (lw_bz v3)) ?_ I
  intro fC fR fK fD fN fU fT fM fA oT pT rT tT cT fF cO rO lT iB stO srO taO clO leO tkO seO ejO pay rM ord sH sT sN iH iT iN ow crd cx cel bH bC ret sM res tur itu arr mF mT mL hB hM age rnk pth ysn tot blk mrk c r kk D no nr st sr ds cl ln tk ag rk K B w Q cr rt od IB X P M T Rx Ry S Od Ib To
  have J : i_Rel (k + 5) (fC, fR, fK, fD, fN, fU, fT, fM, fA, oT, pT, rT, tT, cT, fF, cO, rO, lT, iB, stO, srO, taO, clO, leO, tkO, seO, ejO, pay, rM, ord, sH, sT, sN, iH, iT, iN, ow, crd, cx, cel, bH, bC, ret, sM, res, tur, itu, arr, mF, mT, mL, hB, hM) (fC, fR, fK, fD, stO, srO, taO, clO, leO, tkO, age, rnk, pay, pth, ysn, tot, blk, mrk) := zz_in X P M T Rx Ry S Od Ib To
  have h16 := (gs_le X.1).2
  have hC := X.2.2.2.2.2.1
  have hR := X.2.2.2.2.2.2.1
  have hb01 := lw_bz_01 v3
  generalize lw_bz v3 = b at *
  have hnar : vp_nar .boolean b = b := by rcases hb01 with rfl | rfl <;> rfl
  unfold wpX_stall
  rcases pk_ix v1 (n := c * r) (by omega) with h | h | ⟨n, hn, rfl⟩
  · refine xw_isPort_f X (.inl h) (br_t rfl ?_)
    unfold wpY_stall
    exact yw_exists_f hC hR (.inl h) (br_t rfl ⟨rfl, J⟩)
  · refine xw_isPort_f X (.inr h) (br_t rfl ?_)
    unfold wpY_stall
    exact yw_exists_f hC hR (.inr h) (br_t rfl ⟨rfl, J⟩)
  · rcases pk_ix v2 (n := 6) (by omega) with h | h | ⟨p, hp, rfl⟩
    · refine xw_isPort_f2 X hn (.inl h) (br_t rfl ?_)
      unfold wpY_stall
      exact yw_exists_f2 X.1 hC hR hn (.inl h) (br_t rfl ⟨rfl, J⟩)
    · refine xw_isPort_f2 X hn (.inr h) (br_t rfl ?_)
      unfold wpY_stall
      exact yw_exists_f2 X.1 hC hR hn (.inr h) (br_t rfl ⟨rfl, J⟩)
    · refine xw_isPort_t X hn hp (fun ok => br_f (by decide) (nm_r (ix8 n p) ?_)) (fun no' => br_t rfl ?_)
      · have hid : n * 8 + p < 128 := by omega
        generalize hID : n * 8 + p = id at *
        have sb := S id hid
        have vi : vp_in (nI n * 8 + nI p) 128 := by rw [ix8, hID]; exact ivp hid (by omega)
        have ei : (nI n * 8 + nI p).toNatClampNeg = id := by rw [ix8, hID]; exact icl (by omega)
        have SAME : blk id = b → wpY_stall (fun r' v' => r' = 0 ∧ i_Rel (k + 5) (fC, fR, fK, fD, fN, fU, fT, fM, fA, oT, pT, rT, tT, cT, fF, cO, rO, lT, iB, stO, srO, taO, clO, leO, tkO, seO, ejO, pay, rM, ord, sH, sT, sN, iH, iT, iN, ow, crd, cx, cel, bH, bC, ret, sM, res, tur, itu, arr, mF, mT, mL, hB, hM) v') (fC, fR, fK, fD, stO, srO, taO, clO, leO, tkO, age, rnk, pay, pth, ysn, tot, blk, mrk) (nI n) (nI p) b := by
          intro hbl
          unfold wpY_stall
          refine yw_exists_t X.1 hC hR hn hp (fun _ => br_f (by decide) ⟨vi, nm_r (e' := blk id) (by rw [ei]) ⟨vi, nm_r (e' := upd blk id b) (by rw [ei, hnar]) (br_t hbl ⟨rfl, ?_⟩)⟩⟩) (fun no' => by rw [hID] at no'; exact absurd ok no')
          refine zz_in X P M T Rx Ry ?_ Od Ib To
          intro id' h'
          by_cases e : id' = id
          · subst e; rw [pk_us, ← hbl]; exact sb
          · rw [pk_un e]; exact S id' h'
        have DIFF : ¬ blk id = b → wpY_stall (fun r' v' => r' = 1 ∧ i_Rel (k + 5) (fC, fR, fK, fD, fN, fU, fT, fM, fA, oT, pT, rT, tT, cT, fF, cO, rO, lT, iB, stO, srO, taO, clO, leO, tkO, seO, ejO, pay, rM, ord, sH, sT, sN, iH, iT, iN, ow, crd, cx, cel, bH, bC, ret, vp_updL sM (id / 64) (sM (id / 64) ^^^ ((1 : Int64) <<< ((nI (id % 64)).toInt64 &&& 63))), res, tur, itu, arr, mF, mT, mL, hB, hM) v') (fC, fR, fK, fD, stO, srO, taO, clO, leO, tkO, age, rnk, pay, pth, ysn, tot, blk, mrk) (nI n) (nI p) b := by
          intro hbl
          unfold wpY_stall
          refine yw_exists_t X.1 hC hR hn hp (fun _ => br_f (by decide) ⟨vi, nm_r (e' := blk id) (by rw [ei]) ⟨vi, nm_r (e' := upd blk id b) (by rw [ei, hnar]) (br_f hbl ⟨rfl, ?_⟩)⟩⟩) (fun no' => by rw [hID] at no'; exact absurd ok no')
          refine zz_in X P M T Rx Ry ?_ Od Ib To
          intro id' h'
          rw [bo_flip hid id' h']
          by_cases e : id' = id
          · subst e
            rw [pk_us, if_pos rfl]
            rw [sb] at hbl
            rcases hb01 with rfl | rfl
            · by_cases q : bL sM 0 id' = true
              · rw [q]; rfl
              · rw [if_neg q] at hbl; exact absurd rfl hbl
            · by_cases q : bL sM 0 id' = true
              · rw [if_pos q] at hbl; exact absurd rfl hbl
              · rw [ts_nt q]; rfl
          · rw [pk_un e, if_neg e]; exact S id' h'
        have FIN : ∀ rr : Int32, rr = blk id → ((rr = b → wpY_stall (fun r' v' => r' = 0 ∧ i_Rel (k + 5) (fC, fR, fK, fD, fN, fU, fT, fM, fA, oT, pT, rT, tT, cT, fF, cO, rO, lT, iB, stO, srO, taO, clO, leO, tkO, seO, ejO, pay, rM, ord, sH, sT, sN, iH, iT, iN, ow, crd, cx, cel, bH, bC, ret, sM, res, tur, itu, arr, mF, mT, mL, hB, hM) v') (fC, fR, fK, fD, stO, srO, taO, clO, leO, tkO, age, rnk, pay, pth, ysn, tot, blk, mrk) (nI n) (nI p) b) ∧ (¬ rr = b → (vp_in (nI id >>> ((6 : Int32) &&& 31)) 2 ∧ (vp_in (nI id >>> ((6 : Int32) &&& 31)) 2 ∧ ∀ y : Nat → Int64, y = vp_updL sM (nI id >>> ((6 : Int32) &&& 31)).toNatClampNeg ((sM (nI id >>> ((6 : Int32) &&& 31)).toNatClampNeg) ^^^ ((1 : Int64) <<< ((nI id &&& 63).toInt64 &&& 63))) → wpY_stall (fun r' v' => r' = 1 ∧ i_Rel (k + 5) (fC, fR, fK, fD, fN, fU, fT, fM, fA, oT, pT, rT, tT, cT, fF, cO, rO, lT, iB, stO, srO, taO, clO, leO, tkO, seO, ejO, pay, rM, ord, sH, sT, sN, iH, iT, iN, ow, crd, cx, cel, bH, bC, ret, y, res, tur, itu, arr, mF, mT, mL, hB, hM) v') (fC, fR, fK, fD, stO, srO, taO, clO, leO, tkO, age, rnk, pay, pth, ysn, tot, blk, mrk) (nI n) (nI p) b)))) := by
          intro rr hr
          have v2 : vp_in (nI id >>> ((6 : Int32) &&& 31)) 2 := by rw [is6 (by omega)]; exact ivp (by omega) (by omega)
          refine br_c (fun z => SAME (hr.symm.trans z)) (fun z => ⟨v2, v2, nm_r (e' := vp_updL sM (id / 64) (sM (id / 64) ^^^ ((1 : Int64) <<< ((nI (id % 64)).toInt64 &&& 63)))) ?_ (DIFF (fun y => z (hr.trans y)))⟩)
          rw [is6 (by omega), ia63 (by omega), icl (by omega)]
        refine xw_isStalled hid (fun z => ?_) (fun z => ?_)
        · exact FIN 1 (by rw [sb, if_pos z])
        · exact FIN 0 (by rw [sb, if_neg (by rw [z]; decide)])
      · unfold wpY_stall
        exact yw_exists_t X.1 hC hR hn hp (fun ok => absurd ok no') (fun _ => br_t rfl ⟨rfl, J⟩)
section
variable {fC fR fK fD fN fU fT fM fA oT pT rT tT cT fF : Int32} {cO rO lT iB stO srO taO clO leO tkO seO ejO pay ord sH sT sN iH iT iN ow crd cx cel bH bC ret res tur itu arr mF mT mL hB : Nat → Int32} {rM sM hM : Nat → Int64}
variable {c r kk D : Nat} {st sr ds cl ln tk : Nat → Nat} {base : Nat → Int32}
theorem xw_clock15 {post : Int32 → SX → Prop} {n : Nat} (X : xGeo c r kk D fC fR fK fD fN cO rO lT iB) (P : xPk c r kk st sr ds cl ln tk stO srO taO clO leO tkO) (hn : n ≤ 64)
    (k : ∀ (K : Nat → Nat → Nat) (B : Nat → List Nat) (w : Nat → Nat) (Q : Nat → List Nat) (cr : Nat → Nat) (rt : List Nat) (fT' fM' fA' : Int32) (seO' ejO' sH' sT' sN' ow' crd' cx' cel' bH' bC' ret' res' tur' itu' arr' mF' mT' mL' : Nat → Int32), zM c D st sr ds cl ln base K B w Q cr rt fT' seO' ejO' sH' sT' sN' ow' crd' cx' cel' bH' bC' ret' res' arr' → xTu tur' itu' → post (nI n) (fC, fR, fK, fD, fN, fU, fT', fM', fA', oT, pT, rT, tT, cT + nI n, fF, cO, rO, lT, iB, stO, srO, taO, clO, leO, tkO, seO', ejO', pay, rM, ord, sH', sT', sN', iH, iT, iN, ow', crd', cx', cel', bH', bC', ret', sM, res', tur', itu', arr', mF', mT', mL', hB, hM)) :
    ∀ (fu i : Nat) (K : Nat → Nat → Nat) (B : Nat → List Nat) (w : Nat → Nat) (Q : Nat → List Nat) (cr : Nat → Nat) (rt : List Nat) (fT' fM' fA' : Int32) (seO' ejO' sH' sT' sN' ow' crd' cx' cel' bH' bC' ret' res' tur' itu' arr' mF' mT' mL' : Nat → Int32), i ≤ n → n - i < fu → zM c D st sr ds cl ln base K B w Q cr rt fT' seO' ejO' sH' sT' sN' ow' crd' cx' cel' bH' bC' ret' res' arr' → xTu tur' itu' → wX_clock_15 post (nI n) fu (nI i) fC fR fK fD fN fU fT' fM' fA' oT pT rT tT cT fF cO rO lT iB stO srO taO clO leO tkO seO' ejO' pay rM ord sH' sT' sN' iH iT iN ow' crd' cx' cel' bH' bC' ret' sM res' tur' itu' arr' mF' mT' mL' hB hM := by
  intro fu
  induction fu with
  | zero => intro i K B w Q cr rt fT' fM' fA' seO' ejO' sH' sT' sN' ow' crd' cx' cel' bH' bC' ret' res' tur' itu' arr' mF' mT' mL' h1 h2; omega
  | succ fu ih =>
    intro i K B w Q cr rt fT' fM' fA' seO' ejO' sH' sT' sN' ow' crd' cx' cel' bH' bC' ret' res' tur' itu' arr' mF' mT' mL' h1 h2 M T
    by_cases e : i = n
    · subst e
      exact br_t (Int32.le_refl _) (nm_e (k K B w Q cr rt fT' fM' fA' seO' ejO' sH' sT' sN' ow' crd' cx' cel' bH' bC' ret' res' tur' itu' arr' mF' mT' mL' M T))
    · refine br_f (nI_ge (by omega) (by omega)) (xw_tick X P M T ?_)
      intro n' K2 B2 w2 Q2 cr2 rt2 fT2 fM2 fA2 seO2 ejO2 sH2 sT2 sN2 ow2 crd2 cx2 cel2 bH2 bC2 ret2 res2 tur2 itu2 arr2 mF2 mT2 mL2 M2 T2 _ _ _
      exact nm_r (nI_1 i) (ih (i + 1) K2 B2 w2 Q2 cr2 rt2 fT2 fM2 fA2 seO2 ejO2 sH2 sT2 sN2 ow2 crd2 cx2 cel2 bH2 bC2 ret2 res2 tur2 itu2 arr2 mF2 mT2 mL2 (by omega) (by omega) M2 T2)
theorem xw_isUnreleased {post : Int32 → Prop} (P : xPk c r kk st sr ds cl ln tk stO srO taO clO leO tkO) {p : Nat} (hp : p < 16) (h1 : (st p = 1 ∨ st p = 2) → post 1) (h0 : ¬ (st p = 1 ∨ st p = 2) → post 0) : wpX_isUnreleased post (fC, fR, fK, fD, fN, fU, fT, fM, fA, oT, pT, rT, tT, cT, fF, cO, rO, lT, iB, stO, srO, taO, clO, leO, tkO, seO, ejO, pay, rM, ord, sH, sT, sN, iH, iT, iN, ow, crd, cx, cel, bH, bC, ret, sM, res, tur, itu, arr, mF, mT, mL, hB, hM) (nI p) := by
  obtain ⟨p1, p2, p3, p4, p5, p6, p7, p8, p9, p10, p11, p12, p13, p14, p15⟩ := P p hp
  have vp := ivp (N := 16) hp (by omega)
  refine ⟨vp, ?_⟩
  rw [icl (by omega), p1]
  by_cases s1 : st p = 1
  · exact br_t (by rw [s1]; rfl) (h1 (.inl s1))
  · refine br_f (fun z => s1 ((ieq (b := 1) (by omega) (by omega)).mp z)) ⟨vp, ?_⟩
    by_cases s2 : st p = 2
    · exact br_t (by rw [s2]; rfl) (h1 (.inr s2))
    · exact br_f (fun z => s2 ((ieq (b := 2) (by omega) (by omega)).mp z)) (h0 (by omega))
end
theorem i_vc_clock {k : Nat} {u : SX} {v : SY} (I : i_Rel k u v) (hk : k + 5 ≤ 2564) (v1 : Int32) : wpX_clock (fun r u' => wpY_clock (fun r' v' => r' = r ∧ i_Rel (k + 5) u' v') v v1) u v1 := by
  refine zz_el (P := fun u v => wpX_clock (fun r u' => wpY_clock (fun r' v' => r' = r ∧ i_Rel (k + 5) u' v') v v1) u v1) ?_ I
  intro fC fR fK fD fN fU fT fM fA oT pT rT tT cT fF cO rO lT iB stO srO taO clO leO tkO seO ejO pay rM ord sH sT sN iH iT iN ow crd cx cel bH bC ret sM res tur itu arr mF mT mL hB hM age rnk pth ysn tot blk mrk c r kk D no nr st sr ds cl ln tk ag rk K B w Q cr rt od IB X P M T Rx Ry S Od Ib To
  have J : i_Rel (k + 5) (fC, fR, fK, fD, fN, fU, fT, fM, fA, oT, pT, rT, tT, cT, fF, cO, rO, lT, iB, stO, srO, taO, clO, leO, tkO, seO, ejO, pay, rM, ord, sH, sT, sN, iH, iT, iN, ow, crd, cx, cel, bH, bC, ret, sM, res, tur, itu, arr, mF, mT, mL, hB, hM) (fC, fR, fK, fD, stO, srO, taO, clO, leO, tkO, age, rnk, pay, pth, ysn, tot, blk, mrk) := zz_in X P M T Rx Ry S Od Ib To
  by_cases b1 : v1 < 1
  · exact br_t b1 (br_t b1 ⟨rfl, J⟩)
  · by_cases b2 : v1 ≤ 64
    · have b0 : ¬ v1 < 0 := by
        intro z
        rw [Int32.lt_iff_toInt_lt] at z b1
        have e0 : (0 : Int32).toInt = 0 := by decide
        have e1 : (1 : Int32).toInt = 1 := by decide
        omega
      obtain ⟨n, hn, rfl⟩ := nI_of2 (M := 64) (n := 64) (by decide) b0 b2
      refine br_f b1 (br_t b2 ⟨65, ?_⟩)
      refine xw_clock15 X P hn ?_ 65 0 K B w Q cr rt fT fM fA seO ejO sH sT sN ow crd cx cel bH bC ret res tur itu arr mF mT mL (by omega) (by omega) M T
      intro K2 B2 w2 Q2 cr2 rt2 fT2 fM2 fA2 seO2 ejO2 sH2 sT2 sN2 ow2 crd2 cx2 cel2 bH2 bC2 ret2 res2 tur2 itu2 arr2 mF2 mT2 mL2 M2 T2
      refine br_f b1 (br_t b2 (nm_e ⟨rfl, ?_⟩))
      obtain ⟨t1, t2, t3, t4, t5, t6, t7, t8, t9, t10, t11⟩ := To
      refine zz_in X P M2 T2 Rx Ry S Od Ib ⟨t1, t2, t3, t4, ?_, ?_, ?_, ?_, ?_, ?_, t11⟩
      · rw [pk_un (by omega)]; exact t5
      · rw [pk_un (by omega)]; exact t6
      · rw [pk_un (by omega)]; exact t7
      · rw [pk_un (by omega)]; exact t8
      · rw [pk_us, t9]
      · rw [pk_un (by omega)]; exact t10
    · exact br_f b1 (br_f b2 (br_f b1 (br_f b2 ⟨rfl, J⟩)))
theorem i_vc_held {k : Nat} {u : SX} {v : SY} (I : i_Rel k u v) (hk : k + 5 ≤ 2564) (v1 : Int32) : wpX_held (fun r u' => wpY_held (fun r' v' => r' = r ∧ i_Rel (k + 5) u' v') v v1) u v1 := by
  refine zz_el (P := fun u v => wpX_held (fun r u' => wpY_held (fun r' v' => r' = r ∧ i_Rel (k + 5) u' v') v v1) u v1) ?_ I
  intro fC fR fK fD fN fU fT fM fA oT pT rT tT cT fF cO rO lT iB stO srO taO clO leO tkO seO ejO pay rM ord sH sT sN iH iT iN ow crd cx cel bH bC ret sM res tur itu arr mF mT mL hB hM age rnk pth ysn tot blk mrk c r kk D no nr st sr ds cl ln tk ag rk K B w Q cr rt od IB X P M T Rx Ry S Od Ib To
  have J : i_Rel (k + 5) (fC, fR, fK, fD, fN, fU, fT, fM, fA, oT, pT, rT, tT, cT, fF, cO, rO, lT, iB, stO, srO, taO, clO, leO, tkO, seO, ejO, pay, rM, ord, sH, sT, sN, iH, iT, iN, ow, crd, cx, cel, bH, bC, ret, sM, res, tur, itu, arr, mF, mT, mL, hB, hM) (fC, fR, fK, fD, stO, srO, taO, clO, leO, tkO, age, rnk, pay, pth, ysn, tot, blk, mrk) := zz_in X P M T Rx Ry S Od Ib To
  have W := xGW X P
  unfold wpX_held
  rcases pk_ix v1 (n := 16) (by omega) with h | h | ⟨j, hj, rfl⟩
  · exact xw_isHandle_f (.inl h) (br_t rfl (br_t h ⟨rfl, J⟩))
  · obtain ⟨a1, a2, a3⟩ := h_out h
    exact xw_isHandle_f (.inr h) (br_t rfl (br_f a3 (br_f a1 ⟨rfl, J⟩)))
  · obtain ⟨a1, a2, a3⟩ := h_in hj
    have vj := ivp (N := 16) hj (by omega)
    have ej : (nI j).toNatClampNeg = j := icl (by omega)
    obtain ⟨p1, p2, p3, p4, p5, p6, p7, p8, p9, p10, p11, p12, p13, p14, p15⟩ := P j hj
    refine xw_isHandle_t hj (br_f (by decide) (xw_isUnreleased P hj (fun z => br_f (by decide) ⟨vj, ?_⟩) (fun z => br_t rfl ?_)))
    · rw [ej, p1]
      by_cases s1 : st j = 1
      · refine br_t (by rw [s1]; rfl) (br_f a3 (br_t a1 (yw_unreleased P hj (fun _ => br_f (by decide) ⟨vj, br_t ?_ ⟨rfl, J⟩⟩) (fun y => absurd z y))))
        rw [ej, p1, s1]; rfl
      · have s1' : ¬ nI (st j) = 1 := fun z => s1 ((ieq (b := 1) (by omega) (by omega)).mp z)
        have s2 : st j = 2 := by omega
        refine br_f s1' (xw_markHeld W P Rx ?_)
        intro hB2 hM2 Hb
        refine ⟨vj, ?_⟩
        rw [(Hb j hj).1]
        refine br_f a3 (br_t a1 (yw_unreleased P hj (fun _ => br_f (by decide) ⟨vj, br_f (by rw [ej, p1]; exact s1') ?_⟩) (fun y => absurd z y)))
        have hl : Lv st j := ⟨hj, z⟩
        have hzj : hz sM c st sr ds cl j = cif (st j = 2 ∧ ∃ id, onR c sr ds cl j id ∧ bL sM 0 id = true) 2 0 := by unfold hz; rw [if_neg s1]
        refine yw_onStall W Ry S hl (fun y => br_f (by decide) ⟨?_, zz_in X P M T Rx Ry S Od Ib To⟩) (fun y => br_t rfl (yw_findHeld W P Ry S ?_))
        · rw [cif_t ⟨s2, y⟩] at hzj
          rw [hn_keep (by rw [hzj]; decide), hzj]; rfl
        · rw [cif_f (fun x => y x.2)] at hzj
          intro mrk2 Hm
          refine ⟨vj, ?_⟩
          rw [ej, Hm j hj]
          by_cases q : hn st (shR c sr ds cl) (hz sM c st sr ds cl) 16 j = 0
          · rw [if_pos q, q]
            exact br_t rfl ⟨rfl, zz_in X P M T Rx Ry S Od Ib To⟩
          · rw [if_neg q, (hn_new 16 q hzj).1]
            exact br_f (by decide) ⟨rfl, zz_in X P M T Rx Ry S Od Ib To⟩
    · exact br_f a3 (br_t a1 (yw_unreleased P hj (fun y => absurd y z) (fun _ => br_t rfl ⟨rfl, J⟩)))
end
section
/-! a packet's own data change -/
def fs (f : Nat → Nat) (p v : Nat) : Nat → Nat := fun x => if x = p then v else f x
theorem fs_s {f : Nat → Nat} {p v : Nat} : fs f p v p = v := if_pos rfl
theorem fs_n {f : Nat → Nat} {p v x : Nat} (h : x ≠ p) : fs f p v x = f x := if_neg h
section
variable {fC fR fK fD fN fU fT fM fA oT pT rT tT cT fF : Int32} {cO rO lT iB stO srO taO clO leO tkO seO ejO pay ord sH sT sN iH iT iN ow crd cx cel bH bC ret res tur itu arr mF mT mL hB : Nat → Int32} {rM sM hM : Nat → Int64}
variable {c r kk D no : Nat} {st st' sr ds cl ln tk ag : Nat → Nat} {base : Nat → Int32} {K : Nat → Nat → Nat} {B : Nat → List Nat} {w : Nat → Nat} {Q : Nat → List Nat} {cr : Nat → Nat} {rt od : List Nat} {age pth : Nat → Int32}
theorem Lv_st (h1 : ∀ q, st' q = 1 ↔ st q = 1) (h2 : ∀ q, st' q = 2 ↔ st q = 2) (q : Nat) : Lv st' q ↔ Lv st q := by
  unfold Lv
  rw [h1 q, h2 q]
theorem zM_st (h1 : ∀ q, st' q = 1 ↔ st q = 1) (h2 : ∀ q, st' q = 2 ↔ st q = 2) (M : zM c D st sr ds cl ln base K B w Q cr rt fT seO ejO sH sT sN ow crd cx cel bH bC ret res arr) : zM c D st' sr ds cl ln base K B w Q cr rt fT seO ejO sH sT sN ow crd cx cel bH bC ret res arr := by
  have hL := Lv_st h1 h2
  obtain ⟨⟨i1, i2, i3, i4, i5, i6, i7, i8⟩, mbu, mre, mcx, mq, mrt, mow, mcr, mse, mar, m4⟩ := M
  refine ⟨⟨?_, ?_, i3, i4, i5, ?_, i7, ?_⟩, mbu, mre, ?_, mq, mrt, mow, mcr, ?_, mar, m4⟩
  · intro p hp; exact i1 p ((hL p).mp hp)
  · intro ch f; rw [i2 ch f, hL]
  · intro ch
    refine ⟨(i6 ch).1, fun p hp => ?_⟩
    rw [(i6 ch).2 p hp, hL, h2]
  · intro l
    refine ⟨(i8 l).1, fun p => ?_, (i8 l).2.2⟩
    rw [(i8 l).2.1 p, hL, h2]
  · intro ch hc
    rw [mcx ch hc]
    congr 2
    refine sm_congr 16 ?_
    intro p _
    show (if st p = 1 ∨ st p = 2 then _ else _) = if st' p = 1 ∨ st' p = 2 then _ else _
    by_cases q : st p = 1 ∨ st p = 2
    · rw [if_pos q, if_pos (by rw [h1, h2]; exact q)]
    · rw [if_neg q, if_neg (by rw [h1, h2]; exact q)]
  · intro p hp; exact mse p ((hL p).mp hp)
theorem xRt_st (h1 : ∀ q, st' q = 1 ↔ st q = 1) (h2 : ∀ q, st' q = 2 ↔ st q = 2) (H : xRt c st sr ds cl rM) : xRt c st' sr ds cl rM := fun p hp => H p ((Lv_st h1 h2 p).mp hp)
theorem yRt_st (h1 : ∀ q, st' q = 1 ↔ st q = 1) (h2 : ∀ q, st' q = 2 ↔ st q = 2) (H : yRt c st sr ds cl pth) : yRt c st' sr ds cl pth := fun p hp => H p ((Lv_st h1 h2 p).mp hp)
theorem zOd_st (h1 : ∀ q, st' q = 1 ↔ st q = 1) (h2 : ∀ q, st' q = 2 ↔ st q = 2) (H : zOd st ag od no fU ord age) : zOd st' ag od no fU ord age := by
  obtain ⟨o1, o2, o3, o4, o5⟩ := H
  exact ⟨o1, o2, fun p => by rw [o3 p, Lv_st h1 h2], o4, fun p hp => o5 p ((Lv_st h1 h2 p).mp hp)⟩

theorem zM_put {p : Nat} (hp : p < 16) (hs : st p = 1) (h3 : ln p ≤ 3) (hs' : st' p = 1 ∨ st' p = 2) (hne : ∀ q, q ≠ p → st' q = st q) (M : zM c D st sr ds cl ln base K B w Q cr rt fT seO ejO sH sT sN ow crd cx cel bH bC ret res arr) :
    zM c D st' sr ds cl (fs ln p (ln p + 1)) base K B w Q cr rt fT seO ejO sH sT sN ow crd cx cel bH bC ret res arr := by
  have hL : ∀ q, Lv st' q ↔ Lv st q := by
    intro q
    by_cases e : q = p
    · subst e
      exact ⟨fun _ => ⟨hp, .inl hs⟩, fun _ => ⟨hp, hs'⟩⟩
    · unfold Lv; rw [hne q e]
  have I := M.1
  have hlp : Lv st p := ⟨hp, .inl hs⟩
  have hle := zm_le I hlp
  obtain ⟨⟨i1, i2, i3, i4, i5, i6, i7, i8⟩, mbu, mre, mcx, mq, mrt, mow, mcr, mse, mar, m4⟩ := M
  have key : ∀ q i, Lv st q → i ≤ gm c sr ds q → (¬ (st' q = 2 ∧ K q i = fs ln p (ln p + 1) q) ↔ ¬ (st q = 2 ∧ K q i = ln q)) := by
    intro q i hq hi
    by_cases e : q = p
    · subst e
      rw [fs_s]
      have := hle i hi
      constructor
      · intro _ z; omega
      · intro _ z; omega
    · rw [fs_n e, hne q e]
  refine ⟨⟨?_, ?_, i3, i4, i5, ?_, i7, ?_⟩, mbu, mre, ?_, mq, mrt, mow, mcr, ?_, mar, m4⟩
  · intro q hq
    obtain ⟨a1, a2, a3⟩ := i1 q ((hL q).mp hq)
    by_cases e : q = p
    · subst e; rw [fs_s]; exact ⟨by omega, by omega, a3⟩
    · rw [fs_n e]; exact ⟨a1, a2, a3⟩
  · intro ch f; rw [i2 ch f, hL]
  · intro ch
    refine ⟨(i6 ch).1, fun q hq => ?_⟩
    rw [(i6 ch).2 q hq, hL]
    constructor
    · rintro ⟨a, i, b1, b2, b3, b4⟩
      exact ⟨a, i, b1, b2, b3, (key q i a b1).mpr b4⟩
    · rintro ⟨a, i, b1, b2, b3, b4⟩
      exact ⟨a, i, b1, b2, b3, (key q i a b1).mp b4⟩
  · intro l
    refine ⟨(i8 l).1, fun q => ?_, (i8 l).2.2⟩
    rw [(i8 l).2.1 q, hL]
    constructor
    · rintro ⟨a, b, d⟩
      exact ⟨a, b, (key q 0 a (by omega)).mpr d⟩
    · rintro ⟨a, b, d⟩
      exact ⟨a, b, (key q 0 a (by omega)).mp d⟩
  · intro ch hc
    rw [mcx ch hc]
    congr 2
    refine sm_congr 16 ?_
    intro q hq
    show (if st q = 1 ∨ st q = 2 then _ else _) = if st' q = 1 ∨ st' q = 2 then _ else _
    have := hL q
    unfold Lv at this
    by_cases z : st q = 1 ∨ st q = 2
    · rw [if_pos z, if_pos (this.mpr ⟨hq, z⟩).2]
    · rw [if_neg z, if_neg (fun y => z (this.mp ⟨hq, y⟩).2)]
  · intro q hq; exact mse q ((hL q).mp hq)

/-- a new packet in slot p, from s to d of class k -/
theorem zM_new {p s d k : Nat} (W : gW c r sr ds cl) (hp : p < 16) (hs : st p = 0) (hk : s * 2 + k < 32) (M : zM c D st sr ds cl ln base K B w Q cr rt fT seO ejO sH sT sN ow crd cx cel bH bC ret res arr) :
    zM c D (fs st p 1) (fs sr p s) (fs ds p d) (fs cl p k) (fs ln p 0) base (fun a b => if a = p then 0 else K a b) B w (fun l => if l = s * 2 + k then Q (s * 2 + k) ++ [p] else Q l) cr rt
      fT (upd seO p 0) (upd ejO p 0) (if Q (s * 2 + k) = [] then upd sH (s * 2 + k) (nI p) else sH) (upd sT (s * 2 + k) (nI p)) (match (Q (s * 2 + k)).getLast? with | none => upd sN p (-1) | some b => upd (upd sN p (-1)) b (nI p)) ow crd cx cel bH bC ret res arr := by
  have hnl : ¬ Lv st p := fun h => by have := h.2; omega
  have hL : ∀ q, q ≠ p → (Lv (fs st p 1) q ↔ Lv st q) := by
    intro q e
    unfold Lv; rw [fs_n e]
  have hlp : Lv (fs st p 1) p := ⟨hp, .inl fs_s⟩
  have em : ∀ q, q ≠ p → gm c (fs sr p s) (fs ds p d) q = gm c sr ds q := by
    intro q e
    unfold gm; rw [fs_n e, fs_n e]
  have eR : ∀ q i, q ≠ p → gR c (fs sr p s) (fs ds p d) (fs cl p k) q i = gR c sr ds cl q i := by
    intro q i e
    unfold gR; rw [fs_n e, fs_n e, fs_n e]
  have el : ∀ q, q ≠ p → gl (fs sr p s) (fs cl p k) q = gl sr cl q := by
    intro q e
    unfold gl; rw [fs_n e, fs_n e]
  have elp : gl (fs sr p s) (fs cl p k) p = s * 2 + k := by unfold gl; rw [fs_s, fs_s]
  have eK : ∀ q i, q ≠ p → (if q = p then 0 else K q i) = K q i := fun q i e => if_neg e
  obtain ⟨⟨i1, i2, i3, i4, i5, i6, i7, i8⟩, mbu, mre, mcx, mq, mrt, mow, mcr, mse, mar, m4⟩ := M
  have notin : ∀ l, p ∉ Q l := fun l h => hnl ((i8 l).2.1 p |>.mp h).1
  refine ⟨⟨?_, ?_, i3, i4, ?_, ?_, i7, ?_⟩, mbu, mre, ?_, ?_, mrt, mow, mcr, ?_, mar, ?_⟩
  · intro q hq
    by_cases e : q = p
    · subst e
      rw [fs_s]
      simp
    · rw [fs_n e, em q e]
      have := i1 q ((hL q e).mp hq)
      simp only [if_neg e]
      exact this
  · intro ch f
    by_cases e : f / 4 = p
    · constructor
      · intro h
        have := ((i2 ch f).mp h).1
        rw [e] at this
        exact absurd this hnl
      · rintro ⟨_, i, _, _, _, h⟩
        simp only [if_pos e] at h
        omega
    · rw [i2 ch f, hL _ e, em _ e]
      simp only [if_neg e]
      constructor
      · rintro ⟨a, i, b1, b2, b3⟩
        exact ⟨a, i, b1, by rw [eR _ _ e]; exact b2, b3⟩
      · rintro ⟨a, i, b1, b2, b3⟩
        rw [eR _ _ e] at b2
        exact ⟨a, i, b1, b2, b3⟩
  · intro ch q hq hw hne
    have hlq := ((i6 ch).2 q hq).mp hw
    have e : q ≠ p := by rintro rfl; exact hnl hlq.1
    obtain ⟨i, a1, a2, a3⟩ := i5 ch q hq hw hne
    refine ⟨i, by rw [em q e]; exact a1, by rw [eR q i e]; exact a2, ?_⟩
    simp only [if_neg e]
    exact a3
  · intro ch
    refine ⟨(i6 ch).1, fun q hq => ?_⟩
    by_cases e : q = p
    · subst e
      constructor
      · intro h; exact absurd (((i6 ch).2 q hq).mp h).1 hnl
      · rintro ⟨_, i, _, _, h, _⟩
        simp at h
    · rw [(i6 ch).2 q hq, hL q e, em q e, fs_n e, fs_n e]
      simp only [if_neg e]
      constructor
      · rintro ⟨a, i, b1, b2, b3⟩
        exact ⟨a, i, b1, by rw [eR _ _ e]; exact b2, b3⟩
      · rintro ⟨a, i, b1, b2, b3⟩
        rw [eR _ _ e] at b2
        exact ⟨a, i, b1, b2, b3⟩
  · intro l
    obtain ⟨q1, q2, q3⟩ := i8 l
    have mem : ∀ q, q ≠ p → (q ∈ Q l ↔ Lv (fs st p 1) q ∧ gl (fs sr p s) (fs cl p k) q = l ∧ ¬ (fs st p 1 q = 2 ∧ (if q = p then 0 else K q 0) = fs ln p 0 q)) := by
      intro q e
      rw [q2 q, hL q e, el q e, fs_n e, fs_n e, if_neg e]
    by_cases e : l = s * 2 + k
    · subst e
      simp only [if_pos]
      refine ⟨?_, ?_, ?_⟩
      · rw [List.nodup_append]
        refine ⟨q1, by simp, ?_⟩
        intro a ha b hb
        rw [List.mem_singleton] at hb
        rintro rfl
        subst hb
        exact notin _ ha
      · intro q
        rw [List.mem_append, List.mem_singleton]
        by_cases eq : q = p
        · subst eq
          constructor
          · intro _
            refine ⟨hlp, elp, fun z => ?_⟩
            rw [fs_s] at z
            omega
          · intro _; exact .inr rfl
        · rw [← mem q eq]
          exact ⟨fun h => h.resolve_right eq, fun h => .inl h⟩
      · intro q hq
        by_cases eq : q = p
        · rw [if_pos eq]
        · rw [if_neg eq]
          refine q3 q ?_
          cases hx : Q (s * 2 + k) with
          | nil => rw [hx] at hq; simp at hq
          | cons a t =>
            rw [hx] at hq
            simp at hq
            rcases hq with h | h
            · simpa using h
            · exact absurd h eq
    · simp only [if_neg e]
      refine ⟨q1, ?_, ?_⟩
      · intro q
        by_cases eq : q = p
        · subst eq
          constructor
          · intro h; exact absurd h (notin l)
          · rintro ⟨_, h, _⟩
            rw [elp] at h
            exact absurd h.symm e
        · exact mem q eq
      · intro q hq
        have : q ≠ p := by rintro rfl; exact notin l (List.mem_of_mem_tail hq)
        rw [if_neg this]; exact q3 q hq
  · intro ch hc
    rw [mcx ch hc]
    congr 2
    refine sm_congr 16 ?_
    intro q hq
    show (if st q = 1 ∨ st q = 2 then gx1 (gm c sr ds) (gR c sr ds cl) K ch q else 0) = if fs st p 1 q = 1 ∨ fs st p 1 q = 2 then gx1 (gm c (fs sr p s) (fs ds p d)) (gR c (fs sr p s) (fs ds p d) (fs cl p k)) (fun a b => if a = p then 0 else K a b) ch q else 0
    by_cases e : q = p
    · subst e
      rw [if_neg (by omega), fs_s, if_pos (.inl rfl)]
      symm
      refine sm_z 8 ?_
      intro i _
      simp
    · rw [fs_n e]
      by_cases z : st q = 1 ∨ st q = 2
      · rw [if_pos z, if_pos z]
        refine sm_congr 8 ?_
        intro i _
        dsimp only
        rw [em q e, eR q i e, if_neg e]
      · rw [if_neg z, if_neg z]
  · exact rL_app mq hk (i8 _).1 (fun l _ => notin l) (fun l a _ hne ha hb => by
      have h1 := ((i8 l).2.1 a).mp ha
      have h2 := ((i8 _).2.1 a).mp hb
      exact hne (h1.2.1.symm.trans h2.2.1))
  · intro q hq
    by_cases e : q = p
    · subst e
      rw [pk_us, pk_us]
      dsimp only
      rw [if_pos rfl, if_pos rfl]
      exact ⟨rfl, rfl⟩
    · rw [pk_un e, pk_un e]
      dsimp only
      rw [if_neg e, if_neg e, em q e]
      exact mse q ((hL q e).mp hq)
  · intro q i hq hi
    dsimp only
    by_cases e : q = p
    · rw [if_pos e]; omega
    · rw [if_neg e]; exact m4 q i hq hi
end
end
section
/-! receive, discard, put -/
section
variable {fC fR fK fD fN fU fT fM fA oT pT rT tT cT fF : Int32} {cO rO lT iB stO srO taO clO leO tkO seO ejO pay ord sH sT sN iH iT iN ow crd cx cel bH bC ret res tur itu arr mF mT mL hB : Nat → Int32} {rM sM hM : Nat → Int64}
variable {c r kk D no nr : Nat} {st st' sr ds cl ln tk ag rk : Nat → Nat} {od : List Nat} {IB : Nat → List Nat} {age pth rnk : Nat → Int32}
theorem xRt_L (hL : ∀ q, Lv st' q ↔ Lv st q) (H : xRt c st sr ds cl rM) : xRt c st' sr ds cl rM := fun p hp => H p ((hL p).mp hp)
theorem yRt_L (hL : ∀ q, Lv st' q ↔ Lv st q) (H : yRt c st sr ds cl pth) : yRt c st' sr ds cl pth := fun p hp => H p ((hL p).mp hp)
theorem zOd_L (hL : ∀ q, Lv st' q ↔ Lv st q) (H : zOd st ag od no fU ord age) : zOd st' ag od no fU ord age := by
  obtain ⟨o1, o2, o3, o4, o5⟩ := H
  exact ⟨o1, o2, fun p => by rw [o3 p, hL], o4, fun p hp => o5 p ((hL p).mp hp)⟩
theorem zIb_3 (h3 : ∀ q, st' q = 3 ↔ st q = 3) (H : zIb st ds rk IB nr iH iT iN rnk) : zIb st' ds rk IB nr iH iT iN rnk := by
  obtain ⟨o1, o2, o3, o4⟩ := H
  exact ⟨o1, fun n hn p => by rw [o2 n hn p, h3], o3, fun p hp hs => o4 p hp ((h3 p).mp hs)⟩
theorem xw_dropFirst {post : SX → Prop} {n x : Nat} {t : List Nat} (hn : n < 16) (hx : x < 16) (hH : iH n = nI x) (hN : iN x = hI t.head?) (ht : ∀ a, a ∈ t → a < 16)
    (h : post (fC, fR, fK, fD, fN, fU, fT, fM, fA, oT, pT, rT, tT, cT, fF, cO, rO, lT, iB, upd stO x 0, srO, taO, clO, leO, tkO, seO, ejO, pay, rM, ord, sH, sT, sN, upd iH n (iN x), if t = [] then upd iT n (-1) else iT, upd iN x (-1), ow, crd, cx, cel, bH, bC, ret, sM, res, tur, itu, arr, mF, mT, mL, hB, hM)) : wpX_dropFirst post (fC, fR, fK, fD, fN, fU, fT, fM, fA, oT, pT, rT, tT, cT, fF, cO, rO, lT, iB, stO, srO, taO, clO, leO, tkO, seO, ejO, pay, rM, ord, sH, sT, sN, iH, iT, iN, ow, crd, cx, cel, bH, bC, ret, sM, res, tur, itu, arr, mF, mT, mL, hB, hM) (nI n) := by
  have vn := ivp (N := 16) hn (by omega)
  have vx := ivp (N := 16) hx (by omega)
  have en : (nI n).toNatClampNeg = n := icl (by omega)
  have ex : (nI x).toNatClampNeg = x := icl (by omega)
  refine ⟨vn, nm_r (e' := nI x) (by rw [en]; exact hH) ⟨vx, vn, nm_r (e' := upd iH n (iN x)) (by rw [en, ex]) ⟨vx, nm_r (e' := upd iN x (-1)) (by rw [ex]) ⟨vn, ?_⟩⟩⟩⟩
  rw [en, pk_us, hN]
  have hz := hI_neg ht
  by_cases e : t = []
  · rw [if_pos e, hN] at h
    refine br_f (fun z => (Int32.not_lt.mpr z) (hz.mpr e)) ⟨vn, nm_e ⟨vx, nm_r (e' := upd stO x 0) (by rw [ex]) h⟩⟩
  · rw [if_neg e, hN] at h
    exact br_t (Int32.not_lt.mp (fun z => e (hz.mp z))) ⟨vx, nm_r (e' := upd stO x 0) (by rw [ex]) h⟩
theorem zIb_drop {n x : Nat} {t : List Nat} (Ib : zIb st ds rk IB nr iH iT iN rnk) (hn : n < 16) (hl : IB n = x :: t) :
    zIb (fs st x 0) ds rk (fun l => if l = n then t else IB l) nr (upd iH n (iN x)) (if t = [] then upd iT n (-1) else iT) (upd iN x (-1)) rnk := by
  obtain ⟨len, hnd, hm⟩ := ib_len Ib hn
  obtain ⟨o1, o2, o3, o4⟩ := Ib
  have hx := hm x (by rw [hl]; simp)
  have hnd' := hnd
  rw [hl, List.nodup_cons] at hnd'
  refine ⟨rL_pop o1 hl hnd ?_, ?_, ?_, ?_⟩
  · intro l hl16 hne hin
    have := (o2 l hl16 x).mp hin
    exact hne (this.2.2.symm.trans hx.2.2)
  · intro l hl16 p
    dsimp only
    by_cases e : l = n
    · subst e
      rw [if_pos rfl]
      have := o2 l hl16 p
      rw [hl, List.mem_cons] at this
      by_cases ep : p = x
      · subst ep
        rw [fs_s]
        constructor
        · intro h; exact absurd h hnd'.1
        · rintro ⟨_, h, _⟩; omega
      · rw [fs_n ep, ← this]
        exact ⟨fun h => .inr h, fun h => h.resolve_left ep⟩
    · rw [if_neg e, o2 l hl16 p]
      by_cases ep : p = x
      · subst ep
        rw [fs_s]
        constructor
        · rintro ⟨_, _, h⟩; exact absurd (h.symm.trans hx.2.2) e
        · rintro ⟨_, h, _⟩; omega
      · rw [fs_n ep]
  · intro l hl16
    dsimp only
    by_cases e : l = n
    · subst e
      rw [if_pos rfl]
      have := o3 l hl16
      rw [hl, List.pairwise_cons] at this
      exact this.2
    · rw [if_neg e]; exact o3 l hl16
  · intro p hp hs
    by_cases ep : p = x
    · subst ep; rw [fs_s] at hs; omega
    · rw [fs_n ep] at hs; exact o4 p hp hs
theorem fs0_12 {x : Nat} (hx : st x = 3) : (∀ q, fs st x 0 q = 1 ↔ st q = 1) ∧ (∀ q, fs st x 0 q = 2 ↔ st q = 2) := by
  constructor
  · intro q
    by_cases e : q = x
    · subst e; rw [fs_s, hx]; omega
    · rw [fs_n e]
  · intro q
    by_cases e : q = x
    · subst e; rw [fs_s, hx]; omega
    · rw [fs_n e]
end
theorem i_vc_discard {k : Nat} {u : SX} {v : SY} (I : i_Rel k u v) (hk : k + 5 ≤ 2564) (v1 : Int32) : wpX_discard (fun r u' => wpY_discard (fun r' v' => r' = r ∧ i_Rel (k + 5) u' v') v v1) u v1 := by
  refine zz_el (P := fun u v => wpX_discard (fun r u' => wpY_discard (fun r' v' => r' = r ∧ i_Rel (k + 5) u' v') v v1) u v1) ?_ I
  intro fC fR fK fD fN fU fT fM fA oT pT rT tT cT fF cO rO lT iB stO srO taO clO leO tkO seO ejO pay rM ord sH sT sN iH iT iN ow crd cx cel bH bC ret sM res tur itu arr mF mT mL hB hM age rnk pth ysn tot blk mrk c r kk D no nr st sr ds cl ln tk ag rk K B w Q cr rt od IB X P M T Rx Ry S Od Ib To
  have J : i_Rel (k + 5) (fC, fR, fK, fD, fN, fU, fT, fM, fA, oT, pT, rT, tT, cT, fF, cO, rO, lT, iB, stO, srO, taO, clO, leO, tkO, seO, ejO, pay, rM, ord, sH, sT, sN, iH, iT, iN, ow, crd, cx, cel, bH, bC, ret, sM, res, tur, itu, arr, mF, mT, mL, hB, hM) (fC, fR, fK, fD, stO, srO, taO, clO, leO, tkO, age, rnk, pay, pth, ysn, tot, blk, mrk) := zz_in X P M T Rx Ry S Od Ib To
  have h16 := (gs_le X.1).2
  have hC := X.2.2.2.2.2.1
  have hR := X.2.2.2.2.2.2.1
  have hN := X.2.2.2.2.2.2.2.2.2.1
  have hnr : nr ≤ 1000000 := by have := To.2.1; have := To.2.2.2.1; omega
  unfold wpX_discard
  rcases pk_ix v1 (n := c * r) (by omega) with h | h | ⟨n, hn, rfl⟩
  · refine xw_isNode_f hN (.inl h) (br_t rfl ?_)
    unfold wpY_discard wpY_front
    exact yw_isNode_f hC hR (.inl h) (br_t rfl (br_f (by decide) ⟨rfl, J⟩))
  · refine xw_isNode_f hN (.inr h) (br_t rfl ?_)
    unfold wpY_discard wpY_front
    exact yw_isNode_f hC hR (.inr h) (br_t rfl (br_f (by decide) ⟨rfl, J⟩))
  · obtain ⟨L1, L2, L3⟩ := Ib.1 n (by omega)
    obtain ⟨len, hnd, hm⟩ := ib_len Ib (n := n) (by omega)
    refine xw_isNode_t hN (by omega) hn (br_f (by decide) ⟨ivp (by omega) (by omega), ?_⟩)
    cases hl : IB n with
    | nil =>
      refine nm_r (e' := -1) (by rw [icl (by omega), L1, hl]; rfl) (br_f (by decide) ?_)
      unfold wpY_discard wpY_front
      refine yw_isNode_t hC hR (by omega) hn (br_f (by decide) (yw_next_hd P (by omega) h16 Ib hnr ?_))
      rw [hl]
      exact br_f (by decide) (br_f (by decide) ⟨rfl, J⟩)
    | cons x t =>
      obtain ⟨hx, hx3, hxd⟩ := hm x (by rw [hl]; simp)
      obtain ⟨p1, p2, p3, p4, p5, p6, p7, p8, p9, p10, p11, p12, p13, p14, p15⟩ := P x hx
      have vx := ivp (N := 16) hx (by omega)
      have ex : (nI x).toNatClampNeg = x := icl (by omega)
      have hlt := p14 hx3
      have hc3 := L3
      rw [hl] at hc3
      obtain ⟨f1, f2⟩ := fs0_12 hx3
      refine nm_r (e' := nI x) (by rw [icl (by omega), L1, hl]; rfl) (br_t (nI_pos' (by omega)) ⟨vx, vx, nm_r (e' := nI (ln x - tk x)) (by rw [ex, p5, p6, pk_sub (by omega)]) (nm_e ?_)⟩)
      refine xw_dropFirst (by omega) hx (by rw [L1, hl]; rfl) hc3.1 (fun a ha => (hm a (by rw [hl]; simp [ha])).1) ?_
      unfold wpY_discard wpY_front
      refine yw_isNode_t hC hR (by omega) hn (br_f (by decide) (yw_next_hd P (by omega) h16 Ib hnr ?_))
      rw [hl]
      refine br_t (nI_pos' (by omega)) (br_t (nI_pos' (by omega)) ⟨vx, vx, nm_r (e' := upd tot 3 (tot 3 + nI (ln x - tk x))) ?_ ⟨vx, nm_r (e' := upd stO x 0) ?_ ⟨vx, vx, ?_, ?_⟩⟩⟩)
      · show upd tot 3 (tot 3 + (leO (nI x).toNatClampNeg - tkO (nI x).toNatClampNeg)) = _
        rw [ex, p5, p6, pk_sub (by omega)]
      · show upd stO (nI x).toNatClampNeg 0 = _
        rw [ex]
      · show leO (nI x).toNatClampNeg - tkO (nI x).toNatClampNeg = _
        rw [ex, p5, p6, pk_sub (by omega)]
      · obtain ⟨t1, t2, t3, t4, t5, t6, t7, t8, t9, t10, t11⟩ := To
        refine zz_in (st := fs st x 0) (tk := tk) X ?_ (zM_st f1 f2 M) T (xRt_st f1 f2 Rx) (yRt_st f1 f2 Ry) S (zOd_st f1 f2 Od) (zIb_drop Ib (by omega) hl) ⟨t1, t2, t3, t4, ?_, ?_, ?_, ?_, ?_, ?_, t11⟩
        · intro q hq
          by_cases e : q = x
          · subst e
            rw [pk_us, fs_s]
            exact ⟨rfl, p2, p3, p4, p5, p6, by omega, p8, by omega, by omega, p11, p12, p13, by omega, by omega⟩
          · rw [pk_un e, fs_n e]; exact P q hq
        · rw [pk_un (by omega)]; exact t5
        · rw [pk_un (by omega)]; exact t6
        · rw [pk_un (by omega)]; exact t7
        · rw [pk_us, t8]
        · rw [pk_un (by omega)]; exact t9
        · rw [pk_un (by omega)]; exact t10
theorem i_vc_receive {k : Nat} {u : SX} {v : SY} (I : i_Rel k u v) (hk : k + 5 ≤ 2564) (v1 : Int32) : wpX_receive (fun r u' => wpY_receive (fun r' v' => r' = r ∧ i_Rel (k + 5) u' v') v v1) u v1 := by
  refine zz_el (P := fun u v => wpX_receive (fun r u' => wpY_receive (fun r' v' => r' = r ∧ i_Rel (k + 5) u' v') v v1) u v1) ?_ I
  intro fC fR fK fD fN fU fT fM fA oT pT rT tT cT fF cO rO lT iB stO srO taO clO leO tkO seO ejO pay rM ord sH sT sN iH iT iN ow crd cx cel bH bC ret sM res tur itu arr mF mT mL hB hM age rnk pth ysn tot blk mrk c r kk D no nr st sr ds cl ln tk ag rk K B w Q cr rt od IB X P M T Rx Ry S Od Ib To
  have J : i_Rel (k + 5) (fC, fR, fK, fD, fN, fU, fT, fM, fA, oT, pT, rT, tT, cT, fF, cO, rO, lT, iB, stO, srO, taO, clO, leO, tkO, seO, ejO, pay, rM, ord, sH, sT, sN, iH, iT, iN, ow, crd, cx, cel, bH, bC, ret, sM, res, tur, itu, arr, mF, mT, mL, hB, hM) (fC, fR, fK, fD, stO, srO, taO, clO, leO, tkO, age, rnk, pay, pth, ysn, tot, blk, mrk) := zz_in X P M T Rx Ry S Od Ib To
  have h16 := (gs_le X.1).2
  have hC := X.2.2.2.2.2.1
  have hR := X.2.2.2.2.2.2.1
  have hN := X.2.2.2.2.2.2.2.2.2.1
  have hnr : nr ≤ 1000000 := by have := To.2.1; have := To.2.2.2.1; omega
  unfold wpX_receive
  rcases pk_ix v1 (n := c * r) (by omega) with h | h | ⟨n, hn, rfl⟩
  · refine xw_isNode_f hN (.inl h) (br_t rfl ?_)
    unfold wpY_receive wpY_front
    exact yw_isNode_f hC hR (.inl h) (br_t rfl (br_f (by decide) ⟨rfl, J⟩))
  · refine xw_isNode_f hN (.inr h) (br_t rfl ?_)
    unfold wpY_receive wpY_front
    exact yw_isNode_f hC hR (.inr h) (br_t rfl (br_f (by decide) ⟨rfl, J⟩))
  · obtain ⟨L1, L2, L3⟩ := Ib.1 n (by omega)
    obtain ⟨len, hnd, hm⟩ := ib_len Ib (n := n) (by omega)
    refine xw_isNode_t hN (by omega) hn (br_f (by decide) ⟨ivp (by omega) (by omega), ?_⟩)
    cases hl : IB n with
    | nil =>
      refine nm_r (e' := -1) (by rw [icl (by omega), L1, hl]; rfl) (br_f (by decide) ?_)
      unfold wpY_receive wpY_front
      refine yw_isNode_t hC hR (by omega) hn (br_f (by decide) (yw_next_hd P (by omega) h16 Ib hnr ?_))
      rw [hl]
      exact br_f (by decide) (br_f (by decide) ⟨rfl, J⟩)
    | cons x t =>
      obtain ⟨hx, hx3, hxd⟩ := hm x (by rw [hl]; simp)
      obtain ⟨p1, p2, p3, p4, p5, p6, p7, p8, p9, p10, p11, p12, p13, p14, p15⟩ := P x hx
      have vx := ivp (N := 16) hx (by omega)
      have ex : (nI x).toNatClampNeg = x := icl (by omega)
      have hlt := p14 hx3
      have hc3 := L3
      rw [hl] at hc3
      obtain ⟨f1, f2⟩ := fs0_12 hx3
      have hval : pkv pay ln tk (IB n) 0 = fvI pay ln x (tk x) := by
        rw [hl]
        show (if 0 < ln x - tk x then fvI pay ln x (tk x + 0) else _) = _
        rw [if_pos (by omega)]; rfl
      -- the reference up to the update
      have YW : ∀ (post : Int32 → SY → Prop), (((nI (tk x + 1) = nI (ln x) → post (fvI pay ln x (tk x)) (fC, fR, fK, fD, upd stO x 0, srO, taO, clO, leO, upd tkO x (nI (tk x + 1)), age, rnk, pay, pth, ysn, upd tot 3 (tot 3 + 1), blk, mrk)) ∧ (¬ nI (tk x + 1) = nI (ln x) → post (fvI pay ln x (tk x)) (fC, fR, fK, fD, stO, srO, taO, clO, leO, upd tkO x (nI (tk x + 1)), age, rnk, pay, pth, ysn, upd tot 3 (tot 3 + 1), blk, mrk)))) → wpY_receive post (fC, fR, fK, fD, stO, srO, taO, clO, leO, tkO, age, rnk, pay, pth, ysn, tot, blk, mrk) (nI n) := by
        intro post hp
        unfold wpY_receive wpY_front
        refine yw_isNode_t hC hR (by omega) hn (br_f (by decide) (yw_next_hd P (by omega) h16 Ib hnr ?_))
        rw [hl]
        refine br_t (nI_pos' (by omega)) (br_t (nI_pos' (by omega)) ?_)
        unfold wpY_peek
        refine yw_isNode_t hC hR (by omega) hn (br_f (by decide) (br_t (by decide) (yw_next_hd P (by omega) h16 Ib hnr ⟨17, yw_peek27 P (by omega) h16 Ib hnr (IB n) [] 17 0 0 rfl (by omega) (by omega) (by omega) ?_⟩)))
        rw [hval]
        refine ⟨vx, vx, nm_r (e' := upd tkO x (nI (tk x + 1))) ?_ (nm_e ⟨vx, vx, ?_⟩)⟩
        · show upd tkO (nI x).toNatClampNeg (tkO (nI x).toNatClampNeg + 1) = _
          rw [ex, p6, nI_1]
        · have e1 : upd tkO x (nI (tk x + 1)) (hI (x :: t).head?).toNatClampNeg = nI (tk x + 1) := by
            show upd tkO x (nI (tk x + 1)) (nI x).toNatClampNeg = _
            rw [ex, pk_us]
          have e2 : leO (hI (x :: t).head?).toNatClampNeg = nI (ln x) := by
            show leO (nI x).toNatClampNeg = _
            rw [ex, p5]
          rw [e1, e2]
          refine br_c (fun z => ⟨vx, nm_r (e' := upd stO x 0) ?_ (hp.1 z)⟩) (fun z => hp.2 z)
          show upd stO (nI x).toNatClampNeg 0 = _
          rw [ex]
      refine nm_r (e' := nI x) (by rw [icl (by omega), L1, hl]; rfl) (br_t (nI_pos' (by omega)) ⟨vx, ?_⟩)
      rw [ex, p6]
      refine xw_flitAnswer P hx hlt ⟨vx, vx, nm_r (e' := upd tkO x (nI (tk x + 1))) (by rw [nI_1]) (nm_e ⟨vx, vx, ?_⟩)⟩
      rw [pk_us, p5]
      obtain ⟨t1, t2, t3, t4, t5, t6, t7, t8, t9, t10, t11⟩ := To
      have To' : zTo no nr od.length oT pT rT (tT + 1) cT fF (upd tot 3 (tot 3 + 1)) := by
        refine ⟨t1, t2, t3, t4, ?_, ?_, ?_, ?_, ?_, ?_, t11⟩
        · rw [pk_un (by omega)]; exact t5
        · rw [pk_un (by omega)]; exact t6
        · rw [pk_un (by omega)]; exact t7
        · rw [pk_us, t8]
        · rw [pk_un (by omega)]; exact t9
        · rw [pk_un (by omega)]; exact t10
      by_cases q : tk x + 1 < ln x
      · refine br_t (nI_lt q (by omega)) (YW _ (br_f (fun z => by have := (ieq (by omega) (by omega)).mp z; omega) ⟨rfl, ?_⟩))
        refine zz_in (tk := fs tk x (tk x + 1)) X ?_ M T Rx Ry S Od Ib To'
        intro y hy
        by_cases e : y = x
        · subst e
          rw [pk_us, fs_s]
          exact ⟨p1, p2, p3, p4, p5, rfl, p7, p8, p9, p10, p11, p12, p13, fun _ => q, by omega⟩
        · rw [pk_un e, fs_n e]; exact P y hy
      · refine br_f (nI_nlt (by omega) (by omega)) (xw_dropFirst (by omega) hx (by rw [L1, hl]; rfl) hc3.1 (fun a ha => (hm a (by rw [hl]; simp [ha])).1) (YW _ (br_t (by congr 1; omega) ⟨rfl, ?_⟩)))
        refine zz_in (st := fs st x 0) (tk := fs tk x (tk x + 1)) X ?_ (zM_st f1 f2 M) T (xRt_st f1 f2 Rx) (yRt_st f1 f2 Ry) S (zOd_st f1 f2 Od) (zIb_drop Ib (by omega) hl) To'
        intro y hy
        by_cases e : y = x
        · subst e
          rw [pk_us, pk_us, fs_s, fs_s]
          exact ⟨rfl, p2, p3, p4, p5, rfl, by omega, p8, by omega, by omega, p11, p12, p13, by omega, by omega⟩
        · rw [pk_un e, pk_un e, fs_n e, fs_n e]; exact P y hy
theorem i_vc_put {k : Nat} {u : SX} {v : SY} (I : i_Rel k u v) (hk : k + 5 ≤ 2564) (v1 : Int32) (v2 : Int32) (v3 : Int32) : wpX_put (fun r u' => wpY_put (fun r' v' => r' = r ∧ i_Rel (k + 5) u' v') v v1 v2 (lw_bz v3)) u v1 v2 (lw_bz v3) := by
  refine zz_el (P := fun u v => wpX_put (fun r u' => wpY_put (fun r' v' => r' = r ∧ i_Rel (k + 5) u' v') v v1 v2 (lw_bz v3)) u v1 v2 (lw_bz v3)) ?_ I
  intro fC fR fK fD fN fU fT fM fA oT pT rT tT cT fF cO rO lT iB stO srO taO clO leO tkO seO ejO pay rM ord sH sT sN iH iT iN ow crd cx cel bH bC ret sM res tur itu arr mF mT mL hB hM age rnk pth ysn tot blk mrk c r kk D no nr st sr ds cl ln tk ag rk K B w Q cr rt od IB X P M T Rx Ry S Od Ib To
  have J : i_Rel (k + 5) (fC, fR, fK, fD, fN, fU, fT, fM, fA, oT, pT, rT, tT, cT, fF, cO, rO, lT, iB, stO, srO, taO, clO, leO, tkO, seO, ejO, pay, rM, ord, sH, sT, sN, iH, iT, iN, ow, crd, cx, cel, bH, bC, ret, sM, res, tur, itu, arr, mF, mT, mL, hB, hM) (fC, fR, fK, fD, stO, srO, taO, clO, leO, tkO, age, rnk, pay, pth, ysn, tot, blk, mrk) := zz_in X P M T Rx Ry S Od Ib To
  have hb01 := lw_bz_01 v3
  generalize lw_bz v3 = b at *
  unfold wpX_put
  rcases pk_ix v1 (n := 16) (by omega) with h | h | ⟨j, hj, rfl⟩
  · exact xw_isHandle_f (.inl h) (br_t rfl (br_t h ⟨rfl, J⟩))
  · obtain ⟨a1, a2, a3⟩ := h_out h
    exact xw_isHandle_f (.inr h) (br_t rfl (br_f a3 (br_t a2 ⟨rfl, J⟩)))
  · obtain ⟨a1, a2, a3⟩ := h_in hj
    have vj := ivp (N := 16) hj (by omega)
    have ej : (nI j).toNatClampNeg = j := icl (by omega)
    obtain ⟨p1, p2, p3, p4, p5, p6, p7, p8, p9, p10, p11, p12, p13, p14, p15⟩ := P j hj
    refine xw_isHandle_t hj (br_f (by decide) ?_)
    by_cases b0 : v2 < 0
    · exact br_t b0 (br_f a3 (br_f a2 (br_t b0 ⟨rfl, J⟩)))
    · refine br_f b0 ?_
      by_cases b1 : v2 ≤ 65535
      · refine br_t b1 ⟨vj, ?_⟩
        rw [ej, p1]
        by_cases s1 : st j = 1
        · have l3 := p9 s1
          have Ypre : ∀ (post : Int32 → SY → Prop), (((nI (ln j) = 3 → (((b = 0 → (post (-6) (fC, fR, fK, fD, stO, srO, taO, clO, leO, tkO, age, rnk, pay, pth, ysn, tot, blk, mrk))) ∧ (¬ b = 0 → (wY_put_52 post (nI j) v2 b fC fR fK fD stO srO taO clO leO tkO age rnk pay pth ysn tot blk mrk))))) ∧ (¬ nI (ln j) = 3 → (wY_put_52 post (nI j) v2 b fC fR fK fD stO srO taO clO leO tkO age rnk pay pth ysn tot blk mrk)))) → wpY_put post (fC, fR, fK, fD, stO, srO, taO, clO, leO, tkO, age, rnk, pay, pth, ysn, tot, blk, mrk) (nI j) v2 b := by
            intro post hp
            refine br_f a3 (br_f a2 (br_f b0 (br_t b1 ⟨vj, br_t (by rw [ej, p1, s1]; rfl) ⟨vj, ?_⟩⟩)))
            rw [ej, p5]; exact hp
          have vpay : vp_in (nI j * 4 + nI (ln j)) 64 := by rw [ix4]; exact ivp (by omega) (by omega)
          have epay : (nI j * 4 + nI (ln j)).toNatClampNeg = j * 4 + ln j := by rw [ix4]; exact icl (by omega)
          obtain ⟨t1, t2, t3, t4, t5, t6, t7, t8, t9, t10, t11⟩ := To
          have To' : zTo no nr od.length oT (pT + 1) rT tT cT fF (upd tot 1 (tot 1 + 1)) := by
            refine ⟨t1, t2, t3, t4, ?_, ?_, ?_, ?_, ?_, ?_, t11⟩
            · rw [pk_un (by omega)]; exact t5
            · rw [pk_us, t6]
            · rw [pk_un (by omega)]; exact t7
            · rw [pk_un (by omega)]; exact t8
            · rw [pk_un (by omega)]; exact t9
            · rw [pk_un (by omega)]; exact t10
          have Yfin : (b = 0 → ln j < 3) → ∀ (post : Int32 → SY → Prop), ((b = 0 → post (nI (ln j)) (fC, fR, fK, fD, stO, srO, taO, clO, upd leO j (nI (ln j + 1)), tkO, age, rnk, upd pay (j * 4 + ln j) v2, pth, ysn, upd tot 1 (tot 1 + 1), blk, mrk)) ∧ (¬ b = 0 → post (nI (ln j)) (fC, fR, fK, fD, upd stO j 2, srO, taO, clO, upd leO j (nI (ln j + 1)), tkO, age, rnk, upd pay (j * 4 + ln j) v2, pth, ysn, upd tot 1 (tot 1 + 1), blk, mrk))) → wpY_put post (fC, fR, fK, fD, stO, srO, taO, clO, leO, tkO, age, rnk, pay, pth, ysn, tot, blk, mrk) (nI j) v2 b := by
            intro hlast post hp
            have e1 : upd leO j (nI (ln j + 1)) (nI j).toNatClampNeg - 1 = nI (ln j) := by rw [ej, pk_us, nI_pred]
            have J52 : wY_put_52 post (nI j) v2 b fC fR fK fD stO srO taO clO leO tkO age rnk pay pth ysn tot blk mrk := by
              refine ⟨vj, by rw [ej, p5]; exact vpay, nm_r (e' := upd pay (j * 4 + ln j) v2) (by rw [ej, p5, epay]) ⟨vj, vj, nm_r (e' := upd leO j (nI (ln j + 1))) (by rw [ej, p5, nI_1]) (nm_e ?_)⟩⟩
              refine br_c (fun z => ⟨vj, ?_⟩) (fun z => ⟨vj, nm_r (e' := upd stO j 2) (by rw [ej]) ⟨vj, ?_⟩⟩)
              · rw [e1]; exact hp.1 z
              · rw [e1]; exact hp.2 z
            refine Ypre post (br_c (fun z => br_f (fun y => ?_) J52) (fun _ => J52))
            have := (ieq (b := 3) (by omega) (by omega)).mp z
            have := hlast y
            omega
          have fin : (b = 0 → ln j < 3) → wX_put_56 (fun r u' => wpY_put (fun r' v' => r' = r ∧ i_Rel (k + 5) u' v') (fC, fR, fK, fD, stO, srO, taO, clO, leO, tkO, age, rnk, pay, pth, ysn, tot, blk, mrk) (nI j) v2 b) (nI j) v2 b (nI (ln j)) fC fR fK fD fN fU fT fM fA oT pT rT tT cT fF cO rO lT iB stO srO taO clO leO tkO seO ejO pay rM ord sH sT sN iH iT iN ow crd cx cel bH bC ret sM res tur itu arr mF mT mL hB hM := by
            intro hlast
            refine ⟨vpay, nm_r (e' := upd pay (j * 4 + ln j) v2) (by rw [epay]) ⟨vj, nm_r (e' := upd leO j (nI (ln j + 1))) (by rw [ej, nI_1]) (nm_e ?_)⟩⟩
            by_cases bz : b = 0
            · refine br_t bz (Yfin hlast _ (br_t bz ⟨rfl, ?_⟩))
              have hl3 := hlast bz
              refine zz_in (ln := fs ln j (ln j + 1)) (tk := tk) X ?_ (zM_put hj s1 l3 (.inl s1) (fun _ _ => rfl) M) T Rx Ry S Od Ib To'
              intro y hy
              by_cases e : y = j
              · subst e
                rw [pk_us, fs_s]
                exact ⟨p1, p2, p3, p4, rfl, p6, p7, by omega, by omega, by omega, p11, p12, p13, by omega, p15⟩
              · rw [pk_un e, fs_n e]; exact P y hy
            · refine br_f bz ⟨vj, nm_r (e' := upd stO j 2) (by rw [ej]) (Yfin hlast _ (br_f bz ⟨rfl, ?_⟩))⟩
              have hL : ∀ q, Lv (fs st j 2) q ↔ Lv st q := by
                intro q
                by_cases e : q = j
                · subst e
                  exact ⟨fun _ => ⟨hj, .inl s1⟩, fun _ => ⟨hj, .inr fs_s⟩⟩
                · unfold Lv; rw [fs_n e]
              have h3 : ∀ q, fs st j 2 q = 3 ↔ st q = 3 := by
                intro q
                by_cases e : q = j
                · subst e; rw [fs_s, s1]; omega
                · rw [fs_n e]
              refine zz_in (st := fs st j 2) (ln := fs ln j (ln j + 1)) (tk := tk) X ?_ (zM_put hj s1 l3 (.inr fs_s) (fun q hq => fs_n hq) M) T (xRt_L hL Rx) (yRt_L hL Ry) S (zOd_L hL Od) (zIb_3 h3 Ib) To'
              intro y hy
              by_cases e : y = j
              · subst e
                rw [pk_us, pk_us, fs_s, fs_s]
                exact ⟨rfl, p2, p3, p4, rfl, p6, by omega, by omega, by omega, by omega, p11, p12, p13, by omega, by omega⟩
              · rw [pk_un e, pk_un e, fs_n e, fs_n e]; exact P y hy
          refine br_t (by rw [s1]; rfl) ⟨vj, nm_r (e' := nI (ln j)) p5 ?_⟩
          by_cases q3 : ln j < 3
          · exact br_t (nI_lt (b := 3) q3 (by omega)) (fin (fun _ => q3))
          · have e3 : ln j = 3 := by omega
            refine br_f (nI_nlt (b := 3) (by omega) (by omega)) (br_c (fun z => ?_) (fun z => fin (fun y => absurd y z)))
            exact Ypre _ (br_t (by rw [e3]; rfl) (br_t z ⟨rfl, J⟩))
        · refine br_f (fun z => s1 ((ieq (b := 1) (by omega) (by omega)).mp z)) (br_f a3 (br_f a2 (br_f b0 (br_t b1 ⟨vj, br_f ?_ ⟨rfl, J⟩⟩))))
          rw [ej, p1]
          exact fun z => s1 ((ieq (b := 1) (by omega) (by omega)).mp z)
      · exact br_f b1 (br_f a3 (br_f a2 (br_f b0 (br_f b1 ⟨rfl, J⟩))))
end
section
/-! open -/
theorem bo_add {a : Nat → Int64} {p id : Nat} (hid : id < 128) : ∀ id', id' < 128 → bL (vp_updL a (p * 2 + id / 64) (a (p * 2 + id / 64) ||| ((1 : Int64) <<< ((nI (id % 64)).toInt64 &&& 63)))) (p * 2) id' = (bL a (p * 2) id' || decide (id' = id)) := by
  intro id' h'
  unfold bL
  by_cases e : id' / 64 = id / 64
  · rw [e, pk_uLs, bo_or, bo_1 (Nat.mod_lt _ (by omega))]
    congr 1
    by_cases q : id' = id
    · subst q; simp
    · have : ¬ id' % 64 = id % 64 := by omega
      simp [q, this]
  · have q : ¬ id' = id := by rintro rfl; exact e rfl
    rw [pk_uLn (by omega)]
    simp [q]
section
variable {fC fR fK fD fN fU fT fM fA oT pT rT tT cT fF : Int32} {cO rO lT iB stO srO taO clO leO tkO seO ejO pay ord sH sT sN iH iT iN ow crd cx cel bH bC ret res tur itu arr mF mT mL hB : Nat → Int32} {rM sM hM : Nat → Int64}
variable {c r kk D no nr : Nat} {st sr ds cl ln tk ag rk : Nat → Nat} {Q : Nat → List Nat} {od : List Nat} {IB : Nat → List Nat} {age pth rnk : Nat → Int32}
theorem xw_lowestFree_t {post : Int32 → Prop} {p : Nat} (P : xPk c r kk st sr ds cl ln tk stO srO taO clO leO tkO) (hp : p < 16) (h0 : st p = 0) (hl : ∀ q, q < p → st q ≠ 0) (h : post (nI p)) : wpX_lowestFree post (fC, fR, fK, fD, fN, fU, fT, fM, fA, oT, pT, rT, tT, cT, fF, cO, rO, lT, iB, stO, srO, taO, clO, leO, tkO, seO, ejO, pay, rM, ord, sH, sT, sN, iH, iT, iN, ow, crd, cx, cel, bH, bC, ret, sM, res, tur, itu, arr, mF, mT, mL, hB, hM) := by
  have lp : ∀ fu i : Nat, i ≤ p → p - i < fu → wX_lowestFree_2 post fC fR fK fD fN fU fT fM fA oT pT rT tT cT fF cO rO lT iB stO srO taO clO leO tkO seO ejO pay rM ord sH sT sN iH iT iN ow crd cx cel bH bC ret sM res tur itu arr mF mT mL hB hM fu (nI i) := by
    intro fu
    induction fu with
    | zero => intro i g1 g2; omega
    | succ fu ih =>
      intro i g1 g2
      refine br_f (nI_ge (b := 16) (by omega) (by omega)) ⟨ivp (by omega) (by omega), ?_⟩
      have p7 := (P i (by omega)).2.2.2.2.2.2.1
      rw [icl (by omega), (P i (by omega)).1]
      by_cases e : i = p
      · subst e
        exact br_t (by rw [h0]; rfl) h
      · have := hl i (by omega)
        exact br_f (fun z => this ((ieq (b := 0) (by omega) (by omega)).mp z)) (nm_r (nI_1 i) (ih (i + 1) (by omega) (by omega)))
  exact ⟨p + 1, lp (p + 1) 0 (by omega) (by omega)⟩
theorem xw_lowestFree_f {post : Int32 → Prop} (P : xPk c r kk st sr ds cl ln tk stO srO taO clO leO tkO) (hl : ∀ q, q < 16 → st q ≠ 0) (h : post (-1)) : wpX_lowestFree post (fC, fR, fK, fD, fN, fU, fT, fM, fA, oT, pT, rT, tT, cT, fF, cO, rO, lT, iB, stO, srO, taO, clO, leO, tkO, seO, ejO, pay, rM, ord, sH, sT, sN, iH, iT, iN, ow, crd, cx, cel, bH, bC, ret, sM, res, tur, itu, arr, mF, mT, mL, hB, hM) := by
  have lp : ∀ fu i : Nat, i ≤ 16 → 16 - i < fu → wX_lowestFree_2 post fC fR fK fD fN fU fT fM fA oT pT rT tT cT fF cO rO lT iB stO srO taO clO leO tkO seO ejO pay rM ord sH sT sN iH iT iN ow crd cx cel bH bC ret sM res tur itu arr mF mT mL hB hM fu (nI i) := by
    intro fu
    induction fu with
    | zero => intro i g1 g2; omega
    | succ fu ih =>
      intro i g1 g2
      by_cases e : i = 16
      · subst e; exact br_t (by decide) h
      · refine br_f (nI_ge (b := 16) (by omega) (by omega)) ⟨ivp (by omega) (by omega), ?_⟩
        have p7 := (P i (by omega)).2.2.2.2.2.2.1
        rw [icl (by omega), (P i (by omega)).1]
        have := hl i (by omega)
        exact br_f (fun z => this ((ieq (b := 0) (by omega) (by omega)).mp z)) (nm_r (nI_1 i) (ih (i + 1) (by omega) (by omega)))
  exact ⟨17, lp 17 0 (by omega) (by omega)⟩
theorem xw_addToRoute {post : SX → Prop} {p id : Nat} (hp : p < 16) (hid : id < 128) (h : post (fC, fR, fK, fD, fN, fU, fT, fM, fA, oT, pT, rT, tT, cT, fF, cO, rO, lT, iB, stO, srO, taO, clO, leO, tkO, seO, ejO, pay, vp_updL rM (p * 2 + id / 64) (rM (p * 2 + id / 64) ||| ((1 : Int64) <<< ((nI (id % 64)).toInt64 &&& 63))), ord, sH, sT, sN, iH, iT, iN, ow, crd, cx, cel, bH, bC, ret, sM, res, tur, itu, arr, mF, mT, mL, hB, hM)) : wpX_addToRoute post (fC, fR, fK, fD, fN, fU, fT, fM, fA, oT, pT, rT, tT, cT, fF, cO, rO, lT, iB, stO, srO, taO, clO, leO, tkO, seO, ejO, pay, rM, ord, sH, sT, sN, iH, iT, iN, ow, crd, cx, cel, bH, bC, ret, sM, res, tur, itu, arr, mF, mT, mL, hB, hM) (nI p) (nI id) := by
  have e6 : nI id >>> ((6 : Int32) &&& 31) = nI (id / 64) := is6 (by omega)
  have vi : vp_in (nI p * 2 + nI id >>> ((6 : Int32) &&& 31)) 32 := by rw [e6, ix2]; exact ivp (by omega) (by omega)
  refine ⟨vi, vi, nm_r (e' := vp_updL rM (p * 2 + id / 64) (rM (p * 2 + id / 64) ||| ((1 : Int64) <<< ((nI (id % 64)).toInt64 &&& 63)))) ?_ h⟩
  rw [e6, ix2, ia63 (by omega), icl (by omega)]
theorem xw_trace43 {post : SX → Prop} {p s d k : Nat} {rM0 : Nat → Int64} (X : xGeo c r kk D fC fR fK fD fN cO rO lT iB) (hp : p < 16) (hs : s < c * r) (hd : d < c * r) (hk : k < 2) (eT : taO p = nI d) (eC : clO p = nI k)
    (h : ∀ rM' : Nat → Int64, (∀ id, id < 128 → (bL rM' (p * 2) id = true ↔ ∃ i, i ≤ gDi c s d + 1 ∧ gP c s d k i = id)) → (∀ j, j ≠ p * 2 → j ≠ p * 2 + 1 → rM' j = rM0 j) → post (fC, fR, fK, fD, fN, fU, fT, fM, fA, oT, pT, rT, tT, cT, fF, cO, rO, lT, iB, stO, srO, taO, clO, leO, tkO, seO, ejO, pay, rM', ord, sH, sT, sN, iH, iT, iN, ow, crd, cx, cel, bH, bC, ret, sM, res, tur, itu, arr, mF, mT, mL, hB, hM)) :
    ∀ (fu i : Nat) (rM' : Nat → Int64), 1 ≤ i → i ≤ gDi c s d + 2 → gDi c s d + 2 - i < fu → (∀ id, id < 128 → (bL rM' (p * 2) id = true ↔ ∃ j, j < i ∧ gP c s d k j = id)) → (∀ j, j ≠ p * 2 → j ≠ p * 2 + 1 → rM' j = rM0 j) →
      wX_traceRoute_43 post (nI p) fu (nI (gLd c (gP c s d k (i - 1)))) (nI (gP c s d k (i - 1) % 8)) (nI i) fC fR fK fD fN fU fT fM fA oT pT rT tT cT fF cO rO lT iB stO srO taO clO leO tkO seO ejO pay rM' ord sH sT sN iH iT iN ow crd cx cel bH bC ret sM res tur itu arr mF mT mL hB hM := by
  have h16 := (gs_le X.1).2
  have h6 := gd_le X.1 hs hd
  have vp := ivp (N := 16) hp (by omega)
  have ep : (nI p).toNatClampNeg = p := icl (by omega)
  intro fu
  induction fu with
  | zero => intro i rM' g1 g2 g3; omega
  | succ fu ih =>
    intro i rM' g1 g2 g3 Hb Hf
    by_cases e : i = gDi c s d + 2
    · have fin := h rM' (by
        intro id hid
        rw [Hb id hid]
        constructor
        · rintro ⟨j, j1, j2⟩; exact ⟨j, by omega, j2⟩
        · rintro ⟨j, j1, j2⟩; exact ⟨j, by omega, j2⟩) Hf
      have e1 : i - 1 = gDi c s d + 1 := by omega
      rw [e1, gp_end X.1 hs hd hk]
      have e4 : (d * 8 + 4) % 8 = 4 := by omega
      rw [e4]
      exact br_c (fun _ => fin) (fun _ => br_t rfl fin)
    · obtain ⟨m1, m2, m3, m4, m5, m6⟩ := gp_mid X.1 hs hd hk (i := i - 1) (by omega)
      obtain ⟨n, a1, a2, a3, a4, a5, a6, a7⟩ := gp_at X.1 hs hd hk (i := i) g1 (by omega)
      have hlt := gp_lt X.1 hs hd hk (i := i) (by omega)
      refine br_f (nI_ge (b := 8) (by omega) (by omega)) (br_f (fun z => m4 ((ieq (b := 4) (by omega) (by omega)).mp z)) ⟨vp, vp, ?_⟩)
      rw [ep, eT, eC, a3]
      refine xw_np X a1 hd hk ?_
      rw [ix8, ← a2]
      refine xw_addToRoute hp hlt ⟨ivp hlt (by omega), ?_⟩
      rw [icl (by omega)]
      have e8 : gNp c n d k = gP c s d k i % 8 := by omega
      have e1 : i + 1 - 1 = i := by omega
      have ih' := ih (i + 1) (vp_updL rM' (p * 2 + gP c s d k i / 64) (rM' (p * 2 + gP c s d k i / 64) ||| ((1 : Int64) <<< ((nI (gP c s d k i % 64)).toInt64 &&& 63)))) (by omega) (by omega) (by omega) (by
        intro id hid
        rw [bo_add hlt id hid, Bool.or_eq_true, Hb id hid, decide_eq_true_eq]
        constructor
        · rintro (⟨j, j1, j2⟩ | j)
          · exact ⟨j, by omega, j2⟩
          · exact ⟨i, by omega, j.symm⟩
        · rintro ⟨j, j1, j2⟩
          by_cases ej : j = i
          · subst ej; exact .inr j2.symm
          · exact .inl ⟨j, by omega, j2⟩) (by
        intro j j1 j2
        have : gP c s d k i / 64 = 0 ∨ gP c s d k i / 64 = 1 := by omega
        rw [pk_uLn (by omega)]; exact Hf j j1 j2)
      rw [e1] at ih'
      rw [e8]
      by_cases em : i = gDi c s d + 1
      · -- EJECT leads to its own node
        have e4 : gP c s d k i = d * 8 + 4 := by rw [em]; exact gp_end X.1 hs hd hk
        have hok : gOk c r (gP c s d k i) = true := by
          rw [e4]
          exact (gOk_at hd (by omega)).mpr (by omega)
        refine nm_r (e' := nI (gLd c (gP c s d k i))) ?_ (nm_r (nI_1 i) ih')
        rw [X.2.2.2.2.2.2.2.2.2.2.2.1 _ hlt, if_pos hok]
      · obtain ⟨b1, b2, b3, b4, b5, b6⟩ := gp_mid X.1 hs hd hk (i := i) (by omega)
        refine nm_r (e' := nI (gLd c (gP c s d k i))) ?_ (nm_r (nI_1 i) ih')
        rw [X.2.2.2.2.2.2.2.2.2.2.2.1 _ hlt, if_pos b2]
theorem xw_traceRoute {post : SX → Prop} {p s d k : Nat} (X : xGeo c r kk D fC fR fK fD fN cO rO lT iB) (hp : p < 16) (hs : s < c * r) (hd : d < c * r) (hk : k < 2) (eS : srO p = nI s) (eT : taO p = nI d) (eC : clO p = nI k)
    (h : ∀ rM' : Nat → Int64, (∀ id, id < 128 → (bL rM' (p * 2) id = true ↔ ∃ i, i ≤ gDi c s d + 1 ∧ gP c s d k i = id)) → (∀ j, j ≠ p * 2 → j ≠ p * 2 + 1 → rM' j = rM j) → post (fC, fR, fK, fD, fN, fU, fT, fM, fA, oT, pT, rT, tT, cT, fF, cO, rO, lT, iB, stO, srO, taO, clO, leO, tkO, seO, ejO, pay, rM', ord, sH, sT, sN, iH, iT, iN, ow, crd, cx, cel, bH, bC, ret, sM, res, tur, itu, arr, mF, mT, mL, hB, hM)) : wpX_traceRoute post (fC, fR, fK, fD, fN, fU, fT, fM, fA, oT, pT, rT, tT, cT, fF, cO, rO, lT, iB, stO, srO, taO, clO, leO, tkO, seO, ejO, pay, rM, ord, sH, sT, sN, iH, iT, iN, ow, crd, cx, cel, bH, bC, ret, sM, res, tur, itu, arr, mF, mT, mL, hB, hM) (nI p) := by
  have h16 := (gs_le X.1).2
  have h6 := gd_le X.1 hs hd
  have ep : (nI p).toNatClampNeg = p := icl (by omega)
  have e4 : (nI (p * 2)).toNatClampNeg = p * 2 := icl (by omega)
  have e5 : (nI (p * 2 + 1)).toNatClampNeg = p * 2 + 1 := icl (by omega)
  have e85 : nI s * 8 + 5 = nI (s * 8 + 5) := ix8 s 5
  have hid : s * 8 + 5 < 128 := by omega
  refine ⟨by rw [im2]; exact ivp (by omega) (by omega), nm_r (e' := vp_updL rM (p * 2) 0) (by rw [im2, e4]) ⟨by rw [im2, nI_1]; exact ivp (by omega) (by omega), nm_r (e' := vp_updL (vp_updL rM (p * 2) 0) (p * 2 + 1) 0) (by rw [im2, nI_1, e5]) ⟨ivp hp (by omega), nm_r (e' := nI s) (by rw [ep]; exact eS) ?_⟩⟩⟩
  rw [e85]
  refine xw_addToRoute hp hid ⟨9, ?_⟩
  have key := xw_trace43 (post := post) (rM0 := rM) X hp hs hd hk eT eC h 9 1 (vp_updL (vp_updL (vp_updL rM (p * 2) 0) (p * 2 + 1) 0) (p * 2 + (s * 8 + 5) / 64) ((vp_updL (vp_updL rM (p * 2) 0) (p * 2 + 1) 0) (p * 2 + (s * 8 + 5) / 64) ||| ((1 : Int64) <<< ((nI ((s * 8 + 5) % 64)).toInt64 &&& 63)))) (by omega) (by omega) (by omega) (by
    intro id hid'
    rw [bo_add hid id hid', bo_zero (p * 2) id (by rw [pk_uLn (by omega), pk_uLs]) pk_uLs hid', Bool.false_or, decide_eq_true_eq]
    constructor
    · intro e; exact ⟨0, by omega, e.symm⟩
    · rintro ⟨j, j1, j2⟩
      have : j = 0 := by omega
      subst this
      exact j2.symm) (by
    intro j j1 j2
    have : (s * 8 + 5) / 64 = 0 ∨ (s * 8 + 5) / 64 = 1 := by omega
    rw [pk_uLn (by omega), pk_uLn j2, pk_uLn j1])
  have g0 : gLd c (gP c s d k (1 - 1)) = s := by
    show gLd c (s * 8 + 5) = s
    rw [gLd_p (by omega), if_neg (by decide), if_neg (by decide), if_neg (by decide), if_neg (by decide)]
  have g1 : gP c s d k (1 - 1) % 8 = 5 := by
    show (s * 8 + 5) % 8 = 5
    omega
  rw [g0, g1] at key
  exact key
theorem xw_joinSender {post : SX → Prop} {p s k : Nat} (hp : p < 16) (eS : srO p = nI s) (eC : clO p = nI k) (hl : s * 2 + k < 32) (hT : sT (s * 2 + k) = hI (Q (s * 2 + k)).getLast?) (hm : ∀ a, a ∈ Q (s * 2 + k) → a < 16)
    (h : post (fC, fR, fK, fD, fN, fU, fT, fM, fA, oT, pT, rT, tT, cT, fF, cO, rO, lT, iB, stO, srO, taO, clO, leO, tkO, seO, ejO, pay, rM, ord, if Q (s * 2 + k) = [] then upd sH (s * 2 + k) (nI p) else sH, upd sT (s * 2 + k) (nI p), match (Q (s * 2 + k)).getLast? with | none => upd sN p (-1) | some b => upd (upd sN p (-1)) b (nI p), iH, iT, iN, ow, crd, cx, cel, bH, bC, ret, sM, res, tur, itu, arr, mF, mT, mL, hB, hM)) : wpX_joinSender post (fC, fR, fK, fD, fN, fU, fT, fM, fA, oT, pT, rT, tT, cT, fF, cO, rO, lT, iB, stO, srO, taO, clO, leO, tkO, seO, ejO, pay, rM, ord, sH, sT, sN, iH, iT, iN, ow, crd, cx, cel, bH, bC, ret, sM, res, tur, itu, arr, mF, mT, mL, hB, hM) (nI p) := by
  have vp := ivp (N := 16) hp (by omega)
  have vl := ivp (N := 32) hl (by omega)
  have ep : (nI p).toNatClampNeg = p := icl (by omega)
  have el : (nI (s * 2 + k)).toNatClampNeg = s * 2 + k := icl (by omega)
  refine ⟨vp, vp, nm_r (e' := nI (s * 2 + k)) (by rw [ep, eS, eC, ix2]) ⟨vl, ?_⟩⟩
  cases hq : (Q (s * 2 + k)).getLast? with
  | none =>
    rw [hq] at h hT
    have hn : Q (s * 2 + k) = [] := List.getLast?_eq_none_iff.mp hq
    rw [if_pos hn] at h
    exact nm_r (e' := -1) (by rw [el, hT]; rfl) ⟨vp, nm_r (e' := upd sN p (-1)) (by rw [ep]) (br_f (by decide) ⟨vl, nm_r (e' := upd sH (s * 2 + k) (nI p)) (by rw [el]) ⟨vl, nm_r (e' := upd sT (s * 2 + k) (nI p)) (by rw [el]) h⟩⟩)⟩
  | some b =>
    rw [hq] at h hT
    have hb := hm b (List.mem_of_getLast? hq)
    have hn : Q (s * 2 + k) ≠ [] := by intro e; rw [e] at hq; simp at hq
    rw [if_neg hn] at h
    exact nm_r (e' := nI b) (by rw [el, hT]; rfl) ⟨vp, nm_r (e' := upd sN p (-1)) (by rw [ep]) (br_t (nI_pos' (by omega)) ⟨ivp hb (by omega), nm_r (e' := upd (upd sN p (-1)) b (nI p)) (by rw [icl (n := b) (by omega)]) ⟨vl, nm_r (e' := upd sT (s * 2 + k) (nI p)) (by rw [el]) h⟩⟩)⟩
end
section
variable {fC fR fK fD : Int32} {stO srO taO clO leO tkO age rnk pay pth ysn tot blk mrk : Nat → Int32}
variable {c r kk D no nr : Nat} {st sr ds cl ln tk ag rk : Nat → Nat}
theorem yw_open138 {post : Int32 → SY → Prop} {p s d k : Nat} {pth0 : Nat → Int32} (S : gSh c r) (hC : fC = nI c) (hR : fR = nI r) (hp : p < 16) (hs : s < c * r) (hd : d < c * r) (hk : k < 2)
    (h : ∀ pth' : Nat → Int32, (∀ i, i < 8 → pth' (p * 8 + i) = rvI c s d k i) → (∀ q i, q ≠ p → i < 8 → pth' (q * 8 + i) = pth0 (q * 8 + i)) → post (nI p) (fC, fR, fK, fD, stO, srO, taO, clO, leO, tkO, age, rnk, pay, pth', ysn, tot, blk, mrk)) :
    ∀ (fu i : Nat) (pth' : Nat → Int32), i ≤ 8 → 8 - i < fu → (∀ j, j < i → pth' (p * 8 + j) = rvI c s d k j) → (∀ q i, q ≠ p → i < 8 → pth' (q * 8 + i) = pth0 (q * 8 + i)) →
      wY_open_138 post (nI s) (nI d) (nI k) (nI p) fC fR fK fD fu (nI i) stO srO taO clO leO tkO age rnk pay pth' ysn tot blk mrk := by
  intro fu
  induction fu with
  | zero => intro i pth' g1 g2; omega
  | succ fu ih =>
    intro i pth' g1 g2 H1 H2
    by_cases e : i = 8
    · subst e; exact br_t (by decide) (h pth' H1 H2)
    · refine br_f (nI_ge (b := 8) (by omega) (by omega)) (yw_channelAt S hC hR hs hd hk (by omega) ⟨by rw [ix8]; exact ivp (by omega) (by omega), nm_r (e' := upd pth' (p * 8 + i) (rvI c s d k i)) (by rw [ix8, icl (by omega)]) (nm_r (nI_1 i) (ih (i + 1) _ (by omega) (by omega) ?_ ?_))⟩)
      · intro j hj
        by_cases ej : j = i
        · subst ej; exact pk_us
        · rw [pk_un (by omega)]; exact H1 j (by omega)
      · intro q j hq hj
        rw [pk_un (by omega)]; exact H2 q j hq hj
theorem yw_open47 {post : Int32 → SY → Prop} {p : Nat} {v1 v2 v3 : Int32} (P : xPk c r kk st sr ds cl ln tk stO srO taO clO leO tkO) (hp : p < 16) (h0 : st p = 0) (hl : ∀ q, q < p → st q ≠ 0)
    (h : ∃ n138 : Nat, wY_open_138 post v1 v2 v3 (nI p) fC fR fK fD n138 0 (upd stO p 1) (upd srO p v1) (upd taO p v2) (upd clO p v3) (upd leO p 0) (upd tkO p 0) (upd age p (tot 0)) rnk pay pth ysn (upd tot 0 (tot 0 + 1)) blk mrk) :
    ∀ fu i : Nat, i ≤ p → p - i < fu → wY_open_47 post v1 v2 v3 fC fR fK fD stO srO taO clO leO tkO age rnk pay pth ysn tot blk mrk fu (nI i) := by
  intro fu
  induction fu with
  | zero => intro i g1 g2; omega
  | succ fu ih =>
    intro i g1 g2
    have vi := ivp (n := i) (N := 16) (by omega) (by omega)
    have ei : (nI i).toNatClampNeg = i := icl (by omega)
    have p7 := (P i (by omega)).2.2.2.2.2.2.1
    refine br_f (nI_ge (b := 16) (by omega) (by omega)) ⟨vi, ?_⟩
    rw [ei]
    by_cases e : i = p
    · subst e
      refine br_t (by rw [(P i hp).1, h0]; rfl) ⟨vi, nm_r rfl ⟨vi, nm_r rfl ⟨vi, nm_r rfl ⟨vi, nm_r rfl ⟨vi, nm_r rfl ⟨vi, nm_r rfl ⟨vi, nm_r rfl (nm_r rfl h)⟩⟩⟩⟩⟩⟩⟩
    · have := hl i (by omega)
      refine br_f (fun z => ?_) (nm_r (nI_1 i) (ih (i + 1) (by omega) (by omega)))
      rw [(P i (by omega)).1] at z
      exact this ((ieq (b := 0) (by omega) (by omega)).mp z)
theorem yw_open47_f {post : Int32 → SY → Prop} {v1 v2 v3 : Int32} (P : xPk c r kk st sr ds cl ln tk stO srO taO clO leO tkO) (hl : ∀ q, q < 16 → st q ≠ 0) (h : post (-3) (fC, fR, fK, fD, stO, srO, taO, clO, leO, tkO, age, rnk, pay, pth, ysn, tot, blk, mrk)) :
    ∀ fu i : Nat, i ≤ 16 → 16 - i < fu → wY_open_47 post v1 v2 v3 fC fR fK fD stO srO taO clO leO tkO age rnk pay pth ysn tot blk mrk fu (nI i) := by
  intro fu
  induction fu with
  | zero => intro i g1 g2; omega
  | succ fu ih =>
    intro i g1 g2
    by_cases e : i = 16
    · subst e; exact br_t (by decide) h
    · have p7 := (P i (by omega)).2.2.2.2.2.2.1
      refine br_f (nI_ge (b := 16) (by omega) (by omega)) ⟨ivp (by omega) (by omega), ?_⟩
      rw [icl (by omega), (P i (by omega)).1]
      have := hl i (by omega)
      exact br_f (fun z => this ((ieq (b := 0) (by omega) (by omega)).mp z)) (nm_r (nI_1 i) (ih (i + 1) (by omega) (by omega)))
end
end
section
section
variable {fC fR fK fD fN fU fT fM fA oT pT rT tT cT fF : Int32} {cO rO lT iB stO srO taO clO leO tkO seO ejO pay ord sH sT sN iH iT iN ow crd cx cel bH bC ret res tur itu arr mF mT mL hB : Nat → Int32} {rM sM hM : Nat → Int64}
variable {c r kk D no nr : Nat} {st sr ds cl ln tk ag rk : Nat → Nat} {Q : Nat → List Nat} {od : List Nat} {IB : Nat → List Nat} {age pth rnk : Nat → Int32}
theorem onR_fs {p s d k q id : Nat} (e : q ≠ p) : onR c (fs sr p s) (fs ds p d) (fs cl p k) q id ↔ onR c sr ds cl q id := by
  unfold onR gm gR
  rw [fs_n e, fs_n e, fs_n e]
theorem onR_p {p s d k id : Nat} : onR c (fs sr p s) (fs ds p d) (fs cl p k) p id ↔ ∃ i, i ≤ gDi c s d + 1 ∧ (gP c s d k i * 2 + k) / 2 = id := by
  unfold onR gm gR
  rw [fs_s, fs_s, fs_s]
theorem Lv_fs {p v q : Nat} (e : q ≠ p) : Lv (fs st p v) q ↔ Lv st q := by unfold Lv; rw [fs_n e]
theorem xRt_new {p s d k : Nat} {rM2 : Nat → Int64} (H : xRt c st sr ds cl rM) (hk : k < 2) (h1 : ∀ id, id < 128 → (bL rM2 (p * 2) id = true ↔ ∃ i, i ≤ gDi c s d + 1 ∧ gP c s d k i = id)) (h2 : ∀ j, j ≠ p * 2 → j ≠ p * 2 + 1 → rM2 j = rM j) :
    xRt c (fs st p 1) (fs sr p s) (fs ds p d) (fs cl p k) rM2 := by
  intro q hq id hid
  by_cases e : q = p
  · subst e
    rw [onR_p, h1 id hid]
    constructor
    · rintro ⟨i, i1, i2⟩; exact ⟨i, i1, by omega⟩
    · rintro ⟨i, i1, i2⟩; exact ⟨i, i1, by omega⟩
  · rw [onR_fs e, ← H q ((Lv_fs e).mp hq) id hid]
    unfold bL
    have : id / 64 = 0 ∨ id / 64 = 1 := by omega
    rw [h2 _ (by omega) (by omega)]
theorem yRt_new {p s d k : Nat} {pth2 : Nat → Int32} (H : yRt c st sr ds cl pth) (hk : k < 2) (h1 : ∀ i, i < 8 → pth2 (p * 8 + i) = rvI c s d k i) (h2 : ∀ q i, q ≠ p → i < 8 → pth2 (q * 8 + i) = pth (q * 8 + i)) :
    yRt c (fs st p 1) (fs sr p s) (fs ds p d) (fs cl p k) pth2 := by
  intro q hq i hi
  by_cases e : q = p
  · subst e
    rw [h1 i hi]
    unfold rvI gm gR
    rw [fs_s, fs_s, fs_s]
    have : (gP c s d k i * 2 + k) / 2 = gP c s d k i := by omega
    rw [this]
  · rw [h2 q i e hi, H q ((Lv_fs e).mp hq) i hi]
    unfold gm gR
    rw [fs_n e, fs_n e, fs_n e]
theorem zOd_new {p : Nat} (Od : zOd st ag od no fU ord age) (hp : p < 16) (hs : st p = 0) : zOd (fs st p 1) (fs ag p no) (od ++ [p]) (no + 1) (nI (od.length + 1)) (upd ord od.length (nI p)) (upd age p (nI no)) := by
  obtain ⟨o1, o2, o3, o4, o5⟩ := Od
  have hnl : ¬ Lv st p := fun h => by have := h.2; omega
  have hni : p ∉ od := fun h => hnl ((o3 p).mp h)
  refine ⟨by simp, ?_, ?_, ?_, ?_⟩
  · intro j hj
    simp only [List.length_append, List.length_singleton] at hj
    by_cases e : j = od.length
    · subst e
      rw [pk_us]; simp
    · have hlt : j < od.length := by omega
      rw [pk_un e, o2 j hlt]
      congr 1
      simp [List.getD_eq_getElem?_getD, List.getElem?_append_left hlt]
  · intro q
    rw [List.mem_append, List.mem_singleton]
    by_cases e : q = p
    · subst e
      exact ⟨fun _ => ⟨hp, .inl fs_s⟩, fun _ => .inr rfl⟩
    · rw [Lv_fs e, o3 q]
      exact ⟨fun h => h.resolve_right e, fun h => .inl h⟩
  · rw [List.pairwise_append]
    refine ⟨?_, List.pairwise_singleton _ _, ?_⟩
    · refine List.Pairwise.imp_of_mem ?_ o4
      intro a b ha hb h
      rw [fs_n (by rintro rfl; exact hni ha), fs_n (by rintro rfl; exact hni hb)]
      exact h
    · intro a ha b hb
      rw [List.mem_singleton] at hb
      subst hb
      rw [fs_n (by rintro rfl; exact hni ha), fs_s]
      exact (o5 a ((o3 a).mp ha)).2
  · intro q hq
    by_cases e : q = p
    · subst e
      rw [pk_us, fs_s]; exact ⟨rfl, by omega⟩
    · rw [pk_un e, fs_n e]
      have := o5 q ((Lv_fs e).mp hq)
      exact ⟨this.1, by omega⟩
theorem zIb_new {p d : Nat} (Ib : zIb st ds rk IB nr iH iT iN rnk) (hs : st p = 0) : zIb (fs st p 1) (fs ds p d) rk IB nr iH iT iN rnk := by
  obtain ⟨o1, o2, o3, o4⟩ := Ib
  refine ⟨o1, ?_, o3, ?_⟩
  · intro n hn q
    rw [o2 n hn q]
    by_cases e : q = p
    · subst e
      rw [fs_s]
      constructor
      · rintro ⟨_, h, _⟩; omega
      · rintro ⟨_, h, _⟩; omega
    · rw [fs_n e, fs_n e]
  · intro q hq h3
    by_cases e : q = p
    · subst e; rw [fs_s] at h3; omega
    · rw [fs_n e] at h3; exact o4 q hq h3
end
theorem i_vc_open {k : Nat} {u : SX} {v : SY} (I : i_Rel k u v) (hk : k + 5 ≤ 2564) (v1 : Int32) (v2 : Int32) (v3 : Int32) : wpX_open (fun r u' => wpY_open (fun r' v' => r' = r ∧ i_Rel (k + 5) u' v') v v1 v2 v3) u v1 v2 v3 := by
  refine zz_el (P := fun u v => wpX_open (fun r u' => wpY_open (fun r' v' => r' = r ∧ i_Rel (k + 5) u' v') v v1 v2 v3) u v1 v2 v3) ?_ I
  intro fC fR fK fD fN fU fT fM fA oT pT rT tT cT fF cO rO lT iB stO srO taO clO leO tkO seO ejO pay rM ord sH sT sN iH iT iN ow crd cx cel bH bC ret sM res tur itu arr mF mT mL hB hM age rnk pth ysn tot blk mrk c r kk D no nr st sr ds cl ln tk ag rk K B w Q cr rt od IB X P M T Rx Ry S Od Ib To
  have J : i_Rel (k + 5) (fC, fR, fK, fD, fN, fU, fT, fM, fA, oT, pT, rT, tT, cT, fF, cO, rO, lT, iB, stO, srO, taO, clO, leO, tkO, seO, ejO, pay, rM, ord, sH, sT, sN, iH, iT, iN, ow, crd, cx, cel, bH, bC, ret, sM, res, tur, itu, arr, mF, mT, mL, hB, hM) (fC, fR, fK, fD, stO, srO, taO, clO, leO, tkO, age, rnk, pay, pth, ysn, tot, blk, mrk) := zz_in X P M T Rx Ry S Od Ib To
  have h16 := (gs_le X.1).2
  have hC := X.2.2.2.2.2.1
  have hR := X.2.2.2.2.2.2.1
  have hK := X.2.2.2.2.2.2.2.1
  have hN := X.2.2.2.2.2.2.2.2.2.1
  have k2 := X.2.2.1
  have W := xGW X P
  unfold wpX_open
  rcases pk_ix v1 (n := c * r) (by omega) with h | h | ⟨s, hs, rfl⟩
  · refine xw_isNode_f hN (.inl h) (br_t rfl ?_)
    unfold wpY_open
    exact yw_isNode_f hC hR (.inl h) (br_t rfl ⟨rfl, J⟩)
  · refine xw_isNode_f hN (.inr h) (br_t rfl ?_)
    unfold wpY_open
    exact yw_isNode_f hC hR (.inr h) (br_t rfl ⟨rfl, J⟩)
  · refine xw_isNode_t hN (by omega) hs (br_f (by decide) ?_)
    rcases pk_ix v2 (n := c * r) (by omega) with h | h | ⟨d, hd, rfl⟩
    · refine xw_isNode_f hN (.inl h) (br_t rfl ?_)
      unfold wpY_open
      exact yw_isNode_t hC hR (by omega) hs (br_f (by decide) (yw_isNode_f hC hR (.inl h) (br_t rfl ⟨rfl, J⟩)))
    · refine xw_isNode_f hN (.inr h) (br_t rfl ?_)
      unfold wpY_open
      exact yw_isNode_t hC hR (by omega) hs (br_f (by decide) (yw_isNode_f hC hR (.inr h) (br_t rfl ⟨rfl, J⟩)))
    · refine xw_isNode_t hN (by omega) hd (br_f (by decide) ?_)
      rcases pk_ix v3 (n := kk) (by omega) with h | h | ⟨q, hq, rfl⟩
      · refine xw_isClass_f hK (.inl h) (br_t rfl ?_)
        unfold wpY_open
        exact yw_isNode_t hC hR (by omega) hs (br_f (by decide) (yw_isNode_t hC hR (by omega) hd (br_f (by decide) (br_t h ⟨rfl, J⟩))))
      · refine xw_isClass_f hK (.inr h) (br_t rfl ?_)
        unfold wpY_open
        exact yw_isNode_t hC hR (by omega) hs (br_f (by decide) (yw_isNode_t hC hR (by omega) hd (br_f (by decide) (br_c (fun _ => ⟨rfl, J⟩) (fun _ => br_f (by rw [hK]; exact Int32.not_lt.mpr h) ⟨rfl, J⟩)))))
      · refine xw_isClass_t hK (by omega) hq (br_f (by decide) ?_)
        have YP : ∀ (post : Int32 → SY → Prop), (((tot 0) < 1000000 → (∃ n47 : Nat, wY_open_47 post (nI s) (nI d) (nI q) fC fR fK fD stO srO taO clO leO tkO age rnk pay pth ysn tot blk mrk n47 0)) ∧ (¬ (tot 0) < 1000000 → (post (-4) (fC, fR, fK, fD, stO, srO, taO, clO, leO, tkO, age, rnk, pay, pth, ysn, tot, blk, mrk)))) → wpY_open post (fC, fR, fK, fD, stO, srO, taO, clO, leO, tkO, age, rnk, pay, pth, ysn, tot, blk, mrk) (nI s) (nI d) (nI q) := by
          intro post hp
          unfold wpY_open
          exact yw_isNode_t hC hR (by omega) hs (br_f (by decide) (yw_isNode_t hC hR (by omega) hd (br_f (by decide) (br_f (nI_pos (by omega)) (br_t (by rw [hK]; exact nI_lt hq (by omega)) hp)))))
        obtain ⟨t1, t2, t3, t4, t5, t6, t7, t8, t9, t10, t11⟩ := To
        by_cases full : oT < 1000000
        · refine br_t full ?_
          have hno : no < 1000000 := by
            rw [t1] at full
            exact (nI_ltI (b := 1000000) (by omega) (by omega)).mp full
          by_cases free : ∃ p, p < 16 ∧ st p = 0
          · obtain ⟨p, ⟨hp, h0⟩, hl⟩ := pk_least (fun p => p < 16 ∧ st p = 0) free
            have hl' : ∀ y, y < p → st y ≠ 0 := fun y hy z => hl y hy ⟨by omega, z⟩
            refine xw_lowestFree_t P hp h0 hl' ?_
            have vp := ivp (N := 16) hp (by omega)
            have ep : (nI p).toNatClampNeg = p := icl (by omega)
            have hlane : s * 2 + q < 32 := by omega
            refine br_t (nI_pos' (by omega)) ⟨vp, nm_r (e' := upd stO p 1) (by rw [ep]) ⟨vp, nm_r (e' := upd srO p (nI s)) (by rw [ep]) ⟨vp, nm_r (e' := upd taO p (nI d)) (by rw [ep]) ⟨vp, nm_r (e' := upd clO p (nI q)) (by rw [ep]) ⟨vp, nm_r (e' := upd leO p 0) (by rw [ep]) ⟨vp, nm_r (e' := upd tkO p 0) (by rw [ep]) ⟨vp, nm_r (e' := upd seO p 0) (by rw [ep]) ⟨vp, nm_r (e' := upd ejO p 0) (by rw [ep]) ?_⟩⟩⟩⟩⟩⟩⟩⟩
            refine xw_traceRoute X hp hs hd (by omega) pk_us pk_us pk_us ?_
            intro rM2 hb hf
            refine xw_joinSender (Q := Q) hp pk_us pk_us hlane (M.2.2.2.2.1 _ hlane).2.1 (fun a ha => ((M.1.2.2.2.2.2.2.2 _).2.1 a |>.mp ha).1.1) ?_
            have hnl : ¬ Lv st p := fun h => by have := h.2; omega
            have hni : p ∉ od := fun h => hnl ((Od.2.2.1 p).mp h)
            have len : od.length < 16 := by
              obtain ⟨_, hnd, hm⟩ := od_facts Od
              have := nd_len 16 (p :: od) (List.nodup_cons.mpr ⟨hni, hnd⟩) (fun a ha => by
                rw [List.mem_cons] at ha
                rcases ha with rfl | ha
                · exact hp
                · exact hm a ha)
              simp only [List.length_cons] at this
              omega
            have hfU := Od.1
            refine br_f (by rw [hfU]; exact nI_ge (b := 16) len (by omega)) ⟨by rw [hfU]; exact ivp len (by omega), nm_r (e' := upd ord od.length (nI p)) (by rw [hfU, icl (by omega)]) (nm_r (e' := nI (od.length + 1)) (by rw [hfU, nI_1]) (nm_r (e' := nI (no + 1)) (by rw [t1, nI_1]) ?_))⟩
            refine YP _ (br_t (by rw [t5]; exact full) ⟨17, yw_open47 P hp h0 hl' ⟨9, ?_⟩ 17 0 (by omega) (by omega)⟩)
            refine yw_open138 (pth0 := pth) X.1 hC hR hp hs hd (by omega) ?_ 9 0 pth (by omega) (by omega) (fun j hj => by omega) (fun _ _ _ _ => rfl)
            intro pth2 hp1 hp2
            refine ⟨rfl, ?_⟩
            have Od2 := zOd_new Od hp h0
            have e0 : tot 0 = nI no := by rw [t5, t1]
            rw [e0]
            refine zz_in (st := fs st p 1) (sr := fs sr p s) (ds := fs ds p d) (cl := fs cl p q) (ln := fs ln p 0) (tk := fs tk p 0) (no := no + 1) (nr := nr) (od := od ++ [p]) X ?_ (zM_new (r := r) W hp h0 hlane M) T (xRt_new Rx (by omega) hb hf) (yRt_new Ry (by omega) hp1 hp2) S Od2 (zIb_new Ib h0) ⟨rfl, by omega, t3, ?_, ?_, ?_, ?_, ?_, ?_, ?_, t11⟩
            · intro y hy
              by_cases e : y = p
              · subst e
                rw [pk_us, pk_us, pk_us, pk_us, pk_us, pk_us, fs_s, fs_s, fs_s, fs_s, fs_s, fs_s]
                exact ⟨rfl, rfl, rfl, rfl, rfl, rfl, by omega, by omega, by omega, by omega, hs, hd, hq, by omega, by omega⟩
              · rw [pk_un e, pk_un e, pk_un e, pk_un e, pk_un e, pk_un e, fs_n e, fs_n e, fs_n e, fs_n e, fs_n e, fs_n e]
                exact P y hy
            · simp; omega
            · rw [pk_us, nI_1]
            · rw [pk_un (by omega)]; exact t6
            · rw [pk_un (by omega)]; exact t7
            · rw [pk_un (by omega)]; exact t8
            · rw [pk_un (by omega)]; exact t9
            · rw [pk_un (by omega)]; exact t10
          · have hl' : ∀ y, y < 16 → st y ≠ 0 := fun y hy z => free ⟨y, hy, z⟩
            refine xw_lowestFree_f P hl' (br_f (by decide) (YP _ (br_t (by rw [t5]; exact full) ⟨17, yw_open47_f P hl' ⟨rfl, J⟩ 17 0 (by omega) (by omega)⟩)))
        · exact br_f full (YP _ (br_f (by rw [t5]; exact full) ⟨rfl, J⟩))
end
section
/-! settle: the clocks -/
section
variable {fC fR fK fD fN fU fT fM fA oT pT rT tT cT fF : Int32} {cO rO lT iB stO srO taO clO leO tkO seO ejO pay ord sH sT sN iH iT iN ow crd cx cel bH bC ret res tur itu arr mF mT mL hB : Nat → Int32} {rM sM hM : Nat → Int64}
variable {c r kk D : Nat} {st sr ds cl ln tk : Nat → Nat} {base : Nat → Int32} {H : Nat → Nat}
/-- closed and not held -/
def zU (st H : Nat → Nat) (p : Nat) : Prop := p < 16 ∧ st p = 2 ∧ H p = 0
theorem zU_1 {p : Nat} (h : zU st (hn st (shR c sr ds cl) (hz sM c st sr ds cl) 16) p) : Lv st p ∧ st p = 2 ∧ ∀ i, i ≤ gm c sr ds p → ¬ bL sM 0 (gR c sr ds cl p i / 2) = true := by
  obtain ⟨h1, h2, h3⟩ := h
  refine ⟨⟨h1, .inr h2⟩, h2, ?_⟩
  intro i hi hb
  have hz0 : hz sM c st sr ds cl p = 2 := by
    unfold hz
    rw [if_neg (by omega), cif_t ⟨h2, _, ⟨i, hi, rfl⟩, hb⟩]
  rw [hn_keep (by rw [hz0]; decide), hz0] at h3
  omega
theorem zU_2 (W : gW c r sr ds cl) {p q i j : Nat} (h : zU st (hn st (shR c sr ds cl) (hz sM c st sr ds cl) 16) p) (hq : Lv st q) (hi : i ≤ gm c sr ds p) (hj : j ≤ gm c sr ds q) (e : gR c sr ds cl p i = gR c sr ds cl q j) :
    zU st (hn st (shR c sr ds cl) (hz sM c st sr ds cl) 16) q := by
  obtain ⟨h1, h2, h3⟩ := h
  have w1 := (W.2 p h1).2.2
  have w2 := (W.2 q hq.1).2.2
  have ec : cl q = cl p := by
    have a : gR c sr ds cl p i = gP c (sr p) (ds p) (cl p) i * 2 + cl p := rfl
    have b : gR c sr ds cl q j = gP c (sr q) (ds q) (cl q) j * 2 + cl q := rfl
    omega
  have hsh : shR c sr ds cl p q := ⟨ec, gR c sr ds cl p i / 2, ⟨i, hi, rfl⟩, ⟨j, hj, by rw [e]⟩⟩
  have hcl := hn_closed (st := st) (sh := shR c sr ds cl) (h0 := hz sM c st sr ds cl) p h1
  have hq0 : hn st (shR c sr ds cl) (hz sM c st sr ds cl) 16 q = 0 := by
    by_cases z : hn st (shR c sr ds cl) (hz sM c st sr ds cl) 16 q = 0
    · exact z
    · exact absurd ⟨h2, h3, q, hq.1, z, hsh⟩ hcl
  refine ⟨hq.1, ?_, hq0⟩
  rcases hq.2 with s1 | s2
  · exfalso
    have hz1 : hz sM c st sr ds cl q = 1 := by unfold hz; rw [if_pos s1]
    rw [hn_keep (by rw [hz1]; decide), hz1] at hq0
    omega
  · exact s2

theorem xw_s8 {post : Int32 → SX → Prop} (X : xGeo c r kk D fC fR fK fD fN cO rO lT iB) (P : xPk c r kk st sr ds cl ln tk stO srO taO clO leO tkO) {F0 : Nat}
    (k : ∀ (K : Nat → Nat → Nat) (B : Nat → List Nat) (w : Nat → Nat) (Q : Nat → List Nat) (cr : Nat → Nat) (rt : List Nat) (fT' fM' fA' : Int32) (seO' ejO' sH' sT' sN' ow' crd' cx' cel' bH' bC' ret' res' tur' itu' arr' mF' mT' mL' : Nat → Int32), zM c D st sr ds cl ln base K B w Q cr rt fT' seO' ejO' sH' sT' sN' ow' crd' cx' cel' bH' bC' ret' res' arr' → xTu tur' itu' →
      (∀ p, zU st (hn st (shR c sr ds cl) (hz sM c st sr ds cl) 16) p → ∀ i, i ≤ gm c sr ds p → K p i = ln p) → wX_settle_43 post fC fR fK fD fN fU fT' fM' fA' oT pT rT tT cT fF cO rO lT iB stO srO taO clO leO tkO seO' ejO' pay rM ord sH' sT' sN' iH iT iN ow' crd' cx' cel' bH' bC' ret' sM res' tur' itu' arr' mF' mT' mL' hB hM) :
    ∀ (fu t a : Nat) (K : Nat → Nat → Nat) (B : Nat → List Nat) (w : Nat → Nat) (Q : Nat → List Nat) (cr : Nat → Nat) (rt : List Nat) (fT' fM' fA' : Int32) (seO' ejO' sH' sT' sN' ow' crd' cx' cel' bH' bC' ret' res' tur' itu' arr' mF' mT' mL' : Nat → Int32), t ≤ 1024 → 1024 - t < fu → a ≤ 2 → F0 ≤ gF K → t ≤ 2 * (gF K - F0) + a →
      zM c D st sr ds cl ln base K B w Q cr rt fT' seO' ejO' sH' sT' sN' ow' crd' cx' cel' bH' bC' ret' res' arr' → xTu tur' itu' → (a = 1 → rt = []) → (a = 2 → ∀ p, zU st (hn st (shR c sr ds cl) (hz sM c st sr ds cl) 16) p → ∀ i, i ≤ gm c sr ds p → K p i = ln p) →
      wX_settle_8 post fu (nI a) (nI t) fC fR fK fD fN fU fT' fM' fA' oT pT rT tT cT fF cO rO lT iB stO srO taO clO leO tkO seO' ejO' pay rM ord sH' sT' sN' iH iT iN ow' crd' cx' cel' bH' bC' ret' sM res' tur' itu' arr' mF' mT' mL' hB hM := by
  have W := xGW X P
  have G := gr_of (st := st) W
  intro fu
  induction fu with
  | zero => intro t a K B w Q cr rt fT' fM' fA' seO' ejO' sH' sT' sN' ow' crd' cx' cel' bH' bC' ret' res' tur' itu' arr' mF' mT' mL' h1 h2; omega
  | succ fu ih =>
    intro t a K B w Q cr rt fT' fM' fA' seO' ejO' sH' sT' sN' ow' crd' cx' cel' bH' bC' ret' res' tur' itu' arr' mF' mT' mL' h1 h2 h3 h4 h5 M T hrt hdn
    by_cases e2 : a = 2
    · subst e2
      have fin := k K B w Q cr rt fT' fM' fA' seO' ejO' sH' sT' sN' ow' crd' cx' cel' bH' bC' ret' res' tur' itu' arr' mF' mT' mL' M T (hdn rfl)
      exact br_c (fun _ => fin) (fun _ => br_t (by decide) fin)
    · by_cases e : t = 1024
      · subst e
        refine br_t (by decide) (k K B w Q cr rt fT' fM' fA' seO' ejO' sH' sT' sN' ow' crd' cx' cel' bH' bC' ret' res' tur' itu' arr' mF' mT' mL' M T ?_)
        intro p hp i hi
        obtain ⟨hl, hs2, _⟩ := zU_1 hp
        have hm := (G.1 p hl).2
        have h4' := gF_full M.2.2.2.2.2.2.2.2.2.2 (show 512 ≤ gF K by omega) hl.1 (show i < 8 by omega)
        have hle := zm_le M.1 hl i hi
        have hl4 := (M.1.1 p hl).1
        omega
      · refine br_f (nI_ge (b := 1024) (by omega) (by omega)) (br_f (nI_ge (b := 2) (by omega) (by omega)) (xw_tick X P M T ?_))
        intro n K2 B2 w2 Q2 cr2 rt2 fT2 fM2 fA2 seO2 ejO2 sH2 sT2 sN2 ow2 crd2 cx2 cel2 bH2 bC2 ret2 res2 tur2 itu2 arr2 mF2 mT2 mL2 M2 T2 hF hn96 hz'
        by_cases en : n = 0
        · obtain ⟨z1, z2, z3⟩ := hz' en
          subst en
          refine br_t rfl (nm_r (nI_1 a) (nm_r (nI_1 t) (ih (t + 1) (a + 1) K2 B2 w2 Q2 cr2 rt2 fT2 fM2 fA2 seO2 ejO2 sH2 sT2 sN2 ow2 crd2 cx2 cel2 bH2 bC2 ret2 res2 tur2 itu2 arr2 mF2 mT2 mL2 (by omega) (by omega) (by omega) (by omega) (by omega) M2 T2 (fun _ => z1) (fun ea => ?_))))
          have ea1 : a = 1 := by omega
          have hr := hrt ea1
          subst hr
          intro p hp
          rw [z2]
          exact zd_done (sl := fun x => bL sM 0 x = true) (U := zU st (hn st (shR c sr ds cl) (hz sM c st sr ds cl) 16)) G M.1 X.2.2.2.1 (z3 rfl) (fun p hp => zU_1 hp) (fun p q i j hp hq hi hj he => zU_2 W hp hq hi hj he) hp
        · refine br_f (nI_ne0 (by omega) (by omega)) (nm_r (nI_1 t) (ih (t + 1) 0 K2 B2 w2 Q2 cr2 rt2 fT2 fM2 fA2 seO2 ejO2 sH2 sT2 sN2 ow2 crd2 cx2 cel2 bH2 bC2 ret2 res2 tur2 itu2 arr2 mF2 mT2 mL2 (by omega) (by omega) (by omega) (by omega) (by omega) M2 T2 (by omega) (by omega)))
end
end
section
/-! settle: the release -/
section
variable {fC fR fK fD fN fU fT fM fA oT pT rT tT cT fF : Int32} {cO rO lT iB stO srO taO clO leO tkO seO ejO pay ord sH sT sN iH iT iN ow crd cx cel bH bC ret res tur itu arr mF mT mL hB : Nat → Int32} {rM sM hM : Nat → Int64}
variable {age rnk pth ysn tot blk mrk : Nat → Int32}
variable {c r kk D no nr : Nat} {st sr ds cl ln tk ag rk H : Nat → Nat} {K : Nat → Nat → Nat} {B : Nat → List Nat} {w : Nat → Nat} {Q : Nat → List Nat} {cr : Nat → Nat} {rt od : List Nat} {IB : Nat → List Nat}

/-- what a released packet leaves at channel ch -/
def gln (c : Nat) (sr ds cl ln : Nat → Nat) (p ch n : Nat) : Nat := sm (fun i => if i ≤ gm c sr ds p ∧ gR c sr ds cl p i = ch then ln p else 0) n

theorem zM_rel {p : Nat} {ysn2 : Nat → Int32} (hp : p < 16) (hs : st p = 2) (hdone : ∀ i, i ≤ gm c sr ds p → K p i = ln p) (hy : ∀ ch, ch < 256 → ysn2 ch = ysn ch + nI (gln c sr ds cl ln p ch 8))
    (M : zM c D st sr ds cl ln ysn K B w Q cr rt fT seO ejO sH sT sN ow crd cx cel bH bC ret res arr) : zM c D (fs st p 3) sr ds cl ln ysn2 K B w Q cr rt fT seO ejO sH sT sN ow crd cx cel bH bC ret res arr := by
  have hL : ∀ q, Lv (fs st p 3) q ↔ q ≠ p ∧ Lv st q := by
    intro q
    by_cases e : q = p
    · subst e
      constructor
      · intro h
        have := h.2
        rw [fs_s] at this
        omega
      · intro h; exact absurd rfl h.1
    · rw [Lv_fs e]
      exact ⟨fun h => ⟨e, h⟩, fun h => h.2⟩
  obtain ⟨⟨i1, i2, i3, i4, i5, i6, i7, i8⟩, mbu, mre, mcx, mq, mrt, mow, mcr, mse, mar, m4⟩ := M
  have hlp : Lv st p := ⟨hp, .inr hs⟩
  refine ⟨⟨?_, ?_, i3, i4, i5, ?_, i7, ?_⟩, mbu, mre, ?_, mq, mrt, mow, mcr, ?_, mar, m4⟩
  · intro q hq; exact i1 q ((hL q).mp hq).2
  · intro ch f
    rw [i2 ch f, hL]
    constructor
    · rintro ⟨a, i, b1, b2, b3, b4⟩
      refine ⟨⟨?_, a⟩, i, b1, b2, b3, b4⟩
      intro e
      rw [e] at b1 b3 b4
      have h1 := hdone (i + 1) (by omega)
      have h2 := hdone i (by omega)
      omega
    · rintro ⟨⟨_, a⟩, i, b1, b2, b3, b4⟩
      exact ⟨a, i, b1, b2, b3, b4⟩
  · intro ch
    refine ⟨(i6 ch).1, fun q hq => ?_⟩
    rw [(i6 ch).2 q hq, hL]
    constructor
    · rintro ⟨a, i, b1, b2, b3, b4⟩
      have e : q ≠ p := by
        rintro rfl
        exact b4 ⟨hs, hdone i b1⟩
      exact ⟨⟨e, a⟩, i, b1, b2, b3, by rw [fs_n e]; exact b4⟩
    · rintro ⟨⟨e, a⟩, i, b1, b2, b3, b4⟩
      rw [fs_n e] at b4
      exact ⟨a, i, b1, b2, b3, b4⟩
  · intro l
    refine ⟨(i8 l).1, fun q => ?_, (i8 l).2.2⟩
    rw [(i8 l).2.1 q, hL]
    constructor
    · rintro ⟨a, b, d⟩
      have e : q ≠ p := by
        rintro rfl
        exact d ⟨hs, hdone 0 (by omega)⟩
      exact ⟨⟨e, a⟩, b, by rw [fs_n e]; exact d⟩
    · rintro ⟨⟨e, a⟩, b, d⟩
      rw [fs_n e] at d
      exact ⟨a, b, d⟩
  · intro ch hc
    rw [mcx ch hc, hy ch hc, Int32.add_assoc, nI_add]
    congr 2
    have key := sm_upd (f := fun a => if st a = 1 ∨ st a = 2 then gx1 (gm c sr ds) (gR c sr ds cl) K ch a else 0) (g := fun a => if fs st p 3 a = 1 ∨ fs st p 3 a = 2 then gx1 (gm c sr ds) (gR c sr ds cl) K ch a else 0) (j := p) 16 hp (by
      intro a _ hne
      show (if fs st p 3 a = 1 ∨ fs st p 3 a = 2 then gx1 (gm c sr ds) (gR c sr ds cl) K ch a else 0) = if st a = 1 ∨ st a = 2 then gx1 (gm c sr ds) (gR c sr ds cl) K ch a else 0
      rw [fs_n hne])
    have e1 : (if st p = 1 ∨ st p = 2 then gx1 (gm c sr ds) (gR c sr ds cl) K ch p else 0) = gx1 (gm c sr ds) (gR c sr ds cl) K ch p := if_pos (.inr hs)
    have e2 : (if fs st p 3 p = 1 ∨ fs st p 3 p = 2 then gx1 (gm c sr ds) (gR c sr ds cl) K ch p else 0) = 0 := by rw [fs_s]; exact if_neg (by omega)
    have e3 : gx1 (gm c sr ds) (gR c sr ds cl) K ch p = gln c sr ds cl ln p ch 8 := by
      refine sm_congr 8 ?_
      intro i _
      show (if i ≤ gm c sr ds p ∧ gR c sr ds cl p i = ch then K p i else 0) = if i ≤ gm c sr ds p ∧ gR c sr ds cl p i = ch then ln p else 0
      by_cases q : i ≤ gm c sr ds p ∧ gR c sr ds cl p i = ch
      · rw [if_pos q, if_pos q, hdone i q.1]
      · rw [if_neg q, if_neg q]
    rw [e1, e2, e3] at key
    show gX _ _ st K ch = _ + gX _ _ (fs st p 3) K ch
    unfold gX
    omega
  · intro q hq; exact mse q ((hL q).mp hq).2

theorem zIb_rel {p n : Nat} (Ib : zIb st ds rk IB nr iH iT iN rnk) (hp : p < 16) (hs : st p = 2) (hn : n < 16) (hd : ds p = n) :
    zIb (fs st p 3) ds (fs rk p nr) (fun l => if l = n then IB n ++ [p] else IB l) (nr + 1) (if IB n = [] then upd iH n (nI p) else iH) (upd iT n (nI p)) (match (IB n).getLast? with | none => upd iN p (-1) | some b => upd (upd iN p (-1)) b (nI p)) (upd rnk p (nI nr)) := by
  obtain ⟨len, hnd, hm⟩ := ib_len Ib hn
  obtain ⟨o1, o2, o3, o4⟩ := Ib
  have notin : ∀ l, l < 16 → p ∉ IB l := fun l hl h => by have := ((o2 l hl p).mp h).2.1; omega
  refine ⟨rL_app o1 hn hnd notin ?_, ?_, ?_, ?_⟩
  · intro l a hl hne ha hb
    have h1 := (o2 l hl a).mp ha
    have h2 := (o2 n hn a).mp hb
    exact hne (h1.2.2.symm.trans h2.2.2)
  · intro l hl q
    dsimp only
    by_cases e : l = n
    · subst e
      rw [if_pos rfl, List.mem_append, List.mem_singleton, o2 l hl q]
      by_cases eq : q = p
      · subst eq
        rw [fs_s]
        exact ⟨fun _ => ⟨hp, rfl, hd⟩, fun _ => .inr rfl⟩
      · rw [fs_n eq]
        exact ⟨fun h => h.resolve_right eq, fun h => .inl h⟩
    · rw [if_neg e, o2 l hl q]
      by_cases eq : q = p
      · subst eq
        rw [fs_s]
        constructor
        · rintro ⟨_, h, _⟩; omega
        · rintro ⟨_, _, h⟩; exact absurd (h.symm.trans hd) e
      · rw [fs_n eq]
  · intro l hl
    dsimp only
    have keep : ∀ l, l < 16 → (IB l).Pairwise (fun a b => fs rk p nr a < fs rk p nr b) := by
      intro l hl
      refine List.Pairwise.imp_of_mem ?_ (o3 l hl)
      intro a b ha hb h
      rw [fs_n (by rintro rfl; exact notin l hl ha), fs_n (by rintro rfl; exact notin l hl hb)]
      exact h
    by_cases e : l = n
    · subst e
      rw [if_pos rfl, List.pairwise_append]
      refine ⟨keep l hl, List.pairwise_singleton _ _, ?_⟩
      intro a ha b hb
      rw [List.mem_singleton] at hb
      subst hb
      have := hm a ha
      rw [fs_n (by rintro rfl; exact notin l hl ha), fs_s]
      exact (o4 a this.1 this.2.1).2
    · rw [if_neg e]; exact keep l hl
  · intro q hq h3
    by_cases e : q = p
    · subst e
      rw [pk_us, fs_s]; exact ⟨rfl, by omega⟩
    · rw [fs_n e] at h3
      rw [pk_un e, fs_n e]
      have := o4 q hq h3
      exact ⟨this.1, by omega⟩

theorem xw_joinInbox {post : SX → Prop} {p n : Nat} (hp : p < 16) (eT : taO p = nI n) (hn : n < 16) (hT : iT n = hI (IB n).getLast?) (hm : ∀ a, a ∈ IB n → a < 16)
    (h : post (fC, fR, fK, fD, fN, fU, fT, fM, fA, oT, pT, rT, tT, cT, fF, cO, rO, lT, iB, stO, srO, taO, clO, leO, tkO, seO, ejO, pay, rM, ord, sH, sT, sN, if IB n = [] then upd iH n (nI p) else iH, upd iT n (nI p), match (IB n).getLast? with | none => upd iN p (-1) | some b => upd (upd iN p (-1)) b (nI p), ow, crd, cx, cel, bH, bC, ret, sM, res, tur, itu, arr, mF, mT, mL, hB, hM)) : wpX_joinInbox post (fC, fR, fK, fD, fN, fU, fT, fM, fA, oT, pT, rT, tT, cT, fF, cO, rO, lT, iB, stO, srO, taO, clO, leO, tkO, seO, ejO, pay, rM, ord, sH, sT, sN, iH, iT, iN, ow, crd, cx, cel, bH, bC, ret, sM, res, tur, itu, arr, mF, mT, mL, hB, hM) (nI p) := by
  have vp := ivp (N := 16) hp (by omega)
  have vl := ivp (N := 16) hn (by omega)
  have ep : (nI p).toNatClampNeg = p := icl (by omega)
  have el : (nI n).toNatClampNeg = n := icl (by omega)
  refine ⟨vp, nm_r (e' := nI n) (by rw [ep, eT]) ⟨vl, ?_⟩⟩
  cases hq : (IB n).getLast? with
  | none =>
    rw [hq] at h hT
    have hnn : IB n = [] := List.getLast?_eq_none_iff.mp hq
    rw [if_pos hnn] at h
    exact nm_r (e' := -1) (by rw [el, hT]; rfl) ⟨vp, nm_r (e' := upd iN p (-1)) (by rw [ep]) (br_f (by decide) ⟨vl, nm_r (e' := upd iH n (nI p)) (by rw [el]) ⟨vl, nm_r (e' := upd iT n (nI p)) (by rw [el]) h⟩⟩)⟩
  | some b =>
    rw [hq] at h hT
    have hb := hm b (List.mem_of_getLast? hq)
    have hnn : IB n ≠ [] := by intro e; rw [e] at hq; simp at hq
    rw [if_neg hnn] at h
    exact nm_r (e' := nI b) (by rw [el, hT]; rfl) ⟨vp, nm_r (e' := upd iN p (-1)) (by rw [ep]) (br_t (nI_pos' (by omega)) ⟨ivp hb (by omega), nm_r (e' := upd (upd iN p (-1)) b (nI p)) (by rw [icl (n := b) (by omega)]) ⟨vl, nm_r (e' := upd iT n (nI p)) (by rw [el]) h⟩⟩)⟩

/-! the reference's rounds -/
/-- the reference's flit counts behind i steps of a released packet's route -/
def ysF (c : Nat) (sr ds cl ln : Nat → Nat) (p : Nat) (ysn : Nat → Int32) : Nat → Nat → Int32
  | 0 => ysn
  | i + 1 => if i ≤ gm c sr ds p then upd (ysF c sr ds cl ln p ysn i) (gR c sr ds cl p i) (ysF c sr ds cl ln p ysn i (gR c sr ds cl p i) + nI (ln p)) else ysF c sr ds cl ln p ysn i
theorem ysF_v {p : Nat} (hR : ∀ i, i ≤ gm c sr ds p → gR c sr ds cl p i < 256) : ∀ i ch, ch < 256 → ysF c sr ds cl ln p ysn i ch = ysn ch + nI (gln c sr ds cl ln p ch i) := by
  intro i
  induction i with
  | zero => intro ch _; exact (Int32.add_zero _).symm
  | succ i ih =>
    intro ch hc
    have es : gln c sr ds cl ln p ch (i + 1) = gln c sr ds cl ln p ch i + (if i ≤ gm c sr ds p ∧ gR c sr ds cl p i = ch then ln p else 0) := rfl
    rw [es]
    show (if i ≤ gm c sr ds p then upd (ysF c sr ds cl ln p ysn i) (gR c sr ds cl p i) (ysF c sr ds cl ln p ysn i (gR c sr ds cl p i) + nI (ln p)) else ysF c sr ds cl ln p ysn i) ch = _
    by_cases q : i ≤ gm c sr ds p
    · rw [if_pos q]
      have hlt := hR i q
      by_cases ec : ch = gR c sr ds cl p i
      · rw [ec, if_pos ⟨q, rfl⟩, pk_us, ih _ hlt, Int32.add_assoc, nI_add]
      · rw [if_neg (fun z => ec z.2.symm), pk_un ec]
        exact ih ch hc
    · rw [if_neg q, if_neg (fun z => q z.1)]
      exact ih ch hc
theorem yw_s112 {post : Int32 → SY → Prop} {J8 : Int32 → Int32 → (Nat → Int32) → (Nat → Int32) → (Nat → Int32) → (Nat → Int32) → (Nat → Int32) → (Nat → Int32) → (Nat → Int32) → (Nat → Int32) → (Nat → Int32) → (Nat → Int32) → (Nat → Int32) → (Nat → Int32) → (Nat → Int32) → (Nat → Int32) → Prop} {x1 x2 : Int32} {p : Nat} (W : gW c r sr ds cl) (hcl : clO p = nI (cl p)) (hle : leO p = nI (ln p)) (hp : p < 16) (hm7 : gm c sr ds p ≤ 7) (hR : ∀ i, i ≤ gm c sr ds p → gR c sr ds cl p i < 256)
    (Ry : ∀ i, i < 8 → pth (p * 8 + i) = if i ≤ gm c sr ds p then nI (gR c sr ds cl p i / 2) else -9)
    (hJ : J8 (x1 + 1) (x2 + 1) stO srO taO clO leO tkO age rnk pay pth (ysF c sr ds cl ln p ysn 8) tot blk mrk) :
    ∀ (fu i : Nat), i ≤ 8 → 8 - i < fu → wY_settle_112 post J8 x1 x2 (nI p) fC fR fK fD fu (nI i) stO srO taO clO leO tkO age rnk pay pth (ysF c sr ds cl ln p ysn i) tot blk mrk := by
  have w3 := (W.2 p hp).2.2
  have vp := ivp (N := 16) hp (by omega)
  have ep : (nI p).toNatClampNeg = p := icl (by omega)
  intro fu
  induction fu with
  | zero => intro i g1 g2; omega
  | succ fu ih =>
    intro i g1 g2
    by_cases e : i = 8
    · subst e
      exact br_t (by decide) (nm_e (nm_e hJ))
    · have vi : vp_in (nI p * 8 + nI i) 128 := by rw [ix8]; exact ivp (by omega) (by omega)
      have ei : (nI p * 8 + nI i).toNatClampNeg = p * 8 + i := by rw [ix8]; exact icl (by omega)
      have ih' := ih (i + 1) (by omega) (by omega)
      have es : ysF c sr ds cl ln p ysn (i + 1) = if i ≤ gm c sr ds p then upd (ysF c sr ds cl ln p ysn i) (gR c sr ds cl p i) (ysF c sr ds cl ln p ysn i (gR c sr ds cl p i) + nI (ln p)) else ysF c sr ds cl ln p ysn i := rfl
      rw [es] at ih'
      refine br_f (nI_ge (b := 8) (by omega) (by omega)) ⟨vi, ?_⟩
      rw [ei, Ry i (by omega)]
      by_cases q : i ≤ gm c sr ds p
      · have hlt := hR i q
        have e2 : gR c sr ds cl p i / 2 * 2 + cl p = gR c sr ds cl p i := by
          have a : gR c sr ds cl p i = gP c (sr p) (ds p) (cl p) i * 2 + cl p := rfl
          omega
        rw [if_pos q] at ih'
        rw [if_pos q]
        have ev : vp_in (nI (gR c sr ds cl p i / 2) * 2 + clO (nI p).toNatClampNeg) 256 := by rw [ep, hcl, ix2, e2]; exact ivp hlt (by omega)
        refine br_f (nI_pos (by omega)) ⟨vi, vp, ev, vp, ev, nm_r (e' := upd (ysF c sr ds cl ln p ysn i) (gR c sr ds cl p i) (ysF c sr ds cl ln p ysn i (gR c sr ds cl p i) + nI (ln p))) ?_ (nm_r (nI_1 i) ih')⟩
        rw [ep, hcl, ix2, e2, icl (by omega), hle]
      · rw [if_neg q] at ih'
        rw [if_neg q]
        exact br_t (by decide) (nm_r (nI_1 i) ih')

theorem yw_s19 {post : Int32 → SY → Prop} {J8 : Int32 → Int32 → (Nat → Int32) → (Nat → Int32) → (Nat → Int32) → (Nat → Int32) → (Nat → Int32) → (Nat → Int32) → (Nat → Int32) → (Nat → Int32) → (Nat → Int32) → (Nat → Int32) → (Nat → Int32) → (Nat → Int32) → (Nat → Int32) → (Nat → Int32) → Prop} {x1 x2 : Int32} (P : xPk c r kk st sr ds cl ln tk stO srO taO clO leO tkO) (Hm : yHb H mrk) (hag : ∀ p, Lv st p → age p = nI (ag p) ∧ ag p < 2 ^ 31)
    (h0 : (∀ p, p < 16 → ¬ (st p = 2 ∧ H p = 0)) → J8 x1 (x2 + 1) stO srO taO clO leO tkO age rnk pay pth ysn tot blk mrk)
    (h1 : ∀ p, p < 16 → st p = 2 → H p = 0 → (∀ q, q < 16 → st q = 2 → H q = 0 → ag p ≤ ag q) →
      ∃ n112 : Nat, wY_settle_112 post J8 x1 x2 (nI p) fC fR fK fD n112 0 (upd stO p 3) srO taO clO leO tkO age (upd rnk p (tot 2)) pay pth ysn (upd tot 2 (tot 2 + 1)) blk mrk) :
    ∃ n19, wY_settle_19 post J8 x1 x2 fC fR fK fD stO srO taO clO leO tkO age rnk pay pth ysn tot blk mrk n19 (-1) 0 := by
  have lp : ∀ (fu i : Nat) (x : Int32), i ≤ 16 → 16 - i < fu → ((x = -1 ∧ ∀ p, p < i → ¬ (st p = 2 ∧ H p = 0)) ∨ (∃ b, x = nI b ∧ b < i ∧ st b = 2 ∧ H b = 0 ∧ ∀ q, q < i → st q = 2 → H q = 0 → ag b ≤ ag q)) →
      wY_settle_19 post J8 x1 x2 fC fR fK fD stO srO taO clO leO tkO age rnk pay pth ysn tot blk mrk fu x (nI i) := by
    intro fu
    induction fu with
    | zero => intro i x g1 g2; omega
    | succ fu ih =>
      intro i x g1 g2 HH
      by_cases e : i = 16
      · subst e
        refine br_t (by decide) ?_
        rcases HH with ⟨rfl, HH⟩ | ⟨b, rfl, b1, b2, b3, b4⟩
        · exact br_t (by decide) (nm_e (h0 HH))
        · have vb := ivp (N := 16) b1 (by omega)
          have eb : (nI b).toNatClampNeg = b := icl (by omega)
          exact br_f (nI_pos (by omega)) ⟨vb, nm_r (e' := upd stO b 3) (by rw [eb]) ⟨vb, nm_r (e' := upd rnk b (tot 2)) (by rw [eb]) (nm_e (h1 b b1 b2 b3 b4))⟩⟩
      · have hi : i < 16 := by omega
        have vi := ivp (n := i) (N := 16) hi (by omega)
        have ei : (nI i).toNatClampNeg = i := icl (by omega)
        obtain ⟨p1, p2, p3, p4, p5, p6, p7, p8, p9, p10, p11, p12, p13, p14, p15⟩ := P i hi
        have SKIP : ¬ (st i = 2 ∧ H i = 0) → wY_settle_19 post J8 x1 x2 fC fR fK fD stO srO taO clO leO tkO age rnk pay pth ysn tot blk mrk fu x (nI (i + 1)) := by
          intro hno
          refine ih (i + 1) x (by omega) (by omega) ?_
          rcases HH with ⟨rfl, HH⟩ | ⟨b, rfl, b1, b2, b3, b4⟩
          · refine .inl ⟨rfl, fun p hp => ?_⟩
            by_cases ep : p = i
            · subst ep; exact hno
            · exact HH p (by omega)
          · refine .inr ⟨b, rfl, by omega, b2, b3, fun q hq q1 q2 => ?_⟩
            by_cases ep : q = i
            · subst ep; exact absurd ⟨q1, q2⟩ hno
            · exact b4 q (by omega) q1 q2
        refine br_f (nI_ge (b := 16) hi (by omega)) ⟨vi, ?_⟩
        rw [ei, p1]
        by_cases s2 : st i = 2
        · refine br_t (by rw [s2]; rfl) ⟨vi, ?_⟩
          rw [Hm i hi]
          by_cases hz : H i = 0
          · rw [if_pos hz]
            refine br_t rfl ?_
            have TAKE : (∀ q, q < i → st q = 2 → H q = 0 → ag i ≤ ag q) → wY_settle_19 post J8 x1 x2 fC fR fK fD stO srO taO clO leO tkO age rnk pay pth ysn tot blk mrk fu (nI i) (nI (i + 1)) := by
              intro hle
              refine ih (i + 1) (nI i) (by omega) (by omega) (.inr ⟨i, rfl, by omega, s2, hz, fun q hq q1 q2 => ?_⟩)
              by_cases ep : q = i
              · subst ep; omega
              · exact hle q (by omega) q1 q2
            rcases HH with ⟨rfl, HH⟩ | ⟨b, rfl, b1, b2, b3, b4⟩
            · exact br_t (by decide) (nm_r (nI_1 i) (TAKE (fun q hq q1 q2 => absurd ⟨q1, q2⟩ (HH q hq))))
            · refine br_f (nI_pos (by omega)) ⟨vi, ivp (by omega) (by omega), ?_⟩
              have a1 := hag b ⟨by omega, .inr b2⟩
              have a2 := hag i ⟨hi, .inr s2⟩
              rw [icl (n := b) (by omega), a1.1, a2.1]
              by_cases le : ag b ≤ ag i
              · refine br_t (nI_le le a2.2) (nm_r (nI_1 i) (ih (i + 1) (nI b) (by omega) (by omega) (.inr ⟨b, rfl, by omega, b2, b3, fun q hq q1 q2 => ?_⟩)))
                by_cases ep : q = i
                · subst ep; exact le
                · exact b4 q (by omega) q1 q2
              · refine br_f (nI_ge (by omega) a1.2) (nm_r (nI_1 i) (TAKE (fun q hq q1 q2 => ?_)))
                have := b4 q hq q1 q2
                omega
          · rw [if_neg hz]
            exact br_f (by decide) (nm_r (nI_1 i) (SKIP (fun z => hz z.2)))
        · exact br_f (fun z => s2 ((ieq (b := 2) (by omega) (by omega)).mp z)) (nm_r (nI_1 i) (SKIP (fun z => s2 z.1)))
  exact ⟨17, lp 17 0 (-1) (by omega) (by omega) (.inl ⟨rfl, fun p hp => by omega⟩)⟩

/-- rounds with nobody to release -/
theorem yw_s8_end {post : Int32 → SY → Prop} (P : xPk c r kk st sr ds cl ln tk stO srO taO clO leO tkO) (Hm : yHb H mrk) (hag : ∀ p, Lv st p → age p = nI (ag p) ∧ ag p < 2 ^ 31) (hno : ∀ p, p < 16 → ¬ (st p = 2 ∧ H p = 0)) {n : Nat} (h : post (nI n) (fC, fR, fK, fD, stO, srO, taO, clO, leO, tkO, age, rnk, pay, pth, ysn, tot, blk, mrk)) :
    ∀ fu t : Nat, t ≤ 16 → 16 - t < fu → wY_settle_8 post fC fR fK fD fu (nI n) (nI t) stO srO taO clO leO tkO age rnk pay pth ysn tot blk mrk := by
  intro fu
  induction fu with
  | zero => intro t g1 g2; omega
  | succ fu ih =>
    intro t g1 g2
    by_cases e : t = 16
    · subst e; exact br_t (by decide) h
    · refine br_f (nI_ge (b := 16) (by omega) (by omega)) (yw_s19 P Hm hag (fun _ => ?_) (fun p hp h2 hz _ => absurd ⟨h2, hz⟩ (hno p hp)))
      rw [nI_1]
      exact ih (t + 1) (by omega) (by omega)
/-- one release -/
theorem yw_s8_one {post : Int32 → SY → Prop} {p : Nat} (W : gW c r sr ds cl) (P : xPk c r kk st sr ds cl ln tk stO srO taO clO leO tkO) (Hm : yHb H mrk) (hag : ∀ p, Lv st p → age p = nI (ag p) ∧ ag p < 2 ^ 31) (Ry : yRt c st sr ds cl pth)
    (hp : p < 16) (hs : st p = 2) (hH : H p = 0) (hmin : ∀ q, q < 16 → st q = 2 → H q = 0 → q ≠ p → ag p < ag q) {fu n t : Nat} (ht : t < 16)
    (h : wY_settle_8 post fC fR fK fD fu (nI (n + 1)) (nI (t + 1)) (upd stO p 3) srO taO clO leO tkO age (upd rnk p (tot 2)) pay pth (ysF c sr ds cl ln p ysn 8) (upd tot 2 (tot 2 + 1)) blk mrk) :
    wY_settle_8 post fC fR fK fD (fu + 1) (nI n) (nI t) stO srO taO clO leO tkO age rnk pay pth ysn tot blk mrk := by
  refine br_f (nI_ge (b := 16) ht (by omega)) (yw_s19 P Hm hag (fun z => absurd ⟨hs, hH⟩ (z p hp)) ?_)
  intro q hq h2 hz hle
  have e : q = p := by
    by_cases e : q = p
    · exact e
    · have := hmin q hq h2 hz e
      have := hle p hp hs hH
      omega
  subst e
  obtain ⟨p1, p2, p3, p4, p5, p6, p7, p8, p9, p10, p11, p12, p13, p14, p15⟩ := P q hq
  have hl : Lv st q := ⟨hq, .inr hs⟩
  have G := gr_of (st := st) W
  refine ⟨9, yw_s112 W p4 p5 hq (G.1 q hl).2 (fun i hi => (G.2.1 q i hl hi).1) (Ry q hl) ?_ 9 0 (by omega) (by omega)⟩
  rw [nI_1, nI_1]
  exact h
end
end
section
/-! settle: both sides release in turn -/
section
variable {fC fR fK fD fN fU fT fM fA oT pT rT tT cT fF : Int32} {cO rO lT iB stO srO taO clO leO tkO seO ejO pay ord sH sT sN iH iT iN ow crd cx cel bH bC ret res tur itu arr mF mT mL hB : Nat → Int32} {rM sM hM : Nat → Int64}
variable {age rnk pth ysn tot blk mrk : Nat → Int32}
variable {c r kk D no nr : Nat} {st sr ds cl ln tk ag rk H : Nat → Nat} {K : Nat → Nat → Nat} {B : Nat → List Nat} {w : Nat → Nat} {Q : Nat → List Nat} {cr : Nat → Nat} {rt od : List Nat} {IB : Nat → List Nat}
/-- behind i of the order, t released, kp kept, l to come -/
def zRm (c r kk D no nr0 : Nat) (st sr ds cl ln tk ag rk H : Nat → Nat) (K : Nat → Nat → Nat) (B : Nat → List Nat) (w : Nat → Nat) (Q : Nat → List Nat) (cr : Nat → Nat) (rt : List Nat) (IB : Nat → List Nat) (kp l : List Nat) (t : Nat)
    (fU : Int32) (stO srO taO clO leO tkO ord iH iT iN age rnk pth ysn tot tot0 : Nat → Int32) (rM : Nat → Int64) (fT' : Int32) (seO' ejO' sH' sT' sN' ow' crd' cx' cel' bH' bC' ret' res' arr' : Nat → Int32) : Prop :=
  xPk c r kk st sr ds cl ln tk stO srO taO clO leO tkO ∧ zM c D st sr ds cl ln ysn K B w Q cr rt fT' seO' ejO' sH' sT' sN' ow' crd' cx' cel' bH' bC' ret' res' arr' ∧ xRt c st sr ds cl rM ∧ yRt c st sr ds cl pth ∧ zIb st ds rk IB (nr0 + t) iH iT iN rnk ∧
  (∀ p, p ∈ kp ++ l ↔ Lv st p) ∧ (kp ++ l).Pairwise (fun a b => ag a < ag b) ∧ (∀ p, Lv st p → age p = nI (ag p) ∧ ag p < no) ∧
  (∀ j, j < kp.length → ord j = nI (kp.getD j 0)) ∧ (∀ j, j < l.length → ord (kp.length + t + j) = nI (l.getD j 0)) ∧ kp.length + t + l.length ≤ 16 ∧ fU = nI (kp.length + t + l.length) ∧
  (∀ p, p ∈ kp → ¬ (st p = 2 ∧ H p = 0)) ∧ (∀ p, p ∈ l → st p = 2 → H p = 0 → ∀ i, i ≤ gm c sr ds p → K p i = ln p) ∧
  tot 2 = nI (nr0 + t) ∧ (∀ j, j ≠ 2 → tot j = tot0 j)

theorem xw_ru6 {post : Int32 → SX → Prop} {YW : (Int32 → SY → Prop) → Prop} {tot0 : Nat → Int32} {nr0 : Nat} (W : gW c r sr ds cl) (h16 : c * r ≤ 16) (hno : no ≤ 1000000) (Hb : xHb H hB)
    (fin : ∀ (st rk : Nat → Nat) (IB : Nat → List Nat) (kp : List Nat) (t : Nat) (stO ord iH iT iN rnk ysn tot : Nat → Int32),
      zRm c r kk D no nr0 st sr ds cl ln tk ag rk H K B w Q cr rt IB kp [] t fU stO srO taO clO leO tkO ord iH iT iN age rnk pth ysn tot tot0 rM fT seO ejO sH sT sN ow crd cx cel bH bC ret res arr →
      (∀ post', (∀ mrk' : Nat → Int32, yHb H mrk' → wY_settle_8 post' fC fR fK fD (17 - t) (nI t) (nI t) stO srO taO clO leO tkO age rnk pay pth ysn tot blk mrk') → YW post') → post (nI t) (fC, fR, fK, fD, fN, nI kp.length, fT, fM, fA, oT, pT, rT + nI t, tT, cT, fF, cO, rO, lT, iB, stO, srO, taO, clO, leO, tkO, seO, ejO, pay, rM, ord, sH, sT, sN, iH, iT, iN, ow, crd, cx, cel, bH, bC, ret, sM, res, tur, itu, arr, mF, mT, mL, hB, hM)) :
    ∀ (l : List Nat) (fu t : Nat) (st rk : Nat → Nat) (IB : Nat → List Nat) (kp : List Nat) (stO ord iH iT iN rnk ysn tot : Nat → Int32),
      zRm c r kk D no nr0 st sr ds cl ln tk ag rk H K B w Q cr rt IB kp l t fU stO srO taO clO leO tkO ord iH iT iN age rnk pth ysn tot tot0 rM fT seO ejO sH sT sN ow crd cx cel bH bC ret res arr →
      (∀ post', (∀ mrk' : Nat → Int32, yHb H mrk' → wY_settle_8 post' fC fR fK fD (17 - t) (nI t) (nI t) stO srO taO clO leO tkO age rnk pay pth ysn tot blk mrk') → YW post') → l.length < fu → wX_releaseUnheld_6 post fu (nI kp.length) (nI t) (nI (kp.length + t)) fC fR fK fD fN fU fT fM fA oT pT rT tT cT fF cO rO lT iB stO srO taO clO leO tkO seO ejO pay rM ord sH sT sN iH iT iN ow crd cx cel bH bC ret sM res tur itu arr mF mT mL hB hM := by
  intro l
  induction l with
  | nil =>
    intro fu t st rk IB kp stO ord iH iT iN rnk ysn tot Z HY hf
    obtain ⟨f, rfl⟩ : ∃ f, fu = f + 1 := ⟨fu - 1, by omega⟩
    have done := fin st rk IB kp t stO ord iH iT iN rnk ysn tot Z HY
    have hfU := Z.2.2.2.2.2.2.2.2.2.2.2.1
    simp only [List.length_nil, Nat.add_zero] at hfU
    exact br_c (fun _ => nm_e done) (fun _ => br_t (by rw [hfU]; exact Int32.le_refl _) (nm_e done))
  | cons x l ih =>
    intro fu t st rk IB kp stO ord iH iT iN rnk ysn tot Z HY hf
    obtain ⟨f, rfl⟩ : ∃ f, fu = f + 1 := ⟨fu - 1, by omega⟩
    have Z0 := Z
    obtain ⟨P, M, Rx, Ry, Ib, z1, z2, z3, z4, z5, z6, z7, z8, z9, z10, z11⟩ := Z
    simp only [List.length_cons] at z5 z6 z7 hf
    have hxl : Lv st x := (z1 x).mp (by simp)
    have hx := hxl.1
    obtain ⟨p1, p2, p3, p4, p5, p6, p7, p8, p9, p10, p11, p12, p13, p14, p15⟩ := P x hx
    have vi := ivp (n := kp.length + t) (N := 16) (by omega) (by omega)
    have vx := ivp (N := 16) hx (by omega)
    have ex : (nI x).toNatClampNeg = x := icl (by omega)
    have ox : ord (kp.length + t) = nI x := by
      have := z5 0 (by omega)
      simpa using this
    obtain ⟨b1, b2⟩ := Hb x hx
    -- the slot stays
    have KEEP : ¬ (st x = 2 ∧ H x = 0) → wX_releaseUnheld_96 post (wX_releaseUnheld_6 post f) (nI kp.length) (nI t) (nI (kp.length + t)) (nI x) fC fR fK fD fN fU fT fM fA oT pT rT tT cT fF cO rO lT iB stO srO taO clO leO tkO seO ejO pay rM ord sH sT sN iH iT iN ow crd cx cel bH bC ret sM res tur itu arr mF mT mL hB hM := by
      intro hk
      refine ⟨ivp (by omega) (by omega), nm_r (e' := upd ord kp.length (nI x)) (by rw [icl (by omega)]) (nm_r (nI_1 _) (nm_r (e' := nI (kp.length + 1 + t)) (by rw [nI_1]; congr 1; omega) ?_))⟩
      have e1 : (kp ++ [x]).length = kp.length + 1 := by simp
      have := ih f t st rk IB (kp ++ [x]) stO (upd ord kp.length (nI x)) iH iT iN rnk ysn tot (by
        refine ⟨P, M, Rx, Ry, Ib, ?_, ?_, z3, ?_, ?_, ?_, ?_, ?_, ?_, z10, z11⟩
        · intro p; rw [← z1 p]; simp
        · have e : kp ++ [x] ++ l = kp ++ x :: l := by simp
          rw [e]; exact z2
        · intro j hj
          rw [e1] at hj
          by_cases ej : j = kp.length
          · subst ej; rw [pk_us]; simp
          · have hlt : j < kp.length := by omega
            rw [pk_un ej, z4 j hlt]
            congr 1
            simp [List.getD_eq_getElem?_getD, List.getElem?_append_left hlt]
        · intro j hj
          rw [e1, pk_un (by omega)]
          have := z5 (j + 1) (by omega)
          have e2 : kp.length + t + (j + 1) = kp.length + 1 + t + j := by omega
          rw [e2] at this
          rw [this]; simp
        · rw [e1]; omega
        · rw [e1, z7]; congr 1; omega
        · intro p hp
          rw [List.mem_append, List.mem_singleton] at hp
          rcases hp with hp | hp
          · exact z8 p hp
          · subst hp; exact hk
        · intro p hp; exact z9 p (by simp [hp])) HY (by omega)
      rw [e1] at this
      exact this
    refine br_f (nI_ge (b := 16) (by omega) (by omega)) (br_f (by rw [z7]; exact nI_ge (by omega) (by omega)) ⟨vi, nm_r (e' := nI x) (by rw [icl (by omega)]; exact ox) ⟨vx, ?_⟩⟩)
    rw [ex, p1]
    by_cases s2 : st x = 2
    · refine br_t (by rw [s2]; rfl) ⟨vx, ?_⟩
      rw [b1]
      by_cases hz : H x = 0
      · have hdone := z9 x (by simp) s2 hz
        refine br_t (by rw [hz]; rfl) ⟨vx, vx, ?_⟩
        rw [p5, (M.2.2.2.2.2.2.2.2.1 x hxl).2, hdone _ (Nat.le_refl _)]
        refine br_t (Int32.le_refl _) ⟨vx, nm_r (e' := upd stO x 3) (by rw [ex]) ?_⟩
        have hdn : ds x < 16 := by omega
        obtain ⟨L1, L2, L3⟩ := Ib.1 (ds x) hdn
        obtain ⟨len, hnd, hm⟩ := ib_len Ib hdn
        refine xw_joinInbox (IB := IB) hx p3 hdn L2 (fun a ha => (hm a ha).1) (nm_r (nI_1 t) (nm_r (e' := nI (kp.length + (t + 1))) (by rw [nI_1]; congr 1) ?_))
        have hnr := z10
        -- Y's round
        have hcand : ∀ q, q < 16 → st q = 2 → H q = 0 → q ≠ x → ag x < ag q := by
          intro q hq q2 qz qx
          have hin := (z1 q).mpr ⟨hq, .inr q2⟩
          rw [List.mem_append, List.mem_cons] at hin
          rcases hin with h | h | h
          · exact absurd ⟨q2, qz⟩ (z8 q h)
          · exact absurd h qx
          · rw [List.pairwise_append] at z2
            have := z2.2.1
            rw [List.pairwise_cons] at this
            exact this.1 q h
        have G := gr_of (st := st) W
        have hR : ∀ i, i ≤ gm c sr ds x → gR c sr ds cl x i < 256 := fun i hi => (G.2.1 x i hxl hi).1
        have e17 : 17 - t = 17 - (t + 1) + 1 := by omega
        have e2 : tot 2 = nI (nr0 + t) := z10
        have hLf : ∀ q, Lv (fs st x 3) q ↔ q ≠ x ∧ Lv st q := by
          intro q
          by_cases e : q = x
          · subst e
            constructor
            · intro h
              have := h.2
              rw [fs_s] at this
              omega
            · intro h; exact absurd rfl h.1
          · rw [Lv_fs e]
            exact ⟨fun h => ⟨e, h⟩, fun h => h.2⟩
        have hndl : (kp ++ x :: l).Nodup := pw_nd z2
        have hxk : x ∉ kp ∧ x ∉ l := by
          rw [List.nodup_append] at hndl
          obtain ⟨n1, n2, n3⟩ := hndl
          rw [List.nodup_cons] at n2
          exact ⟨fun h => n3 x h x (by simp) rfl, n2.1⟩
        refine ih f (t + 1) (fs st x 3) (fs rk x (nr0 + t)) (fun m => if m = ds x then IB (ds x) ++ [x] else IB m) kp (upd stO x 3) ord _ _ _ (upd rnk x (tot 2)) (ysF c sr ds cl ln x ysn 8) (upd tot 2 (tot 2 + 1)) ?_ ?_ (by omega)
        · refine ⟨?_, zM_rel hx s2 hdone (ysF_v hR 8) M, fun q hq => Rx q ((hLf q).mp hq).2, fun q hq => Ry q ((hLf q).mp hq).2, ?_, ?_, ?_, fun q hq => z3 q ((hLf q).mp hq).2, z4, ?_, by omega, ?_, ?_, ?_, ?_, ?_⟩
          · intro q hq
            by_cases e : q = x
            · subst e
              rw [pk_us, fs_s]
              have := p10 (by omega)
              exact ⟨rfl, p2, p3, p4, p5, p6, by omega, p8, by omega, by omega, p11, p12, p13, by omega, by omega⟩
            · rw [pk_un e, fs_n e]; exact P q hq
          · rw [e2]
            have := zIb_rel Ib hx s2 hdn rfl
            rw [← Nat.add_assoc]
            exact this
          · intro q
            rw [hLf q, ← z1 q]
            simp only [List.mem_append, List.mem_cons]
            constructor
            · rintro (h | h)
              · exact ⟨by rintro rfl; exact hxk.1 h, .inl h⟩
              · exact ⟨by rintro rfl; exact hxk.2 h, .inr (.inr h)⟩
            · rintro ⟨h1, h | h | h⟩
              · exact .inl h
              · exact absurd h h1
              · exact .inr h
          · refine z2.sublist ?_
            exact List.Sublist.append_left (List.sublist_cons_self x l) kp
          · intro j hj
            have := z5 (j + 1) (by omega)
            have e3 : kp.length + t + (j + 1) = kp.length + (t + 1) + j := by omega
            rw [e3] at this
            rw [this]; simp
          · rw [z7]; congr 1; omega
          · intro q hq hq2
            have : q ≠ x := by rintro rfl; exact hxk.1 hq
            rw [fs_n this] at hq2
            exact z8 q hq hq2
          · intro q hq hq2 hqz
            have : q ≠ x := by rintro rfl; exact hxk.2 hq
            rw [fs_n this] at hq2
            exact z9 q (by simp [hq]) hq2 hqz
          · rw [pk_us, e2, nI_1, Nat.add_assoc]
          · intro j hj
            rw [pk_un hj]; exact z11 j hj
        · intro post' hy
          refine HY post' (fun mrk2 Hm => ?_)
          rw [e17]
          refine yw_s8_one W P Hm (fun q hq => ⟨(z3 q hq).1, by have := (z3 q hq).2; omega⟩) Ry hx s2 hz hcand (by omega) ?_
          exact hy mrk2 Hm
      · refine br_f (fun y => hz ((ieq (b := 0) (by omega) (by omega)).mp y)) (KEEP (fun z => hz z.2))
    · exact br_f (fun y => s2 ((ieq (b := 2) (by omega) (by omega)).mp y)) (KEEP (fun z => s2 z.1))
end
end
section
theorem i_vc_settle {k : Nat} {u : SX} {v : SY} (I : i_Rel k u v) (hk : k + 5 ≤ 2564) : wpX_settle (fun r u' => wpY_settle (fun r' v' => r' = r ∧ i_Rel (k + 5) u' v') v) u := by
  refine zz_el (P := fun u v => wpX_settle (fun r u' => wpY_settle (fun r' v' => r' = r ∧ i_Rel (k + 5) u' v') v) u) ?_ I
  intro fC fR fK fD fN fU fT fM fA oT pT rT tT cT fF cO rO lT iB stO srO taO clO leO tkO seO ejO pay rM ord sH sT sN iH iT iN ow crd cx cel bH bC ret sM res tur itu arr mF mT mL hB hM age rnk pth ysn tot blk mrk c r kk D no nr st sr ds cl ln tk ag rk K B w Q cr rt od IB X P M T Rx Ry S Od Ib To
  have h16 := (gs_le X.1).2
  have W := xGW X P
  obtain ⟨t1, t2, t3, t4, t5, t6, t7, t8, t9, t10, t11⟩ := To
  obtain ⟨o1, o2, o3, o4, o5⟩ := Od
  have len := (od_facts (st := st) (ag := ag) (od := od) (no := no) (fU := fU) (ord := ord) (age := age) ⟨o1, o2, o3, o4, o5⟩).1
  unfold wpX_settle
  refine xw_markHeld W P Rx ?_
  intro hB2 hM2 Hb
  refine ⟨1025, ?_⟩
  refine xw_s8 (F0 := gF K) X P ?_ 1025 0 0 K B w Q cr rt fT fM fA seO ejO sH sT sN ow crd cx cel bH bC ret res tur itu arr mF mT mL (by omega) (by omega) (by omega) (by omega) (by omega) M T (by omega) (by omega)
  intro K2 B2 w2 Q2 cr2 rt2 fT2 fM2 fA2 seO2 ejO2 sH2 sT2 sN2 ow2 crd2 cx2 cel2 bH2 bC2 ret2 res2 tur2 itu2 arr2 mF2 mT2 mL2 M2 T2 hdone
  unfold wX_settle_43
  refine ⟨17, ?_⟩
  refine xw_ru6 (YW := fun post' => wpY_settle post' (fC, fR, fK, fD, stO, srO, taO, clO, leO, tkO, age, rnk, pay, pth, ysn, tot, blk, mrk)) (tot0 := tot) (nr0 := nr) (kk := kk) (D := D) (no := no) (ln := ln) (tk := tk) (ag := ag) (H := hn st (shR c sr ds cl) (hz sM c st sr ds cl) 16) (K := K2) (B := B2) (w := w2) (Q := Q2) (cr := cr2) (rt := rt2)
    (fC := fC) (fR := fR) (fK := fK) (fD := fD) (fN := fN) (fU := fU) (fT := fT2) (fM := fM2) (fA := fA2) (oT := oT) (pT := pT) (rT := rT) (tT := tT) (cT := cT) (fF := fF) (cO := cO) (rO := rO) (lT := lT) (iB := iB) (srO := srO) (taO := taO) (clO := clO) (leO := leO) (tkO := tkO) (seO := seO2) (ejO := ejO2) (pay := pay) (rM := rM) (sH := sH2) (sT := sT2) (sN := sN2) (ow := ow2) (crd := crd2) (cx := cx2) (cel := cel2) (bH := bH2) (bC := bC2) (ret := ret2) (sM := sM) (res := res2) (tur := tur2) (itu := itu2) (arr := arr2) (mF := mF2) (mT := mT2) (mL := mL2) (hB := hB2) (hM := hM2) (age := age) (pth := pth) (blk := blk)
    W h16 t2 Hb ?_ od 17 0 st rk IB [] stO ord iH iT iN rnk ysn tot ?_ ?_ (by omega)
  · intro st2 rk2 IB2 kp t stO2 ord2 iH2 iT2 iN2 rnk2 ysn2 tot2 Z HY
    obtain ⟨P', M', Rx', Ry', Ib', z1, z2, z3, z4, z5, z6, z7, z8, z9, z10, z11⟩ := Z
    simp only [List.append_nil] at z1 z2
    simp only [List.length_nil, Nat.add_zero] at z6 z7
    show wpY_settle (fun r' v' => r' = nI t ∧ i_Rel (k + 5) _ v') (fC, fR, fK, fD, stO, srO, taO, clO, leO, tkO, age, rnk, pay, pth, ysn, tot, blk, mrk)
    refine HY _ (fun mrk2 Hm => yw_s8_end P' Hm (fun q hq => ⟨(z3 q hq).1, by have := (z3 q hq).2; omega⟩) ?_ ⟨rfl, ?_⟩ (17 - t) t (by omega) (by omega))
    · intro p hp hz
      exact z8 p ((z1 p).mpr ⟨hp, .inr hz.1⟩) hz
    · have elen : kp.length + t = od.length := by
        rw [o1] at z7
        exact ((nI_eq (by omega) (by omega)).mp z7).symm
      refine zz_in (nr := nr + t) (od := kp) X P' M' T2 Rx' Ry' S ⟨rfl, z4, z1, z2, z3⟩ Ib' ⟨t1, t2, by rw [t3, nI_add], by omega, ?_, ?_, ?_, ?_, ?_, ?_, t11⟩
      · rw [z11 0 (by omega)]; exact t5
      · rw [z11 1 (by omega)]; exact t6
      · rw [z10, t3, nI_add]
      · rw [z11 3 (by omega)]; exact t8
      · rw [z11 4 (by omega)]; exact t9
      · rw [z11 5 (by omega)]; exact t10
  · refine ⟨P, M2, Rx, Ry, Ib, by simpa using o3, by simpa using o4, o5, fun j hj => by simp at hj, ?_, by simpa using len, by simpa using o1, fun p hp => by simp at hp, fun p hp h2 hz => ?_, by rw [t7, t3]; rfl, fun _ _ => rfl⟩
    · intro j hj
      simp only [List.length_nil, Nat.zero_add]
      exact o2 j hj
    · exact hdone p ⟨((o3 p).mp hp).1, h2, hz⟩
  · intro post' hy
    show wpY_settle post' _
    unfold wpY_settle
    refine yw_findHeld W P Ry S ?_
    intro mrk2 Hm
    exact ⟨17, hy mrk2 Hm⟩
end
section
/-! the constructors -/
theorem ge_gi' : ∀ c, c < 3 → ∀ r, r < 3 → ∀ id, id < 128 → (!(gOk (c + 2) (r + 2) id) || decide (id % 8 = 4) || (decide (gIn (c + 2) (r + 2) (gLd (c + 2) id * 5 + (if id % 8 = 5 then 4 else id % 8)) = id) && decide (gLd (c + 2) id * 5 + (if id % 8 = 5 then 4 else id % 8) < 80))) = true := by decide +kernel
theorem ge_gi {c r id : Nat} (S : gSh c r) (hid : id < 128) (ho : gOk c r id = true) (h4 : id % 8 ≠ 4) : gIn c r (gLd c id * 5 + (if id % 8 = 5 then 4 else id % 8)) = id ∧ gLd c id * 5 + (if id % 8 = 5 then 4 else id % 8) < 80 := by
  obtain ⟨s1, s2, s3, s4⟩ := S
  obtain ⟨c', rfl⟩ : ∃ c', c = c' + 2 := ⟨c - 2, by omega⟩
  obtain ⟨r', rfl⟩ : ∃ r', r = r' + 2 := ⟨r - 2, by omega⟩
  have h := ge_gi' c' (by omega) r' (by omega) id hid
  rw [ho] at h
  simp only [Bool.not_true, Bool.false_or, Bool.or_eq_true, Bool.and_eq_true, decide_eq_true_eq] at h
  exact h.resolve_left h4
theorem ge_i2' : ∀ c, c < 3 → ∀ r, r < 3 → ∀ x, x < 80 → (decide (gIn (c + 2) (r + 2) x = 999) || decide ((if gIn (c + 2) (r + 2) x % 8 = 5 then 4 else gIn (c + 2) (r + 2) x % 8) = x % 5)) = true := by decide +kernel
theorem ge_i2 {c r x : Nat} (S : gSh c r) (hx : x < 80) (h9 : gIn c r x ≠ 999) : (if gIn c r x % 8 = 5 then 4 else gIn c r x % 8) = x % 5 := by
  obtain ⟨s1, s2, s3, s4⟩ := S
  obtain ⟨c', rfl⟩ : ∃ c', c = c' + 2 := ⟨c - 2, by omega⟩
  obtain ⟨r', rfl⟩ : ∃ r', r = r' + 2 := ⟨r - 2, by omega⟩
  have h := ge_i2' c' (by omega) r' (by omega) x hx
  simp only [Bool.or_eq_true, decide_eq_true_eq] at h
  exact h.resolve_left h9
/-- the ports of D are laid out -/
def zLi (c r : Nat) (Dn : Nat → Bool) (lT iB : Nat → Int32) : Prop :=
  (∀ id, id < 128 → lT id = if Dn id = true ∧ gOk c r id = true then nI (gLd c id) else -1) ∧ (∀ x, x < 80 → iB x = if gIn c r x ≠ 999 ∧ Dn (gIn c r x) = true then nI (gIn c r x) else -1)
section
variable {c r : Nat} {Dn D2 : Nat → Bool} {lT iB : Nat → Int32}
theorem zLi_cg (S : gSh c r) (H : zLi c r Dn lT iB) (h : ∀ id, id < 128 → gOk c r id = true → D2 id = Dn id) : zLi c r D2 lT iB := by
  obtain ⟨s1, s2, s3, s4⟩ := S
  constructor
  · intro id hid
    rw [H.1 id hid]
    by_cases o : gOk c r id = true
    · rw [h id hid o]
    · rw [if_neg (fun z => o z.2), if_neg (fun z => o z.2)]
  · intro x hx
    rw [H.2 x hx]
    by_cases o : gIn c r x = 999
    · rw [if_neg (fun z => z.1 o), if_neg (fun z => z.1 o)]
    · have := ge_in c (by omega) r (by omega) s1 s3 x hx o
      rw [h _ this.1 this.2.2.1]
theorem zLi_add (S : gSh c r) (H : zLi c r Dn lT iB) {id0 : Nat} (hid : id0 < 128) (ho : gOk c r id0 = true) (h4 : id0 % 8 ≠ 4) :
    zLi c r (fun id => Dn id || decide (id = id0)) (upd lT id0 (nI (gLd c id0))) (upd iB (gLd c id0 * 5 + (if id0 % 8 = 5 then 4 else id0 % 8)) (nI id0)) := by
  obtain ⟨g1, g2⟩ := ge_gi S hid ho h4
  constructor
  · intro id h
    by_cases e : id = id0
    · subst e
      rw [pk_us, if_pos ⟨by simp, ho⟩]
    · rw [pk_un e, H.1 id h]
      simp [e]
  · intro x hx
    by_cases e : x = gLd c id0 * 5 + (if id0 % 8 = 5 then 4 else id0 % 8)
    · rw [e, pk_us, g1, if_pos ⟨by omega, by simp⟩]
    · rw [pk_un e, H.2 x hx]
      by_cases o : gIn c r x = 999
      · rw [if_neg (fun z => z.1 o), if_neg (fun z => z.1 o)]
      · have ne : gIn c r x ≠ id0 := by
          intro ee
          have a1 := ge_i2 S hx o
          obtain ⟨s1, s2, s3, s4⟩ := S
          have a2 := ge_in c (by omega) r (by omega) s1 s3 x hx o
          rw [ee] at a1 a2
          rw [a1, a2.2.1] at e
          omega
        simp [ne]
theorem zLi_add4 (S : gSh c r) (H : zLi c r Dn lT iB) {id0 : Nat} (hid : id0 < 128) (ho : gOk c r id0 = true) (h4 : id0 % 8 = 4) :
    zLi c r (fun id => Dn id || decide (id = id0)) (upd lT id0 (nI (gLd c id0))) iB := by
  constructor
  · intro id h
    by_cases e : id = id0
    · subst e
      rw [pk_us, if_pos ⟨by simp, ho⟩]
    · rw [pk_un e, H.1 id h]
      simp [e]
  · intro x hx
    rw [H.2 x hx]
    by_cases o : gIn c r x = 999
    · rw [if_neg (fun z => z.1 o), if_neg (fun z => z.1 o)]
    · have ne : gIn c r x ≠ id0 := by
        intro ee
        obtain ⟨s1, s2, s3, s4⟩ := S
        have a2 := ge_in c (by omega) r (by omega) s1 s3 x hx o
        rw [ee] at a2
        exact a2.2.2.2 h4
      simp [ne]
theorem zLi_no (S : gSh c r) (H : zLi c r Dn lT iB) {id0 : Nat} (ho : ¬ gOk c r id0 = true) : zLi c r (fun id => Dn id || decide (id = id0)) lT iB := by
  refine zLi_cg S H ?_
  intro id hid o
  have : id ≠ id0 := by rintro rfl; exact ho o
  simp [this]
end
section
variable {fC fR fK fD fN fU fT fM fA oT pT rT tT cT fF : Int32} {cO rO lT iB stO srO taO clO leO tkO seO ejO pay ord sH sT sN iH iT iN ow crd cx cel bH bC ret res tur itu arr mF mT mL hB : Nat → Int32} {rM sM hM : Nat → Int64}
variable {c r : Nat} {Dn : Nat → Bool}
theorem xw_link {post : SX → Prop} {n p to : Nat} (hn : n * 8 + p < 128) (ht : to * 5 + p < 80) (h : post (fC, fR, fK, fD, fN, fU, fT, fM, fA, oT, pT, rT, tT, cT, fF, cO, rO, upd lT (n * 8 + p) (nI to), upd iB (to * 5 + p) (nI (n * 8 + p)), stO, srO, taO, clO, leO, tkO, seO, ejO, pay, rM, ord, sH, sT, sN, iH, iT, iN, ow, crd, cx, cel, bH, bC, ret, sM, res, tur, itu, arr, mF, mT, mL, hB, hM)) : wpX_link post (fC, fR, fK, fD, fN, fU, fT, fM, fA, oT, pT, rT, tT, cT, fF, cO, rO, lT, iB, stO, srO, taO, clO, leO, tkO, seO, ejO, pay, rM, ord, sH, sT, sN, iH, iT, iN, ow, crd, cx, cel, bH, bC, ret, sM, res, tur, itu, arr, mF, mT, mL, hB, hM) (nI n) (nI p) (nI to) := by
  refine ⟨by rw [ix8]; exact ivp hn (by omega), nm_r (e' := upd lT (n * 8 + p) (nI to)) (by rw [ix8, icl (by omega)]) ⟨by rw [ix5]; exact ivp ht (by omega), nm_r (e' := upd iB (to * 5 + p) (nI (n * 8 + p))) (by rw [ix5, ix8, icl (by omega)]) h⟩⟩
theorem xw_layOutNode {post : SX → Prop} {n : Nat} (S : gSh c r) (hC : fC = nI c) (hR : fR = nI r) (hn : n < c * r) (H : zLi c r Dn lT iB)
    (k : ∀ lT' iB' : Nat → Int32, zLi c r (fun id => Dn id || decide (id / 8 = n)) lT' iB' → post (fC, fR, fK, fD, fN, fU, fT, fM, fA, oT, pT, rT, tT, cT, fF, cO, rO, lT', iB', stO, srO, taO, clO, leO, tkO, seO, ejO, pay, rM, ord, sH, sT, sN, iH, iT, iN, ow, crd, cx, cel, bH, bC, ret, sM, res, tur, itu, arr, mF, mT, mL, hB, hM)) : wpX_layOutNode post (fC, fR, fK, fD, fN, fU, fT, fM, fA, oT, pT, rT, tT, cT, fF, cO, rO, lT, iB, stO, srO, taO, clO, leO, tkO, seO, ejO, pay, rM, ord, sH, sT, sN, iH, iT, iN, ow, crd, cx, cel, bH, bC, ret, sM, res, tur, itu, arr, mF, mT, mL, hB, hM) (nI n) (nI (n % c)) (nI (n / c)) := by
  have h16 := (gs_le S).2
  have S0 := S
  obtain ⟨s1, s2, s3, s4⟩ := S
  have hcol := gc_mod (c := c) (n := n) s1
  have hrow := gc_div s1 hn
  have heq := gc_eq c n
  have ok : ∀ p, p < 6 → (gOk c r (n * 8 + p) = true ↔ ¬ ((p = 0 ∧ n % c + 1 = c) ∨ (p = 1 ∧ n % c = 0) ∨ (p = 2 ∧ n / c = 0) ∨ (p = 3 ∧ n / c + 1 = r))) := fun p hp => gOk_at hn hp
  have ld : ∀ p, p < 8 → gLd c (n * 8 + p) = if p = 0 then n + 1 else if p = 1 then n - 1 else if p = 2 then n - c else if p = 3 then n + c else n := fun p hp => gLd_p hp
  have e8 : ∀ p, p < 8 → (n * 8 + p) % 8 = p := fun p hp => by omega
  -- EJECT, INJECT
  have A4 := zLi_add4 S0 H (id0 := n * 8 + 4) (by omega) ((ok 4 (by omega)).mpr (by omega)) (by omega)
  have A5 := zLi_add S0 A4 (id0 := n * 8 + 5) (by omega) ((ok 5 (by omega)).mpr (by omega)) (by omega)
  rw [ld 4 (by omega), if_neg (by decide), if_neg (by decide), if_neg (by decide), if_neg (by decide)] at A4 A5
  rw [ld 5 (by omega), if_neg (by decide), if_neg (by decide), if_neg (by decide), if_neg (by decide), e8 5 (by omega), if_pos rfl] at A5
  have LINK : ∀ p, p < 4 → gOk c r (n * 8 + p) = true → gLd c (n * 8 + p) * 5 + p < 80 ∧ (if (n * 8 + p) % 8 = 5 then 4 else (n * 8 + p) % 8) = p := by
    intro p hp ho
    have := (ge_gi S0 (show n * 8 + p < 128 by omega) ho (by omega)).2
    rw [e8 p (by omega), if_neg (by omega)] at this ⊢
    exact ⟨this, rfl⟩
  have K : ∀ (lT' iB' : Nat → Int32), zLi c r (fun id => (((((((Dn id || decide (id = n * 8 + 4)) || decide (id = n * 8 + 5)) || decide (id = n * 8 + 0)) || decide (id = n * 8 + 1)) || decide (id = n * 8 + 2)) || decide (id = n * 8 + 3)))) lT' iB' → post (fC, fR, fK, fD, fN, fU, fT, fM, fA, oT, pT, rT, tT, cT, fF, cO, rO, lT', iB', stO, srO, taO, clO, leO, tkO, seO, ejO, pay, rM, ord, sH, sT, sN, iH, iT, iN, ow, crd, cx, cel, bH, bC, ret, sM, res, tur, itu, arr, mF, mT, mL, hB, hM) := by
    intro lT' iB' H2
    refine k lT' iB' (zLi_cg S0 H2 ?_)
    intro id hid o
    have hp6 : id / 8 = n → id % 8 < 6 := by
      intro e
      have : id = n * 8 + id % 8 := by omega
      by_cases q : id % 8 < 6
      · exact q
      · exfalso
        unfold gOk at o
        rw [if_neg (by omega), if_neg (by omega), if_neg (by omega), if_neg (by omega)] at o
        simp at o
        omega
    by_cases e : id / 8 = n
    · have h6 := hp6 e
      rw [decide_eq_true e, Bool.or_true]
      have : id = n * 8 + 0 ∨ id = n * 8 + 1 ∨ id = n * 8 + 2 ∨ id = n * 8 + 3 ∨ id = n * 8 + 4 ∨ id = n * 8 + 5 := by omega
      rcases this with q | q | q | q | q | q <;> rw [decide_eq_true q] <;> simp
    · have : id ≠ n * 8 + 0 ∧ id ≠ n * 8 + 1 ∧ id ≠ n * 8 + 2 ∧ id ≠ n * 8 + 3 ∧ id ≠ n * 8 + 4 ∧ id ≠ n * 8 + 5 := by omega
      obtain ⟨q0, q1, q2, q3, q4, q5⟩ := this
      rw [decide_eq_false e, decide_eq_false q0, decide_eq_false q1, decide_eq_false q2, decide_eq_false q3, decide_eq_false q4, decide_eq_false q5]
      simp
  have J88 : ∀ (lT' iB' : Nat → Int32), zLi c r (fun id => ((((((Dn id || decide (id = n * 8 + 4)) || decide (id = n * 8 + 5)) || decide (id = n * 8 + 0)) || decide (id = n * 8 + 1)) || decide (id = n * 8 + 2)))) lT' iB' → wX_layOutNode_88 post (nI n) (nI (n / c)) fC fR fK fD fN fU fT fM fA oT pT rT tT cT fF cO rO lT' iB' stO srO taO clO leO tkO seO ejO pay rM ord sH sT sN iH iT iN ow crd cx cel bH bC ret sM res tur itu arr mF mT mL hB hM := by
    intro lT' iB' H2
    by_cases o : gOk c r (n * 8 + 3) = true
    · have c3 := (ok 3 (by omega)).mp o
      obtain ⟨l1, l2⟩ := LINK 3 (by omega) o
      have A := zLi_add S0 H2 (by omega) o (by omega)
      rw [l2] at A
      have el : gLd c (n * 8 + 3) = n + c := by rw [ld 3 (by omega), if_neg (by decide), if_neg (by decide), if_neg (by decide), if_pos rfl]
      rw [el] at A l1
      refine br_f (by rw [hR, nI_1]; exact nI_ge (by omega) (by omega)) ?_
      rw [hC, nI_add]
      exact xw_link (p := 3) (by omega) l1 (by rw [← hC]; exact K _ _ A)
    · have c3 : n / c + 1 = r := by
        by_cases q : n / c + 1 = r
        · exact q
        · exact absurd ((ok 3 (by omega)).mpr (by omega)) o
      exact br_t (by rw [hR, nI_1, c3]; exact Int32.le_refl _) (K _ _ (zLi_no S0 H2 o))
  have J72 : ∀ (lT' iB' : Nat → Int32), zLi c r (fun id => (((((Dn id || decide (id = n * 8 + 4)) || decide (id = n * 8 + 5)) || decide (id = n * 8 + 0)) || decide (id = n * 8 + 1)))) lT' iB' → wX_layOutNode_72 post (nI n) (nI (n / c)) fC fR fK fD fN fU fT fM fA oT pT rT tT cT fF cO rO lT' iB' stO srO taO clO leO tkO seO ejO pay rM ord sH sT sN iH iT iN ow crd cx cel bH bC ret sM res tur itu arr mF mT mL hB hM := by
    intro lT' iB' H2
    by_cases o : gOk c r (n * 8 + 2) = true
    · have c3 := (ok 2 (by omega)).mp o
      obtain ⟨l1, l2⟩ := LINK 2 (by omega) o
      have A := zLi_add S0 H2 (by omega) o (by omega)
      rw [l2] at A
      have el : gLd c (n * 8 + 2) = n - c := by rw [ld 2 (by omega), if_neg (by decide), if_neg (by decide), if_pos rfl]
      rw [el] at A l1
      have h1 : 0 < n / c := Nat.pos_of_ne_zero (fun z => c3 (.inr (.inr (.inl ⟨rfl, z⟩))))
      have hge : c ≤ n := by
        have := Nat.mul_le_mul_right c h1
        omega
      refine br_f (nI_nle h1 (by omega)) ?_
      rw [hC, pk_sub hge]
      exact xw_link (p := 2) (by omega) l1 (by rw [← hC]; exact J88 _ _ A)
    · have c3 : n / c = 0 := by
        by_cases q : n / c = 0
        · exact q
        · exact absurd ((ok 2 (by omega)).mpr (by omega)) o
      exact br_t (by rw [c3]; exact Int32.le_refl _) (J88 _ _ (zLi_no S0 H2 o))
  have J59 : ∀ (lT' iB' : Nat → Int32), zLi c r (fun id => ((((Dn id || decide (id = n * 8 + 4)) || decide (id = n * 8 + 5)) || decide (id = n * 8 + 0)))) lT' iB' → wX_layOutNode_59 post (nI n) (nI (n % c)) (nI (n / c)) fC fR fK fD fN fU fT fM fA oT pT rT tT cT fF cO rO lT' iB' stO srO taO clO leO tkO seO ejO pay rM ord sH sT sN iH iT iN ow crd cx cel bH bC ret sM res tur itu arr mF mT mL hB hM := by
    intro lT' iB' H2
    by_cases o : gOk c r (n * 8 + 1) = true
    · have c3 := (ok 1 (by omega)).mp o
      obtain ⟨l1, l2⟩ := LINK 1 (by omega) o
      have A := zLi_add S0 H2 (by omega) o (by omega)
      rw [l2] at A
      have el : gLd c (n * 8 + 1) = n - 1 := by rw [ld 1 (by omega), if_neg (by decide), if_pos rfl]
      rw [el] at A l1
      have hge : 1 ≤ n := by
        have : n % c ≤ n := Nat.mod_le n c
        omega
      refine br_f (nI_nle (by omega) (by omega)) ?_
      have e1 : nI n - 1 = nI (n - 1) := pk_sub (b := 1) hge
      rw [e1]
      exact xw_link (p := 1) (by omega) l1 (J72 _ _ A)
    · have c3 : n % c = 0 := by
        by_cases q : n % c = 0
        · exact q
        · exact absurd ((ok 1 (by omega)).mpr (by omega)) o
      exact br_t (by rw [c3]; exact Int32.le_refl _) (J72 _ _ (zLi_no S0 H2 o))
  have e84 : nI n * 8 + 4 = nI (n * 8 + 4) := ix8 n 4
  have e85 : nI n * 8 + 5 = nI (n * 8 + 5) := ix8 n 5
  have e54 : nI n * 5 + 4 = nI (n * 5 + 4) := ix5 n 4
  refine ⟨by rw [e84]; exact ivp (by omega) (by omega), nm_r (e' := upd lT (n * 8 + 4) (nI n)) (by rw [e84, icl (by omega)]) ⟨by rw [e85]; exact ivp (by omega) (by omega), nm_r (e' := upd (upd lT (n * 8 + 4) (nI n)) (n * 8 + 5) (nI n)) (by rw [e85, icl (by omega)]) ⟨by rw [e54]; exact ivp (by omega) (by omega), nm_r (e' := upd iB (n * 5 + 4) (nI (n * 8 + 5))) (by rw [e54, e85, icl (by omega)]) ?_⟩⟩⟩
  by_cases o : gOk c r (n * 8 + 0) = true
  · have c3 := (ok 0 (by omega)).mp o
    obtain ⟨l1, l2⟩ := LINK 0 (by omega) o
    have A := zLi_add S0 A5 (by omega) o (by omega)
    rw [l2] at A
    have el : gLd c (n * 8 + 0) = n + 1 := by rw [ld 0 (by omega), if_pos rfl]
    rw [el] at A l1
    refine br_f (by rw [hC, nI_1]; exact nI_ge (by omega) (by omega)) ?_
    rw [nI_1]
    exact xw_link (p := 0) (by omega) l1 (J59 _ _ A)
  · have c3 : n % c + 1 = c := by
      by_cases q : n % c + 1 = c
      · exact q
      · exact absurd ((ok 0 (by omega)).mpr (by omega)) o
    exact br_t (by rw [hC, nI_1, c3]; exact Int32.le_refl _) (J59 _ _ (zLi_no S0 A5 o))
end
end
section
section
variable {fC fR fK fD fN fU fT fM fA oT pT rT tT cT fF : Int32} {cO rO lT iB stO srO taO clO leO tkO seO ejO pay ord sH sT sN iH iT iN ow crd cx cel bH bC ret res tur itu arr mF mT mL hB : Nat → Int32} {rM sM hM : Nat → Int64}
variable {c r D : Nat}
/-- nodes below n are laid out -/
def zLn (c r n : Nat) (cO rO lT iB : Nat → Int32) : Prop := zLi c r (fun id => decide (id / 8 < n)) lT iB ∧ ∀ i, i < n → cO i = nI (i % c) ∧ rO i = nI (i / c)
theorem xw_layOutNode' {post : SX → Prop} {Dn : Nat → Bool} {n cc rr : Nat} (S : gSh c r) (hC : fC = nI c) (hR : fR = nI r) (hn : n < c * r) (h1 : n % c = cc) (h2 : n / c = rr) (H : zLi c r Dn lT iB)
    (k : ∀ lT' iB' : Nat → Int32, zLi c r (fun id => Dn id || decide (id / 8 = n)) lT' iB' → post (fC, fR, fK, fD, fN, fU, fT, fM, fA, oT, pT, rT, tT, cT, fF, cO, rO, lT', iB', stO, srO, taO, clO, leO, tkO, seO, ejO, pay, rM, ord, sH, sT, sN, iH, iT, iN, ow, crd, cx, cel, bH, bC, ret, sM, res, tur, itu, arr, mF, mT, mL, hB, hM)) : wpX_layOutNode post (fC, fR, fK, fD, fN, fU, fT, fM, fA, oT, pT, rT, tT, cT, fF, cO, rO, lT, iB, stO, srO, taO, clO, leO, tkO, seO, ejO, pay, rM, ord, sH, sT, sN, iH, iT, iN, ow, crd, cx, cel, bH, bC, ret, sM, res, tur, itu, arr, mF, mT, mL, hB, hM) (nI n) (nI cc) (nI rr) := by
  subst h1 h2
  exact xw_layOutNode S hC hR hn H k
theorem xw_lp57 {post : SX → Prop} {J : Int32 → Int32 → Int32 → Int32 → Int32 → Int32 → Int32 → Int32 → Int32 → Int32 → Int32 → Int32 → Int32 → Int32 → Int32 → Int32 → Int32 → (Nat → Int32) → (Nat → Int32) → (Nat → Int32) → (Nat → Int32) → (Nat → Int32) → (Nat → Int32) → (Nat → Int32) → (Nat → Int32) → (Nat → Int32) → (Nat → Int32) → (Nat → Int32) → (Nat → Int32) → (Nat → Int32) → (Nat → Int64) → (Nat → Int32) → (Nat → Int32) → (Nat → Int32) → (Nat → Int32) → (Nat → Int32) → (Nat → Int32) → (Nat → Int32) → (Nat → Int32) → (Nat → Int32) → (Nat → Int32) → (Nat → Int32) → (Nat → Int32) → (Nat → Int32) → (Nat → Int32) → (Nat → Int64) → (Nat → Int32) → (Nat → Int32) → (Nat → Int32) → (Nat → Int32) → (Nat → Int32) → (Nat → Int32) → (Nat → Int32) → (Nat → Int32) → (Nat → Int64) → Prop} {rw' : Nat} (S : gSh c r) (hC : fC = nI c) (hR : fR = nI r) (hr : rw' < r)
    (hJ : ∀ cO' rO' lT' iB' : Nat → Int32, zLn c r ((rw' + 1) * c) cO' rO' lT' iB' → J (nI ((rw' + 1) * c)) (nI (rw' + 1)) fC fR fK fD fN fU fT fM fA oT pT rT tT cT fF cO' rO' lT' iB' stO srO taO clO leO tkO seO ejO pay rM ord sH sT sN iH iT iN ow crd cx cel bH bC ret sM res tur itu arr mF mT mL hB hM) :
    ∀ (fu j : Nat) (cO' rO' lT' iB' : Nat → Int32), j ≤ c → c - j < fu → zLn c r (rw' * c + j) cO' rO' lT' iB' → wX_layOutPorts_57 post J (nI rw') fu (nI (rw' * c + j)) (nI j) fC fR fK fD fN fU fT fM fA oT pT rT tT cT fF cO' rO' lT' iB' stO srO taO clO leO tkO seO ejO pay rM ord sH sT sN iH iT iN ow crd cx cel bH bC ret sM res tur itu arr mF mT mL hB hM := by
  have h16 := (gs_le S).2
  have S0 := S
  obtain ⟨s1, s2, s3, s4⟩ := S
  have hle : (rw' + 1) * c ≤ c * r := by rw [Nat.mul_comm]; exact Nat.mul_le_mul_left c (by omega)
  rw [Nat.succ_mul] at hle
  intro fu
  induction fu with
  | zero => intro j cO' rO' lT' iB' h1 h2; omega
  | succ fu ih =>
    intro j cO' rO' lT' iB' h1 h2 H
    by_cases e : j = c
    · subst e
      have e1 : rw' * j + j = (rw' + 1) * j := by rw [Nat.succ_mul]
      rw [e1] at H ⊢
      exact br_t (by rw [hC]; exact Int32.le_refl _) (nm_r (nI_1 rw') (hJ _ _ _ _ H))
    · have hj : j < c := by omega
      obtain ⟨q1, q2⟩ := gc_of (c := c) (a := rw') hj
      have hn : rw' * c + j < c * r := by omega
      have vn := ivp (n := rw' * c + j) (N := 16) (by omega) (by omega)
      have en : (nI (rw' * c + j)).toNatClampNeg = rw' * c + j := icl (by omega)
      refine br_f (by rw [hC]; exact nI_ge hj (by omega)) ⟨vn, nm_r (e' := upd cO' (rw' * c + j) (nI j)) (by rw [en]) ⟨vn, nm_r (e' := upd rO' (rw' * c + j) (nI rw')) (by rw [en]) ?_⟩⟩
      refine xw_layOutNode' S0 hC hR hn q2 q1 H.1 ?_
      intro lT2 iB2 H2
      refine nm_r (e' := nI (rw' * c + (j + 1))) (by rw [nI_1]; rfl) (nm_r (nI_1 j) (ih (j + 1) _ _ _ _ (by omega) (by omega) ⟨zLi_cg S0 H2 ?_, ?_⟩))
      · intro id _ _
        by_cases a1 : id / 8 < rw' * c + j
        · rw [decide_eq_true a1, decide_eq_true (show id / 8 < rw' * c + (j + 1) by omega)]; rfl
        · by_cases a2 : id / 8 = rw' * c + j
          · rw [decide_eq_true a2, decide_eq_true (show id / 8 < rw' * c + (j + 1) by omega)]; simp
          · rw [decide_eq_false a1, decide_eq_false a2, decide_eq_false (show ¬ id / 8 < rw' * c + (j + 1) by omega)]; rfl
      · intro i hi
        by_cases ei : i = rw' * c + j
        · subst ei
          rw [pk_us, pk_us, q1, q2]; exact ⟨rfl, rfl⟩
        · rw [pk_un ei, pk_un ei]; exact H.2 i (by omega)
theorem xw_lp47 {post : SX → Prop} (S : gSh c r) (hC : fC = nI c) (hR : fR = nI r)
    (k : ∀ cO' rO' lT' iB' : Nat → Int32, zLn c r (c * r) cO' rO' lT' iB' → post (fC, fR, fK, fD, fN, fU, fT, fM, fA, oT, pT, rT, tT, cT, fF, cO', rO', lT', iB', stO, srO, taO, clO, leO, tkO, seO, ejO, pay, rM, ord, sH, sT, sN, iH, iT, iN, ow, crd, cx, cel, bH, bC, ret, sM, res, tur, itu, arr, mF, mT, mL, hB, hM)) :
    ∀ (fu j : Nat) (cO' rO' lT' iB' : Nat → Int32), j ≤ r → r - j < fu → zLn c r (j * c) cO' rO' lT' iB' → wX_layOutPorts_47 post fu (nI (j * c)) (nI j) fC fR fK fD fN fU fT fM fA oT pT rT tT cT fF cO' rO' lT' iB' stO srO taO clO leO tkO seO ejO pay rM ord sH sT sN iH iT iN ow crd cx cel bH bC ret sM res tur itu arr mF mT mL hB hM := by
  have S0 := S
  obtain ⟨s1, s2, s3, s4⟩ := S
  intro fu
  induction fu with
  | zero => intro j cO' rO' lT' iB' h1 h2; omega
  | succ fu ih =>
    intro j cO' rO' lT' iB' h1 h2 H
    by_cases e : j = r
    · subst e
      rw [Nat.mul_comm] at H
      exact br_t (by rw [hR]; exact Int32.le_refl _) (k _ _ _ _ H)
    · refine br_f (by rw [hR]; exact nI_ge (by omega) (by omega)) ⟨5, ?_⟩
      refine xw_lp57 (rw' := j) S0 hC hR (by omega) ?_ 5 0 cO' rO' lT' iB' (by omega) (by omega) H
      intro cO2 rO2 lT2 iB2 H2
      exact ih (j + 1) cO2 rO2 lT2 iB2 (by omega) (by omega) H2
theorem xw_layOutPorts {post : SX → Prop} (S : gSh c r) (hC : fC = nI c) (hR : fR = nI r)
    (k : ∀ cO' rO' lT' iB' : Nat → Int32, zLn c r (c * r) cO' rO' lT' iB' → post (fC, fR, fK, fD, fN, fU, fT, fM, fA, oT, pT, rT, tT, cT, fF, cO', rO', lT', iB', stO, srO, taO, clO, leO, tkO, seO, ejO, pay, rM, ord, sH, sT, sN, iH, iT, iN, ow, crd, cx, cel, bH, bC, ret, sM, res, tur, itu, arr, mF, mT, mL, hB, hM)) : wpX_layOutPorts post (fC, fR, fK, fD, fN, fU, fT, fM, fA, oT, pT, rT, tT, cT, fF, cO, rO, lT, iB, stO, srO, taO, clO, leO, tkO, seO, ejO, pay, rM, ord, sH, sT, sN, iH, iT, iN, ow, crd, cx, cel, bH, bC, ret, sM, res, tur, itu, arr, mF, mT, mL, hB, hM) := by
  have l24 : ∀ (fu i : Nat) (lT' iB' : Nat → Int32), (∀ j, j < 128 → lT' j = -1) → i ≤ 80 → 80 - i < fu → (∀ j, j < i → iB' j = -1) → wX_layOutPorts_24 post fC fR fK fD fN fU fT fM fA oT pT rT tT cT fF fu (nI i) cO rO lT' iB' stO srO taO clO leO tkO seO ejO pay rM ord sH sT sN iH iT iN ow crd cx cel bH bC ret sM res tur itu arr mF mT mL hB hM := by
    intro fu
    induction fu with
    | zero => intro i lT' iB' _ h1 h2; omega
    | succ fu ih =>
      intro i lT' iB' hl h1 h2 H
      by_cases e : i = 80
      · subst e
        refine br_t (by decide) ⟨5, ?_⟩
        have := xw_lp47 S hC hR k 5 0 cO rO lT' iB' (by omega) (by have := S.2.2.2; omega) ⟨⟨fun id hid => ?_, fun x hx => ?_⟩, fun i hi => by omega⟩
        · rw [Nat.zero_mul] at this
          exact this
        · rw [hl id hid, if_neg]
          intro z
          have := z.1
          simp at this
        · rw [H x hx, if_neg]
          intro z
          have := z.2
          simp at this
      · refine br_f (nI_ge (b := 80) (by omega) (by omega)) ⟨ivp (by omega) (by omega), nm_r (e' := upd iB' i (-1)) (by rw [icl (by omega)]) (nm_r (nI_1 i) (ih (i + 1) lT' _ hl (by omega) (by omega) ?_))⟩
        intro j hj
        by_cases ej : j = i
        · subst ej; exact pk_us
        · rw [pk_un ej]; exact H j (by omega)
  have l2 : ∀ (fu i : Nat) (lT' : Nat → Int32), i ≤ 128 → 128 - i < fu → (∀ j, j < i → lT' j = -1) → wX_layOutPorts_2 post fC fR fK fD fN fU fT fM fA oT pT rT tT cT fF fu (nI i) cO rO lT' iB stO srO taO clO leO tkO seO ejO pay rM ord sH sT sN iH iT iN ow crd cx cel bH bC ret sM res tur itu arr mF mT mL hB hM := by
    intro fu
    induction fu with
    | zero => intro i lT' h1 h2; omega
    | succ fu ih =>
      intro i lT' h1 h2 H
      by_cases e : i = 128
      · subst e
        exact br_t (by decide) ⟨81, l24 81 0 lT' iB H (by omega) (by omega) (fun j hj => by omega)⟩
      · refine br_f (nI_ge (b := 128) (by omega) (by omega)) ⟨ivp (by omega) (by omega), nm_r (e' := upd lT' i (-1)) (by rw [icl (by omega)]) (nm_r (nI_1 i) (ih (i + 1) _ (by omega) (by omega) ?_))⟩
        intro j hj
        by_cases ej : j = i
        · subst ej; exact pk_us
        · rw [pk_un ej]; exact H j (by omega)
  exact ⟨129, l2 129 0 lT (by omega) (by omega) (fun j hj => by omega)⟩
theorem xw_clearMesh {post : SX → Prop}
    (k : ∀ ow' crd' sH' sT' arr' sN' iH' iT' iN' : Nat → Int32, (∀ j, j < 256 → ow' j = -1 ∧ crd' j = fD) → (∀ j, j < 32 → sH' j = -1 ∧ sT' j = -1 ∧ arr' j = -1) → (∀ j, j < 16 → iH' j = -1 ∧ iT' j = -1) → post (fC, fR, fK, fD, fN, fU, fT, fM, fA, oT, pT, rT, tT, cT, fF, cO, rO, lT, iB, stO, srO, taO, clO, leO, tkO, seO, ejO, pay, rM, ord, sH', sT', sN', iH', iT', iN', ow', crd', cx, cel, bH, bC, ret, sM, res, tur, itu, arr', mF, mT, mL, hB, hM)) : wpX_clearMesh post (fC, fR, fK, fD, fN, fU, fT, fM, fA, oT, pT, rT, tT, cT, fF, cO, rO, lT, iB, stO, srO, taO, clO, leO, tkO, seO, ejO, pay, rM, ord, sH, sT, sN, iH, iT, iN, ow, crd, cx, cel, bH, bC, ret, sM, res, tur, itu, arr, mF, mT, mL, hB, hM) := by
  have l69 : ∀ (fu i : Nat) (ow' crd' sH' sT' arr' sN' iH' iT' iN' : Nat → Int32), (∀ j, j < 256 → ow' j = -1 ∧ crd' j = fD) → (∀ j, j < 32 → sH' j = -1 ∧ sT' j = -1 ∧ arr' j = -1) → i ≤ 16 → 16 - i < fu → (∀ j, j < i → iH' j = -1 ∧ iT' j = -1) →
      wX_clearMesh_69 post fC fR fK fD fN fU fT fM fA oT pT rT tT cT fF fu (nI i) cO rO lT iB stO srO taO clO leO tkO seO ejO pay rM ord sH' sT' sN' iH' iT' iN' ow' crd' cx cel bH bC ret sM res tur itu arr' mF mT mL hB hM := by
    intro fu
    induction fu with
    | zero => intro i ow' crd' sH' sT' arr' sN' iH' iT' iN' _ _ h1 h2; omega
    | succ fu ih =>
      intro i ow' crd' sH' sT' arr' sN' iH' iT' iN' a1 a2 h1 h2 H
      by_cases e : i = 16
      · subst e
        exact br_t (by decide) (k _ _ _ _ _ _ _ _ _ a1 a2 H)
      · have vi := ivp (n := i) (N := 16) (by omega) (by omega)
        have ei : (nI i).toNatClampNeg = i := icl (by omega)
        refine br_f (nI_ge (b := 16) (by omega) (by omega)) ⟨vi, nm_r (e' := upd sN' i (-1)) (by rw [ei]) ⟨vi, nm_r (e' := upd iH' i (-1)) (by rw [ei]) ⟨vi, nm_r (e' := upd iT' i (-1)) (by rw [ei]) ⟨vi, nm_r (e' := upd iN' i (-1)) (by rw [ei]) (nm_r (nI_1 i) (ih (i + 1) ow' crd' sH' sT' arr' _ _ _ _ a1 a2 (by omega) (by omega) ?_))⟩⟩⟩⟩
        intro j hj
        by_cases ej : j = i
        · subst ej; exact ⟨pk_us, pk_us⟩
        · rw [pk_un ej, pk_un ej]; exact H j (by omega)
  have l34 : ∀ (fu i : Nat) (ow' crd' sH' sT' arr' : Nat → Int32), (∀ j, j < 256 → ow' j = -1 ∧ crd' j = fD) → i ≤ 32 → 32 - i < fu → (∀ j, j < i → sH' j = -1 ∧ sT' j = -1 ∧ arr' j = -1) →
      wX_clearMesh_34 post fC fR fK fD fN fU fT fM fA oT pT rT tT cT fF fu (nI i) cO rO lT iB stO srO taO clO leO tkO seO ejO pay rM ord sH' sT' sN iH iT iN ow' crd' cx cel bH bC ret sM res tur itu arr' mF mT mL hB hM := by
    intro fu
    induction fu with
    | zero => intro i ow' crd' sH' sT' arr' _ h1 h2; omega
    | succ fu ih =>
      intro i ow' crd' sH' sT' arr' a1 h1 h2 H
      by_cases e : i = 32
      · subst e
        exact br_t (by decide) ⟨17, l69 17 0 ow' crd' sH' sT' arr' sN iH iT iN a1 H (by omega) (by omega) (fun j hj => by omega)⟩
      · have vi := ivp (n := i) (N := 32) (by omega) (by omega)
        have ei : (nI i).toNatClampNeg = i := icl (by omega)
        refine br_f (nI_ge (b := 32) (by omega) (by omega)) ⟨vi, nm_r (e' := upd sH' i (-1)) (by rw [ei]) ⟨vi, nm_r (e' := upd sT' i (-1)) (by rw [ei]) ⟨vi, nm_r (e' := upd arr' i (-1)) (by rw [ei]) (nm_r (nI_1 i) (ih (i + 1) ow' crd' _ _ _ a1 (by omega) (by omega) ?_))⟩⟩⟩
        intro j hj
        by_cases ej : j = i
        · subst ej; exact ⟨pk_us, pk_us, pk_us⟩
        · rw [pk_un ej, pk_un ej, pk_un ej]; exact H j (by omega)
  have l2 : ∀ (fu i : Nat) (ow' crd' : Nat → Int32), i ≤ 256 → 256 - i < fu → (∀ j, j < i → ow' j = -1 ∧ crd' j = fD) → wX_clearMesh_2 post fC fR fK fD fN fU fT fM fA oT pT rT tT cT fF fu (nI i) cO rO lT iB stO srO taO clO leO tkO seO ejO pay rM ord sH sT sN iH iT iN ow' crd' cx cel bH bC ret sM res tur itu arr mF mT mL hB hM := by
    intro fu
    induction fu with
    | zero => intro i ow' crd' h1 h2; omega
    | succ fu ih =>
      intro i ow' crd' h1 h2 H
      by_cases e : i = 256
      · subst e
        exact br_t (by decide) ⟨33, l34 33 0 ow' crd' sH sT arr H (by omega) (by omega) (fun j hj => by omega)⟩
      · have vi := ivp (n := i) (N := 256) (by omega) (by omega)
        have ei : (nI i).toNatClampNeg = i := icl (by omega)
        refine br_f (nI_ge (b := 256) (by omega) (by omega)) ⟨vi, nm_r (e' := upd ow' i (-1)) (by rw [ei]) ⟨vi, nm_r (e' := upd crd' i fD) (by rw [ei]) (nm_r (nI_1 i) (ih (i + 1) _ _ (by omega) (by omega) ?_))⟩⟩
        intro j hj
        by_cases ej : j = i
        · subst ej; exact ⟨pk_us, pk_us⟩
        · rw [pk_un ej, pk_un ej]; exact H j (by omega)
  exact ⟨257, l2 257 0 ow crd (by omega) (by omega) (fun j hj => by omega)⟩
end
end
section
theorem cl_both (v : Int32) (lo hi : Nat) (hl : lo ≤ hi) (hh : hi < 4096) : ∃ a, lo ≤ a ∧ a ≤ hi ∧ (∀ {post : Int32 → Prop} {fC fR fK fD fN fU fT fM fA oT pT rT tT cT fF : Int32} {cO rO lT iB stO srO taO clO leO tkO seO ejO pay ord sH sT sN iH iT iN ow crd cx cel bH bC ret res tur itu arr mF mT mL hB : Nat → Int32} {rM sM hM : Nat → Int64}, post (nI a) → wpX_clamp post (fC, fR, fK, fD, fN, fU, fT, fM, fA, oT, pT, rT, tT, cT, fF, cO, rO, lT, iB, stO, srO, taO, clO, leO, tkO, seO, ejO, pay, rM, ord, sH, sT, sN, iH, iT, iN, ow, crd, cx, cel, bH, bC, ret, sM, res, tur, itu, arr, mF, mT, mL, hB, hM) v (nI lo) (nI hi)) ∧ (∀ {post : Int32 → Prop} {fC fR fK fD : Int32} {stO srO taO clO leO tkO age rnk pay pth ysn tot blk mrk : Nat → Int32}, post (nI a) → wpY_clamp post (fC, fR, fK, fD, stO, srO, taO, clO, leO, tkO, age, rnk, pay, pth, ysn, tot, blk, mrk) v (nI lo) (nI hi)) := by
  by_cases h1 : nI lo ≤ v
  · by_cases h2 : v ≤ nI hi
    · obtain ⟨j, hj, rfl⟩ := nI_of2 (M := nI hi) (n := hi) (nI_toInt (by omega)) (by
        intro z
        have := Int32.le_trans h1 (Int32.le_of_lt z)
        rw [Int32.le_iff_toInt_le, nI_toInt (by omega)] at h1
        rw [Int32.lt_iff_toInt_lt] at z
        have e0 : (0 : Int32).toInt = 0 := by decide
        omega) h2
      have : lo ≤ j := (nI_leI (by omega) (by omega)).mp h1
      exact ⟨j, this, hj, fun h => br_t h1 (br_t h2 h), fun h => br_t h1 (br_t h2 h)⟩
    · exact ⟨hi, hl, Nat.le_refl _, fun h => br_t h1 (br_f h2 h), fun h => br_t h1 (br_f h2 h)⟩
  · exact ⟨lo, Nat.le_refl _, hl, fun h => br_f h1 h, fun h => br_f h1 h⟩
section
variable {c r D : Nat}
theorem Lv_0 (p : Nat) : ¬ Lv (fun _ => 0) p := by
  intro h
  have h2 : (0 : Nat) = 1 ∨ (0 : Nat) = 2 := h.2
  omega
theorem zM_0 (hD3 : D ≤ 3) {ow crd sH sT arr sN : Nat → Int32} (h1 : ∀ j, j < 256 → ow j = -1 ∧ crd j = nI D) (h2 : ∀ j, j < 32 → sH j = -1 ∧ sT j = -1 ∧ arr j = -1) :
    zM c D (fun _ => 0) (fun _ => 0) (fun _ => 0) (fun _ => 0) (fun _ => 0) (fun _ => 0) (fun _ _ => 0) (fun _ => []) (fun _ => 16) (fun _ => []) (fun _ => D) [] 0 (fun _ => 0) (fun _ => 0) sH sT sN ow crd (fun _ => 0) (fun _ => 0) (fun _ => 0) (fun _ => 0) (fun _ => 0) (fun _ => 0) arr := by
  refine ⟨⟨fun p hp => absurd hp (Lv_0 p), ?_, fun _ => List.Pairwise.nil, ?_, ?_, ?_, ?_, ?_⟩, ?_, ?_, ?_, ?_, ⟨rfl, by simp, fun j hj => by simp at hj⟩, fun ch hc => (h1 ch hc).1, fun ch hc => (h1 ch hc).2, fun p hp => absurd hp (Lv_0 p), fun l hl => (h2 l hl).2.2, fun _ _ _ _ => Nat.zero_le _⟩
  · intro ch f
    constructor
    · intro h; simp at h
    · intro h; exact absurd h.1 (Lv_0 _)
  · intro ch k f h; simp at h
  · intro ch p _ _ h; exact absurd rfl h
  · intro ch
    refine ⟨Nat.le_refl _, fun p hp => ?_⟩
    constructor
    · intro h
      have h : (16 : Nat) = p := h
      omega
    · intro h; exact absurd h.1 (Lv_0 _)
  · intro ch _ _
    show D + 0 + _ = D
    simp
  · intro l
    refine ⟨by simp, fun p => ?_, fun p hp => by simp at hp⟩
    constructor
    · intro h; simp at h
    · intro h; exact absurd h.1 (Lv_0 _)
  · intro ch _
    exact ⟨by simp, rfl, 0, by omega, rfl, fun j hj => by simp at hj⟩
  · intro n _
    rw [sm_z 256]
    · rfl
    · intro i _
      simp
  · intro ch _
    have : gX (gm c (fun _ => 0) (fun _ => 0)) (gR c (fun _ => 0) (fun _ => 0) (fun _ => 0)) (fun _ => 0) (fun _ _ => 0) ch = 0 := by
      refine sm_z 16 ?_
      intro i _
      simp
    rw [this]
    rfl
  · intro l hl
    exact ⟨(h2 l hl).1, (h2 l hl).2.1, trivial⟩
end
theorem i_vc0 (k0 : Int32) (k1 : Int32) (k2 : Int32) (k3 : Int32) : wpX_init (fun u => wpY_init (fun v => i_Rel 4 u v) k0 k1 k2 k3) k0 k1 k2 k3 := by
  obtain ⟨c, c1, c2, cX, cY⟩ := cl_both k0 2 4 (by omega) (by omega)
  obtain ⟨r, r1, r2, rX, rY⟩ := cl_both k1 2 4 (by omega) (by omega)
  obtain ⟨kk, q1, q2, qX, qY⟩ := cl_both k2 1 2 (by omega) (by omega)
  obtain ⟨D, d1, d2, dX, dY⟩ := cl_both k3 1 3 (by omega) (by omega)
  have S : gSh c r := ⟨c1, c2, r1, r2⟩
  have h16 := gs_le S
  unfold wpX_init
  refine cX (rX (qX (dX (nm_r (e' := nI (c * r)) (pk_mul c r) ?_))))
  refine xw_layOutPorts S rfl rfl ?_
  intro cO rO lT iB H
  refine xw_clearMesh ?_
  intro ow crd sH sT arr sN iH iT iN a1 a2 a3
  show wpY_init _ k0 k1 k2 k3
  unfold wpY_init
  refine cY (rY (qY (dY ?_)))
  refine zz_in (c := c) (r := r) (kk := kk) (D := D) (no := 0) (nr := 0) (st := fun _ => 0) (sr := fun _ => 0) (ds := fun _ => 0) (cl := fun _ => 0) (ln := fun _ => 0) (tk := fun _ => 0) (ag := fun _ => 0) (rk := fun _ => 0) (K := fun _ _ => 0) (B := fun _ => []) (w := fun _ => 16) (Q := fun _ => []) (cr := fun _ => D) (rt := []) (od := []) (IB := fun _ => [])
    ⟨S, q1, q2, d1, d2, rfl, rfl, rfl, rfl, rfl, H.2, ?_, ?_⟩ ?_ (zM_0 d2 a1 a2) ⟨fun n _ => ⟨0, by omega, rfl⟩, fun n _ => ⟨0, by omega, rfl⟩⟩ (fun p hp => absurd hp (Lv_0 p)) (fun p hp => absurd hp (Lv_0 p)) ?_
    ⟨rfl, fun j hj => by simp at hj, fun p => ⟨fun h => by simp at h, fun h => absurd h (Lv_0 p)⟩, List.Pairwise.nil, fun p hp => absurd hp (Lv_0 p)⟩ ⟨?_, ?_, fun _ _ => List.Pairwise.nil, fun p _ h => ?_⟩ ⟨rfl, by omega, rfl, by simp, rfl, rfl, rfl, rfl, rfl, rfl, rfl⟩
  · intro id hid
    rw [H.1.1 id hid]
    by_cases o : gOk c r id = true
    · have : id / 8 < c * r := by
        unfold gOk at o
        rw [Bool.and_eq_true] at o
        simpa using o.1
      rw [if_pos ⟨by simpa using this, o⟩, if_pos o]
    · rw [if_neg (fun z => o z.2), if_neg o]
  · intro x hx
    rw [H.1.2 x hx]
    by_cases o : gIn c r x = 999
    · rw [if_neg (fun z => z.1 o), if_pos o]
    · have g := ge_in c (by omega) r (by omega) c1 r1 x hx o
      have : gIn c r x / 8 < c * r := by
        have o2 := g.2.2.1
        unfold gOk at o2
        rw [Bool.and_eq_true] at o2
        simpa using o2.1
      rw [if_pos ⟨o, by simpa using this⟩, if_neg o]
  · intro p _
    refine ⟨rfl, rfl, rfl, rfl, rfl, rfl, Nat.zero_le _, Nat.zero_le _, fun _ => Nat.zero_le _, ?_, ?_, ?_, ?_, ?_, Nat.zero_le _, fun _ => rfl⟩
    · intro h
      have h : (2 : Nat) ≤ 0 := h
      omega
    · show 0 < c * r
      omega
    · show 0 < c * r
      omega
    · show 0 < kk
      omega
    · intro h
      have h : (0 : Nat) = 3 := h
      omega
  · intro id hid
    rw [if_neg]
    have : bL (fun _ => 0) 0 id = false := bo_zero 0 id rfl rfl hid
    rw [this]
    decide
  · intro l hl
    exact ⟨(a3 l hl).1, (a3 l hl).2, trivial⟩
  · intro n _ p
    constructor
    · intro h; simp at h
    · rintro ⟨_, h, _⟩
      have h : (0 : Nat) = 3 := h
      omega
  · have h : (0 : Nat) = 3 := h
    omega
end
