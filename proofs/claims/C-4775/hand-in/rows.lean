section
/-! pure rows to paste: stores, nI and lN arithmetic, masks, shifts, narrowing, branches by naturals (pk_le, pk_lt, pk_eq), loops (lp1 .. lp16: the measure of the state; rp1 ..: recursion), negatives. Take what you need -/
theorem pk_us {f : Nat → Int32} {k : Nat} {x : Int32} : upd f k x k = x := if_pos rfl
theorem pk_un {f : Nat → Int32} {k j : Nat} {x : Int32} (h : j ≠ k) : upd f k x j = f j := if_neg h
theorem pk_uLs {f : Nat → Int64} {k : Nat} {x : Int64} : vp_updL f k x k = x := if_pos rfl
theorem pk_uLn {f : Nat → Int64} {k j : Nat} {x : Int64} (h : j ≠ k) : vp_updL f k x j = f j := if_neg h
theorem pk_sub {a b : Nat} (h : b ≤ a) : nI a - nI b = nI (a - b) := by
  obtain ⟨c, rfl⟩ : ∃ c, a = c + b := ⟨a - b, by omega⟩
  rw [← nI_add, Int32.add_sub_cancel, Nat.add_sub_cancel]
theorem pk_m1 (n : Nat) : nI (n + 1) + (-1) = nI n := by
  rw [← nI_1, Int32.add_assoc, show (1 : Int32) + (-1) = 0 from rfl, Int32.add_zero]
theorem pk_mul (a b : Nat) : nI a * nI b = nI (a * b) := (Int32.ofNat_mul a b).symm
theorem pk_div {a d : Nat} (ha : a < 2 ^ 31) (h0 : 0 < d) (hd : d < 2 ^ 31) : nI a / nI d = nI (a / d) := by
  apply Int32.toInt_inj.mp
  rw [lg_idiv_nonneg (by rw [nI_toInt ha]; omega) (by rw [nI_toInt hd]; omega), nI_toInt ha, nI_toInt hd, nI_toInt (Nat.lt_of_le_of_lt (Nat.div_le_self a d) ha)]
  first | rfl | exact (Int.natCast_ediv _ _).symm
theorem pk_rem {a d : Nat} (ha : a < 2 ^ 31) (h0 : 0 < d) (hd : d < 2 ^ 31) : nI a - nI a / nI d * nI d = nI (a % d) := by
  rw [pk_div ha h0 hd, pk_mul, pk_sub (Nat.div_mul_le_self a d)]
  exact congrArg nI (by have := Nat.div_add_mod' a d; omega)
theorem pk_sub_toInt {a b : Nat} (ha : a < 2 ^ 30) (hb : b < 2 ^ 30) : (nI a - nI b).toInt = (a : Int) - b := by
  rw [Int32.toInt_sub, nI_toInt (by omega), nI_toInt (by omega)]
  exact Int.bmod_eq_of_le (by omega) (by omega)
theorem pk_sneg {a b : Nat} (hb : b < 2 ^ 30) (h : a < b) : nI a - nI b < 0 := by
  rw [Int32.lt_iff_toInt_lt, pk_sub_toInt (by omega) hb, show (0 : Int32).toInt = 0 from by decide]
  omega
theorem pk_ix (x : Int32) {n : Nat} (hn : n < 2 ^ 31) : x < 0 ∨ nI n ≤ x ∨ ∃ j : Nat, j < n ∧ x = nI j := by
  by_cases h : x < 0
  · exact Or.inl h
  · obtain ⟨j, hj, rfl⟩ := nI_of h
    by_cases h2 : j < n
    · exact Or.inr (Or.inr ⟨j, h2, rfl⟩)
    · exact Or.inr (Or.inl (nI_le (by omega) hj))
theorem pk_le {x y : Int32} {A B : Prop} (a b : Nat) (f : a ≤ b → A) (g : b < a → B) (hx : x = nI a := by rfl) (hy : y = nI b := by rfl) (ha : a < 2 ^ 31 := by omega) (hb : b < 2 ^ 31 := by omega) : (x ≤ y → A) ∧ (¬ x ≤ y → B) := by
  subst hx hy
  rw [nI_leI ha hb]
  exact ⟨f, fun z => g (by omega)⟩
theorem pk_lt {x y : Int32} {A B : Prop} (a b : Nat) (f : a < b → A) (g : b ≤ a → B) (hx : x = nI a := by rfl) (hy : y = nI b := by rfl) (ha : a < 2 ^ 31 := by omega) (hb : b < 2 ^ 31 := by omega) : (x < y → A) ∧ (¬ x < y → B) := by
  subst hx hy
  rw [nI_ltI ha hb]
  exact ⟨f, fun z => g (by omega)⟩
theorem pk_eq {x y : Int32} {A B : Prop} (a b : Nat) (f : a = b → A) (g : a ≠ b → B) (hx : x = nI a := by rfl) (hy : y = nI b := by rfl) (ha : a < 2 ^ 31 := by omega) (hb : b < 2 ^ 31 := by omega) : (x = y → A) ∧ (¬ x = y → B) := by
  subst hx hy
  rw [nI_eq ha hb]
  exact ⟨f, g⟩
theorem pk_in {x : Int32} (n N : Nat) (h : n < N) (hx : x = nI n := by rfl) (hN : N < 2 ^ 31 := by omega) : vp_in x N := by
  subst hx
  exact vp_in_nI h hN
theorem pk_cl {x : Int32} (n : Nat) (hx : x = nI n := by rfl) (h : n < 2 ^ 31 := by omega) : x.toNatClampNeg = n := by
  subst hx
  exact nI_clamp h
theorem pk_tn {n : Nat} (h : n < 2 ^ 32) : (nI n).toBitVec.toNat = n := Nat.mod_eq_of_lt h
theorem pk_and (x : Int32) {m : Int32} (k : Nat) (hm : m.toBitVec.toNat = 2 ^ k - 1) : x &&& m = nI (x.toBitVec.toNat % 2 ^ k) := by
  apply Int32.toBitVec_inj.mp
  apply BitVec.eq_of_toNat_eq
  rw [Int32.toBitVec_and, BitVec.toNat_and, hm, Nat.and_two_pow_sub_one_eq_mod]
  show _ = (BitVec.ofNat 32 _).toNat
  rw [BitVec.toNat_ofNat]
  exact (Nat.mod_eq_of_lt (Nat.lt_of_le_of_lt (Nat.mod_le _ _) x.toBitVec.isLt)).symm
theorem pk_andN {n : Nat} (h : n < 2 ^ 32) {m : Int32} (k : Nat) (hm : m.toBitVec.toNat = 2 ^ k - 1) : nI n &&& m = nI (n % 2 ^ k) := by
  rw [pk_and _ k hm, pk_tn h]
theorem pk_andE (x : Int32) {m : Int32} (k : Nat) (hm : m.toBitVec.toNat = 2 ^ k - 1) : ∃ j : Nat, j < 2 ^ k ∧ x &&& m = nI j := ⟨_, Nat.mod_lt _ (Nat.two_pow_pos k), pk_and x k hm⟩
theorem pk_andIn (x : Int32) {m : Int32} (k : Nat) (hm : m.toBitVec.toNat = 2 ^ k - 1) (hk : k ≤ 30) : vp_in (x &&& m) (2 ^ k) := by
  obtain ⟨j, hj, e⟩ := pk_andE x k hm
  rw [e]
  exact vp_in_nI hj (Nat.lt_of_le_of_lt (Nat.pow_le_pow_right (by decide) hk) (by decide))
theorem pk_shl (a s : Int32) (k : Nat) (hs : (s.toBitVec.smod 32).toNat = k) : (a <<< s).toBitVec.toNat = a.toBitVec.toNat * 2 ^ k % 2 ^ 32 := by
  show (a.toBitVec <<< (s.toBitVec.smod 32).toNat).toNat = _
  rw [hs, BitVec.toNat_shiftLeft, Nat.shiftLeft_eq]
theorem pk_shlN {n : Nat} (s : Int32) (k : Nat) (hs : (s.toBitVec.smod 32).toNat = k) (h : n * 2 ^ k < 2 ^ 32) : nI n <<< s = nI (n * 2 ^ k) := by
  apply Int32.toBitVec_inj.mp
  apply BitVec.eq_of_toNat_eq
  have hn : n < 2 ^ 32 := Nat.lt_of_le_of_lt (Nat.le_mul_of_pos_right n (Nat.two_pow_pos k)) h
  rw [pk_shl _ _ k hs, pk_tn hn, pk_tn h, Nat.mod_eq_of_lt h]
theorem pk_shr (a s : Int32) (k : Nat) (hs : (s.toBitVec.smod 32).toNat = k) : (a >>> s).toInt = a.toInt >>> k := by
  show (a.toBitVec.sshiftRight (s.toBitVec.smod 32).toNat).toInt = _
  rw [hs, BitVec.toInt_sshiftRight]
  rfl
theorem pk_shrN {n : Nat} (h : n < 2 ^ 31) (s : Int32) (k : Nat) (hs : (s.toBitVec.smod 32).toNat = k) : nI n >>> s = nI (n / 2 ^ k) := by
  apply Int32.toInt_inj.mp
  have h2 : n / 2 ^ k ≤ n := Nat.div_le_self _ _
  rw [pk_shr _ _ k hs, nI_toInt h, nI_toInt (by omega), Int.shiftRight_eq_div_pow]
  rfl
theorem pk_ushr (x s : Int32) (k : Nat) (hs : ((s.toUInt32 &&& Int32.toUInt32 31).toBitVec % 32).toNat = k) : (x.toUInt32 >>> (s.toUInt32 &&& Int32.toUInt32 31)).toInt32.toBitVec.toNat = x.toBitVec.toNat / 2 ^ k := by
  have e : (x.toUInt32 >>> (s.toUInt32 &&& Int32.toUInt32 31)).toInt32.toBitVec = x.toBitVec >>> k := by
    rw [← hs]
    exact UInt32.toBitVec_shiftRight _ _
  rw [e, BitVec.toNat_ushiftRight, Nat.shiftRight_eq_div_pow]
theorem pk_ushrN {n : Nat} (hn : n < 2 ^ 32) (s : Int32) (k : Nat) (hs : ((s.toUInt32 &&& Int32.toUInt32 31).toBitVec % 32).toNat = k) : ((nI n).toUInt32 >>> (s.toUInt32 &&& Int32.toUInt32 31)).toInt32 = nI (n / 2 ^ k) := by
  apply Int32.toBitVec_inj.mp
  apply BitVec.eq_of_toNat_eq
  rw [pk_ushr _ s k hs, pk_tn hn, pk_tn (Nat.lt_of_le_of_lt (Nat.div_le_self _ _) hn)]
theorem pk_nb (z : Int32) : narrow .byte (.int z.toInt8.toInt32) = .int z.toInt8.toInt32 := congrArg Value.int (by simp)
theorem pk_ns (z : Int32) : narrow .short (.int z.toInt16.toInt32) = .int z.toInt16.toInt32 := congrArg Value.int (by simp)
theorem pk_fb (r : Int32) : fits .byte (.int r.toInt8.toInt32) = true := by
  have ⟨a, b⟩ := lg_i2b_range r
  have h1 : (-128 : Int32).toInt = -128 := by decide
  have h2 : (127 : Int32).toInt = 127 := by decide
  simp only [fits, Bool.and_eq_true, decide_eq_true_eq, Int32.le_iff_toInt_le, h1, h2]
  omega
theorem pk_fs (r : Int32) : fits .short (.int r.toInt16.toInt32) = true := by
  have ⟨a, b⟩ := lg_i2s_range r
  have h1 : (-32768 : Int32).toInt = -32768 := by decide
  have h2 : (32767 : Int32).toInt = 32767 := by decide
  simp only [fits, Bool.and_eq_true, decide_eq_true_eq, Int32.le_iff_toInt_le, h1, h2]
  omega
theorem pk_charN {q : Nat} (hq : q < 65536) : narrow .char (.int (nI q)) = .int (nI q) ∧ fits .char (.int (nI q)) = true := by
  constructor
  · have e : (nI q).toUInt32.toUInt16.toUInt32.toInt32 = nI q := by
      apply Int32.toBitVec_inj.mp
      apply BitVec.eq_of_toNat_eq
      show (nI q).toUInt32.toUInt16.toUInt32.toNat = q % 2 ^ 32
      rw [UInt16.toNat_toUInt32, UInt32.toNat_toUInt16, show (nI q).toUInt32.toNat = q % 2 ^ 32 from rfl]
      omega
    exact congrArg Value.int e
  · have a : (0 : Int32) ≤ nI q := nI_pos' (by omega)
    have b : nI q ≤ 65535 := nI_le (b := 65535) (by omega) (by decide)
    show (decide ((0 : Int32) ≤ nI q) && decide (nI q ≤ 65535)) = true
    rw [decide_eq_true a, decide_eq_true b]
    rfl
theorem pk_char (x : Int32) : (x.toUInt32 % 65536).toInt32 = nI (x.toBitVec.toNat % 65536) := by
  apply Int32.toBitVec_inj.mp
  apply BitVec.eq_of_toNat_eq
  rw [pk_tn (by omega)]
  show (x.toUInt32 % 65536).toNat = _
  rw [UInt32.toNat_mod]
  rfl
theorem pk_nc (x : Int32) : narrow .char (.int (x.toUInt32 % 65536).toInt32) = .int (x.toUInt32 % 65536).toInt32 := by
  rw [pk_char]
  exact (pk_charN (Nat.mod_lt _ (by decide))).1
theorem pk_fc (x : Int32) : fits .char (.int (x.toUInt32 % 65536).toInt32) = true := by
  rw [pk_char]
  exact (pk_charN (Nat.mod_lt _ (by decide))).2
theorem pk_vb (z : Int32) : vp_nar .byte z.toInt8.toInt32 = z.toInt8.toInt32 := by rw [vp_nar_byte]; simp
theorem pk_vs (z : Int32) : vp_nar .short z.toInt16.toInt32 = z.toInt16.toInt32 := by rw [vp_nar_short]; simp
theorem pk_vc (z : Int32) : vp_nar .char (z.toUInt32 % 65536).toInt32 = (z.toUInt32 % 65536).toInt32 := Value.int.inj (pk_nc z)
theorem pk_lT {n : Nat} (h : n < 2 ^ 63) : (lN n).toInt = (n : Int) := lg_ofNat_toInt h
theorem pk_lLT {a b : Nat} (ha : a < 2 ^ 63) (hb : b < 2 ^ 63) : lN a < lN b ↔ a < b := by
  rw [Int64.lt_iff_toInt_lt, pk_lT ha, pk_lT hb]; omega
theorem pk_lLE {a b : Nat} (ha : a < 2 ^ 63) (hb : b < 2 ^ 63) : lN a ≤ lN b ↔ a ≤ b := by
  rw [Int64.le_iff_toInt_le, pk_lT ha, pk_lT hb]; omega
theorem pk_lEQ {a b : Nat} (ha : a < 2 ^ 63) (hb : b < 2 ^ 63) : lN a = lN b ↔ a = b := by
  rw [← Int64.toInt_inj, pk_lT ha, pk_lT hb]; omega
theorem pk_lOf {x : Int64} (h : ¬ x < 0) : ∃ k : Nat, k < 2 ^ 63 ∧ x = lN k := by
  rw [Int64.lt_iff_toInt_lt] at h
  have h0 : (0 : Int64).toInt = 0 := by decide
  have hx := Int64.toInt_lt x
  refine ⟨x.toInt.toNat, by omega, Int64.toInt_inj.mp ?_⟩
  rw [pk_lT (by omega)]
  omega
theorem pk_lDiv {a b : Nat} (ha : a < 2 ^ 63) (h0 : 0 < b) (hb : b < 2 ^ 63) : lN a / lN b = lN (a / b) := by
  apply Int64.toInt_inj.mp
  rw [lg_ldiv_nonneg (by rw [pk_lT ha]; omega) (by rw [pk_lT hb]; omega), pk_lT ha, pk_lT hb, pk_lT (Nat.lt_of_le_of_lt (Nat.div_le_self a b) ha)]
  rfl
theorem pk_lRem {a b : Nat} (ha : a < 2 ^ 63) (h0 : 0 < b) (hb : b < 2 ^ 63) : lN a - lN a / lN b * lN b = lN (a % b) := by
  rw [pk_lDiv ha h0 hb, lN_mul, lN_sub (Nat.div_mul_le_self a b)]
  exact congrArg lN (by have := Nat.div_add_mod' a b; omega)
theorem pk_loop {σ : Type} (W : Nat → Nat → σ → Prop) (I : Nat → σ → Prop) (e i0 : Nat) (s : σ) (hi : i0 ≤ e) (h0 : I i0 s) (hx : ∀ n s, I e s → W (n + 1) e s)
    (hs : ∀ n i s, i < e → I i s → (∀ s', I (i + 1) s' → W n (i + 1) s') → W (n + 1) i s) : ∃ n, W n i0 s :=
  ⟨e + 1, loop_i W I e hx hs (e + 1) i0 s hi (by omega) h0⟩
theorem pk_loopD {σ : Type} (W : Nat → Nat → σ → Prop) (I : Nat → σ → Prop) (hx : ∀ n s, I 0 s → W (n + 1) 0 s)
    (hs : ∀ n i s, I (i + 1) s → (∀ s', I i s' → W n i s') → W (n + 1) (i + 1) s) : ∀ (e : Nat) (s : σ), I e s → W (e + 1) e s := by
  intro e
  induction e with
  | zero => exact fun s h => hx 0 s h
  | succ e ih => exact fun s h => hs (e + 1) e s h (fun s' h' => ih s' h')
theorem lp1 {A1 : Type} (W : Nat → A1 → Prop) (I : A1 → Prop) (μ : A1 → Nat) (hs : ∀ (n : Nat) (a1 : A1), I a1 → (∀ (b1 : A1), I b1 → μ b1 < μ a1 → W n b1) → W (n + 1) a1) (a1 : A1) (h : I a1) : ∃ n, W n a1 :=
  loop_m (σ := A1) (fun n s => W n s) (fun s => I s) (fun s => μ s) (fun n s hI hk => hs n s hI (fun b1 h9 hm => hk b1 h9 hm)) a1 h
theorem lp2 {A1 A2 : Type} (W : Nat → A1 → A2 → Prop) (I : A1 → A2 → Prop) (μ : A1 → A2 → Nat) (hs : ∀ (n : Nat) (a1 : A1) (a2 : A2), I a1 a2 → (∀ (b1 : A1) (b2 : A2), I b1 b2 → μ b1 b2 < μ a1 a2 → W n b1 b2) → W (n + 1) a1 a2) (a1 : A1) (a2 : A2) (h : I a1 a2) : ∃ n, W n a1 a2 :=
  loop_m (σ := A1 × A2) (fun n s => W n s.1 s.2) (fun s => I s.1 s.2) (fun s => μ s.1 s.2) (fun n s hI hk => hs n s.1 s.2 hI (fun b1 b2 h9 hm => hk (b1, b2) h9 hm)) (a1, a2) h
theorem lp3 {A1 A2 A3 : Type} (W : Nat → A1 → A2 → A3 → Prop) (I : A1 → A2 → A3 → Prop) (μ : A1 → A2 → A3 → Nat) (hs : ∀ (n : Nat) (a1 : A1) (a2 : A2) (a3 : A3), I a1 a2 a3 → (∀ (b1 : A1) (b2 : A2) (b3 : A3), I b1 b2 b3 → μ b1 b2 b3 < μ a1 a2 a3 → W n b1 b2 b3) → W (n + 1) a1 a2 a3) (a1 : A1) (a2 : A2) (a3 : A3) (h : I a1 a2 a3) : ∃ n, W n a1 a2 a3 :=
  loop_m (σ := A1 × A2 × A3) (fun n s => W n s.1 s.2.1 s.2.2) (fun s => I s.1 s.2.1 s.2.2) (fun s => μ s.1 s.2.1 s.2.2) (fun n s hI hk => hs n s.1 s.2.1 s.2.2 hI (fun b1 b2 b3 h9 hm => hk (b1, b2, b3) h9 hm)) (a1, a2, a3) h
theorem lp4 {A1 A2 A3 A4 : Type} (W : Nat → A1 → A2 → A3 → A4 → Prop) (I : A1 → A2 → A3 → A4 → Prop) (μ : A1 → A2 → A3 → A4 → Nat) (hs : ∀ (n : Nat) (a1 : A1) (a2 : A2) (a3 : A3) (a4 : A4), I a1 a2 a3 a4 → (∀ (b1 : A1) (b2 : A2) (b3 : A3) (b4 : A4), I b1 b2 b3 b4 → μ b1 b2 b3 b4 < μ a1 a2 a3 a4 → W n b1 b2 b3 b4) → W (n + 1) a1 a2 a3 a4) (a1 : A1) (a2 : A2) (a3 : A3) (a4 : A4) (h : I a1 a2 a3 a4) : ∃ n, W n a1 a2 a3 a4 :=
  loop_m (σ := A1 × A2 × A3 × A4) (fun n s => W n s.1 s.2.1 s.2.2.1 s.2.2.2) (fun s => I s.1 s.2.1 s.2.2.1 s.2.2.2) (fun s => μ s.1 s.2.1 s.2.2.1 s.2.2.2) (fun n s hI hk => hs n s.1 s.2.1 s.2.2.1 s.2.2.2 hI (fun b1 b2 b3 b4 h9 hm => hk (b1, b2, b3, b4) h9 hm)) (a1, a2, a3, a4) h
theorem lp5 {A1 A2 A3 A4 A5 : Type} (W : Nat → A1 → A2 → A3 → A4 → A5 → Prop) (I : A1 → A2 → A3 → A4 → A5 → Prop) (μ : A1 → A2 → A3 → A4 → A5 → Nat) (hs : ∀ (n : Nat) (a1 : A1) (a2 : A2) (a3 : A3) (a4 : A4) (a5 : A5), I a1 a2 a3 a4 a5 → (∀ (b1 : A1) (b2 : A2) (b3 : A3) (b4 : A4) (b5 : A5), I b1 b2 b3 b4 b5 → μ b1 b2 b3 b4 b5 < μ a1 a2 a3 a4 a5 → W n b1 b2 b3 b4 b5) → W (n + 1) a1 a2 a3 a4 a5) (a1 : A1) (a2 : A2) (a3 : A3) (a4 : A4) (a5 : A5) (h : I a1 a2 a3 a4 a5) : ∃ n, W n a1 a2 a3 a4 a5 :=
  loop_m (σ := A1 × A2 × A3 × A4 × A5) (fun n s => W n s.1 s.2.1 s.2.2.1 s.2.2.2.1 s.2.2.2.2) (fun s => I s.1 s.2.1 s.2.2.1 s.2.2.2.1 s.2.2.2.2) (fun s => μ s.1 s.2.1 s.2.2.1 s.2.2.2.1 s.2.2.2.2) (fun n s hI hk => hs n s.1 s.2.1 s.2.2.1 s.2.2.2.1 s.2.2.2.2 hI (fun b1 b2 b3 b4 b5 h9 hm => hk (b1, b2, b3, b4, b5) h9 hm)) (a1, a2, a3, a4, a5) h
theorem lp6 {A1 A2 A3 A4 A5 A6 : Type} (W : Nat → A1 → A2 → A3 → A4 → A5 → A6 → Prop) (I : A1 → A2 → A3 → A4 → A5 → A6 → Prop) (μ : A1 → A2 → A3 → A4 → A5 → A6 → Nat) (hs : ∀ (n : Nat) (a1 : A1) (a2 : A2) (a3 : A3) (a4 : A4) (a5 : A5) (a6 : A6), I a1 a2 a3 a4 a5 a6 → (∀ (b1 : A1) (b2 : A2) (b3 : A3) (b4 : A4) (b5 : A5) (b6 : A6), I b1 b2 b3 b4 b5 b6 → μ b1 b2 b3 b4 b5 b6 < μ a1 a2 a3 a4 a5 a6 → W n b1 b2 b3 b4 b5 b6) → W (n + 1) a1 a2 a3 a4 a5 a6) (a1 : A1) (a2 : A2) (a3 : A3) (a4 : A4) (a5 : A5) (a6 : A6) (h : I a1 a2 a3 a4 a5 a6) : ∃ n, W n a1 a2 a3 a4 a5 a6 :=
  loop_m (σ := A1 × A2 × A3 × A4 × A5 × A6) (fun n s => W n s.1 s.2.1 s.2.2.1 s.2.2.2.1 s.2.2.2.2.1 s.2.2.2.2.2) (fun s => I s.1 s.2.1 s.2.2.1 s.2.2.2.1 s.2.2.2.2.1 s.2.2.2.2.2) (fun s => μ s.1 s.2.1 s.2.2.1 s.2.2.2.1 s.2.2.2.2.1 s.2.2.2.2.2) (fun n s hI hk => hs n s.1 s.2.1 s.2.2.1 s.2.2.2.1 s.2.2.2.2.1 s.2.2.2.2.2 hI (fun b1 b2 b3 b4 b5 b6 h9 hm => hk (b1, b2, b3, b4, b5, b6) h9 hm)) (a1, a2, a3, a4, a5, a6) h
theorem lp7 {A1 A2 A3 A4 A5 A6 A7 : Type} (W : Nat → A1 → A2 → A3 → A4 → A5 → A6 → A7 → Prop) (I : A1 → A2 → A3 → A4 → A5 → A6 → A7 → Prop) (μ : A1 → A2 → A3 → A4 → A5 → A6 → A7 → Nat) (hs : ∀ (n : Nat) (a1 : A1) (a2 : A2) (a3 : A3) (a4 : A4) (a5 : A5) (a6 : A6) (a7 : A7), I a1 a2 a3 a4 a5 a6 a7 → (∀ (b1 : A1) (b2 : A2) (b3 : A3) (b4 : A4) (b5 : A5) (b6 : A6) (b7 : A7), I b1 b2 b3 b4 b5 b6 b7 → μ b1 b2 b3 b4 b5 b6 b7 < μ a1 a2 a3 a4 a5 a6 a7 → W n b1 b2 b3 b4 b5 b6 b7) → W (n + 1) a1 a2 a3 a4 a5 a6 a7) (a1 : A1) (a2 : A2) (a3 : A3) (a4 : A4) (a5 : A5) (a6 : A6) (a7 : A7) (h : I a1 a2 a3 a4 a5 a6 a7) : ∃ n, W n a1 a2 a3 a4 a5 a6 a7 :=
  loop_m (σ := A1 × A2 × A3 × A4 × A5 × A6 × A7) (fun n s => W n s.1 s.2.1 s.2.2.1 s.2.2.2.1 s.2.2.2.2.1 s.2.2.2.2.2.1 s.2.2.2.2.2.2) (fun s => I s.1 s.2.1 s.2.2.1 s.2.2.2.1 s.2.2.2.2.1 s.2.2.2.2.2.1 s.2.2.2.2.2.2) (fun s => μ s.1 s.2.1 s.2.2.1 s.2.2.2.1 s.2.2.2.2.1 s.2.2.2.2.2.1 s.2.2.2.2.2.2) (fun n s hI hk => hs n s.1 s.2.1 s.2.2.1 s.2.2.2.1 s.2.2.2.2.1 s.2.2.2.2.2.1 s.2.2.2.2.2.2 hI (fun b1 b2 b3 b4 b5 b6 b7 h9 hm => hk (b1, b2, b3, b4, b5, b6, b7) h9 hm)) (a1, a2, a3, a4, a5, a6, a7) h
theorem lp8 {A1 A2 A3 A4 A5 A6 A7 A8 : Type} (W : Nat → A1 → A2 → A3 → A4 → A5 → A6 → A7 → A8 → Prop) (I : A1 → A2 → A3 → A4 → A5 → A6 → A7 → A8 → Prop) (μ : A1 → A2 → A3 → A4 → A5 → A6 → A7 → A8 → Nat) (hs : ∀ (n : Nat) (a1 : A1) (a2 : A2) (a3 : A3) (a4 : A4) (a5 : A5) (a6 : A6) (a7 : A7) (a8 : A8), I a1 a2 a3 a4 a5 a6 a7 a8 → (∀ (b1 : A1) (b2 : A2) (b3 : A3) (b4 : A4) (b5 : A5) (b6 : A6) (b7 : A7) (b8 : A8), I b1 b2 b3 b4 b5 b6 b7 b8 → μ b1 b2 b3 b4 b5 b6 b7 b8 < μ a1 a2 a3 a4 a5 a6 a7 a8 → W n b1 b2 b3 b4 b5 b6 b7 b8) → W (n + 1) a1 a2 a3 a4 a5 a6 a7 a8) (a1 : A1) (a2 : A2) (a3 : A3) (a4 : A4) (a5 : A5) (a6 : A6) (a7 : A7) (a8 : A8) (h : I a1 a2 a3 a4 a5 a6 a7 a8) : ∃ n, W n a1 a2 a3 a4 a5 a6 a7 a8 :=
  loop_m (σ := A1 × A2 × A3 × A4 × A5 × A6 × A7 × A8) (fun n s => W n s.1 s.2.1 s.2.2.1 s.2.2.2.1 s.2.2.2.2.1 s.2.2.2.2.2.1 s.2.2.2.2.2.2.1 s.2.2.2.2.2.2.2) (fun s => I s.1 s.2.1 s.2.2.1 s.2.2.2.1 s.2.2.2.2.1 s.2.2.2.2.2.1 s.2.2.2.2.2.2.1 s.2.2.2.2.2.2.2) (fun s => μ s.1 s.2.1 s.2.2.1 s.2.2.2.1 s.2.2.2.2.1 s.2.2.2.2.2.1 s.2.2.2.2.2.2.1 s.2.2.2.2.2.2.2) (fun n s hI hk => hs n s.1 s.2.1 s.2.2.1 s.2.2.2.1 s.2.2.2.2.1 s.2.2.2.2.2.1 s.2.2.2.2.2.2.1 s.2.2.2.2.2.2.2 hI (fun b1 b2 b3 b4 b5 b6 b7 b8 h9 hm => hk (b1, b2, b3, b4, b5, b6, b7, b8) h9 hm)) (a1, a2, a3, a4, a5, a6, a7, a8) h
theorem lp9 {A1 A2 A3 A4 A5 A6 A7 A8 A9 : Type} (W : Nat → A1 → A2 → A3 → A4 → A5 → A6 → A7 → A8 → A9 → Prop) (I : A1 → A2 → A3 → A4 → A5 → A6 → A7 → A8 → A9 → Prop) (μ : A1 → A2 → A3 → A4 → A5 → A6 → A7 → A8 → A9 → Nat) (hs : ∀ (n : Nat) (a1 : A1) (a2 : A2) (a3 : A3) (a4 : A4) (a5 : A5) (a6 : A6) (a7 : A7) (a8 : A8) (a9 : A9), I a1 a2 a3 a4 a5 a6 a7 a8 a9 → (∀ (b1 : A1) (b2 : A2) (b3 : A3) (b4 : A4) (b5 : A5) (b6 : A6) (b7 : A7) (b8 : A8) (b9 : A9), I b1 b2 b3 b4 b5 b6 b7 b8 b9 → μ b1 b2 b3 b4 b5 b6 b7 b8 b9 < μ a1 a2 a3 a4 a5 a6 a7 a8 a9 → W n b1 b2 b3 b4 b5 b6 b7 b8 b9) → W (n + 1) a1 a2 a3 a4 a5 a6 a7 a8 a9) (a1 : A1) (a2 : A2) (a3 : A3) (a4 : A4) (a5 : A5) (a6 : A6) (a7 : A7) (a8 : A8) (a9 : A9) (h : I a1 a2 a3 a4 a5 a6 a7 a8 a9) : ∃ n, W n a1 a2 a3 a4 a5 a6 a7 a8 a9 :=
  loop_m (σ := A1 × A2 × A3 × A4 × A5 × A6 × A7 × A8 × A9) (fun n s => W n s.1 s.2.1 s.2.2.1 s.2.2.2.1 s.2.2.2.2.1 s.2.2.2.2.2.1 s.2.2.2.2.2.2.1 s.2.2.2.2.2.2.2.1 s.2.2.2.2.2.2.2.2) (fun s => I s.1 s.2.1 s.2.2.1 s.2.2.2.1 s.2.2.2.2.1 s.2.2.2.2.2.1 s.2.2.2.2.2.2.1 s.2.2.2.2.2.2.2.1 s.2.2.2.2.2.2.2.2) (fun s => μ s.1 s.2.1 s.2.2.1 s.2.2.2.1 s.2.2.2.2.1 s.2.2.2.2.2.1 s.2.2.2.2.2.2.1 s.2.2.2.2.2.2.2.1 s.2.2.2.2.2.2.2.2) (fun n s hI hk => hs n s.1 s.2.1 s.2.2.1 s.2.2.2.1 s.2.2.2.2.1 s.2.2.2.2.2.1 s.2.2.2.2.2.2.1 s.2.2.2.2.2.2.2.1 s.2.2.2.2.2.2.2.2 hI (fun b1 b2 b3 b4 b5 b6 b7 b8 b9 h9 hm => hk (b1, b2, b3, b4, b5, b6, b7, b8, b9) h9 hm)) (a1, a2, a3, a4, a5, a6, a7, a8, a9) h
theorem lp10 {A1 A2 A3 A4 A5 A6 A7 A8 A9 A10 : Type} (W : Nat → A1 → A2 → A3 → A4 → A5 → A6 → A7 → A8 → A9 → A10 → Prop) (I : A1 → A2 → A3 → A4 → A5 → A6 → A7 → A8 → A9 → A10 → Prop) (μ : A1 → A2 → A3 → A4 → A5 → A6 → A7 → A8 → A9 → A10 → Nat) (hs : ∀ (n : Nat) (a1 : A1) (a2 : A2) (a3 : A3) (a4 : A4) (a5 : A5) (a6 : A6) (a7 : A7) (a8 : A8) (a9 : A9) (a10 : A10), I a1 a2 a3 a4 a5 a6 a7 a8 a9 a10 → (∀ (b1 : A1) (b2 : A2) (b3 : A3) (b4 : A4) (b5 : A5) (b6 : A6) (b7 : A7) (b8 : A8) (b9 : A9) (b10 : A10), I b1 b2 b3 b4 b5 b6 b7 b8 b9 b10 → μ b1 b2 b3 b4 b5 b6 b7 b8 b9 b10 < μ a1 a2 a3 a4 a5 a6 a7 a8 a9 a10 → W n b1 b2 b3 b4 b5 b6 b7 b8 b9 b10) → W (n + 1) a1 a2 a3 a4 a5 a6 a7 a8 a9 a10) (a1 : A1) (a2 : A2) (a3 : A3) (a4 : A4) (a5 : A5) (a6 : A6) (a7 : A7) (a8 : A8) (a9 : A9) (a10 : A10) (h : I a1 a2 a3 a4 a5 a6 a7 a8 a9 a10) : ∃ n, W n a1 a2 a3 a4 a5 a6 a7 a8 a9 a10 :=
  loop_m (σ := A1 × A2 × A3 × A4 × A5 × A6 × A7 × A8 × A9 × A10) (fun n s => W n s.1 s.2.1 s.2.2.1 s.2.2.2.1 s.2.2.2.2.1 s.2.2.2.2.2.1 s.2.2.2.2.2.2.1 s.2.2.2.2.2.2.2.1 s.2.2.2.2.2.2.2.2.1 s.2.2.2.2.2.2.2.2.2) (fun s => I s.1 s.2.1 s.2.2.1 s.2.2.2.1 s.2.2.2.2.1 s.2.2.2.2.2.1 s.2.2.2.2.2.2.1 s.2.2.2.2.2.2.2.1 s.2.2.2.2.2.2.2.2.1 s.2.2.2.2.2.2.2.2.2) (fun s => μ s.1 s.2.1 s.2.2.1 s.2.2.2.1 s.2.2.2.2.1 s.2.2.2.2.2.1 s.2.2.2.2.2.2.1 s.2.2.2.2.2.2.2.1 s.2.2.2.2.2.2.2.2.1 s.2.2.2.2.2.2.2.2.2) (fun n s hI hk => hs n s.1 s.2.1 s.2.2.1 s.2.2.2.1 s.2.2.2.2.1 s.2.2.2.2.2.1 s.2.2.2.2.2.2.1 s.2.2.2.2.2.2.2.1 s.2.2.2.2.2.2.2.2.1 s.2.2.2.2.2.2.2.2.2 hI (fun b1 b2 b3 b4 b5 b6 b7 b8 b9 b10 h9 hm => hk (b1, b2, b3, b4, b5, b6, b7, b8, b9, b10) h9 hm)) (a1, a2, a3, a4, a5, a6, a7, a8, a9, a10) h
theorem lp11 {A1 A2 A3 A4 A5 A6 A7 A8 A9 A10 A11 : Type} (W : Nat → A1 → A2 → A3 → A4 → A5 → A6 → A7 → A8 → A9 → A10 → A11 → Prop) (I : A1 → A2 → A3 → A4 → A5 → A6 → A7 → A8 → A9 → A10 → A11 → Prop) (μ : A1 → A2 → A3 → A4 → A5 → A6 → A7 → A8 → A9 → A10 → A11 → Nat) (hs : ∀ (n : Nat) (a1 : A1) (a2 : A2) (a3 : A3) (a4 : A4) (a5 : A5) (a6 : A6) (a7 : A7) (a8 : A8) (a9 : A9) (a10 : A10) (a11 : A11), I a1 a2 a3 a4 a5 a6 a7 a8 a9 a10 a11 → (∀ (b1 : A1) (b2 : A2) (b3 : A3) (b4 : A4) (b5 : A5) (b6 : A6) (b7 : A7) (b8 : A8) (b9 : A9) (b10 : A10) (b11 : A11), I b1 b2 b3 b4 b5 b6 b7 b8 b9 b10 b11 → μ b1 b2 b3 b4 b5 b6 b7 b8 b9 b10 b11 < μ a1 a2 a3 a4 a5 a6 a7 a8 a9 a10 a11 → W n b1 b2 b3 b4 b5 b6 b7 b8 b9 b10 b11) → W (n + 1) a1 a2 a3 a4 a5 a6 a7 a8 a9 a10 a11) (a1 : A1) (a2 : A2) (a3 : A3) (a4 : A4) (a5 : A5) (a6 : A6) (a7 : A7) (a8 : A8) (a9 : A9) (a10 : A10) (a11 : A11) (h : I a1 a2 a3 a4 a5 a6 a7 a8 a9 a10 a11) : ∃ n, W n a1 a2 a3 a4 a5 a6 a7 a8 a9 a10 a11 :=
  loop_m (σ := A1 × A2 × A3 × A4 × A5 × A6 × A7 × A8 × A9 × A10 × A11) (fun n s => W n s.1 s.2.1 s.2.2.1 s.2.2.2.1 s.2.2.2.2.1 s.2.2.2.2.2.1 s.2.2.2.2.2.2.1 s.2.2.2.2.2.2.2.1 s.2.2.2.2.2.2.2.2.1 s.2.2.2.2.2.2.2.2.2.1 s.2.2.2.2.2.2.2.2.2.2) (fun s => I s.1 s.2.1 s.2.2.1 s.2.2.2.1 s.2.2.2.2.1 s.2.2.2.2.2.1 s.2.2.2.2.2.2.1 s.2.2.2.2.2.2.2.1 s.2.2.2.2.2.2.2.2.1 s.2.2.2.2.2.2.2.2.2.1 s.2.2.2.2.2.2.2.2.2.2) (fun s => μ s.1 s.2.1 s.2.2.1 s.2.2.2.1 s.2.2.2.2.1 s.2.2.2.2.2.1 s.2.2.2.2.2.2.1 s.2.2.2.2.2.2.2.1 s.2.2.2.2.2.2.2.2.1 s.2.2.2.2.2.2.2.2.2.1 s.2.2.2.2.2.2.2.2.2.2) (fun n s hI hk => hs n s.1 s.2.1 s.2.2.1 s.2.2.2.1 s.2.2.2.2.1 s.2.2.2.2.2.1 s.2.2.2.2.2.2.1 s.2.2.2.2.2.2.2.1 s.2.2.2.2.2.2.2.2.1 s.2.2.2.2.2.2.2.2.2.1 s.2.2.2.2.2.2.2.2.2.2 hI (fun b1 b2 b3 b4 b5 b6 b7 b8 b9 b10 b11 h9 hm => hk (b1, b2, b3, b4, b5, b6, b7, b8, b9, b10, b11) h9 hm)) (a1, a2, a3, a4, a5, a6, a7, a8, a9, a10, a11) h
theorem lp12 {A1 A2 A3 A4 A5 A6 A7 A8 A9 A10 A11 A12 : Type} (W : Nat → A1 → A2 → A3 → A4 → A5 → A6 → A7 → A8 → A9 → A10 → A11 → A12 → Prop) (I : A1 → A2 → A3 → A4 → A5 → A6 → A7 → A8 → A9 → A10 → A11 → A12 → Prop) (μ : A1 → A2 → A3 → A4 → A5 → A6 → A7 → A8 → A9 → A10 → A11 → A12 → Nat) (hs : ∀ (n : Nat) (a1 : A1) (a2 : A2) (a3 : A3) (a4 : A4) (a5 : A5) (a6 : A6) (a7 : A7) (a8 : A8) (a9 : A9) (a10 : A10) (a11 : A11) (a12 : A12), I a1 a2 a3 a4 a5 a6 a7 a8 a9 a10 a11 a12 → (∀ (b1 : A1) (b2 : A2) (b3 : A3) (b4 : A4) (b5 : A5) (b6 : A6) (b7 : A7) (b8 : A8) (b9 : A9) (b10 : A10) (b11 : A11) (b12 : A12), I b1 b2 b3 b4 b5 b6 b7 b8 b9 b10 b11 b12 → μ b1 b2 b3 b4 b5 b6 b7 b8 b9 b10 b11 b12 < μ a1 a2 a3 a4 a5 a6 a7 a8 a9 a10 a11 a12 → W n b1 b2 b3 b4 b5 b6 b7 b8 b9 b10 b11 b12) → W (n + 1) a1 a2 a3 a4 a5 a6 a7 a8 a9 a10 a11 a12) (a1 : A1) (a2 : A2) (a3 : A3) (a4 : A4) (a5 : A5) (a6 : A6) (a7 : A7) (a8 : A8) (a9 : A9) (a10 : A10) (a11 : A11) (a12 : A12) (h : I a1 a2 a3 a4 a5 a6 a7 a8 a9 a10 a11 a12) : ∃ n, W n a1 a2 a3 a4 a5 a6 a7 a8 a9 a10 a11 a12 :=
  loop_m (σ := A1 × A2 × A3 × A4 × A5 × A6 × A7 × A8 × A9 × A10 × A11 × A12) (fun n s => W n s.1 s.2.1 s.2.2.1 s.2.2.2.1 s.2.2.2.2.1 s.2.2.2.2.2.1 s.2.2.2.2.2.2.1 s.2.2.2.2.2.2.2.1 s.2.2.2.2.2.2.2.2.1 s.2.2.2.2.2.2.2.2.2.1 s.2.2.2.2.2.2.2.2.2.2.1 s.2.2.2.2.2.2.2.2.2.2.2) (fun s => I s.1 s.2.1 s.2.2.1 s.2.2.2.1 s.2.2.2.2.1 s.2.2.2.2.2.1 s.2.2.2.2.2.2.1 s.2.2.2.2.2.2.2.1 s.2.2.2.2.2.2.2.2.1 s.2.2.2.2.2.2.2.2.2.1 s.2.2.2.2.2.2.2.2.2.2.1 s.2.2.2.2.2.2.2.2.2.2.2) (fun s => μ s.1 s.2.1 s.2.2.1 s.2.2.2.1 s.2.2.2.2.1 s.2.2.2.2.2.1 s.2.2.2.2.2.2.1 s.2.2.2.2.2.2.2.1 s.2.2.2.2.2.2.2.2.1 s.2.2.2.2.2.2.2.2.2.1 s.2.2.2.2.2.2.2.2.2.2.1 s.2.2.2.2.2.2.2.2.2.2.2) (fun n s hI hk => hs n s.1 s.2.1 s.2.2.1 s.2.2.2.1 s.2.2.2.2.1 s.2.2.2.2.2.1 s.2.2.2.2.2.2.1 s.2.2.2.2.2.2.2.1 s.2.2.2.2.2.2.2.2.1 s.2.2.2.2.2.2.2.2.2.1 s.2.2.2.2.2.2.2.2.2.2.1 s.2.2.2.2.2.2.2.2.2.2.2 hI (fun b1 b2 b3 b4 b5 b6 b7 b8 b9 b10 b11 b12 h9 hm => hk (b1, b2, b3, b4, b5, b6, b7, b8, b9, b10, b11, b12) h9 hm)) (a1, a2, a3, a4, a5, a6, a7, a8, a9, a10, a11, a12) h
theorem lp13 {A1 A2 A3 A4 A5 A6 A7 A8 A9 A10 A11 A12 A13 : Type} (W : Nat → A1 → A2 → A3 → A4 → A5 → A6 → A7 → A8 → A9 → A10 → A11 → A12 → A13 → Prop) (I : A1 → A2 → A3 → A4 → A5 → A6 → A7 → A8 → A9 → A10 → A11 → A12 → A13 → Prop) (μ : A1 → A2 → A3 → A4 → A5 → A6 → A7 → A8 → A9 → A10 → A11 → A12 → A13 → Nat) (hs : ∀ (n : Nat) (a1 : A1) (a2 : A2) (a3 : A3) (a4 : A4) (a5 : A5) (a6 : A6) (a7 : A7) (a8 : A8) (a9 : A9) (a10 : A10) (a11 : A11) (a12 : A12) (a13 : A13), I a1 a2 a3 a4 a5 a6 a7 a8 a9 a10 a11 a12 a13 → (∀ (b1 : A1) (b2 : A2) (b3 : A3) (b4 : A4) (b5 : A5) (b6 : A6) (b7 : A7) (b8 : A8) (b9 : A9) (b10 : A10) (b11 : A11) (b12 : A12) (b13 : A13), I b1 b2 b3 b4 b5 b6 b7 b8 b9 b10 b11 b12 b13 → μ b1 b2 b3 b4 b5 b6 b7 b8 b9 b10 b11 b12 b13 < μ a1 a2 a3 a4 a5 a6 a7 a8 a9 a10 a11 a12 a13 → W n b1 b2 b3 b4 b5 b6 b7 b8 b9 b10 b11 b12 b13) → W (n + 1) a1 a2 a3 a4 a5 a6 a7 a8 a9 a10 a11 a12 a13) (a1 : A1) (a2 : A2) (a3 : A3) (a4 : A4) (a5 : A5) (a6 : A6) (a7 : A7) (a8 : A8) (a9 : A9) (a10 : A10) (a11 : A11) (a12 : A12) (a13 : A13) (h : I a1 a2 a3 a4 a5 a6 a7 a8 a9 a10 a11 a12 a13) : ∃ n, W n a1 a2 a3 a4 a5 a6 a7 a8 a9 a10 a11 a12 a13 :=
  loop_m (σ := A1 × A2 × A3 × A4 × A5 × A6 × A7 × A8 × A9 × A10 × A11 × A12 × A13) (fun n s => W n s.1 s.2.1 s.2.2.1 s.2.2.2.1 s.2.2.2.2.1 s.2.2.2.2.2.1 s.2.2.2.2.2.2.1 s.2.2.2.2.2.2.2.1 s.2.2.2.2.2.2.2.2.1 s.2.2.2.2.2.2.2.2.2.1 s.2.2.2.2.2.2.2.2.2.2.1 s.2.2.2.2.2.2.2.2.2.2.2.1 s.2.2.2.2.2.2.2.2.2.2.2.2) (fun s => I s.1 s.2.1 s.2.2.1 s.2.2.2.1 s.2.2.2.2.1 s.2.2.2.2.2.1 s.2.2.2.2.2.2.1 s.2.2.2.2.2.2.2.1 s.2.2.2.2.2.2.2.2.1 s.2.2.2.2.2.2.2.2.2.1 s.2.2.2.2.2.2.2.2.2.2.1 s.2.2.2.2.2.2.2.2.2.2.2.1 s.2.2.2.2.2.2.2.2.2.2.2.2) (fun s => μ s.1 s.2.1 s.2.2.1 s.2.2.2.1 s.2.2.2.2.1 s.2.2.2.2.2.1 s.2.2.2.2.2.2.1 s.2.2.2.2.2.2.2.1 s.2.2.2.2.2.2.2.2.1 s.2.2.2.2.2.2.2.2.2.1 s.2.2.2.2.2.2.2.2.2.2.1 s.2.2.2.2.2.2.2.2.2.2.2.1 s.2.2.2.2.2.2.2.2.2.2.2.2) (fun n s hI hk => hs n s.1 s.2.1 s.2.2.1 s.2.2.2.1 s.2.2.2.2.1 s.2.2.2.2.2.1 s.2.2.2.2.2.2.1 s.2.2.2.2.2.2.2.1 s.2.2.2.2.2.2.2.2.1 s.2.2.2.2.2.2.2.2.2.1 s.2.2.2.2.2.2.2.2.2.2.1 s.2.2.2.2.2.2.2.2.2.2.2.1 s.2.2.2.2.2.2.2.2.2.2.2.2 hI (fun b1 b2 b3 b4 b5 b6 b7 b8 b9 b10 b11 b12 b13 h9 hm => hk (b1, b2, b3, b4, b5, b6, b7, b8, b9, b10, b11, b12, b13) h9 hm)) (a1, a2, a3, a4, a5, a6, a7, a8, a9, a10, a11, a12, a13) h
theorem lp14 {A1 A2 A3 A4 A5 A6 A7 A8 A9 A10 A11 A12 A13 A14 : Type} (W : Nat → A1 → A2 → A3 → A4 → A5 → A6 → A7 → A8 → A9 → A10 → A11 → A12 → A13 → A14 → Prop) (I : A1 → A2 → A3 → A4 → A5 → A6 → A7 → A8 → A9 → A10 → A11 → A12 → A13 → A14 → Prop) (μ : A1 → A2 → A3 → A4 → A5 → A6 → A7 → A8 → A9 → A10 → A11 → A12 → A13 → A14 → Nat) (hs : ∀ (n : Nat) (a1 : A1) (a2 : A2) (a3 : A3) (a4 : A4) (a5 : A5) (a6 : A6) (a7 : A7) (a8 : A8) (a9 : A9) (a10 : A10) (a11 : A11) (a12 : A12) (a13 : A13) (a14 : A14), I a1 a2 a3 a4 a5 a6 a7 a8 a9 a10 a11 a12 a13 a14 → (∀ (b1 : A1) (b2 : A2) (b3 : A3) (b4 : A4) (b5 : A5) (b6 : A6) (b7 : A7) (b8 : A8) (b9 : A9) (b10 : A10) (b11 : A11) (b12 : A12) (b13 : A13) (b14 : A14), I b1 b2 b3 b4 b5 b6 b7 b8 b9 b10 b11 b12 b13 b14 → μ b1 b2 b3 b4 b5 b6 b7 b8 b9 b10 b11 b12 b13 b14 < μ a1 a2 a3 a4 a5 a6 a7 a8 a9 a10 a11 a12 a13 a14 → W n b1 b2 b3 b4 b5 b6 b7 b8 b9 b10 b11 b12 b13 b14) → W (n + 1) a1 a2 a3 a4 a5 a6 a7 a8 a9 a10 a11 a12 a13 a14) (a1 : A1) (a2 : A2) (a3 : A3) (a4 : A4) (a5 : A5) (a6 : A6) (a7 : A7) (a8 : A8) (a9 : A9) (a10 : A10) (a11 : A11) (a12 : A12) (a13 : A13) (a14 : A14) (h : I a1 a2 a3 a4 a5 a6 a7 a8 a9 a10 a11 a12 a13 a14) : ∃ n, W n a1 a2 a3 a4 a5 a6 a7 a8 a9 a10 a11 a12 a13 a14 :=
  loop_m (σ := A1 × A2 × A3 × A4 × A5 × A6 × A7 × A8 × A9 × A10 × A11 × A12 × A13 × A14) (fun n s => W n s.1 s.2.1 s.2.2.1 s.2.2.2.1 s.2.2.2.2.1 s.2.2.2.2.2.1 s.2.2.2.2.2.2.1 s.2.2.2.2.2.2.2.1 s.2.2.2.2.2.2.2.2.1 s.2.2.2.2.2.2.2.2.2.1 s.2.2.2.2.2.2.2.2.2.2.1 s.2.2.2.2.2.2.2.2.2.2.2.1 s.2.2.2.2.2.2.2.2.2.2.2.2.1 s.2.2.2.2.2.2.2.2.2.2.2.2.2) (fun s => I s.1 s.2.1 s.2.2.1 s.2.2.2.1 s.2.2.2.2.1 s.2.2.2.2.2.1 s.2.2.2.2.2.2.1 s.2.2.2.2.2.2.2.1 s.2.2.2.2.2.2.2.2.1 s.2.2.2.2.2.2.2.2.2.1 s.2.2.2.2.2.2.2.2.2.2.1 s.2.2.2.2.2.2.2.2.2.2.2.1 s.2.2.2.2.2.2.2.2.2.2.2.2.1 s.2.2.2.2.2.2.2.2.2.2.2.2.2) (fun s => μ s.1 s.2.1 s.2.2.1 s.2.2.2.1 s.2.2.2.2.1 s.2.2.2.2.2.1 s.2.2.2.2.2.2.1 s.2.2.2.2.2.2.2.1 s.2.2.2.2.2.2.2.2.1 s.2.2.2.2.2.2.2.2.2.1 s.2.2.2.2.2.2.2.2.2.2.1 s.2.2.2.2.2.2.2.2.2.2.2.1 s.2.2.2.2.2.2.2.2.2.2.2.2.1 s.2.2.2.2.2.2.2.2.2.2.2.2.2) (fun n s hI hk => hs n s.1 s.2.1 s.2.2.1 s.2.2.2.1 s.2.2.2.2.1 s.2.2.2.2.2.1 s.2.2.2.2.2.2.1 s.2.2.2.2.2.2.2.1 s.2.2.2.2.2.2.2.2.1 s.2.2.2.2.2.2.2.2.2.1 s.2.2.2.2.2.2.2.2.2.2.1 s.2.2.2.2.2.2.2.2.2.2.2.1 s.2.2.2.2.2.2.2.2.2.2.2.2.1 s.2.2.2.2.2.2.2.2.2.2.2.2.2 hI (fun b1 b2 b3 b4 b5 b6 b7 b8 b9 b10 b11 b12 b13 b14 h9 hm => hk (b1, b2, b3, b4, b5, b6, b7, b8, b9, b10, b11, b12, b13, b14) h9 hm)) (a1, a2, a3, a4, a5, a6, a7, a8, a9, a10, a11, a12, a13, a14) h
theorem lp15 {A1 A2 A3 A4 A5 A6 A7 A8 A9 A10 A11 A12 A13 A14 A15 : Type} (W : Nat → A1 → A2 → A3 → A4 → A5 → A6 → A7 → A8 → A9 → A10 → A11 → A12 → A13 → A14 → A15 → Prop) (I : A1 → A2 → A3 → A4 → A5 → A6 → A7 → A8 → A9 → A10 → A11 → A12 → A13 → A14 → A15 → Prop) (μ : A1 → A2 → A3 → A4 → A5 → A6 → A7 → A8 → A9 → A10 → A11 → A12 → A13 → A14 → A15 → Nat) (hs : ∀ (n : Nat) (a1 : A1) (a2 : A2) (a3 : A3) (a4 : A4) (a5 : A5) (a6 : A6) (a7 : A7) (a8 : A8) (a9 : A9) (a10 : A10) (a11 : A11) (a12 : A12) (a13 : A13) (a14 : A14) (a15 : A15), I a1 a2 a3 a4 a5 a6 a7 a8 a9 a10 a11 a12 a13 a14 a15 → (∀ (b1 : A1) (b2 : A2) (b3 : A3) (b4 : A4) (b5 : A5) (b6 : A6) (b7 : A7) (b8 : A8) (b9 : A9) (b10 : A10) (b11 : A11) (b12 : A12) (b13 : A13) (b14 : A14) (b15 : A15), I b1 b2 b3 b4 b5 b6 b7 b8 b9 b10 b11 b12 b13 b14 b15 → μ b1 b2 b3 b4 b5 b6 b7 b8 b9 b10 b11 b12 b13 b14 b15 < μ a1 a2 a3 a4 a5 a6 a7 a8 a9 a10 a11 a12 a13 a14 a15 → W n b1 b2 b3 b4 b5 b6 b7 b8 b9 b10 b11 b12 b13 b14 b15) → W (n + 1) a1 a2 a3 a4 a5 a6 a7 a8 a9 a10 a11 a12 a13 a14 a15) (a1 : A1) (a2 : A2) (a3 : A3) (a4 : A4) (a5 : A5) (a6 : A6) (a7 : A7) (a8 : A8) (a9 : A9) (a10 : A10) (a11 : A11) (a12 : A12) (a13 : A13) (a14 : A14) (a15 : A15) (h : I a1 a2 a3 a4 a5 a6 a7 a8 a9 a10 a11 a12 a13 a14 a15) : ∃ n, W n a1 a2 a3 a4 a5 a6 a7 a8 a9 a10 a11 a12 a13 a14 a15 :=
  loop_m (σ := A1 × A2 × A3 × A4 × A5 × A6 × A7 × A8 × A9 × A10 × A11 × A12 × A13 × A14 × A15) (fun n s => W n s.1 s.2.1 s.2.2.1 s.2.2.2.1 s.2.2.2.2.1 s.2.2.2.2.2.1 s.2.2.2.2.2.2.1 s.2.2.2.2.2.2.2.1 s.2.2.2.2.2.2.2.2.1 s.2.2.2.2.2.2.2.2.2.1 s.2.2.2.2.2.2.2.2.2.2.1 s.2.2.2.2.2.2.2.2.2.2.2.1 s.2.2.2.2.2.2.2.2.2.2.2.2.1 s.2.2.2.2.2.2.2.2.2.2.2.2.2.1 s.2.2.2.2.2.2.2.2.2.2.2.2.2.2) (fun s => I s.1 s.2.1 s.2.2.1 s.2.2.2.1 s.2.2.2.2.1 s.2.2.2.2.2.1 s.2.2.2.2.2.2.1 s.2.2.2.2.2.2.2.1 s.2.2.2.2.2.2.2.2.1 s.2.2.2.2.2.2.2.2.2.1 s.2.2.2.2.2.2.2.2.2.2.1 s.2.2.2.2.2.2.2.2.2.2.2.1 s.2.2.2.2.2.2.2.2.2.2.2.2.1 s.2.2.2.2.2.2.2.2.2.2.2.2.2.1 s.2.2.2.2.2.2.2.2.2.2.2.2.2.2) (fun s => μ s.1 s.2.1 s.2.2.1 s.2.2.2.1 s.2.2.2.2.1 s.2.2.2.2.2.1 s.2.2.2.2.2.2.1 s.2.2.2.2.2.2.2.1 s.2.2.2.2.2.2.2.2.1 s.2.2.2.2.2.2.2.2.2.1 s.2.2.2.2.2.2.2.2.2.2.1 s.2.2.2.2.2.2.2.2.2.2.2.1 s.2.2.2.2.2.2.2.2.2.2.2.2.1 s.2.2.2.2.2.2.2.2.2.2.2.2.2.1 s.2.2.2.2.2.2.2.2.2.2.2.2.2.2) (fun n s hI hk => hs n s.1 s.2.1 s.2.2.1 s.2.2.2.1 s.2.2.2.2.1 s.2.2.2.2.2.1 s.2.2.2.2.2.2.1 s.2.2.2.2.2.2.2.1 s.2.2.2.2.2.2.2.2.1 s.2.2.2.2.2.2.2.2.2.1 s.2.2.2.2.2.2.2.2.2.2.1 s.2.2.2.2.2.2.2.2.2.2.2.1 s.2.2.2.2.2.2.2.2.2.2.2.2.1 s.2.2.2.2.2.2.2.2.2.2.2.2.2.1 s.2.2.2.2.2.2.2.2.2.2.2.2.2.2 hI (fun b1 b2 b3 b4 b5 b6 b7 b8 b9 b10 b11 b12 b13 b14 b15 h9 hm => hk (b1, b2, b3, b4, b5, b6, b7, b8, b9, b10, b11, b12, b13, b14, b15) h9 hm)) (a1, a2, a3, a4, a5, a6, a7, a8, a9, a10, a11, a12, a13, a14, a15) h
theorem lp16 {A1 A2 A3 A4 A5 A6 A7 A8 A9 A10 A11 A12 A13 A14 A15 A16 : Type} (W : Nat → A1 → A2 → A3 → A4 → A5 → A6 → A7 → A8 → A9 → A10 → A11 → A12 → A13 → A14 → A15 → A16 → Prop) (I : A1 → A2 → A3 → A4 → A5 → A6 → A7 → A8 → A9 → A10 → A11 → A12 → A13 → A14 → A15 → A16 → Prop) (μ : A1 → A2 → A3 → A4 → A5 → A6 → A7 → A8 → A9 → A10 → A11 → A12 → A13 → A14 → A15 → A16 → Nat) (hs : ∀ (n : Nat) (a1 : A1) (a2 : A2) (a3 : A3) (a4 : A4) (a5 : A5) (a6 : A6) (a7 : A7) (a8 : A8) (a9 : A9) (a10 : A10) (a11 : A11) (a12 : A12) (a13 : A13) (a14 : A14) (a15 : A15) (a16 : A16), I a1 a2 a3 a4 a5 a6 a7 a8 a9 a10 a11 a12 a13 a14 a15 a16 → (∀ (b1 : A1) (b2 : A2) (b3 : A3) (b4 : A4) (b5 : A5) (b6 : A6) (b7 : A7) (b8 : A8) (b9 : A9) (b10 : A10) (b11 : A11) (b12 : A12) (b13 : A13) (b14 : A14) (b15 : A15) (b16 : A16), I b1 b2 b3 b4 b5 b6 b7 b8 b9 b10 b11 b12 b13 b14 b15 b16 → μ b1 b2 b3 b4 b5 b6 b7 b8 b9 b10 b11 b12 b13 b14 b15 b16 < μ a1 a2 a3 a4 a5 a6 a7 a8 a9 a10 a11 a12 a13 a14 a15 a16 → W n b1 b2 b3 b4 b5 b6 b7 b8 b9 b10 b11 b12 b13 b14 b15 b16) → W (n + 1) a1 a2 a3 a4 a5 a6 a7 a8 a9 a10 a11 a12 a13 a14 a15 a16) (a1 : A1) (a2 : A2) (a3 : A3) (a4 : A4) (a5 : A5) (a6 : A6) (a7 : A7) (a8 : A8) (a9 : A9) (a10 : A10) (a11 : A11) (a12 : A12) (a13 : A13) (a14 : A14) (a15 : A15) (a16 : A16) (h : I a1 a2 a3 a4 a5 a6 a7 a8 a9 a10 a11 a12 a13 a14 a15 a16) : ∃ n, W n a1 a2 a3 a4 a5 a6 a7 a8 a9 a10 a11 a12 a13 a14 a15 a16 :=
  loop_m (σ := A1 × A2 × A3 × A4 × A5 × A6 × A7 × A8 × A9 × A10 × A11 × A12 × A13 × A14 × A15 × A16) (fun n s => W n s.1 s.2.1 s.2.2.1 s.2.2.2.1 s.2.2.2.2.1 s.2.2.2.2.2.1 s.2.2.2.2.2.2.1 s.2.2.2.2.2.2.2.1 s.2.2.2.2.2.2.2.2.1 s.2.2.2.2.2.2.2.2.2.1 s.2.2.2.2.2.2.2.2.2.2.1 s.2.2.2.2.2.2.2.2.2.2.2.1 s.2.2.2.2.2.2.2.2.2.2.2.2.1 s.2.2.2.2.2.2.2.2.2.2.2.2.2.1 s.2.2.2.2.2.2.2.2.2.2.2.2.2.2.1 s.2.2.2.2.2.2.2.2.2.2.2.2.2.2.2) (fun s => I s.1 s.2.1 s.2.2.1 s.2.2.2.1 s.2.2.2.2.1 s.2.2.2.2.2.1 s.2.2.2.2.2.2.1 s.2.2.2.2.2.2.2.1 s.2.2.2.2.2.2.2.2.1 s.2.2.2.2.2.2.2.2.2.1 s.2.2.2.2.2.2.2.2.2.2.1 s.2.2.2.2.2.2.2.2.2.2.2.1 s.2.2.2.2.2.2.2.2.2.2.2.2.1 s.2.2.2.2.2.2.2.2.2.2.2.2.2.1 s.2.2.2.2.2.2.2.2.2.2.2.2.2.2.1 s.2.2.2.2.2.2.2.2.2.2.2.2.2.2.2) (fun s => μ s.1 s.2.1 s.2.2.1 s.2.2.2.1 s.2.2.2.2.1 s.2.2.2.2.2.1 s.2.2.2.2.2.2.1 s.2.2.2.2.2.2.2.1 s.2.2.2.2.2.2.2.2.1 s.2.2.2.2.2.2.2.2.2.1 s.2.2.2.2.2.2.2.2.2.2.1 s.2.2.2.2.2.2.2.2.2.2.2.1 s.2.2.2.2.2.2.2.2.2.2.2.2.1 s.2.2.2.2.2.2.2.2.2.2.2.2.2.1 s.2.2.2.2.2.2.2.2.2.2.2.2.2.2.1 s.2.2.2.2.2.2.2.2.2.2.2.2.2.2.2) (fun n s hI hk => hs n s.1 s.2.1 s.2.2.1 s.2.2.2.1 s.2.2.2.2.1 s.2.2.2.2.2.1 s.2.2.2.2.2.2.1 s.2.2.2.2.2.2.2.1 s.2.2.2.2.2.2.2.2.1 s.2.2.2.2.2.2.2.2.2.1 s.2.2.2.2.2.2.2.2.2.2.1 s.2.2.2.2.2.2.2.2.2.2.2.1 s.2.2.2.2.2.2.2.2.2.2.2.2.1 s.2.2.2.2.2.2.2.2.2.2.2.2.2.1 s.2.2.2.2.2.2.2.2.2.2.2.2.2.2.1 s.2.2.2.2.2.2.2.2.2.2.2.2.2.2.2 hI (fun b1 b2 b3 b4 b5 b6 b7 b8 b9 b10 b11 b12 b13 b14 b15 b16 h9 hm => hk (b1, b2, b3, b4, b5, b6, b7, b8, b9, b10, b11, b12, b13, b14, b15, b16) h9 hm)) (a1, a2, a3, a4, a5, a6, a7, a8, a9, a10, a11, a12, a13, a14, a15, a16) h
theorem pk_least (P : Nat → Prop) (h : ∃ k, P k) : ∃ k, P k ∧ ∀ j, j < k → ¬ P j := by
  obtain ⟨k, hk⟩ := h
  induction k using Nat.strongRecOn with
  | ind k ih =>
    by_cases e : ∃ j, j < k ∧ P j
    · obtain ⟨j, hj, pj⟩ := e
      exact ih j hj pj
    · exact ⟨k, hk, fun j hj pj => e ⟨j, hj, pj⟩⟩
theorem rp1 {ρ A1 : Type} (W : Nat → (ρ → Prop) → A1 → Prop) (ok : A1 → Prop) (μ : A1 → Nat) (val : A1 → ρ)
    (hs : ∀ (d : Nat) (post : ρ → Prop) (a1 : A1), ok a1 → post (val a1) → (∀ (post' : ρ → Prop) (b1 : A1), ok b1 → μ b1 < μ a1 → post' (val b1) → W d post' b1) → W (d + 1) post a1) :
    ∀ (d : Nat) (post : ρ → Prop) (a1 : A1), ok a1 → μ a1 < d → post (val a1) → W d post a1 := by
  intro d
  induction d with
  | zero => intro post a1 _ h; omega
  | succ d ih =>
    intro post a1 ho hm hp
    exact hs d post a1 ho hp (fun post' b1 ho' hm' hp' => ih post' b1 ho' (by omega) hp')
theorem rp2 {ρ A1 A2 : Type} (W : Nat → (ρ → Prop) → A1 → A2 → Prop) (ok : A1 → A2 → Prop) (μ : A1 → A2 → Nat) (val : A1 → A2 → ρ)
    (hs : ∀ (d : Nat) (post : ρ → Prop) (a1 : A1) (a2 : A2), ok a1 a2 → post (val a1 a2) → (∀ (post' : ρ → Prop) (b1 : A1) (b2 : A2), ok b1 b2 → μ b1 b2 < μ a1 a2 → post' (val b1 b2) → W d post' b1 b2) → W (d + 1) post a1 a2) :
    ∀ (d : Nat) (post : ρ → Prop) (a1 : A1) (a2 : A2), ok a1 a2 → μ a1 a2 < d → post (val a1 a2) → W d post a1 a2 := by
  intro d
  induction d with
  | zero => intro post a1 a2 _ h; omega
  | succ d ih =>
    intro post a1 a2 ho hm hp
    exact hs d post a1 a2 ho hp (fun post' b1 b2 ho' hm' hp' => ih post' b1 b2 ho' (by omega) hp')
theorem rp3 {ρ A1 A2 A3 : Type} (W : Nat → (ρ → Prop) → A1 → A2 → A3 → Prop) (ok : A1 → A2 → A3 → Prop) (μ : A1 → A2 → A3 → Nat) (val : A1 → A2 → A3 → ρ)
    (hs : ∀ (d : Nat) (post : ρ → Prop) (a1 : A1) (a2 : A2) (a3 : A3), ok a1 a2 a3 → post (val a1 a2 a3) → (∀ (post' : ρ → Prop) (b1 : A1) (b2 : A2) (b3 : A3), ok b1 b2 b3 → μ b1 b2 b3 < μ a1 a2 a3 → post' (val b1 b2 b3) → W d post' b1 b2 b3) → W (d + 1) post a1 a2 a3) :
    ∀ (d : Nat) (post : ρ → Prop) (a1 : A1) (a2 : A2) (a3 : A3), ok a1 a2 a3 → μ a1 a2 a3 < d → post (val a1 a2 a3) → W d post a1 a2 a3 := by
  intro d
  induction d with
  | zero => intro post a1 a2 a3 _ h; omega
  | succ d ih =>
    intro post a1 a2 a3 ho hm hp
    exact hs d post a1 a2 a3 ho hp (fun post' b1 b2 b3 ho' hm' hp' => ih post' b1 b2 b3 ho' (by omega) hp')
theorem rp4 {ρ A1 A2 A3 A4 : Type} (W : Nat → (ρ → Prop) → A1 → A2 → A3 → A4 → Prop) (ok : A1 → A2 → A3 → A4 → Prop) (μ : A1 → A2 → A3 → A4 → Nat) (val : A1 → A2 → A3 → A4 → ρ)
    (hs : ∀ (d : Nat) (post : ρ → Prop) (a1 : A1) (a2 : A2) (a3 : A3) (a4 : A4), ok a1 a2 a3 a4 → post (val a1 a2 a3 a4) → (∀ (post' : ρ → Prop) (b1 : A1) (b2 : A2) (b3 : A3) (b4 : A4), ok b1 b2 b3 b4 → μ b1 b2 b3 b4 < μ a1 a2 a3 a4 → post' (val b1 b2 b3 b4) → W d post' b1 b2 b3 b4) → W (d + 1) post a1 a2 a3 a4) :
    ∀ (d : Nat) (post : ρ → Prop) (a1 : A1) (a2 : A2) (a3 : A3) (a4 : A4), ok a1 a2 a3 a4 → μ a1 a2 a3 a4 < d → post (val a1 a2 a3 a4) → W d post a1 a2 a3 a4 := by
  intro d
  induction d with
  | zero => intro post a1 a2 a3 a4 _ h; omega
  | succ d ih =>
    intro post a1 a2 a3 a4 ho hm hp
    exact hs d post a1 a2 a3 a4 ho hp (fun post' b1 b2 b3 b4 ho' hm' hp' => ih post' b1 b2 b3 b4 ho' (by omega) hp')
theorem rp5 {ρ A1 A2 A3 A4 A5 : Type} (W : Nat → (ρ → Prop) → A1 → A2 → A3 → A4 → A5 → Prop) (ok : A1 → A2 → A3 → A4 → A5 → Prop) (μ : A1 → A2 → A3 → A4 → A5 → Nat) (val : A1 → A2 → A3 → A4 → A5 → ρ)
    (hs : ∀ (d : Nat) (post : ρ → Prop) (a1 : A1) (a2 : A2) (a3 : A3) (a4 : A4) (a5 : A5), ok a1 a2 a3 a4 a5 → post (val a1 a2 a3 a4 a5) → (∀ (post' : ρ → Prop) (b1 : A1) (b2 : A2) (b3 : A3) (b4 : A4) (b5 : A5), ok b1 b2 b3 b4 b5 → μ b1 b2 b3 b4 b5 < μ a1 a2 a3 a4 a5 → post' (val b1 b2 b3 b4 b5) → W d post' b1 b2 b3 b4 b5) → W (d + 1) post a1 a2 a3 a4 a5) :
    ∀ (d : Nat) (post : ρ → Prop) (a1 : A1) (a2 : A2) (a3 : A3) (a4 : A4) (a5 : A5), ok a1 a2 a3 a4 a5 → μ a1 a2 a3 a4 a5 < d → post (val a1 a2 a3 a4 a5) → W d post a1 a2 a3 a4 a5 := by
  intro d
  induction d with
  | zero => intro post a1 a2 a3 a4 a5 _ h; omega
  | succ d ih =>
    intro post a1 a2 a3 a4 a5 ho hm hp
    exact hs d post a1 a2 a3 a4 a5 ho hp (fun post' b1 b2 b3 b4 b5 ho' hm' hp' => ih post' b1 b2 b3 b4 b5 ho' (by omega) hp')
theorem rp6 {ρ A1 A2 A3 A4 A5 A6 : Type} (W : Nat → (ρ → Prop) → A1 → A2 → A3 → A4 → A5 → A6 → Prop) (ok : A1 → A2 → A3 → A4 → A5 → A6 → Prop) (μ : A1 → A2 → A3 → A4 → A5 → A6 → Nat) (val : A1 → A2 → A3 → A4 → A5 → A6 → ρ)
    (hs : ∀ (d : Nat) (post : ρ → Prop) (a1 : A1) (a2 : A2) (a3 : A3) (a4 : A4) (a5 : A5) (a6 : A6), ok a1 a2 a3 a4 a5 a6 → post (val a1 a2 a3 a4 a5 a6) → (∀ (post' : ρ → Prop) (b1 : A1) (b2 : A2) (b3 : A3) (b4 : A4) (b5 : A5) (b6 : A6), ok b1 b2 b3 b4 b5 b6 → μ b1 b2 b3 b4 b5 b6 < μ a1 a2 a3 a4 a5 a6 → post' (val b1 b2 b3 b4 b5 b6) → W d post' b1 b2 b3 b4 b5 b6) → W (d + 1) post a1 a2 a3 a4 a5 a6) :
    ∀ (d : Nat) (post : ρ → Prop) (a1 : A1) (a2 : A2) (a3 : A3) (a4 : A4) (a5 : A5) (a6 : A6), ok a1 a2 a3 a4 a5 a6 → μ a1 a2 a3 a4 a5 a6 < d → post (val a1 a2 a3 a4 a5 a6) → W d post a1 a2 a3 a4 a5 a6 := by
  intro d
  induction d with
  | zero => intro post a1 a2 a3 a4 a5 a6 _ h; omega
  | succ d ih =>
    intro post a1 a2 a3 a4 a5 a6 ho hm hp
    exact hs d post a1 a2 a3 a4 a5 a6 ho hp (fun post' b1 b2 b3 b4 b5 b6 ho' hm' hp' => ih post' b1 b2 b3 b4 b5 b6 ho' (by omega) hp')
theorem rec_p {σ ρ : Type} (W : Nat → (ρ → Prop) → σ → Prop) (ok : σ → Prop) (μ : σ → Nat) (val : σ → ρ)
    (hs : ∀ d s post, ok s → post (val s) → (∀ s' post', ok s' → μ s' < μ s → post' (val s') → W d post' s') → W (d + 1) post s) :
    ∀ d s post, ok s → μ s < d → post (val s) → W d post s := by
  intro d
  induction d with
  | zero => intro s post _ h; omega
  | succ d ih =>
    intro s post ho hm hp
    exact hs d s post ho hp (fun s' post' ho' hm' hp' => ih s' post' ho' (by omega) hp')
theorem rec_q {σ ρ : Type} (W : Nat → (ρ → Prop) → σ → Prop) (ok : σ → Prop) (μ : σ → Nat) (Q : σ → ρ → Prop)
    (hs : ∀ d s post, ok s → (∀ r, Q s r → post r) → (∀ s' post', ok s' → μ s' < μ s → (∀ r, Q s' r → post' r) → W d post' s') → W (d + 1) post s) :
    ∀ d s post, ok s → μ s < d → (∀ r, Q s r → post r) → W d post s := by
  intro d
  induction d with
  | zero => intro s post _ h; omega
  | succ d ih =>
    intro s post ho hm hp
    exact hs d s post ho hp (fun s' post' ho' hm' hp' => ih s' post' ho' (by omega) hp')
def bx_sum (f : Nat → Int32) : Nat → Int32
  | 0 => 0
  | n + 1 => bx_sum f n + f n
theorem ek_u {A : Prop} {B : Nat → Prop} {k N : Nat} (hk : k < N) (h : B k) : (some k = none → A) ∧ (∀ y : Nat, some k = some y → (y < N ∧ B y)) :=
  ⟨fun z => absurd z (Option.some_ne_none k), fun _ e => (by cases e; exact ⟨hk, h⟩)⟩
theorem ek_nu {A : Prop} {B : Nat → Prop} (h : A) : ((none : Option Nat) = none → A) ∧ (∀ y : Nat, (none : Option Nat) = some y → B y) :=
  ⟨fun _ => h, fun _ e => (by cases e)⟩
theorem ek_if {c d A B : Prop} (e : c ↔ d) (f : d → A) (g : ¬ d → B) : (c → A) ∧ (¬ c → B) :=
  ⟨fun z => f (e.mp z), fun z => g (fun y => z (e.mpr y))⟩
theorem ek_v {α : Sort _} {P : α → Prop} {a b : α} (e : a = b) (h : P b) : P a := e ▸ h
theorem co_some {x : Option Nat} {A : Prop} {B : Nat → Prop} (i : Nat) (h : B i) (hx : x = some i := by rfl) : (x = none → A) ∧ (∀ y : Nat, x = some y → B y) := by
  subst hx
  exact ⟨fun e => (nomatch e), fun y e => Option.some.inj e ▸ h⟩
theorem co_none {x : Option Nat} {A : Prop} {B : Nat → Prop} (h : A) (hx : x = none := by rfl) : (x = none → A) ∧ (∀ y : Nat, x = some y → B y) := by
  subst hx
  exact ⟨fun _ => h, fun y e => (nomatch e)⟩
theorem co_any {x : Option Nat} {A : Prop} {B : Nat → Prop} (hn : x = none → A) (hs : ∀ i : Nat, x = some i → B i) : (x = none → A) ∧ (∀ y : Nat, x = some y → B y) := ⟨hn, hs⟩
theorem co_2 {P : Nat → Prop} (h0 : P 0) (h1 : P 1) {i : Nat} (hi : i < 2) : P i :=
  match i, hi with
  | 0, _ => h0
  | 1, _ => h1
theorem co_3 {P : Nat → Prop} (h0 : P 0) (h1 : P 1) (h2 : P 2) {i : Nat} (hi : i < 3) : P i :=
  match i, hi with
  | 0, _ => h0
  | 1, _ => h1
  | 2, _ => h2
theorem co_4 {P : Nat → Prop} (h0 : P 0) (h1 : P 1) (h2 : P 2) (h3 : P 3) {i : Nat} (hi : i < 4) : P i :=
  match i, hi with
  | 0, _ => h0
  | 1, _ => h1
  | 2, _ => h2
  | 3, _ => h3
theorem co_dec {N : Nat} {P : Nat → Prop} [DecidablePred P] (h : (List.range N).all (fun i => decide (P i)) = true) {i : Nat} (hi : i < N) : P i := by
  have := List.all_eq_true.mp h i (List.mem_range.mpr hi)
  exact of_decide_eq_true this
theorem co_tab {α : Type} {l : List α} {d : α} {P : α → Prop} (h : ∀ a, a ∈ l → P a) {i : Nat} (hi : i < l.length) : P (l.getD i d) := by
  rw [List.getD_eq_getElem?_getD, List.getElem?_eq_getElem hi]
  exact h _ (List.getElem_mem hi)
theorem pk_mu {x : Int32} {L : Nat} (h0 : ¬ x < 0) (h : ¬ nI L ≤ x) (hL : L < 2 ^ 31) : ∃ j : Nat, j < L ∧ x = nI j ∧ x + 1 = nI (j + 1) ∧ x.toNatClampNeg = j ∧ L - (x + 1).toNatClampNeg < L - x.toNatClampNeg := by
  obtain ⟨j, hj, rfl⟩ := nI_of h0
  have hl : j < L := Nat.not_le.mp fun q => h (nI_le q hj)
  refine ⟨j, hl, rfl, nI_1 j, nI_clamp hj, ?_⟩
  rw [nI_1, nI_clamp (by omega), nI_clamp hj]
  omega
theorem op_s {α : Type} {r : Option α} {A : Prop} {B : α → Prop} {y : α} (h : r = some y) (b : B y) : (r = none → A) ∧ ∀ z, r = some z → B z :=
  ⟨fun e => (by rw [h] at e; cases e), fun z e => (by rw [h] at e; cases e; exact b)⟩
def l_holds {α : Type} (a : Nat → Option Nat) (LP : List Nat) (p : Nat → α) (c : Nat) (b : Nat → α) : Prop :=
  ∀ j, j < c → ∃ y, a j = some y ∧ y ∈ LP ∧ p y = b j
theorem l_holds_0 {α : Type} {a : Nat → Option Nat} {LP : List Nat} {p b : Nat → α} : l_holds a LP p 0 b := fun j h => absurd h (Nat.not_lt_zero j)
theorem l_in_new (LP : List Nat) (q : Nat) : q ∈ LP ++ [q] := List.mem_append.mpr (Or.inr (List.mem_singleton.mpr rfl))
def l_sum (b : Nat → Int32) : Nat → Int32
  | 0 => 0
  | k + 1 => l_sum b k + b k
theorem sb_shr0 (x : Int32) : x >>> ((0 : Int32) &&& 31) = x := by
  rw [show ((0 : Int32) &&& 31) = 0 by decide]
  simp
theorem sb_shl0 (x : Int32) : x <<< ((0 : Int32) &&& 31) = x := by
  rw [show ((0 : Int32) &&& 31) = 0 by decide]
  simp
theorem sb_cl0 : (0 : Int32).toNatClampNeg = 0 := by decide
theorem sb_m1 {p : Nat} (h : 0 < p) : nI p + (-1) = nI (p - 1) := by
  obtain ⟨q, rfl⟩ : ∃ q, p = q + 1 := ⟨p - 1, by omega⟩
  exact pk_m1 q
def sb_b (c : Nat) : Int32 := (nI c).toInt8.toInt32
theorem sb_byte : ∀ c, c < 256 → sb_b c &&& 255 = nI c ∧ ((nI c).toUInt32 % 65536).toInt32 = nI c ∧ nI c ≤ 255 := by decide +kernel
def sb_Fit (a : Nat → Int32) : Prop := ∀ j, fits .byte (.int (a j)) = true
def sb_Lat (t : Nat → Nat) (n : Nat) (a : Nat → Int32) : Prop := ∀ j, j < n → t j < 256 ∧ a j = sb_b (t j)
theorem sb_fitB (c : Nat) : fits .byte (.int (sb_b c)) = true := pk_fb _
theorem sb_fit0 : sb_Fit (fun _ => 0) := fun _ => by
  show fits .byte (.int 0) = true
  decide
theorem sb_fitU {a : Nat → Int32} {k : Nat} {x : Int32} (h : sb_Fit a) (hx : fits .byte (.int x) = true) : sb_Fit (upd a k x) := by
  intro j
  by_cases e : j = k
  · subst e
    rw [pk_us]
    exact hx
  · rw [pk_un e]
    exact h j
def sb_cat (t : Nat → Nat) (n : Nat) (s : Nat → Nat) : Nat → Nat := fun j => if j < n then t j else s (j - n)
theorem sb_cat_lo {t s : Nat → Nat} {n j : Nat} (h : j < n) : sb_cat t n s j = t j := if_pos h
theorem sb_cat_hi {t s : Nat → Nat} {n j : Nat} : sb_cat t n s (n + j) = s j := by
  show (if n + j < n then t (n + j) else s (n + j - n)) = s j
  rw [if_neg (by omega), Nat.add_sub_cancel_left]
theorem sb_latPut {t s : Nat → Nat} {n w : Nat} {a a' : Nat → Int32} (h : sb_Lat t n a) (hk : ∀ j, j < n → a' j = a j) (hs : ∀ i, i < w → s i < 256 ∧ a' (n + i) = sb_b (s i)) : sb_Lat (sb_cat t n s) (n + w) a' := by
  intro j hj
  by_cases e : j < n
  · rw [sb_cat_lo e, hk j e]
    exact h j e
  · obtain ⟨i, rfl⟩ : ∃ i, j = n + i := ⟨j - n, by omega⟩
    rw [sb_cat_hi]
    exact hs i (by omega)
theorem sb_latKeep {t : Nat → Nat} {n : Nat} {a a' : Nat → Int32} (h : sb_Lat t n a) (hk : ∀ j, j < n → a' j = a j) : sb_Lat t n a' := fun j hj => by
  rw [hk j hj]
  exact h j hj
def sb_cap (q m : Nat) : Nat := if q ≤ m then m else if 2 * m + 2 < q then q else 2 * m + 2
def sb_Room (q m mc ms : Nat) : Prop := q ≤ m ∨ (1 ≤ mc ∧ sb_cap q m ≤ ms ∧ sb_cap q m ≤ 65536)
theorem sb_cap_ge (q m : Nat) : q ≤ sb_cap q m := by
  unfold sb_cap
  split
  · omega
  · split <;> omega
theorem sb_cap_gem (q m : Nat) : m ≤ sb_cap q m := by
  unfold sb_cap
  split
  · omega
  · split <;> omega
theorem sb_cap_le {q m mc ms : Nat} (hm : m ≤ 65536) (hr : sb_Room q m mc ms) : sb_cap q m ≤ 65536 := by
  rcases hr with h | h
  · rw [sb_cap, if_pos h]
    exact hm
  · exact h.2.2
theorem sb_at {P : Int32 → Prop} {x y : Int32} (e : x = y) (h : P y) : P x := e ▸ h
def sb_dg (w : Nat) : Nat := if w < 10 then 1 else if w < 100 then 2 else if w < 1000 then 3 else if w < 10000 then 4 else if w < 100000 then 5 else if w < 1000000 then 6 else if w < 10000000 then 7 else if w < 100000000 then 8 else if w < 1000000000 then 9 else 10
def sb_dec (v : Nat) : Nat → Nat := fun i => 48 + v / 10 ^ (sb_dg v - 1 - i) % 10
theorem sb_dg_in (w : Nat) : 1 ≤ sb_dg w ∧ sb_dg w ≤ 10 := by
  unfold sb_dg
  constructor <;> (repeat' split) <;> omega
theorem sb_dg100 {w : Nat} (h : 100 ≤ w) (hw : w < 2 ^ 31) : sb_dg w = sb_dg (w / 100) + 2 := by
  rw [sb_dg, sb_dg, if_neg (show ¬ w < 10 by omega), if_neg (show ¬ w < 100 by omega)]
  by_cases h3 : w < 1000
  · rw [if_pos h3, if_pos (show w / 100 < 10 by omega)]
  rw [if_neg h3, if_neg (show ¬ w / 100 < 10 by omega)]
  by_cases h4 : w < 10000
  · rw [if_pos h4, if_pos (show w / 100 < 100 by omega)]
  rw [if_neg h4, if_neg (show ¬ w / 100 < 100 by omega)]
  by_cases h5 : w < 100000
  · rw [if_pos h5, if_pos (show w / 100 < 1000 by omega)]
  rw [if_neg h5, if_neg (show ¬ w / 100 < 1000 by omega)]
  by_cases h6 : w < 1000000
  · rw [if_pos h6, if_pos (show w / 100 < 10000 by omega)]
  rw [if_neg h6, if_neg (show ¬ w / 100 < 10000 by omega)]
  by_cases h7 : w < 10000000
  · rw [if_pos h7, if_pos (show w / 100 < 100000 by omega)]
  rw [if_neg h7, if_neg (show ¬ w / 100 < 100000 by omega)]
  by_cases h8 : w < 100000000
  · rw [if_pos h8, if_pos (show w / 100 < 1000000 by omega)]
  rw [if_neg h8, if_neg (show ¬ w / 100 < 1000000 by omega)]
  by_cases h9 : w < 1000000000
  · rw [if_pos h9, if_pos (show w / 100 < 10000000 by omega)]
  rw [if_neg h9, if_neg (show ¬ w / 100 < 10000000 by omega)]
  rw [if_pos (show w / 100 < 100000000 by omega)]
theorem sb_negT {w : Nat} (h : w < 2 ^ 31) : (-nI w).toInt = -(w : Int) := by
  rw [Int32.toInt_neg, nI_toInt h]
  exact Int.bmod_eq_of_le (by omega) (by omega)
theorem sb_nle {a b : Nat} (ha : a < 2 ^ 31) (hb : b < 2 ^ 31) : -nI a ≤ -nI b ↔ b ≤ a := by
  rw [Int32.le_iff_toInt_le, sb_negT ha, sb_negT hb]
  omega
theorem sb_nlt {a b : Nat} (ha : a < 2 ^ 31) (hb : b < 2 ^ 31) : -nI a < -nI b ↔ b < a := by
  rw [Int32.lt_iff_toInt_lt, sb_negT ha, sb_negT hb]
  omega
theorem sb_cmp {A B : Prop} {x : Int32} (v c : Nat) (f : c ≤ v → A) (g : v < c → B) (hv : v < 2 ^ 31) (hx : x = -nI c := by rfl) (hc : c < 2 ^ 31 := by omega) : (-nI v ≤ x → A) ∧ (¬ -nI v ≤ x → B) := by
  subst hx
  rw [sb_nle hv hc]
  exact ⟨f, fun z => g (by omega)⟩
theorem sb_ndiv {w : Nat} (hw : w < 2 ^ 31) : (-nI w) / 100 = -nI (w / 100) := by
  apply Int32.toInt_inj.mp
  have h100 : (100 : Int32).toInt = 100 := by decide
  rw [Int32.toInt_div, sb_negT hw, h100, sb_negT (by omega), Int.neg_tdiv, Int.tdiv_eq_ediv_of_nonneg (by omega), Int.bmod_eq_of_le (by omega) (by omega)]
  omega
theorem sb_nrem {w : Nat} (hw : w < 2 ^ 31) : (-nI (w / 100)) * 100 - (-nI w) = nI (w % 100) := by
  have h := pk_rem (a := w) (d := 100) hw (by decide) (by decide)
  rw [pk_div hw (by decide) (by decide)] at h
  rw [← h]
  show (-nI (w / 100)) * nI 100 - (-nI w) = nI w - nI (w / 100) * nI 100
  rw [Int32.neg_mul, Int32.sub_neg, Int32.add_comm, ← Int32.sub_eq_add_neg]
end
section
/-! rows on bits, shifts and unsigned numbers, to paste: each family out of a closed proof of our own, whole with what it rests on; each by itself clean at Lean in its own claim (generation 39, form 5). Take a family whole -/
/-! ===== Int32 by its bits: bt x i ===== -/
def bt (x : Int32) (i : Nat) : Bool := x.toBitVec.getLsbD i
theorem b_ext {x y : Int32} (h : ∀ i, i < 32 → bt x i = bt y i) : x = y := Int32.toBitVec_inj.mp (BitVec.eq_of_getLsbD_eq (fun i hi => h i hi))
theorem b_or (x y : Int32) (i : Nat) : bt (x ||| y) i = (bt x i || bt y i) := by unfold bt; rw [Int32.toBitVec_or, BitVec.getLsbD_or]
theorem b_and (x y : Int32) (i : Nat) : bt (x &&& y) i = (bt x i && bt y i) := by unfold bt; rw [Int32.toBitVec_and, BitVec.getLsbD_and]
theorem b_xor (x y : Int32) (i : Nat) : bt (x ^^^ y) i = (bt x i ^^ bt y i) := by unfold bt; rw [Int32.toBitVec_xor, BitVec.getLsbD_xor]
theorem b_big {x : Int32} {i : Nat} (h : 32 ≤ i) : bt x i = false := BitVec.getLsbD_of_ge _ _ h
theorem b_255 (i : Nat) : bt 255 i = decide (i < 8) := by
  rcases Nat.lt_or_ge i 32 with h | h
  · exact (by decide +kernel : ∀ i, i < 32 → bt 255 i = decide (i < 8)) i h
  · rw [b_big h, decide_eq_false (by omega)]
theorem b_65535 (i : Nat) : bt 65535 i = decide (i < 16) := by
  rcases Nat.lt_or_ge i 32 with h | h
  · exact (by decide +kernel : ∀ i, i < 32 → bt 65535 i = decide (i < 16)) i h
  · rw [b_big h, decide_eq_false (by omega)]
theorem b_m1 : ∀ i, i < 32 → bt (-1) i = true := by decide +kernel
theorem b_0 (i : Nat) : bt 0 i = false := BitVec.getLsbD_zero
theorem s_l : ∀ n, n < 32 → ((nI n &&& 31).toBitVec.smod 32).toNat = n := by decide +kernel
theorem s_u : ∀ n, n < 32 → (((nI n).toUInt32 &&& Int32.toUInt32 31).toBitVec % 32).toNat = n := by decide +kernel
theorem b_shl (n : Nat) (hn : n < 32) (x : Int32) {i : Nat} (hi : i < 32) : bt (x <<< (nI n &&& 31)) i = (decide (n ≤ i) && bt x (i - n)) := by
  unfold bt
  rw [Int32.toBitVec_shiftLeft]
  show (x.toBitVec <<< ((nI n &&& 31).toBitVec.smod 32).toNat).getLsbD i = _
  rw [s_l n hn, BitVec.getLsbD_shiftLeft]
  rcases Nat.lt_or_ge i n with h | h
  · simp [h, Nat.not_le.mpr h]
  · simp [hi, h, Nat.not_lt.mpr h]
theorem b_ushr (n : Nat) (hn : n < 32) (x : Int32) (i : Nat) : bt ((x.toUInt32 >>> ((nI n).toUInt32 &&& Int32.toUInt32 31)).toInt32) i = bt x (n + i) := by
  show (x.toUInt32 >>> ((nI n).toUInt32 &&& Int32.toUInt32 31)).toBitVec.getLsbD i = x.toUInt32.toBitVec.getLsbD (n + i)
  rw [UInt32.toBitVec_shiftRight]
  show (x.toUInt32.toBitVec >>> (((nI n).toUInt32 &&& Int32.toUInt32 31).toBitVec % 32).toNat).getLsbD i = _
  rw [s_u n hn, BitVec.getLsbD_ushiftRight]
theorem b_sshr (n : Nat) (hn : n < 32) (x : Int32) {i : Nat} (hi : i < 32) : bt (x >>> (nI n &&& 31)) i = if n + i < 32 then bt x (n + i) else bt x 31 := by
  unfold bt
  rw [Int32.toBitVec_shiftRight]
  show (x.toBitVec.sshiftRight ((nI n &&& 31).toBitVec.smod 32).toNat).getLsbD i = _
  rw [s_l n hn, BitVec.getLsbD_sshiftRight, BitVec.msb_eq_getLsbD_last]
  simp [hi]
theorem b_shl8 (x : Int32) {i : Nat} (hi : i < 32) : bt (x <<< ((8 : Int32) &&& 31)) i = (decide (8 ≤ i) && bt x (i - 8)) := b_shl 8 (by omega) x hi
theorem b_shl16 (x : Int32) {i : Nat} (hi : i < 32) : bt (x <<< ((16 : Int32) &&& 31)) i = (decide (16 ≤ i) && bt x (i - 16)) := b_shl 16 (by omega) x hi
theorem b_shl24 (x : Int32) {i : Nat} (hi : i < 32) : bt (x <<< ((24 : Int32) &&& 31)) i = (decide (24 ≤ i) && bt x (i - 24)) := b_shl 24 (by omega) x hi
theorem b_sshr8 (x : Int32) {i : Nat} (hi : i < 32) : bt (x >>> ((8 : Int32) &&& 31)) i = if 8 + i < 32 then bt x (8 + i) else bt x 31 := b_sshr 8 (by omega) x hi
/-! ===== nI under and, xor, >>>, one bit, 65535 ===== -/
theorem nx_and (a b : Nat) : nI a &&& nI b = nI (a &&& b) := by
  apply Int32.toBitVec_inj.1
  show BitVec.ofNat 32 a &&& BitVec.ofNat 32 b = BitVec.ofNat 32 (a &&& b)
  apply BitVec.eq_of_getLsbD_eq
  intro i hi
  simp [hi]
theorem nx_xor (a b : Nat) : nI a ^^^ nI b = nI (a ^^^ b) := by
  apply Int32.toBitVec_inj.1
  show BitVec.ofNat 32 a ^^^ BitVec.ofNat 32 b = BitVec.ofNat 32 (a ^^^ b)
  apply BitVec.eq_of_getLsbD_eq
  intro i hi
  simp [hi]
theorem nx_cnt : ∀ j : Fin 32, (UInt32.ofNat j.val &&& Int32.toUInt32 31).toNat % 32 = j.val := by decide +kernel
theorem nx_ush {k j : Nat} (hk : k < 65536) (hj : j < 32) : ((nI k).toUInt32 >>> ((nI j).toUInt32 &&& Int32.toUInt32 31)).toInt32 = nI (k >>> j) := by
  have hs : k >>> j ≤ k := by
    rw [Nat.shiftRight_eq_div_pow]
    exact Nat.div_le_self _ _
  have e2 : UInt32.ofNat k >>> (UInt32.ofNat j &&& Int32.toUInt32 31) = UInt32.ofNat (k >>> j) := by
    apply UInt32.toNat_inj.1
    have h1 : (UInt32.ofNat k).toNat = k := Nat.mod_eq_of_lt (by omega)
    have h2 : (UInt32.ofNat (k >>> j)).toNat = k >>> j := Nat.mod_eq_of_lt (by omega)
    rw [UInt32.toNat_shiftRight, nx_cnt ⟨j, hj⟩, h1, h2]
  show (UInt32.ofNat k >>> (UInt32.ofNat j &&& Int32.toUInt32 31)).toInt32 = _
  rw [e2]
  rfl
theorem nx_bit {k j : Nat} (hk : k < 65536) (hj : j < 16) : (((nI k).toUInt32 >>> ((nI j).toUInt32 &&& Int32.toUInt32 31)).toInt32 &&& 1) = 0 ↔ k.testBit j = false := by
  rw [nx_ush hk (by omega)]
  show nI (k >>> j) &&& nI 1 = 0 ↔ _
  rw [nx_and, Nat.and_one_is_mod, ← nI_0, nI_eq (by omega) (by omega), Nat.testBit_eq_decide_div_mod_eq, Nat.shiftRight_eq_div_pow, decide_eq_false_iff_not]
  generalize k / 2 ^ j = z
  omega
theorem nx_mod (k : Nat) : nI k &&& 65535 = nI (k % 65536) := by
  show nI k &&& nI 65535 = _
  rw [nx_and, show (65535 : Nat) = 2 ^ 16 - 1 from rfl, Nat.and_two_pow_sub_one_eq_mod]
theorem nx_m16 {k : Nat} (h : k < 65536) : nI k &&& 65535 = nI k := by rw [nx_mod, Nat.mod_eq_of_lt h]
theorem nx_mask (x : Int32) : ∃ k, k < 65536 ∧ x &&& 65535 = nI k := by
  have e : x = nI x.toBitVec.toNat := by
    apply Int32.toBitVec_inj.1
    show x.toBitVec = BitVec.ofNat 32 x.toBitVec.toNat
    simp
  refine ⟨x.toBitVec.toNat % 65536, Nat.mod_lt _ (by omega), ?_⟩
  rw [← nx_mod, ← e]
/-! ===== Int32 as a set of bits: test, set ===== -/
def nf_M (m : Int32) : Nat := 4294967296 - m.toBitVec.toNat
theorem nf_sh : ∀ l, l < 32 → ((1 : Int32) <<< (nI l &&& 31)).toBitVec = BitVec.twoPow 32 l := by decide +kernel
theorem nf_sl : ∀ l, l < 32 → (((nI l).toUInt32 &&& Int32.toUInt32 31).toBitVec % 32).toNat = l := by decide +kernel
theorem nf_tp : ∀ l, l < 32 → BitVec.twoPow 32 l ≠ 0#32 := by decide +kernel
theorem nf_bit (m : Int32) (l : Nat) (hl : l < 32) : ((m.toUInt32 >>> ((nI l).toUInt32 &&& Int32.toUInt32 31)).toInt32 &&& 1) = 0 ↔ (m &&& ((1 : Int32) <<< (nI l &&& 31))) = 0 := by
  have e : ((m.toUInt32 >>> ((nI l).toUInt32 &&& Int32.toUInt32 31)).toInt32).toBitVec = m.toBitVec >>> l := by
    show m.toBitVec >>> (((nI l).toUInt32 &&& Int32.toUInt32 31).toBitVec % 32) = m.toBitVec >>> l
    rw [BitVec.ushiftRight_eq', nf_sl l hl]
  rw [← Int32.toBitVec_inj, ← Int32.toBitVec_inj, Int32.toBitVec_and, Int32.toBitVec_and, nf_sh l hl, e, BitVec.and_twoPow]
  show (m.toBitVec >>> l &&& 1#32) = 0#32 ↔ _ = 0#32
  rw [BitVec.and_one_eq_setWidth_ofBool_getLsbD, BitVec.getLsbD_ushiftRight, Nat.add_zero]
  cases hb : m.toBitVec.getLsbD l
  · exact ⟨fun _ => by simp, fun _ => by decide⟩
  · exact ⟨fun z => absurd z (by decide), fun z => absurd ((if_pos rfl).symm.trans z) (nf_tp l hl)⟩
theorem nf_gr (m k : Int32) (h : m &&& k = 0) (hk : k ≠ 0) : nf_M (m ||| k) < nf_M m := by
  have hm := m.toBitVec.isLt
  have hm' := (m ||| k).toBitVec.isLt
  have h1 : m.toBitVec.toNat ≤ (m ||| k).toBitVec.toNat := by
    rw [Int32.toBitVec_or, BitVec.toNat_or]
    exact Nat.left_le_or
  have h2 : m.toBitVec.toNat ≠ (m ||| k).toBitVec.toNat := by
    intro e
    have e2 : m = m ||| k := Int32.toBitVec_inj.mp (BitVec.eq_of_toNat_eq e)
    apply hk
    apply Int32.toBitVec_inj.mp
    show k.toBitVec = 0#32
    apply BitVec.eq_of_getLsbD_eq
    intro i hi
    have a : m.toBitVec.getLsbD i = (m.toBitVec.getLsbD i || k.toBitVec.getLsbD i) := by rw [← BitVec.getLsbD_or, ← Int32.toBitVec_or, ← e2]
    have b : (m.toBitVec.getLsbD i && k.toBitVec.getLsbD i) = false := by
      rw [← BitVec.getLsbD_and, ← Int32.toBitVec_and, h]
      exact BitVec.getLsbD_zero
    rw [BitVec.getLsbD_zero]
    revert a b
    cases m.toBitVec.getLsbD i <;> cases k.toBitVec.getLsbD i <;> simp
  unfold nf_M
  omega
/-! ===== a byte read unsigned ===== -/
theorem bp_b (x : Int32) : x.toInt8.toInt32 &&& 255 = x &&& 255 := by
  apply Int32.toBitVec_inj.mp
  rw [Int32.toBitVec_and, Int32.toBitVec_and, Int8.toBitVec_toInt32, Int32.toBitVec_toInt8]
  apply BitVec.eq_of_getLsbD_eq
  intro i hi
  rw [BitVec.getLsbD_and, BitVec.getLsbD_and]
  have hm : ∀ i < 32, 8 ≤ i → (255 : Int32).toBitVec.getLsbD i = false := by decide
  rcases Nat.lt_or_ge i 8 with z | z
  · rw [BitVec.getLsbD_signExtend, BitVec.getLsbD_signExtend, if_pos z, if_pos hi]
    simp only [z, hi, decide_true, Bool.true_and]
  · rw [hm i hi z]; simp
/-! ===== the char cast and 65535 ===== -/
theorem em_w (v : Int32) : ∃ w : Nat, w < 65536 ∧ (v.toUInt32 % 65536).toInt32 = nI w ∧ v &&& 65535 = nI w := by
  have hr := lw_u16_r v
  have h0 : (0 : Int32).toInt = 0 := by decide
  obtain ⟨w, h1, h2⟩ := nI_of (x := lw_u16 v) (by rw [Int32.lt_iff_toInt_lt]; omega)
  have h3 : (v.toUInt32 % 65536).toInt32 = nI w := h2
  rw [h2, nI_toInt h1] at hr
  exact ⟨w, by omega, h3, by rw [← lg_i2c_mask, ← lg_i2c_nf, h3]⟩
/-! ===== Int64 as a set of bits: test, set, clear ===== -/
theorem ts_nf {x : Bool} (h : ¬ x = false) : x = true := by cases x <;> first | rfl | exact absurd rfl h
theorem ts_nt {x : Bool} (h : ¬ x = true) : x = false := by cases x <;> first | rfl | exact absurd rfl h
theorem ts_bit {w : Int64} {s : UInt64} {j : Nat} (hj : j < 64) (hs : s.toNat = j) : ((w.toUInt64 >>> s).toInt64 &&& 1) = 0 ↔ w.toBitVec.getLsbD j = false := by
  have e : (w.toUInt64 >>> s).toInt64.toBitVec = w.toBitVec >>> j := by
    apply BitVec.eq_of_toNat_eq
    show (w.toUInt64 >>> s).toNat = _
    rw [UInt64.toNat_shiftRight, hs, Nat.mod_eq_of_lt hj, BitVec.toNat_ushiftRight]
    rfl
  rw [← Int64.toBitVec_inj, Int64.toBitVec_and, e]
  show w.toBitVec >>> j &&& 1#64 = 0#64 ↔ _
  constructor
  · intro h
    have t := congrArg (fun x => x.getLsbD 0) h
    simpa using t
  · intro h
    apply BitVec.eq_of_getLsbD_eq
    intro i hi
    cases i with
    | zero => simp [h]
    | succ i => simp
theorem ts_or {w m : Int64} {j : Nat} (hj : j < 64) (hm : m.toBitVec = BitVec.twoPow 64 j) : (w ||| m) = w ↔ w.toBitVec.getLsbD j = true := by
  rw [← Int64.toBitVec_inj, Int64.toBitVec_or, hm]
  constructor
  · intro h
    have t := congrArg (fun x => x.getLsbD j) h
    simp only [BitVec.getLsbD_or, BitVec.getLsbD_twoPow] at t
    simpa [hj] using t.symm
  · intro h
    apply BitVec.eq_of_getLsbD_eq
    intro i hi
    rw [BitVec.getLsbD_or, BitVec.getLsbD_twoPow]
    by_cases e : j = i
    · subst e; rw [h, Bool.true_or]
    · simp [e]
theorem ts_and {w m : Int64} {j : Nat} (hj : j < 64) (hm : m.toBitVec = BitVec.twoPow 64 j) : (w &&& (m ^^^ (-1))) = w ↔ w.toBitVec.getLsbD j = false := by
  have ha : (-1 : Int64).toBitVec = BitVec.allOnes 64 := by decide
  rw [← Int64.toBitVec_inj, Int64.toBitVec_and, Int64.toBitVec_xor, hm, ha]
  constructor
  · intro h
    have t := congrArg (fun x => x.getLsbD j) h
    simp only [BitVec.getLsbD_and, BitVec.getLsbD_xor, BitVec.getLsbD_twoPow, BitVec.getLsbD_allOnes] at t
    simpa [hj] using t.symm
  · intro h
    apply BitVec.eq_of_getLsbD_eq
    intro i hi
    rw [BitVec.getLsbD_and, BitVec.getLsbD_xor, BitVec.getLsbD_twoPow, BitVec.getLsbD_allOnes]
    by_cases e : j = i
    · subst e; rw [h, Bool.false_and]
    · simp [e, hi]
/-! ===== lN n to 2^64: shifts, and, or, masks, one bit ===== -/
theorem wb_tb (n : Nat) : (lN n).toBitVec = BitVec.ofNat 64 n := rfl
theorem wb_inj {a b : Int64} (h : a.toBitVec = b.toBitVec) : a = b := Int64.toBitVec_inj.mp h
theorem wb_tn {n : Nat} (h : n < 2 ^ 64) : (lN n).toBitVec.toNat = n := by rw [wb_tb, BitVec.toNat_ofNat, Nat.mod_eq_of_lt h]
theorem wb_of (x : Int64) : ∃ n, n < 2 ^ 64 ∧ x = lN n := ⟨x.toBitVec.toNat, x.toBitVec.isLt, wb_inj (by rw [wb_tb]; simp)⟩
theorem wb_of32 (x : Int32) : ∃ n, n < 2 ^ 32 ∧ x = nI n := ⟨x.toBitVec.toNat, x.toBitVec.isLt, Int32.toBitVec_inj.mp (by show _ = BitVec.ofNat 32 _; simp)⟩
theorem wb_c : ∀ k, k < 64 → ((nI k).toInt64 &&& 63) = lN k := by decide +kernel
theorem wb_cu : ∀ k, k < 64 → ((nI k).toInt64.toUInt64 &&& Int64.toUInt64 63) = UInt64.ofNat k := by decide +kernel
theorem wb_sm : ∀ k, k < 64 → (BitVec.ofNat 64 k).smod 64 = BitVec.ofNat 64 k := by decide +kernel
theorem wb_pw {a b : Nat} (h : a ≤ b) : 2 ^ b = 2 ^ a * 2 ^ (b - a) := by rw [← Nat.pow_add]; congr 1; omega
theorem wb_lt2 {a b : Nat} (h : a < b) : 2 ^ a < 2 ^ b := Nat.pow_lt_pow_right (by decide) h
theorem wb_mod (n : Nat) : lN n = lN (n % 2 ^ 64) := wb_inj (by rw [wb_tb, wb_tb]; apply BitVec.eq_of_toNat_eq; rw [BitVec.toNat_ofNat, BitVec.toNat_ofNat, Nat.mod_mod])
theorem wb_shr {n k : Nat} (hn : n < 2 ^ 64) (hk : k < 64) : ((lN n).toUInt64 >>> ((nI k).toInt64.toUInt64 &&& Int64.toUInt64 63)).toInt64 = lN (n / 2 ^ k) := by
  rw [wb_cu k hk]
  apply wb_inj
  apply BitVec.eq_of_toNat_eq
  show ((lN n).toUInt64 >>> UInt64.ofNat k).toNat = (BitVec.ofNat 64 _).toNat
  have h1 : (UInt64.ofNat k).toNat = k := by
    show (BitVec.ofNat 64 k).toNat = k
    rw [BitVec.toNat_ofNat, Nat.mod_eq_of_lt (by omega)]
  have h2 : (lN n).toUInt64.toNat = n := wb_tn hn
  rw [UInt64.toNat_shiftRight, h1, h2, Nat.mod_eq_of_lt hk, Nat.shiftRight_eq_div_pow, BitVec.toNat_ofNat, Nat.mod_eq_of_lt (Nat.lt_of_le_of_lt (Nat.div_le_self _ _) hn)]
theorem wb_shl (n : Nat) {k : Nat} (hk : k < 64) : lN n <<< ((nI k).toInt64 &&& 63) = lN (n * 2 ^ k) := by
  rw [wb_c k hk]
  apply wb_inj
  rw [Int64.toBitVec_shiftLeft, wb_tb, wb_tb, wb_tb, wb_sm k hk]
  apply BitVec.eq_of_toNat_eq
  rw [BitVec.shiftLeft_eq', BitVec.toNat_shiftLeft, BitVec.toNat_ofNat, BitVec.toNat_ofNat, BitVec.toNat_ofNat, Nat.mod_eq_of_lt (show k < 2 ^ 64 by omega), Nat.shiftLeft_eq, Nat.mul_mod, Nat.mod_mod, ← Nat.mul_mod]
theorem wb_and {a b : Nat} (ha : a < 2 ^ 64) (hb : b < 2 ^ 64) : lN a &&& lN b = lN (a &&& b) := by
  apply wb_inj
  rw [Int64.toBitVec_and, wb_tb, wb_tb, wb_tb]
  apply BitVec.eq_of_toNat_eq
  rw [BitVec.toNat_and, BitVec.toNat_ofNat, BitVec.toNat_ofNat, BitVec.toNat_ofNat, Nat.mod_eq_of_lt ha, Nat.mod_eq_of_lt hb, Nat.mod_eq_of_lt (Nat.and_lt_two_pow _ hb)]
theorem wb_or {a b : Nat} (ha : a < 2 ^ 64) (hb : b < 2 ^ 64) : lN a ||| lN b = lN (a ||| b) := by
  apply wb_inj
  rw [Int64.toBitVec_or, wb_tb, wb_tb, wb_tb]
  apply BitVec.eq_of_toNat_eq
  rw [BitVec.toNat_or, BitVec.toNat_ofNat, BitVec.toNat_ofNat, BitVec.toNat_ofNat, Nat.mod_eq_of_lt ha, Nat.mod_eq_of_lt hb, Nat.mod_eq_of_lt (Nat.or_lt_two_pow ha hb)]
theorem wb_mask {n k : Nat} (hn : n < 2 ^ 64) (hk : k < 64) : lN n &&& lN (2 ^ k - 1) = lN (n % 2 ^ k) := by
  rw [wb_and hn (by have := wb_lt2 hk; omega), Nat.and_two_pow_sub_one_eq_mod]
theorem wb_a1 {n : Nat} (hn : n < 2 ^ 64) : lN n &&& 1 = lN (n % 2) := wb_mask (k := 1) hn (by decide)
theorem wb_bit {n k : Nat} (hn : n < 2 ^ 64) (hk : k < 64) : ((lN n).toUInt64 >>> ((nI k).toInt64.toUInt64 &&& Int64.toUInt64 63)).toInt64 &&& 1 = lN (n / 2 ^ k % 2) := by
  rw [wb_shr hn hk, wb_a1 (Nat.lt_of_le_of_lt (Nat.div_le_self _ _) hn)]
theorem wb_xor {q k : Nat} (hk : k < 63) (h : 2 ^ k ≤ q) (h2 : q < 2 ^ (k + 1)) : lN q ^^^ lN (2 ^ k) = lN (q - 2 ^ k) := by
  obtain ⟨r, rfl⟩ : ∃ r, q = 2 ^ k + r := ⟨q - 2 ^ k, by omega⟩
  have hr : r < 2 ^ k := by rw [Nat.pow_succ] at h2; omega
  have hx : (2 ^ k + r) ^^^ 2 ^ k = r := by
    apply Nat.eq_of_testBit_eq
    intro i
    rw [Nat.testBit_xor, Nat.testBit_two_pow]
    rcases Nat.lt_trichotomy i k with h | h | h
    · rw [Nat.testBit_two_pow_add_gt h]
      simp [show ¬ k = i by omega]
    · subst h
      rw [Nat.testBit_two_pow_add_eq]
      simp
    · have a1 : 2 ^ (k + 1) ≤ 2 ^ i := Nat.pow_le_pow_right (by decide) h
      rw [Nat.testBit_lt_two_pow (show 2 ^ k + r < 2 ^ i by omega), Nat.testBit_lt_two_pow (show r < 2 ^ i by omega)]
      simp [show ¬ k = i by omega]
  have b1 := wb_lt2 (show k + 1 < 64 by omega)
  have b2 := wb_lt2 (show k < 64 by omega)
  apply wb_inj
  rw [Int64.toBitVec_xor, wb_tb, wb_tb, wb_tb]
  apply BitVec.eq_of_toNat_eq
  rw [BitVec.toNat_xor, BitVec.toNat_ofNat, BitVec.toNat_ofNat, BitVec.toNat_ofNat, Nat.mod_eq_of_lt (by omega : 2 ^ k + r < 2 ^ 64), Nat.mod_eq_of_lt b2, hx, Nat.add_sub_cancel_left, Nat.mod_eq_of_lt (by omega)]
/-! ===== lN: masks, 'or' of parts that don't overlap is a sum ===== -/
theorem u_tn {n : Nat} (h : n < 2 ^ 64) : (UInt64.ofNat n).toNat = n := Nat.mod_eq_of_lt h
theorem g_and {a b c : Nat} (ha : a < 2 ^ 64) (hb : b < 2 ^ 64) (hc : a &&& b = c) : lN a &&& lN b = lN c := by
  subst hc
  have h : UInt64.ofNat a &&& UInt64.ofNat b = UInt64.ofNat (a &&& b) := UInt64.toNat_inj.mp (by rw [UInt64.toNat_and, u_tn ha, u_tn hb, u_tn (Nat.and_lt_two_pow a hb)])
  have h2 := congrArg UInt64.toInt64 h
  exact h2
theorem g_and1 {a : Nat} (ha : a < 2 ^ 64) : lN a &&& 1 = lN (a % 2) := g_and (b := 1) ha (by decide) (Nat.and_two_pow_sub_one_eq_mod a 1)
theorem g_mask {a s p : Nat} (hp : 2 ^ s = p) (hs : s < 64) (ha : a < 2 ^ 64) : lN a &&& lN (p - 1) = lN (a % p) := by
  subst hp
  have := Nat.pow_lt_pow_right (show 1 < 2 by decide) hs
  exact g_and ha (by omega) (Nat.and_two_pow_sub_one_eq_mod a s)
theorem g_or {k p a b : Nat} (hp : 2 ^ k = p) (ha : a < p) (h : b * p + a < 2 ^ 64) : lN (b * p) ||| lN a = lN (b * p + a) := by
  subst hp
  have h1 : b * 2 ^ k ||| a = b * 2 ^ k + a := by rw [← Nat.shiftLeft_eq, Nat.shiftLeft_add_eq_or_of_lt ha]
  have h3 : UInt64.ofNat (b * 2 ^ k) ||| UInt64.ofNat a = UInt64.ofNat (b * 2 ^ k + a) := UInt64.toNat_inj.mp (by rw [UInt64.toNat_or, u_tn (by omega), u_tn (by omega), u_tn h, h1])
  have h2 := congrArg UInt64.toInt64 h3
  exact h2
theorem g_or' {k p a b : Nat} (hp : 2 ^ k = p) (ha : a < p) (h : a + b * p < 2 ^ 64) : lN a ||| lN (b * p) = lN (a + b * p) := by
  rw [Int64.or_comm, g_or hp ha (by omega), Nat.add_comm]
theorem g_ushr {a k p : Nat} {y : UInt64} (hy : y = UInt64.ofNat k) (hk : k < 64) (hp : 2 ^ k = p) (ha : a < 2 ^ 64) : ((lN a).toUInt64 >>> y).toInt64 = lN (a / p) := by
  subst hy hp
  have h : UInt64.ofNat a >>> UInt64.ofNat k = UInt64.ofNat (a / 2 ^ k) := UInt64.toNat_inj.mp (by rw [UInt64.toNat_shiftRight, u_tn ha, u_tn (by omega), u_tn (Nat.lt_of_le_of_lt (Nat.div_le_self _ _) ha), Nat.mod_eq_of_lt hk, Nat.shiftRight_eq_div_pow])
  have h2 := congrArg UInt64.toInt64 h
  exact h2
theorem g_shl {a k p : Nat} {y : Int64} (hy : y.toBitVec.smod 64 = BitVec.ofNat 64 k) (hk : k < 64) (hp : 2 ^ k = p) (ha : a < 2 ^ 64) : lN a <<< y = lN (a * p) := by
  subst hp
  apply Int64.toBitVec_inj.mp
  rw [Int64.toBitVec_shiftLeft, hy]
  apply BitVec.eq_of_toNat_eq
  have hb : (lN a).toBitVec.toNat = a := Nat.mod_eq_of_lt ha
  have hk' : (BitVec.ofNat 64 k).toNat = k := Nat.mod_eq_of_lt (by omega)
  have h : ((lN a).toBitVec <<< BitVec.ofNat 64 k).toNat = (a * 2 ^ k) % 2 ^ 64 := by simp only [BitVec.shiftLeft_eq', BitVec.toNat_shiftLeft, hb, hk', Nat.shiftLeft_eq]
  exact h
/-! ===== lN to 2^62 under >> and >>> ===== -/
theorem pf_lI {a : Nat} (h : a < 2 ^ 63) : (lN a).toInt = (a : Int) := lg_ofNat_toInt h
theorem pf_shr {a d : Nat} {D : Int64} (hD : (D.toBitVec.smod 64).toNat = d) (h : a < 2 ^ 62) : lN a >>> D = lN (a / 2 ^ d) := by
  have hd : a / 2 ^ d ≤ a := Nat.div_le_self _ _
  apply Int64.toInt_inj.mp
  have e : (lN a >>> D).toInt = (lN a).toInt >>> d := by
    rw [← hD]
    exact BitVec.toInt_sshiftRight ..
  rw [e, Int.shiftRight_eq_div_pow, pf_lI (by omega), pf_lI (by omega)]
  rfl
theorem pf_ushr {a d : Nat} {D : UInt64} (hD : D.toNat % 64 = d) (h : a < 2 ^ 62) : ((lN a).toUInt64 >>> D).toInt64 = lN (a / 2 ^ d) := by
  have hd : a / 2 ^ d ≤ a := Nat.div_le_self _ _
  have e : (lN a).toUInt64 >>> D = UInt64.ofNat (a / 2 ^ d) := UInt64.toNat_inj.mp (by
    rw [UInt64.toNat_shiftRight, hD, Nat.shiftRight_eq_div_pow, UInt64.toNat_ofNat']
    show (UInt64.ofNat a).toNat / 2 ^ d = _
    rw [UInt64.toNat_ofNat', Nat.mod_eq_of_lt (by omega), Nat.mod_eq_of_lt (by omega)])
  rw [e]
  rfl
theorem pf_andw (x : Int64) : ∃ m, m < 2 ^ 32 ∧ x &&& 4294967295 = lN m := ⟨x.toBitVec.toNat % 2 ^ 32, Nat.mod_lt _ (by decide), Int64.toBitVec_inj.mp (BitVec.eq_of_toNat_eq (by
  show (x.toBitVec &&& 4294967295#64).toNat = (BitVec.ofNat 64 (x.toBitVec.toNat % 2 ^ 32)).toNat
  rw [BitVec.toNat_and, show (4294967295#64).toNat = 2 ^ 32 - 1 from by decide, Nat.and_two_pow_sub_one_eq_mod, BitVec.toNat_ofNat]
  omega))⟩
/-! ===== Int64 as an unsigned number: uN x ===== -/
def uN (x : Int64) : Nat := x.toUInt64.toNat
theorem uN_lt (x : Int64) : uN x < 18446744073709551616 := x.toUInt64.toNat_lt
theorem uN_inj {x y : Int64} (h : uN x = uN y) : x = y := congrArg UInt64.toInt64 (UInt64.toNat_inj.mp h)
theorem uN_add (x y : Int64) : uN (x + y) = (uN x + uN y) % 18446744073709551616 := by
  show (x.toUInt64 + y.toUInt64).toNat = _
  exact UInt64.toNat_add _ _
theorem uN_mul (x y : Int64) : uN (x * y) = (uN x * uN y) % 18446744073709551616 := by
  show (x.toUInt64 * y.toUInt64).toNat = _
  exact UInt64.toNat_mul _ _
theorem uN_shl (x : Int64) : uN (x <<< ((1 : Int32).toInt64 &&& 63)) = (2 * uN x) % 18446744073709551616 := by
  have h : (((1 : Int32).toInt64 &&& 63).toBitVec.smod 64).toNat = 1 := by decide
  show (x.toBitVec <<< (((1 : Int32).toInt64 &&& 63).toBitVec.smod 64).toNat).toNat = _
  rw [h, BitVec.toNat_shiftLeft, Nat.shiftLeft_eq, Nat.mul_comm]
  rfl
theorem uN_shr (x : Int64) (s : UInt64) : uN (x.toUInt64 >>> s).toInt64 = uN x / 2 ^ (s.toNat % 64) := by
  show (x.toUInt64 >>> s).toNat = _
  rw [UInt64.toNat_shiftRight, Nat.shiftRight_eq_div_pow]
  rfl
theorem uN_s32 (x : Int64) : uN (x.toUInt64 >>> ((32 : Int32).toInt64.toUInt64 &&& Int64.toUInt64 63)).toInt64 = uN x / 4294967296 := by
  have h : ((32 : Int32).toInt64.toUInt64 &&& Int64.toUInt64 63).toNat % 64 = 32 := by decide
  rw [uN_shr, h]
theorem uN_s63 (x : Int64) : uN (x.toUInt64 >>> ((63 : Int32).toInt64.toUInt64 &&& Int64.toUInt64 63)).toInt64 = uN x / 9223372036854775808 := by
  have h : ((63 : Int32).toInt64.toUInt64 &&& Int64.toUInt64 63).toNat % 64 = 63 := by decide
  rw [uN_shr, h]
theorem uN_lo (x : Int64) : uN (x &&& 4294967295) = uN x % 4294967296 := by
  show (x.toUInt64 &&& Int64.toUInt64 4294967295).toNat = _
  rw [UInt64.toNat_and]
  exact Nat.and_two_pow_sub_one_eq_mod _ 32
theorem uN_bit (x : Int64) : (x &&& 1) = 0 ↔ uN x % 2 = 0 := by
  have h : uN (x &&& 1) = uN x % 2 := by
    show (x.toUInt64 &&& Int64.toUInt64 1).toNat = _
    rw [UInt64.toNat_and]
    exact Nat.and_two_pow_sub_one_eq_mod _ 1
  rw [← h]
  exact ⟨fun z => by rw [z]; rfl, fun z => uN_inj (z.trans rfl)⟩
theorem uN_or {x y : Int64} (hy : uN y < 2) : uN ((x <<< ((1 : Int32).toInt64 &&& 63)) ||| y) = (2 * uN x) % 18446744073709551616 + uN y := by
  have h1 : uN ((x <<< ((1 : Int32).toInt64 &&& 63)) ||| y) = uN (x <<< ((1 : Int32).toInt64 &&& 63)) ||| uN y := UInt64.toNat_or _ _
  have h2 : (2 * uN x) % 18446744073709551616 = 2 ^ 1 * (uN x % 9223372036854775808) := by omega
  rw [h1, uN_shl, h2]
  exact (Nat.two_pow_add_eq_or_of_lt (i := 1) hy _).symm
theorem nat_xor {a : Nat} (h : a < 18446744073709551616) : a ^^^ 2 ^ 63 = (a + 9223372036854775808) % 18446744073709551616 := by
  have h1 : (a ^^^ 2 ^ 63) % 2 ^ 63 = a % 2 ^ 63 := by rw [Nat.xor_mod_two_pow, Nat.mod_self, Nat.xor_zero]
  have h2 : (a ^^^ 2 ^ 63) / 2 ^ 63 = (a / 2 ^ 63) ^^^ 1 := by rw [Nat.xor_div_two_pow, Nat.div_self (Nat.two_pow_pos 63)]
  have h3 : a / 2 ^ 63 = 0 ∨ a / 2 ^ 63 = 1 := by omega
  generalize a ^^^ 2 ^ 63 = t at h1 h2
  rcases h3 with h3 | h3
  · rw [h3] at h2
    have h2 : t / 2 ^ 63 = 1 := h2
    omega
  · rw [h3] at h2
    have h2 : t / 2 ^ 63 = 0 := h2
    omega
theorem uN_xor (x : Int64) : uN (x ^^^ (-9223372036854775808)) = (uN x + 9223372036854775808) % 18446744073709551616 := by
  rw [← nat_xor (uN_lt x)]
  exact UInt64.toNat_xor _ _
theorem uN_int (x : Int64) : x.toInt = if 2 * uN x < 18446744073709551616 then (uN x : Int) else (uN x : Int) - 18446744073709551616 := BitVec.toInt_eq_toNat_cond _
theorem uN_le (x y : Int64) : (x ^^^ (-9223372036854775808)) ≤ (y ^^^ (-9223372036854775808)) ↔ uN x ≤ uN y := by
  have hx := uN_lt x
  have hy := uN_lt y
  rw [Int64.le_iff_toInt_le, uN_int, uN_int, uN_xor, uN_xor]
  omega
theorem uN_sk (x : Int64) {k : Nat} (hk : k < 64) : uN (x.toUInt64 >>> ((nI k).toInt64.toUInt64 &&& Int64.toUInt64 63)).toInt64 = uN x / 2 ^ k := by
  have h : ((nI k).toInt64.toUInt64 &&& Int64.toUInt64 63).toNat % 64 = k := by
    rw [nI_l (by omega), UInt64.toNat_and]
    have e : (lN k).toUInt64.toNat = k % 2 ^ 64 := rfl
    have e2 : (Int64.toUInt64 63).toNat = 2 ^ 6 - 1 := by decide
    rw [e, e2, Nat.and_two_pow_sub_one_eq_mod]
    omega
  rw [uN_shr, h]
/-! ===== unsigned comparison by xor with the least ===== -/
theorem lN_bv (n : Nat) : (lN n).toBitVec = BitVec.ofNat 64 n := rfl
theorem lN_nat {n : Nat} (h : n < 2 ^ 64) : (lN n).toBitVec.toNat = n := by rw [lN_bv, BitVec.toNat_ofNat]; exact Nat.mod_eq_of_lt h
theorem lN_xor (a b : Nat) : lN a ^^^ lN b = lN (a ^^^ b) := by
  apply Int64.toBitVec_inj.mp; rw [Int64.toBitVec_xor, lN_bv, lN_bv, lN_bv]; apply BitVec.eq_of_getLsbD_eq; intro i hi; simp [BitVec.getLsbD_ofNat, Nat.testBit_xor, hi]
theorem lN_ti {m : Nat} (h : m < 2 ^ 64) : (lN m).toInt = if m < 2 ^ 63 then (m : Int) else (m : Int) - 2 ^ 64 := by
  have c := BitVec.toInt_eq_toNat_cond (lN m).toBitVec
  rw [lN_nat h] at c
  show (lN m).toBitVec.toInt = _
  rw [c]
  split <;> split <;> omega
theorem xor63 {x : Nat} (h : x < 2 ^ 63) : x ^^^ 2 ^ 63 = 2 ^ 63 + x := by
  apply Nat.eq_of_testBit_eq
  intro i
  rw [Nat.testBit_xor, Nat.testBit_two_pow]
  rcases Nat.lt_trichotomy i 63 with z | z | z
  · rw [Nat.testBit_two_pow_add_gt z, decide_eq_false (by omega)]; simp
  · subst z; rw [Nat.testBit_two_pow_add_eq]; simp
  · have hp : 2 ^ 64 ≤ 2 ^ i := Nat.pow_le_pow_right (by decide) z
    rw [Nat.testBit_lt_two_pow (show x < 2 ^ i by omega), Nat.testBit_lt_two_pow (show 2 ^ 63 + x < 2 ^ i by omega), decide_eq_false (by omega)]; rfl
theorem xorS {a : Nat} (h : a < 2 ^ 64) : (lN a ^^^ (-9223372036854775808)).toInt = (a : Int) - 2 ^ 63 := by
  rw [show (-9223372036854775808 : Int64) = lN (2 ^ 63) from by decide +kernel, lN_xor]
  rcases Nat.lt_or_ge a (2 ^ 63) with z | z
  · rw [xor63 z, lN_ti (by omega), if_neg (by omega)]; omega
  · obtain ⟨x, rfl⟩ : ∃ x, a = 2 ^ 63 + x := ⟨a - 2 ^ 63, by omega⟩
    rw [← xor63 (by omega), Nat.xor_assoc, Nat.xor_self, Nat.xor_zero, lN_ti (by omega), if_pos (by omega), xor63 (by omega)]; omega
theorem ultL {a b : Nat} (ha : a < 2 ^ 64) (hb : b < 2 ^ 64) : ((lN b ^^^ (-9223372036854775808)) ≤ (lN a ^^^ (-9223372036854775808))) ↔ b ≤ a := by
  rw [Int64.le_iff_toInt_le, xorS ha, xorS hb]; omega
/-! ===== Int64 masks of n low bits ===== -/
theorem cr_bits (W U M : BitVec 64) : ((W &&& U) &&& (U &&& (M ^^^ BitVec.allOnes 64))) = 0#64 ↔ (W &&& U) &&& M = W &&& U := by
  constructor
  · intro h
    apply BitVec.eq_of_getLsbD_eq
    intro i hi
    have e := congrArg (fun x => BitVec.getLsbD x i) h
    simp only [BitVec.getLsbD_and, BitVec.getLsbD_xor, BitVec.getLsbD_allOnes, BitVec.getLsbD_zero, hi, decide_true] at e ⊢
    revert e
    cases W.getLsbD i <;> cases U.getLsbD i <;> cases M.getLsbD i <;> decide
  · intro h
    apply BitVec.eq_of_getLsbD_eq
    intro i hi
    have e := congrArg (fun x => BitVec.getLsbD x i) h
    simp only [BitVec.getLsbD_and, BitVec.getLsbD_xor, BitVec.getLsbD_allOnes, BitVec.getLsbD_zero, hi, decide_true] at e ⊢
    revert e
    cases W.getLsbD i <;> cases U.getLsbD i <;> cases M.getLsbD i <;> decide
theorem cr_mask (w U m : Int64) (n : Nat) (hm : m.toBitVec.toNat = 2 ^ n - 1) : ((w &&& U) &&& (U &&& (m ^^^ (-1)))) = 0 ↔ (w &&& U).toBitVec.toNat < 2 ^ n := by
  have e0 : (-1 : Int64).toBitVec = BitVec.allOnes 64 := by decide
  have z0 : (0 : Int64).toBitVec = 0#64 := by decide
  rw [← Int64.toBitVec_inj, z0, Int64.toBitVec_and, Int64.toBitVec_and, Int64.toBitVec_and, Int64.toBitVec_xor, e0, cr_bits]
  generalize w.toBitVec &&& U.toBitVec = T
  rw [← BitVec.toNat_inj, BitVec.toNat_and, hm, Nat.and_two_pow_sub_one_eq_mod]
  constructor
  · intro h
    have t := Nat.mod_lt T.toNat (Nat.two_pow_pos n)
    rw [h] at t
    exact t
  · exact Nat.mod_eq_of_lt
theorem cr_shr (t : Int64) (x : UInt64) (n : Nat) (hx : x.toNat % 64 = n) : (t.toUInt64 >>> x).toInt64 = 0 ↔ t.toBitVec.toNat < 2 ^ n := by
  rw [← Int64.toBitVec_inj, ← BitVec.toNat_inj]
  show (t.toUInt64 >>> x).toNat = 0 ↔ t.toUInt64.toNat < 2 ^ n
  rw [UInt64.toNat_shiftRight, hx, Nat.shiftRight_eq_div_pow]
  constructor
  · intro h
    have d : t.toUInt64.toNat / 2 ^ n < 1 := by
      rw [h]
      decide
    have e := (Nat.div_lt_iff_lt_mul (Nat.two_pow_pos n)).mp d
    rw [Nat.one_mul] at e
    exact e
  · exact Nat.div_eq_of_lt
theorem cr_amt (s : Int64) : ∃ n, n < 64 ∧ s &&& 63 = lN n ∧ (s.toUInt64 &&& Int64.toUInt64 63).toNat % 64 = n := by
  have e : (s.toUInt64 &&& Int64.toUInt64 63).toNat = s.toUInt64.toNat % 2 ^ 6 := by
    rw [UInt64.toNat_and, show (Int64.toUInt64 63).toNat = 2 ^ 6 - 1 from by decide, Nat.and_two_pow_sub_one_eq_mod]
  refine ⟨s.toUInt64.toNat % 2 ^ 6, by omega, ?_, by omega⟩
  rw [← Int64.toBitVec_inj, ← BitVec.toNat_inj]
  show (s.toUInt64 &&& Int64.toUInt64 63).toNat = (BitVec.ofNat 64 (s.toUInt64.toNat % 2 ^ 6)).toNat
  rw [e, BitVec.toNat_ofNat]
  omega
end
section
/-! counting and classes -/
noncomputable def cc_b (p : Prop) : Nat := @ite Nat p (Classical.propDecidable p) 1 0
theorem cc_bt {p : Prop} (h : p) : cc_b p = 1 := by unfold cc_b; exact if_pos h
theorem cc_bf {p : Prop} (h : ¬ p) : cc_b p = 0 := by unfold cc_b; exact if_neg h
theorem cc_bc {p q : Prop} (h : p ↔ q) : cc_b p = cc_b q := by rw [propext h]
theorem cc_ble (p : Prop) : cc_b p ≤ 1 := by
  by_cases h : p
  · rw [cc_bt h]; exact Nat.le_refl 1
  · rw [cc_bf h]; exact Nat.zero_le 1
noncomputable def cc_n (p : Nat → Prop) : Nat → Nat
  | 0 => 0
  | n + 1 => cc_n p n + cc_b (p n)
theorem cc_n0 (p : Nat → Prop) : cc_n p 0 = 0 := rfl
theorem cc_ns (p : Nat → Prop) (n : Nat) : cc_n p (n + 1) = cc_n p n + cc_b (p n) := rfl
theorem cc_nc {p q : Nat → Prop} : ∀ {n : Nat}, (∀ i, i < n → (p i ↔ q i)) → cc_n p n = cc_n q n := by
  intro n
  induction n with
  | zero => intro _; rfl
  | succ n ih =>
    intro h
    rw [cc_ns, cc_ns, ih (fun i hi => h i (by omega)), cc_bc (h n (by omega))]
theorem cc_nle (p : Nat → Prop) : ∀ n : Nat, cc_n p n ≤ n := by
  intro n
  induction n with
  | zero => exact Nat.le_refl 0
  | succ n ih => rw [cc_ns]; have := cc_ble (p n); omega
theorem cc_nf {p : Nat → Prop} : ∀ {n : Nat}, (∀ i, i < n → ¬ p i) → cc_n p n = 0 := by
  intro n
  induction n with
  | zero => intro _; rfl
  | succ n ih =>
    intro h
    rw [cc_ns, ih (fun i hi => h i (by omega)), cc_bf (h n (by omega))]
theorem cc_nt {p : Nat → Prop} : ∀ {n : Nat}, (∀ i, i < n → p i) → cc_n p n = n := by
  intro n
  induction n with
  | zero => intro _; rfl
  | succ n ih =>
    intro h
    rw [cc_ns, ih (fun i hi => h i (by omega)), cc_bt (h n (by omega))]
theorem cc_n1 {p q : Nat → Prop} (a : Nat) (pa : p a) (qa : ¬ q a) : ∀ {n : Nat}, a < n → (∀ i, i < n → i ≠ a → (p i ↔ q i)) → cc_n p n = cc_n q n + 1 := by
  intro n
  induction n with
  | zero => intro h; omega
  | succ n ih =>
    intro ha h
    rw [cc_ns, cc_ns]
    by_cases e : a = n
    · subst e
      rw [cc_bt pa, cc_bf qa, cc_nc (fun i hi => h i (by omega) (by omega))]
    · rw [ih (by omega) (fun i hi => h i (by omega)), cc_bc (h n (by omega) (fun z => e z.symm))]
      omega
theorem cc_nmono {p q : Nat → Prop} : ∀ {n : Nat}, (∀ i, i < n → p i → q i) → cc_n p n ≤ cc_n q n := by
  intro n
  induction n with
  | zero => intro _; exact Nat.le_refl 0
  | succ n ih =>
    intro h
    rw [cc_ns, cc_ns]
    have h1 := ih (fun i hi => h i (by omega))
    by_cases e : p n
    · rw [cc_bt e, cc_bt (h n (by omega) e)]; omega
    · rw [cc_bf e]; omega
/-- being joined by links: no set that the links keep parts them -/
def cx_R (lk : Nat → Nat → Prop) (x y : Nat) : Prop := ∀ S : Nat → Prop, (∀ a b, lk a b → (S a ↔ S b)) → (S x ↔ S y)
theorem cx_rf (lk : Nat → Nat → Prop) (x : Nat) : cx_R lk x x := fun _ _ => Iff.rfl
theorem cx_sy {lk : Nat → Nat → Prop} {x y : Nat} (h : cx_R lk x y) : cx_R lk y x := fun S hS => (h S hS).symm
theorem cx_tr {lk : Nat → Nat → Prop} {x y z : Nat} (h : cx_R lk x y) (k : cx_R lk y z) : cx_R lk x z := fun S hS => (h S hS).trans (k S hS)
theorem cx_lk {lk : Nat → Nat → Prop} {x y : Nat} (h : lk x y) : cx_R lk x y := fun _ hS => hS x y h
/-- every link of the one is a join of the other -/
theorem cx_mo {lk lk' : Nat → Nat → Prop} (h : ∀ a b, lk a b → cx_R lk' a b) {x y : Nat} (k : cx_R lk x y) : cx_R lk' x y :=
  fun S hS => k S (fun a b ab => h a b ab S hS)
theorem cx_co {lk lk' : Nat → Nat → Prop} (h : ∀ a b, lk a b → cx_R lk' a b) (h' : ∀ a b, lk' a b → cx_R lk a b) (x y : Nat) : cx_R lk x y ↔ cx_R lk' x y :=
  ⟨cx_mo h, cx_mo h'⟩
/-- a dart that no link touches is joined with itself alone -/
theorem cx_fr {lk : Nat → Nat → Prop} {d x : Nat} (h : ∀ a b, lk a b → a ≠ d ∧ b ≠ d) (k : cx_R lk d x) : x = d := by
  have := (k (fun z => z = d) (fun a b ab => by
    obtain ⟨h1, h2⟩ := h a b ab
    exact ⟨fun z => absurd z h1, fun z => absurd z h2⟩)).mp rfl
  exact this
def cx_ad (lk : Nat → Nat → Prop) (a b : Nat) (x y : Nat) : Prop := lk x y ∨ (x = a ∧ y = b)
theorem cx_ad_le {lk : Nat → Nat → Prop} {a b x y : Nat} (h : cx_R lk x y) : cx_R (cx_ad lk a b) x y :=
  cx_mo (fun _ _ k => cx_lk (Or.inl k)) h
theorem cx_ad_n {lk : Nat → Nat → Prop} {a b : Nat} : cx_R (cx_ad lk a b) a b := cx_lk (Or.inr ⟨rfl, rfl⟩)
theorem cx_ad_iff {lk : Nat → Nat → Prop} {a b x y : Nat} : cx_R (cx_ad lk a b) x y ↔ cx_R lk x y ∨ (cx_R lk x a ∧ cx_R lk b y) ∨ (cx_R lk x b ∧ cx_R lk a y) := by
  constructor
  · intro h
    have hh := h (fun z => cx_R lk x z ∨ (cx_R lk x a ∧ cx_R lk b z) ∨ (cx_R lk x b ∧ cx_R lk a z)) (by
      intro c d cd
      rcases cd with cd | ⟨rfl, rfl⟩
      · have e := cx_lk cd
        constructor
        · rintro (k | ⟨k, l⟩ | ⟨k, l⟩)
          · exact Or.inl (cx_tr k e)
          · exact Or.inr (Or.inl ⟨k, cx_tr l e⟩)
          · exact Or.inr (Or.inr ⟨k, cx_tr l e⟩)
        · rintro (k | ⟨k, l⟩ | ⟨k, l⟩)
          · exact Or.inl (cx_tr k (cx_sy e))
          · exact Or.inr (Or.inl ⟨k, cx_tr l (cx_sy e)⟩)
          · exact Or.inr (Or.inr ⟨k, cx_tr l (cx_sy e)⟩)
      · constructor
        · rintro (k | ⟨k, l⟩ | ⟨k, l⟩)
          · exact Or.inr (Or.inl ⟨k, cx_rf _ _⟩)
          · exact Or.inr (Or.inl ⟨k, cx_rf _ _⟩)
          · exact Or.inl k
        · rintro (k | ⟨k, l⟩ | ⟨k, l⟩)
          · exact Or.inr (Or.inr ⟨k, cx_rf _ _⟩)
          · exact Or.inl k
          · exact Or.inr (Or.inr ⟨k, cx_rf _ _⟩))
    exact hh.mp (Or.inl (cx_rf _ _))
  · rintro (k | ⟨k, l⟩ | ⟨k, l⟩)
    · exact cx_ad_le k
    · exact cx_tr (cx_ad_le k) (cx_tr cx_ad_n (cx_ad_le l))
    · exact cx_tr (cx_ad_le k) (cx_tr (cx_sy cx_ad_n) (cx_ad_le l))
theorem cx_ad_same {lk : Nat → Nat → Prop} {a b : Nat} (h : cx_R lk a b) (x y : Nat) : cx_R (cx_ad lk a b) x y ↔ cx_R lk x y := by
  constructor
  · intro k
    rcases cx_ad_iff.mp k with k | ⟨k, l⟩ | ⟨k, l⟩
    · exact k
    · exact cx_tr k (cx_tr h l)
    · exact cx_tr k (cx_tr (cx_sy h) l)
  · exact cx_ad_le
/-- the number of classes among the places with P -/
noncomputable def cx_n (P : Nat → Prop) (R : Nat → Nat → Prop) (n : Nat) : Nat := cc_n (fun x => P x ∧ ∀ y, y < x → P y → ¬ R y x) n
theorem cx_n_co {P P' : Nat → Prop} {R R' : Nat → Nat → Prop} {n : Nat} (hP : ∀ x, x < n → (P x ↔ P' x)) (h : ∀ x y, x < n → y < n → P x → P y → (R x y ↔ R' x y)) : cx_n P R n = cx_n P' R' n := by
  unfold cx_n
  apply cc_nc
  intro x hx
  constructor
  · rintro ⟨p, k⟩
    exact ⟨(hP x hx).mp p, fun y hy py r => k y hy ((hP y (by omega)).mpr py) ((h y x (by omega) hx ((hP y (by omega)).mpr py) p).mpr r)⟩
  · rintro ⟨p, k⟩
    have p' := (hP x hx).mpr p
    exact ⟨p', fun y hy py r => k y hy ((hP y (by omega)).mp py) ((h y x (by omega) hx py p').mp r)⟩
theorem cx_n_0 {P : Nat → Prop} {R : Nat → Nat → Prop} {n : Nat} (h : ∀ x y, x < n → y < n → P x → P y → R x y → x = y) : cx_n P R n = cc_n P n := by
  unfold cx_n
  apply cc_nc
  intro x hx
  constructor
  · exact fun k => k.1
  · intro p
    refine ⟨p, fun y hy py r => ?_⟩
    have := h y x (by omega) hx py p r
    omega
theorem cx_n_ad {P : Nat → Prop} {lk : Nat → Nat → Prop} {a b n : Nat} (ha : a < n) (hb : b < n) (pa : P a) (pb : P b) (hn : ¬ cx_R lk a b) : cx_n P (cx_R lk) n = cx_n P (cx_R (cx_ad lk a b)) n + 1 := by
  obtain ⟨ma, ⟨pma, rma⟩, lma⟩ := pk_least (fun x => P x ∧ cx_R lk x a) ⟨a, pa, cx_rf _ _⟩
  obtain ⟨mb, ⟨pmb, rmb⟩, lmb⟩ := pk_least (fun x => P x ∧ cx_R lk x b) ⟨b, pb, cx_rf _ _⟩
  have hma : ma ≤ a := Nat.le_of_not_lt (fun z => lma a z ⟨pa, cx_rf _ _⟩)
  have hmb : mb ≤ b := Nat.le_of_not_lt (fun z => lmb b z ⟨pb, cx_rf _ _⟩)
  have hne : ma ≠ mb := fun e => hn (cx_tr (cx_sy rma) (e ▸ rmb))
  unfold cx_n
  rcases Nat.lt_or_gt_of_ne hne with hlt | hlt
  · refine cc_n1 mb ⟨pmb, fun y hy py r => lmb y hy ⟨py, cx_tr r rmb⟩⟩ ?_ (by omega) ?_
    · rintro ⟨_, k⟩
      exact k ma hlt pma (cx_ad_iff.mpr (Or.inr (Or.inl ⟨rma, cx_sy rmb⟩)))
    · intro x hx xne
      constructor
      · rintro ⟨p, k⟩
        refine ⟨p, fun y hy py r => ?_⟩
        rcases cx_ad_iff.mp r with r | ⟨r, s⟩ | ⟨r, s⟩
        · exact k y hy py r
        · have h1 : mb ≤ x := Nat.le_of_not_lt (fun z => lmb x z ⟨p, cx_sy s⟩)
          have h2 : mb < x := by omega
          exact k mb h2 pmb (cx_tr rmb s)
        · have h1 : mb ≤ y := Nat.le_of_not_lt (fun z => lmb y z ⟨py, r⟩)
          have h2 : ma < x := by omega
          exact k ma h2 pma (cx_tr rma s)
      · rintro ⟨p, k⟩
        exact ⟨p, fun y hy py r => k y hy py (cx_ad_le r)⟩
  · refine cc_n1 ma ⟨pma, fun y hy py r => lma y hy ⟨py, cx_tr r rma⟩⟩ ?_ (by omega) ?_
    · rintro ⟨_, k⟩
      exact k mb hlt pmb (cx_ad_iff.mpr (Or.inr (Or.inr ⟨rmb, cx_sy rma⟩)))
    · intro x hx xne
      constructor
      · rintro ⟨p, k⟩
        refine ⟨p, fun y hy py r => ?_⟩
        rcases cx_ad_iff.mp r with r | ⟨r, s⟩ | ⟨r, s⟩
        · exact k y hy py r
        · have h1 : ma ≤ y := Nat.le_of_not_lt (fun z => lma y z ⟨py, r⟩)
          have h2 : mb < x := by omega
          exact k mb h2 pmb (cx_tr rmb s)
        · have h1 : ma ≤ x := Nat.le_of_not_lt (fun z => lma x z ⟨p, cx_sy s⟩)
          have h2 : ma < x := by omega
          exact k ma h2 pma (cx_tr rma s)
      · rintro ⟨p, k⟩
        exact ⟨p, fun y hy py r => k y hy py (cx_ad_le r)⟩
theorem cx_n_same {P : Nat → Prop} {lk : Nat → Nat → Prop} {a b n : Nat} (h : cx_R lk a b) : cx_n P (cx_R lk) n = cx_n P (cx_R (cx_ad lk a b)) n :=
  cx_n_co (fun _ _ => Iff.rfl) (fun x y _ _ _ _ => (cx_ad_same h x y).symm)
end
section
/-! lists and the moves of a sweep over items (label, back dart, forth dart) -/
theorem ls_cut {α : Type} : ∀ (X : List α) {x : α} {Z P Q : List α}, X ++ x :: Z = P ++ Q → (∃ T, P = X ++ x :: T ∧ Z = T ++ Q) ∨ (∃ T, X = P ++ T ∧ Q = T ++ x :: Z) := by
  intro X
  induction X with
  | nil =>
    intro x Z P Q h
    cases P with
    | nil => exact Or.inr ⟨[], rfl, h.symm⟩
    | cons p P =>
      rw [List.nil_append, List.cons_append] at h
      injection h with h1 h2
      subst h1
      exact Or.inl ⟨P, rfl, h2⟩
  | cons a X ih =>
    intro x Z P Q h
    cases P with
    | nil => exact Or.inr ⟨a :: X, rfl, h.symm⟩
    | cons p P =>
      rw [List.cons_append, List.cons_append] at h
      injection h with h1 h2
      subst h1
      rcases ih h2 with ⟨T, e1, e2⟩ | ⟨T, e1, e2⟩
      · exact Or.inl ⟨T, by rw [e1, List.cons_append], e2⟩
      · exact Or.inr ⟨T, by rw [e1, List.cons_append], e2⟩
abbrev eu_It : Type := Nat × Nat × Nat
def eu_Ps (lk : Nat → Nat → Prop) : List eu_It → Nat → Nat → Prop
  | [], b, f => cx_R lk b f
  | x :: B, b, f => cx_R lk b x.2.1 ∧ eu_Ps lk B x.2.2 f
theorem eu_Ps_st {lk : Nat → Nat → Prop} {B : List eu_It} {b b' f : Nat} (h : cx_R lk b b') (k : eu_Ps lk B b' f) : eu_Ps lk B b f := by
  cases B with
  | nil => exact cx_tr h k
  | cons x B => exact ⟨cx_tr h k.1, k.2⟩
theorem eu_Ps_en {lk : Nat → Nat → Prop} : ∀ {B : List eu_It} {b f f' : Nat}, cx_R lk f f' → eu_Ps lk B b f → eu_Ps lk B b f' := by
  intro B
  induction B with
  | nil => exact fun h k => cx_tr k h
  | cons x B ih => exact fun h k => ⟨k.1, ih h k.2⟩
theorem eu_Ps_mo {lk lk' : Nat → Nat → Prop} (h : ∀ a b, cx_R lk a b → cx_R lk' a b) : ∀ {B : List eu_It} {b f : Nat}, eu_Ps lk B b f → eu_Ps lk' B b f := by
  intro B
  induction B with
  | nil => exact fun k => h _ _ k
  | cons x B ih => exact fun k => ⟨h _ _ k.1, ih k.2⟩
theorem eu_Ps_app {lk : Nat → Nat → Prop} : ∀ {B B' : List eu_It} {b f : Nat}, eu_Ps lk (B ++ B') b f ↔ ∃ d, eu_Ps lk B b d ∧ eu_Ps lk B' d f := by
  intro B
  induction B with
  | nil =>
    intro B' b f
    exact ⟨fun k => ⟨b, cx_rf _ _, k⟩, fun ⟨d, k, l⟩ => eu_Ps_st k l⟩
  | cons x B ih =>
    intro B' b f
    constructor
    · rintro ⟨k, l⟩
      obtain ⟨d, m, n⟩ := ih.mp l
      exact ⟨d, ⟨k, m⟩, n⟩
    · rintro ⟨d, ⟨k, m⟩, n⟩
      exact ⟨k, ih.mpr ⟨d, m, n⟩⟩
theorem eu_Ps_last {lk : Nat → Nat → Prop} : ∀ {B : List eu_It} {b f : Nat}, B ≠ [] → eu_Ps lk B b f → ∃ w, w ∈ B ∧ cx_R lk w.2.2 f := by
  intro B
  induction B with
  | nil => exact fun h => absurd rfl h
  | cons x B ih =>
    intro b f _ k
    cases B with
    | nil => exact ⟨x, List.mem_cons_self, k.2⟩
    | cons y B =>
      obtain ⟨w, hw, r⟩ := ih (List.cons_ne_nil y B) k.2
      exact ⟨w, List.mem_cons_of_mem _ hw, r⟩
def eu_V (lk lq : Nat → Nat → Prop) : Nat → List eu_It → Prop
  | 0, L => L = []
  | n + 1, L => ∃ X B Z, L = X ++ (B ++ Z) ∧ B ≠ [] ∧ (∃ d, eu_Ps lk B d d) ∧ (∀ x, x ∈ B → ∀ y, y ∈ B → cx_R lq x.1 y.1) ∧ (∀ x, x ∈ X ++ Z → ∀ y, y ∈ B → ¬ cx_R lq x.1 y.1) ∧ eu_V lk lq n (X ++ Z)
theorem eu_V_co {lk lk' lq lq' : Nat → Nat → Prop} (h : ∀ a b, cx_R lk a b → cx_R lk' a b) : ∀ {n : Nat} {L : List eu_It}, (∀ x, x ∈ L → ∀ y, y ∈ L → (cx_R lq x.1 y.1 ↔ cx_R lq' x.1 y.1)) → eu_V lk lq n L → eu_V lk' lq' n L := by
  intro n
  induction n with
  | zero => exact fun _ k => k
  | succ n ih =>
    rintro L hq ⟨X, B, Z, rfl, hB, ⟨d, hd⟩, hi, ho, hv⟩
    have mB : ∀ x, x ∈ B → x ∈ X ++ (B ++ Z) := fun x hx => List.mem_append_right _ (List.mem_append_left _ hx)
    have mO : ∀ x, x ∈ X ++ Z → x ∈ X ++ (B ++ Z) := fun x hx => by
      rcases List.mem_append.mp hx with hx | hx
      · exact List.mem_append_left _ hx
      · exact List.mem_append_right _ (List.mem_append_right _ hx)
    exact ⟨X, B, Z, rfl, hB, ⟨d, eu_Ps_mo h hd⟩, fun x hx y hy => (hq x (mB x hx) y (mB y hy)).mp (hi x hx y hy), fun x hx y hy r => ho x hx y hy ((hq x (mO x hx) y (mB y hy)).mpr r), ih (fun x hx y hy => hq x (mO x hx) y (mO y hy)) hv⟩
theorem eu_exp {lk lq : Nat → Nat → Prop} {x : eu_It} {B' : List eu_It} (hne : B' ≠ []) (hP : eu_Ps lk B' x.2.1 x.2.2) (hQ : ∀ y, y ∈ B' → cx_R lq y.1 x.1) : ∀ {n : Nat} {X Z : List eu_It}, eu_V lk lq n (X ++ x :: Z) → eu_V lk lq n (X ++ (B' ++ Z)) := by
  intro n
  induction n with
  | zero => intro X Z h; have h' : X ++ x :: Z = [] := h; simp at h'
  | succ n ih =>
    rintro X Z ⟨X1, B1, Z1, e, hB, ⟨d, hd⟩, hi, ho, hv⟩
    rcases ls_cut X e with ⟨T, rfl, rfl⟩ | ⟨T, rfl, e2⟩
    · refine ⟨X ++ (B' ++ T), B1, Z1, by simp, hB, ⟨d, hd⟩, hi, ?_, ?_⟩
      · intro w hw y hy r
        have mx : x ∈ (X ++ x :: T) ++ Z1 := by simp
        by_cases hb : w ∈ B'
        · exact ho x mx y hy (cx_tr (cx_sy (hQ w hb)) r)
        · refine ho w ?_ y hy r
          simp only [List.mem_append, List.mem_cons] at hw ⊢
          rcases hw with (hw | hw | hw) | hw
          · exact Or.inl (Or.inl hw)
          · exact absurd hw hb
          · exact Or.inl (Or.inr (Or.inr hw))
          · exact Or.inr hw
      · have := ih (X := X) (Z := T ++ Z1) (by simpa using hv)
        simpa using this
    · rcases ls_cut T e2.symm with ⟨T2, rfl, rfl⟩ | ⟨T2, rfl, rfl⟩
      · obtain ⟨a, h1, h2, h3⟩ := eu_Ps_app.mp hd
        have mx : x ∈ T ++ x :: T2 := by simp
        refine ⟨X1, T ++ (B' ++ T2), Z1, by simp, ?_, ⟨d, ?_⟩, ?_, ?_, hv⟩
        · intro z
          rcases List.append_eq_nil_iff.mp z with ⟨_, z2⟩
          exact hne (List.append_eq_nil_iff.mp z2).1
        · exact eu_Ps_app.mpr ⟨a, h1, eu_Ps_app.mpr ⟨x.2.2, eu_Ps_st h2 hP, h3⟩⟩
        · have key : ∀ w, w ∈ T ++ (B' ++ T2) → cx_R lq w.1 x.1 := by
            intro w hw
            by_cases hb : w ∈ B'
            · exact hQ w hb
            · refine hi w ?_ x mx
              simp only [List.mem_append, List.mem_cons] at hw ⊢
              rcases hw with hw | hw | hw
              · exact Or.inl hw
              · exact absurd hw hb
              · exact Or.inr (Or.inr hw)
          exact fun w hw y hy => cx_tr (key w hw) (cx_sy (key y hy))
        · intro w hw y hy r
          by_cases hb : y ∈ B'
          · exact ho w hw x mx (cx_tr r (hQ y hb))
          · refine ho w hw y ?_ r
            simp only [List.mem_append, List.mem_cons] at hy ⊢
            rcases hy with hy | hy | hy
            · exact Or.inl hy
            · exact absurd hy hb
            · exact Or.inr (Or.inr hy)
      · refine ⟨X1, B1, T2 ++ (B' ++ Z), by simp, hB, ⟨d, hd⟩, hi, ?_, ?_⟩
        · intro w hw y hy r
          have mx : x ∈ X1 ++ (T2 ++ x :: Z) := by simp
          by_cases hb : w ∈ B'
          · exact ho x mx y hy (cx_tr (cx_sy (hQ w hb)) r)
          · refine ho w ?_ y hy r
            simp only [List.mem_append, List.mem_cons] at hw ⊢
            rcases hw with hw | hw | hw | hw
            · exact Or.inl hw
            · exact Or.inr (Or.inl hw)
            · exact absurd hw hb
            · exact Or.inr (Or.inr (Or.inr hw))
        · have := ih (X := X1 ++ T2) (Z := Z) (by simpa using hv)
          simpa using this
/-- what stands before an item around its block -/
theorem eu_prev {lk lq : Nat → Nat → Prop} : ∀ {n : Nat} {L : List eu_It} {y : eu_It}, eu_V lk lq n L → y ∈ L → ∃ w, w ∈ L ∧ cx_R lk w.2.2 y.2.1 := by
  intro n
  induction n with
  | zero => intro L y h m; rw [show L = [] from h] at m; exact absurd m (by simp)
  | succ n ih =>
    rintro L y ⟨X, B, Z, rfl, hB, ⟨d, hd⟩, hi, ho, hv⟩ m
    by_cases hb : y ∈ B
    · obtain ⟨T, T2, rfl⟩ := List.append_of_mem hb
      obtain ⟨a, h1, h2, h3⟩ := eu_Ps_app.mp hd
      cases T with
      | nil =>
        obtain ⟨w, hw, r⟩ := eu_Ps_last hB hd
        exact ⟨w, List.mem_append_right _ (List.mem_append_left _ hw), cx_tr r (cx_tr h1 h2)⟩
      | cons t T =>
        obtain ⟨w, hw, r⟩ := eu_Ps_last (List.cons_ne_nil t T) h1
        exact ⟨w, List.mem_append_right _ (List.mem_append_left _ (List.mem_append_left _ hw)), cx_tr r h2⟩
    · obtain ⟨w, hw, r⟩ := ih hv (y := y) (by
        simp only [List.mem_append] at m ⊢
        rcases m with m | m | m
        · exact Or.inl m
        · exact absurd m hb
        · exact Or.inr m)
      refine ⟨w, ?_, r⟩
      simp only [List.mem_append] at hw ⊢
      rcases hw with hw | hw
      · exact Or.inl hw
      · exact Or.inr (Or.inr hw)
/-- taking an item out: its block was this item alone and closed, or it goes on without it -/
theorem eu_del {lk lq : Nat → Nat → Prop} {x : eu_It} : ∀ {n : Nat} {X Z : List eu_It}, eu_V lk lq n (X ++ x :: Z) →
    (cx_R lk x.2.1 x.2.2 ∧ ∃ n', n = n' + 1 ∧ eu_V lk lq n' (X ++ Z)) ∨ ((∃ w, w ∈ X ++ Z ∧ cx_R lk w.2.2 x.2.1) ∧ eu_V (cx_ad lk x.2.2 x.2.1) lq n (X ++ Z)) := by
  intro n
  induction n with
  | zero => intro X Z h; have h' : X ++ x :: Z = [] := h; simp at h'
  | succ n ih =>
    rintro X Z ⟨X1, B1, Z1, e, hB, ⟨d, hd⟩, hi, ho, hv⟩
    have up : ∀ a b, cx_R lk a b → cx_R (cx_ad lk x.2.2 x.2.1) a b := fun a b h => cx_ad_le h
    rcases ls_cut X e with ⟨T, rfl, rfl⟩ | ⟨T, rfl, e2⟩
    · have ho' : ∀ w, w ∈ (X ++ T) ++ Z1 → ∀ y, y ∈ B1 → ¬ cx_R lq w.1 y.1 := fun w hw => ho w (by
        simp only [List.mem_append, List.mem_cons] at hw ⊢
        rcases hw with (hw | hw) | hw
        · exact Or.inl (Or.inl hw)
        · exact Or.inl (Or.inr (Or.inr hw))
        · exact Or.inr hw)
      rcases ih (X := X) (Z := T ++ Z1) (by simpa using hv) with ⟨h1, n', rfl, h2⟩ | ⟨⟨w, hw, r⟩, h2⟩
      · exact Or.inl ⟨h1, n' + 1, rfl, X ++ T, B1, Z1, by simp, hB, ⟨d, hd⟩, hi, ho', by simpa using h2⟩
      · refine Or.inr ⟨⟨w, ?_, r⟩, X ++ T, B1, Z1, by simp, hB, ⟨d, eu_Ps_mo up hd⟩, hi, ho', by simpa using h2⟩
        simp only [List.mem_append] at hw ⊢
        rcases hw with hw | hw | hw
        · exact Or.inl hw
        · exact Or.inr (Or.inl hw)
        · exact Or.inr (Or.inr (Or.inr hw))
    · rcases ls_cut T e2.symm with ⟨T2, rfl, rfl⟩ | ⟨T2, rfl, rfl⟩
      · obtain ⟨a, h1, h2, h3⟩ := eu_Ps_app.mp hd
        by_cases hs : T ++ T2 = []
        · obtain ⟨rfl, rfl⟩ := List.append_eq_nil_iff.mp hs
          exact Or.inl ⟨cx_sy (cx_tr (cx_tr h3 h1) h2), n, rfl, by simpa using hv⟩
        · refine Or.inr ⟨?_, X1, T ++ T2, Z1, by simp, hs, ⟨d, ?_⟩, ?_, ?_, eu_V_co up (fun _ _ _ _ => Iff.rfl) hv⟩
          · cases T with
            | nil =>
              obtain ⟨w, hw, r⟩ := eu_Ps_last (by simpa using hs) h3
              exact ⟨w, by rw [List.append_nil]; exact List.mem_append_right _ (List.mem_append_left _ hw), cx_tr r (cx_tr h1 h2)⟩
            | cons t T =>
              obtain ⟨w, hw, r⟩ := eu_Ps_last (List.cons_ne_nil t T) h1
              exact ⟨w, List.mem_append_left _ (List.mem_append_right _ hw), cx_tr r h2⟩
          · refine eu_Ps_app.mpr ⟨a, eu_Ps_mo up h1, eu_Ps_st ?_ (eu_Ps_mo up h3)⟩
            exact cx_tr (up _ _ h2) (cx_sy cx_ad_n)
          · exact fun u hu v hv' => hi u (by simp only [List.mem_append, List.mem_cons] at hu ⊢; rcases hu with hu | hu; exact Or.inl hu; exact Or.inr (Or.inr hu)) v (by simp only [List.mem_append, List.mem_cons] at hv' ⊢; rcases hv' with hu | hu; exact Or.inl hu; exact Or.inr (Or.inr hu))
          · exact fun u hu v hv' => ho u hu v (by simp only [List.mem_append, List.mem_cons] at hv' ⊢; rcases hv' with hu | hu; exact Or.inl hu; exact Or.inr (Or.inr hu))
          
      · have ho' : ∀ w, w ∈ X1 ++ (T2 ++ Z) → ∀ y, y ∈ B1 → ¬ cx_R lq w.1 y.1 := fun w hw => ho w (by
          simp only [List.mem_append, List.mem_cons] at hw ⊢
          rcases hw with hw | hw | hw
          · exact Or.inl hw
          · exact Or.inr (Or.inl hw)
          · exact Or.inr (Or.inr (Or.inr hw)))
        rcases ih (X := X1 ++ T2) (Z := Z) (by simpa using hv) with ⟨h1, n', rfl, h2⟩ | ⟨⟨w, hw, r⟩, h2⟩
        · exact Or.inl ⟨h1, n' + 1, rfl, X1, B1, T2 ++ Z, by simp, hB, ⟨d, hd⟩, hi, ho', by simpa using h2⟩
        · refine Or.inr ⟨⟨w, ?_, r⟩, X1, B1, T2 ++ Z, by simp, hB, ⟨d, eu_Ps_mo up hd⟩, hi, ho', by simpa using h2⟩
          simp only [List.mem_append] at hw ⊢
          rcases hw with (hw | hw) | hw
          · exact Or.inl (Or.inl hw)
          · exact Or.inl (Or.inr (Or.inr hw))
          · exact Or.inr hw
end
section
/-! two neighbours become one -/
def eu_m (x y : eu_It) : eu_It := (x.1, x.2.1, y.2.2)
theorem eu_q_out {lq : Nat → Nat → Prop} {x y z w : Nat} (h1 : ¬ cx_R lq x w) (h2 : ¬ cx_R lq y w) (h : ¬ cx_R lq z w) : ¬ cx_R (cx_ad lq x y) z w := by
  intro r
  rcases cx_ad_iff.mp r with r | ⟨_, r⟩ | ⟨_, r⟩
  · exact h r
  · exact h2 r
  · exact h1 r
theorem eu_mrg {lk lq : Nat → Nat → Prop} {x y : eu_It} : ∀ {n : Nat} {X Z : List eu_It}, eu_V lk lq n (X ++ x :: y :: Z) →
    (cx_R lk x.2.2 y.2.1 ∧ cx_R lq x.1 y.1 ∧ eu_V lk lq n (X ++ eu_m x y :: Z)) ∨
    (¬ cx_R lq x.1 y.1 ∧ (∃ w, w ∈ X ++ y :: Z ∧ cx_R lk w.2.2 y.2.1) ∧ ∃ n', n = n' + 1 ∧ eu_V (cx_ad lk x.2.2 y.2.1) (cx_ad lq x.1 y.1) n' (X ++ eu_m x y :: Z)) := by
  intro n
  induction n with
  | zero => intro X Z h; have h' : X ++ x :: y :: Z = [] := h; simp at h'
  | succ n ih =>
    rintro X Z ⟨X1, B1, Z1, e, hB, ⟨d, hd⟩, hi, ho, hv⟩
    have up : ∀ a b, cx_R lk a b → cx_R (cx_ad lk x.2.2 y.2.1) a b := fun a b h => cx_ad_le h
    have uq : ∀ a b, cx_R lq a b → cx_R (cx_ad lq x.1 y.1) a b := fun a b h => cx_ad_le h
    rcases ls_cut X e with ⟨T, rfl, e1⟩ | ⟨T, rfl, e2⟩
    · cases T with
      | nil =>
        -- x is the last ahead of the block, y its first
        rw [List.nil_append] at e1
        cases B1 with
        | nil => exact absurd rfl hB
        | cons y' B2 =>
          rw [List.cons_append] at e1
          injection e1 with e3 e4
          subst e3; subst e4
          have my : y ∈ y :: B2 := List.mem_cons_self
          have mx : x ∈ (X ++ [x]) ++ Z1 := by simp
          refine Or.inr ⟨ho x mx y my, ?_, n, rfl, ?_⟩
          · obtain ⟨w, hw, r⟩ := eu_Ps_last hB hd
            refine ⟨w, ?_, cx_tr r hd.1⟩
            simp only [List.mem_append, List.mem_cons] at hw ⊢
            rcases hw with hw | hw
            · exact Or.inr (Or.inl hw)
            · exact Or.inr (Or.inr (Or.inl hw))
          · have hv2 : eu_V (cx_ad lk x.2.2 y.2.1) (cx_ad lq x.1 y.1) n (X ++ x :: Z1) := by
              refine eu_V_co up ?_ (by simpa using hv)
              intro z hz w hw
              have hz' : z ∈ (X ++ [x]) ++ Z1 := by simpa using hz
              have hw' : w ∈ (X ++ [x]) ++ Z1 := by simpa using hw
              refine ⟨uq _ _, fun r => ?_⟩
              rcases cx_ad_iff.mp r with r | ⟨_, r⟩ | ⟨r, _⟩
              · exact r
              · exact absurd (cx_sy r) (ho w hw' y my)
              · exact absurd r (ho z hz' y my)
            have := eu_exp (lq := cx_ad lq x.1 y.1) (x := x) (B' := eu_m x y :: B2) (List.cons_ne_nil _ _) ⟨cx_rf _ _, eu_Ps_en (f := d) (cx_tr (up _ _ hd.1) (cx_sy cx_ad_n)) (eu_Ps_mo up hd.2)⟩ (by
              intro w hw
              rcases List.mem_cons.mp hw with rfl | hw
              · exact cx_rf _ _
              · exact cx_tr (uq _ _ (hi w (List.mem_cons_of_mem _ hw) y my)) (cx_sy cx_ad_n)) hv2
            simpa using this
      | cons y' T2 =>
        rw [List.cons_append] at e1
        injection e1 with e3 e4
        subst e3; subst e4
        have mx : x ∈ (X ++ x :: y :: T2) ++ Z1 := by simp
        have my : y ∈ (X ++ x :: y :: T2) ++ Z1 := by simp
        have ho' : ∀ w, w ∈ (X ++ eu_m x y :: T2) ++ Z1 → ∀ z, z ∈ B1 → ¬ cx_R lq w.1 z.1 := by
          intro w hw z hz
          by_cases em : w = eu_m x y
          · rw [em]; exact ho x mx z hz
          · refine ho w ?_ z hz
            simp only [List.mem_append, List.mem_cons] at hw ⊢
            rcases hw with (hw | hw | hw) | hw
            · exact Or.inl (Or.inl hw)
            · exact absurd hw em
            · exact Or.inl (Or.inr (Or.inr (Or.inr hw)))
            · exact Or.inr hw
        rcases ih (X := X) (Z := T2 ++ Z1) (by simpa using hv) with ⟨h1, h2, h3⟩ | ⟨h1, ⟨w, hw, r⟩, n', rfl, h3⟩
        · exact Or.inl ⟨h1, h2, X ++ eu_m x y :: T2, B1, Z1, by simp, hB, ⟨d, hd⟩, hi, ho', by simpa using h3⟩
        · refine Or.inr ⟨h1, ⟨w, ?_, r⟩, n' + 1, rfl, X ++ eu_m x y :: T2, B1, Z1, by simp, hB, ⟨d, eu_Ps_mo up hd⟩, fun u hu v hv' => uq _ _ (hi u hu v hv'), fun u hu v hv' => eu_q_out (ho x mx v hv') (ho y my v hv') (ho' u hu v hv'), by simpa using h3⟩
          simp only [List.mem_append, List.mem_cons] at hw ⊢
          rcases hw with hw | hw | hw | hw
          · exact Or.inl hw
          · exact Or.inr (Or.inl hw)
          · exact Or.inr (Or.inr (Or.inl hw))
          · exact Or.inr (Or.inr (Or.inr (Or.inr hw)))
    · rcases ls_cut T e2.symm with ⟨T2, rfl, e3⟩ | ⟨T2, rfl, rfl⟩
      · cases T2 with
        | nil =>
          -- x is the last of the block, y the first behind it
          rw [List.nil_append] at e3
          subst e3
          obtain ⟨a, h1, h2, h3⟩ := eu_Ps_app.mp hd
          have h3' : cx_R lk x.2.2 d := h3
          have mx : x ∈ T ++ [x] := by simp
          have my : y ∈ X1 ++ y :: Z := by simp
          refine Or.inr ⟨fun r => ho y my x mx (cx_sy r), ?_, n, rfl, ?_⟩
          · obtain ⟨w, hw, r⟩ := eu_prev hv my
            refine ⟨w, ?_, r⟩
            simp only [List.mem_append, List.mem_cons] at hw ⊢
            rcases hw with hw | hw | hw
            · exact Or.inl (Or.inl hw)
            · exact Or.inr (Or.inl hw)
            · exact Or.inr (Or.inr hw)
          · have hv2 : eu_V (cx_ad lk x.2.2 y.2.1) (cx_ad lq x.1 y.1) n (X1 ++ y :: Z) := by
              refine eu_V_co up ?_ hv
              intro z hz w hw
              refine ⟨uq _ _, fun r => ?_⟩
              rcases cx_ad_iff.mp r with r | ⟨r, _⟩ | ⟨_, r⟩
              · exact r
              · exact absurd r (ho z hz x mx)
              · exact absurd (cx_sy r) (ho w hw x mx)
            have := eu_exp (lq := cx_ad lq x.1 y.1) (B' := T ++ [eu_m x y]) (by simp) (x := y) (eu_Ps_app.mpr ⟨a, eu_Ps_st (cx_tr (cx_sy cx_ad_n) (up _ _ h3')) (eu_Ps_mo up h1), up _ _ h2, cx_rf _ _⟩) (by
              intro w hw
              rcases List.mem_append.mp hw with hw | hw
              · exact cx_tr (uq _ _ (hi w (List.mem_append_left _ hw) x mx)) cx_ad_n
              · rw [List.mem_singleton.mp hw]; exact cx_ad_n) hv2
            simpa using this
        | cons y' T3 =>
          rw [List.cons_append] at e3
          injection e3 with e4 e5
          subst e4; subst e5
          obtain ⟨a, h1, h2, h3, h4⟩ := eu_Ps_app.mp hd
          have mx : x ∈ T ++ x :: y :: T3 := by simp
          have my : y ∈ T ++ x :: y :: T3 := by simp
          have key : ∀ w, w ∈ T ++ eu_m x y :: T3 → cx_R lq w.1 x.1 := by
            intro w hw
            by_cases em : w = eu_m x y
            · rw [em]; exact cx_rf _ _
            · refine hi w ?_ x mx
              simp only [List.mem_append, List.mem_cons] at hw ⊢
              rcases hw with hw | hw | hw
              · exact Or.inl hw
              · exact absurd hw em
              · exact Or.inr (Or.inr (Or.inr hw))
          exact Or.inl ⟨h3, hi x mx y my, X1, T ++ eu_m x y :: T3, Z1, by simp, by simp, ⟨d, eu_Ps_app.mpr ⟨a, h1, h2, h4⟩⟩, fun u hu v hv' => cx_tr (key u hu) (cx_sy (key v hv')), fun u hu v hv' r => ho u hu x mx (cx_tr r (key v hv')), hv⟩
      · have mx : x ∈ X1 ++ (T2 ++ x :: y :: Z) := by simp
        have my : y ∈ X1 ++ (T2 ++ x :: y :: Z) := by simp
        have ho' : ∀ w, w ∈ X1 ++ (T2 ++ eu_m x y :: Z) → ∀ z, z ∈ B1 → ¬ cx_R lq w.1 z.1 := by
          intro w hw z hz
          by_cases em : w = eu_m x y
          · rw [em]; exact ho x mx z hz
          · refine ho w ?_ z hz
            simp only [List.mem_append, List.mem_cons] at hw ⊢
            rcases hw with hw | hw | hw | hw
            · exact Or.inl hw
            · exact Or.inr (Or.inl hw)
            · exact absurd hw em
            · exact Or.inr (Or.inr (Or.inr (Or.inr hw)))
        rcases ih (X := X1 ++ T2) (Z := Z) (by simpa using hv) with ⟨h1, h2, h3⟩ | ⟨h1, ⟨w, hw, r⟩, n', rfl, h3⟩
        · exact Or.inl ⟨h1, h2, X1, B1, T2 ++ eu_m x y :: Z, by simp, hB, ⟨d, hd⟩, hi, ho', by simpa using h3⟩
        · refine Or.inr ⟨h1, ⟨w, ?_, r⟩, n' + 1, rfl, X1, B1, T2 ++ eu_m x y :: Z, by simp, hB, ⟨d, eu_Ps_mo up hd⟩, fun u hu v hv' => uq _ _ (hi u hu v hv'), fun u hu v hv' => eu_q_out (ho x mx v hv') (ho y my v hv') (ho' u hu v hv'), by simpa using h3⟩
          simp only [List.mem_append, List.mem_cons] at hw ⊢
          rcases hw with (hw | hw) | hw | hw
          · exact Or.inl (Or.inl hw)
          · exact Or.inl (Or.inr (Or.inr hw))
          · exact Or.inr (Or.inl hw)
          · exact Or.inr (Or.inr hw)
end
section
/-! one event of the sweep, as moves -/
def eu_U (lk : Nat → Nat → Prop) (L : List eu_It) : Prop := L.Pairwise (fun a c => ¬ cx_R lk a.2.2 c.2.2)
def eu_fr (lk : Nat → Nat → Prop) (d : Nat) : Prop := ∀ a b, lk a b → a ≠ d ∧ b ≠ d
theorem eu_fr_ad {lk : Nat → Nat → Prop} {d a b : Nat} (h : eu_fr lk d) (ha : d ≠ a) (hb : d ≠ b) : eu_fr (cx_ad lk a b) d := by
  rintro x y (k | ⟨rfl, rfl⟩)
  · exact h x y k
  · exact ⟨fun z => ha z.symm, fun z => hb z.symm⟩
theorem eu_fr_n {lk : Nat → Nat → Prop} {d x : Nat} (h : eu_fr lk d) (hx : x ≠ d) : ¬ cx_R lk d x := fun k => hx (cx_fr h k)
theorem eu_ad_fr {lk : Nat → Nat → Prop} {d x z w : Nat} (h : eu_fr lk d) (hz : z ≠ d) (hw : w ≠ d) : cx_R (cx_ad lk d x) z w ↔ cx_R lk z w := by
  constructor
  · intro r
    rcases cx_ad_iff.mp r with r | ⟨r, _⟩ | ⟨_, r⟩
    · exact r
    · exact absurd (cx_sy r) (eu_fr_n h hz)
    · exact absurd r (eu_fr_n h hw)
  · exact cx_ad_le
theorem eu_U_at {lk : Nat → Nat → Prop} {X Z : List eu_It} {x : eu_It} (h : eu_U lk (X ++ x :: Z)) : ∀ w, w ∈ X ++ Z → ¬ cx_R lk x.2.2 w.2.2 := by
  intro w hw
  obtain ⟨_, h2, h3⟩ := List.pairwise_append.mp h
  rcases List.mem_append.mp hw with hw | hw
  · exact fun r => h3 w hw x List.mem_cons_self (cx_sy r)
  · exact (List.pairwise_cons.mp h2).1 w hw
theorem eu_U_rm {lk : Nat → Nat → Prop} {X Z : List eu_It} {x : eu_It} (h : eu_U lk (X ++ x :: Z)) : eu_U lk (X ++ Z) := by
  obtain ⟨h1, h2, h3⟩ := List.pairwise_append.mp h
  exact List.pairwise_append.mpr ⟨h1, (List.pairwise_cons.mp h2).2, fun a ha b hb => h3 a ha b (List.mem_cons_of_mem _ hb)⟩
theorem eu_U_co {lk lk' : Nat → Nat → Prop} {L : List eu_It} (h : ∀ a, a ∈ L → ∀ c, c ∈ L → cx_R lk' a.2.2 c.2.2 → cx_R lk a.2.2 c.2.2) (k : eu_U lk L) : eu_U lk' L :=
  List.Pairwise.imp_of_mem (fun ha hc n r => n (h _ ha _ hc r)) k
/-- taking an item's forth dart out of the play -/
theorem eu_U_out {lk : Nat → Nat → Prop} {X Z : List eu_It} {x : eu_It} {b : Nat} (h : eu_U lk (X ++ x :: Z)) : eu_U (cx_ad lk x.2.2 b) (X ++ Z) := by
  refine eu_U_co ?_ (eu_U_rm h)
  intro a ha c hc r
  rcases cx_ad_iff.mp r with r | ⟨r, _⟩ | ⟨_, r⟩
  · exact r
  · exact absurd (cx_sy r) (eu_U_at h a ha)
  · exact absurd r (eu_U_at h c hc)
def eu_lm : (Nat → Nat → Prop) → eu_It → List eu_It → Nat → Nat → Prop
  | lk, _, [] => lk
  | lk, x, y :: I => eu_lm (cx_ad lk x.2.2 y.2.1) (eu_m x y) I
def eu_lqm : (Nat → Nat → Prop) → Nat → List eu_It → Nat → Nat → Prop
  | lq, _, [] => lq
  | lq, a, y :: I => eu_lqm (cx_ad lq a y.1) a I
def eu_mm : eu_It → List eu_It → eu_It
  | x, [] => x
  | x, y :: I => eu_mm (eu_m x y) I
def eu_lf : (Nat → Nat → Prop) → eu_It → List eu_It → Nat → Nat → Prop
  | lk, _, [] => lk
  | lk, x, y :: F => eu_lf (cx_ad lk y.2.1 x.2.2) y F
def eu_lst : eu_It → List eu_It → eu_It
  | x, [] => x
  | _, y :: F => eu_lst y F
theorem eu_lst_mem : ∀ (F : List eu_It) (x : eu_It), eu_lst x F ∈ x :: F := by
  intro F
  induction F with
  | nil => exact fun x => List.mem_cons_self
  | cons y F ih => exact fun x => List.mem_cons_of_mem _ (ih y)
theorem eu_mm_1 : ∀ (I : List eu_It) (x : eu_It), (eu_mm x I).1 = x.1 ∧ (eu_mm x I).2.1 = x.2.1 ∧ (eu_mm x I).2.2 = (eu_lst x I).2.2 := by
  intro I
  induction I with
  | nil => exact fun x => ⟨rfl, rfl, rfl⟩
  | cons y I ih =>
    intro x
    obtain ⟨h1, h2, h3⟩ := ih (eu_m x y)
    refine ⟨h1, h2, h3.trans ?_⟩
    cases I with
    | nil => rfl
    | cons z I => rfl
/-- what holds of the items between two moves -/
def eu_J (N n : Nat) (P : Nat → Prop) (lk lq : Nat → Nat → Prop) (nb : Nat) (L : List eu_It) (K : Nat) : Prop :=
  eu_V lk lq nb L ∧ eu_U lk L ∧ (∀ x, x ∈ L → x.1 < n ∧ P x.1 ∧ x.2.1 < N ∧ x.2.2 < N) ∧ cx_n (fun _ => True) (cx_R lk) N + nb + K = N + 2 * cx_n P (cx_R lq) n
theorem eu_J1 {N n : Nat} {P : Nat → Prop} {lk lq : Nat → Nat → Prop} {nb K : Nat} {X Z : List eu_It} {x y : eu_It} (h : eu_J N n P lk lq nb (X ++ x :: y :: Z) K) : ∃ nb', eu_J N n P (cx_ad lk x.2.2 y.2.1) (cx_ad lq x.1 y.1) nb' (X ++ eu_m x y :: Z) K := by
  obtain ⟨hV, hU, hM, hK⟩ := h
  obtain ⟨x1, x2, x3, x4⟩ := hM x (by simp)
  obtain ⟨y1, y2, y3, y4⟩ := hM y (by simp)
  have hM' : ∀ z, z ∈ X ++ eu_m x y :: Z → z.1 < n ∧ P z.1 ∧ z.2.1 < N ∧ z.2.2 < N := by
    intro z hz
    by_cases e : z = eu_m x y
    · rw [e]; exact ⟨x1, x2, x3, y4⟩
    · refine hM z ?_
      simp only [List.mem_append, List.mem_cons] at hz ⊢
      rcases hz with hz | hz | hz
      · exact Or.inl hz
      · exact absurd hz e
      · exact Or.inr (Or.inr (Or.inr hz))
  have hU1 : eu_U (cx_ad lk x.2.2 y.2.1) (X ++ y :: Z) := eu_U_out hU
  have hU' : eu_U (cx_ad lk x.2.2 y.2.1) (X ++ eu_m x y :: Z) := by
    obtain ⟨h1, h2, h3⟩ := List.pairwise_append.mp hU1
    obtain ⟨h4, h5⟩ := List.pairwise_cons.mp h2
    refine List.pairwise_append.mpr ⟨h1, List.pairwise_cons.mpr ⟨h4, h5⟩, ?_⟩
    intro a ha b hb
    rcases List.mem_cons.mp hb with rfl | hb
    · exact h3 a ha y List.mem_cons_self
    · exact h3 a ha b (List.mem_cons_of_mem _ hb)
  rcases eu_mrg hV with ⟨h1, h2, h3⟩ | ⟨h1, ⟨w, hw, r⟩, n', rfl, h3⟩
  · refine ⟨nb, ?_, hU', hM', ?_⟩
    · exact eu_V_co (fun a b => cx_ad_le) (fun a _ b _ => (cx_ad_same h2 _ _).symm) h3
    · rw [← cx_n_same h1, ← cx_n_same h2]; exact hK
  · have hn : ¬ cx_R lk x.2.2 y.2.1 := fun k => eu_U_at hU w hw (cx_tr k (cx_sy r))
    have e1 := cx_n_ad (P := fun _ => True) x4 y3 trivial trivial hn
    have e2 := cx_n_ad (P := P) x1 y1 x2 y2 h1
    exact ⟨n', h3, hU', hM', by omega⟩
theorem eu_Jm {N n : Nat} {P : Nat → Prop} {K : Nat} {X Z : List eu_It} : ∀ (I : List eu_It) {lk lq : Nat → Nat → Prop} {nb : Nat} {x : eu_It}, eu_J N n P lk lq nb (X ++ x :: (I ++ Z)) K → ∃ nb', eu_J N n P (eu_lm lk x I) (eu_lqm lq x.1 I) nb' (X ++ eu_mm x I :: Z) K := by
  intro I
  induction I with
  | nil => exact fun h => ⟨_, h⟩
  | cons y I ih =>
    intro lk lq nb x h
    obtain ⟨nb1, h1⟩ := eu_J1 h
    exact ih h1
theorem eu_n_new {P : Nat → Prop} {lq : Nat → Nat → Prop} {k n : Nat} (hk : k < n) (hp : ¬ P k) (hf : eu_fr lq k) : cx_n (fun z => P z ∨ z = k) (cx_R lq) n = cx_n P (cx_R lq) n + 1 := by
  unfold cx_n
  refine cc_n1 k ⟨Or.inr rfl, fun y hy _ r => absurd (cx_fr hf (cx_sy r)) (by omega)⟩ (fun h => hp h.1) hk ?_
  · intro x hx xk
    constructor
    · rintro ⟨h1 | h1, h2⟩
      · exact ⟨h1, fun y hy py => h2 y hy (Or.inl py)⟩
      · exact absurd h1 xk
    · rintro ⟨h1, h2⟩
      refine ⟨Or.inl h1, fun y hy py r => ?_⟩
      rcases py with py | rfl
      · exact h2 y hy py r
      · exact xk (cx_fr hf r)
/-- the labels that start here are tied to the one at hand -/
theorem eu_Qs {n : Nat} : ∀ (F : List eu_It) {P : Nat → Prop} {lq : Nat → Nat → Prop} {a : Nat}, P a → a < n → (∀ f, f ∈ F → f.1 < n ∧ ((P f.1 ∧ cx_R lq a f.1) ∨ (¬ P f.1 ∧ eu_fr lq f.1))) → F.Pairwise (fun f g => f.1 ≠ g.1) →
    cx_n (fun z => P z ∨ ∃ f, f ∈ F ∧ z = f.1) (cx_R (eu_lqm lq a F)) n = cx_n P (cx_R lq) n ∧ (∀ f, f ∈ F → cx_R (eu_lqm lq a F) a f.1) ∧ (∀ z w, P z → P w → (cx_R (eu_lqm lq a F) z w ↔ cx_R lq z w)) ∧ (∀ z w, cx_R lq z w → cx_R (eu_lqm lq a F) z w) := by
  intro F
  induction F with
  | nil =>
    intro P lq a pa ha _ _
    refine ⟨cx_n_co (fun x _ => ⟨fun h => ?_, Or.inl⟩) (fun _ _ _ _ _ _ => Iff.rfl), fun f hf => absurd hf (by simp), fun _ _ _ _ => Iff.rfl, fun _ _ h => h⟩
    rcases h with h | ⟨f, hf, _⟩
    · exact h
    · exact absurd hf (by simp)
  | cons f F ih =>
    intro P lq a pa ha hF hp
    obtain ⟨hp1, hp2⟩ := List.pairwise_cons.mp hp
    obtain ⟨fn, fc⟩ := hF f List.mem_cons_self
    have step : cx_n (fun z => P z ∨ z = f.1) (cx_R (cx_ad lq a f.1)) n = cx_n P (cx_R lq) n ∧ (∀ z w, P z → P w → (cx_R (cx_ad lq a f.1) z w ↔ cx_R lq z w)) := by
      rcases fc with ⟨p, r⟩ | ⟨p, fr⟩
      · refine ⟨?_, fun z w _ _ => cx_ad_same r z w⟩
        rw [cx_n_same (P := P) r]
        exact cx_n_co (fun x _ => ⟨fun h => h.elim id (fun e => e ▸ p), Or.inl⟩) (fun _ _ _ _ _ _ => Iff.rfl)
      · have fa : a ≠ f.1 := fun e => p (e ▸ pa)
        constructor
        · have e1 := eu_n_new fn p fr
          have e2 := cx_n_ad (P := fun z => P z ∨ z = f.1) (lk := lq) ha fn (Or.inl pa) (Or.inr rfl) (fun r => eu_fr_n fr fa (cx_sy r))
          omega
        · intro z w pz pw
          have hz : z ≠ f.1 := fun e => p (e ▸ pz)
          have hw : w ≠ f.1 := fun e => p (e ▸ pw)
          refine ⟨fun r => ?_, cx_ad_le⟩
          rcases cx_ad_iff.mp r with r | ⟨_, r⟩ | ⟨r, _⟩
          · exact r
          · exact absurd r (eu_fr_n fr hw)
          · exact absurd (cx_sy r) (eu_fr_n fr hz)
    obtain ⟨i1, i2, i3, i4⟩ := ih (P := fun z => P z ∨ z = f.1) (lq := cx_ad lq a f.1) (a := a) (Or.inl pa) ha (by
      intro g hg
      obtain ⟨gn, gc⟩ := hF g (List.mem_cons_of_mem _ hg)
      have gf : g.1 ≠ f.1 := fun e => hp1 g hg e.symm
      refine ⟨gn, ?_⟩
      rcases gc with ⟨p, r⟩ | ⟨p, fr⟩
      · exact Or.inl ⟨Or.inl p, cx_ad_le r⟩
      · exact Or.inr ⟨fun h => h.elim p gf, eu_fr_ad fr (fun e => p (e ▸ pa)) gf⟩) hp2
    refine ⟨?_, ?_, ?_, ?_⟩
    · rw [← step.1, ← i1]
      refine cx_n_co (fun x _ => ?_) (fun _ _ _ _ _ _ => Iff.rfl)
      constructor
      · rintro (h | ⟨g, hg, e⟩)
        · exact Or.inl (Or.inl h)
        · rcases List.mem_cons.mp hg with rfl | hg
          · exact Or.inl (Or.inr e)
          · exact Or.inr ⟨g, hg, e⟩
      · rintro ((h | h) | ⟨g, hg, e⟩)
        · exact Or.inl h
        · exact Or.inr ⟨f, List.mem_cons_self, h⟩
        · exact Or.inr ⟨g, List.mem_cons_of_mem _ hg, e⟩
    · intro g hg
      rcases List.mem_cons.mp hg with rfl | hg
      · exact i4 _ _ cx_ad_n
      · exact i2 g hg
    · intro z w pz pw
      exact (i3 z w (Or.inl pz) (Or.inl pw)).trans (step.2 z w pz pw)
    · exact fun z w r => i4 z w (cx_ad_le r)
/-- the links between neighbours that go out -/
theorem eu_lf_ok {N : Nat} : ∀ (F : List eu_It) {lk : Nat → Nat → Prop} {x : eu_It}, x.2.2 < N → (∀ y, y ∈ F → y.2.1 < N ∧ y.2.2 < N ∧ eu_fr lk y.2.1 ∧ y.2.1 ≠ x.2.2) → (∀ y, y ∈ F → ∀ z, z ∈ F → y.2.1 ≠ z.2.2) → F.Pairwise (fun y z => y.2.1 ≠ z.2.1) →
    cx_n (fun _ => True) (cx_R lk) N = cx_n (fun _ => True) (cx_R (eu_lf lk x F)) N + F.length ∧ (∀ z w, (∀ y, y ∈ F → z ≠ y.2.1 ∧ w ≠ y.2.1) → (cx_R (eu_lf lk x F) z w ↔ cx_R lk z w)) ∧ eu_Ps (eu_lf lk x F) F x.2.2 (eu_lst x F).2.2 ∧ (∀ z w, cx_R lk z w → cx_R (eu_lf lk x F) z w) := by
  intro F
  induction F with
  | nil => intro lk x _ _ _ _; exact ⟨rfl, fun _ _ _ => Iff.rfl, cx_rf _ _, fun _ _ h => h⟩
  | cons y F ih =>
    intro lk x hx hF hd hp
    obtain ⟨hp1, hp2⟩ := List.pairwise_cons.mp hp
    obtain ⟨y1, y2, y3, y4⟩ := hF y List.mem_cons_self
    obtain ⟨i1, i2, i3, i4⟩ := ih (lk := cx_ad lk y.2.1 x.2.2) (x := y) y2 (by
      intro z hz
      obtain ⟨z1, z2, z3, z4⟩ := hF z (List.mem_cons_of_mem _ hz)
      exact ⟨z1, z2, eu_fr_ad z3 (fun e => hp1 z hz e.symm) z4, hd z (List.mem_cons_of_mem _ hz) y List.mem_cons_self⟩) (fun a ha b hb => hd a (List.mem_cons_of_mem _ ha) b (List.mem_cons_of_mem _ hb)) hp2
    have e1 := cx_n_ad (P := fun _ => True) (lk := lk) y1 hx trivial trivial (eu_fr_n y3 (fun e => y4 e.symm))
    refine ⟨?_, ?_, ⟨i4 _ _ (cx_sy cx_ad_n), i3⟩, fun z w r => i4 z w (cx_ad_le r)⟩
    · show _ = cx_n (fun _ => True) (cx_R (eu_lf (cx_ad lk y.2.1 x.2.2) y F)) N + (F.length + 1)
      omega
    · intro z w h
      refine (i2 z w (fun v hv => h v (List.mem_cons_of_mem _ hv))).trans ?_
      obtain ⟨h1, h2⟩ := h y List.mem_cons_self
      exact eu_ad_fr y3 h1 h2
end
section
/-! the whole sweep -/
def eu_stR (lk : Nat → Nat → Prop) : List eu_It → List eu_It → Nat → Nat → Prop
  | [], [] => lk
  | [], f :: F => eu_lf (cx_ad lk f.2.1 (eu_lst f F).2.2) f F
  | x :: I, [] => cx_ad (eu_lm lk x I) (eu_mm x I).2.2 (eu_mm x I).2.1
  | x :: I, f :: F => eu_lf (cx_ad (cx_ad (eu_lm lk x I) f.2.1 (eu_mm x I).2.1) (eu_lst f F).2.2 (eu_mm x I).2.2) f F
def eu_stQ (lq : Nat → Nat → Prop) : List eu_It → List eu_It → Nat → Nat → Prop
  | [], [] => lq
  | [], f :: F => eu_lqm lq f.1 F
  | x :: I, F => eu_lqm (eu_lqm lq x.1 I) x.1 F
theorem eu_lm_fr {d : Nat} : ∀ (I : List eu_It) {lk : Nat → Nat → Prop} {x : eu_It}, eu_fr lk d → (∀ y, y ∈ x :: I → d ≠ y.2.1 ∧ d ≠ y.2.2) → eu_fr (eu_lm lk x I) d := by
  intro I
  induction I with
  | nil => exact fun h _ => h
  | cons y I ih =>
    intro lk x h hd
    obtain ⟨x1, x2⟩ := hd x List.mem_cons_self
    obtain ⟨y1, y2⟩ := hd y (List.mem_cons_of_mem _ List.mem_cons_self)
    refine ih (eu_fr_ad h x2 y1) ?_
    intro z hz
    rcases List.mem_cons.mp hz with rfl | hz
    · exact ⟨x1, y2⟩
    · exact hd z (List.mem_cons_of_mem _ (List.mem_cons_of_mem _ hz))
theorem eu_lqm_fr {d : Nat} : ∀ (I : List eu_It) {lq : Nat → Nat → Prop} {a : Nat}, eu_fr lq d → d ≠ a → (∀ y, y ∈ I → d ≠ y.1) → eu_fr (eu_lqm lq a I) d := by
  intro I
  induction I with
  | nil => exact fun h _ _ => h
  | cons y I ih => exact fun h ha hd => ih (eu_fr_ad h ha (hd y List.mem_cons_self)) ha (fun z hz => hd z (List.mem_cons_of_mem _ hz))
theorem eu_lqm_r : ∀ (I : List eu_It) {lq : Nat → Nat → Prop} {a : Nat}, (∀ z w, cx_R lq z w → cx_R (eu_lqm lq a I) z w) ∧ ∀ y, y ∈ I → cx_R (eu_lqm lq a I) a y.1 := by
  intro I
  induction I with
  | nil => exact fun {lq a} => ⟨fun _ _ h => h, fun y hy => absurd hy (by simp)⟩
  | cons y I ih =>
    intro lq a
    obtain ⟨h1, h2⟩ := ih (lq := cx_ad lq a y.1) (a := a)
    refine ⟨fun z w r => h1 z w (cx_ad_le r), fun z hz => ?_⟩
    rcases List.mem_cons.mp hz with rfl | hz
    · exact h1 _ _ cx_ad_n
    · exact h2 z hz
theorem eu_lf_fr {d : Nat} : ∀ (F : List eu_It) {lk : Nat → Nat → Prop} {x : eu_It}, eu_fr lk d → (∀ y, y ∈ x :: F → d ≠ y.2.1 ∧ d ≠ y.2.2) → eu_fr (eu_lf lk x F) d := by
  intro F
  induction F with
  | nil => exact fun h _ => h
  | cons y F ih =>
    intro lk x h hd
    obtain ⟨x1, x2⟩ := hd x List.mem_cons_self
    obtain ⟨y1, y2⟩ := hd y (List.mem_cons_of_mem _ List.mem_cons_self)
    exact ih (eu_fr_ad h y1 x2) (fun z hz => hd z (List.mem_cons_of_mem _ hz))
/-- what the items that go out must be -/
def eu_Out (N n : Nat) (P : Nat → Prop) (lk lq : Nat → Nat → Prop) (L I F : List eu_It) : Prop :=
  (∀ f, f ∈ F → f.1 < n ∧ f.2.1 < N ∧ f.2.2 < N ∧ eu_fr lk f.2.1 ∧ eu_fr lk f.2.2) ∧
  (∀ f, f ∈ F → ∀ g, g ∈ F → f.2.1 ≠ g.2.2) ∧
  F.Pairwise (fun f g => f.1 ≠ g.1 ∧ f.2.1 ≠ g.2.1 ∧ f.2.2 ≠ g.2.2) ∧
  (∀ f, f ∈ F → ∀ x, x ∈ L → f.2.1 ≠ x.2.1 ∧ f.2.1 ≠ x.2.2 ∧ f.2.2 ≠ x.2.1 ∧ f.2.2 ≠ x.2.2) ∧
  (∀ f, f ∈ F → (∃ x, x ∈ I ∧ x.1 = f.1) ∨ (¬ P f.1 ∧ eu_fr lq f.1))
theorem eu_E0 {N n : Nat} {P : Nat → Prop} {lk lq : Nat → Nat → Prop} {nb K : Nat} {A C F : List eu_It} {f : eu_It} (hJ : eu_J N n P lk lq nb (A ++ C) K) (hO : eu_Out N n P lk lq (A ++ C) [] (f :: F)) :
    eu_J N n (fun z => P z ∨ ∃ g, g ∈ f :: F ∧ z = g.1) (eu_lf (cx_ad lk f.2.1 (eu_lst f F).2.2) f F) (eu_lqm lq f.1 F) (nb + 1) (A ++ (f :: F ++ C)) (K + (F.length + 1) + 1) := by
  obtain ⟨hV, hU, hM, hK⟩ := hJ
  obtain ⟨o1, o2, o3, o4, o5⟩ := hO
  obtain ⟨p1, p2⟩ := List.pairwise_cons.mp o3
  obtain ⟨f1, f2, f3, f4, f5⟩ := o1 f List.mem_cons_self
  have nI' : ∀ g, g ∈ f :: F → ¬ P g.1 ∧ eu_fr lq g.1 := fun g hg => (o5 g hg).elim (fun ⟨x, hx, _⟩ => absurd hx (by simp)) id
  have lm := eu_lst_mem F f
  obtain ⟨l1, l2, l3, l4, l5⟩ := o1 _ lm
  -- labels
  obtain ⟨q1, q2, q3, q4⟩ := eu_Qs (n := n) F (P := fun z => P z ∨ z = f.1) (lq := lq) (a := f.1) (Or.inr rfl) f1 (by
    intro g hg
    have hg' := List.mem_cons_of_mem f hg
    refine ⟨(o1 g hg').1, Or.inr ⟨?_, (nI' g hg').2⟩⟩
    exact fun h => h.elim (nI' g hg').1 (fun e => (p1 g hg).1 e.symm)) (p2.imp (fun h => h.1))
  rw [eu_n_new f1 (nI' f List.mem_cons_self).1 (nI' f List.mem_cons_self).2] at q1
  have hP : cx_n (fun z => P z ∨ ∃ g, g ∈ f :: F ∧ z = g.1) (cx_R (eu_lqm lq f.1 F)) n = cx_n P (cx_R lq) n + 1 := by
    rw [← q1]
    refine cx_n_co (fun x _ => ?_) (fun _ _ _ _ _ _ => Iff.rfl)
    constructor
    · rintro (h | ⟨g, hg, e⟩)
      · exact Or.inl (Or.inl h)
      · rcases List.mem_cons.mp hg with rfl | hg
        · exact Or.inl (Or.inr e)
        · exact Or.inr ⟨g, hg, e⟩
    · rintro ((h | h) | ⟨g, hg, e⟩)
      · exact Or.inl h
      · exact Or.inr ⟨f, List.mem_cons_self, h⟩
      · exact Or.inr ⟨g, List.mem_cons_of_mem _ hg, e⟩
  -- darts
  have e1 := cx_n_ad (P := fun _ => True) (lk := lk) f2 l3 trivial trivial (eu_fr_n f4 (fun e => o2 f List.mem_cons_self _ lm e.symm))
  obtain ⟨d1, d2, d3, d4⟩ := eu_lf_ok (N := N) F (lk := cx_ad lk f.2.1 (eu_lst f F).2.2) (x := f) f3 (by
    intro y hy
    have hy' := List.mem_cons_of_mem f hy
    obtain ⟨y1, y2, y3, y4, y5⟩ := o1 y hy'
    exact ⟨y2, y3, eu_fr_ad y4 (fun e => (p1 y hy).2.1 e.symm) (o2 y hy' _ lm), o2 y hy' f List.mem_cons_self⟩) (fun a ha b hb => o2 a (List.mem_cons_of_mem _ ha) b (List.mem_cons_of_mem _ hb)) (p2.imp (fun h => h.2.1))
  have up : ∀ a b, cx_R lk a b → cx_R (eu_lf (cx_ad lk f.2.1 (eu_lst f F).2.2) f F) a b := fun a b r => d4 a b (cx_ad_le r)
  have back : ∀ z w, (∀ g, g ∈ f :: F → z ≠ g.2.1 ∧ w ≠ g.2.1) → cx_R (eu_lf (cx_ad lk f.2.1 (eu_lst f F).2.2) f F) z w → cx_R lk z w := by
    intro z w h r
    have r1 := (d2 z w (fun y hy => h y (List.mem_cons_of_mem _ hy))).mp r
    obtain ⟨h1, h2⟩ := h f List.mem_cons_self
    exact (eu_ad_fr f4 h1 h2).mp r1
  refine ⟨?_, ?_, ?_, ?_⟩
  · refine ⟨A, f :: F, C, rfl, (List.cons_ne_nil _ _), ⟨(eu_lst f F).2.2, d4 _ _ (cx_sy cx_ad_n), d3⟩, ?_, ?_, ?_⟩
    · have key : ∀ g, g ∈ f :: F → cx_R (eu_lqm lq f.1 F) f.1 g.1 := by
        intro g hg
        rcases List.mem_cons.mp hg with rfl | hg
        · exact cx_rf _ _
        · exact q2 g hg
      exact fun x hx y hy => cx_tr (cx_sy (key x hx)) (key y hy)
    · intro x hx y hy r
      have r1 : cx_R (eu_lqm lq f.1 F) x.1 f.1 := by
        rcases List.mem_cons.mp hy with rfl | hy
        · exact r
        · exact cx_tr r (cx_sy (q2 y hy))
      have r2 := (q3 x.1 f.1 (Or.inl (hM x hx).2.1) (Or.inr rfl)).mp r1
      have r3 := cx_fr (nI' f List.mem_cons_self).2 (cx_sy r2)
      exact (nI' f List.mem_cons_self).1 (r3 ▸ (hM x hx).2.1)
    · exact eu_V_co up (fun x hx y hy => (q3 x.1 y.1 (Or.inl (hM x hx).2.1) (Or.inl (hM y hy).2.1)).symm) hV
  · obtain ⟨u1, u2, u3⟩ := List.pairwise_append.mp hU
    have old : ∀ x, x ∈ A ++ C → ∀ g, g ∈ f :: F → x.2.2 ≠ g.2.1 := fun x hx g hg e => (o4 g hg x hx).2.1 e.symm
    have mA : ∀ x, x ∈ A → x ∈ A ++ C := fun x hx => List.mem_append_left _ hx
    have mC : ∀ x, x ∈ C → x ∈ A ++ C := fun x hx => List.mem_append_right _ hx
    have oo : ∀ x, x ∈ A ++ C → ∀ y, y ∈ A ++ C → ¬ cx_R lk x.2.2 y.2.2 → ¬ cx_R (eu_lf (cx_ad lk f.2.1 (eu_lst f F).2.2) f F) x.2.2 y.2.2 :=
      fun x hx y hy h r => h (back _ _ (fun g hg => ⟨old x hx g hg, old y hy g hg⟩) r)
    have on : ∀ x, x ∈ A ++ C → ∀ y, y ∈ f :: F → ¬ cx_R (eu_lf (cx_ad lk f.2.1 (eu_lst f F).2.2) f F) y.2.2 x.2.2 := by
      intro x hx y hy r
      have r1 := back _ _ (fun g hg => ⟨fun e => o2 g hg y hy e.symm, old x hx g hg⟩) r
      have := cx_fr (o1 y hy).2.2.2.2 r1
      exact (o4 y hy x hx).2.2.2 this.symm
    refine List.pairwise_append.mpr ⟨?_, List.pairwise_append.mpr ⟨?_, ?_, ?_⟩, ?_⟩
    · exact List.Pairwise.imp_of_mem (fun ha hc h => oo _ (mA _ ha) _ (mA _ hc) h) u1
    · refine List.Pairwise.imp_of_mem (fun {a c} ha hc h r => ?_) o3
      have r1 := back _ _ (fun g hg => ⟨fun e => o2 g hg a ha e.symm, fun e => o2 g hg c hc e.symm⟩) r
      exact h.2.2 (cx_fr (o1 a ha).2.2.2.2 r1).symm
    · exact List.Pairwise.imp_of_mem (fun ha hc h => oo _ (mC _ ha) _ (mC _ hc) h) u2
    · exact fun a ha b hb => on b (mC b hb) a ha
    · intro a ha b hb
      rcases List.mem_append.mp hb with hb | hb
      · exact fun r => on a (mA a ha) b hb (cx_sy r)
      · exact oo a (mA a ha) b (mC b hb) (u3 a ha b hb)
  · intro x hx
    by_cases hb : x ∈ f :: F
    · exact ⟨(o1 x hb).1, Or.inr ⟨x, hb, rfl⟩, (o1 x hb).2.1, (o1 x hb).2.2.1⟩
    · have : x ∈ A ++ C := by
        rcases List.mem_append.mp hx with hx | hx
        · exact List.mem_append_left _ hx
        · rcases List.mem_append.mp hx with hx | hx
          · exact absurd hx hb
          · exact List.mem_append_right _ hx
      obtain ⟨m1, m2, m3, m4⟩ := hM x this
      exact ⟨m1, Or.inl m2, m3, m4⟩
  · omega
theorem eu_E2 {N n : Nat} {P : Nat → Prop} {lk lq : Nat → Nat → Prop} {nb K : Nat} {A C F : List eu_It} {f m : eu_It} (hJ : eu_J N n P lk lq nb (A ++ m :: C) K)
    (o1 : ∀ g, g ∈ f :: F → g.1 < n ∧ g.2.1 < N ∧ g.2.2 < N ∧ eu_fr lk g.2.1 ∧ eu_fr lk g.2.2) (o2 : ∀ g, g ∈ f :: F → ∀ h, h ∈ f :: F → g.2.1 ≠ h.2.2)
    (o3 : (f :: F).Pairwise (fun f g => f.1 ≠ g.1 ∧ f.2.1 ≠ g.2.1 ∧ f.2.2 ≠ g.2.2)) (o4 : ∀ g, g ∈ f :: F → ∀ x, x ∈ A ++ m :: C → g.2.1 ≠ x.2.1 ∧ g.2.1 ≠ x.2.2 ∧ g.2.2 ≠ x.2.1 ∧ g.2.2 ≠ x.2.2)
    (o5 : ∀ g, g ∈ f :: F → (P g.1 ∧ cx_R lq m.1 g.1) ∨ (¬ P g.1 ∧ eu_fr lq g.1)) :
    eu_J N n (fun z => P z ∨ ∃ g, g ∈ f :: F ∧ z = g.1) (eu_lf (cx_ad (cx_ad lk f.2.1 m.2.1) (eu_lst f F).2.2 m.2.2) f F) (eu_lqm lq m.1 (f :: F)) nb (A ++ (f :: F ++ C)) (K + (F.length + 1) + 1) := by
  obtain ⟨hV, hU, hM, hK⟩ := hJ
  obtain ⟨p1, p2⟩ := List.pairwise_cons.mp o3
  have fm : f ∈ f :: F := List.mem_cons_self
  obtain ⟨f1, f2, f3, f4, f5⟩ := o1 f fm
  have lm := eu_lst_mem F f
  obtain ⟨l1, l2, l3, l4, l5⟩ := o1 _ lm
  have mm : m ∈ A ++ m :: C := by simp
  obtain ⟨m1, m2, m3, m4⟩ := hM m mm
  obtain ⟨q1, q2, q3, q4⟩ := eu_Qs (n := n) (f :: F) (P := P) (lq := lq) (a := m.1) m2 m1 (fun g hg => ⟨(o1 g hg).1, o5 g hg⟩) (o3.imp (fun h => h.1))
  -- darts
  have e1 := cx_n_ad (P := fun _ => True) (lk := lk) f2 m3 trivial trivial (eu_fr_n f4 (fun e => (o4 f fm m mm).1 e.symm))
  have l5' : eu_fr (cx_ad lk f.2.1 m.2.1) (eu_lst f F).2.2 := eu_fr_ad l5 (fun e => o2 f fm _ lm e.symm) (o4 _ lm m mm).2.2.1
  have e2 := cx_n_ad (P := fun _ => True) (lk := cx_ad lk f.2.1 m.2.1) l3 m4 trivial trivial (eu_fr_n l5' (fun e => (o4 _ lm m mm).2.2.2 e.symm))
  obtain ⟨d1, d2, d3, d4⟩ := eu_lf_ok (N := N) F (lk := cx_ad (cx_ad lk f.2.1 m.2.1) (eu_lst f F).2.2 m.2.2) (x := f) f3 (by
    intro y hy
    have hy' := List.mem_cons_of_mem f hy
    obtain ⟨y1, y2, y3, y4, y5⟩ := o1 y hy'
    exact ⟨y2, y3, eu_fr_ad (eu_fr_ad y4 (fun e => (p1 y hy).2.1 e.symm) (o4 y hy' m mm).1) (o2 y hy' _ lm) (o4 y hy' m mm).2.1, o2 y hy' f fm⟩) (fun a ha b hb => o2 a (List.mem_cons_of_mem _ ha) b (List.mem_cons_of_mem _ hb)) (p2.imp (fun h => h.2.1))
  have up : ∀ a b, cx_R lk a b → cx_R (eu_lf (cx_ad (cx_ad lk f.2.1 m.2.1) (eu_lst f F).2.2 m.2.2) f F) a b := fun a b r => d4 a b (cx_ad_le (cx_ad_le r))
  -- from the new joins to the old ones, the topmost forth dart read as the one it goes on from
  have b0 : ∀ z w, (∀ g, g ∈ f :: F → z ≠ g.2.1 ∧ w ≠ g.2.1) → z ≠ (eu_lst f F).2.2 → w ≠ (eu_lst f F).2.2 → cx_R (cx_ad (cx_ad lk f.2.1 m.2.1) (eu_lst f F).2.2 m.2.2) z w → cx_R lk z w := by
    intro z w h hz hw r
    have r1 := (eu_ad_fr l5' hz hw).mp r
    obtain ⟨h1, h2⟩ := h f fm
    exact (eu_ad_fr f4 h1 h2).mp r1
  have mf : ∀ g, g ∈ f :: F → m.2.2 ≠ g.2.1 := fun g hg e => (o4 g hg m mm).2.1 e.symm
  have ml : m.2.2 ≠ (eu_lst f F).2.2 := fun e => (o4 _ lm m mm).2.2.2 e.symm
  have b1 : ∀ z w, (∀ g, g ∈ f :: F → z ≠ g.2.1 ∧ w ≠ g.2.1) → z ≠ (eu_lst f F).2.2 → w ≠ (eu_lst f F).2.2 → cx_R (eu_lf (cx_ad (cx_ad lk f.2.1 m.2.1) (eu_lst f F).2.2 m.2.2) f F) z w → cx_R lk z w :=
    fun z w h hz hw r => b0 z w h hz hw ((d2 z w (fun y hy => h y (List.mem_cons_of_mem _ hy))).mp r)
  have b2 : ∀ z, (∀ g, g ∈ f :: F → z ≠ g.2.1) → z ≠ (eu_lst f F).2.2 → cx_R (eu_lf (cx_ad (cx_ad lk f.2.1 m.2.1) (eu_lst f F).2.2 m.2.2) f F) z (eu_lst f F).2.2 → cx_R lk z m.2.2 := by
    intro z h hz r
    refine b1 z m.2.2 (fun g hg => ⟨h g hg, mf g hg⟩) hz ml ?_
    exact cx_tr r (d4 _ _ cx_ad_n)
  have old : ∀ x, x ∈ A ++ m :: C → ∀ g, g ∈ f :: F → x.2.2 ≠ g.2.1 := fun x hx g hg e => (o4 g hg x hx).2.1 e.symm
  have oldl : ∀ x, x ∈ A ++ m :: C → x.2.2 ≠ (eu_lst f F).2.2 := fun x hx e => (o4 _ lm x hx).2.2.2 e.symm
  refine ⟨?_, ?_, ?_, ?_⟩
  · refine eu_exp (List.cons_ne_nil _ _) (x := m) ⟨d4 _ _ (cx_ad_le (cx_sy cx_ad_n)), eu_Ps_en (d4 _ _ cx_ad_n) d3⟩ (fun y hy => cx_sy (q2 y hy)) ?_
    exact eu_V_co up (fun x hx y hy => (q3 x.1 y.1 (hM x hx).2.1 (hM y hy).2.1).symm) hV
  · have hU1 := eu_U_rm hU
    obtain ⟨u1, u2, u3⟩ := List.pairwise_append.mp hU1
    have mA : ∀ x, x ∈ A → x ∈ A ++ m :: C := fun x hx => List.mem_append_left _ hx
    have mC : ∀ x, x ∈ C → x ∈ A ++ m :: C := fun x hx => List.mem_append_right _ (List.mem_cons_of_mem _ hx)
    have oo : ∀ x, x ∈ A ++ m :: C → ∀ y, y ∈ A ++ m :: C → ¬ cx_R lk x.2.2 y.2.2 → ¬ cx_R (eu_lf (cx_ad (cx_ad lk f.2.1 m.2.1) (eu_lst f F).2.2 m.2.2) f F) x.2.2 y.2.2 :=
      fun x hx y hy h r => h (b1 _ _ (fun g hg => ⟨old x hx g hg, old y hy g hg⟩) (oldl x hx) (oldl y hy) r)
    have on : ∀ x, x ∈ A ++ C → ∀ y, y ∈ f :: F → ¬ cx_R (eu_lf (cx_ad (cx_ad lk f.2.1 m.2.1) (eu_lst f F).2.2 m.2.2) f F) x.2.2 y.2.2 := by
      intro x hx y hy r
      have hx' : x ∈ A ++ m :: C := by
        rcases List.mem_append.mp hx with hx | hx
        · exact mA x hx
        · exact mC x hx
      by_cases e : y.2.2 = (eu_lst f F).2.2
      · rw [e] at r
        exact eu_U_at hU x hx (cx_sy (b2 _ (old x hx') (oldl x hx') r))
      · have r1 := b1 _ _ (fun g hg => ⟨old x hx' g hg, fun e => o2 g hg y hy e.symm⟩) (oldl x hx') e r
        have := cx_fr (o1 y hy).2.2.2.2 (cx_sy r1)
        exact (o4 y hy x hx').2.2.2 this.symm
    have nn : ∀ a, a ∈ f :: F → ∀ c, c ∈ f :: F → a.2.2 ≠ c.2.2 → a.2.2 ≠ (eu_lst f F).2.2 → ¬ cx_R (eu_lf (cx_ad (cx_ad lk f.2.1 m.2.1) (eu_lst f F).2.2 m.2.2) f F) a.2.2 c.2.2 := by
      intro a ha c hc h al r
      by_cases e : c.2.2 = (eu_lst f F).2.2
      · rw [e] at r
        have r1 := b2 _ (fun g hg e => o2 g hg a ha e.symm) al r
        have := cx_fr (o1 a ha).2.2.2.2 r1
        exact (o4 a ha m mm).2.2.2 this.symm
      · have r1 := b1 _ _ (fun g hg => ⟨fun e => o2 g hg a ha e.symm, fun e => o2 g hg c hc e.symm⟩) al e r
        exact h (cx_fr (o1 a ha).2.2.2.2 r1).symm
    have iA : ∀ x, x ∈ A → x ∈ A ++ C := fun x hx => List.mem_append_left _ hx
    have iC : ∀ x, x ∈ C → x ∈ A ++ C := fun x hx => List.mem_append_right _ hx
    refine List.pairwise_append.mpr ⟨?_, List.pairwise_append.mpr ⟨?_, ?_, ?_⟩, ?_⟩
    · exact List.Pairwise.imp_of_mem (fun ha hc h => oo _ (mA _ ha) _ (mA _ hc) h) u1
    · refine List.Pairwise.imp_of_mem (fun {a c} ha hc h r => ?_) o3
      by_cases e : a.2.2 = (eu_lst f F).2.2
      · have e' : c.2.2 ≠ (eu_lst f F).2.2 := fun z => h.2.2 (e.trans z.symm)
        exact nn c hc a ha (fun z => h.2.2 z.symm) e' (cx_sy r)
      · exact nn a ha c hc h.2.2 e r
    · exact List.Pairwise.imp_of_mem (fun ha hc h => oo _ (mC _ ha) _ (mC _ hc) h) u2
    · exact fun a ha b hb r => on b (iC b hb) a ha (cx_sy r)
    · intro a ha b hb
      rcases List.mem_append.mp hb with hb | hb
      · exact on a (iA a ha) b hb
      · exact oo a (mA a ha) b (mC b hb) (u3 a ha b hb)
  · intro x hx
    by_cases hb : x ∈ f :: F
    · exact ⟨(o1 x hb).1, Or.inr ⟨x, hb, rfl⟩, (o1 x hb).2.1, (o1 x hb).2.2.1⟩
    · have : x ∈ A ++ m :: C := by
        rcases List.mem_append.mp hx with hx | hx
        · exact List.mem_append_left _ hx
        · rcases List.mem_append.mp hx with hx | hx
          · exact absurd hx hb
          · exact List.mem_append_right _ (List.mem_cons_of_mem _ hx)
      obtain ⟨m1, m2, m3, m4⟩ := hM x this
      exact ⟨m1, Or.inl m2, m3, m4⟩
  · rw [q1]; omega
theorem eu_E3 {N n : Nat} {P : Nat → Prop} {lk lq : Nat → Nat → Prop} {nb K : Nat} {A C : List eu_It} {m : eu_It} (hJ : eu_J N n P lk lq nb (A ++ m :: C) K) :
    ∃ nb', eu_J N n P (cx_ad lk m.2.2 m.2.1) lq nb' (A ++ C) (K + 1) := by
  obtain ⟨hV, hU, hM, hK⟩ := hJ
  have mm : m ∈ A ++ m :: C := by simp
  obtain ⟨m1, m2, m3, m4⟩ := hM m mm
  have hU' : eu_U (cx_ad lk m.2.2 m.2.1) (A ++ C) := eu_U_out hU
  have hM' : ∀ x, x ∈ A ++ C → x.1 < n ∧ P x.1 ∧ x.2.1 < N ∧ x.2.2 < N := fun x hx => hM x (by
    rcases List.mem_append.mp hx with hx | hx
    · exact List.mem_append_left _ hx
    · exact List.mem_append_right _ (List.mem_cons_of_mem _ hx))
  rcases eu_del hV with ⟨h1, n', rfl, h2⟩ | ⟨⟨w, hw, r⟩, h2⟩
  · refine ⟨n', eu_V_co (fun a b => cx_ad_le) (fun _ _ _ _ => Iff.rfl) h2, hU', hM', ?_⟩
    have := cx_n_same (P := fun _ => True) (n := N) (cx_sy h1)
    omega
  · have hn : ¬ cx_R lk m.2.2 m.2.1 := fun k => eu_U_at hU w hw (cx_tr k (cx_sy r))
    have := cx_n_ad (P := fun _ => True) (lk := lk) m4 m3 trivial trivial hn
    exact ⟨nb, h2, hU', hM', by omega⟩
/-- one event -/
theorem eu_ev {N n : Nat} {P : Nat → Prop} {lk lq : Nat → Nat → Prop} {nb K : Nat} {A I C F : List eu_It} (hJ : eu_J N n P lk lq nb (A ++ (I ++ C)) K) (hne : I ≠ [] ∨ F ≠ []) (hO : eu_Out N n P lk lq (A ++ (I ++ C)) I F) :
    ∃ nb', eu_J N n (fun z => P z ∨ ∃ g, g ∈ F ∧ z = g.1) (eu_stR lk I F) (eu_stQ lq I F) nb' (A ++ (F ++ C)) (K + F.length + 1) := by
  cases I with
  | nil =>
    cases F with
    | nil => exact absurd rfl (hne.elim (fun h => h) (fun h => h))
    | cons f F => exact ⟨nb + 1, eu_E0 hJ hO⟩
  | cons x I =>
    obtain ⟨nb1, h1⟩ := eu_Jm I hJ
    obtain ⟨o1, o2, o3, o4, o5⟩ := hO
    have inL : ∀ y, y ∈ x :: I → y ∈ A ++ (x :: I ++ C) := fun y hy => List.mem_append_right _ (List.mem_append_left _ hy)
    cases F with
    | nil =>
      obtain ⟨nb2, h2⟩ := eu_E3 h1
      refine ⟨nb2, ?_⟩
      obtain ⟨k1, k2, k3, k4⟩ := h2
      refine ⟨k1, k2, fun z hz => ?_, ?_⟩
      · obtain ⟨a, b, c⟩ := k3 z hz
        exact ⟨a, Or.inl b, c⟩
      · have hP : cx_n (fun z => P z ∨ ∃ g, g ∈ ([] : List eu_It) ∧ z = g.1) (cx_R (eu_stQ lq (x :: I) [])) n = cx_n P (cx_R (eu_lqm lq x.1 I)) n := by
          refine cx_n_co (fun z _ => ⟨fun h => ?_, Or.inl⟩) (fun _ _ _ _ _ _ => Iff.rfl)
          rcases h with h | ⟨g, hg, _⟩
          · exact h
          · exact absurd hg (by simp)
        rw [hP]
        exact k4
    | cons f F =>
      obtain ⟨e1, e2, e3⟩ := eu_mm_1 I x
      have o1' : ∀ g, g ∈ f :: F → eu_fr (eu_lm lk x I) g.2.1 ∧ eu_fr (eu_lm lk x I) g.2.2 := by
        intro g hg
        obtain ⟨g1, g2, g3, g4, g5⟩ := o1 g hg
        exact ⟨eu_lm_fr I g4 (fun y hy => ⟨(o4 g hg y (inL y hy)).1, (o4 g hg y (inL y hy)).2.1⟩), eu_lm_fr I g5 (fun y hy => ⟨(o4 g hg y (inL y hy)).2.2.1, (o4 g hg y (inL y hy)).2.2.2⟩)⟩
      have := eu_E2 (f := f) (F := F) h1 (fun g hg => ⟨(o1 g hg).1, (o1 g hg).2.1, (o1 g hg).2.2.1, (o1' g hg).1, (o1' g hg).2⟩) o2 o3 (by
        intro g hg y hy
        by_cases em : y = eu_mm x I
        · rw [em, e2, e3]
          have a1 := o4 g hg x (inL x List.mem_cons_self)
          have a2 := o4 g hg _ (inL _ (eu_lst_mem I x))
          exact ⟨a1.1, a2.2.1, a1.2.2.1, a2.2.2.2⟩
        · refine o4 g hg y ?_
          rcases List.mem_append.mp hy with hy | hy
          · exact List.mem_append_left _ hy
          · rcases List.mem_cons.mp hy with hy | hy
            · exact absurd hy em
            · exact List.mem_append_right _ (List.mem_append_right _ hy)) (by
        intro g hg
        rw [e1]
        rcases o5 g hg with ⟨y, hy, e⟩ | ⟨p, fr⟩
        · left
          obtain ⟨_, hP, _⟩ := hJ.2.2.1 y (inL y hy)
          refine ⟨e ▸ hP, ?_⟩
          rcases List.mem_cons.mp hy with rfl | hy
          · rw [e]; exact cx_rf _ _
          · exact e ▸ (eu_lqm_r I).2 y hy
        · right
          refine ⟨p, eu_lqm_fr I fr ?_ ?_⟩
          · exact fun z => p (z ▸ (hJ.2.2.1 x (inL x List.mem_cons_self)).2.1)
          · exact fun y hy z => p (z ▸ (hJ.2.2.1 y (inL y (List.mem_cons_of_mem _ hy))).2.1))
      rw [e1] at this
      exact ⟨nb1, this⟩
end
section
/-! ints as Int32 and Int64 -/
def zI (z : Int) : Int32 := Int32.ofInt z
def zL (z : Int) : Int64 := Int64.ofInt z
theorem zI_add (a b : Int) : zI a + zI b = zI (a + b) := (Int32.ofInt_add a b).symm
theorem zI_sub (a b : Int) : zI a - zI b = zI (a - b) := (Int32.ofInt_sub a b).symm
theorem zI_mul (a b : Int) : zI a * zI b = zI (a * b) := (Int32.ofInt_mul a b).symm
theorem zI_neg (a : Int) : - zI a = zI (-a) := (Int32.ofInt_neg a).symm
theorem zL_add (a b : Int) : zL a + zL b = zL (a + b) := (Int64.ofInt_add a b).symm
theorem zL_sub (a b : Int) : zL a - zL b = zL (a - b) := (Int64.ofInt_sub a b).symm
theorem zL_mul (a b : Int) : zL a * zL b = zL (a * b) := (Int64.ofInt_mul a b).symm
theorem zL_neg (a : Int) : - zL a = zL (-a) := (Int64.ofInt_neg a).symm
theorem zI_nI (n : Nat) : nI n = zI (n : Int) := Int32.ofInt_eq_ofNat.symm
theorem zI_of (x : Int32) : x = zI x.toInt := (Int32.ofInt_toInt x).symm
theorem zL_of (x : Int64) : x = zL x.toInt := (Int64.ofInt_toInt x).symm
theorem zI_t {z : Int} (h1 : -2147483648 ≤ z) (h2 : z < 2147483648) : (zI z).toInt = z := Int32.toInt_ofInt_of_le (by omega) (by omega)
theorem zL_t {z : Int} (h1 : -9223372036854775808 ≤ z) (h2 : z < 9223372036854775808) : (zL z).toInt = z := Int64.toInt_ofInt_of_le (by omega) (by omega)
/-- small enough for all that is reckoned here -/
def zB (z : Int) : Prop := -2147483648 ≤ z ∧ z < 2147483648
theorem zI_le {a b : Int} (ha : zB a) (hb : zB b) : zI a ≤ zI b ↔ a ≤ b := by
  rw [Int32.le_iff_toInt_le, zI_t ha.1 ha.2, zI_t hb.1 hb.2]
theorem zI_lt {a b : Int} (ha : zB a) (hb : zB b) : zI a < zI b ↔ a < b := by
  rw [Int32.lt_iff_toInt_lt, zI_t ha.1 ha.2, zI_t hb.1 hb.2]
theorem zI_eq {a b : Int} (ha : zB a) (hb : zB b) : zI a = zI b ↔ a = b := by
  rw [← Int32.toInt_inj, zI_t ha.1 ha.2, zI_t hb.1 hb.2]
def zC (z : Int) : Prop := -9223372036854775808 ≤ z ∧ z < 9223372036854775808
theorem zL_le {a b : Int} (ha : zC a) (hb : zC b) : zL a ≤ zL b ↔ a ≤ b := by
  rw [Int64.le_iff_toInt_le, zL_t ha.1 ha.2, zL_t hb.1 hb.2]
theorem zL_lt {a b : Int} (ha : zC a) (hb : zC b) : zL a < zL b ↔ a < b := by
  rw [Int64.lt_iff_toInt_lt, zL_t ha.1 ha.2, zL_t hb.1 hb.2]
theorem zL_eq {a b : Int} (ha : zC a) (hb : zC b) : zL a = zL b ↔ a = b := by
  rw [← Int64.toInt_inj, zL_t ha.1 ha.2, zL_t hb.1 hb.2]
theorem zI_l {z : Int} (h : zB z) : (zI z).toInt64 = zL z := by
  apply Int64.toInt_inj.mp
  rw [Int32.toInt_toInt64, zI_t h.1 h.2, zL_t (by have := h.1; omega) (by have := h.2; omega)]
theorem zL_i {z : Int} (h : zB z) : (zL z).toInt32 = zI z := by
  apply Int32.toInt_inj.mp
  rw [Int64.toInt_toInt32, zL_t (by have := h.1; omega) (by have := h.2; omega), zI_t h.1 h.2]
  have := h.1; have := h.2
  rw [Int.bmod_eq_of_le] <;> omega
theorem zI_div {a b : Int} (ha : 0 ≤ a) (ha2 : a < 2147483648) (hb : 0 < b) (hb2 : b < 2147483648) : zI a / zI b = zI (a / b) := by
  obtain ⟨m, rfl⟩ := Int.eq_ofNat_of_zero_le ha
  obtain ⟨n, rfl⟩ := Int.eq_ofNat_of_zero_le (Int.le_of_lt hb)
  rw [← zI_nI, ← zI_nI, pk_div (by omega) (by omega) (by omega), zI_nI]
  rfl
theorem zI_rem {a b : Int} (ha : 0 ≤ a) (ha2 : a < 2147483648) (hb : 0 < b) (hb2 : b < 2147483648) : zI a - zI a / zI b * zI b = zI (a % b) := by
  obtain ⟨m, rfl⟩ := Int.eq_ofNat_of_zero_le ha
  obtain ⟨n, rfl⟩ := Int.eq_ofNat_of_zero_le (Int.le_of_lt hb)
  rw [← zI_nI, ← zI_nI, pk_rem (by omega) (by omega) (by omega), zI_nI]
  rfl
theorem zb_mul {x y A B : Int} (h1 : -A ≤ x) (h2 : x ≤ A) (h3 : -B ≤ y) (h4 : y ≤ B) : -(A * B) ≤ x * y ∧ x * y ≤ A * B := by
  have hx : x.natAbs ≤ A.natAbs := by omega
  have hy : y.natAbs ≤ B.natAbs := by omega
  have := Nat.mul_le_mul hx hy
  rw [← Int.natAbs_mul, ← Int.natAbs_mul] at this
  have hA : 0 ≤ A := by omega
  have hB : 0 ≤ B := by omega
  have hAB := Int.mul_nonneg hA hB
  omega
theorem zb_nn {x y : Int} (h1 : 0 ≤ x) (h2 : 0 ≤ y) : 0 ≤ x * y := Int.mul_nonneg h1 h2
theorem zI_0 : (0 : Int32) = zI 0 := rfl
theorem zI_1 : (1 : Int32) = zI 1 := rfl
theorem zI_m1 : (-1 : Int32) = zI (-1) := rfl
end
section
/-! segments, points, the shear -/
abbrev ge_S : Type := Int × Int × Int × Int
abbrev ge_P : Type := Rat × Rat
def ge_dx (s : ge_S) : Int := s.2.2.1 - s.1
def ge_dy (s : ge_S) : Int := s.2.2.2 - s.2.1
def ge_ok (s : ge_S) : Prop := 0 ≤ s.1 ∧ s.1 ≤ 20 ∧ 0 ≤ s.2.1 ∧ s.2.1 ≤ 20 ∧ 0 ≤ s.2.2.1 ∧ s.2.2.1 ≤ 20 ∧ 0 ≤ s.2.2.2 ∧ s.2.2.2 ≤ 20 ∧ (s.1 < s.2.2.1 ∨ (s.1 = s.2.2.1 ∧ s.2.1 < s.2.2.2))
def ge_side (s : ge_S) (p : ge_P) : Rat := (ge_dx s : Rat) * (p.2 - (s.2.1 : Rat)) - (ge_dy s : Rat) * (p.1 - (s.1 : Rat))
def ge_on (s : ge_S) (p : ge_P) : Prop := ge_side s p = 0 ∧ (s.1 : Rat) ≤ p.1 ∧ p.1 ≤ (s.2.2.1 : Rat) ∧ (((s.2.1 : Rat) ≤ p.2 ∧ p.2 ≤ (s.2.2.2 : Rat)) ∨ ((s.2.2.2 : Rat) ≤ p.2 ∧ p.2 ≤ (s.2.1 : Rat)))
def ge_turn (s t : ge_S) : Int := ge_dx s * ge_dy t - ge_dy s * ge_dx t
def ge_M : Rat := 12800001
def ge_sc (p : ge_P) : Rat := ge_M * p.1 + p.2
def ge_D (s : ge_S) : Rat := ge_M * (ge_dx s : Rat) + (ge_dy s : Rat)
def ge_l (s : ge_S) : Rat := ge_M * (s.1 : Rat) + (s.2.1 : Rat)
def ge_r (s : ge_S) : Rat := ge_M * (s.2.2.1 : Rat) + (s.2.2.2 : Rat)
def ge_m (s : ge_S) : Rat := (ge_dy s : Rat) / ge_D s
def ge_h (s : ge_S) (v : Rat) : Rat := (s.2.1 : Rat) + ge_m s * (v - ge_l s)
def ge_lt (p q : ge_P) : Prop := p.1 < q.1 ∨ (p.1 = q.1 ∧ p.2 < q.2)
theorem ge_dx_c (s : ge_S) : (ge_dx s : Rat) = (s.2.2.1 : Rat) - (s.1 : Rat) := by unfold ge_dx; exact Rat.intCast_sub _ _
theorem ge_dy_c (s : ge_S) : (ge_dy s : Rat) = (s.2.2.2 : Rat) - (s.2.1 : Rat) := by unfold ge_dy; exact Rat.intCast_sub _ _
theorem ge_icl {a b : Int} (h : a ≤ b) : (a : Rat) ≤ (b : Rat) := Rat.intCast_le_intCast.mpr h
theorem ge_icL {a b : Int} (h : a < b) : (a : Rat) < (b : Rat) := Rat.intCast_lt_intCast.mpr h
theorem ge_D_pos {s : ge_S} (h : ge_ok s) : 0 < ge_D s := by
  obtain ⟨h1, h2, h3, h4, h5, h6, h7, h8, h9⟩ := h
  have k3 := ge_icl h3; have k4 := ge_icl h4; have k7 := ge_icl h7; have k8 := ge_icl h8
  have e1 := ge_dx_c s; have e2 := ge_dy_c s
  rcases h9 with h9 | ⟨h9, h10⟩
  · have k : (1 : Int) ≤ s.2.2.1 - s.1 := by omega
    have k' := ge_icl k
    rw [Rat.intCast_sub] at k'
    unfold ge_D ge_M
    have z : ((0 : Int) : Rat) = 0 := rfl
    have o : ((1 : Int) : Rat) = 1 := rfl
    have t : ((20 : Int) : Rat) = 20 := rfl
    rw [z] at k3 k7; rw [o] at k'; rw [t] at k4 k8
    grind
  · have k := ge_icL h10
    unfold ge_D ge_M
    rw [e1, e2, h9]
    grind
theorem ge_mD {s : ge_S} (h : ge_ok s) : ge_m s * ge_D s = (ge_dy s : Rat) := Rat.div_mul_cancel (Rat.ne_of_gt (ge_D_pos h))
theorem ge_rl (s : ge_S) : ge_r s = ge_l s + ge_D s := by
  unfold ge_r ge_l ge_D
  rw [ge_dx_c, ge_dy_c]
  grind
theorem ge_lr {s : ge_S} (h : ge_ok s) : ge_l s < ge_r s := by
  have := ge_D_pos h
  rw [ge_rl]; grind
theorem ge_side_h {s : ge_S} (h : ge_ok s) (p : ge_P) : ge_M * ge_side s p = ge_D s * (p.2 - ge_h s (ge_sc p)) := by
  have e := ge_mD h
  have e2 : ge_D s * (p.2 - ge_h s (ge_sc p)) = ge_D s * (p.2 - (s.2.1 : Rat)) - (ge_m s * ge_D s) * (ge_sc p - ge_l s) := by
    unfold ge_h; grind
  rw [e2, e]
  unfold ge_side ge_sc ge_l ge_D
  grind
theorem ge_turn_m {s t : ge_S} (hs : ge_ok s) (ht : ge_ok t) : ge_M * (ge_turn s t : Rat) = ge_D s * ge_D t * (ge_m t - ge_m s) := by
  have e1 := ge_mD hs
  have e2 := ge_mD ht
  have e3 : ge_D s * ge_D t * (ge_m t - ge_m s) = ge_D s * (ge_m t * ge_D t) - ge_D t * (ge_m s * ge_D s) := by grind
  rw [e3, e1, e2]
  unfold ge_turn ge_D
  rw [Rat.intCast_sub, Rat.intCast_mul, Rat.intCast_mul]
  grind
theorem rq_nn {a z : Rat} (ha : 0 < a) (h : 0 ≤ a * z) : 0 ≤ z :=
  Rat.le_of_mul_le_mul_left (a := 0) (b := z) (c := a) (by rw [Rat.mul_zero]; exact h) ha
theorem rq_z {a z : Rat} (ha : 0 < a) (h : a * z = 0) : z = 0 := by
  rcases Rat.mul_eq_zero.mp h with h | h
  · exact absurd h (Rat.ne_of_gt ha)
  · exact h
theorem ge_M_pos : 0 < ge_M := by unfold ge_M; grind
theorem ge_side_0 {s : ge_S} (h : ge_ok s) (p : ge_P) : ge_side s p = 0 ↔ p.2 = ge_h s (ge_sc p) := by
  have e := ge_side_h h p
  constructor
  · intro k
    rw [k, Rat.mul_zero] at e
    have := rq_z (ge_D_pos h) e.symm
    grind
  · intro k
    have z : p.2 - ge_h s (ge_sc p) = 0 := by grind
    rw [z, Rat.mul_zero] at e
    exact rq_z ge_M_pos e
theorem ge_side_pos {s : ge_S} (h : ge_ok s) (p : ge_P) : 0 < ge_side s p ↔ ge_h s (ge_sc p) < p.2 := by
  have e := ge_side_h h p
  rw [← Rat.mul_pos_iff_of_pos_left ge_M_pos, e, Rat.mul_pos_iff_of_pos_left (ge_D_pos h)]
  constructor <;> intro k <;> grind
theorem ge_ok_d {s : ge_S} (h : ge_ok s) : (0 : Rat) ≤ (ge_dx s : Rat) ∧ ((ge_dx s : Rat) = 0 → (0 : Rat) < (ge_dy s : Rat)) := by
  obtain ⟨h1, h2, h3, h4, h5, h6, h7, h8, h9⟩ := h
  constructor
  · have : (0 : Int) ≤ ge_dx s := by unfold ge_dx; omega
    exact Rat.intCast_nonneg.mpr this
  · intro k
    have k' := Rat.intCast_eq_zero_iff.mp k
    have : (0 : Int) < ge_dy s := by unfold ge_dx at k'; unfold ge_dy; omega
    exact Rat.intCast_pos.mpr this
theorem ge_on_x {s : ge_S} (h : ge_ok s) {p : ge_P} (k : p.2 = ge_h s (ge_sc p)) : ge_D s * (p.2 - (s.2.1 : Rat)) = (ge_dy s : Rat) * (ge_sc p - ge_l s) ∧ ge_D s * (p.1 - (s.1 : Rat)) = (ge_dx s : Rat) * (ge_sc p - ge_l s) := by
  have e := ge_mD h
  have a : ge_D s * (p.2 - (s.2.1 : Rat)) = (ge_dy s : Rat) * (ge_sc p - ge_l s) := by
    have : p.2 - (s.2.1 : Rat) = ge_m s * (ge_sc p - ge_l s) := by rw [k]; unfold ge_h; grind
    rw [this, ← e]; grind
  refine ⟨a, ?_⟩
  have b : ge_M * (ge_D s * (p.1 - (s.1 : Rat)) - (ge_dx s : Rat) * (ge_sc p - ge_l s)) = 0 := by
    have c : ge_M * (p.1 - (s.1 : Rat)) = (ge_sc p - ge_l s) - (p.2 - (s.2.1 : Rat)) := by unfold ge_sc ge_l; grind
    have d : ge_M * (ge_dx s : Rat) = ge_D s - (ge_dy s : Rat) := by unfold ge_D; grind
    have f : ge_M * (ge_D s * (p.1 - (s.1 : Rat)) - (ge_dx s : Rat) * (ge_sc p - ge_l s)) = ge_D s * (ge_M * (p.1 - (s.1 : Rat))) - (ge_M * (ge_dx s : Rat)) * (ge_sc p - ge_l s) := by grind
    rw [f, c, d]
    grind
  have := rq_z ge_M_pos b
  grind
theorem ge_on_iff {s : ge_S} (h : ge_ok s) (p : ge_P) : ge_on s p ↔ ge_l s ≤ ge_sc p ∧ ge_sc p ≤ ge_r s ∧ p.2 = ge_h s (ge_sc p) := by
  have hD := ge_D_pos h
  obtain ⟨d0, d1⟩ := ge_ok_d h
  have er := ge_rl s
  have ex := ge_dx_c s
  have ey := ge_dy_c s
  constructor
  · rintro ⟨k, k1, k2, k3⟩
    have k := (ge_side_0 h p).mp k
    obtain ⟨a, b⟩ := ge_on_x h k
    by_cases z : (ge_dx s : Rat) = 0
    · have dy := d1 z
      have eD : ge_D s = (ge_dy s : Rat) := by unfold ge_D; rw [z]; grind
      have w : ge_sc p - ge_l s = p.2 - (s.2.1 : Rat) := by
        have : (ge_dy s : Rat) * (p.2 - (s.2.1 : Rat) - (ge_sc p - ge_l s)) = 0 := by rw [eD] at a; grind
        have := rq_z dy this
        grind
      rcases k3 with k3 | k3
      · refine ⟨by grind, by grind, k⟩
      · exfalso; grind
    · have dp : 0 < (ge_dx s : Rat) := Rat.lt_of_le_of_ne d0 (fun e => z e.symm)
      have w1 : 0 ≤ ge_sc p - ge_l s := by
        refine rq_nn dp ?_
        rw [← b]
        exact Rat.mul_nonneg (Rat.le_of_lt hD) (by grind)
      have w2 : 0 ≤ ge_D s - (ge_sc p - ge_l s) := by
        refine rq_nn dp ?_
        have : (ge_dx s : Rat) * (ge_D s - (ge_sc p - ge_l s)) = ge_D s * ((ge_dx s : Rat) - (p.1 - (s.1 : Rat))) := by grind
        rw [this]
        exact Rat.mul_nonneg (Rat.le_of_lt hD) (by grind)
      refine ⟨by grind, by grind, k⟩
  · rintro ⟨k1, k2, k⟩
    obtain ⟨a, b⟩ := ge_on_x h k
    have w1 : 0 ≤ ge_sc p - ge_l s := by grind
    have w2 : 0 ≤ ge_D s - (ge_sc p - ge_l s) := by grind
    have x1 : 0 ≤ p.1 - (s.1 : Rat) := by
      refine rq_nn hD ?_
      rw [b]; exact Rat.mul_nonneg d0 w1
    have x2 : 0 ≤ (s.2.2.1 : Rat) - p.1 := by
      refine rq_nn hD ?_
      have : ge_D s * ((s.2.2.1 : Rat) - p.1) = (ge_dx s : Rat) * (ge_D s - (ge_sc p - ge_l s)) := by grind
      rw [this]; exact Rat.mul_nonneg d0 w2
    refine ⟨(ge_side_0 h p).mpr k, by grind, by grind, ?_⟩
    rcases Rat.le_total (a := 0) (b := (ge_dy s : Rat)) with q | q
    · left
      have y1 : 0 ≤ p.2 - (s.2.1 : Rat) := by
        refine rq_nn hD ?_
        rw [a]; exact Rat.mul_nonneg q w1
      have y2 : 0 ≤ (s.2.2.2 : Rat) - p.2 := by
        refine rq_nn hD ?_
        have : ge_D s * ((s.2.2.2 : Rat) - p.2) = (ge_dy s : Rat) * (ge_D s - (ge_sc p - ge_l s)) := by grind
        rw [this]; exact Rat.mul_nonneg q w2
      exact ⟨by grind, by grind⟩
    · right
      have q' : 0 ≤ -(ge_dy s : Rat) := by grind
      have y1 : 0 ≤ (s.2.1 : Rat) - p.2 := by
        refine rq_nn hD ?_
        have : ge_D s * ((s.2.1 : Rat) - p.2) = -(ge_dy s : Rat) * (ge_sc p - ge_l s) := by grind
        rw [this]; exact Rat.mul_nonneg q' w1
      have y2 : 0 ≤ p.2 - (s.2.2.2 : Rat) := by
        refine rq_nn hD ?_
        have : ge_D s * (p.2 - (s.2.2.2 : Rat)) = -(ge_dy s : Rat) * (ge_D s - (ge_sc p - ge_l s)) := by grind
        rw [this]; exact Rat.mul_nonneg q' w2
      exact ⟨by grind, by grind⟩
end
section
/-! points with small bottoms: their order is that of one number -/
def ge_tI (X Y B : Int) : Prop := 1 ≤ B ∧ B ≤ 800 ∧ 0 ≤ X ∧ X ≤ 20 * B ∧ 0 ≤ Y ∧ Y ≤ 20 * B
def ge_sI (s : ge_S) (X Y B : Int) : Int := ge_dx s * (Y - s.2.1 * B) - ge_dy s * (X - s.1 * B)
def ge_bI (s : ge_S) (X Y B : Int) : Prop := s.1 * B ≤ X ∧ X ≤ s.2.2.1 * B ∧ ((s.2.1 * B ≤ Y ∧ Y ≤ s.2.2.2 * B) ∨ (s.2.2.2 * B ≤ Y ∧ Y ≤ s.2.1 * B))
def ge_at (X Y B : Int) (p : ge_P) : Prop := p.1 * (B : Rat) = (X : Rat) ∧ p.2 * (B : Rat) = (Y : Rat)
def ge_gp (p : ge_P) : Prop := ∃ X Y B : Int, ge_tI X Y B ∧ ge_at X Y B p
theorem ge_at_ex (X Y : Int) {B : Int} (h : 1 ≤ B) : ∃ p, ge_at X Y B p := by
  have : (B : Rat) ≠ 0 := by
    intro e
    have := Rat.intCast_eq_zero_iff.mp e
    omega
  exact ⟨((X : Rat) / (B : Rat), (Y : Rat) / (B : Rat)), Rat.div_mul_cancel this, Rat.div_mul_cancel this⟩
theorem ge_Bp {B : Int} (h : 1 ≤ B) : (0 : Rat) < (B : Rat) := Rat.intCast_pos.mpr (by omega)
theorem ge_at_un {X Y B : Int} {p q : ge_P} (h : 1 ≤ B) (hp : ge_at X Y B p) (hq : ge_at X Y B q) : p = q := by
  have hB := ge_Bp h
  have e1 : (B : Rat) * (p.1 - q.1) = 0 := by have := hp.1; have := hq.1; grind
  have e2 : (B : Rat) * (p.2 - q.2) = 0 := by have := hp.2; have := hq.2; grind
  have f1 := rq_z hB e1
  have f2 := rq_z hB e2
  exact Prod.ext (by grind) (by grind)
/-- comparing tops crosswise -/
theorem ge_cross {X B X' B' : Int} {x x' : Rat} (h : 1 ≤ B) (h' : 1 ≤ B') (e : x * (B : Rat) = (X : Rat)) (e' : x' * (B' : Rat) = (X' : Rat)) : (x < x' ↔ X * B' < X' * B) ∧ (x = x' ↔ X * B' = X' * B) := by
  have hB := ge_Bp h
  have hB' := ge_Bp h'
  have hBB := Rat.mul_pos hB hB'
  have k : ((X' * B - X * B' : Int) : Rat) = ((B : Rat) * (B' : Rat)) * (x' - x) := by
    rw [Rat.intCast_sub, Rat.intCast_mul, Rat.intCast_mul, ← e, ← e']
    grind
  constructor
  · constructor
    · intro hx
      have : 0 < ((X' * B - X * B' : Int) : Rat) := by rw [k]; exact Rat.mul_pos hBB (by grind)
      have := Rat.intCast_pos.mp this
      omega
    · intro hx
      have : 0 < ((X' * B - X * B' : Int) : Rat) := Rat.intCast_pos.mpr (by omega)
      rw [k] at this
      have := (Rat.mul_pos_iff_of_pos_left hBB).mp this
      grind
  · constructor
    · intro hx
      have : ((X' * B - X * B' : Int) : Rat) = 0 := by rw [k, hx]; grind
      have := Rat.intCast_eq_zero_iff.mp this
      omega
    · intro hx
      have : ((X' * B - X * B' : Int) : Rat) = 0 := Rat.intCast_eq_zero_iff.mpr (by omega)
      rw [k] at this
      have := rq_z hBB this
      grind
theorem ge_gap {p q : ge_P} (hp : ge_gp p) (hq : ge_gp q) (h : p.1 < q.1) : 20 < ge_M * (q.1 - p.1) := by
  obtain ⟨X, Y, B, ⟨t1, t2, t3, t4, t5, t6⟩, e1, e2⟩ := hp
  obtain ⟨X', Y', B', ⟨t1', t2', t3', t4', t5', t6'⟩, e1', e2'⟩ := hq
  have hc := (ge_cross t1 t1' e1 e1').1.mp h
  have hB := ge_Bp t1
  have hB' := ge_Bp t1'
  have k : ((X' * B - X * B' : Int) : Rat) = ((B : Rat) * (B' : Rat)) * (q.1 - p.1) := by
    rw [Rat.intCast_sub, Rat.intCast_mul, Rat.intCast_mul, ← e1, ← e1']
    grind
  have k1 : (1 : Rat) ≤ ((X' * B - X * B' : Int) : Rat) := by
    have : (1 : Int) ≤ X' * B - X * B' := by omega
    exact ge_icl this
  have k2 : (B : Rat) * (B' : Rat) ≤ 640000 := by
    have : B * B' ≤ 640000 := (zb_mul (A := 800) (B := 800) (by omega) (by omega) (by omega) (by omega)).2
    have := ge_icl this
    rw [Rat.intCast_mul] at this
    exact this
  have d : 0 < q.1 - p.1 := by grind
  have k3 : ((B : Rat) * (B' : Rat)) * (q.1 - p.1) ≤ 640000 * (q.1 - p.1) := Rat.mul_le_mul_of_nonneg_right k2 (Rat.le_of_lt d)
  rw [k] at k1
  unfold ge_M
  grind
theorem ge_gp_b {p : ge_P} (h : ge_gp p) : 0 ≤ p.1 ∧ p.1 ≤ 20 ∧ 0 ≤ p.2 ∧ p.2 ≤ 20 := by
  obtain ⟨X, Y, B, ⟨t1, t2, t3, t4, t5, t6⟩, e1, e2⟩ := h
  have hB := ge_Bp t1
  have a3 : (0 : Rat) ≤ (X : Rat) := ge_icl t3
  have a4 : (X : Rat) ≤ 20 * (B : Rat) := by have := ge_icl t4; rw [Rat.intCast_mul] at this; exact this
  have a5 : (0 : Rat) ≤ (Y : Rat) := ge_icl t5
  have a6 : (Y : Rat) ≤ 20 * (B : Rat) := by have := ge_icl t6; rw [Rat.intCast_mul] at this; exact this
  have b1 := rq_nn (z := p.1) hB (by grind)
  have b2 := rq_nn (z := 20 - p.1) hB (by grind)
  have b3 := rq_nn (z := p.2) hB (by grind)
  have b4 := rq_nn (z := 20 - p.2) hB (by grind)
  refine ⟨by grind, by grind, by grind, by grind⟩
theorem ge_lt_sc {p q : ge_P} (hp : ge_gp p) (hq : ge_gp q) : ge_lt p q ↔ ge_sc p < ge_sc q := by
  obtain ⟨a1, a2, a3, a4⟩ := ge_gp_b hp
  obtain ⟨b1, b2, b3, b4⟩ := ge_gp_b hq
  have half : ∀ {p q : ge_P}, ge_gp p → ge_gp q → p.1 < q.1 → ge_sc p < ge_sc q := by
    intro p q hp hq h
    have g := ge_gap hp hq h
    obtain ⟨a1, a2, a3, a4⟩ := ge_gp_b hp
    obtain ⟨b1, b2, b3, b4⟩ := ge_gp_b hq
    unfold ge_sc
    grind
  constructor
  · rintro (h | ⟨h, h'⟩)
    · exact half hp hq h
    · unfold ge_sc; rw [h]; grind
  · intro h
    by_cases c : p.1 < q.1
    · exact Or.inl c
    · by_cases d : q.1 < p.1
      · have := half hq hp d
        exfalso; grind
      · have e : p.1 = q.1 := by grind
        refine Or.inr ⟨e, ?_⟩
        unfold ge_sc at h; rw [e] at h; grind
theorem ge_sc_inj {p q : ge_P} (hp : ge_gp p) (hq : ge_gp q) (h : ge_sc p = ge_sc q) : p = q := by
  have n1 : ¬ ge_lt p q := fun k => by have := (ge_lt_sc hp hq).mp k; grind
  have n2 : ¬ ge_lt q p := fun k => by have := (ge_lt_sc hq hp).mp k; grind
  unfold ge_lt at n1 n2
  have e : p.1 = q.1 := by grind
  have f : p.2 = q.2 := by grind
  exact Prod.ext e f
end
section
/-! lines over one number: no crossing between two events -/
theorem ls_adj {α : Type} {R : α → α → Prop} (tr : ∀ x y z, R x y → R y z → R x z) : ∀ (L : List α), (∀ X j k Z, L = X ++ j :: k :: Z → R j k) → L.Pairwise R := by
  intro L
  induction L with
  | nil => exact fun _ => List.Pairwise.nil
  | cons a L ih =>
    intro h
    have hp := ih (fun X j k Z e => h (a :: X) j k Z (by rw [e]; rfl))
    refine List.pairwise_cons.mpr ⟨?_, hp⟩
    cases L with
    | nil => intro z hz; exact absurd hz (by simp)
    | cons b L =>
      have hab := h [] a b L rfl
      intro z hz
      rcases List.mem_cons.mp hz with rfl | hz
      · exact hab
      · exact tr _ _ _ hab ((List.pairwise_cons.mp hp).1 z hz)
theorem ls_pair {α : Type} {R : α → α → Prop} {L X Z : List α} {j k : α} (h : L.Pairwise R) (e : L = X ++ j :: k :: Z) : R j k := by
  rw [e] at h
  obtain ⟨_, h2, _⟩ := List.pairwise_append.mp h
  exact (List.pairwise_cons.mp h2).1 k List.mem_cons_self
def sw_lo (g : Nat → ge_S) (v : Rat) (j k : Nat) : Prop := ge_h (g j) v < ge_h (g k) v ∨ (ge_h (g j) v = ge_h (g k) v ∧ ge_m (g j) < ge_m (g k))
theorem ge_h_lin (s : ge_S) (v w : Rat) : ge_h s w = ge_h s v + ge_m s * (w - v) := by unfold ge_h; grind
theorem rq_mp {a b : Rat} (ha : 0 < a) (hb : 0 < b) : 0 < a * b := Rat.mul_pos ha hb
theorem rq_root {a b p q : Rat} (h1 : 0 < a + b * p) (h2 : a + b * q < 0) (h : p < q) : ∃ s, p < s ∧ s < q ∧ a + b * s = 0 := by
  have hb : b < 0 := by
    by_cases hb : b < 0
    · exact hb
    · exfalso
      have hb' : 0 ≤ b := by grind
      have : 0 ≤ b * (q - p) := Rat.mul_nonneg hb' (by grind)
      grind
  have hb' : 0 < -b := by grind
  have hne : b ≠ 0 := by grind
  have e : a + b * (-a / b) = 0 := by
    have : b * (-a / b) = -a := by rw [Rat.mul_comm]; exact Rat.div_mul_cancel hne
    rw [this]; grind
  refine ⟨-a / b, ?_, ?_, e⟩
  · have : 0 < (-b) * (-a / b - p) := by grind
    have := (Rat.mul_pos_iff_of_pos_left hb').mp this
    grind
  · have : 0 < (-b) * (q - -a / b) := by grind
    have := (Rat.mul_pos_iff_of_pos_left hb').mp this
    grind
theorem sw_c1 {g : Nat → ge_S} {j k : Nat} {v w : Rat} (h : v < w) (hl : sw_lo g v j k) (hx : ∀ s, v < s → s < w → ge_h (g j) s ≠ ge_h (g k) s) : ge_h (g j) w ≤ ge_h (g k) w := by
  by_cases c : ge_h (g k) w < ge_h (g j) w
  · exfalso
    have e1 := ge_h_lin (g j) v w
    have e2 := ge_h_lin (g k) v w
    rcases hl with hl | ⟨hl, hm⟩
    · obtain ⟨s, s1, s2, s3⟩ := rq_root (a := (ge_h (g k) v - ge_m (g k) * v) - (ge_h (g j) v - ge_m (g j) * v)) (b := ge_m (g k) - ge_m (g j)) (p := v) (q := w) (by grind) (by grind) h
      have f1 := ge_h_lin (g j) v s
      have f2 := ge_h_lin (g k) v s
      exact hx s s1 s2 (by grind)
    · have : 0 < (ge_m (g k) - ge_m (g j)) * (w - v) := rq_mp (by grind) (by grind)
      grind
  · grind
theorem sw_step {g : Nat → ge_S} {L : List Nat} {v w : Rat} (h : v < w) (hS : L.Pairwise (sw_lo g v)) (hx : ∀ X j k Z, L = X ++ j :: k :: Z → ∀ s, v < s → s < w → ge_h (g j) s ≠ ge_h (g k) s) :
    L.Pairwise (fun j k => ge_h (g j) w ≤ ge_h (g k) w) ∧ ∀ s, v < s → s < w → L.Pairwise (fun j k => ge_h (g j) s < ge_h (g k) s) := by
  constructor
  · refine ls_adj (R := fun j k => ge_h (g j) w ≤ ge_h (g k) w) (fun x y z a b => Rat.le_trans a b) L ?_
    intro X j k Z e
    exact sw_c1 h (ls_pair hS e) (hx X j k Z e)
  · intro s s1 s2
    refine ls_adj (R := fun j k => ge_h (g j) s < ge_h (g k) s) (fun x y z a b => by grind) L ?_
    intro X j k Z e
    have a := sw_c1 s1 (ls_pair hS e) (fun t t1 t2 => hx X j k Z e t t1 (by grind))
    have b := hx X j k Z e s s1 s2
    grind
/-- a list that rises by f, cut at y -/
theorem ls_three (f : Nat → Rat) (y : Rat) : ∀ (L : List Nat), L.Pairwise (fun j k => f j ≤ f k) → ∃ A I C, L = A ++ (I ++ C) ∧ (∀ k, k ∈ A → f k < y) ∧ (∀ k, k ∈ I → f k = y) ∧ (∀ k, k ∈ C → y < f k) := by
  intro L
  induction L with
  | nil => exact fun _ => ⟨[], [], [], rfl, by simp, by simp, by simp⟩
  | cons a L ih =>
    intro h
    obtain ⟨h1, h2⟩ := List.pairwise_cons.mp h
    obtain ⟨A, I, C, e, hA, hI, hC⟩ := ih h2
    by_cases c : f a < y
    · refine ⟨a :: A, I, C, by rw [e]; rfl, ?_, hI, hC⟩
      intro k hk
      rcases List.mem_cons.mp hk with rfl | hk
      · exact c
      · exact hA k hk
    · have hA0 : A = [] := by
        cases A with
        | nil => rfl
        | cons b A =>
          exfalso
          have := hA b List.mem_cons_self
          have := h1 b (by rw [e]; simp)
          grind
      subst hA0
      by_cases d : f a = y
      · refine ⟨[], a :: I, C, by rw [e]; rfl, by simp, ?_, hC⟩
        intro k hk
        rcases List.mem_cons.mp hk with rfl | hk
        · exact d
        · exact hI k hk
      · have hI0 : I = [] := by
          cases I with
          | nil => rfl
          | cons b I =>
            exfalso
            have := hI b List.mem_cons_self
            have := h1 b (by rw [e]; simp)
            grind
        subst hI0
        refine ⟨[], [], a :: C, by rw [e]; rfl, by simp, by simp, ?_⟩
        intro k hk
        rcases List.mem_cons.mp hk with rfl | hk
        · grind
        · exact hC k hk
end
section
/-! ends, meeting points, overlap -/
def ge_fr (s : ge_S) : ge_P := ((s.1 : Rat), (s.2.1 : Rat))
def ge_to (s : ge_S) : ge_P := ((s.2.2.1 : Rat), (s.2.2.2 : Rat))
theorem ge_sc_fr (s : ge_S) : ge_sc (ge_fr s) = ge_l s := rfl
theorem ge_sc_to (s : ge_S) : ge_sc (ge_to s) = ge_r s := rfl
theorem ge_on_fr {s : ge_S} (h : ge_ok s) : ge_on s (ge_fr s) := by
  rw [ge_on_iff h, ge_sc_fr]
  refine ⟨Rat.le_refl, Rat.le_of_lt (ge_lr h), ?_⟩
  unfold ge_h ge_fr; grind
theorem ge_on_to {s : ge_S} (h : ge_ok s) : ge_on s (ge_to s) := by
  rw [ge_on_iff h, ge_sc_to]
  refine ⟨Rat.le_of_lt (ge_lr h), Rat.le_refl, ?_⟩
  have e := ge_mD h
  have e2 := ge_rl s
  have e3 := ge_dy_c s
  have e4 : ge_r s - ge_l s = ge_D s := by grind
  unfold ge_h
  rw [e4, e]
  unfold ge_to; grind
theorem ge_gp_int {x y : Int} (h1 : 0 ≤ x) (h2 : x ≤ 20) (h3 : 0 ≤ y) (h4 : y ≤ 20) : ge_gp ((x : Rat), (y : Rat)) := by
  refine ⟨x, y, 1, ⟨by omega, by omega, by omega, by omega, by omega, by omega⟩, ?_, ?_⟩
  · show (x : Rat) * ((1 : Int) : Rat) = _
    rw [Rat.intCast_one, Rat.mul_one]
  · show (y : Rat) * ((1 : Int) : Rat) = _
    rw [Rat.intCast_one, Rat.mul_one]
theorem ge_gp_fr {s : ge_S} (h : ge_ok s) : ge_gp (ge_fr s) := ge_gp_int h.1 h.2.1 h.2.2.1 h.2.2.2.1
theorem ge_gp_to {s : ge_S} (h : ge_ok s) : ge_gp (ge_to s) := ge_gp_int h.2.2.2.2.1 h.2.2.2.2.2.1 h.2.2.2.2.2.2.1 h.2.2.2.2.2.2.2.1
theorem ge_pt_eq {s : ge_S} (h : ge_ok s) {p q : ge_P} (hp : ge_on s p) (hq : ge_on s q) (e : ge_sc p = ge_sc q) : p = q := by
  have a := ((ge_on_iff h p).mp hp).2.2
  have b := ((ge_on_iff h q).mp hq).2.2
  have c : p.2 = q.2 := by rw [a, b, e]
  unfold ge_sc at e
  have d : ge_M * (p.1 - q.1) = 0 := by grind
  have := rq_z ge_M_pos d
  exact Prod.ext (by grind) c
theorem ge_sI_side {X Y B : Int} {p : ge_P} (s : ge_S) (h : ge_at X Y B p) : ((ge_sI s X Y B : Int) : Rat) = (B : Rat) * ge_side s p := by
  unfold ge_sI ge_side
  rw [Rat.intCast_sub, Rat.intCast_mul, Rat.intCast_mul, Rat.intCast_sub, Rat.intCast_sub, Rat.intCast_mul, Rat.intCast_mul, ← h.1, ← h.2]
  grind
theorem ge_sI_0 {X Y B : Int} {p : ge_P} (s : ge_S) (hB : 1 ≤ B) (h : ge_at X Y B p) : ge_sI s X Y B = 0 ↔ ge_side s p = 0 := by
  have e := ge_sI_side s h
  constructor
  · intro k
    rw [k] at e
    exact rq_z (ge_Bp hB) e.symm
  · intro k
    rw [k, Rat.mul_zero] at e
    exact Rat.intCast_eq_zero_iff.mp e
theorem ge_sI_p {X Y B : Int} {p : ge_P} (s : ge_S) (hB : 1 ≤ B) (h : ge_at X Y B p) : 0 < ge_sI s X Y B ↔ 0 < ge_side s p := by
  have e := ge_sI_side s h
  rw [← Rat.intCast_pos, e, Rat.mul_pos_iff_of_pos_left (ge_Bp hB)]
theorem ge_mul_le {a X B : Int} {x : Rat} (hB : 1 ≤ B) (h : x * (B : Rat) = (X : Rat)) : (a * B ≤ X ↔ (a : Rat) ≤ x) ∧ (X ≤ a * B ↔ x ≤ (a : Rat)) := by
  have hB' := ge_Bp hB
  have k : ((X - a * B : Int) : Rat) = (B : Rat) * (x - (a : Rat)) := by
    rw [Rat.intCast_sub, Rat.intCast_mul, ← h]; grind
  constructor
  · constructor
    · intro l
      have : (0 : Rat) ≤ ((X - a * B : Int) : Rat) := Rat.intCast_nonneg.mpr (by omega)
      rw [k] at this
      have := rq_nn hB' this
      grind
    · intro l
      have : (0 : Rat) ≤ ((X - a * B : Int) : Rat) := by rw [k]; exact Rat.mul_nonneg (Rat.le_of_lt hB') (by grind)
      have := Rat.intCast_nonneg.mp this
      omega
  · have k2 : ((a * B - X : Int) : Rat) = (B : Rat) * ((a : Rat) - x) := by
      rw [Rat.intCast_sub, Rat.intCast_mul, ← h]; grind
    constructor
    · intro l
      have : (0 : Rat) ≤ ((a * B - X : Int) : Rat) := Rat.intCast_nonneg.mpr (by omega)
      rw [k2] at this
      have := rq_nn hB' this
      grind
    · intro l
      have : (0 : Rat) ≤ ((a * B - X : Int) : Rat) := by rw [k2]; exact Rat.mul_nonneg (Rat.le_of_lt hB') (by grind)
      have := Rat.intCast_nonneg.mp this
      omega
theorem ge_on_I {X Y B : Int} {p : ge_P} (s : ge_S) (hB : 1 ≤ B) (h : ge_at X Y B p) : ge_on s p ↔ ge_sI s X Y B = 0 ∧ ge_bI s X Y B := by
  unfold ge_on ge_bI
  rw [ge_sI_0 s hB h, (ge_mul_le hB h.1).1, (ge_mul_le hB h.1).2, (ge_mul_le hB h.2).1, (ge_mul_le hB h.2).2, (ge_mul_le hB h.2).1, (ge_mul_le hB h.2).2]
theorem ge_turn_0 {s t : ge_S} (hs : ge_ok s) (ht : ge_ok t) : ge_turn s t = 0 ↔ ge_m s = ge_m t := by
  have e := ge_turn_m hs ht
  have hD := Rat.mul_pos (ge_D_pos hs) (ge_D_pos ht)
  constructor
  · intro k
    rw [k] at e
    have e' : ge_D s * ge_D t * (ge_m t - ge_m s) = 0 := by rw [← e]; exact Rat.mul_zero _
    have := rq_z hD e'
    grind
  · intro k
    have z : ge_m t - ge_m s = 0 := by grind
    rw [z, Rat.mul_zero] at e
    exact Rat.intCast_eq_zero_iff.mp (rq_z ge_M_pos e)
theorem ge_turn_p {s t : ge_S} (hs : ge_ok s) (ht : ge_ok t) : 0 < ge_turn s t ↔ ge_m s < ge_m t := by
  have e := ge_turn_m hs ht
  have hD := Rat.mul_pos (ge_D_pos hs) (ge_D_pos ht)
  rw [← Rat.intCast_pos, ← Rat.mul_pos_iff_of_pos_left ge_M_pos, e, Rat.mul_pos_iff_of_pos_left hD]
  constructor <;> intro k <;> grind
/-- on one line with more than a point in common -/
def ge_ov (s t : ge_S) : Prop := ge_turn s t = 0 ∧ ge_sI t s.1 s.2.1 1 = 0 ∧
  ((ge_dx s = 0 ∧ s.2.1 < s.2.2.2 ∧ s.2.1 < t.2.2.2 ∧ t.2.1 < s.2.2.2 ∧ t.2.1 < t.2.2.2) ∨ (ge_dx s ≠ 0 ∧ s.1 < s.2.2.1 ∧ s.1 < t.2.2.1 ∧ t.1 < s.2.2.1 ∧ t.1 < t.2.2.1))
theorem ge_at_1 (x y : Int) : ge_at x y 1 ((x : Rat), (y : Rat)) := by
  constructor
  · show (x : Rat) * ((1 : Int) : Rat) = _
    rw [Rat.intCast_one, Rat.mul_one]
  · show (y : Rat) * ((1 : Int) : Rat) = _
    rw [Rat.intCast_one, Rat.mul_one]
/-- points on one line: x and the number go the same way -/
theorem ge_line_x {s : ge_S} (h : ge_ok s) (d : 0 < ge_dx s) {p q : ge_P} (hp : p.2 = ge_h s (ge_sc p)) (hq : q.2 = ge_h s (ge_sc q)) (k : p.1 ≤ q.1) : ge_sc p ≤ ge_sc q := by
  have a := (ge_on_x h hp).2
  have b := (ge_on_x h hq).2
  have hD := ge_D_pos h
  have hd : (0 : Rat) < (ge_dx s : Rat) := Rat.intCast_pos.mpr d
  have c : (ge_dx s : Rat) * (ge_sc q - ge_sc p) = ge_D s * (q.1 - p.1) := by grind
  have e : 0 ≤ (ge_dx s : Rat) * (ge_sc q - ge_sc p) := by rw [c]; exact Rat.mul_nonneg (Rat.le_of_lt hD) (by grind)
  have := rq_nn hd e
  grind
theorem ge_touch {s t : ge_S} (hs : ge_ok s) (ht : ge_ok t) (hn : ¬ ge_ov s t) (hm : ge_m s = ge_m t) {p : ge_P} (ps : ge_on s p) (pt : ge_on t p) : ge_r s ≤ ge_l t ∨ ge_r t ≤ ge_l s := by
  have e0 := (ge_turn_0 hs ht).mpr hm
  obtain ⟨a1, a2, a3⟩ := (ge_on_iff hs p).mp ps
  obtain ⟨b1, b2, b3⟩ := (ge_on_iff ht p).mp pt
  have line : ∀ v, ge_h s v = ge_h t v := by
    intro v
    have e1 := ge_h_lin s (ge_sc p) v
    have e2 := ge_h_lin t (ge_sc p) v
    rw [hm] at e1
    grind
  have f1 := ((ge_on_iff hs _).mp (ge_on_fr hs)).2.2
  have f2 := ((ge_on_iff hs _).mp (ge_on_to hs)).2.2
  have f3 := ((ge_on_iff ht _).mp (ge_on_fr ht)).2.2
  have f4 := ((ge_on_iff ht _).mp (ge_on_to ht)).2.2
  have e1 : ge_sI t s.1 s.2.1 1 = 0 := by
    rw [ge_sI_0 t (by omega) (ge_at_1 s.1 s.2.1)]
    exact (ge_side_0 ht (ge_fr s)).mpr (f1.trans (line _))
  have nn : ¬ ((ge_dx s = 0 ∧ s.2.1 < s.2.2.2 ∧ s.2.1 < t.2.2.2 ∧ t.2.1 < s.2.2.2 ∧ t.2.1 < t.2.2.2) ∨ (ge_dx s ≠ 0 ∧ s.1 < s.2.2.1 ∧ s.1 < t.2.2.1 ∧ t.1 < s.2.2.1 ∧ t.1 < t.2.2.1)) := fun k => hn ⟨e0, e1, k⟩
  obtain ⟨h1, h2, h3, h4, h5, h6, h7, h8, h9⟩ := id hs
  obtain ⟨g1, g2, g3, g4, g5, g6, g7, g8, g9⟩ := id ht
  have dxs : 0 ≤ ge_dx s := by unfold ge_dx; omega
  have dxt : 0 ≤ ge_dx t := by unfold ge_dx; omega
  by_cases z : ge_dx s = 0
  · have ys : 0 < ge_dy s := by unfold ge_dx at z; unfold ge_dy; omega
    have zt : ge_dx t = 0 := by
      unfold ge_turn at e0
      rw [z, Int.zero_mul] at e0
      have : ge_dy s * ge_dx t = 0 := by omega
      rcases Int.mul_eq_zero.mp this with k | k
      · omega
      · exact k
    have yt : 0 < ge_dy t := by unfold ge_dx at zt; unfold ge_dy; omega
    have x0 : s.1 = t.1 := by
      unfold ge_sI at e1
      rw [zt, Int.zero_mul] at e1
      have : ge_dy t * (s.1 - t.1 * 1) = 0 := by omega
      rcases Int.mul_eq_zero.mp this with k | k <;> omega
    unfold ge_dx at z zt
    unfold ge_dy at ys yt
    have or : s.2.2.2 ≤ t.2.1 ∨ t.2.2.2 ≤ s.2.1 := by
      by_cases c : s.2.2.2 ≤ t.2.1
      · exact Or.inl c
      · by_cases d : t.2.2.2 ≤ s.2.1
        · exact Or.inr d
        · exact absurd (Or.inl ⟨z, by omega, by omega, by omega, by omega⟩) nn
    unfold ge_r ge_l
    have x1 : s.2.2.1 = t.1 := by omega
    have x2 : t.2.2.1 = s.1 := by omega
    rw [x1, x2]
    rcases or with c | c
    · left; have := ge_icl c; grind
    · right; have := ge_icl c; grind
  · have dp : 0 < ge_dx s := by omega
    have dpt : 0 < ge_dx t := by
      by_cases k : 0 < ge_dx t
      · exact k
      · exfalso
        have zt : ge_dx t = 0 := by omega
        have yt : 0 < ge_dy t := by unfold ge_dx at zt; unfold ge_dy; omega
        unfold ge_turn at e0
        rw [zt, Int.mul_zero] at e0
        have := Int.mul_pos dp yt
        omega
    have or : s.2.2.1 ≤ t.1 ∨ t.2.2.1 ≤ s.1 := by
      unfold ge_dx at dp dpt
      by_cases c : s.2.2.1 ≤ t.1
      · exact Or.inl c
      · by_cases d : t.2.2.1 ≤ s.1
        · exact Or.inr d
        · exact absurd (Or.inr ⟨z, by omega, by omega, by omega, by omega⟩) nn
    rcases or with c | c
    · left
      exact ge_line_x ht dpt (p := ge_to s) (q := ge_fr t) (f2.trans (line _)) f3 (ge_icl c)
    · right
      exact ge_line_x hs dp (p := ge_to t) (q := ge_fr s) (f4.trans (line _).symm) f1 (ge_icl c)
/-- where two lines that are not parallel meet -/
def ge_al (s t : ge_S) : Int := (t.1 - s.1) * ge_dy t - (t.2.1 - s.2.1) * ge_dx t
theorem ge_meet_at {s t : ge_S} {p : ge_P} (ps : ge_side s p = 0) (pt : ge_side t p = 0) : p.1 * (ge_turn s t : Rat) = ((s.1 * ge_turn s t + ge_al s t * ge_dx s : Int) : Rat) ∧ p.2 * (ge_turn s t : Rat) = ((s.2.1 * ge_turn s t + ge_al s t * ge_dy s : Int) : Rat) := by
  unfold ge_side at ps pt
  unfold ge_turn ge_al
  simp only [Rat.intCast_add, Rat.intCast_sub, Rat.intCast_mul]
  constructor <;> grind
theorem ge_meet_gp {s t : ge_S} (hs : ge_ok s) (ht : ge_ok t) (hn : ¬ ge_ov s t) {p : ge_P} (ps : ge_on s p) (pt : ge_on t p) : ge_gp p := by
  by_cases hm : ge_m s = ge_m t
  · obtain ⟨a1, a2, a3⟩ := (ge_on_iff hs p).mp ps
    obtain ⟨b1, b2, b3⟩ := (ge_on_iff ht p).mp pt
    rcases ge_touch hs ht hn hm ps pt with k | k
    · have e : ge_sc p = ge_sc (ge_to s) := by rw [ge_sc_to]; grind
      rw [ge_pt_eq hs ps (ge_on_to hs) e]
      exact ge_gp_to hs
    · have e : ge_sc p = ge_sc (ge_to t) := by rw [ge_sc_to]; grind
      rw [ge_pt_eq ht pt (ge_on_to ht) e]
      exact ge_gp_to ht
  · have hz : ge_turn s t ≠ 0 := fun k => hm ((ge_turn_0 hs ht).mp k)
    obtain ⟨e1, e2⟩ := ge_meet_at ps.1 pt.1
    obtain ⟨h1, h2, h3, h4, h5, h6, h7, h8, h9⟩ := hs
    obtain ⟨g1, g2, g3, g4, g5, g6, g7, g8, g9⟩ := ht
    have b : -800 ≤ ge_turn s t ∧ ge_turn s t ≤ 800 := by
      have a1 := zb_mul (x := ge_dx s) (y := ge_dy t) (A := 20) (B := 20) (by unfold ge_dx; omega) (by unfold ge_dx; omega) (by unfold ge_dy; omega) (by unfold ge_dy; omega)
      have a2 := zb_mul (x := ge_dy s) (y := ge_dx t) (A := 20) (B := 20) (by unfold ge_dy; omega) (by unfold ge_dy; omega) (by unfold ge_dx; omega) (by unfold ge_dx; omega)
      unfold ge_turn; omega
    obtain ⟨_, p1, p2, p3⟩ := ps
    have q1 : (0 : Rat) ≤ p.1 := by have : (0 : Rat) ≤ (s.1 : Rat) := ge_icl h1; grind
    have q2 : p.1 ≤ 20 := by have : (s.2.2.1 : Rat) ≤ 20 := ge_icl h6; grind
    have q3 : (0 : Rat) ≤ p.2 := by
      have : (0 : Rat) ≤ (s.2.1 : Rat) := ge_icl h3
      have : (0 : Rat) ≤ (s.2.2.2 : Rat) := ge_icl h7
      grind
    have q4 : p.2 ≤ 20 := by
      have : (s.2.1 : Rat) ≤ 20 := ge_icl h4
      have : (s.2.2.2 : Rat) ≤ 20 := ge_icl h8
      grind
    have fin : ∀ {X Y B : Int}, 1 ≤ B → B ≤ 800 → ge_at X Y B p → ge_gp p := by
      intro X Y B k1 k2 k3
      refine ⟨X, Y, B, ⟨k1, k2, ?_, ?_, ?_, ?_⟩, k3⟩
      · have := (ge_mul_le (a := 0) k1 k3.1).1.mpr q1; omega
      · exact (ge_mul_le (a := 20) k1 k3.1).2.mpr q2
      · have := (ge_mul_le (a := 0) k1 k3.2).1.mpr q3; omega
      · exact (ge_mul_le (a := 20) k1 k3.2).2.mpr q4
    by_cases c : 0 < ge_turn s t
    · exact fin (by omega) b.2 ⟨e1, e2⟩
    · refine fin (X := -(s.1 * ge_turn s t + ge_al s t * ge_dx s)) (Y := -(s.2.1 * ge_turn s t + ge_al s t * ge_dy s)) (B := -ge_turn s t) (by omega) (by omega) ⟨?_, ?_⟩
      · rw [Rat.intCast_neg, Rat.intCast_neg, ← e1]; grind
      · rw [Rat.intCast_neg, Rat.intCast_neg, ← e2]; grind
end
section
/-! the sweep over the plane, with no program in sight -/
theorem ls_two {α : Type} {R : α → α → Prop} : ∀ {L : List α}, L.Pairwise R → ∀ {j k : α}, j ∈ L → k ∈ L → j ≠ k → R j k ∨ R k j := by
  intro L
  induction L with
  | nil => intro _ j k hj; exact absurd hj (by simp)
  | cons a L ih =>
    intro h j k hj hk hn
    obtain ⟨h1, h2⟩ := List.pairwise_cons.mp h
    rcases List.mem_cons.mp hj with rfl | hj'
    · rcases List.mem_cons.mp hk with rfl | hk'
      · exact absurd rfl hn
      · exact Or.inl (h1 k hk')
    · rcases List.mem_cons.mp hk with rfl | hk'
      · exact Or.inr (h1 j hj')
      · exact ih h2 hj' hk' hn
theorem ge_lt_tr {p q r : ge_P} (h : ge_lt p q) (k : ge_lt q r) : ge_lt p r := by
  unfold ge_lt at *; grind
theorem ge_lt_ir {p : ge_P} : ¬ ge_lt p p := by unfold ge_lt; grind
theorem ge_lt_tri (p q : ge_P) : ge_lt p q ∨ p = q ∨ ge_lt q p := by
  by_cases a : ge_lt p q
  · exact Or.inl a
  · by_cases b : ge_lt q p
    · exact Or.inr (Or.inr b)
    · unfold ge_lt at a b
      have e : p.1 = q.1 := by grind
      have f : p.2 = q.2 := by grind
      exact Or.inr (Or.inl (Prod.ext e f))
def sw_G (pr : Nat → Prop) (g : Nat → ge_S) : Prop := (∀ k, pr k → k < 10 ∧ ge_ok (g k)) ∧ (∀ j k, pr j → pr k → j ≠ k → ¬ ge_ov (g j) (g k))
def sw_mt (pr : Nat → Prop) (g : Nat → ge_S) (q : ge_P) : Prop := ∃ j k, j ≠ k ∧ pr j ∧ pr k ∧ ge_on (g j) q ∧ ge_on (g k) q
def sw_en (pr : Nat → Prop) (g : Nat → ge_S) (q : ge_P) : Prop := ∃ k, pr k ∧ (q = ge_fr (g k) ∨ q = ge_to (g k))
theorem sw_gp {pr : Nat → Prop} {g : Nat → ge_S} (G : sw_G pr g) {q : ge_P} (h : sw_en pr g q ∨ sw_mt pr g q) : ge_gp q := by
  rcases h with ⟨k, hk, rfl | rfl⟩ | ⟨j, k, hn, hj, hk, oj, ok⟩
  · exact ge_gp_fr (G.1 k hk).2
  · exact ge_gp_to (G.1 k hk).2
  · exact ge_meet_gp (G.1 j hj).2 (G.1 k hk).2 (G.2 j k hj hk hn) oj ok
/-- one event of the trace -/
def sw_St (pr : Nat → Prop) (g : Nat → ge_S) (p : ge_P) (L L' : List Nat) : Prop :=
  ∃ A I F C, L = A ++ (I ++ C) ∧ L' = A ++ (F ++ C) ∧ (∀ k, k ∈ I ↔ pr k ∧ ge_on (g k) p ∧ p ≠ ge_fr (g k)) ∧ (∀ k, k ∈ F ↔ pr k ∧ ge_on (g k) p ∧ p ≠ ge_to (g k)) ∧
    I.Pairwise (fun j k => ge_m (g k) < ge_m (g j)) ∧ F.Pairwise (fun j k => ge_m (g j) < ge_m (g k)) ∧ L'.Nodup
def sw_T (pr : Nat → Prop) (g : Nat → ge_S) (done : List ge_P) (L : List Nat) : Prop :=
  ∃ Ls : Nat → List Nat, Ls 0 = [] ∧ Ls done.length = L ∧ ∀ t p, done[t]? = some p → sw_St pr g p (Ls t) (Ls (t + 1))
def sw_I (pr : Nat → Prop) (g : Nat → ge_S) (done rest : List ge_P) (L : List Nat) : Prop :=
  (done ++ rest).Pairwise ge_lt ∧
  (∀ q, q ∈ done ++ rest → sw_en pr g q ∨ sw_mt pr g q) ∧
  (∀ q, sw_en pr g q → q ∈ done ++ rest) ∧
  L.Nodup ∧ (∀ k, k ∈ L ↔ pr k ∧ ge_fr (g k) ∈ done ∧ ge_to (g k) ∈ rest) ∧
  (∀ D p, done = D ++ [p] → L.Pairwise (sw_lo g (ge_sc p))) ∧
  (∀ X j k Z, L = X ++ j :: k :: Z → ∀ q, ge_on (g j) q → ge_on (g k) q → (∀ p, p ∈ done → ge_lt p q) → q ∈ rest) ∧
  (∀ q p, sw_mt pr g q → p ∈ done → ge_lt q p → q ∈ done)
theorem sw_adj_ne {L X Z : List Nat} {j k : Nat} (h : L.Nodup) (e : L = X ++ j :: k :: Z) : j ≠ k := ls_pair (R := fun a b => a ≠ b) h e
/-- where the segments of the order stand at the next event -/
theorem sw_a {pr : Nat → Prop} {g : Nat → ge_S} (G : sw_G pr g) {done rest : List ge_P} {p : ge_P} {L : List Nat} (I : sw_I pr g done (p :: rest) L) :
    L.Pairwise (fun j k => ge_h (g j) (ge_sc p) ≤ ge_h (g k) (ge_sc p)) ∧ (∀ q, sw_mt pr g q → ge_lt q p → q ∈ done) ∧
    (∀ k, k ∈ L → ge_l (g k) < ge_sc p ∧ ge_sc p ≤ ge_r (g k)) ∧ L.Pairwise (fun j k => ge_h (g j) (ge_sc p) = ge_h (g k) (ge_sc p) → ge_m (g k) < ge_m (g j)) := by
  obtain ⟨i1, i2, i3, i4, i5, i6, i7, i8⟩ := I
  have gpe : ∀ q, q ∈ done ++ p :: rest → ge_gp q := fun q hq => sw_gp G (i2 q hq)
  have gpp : ge_gp p := gpe p (by simp)
  obtain ⟨s1, s2, s3⟩ := List.pairwise_append.mp i1
  obtain ⟨s4, s5⟩ := List.pairwise_cons.mp s2
  have hR : ∀ q, q ∈ p :: rest → ge_sc p ≤ ge_sc q := by
    intro q hq
    rcases List.mem_cons.mp hq with rfl | hq'
    · exact Rat.le_refl
    · exact Rat.le_of_lt ((ge_lt_sc gpp (gpe q (List.mem_append_right _ hq))).mp (s4 q hq'))
  have hDn : ∀ q, q ∈ done → ge_sc q < ge_sc p := fun q hq => (ge_lt_sc (gpe q (List.mem_append_left _ hq)) gpp).mp (s3 q hq p List.mem_cons_self)
  rcases List.eq_nil_or_concat done with e | ⟨D, p0, e⟩
  · have hL : L = [] := by
      cases L with
      | nil => rfl
      | cons a L =>
        have := ((i5 a).mp List.mem_cons_self).2.1
        rw [e] at this
        exact absurd this (by simp)
    subst hL
    refine ⟨List.Pairwise.nil, ?_, fun k hk => absurd hk (by simp), List.Pairwise.nil⟩
    intro q hq hl
    exfalso
    obtain ⟨j, k, hn, hj, hk, oj, ok⟩ := id hq
    have hin := i3 _ ⟨j, hj, Or.inl rfl⟩
    rw [e] at hin
    have a := hR _ (by simpa using hin)
    have b := ((ge_on_iff (G.1 j hj).2 q).mp oj).1
    have c := (ge_lt_sc (sw_gp G (Or.inr hq)) gpp).mp hl
    rw [ge_sc_fr] at a
    grind
  · rw [List.concat_eq_append] at e
    have p0d : p0 ∈ done := by rw [e]; simp
    have h01 := hDn p0 p0d
    have hD0 : ∀ q, q ∈ done → ge_sc q ≤ ge_sc p0 := by
      intro q hq
      rw [e] at s1
      obtain ⟨_, _, s6⟩ := List.pairwise_append.mp s1
      have hq' := hq
      rw [e] at hq'
      rcases List.mem_append.mp hq' with hq' | hq'
      · exact Rat.le_of_lt ((ge_lt_sc (gpe q (List.mem_append_left _ hq)) (gpe p0 (List.mem_append_left _ p0d))).mp (s6 q hq' p0 (by simp)))
      · rw [List.mem_singleton.mp hq']; exact Rat.le_refl
    have hS := i6 D p0 e
    have act : ∀ k, k ∈ L → pr k ∧ ge_l (g k) ≤ ge_sc p0 ∧ ge_sc p ≤ ge_r (g k) := by
      intro k hk
      obtain ⟨a, b, c⟩ := (i5 k).mp hk
      exact ⟨a, hD0 _ b, hR _ c⟩
    have hx : ∀ X j k Z, L = X ++ j :: k :: Z → ∀ s, ge_sc p0 < s → s < ge_sc p → ge_h (g j) s ≠ ge_h (g k) s := by
      intro X j k Z eL s a b c
      have mj : j ∈ L := by rw [eL]; simp
      have mk : k ∈ L := by rw [eL]; simp
      obtain ⟨pj, lj, rj⟩ := act j mj
      obtain ⟨pk, lk, rk⟩ := act k mk
      have hM := Rat.ne_of_gt ge_M_pos
      have hs : ge_sc ((s - ge_h (g j) s) / ge_M, ge_h (g j) s) = s := by
        unfold ge_sc
        show ge_M * ((s - ge_h (g j) s) / ge_M) + ge_h (g j) s = s
        rw [Rat.mul_comm, Rat.div_mul_cancel hM]; grind
      generalize hq : ((s - ge_h (g j) s) / ge_M, ge_h (g j) s) = q at hs
      have hq2 : q.2 = ge_h (g j) s := by rw [← hq]
      have oj : ge_on (g j) q := (ge_on_iff (G.1 j pj).2 q).mpr ⟨by grind, by grind, by rw [hs, hq2]⟩
      have ok : ge_on (g k) q := (ge_on_iff (G.1 k pk).2 q).mpr ⟨by grind, by grind, by rw [hs, hq2, c]⟩
      have hmt : sw_mt pr g q := ⟨j, k, sw_adj_ne i4 eL, pj, pk, oj, ok⟩
      have gq := sw_gp G (Or.inr hmt)
      have := i7 X j k Z eL q oj ok (fun r hr => (ge_lt_sc (gpe r (List.mem_append_left _ hr)) gq).mpr (by have := hD0 r hr; grind))
      have := hR q this
      grind
    obtain ⟨w1, w2⟩ := sw_step h01 hS hx
    refine ⟨w1, ?_, ?_, ?_⟩
    · intro q hq hl
      have gq := sw_gp G (Or.inr hq)
      have ql := (ge_lt_sc gq gpp).mp hl
      rcases ge_lt_tri q p0 with c | c | c
      · exact i8 q p0 hq p0d c
      · rw [c]; exact p0d
      · exfalso
        have qh := (ge_lt_sc (gpe p0 (List.mem_append_left _ p0d)) gq).mp c
        obtain ⟨j, k, hn, hj, hk, oj, ok⟩ := id hq
        have inL : ∀ j, pr j → ge_on (g j) q → j ∈ L := by
          intro j hj oj
          obtain ⟨a1, a2, a3⟩ := (ge_on_iff (G.1 j hj).2 q).mp oj
          refine (i5 j).mpr ⟨hj, ?_, ?_⟩
          · rcases List.mem_append.mp (i3 _ ⟨j, hj, Or.inl rfl⟩) with k | k
            · exact k
            · have := hR _ k; rw [ge_sc_fr] at this; exfalso; grind
          · rcases List.mem_append.mp (i3 _ ⟨j, hj, Or.inr rfl⟩) with k | k
            · have := hD0 _ k; rw [ge_sc_to] at this; exfalso; grind
            · exact k
        have b1 := ((ge_on_iff (G.1 j hj).2 q).mp oj).2.2
        have b2 := ((ge_on_iff (G.1 k hk).2 q).mp ok).2.2
        rcases ls_two (w2 _ qh ql) (inL j hj oj) (inL k hk ok) hn with r | r <;> grind
    · intro k hk
      obtain ⟨a, b, c⟩ := act k hk
      exact ⟨by grind, c⟩
    · refine hS.imp ?_
      intro j k hl he
      have e1 := ge_h_lin (g j) (ge_sc p0) (ge_sc p)
      have e2 := ge_h_lin (g k) (ge_sc p0) (ge_sc p)
      rcases hl with hl | ⟨hl, hm⟩
      · by_cases c : ge_m (g k) < ge_m (g j)
        · exact c
        · exfalso
          have : 0 ≤ (ge_m (g k) - ge_m (g j)) * (ge_sc p - ge_sc p0) := Rat.mul_nonneg (by grind) (by grind)
          grind
      · exfalso
        have : 0 < (ge_m (g k) - ge_m (g j)) * (ge_sc p - ge_sc p0) := rq_mp (by grind) (by grind)
        grind
/-- those that the event is on stand together -/
theorem sw_b {pr : Nat → Prop} {g : Nat → ge_S} (G : sw_G pr g) {done rest : List ge_P} {p : ge_P} {L : List Nat} (J : sw_I pr g done (p :: rest) L) :
    ∃ A I C, L = A ++ (I ++ C) ∧ (∀ k, k ∈ A → 0 < ge_side (g k) p) ∧ (∀ k, k ∈ I → ge_side (g k) p = 0) ∧ (∀ k, k ∈ C → ge_side (g k) p < 0) ∧
      (∀ k, k ∈ I ↔ pr k ∧ ge_on (g k) p ∧ p ≠ ge_fr (g k)) ∧ I.Pairwise (fun j k => ge_m (g k) < ge_m (g j)) ∧
      (A ++ C).Pairwise (fun j k => ge_h (g j) (ge_sc p) < ge_h (g k) (ge_sc p)) ∧ (∀ k, k ∈ A → ge_h (g k) (ge_sc p) < p.2) ∧ (∀ k, k ∈ C → p.2 < ge_h (g k) (ge_sc p)) := by
  obtain ⟨a1, a2, a3, a4⟩ := sw_a G J
  obtain ⟨i1, i2, i3, i4, i5, i6, i7, i8⟩ := J
  have gpe : ∀ q, q ∈ done ++ p :: rest → ge_gp q := fun q hq => sw_gp G (i2 q hq)
  have gpp : ge_gp p := gpe p (by simp)
  obtain ⟨s1, s2, s3⟩ := List.pairwise_append.mp i1
  obtain ⟨s4, s5⟩ := List.pairwise_cons.mp s2
  obtain ⟨A, I, C, e, hA, hI, hC⟩ := ls_three (fun k => ge_h (g k) (ge_sc p)) p.2 L a1
  have okL : ∀ k, k ∈ L → pr k ∧ ge_ok (g k) := fun k hk => ⟨((i5 k).mp hk).1, (G.1 k ((i5 k).mp hk).1).2⟩
  have mA : ∀ k, k ∈ A → k ∈ L := fun k hk => by rw [e]; exact List.mem_append_left _ hk
  have mI : ∀ k, k ∈ I → k ∈ L := fun k hk => by rw [e]; exact List.mem_append_right _ (List.mem_append_left _ hk)
  have mC : ∀ k, k ∈ C → k ∈ L := fun k hk => by rw [e]; exact List.mem_append_right _ (List.mem_append_right _ hk)
  have sA : ∀ k, k ∈ A → 0 < ge_side (g k) p := fun k hk => (ge_side_pos (okL k (mA k hk)).2 p).mpr (hA k hk)
  have sI : ∀ k, k ∈ I → ge_side (g k) p = 0 := fun k hk => (ge_side_0 (okL k (mI k hk)).2 p).mpr (hI k hk).symm
  have sC : ∀ k, k ∈ C → ge_side (g k) p < 0 := by
    intro k hk
    have o := (okL k (mC k hk)).2
    have n1 : ¬ 0 < ge_side (g k) p := fun z => by have := (ge_side_pos o p).mp z; have := hC k hk; grind
    have n2 : ¬ ge_side (g k) p = 0 := fun z => by have := (ge_side_0 o p).mp z; have := hC k hk; grind
    grind
  refine ⟨A, I, C, e, sA, sI, sC, ?_, ?_, ?_, hA, hC⟩
  · intro k
    constructor
    · intro hk
      obtain ⟨pk, ok⟩ := okL k (mI k hk)
      obtain ⟨b1, b2⟩ := a3 k (mI k hk)
      refine ⟨pk, (ge_on_iff ok p).mpr ⟨Rat.le_of_lt b1, b2, (hI k hk).symm⟩, fun z => ?_⟩
      rw [z, ge_sc_fr] at b1
      grind
    · rintro ⟨pk, on, ne⟩
      have ok := (G.1 k pk).2
      obtain ⟨b1, b2, b3⟩ := (ge_on_iff ok p).mp on
      have b1' : ge_sc (ge_fr (g k)) < ge_sc p := by
        rw [ge_sc_fr]
        refine Rat.lt_of_le_of_ne b1 (fun z => ne ?_)
        exact ge_sc_inj gpp (ge_gp_fr ok) (by rw [ge_sc_fr]; exact z.symm)
      have hL : k ∈ L := by
        refine (i5 k).mpr ⟨pk, ?_, ?_⟩
        · rcases List.mem_append.mp (i3 _ ⟨k, pk, Or.inl rfl⟩) with h | h
          · exact h
          · exfalso
            rcases List.mem_cons.mp h with h | h
            · exact ne h.symm
            · have := (ge_lt_sc gpp (ge_gp_fr ok)).mp (s4 _ h); grind
        · rcases List.mem_append.mp (i3 _ ⟨k, pk, Or.inr rfl⟩) with h | h
          · exfalso
            have := (ge_lt_sc (ge_gp_to ok) gpp).mp (s3 _ h p List.mem_cons_self)
            rw [ge_sc_to] at this; grind
          · exact h
      have hL' := hL
      rw [e] at hL'
      rcases List.mem_append.mp hL' with h | h
      · have := hA k h; grind
      · rcases List.mem_append.mp h with h | h
        · exact h
        · have := hC k h; grind
  · have : I.Pairwise (fun j k => ge_h (g j) (ge_sc p) = ge_h (g k) (ge_sc p) → ge_m (g k) < ge_m (g j)) := by
      rw [e] at a4
      exact (List.pairwise_append.mp (List.pairwise_append.mp a4).2.1).1
    exact List.Pairwise.imp_of_mem (fun {a b} ha hb h => h ((hI a ha).trans (hI b hb).symm)) this
  · have w : (A ++ C).Pairwise (fun j k => ge_h (g j) (ge_sc p) ≤ ge_h (g k) (ge_sc p) ∧ j ≠ k) := by
      have w1 : L.Pairwise (fun j k => ge_h (g j) (ge_sc p) ≤ ge_h (g k) (ge_sc p) ∧ j ≠ k) := List.pairwise_and_iff.mpr ⟨a1, i4⟩
      rw [e] at w1
      obtain ⟨x1, x2, x3⟩ := List.pairwise_append.mp w1
      obtain ⟨y1, y2, y3⟩ := List.pairwise_append.mp x2
      exact List.pairwise_append.mpr ⟨x1, y2, fun a ha b hb => x3 a ha b (List.mem_append_right _ hb)⟩
    refine List.Pairwise.imp_of_mem (fun {j k} hj hk h => ?_) w
    refine Rat.lt_of_le_of_ne h.1 (fun z => ?_)
    have inL : ∀ k, k ∈ A ++ C → k ∈ L := fun k hk => by
      rcases List.mem_append.mp hk with h | h
      · exact mA k h
      · exact mC k h
    have hM := Rat.ne_of_gt ge_M_pos
    have hs : ge_sc ((ge_sc p - ge_h (g j) (ge_sc p)) / ge_M, ge_h (g j) (ge_sc p)) = ge_sc p := by
      show ge_M * ((ge_sc p - ge_h (g j) (ge_sc p)) / ge_M) + ge_h (g j) (ge_sc p) = ge_sc p
      rw [Rat.mul_comm, Rat.div_mul_cancel hM]; grind
    generalize hq : ((ge_sc p - ge_h (g j) (ge_sc p)) / ge_M, ge_h (g j) (ge_sc p)) = q at hs
    have hq2 : q.2 = ge_h (g j) (ge_sc p) := by rw [← hq]
    obtain ⟨pj, oj⟩ := okL j (inL j hj)
    obtain ⟨pk, ok⟩ := okL k (inL k hk)
    obtain ⟨c1, c2⟩ := a3 j (inL j hj)
    obtain ⟨d1, d2⟩ := a3 k (inL k hk)
    have onj : ge_on (g j) q := (ge_on_iff oj q).mpr ⟨by grind, by grind, by rw [hs, hq2]⟩
    have onk : ge_on (g k) q := (ge_on_iff ok q).mpr ⟨by grind, by grind, by rw [hs, hq2, z]⟩
    have gq := ge_meet_gp oj ok (G.2 j k pj pk h.2) onj onk
    have eq : q = p := ge_sc_inj gq gpp hs
    rw [eq] at hq2
    rcases List.mem_append.mp hj with h | h
    · have := hA j h; grind
    · have := hC j h; grind
end
section
/-! the sweep goes on to the next event -/
theorem sw_c {pr : Nat → Prop} {g : Nat → ge_S} (G : sw_G pr g) {done rest rest' : List ge_P} {p : ge_P} {L A I C F : List Nat} (J : sw_I pr g done (p :: rest) L)
    (e : L = A ++ (I ++ C)) (hI : ∀ k, k ∈ I ↔ pr k ∧ ge_on (g k) p ∧ p ≠ ge_fr (g k))
    (hAC : (A ++ C).Pairwise (fun j k => ge_h (g j) (ge_sc p) < ge_h (g k) (ge_sc p))) (hA : ∀ k, k ∈ A → ge_h (g k) (ge_sc p) < p.2) (hC : ∀ k, k ∈ C → p.2 < ge_h (g k) (ge_sc p))
    (hF : ∀ k, k ∈ F ↔ pr k ∧ ge_on (g k) p ∧ p ≠ ge_to (g k)) (hFm : F.Pairwise (fun j k => ge_m (g j) < ge_m (g k)))
    (r1 : (done ++ p :: rest').Pairwise ge_lt) (r2 : ∀ q, q ∈ rest → q ∈ rest') (r3 : ∀ q, q ∈ rest' → q ∈ rest ∨ sw_mt pr g q)
    (hb : ∀ X j k Z, A ++ (F ++ C) = X ++ j :: k :: Z → (X.length + 1 = A.length ∨ X.length + 1 = A.length + F.length) → ∀ q, ge_on (g j) q → ge_on (g k) q → ge_lt p q → q ∈ rest') :
    sw_I pr g (done ++ [p]) rest' (A ++ (F ++ C)) := by
  obtain ⟨a1, a2, a3, a4⟩ := sw_a G J
  obtain ⟨i1, i2, i3, i4, i5, i6, i7, i8⟩ := J
  have gpe : ∀ q, q ∈ done ++ p :: rest → ge_gp q := fun q hq => sw_gp G (i2 q hq)
  have gpp : ge_gp p := gpe p (by simp)
  obtain ⟨s1, s2, s3⟩ := List.pairwise_append.mp i1
  obtain ⟨s4, s5⟩ := List.pairwise_cons.mp s2
  have mA : ∀ k, k ∈ A → k ∈ L := fun k hk => by rw [e]; exact List.mem_append_left _ hk
  have mC : ∀ k, k ∈ C → k ∈ L := fun k hk => by rw [e]; exact List.mem_append_right _ (List.mem_append_right _ hk)
  have hFh : ∀ k, k ∈ F → ge_h (g k) (ge_sc p) = p.2 := by
    intro k hk
    obtain ⟨pk, on, ne⟩ := (hF k).mp hk
    exact ((ge_on_iff (G.1 k pk).2 p).mp on).2.2.symm
  have srt : (A ++ (F ++ C)).Pairwise (sw_lo g (ge_sc p)) := by
    obtain ⟨x1, x2, x3⟩ := List.pairwise_append.mp hAC
    refine List.pairwise_append.mpr ⟨x1.imp Or.inl, List.pairwise_append.mpr ⟨?_, x2.imp Or.inl, ?_⟩, ?_⟩
    · exact List.Pairwise.imp_of_mem (fun {a b} ha hb h => Or.inr ⟨(hFh a ha).trans (hFh b hb).symm, h⟩) hFm
    · intro a ha b hb
      left; have := hFh a ha; have := hC b hb; grind
    · intro a ha b hb
      left
      rcases List.mem_append.mp hb with hb | hb
      · have := hFh b hb; have := hA a ha; grind
      · exact x3 a ha b hb
  have nod : (A ++ (F ++ C)).Nodup := by
    refine srt.imp ?_
    intro a b h z
    rw [z] at h
    rcases h with h | ⟨_, h⟩ <;> exact absurd h (by grind)
  have tg : ∀ k, k ∈ L → ge_h (g k) (ge_sc p) ≠ p.2 → ge_to (g k) ≠ p := by
    intro k hk hn z
    have ok := (G.1 k ((i5 k).mp hk).1).2
    have := ((ge_on_iff ok _).mp (ge_on_to ok)).2.2
    rw [z] at this
    exact hn this.symm
  refine ⟨by simpa using r1, ?_, ?_, nod, ?_, ?_, ?_, ?_⟩
  · intro q hq
    simp only [List.mem_append, List.mem_singleton] at hq
    rcases hq with (hq | hq) | hq
    · exact i2 q (List.mem_append_left _ hq)
    · exact i2 q (by rw [hq]; simp)
    · rcases r3 q hq with h | h
      · exact i2 q (by simp [h])
      · exact Or.inr h
  · intro q hq
    have := i3 q hq
    simp only [List.mem_append, List.mem_cons, List.mem_singleton] at this ⊢
    rcases this with h | h | h
    · exact Or.inl (Or.inl h)
    · exact Or.inl (Or.inr (Or.inl h))
    · exact Or.inr (r2 q h)
  · intro k
    have keep : k ∈ L → ge_h (g k) (ge_sc p) ≠ p.2 → pr k ∧ ge_fr (g k) ∈ done ++ [p] ∧ ge_to (g k) ∈ rest' := by
      intro hk hn
      obtain ⟨b1, b2, b3⟩ := (i5 k).mp hk
      refine ⟨b1, List.mem_append_left _ b2, ?_⟩
      rcases List.mem_cons.mp b3 with b3 | b3
      · exact absurd b3 (tg k hk hn)
      · exact r2 _ b3
    constructor
    · intro hk
      rcases List.mem_append.mp hk with h | h
      · exact keep (mA k h) (by have := hA k h; grind)
      · rcases List.mem_append.mp h with h | h
        · obtain ⟨pk, on, ne⟩ := (hF k).mp h
          have ok := (G.1 k pk).2
          obtain ⟨c1, c2, c3⟩ := (ge_on_iff ok p).mp on
          refine ⟨pk, ?_, ?_⟩
          · rcases List.mem_append.mp (i3 _ ⟨k, pk, Or.inl rfl⟩) with z | z
            · exact List.mem_append_left _ z
            · rcases List.mem_cons.mp z with z | z
              · rw [z]; simp
              · exfalso
                have := (ge_lt_sc gpp (ge_gp_fr ok)).mp (s4 _ z)
                rw [ge_sc_fr] at this; grind
          · rcases List.mem_append.mp (i3 _ ⟨k, pk, Or.inr rfl⟩) with z | z
            · exfalso
              have := (ge_lt_sc (ge_gp_to ok) gpp).mp (s3 _ z p List.mem_cons_self)
              rw [ge_sc_to] at this; grind
            · rcases List.mem_cons.mp z with z | z
              · exact absurd z.symm ne
              · exact r2 _ z
        · exact keep (mC k h) (by have := hC k h; grind)
    · rintro ⟨pk, b2, b3⟩
      have ok := (G.1 k pk).2
      have b3' : ge_lt p (ge_to (g k)) := (List.pairwise_cons.mp (List.pairwise_append.mp r1).2.1).1 _ b3
      have c3 := (ge_lt_sc gpp (ge_gp_to ok)).mp b3'
      rw [ge_sc_to] at c3
      by_cases hh : p.2 = ge_h (g k) (ge_sc p)
      · refine List.mem_append_right _ (List.mem_append_left _ ((hF k).mpr ⟨pk, (ge_on_iff ok p).mpr ⟨?_, Rat.le_of_lt c3, hh⟩, ?_⟩))
        · rcases List.mem_append.mp b2 with z | z
          · have := (ge_lt_sc (ge_gp_fr ok) gpp).mp (s3 _ z p List.mem_cons_self)
            rw [ge_sc_fr] at this; grind
          · have := List.mem_singleton.mp z
            rw [← ge_sc_fr, this]; exact Rat.le_refl
        · intro z
          rw [← z] at b3'
          exact ge_lt_ir b3'
      · have b2' : ge_fr (g k) ∈ done := by
          rcases List.mem_append.mp b2 with z | z
          · exact z
          · exfalso
            have e1 := List.mem_singleton.mp z
            have := ((ge_on_iff ok _).mp (ge_on_fr ok)).2.2
            rw [e1] at this
            exact hh this
        have hL : k ∈ L := by
          refine (i5 k).mpr ⟨pk, b2', ?_⟩
          rcases List.mem_append.mp (i3 _ ⟨k, pk, Or.inr rfl⟩) with z | z
          · exfalso
            have := s3 _ z p List.mem_cons_self
            exact ge_lt_ir (ge_lt_tr this b3')
          · exact z
        rw [e] at hL
        rcases List.mem_append.mp hL with h | h
        · exact List.mem_append_left _ h
        · rcases List.mem_append.mp h with h | h
          · exfalso
            obtain ⟨_, on, _⟩ := (hI k).mp h
            exact hh ((ge_on_iff ok p).mp on).2.2
          · exact List.mem_append_right _ (List.mem_append_right _ h)
  · intro D p' ee
    have : p = p' := by
      have := List.append_inj_right' ee rfl
      injection this
    rw [← this]
    exact srt
  · intro X j k Z ee q oj ok hq
    have pq : ge_lt p q := hq p (by simp)
    have dq : ∀ r, r ∈ done → ge_lt r q := fun r hr => hq r (List.mem_append_left _ hr)
    have old : ∀ X Z, L = X ++ j :: k :: Z → q ∈ rest' := by
      intro X Z eL
      rcases List.mem_cons.mp (i7 X j k Z eL q oj ok dq) with z | z
      · rw [z] at pq; exact absurd pq ge_lt_ir
      · exact r2 q z
    rcases ls_cut X ee.symm with ⟨T, e1, e2⟩ | ⟨T, e1, e2⟩
    · cases T with
      | nil => exact hb X j k Z ee (Or.inl (by rw [e1]; simp)) q oj ok pq
      | cons k' T =>
        rw [List.cons_append] at e2
        injection e2 with e3 e4
        subst e3
        exact old X (T ++ (I ++ C)) (by rw [e, e1]; simp)
    · rcases ls_cut T e2.symm with ⟨T2, e3, e4⟩ | ⟨T2, e3, e4⟩
      · cases T2 with
        | nil => exact hb X j k Z ee (Or.inr (by rw [e1, e3]; simp; omega)) q oj ok pq
        | cons k' T3 =>
          exfalso
          rw [List.cons_append] at e4
          injection e4 with e5 e6
          subst e5
          have hm : ge_m (g j) < ge_m (g k) := ls_pair (R := fun j k => ge_m (g j) < ge_m (g k)) hFm e3
          have mj : j ∈ F := by rw [e3]; simp
          have mk : k ∈ F := by rw [e3]; simp
          obtain ⟨pj, _, _⟩ := (hF j).mp mj
          obtain ⟨pk, _, _⟩ := (hF k).mp mk
          have f1 := ((ge_on_iff (G.1 j pj).2 q).mp oj).2.2
          have f2 := ((ge_on_iff (G.1 k pk).2 q).mp ok).2.2
          have h1 := hFh j mj
          have h2 := hFh k mk
          have l1 := ge_h_lin (g j) (ge_sc p) (ge_sc q)
          have l2 := ge_h_lin (g k) (ge_sc p) (ge_sc q)
          have gq : ge_gp q := ge_meet_gp (G.1 j pj).2 (G.1 k pk).2 (G.2 j k pj pk (fun z => by rw [z] at hm; exact absurd hm (by grind))) oj ok
          have c := (ge_lt_sc gpp gq).mp pq
          have : 0 < (ge_m (g k) - ge_m (g j)) * (ge_sc q - ge_sc p) := rq_mp (by grind) (by grind)
          grind
      · exact old (A ++ (I ++ T2)) Z (by rw [e, e4]; simp)
  · intro q p' hq hp' hl
    rcases List.mem_append.mp hp' with z | z
    · exact List.mem_append_left _ (i8 q p' hq z hl)
    · rw [List.mem_singleton.mp z] at hl
      exact List.mem_append_left _ (a2 q hq hl)
theorem sw_T0 {pr : Nat → Prop} {g : Nat → ge_S} : sw_T pr g [] [] := ⟨fun _ => [], rfl, rfl, fun t p h => by simp at h⟩
theorem sw_Ts {pr : Nat → Prop} {g : Nat → ge_S} {done : List ge_P} {p : ge_P} {L L' : List Nat} (h : sw_T pr g done L) (k : sw_St pr g p L L') : sw_T pr g (done ++ [p]) L' := by
  obtain ⟨Ls, h0, h1, h2⟩ := h
  refine ⟨fun t => if t ≤ done.length then Ls t else L', ?_, ?_, ?_⟩
  · show (if 0 ≤ done.length then Ls 0 else L') = []
    rw [if_pos (Nat.zero_le _), h0]
  · show (if (done ++ [p]).length ≤ done.length then _ else L') = L'
    rw [if_neg (by simp)]
  · intro t q hq
    show sw_St pr g q (if t ≤ done.length then Ls t else L') (if t + 1 ≤ done.length then Ls (t + 1) else L')
    by_cases c : t < done.length
    · rw [List.getElem?_append_left c] at hq
      rw [if_pos (by omega), if_pos (by omega)]
      exact h2 t q hq
    · rw [List.getElem?_append_right (by omega)] at hq
      have ht : t - done.length = 0 := by
        rcases Nat.eq_zero_or_pos (t - done.length) with z | z
        · exact z
        · rw [List.getElem?_eq_none (by simp; omega)] at hq
          exact absurd hq (by simp)
      rw [ht] at hq
      have e : p = q := by simpa using hq
      have e2 : t = done.length := by omega
      rw [if_pos (by omega), if_neg (by omega), ← e, e2, h1]
      exact k
theorem sw_I0 {pr : Nat → Prop} {g : Nat → ge_S} {rest : List ge_P} (h1 : rest.Pairwise ge_lt) (h2 : ∀ q, q ∈ rest ↔ sw_en pr g q) : sw_I pr g [] rest [] := by
  refine ⟨by simpa using h1, fun q hq => Or.inl ((h2 q).mp (by simpa using hq)), fun q hq => by simpa using (h2 q).mpr hq, List.nodup_nil, ?_, ?_, ?_, ?_⟩
  · intro k
    exact ⟨fun h => absurd h (by simp), fun h => absurd h.2.1 (by simp)⟩
  · intro D p e
    exact absurd e (by simp)
  · intro X j k Z e
    exact absurd e (by simp)
  · intro q p _ hp
    exact absurd hp (by simp)
theorem sw_If {pr : Nat → Prop} {g : Nat → ge_S} (G : sw_G pr g) {done : List ge_P} {L : List Nat} (J : sw_I pr g done [] L) : L = [] ∧ ∀ q, q ∈ done ↔ sw_en pr g q ∨ sw_mt pr g q := by
  obtain ⟨i1, i2, i3, i4, i5, i6, i7, i8⟩ := J
  constructor
  · cases L with
    | nil => rfl
    | cons a L =>
      have := ((i5 a).mp List.mem_cons_self).2.2
      exact absurd this (by simp)
  · intro q
    refine ⟨fun h => i2 q (List.mem_append_left _ h), ?_⟩
    rintro (h | h)
    · simpa using i3 q h
    · obtain ⟨j, k, hn, hj, hk, oj, ok⟩ := id h
      have ht : ge_to (g j) ∈ done := by simpa using i3 _ ⟨j, hj, Or.inr rfl⟩
      have gq := sw_gp G (Or.inr h)
      have o := (G.1 j hj).2
      obtain ⟨a1, a2, a3⟩ := (ge_on_iff o q).mp oj
      by_cases c : ge_sc q = ge_sc (ge_to (g j))
      · rw [ge_sc_inj gq (ge_gp_to o) c]; exact ht
      · refine i8 q _ h ht ((ge_lt_sc gq (ge_gp_to o)).mpr ?_)
        rw [ge_sc_to] at c ⊢
        exact Rat.lt_of_le_of_ne a2 c
end
section
/-! sets of ten as ints -/
def xb (x : Int32) (P : Nat → Prop) : Prop := ∀ i, i < 32 → (bt x i = true ↔ i < 10 ∧ P i)
theorem xb_0 : xb 0 (fun _ => False) := by
  intro i hi
  rw [b_0]
  exact ⟨fun h => Bool.noConfusion h, fun h => h.2.elim⟩
theorem xb_co {x : Int32} {P Q : Nat → Prop} (h : xb x P) (k : ∀ i, i < 10 → (P i ↔ Q i)) : xb x Q := by
  intro i hi
  rw [h i hi]
  exact ⟨fun ⟨a, b⟩ => ⟨a, (k i a).mp b⟩, fun ⟨a, b⟩ => ⟨a, (k i a).mpr b⟩⟩
theorem xb_un {x y : Int32} {P Q : Nat → Prop} (h : xb x P) (h' : xb y Q) (k : ∀ i, i < 10 → (P i ↔ Q i)) : x = y := by
  apply b_ext
  intro i hi
  have e := ((xb_co h k) i hi).trans (h' i hi).symm
  cases hx : bt x i <;> cases hy : bt y i
  · rfl
  · rw [hx, hy] at e; exact absurd (e.mpr rfl) (by decide)
  · rw [hx, hy] at e; exact absurd (e.mp rfl) (by decide)
  · rfl
theorem xb_b1 : ∀ j, j < 32 → bt 1 j = decide (j = 0) := by decide
theorem xb_bk {k i : Nat} (hk : k < 32) (hi : i < 32) : bt ((1 : Int32) <<< (nI k &&& 31)) i = decide (i = k) := by
  rw [b_shl k hk 1 hi, xb_b1 (i - k) (by omega)]
  by_cases h : i = k
  · subst h; simp
  · by_cases h2 : k ≤ i
    · have : ¬ i - k = 0 := by omega
      simp [this, h]
    · simp [h2, h]
theorem xb_set {x : Int32} {P : Nat → Prop} {k : Nat} (h : xb x P) (hk : k < 10) : xb (x ||| ((1 : Int32) <<< (nI k &&& 31))) (fun i => P i ∨ i = k) := by
  intro i hi
  rw [b_or, xb_bk (by omega) hi, Bool.or_eq_true, h i hi, decide_eq_true_eq]
  constructor
  · rintro (⟨a, b⟩ | e)
    · exact ⟨a, Or.inl b⟩
    · exact ⟨by omega, Or.inr e⟩
  · rintro ⟨a, b | e⟩
    · exact Or.inl ⟨a, b⟩
    · exact Or.inr e
theorem xb_clr {x : Int32} {P : Nat → Prop} {k : Nat} (h : xb x P) (hk : k < 10) : xb (x &&& (((1 : Int32) <<< (nI k &&& 31)) ^^^ (-1))) (fun i => P i ∧ i ≠ k) := by
  intro i hi
  rw [b_and, b_xor, xb_bk (by omega) hi, b_m1 i hi, Bool.and_eq_true, h i hi]
  by_cases e : i = k
  · simp [e]
  · simp [e]
theorem xb_and {x y : Int32} {P Q : Nat → Prop} (h : xb x P) (h' : xb y Q) : xb (x &&& (y ^^^ (-1))) (fun i => P i ∧ ¬ Q i) := by
  intro i hi
  rw [b_and, b_xor, b_m1 i hi, Bool.and_eq_true, h i hi]
  have e := h' i hi
  cases hy : bt y i
  · rw [hy] at e
    simp only [Bool.false_eq_true, false_iff] at e
    constructor
    · rintro ⟨⟨a, b⟩, _⟩; exact ⟨a, b, fun q => e ⟨a, q⟩⟩
    · rintro ⟨a, b, _⟩; exact ⟨⟨a, b⟩, rfl⟩
  · rw [hy] at e
    have e' := e.mp rfl
    constructor
    · rintro ⟨_, z⟩; exact absurd z (by decide)
    · rintro ⟨a, b, c⟩; exact absurd e'.2 c
theorem xb_sh (x : Int32) {k : Nat} (hk : k < 10) : (x >>> (nI k &&& 31)) &&& 1 = if bt x k = true then 1 else 0 := by
  apply b_ext
  intro i hi
  rw [b_and, b_sshr k (by omega) x hi, xb_b1 i hi]
  by_cases e : i = 0
  · subst e
    rw [if_pos (by omega), Nat.add_zero]
    cases h : bt x k
    · rw [if_neg (by decide), b_0]; rfl
    · rw [if_pos rfl]; decide
  · have : (decide (i = 0)) = false := by simp [e]
    rw [this, Bool.and_false]
    by_cases h : bt x k = true
    · rw [if_pos h, xb_b1 i hi, this]
    · rw [if_neg h, b_0]
theorem xb_t {x : Int32} {P : Nat → Prop} {k : Nat} (h : xb x P) (hk : k < 10) (p : P k) : (x >>> (nI k &&& 31)) &&& 1 = 1 := by
  rw [xb_sh x hk, if_pos ((h k (by omega)).mpr ⟨hk, p⟩)]
theorem xb_f {x : Int32} {P : Nat → Prop} {k : Nat} (h : xb x P) (hk : k < 10) (p : ¬ P k) : (x >>> (nI k &&& 31)) &&& 1 = 0 := by
  rw [xb_sh x hk, if_neg (fun z => p ((h k (by omega)).mp z).2)]
theorem xb_z {x : Int32} {P : Nat → Prop} {k : Nat} (h : xb x P) (hk : k < 10) : ((x >>> (nI k &&& 31)) &&& 1 = 0) ↔ ¬ P k := by
  constructor
  · intro z p
    rw [xb_t h hk p] at z
    exact absurd z (by decide)
  · exact xb_f h hk
theorem xb_e {x : Int32} {P : Nat → Prop} {k : Nat} (h : xb x P) (hk : k < 10) : ((x >>> (nI k &&& 31)) &&& 1 = 1) ↔ P k := by
  constructor
  · intro z
    by_cases p : P k
    · exact p
    · rw [xb_f h hk p] at z
      exact absurd z (by decide)
  · exact xb_t h hk
theorem xb_both {x : Int32} {P : Nat → Prop} {j k : Nat} (h : xb x P) (hj : j < 10) (hk : k < 10) : (x &&& (((1 : Int32) <<< (nI j &&& 31)) ||| ((1 : Int32) <<< (nI k &&& 31))) = (((1 : Int32) <<< (nI j &&& 31)) ||| ((1 : Int32) <<< (nI k &&& 31)))) ↔ P j ∧ P k := by
  constructor
  · intro e
    have key : ∀ i, i < 10 → (i = j ∨ i = k) → P i := by
      intro i hi hc
      have := congrArg (fun z => bt z i) e
      rw [b_and, b_or, xb_bk (by omega) (by omega), xb_bk (by omega) (by omega)] at this
      have t : (decide (i = j) || decide (i = k)) = true := by
        rcases hc with c | c <;> simp [c]
      rw [t, Bool.and_true] at this
      exact ((h i (by omega)).mp this).2
    exact ⟨key j hj (Or.inl rfl), key k hk (Or.inr rfl)⟩
  · rintro ⟨pj, pk⟩
    apply b_ext
    intro i hi
    rw [b_and, b_or, xb_bk (by omega) hi, xb_bk (by omega) hi]
    by_cases c : i = j
    · have : bt x i = true := (h i hi).mpr ⟨by omega, c ▸ pj⟩
      rw [this, Bool.true_and]
    · by_cases d : i = k
      · have : bt x i = true := (h i hi).mpr ⟨by omega, d ▸ pk⟩
        rw [this, Bool.true_and]
      · simp [c, d]
end
section
/-! there are at most sixty-five events -/
theorem sw_one {s t : ge_S} (hs : ge_ok s) (ht : ge_ok t) (hm : ge_m s ≠ ge_m t) {p q : ge_P} (ps : ge_on s p) (pt : ge_on t p) (qs : ge_on s q) (qt : ge_on t q) : p = q := by
  have a1 := ((ge_on_iff hs p).mp ps).2.2
  have a2 := ((ge_on_iff ht p).mp pt).2.2
  have b1 := ((ge_on_iff hs q).mp qs).2.2
  have b2 := ((ge_on_iff ht q).mp qt).2.2
  have l1 := ge_h_lin s (ge_sc p) (ge_sc q)
  have l2 := ge_h_lin t (ge_sc p) (ge_sc q)
  refine ge_pt_eq hs ps qs ?_
  have z : (ge_m s - ge_m t) * (ge_sc q - ge_sc p) = 0 := by grind
  rcases Rat.mul_eq_zero.mp z with z | z
  · exact absurd (by grind) hm
  · grind
noncomputable def sw_mp (g : Nat → ge_S) (x : Nat × Nat) : ge_P := @dite _ (∃ q, ge_on (g x.1) q ∧ ge_on (g x.2) q) (Classical.propDecidable _) (fun h => h.choose) (fun _ => (0, 0))
def sw_prs : List (Nat × Nat) := (List.range 10).flatMap (fun k => (List.range k).map (fun j => (j, k)))
theorem sw_prs_len : sw_prs.length = 45 := by decide
theorem sw_prs_mem {j k : Nat} (h : j < k) (hk : k < 10) : (j, k) ∈ sw_prs := by
  unfold sw_prs
  rw [List.mem_flatMap]
  exact ⟨k, List.mem_range.mpr hk, List.mem_map.mpr ⟨j, List.mem_range.mpr h, rfl⟩⟩
noncomputable def sw_cand (g : Nat → ge_S) : List ge_P := (List.range 10).map (fun k => ge_fr (g k)) ++ ((List.range 10).map (fun k => ge_to (g k)) ++ sw_prs.map (sw_mp g))
theorem sw_cand_len (g : Nat → ge_S) : (sw_cand g).length = 65 := by
  unfold sw_cand
  simp [sw_prs_len]
theorem sw_mp_eq {pr : Nat → Prop} {g : Nat → ge_S} (G : sw_G pr g) {j k : Nat} (hj : pr j) (hk : pr k) (hm : ge_m (g j) ≠ ge_m (g k)) {q : ge_P} (oj : ge_on (g j) q) (ok : ge_on (g k) q) : sw_mp g (j, k) = q := by
  have h : ∃ q, ge_on (g j) q ∧ ge_on (g k) q := ⟨q, oj, ok⟩
  have e : sw_mp g (j, k) = h.choose := by unfold sw_mp; exact dif_pos h
  rw [e]
  exact sw_one (G.1 j hj).2 (G.1 k hk).2 hm h.choose_spec.1 h.choose_spec.2 oj ok
theorem sw_en_in {pr : Nat → Prop} {g : Nat → ge_S} (G : sw_G pr g) {q : ge_P} (h : sw_en pr g q) : q ∈ sw_cand g := by
  obtain ⟨k, hk, rfl | rfl⟩ := h
  · exact List.mem_append_left _ (List.mem_map.mpr ⟨k, List.mem_range.mpr (G.1 k hk).1, rfl⟩)
  · exact List.mem_append_right _ (List.mem_append_left _ (List.mem_map.mpr ⟨k, List.mem_range.mpr (G.1 k hk).1, rfl⟩))
theorem sw_mt_in {pr : Nat → Prop} {g : Nat → ge_S} (G : sw_G pr g) {q : ge_P} (h : sw_mt pr g q) : q ∈ sw_cand g := by
  obtain ⟨j, k, hn, hj, hk, oj, ok⟩ := h
  by_cases hm : ge_m (g j) = ge_m (g k)
  · have o1 := (G.1 j hj).2
    have o2 := (G.1 k hk).2
    obtain ⟨a1, a2, a3⟩ := (ge_on_iff o1 q).mp oj
    obtain ⟨b1, b2, b3⟩ := (ge_on_iff o2 q).mp ok
    rcases ge_touch o1 o2 (G.2 j k hj hk hn) hm oj ok with c | c
    · exact sw_en_in G ⟨j, hj, Or.inr (ge_pt_eq o1 oj (ge_on_to o1) (by rw [ge_sc_to]; grind))⟩
    · exact sw_en_in G ⟨k, hk, Or.inr (ge_pt_eq o2 ok (ge_on_to o2) (by rw [ge_sc_to]; grind))⟩
  · refine List.mem_append_right _ (List.mem_append_right _ (List.mem_map.mpr ?_))
    rcases Nat.lt_or_gt_of_ne hn with c | c
    · exact ⟨(j, k), sw_prs_mem c (G.1 k hk).1, sw_mp_eq G hj hk hm oj ok⟩
    · exact ⟨(k, j), sw_prs_mem c (G.1 j hj).1, sw_mp_eq G hk hj (fun z => hm z.symm) ok oj⟩
theorem sw_few {pr : Nat → Prop} {g : Nat → ge_S} (G : sw_G pr g) {L : List ge_P} (hs : L.Pairwise ge_lt) (h : ∀ q, q ∈ L → sw_en pr g q ∨ sw_mt pr g q) : L.length ≤ 65 := by
  rw [← sw_cand_len g]
  refine List.Nodup.length_le_of_subset (hs.imp ?_) ?_
  · intro a b h z
    rw [z] at h
    exact ge_lt_ir h
  · intro q hq
    rcases h q hq with k | k
    · exact sw_en_in G k
    · exact sw_mt_in G k
end
section
/-! the small methods of the component -/
def xk (aX aY tX tY : Nat → Int32) (k : Nat) (s : ge_S) : Prop := k < 10 ∧ ge_ok s ∧ aX k = zI s.1 ∧ aY k = zI s.2.1 ∧ tX k = zI s.2.2.1 ∧ tY k = zI s.2.2.2
section
variable {f_present f_events f_now f_active f_freshCount f_pointX f_pointY f_pointBottom f_edges : Int32} {a_fromX a_fromY a_toX a_toY a_eventX a_eventY a_eventBottom a_eventSet a_order a_fresh a_edgeFrom a_edgeTo a_edgeSegment a_gone a_groupOf : Nat → Int32}
theorem xs_stepX {post : Int32 → Prop} {k : Nat} {s : ge_S} (h : xk a_fromX a_fromY a_toX a_toY k s) (hp : post (zI (ge_dx s))) : wpX_stepX post (f_present, f_events, f_now, f_active, f_freshCount, f_pointX, f_pointY, f_pointBottom, f_edges, a_fromX, a_fromY, a_toX, a_toY, a_eventX, a_eventY, a_eventBottom, a_eventSet, a_order, a_fresh, a_edgeFrom, a_edgeTo, a_edgeSegment, a_gone, a_groupOf) (nI k) := by
  obtain ⟨hk, ho, e1, e2, e3, e4⟩ := h
  refine And.intro (vp_in_nI hk (by omega)) (And.intro (vp_in_nI hk (by omega)) ?_)
  rw [nI_clamp (by omega), e1, e3, zI_sub]
  exact hp
theorem xs_stepY {post : Int32 → Prop} {k : Nat} {s : ge_S} (h : xk a_fromX a_fromY a_toX a_toY k s) (hp : post (zI (ge_dy s))) : wpX_stepY post (f_present, f_events, f_now, f_active, f_freshCount, f_pointX, f_pointY, f_pointBottom, f_edges, a_fromX, a_fromY, a_toX, a_toY, a_eventX, a_eventY, a_eventBottom, a_eventSet, a_order, a_fresh, a_edgeFrom, a_edgeTo, a_edgeSegment, a_gone, a_groupOf) (nI k) := by
  obtain ⟨hk, ho, e1, e2, e3, e4⟩ := h
  refine And.intro (vp_in_nI hk (by omega)) (And.intro (vp_in_nI hk (by omega)) ?_)
  rw [nI_clamp (by omega), e2, e4, zI_sub]
  exact hp
theorem xs_sideOf {post : Int32 → Prop} {k : Nat} {s : ge_S} {X Y B : Int} (h : xk a_fromX a_fromY a_toX a_toY k s) (hp : post (zI (ge_sI s X Y B))) : wpX_sideOf post (f_present, f_events, f_now, f_active, f_freshCount, zI X, zI Y, zI B, f_edges, a_fromX, a_fromY, a_toX, a_toY, a_eventX, a_eventY, a_eventBottom, a_eventSet, a_order, a_fresh, a_edgeFrom, a_edgeTo, a_edgeSegment, a_gone, a_groupOf) (nI k) := by
  obtain ⟨hk, ho, e1, e2, e3, e4⟩ := id h
  refine And.intro (vp_in_nI hk (by omega)) (nm_e (And.intro (vp_in_nI hk (by omega)) (nm_e ?_)))
  refine xs_stepX h (xs_stepY h ?_)
  rw [nI_clamp (by omega), e1, e2, zI_mul, zI_mul, zI_sub, zI_sub, zI_mul, zI_mul, zI_sub]
  exact hp
theorem xs_turn {post : Int32 → Prop} {j k : Nat} {s t : ge_S} (hj : xk a_fromX a_fromY a_toX a_toY j s) (hk : xk a_fromX a_fromY a_toX a_toY k t) (hp : post (zI (ge_turn s t))) : wpX_turn post (f_present, f_events, f_now, f_active, f_freshCount, f_pointX, f_pointY, f_pointBottom, f_edges, a_fromX, a_fromY, a_toX, a_toY, a_eventX, a_eventY, a_eventBottom, a_eventSet, a_order, a_fresh, a_edgeFrom, a_edgeTo, a_edgeSegment, a_gone, a_groupOf) (nI j) (nI k) := by
  unfold wpX_turn
  refine xs_stepX hj ?_
  refine xs_stepY hk (nm_e ?_)
  refine xs_stepY hj ?_
  refine xs_stepX hk ?_
  rw [zI_mul, zI_mul, zI_sub]
  exact hp
theorem ge_bb {s : ge_S} {X Y B : Int} (h : ge_ok s) (t : ge_tI X Y B) : zB (s.1 * B) ∧ zB (s.2.1 * B) ∧ zB (s.2.2.1 * B) ∧ zB (s.2.2.2 * B) ∧ zB X ∧ zB Y := by
  obtain ⟨h1, h2, h3, h4, h5, h6, h7, h8, h9⟩ := h
  obtain ⟨t1, t2, t3, t4, t5, t6⟩ := t
  have a1 := zb_mul (A := 20) (B := 800) (x := s.1) (y := B) (by omega) (by omega) (by omega) (by omega)
  have a2 := zb_mul (A := 20) (B := 800) (x := s.2.1) (y := B) (by omega) (by omega) (by omega) (by omega)
  have a3 := zb_mul (A := 20) (B := 800) (x := s.2.2.1) (y := B) (by omega) (by omega) (by omega) (by omega)
  have a4 := zb_mul (A := 20) (B := 800) (x := s.2.2.2) (y := B) (by omega) (by omega) (by omega) (by omega)
  refine ⟨⟨?_, ?_⟩, ⟨?_, ?_⟩, ⟨?_, ?_⟩, ⟨?_, ?_⟩, ⟨?_, ?_⟩, ⟨?_, ?_⟩⟩ <;> omega
theorem xs_bt3 {post : Int32 → Prop} {X Y B lo hi : Int} (b1 : zB (lo * B)) (b2 : zB (hi * B)) (bY : zB Y) (h1 : lo * B ≤ Y → Y ≤ hi * B → post 1) (h0 : ¬ (lo * B ≤ Y ∧ Y ≤ hi * B) → post 0) : wX_isBetween_103 post (zI lo) (zI hi) 1 f_present f_events f_now f_active f_freshCount (zI X) (zI Y) (zI B) f_edges a_fromX a_fromY a_toX a_toY a_eventX a_eventY a_eventBottom a_eventSet a_order a_fresh a_edgeFrom a_edgeTo a_edgeSegment a_gone a_groupOf := by
  refine br_f (by decide) ?_
  rw [zI_mul, zI_mul]
  refine ek_if (zI_lt bY b1) (fun h => h0 (fun z => by omega)) (fun h => ?_)
  exact ek_if (zI_lt b2 bY) (fun g => h0 (fun z => by omega)) (fun g => h1 (by omega) (by omega))
theorem xs_bt2 {post : Int32 → Prop} {lo hi : Int32} (h0 : post 0) : wX_isBetween_102 post lo hi f_present f_events f_now f_active f_freshCount f_pointX f_pointY f_pointBottom f_edges a_fromX a_fromY a_toX a_toY a_eventX a_eventY a_eventBottom a_eventSet a_order a_fresh a_edgeFrom a_edgeTo a_edgeSegment a_gone a_groupOf := br_t rfl h0
theorem xs_bt6 {post : Int32 → Prop} {k : Nat} {s : ge_S} {X Y B lo hi : Int} (h : xk a_fromX a_fromY a_toX a_toY k s) (t : ge_tI X Y B) (b1 : zB (lo * B)) (b2 : zB (hi * B)) (h1 : s.1 * B ≤ X → X ≤ s.2.2.1 * B → lo * B ≤ Y → Y ≤ hi * B → post 1) (h0 : ¬ (s.1 * B ≤ X ∧ X ≤ s.2.2.1 * B ∧ lo * B ≤ Y ∧ Y ≤ hi * B) → post 0) : wX_isBetween_61 post (nI k) (zI lo) (zI hi) f_present f_events f_now f_active f_freshCount (zI X) (zI Y) (zI B) f_edges a_fromX a_fromY a_toX a_toY a_eventX a_eventY a_eventBottom a_eventSet a_order a_fresh a_edgeFrom a_edgeTo a_edgeSegment a_gone a_groupOf := by
  obtain ⟨hk, ho, e1, e2, e3, e4⟩ := h
  obtain ⟨c1, c2, c3, c4, c5, c6⟩ := ge_bb ho t
  refine And.intro (vp_in_nI hk (by omega)) ?_
  rw [nI_clamp (by omega), e1, e3, zI_mul, zI_mul]
  refine ek_if (zI_lt c5 c1) (fun h => xs_bt2 (h0 (fun z => by omega))) (fun h => And.intro (vp_in_nI hk (by omega)) ?_)
  exact ek_if (zI_lt c3 c5) (fun g => xs_bt2 (h0 (fun z => by omega))) (fun g => xs_bt3 b1 b2 c6 (fun a b => h1 (by omega) (by omega) a b) (fun z => h0 (fun w => z ⟨w.2.2.1, w.2.2.2⟩)))
theorem xs_between {post : Int32 → Prop} {k : Nat} {s : ge_S} {X Y B : Int} (h : xk a_fromX a_fromY a_toX a_toY k s) (t : ge_tI X Y B) (h1 : ge_bI s X Y B → post 1) (h0 : ¬ ge_bI s X Y B → post 0) : wpX_isBetween post (f_present, f_events, f_now, f_active, f_freshCount, zI X, zI Y, zI B, f_edges, a_fromX, a_fromY, a_toX, a_toY, a_eventX, a_eventY, a_eventBottom, a_eventSet, a_order, a_fresh, a_edgeFrom, a_edgeTo, a_edgeSegment, a_gone, a_groupOf) (nI k) := by
  obtain ⟨hk, ho, e1, e2, e3, e4⟩ := id h
  obtain ⟨c1, c2, c3, c4, c5, c6⟩ := ge_bb ho t
  obtain ⟨h1', h2, h3, h4, h5, h6, h7, h8, h9⟩ := ho
  have i := vp_in_nI (N := 10) hk (by omega)
  have b7 : zB s.2.2.2 := ⟨by omega, by omega⟩
  have b3 : zB s.2.1 := ⟨by omega, by omega⟩
  refine And.intro i (And.intro i ?_)
  rw [nI_clamp (by omega), e2, e4]
  refine ek_if (zI_le b7 b3) (fun hl => And.intro i (And.intro i (And.intro i ?_))) (fun hl => And.intro i (And.intro i (And.intro i ?_)))
  · rw [nI_clamp (by omega), e2, e4]
    refine br_t ((zI_le b7 b3).mpr hl) (And.intro i (xs_bt6 h t c4 c2 (fun a b c d => h1 ⟨a, b, Or.inr ⟨c, d⟩⟩) (fun z => h0 (fun w => z ?_))))
    obtain ⟨w1, w2, w3 | w3⟩ := w
    · have hB : 0 ≤ B := by have := t.1; omega
      have := Int.mul_le_mul_of_nonneg_right hl hB
      exact ⟨w1, w2, by omega, by omega⟩
    · exact ⟨w1, w2, w3.1, w3.2⟩
  · rw [nI_clamp (by omega), e2, e4]
    refine br_f (fun z => hl ((zI_le b7 b3).mp z)) (And.intro i (xs_bt6 h t c2 c4 (fun a b c d => h1 ⟨a, b, Or.inl ⟨c, d⟩⟩) (fun z => h0 (fun w => z ?_))))
    obtain ⟨w1, w2, w3 | w3⟩ := w
    · exact ⟨w1, w2, w3.1, w3.2⟩
    · have hB : 0 ≤ B := by have := t.1; omega
      have := Int.mul_le_mul_of_nonneg_right (Int.le_of_lt (Int.not_le.mp hl)) hB
      exact ⟨w1, w2, by omega, by omega⟩
/-- Euclid's rounds: what divides the answer divides both -/
theorem xs_div4 {post : Int32 → Prop} : ∀ (n a b : Nat), a < 2 ^ 31 → b < 2 ^ 31 → b < n → post (nI (Nat.gcd a b)) → wX_divisor_4 post n (nI a) (nI b) := by
  intro n
  induction n with
  | zero => intro a b _ _ h; omega
  | succ n ih =>
    intro a b ha hb hn hp
    refine ek_if (d := b = 0) (nI_eq (b := 0) hb (by omega)) (fun h => ?_) (fun h => ?_)
    · subst h
      rw [Nat.gcd_zero_right] at hp
      exact hp
    · have hz : ¬ nI b = 0 := nI_ne0 (by omega) hb
      refine And.intro hz (nm_r (pk_rem ha (by omega) hb) ?_)
      have hl : a % b < b := Nat.mod_lt _ (by omega)
      refine ih b (a % b) hb (by omega) (by omega) ?_
      rw [Nat.gcd_comm, ← Nat.gcd_rec, Nat.gcd_comm]
      exact hp
theorem xs_divisor {post : Int32 → Prop} (a b : Nat) (ha : a < 2 ^ 31) (hb : b < 2 ^ 31) (hp : post (nI (Nat.gcd a b))) : wpX_divisor post (nI a) (nI b) :=
  ⟨b + 1, xs_div4 (b + 1) a b ha hb (by omega) hp⟩
theorem xs_setPoint {post : SX → Prop} {x y b : Nat} (hx : x < 2 ^ 31) (hy : y < 2 ^ 31) (hb : b < 2 ^ 31) (h0 : 0 < b) (h : ∀ x' y' b' g : Nat, 0 < g → x = x' * g → y = y' * g → b = b' * g → post (f_present, f_events, f_now, f_active, f_freshCount, nI x', nI y', nI b', f_edges, a_fromX, a_fromY, a_toX, a_toY, a_eventX, a_eventY, a_eventBottom, a_eventSet, a_order, a_fresh, a_edgeFrom, a_edgeTo, a_edgeSegment, a_gone, a_groupOf)) : wpX_setPoint post (f_present, f_events, f_now, f_active, f_freshCount, f_pointX, f_pointY, f_pointBottom, f_edges, a_fromX, a_fromY, a_toX, a_toY, a_eventX, a_eventY, a_eventBottom, a_eventSet, a_order, a_fresh, a_edgeFrom, a_edgeTo, a_edgeSegment, a_gone, a_groupOf) (nI x) (nI y) (nI b) := by
  have hg1 : Nat.gcd x y < 2 ^ 31 := by
    rcases Nat.eq_zero_or_pos x with e | e
    · rw [e, Nat.gcd_zero_left]; exact hy
    · exact Nat.lt_of_le_of_lt (Nat.gcd_le_left y e) hx
  have hg : 0 < Nat.gcd (Nat.gcd x y) b := Nat.gcd_pos_of_pos_right _ h0
  have hg2 : Nat.gcd (Nat.gcd x y) b < 2 ^ 31 := Nat.lt_of_le_of_lt (Nat.gcd_le_right _ h0) hb
  have d1 : Nat.gcd (Nat.gcd x y) b ∣ x := Nat.dvd_trans (Nat.gcd_dvd_left _ _) (Nat.gcd_dvd_left _ _)
  have d2 : Nat.gcd (Nat.gcd x y) b ∣ y := Nat.dvd_trans (Nat.gcd_dvd_left _ _) (Nat.gcd_dvd_right _ _)
  have d3 : Nat.gcd (Nat.gcd x y) b ∣ b := Nat.gcd_dvd_right _ _
  refine xs_divisor x y hx hy (xs_divisor _ b hg1 hb ?_)
  have hh := h _ _ _ _ hg (Nat.div_mul_cancel d1).symm (Nat.div_mul_cancel d2).symm (Nat.div_mul_cancel d3).symm
  generalize Nat.gcd (Nat.gcd x y) b = g at hg hg2 hh
  have z0 : ¬ nI g = 0 := nI_ne0 hg hg2
  have z1 : ¬ nI g ≤ 0 := nI_nle hg hg2
  refine br_f z1 (And.intro z0 (br_f z1 (And.intro z0 (br_f z1 (And.intro z0 (nm_e ?_))))))
  rw [pk_div hx hg hg2, pk_div hy hg hg2, pk_div hb hg hg2]
  exact hh
end
end
section
/-! has, isPoint, compareTo, isAt -/
section
variable {f_present f_events f_now f_active f_freshCount f_pointX f_pointY f_pointBottom f_edges : Int32} {a_fromX a_fromY a_toX a_toY a_eventX a_eventY a_eventBottom a_eventSet a_order a_fresh a_edgeFrom a_edgeTo a_edgeSegment a_gone a_groupOf : Nat → Int32}
theorem xs_has_f {post : Int32 → Prop} {pr : Nat → Prop} {k : Nat} (h : xb f_present pr) (hk : k < 10) (n : ¬ pr k) (hp : post 0) : wpX_has post (f_present, f_events, f_now, f_active, f_freshCount, f_pointX, f_pointY, f_pointBottom, f_edges, a_fromX, a_fromY, a_toX, a_toY, a_eventX, a_eventY, a_eventBottom, a_eventSet, a_order, a_fresh, a_edgeFrom, a_edgeTo, a_edgeSegment, a_gone, a_groupOf) (nI k) := by
  refine br_f (nI_pos (by omega)) (br_f (nI_ge (b := 10) hk (by decide)) (br_t ?_ hp))
  exact xb_f h hk n
theorem xs_has_t {post : Int32 → Prop} {pr : Nat → Prop} {k : Nat} (h : xb f_present pr) (hk : k < 10) (n : pr k) (hp : post 1) : wpX_has post (f_present, f_events, f_now, f_active, f_freshCount, f_pointX, f_pointY, f_pointBottom, f_edges, a_fromX, a_fromY, a_toX, a_toY, a_eventX, a_eventY, a_eventBottom, a_eventSet, a_order, a_fresh, a_edgeFrom, a_edgeTo, a_edgeSegment, a_gone, a_groupOf) (nI k) := by
  refine br_f (nI_pos (by omega)) (br_f (nI_ge (b := 10) hk (by decide)) (br_f ?_ hp))
  rw [xb_t h hk n]; decide
theorem xs_has_c {post : Int32 → Prop} {pr : Nat → Prop} {k : Nat} (h : xb f_present pr) (hk : k < 10) (h0 : ¬ pr k → post 0) (h1 : pr k → post 1) : wpX_has post (f_present, f_events, f_now, f_active, f_freshCount, f_pointX, f_pointY, f_pointBottom, f_edges, a_fromX, a_fromY, a_toX, a_toY, a_eventX, a_eventY, a_eventBottom, a_eventSet, a_order, a_fresh, a_edgeFrom, a_edgeTo, a_edgeSegment, a_gone, a_groupOf) (nI k) := by
  by_cases p : pr k
  · exact xs_has_t h hk p (h1 p)
  · exact xs_has_f h hk p (h0 p)
/-- any argument: out of range, or a number below ten -/
theorem xs_has_any {post : Int32 → Prop} {pr : Nat → Prop} (x : Int32) (h : xb f_present pr) (h0 : (∀ k, k < 10 → x = nI k → ¬ pr k) → post 0) (h1 : ∀ k, k < 10 → x = nI k → pr k → post 1) : wpX_has post (f_present, f_events, f_now, f_active, f_freshCount, f_pointX, f_pointY, f_pointBottom, f_edges, a_fromX, a_fromY, a_toX, a_toY, a_eventX, a_eventY, a_eventBottom, a_eventSet, a_order, a_fresh, a_edgeFrom, a_edgeTo, a_edgeSegment, a_gone, a_groupOf) x := by
  rcases pk_ix x (n := 10) (by omega) with c | c | ⟨k, hk, rfl⟩
  · refine br_t c (h0 ?_)
    rintro k hk rfl
    exact absurd c (nI_pos (by omega))
  · refine br_c (fun _ => h0 ?_) (fun _ => br_t c (h0 ?_))
    · rintro k hk rfl
      exact absurd c (nI_ge (b := 10) hk (by decide))
    · rintro k hk rfl
      exact absurd c (nI_ge (b := 10) hk (by decide))
  · refine xs_has_c h hk (fun p => h0 ?_) (fun p => h1 k hk rfl p)
    intro j hj e
    rw [← (nI_eq (by omega) (by omega)).mp e]
    exact p
/-- a number that is a point -/
def xp_is (n : Nat) : Prop := n % 32 < 21 ∧ n / 32 < 21
theorem xs_isPoint {post : Int32 → Prop} (x : Int32) (h0 : (∀ n : Nat, n < 2 ^ 31 → x = nI n → ¬ xp_is n) → post 0) (h1 : ∀ n : Nat, n < 2 ^ 31 → x = nI n → xp_is n → post 1) : wpX_isPoint post x := by
  by_cases c : x < 0
  · refine br_t c (h0 ?_)
    rintro n hn rfl
    exact absurd c (nI_pos hn)
  · obtain ⟨n, hn, rfl⟩ := nI_of c
    refine br_f c (And.intro (by decide) ?_)
    have e1 : nI n - nI n / 32 * 32 = nI (n % 32) := pk_rem (d := 32) hn (by omega) (by omega)
    have e2 : nI n / 32 = nI (n / 32) := pk_div (d := 32) hn (by omega) (by omega)
    rw [e1, e2]
    have no : ¬ xp_is n → ∀ m : Nat, m < 2 ^ 31 → nI n = nI m → ¬ xp_is m := by
      intro z m hm e
      rw [← (nI_eq hn hm).mp e]; exact z
    have l1 : n % 32 < 32 := Nat.mod_lt _ (by omega)
    refine pk_le 21 (n % 32) (fun h => h0 (no (fun z => by have := z.1; omega))) (fun h => And.intro (by decide) ?_)
    refine pk_le 21 (n / 32) (fun h' => h0 (no (fun z => by have := z.2; omega))) (fun h' => h1 n hn rfl ⟨h, h'⟩) rfl rfl (by omega) (by omega)
theorem ys_isPoint {post : Int32 → Prop} {v : SY} (x : Int32) (h0 : (∀ n : Nat, n < 2 ^ 31 → x = nI n → ¬ xp_is n) → post 0) (h1 : ∀ n : Nat, n < 2 ^ 31 → x = nI n → xp_is n → post 1) : wpY_isPoint post v x := by
  by_cases c : x < 0
  · refine br_t c (h0 ?_)
    rintro n hn rfl
    exact absurd c (nI_pos hn)
  · obtain ⟨n, hn, rfl⟩ := nI_of c
    refine br_f c (And.intro (by decide) ?_)
    have e1 : nI n - nI n / 32 * 32 = nI (n % 32) := pk_rem (d := 32) hn (by omega) (by omega)
    have e2 : nI n / 32 = nI (n / 32) := pk_div (d := 32) hn (by omega) (by omega)
    rw [e1, e2]
    have no : ¬ xp_is n → ∀ m : Nat, m < 2 ^ 31 → nI n = nI m → ¬ xp_is m := by
      intro z m hm e
      rw [← (nI_eq hn hm).mp e]; exact z
    have l1 : n % 32 < 32 := Nat.mod_lt _ (by omega)
    refine pk_lt 20 (n % 32) (fun h => h0 (no (fun z => by have := z.1; omega))) (fun h => And.intro (by decide) ?_)
    refine pk_lt 20 (n / 32) (fun h' => h0 (no (fun z => by have := z.2; omega))) (fun h' => h1 n hn rfl ⟨by omega, by omega⟩) rfl rfl (by omega) (by omega)
/-- the events' arrays hold a list of triples -/
abbrev xe_T : Type := Int × Int × Int
def xe_t (t : xe_T) : Prop := ge_tI t.1 t.2.1 t.2.2
def xe_A (E : List xe_T) (eX eY eB : Nat → Int32) : Prop := ∀ i t, E[i]? = some t → eX i = zI t.1 ∧ eY i = zI t.2.1 ∧ eB i = zI t.2.2
def xe_c (t s : xe_T) : Int := if t.1 * s.2.2 - s.1 * t.2.2 = 0 then t.2.1 * s.2.2 - s.2.1 * t.2.2 else t.1 * s.2.2 - s.1 * t.2.2
theorem xe_cb {t s : xe_T} (ht : xe_t t) (hs : xe_t s) : zB (t.1 * s.2.2 - s.1 * t.2.2) ∧ zB (t.2.1 * s.2.2 - s.2.1 * t.2.2) := by
  obtain ⟨t1, t2, t3, t4, t5, t6⟩ := ht
  obtain ⟨s1, s2, s3, s4, s5, s6⟩ := hs
  have a1 := zb_mul (x := t.1) (y := s.2.2) (A := 16000) (B := 800) (by omega) (by omega) (by omega) (by omega)
  have a2 := zb_mul (x := s.1) (y := t.2.2) (A := 16000) (B := 800) (by omega) (by omega) (by omega) (by omega)
  have a3 := zb_mul (x := t.2.1) (y := s.2.2) (A := 16000) (B := 800) (by omega) (by omega) (by omega) (by omega)
  have a4 := zb_mul (x := s.2.1) (y := t.2.2) (A := 16000) (B := 800) (by omega) (by omega) (by omega) (by omega)
  exact ⟨⟨by omega, by omega⟩, ⟨by omega, by omega⟩⟩
theorem xe_cB {t s : xe_T} (ht : xe_t t) (hs : xe_t s) : zB (xe_c t s) := by
  obtain ⟨a, b⟩ := xe_cb ht hs
  unfold xe_c
  split
  · exact b
  · exact a
theorem xs_compareTo {post : Int32 → Prop} {E : List xe_T} {i : Nat} {t s : xe_T} (hE : xe_A E a_eventX a_eventY a_eventBottom) (hi : E[i]? = some s) (hl : i < 66) (ht : xe_t t) (hs : xe_t s) (hp : post (zI (xe_c t s))) :
    wpX_compareTo post (f_present, f_events, f_now, f_active, f_freshCount, zI t.1, zI t.2.1, zI t.2.2, f_edges, a_fromX, a_fromY, a_toX, a_toY, a_eventX, a_eventY, a_eventBottom, a_eventSet, a_order, a_fresh, a_edgeFrom, a_edgeTo, a_edgeSegment, a_gone, a_groupOf) (nI i) := by
  obtain ⟨e1, e2, e3⟩ := hE i s hi
  have v : vp_in (nI i) 66 := vp_in_nI hl (by omega)
  obtain ⟨b1, b2⟩ := xe_cb ht hs
  refine And.intro v (And.intro v (nm_e (And.intro v (And.intro v (nm_e ?_)))))
  rw [nI_clamp (by omega), e1, e2, e3]
  simp only [zI_mul, zI_sub]
  unfold xe_c at hp
  refine ek_if (zI_eq (b := 0) b1 ⟨by omega, by omega⟩) (fun h => ?_) (fun h => ?_)
  · rw [if_pos h] at hp; exact hp
  · rw [if_neg h] at hp; exact hp
theorem xs_isAt {post : Int32 → Prop} {X Y B x y : Int} (t : ge_tI X Y B) (hx : 0 ≤ x) (hx2 : x ≤ 20) (hy : 0 ≤ y) (hy2 : y ≤ 20) (h1 : X = x * B → Y = y * B → post 1) (h0 : ¬ (X = x * B ∧ Y = y * B) → post 0) :
    wpX_isAt post (f_present, f_events, f_now, f_active, f_freshCount, zI X, zI Y, zI B, f_edges, a_fromX, a_fromY, a_toX, a_toY, a_eventX, a_eventY, a_eventBottom, a_eventSet, a_order, a_fresh, a_edgeFrom, a_edgeTo, a_edgeSegment, a_gone, a_groupOf) (zI x) (zI y) := by
  obtain ⟨t1, t2, t3, t4, t5, t6⟩ := t
  have a1 := zb_mul (x := x) (y := B) (A := 20) (B := 800) (by omega) (by omega) (by omega) (by omega)
  have a2 := zb_mul (x := y) (y := B) (A := 20) (B := 800) (by omega) (by omega) (by omega) (by omega)
  unfold wpX_isAt
  dsimp only
  rw [zI_mul, zI_mul]
  refine ek_if (zI_eq ⟨by omega, by omega⟩ ⟨by omega, by omega⟩) (fun h => ?_) (fun h => h0 (fun z => h z.1))
  exact ek_if (zI_eq ⟨by omega, by omega⟩ ⟨by omega, by omega⟩) (fun h' => h1 h h') (fun h' => h0 (fun z => h' z.2))
end
end
section
/-! enterEvent -/
def xe_Sh {α : Type} (a a' : Nat → α) (e n : Nat) : Prop := ∀ i, (i ≤ e → a' i = a i) ∧ (e < i → i ≤ n → a' i = a (i - 1))
theorem xe_Sh0 {α : Type} (a : Nat → α) (n : Nat) : xe_Sh a a n n := fun i => ⟨fun _ => rfl, fun h h' => by omega⟩
theorem xe_Sh1 {a a' : Nat → Int32} {e n : Nat} (h : xe_Sh a a' (e + 1) n) : xe_Sh a (upd a' (e + 1) (a' e)) e n := by
  intro i
  constructor
  · intro hi
    rw [pk_un (by omega)]
    exact (h i).1 (by omega)
  · intro hi hn
    by_cases c : i = e + 1
    · subst c
      rw [pk_us]
      exact (h e).1 (by omega)
    · rw [pk_un c]
      exact (h i).2 (by omega) hn
/-- what the writing at the place gives -/
theorem xe_ins {α : Type} {E1 E2 : List α} {t : α} {i : Nat} {s : α} (h : (E1 ++ t :: E2)[i]? = some s) : (i < E1.length ∧ (E1 ++ E2)[i]? = some s) ∨ (i = E1.length ∧ s = t) ∨ (E1.length < i ∧ (E1 ++ E2)[i - 1]? = some s) := by
  by_cases c : i < E1.length
  · left
    rw [List.getElem?_append_left c] at h
    exact ⟨c, by rw [List.getElem?_append_left c]; exact h⟩
  · right
    rw [List.getElem?_append_right (by omega)] at h
    by_cases d : i = E1.length
    · left
      subst d
      rw [Nat.sub_self] at h
      exact ⟨rfl, by simpa using h.symm⟩
    · right
      refine ⟨by omega, ?_⟩
      rw [List.getElem?_append_right (by omega)]
      obtain ⟨m, hm⟩ : ∃ m, i - E1.length = m + 1 := ⟨i - E1.length - 1, by omega⟩
      rw [hm, List.getElem?_cons_succ] at h
      have : i - 1 - E1.length = m := by omega
      rw [this]; exact h
theorem xe_len {α : Type} {E : List α} {i : Nat} {s : α} (h : E[i]? = some s) : i < E.length := by
  by_cases c : i < E.length
  · exact c
  · rw [List.getElem?_eq_none (by omega)] at h
    exact absurd h (by simp)
theorem xe_Ai {E1 E2 : List xe_T} {t : xe_T} {eX eY eB eX' eY' eB' : Nat → Int32} (hE : xe_A (E1 ++ E2) eX eY eB) (h1 : xe_Sh eX eX' E1.length (E1 ++ E2).length) (h2 : xe_Sh eY eY' E1.length (E1 ++ E2).length) (h3 : xe_Sh eB eB' E1.length (E1 ++ E2).length) :
    xe_A (E1 ++ t :: E2) (upd eX' E1.length (zI t.1)) (upd eY' E1.length (zI t.2.1)) (upd eB' E1.length (zI t.2.2)) := by
  intro i s h
  rcases xe_ins h with ⟨c, k⟩ | ⟨c, k⟩ | ⟨c, k⟩
  · obtain ⟨a1, a2, a3⟩ := hE i s k
    rw [pk_un (by omega), pk_un (by omega), pk_un (by omega), (h1 i).1 (by omega), (h2 i).1 (by omega), (h3 i).1 (by omega)]
    exact ⟨a1, a2, a3⟩
  · subst c; subst k
    rw [pk_us, pk_us, pk_us]
    exact ⟨rfl, rfl, rfl⟩
  · obtain ⟨a1, a2, a3⟩ := hE (i - 1) s k
    have := xe_len k
    rw [pk_un (by omega), pk_un (by omega), pk_un (by omega), (h1 i).2 c (by omega), (h2 i).2 c (by omega), (h3 i).2 c (by omega)]
    exact ⟨a1, a2, a3⟩
section
variable {f_present f_events f_now f_active f_freshCount f_pointX f_pointY f_pointBottom f_edges : Int32} {a_fromX a_fromY a_toX a_toY a_eventX a_eventY a_eventBottom a_eventSet a_order a_fresh a_edgeFrom a_edgeTo a_edgeSegment a_gone a_groupOf : Nat → Int32}
theorem xs_enter45 {post : SX → Prop} {E1 E2 : List xe_T} {t : xe_T} (hl : (E1 ++ E2).length < 66) (hf : f_events = nI (E1 ++ E2).length)
    (h : ∀ eX' eY' eB' eS', xe_A (E1 ++ t :: E2) eX' eY' eB' → (∀ i, i < E1.length → eS' i = a_eventSet i) → post (f_present, nI ((E1 ++ E2).length + 1), f_now, f_active, f_freshCount, zI t.1, zI t.2.1, zI t.2.2, f_edges, a_fromX, a_fromY, a_toX, a_toY, eX', eY', eB', eS', a_order, a_fresh, a_edgeFrom, a_edgeTo, a_edgeSegment, a_gone, a_groupOf))
    (hE : xe_A (E1 ++ E2) a_eventX a_eventY a_eventBottom) :
    ∀ (n e : Nat), e < n → E1.length ≤ e → e ≤ (E1 ++ E2).length → ∀ eX eY eB eS : Nat → Int32, xe_Sh a_eventX eX e (E1 ++ E2).length → xe_Sh a_eventY eY e (E1 ++ E2).length → xe_Sh a_eventBottom eB e (E1 ++ E2).length → xe_Sh a_eventSet eS e (E1 ++ E2).length →
      wX_enterEvent_45 post (nI E1.length) f_present f_events f_now f_active f_freshCount (zI t.1) (zI t.2.1) (zI t.2.2) f_edges n (nI e) a_fromX a_fromY a_toX a_toY eX eY eB eS a_order a_fresh a_edgeFrom a_edgeTo a_edgeSegment a_gone a_groupOf := by
  intro n
  induction n with
  | zero => intro e he; omega
  | succ n ih =>
    intro e he h1 h2 eX eY eB eS s1 s2 s3 s4
    have l1 : E1.length < 66 := by omega
    refine pk_le e E1.length (fun hle => ?_) (fun hlt => ?_) rfl rfl (by omega) (by omega)
    · have ee : e = E1.length := by omega
      subst ee
      have v : vp_in (nI E1.length) 66 := vp_in_nI l1 (by omega)
      refine And.intro v (nm_e (And.intro v (nm_e (And.intro v (nm_e (And.intro v (nm_e ?_)))))))
      refine nm_r (e' := nI ((E1 ++ E2).length + 1)) (by rw [hf, nI_1]) ?_
      rw [nI_clamp (by omega)]
      refine h _ _ _ _ (xe_Ai hE s1 s2 s3) ?_
      intro i hi
      rw [pk_un (by omega)]
      exact (s4 i).1 (by omega)
    · obtain ⟨m, rfl⟩ : ∃ m, e = m + 1 := ⟨e - 1, by omega⟩
      have v0 : vp_in (nI (m + 1) - 1) 66 := by rw [nI_pred]; exact vp_in_nI (by omega) (by omega)
      have v1 : vp_in (nI (m + 1)) 66 := vp_in_nI (by omega) (by omega)
      refine And.intro v0 (And.intro v1 (nm_e (And.intro v0 (And.intro v1 (nm_e (And.intro v0 (And.intro v1 (nm_e (And.intro v0 (And.intro v1 (nm_e ?_)))))))))))
      refine nm_r (pk_m1 m) ?_
      rw [nI_pred, nI_clamp (by omega), nI_clamp (by omega)]
      exact ih m (by omega) (by omega) (by omega) _ _ _ _ (xe_Sh1 s1) (xe_Sh1 s2) (xe_Sh1 s3) (xe_Sh1 s4)
theorem xs_enter5 {post : SX → Prop} {E1 E2 : List xe_T} {t : xe_T} (hl : (E1 ++ E2).length ≤ 66) (hE : xe_A (E1 ++ E2) a_eventX a_eventY a_eventBottom) (ht : xe_t t) (hg : ∀ s, s ∈ E1 ++ E2 → xe_t s)
    (h2 : ∀ s, s ∈ E2 → xe_c t s < 0) (h1 : ∀ D s, E1 = D ++ [s] → 0 ≤ xe_c t s)
    (h : wX_enterEvent_25 post (nI E1.length) f_present f_events f_now f_active f_freshCount (zI t.1) (zI t.2.1) (zI t.2.2) f_edges a_fromX a_fromY a_toX a_toY a_eventX a_eventY a_eventBottom a_eventSet a_order a_fresh a_edgeFrom a_edgeTo a_edgeSegment a_gone a_groupOf) :
    ∀ (n e : Nat), e < n → E1.length ≤ e → e ≤ (E1 ++ E2).length → wX_enterEvent_5 post f_present f_events f_now f_active f_freshCount (zI t.1) (zI t.2.1) (zI t.2.2) f_edges a_fromX a_fromY a_toX a_toY a_eventX a_eventY a_eventBottom a_eventSet a_order a_fresh a_edgeFrom a_edgeTo a_edgeSegment a_gone a_groupOf n (nI e) := by
  intro n
  induction n with
  | zero => intro e he; omega
  | succ n ih =>
    intro e he g1 g2
    refine pk_le e 0 (fun hle => ?_) (fun hlt => ?_) rfl rfl (by omega) (by omega)
    · have : e = E1.length := by omega
      rw [this]; exact h
    · obtain ⟨m, rfl⟩ : ∃ m, e = m + 1 := ⟨e - 1, by omega⟩
      rw [nI_pred]
      obtain ⟨s, hs⟩ : ∃ s, (E1 ++ E2)[m]? = some s := ⟨_, List.getElem?_eq_getElem (by omega)⟩
      have hm : s ∈ E1 ++ E2 := List.mem_of_getElem? hs
      refine xs_compareTo hE hs (by omega) ht (hg s hm) ?_
      refine ek_if (zI_le (a := 0) ⟨by omega, by omega⟩ (xe_cB ht (hg s hm))) (fun hc => ?_) (fun hc => ?_)
      · have : m + 1 = E1.length := by
          by_cases c : m + 1 = E1.length
          · exact c
          · exfalso
            rw [List.getElem?_append_right (by omega)] at hs
            have := h2 s (List.mem_of_getElem? hs)
            omega
        rw [this]; exact h
      · refine nm_r (pk_m1 m) (ih m (by omega) ?_ (by omega))
        by_cases c : m + 1 = E1.length
        · exfalso
          rcases List.eq_nil_or_concat E1 with e0 | ⟨D, s', e0⟩
          · rw [e0] at c; simp at c
          · rw [List.concat_eq_append] at e0
            have : s = s' := by
              rw [List.getElem?_append_left (by omega), e0] at hs
              have hm : m = D.length := by rw [e0] at c; simp at c; omega
              rw [hm, List.getElem?_append_right (by omega), Nat.sub_self] at hs
              simpa using hs.symm
            have := h1 D s' e0
            rw [← ‹s = s'›] at this
            omega
        · omega
theorem xs_enter_no {post : SX → Prop} {D E2 : List xe_T} {t s0 : xe_T} (hf : f_events = nI (D ++ [s0] ++ E2).length) (hl : (D ++ [s0] ++ E2).length ≤ 66) (hE : xe_A (D ++ [s0] ++ E2) a_eventX a_eventY a_eventBottom) (ht : xe_t t) (hg : ∀ s, s ∈ D ++ [s0] ++ E2 → xe_t s)
    (h2 : ∀ s, s ∈ E2 → xe_c t s < 0) (h1 : xe_c t s0 = 0)
    (h : post (f_present, f_events, f_now, f_active, f_freshCount, zI t.1, zI t.2.1, zI t.2.2, f_edges, a_fromX, a_fromY, a_toX, a_toY, a_eventX, a_eventY, a_eventBottom, a_eventSet, a_order, a_fresh, a_edgeFrom, a_edgeTo, a_edgeSegment, a_gone, a_groupOf)) : wpX_enterEvent post (f_present, f_events, f_now, f_active, f_freshCount, zI t.1, zI t.2.1, zI t.2.2, f_edges, a_fromX, a_fromY, a_toX, a_toY, a_eventX, a_eventY, a_eventBottom, a_eventSet, a_order, a_fresh, a_edgeFrom, a_edgeTo, a_edgeSegment, a_gone, a_groupOf) := by
  refine ⟨(D ++ [s0] ++ E2).length + 1, ?_⟩
  rw [show f_events = nI (D ++ [s0] ++ E2).length from hf]
  refine xs_enter5 (E1 := D ++ [s0]) hl hE ht hg h2 ?_ ?_ _ _ (by omega) (by simp) (by omega)
  · intro D' s' e
    have := List.append_inj_right' e rfl
    injection this with e1
    rw [← e1, h1]; omega
  · have hlen : (D ++ [s0]).length = D.length + 1 := by simp
    rw [hlen]
    refine br_f (nI_nle (by omega) (by simp at hl; omega)) ?_
    rw [nI_pred]
    have hi : (D ++ [s0] ++ E2)[D.length]? = some s0 := by simp
    refine xs_compareTo hE hi (by simp at hl; omega) ht (hg s0 (by simp)) (br_t ?_ ?_)
    · rw [h1]; rfl
    · rw [← hf]; exact h
theorem xs_enter_new {post : SX → Prop} {E1 E2 : List xe_T} {t : xe_T} (hf : f_events = nI (E1 ++ E2).length) (hl : (E1 ++ E2).length < 66) (hE : xe_A (E1 ++ E2) a_eventX a_eventY a_eventBottom) (ht : xe_t t) (hg : ∀ s, s ∈ E1 ++ E2 → xe_t s)
    (h2 : ∀ s, s ∈ E2 → xe_c t s < 0) (h1 : ∀ D s, E1 = D ++ [s] → 0 < xe_c t s)
    (h : ∀ eX' eY' eB' eS', xe_A (E1 ++ t :: E2) eX' eY' eB' → (∀ i, i < E1.length → eS' i = a_eventSet i) → post (f_present, nI ((E1 ++ E2).length + 1), f_now, f_active, f_freshCount, zI t.1, zI t.2.1, zI t.2.2, f_edges, a_fromX, a_fromY, a_toX, a_toY, eX', eY', eB', eS', a_order, a_fresh, a_edgeFrom, a_edgeTo, a_edgeSegment, a_gone, a_groupOf)) :
    wpX_enterEvent post (f_present, f_events, f_now, f_active, f_freshCount, zI t.1, zI t.2.1, zI t.2.2, f_edges, a_fromX, a_fromY, a_toX, a_toY, a_eventX, a_eventY, a_eventBottom, a_eventSet, a_order, a_fresh, a_edgeFrom, a_edgeTo, a_edgeSegment, a_gone, a_groupOf) := by
  have fin : ∃ n, wX_enterEvent_45 post (nI E1.length) f_present f_events f_now f_active f_freshCount (zI t.1) (zI t.2.1) (zI t.2.2) f_edges n f_events a_fromX a_fromY a_toX a_toY a_eventX a_eventY a_eventBottom a_eventSet a_order a_fresh a_edgeFrom a_edgeTo a_edgeSegment a_gone a_groupOf :=
    ⟨(E1 ++ E2).length + 1, by
      have := xs_enter45 (t := t) hl hf h hE ((E1 ++ E2).length + 1) (E1 ++ E2).length (by omega) (by simp) (by omega) _ _ _ _ (xe_Sh0 a_eventX _) (xe_Sh0 a_eventY _) (xe_Sh0 a_eventBottom _) (xe_Sh0 a_eventSet _)
      rw [← hf] at this
      exact this⟩
  refine ⟨(E1 ++ E2).length + 1, ?_⟩
  have := xs_enter5 (post := post) (f_present := f_present) (f_events := f_events) (f_now := f_now) (f_active := f_active) (f_freshCount := f_freshCount) (f_edges := f_edges) (a_fromX := a_fromX) (a_fromY := a_fromY) (a_toX := a_toX) (a_toY := a_toY) (a_eventSet := a_eventSet) (a_order := a_order) (a_fresh := a_fresh) (a_edgeFrom := a_edgeFrom) (a_edgeTo := a_edgeTo) (a_edgeSegment := a_edgeSegment) (a_gone := a_gone) (a_groupOf := a_groupOf) (E1 := E1) (E2 := E2) (t := t) (by omega) hE ht hg h2 (fun D s e => by have := h1 D s e; omega) ?_ ((E1 ++ E2).length + 1) (E1 ++ E2).length (by omega) (by simp) (by omega)
  · rw [← hf] at this
    exact this
  · rcases List.eq_nil_or_concat E1 with e0 | ⟨D, s', e0⟩
    · refine br_t ?_ fin
      rw [e0]; decide
    · rw [List.concat_eq_append] at e0
      have hlen : E1.length = D.length + 1 := by rw [e0]; simp
      have hlen2 : E1.length ≤ (E1 ++ E2).length := by simp
      refine br_f ?_ ?_
      · rw [hlen]; exact nI_nle (by omega) (by omega)
      · have hi : (E1 ++ E2)[D.length]? = some s' := by rw [e0]; simp
        have hp : nI E1.length - 1 = nI D.length := by rw [hlen, nI_pred]
        rw [hp]
        refine xs_compareTo hE hi (by omega) ht (hg s' (List.mem_of_getElem? hi)) (br_f ?_ fin)
        have := h1 D s' e0
        have b := xe_cB ht (hg s' (List.mem_of_getElem? hi))
        intro z
        have := (zI_eq (b := 0) b ⟨by omega, by omega⟩).mp z
        omega
end
end
section
/-! events as points -/
noncomputable def xe_P (t : xe_T) : ge_P := ((t.1 : Rat) / (t.2.2 : Rat), (t.2.1 : Rat) / (t.2.2 : Rat))
theorem xe_at {t : xe_T} (h : 1 ≤ t.2.2) : ge_at t.1 t.2.1 t.2.2 (xe_P t) := by
  have : (t.2.2 : Rat) ≠ 0 := Rat.ne_of_gt (ge_Bp h)
  exact ⟨Rat.div_mul_cancel this, Rat.div_mul_cancel this⟩
theorem xe_gp {t : xe_T} (h : xe_t t) : ge_gp (xe_P t) := ⟨_, _, _, h, xe_at h.1⟩
theorem xe_cp {t s : xe_T} (ht : xe_t t) (hs : xe_t s) : (xe_c t s < 0 ↔ ge_lt (xe_P t) (xe_P s)) ∧ (xe_c t s = 0 ↔ xe_P t = xe_P s) ∧ (0 < xe_c t s ↔ ge_lt (xe_P s) (xe_P t)) := by
  obtain ⟨x1, x2⟩ := ge_cross ht.1 hs.1 (xe_at ht.1).1 (xe_at hs.1).1
  obtain ⟨y1, y2⟩ := ge_cross ht.1 hs.1 (xe_at ht.1).2 (xe_at hs.1).2
  obtain ⟨x3, _⟩ := ge_cross hs.1 ht.1 (xe_at hs.1).1 (xe_at ht.1).1
  obtain ⟨y3, _⟩ := ge_cross hs.1 ht.1 (xe_at hs.1).2 (xe_at ht.1).2
  have ee : xe_P t = xe_P s ↔ (xe_P t).1 = (xe_P s).1 ∧ (xe_P t).2 = (xe_P s).2 := ⟨fun h => by rw [h]; exact ⟨rfl, rfl⟩, fun h => Prod.ext h.1 h.2⟩
  have e3 : (xe_P s).1 = (xe_P t).1 ↔ t.1 * s.2.2 = s.1 * t.2.2 := ⟨fun h => x2.mp h.symm, fun h => (x2.mpr h).symm⟩
  unfold ge_lt
  rw [ee, x1, x2, x3, y1, y2, y3, e3]
  unfold xe_c
  split
  · next h => refine ⟨?_, ?_, ?_⟩ <;> omega
  · next h => refine ⟨?_, ?_, ?_⟩ <;> omega
theorem xe_cut (p : ge_P) : ∀ (E : List xe_T), (E.map xe_P).Pairwise ge_lt → (∃ D s E2, E = D ++ [s] ++ E2 ∧ xe_P s = p ∧ ∀ r, r ∈ E2 → ge_lt p (xe_P r)) ∨ (∃ E1 E2, E = E1 ++ E2 ∧ (∀ r, r ∈ E1 → ge_lt (xe_P r) p) ∧ ∀ r, r ∈ E2 → ge_lt p (xe_P r)) := by
  intro E
  induction E with
  | nil => exact fun _ => Or.inr ⟨[], [], rfl, fun r hr => absurd hr (by simp), fun r hr => absurd hr (by simp)⟩
  | cons a E ih =>
    intro h
    rw [List.map_cons] at h
    obtain ⟨h1, h2⟩ := List.pairwise_cons.mp h
    have h1' : ∀ r, r ∈ E → ge_lt (xe_P a) (xe_P r) := fun r hr => h1 _ (List.mem_map.mpr ⟨r, hr, rfl⟩)
    rcases ge_lt_tri (xe_P a) p with c | c | c
    · rcases ih h2 with ⟨D, s, E2, e, hs, h3⟩ | ⟨E1, E2, e, h3, h4⟩
      · exact Or.inl ⟨a :: D, s, E2, by rw [e]; rfl, hs, h3⟩
      · refine Or.inr ⟨a :: E1, E2, by rw [e]; rfl, ?_, h4⟩
        intro r hr
        rcases List.mem_cons.mp hr with rfl | hr
        · exact c
        · exact h3 r hr
    · exact Or.inl ⟨[], a, E, rfl, c, fun r hr => c ▸ h1' r hr⟩
    · refine Or.inr ⟨[], a :: E, rfl, fun r hr => absurd hr (by simp), ?_⟩
      intro r hr
      rcases List.mem_cons.mp hr with rfl | hr
      · exact c
      · exact ge_lt_tr c (h1' r hr)
section
variable {f_present f_events f_now f_active f_freshCount f_pointX f_pointY f_pointBottom f_edges : Int32} {a_fromX a_fromY a_toX a_toY a_eventX a_eventY a_eventBottom a_eventSet a_order a_fresh a_edgeFrom a_edgeTo a_edgeSegment a_gone a_groupOf : Nat → Int32}
theorem xs_enter {post : SX → Prop} {E : List xe_T} {t : xe_T} (hf : f_events = nI E.length) (hl : E.length ≤ 66) (hE : xe_A E a_eventX a_eventY a_eventBottom) (ht : xe_t t) (hg : ∀ s, s ∈ E → xe_t s) (hs : (E.map xe_P).Pairwise ge_lt)
    (hn : xe_P t ∉ E.map xe_P → E.length < 66)
    (h0 : xe_P t ∈ E.map xe_P → post (f_present, f_events, f_now, f_active, f_freshCount, zI t.1, zI t.2.1, zI t.2.2, f_edges, a_fromX, a_fromY, a_toX, a_toY, a_eventX, a_eventY, a_eventBottom, a_eventSet, a_order, a_fresh, a_edgeFrom, a_edgeTo, a_edgeSegment, a_gone, a_groupOf))
    (h1 : ∀ E1 E2 eX' eY' eB' eS', E = E1 ++ E2 → (∀ r, r ∈ E1 → ge_lt (xe_P r) (xe_P t)) → (∀ r, r ∈ E2 → ge_lt (xe_P t) (xe_P r)) → xe_A (E1 ++ t :: E2) eX' eY' eB' → (∀ i, i < E1.length → eS' i = a_eventSet i) → post (f_present, nI ((E1 ++ E2).length + 1), f_now, f_active, f_freshCount, zI t.1, zI t.2.1, zI t.2.2, f_edges, a_fromX, a_fromY, a_toX, a_toY, eX', eY', eB', eS', a_order, a_fresh, a_edgeFrom, a_edgeTo, a_edgeSegment, a_gone, a_groupOf)) :
    wpX_enterEvent post (f_present, f_events, f_now, f_active, f_freshCount, zI t.1, zI t.2.1, zI t.2.2, f_edges, a_fromX, a_fromY, a_toX, a_toY, a_eventX, a_eventY, a_eventBottom, a_eventSet, a_order, a_fresh, a_edgeFrom, a_edgeTo, a_edgeSegment, a_gone, a_groupOf) := by
  rcases xe_cut (xe_P t) E hs with ⟨D, s, E2, e, h3, h4⟩ | ⟨E1, E2, e, h3, h4⟩
  · subst e
    have ms : s ∈ D ++ [s] ++ E2 := by simp
    refine xs_enter_no hf hl hE ht hg (fun r hr => (xe_cp ht (hg r (List.mem_append_right _ hr))).1.mpr (h4 r hr)) ((xe_cp ht (hg s ms)).2.1.mpr h3.symm) (h0 ?_)
    exact List.mem_map.mpr ⟨s, ms, h3⟩
  · subst e
    have hin : xe_P t ∉ (E1 ++ E2).map xe_P := by
      intro z
      obtain ⟨r, hr, e⟩ := List.mem_map.mp z
      rcases List.mem_append.mp hr with hr | hr
      · have := h3 r hr; rw [e] at this; exact ge_lt_ir this
      · have := h4 r hr; rw [e] at this; exact ge_lt_ir this
    refine xs_enter_new hf (hn hin) hE ht hg (fun r hr => (xe_cp ht (hg r (List.mem_append_right _ hr))).1.mpr (h4 r hr)) ?_ (fun _ _ _ _ a b => h1 E1 E2 _ _ _ _ rfl h3 h4 a b)
    intro D s e
    have ms : s ∈ E1 := by rw [e]; simp
    exact (xe_cp ht (hg s (List.mem_append_left _ ms))).2.2.mpr (h3 s ms)
end
end
section
/-! setPoint on triples, entering a point, the ends -/
def xv (pr : Nat → Prop) (g : Nat → ge_S) (E : List xe_T) (fe : Int32) (eX eY eB : Nat → Int32) : Prop :=
  fe = nI E.length ∧ xe_A E eX eY eB ∧ (∀ s, s ∈ E → xe_t s) ∧ (E.map xe_P).Pairwise ge_lt ∧ (∀ q, q ∈ E.map xe_P → sw_en pr g q ∨ sw_mt pr g q)
/-- the segments that the component holds -/
def xg (pr : Nat → Prop) (g : Nat → ge_S) (fp : Int32) (aX aY tX tY : Nat → Int32) : Prop := xb fp pr ∧ ∀ k, pr k → xk aX aY tX tY k (g k)
theorem xv_len {pr : Nat → Prop} {g : Nat → ge_S} (G : sw_G pr g) {E : List xe_T} {fe : Int32} {eX eY eB : Nat → Int32} (h : xv pr g E fe eX eY eB) : E.length ≤ 65 := by
  obtain ⟨h1, h2, h3, h4, h5⟩ := h
  have := sw_few G h4 h5
  rwa [List.length_map] at this
section
variable {f_present f_events f_now f_active f_freshCount f_pointX f_pointY f_pointBottom f_edges : Int32} {a_fromX a_fromY a_toX a_toY a_eventX a_eventY a_eventBottom a_eventSet a_order a_fresh a_edgeFrom a_edgeTo a_edgeSegment a_gone a_groupOf : Nat → Int32}
theorem xs_setPt {post : SX → Prop} {x y b : Int} (h : ge_tI x y b) (hp : ∀ t : xe_T, xe_t t → (∀ p, ge_at x y b p → xe_P t = p) → post (f_present, f_events, f_now, f_active, f_freshCount, zI t.1, zI t.2.1, zI t.2.2, f_edges, a_fromX, a_fromY, a_toX, a_toY, a_eventX, a_eventY, a_eventBottom, a_eventSet, a_order, a_fresh, a_edgeFrom, a_edgeTo, a_edgeSegment, a_gone, a_groupOf)) : wpX_setPoint post (f_present, f_events, f_now, f_active, f_freshCount, f_pointX, f_pointY, f_pointBottom, f_edges, a_fromX, a_fromY, a_toX, a_toY, a_eventX, a_eventY, a_eventBottom, a_eventSet, a_order, a_fresh, a_edgeFrom, a_edgeTo, a_edgeSegment, a_gone, a_groupOf) (zI x) (zI y) (zI b) := by
  obtain ⟨t1, t2, t3, t4, t5, t6⟩ := h
  obtain ⟨m, rfl⟩ := Int.eq_ofNat_of_zero_le t3
  obtain ⟨n, rfl⟩ := Int.eq_ofNat_of_zero_le t5
  obtain ⟨c, rfl⟩ := Int.eq_ofNat_of_zero_le (show 0 ≤ b by omega)
  rw [← zI_nI, ← zI_nI, ← zI_nI]
  refine xs_setPoint (by omega) (by omega) (by omega) (by omega) ?_
  intro x' y' b' k hk e1 e2 e3
  rw [zI_nI x', zI_nI y', zI_nI b']
  have hb : 1 ≤ b' := by
    rcases Nat.eq_zero_or_pos b' with z | z
    · rw [z, Nat.zero_mul] at e3; omega
    · exact z
  have hb2 : b' ≤ c := by rw [e3]; exact Nat.le_mul_of_pos_right b' hk
  have hx : x' ≤ 20 * b' := by
    have : x' * k ≤ (20 * b') * k := by rw [Nat.mul_assoc, ← e1, ← e3]; omega
    exact Nat.le_of_mul_le_mul_right this hk
  have hy : y' ≤ 20 * b' := by
    have : y' * k ≤ (20 * b') * k := by rw [Nat.mul_assoc, ← e2, ← e3]; omega
    exact Nat.le_of_mul_le_mul_right this hk
  refine hp ((x' : Int), (y' : Int), (b' : Int)) ⟨by show (1 : Int) ≤ (b' : Int); omega, by show (b' : Int) ≤ 800; omega, by show (0 : Int) ≤ (x' : Int); omega, by show (x' : Int) ≤ 20 * (b' : Int); omega, by show (0 : Int) ≤ (y' : Int); omega, by show (y' : Int) ≤ 20 * (b' : Int); omega⟩ ?_
  intro p hpt
  have h1 : (1 : Int) ≤ (b' : Int) := by omega
  refine ge_at_un h1 (xe_at (t := ((x' : Int), (y' : Int), (b' : Int))) h1) ?_
  have k1 : (0 : Rat) < ((k : Int) : Rat) := Rat.intCast_pos.mpr (by omega)
  have f1 : ((m : Int) : Rat) = ((x' : Int) : Rat) * ((k : Int) : Rat) := by rw [← Rat.intCast_mul, e1]; rfl
  have f2 : ((n : Int) : Rat) = ((y' : Int) : Rat) * ((k : Int) : Rat) := by rw [← Rat.intCast_mul, e2]; rfl
  have f3 : ((c : Int) : Rat) = ((b' : Int) : Rat) * ((k : Int) : Rat) := by rw [← Rat.intCast_mul, e3]; rfl
  obtain ⟨p1, p2⟩ := hpt
  have p1' : p.1 * ((c : Int) : Rat) = ((m : Int) : Rat) := p1
  have p2' : p.2 * ((c : Int) : Rat) = ((n : Int) : Rat) := p2
  rw [f3, f1] at p1'
  rw [f3, f2] at p2'
  constructor
  · have z : ((k : Int) : Rat) * (p.1 * ((b' : Int) : Rat) - ((x' : Int) : Rat)) = 0 := by grind
    have := rq_z k1 z
    show p.1 * ((b' : Int) : Rat) = ((x' : Int) : Rat)
    grind
  · have z : ((k : Int) : Rat) * (p.2 * ((b' : Int) : Rat) - ((y' : Int) : Rat)) = 0 := by grind
    have := rq_z k1 z
    show p.2 * ((b' : Int) : Rat) = ((y' : Int) : Rat)
    grind
theorem xs_enterP {pr : Nat → Prop} {g : Nat → ge_S} (G : sw_G pr g) {post : SX → Prop} {Dn Rs : List xe_T} {t : xe_T} (hv : xv pr g (Dn ++ Rs) f_events a_eventX a_eventY a_eventBottom) (ht : xe_t t) (hq : sw_en pr g (xe_P t) ∨ sw_mt pr g (xe_P t)) (hlt : ∀ r, r ∈ Dn → ge_lt (xe_P r) (xe_P t))
    (h : ∀ Rs' fe' eX' eY' eB' eS', xv pr g (Dn ++ Rs') fe' eX' eY' eB' → (∀ q, q ∈ Rs'.map xe_P ↔ q ∈ Rs.map xe_P ∨ q = xe_P t) → (∀ i, i < Dn.length → eS' i = a_eventSet i) → post (f_present, fe', f_now, f_active, f_freshCount, zI t.1, zI t.2.1, zI t.2.2, f_edges, a_fromX, a_fromY, a_toX, a_toY, eX', eY', eB', eS', a_order, a_fresh, a_edgeFrom, a_edgeTo, a_edgeSegment, a_gone, a_groupOf)) :
    wpX_enterEvent post (f_present, f_events, f_now, f_active, f_freshCount, zI t.1, zI t.2.1, zI t.2.2, f_edges, a_fromX, a_fromY, a_toX, a_toY, a_eventX, a_eventY, a_eventBottom, a_eventSet, a_order, a_fresh, a_edgeFrom, a_edgeTo, a_edgeSegment, a_gone, a_groupOf) := by
  have hlen := xv_len G hv
  obtain ⟨v1, v2, v3, v4, v5⟩ := id hv
  refine xs_enter (E := Dn ++ Rs) v1 (by omega) v2 ht v3 v4 (fun _ => by omega) ?_ ?_
  · intro hin
    refine h Rs _ _ _ _ _ hv ?_ (fun _ _ => rfl)
    intro q
    constructor
    · exact Or.inl
    · rintro (hq | rfl)
      · exact hq
      · rw [List.map_append] at hin
        rcases List.mem_append.mp hin with z | z
        · obtain ⟨r, hr, e⟩ := List.mem_map.mp z
          have := hlt r hr
          rw [e] at this
          exact absurd this ge_lt_ir
        · exact z
  · intro E1 E2 eX' eY' eB' eS' e h3 h4 hA hS
    obtain ⟨T, rfl, rfl⟩ : ∃ T, E1 = Dn ++ T ∧ Rs = T ++ E2 := by
      rcases List.append_eq_append_iff.mp e with ⟨T, a, b⟩ | ⟨T, a, b⟩
      · exact ⟨T, a, b⟩
      · cases T with
        | nil => exact ⟨[], by simpa using a.symm, by simpa using b.symm⟩
        | cons w T =>
          exfalso
          have m1 : w ∈ Dn := by rw [a]; simp
          have m2 : w ∈ E2 := by rw [b]; simp
          exact ge_lt_ir (ge_lt_tr (hlt w m1) (h4 w m2))
    refine h (T ++ t :: E2) _ _ _ _ _ ⟨?_, ?_, ?_, ?_, ?_⟩ ?_ ?_
    · exact congrArg nI (by simp; omega)
    · rw [← List.append_assoc]; exact hA
    · intro s hs
      by_cases c : s = t
      · rw [c]; exact ht
      · refine v3 s ?_
        simp only [List.mem_append, List.mem_cons] at hs ⊢
        rcases hs with hs | hs | hs | hs
        · exact Or.inl hs
        · exact Or.inr (Or.inl hs)
        · exact absurd hs c
        · exact Or.inr (Or.inr hs)
    · have v4' : ((Dn ++ T).map xe_P ++ E2.map xe_P).Pairwise ge_lt := by rw [← List.map_append, List.append_assoc]; exact v4
      obtain ⟨w1, w2, w3⟩ := List.pairwise_append.mp v4'
      have : ((Dn ++ T).map xe_P ++ (xe_P t :: E2.map xe_P)).Pairwise ge_lt := by
        refine List.pairwise_append.mpr ⟨w1, List.pairwise_cons.mpr ⟨?_, w2⟩, ?_⟩
        · intro q hq
          obtain ⟨r, hr, e⟩ := List.mem_map.mp hq
          rw [← e]; exact h4 r hr
        · intro a ha b hb
          rcases List.mem_cons.mp hb with rfl | hb
          · obtain ⟨r, hr, e⟩ := List.mem_map.mp ha
            rw [← e]; exact h3 r hr
          · exact w3 a ha b hb
      rw [← List.append_assoc, List.map_append, List.map_cons]
      exact this
    · intro q hq'
      rw [← List.append_assoc, List.map_append, List.map_cons] at hq'
      rcases List.mem_append.mp hq' with z | z
      · exact v5 q (by rw [← List.append_assoc, List.map_append]; exact List.mem_append_left _ z)
      · rcases List.mem_cons.mp z with z | z
        · rw [z]; exact hq
        · exact v5 q (by rw [← List.append_assoc, List.map_append]; exact List.mem_append_right _ z)
    · intro q
      rw [List.map_append, List.map_append, List.map_cons, List.mem_append, List.mem_append, List.mem_cons]
      constructor
      · rintro (z | z | z)
        · exact Or.inl (Or.inl z)
        · exact Or.inr z
        · exact Or.inl (Or.inr z)
      · rintro ((z | z) | z)
        · exact Or.inl z
        · exact Or.inr (Or.inr z)
        · exact Or.inr (Or.inl z)
    · intro i hi
      exact hS i (by simp; omega)
theorem xs_ends7 {pr : Nat → Prop} {g : Nat → ge_S} (G : sw_G pr g) {post : SX → Prop} (hg : xg pr g f_present a_fromX a_fromY a_toX a_toY)
    (h : ∀ E fe' px py pb eX' eY' eB' eS', xv pr g E fe' eX' eY' eB' → (∀ q, q ∈ E.map xe_P ↔ sw_en pr g q) → post (f_present, fe', f_now, f_active, f_freshCount, px, py, pb, f_edges, a_fromX, a_fromY, a_toX, a_toY, eX', eY', eB', eS', a_order, a_fresh, a_edgeFrom, a_edgeTo, a_edgeSegment, a_gone, a_groupOf)) :
    ∀ (n k : Nat), 10 - k < n → k ≤ 10 → ∀ (E : List xe_T) (fe px py pb : Int32) (eX eY eB eS : Nat → Int32), xv pr g E fe eX eY eB → (∀ q, q ∈ E.map xe_P ↔ ∃ j, j < k ∧ pr j ∧ (q = ge_fr (g j) ∨ q = ge_to (g j))) →
      wX_enterEnds_7 post n (nI k) f_present fe f_now f_active f_freshCount px py pb f_edges a_fromX a_fromY a_toX a_toY eX eY eB eS a_order a_fresh a_edgeFrom a_edgeTo a_edgeSegment a_gone a_groupOf := by
  intro n
  induction n with
  | zero => intro k hk; omega
  | succ n ih =>
    intro k hk hk2 E fe px py pb eX eY eB eS hv hm
    refine pk_le 10 k (fun hle => ?_) (fun hlt => ?_) rfl rfl (by omega) (by omega)
    · have : k = 10 := by omega
      subst this
      refine h E _ _ _ _ _ _ _ _ hv ?_
      intro q
      rw [hm q]
      exact ⟨fun ⟨j, _, a, b⟩ => ⟨j, a, b⟩, fun ⟨j, a, b⟩ => ⟨j, (G.1 j a).1, a, b⟩⟩
    · refine xs_has_c hg.1 hlt (fun np => br_t rfl ?_) (fun hp => br_f (by decide) ?_)
      · refine nm_r (nI_1 k) (ih (k + 1) (by omega) (by omega) E _ _ _ _ _ _ _ _ hv ?_)
        intro q
        rw [hm q]
        constructor
        · rintro ⟨j, a, b⟩; exact ⟨j, by omega, b⟩
        · rintro ⟨j, a, b, c⟩
          refine ⟨j, ?_, b, c⟩
          have : j ≠ k := fun z => np (z ▸ b)
          omega
      · have v : vp_in (nI k) 10 := vp_in_nI hlt (by omega)
        obtain ⟨_, ok, e1, e2, e3, e4⟩ := hg.2 k hp
        refine And.intro v (And.intro v ?_)
        rw [nI_clamp (by omega), e1, e2]
        obtain ⟨o1, o2, o3, o4, o5, o6, o7, o8, o9⟩ := id ok
        refine xs_setPt (b := 1) ⟨by omega, by omega, by omega, by omega, by omega, by omega⟩ ?_
        intro t ht hpt
        have ept : xe_P t = ge_fr (g k) := hpt _ (ge_at_1 _ _)
        refine xs_enterP G (Dn := []) (Rs := E) hv ht (Or.inl ⟨k, hp, Or.inl ept⟩) (fun r hr => absurd hr (by simp)) ?_
        intro E1 fe1 eX1 eY1 eB1 eS1 hv1 hm1 _
        refine And.intro v (And.intro v ?_)
        rw [e3, e4]
        refine xs_setPt (b := 1) ⟨by omega, by omega, by omega, by omega, by omega, by omega⟩ ?_
        intro t2 ht2 hpt2
        have ept2 : xe_P t2 = ge_to (g k) := hpt2 _ (ge_at_1 _ _)
        refine xs_enterP G (Dn := []) (Rs := E1) hv1 ht2 (Or.inl ⟨k, hp, Or.inr ept2⟩) (fun r hr => absurd hr (by simp)) ?_
        intro E2 fe2 eX2 eY2 eB2 eS2 hv2 hm2 _
        refine nm_r (nI_1 k) (ih (k + 1) (by omega) (by omega) E2 _ _ _ _ _ _ _ _ hv2 ?_)
        intro q
        rw [hm2 q, hm1 q, hm q, ept, ept2]
        constructor
        · rintro ((⟨j, a, b⟩ | z) | z)
          · exact ⟨j, by omega, b⟩
          · exact ⟨k, by omega, hp, Or.inl z⟩
          · exact ⟨k, by omega, hp, Or.inr z⟩
        · rintro ⟨j, a, b, c⟩
          by_cases e : j = k
          · subst e
            rcases c with c | c
            · exact Or.inl (Or.inr c)
            · exact Or.inr c
          · exact Or.inl (Or.inl ⟨j, by omega, b, c⟩)
theorem xs_ends {pr : Nat → Prop} {g : Nat → ge_S} (G : sw_G pr g) {post : SX → Prop} (hg : xg pr g f_present a_fromX a_fromY a_toX a_toY)
    (h : ∀ E fe' px py pb eX' eY' eB' eS', xv pr g E fe' eX' eY' eB' → (∀ q, q ∈ E.map xe_P ↔ sw_en pr g q) → post (f_present, fe', f_now, f_active, f_freshCount, px, py, pb, f_edges, a_fromX, a_fromY, a_toX, a_toY, eX', eY', eB', eS', a_order, a_fresh, a_edgeFrom, a_edgeTo, a_edgeSegment, a_gone, a_groupOf)) :
    wpX_enterEnds post (f_present, f_events, f_now, f_active, f_freshCount, f_pointX, f_pointY, f_pointBottom, f_edges, a_fromX, a_fromY, a_toX, a_toY, a_eventX, a_eventY, a_eventBottom, a_eventSet, a_order, a_fresh, a_edgeFrom, a_edgeTo, a_edgeSegment, a_gone, a_groupOf) := by
  refine ⟨11, xs_ends7 G hg h 11 0 (by omega) (by omega) [] _ _ _ _ _ _ _ _ ⟨rfl, fun i t e => absurd e (by simp), fun s hs => absurd hs (by simp), List.Pairwise.nil, fun q hq => absurd hq (by simp)⟩ ?_⟩
  intro q
  exact ⟨fun z => absurd z (by simp), fun ⟨j, a, _⟩ => by omega⟩
end
end
section
/-! findMeeting, lookAtNeighbours -/
/-- the part of the way along s at which t's line is met -/
theorem fm_part {s t : ge_S} (hs : ge_ok s) {q : ge_P} (qs : ge_on s q) (qt : ge_side t q = 0) : (0 ≤ ge_turn s t → 0 ≤ ge_al s t ∧ ge_al s t ≤ ge_turn s t) ∧ (ge_turn s t ≤ 0 → ge_al s t ≤ 0 ∧ ge_turn s t ≤ ge_al s t) := by
  obtain ⟨e1, e2⟩ := ge_meet_at qs.1 qt
  obtain ⟨a1, a2, a3⟩ := (ge_on_iff hs q).mp qs
  have hD := ge_D_pos hs
  have er := ge_rl s
  have key : (ge_turn s t : Rat) * (ge_sc q - ge_l s) = ge_D s * (ge_al s t : Rat) := by
    rw [Rat.intCast_add, Rat.intCast_mul, Rat.intCast_mul] at e1 e2
    unfold ge_sc ge_l ge_D
    grind
  have w1 : 0 ≤ ge_sc q - ge_l s := by grind
  have w2 : 0 ≤ ge_D s - (ge_sc q - ge_l s) := by grind
  constructor
  · intro h
    have h' : (0 : Rat) ≤ (ge_turn s t : Rat) := ge_icl h
    constructor
    · have : 0 ≤ ge_D s * (ge_al s t : Rat) := by rw [← key]; exact Rat.mul_nonneg h' w1
      exact Rat.intCast_nonneg.mp (rq_nn hD this)
    · have e : ge_D s * ((ge_turn s t - ge_al s t : Int) : Rat) = (ge_turn s t : Rat) * (ge_D s - (ge_sc q - ge_l s)) := by rw [Rat.intCast_sub]; grind
      have : 0 ≤ ge_D s * ((ge_turn s t - ge_al s t : Int) : Rat) := by rw [e]; exact Rat.mul_nonneg h' w2
      have := Rat.intCast_nonneg.mp (rq_nn hD this)
      omega
  · intro h
    have h' : (0 : Rat) ≤ -(ge_turn s t : Rat) := by have : (ge_turn s t : Rat) ≤ 0 := ge_icl h; grind
    constructor
    · have e : ge_D s * ((-ge_al s t : Int) : Rat) = -(ge_turn s t : Rat) * (ge_sc q - ge_l s) := by rw [Rat.intCast_neg]; grind
      have : 0 ≤ ge_D s * ((-ge_al s t : Int) : Rat) := by rw [e]; exact Rat.mul_nonneg h' w1
      have := Rat.intCast_nonneg.mp (rq_nn hD this)
      omega
    · have e : ge_D s * ((ge_al s t - ge_turn s t : Int) : Rat) = -(ge_turn s t : Rat) * (ge_D s - (ge_sc q - ge_l s)) := by rw [Rat.intCast_sub]; grind
      have : 0 ≤ ge_D s * ((ge_al s t - ge_turn s t : Int) : Rat) := by rw [e]; exact Rat.mul_nonneg h' w2
      have := Rat.intCast_nonneg.mp (rq_nn hD this)
      omega
theorem fm_bnd {a B d f t : Int} (h : t = f + d) (ha : 0 ≤ a) (hb : a ≤ B) : (0 ≤ d → f * B ≤ f * B + a * d ∧ f * B + a * d ≤ t * B) ∧ (d ≤ 0 → t * B ≤ f * B + a * d ∧ f * B + a * d ≤ f * B) := by
  have e : t * B = f * B + d * B := by rw [h, Int.add_mul]
  constructor
  · intro hd
    have h1 := Int.mul_nonneg ha hd
    have h2 := Int.mul_le_mul_of_nonneg_left hb hd
    have h3 : d * a = a * d := Int.mul_comm d a
    exact ⟨by omega, by omega⟩
  · intro hd
    have h1 := Int.mul_nonneg ha (show 0 ≤ -d by omega)
    have h2 := Int.mul_le_mul_of_nonneg_left hb (show 0 ≤ -d by omega)
    have h3 : -d * a = -(a * d) := by rw [Int.neg_mul, Int.mul_comm d a]
    have h4 : a * -d = -(a * d) := by rw [Int.mul_neg]
    have h5 : -d * B = -(d * B) := by rw [Int.neg_mul]
    exact ⟨by omega, by omega⟩
/-- the point that findMeeting makes: on s, and on t's line -/
theorem fm_pt {s t : ge_S} (hs : ge_ok s) (ht : ge_ok t) {a B : Int} (hB : 1 ≤ B) (hB2 : B ≤ 800) (ha : 0 ≤ a) (ha2 : a ≤ B) (hc : a * ge_turn s t = B * ge_al s t) :
    ge_tI (s.1 * B + a * ge_dx s) (s.2.1 * B + a * ge_dy s) B ∧ ge_sI s (s.1 * B + a * ge_dx s) (s.2.1 * B + a * ge_dy s) B = 0 ∧ ge_bI s (s.1 * B + a * ge_dx s) (s.2.1 * B + a * ge_dy s) B ∧ ge_sI t (s.1 * B + a * ge_dx s) (s.2.1 * B + a * ge_dy s) B = 0 := by
  obtain ⟨h1, h2, h3, h4, h5, h6, h7, h8, h9⟩ := hs
  have dx : 0 ≤ ge_dx s := by unfold ge_dx; omega
  have bx := (fm_bnd (f := s.1) (t := s.2.2.1) (d := ge_dx s) (by unfold ge_dx; omega) ha ha2).1 dx
  have by' := fm_bnd (f := s.2.1) (t := s.2.2.2) (d := ge_dy s) (by unfold ge_dy; omega) ha ha2
  have hb : ge_bI s (s.1 * B + a * ge_dx s) (s.2.1 * B + a * ge_dy s) B := by
    refine ⟨bx.1, bx.2, ?_⟩
    by_cases c : 0 ≤ ge_dy s
    · exact Or.inl (by'.1 c)
    · exact Or.inr (by'.2 (by omega))
  have m : ∀ z : Int, 0 ≤ z → z ≤ 20 → 0 ≤ z * B ∧ z * B ≤ 20 * B := fun z hz hz2 => ⟨Int.mul_nonneg hz (by omega), Int.mul_le_mul_of_nonneg_right hz2 (by omega)⟩
  have m1 := m _ h1 h2
  have m2 := m _ h3 h4
  have m3 := m _ h5 h6
  have m4 := m _ h7 h8
  refine ⟨⟨hB, hB2, by omega, by omega, ?_, ?_⟩, ?_, hb, ?_⟩
  · rcases hb.2.2 with c | c <;> omega
  · rcases hb.2.2 with c | c <;> omega
  · unfold ge_sI; grind
  · unfold ge_sI
    unfold ge_turn ge_al at hc
    grind
section
variable {f_present f_events f_now f_active f_freshCount f_pointX f_pointY f_pointBottom f_edges : Int32} {a_fromX a_fromY a_toX a_toY a_eventX a_eventY a_eventBottom a_eventSet a_order a_fresh a_edgeFrom a_edgeTo a_edgeSegment a_gone a_groupOf : Nat → Int32}
theorem xs_find86 {post : Int32 → SX → Prop} {j k : Nat} {s t : ge_S} (hj : xk a_fromX a_fromY a_toX a_toY j s) (hk : xk a_fromX a_fromY a_toX a_toY k t) {a B : Int} (hB : 1 ≤ B) (hB2 : B ≤ 800) (ha3 : zB a) (hc : a * ge_turn s t = B * ge_al s t) (hz : ge_turn s t ≠ 0)
    (hpart : ∀ q, ge_on s q → ge_on t q → 0 ≤ a ∧ a ≤ B)
    (h0 : ∀ px py pb : Int32, (¬ ∃ q, ge_on s q ∧ ge_on t q) → post 0 (f_present, f_events, f_now, f_active, f_freshCount, px, py, pb, f_edges, a_fromX, a_fromY, a_toX, a_toY, a_eventX, a_eventY, a_eventBottom, a_eventSet, a_order, a_fresh, a_edgeFrom, a_edgeTo, a_edgeSegment, a_gone, a_groupOf))
    (h1 : ∀ r : xe_T, xe_t r → ge_on s (xe_P r) → ge_on t (xe_P r) → post 1 (f_present, f_events, f_now, f_active, f_freshCount, zI r.1, zI r.2.1, zI r.2.2, f_edges, a_fromX, a_fromY, a_toX, a_toY, a_eventX, a_eventY, a_eventBottom, a_eventSet, a_order, a_fresh, a_edgeFrom, a_edgeTo, a_edgeSegment, a_gone, a_groupOf)) :
    wX_findMeeting_86 post (nI j) (nI k) (zI B) (zI a) f_present f_events f_now f_active f_freshCount f_pointX f_pointY f_pointBottom f_edges a_fromX a_fromY a_toX a_toY a_eventX a_eventY a_eventBottom a_eventSet a_order a_fresh a_edgeFrom a_edgeTo a_edgeSegment a_gone a_groupOf := by
  have bB : zB B := ⟨by omega, by omega⟩
  refine ek_if (zI_lt (b := 0) ha3 ⟨by omega, by omega⟩) (fun c => h0 _ _ _ ?_) (fun c => ?_)
  · rintro ⟨q, q1, q2⟩
    have := hpart q q1 q2
    omega
  · refine ek_if (zI_le ha3 bB) (fun d => ?_) (fun d => h0 _ _ _ ?_)
    · obtain ⟨kj, oj, e1, e2, e3, e4⟩ := id hj
      have v : vp_in (nI j) 10 := vp_in_nI kj (by omega)
      refine And.intro v ?_
      refine xs_stepX hj (nm_e (And.intro v ?_))
      refine xs_stepY hj (nm_e ?_)
      rw [nI_clamp (by omega), e1, e2]
      simp only [zI_mul, zI_add]
      obtain ⟨f1, f2, f3, f4⟩ := fm_pt oj hk.2.1 hB hB2 (by omega) d hc
      refine xs_setPt f1 ?_
      intro r hr hp
      obtain ⟨p, hpt⟩ := ge_at_ex (s.1 * B + a * ge_dx s) (s.2.1 * B + a * ge_dy s) hB
      have ep := hp p hpt
      have on_s : ge_on s p := (ge_on_I s hB hpt).mpr ⟨f2, f3⟩
      have rat := xe_at hr.1
      have f4' : ge_sI t r.1 r.2.1 r.2.2 = 0 := by
        rw [ge_sI_0 t hr.1 rat, ep, ← ge_sI_0 t hB hpt]
        exact f4
      refine xs_between hk hr (fun b => And.intro rfl ?_) (fun b => And.intro rfl ?_)
      · refine h1 r hr (by rw [ep]; exact on_s) ?_
        exact (ge_on_I t hr.1 rat).mpr ⟨f4', b⟩
      · refine h0 _ _ _ ?_
        rintro ⟨q, q1, q2⟩
        apply b
        have : q = xe_P r := by
          rw [ep]
          exact sw_one oj hk.2.1 (fun z => hz ((ge_turn_0 oj hk.2.1).mpr z)) q1 q2 on_s (by
            have a1 := (ge_on_iff oj q).mp q1
            have hm : ge_m s ≠ ge_m t := fun z => hz ((ge_turn_0 oj hk.2.1).mpr z)
            -- q solves both lines, as p does
            have e1 := ge_meet_at q1.1 q2.1
            have sp : ge_side s p = 0 := on_s.1
            have tp : ge_side t p = 0 := (ge_sI_0 t hB hpt).mp f4
            have e2 := ge_meet_at sp tp
            have ht0 : (ge_turn s t : Rat) ≠ 0 := fun z => hz (Rat.intCast_eq_zero_iff.mp z)
            have d1 : (ge_turn s t : Rat) * (q.1 - p.1) = 0 := by have := e1.1; have := e2.1; grind
            have d2 : (ge_turn s t : Rat) * (q.2 - p.2) = 0 := by have := e1.2; have := e2.2; grind
            have c1 : q.1 - p.1 = 0 := (Rat.mul_eq_zero.mp d1).resolve_left ht0
            have c2 : q.2 - p.2 = 0 := (Rat.mul_eq_zero.mp d2).resolve_left ht0
            have : p = q := Prod.ext (by grind) (by grind)
            rw [this]; exact q2)
        rw [this] at q2
        exact ((ge_on_I t hr.1 rat).mp q2).2
    · rintro ⟨q, q1, q2⟩
      have := hpart q q1 q2
      omega
theorem xs_find {post : Int32 → SX → Prop} {j k : Nat} {s t : ge_S} (hj : xk a_fromX a_fromY a_toX a_toY j s) (hk : xk a_fromX a_fromY a_toX a_toY k t)
    (h0 : ∀ px py pb : Int32, (ge_turn s t ≠ 0 → ¬ ∃ q, ge_on s q ∧ ge_on t q) → post 0 (f_present, f_events, f_now, f_active, f_freshCount, px, py, pb, f_edges, a_fromX, a_fromY, a_toX, a_toY, a_eventX, a_eventY, a_eventBottom, a_eventSet, a_order, a_fresh, a_edgeFrom, a_edgeTo, a_edgeSegment, a_gone, a_groupOf))
    (h1 : ∀ r : xe_T, xe_t r → ge_turn s t ≠ 0 → ge_on s (xe_P r) → ge_on t (xe_P r) → post 1 (f_present, f_events, f_now, f_active, f_freshCount, zI r.1, zI r.2.1, zI r.2.2, f_edges, a_fromX, a_fromY, a_toX, a_toY, a_eventX, a_eventY, a_eventBottom, a_eventSet, a_order, a_fresh, a_edgeFrom, a_edgeTo, a_edgeSegment, a_gone, a_groupOf)) :
    wpX_findMeeting post (f_present, f_events, f_now, f_active, f_freshCount, f_pointX, f_pointY, f_pointBottom, f_edges, a_fromX, a_fromY, a_toX, a_toY, a_eventX, a_eventY, a_eventBottom, a_eventSet, a_order, a_fresh, a_edgeFrom, a_edgeTo, a_edgeSegment, a_gone, a_groupOf) (nI j) (nI k) := by
  obtain ⟨kj, oj, e1, e2, e3, e4⟩ := id hj
  obtain ⟨kk, ok, f1, f2, f3, f4⟩ := id hk
  have vj : vp_in (nI j) 10 := vp_in_nI kj (by omega)
  have vk : vp_in (nI k) 10 := vp_in_nI kk (by omega)
  obtain ⟨h1', h2, h3, h4, h5, h6, h7, h8, h9⟩ := id oj
  obtain ⟨g1, g2, g3, g4, g5, g6, g7, g8, g9⟩ := id ok
  have b : -800 ≤ ge_turn s t ∧ ge_turn s t ≤ 800 := by
    have a1 := zb_mul (x := ge_dx s) (y := ge_dy t) (A := 20) (B := 20) (by unfold ge_dx; omega) (by unfold ge_dx; omega) (by unfold ge_dy; omega) (by unfold ge_dy; omega)
    have a2 := zb_mul (x := ge_dy s) (y := ge_dx t) (A := 20) (B := 20) (by unfold ge_dy; omega) (by unfold ge_dy; omega) (by unfold ge_dx; omega) (by unfold ge_dx; omega)
    unfold ge_turn; omega
  have bal : -800 ≤ ge_al s t ∧ ge_al s t ≤ 800 := by
    have a1 := zb_mul (x := t.1 - s.1) (y := ge_dy t) (A := 20) (B := 20) (by omega) (by omega) (by unfold ge_dy; omega) (by unfold ge_dy; omega)
    have a2 := zb_mul (x := t.2.1 - s.2.1) (y := ge_dx t) (A := 20) (B := 20) (by omega) (by omega) (by unfold ge_dx; omega) (by unfold ge_dx; omega)
    unfold ge_al; omega
  have z0 : zB 0 := ⟨by omega, by omega⟩
  have bt' : zB (ge_turn s t) := ⟨by omega, by omega⟩
  unfold wpX_findMeeting
  refine xs_turn hj hk ?_
  refine ek_if (zI_eq (b := 0) bt' z0) (fun c => h0 _ _ _ (fun z => absurd c z)) (fun c => ?_)
  refine And.intro vk (And.intro vj (nm_e (And.intro vk (And.intro vj (nm_e ?_)))))
  refine xs_stepY hk ?_
  refine xs_stepX hk (nm_e ?_)
  rw [nI_clamp (by omega), nI_clamp (by omega), e1, e2, f1, f2]
  simp only [zI_mul, zI_sub]
  refine ek_if (zI_le (a := 0) z0 bt') (fun d => ?_) (fun d => ?_)
  · refine br_t ((zI_le (a := 0) z0 bt').mpr d) ?_
    exact xs_find86 hj hk (a := ge_al s t) (B := ge_turn s t) (by omega) b.2 ⟨by omega, by omega⟩ (Int.mul_comm _ _) c (fun q q1 q2 => (fm_part oj q1 q2.1).1 d) (fun px py pb h => h0 px py pb (fun _ => h)) (fun r hr => h1 r hr c)
  · refine br_f (fun z => d ((zI_le (a := 0) z0 bt').mp z)) ?_
    rw [zI_neg, zI_neg]
    refine xs_find86 hj hk (a := -ge_al s t) (B := -ge_turn s t) (by omega) (by omega) ⟨by omega, by omega⟩ ?_ c ?_ (fun px py pb h => h0 px py pb (fun _ => h)) (fun r hr => h1 r hr c)
    · rw [Int.neg_mul, Int.neg_mul, Int.mul_comm]
    · intro q q1 q2
      have := (fm_part oj q1 q2.1).2 (by omega)
      omega
end
end
section
/-! lookAtNeighbours -/
def xl (L : List Nat) (a : Nat → Int32) : Prop := ∀ i k, L[i]? = some k → a i = nI k
theorem sw_par_en {pr : Nat → Prop} {g : Nat → ge_S} (G : sw_G pr g) {j k : Nat} (hj : pr j) (hk : pr k) (hn : j ≠ k) (hm : ge_turn (g j) (g k) = 0) {q : ge_P} (oj : ge_on (g j) q) (ok : ge_on (g k) q) : sw_en pr g q := by
  have o1 := (G.1 j hj).2
  have o2 := (G.1 k hk).2
  obtain ⟨a1, a2, a3⟩ := (ge_on_iff o1 q).mp oj
  obtain ⟨b1, b2, b3⟩ := (ge_on_iff o2 q).mp ok
  rcases ge_touch o1 o2 (G.2 j k hj hk hn) ((ge_turn_0 o1 o2).mp hm) oj ok with c | c
  · exact ⟨j, hj, Or.inr (ge_pt_eq o1 oj (ge_on_to o1) (by rw [ge_sc_to]; grind))⟩
  · exact ⟨k, hk, Or.inr (ge_pt_eq o2 ok (ge_on_to o2) (by rw [ge_sc_to]; grind))⟩
section
variable {f_present f_events f_now f_active f_freshCount f_pointX f_pointY f_pointBottom f_edges : Int32} {a_fromX a_fromY a_toX a_toY a_eventX a_eventY a_eventBottom a_eventSet a_order a_fresh a_edgeFrom a_edgeTo a_edgeSegment a_gone a_groupOf : Nat → Int32}
theorem xs_look {pr : Nat → Prop} {g : Nat → ge_S} (G : sw_G pr g) {post : SX → Prop} {Dn Rs : List xe_T} {tp : xe_T} {L : List Nat} {m : Nat} {x : Int32} (hx : x = nI m - 1) (hm10 : m ≤ 10)
    (hg : xg pr g f_present a_fromX a_fromY a_toX a_toY) (hv : xv pr g (Dn ++ [tp] ++ Rs) f_events a_eventX a_eventY a_eventBottom) (hnow : f_now = nI Dn.length)
    (hL : xl L a_order) (hact : f_active = nI L.length) (hl10 : L.length ≤ 10) (hpr : ∀ k, k ∈ L → pr k) (hnd : L.Nodup)
    (hen : ∀ q, sw_en pr g q → ge_lt (xe_P tp) q → q ∈ Rs.map xe_P)
    (h : ∀ Rs' fe' px py pb eX' eY' eB' eS', xv pr g (Dn ++ [tp] ++ Rs') fe' eX' eY' eB' → (∀ q, q ∈ Rs.map xe_P → q ∈ Rs'.map xe_P) → (∀ q, q ∈ Rs'.map xe_P → q ∈ Rs.map xe_P ∨ sw_mt pr g q) →
      (∀ X j k Z, L = X ++ j :: k :: Z → X.length + 1 = m → ∀ q, ge_on (g j) q → ge_on (g k) q → ge_lt (xe_P tp) q → q ∈ Rs'.map xe_P) → (∀ i, i < Dn.length + 1 → eS' i = a_eventSet i) →
      post (f_present, fe', f_now, f_active, f_freshCount, px, py, pb, f_edges, a_fromX, a_fromY, a_toX, a_toY, eX', eY', eB', eS', a_order, a_fresh, a_edgeFrom, a_edgeTo, a_edgeSegment, a_gone, a_groupOf)) :
    wpX_lookAtNeighbours post (f_present, f_events, f_now, f_active, f_freshCount, f_pointX, f_pointY, f_pointBottom, f_edges, a_fromX, a_fromY, a_toX, a_toY, a_eventX, a_eventY, a_eventBottom, a_eventSet, a_order, a_fresh, a_edgeFrom, a_edgeTo, a_edgeSegment, a_gone, a_groupOf) x := by
  have keep : ∀ px py pb : Int32, (∀ X j k Z, L = X ++ j :: k :: Z → X.length + 1 = m → ∀ q, ge_on (g j) q → ge_on (g k) q → ge_lt (xe_P tp) q → q ∈ Rs.map xe_P) → post (f_present, f_events, f_now, f_active, f_freshCount, px, py, pb, f_edges, a_fromX, a_fromY, a_toX, a_toY, a_eventX, a_eventY, a_eventBottom, a_eventSet, a_order, a_fresh, a_edgeFrom, a_edgeTo, a_edgeSegment, a_gone, a_groupOf) :=
    fun px py pb hc => h Rs _ px py pb _ _ _ _ hv (fun _ z => z) (fun _ z => Or.inl z) hc (fun _ _ => rfl)
  cases m with
  | zero =>
    subst hx
    refine br_t (by decide) (keep _ _ _ ?_)
    intro X j k Z _ hl
    omega
  | succ m =>
    rw [nI_pred] at hx
    subst hx
    refine br_f (nI_pos (by omega)) ?_
    have e1 : nI m + 1 = nI (m + 1) := nI_1 m
    rw [e1, hact]
    refine pk_lt (m + 1) L.length (fun hlt => ?_) (fun hge => ?_) rfl rfl (by omega) (by omega)
    · obtain ⟨j, hj⟩ : ∃ j, L[m]? = some j := ⟨_, List.getElem?_eq_getElem (by omega)⟩
      obtain ⟨k, hk⟩ : ∃ k, L[m + 1]? = some k := ⟨_, List.getElem?_eq_getElem (by omega)⟩
      have pj := hpr j (List.mem_of_getElem? hj)
      have pk := hpr k (List.mem_of_getElem? hk)
      have sep : ∀ X j' k' Z, L = X ++ j' :: k' :: Z → X.length + 1 = m + 1 → j' = j ∧ k' = k := by
        intro X j' k' Z e hl
        have hm : m = X.length := by omega
        rw [e, hm] at hj hk
        constructor
        · rw [List.getElem?_append_right (by omega), Nat.sub_self] at hj
          simpa using hj
        · rw [List.getElem?_append_right (by omega)] at hk
          have : X.length + 1 - X.length = 1 := by omega
          rw [this] at hk
          simpa using hk
      have hne : j ≠ k := by
        intro z
        have := (List.getElem?_inj (i := m) (j := m + 1) (by omega) hnd).mp (by rw [hj, hk, z])
        omega
      refine And.intro (vp_in_nI (by omega) (by omega)) (And.intro (vp_in_nI (by omega) (by omega)) ?_)
      rw [nI_clamp (by omega), nI_clamp (by omega), hL m j hj, hL (m + 1) k hk]
      have oj := (G.1 j pj).2
      have ok := (G.1 k pk).2
      refine xs_find (hg.2 j pj) (hg.2 k pk) ?_ ?_
      · intro px py pb hno
        refine br_t rfl ?_
        rw [← hact]
        refine keep px py pb ?_
        intro X j' k' Z e hl q qj qk hq
        obtain ⟨rfl, rfl⟩ := sep X j' k' Z e hl
        by_cases ht : ge_turn (g j') (g k') = 0
        · exact hen q (sw_par_en G pj pk hne ht qj qk) hq
        · exact absurd ⟨q, qj, qk⟩ (hno ht)
      · intro r hr ht rj rk
        refine br_f (by decide) ?_
        obtain ⟨v1, v2, v3, v4, v5⟩ := id hv
        have hlen := xv_len G hv
        have htp : tp ∈ Dn ++ [tp] ++ Rs := by simp
        have hget : (Dn ++ [tp] ++ Rs)[Dn.length]? = some tp := by simp
        rw [hnow]
        refine xs_compareTo v2 hget (by simp at hlen; omega) hr (v3 tp htp) ?_
        refine ek_if (zI_le (b := 0) (xe_cB hr (v3 tp htp)) ⟨by omega, by omega⟩) (fun hc => ?_) (fun hc => ?_)
        · rw [← hnow, ← hact]
          refine keep _ _ _ ?_
          intro X j' k' Z e hl q qj qk hq
          obtain ⟨rfl, rfl⟩ := sep X j' k' Z e hl
          have : q = xe_P r := sw_one oj ok (fun z => ht ((ge_turn_0 oj ok).mpr z)) qj qk rj rk
          rw [this] at hq
          have := (xe_cp hr (v3 tp htp)).2.2.mpr hq
          omega
        · have hlt' : ge_lt (xe_P tp) (xe_P r) := (xe_cp hr (v3 tp htp)).2.2.mp (by omega)
          rw [← hnow, ← hact]
          refine xs_enterP G (Dn := Dn ++ [tp]) (Rs := Rs) hv hr (Or.inr ⟨j, k, hne, pj, pk, rj, rk⟩) ?_ ?_
          · intro s hs
            rcases List.mem_append.mp hs with hs | hs
            · refine ge_lt_tr ?_ hlt'
              rw [List.map_append, List.map_append] at v4
              exact (List.pairwise_append.mp (List.pairwise_append.mp v4).1).2.2 _ (List.mem_map.mpr ⟨s, hs, rfl⟩) _ (by simp)
            · rw [List.mem_singleton.mp hs]; exact hlt'
          · intro Rs' fe' eX' eY' eB' eS' hv' hm' hS'
            refine h Rs' _ _ _ _ _ _ _ _ hv' (fun q hq => (hm' q).mpr (Or.inl hq)) ?_ ?_ (fun i hi => hS' i (by simp; omega))
            · intro q hq
              rcases (hm' q).mp hq with z | z
              · exact Or.inl z
              · rw [z]; exact Or.inr ⟨j, k, hne, pj, pk, rj, rk⟩
            · intro X j' k' Z e hl q qj qk hq
              obtain ⟨rfl, rfl⟩ := sep X j' k' Z e hl
              have : q = xe_P r := sw_one oj ok (fun z => ht ((ge_turn_0 oj ok).mpr z)) qj qk rj rk
              exact (hm' q).mpr (Or.inr this)
    · rw [← hact]
      refine keep _ _ _ ?_
      intro X j k Z e hl
      rw [e] at hge
      simp at hge
      omega
end
end
section
/-! enterFresh, gather -/
theorem xn_i8 : ∀ k, k < 128 → (nI k).toInt8.toInt32 = nI k := by decide
theorem xn_b {k : Nat} (h : k < 128) : vp_nar .byte (nI k) = nI k := by rw [vp_nar_byte, xn_i8 k h]
theorem xl_ins {F1 F2 : List Nat} {k : Nat} {a a' : Nat → Int32} (h : xl (F1 ++ F2) a) (hs : xe_Sh a a' F1.length (F1 ++ F2).length) : xl (F1 ++ k :: F2) (upd a' F1.length (nI k)) := by
  intro i f hi
  rcases xe_ins hi with ⟨c, e⟩ | ⟨c, e⟩ | ⟨c, e⟩
  · rw [pk_un (by omega), (hs i).1 (by omega)]
    exact h i f e
  · rw [c, pk_us, e]
  · have := xe_len e
    rw [pk_un (by omega), (hs i).2 c (by omega)]
    exact h (i - 1) f e
theorem ls_cutm (g : Nat → ge_S) (v : Rat) : ∀ (F : List Nat), F.Pairwise (fun j k => ge_m (g j) < ge_m (g k)) → (∀ f, f ∈ F → ge_m (g f) ≠ v) → ∃ F1 F2, F = F1 ++ F2 ∧ (∀ f, f ∈ F1 → ge_m (g f) < v) ∧ (∀ f, f ∈ F2 → v < ge_m (g f)) := by
  intro F
  induction F with
  | nil => exact fun _ _ => ⟨[], [], rfl, fun f hf => absurd hf (by simp), fun f hf => absurd hf (by simp)⟩
  | cons a F ih =>
    intro h hn
    obtain ⟨h1, h2⟩ := List.pairwise_cons.mp h
    have na := hn a List.mem_cons_self
    by_cases c : ge_m (g a) < v
    · obtain ⟨F1, F2, e, k1, k2⟩ := ih h2 (fun f hf => hn f (List.mem_cons_of_mem _ hf))
      refine ⟨a :: F1, F2, by rw [e]; rfl, ?_, k2⟩
      intro f hf
      rcases List.mem_cons.mp hf with rfl | hf
      · exact c
      · exact k1 f hf
    · refine ⟨[], a :: F, rfl, fun f hf => absurd hf (by simp), ?_⟩
      intro f hf
      rcases List.mem_cons.mp hf with rfl | hf
      · grind
      · have := h1 f hf; grind
theorem ls_small {L : List Nat} (h : L.Nodup) (k : ∀ x, x ∈ L → x < 10) : L.length ≤ 10 := by
  have := List.Nodup.length_le_of_subset (l₂ := List.range 10) h (fun x hx => List.mem_range.mpr (k x hx))
  simpa using this
theorem ls_mnd {g : Nat → ge_S} {F : List Nat} (h : F.Pairwise (fun j k => ge_m (g j) < ge_m (g k))) : F.Nodup := by
  refine h.imp ?_
  intro a b c z
  rw [z] at c
  exact absurd c (by grind)
/-- two that go on behind a point have different slopes -/
theorem sw_slope {pr : Nat → Prop} {g : Nat → ge_S} (G : sw_G pr g) {j k : Nat} (hj : pr j) (hk : pr k) (hn : j ≠ k) {p : ge_P} (oj : ge_on (g j) p) (ok : ge_on (g k) p) (nj : p ≠ ge_to (g j)) (nk : p ≠ ge_to (g k)) : ge_m (g j) ≠ ge_m (g k) := by
  intro hm
  have o1 := (G.1 j hj).2
  have o2 := (G.1 k hk).2
  obtain ⟨a1, a2, a3⟩ := (ge_on_iff o1 p).mp oj
  obtain ⟨b1, b2, b3⟩ := (ge_on_iff o2 p).mp ok
  rcases ge_touch o1 o2 (G.2 j k hj hk hn) hm oj ok with c | c
  · exact nj (ge_pt_eq o1 oj (ge_on_to o1) (by rw [ge_sc_to]; grind))
  · exact nk (ge_pt_eq o2 ok (ge_on_to o2) (by rw [ge_sc_to]; grind))
theorem xe_isat {t : xe_T} (ht : xe_t t) (x y : Int) : (t.1 = x * t.2.2 ∧ t.2.1 = y * t.2.2) ↔ xe_P t = ((x : Rat), (y : Rat)) := by
  have hB := ge_Bp ht.1
  obtain ⟨a1, a2⟩ := xe_at ht.1
  constructor
  · rintro ⟨e1, e2⟩
    refine ge_at_un ht.1 ⟨a1, a2⟩ ⟨?_, ?_⟩
    · rw [e1, Rat.intCast_mul]
    · rw [e2, Rat.intCast_mul]
  · intro e
    rw [e] at a1 a2
    have f1 : ((x * t.2.2 : Int) : Rat) = (t.1 : Rat) := by rw [Rat.intCast_mul]; exact a1
    have f2 : ((y * t.2.2 : Int) : Rat) = (t.2.1 : Rat) := by rw [Rat.intCast_mul]; exact a2
    exact ⟨(Rat.intCast_inj.mp f1).symm, (Rat.intCast_inj.mp f2).symm⟩
theorem ge_fr_to {s : ge_S} (h : ge_ok s) : ge_fr s ≠ ge_to s := by
  intro e
  have := congrArg ge_sc e
  rw [ge_sc_fr, ge_sc_to] at this
  have := ge_lr h
  grind
section
variable {f_present f_events f_now f_active f_freshCount f_pointX f_pointY f_pointBottom f_edges : Int32} {a_fromX a_fromY a_toX a_toY a_eventX a_eventY a_eventBottom a_eventSet a_order a_fresh a_edgeFrom a_edgeTo a_edgeSegment a_gone a_groupOf : Nat → Int32}
theorem xs_fresh5 {pr : Nat → Prop} {g : Nat → ge_S} (G : sw_G pr g) {post : SX → Prop} {F1 F2 : List Nat} {k : Nat} (hg : xg pr g f_present a_fromX a_fromY a_toX a_toY) (hk : pr k) (hF : xl (F1 ++ F2) a_fresh) (hc : f_freshCount = nI (F1 ++ F2).length) (hl : (F1 ++ F2).length < 10) (hp : ∀ f, f ∈ F1 ++ F2 → pr f)
    (h1 : ∀ f, f ∈ F1 → ge_m (g f) < ge_m (g k)) (h2 : ∀ f, f ∈ F2 → ge_m (g k) < ge_m (g f))
    (h : ∀ fr', xl (F1 ++ k :: F2) fr' → post (f_present, f_events, f_now, f_active, nI ((F1 ++ F2).length + 1), f_pointX, f_pointY, f_pointBottom, f_edges, a_fromX, a_fromY, a_toX, a_toY, a_eventX, a_eventY, a_eventBottom, a_eventSet, a_order, fr', a_edgeFrom, a_edgeTo, a_edgeSegment, a_gone, a_groupOf)) :
    ∀ (n e : Nat), e < n → F1.length ≤ e → e ≤ (F1 ++ F2).length → ∀ fr : Nat → Int32, xe_Sh a_fresh fr e (F1 ++ F2).length → wX_enterFresh_5 post (nI k) f_present f_events f_now f_active f_freshCount f_pointX f_pointY f_pointBottom f_edges n (nI e) a_fromX a_fromY a_toX a_toY a_eventX a_eventY a_eventBottom a_eventSet a_order fr a_edgeFrom a_edgeTo a_edgeSegment a_gone a_groupOf := by
  have k10 := (G.1 k hk).1
  intro n
  induction n with
  | zero => intro e he; omega
  | succ n ih =>
    intro e he g1 g2 fr hs
    have fin : e = F1.length → wX_enterFresh_45 post (nI k) (nI e) f_present f_events f_now f_active f_freshCount f_pointX f_pointY f_pointBottom f_edges a_fromX a_fromY a_toX a_toY a_eventX a_eventY a_eventBottom a_eventSet a_order fr a_edgeFrom a_edgeTo a_edgeSegment a_gone a_groupOf := by
      intro ee
      subst ee
      refine And.intro (vp_in_nI (by omega) (by omega)) (nm_e (nm_r (e' := nI ((F1 ++ F2).length + 1)) (by rw [hc, nI_1]) ?_))
      rw [nI_clamp (by omega), xn_i8 k (by omega), xn_b (by omega)]
      exact h _ (xl_ins hF hs)
    refine pk_le e 0 (fun hle => fin (by omega)) (fun hlt => ?_) rfl rfl (by omega) (by omega)
    obtain ⟨m, rfl⟩ : ∃ m, e = m + 1 := ⟨e - 1, by omega⟩
    obtain ⟨f, hf⟩ : ∃ f, (F1 ++ F2)[m]? = some f := ⟨_, List.getElem?_eq_getElem (by omega)⟩
    have pf := hp f (List.mem_of_getElem? hf)
    have f10 := (G.1 f pf).1
    have ef : fr m = nI f := by rw [(hs m).1 (by omega)]; exact hF m f hf
    rw [nI_pred]
    refine And.intro (vp_in_nI (by omega) (by omega)) ?_
    rw [nI_clamp (n := m) (by omega), ef]
    have okk := (G.1 k hk).2
    have okf := (G.1 f pf).2
    have bt' : zB (ge_turn (g k) (g f)) := by
      obtain ⟨h1', h2, h3, h4, h5, h6, h7, h8, h9⟩ := okk
      obtain ⟨g1, g2, g3, g4, g5, g6, g7, g8, g9⟩ := okf
      have a1 := zb_mul (x := ge_dx (g k)) (y := ge_dy (g f)) (A := 20) (B := 20) (by unfold ge_dx; omega) (by unfold ge_dx; omega) (by unfold ge_dy; omega) (by unfold ge_dy; omega)
      have a2 := zb_mul (x := ge_dy (g k)) (y := ge_dx (g f)) (A := 20) (B := 20) (by unfold ge_dy; omega) (by unfold ge_dy; omega) (by unfold ge_dx; omega) (by unfold ge_dx; omega)
      unfold ge_turn; exact ⟨by omega, by omega⟩
    refine xs_turn (hg.2 k hk) (hg.2 f pf) ?_
    refine ek_if (zI_le (b := 0) bt' ⟨by omega, by omega⟩) (fun c => ?_) (fun c => ?_)
    · refine fin ?_
      by_cases d : m + 1 = F1.length
      · exact d
      · exfalso
        rw [List.getElem?_append_right (by omega)] at hf
        have := (ge_turn_p okk okf).mpr (h2 f (List.mem_of_getElem? hf))
        omega
    · have hm : m + 1 ≠ F1.length := by
        intro d
        rw [List.getElem?_append_left (by omega)] at hf
        have := (ge_turn_p okk okf).mp (by omega)
        have := h1 f (List.mem_of_getElem? hf)
        grind
      refine And.intro (vp_in_nI (by omega) (by omega)) (And.intro (vp_in_nI (by omega) (by omega)) (nm_e ?_))
      refine nm_r (pk_m1 m) ?_
      rw [nI_clamp (by omega), xn_b (by omega)]
      have s' := xe_Sh1 hs
      rw [ef] at s'
      exact ih m (by omega) (by omega) (by omega) _ s'
theorem xs_fresh {pr : Nat → Prop} {g : Nat → ge_S} (G : sw_G pr g) {post : SX → Prop} {F : List Nat} {k : Nat} (hg : xg pr g f_present a_fromX a_fromY a_toX a_toY) (hk : pr k) (hF : xl F a_fresh) (hp : ∀ f, f ∈ F → pr f)
    (hs : F.Pairwise (fun j k => ge_m (g j) < ge_m (g k))) (hn : ∀ f, f ∈ F → ge_m (g f) ≠ ge_m (g k))
    (h : ∀ F' fr', (∀ f, f ∈ F' ↔ f ∈ F ∨ f = k) → F'.Pairwise (fun j k => ge_m (g j) < ge_m (g k)) → xl F' fr' → post (f_present, f_events, f_now, f_active, nI F'.length, f_pointX, f_pointY, f_pointBottom, f_edges, a_fromX, a_fromY, a_toX, a_toY, a_eventX, a_eventY, a_eventBottom, a_eventSet, a_order, fr', a_edgeFrom, a_edgeTo, a_edgeSegment, a_gone, a_groupOf)) :
    wpX_enterFresh post (f_present, f_events, f_now, f_active, nI F.length, f_pointX, f_pointY, f_pointBottom, f_edges, a_fromX, a_fromY, a_toX, a_toY, a_eventX, a_eventY, a_eventBottom, a_eventSet, a_order, a_fresh, a_edgeFrom, a_edgeTo, a_edgeSegment, a_gone, a_groupOf) (nI k) := by
  obtain ⟨F1, F2, rfl, k1, k2⟩ := ls_cutm g (ge_m (g k)) F hs hn
  obtain ⟨s1, s2, s3⟩ := List.pairwise_append.mp hs
  have srt : (F1 ++ k :: F2).Pairwise (fun j k => ge_m (g j) < ge_m (g k)) := by
    refine List.pairwise_append.mpr ⟨s1, List.pairwise_cons.mpr ⟨k2, s2⟩, ?_⟩
    intro a ha b hb
    rcases List.mem_cons.mp hb with rfl | hb
    · exact k1 a ha
    · exact s3 a ha b hb
  have mem : ∀ f, f ∈ F1 ++ k :: F2 ↔ f ∈ F1 ++ F2 ∨ f = k := by
    intro f
    simp only [List.mem_append, List.mem_cons]
    constructor
    · rintro (z | z | z)
      · exact Or.inl (Or.inl z)
      · exact Or.inr z
      · exact Or.inl (Or.inr z)
    · rintro ((z | z) | z)
      · exact Or.inl z
      · exact Or.inr (Or.inr z)
      · exact Or.inr (Or.inl z)
  have hlen : (F1 ++ k :: F2).length ≤ 10 := ls_small (ls_mnd srt) (fun x hx => by
    rcases (mem x).mp hx with z | z
    · exact (G.1 x (hp x z)).1
    · rw [z]; exact (G.1 k hk).1)
  have el : (F1 ++ k :: F2).length = (F1 ++ F2).length + 1 := by simp; omega
  refine ⟨(F1 ++ F2).length + 1, xs_fresh5 G hg hk hF rfl (by omega) hp k1 k2 ?_ _ _ (by omega) (by simp) (by omega) _ (xe_Sh0 _ _)⟩
  intro fr' hx
  rw [← el]
  exact h _ fr' mem srt hx
theorem xs_gather68 {pr : Nat → Prop} {g : Nat → ge_S} (G : sw_G pr g) {post : SX → Prop} {I : List Nat} {tp : xe_T} {i : Nat} (hg : xg pr g f_present a_fromX a_fromY a_toX a_toY) (ht : xe_t tp) (hi : i < 66) (hnow : f_now = nI i)
    (hI : ∀ k, k ∈ I ↔ pr k ∧ ge_on (g k) (xe_P tp) ∧ xe_P tp ≠ ge_fr (g k))
    (h : ∀ F fr' st, (∀ k, k ∈ F ↔ pr k ∧ ge_on (g k) (xe_P tp) ∧ xe_P tp ≠ ge_to (g k)) → F.Pairwise (fun j k => ge_m (g j) < ge_m (g k)) → xl F fr' → xb st (fun k => pr k ∧ ge_on (g k) (xe_P tp)) →
      post (f_present, f_events, f_now, f_active, nI F.length, zI tp.1, zI tp.2.1, zI tp.2.2, f_edges, a_fromX, a_fromY, a_toX, a_toY, a_eventX, a_eventY, a_eventBottom, upd a_eventSet i st, a_order, fr', a_edgeFrom, a_edgeTo, a_edgeSegment, a_gone, a_groupOf)) :
    ∀ (n m : Nat), 10 - m < n → m ≤ 10 → ∀ (F : List Nat) (fr : Nat → Int32) (st : Int32), xl F fr → F.Pairwise (fun j k => ge_m (g j) < ge_m (g k)) → (∀ k, k ∈ F ↔ (k ∈ I ∧ xe_P tp ≠ ge_to (g k)) ∨ (k < m ∧ pr k ∧ xe_P tp = ge_fr (g k))) → xb st (fun k => k ∈ I ∨ (k < m ∧ pr k ∧ xe_P tp = ge_fr (g k))) →
      wX_gather_68 post n st (nI m) f_present f_events f_now f_active (nI F.length) (zI tp.1) (zI tp.2.1) (zI tp.2.2) f_edges a_fromX a_fromY a_toX a_toY a_eventX a_eventY a_eventBottom a_eventSet a_order fr a_edgeFrom a_edgeTo a_edgeSegment a_gone a_groupOf := by
  intro n
  induction n with
  | zero => intro m hm; omega
  | succ n ih =>
    intro m hm hm2 F fr st hF hs hmem hst
    have frp : ∀ k, pr k → xe_P tp = ge_fr (g k) → ge_on (g k) (xe_P tp) ∧ xe_P tp ≠ ge_to (g k) := by
      intro k pk e
      rw [e]
      exact ⟨ge_on_fr (G.1 k pk).2, ge_fr_to (G.1 k pk).2⟩
    refine pk_le 10 m (fun hle => ?_) (fun hlt => ?_) rfl rfl (by omega) (by omega)
    · have : m = 10 := by omega
      subst this
      rw [hnow]
      refine And.intro (vp_in_nI hi (by omega)) (nm_e ?_)
      rw [nI_clamp (by omega), ← hnow]
      refine h F fr st ?_ hs hF ?_
      · intro k
        rw [hmem k, hI k]
        constructor
        · rintro (⟨⟨a, b, c⟩, d⟩ | ⟨a, b, c⟩)
          · exact ⟨a, b, d⟩
          · exact ⟨b, (frp k b c).1, (frp k b c).2⟩
        · rintro ⟨a, b, c⟩
          by_cases e : xe_P tp = ge_fr (g k)
          · exact Or.inr ⟨(G.1 k a).1, a, e⟩
          · exact Or.inl ⟨⟨a, b, e⟩, c⟩
      · refine xb_co hst ?_
        intro k hk
        rw [hI k]
        constructor
        · rintro (⟨a, b, c⟩ | ⟨a, b, c⟩)
          · exact ⟨a, b⟩
          · exact ⟨b, (frp k b c).1⟩
        · rintro ⟨a, b⟩
          by_cases e : xe_P tp = ge_fr (g k)
          · exact Or.inr ⟨hk, a, e⟩
          · exact Or.inl ⟨a, b, e⟩
    · have skip : ¬ (pr m ∧ xe_P tp = ge_fr (g m)) → wX_gather_68 post n st (nI (m + 1)) f_present f_events f_now f_active (nI F.length) (zI tp.1) (zI tp.2.1) (zI tp.2.2) f_edges a_fromX a_fromY a_toX a_toY a_eventX a_eventY a_eventBottom a_eventSet a_order fr a_edgeFrom a_edgeTo a_edgeSegment a_gone a_groupOf := by
        intro hno
        have eqv : ∀ k, (k < m ∧ pr k ∧ xe_P tp = ge_fr (g k)) ↔ (k < m + 1 ∧ pr k ∧ xe_P tp = ge_fr (g k)) := by
          intro k
          constructor
          · rintro ⟨a, b⟩; exact ⟨by omega, b⟩
          · rintro ⟨a, b⟩
            refine ⟨?_, b⟩
            have : k ≠ m := fun z => hno (z ▸ b)
            omega
        refine ih (m + 1) (by omega) (by omega) F fr st hF hs (fun k => ?_) (xb_co hst (fun k _ => ?_))
        · rw [hmem k, eqv k]
        · rw [eqv k]
      refine xs_has_c hg.1 hlt (fun np => br_t rfl (nm_r (nI_1 m) (skip (fun z => np z.1)))) (fun hp => br_f (by decide) ?_)
      have v : vp_in (nI m) 10 := vp_in_nI hlt (by omega)
      obtain ⟨_, ok, e1, e2, e3, e4⟩ := hg.2 m hp
      obtain ⟨o1, o2, o3, o4, o5, o6, o7, o8, o9⟩ := id ok
      refine And.intro v (And.intro v ?_)
      rw [nI_clamp (by omega), e1, e2]
      refine xs_isAt ht o1 o2 o3 o4 (fun a b => ?_) (fun a => ?_)
      · have ef : xe_P tp = ge_fr (g m) := (xe_isat ht _ _).mp ⟨a, b⟩
        obtain ⟨onm, ntm⟩ := frp m hp ef
        refine br_f (by decide) (nm_e ?_)
        have hF' : ∀ f, f ∈ F → pr f ∧ ge_on (g f) (xe_P tp) ∧ xe_P tp ≠ ge_to (g f) ∧ f ≠ m := by
          intro f hf
          rcases (hmem f).mp hf with ⟨z1, z2⟩ | ⟨z1, z2, z3⟩
          · obtain ⟨y1, y2, y3⟩ := (hI f).mp z1
            exact ⟨y1, y2, z2, fun e => y3 (e ▸ ef)⟩
          · exact ⟨z2, (frp f z2 z3).1, (frp f z2 z3).2, by omega⟩
        refine xs_fresh G hg hp hF (fun f hf => (hF' f hf).1) hs (fun f hf => ?_) ?_
        · obtain ⟨y1, y2, y3, y4⟩ := hF' f hf
          exact sw_slope G y1 hp y4 y2 onm y3 ntm
        · intro F2 fr2 hm2' hs2 hx2
          refine nm_r (nI_1 m) (ih (m + 1) (by omega) (by omega) F2 fr2 _ hx2 hs2 ?_ (xb_co (xb_set hst hlt) ?_))
          · intro k
            rw [hm2' k, hmem k]
            constructor
            · rintro ((z | ⟨z1, z2⟩) | z)
              · exact Or.inl z
              · exact Or.inr ⟨by omega, z2⟩
              · exact Or.inr ⟨by omega, z ▸ ⟨hp, ef⟩⟩
            · rintro (z | ⟨z1, z2⟩)
              · exact Or.inl (Or.inl z)
              · by_cases e : k = m
                · exact Or.inr e
                · exact Or.inl (Or.inr ⟨by omega, z2⟩)
          · intro k _
            constructor
            · rintro ((z | ⟨z1, z2⟩) | z)
              · exact Or.inl z
              · exact Or.inr ⟨by omega, z2⟩
              · exact Or.inr ⟨by omega, z ▸ ⟨hp, ef⟩⟩
            · rintro (z | ⟨z1, z2⟩)
              · exact Or.inl (Or.inl z)
              · by_cases e : k = m
                · exact Or.inr e
                · exact Or.inl (Or.inr ⟨by omega, z2⟩)
      · refine br_t rfl (nm_r (nI_1 m) (skip (fun z => a ((xe_isat ht _ _).mpr z.2))))
theorem xs_gather10 {pr : Nat → Prop} {g : Nat → ge_S} (G : sw_G pr g) {post : SX → Prop} {A I C : List Nat} {tp : xe_T} {i : Nat} (hg : xg pr g f_present a_fromX a_fromY a_toX a_toY) (ht : xe_t tp) (hi : i < 66) (hnow : f_now = nI i)
    (hO : xl (A ++ (I ++ C)) a_order) (hl : (A ++ (I ++ C)).length ≤ 10) (hnd : (A ++ (I ++ C)).Nodup)
    (hI : ∀ k, k ∈ I ↔ pr k ∧ ge_on (g k) (xe_P tp) ∧ xe_P tp ≠ ge_fr (g k))
    (h : ∀ F fr' st, (∀ k, k ∈ F ↔ pr k ∧ ge_on (g k) (xe_P tp) ∧ xe_P tp ≠ ge_to (g k)) → F.Pairwise (fun j k => ge_m (g j) < ge_m (g k)) → xl F fr' → xb st (fun k => pr k ∧ ge_on (g k) (xe_P tp)) →
      post (f_present, f_events, f_now, f_active, nI F.length, zI tp.1, zI tp.2.1, zI tp.2.2, f_edges, a_fromX, a_fromY, a_toX, a_toY, a_eventX, a_eventY, a_eventBottom, upd a_eventSet i st, a_order, fr', a_edgeFrom, a_edgeTo, a_edgeSegment, a_gone, a_groupOf)) :
    ∀ (I2 I1 : List Nat) (n : Nat), I = I1 ++ I2 → I2.length < n → ∀ (F : List Nat) (fr : Nat → Int32) (st : Int32), xl F fr → F.Pairwise (fun j k => ge_m (g j) < ge_m (g k)) → (∀ k, k ∈ F ↔ k ∈ I1 ∧ xe_P tp ≠ ge_to (g k)) → xb st (fun k => k ∈ I1) →
      wX_gather_10 post (nI (A.length + I.length)) n st (nI (A.length + I1.length)) f_present f_events f_now f_active (nI F.length) (zI tp.1) (zI tp.2.1) (zI tp.2.2) f_edges a_fromX a_fromY a_toX a_toY a_eventX a_eventY a_eventBottom a_eventSet a_order fr a_edgeFrom a_edgeTo a_edgeSegment a_gone a_groupOf := by
  have hl' : A.length + I.length ≤ 10 := by simp at hl; omega
  intro I2
  induction I2 with
  | nil =>
    intro I1 n e hn F fr st hF hs hmem hst
    obtain ⟨m, rfl⟩ : ∃ m, n = m + 1 := ⟨n - 1, by simp at hn; omega⟩
    have ei : I1 = I := by rw [e, List.append_nil]
    subst ei
    refine br_t (nI_le (Nat.le_refl _) (by omega)) ⟨11, ?_⟩
    refine xs_gather68 G hg ht hi hnow hI h 11 0 (by omega) (by omega) F fr st hF hs (fun k => ?_) (xb_co hst (fun k _ => ?_))
    · rw [hmem k]
      exact ⟨Or.inl, fun z => z.elim id (fun w => absurd w.1 (by omega))⟩
    · exact ⟨Or.inl, fun z => z.elim id (fun w => absurd w.1 (by omega))⟩
  | cons k I2 ih =>
    intro I1 n e hn F fr st hF hs hmem hst
    obtain ⟨m, rfl⟩ : ∃ m, n = m + 1 := ⟨n - 1, by simp at hn; omega⟩
    have hlen : I.length = I1.length + (I2.length + 1) := by rw [e]; simp
    have hk : k ∈ I := by rw [e]; simp
    obtain ⟨pk, onk, nfk⟩ := (hI k).mp hk
    obtain ⟨k10, ok, e1, e2, e3, e4⟩ := hg.2 k pk
    obtain ⟨o1, o2, o3, o4, o5, o6, o7, o8, o9⟩ := id ok
    have hget : (A ++ (I ++ C))[A.length + I1.length]? = some k := by rw [e]; simp
    have hnk : k ∉ I1 := by
      intro z
      have n1 := (List.nodup_append.mp (List.nodup_append.mp hnd).2.1).1
      rw [e] at n1
      exact (List.nodup_append.mp n1).2.2 k z k List.mem_cons_self rfl
    refine br_f (nI_ge (by omega) (by omega)) (And.intro (vp_in_nI (by omega) (by omega)) ?_)
    refine nm_r (e' := nI k) (by rw [nI_clamp (by omega)]; exact hO _ _ hget) (nm_e ?_)
    have v : vp_in (nI k) 10 := vp_in_nI k10 (by omega)
    refine And.intro v (And.intro v ?_)
    rw [nI_clamp (by omega), e3, e4]
    have st' := xb_set hst k10
    have stp : ∀ j, (j ∈ I1 ∨ j = k) ↔ j ∈ I1 ++ [k] := by intro j; simp
    have en : nI (A.length + I1.length) + 1 = nI (A.length + (I1 ++ [k]).length) := by rw [nI_1]; simp; rfl
    have eI : I = (I1 ++ [k]) ++ I2 := by rw [e]; simp
    refine xs_isAt ht o5 o6 o7 o8 (fun a b => ?_) (fun a => ?_)
    · have ef : xe_P tp = ge_to (g k) := (xe_isat ht _ _).mp ⟨a, b⟩
      refine br_f (by decide) (nm_r en ?_)
      refine ih (I1 ++ [k]) m eI (by simp at hn; omega) F fr _ hF hs ?_ (xb_co st' (fun j _ => stp j))
      intro j
      rw [hmem j]
      constructor
      · rintro ⟨z1, z2⟩; exact ⟨by simp [z1], z2⟩
      · rintro ⟨z1, z2⟩
        rcases (stp j).mpr z1 with z | z
        · exact ⟨z, z2⟩
        · exact absurd (z ▸ ef) z2
    · have ntk : xe_P tp ≠ ge_to (g k) := fun z => a ((xe_isat ht _ _).mpr z)
      refine br_t rfl ?_
      have hF' : ∀ f, f ∈ F → pr f ∧ ge_on (g f) (xe_P tp) ∧ xe_P tp ≠ ge_to (g f) ∧ f ≠ k := by
        intro f hf
        obtain ⟨z1, z2⟩ := (hmem f).mp hf
        obtain ⟨y1, y2, y3⟩ := (hI f).mp (by rw [e]; simp [z1])
        exact ⟨y1, y2, z2, fun z => hnk (z ▸ z1)⟩
      refine xs_fresh G hg pk hF (fun f hf => (hF' f hf).1) hs (fun f hf => ?_) ?_
      · obtain ⟨y1, y2, y3, y4⟩ := hF' f hf
        exact sw_slope G y1 pk y4 y2 onk y3 ntk
      · intro F2 fr2 hm2 hs2 hx2
        refine nm_r en (ih (I1 ++ [k]) m eI (by simp at hn; omega) F2 fr2 _ hx2 hs2 ?_ (xb_co st' (fun j _ => stp j)))
        intro j
        rw [hm2 j, hmem j]
        constructor
        · rintro (⟨z1, z2⟩ | z)
          · exact ⟨by simp [z1], z2⟩
          · rw [z]; exact ⟨by simp, ntk⟩
        · rintro ⟨z1, z2⟩
          rcases (stp j).mpr z1 with z | z
          · exact Or.inl ⟨z, z2⟩
          · exact Or.inr z
theorem xs_gather {pr : Nat → Prop} {g : Nat → ge_S} (G : sw_G pr g) {post : SX → Prop} {A I C : List Nat} {tp : xe_T} {i : Nat} (hg : xg pr g f_present a_fromX a_fromY a_toX a_toY) (ht : xe_t tp) (hi : i < 66) (hnow : f_now = nI i)
    (hO : xl (A ++ (I ++ C)) a_order) (hl : (A ++ (I ++ C)).length ≤ 10) (hnd : (A ++ (I ++ C)).Nodup)
    (hI : ∀ k, k ∈ I ↔ pr k ∧ ge_on (g k) (xe_P tp) ∧ xe_P tp ≠ ge_fr (g k))
    (h : ∀ F fr' st, (∀ k, k ∈ F ↔ pr k ∧ ge_on (g k) (xe_P tp) ∧ xe_P tp ≠ ge_to (g k)) → F.Pairwise (fun j k => ge_m (g j) < ge_m (g k)) → xl F fr' → xb st (fun k => pr k ∧ ge_on (g k) (xe_P tp)) →
      post (f_present, f_events, f_now, f_active, nI F.length, zI tp.1, zI tp.2.1, zI tp.2.2, f_edges, a_fromX, a_fromY, a_toX, a_toY, a_eventX, a_eventY, a_eventBottom, upd a_eventSet i st, a_order, fr', a_edgeFrom, a_edgeTo, a_edgeSegment, a_gone, a_groupOf)) :
    wpX_gather post (f_present, f_events, f_now, f_active, f_freshCount, zI tp.1, zI tp.2.1, zI tp.2.2, f_edges, a_fromX, a_fromY, a_toX, a_toY, a_eventX, a_eventY, a_eventBottom, a_eventSet, a_order, a_fresh, a_edgeFrom, a_edgeTo, a_edgeSegment, a_gone, a_groupOf) (nI A.length) (nI (A.length + I.length)) :=
  ⟨I.length + 1, xs_gather10 G hg ht hi hnow hO hl hnd hI h I [] (I.length + 1) rfl (by omega) [] a_fresh 0 (fun i k e => absurd e (by simp)) List.Pairwise.nil (fun k => ⟨fun z => absurd z (by simp), fun z => absurd z.1 (by simp)⟩) (xb_co xb_0 (fun k _ => ⟨fun z => z.elim, fun z => absurd z (by simp)⟩))⟩
end
end
section
/-! replace -/
theorem xr_more {a i q : Nat} (h : i ≤ 10) (h2 : q ≤ 10) (ha : a ≤ 10) : nI q - (nI (a + i) - nI a) = zI ((q : Int) - (i : Int)) := by
  rw [zI_nI, zI_nI, zI_nI, zI_sub, zI_sub]
  congr 1; omega
theorem xr_at {a i q t : Nat} : nI (a + i + t) + zI ((q : Int) - (i : Int)) = nI (a + q + t) := by
  rw [zI_nI, zI_nI, zI_add]
  congr 1; omega
theorem xr_get {A I C : List Nat} {t k : Nat} (h : C[t]? = some k) : (A ++ (I ++ C))[A.length + I.length + t]? = some k := by
  rw [List.getElem?_append_right (by omega), List.getElem?_append_right (by omega)]
  have : A.length + I.length + t - A.length - I.length = t := by omega
  rw [this]; exact h
section
variable {f_present f_events f_now f_active f_freshCount f_pointX f_pointY f_pointBottom f_edges : Int32} {a_fromX a_fromY a_toX a_toY a_eventX a_eventY a_eventBottom a_eventSet a_order a_fresh a_edgeFrom a_edgeTo a_edgeSegment a_gone a_groupOf : Nat → Int32}
theorem xs_repl89 {post : SX → Prop} {A F C : List Nat} {i : Nat} (hF : xl F a_fresh) (hq : f_freshCount = nI F.length) (hl' : (A ++ (F ++ C)).length ≤ 10) (hF10 : ∀ k, k ∈ F → k < 10) (hact : f_active = nI (A.length + i + C.length))
    (h : ∀ o', xl (A ++ (F ++ C)) o' → post (f_present, f_events, f_now, nI (A ++ (F ++ C)).length, f_freshCount, f_pointX, f_pointY, f_pointBottom, f_edges, a_fromX, a_fromY, a_toX, a_toY, a_eventX, a_eventY, a_eventBottom, a_eventSet, o', a_fresh, a_edgeFrom, a_edgeTo, a_edgeSegment, a_gone, a_groupOf)) :
    ∀ (n t : Nat), F.length - t < n → t ≤ F.length → ∀ o : Nat → Int32, xl A o → (∀ s k, C[s]? = some k → o (A.length + F.length + s) = nI k) → (∀ s k, s < t → F[s]? = some k → o (A.length + s) = nI k) →
      wX_replace_89 post (nI A.length) (zI ((F.length : Int) - (i : Int))) f_present f_events f_now f_active f_freshCount f_pointX f_pointY f_pointBottom f_edges n (nI t) a_fromX a_fromY a_toX a_toY a_eventX a_eventY a_eventBottom a_eventSet o a_fresh a_edgeFrom a_edgeTo a_edgeSegment a_gone a_groupOf := by
  have hl : A.length + (F.length + C.length) ≤ 10 := by simpa using hl'
  intro n
  induction n with
  | zero => intro t ht; omega
  | succ n ih =>
    intro t ht ht2 o h1 h2 h3
    rw [hq] at *
    refine pk_le F.length t (fun hle => ?_) (fun hlt => ?_) rfl rfl (by omega) (by omega)
    · refine nm_r (e' := nI (A ++ (F ++ C)).length) ?_ ?_
      · rw [hact, zI_nI, zI_nI, zI_add]
        congr 1; simp; omega
      · refine h o ?_
        intro j k hj
        by_cases c : j < A.length
        · rw [List.getElem?_append_left c] at hj
          exact h1 j k hj
        · rw [List.getElem?_append_right (by omega)] at hj
          by_cases d : j - A.length < F.length
          · rw [List.getElem?_append_left d] at hj
            have := h3 (j - A.length) k (by omega) hj
            rw [show A.length + (j - A.length) = j by omega] at this
            exact this
          · rw [List.getElem?_append_right (by omega)] at hj
            have := h2 _ k hj
            rw [show A.length + F.length + (j - A.length - F.length) = j by omega] at this
            exact this
    · obtain ⟨k, hk⟩ : ∃ k, F[t]? = some k := ⟨_, List.getElem?_eq_getElem (by omega)⟩
      have k10 := hF10 k (List.mem_of_getElem? hk)
      refine And.intro (vp_in_nI (by omega) (by omega)) ?_
      rw [nI_add]
      refine And.intro (vp_in_nI (by omega) (by omega)) (nm_e (nm_r (nI_1 t) ?_))
      rw [nI_clamp (by omega), nI_clamp (by omega), hF t k hk, xn_b (by omega)]
      refine ih (t + 1) (by omega) (by omega) _ ?_ ?_ ?_
      · intro j k' hj
        have := xe_len hj
        rw [pk_un (by omega)]
        exact h1 j k' hj
      · intro s k' hs
        rw [pk_un (by omega)]
        exact h2 s k' hs
      · intro s k' hs hk'
        by_cases c : s = t
        · subst c
          rw [pk_us]
          rw [hk] at hk'
          injection hk' with e
          rw [e]
        · rw [pk_un (by omega)]
          exact h3 s k' (by omega) hk'
theorem xs_repl55 {post : SX → Prop} {A I F C : List Nat} (hle : F.length ≤ I.length) (hl : (A ++ (I ++ C)).length ≤ 10) (hC10 : ∀ k, k ∈ C → k < 10) (hact : f_active = nI (A.length + I.length + C.length))
    (h : ∀ o, xl A o → (∀ s k, C[s]? = some k → o (A.length + F.length + s) = nI k) → ∃ n, wX_replace_89 post (nI A.length) (zI ((F.length : Int) - (I.length : Int))) f_present f_events f_now f_active f_freshCount f_pointX f_pointY f_pointBottom f_edges n (nI 0) a_fromX a_fromY a_toX a_toY a_eventX a_eventY a_eventBottom a_eventSet o a_fresh a_edgeFrom a_edgeTo a_edgeSegment a_gone a_groupOf) :
    ∀ (n t : Nat), C.length - t < n → t ≤ C.length → ∀ o : Nat → Int32, xl A o → (∀ s k, s < t → C[s]? = some k → o (A.length + F.length + s) = nI k) → (∀ s k, t ≤ s → C[s]? = some k → o (A.length + I.length + s) = nI k) →
      wX_replace_55 post (nI A.length) (zI ((F.length : Int) - (I.length : Int))) f_present f_events f_now f_active f_freshCount f_pointX f_pointY f_pointBottom f_edges n (nI (A.length + I.length + t)) a_fromX a_fromY a_toX a_toY a_eventX a_eventY a_eventBottom a_eventSet o a_fresh a_edgeFrom a_edgeTo a_edgeSegment a_gone a_groupOf := by
  have hl2 : A.length + (I.length + C.length) ≤ 10 := by simpa using hl
  intro n
  induction n with
  | zero => intro t ht; omega
  | succ n ih =>
    intro t ht ht2 o h1 h2 h3
    rw [hact] at *
    refine pk_le (A.length + I.length + C.length) (A.length + I.length + t) (fun hle => ?_) (fun hlt => ?_) rfl rfl (by omega) (by omega)
    · exact h o h1 (fun s k hs => h2 s k (by have := xe_len hs; omega) hs)
    · obtain ⟨k, hk⟩ : ∃ k, C[t]? = some k := ⟨_, List.getElem?_eq_getElem (by omega)⟩
      have k10 := hC10 k (List.mem_of_getElem? hk)
      refine And.intro (vp_in_nI (by omega) (by omega)) ?_
      rw [xr_at]
      refine And.intro (vp_in_nI (by omega) (by omega)) (nm_e (nm_r (e' := nI (A.length + I.length + (t + 1))) (by rw [nI_1]; rfl) ?_))
      rw [nI_clamp (by omega), nI_clamp (by omega), h3 t k (by omega) hk, xn_b (by omega)]
      refine ih (t + 1) (by omega) (by omega) _ ?_ ?_ ?_
      · intro j k' hj
        have := xe_len hj
        rw [pk_un (by omega)]
        exact h1 j k' hj
      · intro s k' hs hk'
        by_cases c : s = t
        · subst c
          rw [pk_us]
          rw [hk] at hk'
          injection hk' with e
          rw [e]
        · rw [pk_un (by omega)]
          exact h2 s k' (by omega) hk'
      · intro s k' hs hk'
        rw [pk_un (by omega)]
        exact h3 s k' (by omega) hk'
theorem xs_repl21 {post : SX → Prop} {A I F C : List Nat} (hgt : I.length < F.length) (hl : (A ++ (F ++ C)).length ≤ 10) (hC10 : ∀ k, k ∈ C → k < 10)
    (h : ∀ o, xl A o → (∀ s k, C[s]? = some k → o (A.length + F.length + s) = nI k) → ∃ n, wX_replace_89 post (nI A.length) (zI ((F.length : Int) - (I.length : Int))) f_present f_events f_now f_active f_freshCount f_pointX f_pointY f_pointBottom f_edges n (nI 0) a_fromX a_fromY a_toX a_toY a_eventX a_eventY a_eventBottom a_eventSet o a_fresh a_edgeFrom a_edgeTo a_edgeSegment a_gone a_groupOf) :
    ∀ (n t : Nat), t < n → t ≤ C.length → ∀ o : Nat → Int32, xl A o → (∀ s k, t ≤ s → C[s]? = some k → o (A.length + F.length + s) = nI k) → (∀ s k, s < t → C[s]? = some k → o (A.length + I.length + s) = nI k) →
      wX_replace_21 post (nI A.length) (nI (A.length + I.length)) (zI ((F.length : Int) - (I.length : Int))) f_present f_events f_now f_active f_freshCount f_pointX f_pointY f_pointBottom f_edges n (nI (A.length + I.length + t) - 1) a_fromX a_fromY a_toX a_toY a_eventX a_eventY a_eventBottom a_eventSet o a_fresh a_edgeFrom a_edgeTo a_edgeSegment a_gone a_groupOf := by
  have hl2 : A.length + (F.length + C.length) ≤ 10 := by simpa using hl
  intro n
  induction n with
  | zero => intro t ht; omega
  | succ n ih =>
    intro t ht ht2 o h1 h2 h3
    cases t with
    | zero =>
      refine br_t ?_ (h o h1 (fun s k hs => h2 s k (by omega) hs))
      rw [zI_nI, zI_1, zI_sub, zI_nI]
      exact (zI_lt ⟨by omega, by omega⟩ ⟨by omega, by omega⟩).mpr (by omega)
    | succ t =>
      have e1 : nI (A.length + I.length + (t + 1)) - 1 = nI (A.length + I.length + t) := nI_pred _
      rw [e1]
      refine br_f (nI_nlt (by omega) (by omega)) ?_
      obtain ⟨k, hk⟩ : ∃ k, C[t]? = some k := ⟨_, List.getElem?_eq_getElem (by omega)⟩
      have k10 := hC10 k (List.mem_of_getElem? hk)
      refine And.intro (vp_in_nI (by omega) (by omega)) ?_
      rw [xr_at]
      refine And.intro (vp_in_nI (by omega) (by omega)) (nm_e (nm_r (e' := nI (A.length + I.length + t) - 1) (by rw [Int32.sub_eq_add_neg]) ?_))
      rw [nI_clamp (by omega), nI_clamp (by omega), h3 t k (by omega) hk, xn_b (by omega)]
      refine ih t (by omega) (by omega) _ ?_ ?_ ?_
      · intro j k' hj
        have := xe_len hj
        rw [pk_un (by omega)]
        exact h1 j k' hj
      · intro s k' hs hk'
        by_cases c : s = t
        · subst c
          rw [pk_us]
          rw [hk] at hk'
          injection hk' with e
          rw [e]
        · rw [pk_un (by omega)]
          exact h2 s k' (by omega) hk'
      · intro s k' hs hk'
        rw [pk_un (by omega)]
        exact h3 s k' (by omega) hk'
theorem xs_replace {post : SX → Prop} {A I F C : List Nat} (hO : xl (A ++ (I ++ C)) a_order) (hF : xl F a_fresh) (hq : f_freshCount = nI F.length) (hact : f_active = nI (A ++ (I ++ C)).length) (hl : (A ++ (I ++ C)).length ≤ 10) (hl' : (A ++ (F ++ C)).length ≤ 10)
    (hC10 : ∀ k, k ∈ C → k < 10) (hF10 : ∀ k, k ∈ F → k < 10)
    (h : ∀ o', xl (A ++ (F ++ C)) o' → post (f_present, f_events, f_now, nI (A ++ (F ++ C)).length, f_freshCount, f_pointX, f_pointY, f_pointBottom, f_edges, a_fromX, a_fromY, a_toX, a_toY, a_eventX, a_eventY, a_eventBottom, a_eventSet, o', a_fresh, a_edgeFrom, a_edgeTo, a_edgeSegment, a_gone, a_groupOf)) :
    wpX_replace post (f_present, f_events, f_now, f_active, f_freshCount, f_pointX, f_pointY, f_pointBottom, f_edges, a_fromX, a_fromY, a_toX, a_toY, a_eventX, a_eventY, a_eventBottom, a_eventSet, a_order, a_fresh, a_edgeFrom, a_edgeTo, a_edgeSegment, a_gone, a_groupOf) (nI A.length) (nI (A.length + I.length)) := by
  have l1 : A.length + (I.length + C.length) ≤ 10 := by simpa using hl
  have l2 : A.length + (F.length + C.length) ≤ 10 := by simpa using hl'
  have hact' : f_active = nI (A.length + I.length + C.length) := by rw [hact]; congr 1; simp; omega
  have hA : xl A a_order := by
    intro j k hj
    exact hO j k (by rw [List.getElem?_append_left (xe_len hj)]; exact hj)
  have hCo : ∀ s k, C[s]? = some k → a_order (A.length + I.length + s) = nI k := fun s k hs => hO _ k (xr_get hs)
  have fin : ∀ o, xl A o → (∀ s k, C[s]? = some k → o (A.length + F.length + s) = nI k) → ∃ n, wX_replace_89 post (nI A.length) (zI ((F.length : Int) - (I.length : Int))) f_present f_events f_now f_active f_freshCount f_pointX f_pointY f_pointBottom f_edges n (nI 0) a_fromX a_fromY a_toX a_toY a_eventX a_eventY a_eventBottom a_eventSet o a_fresh a_edgeFrom a_edgeTo a_edgeSegment a_gone a_groupOf :=
    fun o a b => ⟨F.length + 1, xs_repl89 hF hq hl' hF10 hact' h (F.length + 1) 0 (by omega) (by omega) o a b (fun s k hs => absurd hs (by omega))⟩
  have em : f_freshCount - (nI (A.length + I.length) - nI A.length) = zI ((F.length : Int) - (I.length : Int)) := by rw [hq]; exact xr_more (by omega) (by omega) (by omega)
  refine nm_r em ?_
  refine ek_if (zI_le (b := 0) ⟨by omega, by omega⟩ ⟨by omega, by omega⟩) (fun c => ?_) (fun c => ?_)
  · exact ⟨C.length + 1, xs_repl55 (by omega) hl hC10 hact' fin (C.length + 1) 0 (by omega) (by omega) a_order hA (fun s k hs => absurd hs (by omega)) (fun s k _ hs => hCo s k hs)⟩
  · refine nm_r (e' := nI (A.length + I.length + C.length) - 1) (by rw [hact']) ?_
    exact ⟨C.length + 1, xs_repl21 (by omega) hl' hC10 fin (C.length + 1) C.length (by omega) (by omega) a_order hA (fun s k h1 h2 => by have := xe_len h2; omega) (fun s k _ hs => hCo s k hs)⟩
end
end
section
/-! sweep -/
def xw (pr : Nat → Prop) (g : Nat → ge_S) (E : List xe_T) (fe : Int32) (eX eY eB eS : Nat → Int32) : Prop :=
  xv pr g E fe eX eY eB ∧ (∀ q, q ∈ E.map xe_P ↔ sw_en pr g q ∨ sw_mt pr g q) ∧ (∀ i t, E[i]? = some t → xb (eS i) (fun k => pr k ∧ ge_on (g k) (xe_P t))) ∧ sw_T pr g (E.map xe_P) []
theorem xs_sB {s : ge_S} {t : xe_T} (hs : ge_ok s) (ht : xe_t t) : zB (ge_sI s t.1 t.2.1 t.2.2) := by
  obtain ⟨h1, h2, h3, h4, h5, h6, h7, h8, h9⟩ := hs
  obtain ⟨t1, t2, t3, t4, t5, t6⟩ := ht
  have m : ∀ z : Int, 0 ≤ z → z ≤ 20 → 0 ≤ z * t.2.2 ∧ z * t.2.2 ≤ 20 * t.2.2 := fun z hz hz2 => ⟨Int.mul_nonneg hz (by omega), Int.mul_le_mul_of_nonneg_right hz2 (by omega)⟩
  have m1 := m _ h1 h2
  have m2 := m _ h3 h4
  have a1 := zb_mul (x := ge_dx s) (y := t.2.1 - s.2.1 * t.2.2) (A := 20) (B := 16000) (by unfold ge_dx; omega) (by unfold ge_dx; omega) (by omega) (by omega)
  have a2 := zb_mul (x := ge_dy s) (y := t.1 - s.1 * t.2.2) (A := 20) (B := 16000) (by unfold ge_dy; omega) (by unfold ge_dy; omega) (by omega) (by omega)
  unfold ge_sI
  exact ⟨by omega, by omega⟩
section
variable {f_present f_events f_now f_active f_freshCount f_pointX f_pointY f_pointBottom f_edges : Int32} {a_fromX a_fromY a_toX a_toY a_eventX a_eventY a_eventBottom a_eventSet a_order a_fresh a_edgeFrom a_edgeTo a_edgeSegment a_gone a_groupOf : Nat → Int32}
theorem xs_sweep91 {pr : Nat → Prop} {g : Nat → ge_S} (G : sw_G pr g) {post : SX → Prop} {J : Int32 → Int32 → Int32 → Int32 → Int32 → Int32 → Int32 → Int32 → Int32 → (Nat → Int32) → (Nat → Int32) → (Nat → Int32) → (Nat → Int32) → (Nat → Int32) → (Nat → Int32) → (Nat → Int32) → (Nat → Int32) → (Nat → Int32) → (Nat → Int32) → (Nat → Int32) → (Nat → Int32) → (Nat → Int32) → (Nat → Int32) → (Nat → Int32) → Prop}
    {Dn Rs : List xe_T} {tp : xe_T} {A I C : List Nat} (hg : xg pr g f_present a_fromX a_fromY a_toX a_toY) (hv : xv pr g (Dn ++ [tp] ++ Rs) f_events a_eventX a_eventY a_eventBottom) (hnow : f_now = nI Dn.length)
    (hO : xl (A ++ (I ++ C)) a_order) (hact : f_active = nI (A ++ (I ++ C)).length)
    (hS : ∀ i t, Dn[i]? = some t → xb (a_eventSet i) (fun k => pr k ∧ ge_on (g k) (xe_P t)))
    (hW : sw_I pr g (Dn.map xe_P) (xe_P tp :: Rs.map xe_P) (A ++ (I ++ C))) (hT : sw_T pr g (Dn.map xe_P) (A ++ (I ++ C)))
    (hI : ∀ k, k ∈ I ↔ pr k ∧ ge_on (g k) (xe_P tp) ∧ xe_P tp ≠ ge_fr (g k)) (hIm : I.Pairwise (fun j k => ge_m (g k) < ge_m (g j)))
    (hAC : (A ++ C).Pairwise (fun j k => ge_h (g j) (ge_sc (xe_P tp)) < ge_h (g k) (ge_sc (xe_P tp)))) (hA : ∀ k, k ∈ A → ge_h (g k) (ge_sc (xe_P tp)) < (xe_P tp).2) (hC : ∀ k, k ∈ C → (xe_P tp).2 < ge_h (g k) (ge_sc (xe_P tp)))
    (hJ : ∀ Rs' L' fe fc px py pb eX eY eB eS o fr, xv pr g (Dn ++ [tp] ++ Rs') fe eX eY eB → sw_I pr g ((Dn ++ [tp]).map xe_P) (Rs'.map xe_P) L' → sw_T pr g ((Dn ++ [tp]).map xe_P) L' → xl L' o →
      (∀ i t, (Dn ++ [tp])[i]? = some t → xb (eS i) (fun k => pr k ∧ ge_on (g k) (xe_P t))) →
      J f_present fe (nI (Dn.length + 1)) (nI L'.length) fc px py pb f_edges a_fromX a_fromY a_toX a_toY eX eY eB eS o fr a_edgeFrom a_edgeTo a_edgeSegment a_gone a_groupOf) :
    wX_sweep_91 post J (nI A.length) (nI (A.length + I.length)) f_present f_events f_now f_active f_freshCount (zI tp.1) (zI tp.2.1) (zI tp.2.2) f_edges a_fromX a_fromY a_toX a_toY a_eventX a_eventY a_eventBottom a_eventSet a_order a_fresh a_edgeFrom a_edgeTo a_edgeSegment a_gone a_groupOf := by
  have hlen := xv_len G hv
  have hlen' : Dn.length < 66 := by simp at hlen; omega
  obtain ⟨v1, v2, v3, v4, v5⟩ := id hv
  have ht : xe_t tp := v3 tp (by simp)
  obtain ⟨w1, w2, w3, w4, w5, w6, w7, w8⟩ := id hW
  have pL : ∀ k, k ∈ A ++ (I ++ C) → pr k := fun k hk => ((w5 k).mp hk).1
  have l1 : (A ++ (I ++ C)).length ≤ 10 := ls_small w4 (fun k hk => (G.1 k (pL k hk)).1)
  unfold wX_sweep_91
  refine xs_gather G hg ht hlen' hnow hO l1 w4 hI ?_
  intro F fr st hF hFs hFx hst
  -- the order behind the event, whatever the events behind it are
  have base := fun (rest' : List ge_P) (r1 : (Dn.map xe_P ++ xe_P tp :: rest').Pairwise ge_lt) (r2 : ∀ q, q ∈ Rs.map xe_P → q ∈ rest') (r3 : ∀ q, q ∈ rest' → q ∈ Rs.map xe_P ∨ sw_mt pr g q) hb => sw_c G hW rfl hI hAC hA hC hF hFs (rest' := rest') r1 r2 r3 hb
  have pF : ∀ k, k ∈ F → pr k := fun k hk => ((hF k).mp hk).1
  have nod : (A ++ (F ++ C)).Nodup := by
    have hd : ∀ k, k ∈ F → ge_h (g k) (ge_sc (xe_P tp)) = (xe_P tp).2 := fun k hk => ((ge_on_iff (G.1 k (pF k hk)).2 _).mp ((hF k).mp hk).2.1).2.2.symm
    obtain ⟨n1, n2, n3⟩ := List.nodup_append.mp w4
    obtain ⟨n4, n5, n6⟩ := List.nodup_append.mp n2
    refine List.nodup_append.mpr ⟨n1, List.nodup_append.mpr ⟨ls_mnd hFs, n5, ?_⟩, ?_⟩
    · intro a ha b hb z
      have := hd a ha
      have := hC b hb
      rw [z] at *
      grind
    · intro a ha b hb
      rcases List.mem_append.mp hb with hb | hb
      · intro z
        have := hd b hb
        have := hA a ha
        rw [z] at *
        grind
      · exact n3 a ha b (List.mem_append_right _ hb)
  have pL' : ∀ k, k ∈ A ++ (F ++ C) → pr k := by
    intro k hk
    rcases List.mem_append.mp hk with z | z
    · exact pL k (List.mem_append_left _ z)
    · rcases List.mem_append.mp z with z | z
      · exact pF k z
      · exact pL k (List.mem_append_right _ (List.mem_append_right _ z))
  have l2 : (A ++ (F ++ C)).length ≤ 10 := ls_small nod (fun k hk => (G.1 k (pL' k hk)).1)
  have l3 : A.length + (F.length + C.length) ≤ 10 := by simpa using l2
  refine xs_replace hO hFx rfl hact l1 l2 (fun k hk => (G.1 k (pL k (List.mem_append_right _ (List.mem_append_right _ hk)))).1) (fun k hk => (G.1 k (pF k hk)).1) ?_
  intro o hx
  have hS' : ∀ i t, (Dn ++ [tp])[i]? = some t → xb ((upd a_eventSet Dn.length st) i) (fun k => pr k ∧ ge_on (g k) (xe_P t)) := by
    intro i t hi
    by_cases c : i < Dn.length
    · rw [List.getElem?_append_left c] at hi
      rw [pk_un (by omega)]
      exact hS i t hi
    · rw [List.getElem?_append_right (by omega)] at hi
      have h0 := xe_len hi
      have : i = Dn.length := by simp at h0; omega
      subst this
      rw [Nat.sub_self] at hi
      have e : tp = t := by simpa using hi
      rw [pk_us, ← e]
      exact hst
  have hen0 : ∀ q, sw_en pr g q → ge_lt (xe_P tp) q → q ∈ Rs.map xe_P := by
    intro q hq hl
    rcases List.mem_append.mp (w3 q hq) with z | z
    · have := (List.pairwise_append.mp w1).2.2 q z (xe_P tp) List.mem_cons_self
      exact absurd (ge_lt_tr this hl) ge_lt_ir
    · rcases List.mem_cons.mp z with z | z
      · rw [z] at hl; exact absurd hl ge_lt_ir
      · exact z
  have hSt : sw_St pr g (xe_P tp) (A ++ (I ++ C)) (A ++ (F ++ C)) := ⟨A, I, F, C, rfl, rfl, hI, hF, hIm, hFs, nod⟩
  have hT' : sw_T pr g ((Dn ++ [tp]).map xe_P) (A ++ (F ++ C)) := by
    rw [List.map_append]; exact sw_Ts hT hSt
  have srt : ∀ {Rs' : List xe_T} {fe : Int32} {eX eY eB : Nat → Int32}, xv pr g (Dn ++ [tp] ++ Rs') fe eX eY eB → (Dn.map xe_P ++ xe_P tp :: Rs'.map xe_P).Pairwise ge_lt := by
    intro Rs' fe eX eY eB hv'
    have := hv'.2.2.2.1
    simpa using this
  have fin : ∀ {Rs' : List xe_T} {fe : Int32} {eX eY eB : Nat → Int32}, xv pr g (Dn ++ [tp] ++ Rs') fe eX eY eB → (∀ q, q ∈ Rs.map xe_P → q ∈ Rs'.map xe_P) → (∀ q, q ∈ Rs'.map xe_P → q ∈ Rs.map xe_P ∨ sw_mt pr g q) →
      (∀ X j k Z, A ++ (F ++ C) = X ++ j :: k :: Z → (X.length + 1 = A.length ∨ X.length + 1 = A.length + F.length) → ∀ q, ge_on (g j) q → ge_on (g k) q → ge_lt (xe_P tp) q → q ∈ Rs'.map xe_P) → sw_I pr g ((Dn ++ [tp]).map xe_P) (Rs'.map xe_P) (A ++ (F ++ C)) := by
    intro Rs' fe eX eY eB hv' r2 r3 hb
    rw [List.map_append]
    exact base _ (srt hv') r2 r3 hb
  refine ek_if (nI_eq (b := 0) (by omega) (by omega)) (fun hz => ?_) (fun hz => ?_)
  · refine xs_look G (m := A.length) rfl (by omega) hg hv hnow hx rfl l2 pL' nod hen0 ?_
    intro Rs1 fe1 px1 py1 pb1 eX1 eY1 eB1 eS1 hv1 a1 a2 a3 a4
    refine nm_r (e' := nI (Dn.length + 1)) (by rw [hnow, nI_1]) ?_
    refine hJ Rs1 _ _ _ _ _ _ _ _ _ _ _ _ hv1 (fin hv1 a1 a2 ?_) hT' hx ?_
    · intro X j k Z e hc
      exact a3 X j k Z e (by rcases hc with c | c <;> omega)
    · intro i t hi
      rw [a4 i (by have := xe_len hi; simp at this; omega)]
      exact hS' i t hi
  · refine xs_look G (m := A.length) rfl (by omega) hg hv hnow hx rfl l2 pL' nod hen0 ?_
    intro Rs1 fe1 px1 py1 pb1 eX1 eY1 eB1 eS1 hv1 a1 a2 a3 a4
    refine xs_look G (m := A.length + F.length) (by rw [nI_add]) (by omega) hg hv1 hnow hx rfl l2 pL' nod (fun q b1 b2 => a1 q (hen0 q b1 b2)) ?_
    intro Rs2 fe2 px2 py2 pb2 eX2 eY2 eB2 eS2 hv2 b1 b2 b3 b4
    refine nm_r (e' := nI (Dn.length + 1)) (by rw [hnow, nI_1]) ?_
    refine hJ Rs2 _ _ _ _ _ _ _ _ _ _ _ _ hv2 (fin hv2 (fun q hq => b1 q (a1 q hq)) ?_ ?_) hT' hx ?_
    · intro q hq
      rcases b2 q hq with z | z
      · exact a2 q z
      · exact Or.inr z
    · intro X j k Z e hc q qj qk hl
      rcases hc with c | c
      · exact b1 q (a3 X j k Z e c q qj qk hl)
      · exact b3 X j k Z e c q qj qk hl
    · intro i t hi
      have hi' : i < Dn.length + 1 := by have := xe_len hi; simp at this; omega
      rw [b4 i hi', a4 i hi']
      exact hS' i t hi
end
end
section
/-! the loops of sweep -/
section
variable {f_present f_events f_now f_active f_freshCount f_pointX f_pointY f_pointBottom f_edges : Int32} {a_fromX a_fromY a_toX a_toY a_eventX a_eventY a_eventBottom a_eventSet a_order a_fresh a_edgeFrom a_edgeTo a_edgeSegment a_gone a_groupOf : Nat → Int32}
theorem xs_sweep64 {pr : Nat → Prop} {g : Nat → ge_S} (G : sw_G pr g) {post : SX → Prop} {J : Int32 → Int32 → Int32 → Int32 → Int32 → Int32 → Int32 → Int32 → Int32 → (Nat → Int32) → (Nat → Int32) → (Nat → Int32) → (Nat → Int32) → (Nat → Int32) → (Nat → Int32) → (Nat → Int32) → (Nat → Int32) → (Nat → Int32) → (Nat → Int32) → (Nat → Int32) → (Nat → Int32) → (Nat → Int32) → (Nat → Int32) → (Nat → Int32) → Prop}
    {tp : xe_T} {A I C : List Nat} (hg : xg pr g f_present a_fromX a_fromY a_toX a_toY) (ht : xe_t tp) (hO : xl (A ++ (I ++ C)) a_order) (hact : f_active = nI (A ++ (I ++ C)).length) (hl : (A ++ (I ++ C)).length ≤ 10) (hp : ∀ k, k ∈ A ++ (I ++ C) → pr k)
    (sI : ∀ k, k ∈ I → ge_side (g k) (xe_P tp) = 0) (sC : ∀ k, k ∈ C → ge_side (g k) (xe_P tp) < 0)
    (h : wX_sweep_91 post J (nI A.length) (nI (A.length + I.length)) f_present f_events f_now f_active f_freshCount (zI tp.1) (zI tp.2.1) (zI tp.2.2) f_edges a_fromX a_fromY a_toX a_toY a_eventX a_eventY a_eventBottom a_eventSet a_order a_fresh a_edgeFrom a_edgeTo a_edgeSegment a_gone a_groupOf) :
    ∀ (n t : Nat), I.length - t < n → t ≤ I.length → wX_sweep_64 post J (nI A.length) f_present f_events f_now f_active f_freshCount (zI tp.1) (zI tp.2.1) (zI tp.2.2) f_edges a_fromX a_fromY a_toX a_toY a_eventX a_eventY a_eventBottom a_eventSet a_order a_fresh a_edgeFrom a_edgeTo a_edgeSegment a_gone a_groupOf n (nI (A.length + t)) := by
  have l1 : A.length + (I.length + C.length) ≤ 10 := by simpa using hl
  have l2 : (A ++ (I ++ C)).length = A.length + (I.length + C.length) := by simp
  intro n
  induction n with
  | zero => intro t ht; omega
  | succ n ih =>
    intro t ht1 ht2
    have fin : t = I.length → wX_sweep_91 post J (nI A.length) (nI (A.length + t)) f_present f_events f_now f_active f_freshCount (zI tp.1) (zI tp.2.1) (zI tp.2.2) f_edges a_fromX a_fromY a_toX a_toY a_eventX a_eventY a_eventBottom a_eventSet a_order a_fresh a_edgeFrom a_edgeTo a_edgeSegment a_gone a_groupOf := fun e => by rw [e]; exact h
    refine pk_le (A ++ (I ++ C)).length (A.length + t) (fun hle => fin (by omega)) (fun hlt => ?_) hact rfl (by omega) (by omega)
    obtain ⟨k, hk⟩ : ∃ k, (A ++ (I ++ C))[A.length + t]? = some k := ⟨_, List.getElem?_eq_getElem (by omega)⟩
    have pk := hp k (List.mem_of_getElem? hk)
    refine And.intro (vp_in_nI (by omega) (by omega)) ?_
    rw [nI_clamp (by omega), hO _ k hk]
    have hb := xs_sB (G.1 k pk).2 ht
    refine xs_sideOf (hg.2 k pk) ?_
    refine ek_if (zI_eq (b := 0) hb ⟨by omega, by omega⟩) (fun c => ?_) (fun c => ?_)
    · have c' := (ge_sI_0 (g k) ht.1 (xe_at ht.1)).mp c
      have hlt' : t < I.length := by
        by_cases d : t < I.length
        · exact d
        · exfalso
          rw [List.getElem?_append_right (by omega), List.getElem?_append_right (by omega)] at hk
          have := sC k (List.mem_of_getElem? hk)
          rw [c'] at this
          exact absurd this (by grind)
      refine nm_r (e' := nI (A.length + (t + 1))) (by rw [nI_1]; rfl) (ih (t + 1) (by omega) (by omega))
    · refine fin ?_
      by_cases d : t = I.length
      · exact d
      · exfalso
        rw [List.getElem?_append_right (by omega), List.getElem?_append_left (by omega)] at hk
        exact c ((ge_sI_0 (g k) ht.1 (xe_at ht.1)).mpr (sI k (List.mem_of_getElem? hk)))
theorem xs_sweep35 {pr : Nat → Prop} {g : Nat → ge_S} (G : sw_G pr g) {post : SX → Prop} {J : Int32 → Int32 → Int32 → Int32 → Int32 → Int32 → Int32 → Int32 → Int32 → (Nat → Int32) → (Nat → Int32) → (Nat → Int32) → (Nat → Int32) → (Nat → Int32) → (Nat → Int32) → (Nat → Int32) → (Nat → Int32) → (Nat → Int32) → (Nat → Int32) → (Nat → Int32) → (Nat → Int32) → (Nat → Int32) → (Nat → Int32) → (Nat → Int32) → Prop}
    {tp : xe_T} {A I C : List Nat} (hg : xg pr g f_present a_fromX a_fromY a_toX a_toY) (ht : xe_t tp) (hO : xl (A ++ (I ++ C)) a_order) (hact : f_active = nI (A ++ (I ++ C)).length) (hl : (A ++ (I ++ C)).length ≤ 10) (hp : ∀ k, k ∈ A ++ (I ++ C) → pr k)
    (sA : ∀ k, k ∈ A → 0 < ge_side (g k) (xe_P tp)) (sI : ∀ k, k ∈ I → ge_side (g k) (xe_P tp) = 0) (sC : ∀ k, k ∈ C → ge_side (g k) (xe_P tp) < 0)
    (h : wX_sweep_91 post J (nI A.length) (nI (A.length + I.length)) f_present f_events f_now f_active f_freshCount (zI tp.1) (zI tp.2.1) (zI tp.2.2) f_edges a_fromX a_fromY a_toX a_toY a_eventX a_eventY a_eventBottom a_eventSet a_order a_fresh a_edgeFrom a_edgeTo a_edgeSegment a_gone a_groupOf) :
    ∀ (n t : Nat), A.length - t < n → t ≤ A.length → wX_sweep_35 post J f_present f_events f_now f_active f_freshCount (zI tp.1) (zI tp.2.1) (zI tp.2.2) f_edges a_fromX a_fromY a_toX a_toY a_eventX a_eventY a_eventBottom a_eventSet a_order a_fresh a_edgeFrom a_edgeTo a_edgeSegment a_gone a_groupOf n (nI t) := by
  have l1 : A.length + (I.length + C.length) ≤ 10 := by simpa using hl
  have l2 : (A ++ (I ++ C)).length = A.length + (I.length + C.length) := by simp
  intro n
  induction n with
  | zero => intro t ht; omega
  | succ n ih =>
    intro t ht1 ht2
    have fin : t = A.length → ∃ n64 : Nat, wX_sweep_64 post J (nI t) f_present f_events f_now f_active f_freshCount (zI tp.1) (zI tp.2.1) (zI tp.2.2) f_edges a_fromX a_fromY a_toX a_toY a_eventX a_eventY a_eventBottom a_eventSet a_order a_fresh a_edgeFrom a_edgeTo a_edgeSegment a_gone a_groupOf n64 (nI t) := fun e => by
      rw [e]
      exact ⟨I.length + 1, xs_sweep64 G hg ht hO hact hl hp sI sC h (I.length + 1) 0 (by omega) (by omega)⟩
    refine pk_le (A ++ (I ++ C)).length t (fun hle => fin (by omega)) (fun hlt => ?_) hact rfl (by omega) (by omega)
    obtain ⟨k, hk⟩ : ∃ k, (A ++ (I ++ C))[t]? = some k := ⟨_, List.getElem?_eq_getElem (by omega)⟩
    have pk := hp k (List.mem_of_getElem? hk)
    refine And.intro (vp_in_nI (by omega) (by omega)) ?_
    rw [nI_clamp (by omega), hO _ k hk]
    have hb := xs_sB (G.1 k pk).2 ht
    refine xs_sideOf (hg.2 k pk) ?_
    refine ek_if (zI_le (b := 0) hb ⟨by omega, by omega⟩) (fun c => ?_) (fun c => ?_)
    · refine fin ?_
      by_cases d : t = A.length
      · exact d
      · exfalso
        rw [List.getElem?_append_left (by omega)] at hk
        have := (ge_sI_p (g k) ht.1 (xe_at ht.1)).mpr (sA k (List.mem_of_getElem? hk))
        omega
    · have c' := (ge_sI_p (g k) ht.1 (xe_at ht.1)).mp (by omega)
      have hlt' : t < A.length := by
        by_cases d : t < A.length
        · exact d
        · exfalso
          rw [List.getElem?_append_right (by omega)] at hk
          rcases List.mem_append.mp (List.mem_of_getElem? hk) with z | z
          · have := sI k z; grind
          · have := sC k z; grind
      exact nm_r (nI_1 t) (ih (t + 1) (by omega) (by omega))
theorem xs_sweep14 {pr : Nat → Prop} {g : Nat → ge_S} (G : sw_G pr g) {post : SX → Prop} (hg : xg pr g f_present a_fromX a_fromY a_toX a_toY)
    (h : ∀ E fe nw ac fc px py pb eX eY eB eS o fr, xw pr g E fe eX eY eB eS → post (f_present, fe, nw, ac, fc, px, py, pb, f_edges, a_fromX, a_fromY, a_toX, a_toY, eX, eY, eB, eS, o, fr, a_edgeFrom, a_edgeTo, a_edgeSegment, a_gone, a_groupOf)) :
    ∀ (n : Nat) (Dn Rs : List xe_T) (L : List Nat) (fe fc px py pb : Int32) (eX eY eB eS o fr : Nat → Int32), 66 - Dn.length < n → xv pr g (Dn ++ Rs) fe eX eY eB → sw_I pr g (Dn.map xe_P) (Rs.map xe_P) L → sw_T pr g (Dn.map xe_P) L → xl L o →
      (∀ i t, Dn[i]? = some t → xb (eS i) (fun k => pr k ∧ ge_on (g k) (xe_P t))) →
      wX_sweep_14 post n f_present fe (nI Dn.length) (nI L.length) fc px py pb f_edges a_fromX a_fromY a_toX a_toY eX eY eB eS o fr a_edgeFrom a_edgeTo a_edgeSegment a_gone a_groupOf := by
  intro n
  induction n with
  | zero => intro Dn Rs L fe fc px py pb eX eY eB eS o fr hn; omega
  | succ n ih =>
    intro Dn Rs L fe fc px py pb eX eY eB eS o fr hn hv hW hT hO hS
    have hlen := xv_len G hv
    have hlen2 : Dn.length + Rs.length ≤ 65 := by simpa using hlen
    obtain ⟨v1, v2, v3, v4, v5⟩ := id hv
    refine pk_le (Dn ++ Rs).length Dn.length (fun hle => ?_) (fun hlt => ?_) v1 rfl (by omega) (by omega)
    · have hR : Rs = [] := by
        cases Rs with
        | nil => rfl
        | cons a Rs => simp at hle; omega
      subst hR
      rw [List.append_nil] at hv
      obtain ⟨f1, f2⟩ := sw_If G hW
      subst f1
      exact h Dn _ _ _ _ _ _ _ _ _ _ _ _ _ ⟨hv, f2, hS, hT⟩
    · cases Rs with
      | nil => simp at hlt
      | cons tp Rs =>
        have hget : (Dn ++ tp :: Rs)[Dn.length]? = some tp := by simp
        obtain ⟨e1, e2, e3⟩ := v2 _ _ hget
        have v : vp_in (nI Dn.length) 66 := vp_in_nI (by omega) (by omega)
        have ht : xe_t tp := v3 tp (by simp)
        have hv' : xv pr g (Dn ++ [tp] ++ Rs) fe eX eY eB := by simpa using hv
        rw [List.map_cons] at hW
        obtain ⟨A, I, C, e, sA, sI, sC, hI, hIm, hAC, hA, hC⟩ := sw_b G hW
        subst e
        obtain ⟨w1, w2, w3, w4, w5, w6, w7, w8⟩ := id hW
        have pL : ∀ k, k ∈ A ++ (I ++ C) → pr k := fun k hk => ((w5 k).mp hk).1
        have l1 : (A ++ (I ++ C)).length ≤ 10 := ls_small w4 (fun k hk => (G.1 k (pL k hk)).1)
        refine And.intro v (nm_r (e' := zI tp.1) (by rw [nI_clamp (by omega)]; exact e1) (And.intro v (nm_r (e' := zI tp.2.1) (by rw [nI_clamp (by omega)]; exact e2) (And.intro v (nm_r (e' := zI tp.2.2) (by rw [nI_clamp (by omega)]; exact e3) ?_)))))
        refine ⟨A.length + 1, xs_sweep35 G hg ht hO rfl l1 pL sA sI sC ?_ (A.length + 1) 0 (by omega) (by omega)⟩
        refine xs_sweep91 G hg hv' rfl hO rfl hS hW hT hI hIm hAC hA hC ?_
        intro Rs' L' fe' fc' px' py' pb' eX' eY' eB' eS' o' fr' b1 b2 b3 b4 b5
        have := ih (Dn ++ [tp]) Rs' L' fe' fc' px' py' pb' eX' eY' eB' eS' o' fr' (by simp; omega) b1 b2 b3 b4 b5
        rw [show (Dn ++ [tp]).length = Dn.length + 1 by simp] at this
        exact this
theorem xs_sweep {pr : Nat → Prop} {g : Nat → ge_S} (G : sw_G pr g) {post : SX → Prop} (hg : xg pr g f_present a_fromX a_fromY a_toX a_toY)
    (h : ∀ E fe nw ac fc px py pb eX eY eB eS o fr, xw pr g E fe eX eY eB eS → post (f_present, fe, nw, ac, fc, px, py, pb, f_edges, a_fromX, a_fromY, a_toX, a_toY, eX, eY, eB, eS, o, fr, a_edgeFrom, a_edgeTo, a_edgeSegment, a_gone, a_groupOf)) :
    wpX_sweep post (f_present, f_events, f_now, f_active, f_freshCount, f_pointX, f_pointY, f_pointBottom, f_edges, a_fromX, a_fromY, a_toX, a_toY, a_eventX, a_eventY, a_eventBottom, a_eventSet, a_order, a_fresh, a_edgeFrom, a_edgeTo, a_edgeSegment, a_gone, a_groupOf) := by
  unfold wpX_sweep
  refine xs_ends G hg ?_
  intro E fe px py pb eX eY eB eS hv hm
  refine ⟨67, xs_sweep14 G hg h 67 [] E [] _ _ _ _ _ _ _ _ _ _ _ (by simp) hv ?_ sw_T0 (fun i k e => absurd e (by simp)) (fun i t e => absurd e (by simp))⟩
  exact sw_I0 hv.2.2.2.1 hm
end
end
section
/-! overlap, as the reference looks at it -/
def yo_c (x1 y1 x2 y2 e0 e1 e2 e3 : Int) : Prop :=
  ((x2 - x1) * (e1 - y1) = (y2 - y1) * (e0 - x1) ∧ (x2 - x1) * (e3 - y1) = (y2 - y1) * (e2 - x1)) ∧
  ((x2 - x1) * x1 + (y2 - y1) * y1 < (x2 - x1) * e0 + (y2 - y1) * e1 ∨ (x2 - x1) * x1 + (y2 - y1) * y1 < (x2 - x1) * e2 + (y2 - y1) * e3) ∧
  ((x2 - x1) * e0 + (y2 - y1) * e1 < (x2 - x1) * x2 + (y2 - y1) * y2 ∨ (x2 - x1) * e2 + (y2 - y1) * e3 < (x2 - x1) * x2 + (y2 - y1) * y2)
theorem yo_sw1 {x1 y1 x2 y2 e0 e1 e2 e3 : Int} : yo_c x1 y1 x2 y2 e0 e1 e2 e3 ↔ yo_c x1 y1 x2 y2 e2 e3 e0 e1 := by
  unfold yo_c
  constructor <;> (rintro ⟨⟨a, b⟩, c, d⟩; exact ⟨⟨b, a⟩, c.symm, d.symm⟩)
theorem yo_sw2 {x1 y1 x2 y2 e0 e1 e2 e3 : Int} (h : yo_c x1 y1 x2 y2 e0 e1 e2 e3) : yo_c x2 y2 x1 y1 e0 e1 e2 e3 := by
  unfold yo_c at *
  obtain ⟨⟨a, b⟩, c, d⟩ := h
  have n1 : ∀ z : Int, (x1 - x2) * z = -((x2 - x1) * z) := fun z => by rw [← Int.neg_mul]; congr 1; omega
  have n2 : ∀ z : Int, (y1 - y2) * z = -((y2 - y1) * z) := fun z => by rw [← Int.neg_mul]; congr 1; omega
  have k : (x2 - x1) * (y2 - y1) = (y2 - y1) * (x2 - x1) := Int.mul_comm _ _
  have s1 : ∀ e : Int, (x2 - x1) * (e - y2) = (x2 - x1) * (e - y1) - (x2 - x1) * (y2 - y1) := fun e => by rw [← Int.mul_sub]; congr 1; omega
  have s2 : ∀ e : Int, (y2 - y1) * (e - x2) = (y2 - y1) * (e - x1) - (y2 - y1) * (x2 - x1) := fun e => by rw [← Int.mul_sub]; congr 1; omega
  refine ⟨⟨?_, ?_⟩, ?_, ?_⟩
  · rw [n1, n2, s1, s2]; omega
  · rw [n1, n2, s1, s2]; omega
  · rw [n1, n1, n1, n2, n2, n2]; omega
  · rw [n1, n1, n1, n2, n2, n2]; omega
/-- along a line, the product with the direction goes as x does -/
theorem yo_mono {dx dy xa ya xb yb : Int} (h : 0 < dx ∨ (dx = 0 ∧ 0 < dy)) (l : dx * (yb - ya) = dy * (xb - xa)) :
    (dx * xa + dy * ya < dx * xb + dy * yb ↔ (if dx = 0 then ya < yb else xa < xb)) := by
  rcases h with h | ⟨h, h'⟩
  · rw [if_neg (by omega)]
    have key : dx * ((dx * xb + dy * yb) - (dx * xa + dy * ya)) = (dx * dx + dy * dy) * (xb - xa) := by grind
    have pos : 0 < dx * dx + dy * dy := by
      have a1 := Int.mul_pos h h
      have a2 : 0 ≤ dy * dy := by
        rcases Int.le_total 0 dy with c | c
        · exact Int.mul_nonneg c c
        · have := Int.mul_nonneg (show 0 ≤ -dy by omega) (show 0 ≤ -dy by omega)
          rw [Int.neg_mul_neg] at this; exact this
      omega
    constructor
    · intro k
      have : 0 < (dx * dx + dy * dy) * (xb - xa) := by rw [← key]; exact Int.mul_pos h (by omega)
      have := Int.pos_of_mul_pos_right this pos
      omega
    · intro k
      have : 0 < dx * ((dx * xb + dy * yb) - (dx * xa + dy * ya)) := by rw [key]; exact Int.mul_pos pos (by omega)
      have := Int.pos_of_mul_pos_right this h
      omega
  · subst h
    rw [if_pos rfl, Int.zero_mul, Int.zero_mul, Int.zero_add, Int.zero_add]
    constructor
    · intro k
      exact Int.lt_of_mul_lt_mul_left k (Int.le_of_lt h')
    · intro k
      exact Int.mul_lt_mul_of_pos_left k h'
theorem yo_ov {k s : ge_S} (hk : ge_ok k) (hs : ge_ok s) : yo_c s.1 s.2.1 s.2.2.1 s.2.2.2 k.1 k.2.1 k.2.2.1 k.2.2.2 ↔ ge_ov k s := by
  obtain ⟨h1, h2, h3, h4, h5, h6, h7, h8, h9⟩ := id hk
  obtain ⟨g1, g2, g3, g4, g5, g6, g7, g8, g9⟩ := id hs
  have hd : 0 < s.2.2.1 - s.1 ∨ (s.2.2.1 - s.1 = 0 ∧ 0 < s.2.2.2 - s.2.1) := by omega
  have lin : ((s.2.2.1 - s.1) * (k.2.1 - s.2.1) = (s.2.2.2 - s.2.1) * (k.1 - s.1) ∧ (s.2.2.1 - s.1) * (k.2.2.2 - s.2.1) = (s.2.2.2 - s.2.1) * (k.2.2.1 - s.1)) ↔ (ge_turn k s = 0 ∧ ge_sI s k.1 k.2.1 1 = 0) := by
    unfold ge_turn ge_sI ge_dx ge_dy
    rw [Int.mul_one, Int.mul_one]
    have e : (s.2.2.1 - s.1) * (k.2.2.2 - s.2.1) - (s.2.2.2 - s.2.1) * (k.2.2.1 - s.1) = ((s.2.2.1 - s.1) * (k.2.1 - s.2.1) - (s.2.2.2 - s.2.1) * (k.1 - s.1)) - ((k.2.2.1 - k.1) * (s.2.2.2 - s.2.1) - (k.2.2.2 - k.2.1) * (s.2.2.1 - s.1)) := by grind
    constructor
    · rintro ⟨a, b⟩; exact ⟨by omega, by omega⟩
    · rintro ⟨a, b⟩; exact ⟨by omega, by omega⟩
  unfold yo_c ge_ov
  rw [lin]
  constructor
  · rintro ⟨⟨a, b⟩, c, d⟩
    obtain ⟨l1, l2⟩ := lin.mpr ⟨a, b⟩
    refine ⟨a, b, ?_⟩
    have z : ge_dx k = 0 ↔ s.2.2.1 - s.1 = 0 := by
      unfold ge_turn at a
      have a' : ge_dx k * (s.2.2.2 - s.2.1) = ge_dy k * (s.2.2.1 - s.1) := by unfold ge_dy ge_dx at *; omega
      constructor
      · intro z
        rw [z, Int.zero_mul] at a'
        rcases Int.mul_eq_zero.mp a'.symm with y | y
        · unfold ge_dx at z; unfold ge_dy at y; omega
        · exact y
      · intro z
        rw [z, Int.mul_zero] at a'
        rcases Int.mul_eq_zero.mp a' with y | y
        · exact y
        · omega
    -- the four comparisons
    have m1 := yo_mono (xa := s.1) (ya := s.2.1) (xb := k.1) (yb := k.2.1) hd l1
    have m2 := yo_mono (xa := s.1) (ya := s.2.1) (xb := k.2.2.1) (yb := k.2.2.2) hd l2
    have l3 : (s.2.2.1 - s.1) * (s.2.2.2 - k.2.1) = (s.2.2.2 - s.2.1) * (s.2.2.1 - k.1) := by grind
    have l4 : (s.2.2.1 - s.1) * (s.2.2.2 - k.2.2.2) = (s.2.2.2 - s.2.1) * (s.2.2.1 - k.2.2.1) := by grind
    have m3 := yo_mono (xa := k.1) (ya := k.2.1) (xb := s.2.2.1) (yb := s.2.2.2) hd l3
    have m4 := yo_mono (xa := k.2.2.1) (ya := k.2.2.2) (xb := s.2.2.1) (yb := s.2.2.2) hd l4
    rw [m1, m2] at c
    rw [m3, m4] at d
    by_cases y : s.2.2.1 - s.1 = 0
    · simp only [if_pos y] at c d
      have zk := z.mpr y
      left
      refine ⟨zk, ?_⟩
      unfold ge_dx at zk
      omega
    · simp only [if_neg y] at c d
      have zk : ge_dx k ≠ 0 := fun w => y (z.mp w)
      right
      refine ⟨zk, ?_⟩
      unfold ge_dx at zk
      omega
  · rintro ⟨a, b, c⟩
    obtain ⟨l1, l2⟩ := lin.mpr ⟨a, b⟩
    refine ⟨⟨a, b⟩, ?_⟩
    have z : ge_dx k = 0 ↔ s.2.2.1 - s.1 = 0 := by
      unfold ge_turn at a
      have a' : ge_dx k * (s.2.2.2 - s.2.1) = ge_dy k * (s.2.2.1 - s.1) := by unfold ge_dy ge_dx at *; omega
      constructor
      · intro z
        rw [z, Int.zero_mul] at a'
        rcases Int.mul_eq_zero.mp a'.symm with y | y
        · unfold ge_dx at z; unfold ge_dy at y; omega
        · exact y
      · intro z
        rw [z, Int.mul_zero] at a'
        rcases Int.mul_eq_zero.mp a' with y | y
        · exact y
        · omega
    have m2 := yo_mono (xa := s.1) (ya := s.2.1) (xb := k.2.2.1) (yb := k.2.2.2) hd l2
    have l3 : (s.2.2.1 - s.1) * (s.2.2.2 - k.2.1) = (s.2.2.2 - s.2.1) * (s.2.2.1 - k.1) := by grind
    have m3 := yo_mono (xa := k.1) (ya := k.2.1) (xb := s.2.2.1) (yb := s.2.2.2) hd l3
    refine ⟨Or.inr (m2.mpr ?_), Or.inl (m3.mpr ?_)⟩
    · split
      · next y =>
        rcases c with c | c
        · omega
        · exact absurd (z.mpr y) c.1
      · next y =>
        rcases c with c | c
        · exact absurd (z.mp c.1) y
        · omega
    · split
      · next y =>
        rcases c with c | c
        · omega
        · exact absurd (z.mpr y) c.1
      · next y =>
        rcases c with c | c
        · exact absurd (z.mp c.1) y
        · omega
/-- the other way round -/
def ge_sw (s : ge_S) : ge_S := (s.2.2.1, s.2.2.2, s.1, s.2.1)
theorem yo_any {k s : ge_S} (hk : ge_ok k) (hs : ge_ok s) {k' s' : ge_S} (ek : k' = k ∨ k' = ge_sw k) (es : s' = s ∨ s' = ge_sw s) : yo_c s'.1 s'.2.1 s'.2.2.1 s'.2.2.2 k'.1 k'.2.1 k'.2.2.1 k'.2.2.2 ↔ ge_ov k s := by
  have e1 : yo_c s'.1 s'.2.1 s'.2.2.1 s'.2.2.2 k'.1 k'.2.1 k'.2.2.1 k'.2.2.2 ↔ yo_c s'.1 s'.2.1 s'.2.2.1 s'.2.2.2 k.1 k.2.1 k.2.2.1 k.2.2.2 := by
    rcases ek with rfl | rfl
    · exact Iff.rfl
    · exact yo_sw1
  rw [e1, ← yo_ov hk hs]
  rcases es with rfl | rfl
  · exact Iff.rfl
  · exact ⟨yo_sw2, yo_sw2⟩
end
section
/-! place, overlap -/
def xp_q (a b : Nat) : ge_S := (((a % 32 : Nat) : Int), ((a / 32 : Nat) : Int), ((b % 32 : Nat) : Int), ((b / 32 : Nat) : Int))
theorem xp_ok {a b : Nat} (ha : xp_is a) (hb : xp_is b) (hn : a ≠ b) (ht : a % 32 < b % 32 ∨ (a % 32 = b % 32 ∧ a / 32 ≤ b / 32)) : ge_ok (xp_q a b) := by
  obtain ⟨a1, a2⟩ := ha
  obtain ⟨b1, b2⟩ := hb
  unfold ge_ok xp_q
  dsimp only
  omega
section
variable {f_present f_events f_now f_active f_freshCount f_pointX f_pointY f_pointBottom f_edges : Int32} {a_fromX a_fromY a_toX a_toY a_eventX a_eventY a_eventBottom a_eventSet a_order a_fresh a_edgeFrom a_edgeTo a_edgeSegment a_gone a_groupOf : Nat → Int32}
theorem xs_place62 {post : SX → Prop} {k a b : Nat} (hk : k < 10) (ha : a < 2 ^ 31) (hb : b < 2 ^ 31) (pa : xp_is a) (pb : xp_is b)
    (h : post (f_present, f_events, f_now, f_active, f_freshCount, f_pointX, f_pointY, f_pointBottom, f_edges, upd a_fromX k (zI (xp_q a b).1), upd a_fromY k (zI (xp_q a b).2.1), upd a_toX k (zI (xp_q a b).2.2.1), upd a_toY k (zI (xp_q a b).2.2.2), a_eventX, a_eventY, a_eventBottom, a_eventSet, a_order, a_fresh, a_edgeFrom, a_edgeTo, a_edgeSegment, a_gone, a_groupOf)) :
    wX_place_62 post (nI k) (nI a) (nI b) f_present f_events f_now f_active f_freshCount f_pointX f_pointY f_pointBottom f_edges a_fromX a_fromY a_toX a_toY a_eventX a_eventY a_eventBottom a_eventSet a_order a_fresh a_edgeFrom a_edgeTo a_edgeSegment a_gone a_groupOf := by
  have e1 : nI a - nI a / 32 * 32 = nI (a % 32) := pk_rem (d := 32) ha (by omega) (by omega)
  have e2 : nI a / 32 = nI (a / 32) := pk_div (d := 32) ha (by omega) (by omega)
  have e3 : nI b - nI b / 32 * 32 = nI (b % 32) := pk_rem (d := 32) hb (by omega) (by omega)
  have e4 : nI b / 32 = nI (b / 32) := pk_div (d := 32) hb (by omega) (by omega)
  have v : vp_in (nI k) 10 := vp_in_nI hk (by omega)
  have d : ¬ (32 : Int32) = 0 := by decide
  refine And.intro d (And.intro v (nm_e (And.intro d (And.intro v (nm_e (And.intro d (And.intro v (nm_e (And.intro d (And.intro v (nm_e ?_)))))))))))
  obtain ⟨p1, p2⟩ := pa
  obtain ⟨q1, q2⟩ := pb
  rw [e1, e2, e3, e4, nI_clamp (by omega), xn_i8 _ (by omega), xn_i8 _ (by omega), xn_i8 _ (by omega), xn_i8 _ (by omega), xn_b (by omega), xn_b (by omega), xn_b (by omega), xn_b (by omega), zI_nI, zI_nI, zI_nI, zI_nI]
  exact h
theorem xs_place {post : SX → Prop} {k a b : Nat} (hk : k < 10) (ha : a < 2 ^ 31) (hb : b < 2 ^ 31) (pa : xp_is a) (pb : xp_is b) (hn : a ≠ b)
    (h : ∀ s, (s = xp_q a b ∨ s = xp_q b a) → ge_ok s → post (f_present, f_events, f_now, f_active, f_freshCount, f_pointX, f_pointY, f_pointBottom, f_edges, upd a_fromX k (zI s.1), upd a_fromY k (zI s.2.1), upd a_toX k (zI s.2.2.1), upd a_toY k (zI s.2.2.2), a_eventX, a_eventY, a_eventBottom, a_eventSet, a_order, a_fresh, a_edgeFrom, a_edgeTo, a_edgeSegment, a_gone, a_groupOf)) :
    wpX_place post (f_present, f_events, f_now, f_active, f_freshCount, f_pointX, f_pointY, f_pointBottom, f_edges, a_fromX, a_fromY, a_toX, a_toY, a_eventX, a_eventY, a_eventBottom, a_eventSet, a_order, a_fresh, a_edgeFrom, a_edgeTo, a_edgeSegment, a_gone, a_groupOf) (nI k) (nI a) (nI b) := by
  have e1 : nI a - nI a / 32 * 32 = nI (a % 32) := pk_rem (d := 32) ha (by omega) (by omega)
  have e2 : nI a / 32 = nI (a / 32) := pk_div (d := 32) ha (by omega) (by omega)
  have e3 : nI b - nI b / 32 * 32 = nI (b % 32) := pk_rem (d := 32) hb (by omega) (by omega)
  have e4 : nI b / 32 = nI (b / 32) := pk_div (d := 32) hb (by omega) (by omega)
  have d : ¬ (32 : Int32) = 0 := by decide
  have one : (a % 32 < b % 32 ∨ (a % 32 = b % 32 ∧ a / 32 ≤ b / 32)) → wX_place_37 post (nI k) (nI a) (nI b) f_present f_events f_now f_active f_freshCount f_pointX f_pointY f_pointBottom f_edges a_fromX a_fromY a_toX a_toY a_eventX a_eventY a_eventBottom a_eventSet a_order a_fresh a_edgeFrom a_edgeTo a_edgeSegment a_gone a_groupOf := fun c =>
    br_t rfl (br_t rfl (xs_place62 hk ha hb pa pb (h _ (Or.inl rfl) (xp_ok pa pb hn c))))
  have two : (b % 32 < a % 32 ∨ (b % 32 = a % 32 ∧ b / 32 ≤ a / 32)) → wX_place_33 post (nI k) (nI a) (nI b) f_present f_events f_now f_active f_freshCount f_pointX f_pointY f_pointBottom f_edges a_fromX a_fromY a_toX a_toY a_eventX a_eventY a_eventBottom a_eventSet a_order a_fresh a_edgeFrom a_edgeTo a_edgeSegment a_gone a_groupOf := fun c =>
    br_f (by decide) (br_f (by decide) (xs_place62 hk hb ha pb pa (h _ (Or.inr rfl) (xp_ok pb pa (fun z => hn z.symm) c))))
  obtain ⟨p1, p2⟩ := id pa
  obtain ⟨q1, q2⟩ := id pb
  unfold wpX_place
  dsimp only
  rw [e1, e2, e3, e4]
  refine And.intro d (And.intro d (pk_lt (b % 32) (a % 32) (fun c => two (Or.inl c)) (fun c => And.intro d (And.intro d (pk_eq (a % 32) (b % 32) (fun c2 => And.intro d (And.intro d (pk_le (a / 32) (b / 32) (fun c3 => one (Or.inr ⟨c2, c3⟩)) (fun c3 => two (Or.inr ⟨c2.symm, by omega⟩)) rfl rfl (by omega) (by omega)))) (fun c2 => one (Or.inl (by omega))) rfl rfl (by omega) (by omega)))) rfl rfl (by omega) (by omega)))
theorem xs_ov134 {post : Int32 → SX → Prop} {f t of ot : Int} (bf : zB f) (bt' : zB t) (bo : zB of) (bp : zB ot) (h1 : (f < t ∧ f < ot ∧ of < t ∧ of < ot) → post 1 (f_present, f_events, f_now, f_active, f_freshCount, f_pointX, f_pointY, f_pointBottom, f_edges, a_fromX, a_fromY, a_toX, a_toY, a_eventX, a_eventY, a_eventBottom, a_eventSet, a_order, a_fresh, a_edgeFrom, a_edgeTo, a_edgeSegment, a_gone, a_groupOf)) (h0 : ¬ (f < t ∧ f < ot ∧ of < t ∧ of < ot) → post 0 (f_present, f_events, f_now, f_active, f_freshCount, f_pointX, f_pointY, f_pointBottom, f_edges, a_fromX, a_fromY, a_toX, a_toY, a_eventX, a_eventY, a_eventBottom, a_eventSet, a_order, a_fresh, a_edgeFrom, a_edgeTo, a_edgeSegment, a_gone, a_groupOf)) : wX_overlap_134 post (zI f) (zI t) (zI of) (zI ot) f_present f_events f_now f_active f_freshCount f_pointX f_pointY f_pointBottom f_edges a_fromX a_fromY a_toX a_toY a_eventX a_eventY a_eventBottom a_eventSet a_order a_fresh a_edgeFrom a_edgeTo a_edgeSegment a_gone a_groupOf := by
  have last : ∀ {a b : Int}, zB a → zB b → ((¬ b ≤ a) → post 1 (f_present, f_events, f_now, f_active, f_freshCount, f_pointX, f_pointY, f_pointBottom, f_edges, a_fromX, a_fromY, a_toX, a_toY, a_eventX, a_eventY, a_eventBottom, a_eventSet, a_order, a_fresh, a_edgeFrom, a_edgeTo, a_edgeSegment, a_gone, a_groupOf)) → ((b ≤ a) → post 0 (f_present, f_events, f_now, f_active, f_freshCount, f_pointX, f_pointY, f_pointBottom, f_edges, a_fromX, a_fromY, a_toX, a_toY, a_eventX, a_eventY, a_eventBottom, a_eventSet, a_order, a_fresh, a_edgeFrom, a_edgeTo, a_edgeSegment, a_gone, a_groupOf)) → wX_overlap_166 post (zI a) (zI b) f_present f_events f_now f_active f_freshCount f_pointX f_pointY f_pointBottom f_edges a_fromX a_fromY a_toX a_toY a_eventX a_eventY a_eventBottom a_eventSet a_order a_fresh a_edgeFrom a_edgeTo a_edgeSegment a_gone a_groupOf := fun ha hb k1 k0 => ek_if (zI_le hb ha) k0 k1
  refine ek_if (zI_le bf bo) (fun c => ?_) (fun c => ?_)
  · refine ek_if (zI_le bp bt') (fun d => ?_) (fun d => ?_)
    · exact last bo bp (fun e => h1 (by omega)) (fun e => h0 (by omega))
    · exact last bo bt' (fun e => h1 (by omega)) (fun e => h0 (by omega))
  · refine ek_if (zI_le bp bt') (fun d => ?_) (fun d => ?_)
    · exact last bf bp (fun e => h1 (by omega)) (fun e => h0 (by omega))
    · exact last bf bt' (fun e => h1 (by omega)) (fun e => h0 (by omega))
theorem xs_overlap {post : Int32 → SX → Prop} {j k : Nat} {s t : ge_S} (hj : xk a_fromX a_fromY a_toX a_toY j s) (hk : xk a_fromX a_fromY a_toX a_toY k t)
    (h1 : ge_ov s t → ∀ px py pb, post 1 (f_present, f_events, f_now, f_active, f_freshCount, px, py, pb, f_edges, a_fromX, a_fromY, a_toX, a_toY, a_eventX, a_eventY, a_eventBottom, a_eventSet, a_order, a_fresh, a_edgeFrom, a_edgeTo, a_edgeSegment, a_gone, a_groupOf)) (h0 : ¬ ge_ov s t → ∀ px py pb, post 0 (f_present, f_events, f_now, f_active, f_freshCount, px, py, pb, f_edges, a_fromX, a_fromY, a_toX, a_toY, a_eventX, a_eventY, a_eventBottom, a_eventSet, a_order, a_fresh, a_edgeFrom, a_edgeTo, a_edgeSegment, a_gone, a_groupOf)) :
    wpX_overlap post (f_present, f_events, f_now, f_active, f_freshCount, f_pointX, f_pointY, f_pointBottom, f_edges, a_fromX, a_fromY, a_toX, a_toY, a_eventX, a_eventY, a_eventBottom, a_eventSet, a_order, a_fresh, a_edgeFrom, a_edgeTo, a_edgeSegment, a_gone, a_groupOf) (nI j) (nI k) := by
  obtain ⟨kj, oj, e1, e2, e3, e4⟩ := id hj
  obtain ⟨kk, ok, f1, f2, f3, f4⟩ := id hk
  have vj : vp_in (nI j) 10 := vp_in_nI kj (by omega)
  have vk : vp_in (nI k) 10 := vp_in_nI kk (by omega)
  obtain ⟨h1', h2, h3, h4, h5, h6, h7, h8, h9⟩ := id oj
  obtain ⟨g1, g2, g3, g4, g5, g6, g7, g8, g9⟩ := id ok
  have b : -800 ≤ ge_turn s t ∧ ge_turn s t ≤ 800 := by
    have a1 := zb_mul (x := ge_dx s) (y := ge_dy t) (A := 20) (B := 20) (by unfold ge_dx; omega) (by unfold ge_dx; omega) (by unfold ge_dy; omega) (by unfold ge_dy; omega)
    have a2 := zb_mul (x := ge_dy s) (y := ge_dx t) (A := 20) (B := 20) (by unfold ge_dy; omega) (by unfold ge_dy; omega) (by unfold ge_dx; omega) (by unfold ge_dx; omega)
    unfold ge_turn; omega
  have z0 : zB 0 := ⟨by omega, by omega⟩
  unfold wpX_overlap
  refine xs_turn hj hk ?_
  refine ek_if (zI_eq (b := 0) ⟨by omega, by omega⟩ z0) (fun c => ?_) (fun c => h0 (fun z => c z.1) _ _ _)
  refine And.intro vj (And.intro vj ?_)
  rw [nI_clamp (by omega), e1, e2]
  refine xs_setPt (b := 1) ⟨by omega, by omega, by omega, by omega, by omega, by omega⟩ ?_
  intro r hr hp
  have ep : xe_P r = ge_fr s := hp _ (ge_at_1 _ _)
  have es : ge_sI t r.1 r.2.1 r.2.2 = 0 ↔ ge_sI t s.1 s.2.1 1 = 0 := by
    rw [ge_sI_0 t hr.1 (xe_at hr.1), ge_sI_0 t (by omega) (ge_at_1 s.1 s.2.1), ep]
    exact Iff.rfl
  refine xs_sideOf hk ?_
  refine ek_if (zI_eq (b := 0) (xs_sB ok hr) z0) (fun c2 => ?_) (fun c2 => h0 (fun z => c2 (es.mpr z.2.1)) _ _ _)
  have dxb : zB (ge_dx s) := by unfold ge_dx; exact ⟨by omega, by omega⟩
  refine xs_stepX hj ?_
  refine ek_if (zI_eq (b := 0) dxb z0) (fun c3 => ?_) (fun c3 => ?_)
  · refine br_f (by decide) (And.intro vj (br_f (by decide) (And.intro vj (br_f (by decide) (And.intro vk (br_f (by decide) (And.intro vk ?_)))))))
    rw [nI_clamp (by omega), nI_clamp (by omega), e2, e4, f2, f4]
    refine xs_ov134 ⟨by omega, by omega⟩ ⟨by omega, by omega⟩ ⟨by omega, by omega⟩ ⟨by omega, by omega⟩ (fun z => h1 ⟨c, es.mp c2, Or.inl ⟨c3, z⟩⟩ _ _ _) (fun z => h0 (fun w => z ?_) _ _ _)
    rcases w.2.2 with w | w
    · exact w.2
    · exact absurd c3 w.1
  · refine br_t rfl (And.intro vj (br_t rfl (And.intro vj (br_t rfl (And.intro vk (br_t rfl (And.intro vk ?_)))))))
    rw [nI_clamp (by omega), nI_clamp (by omega), e1, e3, f1, f3]
    refine xs_ov134 ⟨by omega, by omega⟩ ⟨by omega, by omega⟩ ⟨by omega, by omega⟩ ⟨by omega, by omega⟩ (fun z => h1 ⟨c, es.mp c2, Or.inr ⟨c3, z⟩⟩ _ _ _) (fun z => h0 (fun w => z ?_) _ _ _)
    rcases w.2.2 with w | w
    · exact absurd w.1 c3
    · exact w.2
end
end
section
/-! add, of the component -/
theorem xk_upd {aX aY tX tY : Nat → Int32} {j k : Nat} {s : ge_S} {x y z w : Int32} (h : xk aX aY tX tY j s) (hn : j ≠ k) : xk (upd aX k x) (upd aY k y) (upd tX k z) (upd tY k w) j s := by
  obtain ⟨h1, h2, e1, e2, e3, e4⟩ := h
  refine ⟨h1, h2, ?_, ?_, ?_, ?_⟩
  · rw [pk_un hn]; exact e1
  · rw [pk_un hn]; exact e2
  · rw [pk_un hn]; exact e3
  · rw [pk_un hn]; exact e4
theorem xk_new {aX aY tX tY : Nat → Int32} {k : Nat} {s : ge_S} (hk : k < 10) (h : ge_ok s) : xk (upd aX k (zI s.1)) (upd aY k (zI s.2.1)) (upd tX k (zI s.2.2.1)) (upd tY k (zI s.2.2.2)) k s :=
  ⟨hk, h, pk_us, pk_us, pk_us, pk_us⟩
def xg_p (pr : Nat → Prop) (k : Nat) : Nat → Prop := fun i => pr i ∨ i = k
def xg_g (g : Nat → ge_S) (k : Nat) (s : ge_S) : Nat → ge_S := fun i => if i = k then s else g i
theorem xg_g1 {g : Nat → ge_S} {k : Nat} {s : ge_S} : xg_g g k s k = s := if_pos rfl
theorem xg_g2 {g : Nat → ge_S} {i k : Nat} {s : ge_S} (h : i ≠ k) : xg_g g k s i = g i := if_neg h
theorem ge_sw_no {s : ge_S} (h : ge_ok s) (h' : ge_ok (ge_sw s)) : False := by
  obtain ⟨h1, h2, h3, h4, h5, h6, h7, h8, h9⟩ := h
  obtain ⟨g1, g2, g3, g4, g5, g6, g7, g8, g9⟩ := h'
  unfold ge_sw at *
  dsimp only at *
  omega
section
variable {f_present f_events f_now f_active f_freshCount f_pointX f_pointY f_pointBottom f_edges : Int32} {a_fromX a_fromY a_toX a_toY a_eventX a_eventY a_eventBottom a_eventSet a_order a_fresh a_edgeFrom a_edgeTo a_edgeSegment a_gone a_groupOf : Nat → Int32}
theorem xs_addAt {pr : Nat → Prop} {g : Nat → ge_S} {post : Int32 → SX → Prop} {k a b : Nat} (hg : xg pr g f_present a_fromX a_fromY a_toX a_toY) (hp10 : ∀ j, pr j → j < 10) (hk : k < 10) (nk : ¬ pr k) (ha : a < 2 ^ 31) (hb : b < 2 ^ 31) (pa : xp_is a) (pb : xp_is b) (hn : a ≠ b)
    (hR : ∀ s, (s = xp_q a b ∨ s = xp_q b a) → ge_ok s → (∃ j, pr j ∧ ge_ov (g j) s) → ∀ px py pb aX aY tX tY, xg pr g f_present aX aY tX tY → post (-3) (f_present, f_events, f_now, f_active, f_freshCount, px, py, pb, f_edges, aX, aY, tX, tY, a_eventX, a_eventY, a_eventBottom, a_eventSet, a_order, a_fresh, a_edgeFrom, a_edgeTo, a_edgeSegment, a_gone, a_groupOf))
    (hA : ∀ s, (s = xp_q a b ∨ s = xp_q b a) → ge_ok s → (∀ j, pr j → ¬ ge_ov (g j) s) → ∀ fp px py pb aX aY tX tY, xg (xg_p pr k) (xg_g g k s) fp aX aY tX tY → post (nI k) (fp, f_events, f_now, f_active, f_freshCount, px, py, pb, f_edges, aX, aY, tX, tY, a_eventX, a_eventY, a_eventBottom, a_eventSet, a_order, a_fresh, a_edgeFrom, a_edgeTo, a_edgeSegment, a_gone, a_groupOf)) :
    wpX_addAt post (f_present, f_events, f_now, f_active, f_freshCount, f_pointX, f_pointY, f_pointBottom, f_edges, a_fromX, a_fromY, a_toX, a_toY, a_eventX, a_eventY, a_eventBottom, a_eventSet, a_order, a_fresh, a_edgeFrom, a_edgeTo, a_edgeSegment, a_gone, a_groupOf) (nI k) (nI a) (nI b) := by
  unfold wpX_addAt
  refine xs_place hk ha hb pa pb hn ?_
  intro s hs ok
  have hgj : ∀ j, pr j → xk (upd a_fromX k (zI s.1)) (upd a_fromY k (zI s.2.1)) (upd a_toX k (zI s.2.2.1)) (upd a_toY k (zI s.2.2.2)) j (g j) := fun j pj => xk_upd (hg.2 j pj) (fun z => nk (z ▸ pj))
  have hgk : xk (upd a_fromX k (zI s.1)) (upd a_fromY k (zI s.2.1)) (upd a_toX k (zI s.2.2.1)) (upd a_toY k (zI s.2.2.2)) k s := xk_new hk ok
  generalize hX : upd a_fromX k (zI s.1) = aX at *
  generalize hY : upd a_fromY k (zI s.2.1) = aY at *
  generalize hU : upd a_toX k (zI s.2.2.1) = tX at *
  generalize hV : upd a_toY k (zI s.2.2.2) = tY at *
  have loop : ∀ (n m : Nat), 10 - m < n → m ≤ 10 → (∀ j, j < m → pr j → ¬ ge_ov (g j) s) → ∀ px py pb : Int32, wX_addAt_10 post (nI k) n (nI m) f_present f_events f_now f_active f_freshCount px py pb f_edges aX aY tX tY a_eventX a_eventY a_eventBottom a_eventSet a_order a_fresh a_edgeFrom a_edgeTo a_edgeSegment a_gone a_groupOf := by
    intro n
    induction n with
    | zero => intro m hm; omega
    | succ n ih =>
      intro m hm hm2 hno px py pb
      refine pk_le 10 m (fun hle => ?_) (fun hlt => ?_) rfl rfl (by omega) (by omega)
      · refine nm_e (hA s hs ok (fun j pj => hno j (by have := hp10 j pj; omega) pj) _ _ _ _ _ _ _ _ ⟨?_, ?_⟩)
        · exact xb_set hg.1 hk
        · intro j pj
          by_cases c : j = k
          · subst c; rw [xg_g1]; exact hgk
          · rw [xg_g2 c]; exact hgj j (pj.resolve_right c)
      · have skip : (∀ px py pb : Int32, ¬ (pr m ∧ ge_ov (g m) s) → wX_addAt_10 post (nI k) n (nI (m + 1)) f_present f_events f_now f_active f_freshCount px py pb f_edges aX aY tX tY a_eventX a_eventY a_eventBottom a_eventSet a_order a_fresh a_edgeFrom a_edgeTo a_edgeSegment a_gone a_groupOf) := by
          intro px py pb hc
          refine ih (m + 1) (by omega) (by omega) ?_ px py pb
          intro j hj pj ov
          by_cases c : j = m
          · subst c; exact hc ⟨pj, ov⟩
          · exact hno j (by omega) pj ov
        refine xs_has_c hg.1 hlt (fun np => br_t rfl (nm_r (nI_1 m) (skip _ _ _ (fun z => np z.1)))) (fun hp => br_f (by decide) ?_)
        refine xs_overlap (hgj m hp) hgk (fun ov px' py' pb' => br_f (by decide) ?_) (fun nov px' py' pb' => br_t rfl (nm_r (nI_1 m) (skip _ _ _ (fun z => nov z.2))))
        exact hR s hs ok ⟨m, hp, ov⟩ _ _ _ _ _ _ _ ⟨hg.1, hgj⟩
  exact ⟨11, loop 11 0 (by omega) (by omega) (fun j hj => absurd hj (by omega)) _ _ _⟩
theorem xs_refuse {pr : Nat → Prop} {g : Nat → ge_S} {post : Int32 → SX → Prop} {a b : Nat} (hall : ∀ j, j < 10 → pr j) (ha : a < 2 ^ 31) (hb : b < 2 ^ 31) (ia : xp_is a) (ib : xp_is b) (hn : a ≠ b)
    (hR : ∀ s, (s = xp_q a b ∨ s = xp_q b a) → ge_ok s → (∃ j, pr j ∧ ge_ov (g j) s) → ∀ px py pb aX aY tX tY, xg pr g f_present aX aY tX tY → post (-3) (f_present, f_events, f_now, f_active, f_freshCount, px, py, pb, f_edges, aX, aY, tX, tY, a_eventX, a_eventY, a_eventBottom, a_eventSet, a_order, a_fresh, a_edgeFrom, a_edgeTo, a_edgeSegment, a_gone, a_groupOf))
    (hF : ∀ s, (s = xp_q a b ∨ s = xp_q b a) → ge_ok s → (∀ j, j < 10 → ¬ ge_ov (g j) s) → ∀ px py pb aX aY tX tY, xg pr g f_present aX aY tX tY → post (-2) (f_present, f_events, f_now, f_active, f_freshCount, px, py, pb, f_edges, aX, aY, tX, tY, a_eventX, a_eventY, a_eventBottom, a_eventSet, a_order, a_fresh, a_edgeFrom, a_edgeTo, a_edgeSegment, a_gone, a_groupOf))
    (hp10 : ∀ j, pr j → j < 10) :
    ∀ (n m : Nat), 10 - m < n → m ≤ 10 → ∀ (px py pb : Int32) (aX aY tX tY : Nat → Int32), xg pr g f_present aX aY tX tY → (∀ j s, j < m → (s = xp_q a b ∨ s = xp_q b a) → ge_ok s → ¬ ge_ov (g j) s) →
      wX_refuse_2 post (nI a) (nI b) n (nI m) f_present f_events f_now f_active f_freshCount px py pb f_edges aX aY tX tY a_eventX a_eventY a_eventBottom a_eventSet a_order a_fresh a_edgeFrom a_edgeTo a_edgeSegment a_gone a_groupOf := by
  intro n
  induction n with
  | zero => intro m hm; omega
  | succ n ih =>
    intro m hm hm2 px py pb aX aY tX tY hg hno
    have body : ∀ l : Nat, l < 10 → l ≠ m → m < 10 → wX_refuse_17 post (wX_refuse_2 post (nI a) (nI b) n) (nI a) (nI b) (nI m) (nI l) f_present f_events f_now f_active f_freshCount px py pb f_edges aX aY tX tY a_eventX a_eventY a_eventBottom a_eventSet a_order a_fresh a_edgeFrom a_edgeTo a_edgeSegment a_gone a_groupOf := by
      intro l hl hlm hm10
      have v : vp_in (nI l) 10 := vp_in_nI hl (by omega)
      obtain ⟨_, ok, e1, e2, e3, e4⟩ := hg.2 l (hall l hl)
      obtain ⟨o1, o2, o3, o4, o5, o6, o7, o8, o9⟩ := id ok
      obtain ⟨x1, h1⟩ := Int.eq_ofNat_of_zero_le o1
      obtain ⟨y1, h2⟩ := Int.eq_ofNat_of_zero_le o3
      obtain ⟨x2, h3⟩ := Int.eq_ofNat_of_zero_le o5
      obtain ⟨y2, h4⟩ := Int.eq_ofNat_of_zero_le o7
      have n1 : (aX (nI l).toNatClampNeg + 32 * aY (nI l).toNatClampNeg) = nI (x1 + 32 * y1) := by
        rw [nI_clamp (by omega), e1, e2, h1, h2, ← zI_nI, ← zI_nI, ← nI_add, ← pk_mul]; rfl
      have n2 : (tX (nI l).toNatClampNeg + 32 * tY (nI l).toNatClampNeg) = nI (x2 + 32 * y2) := by
        rw [nI_clamp (by omega), e3, e4, h3, h4, ← zI_nI, ← zI_nI, ← nI_add, ← pk_mul]; rfl
      have q1 : xp_q (x1 + 32 * y1) (x2 + 32 * y2) = g l := by
        unfold xp_q
        refine Prod.ext ?_ (Prod.ext ?_ (Prod.ext ?_ ?_))
        · rw [h1]; show (((x1 + 32 * y1) % 32 : Nat) : Int) = (x1 : Int); congr 1; omega
        · show (((x1 + 32 * y1) / 32 : Nat) : Int) = (g l).2.1; rw [h2]; show (((x1 + 32 * y1) / 32 : Nat) : Int) = (y1 : Int); congr 1; omega
        · show (((x2 + 32 * y2) % 32 : Nat) : Int) = (g l).2.2.1; rw [h3]; show (((x2 + 32 * y2) % 32 : Nat) : Int) = (x2 : Int); congr 1; omega
        · show (((x2 + 32 * y2) / 32 : Nat) : Int) = (g l).2.2.2; rw [h4]; show (((x2 + 32 * y2) / 32 : Nat) : Int) = (y2 : Int); congr 1; omega
      refine And.intro v (And.intro v (nm_r n1 (And.intro v (And.intro v (nm_r n2 ?_)))))
      refine xs_place hl ha hb ia ib hn ?_
      intro s hs oks
      have km : xk (upd aX l (zI s.1)) (upd aY l (zI s.2.1)) (upd tX l (zI s.2.2.1)) (upd tY l (zI s.2.2.2)) m (g m) := xk_upd (hg.2 m (hall m hm10)) (fun z => hlm z.symm)
      have kl : xk (upd aX l (zI s.1)) (upd aY l (zI s.2.1)) (upd tX l (zI s.2.2.1)) (upd tY l (zI s.2.2.2)) l s := xk_new hl oks
      have is1 : xp_is (x1 + 32 * y1) := ⟨by omega, by omega⟩
      have is2 : xp_is (x2 + 32 * y2) := ⟨by omega, by omega⟩
      have restore : ∀ (r : Int32) (px py pb : Int32), ((r = 0 → ∀ aX' aY' tX' tY', xg pr g f_present aX' aY' tX' tY' → wX_refuse_2 post (nI a) (nI b) n (nI m + 1) f_present f_events f_now f_active f_freshCount px py pb f_edges aX' aY' tX' tY' a_eventX a_eventY a_eventBottom a_eventSet a_order a_fresh a_edgeFrom a_edgeTo a_edgeSegment a_gone a_groupOf) ∧ (¬ r = 0 → ∀ aX' aY' tX' tY', xg pr g f_present aX' aY' tX' tY' → post (-3) (f_present, f_events, f_now, f_active, f_freshCount, px, py, pb, f_edges, aX', aY', tX', tY', a_eventX, a_eventY, a_eventBottom, a_eventSet, a_order, a_fresh, a_edgeFrom, a_edgeTo, a_edgeSegment, a_gone, a_groupOf))) →
          wpX_place (fun u => match u with | (f_present, f_events, f_now, f_active, f_freshCount, f_pointX, f_pointY, f_pointBottom, f_edges, a_fromX, a_fromY, a_toX, a_toY, a_eventX, a_eventY, a_eventBottom, a_eventSet, a_order, a_fresh, a_edgeFrom, a_edgeTo, a_edgeSegment, a_gone, a_groupOf) => ((r = 0 → (∀ x3_85 : Int32, x3_85 = nI m + 1 → (wX_refuse_2 post (nI a) (nI b) n x3_85 f_present f_events f_now f_active f_freshCount f_pointX f_pointY f_pointBottom f_edges a_fromX a_fromY a_toX a_toY a_eventX a_eventY a_eventBottom a_eventSet a_order a_fresh a_edgeFrom a_edgeTo a_edgeSegment a_gone a_groupOf))) ∧ (¬ r = 0 → (post (-3) (f_present, f_events, f_now, f_active, f_freshCount, f_pointX, f_pointY, f_pointBottom, f_edges, a_fromX, a_fromY, a_toX, a_toY, a_eventX, a_eventY, a_eventBottom, a_eventSet, a_order, a_fresh, a_edgeFrom, a_edgeTo, a_edgeSegment, a_gone, a_groupOf))))) (f_present, f_events, f_now, f_active, f_freshCount, px, py, pb, f_edges, upd aX l (zI s.1), upd aY l (zI s.2.1), upd tX l (zI s.2.2.1), upd tY l (zI s.2.2.2), a_eventX, a_eventY, a_eventBottom, a_eventSet, a_order, a_fresh, a_edgeFrom, a_edgeTo, a_edgeSegment, a_gone, a_groupOf) (nI l) (nI (x1 + 32 * y1)) (nI (x2 + 32 * y2)) := by
        intro r px py pb hc
        refine xs_place hl (by omega) (by omega) is1 is2 ?_ ?_
        · intro z
          have : x1 = x2 ∧ y1 = y2 := by omega
          omega
        · intro s2 hs2 ok2
          have es : s2 = g l := by
            rcases hs2 with z | z
            · rw [z, q1]
            · exfalso
              have : s2 = ge_sw (g l) := by rw [z, ← q1]; rfl
              rw [this] at ok2
              exact ge_sw_no ok ok2
          subst es
          have hg2 : xg pr g f_present (upd (upd aX l (zI s.1)) l (zI (g l).1)) (upd (upd aY l (zI s.2.1)) l (zI (g l).2.1)) (upd (upd tX l (zI s.2.2.1)) l (zI (g l).2.2.1)) (upd (upd tY l (zI s.2.2.2)) l (zI (g l).2.2.2)) := by
            refine ⟨hg.1, fun j pj => ?_⟩
            by_cases c : j = l
            · subst c; exact xk_new hl ok
            · exact xk_upd (xk_upd (hg.2 j pj) c) c
          exact ⟨fun z => nm_e (hc.1 z _ _ _ _ hg2), fun z => hc.2 z _ _ _ _ hg2⟩
      refine xs_overlap km kl (fun ov px' py' pb' => restore 1 px' py' pb' ⟨fun z => absurd z (by decide), fun _ aX' aY' tX' tY' hg2 => ?_⟩) (fun nov px' py' pb' => restore 0 px' py' pb' ⟨fun _ aX' aY' tX' tY' hg2 => ?_, fun z => absurd rfl z⟩)
      · exact hR s hs oks ⟨m, hall m hm10, ov⟩ _ _ _ _ _ _ _ hg2
      · rw [nI_1]
        refine ih (m + 1) (by omega) (by omega) _ _ _ _ _ _ _ hg2 ?_
        intro j s' hj hs' oks'
        by_cases c : j = m
        · subst c
          have : s' = s := by
            rcases hs with z | z <;> rcases hs' with w | w
            · rw [z, w]
            · exfalso; rw [w] at oks'; rw [z] at oks; exact ge_sw_no oks oks'
            · exfalso; rw [w] at oks'; rw [z] at oks; exact ge_sw_no oks oks'
            · rw [z, w]
          rw [this]; exact nov
        · exact hno j s' (by omega) hs' oks'
    refine pk_le 10 m (fun hle => ?_) (fun hlt => ?_) rfl rfl (by omega) (by omega)
    · have h10 : m = 10 := by omega
      subst h10
      rcases (show a % 32 < b % 32 ∨ (a % 32 = b % 32 ∧ a / 32 ≤ b / 32) ∨ b % 32 < a % 32 ∨ (b % 32 = a % 32 ∧ b / 32 ≤ a / 32) by omega) with c | c | c | c
      · exact hF _ (Or.inl rfl) (xp_ok ia ib hn (Or.inl c)) (fun j hj => hno j _ hj (Or.inl rfl) (xp_ok ia ib hn (Or.inl c))) _ _ _ _ _ _ _ hg
      · exact hF _ (Or.inl rfl) (xp_ok ia ib hn (Or.inr c)) (fun j hj => hno j _ hj (Or.inl rfl) (xp_ok ia ib hn (Or.inr c))) _ _ _ _ _ _ _ hg
      · exact hF _ (Or.inr rfl) (xp_ok ib ia (fun z => hn z.symm) (Or.inl c)) (fun j hj => hno j _ hj (Or.inr rfl) (xp_ok ib ia (fun z => hn z.symm) (Or.inl c))) _ _ _ _ _ _ _ hg
      · exact hF _ (Or.inr rfl) (xp_ok ib ia (fun z => hn z.symm) (Or.inr c)) (fun j hj => hno j _ hj (Or.inr rfl) (xp_ok ib ia (fun z => hn z.symm) (Or.inr c))) _ _ _ _ _ _ _ hg
    · refine pk_eq m 0 (fun c => ?_) (fun c => ?_) rfl rfl (by omega) (by omega)
      · exact body 1 (by omega) (by omega) hlt
      · exact body 0 (by omega) (by omega) hlt
theorem xs_add {pr : Nat → Prop} {g : Nat → ge_S} {post : Int32 → SX → Prop} (hg : xg pr g f_present a_fromX a_fromY a_toX a_toY) (hp10 : ∀ j, pr j → j < 10) (v1 v2 : Int32)
    (hB : (∀ a b : Nat, a < 2 ^ 31 → b < 2 ^ 31 → v1 = nI a → v2 = nI b → xp_is a → xp_is b → a = b) → post (-1) (f_present, f_events, f_now, f_active, f_freshCount, f_pointX, f_pointY, f_pointBottom, f_edges, a_fromX, a_fromY, a_toX, a_toY, a_eventX, a_eventY, a_eventBottom, a_eventSet, a_order, a_fresh, a_edgeFrom, a_edgeTo, a_edgeSegment, a_gone, a_groupOf))
    (hR : ∀ a b s, a < 2 ^ 31 → b < 2 ^ 31 → v1 = nI a → v2 = nI b → xp_is a → xp_is b → a ≠ b → (s = xp_q a b ∨ s = xp_q b a) → ge_ok s → (∃ j, pr j ∧ ge_ov (g j) s) → ∀ px py pb aX aY tX tY, xg pr g f_present aX aY tX tY → post (-3) (f_present, f_events, f_now, f_active, f_freshCount, px, py, pb, f_edges, aX, aY, tX, tY, a_eventX, a_eventY, a_eventBottom, a_eventSet, a_order, a_fresh, a_edgeFrom, a_edgeTo, a_edgeSegment, a_gone, a_groupOf))
    (hF : ∀ a b s, a < 2 ^ 31 → b < 2 ^ 31 → v1 = nI a → v2 = nI b → xp_is a → xp_is b → a ≠ b → (s = xp_q a b ∨ s = xp_q b a) → ge_ok s → (∀ j, pr j → ¬ ge_ov (g j) s) → (∀ j, j < 10 → pr j) → ∀ px py pb aX aY tX tY, xg pr g f_present aX aY tX tY → post (-2) (f_present, f_events, f_now, f_active, f_freshCount, px, py, pb, f_edges, aX, aY, tX, tY, a_eventX, a_eventY, a_eventBottom, a_eventSet, a_order, a_fresh, a_edgeFrom, a_edgeTo, a_edgeSegment, a_gone, a_groupOf))
    (hA : ∀ a b s k, a < 2 ^ 31 → b < 2 ^ 31 → v1 = nI a → v2 = nI b → xp_is a → xp_is b → a ≠ b → (s = xp_q a b ∨ s = xp_q b a) → ge_ok s → (∀ j, pr j → ¬ ge_ov (g j) s) → k < 10 → ¬ pr k → (∀ j, j < k → pr j) → ∀ fp px py pb aX aY tX tY, xg (xg_p pr k) (xg_g g k s) fp aX aY tX tY → post (nI k) (fp, f_events, f_now, f_active, f_freshCount, px, py, pb, f_edges, aX, aY, tX, tY, a_eventX, a_eventY, a_eventBottom, a_eventSet, a_order, a_fresh, a_edgeFrom, a_edgeTo, a_edgeSegment, a_gone, a_groupOf)) :
    wpX_add post (f_present, f_events, f_now, f_active, f_freshCount, f_pointX, f_pointY, f_pointBottom, f_edges, a_fromX, a_fromY, a_toX, a_toY, a_eventX, a_eventY, a_eventBottom, a_eventSet, a_order, a_fresh, a_edgeFrom, a_edgeTo, a_edgeSegment, a_gone, a_groupOf) v1 v2 := by
  unfold wpX_add
  refine xs_isPoint v1 (fun no => br_t rfl (hB (fun a b ha hb ea eb pa pb => absurd pa (no a ha ea)))) (fun a ha ea pa => br_f (by decide) ?_)
  refine xs_isPoint v2 (fun no => br_t rfl (hB (fun a b ha hb ea eb pa pb => absurd pb (no b hb eb)))) (fun b hb eb pb => br_f (by decide) ?_)
  subst ea
  subst eb
  refine pk_eq a b (fun e => hB (fun a' b' ha' hb' ea eb _ _ => by rw [← (nI_eq ha ha').mp ea, ← (nI_eq hb hb').mp eb]; exact e)) (fun hn => ?_) rfl rfl ha hb
  have loop : ∀ (n m : Nat), 10 - m < n → m ≤ 10 → (∀ j, j < m → pr j) → wX_add_23 post (nI a) (nI b) f_present f_events f_now f_active f_freshCount f_pointX f_pointY f_pointBottom f_edges a_fromX a_fromY a_toX a_toY a_eventX a_eventY a_eventBottom a_eventSet a_order a_fresh a_edgeFrom a_edgeTo a_edgeSegment a_gone a_groupOf n (nI m) := by
    intro n
    induction n with
    | zero => intro m hm; omega
    | succ n ih =>
      intro m hm hm2 hall
      refine pk_le 10 m (fun hle => ?_) (fun hlt => ?_) rfl rfl (by omega) (by omega)
      · have h10 : m = 10 := by omega
        subst h10
        refine br_t (nI_le (a := 10) (b := 10) (by omega) (by omega)) ?_
        refine ⟨11, xs_refuse hall ha hb pa pb hn (fun s hs ok hov => hR a b s ha hb rfl rfl pa pb hn hs ok hov) (fun s hs ok hov => hF a b s ha hb rfl rfl pa pb hn hs ok (fun j pj => hov j (hp10 j pj)) hall) hp10 11 0 (by omega) (by omega) _ _ _ _ _ _ _ hg (fun j s hj => absurd hj (by omega))⟩
      · refine xs_has_c hg.1 hlt (fun np => br_t rfl ?_) (fun hp => br_f (by decide) (nm_r (nI_1 m) (ih (m + 1) (by omega) (by omega) ?_)))
        · refine br_f (nI_ge (b := 10) hlt (by decide)) ?_
          exact xs_addAt hg hp10 hlt np ha hb pa pb hn (fun s hs ok hov => hR a b s ha hb rfl rfl pa pb hn hs ok hov) (fun s hs ok hov => hA a b s m ha hb rfl rfl pa pb hn hs ok hov hlt np hall)
        · intro j hj
          by_cases c : j = m
          · rw [c]; exact hp
          · exact hall j (by omega)
  exact ⟨11, loop 11 0 (by omega) (by omega) (fun j hj => absurd hj (by omega))⟩
end
end
section
/-! add, of the reference -/
def ye (en : Nat → Int32) (k : Nat) (s : ge_S) : Prop := en (4 * k) = zI s.1 ∧ en (4 * k + 1) = zI s.2.1 ∧ en (4 * k + 2) = zI s.2.2.1 ∧ en (4 * k + 3) = zI s.2.2.2
def yr (s : ge_S) : Prop := 0 ≤ s.1 ∧ s.1 ≤ 20 ∧ 0 ≤ s.2.1 ∧ s.2.1 ≤ 20 ∧ 0 ≤ s.2.2.1 ∧ s.2.2.1 ≤ 20 ∧ 0 ≤ s.2.2.2 ∧ s.2.2.2 ≤ 20
def yg (pr : Nat → Prop) (g : Nat → ge_S) (th en : Nat → Int32) : Prop :=
  (∀ k, k < 10 → (th k = 0 ↔ ¬ pr k)) ∧ (∀ k, k < 10 → ∃ s, ye en k s ∧ yr s ∧ (pr k → s = g k ∨ s = ge_sw (g k)))
theorem yix (k c : Nat) : (4 : Int32) * nI k + nI c = nI (4 * k + c) := by
  show nI 4 * nI k + nI c = _
  rw [pk_mul, nI_add]
section
variable {f_found : Int32} {a_there a_ends : Nat → Int32} {a_points a_spot : Nat → Int64}
theorem ys_e0 {post : Int32 → Prop} {k : Nat} {s : ge_S} (hk : k < 10) (h : ye a_ends k s) (hp : post (zI s.1)) : wpY_end post (f_found, a_there, a_ends, a_points, a_spot) (nI k) 0 := by
  have e : (4 : Int32) * nI k + 0 = nI (4 * k) := yix k 0
  unfold wpY_end; dsimp only; rw [e]
  refine And.intro (vp_in_nI (by omega) (by omega)) ?_
  rw [nI_clamp (by omega), h.1]; exact hp
theorem ys_e1 {post : Int32 → Prop} {k : Nat} {s : ge_S} (hk : k < 10) (h : ye a_ends k s) (hp : post (zI s.2.1)) : wpY_end post (f_found, a_there, a_ends, a_points, a_spot) (nI k) 1 := by
  have e : (4 : Int32) * nI k + 1 = nI (4 * k + 1) := yix k 1
  unfold wpY_end; dsimp only; rw [e]
  refine And.intro (vp_in_nI (by omega) (by omega)) ?_
  rw [nI_clamp (by omega), h.2.1]; exact hp
theorem ys_e2 {post : Int32 → Prop} {k : Nat} {s : ge_S} (hk : k < 10) (h : ye a_ends k s) (hp : post (zI s.2.2.1)) : wpY_end post (f_found, a_there, a_ends, a_points, a_spot) (nI k) 2 := by
  have e : (4 : Int32) * nI k + 2 = nI (4 * k + 2) := yix k 2
  unfold wpY_end; dsimp only; rw [e]
  refine And.intro (vp_in_nI (by omega) (by omega)) ?_
  rw [nI_clamp (by omega), h.2.2.1]; exact hp
theorem ys_e3 {post : Int32 → Prop} {k : Nat} {s : ge_S} (hk : k < 10) (h : ye a_ends k s) (hp : post (zI s.2.2.2)) : wpY_end post (f_found, a_there, a_ends, a_points, a_spot) (nI k) 3 := by
  have e : (4 : Int32) * nI k + 3 = nI (4 * k + 3) := yix k 3
  unfold wpY_end; dsimp only; rw [e]
  refine And.intro (vp_in_nI (by omega) (by omega)) ?_
  rw [nI_clamp (by omega), h.2.2.2]; exact hp
theorem ys_r226 {post : Int32 → Prop} {J : Int32 → Int32 → Prop} {pr : Nat → Prop} {x1 x2 x3 x7 z0 : Int32} {k : Nat} (hk : k < 10) (hth : a_there k = 0 ↔ ¬ pr k)
    (h1 : (¬ x3 = 0 ∨ (pr k ∧ ¬ x7 = 0 ∧ z0 = 0)) → J 1 (nI (k + 1))) (h0 : ¬ (¬ x3 = 0 ∨ (pr k ∧ ¬ x7 = 0 ∧ z0 = 0)) → J 0 (nI (k + 1))) : wY_refused_226 post J x1 x2 x3 (nI k) x7 z0 f_found a_there a_ends a_points a_spot := by
  refine br_c (fun c => And.intro (vp_in_nI hk (by omega)) ?_) (fun c => nm_r (nI_1 k) (h1 (Or.inl c)))
  rw [nI_clamp (by omega)]
  refine ek_if hth (fun d => nm_r (nI_1 k) (h0 (fun z => z.elim (fun w => w c) (fun w => d w.1)))) (fun d => ?_)
  have d' : pr k := Classical.byContradiction d
  refine br_c (fun e => nm_r (nI_1 k) (h0 (fun z => z.elim (fun w => w c) (fun w => w.2.1 e)))) (fun e => ?_)
  exact br_c (fun f => nm_r (nI_1 k) (h1 (Or.inr ⟨d', e, f⟩))) (fun f => nm_r (nI_1 k) (h0 (fun z => z.elim (fun w => w c) (fun w => f w.2.2))))
theorem ys_place {post : Int32 → Prop} {a : Nat} {dx dy : Int} (ha : a < 2 ^ 31) (h : post (zI (dx * ((a % 32 : Nat) : Int) + dy * ((a / 32 : Nat) : Int)))) : wpY_place post (f_found, a_there, a_ends, a_points, a_spot) (nI a) (zI dx) (zI dy) := by
  have e1 : nI a - nI a / 32 * 32 = nI (a % 32) := pk_rem (d := 32) ha (by omega) (by omega)
  have e2 : nI a / 32 = nI (a / 32) := pk_div (d := 32) ha (by omega) (by omega)
  unfold wpY_place; dsimp only
  rw [e1, e2, zI_nI, zI_nI, zI_mul, zI_mul, zI_add]
  exact And.intro (by decide) (And.intro (by decide) h)
theorem ys_r205 {post : Int32 → Prop} {J : Int32 → Int32 → Prop} {pr : Nat → Prop} {x1 x2 x3 x7 : Int32} {lo hi fr to : Int} {k : Nat} (hk : k < 10) (hth : a_there k = 0 ↔ ¬ pr k) (bl : zB lo) (bh : zB hi) (bf : zB fr) (bo : zB to)
    (h1 : (¬ x3 = 0 ∨ (pr k ∧ ¬ x7 = 0 ∧ lo < to ∧ fr < hi)) → J 1 (nI (k + 1))) (h0 : ¬ (¬ x3 = 0 ∨ (pr k ∧ ¬ x7 = 0 ∧ lo < to ∧ fr < hi)) → J 0 (nI (k + 1))) : wY_refused_205 post J x1 x2 x3 (nI k) x7 (zI lo) (zI hi) (zI fr) (zI to) f_found a_there a_ends a_points a_spot := by
  have ap : ¬ (lo < to ∧ fr < hi) → wY_refused_221 post J x1 x2 x3 (nI k) x7 f_found a_there a_ends a_points a_spot := fun c =>
    ys_r226 hk hth (fun z => h1 (z.imp id (fun w => absurd w.2.2 (by decide)))) (fun z => h0 (fun y => z (y.imp id (fun w => absurd w.2.2 c))))
  refine ek_if (zI_le bo bl) (fun c => ap (by omega)) (fun c => ?_)
  refine ek_if (zI_lt bf bh) (fun d => ?_) (fun d => ap (by omega))
  exact ys_r226 hk hth (fun z => h1 (z.imp id (fun w => ⟨w.1, w.2.1, by omega, by omega⟩))) (fun z => h0 (fun y => z (y.imp id (fun w => ⟨w.1, w.2.1, rfl⟩))))
theorem ys_r105 {post : Int32 → Prop} {J : Int32 → Int32 → Prop} {pr : Nat → Prop} {a b : Nat} {x3 z0 : Int32} {dx dy : Int} {s : ge_S} {k : Nat} (hk : k < 10) (hth : a_there k = 0 ↔ ¬ pr k) (hs : ye a_ends k s) (hr : yr s) (ha : a < 2 ^ 31) (hb : b < 2 ^ 31) (pa : xp_is a) (pb : xp_is b) (d1 : -20 ≤ dx) (d2 : dx ≤ 20) (d3 : -20 ≤ dy) (d4 : dy ≤ 20)
    (h1 : (¬ x3 = 0 ∨ (pr k ∧ ¬ z0 = 0 ∧ (dx * ((a % 32 : Nat) : Int) + dy * ((a / 32 : Nat) : Int) < dx * s.1 + dy * s.2.1 ∨ dx * ((a % 32 : Nat) : Int) + dy * ((a / 32 : Nat) : Int) < dx * s.2.2.1 + dy * s.2.2.2) ∧ (dx * s.1 + dy * s.2.1 < dx * ((b % 32 : Nat) : Int) + dy * ((b / 32 : Nat) : Int) ∨ dx * s.2.2.1 + dy * s.2.2.2 < dx * ((b % 32 : Nat) : Int) + dy * ((b / 32 : Nat) : Int)))) → J 1 (nI (k + 1)))
    (h0 : ¬ (¬ x3 = 0 ∨ (pr k ∧ ¬ z0 = 0 ∧ (dx * ((a % 32 : Nat) : Int) + dy * ((a / 32 : Nat) : Int) < dx * s.1 + dy * s.2.1 ∨ dx * ((a % 32 : Nat) : Int) + dy * ((a / 32 : Nat) : Int) < dx * s.2.2.1 + dy * s.2.2.2) ∧ (dx * s.1 + dy * s.2.1 < dx * ((b % 32 : Nat) : Int) + dy * ((b / 32 : Nat) : Int) ∨ dx * s.2.2.1 + dy * s.2.2.2 < dx * ((b % 32 : Nat) : Int) + dy * ((b / 32 : Nat) : Int)))) → J 0 (nI (k + 1))) :
    wY_refused_105 post J (nI a) (nI b) x3 (nI k) (zI dx) (zI dy) z0 f_found a_there a_ends a_points a_spot := by
  obtain ⟨s1, s2, s3, s4, s5, s6, s7, s8⟩ := hr
  obtain ⟨p1, p2⟩ := pa
  obtain ⟨q1, q2⟩ := pb
  have m : ∀ z w : Int, 0 ≤ z → z ≤ 20 → 0 ≤ w → w ≤ 20 → zB (dx * z + dy * w) := by
    intro z w z1 z2 w1 w2
    have a1 := zb_mul (x := dx) (y := z) (A := 20) (B := 20) (by omega) (by omega) (by omega) (by omega)
    have a2 := zb_mul (x := dy) (y := w) (A := 20) (B := 20) (by omega) (by omega) (by omega) (by omega)
    exact ⟨by omega, by omega⟩
  unfold wY_refused_105
  refine ys_place ha ?_
  refine ys_place hb ?_
  refine ys_e0 hk hs ?_
  refine ys_e1 hk hs (nm_e ?_)
  refine ys_e2 hk hs ?_
  refine ys_e3 hk hs (nm_e ?_)
  simp only [zI_mul, zI_add]
  have bl := m ((a % 32 : Nat) : Int) ((a / 32 : Nat) : Int) (by omega) (by omega) (by omega) (by omega)
  have bh := m ((b % 32 : Nat) : Int) ((b / 32 : Nat) : Int) (by omega) (by omega) (by omega) (by omega)
  have bp := m _ _ s1 s2 s3 s4
  have bq := m _ _ s5 s6 s7 s8
  generalize dx * ((a % 32 : Nat) : Int) + dy * ((a / 32 : Nat) : Int) = lo at *
  generalize dx * ((b % 32 : Nat) : Int) + dy * ((b / 32 : Nat) : Int) = hi at *
  generalize dx * s.1 + dy * s.2.1 = p at *
  generalize dx * s.2.2.1 + dy * s.2.2.2 = q at *
  refine ek_if (zI_le bq bp) (fun c => ?_) (fun c => ?_)
  · refine br_t ((zI_le bq bp).mpr c) (ys_r205 hk hth bl bh bq bp (fun z => h1 (z.imp id (fun w => ⟨w.1, w.2.1, by omega, by omega⟩))) (fun z => h0 (fun y => z (y.imp id (fun w => ⟨w.1, w.2.1, by omega, by omega⟩)))))
  · refine br_f (fun z => c ((zI_le bq bp).mp z)) (ys_r205 hk hth bl bh bp bq (fun z => h1 (z.imp id (fun w => ⟨w.1, w.2.1, by omega, by omega⟩))) (fun z => h0 (fun y => z (y.imp id (fun w => ⟨w.1, w.2.1, by omega, by omega⟩)))))
theorem ys_refused {post : Int32 → Prop} {pr : Nat → Prop} {g : Nat → ge_S} {a b : Nat} (hy : yg pr g a_there a_ends) (G : ∀ k, pr k → k < 10 ∧ ge_ok (g k)) (ha : a < 2 ^ 31) (hb : b < 2 ^ 31) (pa : xp_is a) (pb : xp_is b) {t : ge_S} (ht : t = xp_q a b ∨ t = xp_q b a) (okt : ge_ok t)
    (h1 : (∃ j, pr j ∧ ge_ov (g j) t) → post 1) (h0 : ¬ (∃ j, pr j ∧ ge_ov (g j) t) → post 0) : wpY_refused post (f_found, a_there, a_ends, a_points, a_spot) (nI a) (nI b) := by
  have e1 : nI a - nI a / 32 * 32 = nI (a % 32) := pk_rem (d := 32) ha (by omega) (by omega)
  have e2 : nI a / 32 = nI (a / 32) := pk_div (d := 32) ha (by omega) (by omega)
  have e3 : nI b - nI b / 32 * 32 = nI (b % 32) := pk_rem (d := 32) hb (by omega) (by omega)
  have e4 : nI b / 32 = nI (b / 32) := pk_div (d := 32) hb (by omega) (by omega)
  have d : ¬ (32 : Int32) = 0 := by decide
  obtain ⟨p1, p2⟩ := id pa
  obtain ⟨q1, q2⟩ := id pb
  have loop : ∀ (n m : Nat), 10 - m < n → m ≤ 10 → ∀ x3 : Int32, ((x3 = 1 ∧ ∃ j, j < m ∧ pr j ∧ ge_ov (g j) t) ∨ (x3 = 0 ∧ ¬ ∃ j, j < m ∧ pr j ∧ ge_ov (g j) t)) → wY_refused_5 post (nI a) (nI b) f_found a_there a_ends a_points a_spot n x3 (nI m) := by
    intro n
    induction n with
    | zero => intro m hm; omega
    | succ n ih =>
      intro m hm hm2 x3 hx
      refine pk_le 10 m (fun hle => ?_) (fun hlt => ?_) rfl rfl (by omega) (by omega)
      · rcases hx with ⟨rfl, j, _, w⟩ | ⟨rfl, w⟩
        · exact And.intro rfl (h1 ⟨j, w⟩)
        · exact And.intro rfl (h0 (fun ⟨j, z1, z2⟩ => w ⟨j, by have := (G j z1).1; omega, z1, z2⟩))
      · obtain ⟨s, hs, hr, hp⟩ := hy.2 m hlt
        have hth := hy.1 m hlt
        obtain ⟨s1, s2, s3, s4, s5, s6, s7, s8⟩ := id hr
        have key : pr m → (yo_c ((a % 32 : Nat) : Int) ((a / 32 : Nat) : Int) ((b % 32 : Nat) : Int) ((b / 32 : Nat) : Int) s.1 s.2.1 s.2.2.1 s.2.2.2 ↔ ge_ov (g m) t) := by
          intro pm
          refine yo_any (G m pm).2 okt (s' := xp_q a b) (hp pm) ?_
          rcases ht with z | z
          · exact Or.inl z.symm
          · right; rw [z]; rfl
        have J1 : (¬ x3 = 0 ∨ (pr m ∧ yo_c ((a % 32 : Nat) : Int) ((a / 32 : Nat) : Int) ((b % 32 : Nat) : Int) ((b / 32 : Nat) : Int) s.1 s.2.1 s.2.2.1 s.2.2.2)) → wY_refused_5 post (nI a) (nI b) f_found a_there a_ends a_points a_spot n 1 (nI (m + 1)) := by
          intro z
          refine ih (m + 1) (by omega) (by omega) 1 (Or.inl ⟨rfl, ?_⟩)
          rcases z with z | ⟨z1, z2⟩
          · rcases hx with ⟨_, j, w1, w2⟩ | ⟨w, _⟩
            · exact ⟨j, by omega, w2⟩
            · exact absurd w z
          · exact ⟨m, by omega, z1, (key z1).mp z2⟩
        have J0 : ¬ (¬ x3 = 0 ∨ (pr m ∧ yo_c ((a % 32 : Nat) : Int) ((a / 32 : Nat) : Int) ((b % 32 : Nat) : Int) ((b / 32 : Nat) : Int) s.1 s.2.1 s.2.2.1 s.2.2.2)) → wY_refused_5 post (nI a) (nI b) f_found a_there a_ends a_points a_spot n 0 (nI (m + 1)) := by
          intro z
          refine ih (m + 1) (by clear z hx; omega) (by clear z hx; omega) 0 (Or.inr ⟨rfl, ?_⟩)
          rintro ⟨j, w1, w2, w3⟩
          by_cases c : j = m
          · subst c; exact z (Or.inr ⟨w2, (key w2).mpr w3⟩)
          · rcases hx with ⟨y, _⟩ | ⟨_, y⟩
            · exact z (Or.inl (by rw [y]; decide))
            · exact y ⟨j, by omega, w2, w3⟩
        have pm : ∀ x y : Int, -20 ≤ x → x ≤ 20 → -20 ≤ y → y ≤ 20 → zB (x * y) := by
          intro x y x1 x2 y1 y2
          have := zb_mul (x := x) (y := y) (A := 20) (B := 20) x1 x2 y1 y2
          exact ⟨by omega, by omega⟩
        refine And.intro d (And.intro d (nm_r (e' := zI (((b % 32 : Nat) : Int) - ((a % 32 : Nat) : Int))) (by rw [e1, e3, zI_nI, zI_nI, zI_sub]) (And.intro d (And.intro d (nm_r (e' := zI (((b / 32 : Nat) : Int) - ((a / 32 : Nat) : Int))) (by rw [e2, e4, zI_nI, zI_nI, zI_sub]) ?_)))))
        rw [e1, e2]
        have fail : ¬ (((b % 32 : Nat) : Int) - ((a % 32 : Nat) : Int)) * (s.2.1 - ((a / 32 : Nat) : Int)) = (((b / 32 : Nat) : Int) - ((a / 32 : Nat) : Int)) * (s.1 - ((a % 32 : Nat) : Int)) ∨ ¬ (((b % 32 : Nat) : Int) - ((a % 32 : Nat) : Int)) * (s.2.2.2 - ((a / 32 : Nat) : Int)) = (((b / 32 : Nat) : Int) - ((a / 32 : Nat) : Int)) * (s.2.2.1 - ((a % 32 : Nat) : Int)) → wY_refused_104 post (wY_refused_5 post (nI a) (nI b) f_found a_there a_ends a_points a_spot n) (nI a) (nI b) x3 (nI m) (zI (((b % 32 : Nat) : Int) - ((a % 32 : Nat) : Int))) (zI (((b / 32 : Nat) : Int) - ((a / 32 : Nat) : Int))) f_found a_there a_ends a_points a_spot := by
          intro hno
          refine ys_r105 hlt hth hs hr ha hb pa pb (by omega) (by omega) (by omega) (by omega) (fun z => J1 (z.imp id (fun w => absurd rfl w.2.1))) (fun z => J0 (fun y => z (y.imp id (fun w => ?_))))
          exfalso
          rcases hno with k | k
          · exact k w.2.1.1
          · exact k w.2.1.2
        refine ys_e1 hlt hs (And.intro d ?_)
        refine ys_e0 hlt hs (And.intro d ?_)
        simp only [zI_nI, zI_sub, zI_mul]
        refine ek_if (zI_eq (pm _ _ (by omega) (by omega) (by omega) (by omega)) (pm _ _ (by omega) (by omega) (by omega) (by omega))) (fun c1 => ?_) (fun c1 => by have := fail (Or.inl c1); simp only [zI_nI] at this; exact this)
        rw [← zI_nI m]
        refine ys_e3 hlt hs (And.intro d ?_)
        refine ys_e2 hlt hs (And.intro d ?_)
        simp only [zI_sub, zI_mul]
        refine ek_if (zI_eq (pm _ _ (by omega) (by omega) (by omega) (by omega)) (pm _ _ (by omega) (by omega) (by omega) (by omega))) (fun c2 => ?_) (fun c2 => by have := fail (Or.inr c2); simp only [zI_nI] at this ⊢; exact this)
        have := ys_r105 (post := post) (J := wY_refused_5 post (nI a) (nI b) f_found a_there a_ends a_points a_spot n) (f_found := f_found) (a_points := a_points) (a_spot := a_spot) (x3 := x3) (z0 := 1) (dx := ((b % 32 : Nat) : Int) - ((a % 32 : Nat) : Int)) (dy := ((b / 32 : Nat) : Int) - ((a / 32 : Nat) : Int)) hlt hth hs hr ha hb pa pb (by omega) (by omega) (by omega) (by omega) (fun z => J1 (z.imp id (fun w => ⟨w.1, ⟨c1, c2⟩, w.2.2⟩))) (fun z => J0 (fun y => z (y.imp id (fun w => ⟨w.1, by decide, w.2.2⟩))))
        simp only [zI_nI] at this ⊢
        exact this
  exact ⟨11, loop 11 0 (by omega) (by omega) 0 (Or.inr ⟨rfl, fun ⟨j, z, _⟩ => by omega⟩)⟩
end
end
section
/-! the relation; add, remove, segments -/
def zz_R (pr : Nat → Prop) (g : Nat → ge_S) (fp : Int32) (aX aY tX tY th en : Nat → Int32) : Prop := sw_G pr g ∧ xg pr g fp aX aY tX tY ∧ yg pr g th en
/-- the relation at the head of a turn: both hold the same segments -/
def i_Rel (k : Nat) (u : SX) (v : SY) : Prop := ∃ pr g, zz_R pr g u.1 u.2.2.2.2.2.2.2.2.2.1 u.2.2.2.2.2.2.2.2.2.2.1 u.2.2.2.2.2.2.2.2.2.2.2.1 u.2.2.2.2.2.2.2.2.2.2.2.2.1 v.2.1 v.2.2.1
theorem zz_in {k : Nat} {f_present f_events f_now f_active f_freshCount f_pointX f_pointY f_pointBottom f_edges : Int32} {a_fromX a_fromY a_toX a_toY a_eventX a_eventY a_eventBottom a_eventSet a_order a_fresh a_edgeFrom a_edgeTo a_edgeSegment a_gone a_groupOf : Nat → Int32} {f_found : Int32} {a_there a_ends : Nat → Int32} {a_points a_spot : Nat → Int64} {pr : Nat → Prop} {g : Nat → ge_S} (h : zz_R pr g f_present a_fromX a_fromY a_toX a_toY a_there a_ends) : i_Rel k (f_present, f_events, f_now, f_active, f_freshCount, f_pointX, f_pointY, f_pointBottom, f_edges, a_fromX, a_fromY, a_toX, a_toY, a_eventX, a_eventY, a_eventBottom, a_eventSet, a_order, a_fresh, a_edgeFrom, a_edgeTo, a_edgeSegment, a_gone, a_groupOf) (f_found, a_there, a_ends, a_points, a_spot) := ⟨pr, g, h⟩
theorem zz_el {P : SX → SY → Prop} {k : Nat} {u : SX} {v : SY} (h : ∀ (f_present f_events f_now f_active f_freshCount f_pointX f_pointY f_pointBottom f_edges : Int32) (a_fromX a_fromY a_toX a_toY a_eventX a_eventY a_eventBottom a_eventSet a_order a_fresh a_edgeFrom a_edgeTo a_edgeSegment a_gone a_groupOf : Nat → Int32) (f_found : Int32) (a_there a_ends : Nat → Int32) (a_points a_spot : Nat → Int64) (pr : Nat → Prop) (g : Nat → ge_S), zz_R pr g f_present a_fromX a_fromY a_toX a_toY a_there a_ends → P (f_present, f_events, f_now, f_active, f_freshCount, f_pointX, f_pointY, f_pointBottom, f_edges, a_fromX, a_fromY, a_toX, a_toY, a_eventX, a_eventY, a_eventBottom, a_eventSet, a_order, a_fresh, a_edgeFrom, a_edgeTo, a_edgeSegment, a_gone, a_groupOf) (f_found, a_there, a_ends, a_points, a_spot)) (I : i_Rel k u v) : P u v := by
  obtain ⟨f_present, f_events, f_now, f_active, f_freshCount, f_pointX, f_pointY, f_pointBottom, f_edges, a_fromX, a_fromY, a_toX, a_toY, a_eventX, a_eventY, a_eventBottom, a_eventSet, a_order, a_fresh, a_edgeFrom, a_edgeTo, a_edgeSegment, a_gone, a_groupOf⟩ := u
  obtain ⟨f_found, a_there, a_ends, a_points, a_spot⟩ := v
  obtain ⟨pr, g, hz⟩ := I
  exact h _ _ _ _ _ _ _ _ _ _ _ _ _ _ _ _ _ _ _ _ _ _ _ _ _ _ _ _ _ pr g hz
theorem i_up {k : Nat} {u : SX} {v : SY} (h : i_Rel k u v) : i_Rel (k + 3) u v := h
theorem i_vc0 : wpX_init (fun u => wpY_init (fun v => i_Rel 0 u v)) := by
  refine ⟨fun _ => False, fun _ => (0, 0, 0, 0), ⟨fun k h => h.elim, fun j k h => h.elim⟩, ⟨xb_0, fun k h => h.elim⟩, fun k hk => ⟨fun _ h => h, fun _ => rfl⟩, fun k hk => ⟨(0, 0, 0, 0), ⟨rfl, rfl, rfl, rfl⟩, ⟨by decide, by decide, by decide, by decide, by decide, by decide, by decide, by decide⟩, fun h => h.elim⟩⟩
theorem ge_ov_sy {s t : ge_S} (hs : ge_ok s) (ht : ge_ok t) (h : ge_ov s t) : ge_ov t s := by
  obtain ⟨a, b, c⟩ := h
  obtain ⟨h1, h2, h3, h4, h5, h6, h7, h8, h9⟩ := hs
  obtain ⟨g1, g2, g3, g4, g5, g6, g7, g8, g9⟩ := ht
  have a' : ge_turn t s = 0 := by
    unfold ge_turn at *
    have e1 := Int.mul_comm (ge_dx s) (ge_dy t)
    have e2 := Int.mul_comm (ge_dy s) (ge_dx t)
    omega
  have z : ge_dx s = 0 ↔ ge_dx t = 0 := by
    unfold ge_turn at a
    constructor
    · intro y
      rw [y, Int.zero_mul] at a
      have : ge_dy s * ge_dx t = 0 := by omega
      rcases Int.mul_eq_zero.mp this with w | w
      · unfold ge_dx at y; unfold ge_dy at w; omega
      · exact w
    · intro y
      rw [y, Int.mul_zero] at a
      have : ge_dx s * ge_dy t = 0 := by omega
      rcases Int.mul_eq_zero.mp this with w | w
      · exact w
      · unfold ge_dx at y; unfold ge_dy at w; omega
  refine ⟨a', ?_, ?_⟩
  · unfold ge_sI at *
    rw [Int.mul_one, Int.mul_one] at *
    by_cases y : ge_dx t = 0
    · have ys := z.mpr y
      rw [y, Int.zero_mul] at b
      have : ge_dy t * (s.1 - t.1) = 0 := by omega
      rcases Int.mul_eq_zero.mp this with w | w
      · unfold ge_dx at y; unfold ge_dy at w; omega
      · rw [ys, Int.zero_mul, show t.1 - s.1 = 0 by omega, Int.mul_zero]; rfl
    · have e : ge_dx t * (ge_dx s * (t.2.1 - s.2.1) - ge_dy s * (t.1 - s.1)) = 0 := by
        unfold ge_turn at a
        grind
      exact (Int.mul_eq_zero.mp e).resolve_left y
  · rcases c with ⟨c, d⟩ | ⟨c, d⟩
    · exact Or.inl ⟨z.mp c, by omega⟩
    · exact Or.inr ⟨fun w => c (z.mpr w), by omega⟩
section
variable {f_found : Int32} {a_there a_ends : Nat → Int32} {a_points a_spot : Nat → Int64}
theorem ys_put {post : SY → Prop} {k a b : Nat} (hk : k < 10) (ha : a < 2 ^ 31) (hb : b < 2 ^ 31)
    (h : ∀ en', ye en' k (xp_q a b) → (∀ j s, j ≠ k → ye a_ends j s → ye en' j s) → post (f_found, a_there, en', a_points, a_spot)) : wpY_put post (f_found, a_there, a_ends, a_points, a_spot) (nI k) (nI a) (nI b) := by
  have e1 : nI a - nI a / 32 * 32 = nI (a % 32) := pk_rem (d := 32) ha (by omega) (by omega)
  have e2 : nI a / 32 = nI (a / 32) := pk_div (d := 32) ha (by omega) (by omega)
  have e3 : nI b - nI b / 32 * 32 = nI (b % 32) := pk_rem (d := 32) hb (by omega) (by omega)
  have e4 : nI b / 32 = nI (b / 32) := pk_div (d := 32) hb (by omega) (by omega)
  have d : ¬ (32 : Int32) = 0 := by decide
  have i0 : (4 : Int32) * nI k = nI (4 * k) := by show nI 4 * nI k = _; rw [pk_mul]
  have i1 : (4 : Int32) * nI k + 1 = nI (4 * k + 1) := yix k 1
  have i2 : (4 : Int32) * nI k + 2 = nI (4 * k + 2) := yix k 2
  have i3 : (4 : Int32) * nI k + 3 = nI (4 * k + 3) := yix k 3
  unfold wpY_put
  dsimp only
  rw [i1, i2, i3, i0, e1, e2, e3, e4, nI_clamp (by omega), nI_clamp (by omega), nI_clamp (by omega), nI_clamp (by omega)]
  refine And.intro d (And.intro (vp_in_nI (by omega) (by omega)) (nm_e (And.intro d (And.intro (vp_in_nI (by omega) (by omega)) (nm_e (And.intro d (And.intro (vp_in_nI (by omega) (by omega)) (nm_e (And.intro d (And.intro (vp_in_nI (by omega) (by omega)) (nm_e ?_)))))))))))
  refine h _ ⟨?_, ?_, ?_, ?_⟩ ?_
  · rw [pk_un (by omega), pk_un (by omega), pk_un (by omega), pk_us, zI_nI]; rfl
  · rw [pk_un (by omega), pk_un (by omega), pk_us, zI_nI]; rfl
  · rw [pk_un (by omega), pk_us, zI_nI]; rfl
  · rw [pk_us, zI_nI]; rfl
  · rintro j s hj ⟨h0, h1, h2, h3⟩
    refine ⟨?_, ?_, ?_, ?_⟩
    · rw [pk_un (by omega), pk_un (by omega), pk_un (by omega), pk_un (by omega)]; exact h0
    · rw [pk_un (by omega), pk_un (by omega), pk_un (by omega), pk_un (by omega)]; exact h1
    · rw [pk_un (by omega), pk_un (by omega), pk_un (by omega), pk_un (by omega)]; exact h2
    · rw [pk_un (by omega), pk_un (by omega), pk_un (by omega), pk_un (by omega)]; exact h3
theorem ys_add_bad {post : Int32 → SY → Prop} (v1 v2 : Int32) (hB : ∀ a b : Nat, a < 2 ^ 31 → b < 2 ^ 31 → v1 = nI a → v2 = nI b → xp_is a → xp_is b → a = b) (h : post (-1) (f_found, a_there, a_ends, a_points, a_spot)) : wpY_add post (f_found, a_there, a_ends, a_points, a_spot) v1 v2 := by
  unfold wpY_add
  refine ys_isPoint v1 (fun _ => br_t rfl h) (fun a ha ea pa => br_f (by decide) ?_)
  refine ys_isPoint v2 (fun _ => br_t rfl h) (fun b hb eb pb => br_f (by decide) ?_)
  refine br_t ?_ h
  rw [ea, eb, hB a b ha hb ea eb pa pb]
theorem ys_add_val {post : Int32 → SY → Prop} {pr : Nat → Prop} {g : Nat → ge_S} {a b : Nat} (hy : yg pr g a_there a_ends) (G : ∀ k, pr k → k < 10 ∧ ge_ok (g k)) (ha : a < 2 ^ 31) (hb : b < 2 ^ 31) (pa : xp_is a) (pb : xp_is b) (hn : a ≠ b) {t : ge_S} (ht : t = xp_q a b ∨ t = xp_q b a) (okt : ge_ok t)
    (h1 : (∃ j, pr j ∧ ge_ov (g j) t) → post (-3) (f_found, a_there, a_ends, a_points, a_spot)) (h0 : ¬ (∃ j, pr j ∧ ge_ov (g j) t) → ∃ n, wY_add_37 post (nI a) (nI b) f_found a_there a_ends a_points a_spot n (nI 0)) : wpY_add post (f_found, a_there, a_ends, a_points, a_spot) (nI a) (nI b) := by
  unfold wpY_add
  refine ys_isPoint _ (fun no => absurd pa (no a ha rfl)) (fun _ _ _ _ => br_f (by decide) ?_)
  refine ys_isPoint _ (fun no => absurd pb (no b hb rfl)) (fun _ _ _ _ => br_f (by decide) ?_)
  refine br_f (fun z => hn ((nI_eq ha hb).mp z)) ?_
  exact ys_refused hy G ha hb pa pb ht okt (fun z => br_f (by decide) (h1 z)) (fun z => br_t rfl (h0 z))
/-- from the m-th place on, all below being taken -/
theorem ys_add37 {post : Int32 → SY → Prop} {pr : Nat → Prop} {g : Nat → ge_S} {a b : Nat} (hy : yg pr g a_there a_ends) (ha : a < 2 ^ 31) (hb : b < 2 ^ 31)
    (hF : (∀ j, j < 10 → pr j) → post (-2) (f_found, a_there, a_ends, a_points, a_spot))
    (hA : ∀ k, k < 10 → ¬ pr k → (∀ j, j < k → pr j) → ∀ en', ye en' k (xp_q a b) → (∀ j s, j ≠ k → ye a_ends j s → ye en' j s) → post (nI k) (f_found, upd a_there k 1, en', a_points, a_spot)) :
    ∀ (n m : Nat), 10 - m < n → m ≤ 10 → (∀ j, j < m → pr j) → wY_add_37 post (nI a) (nI b) f_found a_there a_ends a_points a_spot n (nI m) := by
  intro n
  induction n with
  | zero => intro m hm; omega
  | succ n ih =>
    intro m hm hm2 hall
    refine pk_le 10 m (fun hle => hF (fun j hj => hall j (by omega))) (fun hlt => ?_) rfl rfl (by omega) (by omega)
    have v : vp_in (nI m) 10 := vp_in_nI hlt (by omega)
    refine And.intro v ?_
    rw [nI_clamp (by omega)]
    refine ek_if (hy.1 m hlt) (fun np => And.intro v (nm_e ?_)) (fun hp => nm_r (nI_1 m) (ih (m + 1) (by omega) (by omega) ?_))
    · refine ys_put hlt ha hb ?_
      intro en' h1 h2
      exact hA m hlt np hall en' h1 h2
    · intro j hj
      by_cases c : j = m
      · rw [c]; exact Classical.byContradiction hp
      · exact hall j (by omega)
end
theorem i_vc_add {k : Nat} {u : SX} {v : SY} (I : i_Rel k u v) (hk : k + 3 ≤ 1536) (v1 : Int32) (v2 : Int32) : wpX_add (fun r u' => wpY_add (fun r' v' => r' = r ∧ i_Rel (k + 3) u' v') v v1 v2) u v1 v2 := by
  refine zz_el (P := fun u v => wpX_add (fun r u' => wpY_add (fun r' v' => r' = r ∧ i_Rel (k + 3) u' v') v v1 v2) u v1 v2) ?_ I
  clear I u v
  intro f_present f_events f_now f_active f_freshCount f_pointX f_pointY f_pointBottom f_edges a_fromX a_fromY a_toX a_toY a_eventX a_eventY a_eventBottom a_eventSet a_order a_fresh a_edgeFrom a_edgeTo a_edgeSegment a_gone a_groupOf f_found a_there a_ends a_points a_spot pr g hz
  obtain ⟨G, hg, hy⟩ := id hz
  refine xs_add hg (fun j pj => (G.1 j pj).1) v1 v2 ?_ ?_ ?_ ?_
  · intro hB
    exact ys_add_bad v1 v2 hB ⟨rfl, zz_in hz⟩
  · intro a b s ha hb ea eb pa pb hn hs ok hov px py pbb aX aY tX tY hg'
    subst ea; subst eb
    exact ys_add_val hy G.1 ha hb pa pb hn hs ok (fun _ => ⟨rfl, zz_in ⟨G, hg', hy⟩⟩) (fun z => absurd hov z)
  · intro a b s ha hb ea eb pa pb hn hs ok hov hall px py pbb aX aY tX tY hg'
    subst ea; subst eb
    refine ys_add_val hy G.1 ha hb pa pb hn hs ok (fun ⟨j, z1, z2⟩ => absurd z2 (hov j z1)) (fun z => ⟨11, ys_add37 hy ha hb (fun _ => ⟨rfl, zz_in ⟨G, hg', hy⟩⟩) (fun k hk nk => absurd (hall k hk) nk) 11 0 (by omega) (by omega) (fun j hj => absurd hj (by omega))⟩)
  · intro a b s m ha hb ea eb pa pb hn hs ok hov hm nm hall fp px py pbb aX aY tX tY hg'
    subst ea; subst eb
    refine ys_add_val hy G.1 ha hb pa pb hn hs ok (fun ⟨j, z1, z2⟩ => absurd z2 (hov j z1)) (fun z => ⟨11, ys_add37 hy ha hb (fun h => absurd (h m hm) nm) ?_ 11 0 (by omega) (by omega) (fun j hj => absurd hj (by omega))⟩)
    intro k' hk' nk' hall' en' h1 h2
    have ek : k' = m := by
      rcases Nat.lt_trichotomy k' m with c | c | c
      · exact absurd (hall k' c) nk'
      · exact c
      · exact absurd (hall' m c) nm
    subst ek
    refine ⟨rfl, zz_in (pr := xg_p pr k') (g := xg_g g k' s) ⟨⟨?_, ?_⟩, hg', ?_, ?_⟩⟩
    · intro j hj
      by_cases c : j = k'
      · subst c; rw [xg_g1]; exact ⟨hm, ok⟩
      · rw [xg_g2 c]; exact G.1 j (hj.resolve_right c)
    · intro i j hi hj hne
      by_cases c : i = k'
      · subst c
        have pj := hj.resolve_right (fun z => hne z.symm)
        rw [xg_g1, xg_g2 (fun z => hne z.symm)]
        exact fun w => hov j pj (ge_ov_sy ok (G.1 j pj).2 w)
      · have pi := hi.resolve_right c
        by_cases d : j = k'
        · subst d
          rw [xg_g1, xg_g2 c]
          exact hov i pi
        · rw [xg_g2 c, xg_g2 d]
          exact G.2 i j pi (hj.resolve_right d) hne
    · intro j hj
      by_cases c : j = k'
      · subst c
        rw [pk_us]
        exact ⟨fun z => absurd z (by decide), fun z => absurd (Or.inr rfl) z⟩
      · rw [pk_un c, hy.1 j hj]
        exact ⟨fun z w => z (w.resolve_right c), fun z w => z (Or.inl w)⟩
    · intro j hj
      by_cases c : j = k'
      · subst c
        refine ⟨xp_q a b, h1, ?_, fun _ => ?_⟩
        · obtain ⟨p1, p2⟩ := pa
          obtain ⟨q1, q2⟩ := pb
          unfold yr xp_q
          dsimp only
          omega
        · rw [xg_g1]
          rcases hs with z | z
          · exact Or.inl z.symm
          · right; rw [z]; rfl
      · obtain ⟨s', w1, w2, w3⟩ := hy.2 j hj
        refine ⟨s', h2 j s' c w1, w2, fun hp => ?_⟩
        rw [xg_g2 c]
        exact w3 (hp.resolve_right c)
end
section
/-! the reference's spot: a point as two reduced fractions -/
theorem zL_divx {c k : Int} (hk : 0 < k) (hk2 : k < 9223372036854775808) (hc : zC (c * k)) : zL (c * k) / zL k = zL c := by
  have e := Int64.ofInt_tdiv (a := c * k) (b := k) (by show -9223372036854775808 ≤ _; exact hc.1) (by show _ ≤ 9223372036854775807; have := hc.2; omega) (by show -9223372036854775808 ≤ _; omega) (by show _ ≤ 9223372036854775807; omega)
  unfold zL
  rw [← e, Int.mul_tdiv_cancel _ (by omega)]
theorem zL_0 : (0 : Int64) = zL 0 := rfl
theorem zL_1' : (1 : Int64) = zL 1 := rfl
theorem zL_m1 : (-1 : Int64) = zL (-1) := rfl
theorem zL_lN (n : Nat) : lN n = zL (n : Int) := Int64.ofInt_eq_ofNat.symm
def ysp (sp : Nat → Int64) (p : ge_P) : Prop := sp 0 = zL p.1.num ∧ sp 1 = zL (p.1.den : Int) ∧ sp 2 = zL p.2.num ∧ sp 3 = zL (p.2.den : Int)
def ybd (q : Rat) : Prop := -40000 ≤ q.num ∧ q.num ≤ 40000 ∧ q.den ≤ 800
theorem y_den (q : Rat) : 0 < q.den := q.den_pos
theorem y_nd (q : Rat) : q * ((q.den : Int) : Rat) = (q.num : Rat) := by
  have : ((q.den : Int) : Rat) ≠ 0 := by
    intro e
    have := Rat.intCast_eq_zero_iff.mp e
    have := q.den_pos
    omega
  have e : q = (q.num : Rat) / ((q.den : Int) : Rat) := by
    rw [← Rat.divInt_eq_div]
    exact (Rat.num_divInt_den q).symm
  conv => lhs; lhs; rw [e]
  exact Rat.div_mul_cancel this
def y_bt (e e' : Int) (x : Rat) : Prop := ((e : Rat) ≤ x ∧ x ≤ (e' : Rat)) ∨ ((e' : Rat) ≤ x ∧ x ≤ (e : Rat))
def y_on (s : ge_S) (p : ge_P) : Prop := ge_side s p = 0 ∧ y_bt s.1 s.2.2.1 p.1 ∧ y_bt s.2.1 s.2.2.2 p.2
theorem y_bt_sy {e e' : Int} {x : Rat} : y_bt e e' x ↔ y_bt e' e x := ⟨Or.symm, Or.symm⟩
theorem y_on_g {s k : ge_S} (hk : ge_ok k) (h : s = k ∨ s = ge_sw k) (p : ge_P) : y_on s p ↔ ge_on k p := by
  have base : y_on k p ↔ ge_on k p := by
    unfold y_on ge_on
    obtain ⟨h1, h2, h3, h4, h5, h6, h7, h8, h9⟩ := hk
    have le : (k.1 : Rat) ≤ (k.2.2.1 : Rat) := ge_icl (by omega)
    constructor
    · rintro ⟨a, b, c⟩
      refine ⟨a, ?_, ?_, c⟩
      · rcases b with b | b
        · exact b.1
        · have := b.1; have := b.2; grind
      · rcases b with b | b
        · exact b.2
        · have := b.1; have := b.2; grind
    · rintro ⟨a, b, c, d⟩
      exact ⟨a, Or.inl ⟨b, c⟩, d⟩
  rcases h with rfl | rfl
  · exact base
  · rw [← base]
    have e : ge_side (ge_sw k) p = - ge_side k p := by
      unfold ge_side
      rw [ge_dx_c, ge_dy_c, ge_dx_c, ge_dy_c]
      unfold ge_sw
      grind
    unfold y_on
    rw [e, y_bt_sy (e := (ge_sw k).1), y_bt_sy (e := (ge_sw k).2.1)]
    constructor
    · rintro ⟨a, b⟩; exact ⟨by grind, b⟩
    · rintro ⟨a, b⟩; exact ⟨by grind, b⟩
section
variable {f_found : Int32} {a_there a_ends : Nat → Int32} {a_points a_spot : Nat → Int64}
theorem ys_div28 {post : Int64 → Prop} : ∀ (n a b : Nat), a < 2 ^ 62 → b < 2 ^ 62 → b < n → 0 < Nat.gcd a b → post (lN (Nat.gcd a b)) → wY_divisor_28 post f_found a_there a_ends a_points a_spot n (lN a) (lN b) := by
  intro n
  induction n with
  | zero => intro a b _ _ h; omega
  | succ n ih =>
    intro a b ha hb hn hp h
    refine ek_if (d := b = 0) (pk_lEQ (b := 0) (by omega) (by omega)) (fun c => ?_) (fun c => ?_)
    · subst c
      rw [Nat.gcd_zero_right] at h hp
      refine br_f ?_ h
      intro z
      have := (pk_lEQ (b := 0) (by omega) (by omega)).mp z
      omega
    · have hz : ¬ lN b = 0 := fun z => c ((pk_lEQ (b := 0) (by omega) (by omega)).mp z)
      refine And.intro hz (nm_r (pk_lRem (by omega) (by omega) (by omega)) ?_)
      have hl : a % b < b := Nat.mod_lt _ (by omega)
      have eg : Nat.gcd b (a % b) = Nat.gcd a b := by rw [Nat.gcd_comm, ← Nat.gcd_rec, Nat.gcd_comm]
      refine ih b (a % b) hb (by omega) (by omega) ?_ ?_
      · rw [eg]; exact hp
      · rw [eg]; exact h
theorem ys_divisor {post : Int64 → Prop} {x y : Int} (hx : x.natAbs < 2 ^ 62) (hy : y.natAbs < 2 ^ 62) (h0 : y ≠ 0) (h : post (zL (Int.gcd x y : Int))) : wpY_divisor post (f_found, a_there, a_ends, a_points, a_spot) (zL x) (zL y) := by
  have zc : ∀ z : Int, z.natAbs < 2 ^ 62 → zC z := fun z hz => ⟨by omega, by omega⟩
  have z0 : zC 0 := ⟨by omega, by omega⟩
  have pos : 0 < Nat.gcd x.natAbs y.natAbs := Nat.gcd_pos_of_pos_right _ (by omega)
  have fin : ∃ n, wY_divisor_28 post f_found a_there a_ends a_points a_spot n (lN x.natAbs) (lN y.natAbs) := ⟨y.natAbs + 1, ys_div28 (y.natAbs + 1) _ _ hx hy (by omega) pos (by rw [zL_lN]; exact h)⟩
  have second : wY_divisor_12 post (zL y) (lN x.natAbs) f_found a_there a_ends a_points a_spot := by
    refine ek_if (zL_le (a := 0) z0 (zc y hy)) (fun c => ?_) (fun c => ?_)
    · have e : zL y = lN y.natAbs := by rw [zL_lN]; congr 1; omega
      rw [e]; exact fin
    · have e : -zL y = lN y.natAbs := by rw [zL_neg, zL_lN]; congr 1; omega
      refine nm_r e fin
  refine ek_if (zL_le (a := 0) z0 (zc x hx)) (fun c => ?_) (fun c => ?_)
  · have e : zL x = lN x.natAbs := by rw [zL_lN]; congr 1; omega
    rw [e]; exact second
  · have e : -zL x = lN x.natAbs := by rw [zL_neg, zL_lN]; congr 1; omega
    rw [e]; exact second
theorem y_red {x y : Int} (h0 : y ≠ 0) {q : Rat} (hq : q * (y : Rat) = (x : Rat)) : (0 ≤ y → x = q.num * (Int.gcd x y : Int) ∧ y = (q.den : Int) * (Int.gcd x y : Int)) ∧ (¬ 0 ≤ y → -x = q.num * (Int.gcd x y : Int) ∧ -y = (q.den : Int) * (Int.gcd x y : Int)) := by
  have hy : (y : Rat) ≠ 0 := fun e => h0 (Rat.intCast_eq_zero_iff.mp e)
  have e : q = Rat.divInt x y := by
    rw [Rat.divInt_eq_div, ← hq, Rat.mul_div_cancel hy]
  have n1 := Rat.num_divInt x y
  have n2 := Rat.den_divInt x y
  rw [← e] at n1 n2
  rw [if_neg h0] at n2
  have gc : Int.gcd y x = Int.gcd x y := Int.gcd_comm y x
  rw [gc] at n1 n2
  have d1 : ((Int.gcd x y : Nat) : Int) ∣ x := Int.gcd_dvd_left ..
  have d2 : ((Int.gcd x y : Nat) : Int) ∣ y := Int.gcd_dvd_right ..
  have d3 : (Int.gcd x y) ∣ y.natAbs := Nat.gcd_dvd_right x.natAbs y.natAbs
  have m2 : q.den * Int.gcd x y = y.natAbs := by rw [n2]; exact Nat.div_mul_cancel d3
  have m2' : (q.den : Int) * ((Int.gcd x y : Nat) : Int) = (y.natAbs : Int) := by rw [← Int.natCast_mul, m2]
  constructor
  · intro c
    rw [Int.sign_eq_one_of_pos (by omega), Int.one_mul] at n1
    refine ⟨?_, by omega⟩
    rw [n1, Int.ediv_mul_cancel d1]
  · intro c
    rw [Int.sign_eq_neg_one_of_neg (by omega)] at n1
    refine ⟨?_, by omega⟩
    have : -1 * x = -x := by omega
    rw [this] at n1
    rw [n1, Int.ediv_mul_cancel (Int.dvd_neg.mpr d1)]
theorem ys_setAxis {post : SY → Prop} {x y : Int} {c : Nat} (hc : c ≤ 2) (hx : x.natAbs < 2 ^ 61) (hy : y.natAbs < 2 ^ 61) (h0 : y ≠ 0) {q : Rat} (hq : q * (y : Rat) = (x : Rat))
    (h : post (f_found, a_there, a_ends, a_points, vp_updL (vp_updL a_spot c (zL q.num)) (c + 1) (zL (q.den : Int)))) : wpY_setAxis post (f_found, a_there, a_ends, a_points, a_spot) (nI c) (zL x) (zL y) := by
  obtain ⟨k1, k2⟩ := y_red h0 hq
  have gp : 0 < Int.gcd x y := by
    rcases Nat.eq_zero_or_pos (Int.gcd x y) with z | z
    · exact absurd (Int.gcd_eq_zero_iff.mp z).2 h0
    · exact z
  have gl : Int.gcd x y ≤ y.natAbs := Nat.le_of_dvd (by omega) (Nat.gcd_dvd_right x.natAbs y.natAbs)
  have zc : ∀ z : Int, z.natAbs < 2 ^ 61 → zC z := fun z hz => ⟨by omega, by omega⟩
  have z0 : zC 0 := ⟨by omega, by omega⟩
  have gz : ¬ zL (Int.gcd x y : Int) = 0 := fun z => by
    have := (zL_eq (b := 0) ⟨by omega, by omega⟩ z0).mp z
    omega
  have v0 : vp_in (nI c) 4 := vp_in_nI (by omega) (by omega)
  have v1 : vp_in (nI c + 1) 4 := by rw [nI_1]; exact vp_in_nI (by omega) (by omega)
  unfold wpY_setAxis
  refine ys_divisor (by omega) (by omega) h0 ?_
  refine ek_if (zL_le (a := 0) z0 (zc y hy)) (fun s => ?_) (fun s => ?_)
  · obtain ⟨r1, r2⟩ := k1 s
    refine And.intro gz (And.intro v0 (nm_e (And.intro gz (And.intro v1 (nm_e ?_)))))
    have e1 : (1 : Int64) * zL x / zL (Int.gcd x y : Int) = zL q.num := by
      rw [zL_1', zL_mul, Int.one_mul]
      conv => lhs; lhs; rw [r1]
      exact zL_divx (by omega) (by omega) (by rw [← r1]; exact zc x hx)
    have e2 : (1 : Int64) * zL y / zL (Int.gcd x y : Int) = zL (q.den : Int) := by
      rw [zL_1', zL_mul, Int.one_mul]
      conv => lhs; lhs; rw [r2]
      exact zL_divx (by omega) (by omega) (by rw [← r2]; exact zc y hy)
    rw [e1, e2, nI_1, nI_clamp (by omega), nI_clamp (by omega)]
    exact h
  · obtain ⟨r1, r2⟩ := k2 s
    refine And.intro gz (And.intro v0 (nm_e (And.intro gz (And.intro v1 (nm_e ?_)))))
    have e1 : (-1 : Int64) * zL x / zL (Int.gcd x y : Int) = zL q.num := by
      rw [zL_m1, zL_mul, show -1 * x = -x by omega]
      conv => lhs; lhs; rw [r1]
      exact zL_divx (by omega) (by omega) (by rw [← r1]; exact zc (-x) (by omega))
    have e2 : (-1 : Int64) * zL y / zL (Int.gcd x y : Int) = zL (q.den : Int) := by
      rw [zL_m1, zL_mul, show -1 * y = -y by omega]
      conv => lhs; lhs; rw [r2]
      exact zL_divx (by omega) (by omega) (by rw [← r2]; exact zc (-y) (by omega))
    rw [e1, e2, nI_1, nI_clamp (by omega), nI_clamp (by omega)]
    exact h
theorem ysp_12 {sp : Nat → Int64} {p : ge_P} : ysp (vp_updL (vp_updL (vp_updL (vp_updL sp 0 (zL p.1.num)) 1 (zL (p.1.den : Int))) 2 (zL p.2.num)) 3 (zL (p.2.den : Int))) p := by
  refine ⟨?_, ?_, ?_, ?_⟩
  · rw [pk_uLn (by omega), pk_uLn (by omega), pk_uLn (by omega), pk_uLs]
  · rw [pk_uLn (by omega), pk_uLn (by omega), pk_uLs]
  · rw [pk_uLn (by omega), pk_uLs]
  · rw [pk_uLs]
theorem ys_goTo {post : SY → Prop} {x y : Int} (hx : x.natAbs < 2 ^ 31) (hy : y.natAbs < 2 ^ 31) (bx : zB x) (by' : zB y) (h : ∀ sp', ysp sp' ((x : Rat), (y : Rat)) → post (f_found, a_there, a_ends, a_points, sp')) : wpY_goTo post (f_found, a_there, a_ends, a_points, a_spot) (zI x) (zI y) := by
  unfold wpY_goTo
  dsimp only
  rw [zI_l bx, zI_l by']
  have q1 : ∀ z : Int, ((z : Rat)) * ((1 : Int) : Rat) = (z : Rat) := fun z => by rw [Rat.intCast_one, Rat.mul_one]
  refine ys_setAxis (c := 0) (by omega) (by omega) (y := 1) (by decide) (by omega) (q1 x) ?_
  refine ys_setAxis (c := 2) (by omega) (by omega) (y := 1) (by decide) (by omega) (q1 y) ?_
  exact h _ (ysp_12 (sp := a_spot) (p := ((x : Rat), (y : Rat))))
end
end
section
/-! has, setOn, common -/
theorem y_bound {x y : Int} {q : Rat} (h0 : y ≠ 0) (hq : q * (y : Rat) = (x : Rat)) (hx : x.natAbs ≤ 40000) (hy : y.natAbs ≤ 800) : ybd q := by
  obtain ⟨k1, k2⟩ := y_red h0 hq
  have gp : 1 ≤ Int.gcd x y := by
    rcases Nat.eq_zero_or_pos (Int.gcd x y) with z | z
    · exact absurd (Int.gcd_eq_zero_iff.mp z).2 h0
    · exact z
  have key : ∀ {a b : Int}, b = a * (Int.gcd x y : Int) → a.natAbs ≤ b.natAbs := by
    intro a b e
    rw [e, Int.natAbs_mul]
    exact Nat.le_mul_of_pos_right _ (by omega)
  unfold ybd
  by_cases c : 0 ≤ y
  · obtain ⟨r1, r2⟩ := k1 c
    have := key r1
    have := key r2
    omega
  · obtain ⟨r1, r2⟩ := k2 c
    have := key r1
    have := key r2
    omega
theorem y_gp {p : ge_P} (h : ge_gp p) : ybd p.1 ∧ ybd p.2 := by
  obtain ⟨X, Y, B, ⟨t1, t2, t3, t4, t5, t6⟩, e1, e2⟩ := h
  exact ⟨y_bound (by omega) e1 (by omega) (by omega), y_bound (by omega) e2 (by omega) (by omega)⟩
section
variable {f_found : Int32} {a_there a_ends : Nat → Int32} {a_points a_spot : Nat → Int64}
theorem ys_between {post : Int32 → Prop} {t b e e' : Int} {x : Rat} (hb : 1 ≤ b) (hx : x * (b : Rat) = (t : Rat)) (b1 : b ≤ 800) (b2 : -40000 ≤ t) (b3 : t ≤ 40000) (e1 : 0 ≤ e) (e2 : e ≤ 20) (e3 : 0 ≤ e') (e4 : e' ≤ 20)
    (h1 : y_bt e e' x → post 1) (h0 : ¬ y_bt e e' x → post 0) : wpY_between post (f_found, a_there, a_ends, a_points, a_spot) (zL t) (zL b) (zI e) (zI e') := by
  have be : zB e := ⟨by omega, by omega⟩
  have be' : zB e' := ⟨by omega, by omega⟩
  have fin : ∀ {lo hi : Int}, 0 ≤ lo → lo ≤ 20 → 0 ≤ hi → hi ≤ 20 → (((lo : Rat) ≤ x ∧ x ≤ (hi : Rat)) → post 1) → (¬ ((lo : Rat) ≤ x ∧ x ≤ (hi : Rat)) → post 0) → wY_between_30 post (zL t) (zL b) (zI lo) (zI hi) f_found a_there a_ends a_points a_spot := by
    intro lo hi l1 l2 g1 g2 k1 k0
    have m1 := zb_mul (x := lo) (y := b) (A := 20) (B := 800) (by omega) (by omega) (by omega) (by omega)
    have m2 := zb_mul (x := hi) (y := b) (A := 20) (B := 800) (by omega) (by omega) (by omega) (by omega)
    have c1 : zC t := ⟨by omega, by omega⟩
    have c2 : zC (lo * b) := ⟨by omega, by omega⟩
    have c3 : zC (hi * b) := ⟨by omega, by omega⟩
    unfold wY_between_30
    rw [zI_l ⟨by omega, by omega⟩, zI_l ⟨by omega, by omega⟩, zL_mul, zL_mul]
    have r1 := (ge_mul_le (a := lo) hb hx).1
    have r2 := (ge_mul_le (a := hi) hb hx).2
    refine ek_if (zL_lt c1 c2) (fun c => k0 (fun z => ?_)) (fun c => ?_)
    · have := r1.mpr z.1; omega
    · refine ek_if (zL_lt c3 c1) (fun d => k0 (fun z => ?_)) (fun d => k1 ⟨r1.mp (by omega), r2.mp (by omega)⟩)
      have := r2.mpr z.2; omega
  refine ek_if (zI_le be' be) (fun c => ?_) (fun c => ?_)
  · refine br_t ((zI_le be' be).mpr c) (fin e3 e4 e1 e2 (fun z => h1 (Or.inr z)) (fun z => h0 (fun w => z ?_)))
    rcases w with w | w
    · have := ge_icl c
      exact ⟨by grind, by grind⟩
    · exact w
  · refine br_f (fun z => c ((zI_le be' be).mp z)) (fin e1 e2 e3 e4 (fun z => h1 (Or.inl z)) (fun z => h0 (fun w => z ?_)))
    rcases w with w | w
    · exact w
    · have := ge_icl (Int.le_of_lt (Int.not_le.mp c))
      exact ⟨by grind, by grind⟩
theorem ys_has {post : Int32 → Prop} {k : Nat} {s : ge_S} {p : ge_P} (hk : k < 10) (hs : ye a_ends k s) (hr : yr s) (hp : ysp a_spot p) (b1 : ybd p.1) (b2 : ybd p.2)
    (h1 : y_on s p → post 1) (h0 : ¬ y_on s p → post 0) : wpY_has post (f_found, a_there, a_ends, a_points, a_spot) (nI k) := by
  obtain ⟨s1, s2, s3, s4, s5, s6, s7, s8⟩ := id hr
  obtain ⟨p0, p1, p2, p3⟩ := id hp
  obtain ⟨n1, n2, n3⟩ := b1
  obtain ⟨n4, n5, n6⟩ := b2
  have q1 := y_nd p.1
  have q2 := y_nd p.2
  have d1 := p.1.den_pos
  have d2 := p.2.den_pos
  generalize hxt : p.1.num = xt at *
  generalize hxb : p.1.den = xb at *
  generalize hyt : p.2.num = yt at *
  generalize hyb : p.2.den = yb at *
  have rest : ∀ z0 : Int32, (z0 = 1 ∧ ge_side s p = 0) ∨ (z0 = 0 ∧ ¬ ge_side s p = 0) → wY_has_109 post (nI k) (zL xt) (zL (xb : Int)) (zL yt) (zL (yb : Int)) z0 f_found a_there a_ends a_points a_spot := by
    rintro z0 (⟨rfl, hz⟩ | ⟨rfl, hz⟩)
    · refine br_f (by decide) ?_
      refine ys_e0 hk hs ?_
      refine ys_e2 hk hs ?_
      refine ys_between (by omega) q1 (by omega) n1 n2 s1 s2 s5 s6 (fun c => br_f (by decide) ?_) (fun c => br_t rfl (h0 (fun z => c z.2.1)))
      refine ys_e1 hk hs ?_
      refine ys_e3 hk hs ?_
      exact ys_between (by omega) q2 (by omega) n4 n5 s3 s4 s7 s8 (fun d => br_f (by decide) (h1 ⟨hz, c, d⟩)) (fun d => br_t rfl (h0 (fun z => d z.2.2)))
    · exact br_t rfl (h0 (fun z => hz z.1))
  refine nm_r p0 (nm_r p1 (nm_r p2 (nm_r p3 ?_)))
  refine ys_e2 hk hs ?_
  refine ys_e0 hk hs (nm_r (e' := zL (ge_dx s)) (by rw [zI_sub]; exact zI_l ⟨by omega, by omega⟩) ?_)
  refine ys_e3 hk hs ?_
  refine ys_e1 hk hs (nm_r (e' := zL (ge_dy s)) (by rw [zI_sub]; exact zI_l ⟨by omega, by omega⟩) ?_)
  refine ys_e1 hk hs ?_
  refine ys_e0 hk hs ?_
  rw [zI_l ⟨by omega, by omega⟩, zI_l ⟨by omega, by omega⟩]
  simp only [zL_mul, zL_sub]
  have key : ge_dx s * (yt - s.2.1 * (yb : Int)) * (xb : Int) = ge_dy s * (xt - s.1 * (xb : Int)) * (yb : Int) ↔ ge_side s p = 0 := by
    have X : (0 : Rat) < ((xb : Int) : Rat) := Rat.intCast_pos.mpr (by omega)
    have Y : (0 : Rat) < ((yb : Int) : Rat) := Rat.intCast_pos.mpr (by omega)
    have e : ((ge_dx s * (yt - s.2.1 * (yb : Int)) * (xb : Int) - ge_dy s * (xt - s.1 * (xb : Int)) * (yb : Int) : Int) : Rat) = (((xb : Int) : Rat) * ((yb : Int) : Rat)) * ge_side s p := by
      simp only [Rat.intCast_sub, Rat.intCast_mul]
      rw [← q1, ← q2]
      unfold ge_side
      grind
    constructor
    · intro c
      have z : ((ge_dx s * (yt - s.2.1 * (yb : Int)) * (xb : Int) - ge_dy s * (xt - s.1 * (xb : Int)) * (yb : Int) : Int) : Rat) = 0 := Rat.intCast_eq_zero_iff.mpr (by omega)
      rw [e] at z
      exact rq_z (Rat.mul_pos X Y) z
    · intro c
      rw [c, Rat.mul_zero] at e
      have := Rat.intCast_eq_zero_iff.mp e
      omega
  have bb : ∀ {d t e b c : Int}, -20 ≤ d → d ≤ 20 → -40000 ≤ t → t ≤ 40000 → 0 ≤ e → e ≤ 20 → 0 ≤ b → b ≤ 800 → 0 ≤ c → c ≤ 800 → zC (d * (t - e * b) * c) := by
    intro d t e b c d1 d2 t1 t2 e1 e2 b1 b2 c1 c2
    have a1 := zb_mul (x := e) (y := b) (A := 20) (B := 800) (by omega) (by omega) (by omega) (by omega)
    have a2 := zb_mul (x := d) (y := t - e * b) (A := 20) (B := 56000) (by omega) (by omega) (by omega) (by omega)
    have a3 := zb_mul (x := d * (t - e * b)) (y := c) (A := 1120000) (B := 800) (by omega) (by omega) (by omega) (by omega)
    exact ⟨by omega, by omega⟩
  have dxb : -20 ≤ ge_dx s ∧ ge_dx s ≤ 20 := by unfold ge_dx; omega
  have dyb : -20 ≤ ge_dy s ∧ ge_dy s ≤ 20 := by unfold ge_dy; omega
  refine ek_if (zL_eq (bb dxb.1 dxb.2 n4 n5 s3 s4 (by omega) (by omega) (by omega) (by omega)) (bb dyb.1 dyb.2 n1 n2 s1 s2 (by omega) (by omega) (by omega) (by omega))) (fun c => ?_) (fun c => ?_)
  · exact rest 1 (Or.inl ⟨rfl, key.mp c⟩)
  · exact rest 0 (Or.inr ⟨rfl, fun z => c (key.mpr z)⟩)
theorem ys_setOn {post : Int32 → Prop} {pr : Nat → Prop} {g : Nat → ge_S} {p : ge_P} (hy : yg pr g a_there a_ends) (G : ∀ k, pr k → k < 10 ∧ ge_ok (g k)) (hp : ysp a_spot p) (b1 : ybd p.1) (b2 : ybd p.2)
    (h : ∀ st, xb st (fun k => pr k ∧ ge_on (g k) p) → post st) : wpY_setOn post (f_found, a_there, a_ends, a_points, a_spot) := by
  have loop : ∀ (n m : Nat), 10 - m < n → m ≤ 10 → ∀ st : Int32, xb st (fun k => k < m ∧ pr k ∧ ge_on (g k) p) → wY_setOn_4 post f_found a_there a_ends a_points a_spot n st (nI m) := by
    intro n
    induction n with
    | zero => intro m hm; omega
    | succ n ih =>
      intro m hm hm2 st hst
      refine pk_le 10 m (fun hle => h st (xb_co hst (fun k hk => ⟨fun z => z.2, fun z => ⟨by omega, z⟩⟩))) (fun hlt => ?_) rfl rfl (by omega) (by omega)
      have skip : ¬ (pr m ∧ ge_on (g m) p) → wY_setOn_4 post f_found a_there a_ends a_points a_spot n st (nI (m + 1)) := by
        intro hc
        refine ih (m + 1) (by omega) (by omega) st (xb_co hst (fun k _ => ⟨fun z => ⟨by omega, z.2⟩, fun z => ⟨?_, z.2⟩⟩))
        have : k ≠ m := fun e => hc (e ▸ z.2)
        omega
      refine And.intro (vp_in_nI hlt (by omega)) ?_
      rw [nI_clamp (by omega)]
      refine ek_if (hy.1 m hlt) (fun np => nm_r (nI_1 m) (skip (fun z => np z.1))) (fun hp' => ?_)
      have pm : pr m := Classical.byContradiction hp'
      obtain ⟨s, e1, e2, e3⟩ := hy.2 m hlt
      have eq := y_on_g (G m pm).2 (e3 pm) p
      refine ys_has hlt e1 e2 hp b1 b2 (fun c => br_f (by decide) (nm_e (nm_r (nI_1 m) ?_))) (fun c => br_t rfl (nm_r (nI_1 m) (skip (fun z => c (eq.mpr z.2)))))
      refine ih (m + 1) (by omega) (by omega) _ (xb_co (xb_set hst hlt) (fun k _ => ?_))
      constructor
      · rintro (z | z)
        · exact ⟨by omega, z.2⟩
        · exact ⟨by omega, z ▸ ⟨pm, eq.mp c⟩⟩
      · rintro ⟨z1, z2⟩
        by_cases e : k = m
        · exact Or.inr e
        · exact Or.inl ⟨by omega, z2⟩
  exact ⟨11, loop 11 0 (by omega) (by omega) 0 (xb_co xb_0 (fun k _ => ⟨fun z => z.elim, fun z => absurd z.1 (by omega)⟩))⟩
theorem ys_goEnd {post : SY → Prop} {k c : Nat} {s : ge_S} (hk : k < 10) (hc : c < 2) (hs : ye a_ends k s) (hr : yr s) (h : ∀ sp', ysp sp' (if c = 0 then ge_fr s else ge_to s) → post (f_found, a_there, a_ends, a_points, sp')) : wpY_goToEnd post (f_found, a_there, a_ends, a_points, a_spot) (nI k) (nI c) := by
  obtain ⟨s1, s2, s3, s4, s5, s6, s7, s8⟩ := id hr
  rcases (show c = 0 ∨ c = 1 by omega) with rfl | rfl
  · unfold wpY_goToEnd
    dsimp only
    rw [show (2 : Int32) * nI 0 = 0 from by decide, show (0 : Int32) + 1 = 1 from by decide]
    refine ys_e0 hk hs ?_
    refine ys_e1 hk hs ?_
    refine ys_goTo (by omega) (by omega) ⟨by omega, by omega⟩ ⟨by omega, by omega⟩ ?_
    intro sp' h'
    exact h sp' (by rw [if_pos rfl]; exact h')
  · unfold wpY_goToEnd
    dsimp only
    rw [show (2 : Int32) * nI 1 = 2 from by decide, show (2 : Int32) + 1 = 3 from by decide]
    refine ys_e2 hk hs ?_
    refine ys_e3 hk hs ?_
    refine ys_goTo (by omega) (by omega) ⟨by omega, by omega⟩ ⟨by omega, by omega⟩ ?_
    intro sp' h'
    exact h sp' (by rw [if_neg (by decide)]; exact h')
end
end
section
/-! common -/
theorem y_turnB {s t : ge_S} (hs : yr s) (ht : yr t) : -800 ≤ ge_turn s t ∧ ge_turn s t ≤ 800 := by
  obtain ⟨h1', h2, h3, h4, h5, h6, h7, h8⟩ := hs
  obtain ⟨g1, g2, g3, g4, g5, g6, g7, g8⟩ := ht
  have a1 := zb_mul (x := ge_dx s) (y := ge_dy t) (A := 20) (B := 20) (by unfold ge_dx; omega) (by unfold ge_dx; omega) (by unfold ge_dy; omega) (by unfold ge_dy; omega)
  have a2 := zb_mul (x := ge_dy s) (y := ge_dx t) (A := 20) (B := 20) (by unfold ge_dy; omega) (by unfold ge_dy; omega) (by unfold ge_dx; omega) (by unfold ge_dx; omega)
  unfold ge_turn; omega
theorem y_alB {s t : ge_S} (hs : yr s) (ht : yr t) : -800 ≤ ge_al s t ∧ ge_al s t ≤ 800 := by
  obtain ⟨h1', h2, h3, h4, h5, h6, h7, h8⟩ := hs
  obtain ⟨g1, g2, g3, g4, g5, g6, g7, g8⟩ := ht
  have a1 := zb_mul (x := t.1 - s.1) (y := ge_dy t) (A := 20) (B := 20) (by omega) (by omega) (by unfold ge_dy; omega) (by unfold ge_dy; omega)
  have a2 := zb_mul (x := t.2.1 - s.2.1) (y := ge_dx t) (A := 20) (B := 20) (by omega) (by omega) (by unfold ge_dx; omega) (by unfold ge_dx; omega)
  unfold ge_al; omega
theorem ge_turn_sw {s t k l : ge_S} (hs : s = k ∨ s = ge_sw k) (ht : t = l ∨ t = ge_sw l) : ge_turn s t = 0 ↔ ge_turn k l = 0 := by
  have n1 : ∀ k, ge_dx (ge_sw k) = - ge_dx k := fun k => by unfold ge_dx ge_sw; dsimp only; omega
  have n2 : ∀ k, ge_dy (ge_sw k) = - ge_dy k := fun k => by unfold ge_dy ge_sw; dsimp only; omega
  unfold ge_turn
  rcases hs with rfl | rfl <;> rcases ht with rfl | rfl
  · exact Iff.rfl
  · rw [n1, n2, Int.mul_neg, Int.mul_neg]; omega
  · rw [n1, n2, Int.neg_mul, Int.neg_mul]; omega
  · rw [n1, n2, n1, n2, Int.neg_mul_neg, Int.neg_mul_neg]
section
variable {f_found : Int32} {a_there a_ends : Nat → Int32} {a_points a_spot : Nat → Int64}
theorem ys_across {post : Int32 → Prop} {j k : Nat} {s t : ge_S} (hj : j < 10) (hk : k < 10) (es : ye a_ends j s) (et : ye a_ends k t) (h : post (zI (ge_turn s t))) : wpY_across post (f_found, a_there, a_ends, a_points, a_spot) (nI j) (nI k) := by
  unfold wpY_across
  refine ys_e2 hj es ?_
  refine ys_e0 hj es ?_
  refine ys_e3 hk et ?_
  refine ys_e1 hk et ?_
  refine ys_e3 hj es ?_
  refine ys_e1 hj es ?_
  refine ys_e2 hk et ?_
  refine ys_e0 hk et ?_
  simp only [zI_sub, zI_mul]
  exact h
theorem ys_common {post : Int32 → SY → Prop} {pr : Nat → Prop} {g : Nat → ge_S} (G : sw_G pr g) (hy : yg pr g a_there a_ends) {j k : Nat} (pj : pr j) (pk : pr k) (hn : j ≠ k)
    (h1 : ∀ p sp', ysp sp' p → ge_on (g j) p → ge_on (g k) p → post 1 (f_found, a_there, a_ends, a_points, sp')) (h0 : (¬ ∃ p, ge_on (g j) p ∧ ge_on (g k) p) → ∀ sp', post 0 (f_found, a_there, a_ends, a_points, sp')) : wpY_common post (f_found, a_there, a_ends, a_points, a_spot) (nI j) (nI k) := by
  obtain ⟨j10, oj⟩ := G.1 j pj
  obtain ⟨k10, ok⟩ := G.1 k pk
  obtain ⟨s, es, rs, qs⟩ := hy.2 j j10
  obtain ⟨t, et, rt, qt⟩ := hy.2 k k10
  have qs := qs pj
  have qt := qt pk
  have tb := y_turnB rs rt
  have ab := y_alB rs rt
  have onj := fun p => y_on_g oj qs p
  have onk := fun p => y_on_g ok qt p
  obtain ⟨s1, s2, s3, s4, s5, s6, s7, s8⟩ := id rs
  obtain ⟨t1, t2, t3, t4, t5, t6, t7, t8⟩ := id rt
  have z0 : zB 0 := ⟨by omega, by omega⟩
  have bt' : zB (ge_turn s t) := ⟨by omega, by omega⟩
  unfold wpY_common
  refine ys_across j10 k10 es et ?_
  refine ek_if (zI_eq (b := 0) bt' z0) (fun c => ?_) (fun c => ?_)
  · -- parallel: a common point is an end of the first
    have ends : ∀ p, ge_on (g j) p → ge_on (g k) p → p = ge_fr s ∨ p = ge_to s := by
      intro p pj' pk'
      have hm : ge_m (g j) = ge_m (g k) := (ge_turn_0 oj ok).mp ((ge_turn_sw qs qt).mp c)
      obtain ⟨a1, a2, a3⟩ := (ge_on_iff oj p).mp pj'
      obtain ⟨b1, b2, b3⟩ := (ge_on_iff ok p).mp pk'
      have : p = ge_fr (g j) ∨ p = ge_to (g j) := by
        rcases ge_touch oj ok (G.2 j k pj pk hn) hm pj' pk' with d | d
        · exact Or.inr (ge_pt_eq oj pj' (ge_on_to oj) (by rw [ge_sc_to]; grind))
        · exact Or.inl (ge_pt_eq oj pj' (ge_on_fr oj) (by rw [ge_sc_fr]; grind))
      rcases qs with e | e
      · rw [e]; exact this
      · rw [e]; exact this.symm
    have onS : ∀ c : Nat, ge_on (g j) (if c = 0 then ge_fr s else ge_to s) := by
      intro c
      rcases qs with e | e
      · rw [e]; split
        · exact ge_on_fr oj
        · exact ge_on_to oj
      · rw [e]; split
        · exact ge_on_to oj
        · exact ge_on_fr oj
    have gpS : ∀ c : Nat, ybd (if c = 0 then ge_fr s else ge_to s).1 ∧ ybd (if c = 0 then ge_fr s else ge_to s).2 := by
      intro c
      apply y_gp
      split
      · exact ge_gp_int s1 s2 s3 s4
      · exact ge_gp_int s5 s6 s7 s8
    have loop : ∀ (n m : Nat), 2 - m < n → m ≤ 2 → (∀ c, c < m → ¬ ge_on (g k) (if c = 0 then ge_fr s else ge_to s)) → ∀ sp, wY_common_14 post (nI j) (nI k) n (nI m) f_found a_there a_ends a_points sp := by
      intro n
      induction n with
      | zero => intro m hm; omega
      | succ n ih =>
        intro m hm hm2 hno sp
        refine pk_le 2 m (fun hle => h0 ?_ sp) (fun hlt => ?_) rfl rfl (by omega) (by omega)
        · rintro ⟨p, p1, p2⟩
          rcases ends p p1 p2 with e | e
          · exact hno 0 (by omega) (by rw [if_pos rfl, ← e]; exact p2)
          · exact hno 1 (by omega) (by rw [if_neg (by omega), ← e]; exact p2)
        · refine ys_goEnd j10 hlt es rs ?_
          intro sp' hsp
          refine ys_has k10 et rt hsp (gpS m).1 (gpS m).2 (fun d => br_f (by decide) (h1 _ sp' hsp (onS m) ((onk _).mp d))) (fun d => br_t rfl (nm_r (nI_1 m) ?_))
          refine ih (m + 1) (by omega) (by omega) ?_ sp'
          intro c hc
          by_cases e : c = m
          · rw [e]; exact fun z => d ((onk _).mpr z)
          · exact hno c (by omega)
    exact ⟨3, loop 3 0 (by omega) (by omega) (fun c hc => absurd hc (by omega)) a_spot⟩
  · refine ys_e0 k10 et ?_
    refine ys_e0 j10 es (nm_e ?_)
    refine ys_e1 k10 et ?_
    refine ys_e1 j10 es (nm_e ?_)
    refine ys_e3 k10 et ?_
    refine ys_e1 k10 et ?_
    refine ys_e2 k10 et ?_
    refine ys_e0 k10 et (nm_r (e' := zI (ge_al s t)) (by simp only [zI_sub, zI_mul]; rfl) ?_)
    refine ys_e0 j10 es ?_
    refine ys_e2 j10 es ?_
    refine ys_e0 j10 es ?_
    have dxb : zB (ge_dx s) := by unfold ge_dx; exact ⟨by omega, by omega⟩
    have dyb : zB (ge_dy s) := by unfold ge_dy; exact ⟨by omega, by omega⟩
    have m1 := zb_mul (x := s.1) (y := ge_turn s t) (A := 20) (B := 800) (by omega) (by omega) (by omega) (by omega)
    have m2 := zb_mul (x := ge_al s t) (y := ge_dx s) (A := 800) (B := 20) (by omega) (by omega) (by unfold ge_dx; omega) (by unfold ge_dx; omega)
    have m3 := zb_mul (x := s.2.1) (y := ge_turn s t) (A := 20) (B := 800) (by omega) (by omega) (by omega) (by omega)
    have m4 := zb_mul (x := ge_al s t) (y := ge_dy s) (A := 800) (B := 20) (by omega) (by omega) (by unfold ge_dy; omega) (by unfold ge_dy; omega)
    have c1 : (zI s.2.2.1 - zI s.1).toInt64 = zL (ge_dx s) := by rw [zI_sub]; exact zI_l dxb
    have c2 : (zI s.2.2.2 - zI s.2.1).toInt64 = zL (ge_dy s) := by rw [zI_sub]; exact zI_l dyb
    have c3 : (zI s.1).toInt64 = zL s.1 := zI_l ⟨by omega, by omega⟩
    have c4 : (zI s.2.1).toInt64 = zL s.2.1 := zI_l ⟨by omega, by omega⟩
    have c5 : (zI (ge_turn s t)).toInt64 = zL (ge_turn s t) := zI_l bt'
    have c6 : (zI (ge_al s t)).toInt64 = zL (ge_al s t) := zI_l ⟨by omega, by omega⟩
    rw [c1, c3, c5, c6]
    simp only [zL_mul, zL_add]
    have tz : (ge_turn s t : Rat) ≠ 0 := fun z => c (Rat.intCast_eq_zero_iff.mp z)
    have ex : ∀ z : Int, ∃ q : Rat, q * (ge_turn s t : Rat) = (z : Rat) := fun z => ⟨(z : Rat) / (ge_turn s t : Rat), Rat.div_mul_cancel tz⟩
    obtain ⟨qx, hx⟩ := ex (s.1 * ge_turn s t + ge_al s t * ge_dx s)
    obtain ⟨qy, hyq⟩ := ex (s.2.1 * ge_turn s t + ge_al s t * ge_dy s)
    refine ys_setAxis (c := 0) (by omega) (by omega) (by omega) c hx ?_
    refine ys_e1 j10 es ?_
    refine ys_e3 j10 es ?_
    refine ys_e1 j10 es ?_
    rw [c2, c4]
    simp only [zL_mul, zL_add]
    refine ys_setAxis (c := 2) (by omega) (by omega) (by omega) c hyq ?_
    have hsp := ysp_12 (sp := a_spot) (p := (qx, qy))
    have b1 : ybd qx := y_bound c hx (by omega) (by omega)
    have b2 : ybd qy := y_bound c hyq (by omega) (by omega)
    have only : ∀ p, ge_on (g j) p → ge_on (g k) p → p = (qx, qy) := by
      intro p p1 p2
      obtain ⟨e1, e2⟩ := ge_meet_at ((onj p).mpr p1).1 ((onk p).mpr p2).1
      have f1 : (ge_turn s t : Rat) * (p.1 - qx) = 0 := by rw [← hx] at e1; grind
      have f2 : (ge_turn s t : Rat) * (p.2 - qy) = 0 := by rw [← hyq] at e2; grind
      have g1 : p.1 - qx = 0 := (Rat.mul_eq_zero.mp f1).resolve_left tz
      have g2 : p.2 - qy = 0 := (Rat.mul_eq_zero.mp f2).resolve_left tz
      exact Prod.ext (by show p.1 = qx; grind) (by show p.2 = qy; grind)
    refine ys_has j10 es rs hsp b1 b2 (fun d => br_f (by decide) ?_) (fun d => br_t rfl (h0 ?_ _))
    · refine ys_has k10 et rt hsp b1 b2 (fun e => br_f (by decide) (h1 _ _ hsp ((onj _).mp d) ((onk _).mp e))) (fun e => br_t rfl (h0 ?_ _))
      rintro ⟨p, p1, p2⟩
      have := only p p1 p2
      rw [this] at p2
      exact e ((onk _).mpr p2)
    · rintro ⟨p, p1, p2⟩
      have := only p p1 p2
      rw [this] at p1
      exact d ((onj _).mpr p1)
end
end
section
/-! order, insert, search -/
def ypa (pts : Nat → Int64) (Q : List ge_P) : Prop := ∀ i p, Q[i]? = some p → pts (4 * i) = zL p.1.num ∧ pts (4 * i + 1) = zL (p.1.den : Int) ∧ pts (4 * i + 2) = zL p.2.num ∧ pts (4 * i + 3) = zL (p.2.den : Int)
def y_c (p q : ge_P) : Int := if p.1.num * (q.1.den : Int) - q.1.num * (p.1.den : Int) = 0 then p.2.num * (q.2.den : Int) - q.2.num * (p.2.den : Int) else p.1.num * (q.1.den : Int) - q.1.num * (p.1.den : Int)
theorem y_cp (p q : ge_P) : (y_c p q < 0 ↔ ge_lt p q) ∧ (y_c p q = 0 ↔ p = q) ∧ (0 < y_c p q ↔ ge_lt q p) := by
  have dp1 := p.1.den_pos
  have dp2 := p.2.den_pos
  have dq1 := q.1.den_pos
  have dq2 := q.2.den_pos
  obtain ⟨x1, x2⟩ := ge_cross (B := (p.1.den : Int)) (B' := (q.1.den : Int)) (by omega) (by omega) (y_nd p.1) (y_nd q.1)
  obtain ⟨y1, y2⟩ := ge_cross (B := (p.2.den : Int)) (B' := (q.2.den : Int)) (by omega) (by omega) (y_nd p.2) (y_nd q.2)
  obtain ⟨x3, _⟩ := ge_cross (B := (q.1.den : Int)) (B' := (p.1.den : Int)) (by omega) (by omega) (y_nd q.1) (y_nd p.1)
  obtain ⟨y3, _⟩ := ge_cross (B := (q.2.den : Int)) (B' := (p.2.den : Int)) (by omega) (by omega) (y_nd q.2) (y_nd p.2)
  have ee : p = q ↔ p.1 = q.1 ∧ p.2 = q.2 := ⟨fun h => by rw [h]; exact ⟨rfl, rfl⟩, fun h => Prod.ext h.1 h.2⟩
  have e3 : q.1 = p.1 ↔ p.1.num * (q.1.den : Int) = q.1.num * (p.1.den : Int) := ⟨fun h => x2.mp h.symm, fun h => (x2.mpr h).symm⟩
  unfold ge_lt
  rw [ee, x1, x2, x3, y1, y2, y3, e3]
  unfold y_c
  split
  · next h => refine ⟨?_, ?_, ?_⟩ <;> omega
  · next h => refine ⟨?_, ?_, ?_⟩ <;> omega
theorem y_cB {p q : ge_P} (p1 : ybd p.1) (p2 : ybd p.2) (q1 : ybd q.1) (q2 : ybd q.2) : zC (p.1.num * (q.1.den : Int) - q.1.num * (p.1.den : Int)) ∧ zC (p.2.num * (q.2.den : Int) - q.2.num * (p.2.den : Int)) := by
  obtain ⟨a1, a2, a3⟩ := p1
  obtain ⟨b1, b2, b3⟩ := p2
  obtain ⟨c1, c2, c3⟩ := q1
  obtain ⟨d1, d2, d3⟩ := q2
  have m1 := zb_mul (x := p.1.num) (y := (q.1.den : Int)) (A := 40000) (B := 800) (by omega) (by omega) (by omega) (by omega)
  have m2 := zb_mul (x := q.1.num) (y := (p.1.den : Int)) (A := 40000) (B := 800) (by omega) (by omega) (by omega) (by omega)
  have m3 := zb_mul (x := p.2.num) (y := (q.2.den : Int)) (A := 40000) (B := 800) (by omega) (by omega) (by omega) (by omega)
  have m4 := zb_mul (x := q.2.num) (y := (p.2.den : Int)) (A := 40000) (B := 800) (by omega) (by omega) (by omega) (by omega)
  exact ⟨⟨by omega, by omega⟩, ⟨by omega, by omega⟩⟩
theorem y_cut (p : ge_P) : ∀ (Q : List ge_P), Q.Pairwise ge_lt → ∃ Q1 Q2, Q = Q1 ++ Q2 ∧ (∀ r, r ∈ Q1 → ge_lt r p) ∧ (∀ r, r ∈ Q2 → ¬ ge_lt r p) := by
  intro Q
  induction Q with
  | nil => exact fun _ => ⟨[], [], rfl, fun r hr => absurd hr (by simp), fun r hr => absurd hr (by simp)⟩
  | cons a Q ih =>
    intro h
    obtain ⟨h1, h2⟩ := List.pairwise_cons.mp h
    by_cases c : ge_lt a p
    · obtain ⟨Q1, Q2, e, k1, k2⟩ := ih h2
      refine ⟨a :: Q1, Q2, by rw [e]; rfl, ?_, k2⟩
      intro r hr
      rcases List.mem_cons.mp hr with rfl | hr
      · exact c
      · exact k1 r hr
    · refine ⟨[], a :: Q, rfl, fun r hr => absurd hr (by simp), ?_⟩
      intro r hr z
      rcases List.mem_cons.mp hr with rfl | hr
      · exact c z
      · exact c (ge_lt_tr (h1 r hr) z)
/-- two segments have one common point at most -/
theorem sw_uniq {pr : Nat → Prop} {g : Nat → ge_S} (G : sw_G pr g) {j k : Nat} (hj : pr j) (hk : pr k) (hn : j ≠ k) {p q : ge_P} (pj : ge_on (g j) p) (pk : ge_on (g k) p) (qj : ge_on (g j) q) (qk : ge_on (g k) q) : p = q := by
  have o1 := (G.1 j hj).2
  have o2 := (G.1 k hk).2
  by_cases hm : ge_m (g j) = ge_m (g k)
  · obtain ⟨a1, a2, a3⟩ := (ge_on_iff o1 p).mp pj
    obtain ⟨b1, b2, b3⟩ := (ge_on_iff o2 p).mp pk
    obtain ⟨c1, c2, c3⟩ := (ge_on_iff o1 q).mp qj
    obtain ⟨d1, d2, d3⟩ := (ge_on_iff o2 q).mp qk
    rcases ge_touch o1 o2 (G.2 j k hj hk hn) hm pj pk with c | c
    · exact ge_pt_eq o1 pj qj (by grind)
    · exact ge_pt_eq o1 pj qj (by grind)
  · exact sw_one o1 o2 hm pj pk qj qk
theorem sw_mt_45 {pr : Nat → Prop} {g : Nat → ge_S} (G : sw_G pr g) {Q : List ge_P} (hs : Q.Nodup) (h : ∀ q, q ∈ Q → sw_mt pr g q) : Q.length ≤ 45 := by
  have e : (sw_prs.map (sw_mp g)).length = 45 := by rw [List.length_map]; exact sw_prs_len
  rw [← e]
  refine List.Nodup.length_le_of_subset hs ?_
  intro q hq
  obtain ⟨j, k, hn, hj, hk, oj, ok⟩ := h q hq
  have key : ∀ {j k : Nat}, pr j → pr k → j ≠ k → ge_on (g j) q → ge_on (g k) q → sw_mp g (j, k) = q := by
    intro j k hj hk hn oj ok
    have hx : ∃ q, ge_on (g j) q ∧ ge_on (g k) q := ⟨q, oj, ok⟩
    have e : sw_mp g (j, k) = hx.choose := by unfold sw_mp; exact dif_pos hx
    rw [e]
    exact sw_uniq G hj hk hn hx.choose_spec.1 hx.choose_spec.2 oj ok
  rcases Nat.lt_or_gt_of_ne hn with c | c
  · exact List.mem_map.mpr ⟨(j, k), sw_prs_mem c (G.1 k hk).1, key hj hk hn oj ok⟩
  · exact List.mem_map.mpr ⟨(k, j), sw_prs_mem c (G.1 j hj).1, key hk hj (fun z => hn z.symm) ok oj⟩
def y_Sh (a a' : Nat → Int64) (c n : Nat) : Prop := ∀ i, (i < c → a' i = a i) ∧ (c ≤ i → i < n → a' i = a (i - 4))
section
variable {f_found : Int32} {a_there a_ends : Nat → Int32} {a_points a_spot : Nat → Int64}
theorem ys_order {post : Int64 → Prop} {Q : List ge_P} {p q : ge_P} {i : Nat} (hQ : ypa a_points Q) (hi : Q[i]? = some q) (hl : i < 45) (hp : ysp a_spot p) (p1 : ybd p.1) (p2 : ybd p.2) (q1 : ybd q.1) (q2 : ybd q.2) (h : post (zL (y_c p q))) : wpY_order post (f_found, a_there, a_ends, a_points, a_spot) (nI i) := by
  obtain ⟨e0, e1, e2, e3⟩ := hQ i q hi
  obtain ⟨f0, f1, f2, f3⟩ := hp
  obtain ⟨b1, b2⟩ := y_cB p1 p2 q1 q2
  have i0 : (4 : Int32) * nI i = nI (4 * i) := by show nI 4 * nI i = _; rw [pk_mul]
  have i1 : (4 : Int32) * nI i + 1 = nI (4 * i + 1) := yix i 1
  have i2 : (4 : Int32) * nI i + 2 = nI (4 * i + 2) := yix i 2
  have i3 : (4 : Int32) * nI i + 3 = nI (4 * i + 3) := yix i 3
  unfold wpY_order
  dsimp only
  rw [i1, i2, i3, i0, nI_clamp (by omega), nI_clamp (by omega), nI_clamp (by omega), nI_clamp (by omega), e0, e1, e2, e3, f0, f1, f2, f3]
  simp only [zL_mul, zL_sub]
  refine And.intro (vp_in_nI (by omega) (by omega)) (And.intro (vp_in_nI (by omega) (by omega)) (nm_e ?_))
  unfold y_c at h
  refine ek_if (zL_eq (b := 0) b1 ⟨by omega, by omega⟩) (fun c => And.intro (vp_in_nI (by omega) (by omega)) (And.intro (vp_in_nI (by omega) (by omega)) ?_)) (fun c => ?_)
  · rw [if_pos c] at h; exact h
  · rw [if_neg c] at h; exact h
theorem ys_ins85 {post : SY → Prop} {Q1 Q2 : List ge_P} {p : ge_P} (hl : (Q1 ++ Q2).length < 45) (hf : f_found = nI (Q1 ++ Q2).length) (hp : ysp a_spot p) (hQ : ypa a_points (Q1 ++ Q2))
    (h : ∀ pts, ypa pts (Q1 ++ p :: Q2) → post (nI ((Q1 ++ Q2).length + 1), a_there, a_ends, pts, a_spot)) :
    ∀ (n c : Nat), 4 - c < n → c ≤ 4 → ∀ pts, y_Sh a_points pts (4 * Q1.length + 4) (4 * (Q1 ++ Q2).length + 4) ∨ c ≠ 0 → (∀ i, i < 4 * Q1.length → pts i = a_points i) → (∀ i, 4 * Q1.length + 4 ≤ i → i < 4 * (Q1 ++ Q2).length + 4 → pts i = a_points (i - 4)) → (∀ i, i < c → pts (4 * Q1.length + i) = a_spot i) →
      wY_insert_85 post (nI Q1.length) f_found n (nI c) a_there a_ends pts a_spot := by
  have hq1 : Q1.length ≤ (Q1 ++ Q2).length := by simp
  intro n
  induction n with
  | zero => intro c hc; omega
  | succ n ih =>
    intro c hc hc2 pts _ h1 h2 h3
    refine pk_le 4 c (fun hle => ?_) (fun hlt => ?_) rfl rfl (by omega) (by omega)
    · refine nm_r (e' := nI ((Q1 ++ Q2).length + 1)) (by rw [hf, nI_1]) (h pts ?_)
      intro i s hi
      rcases xe_ins hi with ⟨c', k⟩ | ⟨c', k⟩ | ⟨c', k⟩
      · rw [h1 _ (by omega), h1 _ (by omega), h1 _ (by omega), h1 _ (by omega)]
        exact hQ i s k
      · subst k
        obtain ⟨f0, f1, f2, f3⟩ := hp
        rw [c']
        have g0 := h3 0 (by omega)
        rw [Nat.add_zero] at g0
        rw [g0, h3 1 (by omega), h3 2 (by omega), h3 3 (by omega)]
        exact ⟨f0, f1, f2, f3⟩
      · have l := xe_len k
        rw [h2 _ (by omega) (by omega), h2 _ (by omega) (by omega), h2 _ (by omega) (by omega), h2 _ (by omega) (by omega)]
        have := hQ (i - 1) s k
        rw [show 4 * (i - 1) = 4 * i - 4 by omega] at this
        rw [show 4 * i + 1 - 4 = 4 * i - 4 + 1 by omega, show 4 * i + 2 - 4 = 4 * i - 4 + 2 by omega, show 4 * i + 3 - 4 = 4 * i - 4 + 3 by omega]
        exact this
    · refine And.intro (vp_in_nI hlt (by omega)) ?_
      rw [yix Q1.length c]
      refine And.intro (vp_in_nI (by omega) (by omega)) (nm_e (nm_r (nI_1 c) ?_))
      rw [nI_clamp (by omega), nI_clamp (by omega)]
      refine ih (c + 1) (by omega) (by omega) _ (Or.inr (by omega)) ?_ ?_ ?_
      · intro i hi
        rw [pk_uLn (by omega)]; exact h1 i hi
      · intro i hi hi2
        rw [pk_uLn (by omega)]; exact h2 i hi hi2
      · intro i hi
        by_cases e : i = c
        · rw [e, pk_uLs]
        · rw [pk_uLn (by omega)]; exact h3 i (by omega)
theorem ys_ins54 {post : SY → Prop} {Q1 Q2 : List ge_P} {p : ge_P} (hl : (Q1 ++ Q2).length < 45) (hf : f_found = nI (Q1 ++ Q2).length) (hp : ysp a_spot p) (hQ : ypa a_points (Q1 ++ Q2))
    (h : ∀ pts, ypa pts (Q1 ++ p :: Q2) → post (nI ((Q1 ++ Q2).length + 1), a_there, a_ends, pts, a_spot)) :
    ∀ (n c : Nat), c < n → 4 * Q1.length + 4 ≤ c → c ≤ 4 * (Q1 ++ Q2).length + 4 → ∀ pts, y_Sh a_points pts c (4 * (Q1 ++ Q2).length + 4) →
      wY_insert_54 post (nI Q1.length) f_found n (nI c - 1) a_there a_ends pts a_spot := by
  have hq1 : Q1.length ≤ (Q1 ++ Q2).length := by simp
  intro n
  induction n with
  | zero => intro c hc; omega
  | succ n ih =>
    intro c hc c1 c2 pts hs
    obtain ⟨m, rfl⟩ : ∃ m, c = m + 1 := ⟨c - 1, by omega⟩
    rw [nI_pred]
    have e4 : (4 : Int32) * nI Q1.length + 4 = nI (4 * Q1.length + 4) := yix Q1.length 4
    refine pk_lt m (4 * Q1.length + 4) (fun hlt => ?_) (fun hge => ?_) rfl e4 (by omega) (by omega)
    · have em : m + 1 = 4 * Q1.length + 4 := by omega
      refine ⟨5, ys_ins85 hl hf hp hQ h 5 0 (by omega) (by omega) pts (Or.inl (by rw [← em]; exact hs)) (fun i hi => (hs i).1 (by omega)) (fun i h1 h2 => (hs i).2 (by omega) h2) (fun i hi => absurd hi (by omega))⟩
    · obtain ⟨r, hr⟩ : ∃ r, m = r + 4 := ⟨m - 4, by omega⟩
      have em : nI m - 4 = nI (m - 4) := by rw [show (4 : Int32) = nI 4 from rfl, pk_sub (by omega)]
      rw [em]
      refine And.intro (vp_in_nI (by omega) (by omega)) (And.intro (vp_in_nI (by omega) (by omega)) (nm_e (nm_r (e' := nI m - 1) (by rw [Int32.sub_eq_add_neg]) ?_)))
      rw [nI_clamp (by omega), nI_clamp (by omega)]
      refine ih m (by omega) (by omega) (by omega) _ ?_
      intro i
      constructor
      · intro hi
        rw [pk_uLn (by omega)]; exact (hs i).1 (by omega)
      · intro hi hi2
        by_cases e : i = m
        · rw [e, pk_uLs]; exact (hs _).1 (by omega)
        · rw [pk_uLn e]; exact (hs i).2 (by omega) hi2
theorem ys_insert {post : SY → Prop} {Q : List ge_P} {p : ge_P} (hf : f_found = nI Q.length) (hl : Q.length ≤ 45) (hn : p ∉ Q → Q.length < 45) (hp : ysp a_spot p) (hQ : ypa a_points Q) (hs : Q.Pairwise ge_lt) (p1 : ybd p.1) (p2 : ybd p.2) (hb : ∀ q, q ∈ Q → ybd q.1 ∧ ybd q.2)
    (h : ∀ Q' pts, ypa pts Q' → Q'.Pairwise ge_lt → (∀ q, q ∈ Q' ↔ q ∈ Q ∨ q = p) → post (nI Q'.length, a_there, a_ends, pts, a_spot)) : wpY_insert post (f_found, a_there, a_ends, a_points, a_spot) := by
  obtain ⟨Q1, Q2, rfl, k1, k2⟩ := y_cut p Q hs
  have l1 : Q1.length ≤ (Q1 ++ Q2).length := by simp
  have go : (p ∉ Q1 ++ Q2) → ∃ n, wY_insert_54 post (nI Q1.length) f_found n ((4 * f_found) + 3) a_there a_ends a_points a_spot := by
    intro hnp
    have hl' := hn hnp
    refine ⟨4 * (Q1 ++ Q2).length + 5, ?_⟩
    have e3 : (4 : Int32) * f_found + 3 = nI (4 * (Q1 ++ Q2).length + 4) - 1 := by
      rw [hf, nI_pred]; exact yix _ 3
    rw [e3]
    refine ys_ins54 hl' hf hp hQ ?_ _ _ (by omega) (by omega) (by omega) a_points (fun i => ⟨fun _ => rfl, fun a b => absurd b (by omega)⟩)
    intro pts hpts
    have el : (Q1 ++ p :: Q2).length = (Q1 ++ Q2).length + 1 := by simp; omega
    rw [← el]
    refine h _ pts hpts ?_ ?_
    · obtain ⟨s1, s2, s3⟩ := List.pairwise_append.mp hs
      have k3 : ∀ r, r ∈ Q2 → ge_lt p r := by
        intro r hr
        rcases ge_lt_tri p r with c | c | c
        · exact c
        · exact absurd (List.mem_append_right _ (c ▸ hr)) hnp
        · exact absurd c (k2 r hr)
      refine List.pairwise_append.mpr ⟨s1, List.pairwise_cons.mpr ⟨k3, s2⟩, ?_⟩
      intro a ha b hb
      rcases List.mem_cons.mp hb with rfl | hb
      · exact k1 a ha
      · exact s3 a ha b hb
    · intro q
      simp only [List.mem_append, List.mem_cons]
      constructor
      · rintro (z | z | z)
        · exact Or.inl (Or.inl z)
        · exact Or.inr z
        · exact Or.inl (Or.inr z)
      · rintro ((z | z) | z)
        · exact Or.inl z
        · exact Or.inr (Or.inr z)
        · exact Or.inr (Or.inl z)
  have same : p ∈ Q1 ++ Q2 → post (f_found, a_there, a_ends, a_points, a_spot) := by
    intro hin
    have := h (Q1 ++ Q2) a_points hQ hs (fun q => ⟨Or.inl, fun z => z.elim id (fun e => e ▸ hin)⟩)
    rw [← hf] at this
    exact this
  have at26 : wY_insert_26 post (nI Q1.length) f_found a_there a_ends a_points a_spot := by
    refine pk_le (Q1 ++ Q2).length Q1.length (fun hle => ?_) (fun hlt => ?_) hf rfl (by omega) (by omega)
    · have e2 : Q2 = [] := by
        cases Q2 with
        | nil => rfl
        | cons a Q2 => simp at hle; omega
      subst e2
      refine nm_e (go ?_)
      intro z
      rw [List.append_nil] at z
      exact ge_lt_ir (k1 p z)
    · cases Q2 with
      | nil => simp at hlt
      | cons q Q2 =>
        have hq : (Q1 ++ q :: Q2)[Q1.length]? = some q := by simp
        have hm := List.mem_of_getElem? hq
        obtain ⟨b1, b2⟩ := hb q hm
        refine ys_order hQ hq (by simp at hl; omega) hp p1 p2 b1 b2 ?_
        have cb : zC (y_c p q) := by
          obtain ⟨z1, z2⟩ := y_cB p1 p2 b1 b2
          unfold y_c; split
          · exact z2
          · exact z1
        refine ek_if (zL_eq (b := 0) cb ⟨by omega, by omega⟩) (fun c => same ?_) (fun c => nm_e (go ?_))
        · rw [(y_cp p q).2.1.mp c]; exact hm
        · intro z
          have pq : ge_lt p q := by
            rcases ge_lt_tri p q with d | d | d
            · exact d
            · exact absurd ((y_cp p q).2.1.mpr d) c
            · exact absurd d (k2 q List.mem_cons_self)
          rcases List.mem_append.mp z with z | z
          · exact ge_lt_ir (k1 p z)
          · rcases List.mem_cons.mp z with z | z
            · rw [z] at pq; exact ge_lt_ir pq
            · have := (List.pairwise_cons.mp (List.pairwise_append.mp hs).2.1).1 p z
              exact ge_lt_ir (ge_lt_tr pq this)
  have loop : ∀ (n m : Nat), Q1.length - m < n → m ≤ Q1.length → wY_insert_2 post f_found a_there a_ends a_points a_spot n (nI m) := by
    intro n
    induction n with
    | zero => intro m hm; omega
    | succ n ih =>
      intro m hm hm2
      have fin : m = Q1.length → wY_insert_26 post (nI m) f_found a_there a_ends a_points a_spot := fun e => by rw [e]; exact at26
      refine pk_le (Q1 ++ Q2).length m (fun hle => fin (by omega)) (fun hlt => ?_) hf rfl (by omega) (by omega)
      obtain ⟨q, hq⟩ : ∃ q, (Q1 ++ Q2)[m]? = some q := ⟨_, List.getElem?_eq_getElem (by omega)⟩
      have hm' := List.mem_of_getElem? hq
      obtain ⟨b1, b2⟩ := hb q hm'
      refine ys_order hQ hq (by omega) hp p1 p2 b1 b2 ?_
      have cb : zC (y_c p q) := by
        obtain ⟨z1, z2⟩ := y_cB p1 p2 b1 b2
        unfold y_c; split
        · exact z2
        · exact z1
      refine ek_if (zL_le (b := 0) cb ⟨by omega, by omega⟩) (fun c => fin ?_) (fun c => ?_)
      · by_cases e : m = Q1.length
        · exact e
        · exfalso
          rw [List.getElem?_append_left (by omega)] at hq
          have := (y_cp p q).2.2.mpr (k1 q (List.mem_of_getElem? hq))
          omega
      · have hne : m ≠ Q1.length := by
          intro e
          rw [List.getElem?_append_right (by omega)] at hq
          exact k2 q (List.mem_of_getElem? hq) ((y_cp p q).2.2.mp (by omega))
        exact nm_r (nI_1 m) (ih (m + 1) (by omega) (by omega))
  exact ⟨Q1.length + 1, loop _ 0 (by omega) (by omega)⟩
/-- the common points of the pairs that have been looked at -/
def y_pr (pr : Nat → Prop) (g : Nat → ge_S) (J K : Nat) (q : ge_P) : Prop := ∃ j k, k < j ∧ (j < J ∨ (j = J ∧ k < K)) ∧ pr j ∧ pr k ∧ ge_on (g j) q ∧ ge_on (g k) q
theorem ys_search {post : SY → Prop} {pr : Nat → Prop} {g : Nat → ge_S} (G : sw_G pr g) (hy : yg pr g a_there a_ends)
    (h : ∀ Q fd pts sp, fd = nI Q.length → ypa pts Q → Q.Pairwise ge_lt → (∀ q, q ∈ Q ↔ sw_mt pr g q) → post (fd, a_there, a_ends, pts, sp)) : wpY_search post (f_found, a_there, a_ends, a_points, a_spot) := by
  have tomt : ∀ {J K : Nat} {q : ge_P}, y_pr pr g J K q → sw_mt pr g q := fun ⟨j, k, a, _, b, c, d, e⟩ => ⟨j, k, by omega, b, c, d, e⟩
  have nodup : ∀ {Q : List ge_P}, Q.Pairwise ge_lt → Q.Nodup := fun hs => hs.imp (fun {a b} h z => by rw [z] at h; exact ge_lt_ir h)
  have inner : ∀ (J : Nat), J < 10 → ∀ (n K : Nat) (JJ : Int32 → Int32 → (Nat → Int32) → (Nat → Int32) → (Nat → Int64) → (Nat → Int64) → Prop), J - K < n → K ≤ J → ∀ (Q : List ge_P) (pts sp : Nat → Int64), ypa pts Q → Q.Pairwise ge_lt → (∀ q, q ∈ Q ↔ y_pr pr g J K q) →
      (∀ (Q : List ge_P) (pts sp : Nat → Int64), ypa pts Q → Q.Pairwise ge_lt → (∀ q, q ∈ Q ↔ y_pr pr g (J + 1) 0 q) → JJ (nI (J + 1)) (nI Q.length) a_there a_ends pts sp) →
      wY_search_15 post JJ (nI J) n (nI K) (nI Q.length) a_there a_ends pts sp := by
    intro J hJ n
    induction n with
    | zero => intro K JJ hK; omega
    | succ n ih =>
      intro K JJ hK hK2 Q pts sp hp hs hm hc
      refine pk_le J K (fun hle => ?_) (fun hlt => ?_) rfl rfl (by omega) (by omega)
      · refine nm_r (nI_1 J) (hc Q pts sp hp hs (fun q => (hm q).trans ?_))
        constructor
        · rintro ⟨j, k, a, b, c⟩
          exact ⟨j, k, a, Or.inl (by omega), c⟩
        · rintro ⟨j, k, a, b, c⟩
          exact ⟨j, k, a, by omega, c⟩
      · have skip : ∀ sp, (¬ ∃ q, pr J ∧ pr K ∧ ge_on (g J) q ∧ ge_on (g K) q) → wY_search_15 post JJ (nI J) n (nI (K + 1)) (nI Q.length) a_there a_ends pts sp := by
          intro sp hno
          refine ih (K + 1) JJ (by omega) (by omega) Q pts sp hp hs (fun q => (hm q).trans ?_) hc
          constructor
          · rintro ⟨j, k, a, b, c⟩
            exact ⟨j, k, a, by omega, c⟩
          · rintro ⟨j, k, a, b, c⟩
            refine ⟨j, k, a, ?_, c⟩
            rcases b with b | ⟨b1, b2⟩
            · exact Or.inl b
            · right
              refine ⟨b1, ?_⟩
              have : k ≠ K := fun e => hno ⟨q, by rw [b1, e] at c; exact c⟩
              clear hno
              omega
        have v1 : vp_in (nI J) 10 := vp_in_nI hJ (by omega)
        have v2 : vp_in (nI K) 10 := vp_in_nI (by omega) (by omega)
        refine And.intro v1 ?_
        rw [nI_clamp (n := J) (by omega)]
        refine ek_if (hy.1 J hJ) (fun np => nm_r (nI_1 K) (skip sp (fun ⟨q, z, _⟩ => np z))) (fun hpj => And.intro v2 ?_)
        rw [nI_clamp (by omega)]
        refine ek_if (hy.1 K (by omega)) (fun np => nm_r (nI_1 K) (skip sp (fun ⟨q, _, z, _⟩ => np z))) (fun hpk => ?_)
        have pj : pr J := Classical.byContradiction hpj
        have pk : pr K := Classical.byContradiction hpk
        refine ys_common G hy pj pk (by omega) ?_ (fun hno sp' => br_t rfl (nm_r (nI_1 K) (skip sp' (fun ⟨q, _, _, a, b⟩ => hno ⟨q, a, b⟩))))
        intro p sp' hsp oj ok
        refine br_f (by decide) ?_
        have pmt : sw_mt pr g p := ⟨J, K, by omega, pj, pk, oj, ok⟩
        have Qmt : ∀ q, q ∈ Q → sw_mt pr g q := fun q hq => tomt ((hm q).mp hq)
        obtain ⟨p1, p2⟩ := y_gp (sw_gp G (Or.inr pmt))
        refine ys_insert rfl (sw_mt_45 G (nodup hs) Qmt) ?_ hsp hp hs p1 p2 (fun q hq => y_gp (sw_gp G (Or.inr (Qmt q hq)))) ?_
        · intro hnp
          have := sw_mt_45 G (Q := p :: Q) (List.nodup_cons.mpr ⟨hnp, nodup hs⟩) (by
            intro q hq
            rcases List.mem_cons.mp hq with rfl | hq
            · exact pmt
            · exact Qmt q hq)
          simp at this; omega
        · intro Q' pts' hp' hs' hm'
          refine nm_r (nI_1 K) (ih (K + 1) JJ (by omega) (by omega) Q' pts' sp' hp' hs' (fun q => (hm' q).trans ?_) hc)
          rw [hm q]
          constructor
          · rintro (⟨j, k, a, b, c⟩ | e)
            · exact ⟨j, k, a, by omega, c⟩
            · rw [e]; exact ⟨J, K, hlt, Or.inr ⟨rfl, by omega⟩, pj, pk, oj, ok⟩
          · rintro ⟨j, k, a, b, c1, c2, c3, c4⟩
            by_cases e : j = J ∧ k = K
            · obtain ⟨rfl, rfl⟩ := e
              exact Or.inr (sw_uniq G pj pk (by omega) c3 c4 oj ok)
            · exact Or.inl ⟨j, k, a, by omega, c1, c2, c3, c4⟩
  have outer : ∀ (n J : Nat), 10 - J < n → J ≤ 10 → ∀ (Q : List ge_P) (pts sp : Nat → Int64), ypa pts Q → Q.Pairwise ge_lt → (∀ q, q ∈ Q ↔ y_pr pr g J 0 q) → wY_search_7 post n (nI J) (nI Q.length) a_there a_ends pts sp := by
    intro n
    induction n with
    | zero => intro J hJ; omega
    | succ n ih =>
      intro J hJ hJ2 Q pts sp hp hs hm
      refine pk_le 10 J (fun hle => ?_) (fun hlt => ?_) rfl rfl (by omega) (by omega)
      · refine h Q _ pts sp rfl hp hs (fun q => (hm q).trans ⟨tomt, ?_⟩)
        rintro ⟨j, k, a, b, c, d, e⟩
        have jb := (G.1 j b).1
        have kb := (G.1 k c).1
        rcases Nat.lt_or_gt_of_ne a with z | z
        · exact ⟨k, j, z, Or.inl (by omega), c, b, e, d⟩
        · exact ⟨j, k, z, Or.inl (by omega), b, c, d, e⟩
      · exact ⟨J + 1, inner J hlt (J + 1) 0 _ (by omega) (by omega) Q pts sp hp hs hm (fun Q' pts' sp' a b c => ih (J + 1) (by omega) (by omega) Q' pts' sp' a b c)⟩
  exact ⟨11, outer 11 0 (by omega) (by omega) [] a_points a_spot (fun i p e => absurd e (by simp)) List.Pairwise.nil (fun q => ⟨fun z => absurd z (by simp), fun ⟨j, k, a, b, _⟩ => by omega⟩)⟩
end
end
section
/-! remove, segments, on -/
section
variable {f_found : Int32} {a_there a_ends : Nat → Int32} {a_points a_spot : Nat → Int64}
theorem ys_is_any {post : Int32 → Prop} {pr : Nat → Prop} {g : Nat → ge_S} (x : Int32) (hy : yg pr g a_there a_ends) (h0 : (∀ k, k < 10 → x = nI k → ¬ pr k) → post 0) (h1 : ∀ k, k < 10 → x = nI k → pr k → post 1) : wpY_is post (f_found, a_there, a_ends, a_points, a_spot) x := by
  rcases pk_ix x (n := 10) (by omega) with c | c | ⟨k, hk, rfl⟩
  · refine br_t c (h0 ?_)
    rintro k hk rfl
    exact absurd c (nI_pos (by omega))
  · refine br_c (fun _ => h0 ?_) (fun _ => br_t c (h0 ?_))
    · rintro k hk rfl
      exact absurd c (nI_ge (b := 10) hk (by decide))
    · rintro k hk rfl
      exact absurd c (nI_ge (b := 10) hk (by decide))
  · refine br_f (nI_pos (by omega)) (br_f (nI_ge (b := 10) hk (by decide)) (And.intro (vp_in_nI hk (by omega)) ?_))
    rw [nI_clamp (by omega)]
    refine ek_if (hy.1 k hk) (fun p => h0 ?_) (fun p => h1 k hk rfl (Classical.byContradiction p))
    intro j hj e
    rw [← (nI_eq (by omega) (by omega)).mp e]
    exact p
theorem ys_is_t {post : Int32 → Prop} {pr : Nat → Prop} {g : Nat → ge_S} {k : Nat} (hy : yg pr g a_there a_ends) (hk : k < 10) (hp : pr k) (h : post 1) : wpY_is post (f_found, a_there, a_ends, a_points, a_spot) (nI k) :=
  ys_is_any _ hy (fun z => absurd hp (z k hk rfl)) (fun _ _ _ _ => h)
theorem ys_segments {post : Int32 → Prop} {pr : Nat → Prop} {g : Nat → ge_S} (hy : yg pr g a_there a_ends) (h : ∀ st, xb st pr → post st) : wpY_segments post (f_found, a_there, a_ends, a_points, a_spot) := by
  have loop : ∀ (n m : Nat), 10 - m < n → m ≤ 10 → ∀ st : Int32, xb st (fun k => k < m ∧ pr k) → wY_segments_4 post f_found a_there a_ends a_points a_spot n st (nI m) := by
    intro n
    induction n with
    | zero => intro m hm; omega
    | succ n ih =>
      intro m hm hm2 st hst
      refine pk_le 10 m (fun hle => h st (xb_co hst (fun k hk => ⟨fun z => z.2, fun z => ⟨by omega, z⟩⟩))) (fun hlt => ?_) rfl rfl (by omega) (by omega)
      refine And.intro (vp_in_nI hlt (by omega)) ?_
      rw [nI_clamp (by omega)]
      refine ek_if (hy.1 m hlt) (fun np => nm_r (nI_1 m) ?_) (fun hp => nm_e (nm_r (nI_1 m) ?_))
      · refine ih (m + 1) (by omega) (by omega) st (xb_co hst (fun k _ => ⟨fun z => ⟨by omega, z.2⟩, fun z => ⟨?_, z.2⟩⟩))
        have : k ≠ m := fun e => np (e ▸ z.2)
        omega
      · refine ih (m + 1) (by omega) (by omega) _ (xb_co (xb_set hst hlt) (fun k _ => ?_))
        constructor
        · rintro (z | z)
          · exact ⟨by omega, z.2⟩
          · exact ⟨by omega, z ▸ Classical.byContradiction hp⟩
        · rintro ⟨z1, z2⟩
          by_cases e : k = m
          · exact Or.inr e
          · exact Or.inl ⟨by omega, z2⟩
  exact ⟨11, loop 11 0 (by omega) (by omega) 0 (xb_co xb_0 (fun k _ => ⟨fun z => z.elim, fun z => absurd z.1 (by omega)⟩))⟩
end
theorem i_vc_remove {k : Nat} {u : SX} {v : SY} (I : i_Rel k u v) (hk : k + 3 ≤ 1536) (v1 : Int32) : wpX_remove (fun r u' => wpY_remove (fun r' v' => r' = r ∧ i_Rel (k + 3) u' v') v v1) u v1 := by
  refine zz_el (P := fun u v => wpX_remove (fun r u' => wpY_remove (fun r' v' => r' = r ∧ i_Rel (k + 3) u' v') v v1) u v1) ?_ I
  clear I u v
  intro f_present f_events f_now f_active f_freshCount f_pointX f_pointY f_pointBottom f_edges a_fromX a_fromY a_toX a_toY a_eventX a_eventY a_eventBottom a_eventSet a_order a_fresh a_edgeFrom a_edgeTo a_edgeSegment a_gone a_groupOf f_found a_there a_ends a_points a_spot pr g hz
  obtain ⟨G, hg, hy⟩ := id hz
  unfold wpX_remove
  refine xs_has_any v1 hg.1 (fun h0 => br_t rfl ?_) (fun m hm e hp => br_f (by decide) (nm_e ?_))
  · unfold wpY_remove
    refine ys_is_any v1 hy (fun _ => br_t rfl ⟨rfl, zz_in hz⟩) (fun m hm e hp => absurd hp (h0 m hm e))
  · subst e
    unfold wpY_remove
    refine ys_is_t hy hm hp (br_f (by decide) (And.intro (vp_in_nI hm (by omega)) (nm_e ?_)))
    rw [nI_clamp (by omega)]
    refine ⟨rfl, zz_in (pr := fun i => pr i ∧ i ≠ m) (g := g) ⟨⟨fun j hj => G.1 j hj.1, fun i j hi hj => G.2 i j hi.1 hj.1⟩, ⟨xb_clr hg.1 hm, fun j hj => hg.2 j hj.1⟩, ?_, ?_⟩⟩
    · intro j hj
      by_cases c : j = m
      · subst c
        rw [pk_us]
        exact ⟨fun _ z => z.2 rfl, fun _ => rfl⟩
      · rw [pk_un c, hy.1 j hj]
        exact ⟨fun z w => z w.1, fun z w => z ⟨w, c⟩⟩
    · intro j hj
      obtain ⟨s, w1, w2, w3⟩ := hy.2 j hj
      exact ⟨s, w1, w2, fun hp => w3 hp.1⟩
theorem i_vc_segments {k : Nat} {u : SX} {v : SY} (I : i_Rel k u v) (hk : k + 3 ≤ 1536) : wpX_segments (fun r => wpY_segments (fun r' => r' = r ∧ i_Rel (k + 3) u v) v) u := by
  refine zz_el (P := fun u v => wpX_segments (fun r => wpY_segments (fun r' => r' = r ∧ i_Rel (k + 3) u v) v) u) ?_ I
  clear I u v
  intro f_present f_events f_now f_active f_freshCount f_pointX f_pointY f_pointBottom f_edges a_fromX a_fromY a_toX a_toY a_eventX a_eventY a_eventBottom a_eventSet a_order a_fresh a_edgeFrom a_edgeTo a_edgeSegment a_gone a_groupOf f_found a_there a_ends a_points a_spot pr g hz
  obtain ⟨G, hg, hy⟩ := id hz
  refine ys_segments hy (fun st hst => ⟨xb_un hst hg.1 (fun _ _ => Iff.rfl), zz_in hz⟩)
section
variable {f_present f_events f_now f_active f_freshCount f_pointX f_pointY f_pointBottom f_edges : Int32} {a_fromX a_fromY a_toX a_toY a_eventX a_eventY a_eventBottom a_eventSet a_order a_fresh a_edgeFrom a_edgeTo a_edgeSegment a_gone a_groupOf : Nat → Int32}
theorem xs_isOn {post : Int32 → Prop} {k : Nat} {s : ge_S} {t : xe_T} (h : xk a_fromX a_fromY a_toX a_toY k s) (ht : xe_t t) (h1 : ge_on s (xe_P t) → post 1) (h0 : ¬ ge_on s (xe_P t) → post 0) : wpX_isOn post (f_present, f_events, f_now, f_active, f_freshCount, zI t.1, zI t.2.1, zI t.2.2, f_edges, a_fromX, a_fromY, a_toX, a_toY, a_eventX, a_eventY, a_eventBottom, a_eventSet, a_order, a_fresh, a_edgeFrom, a_edgeTo, a_edgeSegment, a_gone, a_groupOf) (nI k) := by
  have eq := ge_on_I s ht.1 (xe_at ht.1)
  unfold wpX_isOn
  refine xs_sideOf h ?_
  refine ek_if (zI_eq (b := 0) (xs_sB h.2.1 ht) ⟨by omega, by omega⟩) (fun c => ?_) (fun c => h0 (fun z => c (eq.mp z).1))
  exact xs_between h ht (fun d => br_f (by decide) (h1 (eq.mpr ⟨c, d⟩))) (fun d => br_t rfl (h0 (fun z => d (eq.mp z).2)))
theorem xs_on26 {post : Int32 → SX → Prop} {pr : Nat → Prop} {g : Nat → ge_S} {t : xe_T} (hg : xg pr g f_present a_fromX a_fromY a_toX a_toY) (ht : xe_t t)
    (h : ∀ st, xb st (fun k => pr k ∧ ge_on (g k) (xe_P t)) → post st (f_present, f_events, f_now, f_active, f_freshCount, zI t.1, zI t.2.1, zI t.2.2, f_edges, a_fromX, a_fromY, a_toX, a_toY, a_eventX, a_eventY, a_eventBottom, a_eventSet, a_order, a_fresh, a_edgeFrom, a_edgeTo, a_edgeSegment, a_gone, a_groupOf)) :
    ∀ (n m : Nat), 10 - m < n → m ≤ 10 → ∀ st : Int32, xb st (fun k => k < m ∧ pr k ∧ ge_on (g k) (xe_P t)) → wX_on_26 post f_present f_events f_now f_active f_freshCount (zI t.1) (zI t.2.1) (zI t.2.2) f_edges a_fromX a_fromY a_toX a_toY a_eventX a_eventY a_eventBottom a_eventSet a_order a_fresh a_edgeFrom a_edgeTo a_edgeSegment a_gone a_groupOf n st (nI m) := by
  intro n
  induction n with
  | zero => intro m hm; omega
  | succ n ih =>
    intro m hm hm2 st hst
    refine pk_le 10 m (fun hle => h st (xb_co hst (fun k hk => ⟨fun z => z.2, fun z => ⟨by omega, z⟩⟩))) (fun hlt => ?_) rfl rfl (by omega) (by omega)
    have skip : ¬ (pr m ∧ ge_on (g m) (xe_P t)) → wX_on_26 post f_present f_events f_now f_active f_freshCount (zI t.1) (zI t.2.1) (zI t.2.2) f_edges a_fromX a_fromY a_toX a_toY a_eventX a_eventY a_eventBottom a_eventSet a_order a_fresh a_edgeFrom a_edgeTo a_edgeSegment a_gone a_groupOf n st (nI (m + 1)) := by
      intro hc
      refine ih (m + 1) (by omega) (by omega) st (xb_co hst (fun k _ => ⟨fun z => ⟨by omega, z.2⟩, fun z => ⟨?_, z.2⟩⟩))
      have : k ≠ m := fun e => hc (e ▸ z.2)
      omega
    have or0 : st ||| 0 = st := Int32.or_zero
    refine xs_has_c hg.1 hlt (fun np => br_t rfl (nm_r or0 (nm_r (nI_1 m) (skip (fun z => np z.1))))) (fun hp => br_f (by decide) ?_)
    refine xs_isOn (hg.2 m hp) ht (fun c => br_f (by decide) (nm_e (nm_r (nI_1 m) ?_))) (fun c => br_t rfl (nm_r or0 (nm_r (nI_1 m) (skip (fun z => c z.2)))))
    refine ih (m + 1) (by omega) (by omega) _ (xb_co (xb_set hst hlt) (fun k _ => ?_))
    constructor
    · rintro (z | z)
      · exact ⟨by omega, z.2⟩
      · exact ⟨by omega, z ▸ ⟨hp, c⟩⟩
    · rintro ⟨z1, z2⟩
      by_cases e : k = m
      · exact Or.inr e
      · exact Or.inl ⟨by omega, z2⟩
end
theorem i_vc_on {k : Nat} {u : SX} {v : SY} (I : i_Rel k u v) (hk : k + 3 ≤ 1536) (v1 : Int32) : wpX_on (fun r u' => wpY_on (fun r' v' => r' = r ∧ i_Rel (k + 3) u' v') v v1) u v1 := by
  refine zz_el (P := fun u v => wpX_on (fun r u' => wpY_on (fun r' v' => r' = r ∧ i_Rel (k + 3) u' v') v v1) u v1) ?_ I
  clear I u v
  intro f_present f_events f_now f_active f_freshCount f_pointX f_pointY f_pointBottom f_edges a_fromX a_fromY a_toX a_toY a_eventX a_eventY a_eventBottom a_eventSet a_order a_fresh a_edgeFrom a_edgeTo a_edgeSegment a_gone a_groupOf f_found a_there a_ends a_points a_spot pr g hz
  obtain ⟨G, hg, hy⟩ := id hz
  unfold wpX_on
  refine xs_isPoint v1 (fun no => br_t rfl ?_) (fun a ha e pa => br_f (by decide) (And.intro (by decide) (And.intro (by decide) ?_)))
  · unfold wpY_on
    exact ys_isPoint v1 (fun _ => br_t rfl ⟨rfl, zz_in hz⟩) (fun a ha e pa => absurd pa (no a ha e))
  · subst e
    have e1 : nI a - nI a / 32 * 32 = nI (a % 32) := pk_rem (d := 32) ha (by omega) (by omega)
    have e2 : nI a / 32 = nI (a / 32) := pk_div (d := 32) ha (by omega) (by omega)
    obtain ⟨p1, p2⟩ := id pa
    rw [e1, e2, zI_nI (a % 32), zI_nI (a / 32)]
    refine xs_setPt (b := 1) ⟨by omega, by omega, by omega, by omega, by omega, by omega⟩ ?_
    intro t ht hpt
    have ept : xe_P t = ((((a % 32 : Nat) : Int) : Rat), (((a / 32 : Nat) : Int) : Rat)) := hpt _ (ge_at_1 _ _)
    refine ⟨11, xs_on26 hg ht ?_ 11 0 (by omega) (by omega) 0 (xb_co xb_0 (fun k _ => ⟨fun z => z.elim, fun z => absurd z.1 (by omega)⟩))⟩
    intro st hst
    unfold wpY_on
    refine ys_isPoint _ (fun no => absurd pa (no a ha rfl)) (fun _ _ _ _ => br_f (by decide) (And.intro (by decide) (And.intro (by decide) ?_)))
    rw [e1, e2, zI_nI (a % 32), zI_nI (a / 32)]
    refine ys_goTo (by omega) (by omega) ⟨by omega, by omega⟩ ⟨by omega, by omega⟩ ?_
    intro sp' hsp
    obtain ⟨b1, b2⟩ := y_gp (ge_gp_int (x := ((a % 32 : Nat) : Int)) (y := ((a / 32 : Nat) : Int)) (by omega) (by omega) (by omega) (by omega))
    refine ys_setOn hy G.1 hsp b1 b2 ?_
    intro st' hst'
    rw [← ept] at hst'
    exact ⟨xb_un hst' hst (fun _ _ => Iff.rfl), zz_in hz⟩
end
section
/-! above, below -/
def ge_H (s : ge_S) (x : Int) : Int := s.2.1 * ge_dx s + (x - s.1) * ge_dy s
def ge_cov (s : ge_S) (x : Int) : Prop := s.1 < s.2.2.1 ∧ s.1 ≤ x ∧ x ≤ s.2.2.1
theorem ge_HB {s : ge_S} (h : yr s) {x : Int} (h1 : 0 ≤ x) (h2 : x ≤ 20) : -800 ≤ ge_H s x ∧ ge_H s x ≤ 800 := by
  obtain ⟨s1, s2, s3, s4, s5, s6, s7, s8⟩ := h
  have a1 := zb_mul (x := s.2.1) (y := ge_dx s) (A := 20) (B := 20) (by omega) (by omega) (by unfold ge_dx; omega) (by unfold ge_dx; omega)
  have a2 := zb_mul (x := x - s.1) (y := ge_dy s) (A := 20) (B := 20) (by omega) (by omega) (by unfold ge_dy; omega) (by unfold ge_dy; omega)
  unfold ge_H; omega
theorem ge_okr {s : ge_S} (h : ge_ok s) : yr s := by
  obtain ⟨h1, h2, h3, h4, h5, h6, h7, h8, h9⟩ := h
  exact ⟨h1, h2, h3, h4, h5, h6, h7, h8⟩
section
variable {f_present f_events f_now f_active f_freshCount f_pointX f_pointY f_pointBottom f_edges : Int32} {a_fromX a_fromY a_toX a_toY a_eventX a_eventY a_eventBottom a_eventSet a_order a_fresh a_edgeFrom a_edgeTo a_edgeSegment a_gone a_groupOf : Nat → Int32}
theorem xs_height {post : Int32 → Prop} {k : Nat} {s : ge_S} {x : Int} (h : xk a_fromX a_fromY a_toX a_toY k s) (hp : post (zI (ge_H s x))) : wpX_heightAt post (f_present, f_events, f_now, f_active, f_freshCount, f_pointX, f_pointY, f_pointBottom, f_edges, a_fromX, a_fromY, a_toX, a_toY, a_eventX, a_eventY, a_eventBottom, a_eventSet, a_order, a_fresh, a_edgeFrom, a_edgeTo, a_edgeSegment, a_gone, a_groupOf) (nI k) (zI x) := by
  obtain ⟨hk, ho, e1, e2, e3, e4⟩ := id h
  have v : vp_in (nI k) 10 := vp_in_nI hk (by omega)
  refine And.intro v ?_
  refine xs_stepX h (And.intro v ?_)
  refine xs_stepY h ?_
  rw [nI_clamp (by omega), e1, e2]
  simp only [zI_mul, zI_sub, zI_add]
  exact hp
theorem xs_covers {post : Int32 → Prop} {pr : Nat → Prop} {g : Nat → ge_S} {k : Nat} {x : Int} (hg : xg pr g f_present a_fromX a_fromY a_toX a_toY) (hk : k < 10) (x1 : 0 ≤ x) (x2 : x ≤ 20) (h1 : pr k → ge_cov (g k) x → post 1) (h0 : ¬ (pr k ∧ ge_cov (g k) x) → post 0) : wpX_covers post (f_present, f_events, f_now, f_active, f_freshCount, f_pointX, f_pointY, f_pointBottom, f_edges, a_fromX, a_fromY, a_toX, a_toY, a_eventX, a_eventY, a_eventBottom, a_eventSet, a_order, a_fresh, a_edgeFrom, a_edgeTo, a_edgeSegment, a_gone, a_groupOf) (nI k) (zI x) := by
  unfold wpX_covers
  refine xs_has_c hg.1 hk (fun np => br_t rfl (h0 (fun z => np z.1))) (fun hp => br_f (by decide) ?_)
  obtain ⟨_, ok, e1, e2, e3, e4⟩ := hg.2 k hp
  obtain ⟨o1, o2, o3, o4, o5, o6, o7, o8, o9⟩ := id ok
  have v : vp_in (nI k) 10 := vp_in_nI hk (by omega)
  have bx : zB x := ⟨by omega, by omega⟩
  have b1 : zB (g k).1 := ⟨by omega, by omega⟩
  have b3 : zB (g k).2.2.1 := ⟨by omega, by omega⟩
  refine And.intro v (And.intro v ?_)
  rw [nI_clamp (by omega), e1, e3]
  refine ek_if (zI_le b3 b1) (fun c => h0 (fun z => by have := z.2.1; omega)) (fun c => And.intro v ?_)
  refine ek_if (zI_lt bx b1) (fun d => h0 (fun z => by have := z.2.2.1; omega)) (fun d => And.intro v ?_)
  exact ek_if (zI_lt b3 bx) (fun e => h0 (fun z => by have := z.2.2.2; omega)) (fun e => h1 hp ⟨by omega, by omega, by omega⟩)
theorem xs_nearer {post : Int32 → Prop} {k b : Nat} {s t : ge_S} {x sg : Int} (hk : xk a_fromX a_fromY a_toX a_toY k s) (hb : xk a_fromX a_fromY a_toX a_toY b t) (x1 : 0 ≤ x) (x2 : x ≤ 20) (hsg : sg = 1 ∨ sg = -1)
    (h1 : 0 < sg * (ge_H t x * ge_dx s - ge_H s x * ge_dx t) → post 1) (h0 : ¬ 0 < sg * (ge_H t x * ge_dx s - ge_H s x * ge_dx t) → post 0) : wpX_isNearer post (f_present, f_events, f_now, f_active, f_freshCount, f_pointX, f_pointY, f_pointBottom, f_edges, a_fromX, a_fromY, a_toX, a_toY, a_eventX, a_eventY, a_eventBottom, a_eventSet, a_order, a_fresh, a_edgeFrom, a_edgeTo, a_edgeSegment, a_gone, a_groupOf) (nI k) (nI b) (zI x) (zI sg) := by
  have r1 := ge_HB (ge_okr hk.2.1) x1 x2
  have r2 := ge_HB (ge_okr hb.2.1) x1 x2
  obtain ⟨o1, o2, o3, o4, o5, o6, o7, o8, o9⟩ := id hk.2.1
  obtain ⟨q1, q2, q3, q4, q5, q6, q7, q8, q9⟩ := id hb.2.1
  unfold wpX_isNearer
  refine xs_height hk ?_
  refine xs_stepX hb (nm_e ?_)
  refine xs_height hb ?_
  refine xs_stepX hk (nm_e ?_)
  simp only [zI_mul, zI_sub]
  have a1 := zb_mul (x := ge_H t x) (y := ge_dx s) (A := 800) (B := 20) (by omega) (by omega) (by unfold ge_dx; omega) (by unfold ge_dx; omega)
  have a2 := zb_mul (x := ge_H s x) (y := ge_dx t) (A := 800) (B := 20) (by omega) (by omega) (by unfold ge_dx; omega) (by unfold ge_dx; omega)
  have bb : zB (sg * (ge_H t x * ge_dx s - ge_H s x * ge_dx t)) := by
    rcases hsg with rfl | rfl <;> exact ⟨by omega, by omega⟩
  exact ek_if (zI_le (b := 0) bb ⟨by omega, by omega⟩) (fun c => h0 (by omega)) (fun c => h1 (by omega))
end
theorem y_absH {s k : ge_S} (hk : ge_ok k) (h : s = k ∨ s = ge_sw k) (x y : Int) (hd : ge_dx s ≠ 0) :
    (0 ≤ ge_dx s → ge_dx s = ge_dx k ∧ (s.2.1 - y) * ge_dx s + ((s.2.2.2 - s.2.1) * (x - s.1)) * 1 = ge_H k x - y * ge_dx k) ∧ (¬ 0 ≤ ge_dx s → -ge_dx s = ge_dx k ∧ (s.2.1 - y) * (-ge_dx s) + ((s.2.2.2 - s.2.1) * (x - s.1)) * (-1) = ge_H k x - y * ge_dx k) := by
  have d0 : 0 ≤ ge_dx k := by obtain ⟨h1, h2, h3, h4, h5, h6, h7, h8, h9⟩ := hk; unfold ge_dx; omega
  rcases h with rfl | rfl
  · refine ⟨fun _ => ⟨rfl, ?_⟩, fun z => absurd d0 z⟩
    unfold ge_H ge_dy; grind
  · have e : ge_dx (ge_sw k) = -ge_dx k := by unfold ge_dx ge_sw; dsimp only; omega
    refine ⟨fun z => ?_, fun _ => ⟨by omega, ?_⟩⟩
    · exfalso; omega
    · rw [e]
      unfold ge_H ge_dy ge_dx ge_sw
      dsimp only
      grind
section
variable {f_present f_events f_now f_active f_freshCount f_pointX f_pointY f_pointBottom f_edges : Int32} {a_fromX a_fromY a_toX a_toY a_eventX a_eventY a_eventBottom a_eventSet a_order a_fresh a_edgeFrom a_edgeTo a_edgeSegment a_gone a_groupOf : Nat → Int32} {f_found : Int32} {a_there a_ends : Nat → Int32} {a_points a_spot : Nat → Int64}
theorem nx_149 {post : Int32 → Prop} {J : Int32 → Int32 → Int32 → Int32 → Prop} {a m : Nat} {s : ge_S} {x3 x4 x5 f : Int32} {sg bo up T : Int} (hm : m < 10) (hs : ye a_ends m s) (hr : yr s) (ha : a < 2 ^ 31) (hsg : sg = 1 ∨ sg = -1) {z : Int32} {w : Int32} (hw : w * z = zI up) (hT : sg * ((s.2.1 - ((a / 32 : Nat) : Int)) * bo + up) = T) (bT : zB T)
    (h0 : (f = 0 ∨ T ≤ 0) → J x3 x4 x5 (nI (m + 1))) (h1 : ¬ f = 0 → 0 < T → x3 < 0 → J (nI m) (zI T) (zI bo) (nI (m + 1))) (h2 : ¬ f = 0 → 0 < T → ¬ x3 < 0 → (x4 * zI bo ≤ zI T * x5 → J x3 x4 x5 (nI (m + 1))) ∧ (¬ x4 * zI bo ≤ zI T * x5 → J (nI m) (zI T) (zI bo) (nI (m + 1)))) :
    wY_nearest_149 post J (nI a) (zI sg) x3 x4 x5 (nI m) f (zI bo) z w f_found a_there a_ends a_points a_spot := by
  have e2 : nI a / 32 = nI (a / 32) := pk_div (d := 32) ha (by omega) (by omega)
  refine nm_r hw ?_
  refine ys_e1 hm hs (And.intro (by decide) (nm_r (e' := zI T) ?_ ?_))
  · rw [e2, zI_nI, zI_sub, zI_mul, zI_add, zI_mul, hT]
  · refine br_c (fun c => nm_r (nI_1 m) (h0 (Or.inl c))) (fun c => ?_)
    refine ek_if (zI_le (b := 0) bT ⟨by omega, by omega⟩) (fun d => nm_r (nI_1 m) (h0 (Or.inr d))) (fun d => ?_)
    refine br_c (fun e => nm_r (nI_1 m) (h1 c (by omega) e)) (fun e => ?_)
    obtain ⟨k1, k2⟩ := h2 c (by omega) e
    exact br_c (fun q => nm_r (nI_1 m) (k1 q)) (fun q => nm_r (nI_1 m) (k2 q))
/-- the two searches for the nearest, side by side -/
theorem nx_all {pr : Nat → Prop} {g : Nat → ge_S} (hz : zz_R pr g f_present a_fromX a_fromY a_toX a_toY a_there a_ends) {a : Nat} (ha : a < 2 ^ 31) (pa : xp_is a) {sg : Int} (hsg : sg = 1 ∨ sg = -1) :
    ∀ (d m : Nat), m + d = 10 → ∀ bx top bot : Int32, ((bx = -1) ∨ (∃ b, bx = nI b ∧ pr b ∧ ge_cov (g b) ((a % 32 : Nat) : Int) ∧ top = zI (sg * (ge_H (g b) ((a % 32 : Nat) : Int) - ((a / 32 : Nat) : Int) * ge_dx (g b))) ∧ bot = zI (ge_dx (g b)))) →
      ∃ r, (∀ post : Int32 → Prop, post r → wX_nextTo_17 post (zI sg) (zI ((a % 32 : Nat) : Int)) (zI ((a / 32 : Nat) : Int)) f_present f_events f_now f_active f_freshCount f_pointX f_pointY f_pointBottom f_edges a_fromX a_fromY a_toX a_toY a_eventX a_eventY a_eventBottom a_eventSet a_order a_fresh a_edgeFrom a_edgeTo a_edgeSegment a_gone a_groupOf (d + 1) bx (nI m)) ∧ (∀ post : Int32 → Prop, post r → wY_nearest_21 post (nI a) (zI sg) f_found a_there a_ends a_points a_spot (d + 1) bx top bot (nI m)) := by
  obtain ⟨G, hg, hy⟩ := hz
  obtain ⟨p1, p2⟩ := id pa
  have e1 : nI a - nI a / 32 * 32 = zI ((a % 32 : Nat) : Int) := by rw [← zI_nI]; exact pk_rem (d := 32) ha (by omega) (by omega)
  have x1 : (0 : Int) ≤ ((a % 32 : Nat) : Int) := by omega
  have x2 : ((a % 32 : Nat) : Int) ≤ 20 := by omega
  have y1 : (0 : Int) ≤ ((a / 32 : Nat) : Int) := by omega
  have y2 : ((a / 32 : Nat) : Int) ≤ 20 := by omega
  intro d
  induction d with
  | zero =>
    intro m hm bx top bot _
    have : m = 10 := by omega
    subst this
    exact ⟨bx, fun post hp => br_t (nI_le (a := 10) (b := 10) (by omega) (by omega)) hp, fun post hp => br_t (nI_le (a := 10) (b := 10) (by omega) (by omega)) hp⟩
  | succ d ih =>
    intro m hm bx top bot hB
    have hlt : m < 10 := by omega
    have h10 : ¬ (10 : Int32) ≤ nI m := nI_ge (b := 10) hlt (by decide)
    obtain ⟨s, hs, hr, hq⟩ := hy.2 m hlt
    obtain ⟨s1, s2, s3, s4, s5, s6, s7, s8⟩ := id hr
    have dxb : -20 ≤ ge_dx s ∧ ge_dx s ≤ 20 := by unfold ge_dx; omega
    have v : vp_in (nI m) 10 := vp_in_nI hlt (by omega)
    -- the reference's walk up to its flag
    have walk : ∀ (post : Int32 → Prop) (J : Int32 → Int32 → Int32 → Int32 → Prop) (f : Int32) (T : Int) (bo : Int), zB T → (0 ≤ ge_dx s → ge_dx s = bo ∧ sg * ((s.2.1 - ((a / 32 : Nat) : Int)) * bo + ((s.2.2.2 - s.2.1) * (((a % 32 : Nat) : Int) - s.1)) * 1) = T) → (¬ 0 ≤ ge_dx s → -ge_dx s = bo ∧ sg * ((s.2.1 - ((a / 32 : Nat) : Int)) * bo + ((s.2.2.2 - s.2.1) * (((a % 32 : Nat) : Int) - s.1)) * (-1)) = T) →
        ((f = 0 ∨ T ≤ 0) → J bx top bot (nI (m + 1))) → (¬ f = 0 → 0 < T → bx < 0 → J (nI m) (zI T) (zI bo) (nI (m + 1))) → (¬ f = 0 → 0 < T → ¬ bx < 0 → (top * zI bo ≤ zI T * bot → J bx top bot (nI (m + 1))) ∧ (¬ top * zI bo ≤ zI T * bot → J (nI m) (zI T) (zI bo) (nI (m + 1)))) →
        wY_nearest_96 post J (nI a) (zI sg) bx top bot (nI m) (zI (ge_dx s)) (zI ((a % 32 : Nat) : Int)) f f_found a_there a_ends a_points a_spot := by
      intro post J f T bo bT c1 c2 h0 h1 h2
      have bd : zB (ge_dx s) := ⟨by omega, by omega⟩
      refine ek_if (zI_le (a := 0) ⟨by omega, by omega⟩ bd) (fun c => ?_) (fun c => ?_)
      · obtain ⟨q1, q2⟩ := c1 c
        unfold wY_nearest_111
        refine ys_e3 hlt hs ?_
        refine ys_e1 hlt hs ?_
        refine ys_e0 hlt hs ?_
        refine br_t ((zI_le (a := 0) ⟨by omega, by omega⟩ bd).mpr c) ?_
        rw [q1]
        exact nx_149 hlt hs hr ha hsg (by simp only [zI_sub, zI_mul, zI_1]) q2 bT h0 h1 h2
      · obtain ⟨q1, q2⟩ := c2 c
        unfold wY_nearest_111
        refine ys_e3 hlt hs ?_
        refine ys_e1 hlt hs ?_
        refine ys_e0 hlt hs ?_
        refine br_f (fun z => c ((zI_le (a := 0) ⟨by omega, by omega⟩ bd).mp z)) ?_
        rw [zI_neg, q1]
        exact nx_149 hlt hs hr ha hsg (by simp only [zI_sub, zI_mul, zI_m1]) q2 bT h0 h1 h2
    have head : ∀ (post : Int32 → Prop) (n : Nat), (¬ (pr m ∧ ¬ ge_dx s = 0 ∧ y_bt s.1 s.2.2.1 ((((a % 32 : Nat) : Int)) : Rat)) → wY_nearest_96 post (wY_nearest_21 post (nI a) (zI sg) f_found a_there a_ends a_points a_spot n) (nI a) (zI sg) bx top bot (nI m) (zI (ge_dx s)) (zI ((a % 32 : Nat) : Int)) 0 f_found a_there a_ends a_points a_spot) →
        (pr m → ¬ ge_dx s = 0 → y_bt s.1 s.2.2.1 ((((a % 32 : Nat) : Int)) : Rat) → wY_nearest_96 post (wY_nearest_21 post (nI a) (zI sg) f_found a_there a_ends a_points a_spot n) (nI a) (zI sg) bx top bot (nI m) (zI (ge_dx s)) (zI ((a % 32 : Nat) : Int)) 1 f_found a_there a_ends a_points a_spot) → wY_nearest_21 post (nI a) (zI sg) f_found a_there a_ends a_points a_spot (n + 1) bx top bot (nI m) := by
      intro post n k0 k1
      refine br_f h10 ?_
      refine ys_e2 hlt hs ?_
      refine ys_e0 hlt hs (nm_r (e' := zI (ge_dx s)) (zI_sub _ _) (And.intro (by decide) (nm_r e1 (And.intro v ?_))))
      rw [nI_clamp (by omega)]
      refine ek_if (hy.1 m hlt) (fun np => k0 (fun z => np z.1)) (fun hp => ?_)
      refine ek_if (zI_eq (b := 0) ⟨by omega, by omega⟩ ⟨by omega, by omega⟩) (fun c => k0 (fun z => z.2.1 c)) (fun c => ?_)
      refine ys_e0 hlt hs ?_
      refine ys_e2 hlt hs ?_
      rw [zI_l ⟨by omega, by omega⟩, zL_1']
      exact ys_between (x := ((((a % 32 : Nat) : Int)) : Rat)) (by omega) (by rw [Rat.intCast_one, Rat.mul_one]) (by omega) (by omega) (by omega) s1 s2 s5 s6 (fun q => br_f (by decide) (k1 (Classical.byContradiction hp) c q)) (fun q => br_t rfl (k0 (fun z => q z.2.2)))
    by_cases hc : pr m ∧ ge_cov (g m) ((a % 32 : Nat) : Int)
    · obtain ⟨pm, cv⟩ := hc
      have ok := (G.1 m pm).2
      have q := hq pm
      obtain ⟨o1, o2, o3, o4, o5, o6, o7, o8, o9⟩ := id ok
      obtain ⟨cv1, cv2, cv3⟩ := id cv
      have dxk : 0 < ge_dx (g m) := by unfold ge_dx; omega
      have dxs : ge_dx s ≠ 0 := by
        rcases q with e | e
        · rw [e]; omega
        · rw [e]; unfold ge_dx at *; unfold ge_sw; dsimp only; omega
      have btw : y_bt s.1 s.2.2.1 ((((a % 32 : Nat) : Int)) : Rat) := by
        rcases q with e | e
        · rw [e]; exact Or.inl ⟨ge_icl cv2, ge_icl cv3⟩
        · rw [e]; exact Or.inr ⟨ge_icl cv2, ge_icl cv3⟩
      have hb := ge_HB (ge_okr ok) x1 x2
      have mb := zb_mul (x := ((a / 32 : Nat) : Int)) (y := ge_dx (g m)) (A := 20) (B := 20) (by omega) (by omega) (by omega) (by unfold ge_dx; omega)
      have bT : zB (sg * (ge_H (g m) ((a % 32 : Nat) : Int) - ((a / 32 : Nat) : Int) * ge_dx (g m))) := by
        rcases hsg with rfl | rfl <;> exact ⟨by omega, by omega⟩
      obtain ⟨u1, u2⟩ := y_absH ok q ((a % 32 : Nat) : Int) ((a / 32 : Nat) : Int) dxs
      have w1 : 0 ≤ ge_dx s → ge_dx s = ge_dx (g m) ∧ sg * ((s.2.1 - ((a / 32 : Nat) : Int)) * ge_dx (g m) + ((s.2.2.2 - s.2.1) * (((a % 32 : Nat) : Int) - s.1)) * 1) = sg * (ge_H (g m) ((a % 32 : Nat) : Int) - ((a / 32 : Nat) : Int) * ge_dx (g m)) := by
        intro z
        obtain ⟨t1, t2⟩ := u1 z
        refine ⟨t1, ?_⟩
        rw [← t2, t1]
      have w2 : ¬ 0 ≤ ge_dx s → -ge_dx s = ge_dx (g m) ∧ sg * ((s.2.1 - ((a / 32 : Nat) : Int)) * ge_dx (g m) + ((s.2.2.2 - s.2.1) * (((a % 32 : Nat) : Int) - s.1)) * (-1)) = sg * (ge_H (g m) ((a % 32 : Nat) : Int) - ((a / 32 : Nat) : Int) * ge_dx (g m)) := by
        intro z
        obtain ⟨t1, t2⟩ := u2 z
        refine ⟨t1, ?_⟩
        rw [← t2, t1]
      have xhead : ∀ (post : Int32 → Prop) (n : Nat), (sg * (ge_H (g m) ((a % 32 : Nat) : Int) - ((a / 32 : Nat) : Int) * ge_dx (g m)) ≤ 0 → wX_nextTo_17 post (zI sg) (zI ((a % 32 : Nat) : Int)) (zI ((a / 32 : Nat) : Int)) f_present f_events f_now f_active f_freshCount f_pointX f_pointY f_pointBottom f_edges a_fromX a_fromY a_toX a_toY a_eventX a_eventY a_eventBottom a_eventSet a_order a_fresh a_edgeFrom a_edgeTo a_edgeSegment a_gone a_groupOf n bx (nI (m + 1))) →
          (0 < sg * (ge_H (g m) ((a % 32 : Nat) : Int) - ((a / 32 : Nat) : Int) * ge_dx (g m)) → wX_nextTo_65 post (wX_nextTo_17 post (zI sg) (zI ((a % 32 : Nat) : Int)) (zI ((a / 32 : Nat) : Int)) f_present f_events f_now f_active f_freshCount f_pointX f_pointY f_pointBottom f_edges a_fromX a_fromY a_toX a_toY a_eventX a_eventY a_eventBottom a_eventSet a_order a_fresh a_edgeFrom a_edgeTo a_edgeSegment a_gone a_groupOf n) (zI sg) (zI ((a % 32 : Nat) : Int)) (zI ((a / 32 : Nat) : Int)) bx (nI m) 1 f_present f_events f_now f_active f_freshCount f_pointX f_pointY f_pointBottom f_edges a_fromX a_fromY a_toX a_toY a_eventX a_eventY a_eventBottom a_eventSet a_order a_fresh a_edgeFrom a_edgeTo a_edgeSegment a_gone a_groupOf) →
          wX_nextTo_17 post (zI sg) (zI ((a % 32 : Nat) : Int)) (zI ((a / 32 : Nat) : Int)) f_present f_events f_now f_active f_freshCount f_pointX f_pointY f_pointBottom f_edges a_fromX a_fromY a_toX a_toY a_eventX a_eventY a_eventBottom a_eventSet a_order a_fresh a_edgeFrom a_edgeTo a_edgeSegment a_gone a_groupOf (n + 1) bx (nI m) := by
        intro post n k0 k1
        refine br_f h10 ?_
        refine xs_covers hg hlt x1 x2 (fun _ _ => br_f (by decide) ?_) (fun z => absurd ⟨pm, cv⟩ z)
        refine xs_height (hg.2 m pm) ?_
        refine xs_stepX (hg.2 m pm) ?_
        simp only [zI_mul, zI_sub]
        exact ek_if (zI_le (b := 0) bT ⟨by omega, by omega⟩) (fun c => br_t rfl (nm_r (nI_1 m) (k0 c))) (fun c => k1 (by omega))
      by_cases hT : sg * (ge_H (g m) ((a % 32 : Nat) : Int) - ((a / 32 : Nat) : Int) * ge_dx (g m)) ≤ 0
      · obtain ⟨r, hX, hY⟩ := ih (m + 1) (by omega) bx top bot hB
        refine ⟨r, fun post hp => xhead post (d + 1) (fun _ => hX post hp) (fun z => absurd z (by omega)), fun post hp => head post (d + 1) (fun z => absurd ⟨pm, dxs, btw⟩ z) (fun _ _ _ => walk post _ 1 _ _ bT w1 w2 (fun _ => hY post hp) (fun _ z => absurd z (by omega)) (fun _ z => absurd z (by omega)))⟩
      · have hT' : 0 < sg * (ge_H (g m) ((a % 32 : Nat) : Int) - ((a / 32 : Nat) : Int) * ge_dx (g m)) := by omega
        obtain ⟨r, hX, hY⟩ := ih (m + 1) (by omega) (nI m) (zI (sg * (ge_H (g m) ((a % 32 : Nat) : Int) - ((a / 32 : Nat) : Int) * ge_dx (g m)))) (zI (ge_dx (g m))) (Or.inr ⟨m, rfl, pm, cv, rfl, rfl⟩)
        rcases hB with rfl | ⟨b, rfl, pb, cvb, rfl, rfl⟩
        · refine ⟨r, fun post hp => xhead post (d + 1) (fun z => absurd z (by omega)) (fun _ => br_f (by decide) (br_t (by decide) (nm_r (nI_1 m) (hX post hp)))), fun post hp => head post (d + 1) (fun z => absurd ⟨pm, dxs, btw⟩ z) (fun _ _ _ => walk post _ 1 _ _ bT w1 w2 (fun z => z.elim (fun e => absurd e (by decide)) (fun e => absurd e hT)) (fun _ _ _ => hY post hp) (fun _ _ z => absurd (by decide) z))⟩
        · have okb := (G.1 b pb).2
          have b10 := (G.1 b pb).1
          have bneg : ¬ nI b < 0 := nI_pos (by omega)
          obtain ⟨bo1, bo2, bo3, bo4, bo5, bo6, bo7, bo8, bo9⟩ := id okb
          have hbb := ge_HB (ge_okr okb) x1 x2
          have mbb := zb_mul (x := ((a / 32 : Nat) : Int)) (y := ge_dx (g b)) (A := 20) (B := 20) (by omega) (by omega) (by unfold ge_dx; omega) (by unfold ge_dx; omega)
          have dB : -20 ≤ ge_dx (g b) ∧ ge_dx (g b) ≤ 20 := by unfold ge_dx; omega
          have dM : -20 ≤ ge_dx (g m) ∧ ge_dx (g m) ≤ 20 := by unfold ge_dx; omega
          have cmp : (sg * (ge_H (g b) ((a % 32 : Nat) : Int) - ((a / 32 : Nat) : Int) * ge_dx (g b))) * ge_dx (g m) ≤ (sg * (ge_H (g m) ((a % 32 : Nat) : Int) - ((a / 32 : Nat) : Int) * ge_dx (g m))) * ge_dx (g b) ↔ ¬ 0 < sg * (ge_H (g b) ((a % 32 : Nat) : Int) * ge_dx (g m) - ge_H (g m) ((a % 32 : Nat) : Int) * ge_dx (g b)) := by
            have e : (sg * (ge_H (g b) ((a % 32 : Nat) : Int) - ((a / 32 : Nat) : Int) * ge_dx (g b))) * ge_dx (g m) - (sg * (ge_H (g m) ((a % 32 : Nat) : Int) - ((a / 32 : Nat) : Int) * ge_dx (g m))) * ge_dx (g b) = sg * (ge_H (g b) ((a % 32 : Nat) : Int) * ge_dx (g m) - ge_H (g m) ((a % 32 : Nat) : Int) * ge_dx (g b)) := by grind
            omega
          have pB1 : zB ((sg * (ge_H (g b) ((a % 32 : Nat) : Int) - ((a / 32 : Nat) : Int) * ge_dx (g b))) * ge_dx (g m)) := by
            have := zb_mul (x := sg * (ge_H (g b) ((a % 32 : Nat) : Int) - ((a / 32 : Nat) : Int) * ge_dx (g b))) (y := ge_dx (g m)) (A := 1200) (B := 20) (by rcases hsg with rfl | rfl <;> omega) (by rcases hsg with rfl | rfl <;> omega) dM.1 dM.2
            exact ⟨by omega, by omega⟩
          have pB2 : zB ((sg * (ge_H (g m) ((a % 32 : Nat) : Int) - ((a / 32 : Nat) : Int) * ge_dx (g m))) * ge_dx (g b)) := by
            have := zb_mul (x := sg * (ge_H (g m) ((a % 32 : Nat) : Int) - ((a / 32 : Nat) : Int) * ge_dx (g m))) (y := ge_dx (g b)) (A := 1200) (B := 20) (by rcases hsg with rfl | rfl <;> omega) (by rcases hsg with rfl | rfl <;> omega) dB.1 dB.2
            exact ⟨by omega, by omega⟩
          have cmp32 : zI (sg * (ge_H (g b) ((a % 32 : Nat) : Int) - ((a / 32 : Nat) : Int) * ge_dx (g b))) * zI (ge_dx (g m)) ≤ zI (sg * (ge_H (g m) ((a % 32 : Nat) : Int) - ((a / 32 : Nat) : Int) * ge_dx (g m))) * zI (ge_dx (g b)) ↔ ¬ 0 < sg * (ge_H (g b) ((a % 32 : Nat) : Int) * ge_dx (g m) - ge_H (g m) ((a % 32 : Nat) : Int) * ge_dx (g b)) := by
            rw [zI_mul, zI_mul, zI_le pB1 pB2]; exact cmp
          by_cases hN : 0 < sg * (ge_H (g b) ((a % 32 : Nat) : Int) * ge_dx (g m) - ge_H (g m) ((a % 32 : Nat) : Int) * ge_dx (g b))
          · refine ⟨r, fun post hp => xhead post (d + 1) (fun z => absurd z (by omega)) (fun _ => br_f (by decide) (br_f bneg ?_)), fun post hp => head post (d + 1) (fun z => absurd ⟨pm, dxs, btw⟩ z) (fun _ _ _ => walk post _ 1 _ _ bT w1 w2 (fun z => z.elim (fun e => absurd e (by decide)) (fun e => absurd e hT)) (fun _ _ z => absurd z bneg) (fun _ _ _ => ⟨fun z => absurd hN (cmp32.mp z), fun _ => hY post hp⟩))⟩
            exact xs_nearer (hg.2 m pm) (hg.2 b pb) x1 x2 hsg (fun _ => br_f (by decide) (nm_r (nI_1 m) (hX post hp))) (fun z => absurd hN z)
          · obtain ⟨r', hX', hY'⟩ := ih (m + 1) (by omega) (nI b) _ _ (Or.inr ⟨b, rfl, pb, cvb, rfl, rfl⟩)
            refine ⟨r', fun post hp => xhead post (d + 1) (fun z => absurd z (by omega)) (fun _ => br_f (by decide) (br_f bneg ?_)), fun post hp => head post (d + 1) (fun z => absurd ⟨pm, dxs, btw⟩ z) (fun _ _ _ => walk post _ 1 _ _ bT w1 w2 (fun z => z.elim (fun e => absurd e (by decide)) (fun e => absurd e hT)) (fun _ _ z => absurd z bneg) (fun _ _ _ => ⟨fun _ => hY' post hp, fun z => absurd (cmp32.mpr hN) z⟩))⟩
            exact xs_nearer (hg.2 m pm) (hg.2 b pb) x1 x2 hsg (fun z => absurd z hN) (fun _ => br_t rfl (nm_r (nI_1 m) (hX' post hp)))
    · obtain ⟨r, hX, hY⟩ := ih (m + 1) (by omega) bx top bot hB
      have notc : ¬ (pr m ∧ ¬ ge_dx s = 0 ∧ y_bt s.1 s.2.2.1 ((((a % 32 : Nat) : Int)) : Rat)) := by
        rintro ⟨pm, dn, bt'⟩
        apply hc
        have ok := (G.1 m pm).2
        obtain ⟨o1, o2, o3, o4, o5, o6, o7, o8, o9⟩ := id ok
        have le : ((g m).1 : Rat) ≤ ((g m).2.2.1 : Rat) := ge_icl (by omega)
        have bt2 : y_bt (g m).1 (g m).2.2.1 ((((a % 32 : Nat) : Int)) : Rat) := by
          rcases hq pm with e | e
          · rw [e] at bt'; exact bt'
          · rw [e] at bt'; exact bt'.symm
        have dn2 : ge_dx (g m) ≠ 0 := by
          rcases hq pm with e | e
          · rw [e] at dn; exact dn
          · rw [e] at dn; intro z; apply dn; unfold ge_dx at *; unfold ge_sw; dsimp only; omega
        refine ⟨pm, ?_, ?_, ?_⟩
        · unfold ge_dx at dn2; omega
        · rcases bt2 with w | w
          · exact Rat.intCast_le_intCast.mp w.1
          · exact Rat.intCast_le_intCast.mp (by grind)
        · rcases bt2 with w | w
          · exact Rat.intCast_le_intCast.mp w.2
          · exact Rat.intCast_le_intCast.mp (by grind)
      refine ⟨r, fun post hp => br_f h10 (xs_covers hg hlt x1 x2 (fun a b => absurd ⟨a, b⟩ hc) (fun _ => br_t rfl (nm_r (nI_1 m) (hX post hp)))), fun post hp => head post (d + 1) (fun _ => ?_) (fun a b c => absurd ⟨a, b, c⟩ notc)⟩
      have bT : ∀ bo up : Int, -20 ≤ bo → bo ≤ 20 → -400 ≤ up → up ≤ 400 → zB (sg * ((s.2.1 - ((a / 32 : Nat) : Int)) * bo + up)) := by
        intro bo up b1 b2 u1 u2
        have := zb_mul (x := s.2.1 - ((a / 32 : Nat) : Int)) (y := bo) (A := 20) (B := 20) (by omega) (by omega) b1 b2
        rcases hsg with rfl | rfl <;> exact ⟨by omega, by omega⟩
      have up := zb_mul (x := s.2.2.2 - s.2.1) (y := ((a % 32 : Nat) : Int) - s.1) (A := 20) (B := 20) (by omega) (by omega) (by omega) (by omega)
      by_cases c : 0 ≤ ge_dx s
      · exact walk post _ 0 _ (ge_dx s) (bT (ge_dx s) _ (by omega) (by omega) (by omega) (by omega)) (fun _ => ⟨rfl, rfl⟩) (fun z => absurd c z) (fun _ => hY post hp) (fun z => absurd rfl z) (fun z => absurd rfl z)
      · exact walk post _ 0 _ (-ge_dx s) (bT (-ge_dx s) _ (by omega) (by omega) (by omega) (by omega)) (fun z => absurd z c) (fun _ => ⟨rfl, rfl⟩) (fun _ => hY post hp) (fun z => absurd rfl z) (fun z => absurd rfl z)
theorem nx_next {pr : Nat → Prop} {g : Nat → ge_S} (hz : zz_R pr g f_present a_fromX a_fromY a_toX a_toY a_there a_ends) {a : Nat} (ha : a < 2 ^ 31) (pa : xp_is a) {sg : Int} (hsg : sg = 1 ∨ sg = -1) :
    ∃ r, (∀ post : Int32 → Prop, post r → wpX_nextTo post (f_present, f_events, f_now, f_active, f_freshCount, f_pointX, f_pointY, f_pointBottom, f_edges, a_fromX, a_fromY, a_toX, a_toY, a_eventX, a_eventY, a_eventBottom, a_eventSet, a_order, a_fresh, a_edgeFrom, a_edgeTo, a_edgeSegment, a_gone, a_groupOf) (nI a) (zI sg)) ∧ (∀ post : Int32 → Prop, post r → wpY_nearest post (f_found, a_there, a_ends, a_points, a_spot) (nI a) (zI sg)) := by
  obtain ⟨r, hX, hY⟩ := nx_all (f_events := f_events) (f_now := f_now) (f_active := f_active) (f_freshCount := f_freshCount) (f_pointX := f_pointX) (f_pointY := f_pointY) (f_pointBottom := f_pointBottom) (f_edges := f_edges) (a_eventX := a_eventX) (a_eventY := a_eventY) (a_eventBottom := a_eventBottom) (a_eventSet := a_eventSet) (a_order := a_order) (a_fresh := a_fresh) (a_edgeFrom := a_edgeFrom) (a_edgeTo := a_edgeTo) (a_edgeSegment := a_edgeSegment) (a_gone := a_gone) (a_groupOf := a_groupOf) (f_found := f_found) (a_points := a_points) (a_spot := a_spot) hz ha pa hsg 10 0 (by omega) (-1) 0 1 (Or.inl rfl)
  have e1 : nI a - nI a / 32 * 32 = zI ((a % 32 : Nat) : Int) := by rw [← zI_nI]; exact pk_rem (d := 32) ha (by omega) (by omega)
  have e2 : nI a / 32 = zI ((a / 32 : Nat) : Int) := by rw [← zI_nI]; exact pk_div (d := 32) ha (by omega) (by omega)
  refine ⟨r, fun post hp => And.intro (by decide) (nm_r e1 (And.intro (by decide) (nm_r e2 ⟨11, hX post hp⟩))), fun post hp => ?_⟩
  unfold wpY_nearest
  exact ys_isPoint _ (fun no => absurd pa (no a ha rfl)) (fun _ _ _ _ => br_f (by decide) ⟨11, hY post hp⟩)
end
theorem i_vc_above {k : Nat} {u : SX} {v : SY} (I : i_Rel k u v) (hk : k + 3 ≤ 1536) (v1 : Int32) : wpX_above (fun r => wpY_above (fun r' => r' = r ∧ i_Rel (k + 3) u v) v v1) u v1 := by
  refine zz_el (P := fun u v => wpX_above (fun r => wpY_above (fun r' => r' = r ∧ i_Rel (k + 3) u v) v v1) u v1) ?_ I
  clear I u v
  intro f_present f_events f_now f_active f_freshCount f_pointX f_pointY f_pointBottom f_edges a_fromX a_fromY a_toX a_toY a_eventX a_eventY a_eventBottom a_eventSet a_order a_fresh a_edgeFrom a_edgeTo a_edgeSegment a_gone a_groupOf f_found a_there a_ends a_points a_spot pr g hz
  unfold wpX_above wpY_above
  refine xs_isPoint v1 (fun no => br_t rfl ?_) (fun a ha e pa => br_f (by decide) ?_)
  · unfold wpY_nearest
    exact ys_isPoint v1 (fun _ => br_t rfl ⟨rfl, zz_in hz⟩) (fun a ha e pa => absurd pa (no a ha e))
  · subst e
    obtain ⟨r, hX, hY⟩ := nx_next (f_events := f_events) (f_now := f_now) (f_active := f_active) (f_freshCount := f_freshCount) (f_pointX := f_pointX) (f_pointY := f_pointY) (f_pointBottom := f_pointBottom) (f_edges := f_edges) (a_eventX := a_eventX) (a_eventY := a_eventY) (a_eventBottom := a_eventBottom) (a_eventSet := a_eventSet) (a_order := a_order) (a_fresh := a_fresh) (a_edgeFrom := a_edgeFrom) (a_edgeTo := a_edgeTo) (a_edgeSegment := a_edgeSegment) (a_gone := a_gone) (a_groupOf := a_groupOf) (f_found := f_found) (a_points := a_points) (a_spot := a_spot) hz ha pa (sg := 1) (Or.inl rfl)
    exact hX _ (hY _ ⟨rfl, zz_in hz⟩)
theorem i_vc_below {k : Nat} {u : SX} {v : SY} (I : i_Rel k u v) (hk : k + 3 ≤ 1536) (v1 : Int32) : wpX_below (fun r => wpY_below (fun r' => r' = r ∧ i_Rel (k + 3) u v) v v1) u v1 := by
  refine zz_el (P := fun u v => wpX_below (fun r => wpY_below (fun r' => r' = r ∧ i_Rel (k + 3) u v) v v1) u v1) ?_ I
  clear I u v
  intro f_present f_events f_now f_active f_freshCount f_pointX f_pointY f_pointBottom f_edges a_fromX a_fromY a_toX a_toY a_eventX a_eventY a_eventBottom a_eventSet a_order a_fresh a_edgeFrom a_edgeTo a_edgeSegment a_gone a_groupOf f_found a_there a_ends a_points a_spot pr g hz
  unfold wpX_below wpY_below
  refine xs_isPoint v1 (fun no => br_t rfl ?_) (fun a ha e pa => br_f (by decide) ?_)
  · unfold wpY_nearest
    exact ys_isPoint v1 (fun _ => br_t rfl ⟨rfl, zz_in hz⟩) (fun a ha e pa => absurd pa (no a ha e))
  · subst e
    obtain ⟨r, hX, hY⟩ := nx_next (f_events := f_events) (f_now := f_now) (f_active := f_active) (f_freshCount := f_freshCount) (f_pointX := f_pointX) (f_pointY := f_pointY) (f_pointBottom := f_pointBottom) (f_edges := f_edges) (a_eventX := a_eventX) (a_eventY := a_eventY) (a_eventBottom := a_eventBottom) (a_eventSet := a_eventSet) (a_order := a_order) (a_fresh := a_fresh) (a_edgeFrom := a_edgeFrom) (a_edgeTo := a_edgeTo) (a_edgeSegment := a_edgeSegment) (a_gone := a_gone) (a_groupOf := a_groupOf) (f_found := f_found) (a_points := a_points) (a_spot := a_spot) hz ha pa (sg := -1) (Or.inr rfl)
    exact hX _ (hY _ ⟨rfl, zz_in hz⟩)
end
section
/-! meeting points: the events that two segments at least are on -/
theorem cc_one {p : Nat → Prop} : ∀ {n : Nat}, 1 ≤ cc_n p n ↔ ∃ j, j < n ∧ p j := by
  intro n
  induction n with
  | zero => exact ⟨fun h => absurd h (by rw [cc_n0]; omega), fun ⟨j, h, _⟩ => absurd h (by omega)⟩
  | succ n ih =>
    rw [cc_ns]
    by_cases c : p n
    · rw [cc_bt c]
      exact ⟨fun _ => ⟨n, by omega, c⟩, fun _ => by omega⟩
    · rw [cc_bf c, Nat.add_zero, ih]
      constructor
      · rintro ⟨j, a, b⟩; exact ⟨j, by omega, b⟩
      · rintro ⟨j, a, b⟩
        have : j ≠ n := fun e => c (e ▸ b)
        exact ⟨j, by omega, b⟩
theorem cc_two {p : Nat → Prop} : ∀ {n : Nat}, 2 ≤ cc_n p n ↔ ∃ j k, j < k ∧ k < n ∧ p j ∧ p k := by
  intro n
  induction n with
  | zero => exact ⟨fun h => absurd h (by rw [cc_n0]; omega), fun ⟨j, k, _, h, _⟩ => absurd h (by omega)⟩
  | succ n ih =>
    rw [cc_ns]
    by_cases c : p n
    · rw [cc_bt c]
      constructor
      · intro h
        obtain ⟨j, a, b⟩ := cc_one.mp (show 1 ≤ cc_n p n by omega)
        exact ⟨j, n, a, by omega, b, c⟩
      · rintro ⟨j, k, a, b, d, e⟩
        have := cc_one.mpr ⟨j, show j < n by omega, d⟩
        omega
    · rw [cc_bf c, Nat.add_zero, ih]
      constructor
      · rintro ⟨j, k, a, b, d⟩; exact ⟨j, k, a, by omega, d⟩
      · rintro ⟨j, k, a, b, d, e⟩
        have : k ≠ n := fun z => c (z ▸ e)
        exact ⟨j, k, a, by omega, d, e⟩
noncomputable def xm (pr : Nat → Prop) (g : Nat → ge_S) (t : xe_T) : Bool := @decide (sw_mt pr g (xe_P t)) (Classical.propDecidable _)
theorem xm_t {pr : Nat → Prop} {g : Nat → ge_S} {t : xe_T} : xm pr g t = true ↔ sw_mt pr g (xe_P t) := by unfold xm; exact @decide_eq_true_iff _ (Classical.propDecidable _)
theorem xm_f {pr : Nat → Prop} {g : Nat → ge_S} {t : xe_T} (h : ¬ sw_mt pr g (xe_P t)) : xm pr g t = false := by
  cases c : xm pr g t
  · rfl
  · exact absurd (xm_t.mp c) h
theorem ls_sort_eq : ∀ {L1 L2 : List ge_P}, L1.Pairwise ge_lt → L2.Pairwise ge_lt → (∀ q, q ∈ L1 ↔ q ∈ L2) → L1 = L2 := by
  intro L1
  induction L1 with
  | nil =>
    intro L2 _ _ h
    cases L2 with
    | nil => rfl
    | cons b L2 => exact absurd ((h b).mpr List.mem_cons_self) (by simp)
  | cons a L1 ih =>
    intro L2 h1 h2 h
    cases L2 with
    | nil => exact absurd ((h a).mp List.mem_cons_self) (by simp)
    | cons b L2 =>
      obtain ⟨p1, p2⟩ := List.pairwise_cons.mp h1
      obtain ⟨q1, q2⟩ := List.pairwise_cons.mp h2
      have e : a = b := by
        rcases List.mem_cons.mp ((h a).mp List.mem_cons_self) with z | z
        · exact z
        · rcases List.mem_cons.mp ((h b).mpr List.mem_cons_self) with w | w
          · exact w.symm
          · exact absurd (ge_lt_tr (q1 a z) (p1 b w)) ge_lt_ir
      subst e
      congr 1
      refine ih p2 q2 (fun q => ?_)
      constructor
      · intro hq
        rcases List.mem_cons.mp ((h q).mp (List.mem_cons_of_mem _ hq)) with z | z
        · rw [z] at hq; exact absurd (p1 a hq) ge_lt_ir
        · exact z
      · intro hq
        rcases List.mem_cons.mp ((h q).mpr (List.mem_cons_of_mem _ hq)) with z | z
        · rw [z] at hq; exact absurd (q1 a hq) ge_lt_ir
        · exact z
/-- the reference's list is that of the component's meeting events -/
theorem xw_Q {pr : Nat → Prop} {g : Nat → ge_S} {E : List xe_T} {fe : Int32} {eX eY eB eS : Nat → Int32} (hw : xw pr g E fe eX eY eB eS) {Q : List ge_P} (hs : Q.Pairwise ge_lt) (hm : ∀ q, q ∈ Q ↔ sw_mt pr g q) : Q = (E.filter (xm pr g)).map xe_P := by
  obtain ⟨hv, h2, h3, h4⟩ := hw
  obtain ⟨v1, v2, v3, v4, v5⟩ := hv
  refine ls_sort_eq hs (v4.sublist (List.Sublist.map xe_P List.filter_sublist)) (fun q => ?_)
  rw [hm q]
  constructor
  · intro z
    obtain ⟨t, ht, e⟩ := List.mem_map.mp ((h2 q).mpr (Or.inr z))
    exact List.mem_map.mpr ⟨t, List.mem_filter.mpr ⟨ht, xm_t.mpr (e ▸ z)⟩, e⟩
  · intro z
    obtain ⟨t, ht, e⟩ := List.mem_map.mp z
    rw [← e]
    exact xm_t.mp (List.mem_filter.mp ht).2
section
variable {f_present f_events f_now f_active f_freshCount f_pointX f_pointY f_pointBottom f_edges : Int32} {a_fromX a_fromY a_toX a_toY a_eventX a_eventY a_eventBottom a_eventSet a_order a_fresh a_edgeFrom a_edgeTo a_edgeSegment a_gone a_groupOf : Nat → Int32}
theorem xs_ones {post : Int32 → Prop} {P : Nat → Prop} {st : Int32} (h : xb st P) (hp : post (nI (cc_n P 10))) : wpX_ones post st := by
  have loop : ∀ (n m : Nat), 10 - m < n → m ≤ 10 → wX_ones_4 post st n (nI (cc_n P m)) (nI m) := by
    intro n
    induction n with
    | zero => intro m hm; omega
    | succ n ih =>
      intro m hm hm2
      refine pk_le 10 m (fun hle => ?_) (fun hlt => ?_) rfl rfl (by omega) (by omega)
      · have : m = 10 := by omega
        rw [this]; exact hp
      · refine nm_r (e' := nI (cc_n P (m + 1))) ?_ (nm_r (nI_1 m) (ih (m + 1) (by omega) (by omega)))
        rw [cc_ns]
        by_cases c : P m
        · rw [xb_t h hlt c, cc_bt c, nI_1]
        · rw [xb_f h hlt c, cc_bf c, Int32.add_zero]; rfl
  exact ⟨11, loop 11 0 (by omega) (by omega)⟩
theorem xs_isMeeting {post : Int32 → Prop} {pr : Nat → Prop} {g : Nat → ge_S} (G : sw_G pr g) {E : List xe_T} {i : Nat} {t : xe_T} (hw : xw pr g E f_events a_eventX a_eventY a_eventBottom a_eventSet) (hi : E[i]? = some t) (h1 : sw_mt pr g (xe_P t) → post 1) (h0 : ¬ sw_mt pr g (xe_P t) → post 0) : wpX_isMeeting post (f_present, f_events, f_now, f_active, f_freshCount, f_pointX, f_pointY, f_pointBottom, f_edges, a_fromX, a_fromY, a_toX, a_toY, a_eventX, a_eventY, a_eventBottom, a_eventSet, a_order, a_fresh, a_edgeFrom, a_edgeTo, a_edgeSegment, a_gone, a_groupOf) (nI i) := by
  have hlen := xv_len G hw.1
  have hl := xe_len hi
  refine And.intro (vp_in_nI (by omega) (by omega)) (nm_e ?_)
  rw [nI_clamp (by omega)]
  refine xs_ones (hw.2.2.1 i t hi) ?_
  have hc := cc_nle (fun k => pr k ∧ ge_on (g k) (xe_P t)) 10
  refine pk_le _ 1 (fun hle => h0 ?_) (fun hlt => h1 ?_) rfl rfl (by omega) (by omega)
  · rintro ⟨j, k, hn, hj, hk, oj, ok⟩
    have : 2 ≤ cc_n (fun k => pr k ∧ ge_on (g k) (xe_P t)) 10 := by
      rw [cc_two]
      rcases Nat.lt_or_gt_of_ne hn with c | c
      · exact ⟨j, k, c, (G.1 k hk).1, ⟨hj, oj⟩, ⟨hk, ok⟩⟩
      · exact ⟨k, j, c, (G.1 j hj).1, ⟨hk, ok⟩, ⟨hj, oj⟩⟩
    omega
  · obtain ⟨j, k, a, b, ⟨c1, c2⟩, d1, d2⟩ := cc_two.mp (show 2 ≤ cc_n (fun k => pr k ∧ ge_on (g k) (xe_P t)) 10 by omega)
    exact ⟨j, k, by omega, c1, d1, c2, d2⟩
theorem xs_meet8 {post : Int32 → SX → Prop} {pr : Nat → Prop} {g : Nat → ge_S} (G : sw_G pr g) {E : List xe_T} (hw : xw pr g E f_events a_eventX a_eventY a_eventBottom a_eventSet) (h : post (nI (E.filter (xm pr g)).length) (f_present, f_events, f_now, f_active, f_freshCount, f_pointX, f_pointY, f_pointBottom, f_edges, a_fromX, a_fromY, a_toX, a_toY, a_eventX, a_eventY, a_eventBottom, a_eventSet, a_order, a_fresh, a_edgeFrom, a_edgeTo, a_edgeSegment, a_gone, a_groupOf)) :
    ∀ (E2 E1 : List xe_T) (n : Nat), E = E1 ++ E2 → E2.length < n → wX_meetings_8 post f_present f_events f_now f_active f_freshCount f_pointX f_pointY f_pointBottom f_edges a_fromX a_fromY a_toX a_toY a_eventX a_eventY a_eventBottom a_eventSet a_order a_fresh a_edgeFrom a_edgeTo a_edgeSegment a_gone a_groupOf n (nI (E1.filter (xm pr g)).length) (nI E1.length) := by
  have hlen := xv_len G hw.1
  have hf : f_events = nI E.length := hw.1.1
  intro E2
  induction E2 with
  | nil =>
    intro E1 n e hn
    obtain ⟨m, rfl⟩ : ∃ m, n = m + 1 := ⟨n - 1, by simp at hn; omega⟩
    have e1 : E = E1 := by rw [e, List.append_nil]
    subst e1
    refine br_t ?_ h
    rw [hf]; exact nI_le (Nat.le_refl _) (by omega)
  | cons t E2 ih =>
    intro E1 n e hn
    obtain ⟨m, rfl⟩ : ∃ m, n = m + 1 := ⟨n - 1, by simp at hn; omega⟩
    have hl : E.length = E1.length + (E2.length + 1) := by rw [e]; simp
    refine br_f ?_ ?_
    · rw [hf]; exact nI_ge (by omega) (by omega)
    · have hget : E[E1.length]? = some t := by rw [e]; simp
      have e2 : E = (E1 ++ [t]) ++ E2 := by rw [e]; simp
      have el : E1.length + 1 = (E1 ++ [t]).length := by simp
      refine xs_isMeeting G hw hget (fun c => br_f (by decide) ?_) (fun c => br_t rfl ?_)
      · refine nm_r (e' := nI ((E1 ++ [t]).filter (xm pr g)).length) ?_ (nm_r (e' := nI (E1 ++ [t]).length) (by rw [nI_1, el]) (ih (E1 ++ [t]) m e2 (by simp at hn; omega)))
        rw [nI_1, List.filter_append, List.filter_cons_of_pos (xm_t.mpr c)]; simp
      · refine nm_r (e' := nI ((E1 ++ [t]).filter (xm pr g)).length) ?_ (nm_r (e' := nI (E1 ++ [t]).length) (by rw [nI_1, el]) (ih (E1 ++ [t]) m e2 (by simp at hn; omega)))
        rw [List.filter_append, List.filter_cons_of_neg (by rw [xm_f c]; decide), Int32.add_zero]; simp
theorem xs_evOf8 {post : Int32 → SX → Prop} {pr : Nat → Prop} {g : Nat → ge_S} (G : sw_G pr g) {E : List xe_T} (x : Int32) (hw : xw pr g E f_events a_eventX a_eventY a_eventBottom a_eventSet)
    (h1 : ∀ m t e, x = nI m → (E.filter (xm pr g))[m]? = some t → E[e]? = some t → post (nI e) (f_present, f_events, f_now, f_active, f_freshCount, f_pointX, f_pointY, f_pointBottom, f_edges, a_fromX, a_fromY, a_toX, a_toY, a_eventX, a_eventY, a_eventBottom, a_eventSet, a_order, a_fresh, a_edgeFrom, a_edgeTo, a_edgeSegment, a_gone, a_groupOf)) (h0 : (∀ m, m < (E.filter (xm pr g)).length → x ≠ nI m) → post (-1) (f_present, f_events, f_now, f_active, f_freshCount, f_pointX, f_pointY, f_pointBottom, f_edges, a_fromX, a_fromY, a_toX, a_toY, a_eventX, a_eventY, a_eventBottom, a_eventSet, a_order, a_fresh, a_edgeFrom, a_edgeTo, a_edgeSegment, a_gone, a_groupOf)) :
    ∀ (E2 E1 : List xe_T) (n : Nat), E = E1 ++ E2 → E2.length < n → (∀ m, m < (E1.filter (xm pr g)).length → x ≠ nI m) → wX_eventOf_8 post x f_present f_events f_now f_active f_freshCount f_pointX f_pointY f_pointBottom f_edges a_fromX a_fromY a_toX a_toY a_eventX a_eventY a_eventBottom a_eventSet a_order a_fresh a_edgeFrom a_edgeTo a_edgeSegment a_gone a_groupOf n (nI (E1.filter (xm pr g)).length) (nI E1.length) := by
  have hlen := xv_len G hw.1
  have hf : f_events = nI E.length := hw.1.1
  intro E2
  induction E2 with
  | nil =>
    intro E1 n e hn hx
    obtain ⟨m, rfl⟩ : ∃ m, n = m + 1 := ⟨n - 1, by simp at hn; omega⟩
    have e1 : E = E1 := by rw [e, List.append_nil]
    subst e1
    refine br_t ?_ (h0 hx)
    rw [hf]; exact nI_le (Nat.le_refl _) (by omega)
  | cons t E2 ih =>
    intro E1 n e hn hx
    obtain ⟨m, rfl⟩ : ∃ m, n = m + 1 := ⟨n - 1, by simp at hn; omega⟩
    have hl : E.length = E1.length + (E2.length + 1) := by rw [e]; simp
    refine br_f ?_ ?_
    · rw [hf]; exact nI_ge (by omega) (by omega)
    · have hget : E[E1.length]? = some t := by rw [e]; simp
      have e2 : E = (E1 ++ [t]) ++ E2 := by rw [e]; simp
      have el : E1.length + 1 = (E1 ++ [t]).length := by simp
      refine xs_isMeeting G hw hget (fun c => br_f (by decide) ?_) (fun c => br_t rfl ?_)
      · have fe : (E1 ++ [t]).filter (xm pr g) = E1.filter (xm pr g) ++ [t] := by rw [List.filter_append, List.filter_cons_of_pos (xm_t.mpr c)]; rfl
        refine br_c (fun q => ?_) (fun q => ?_)
        · refine h1 _ t E1.length q.symm ?_ hget
          rw [e2, List.filter_append, fe]; simp
        · refine nm_r (e' := nI ((E1 ++ [t]).filter (xm pr g)).length) (by rw [nI_1, fe]; simp) (nm_r (e' := nI (E1 ++ [t]).length) (by rw [nI_1, el]) (ih (E1 ++ [t]) m e2 (by simp at hn; omega) ?_))
          intro j hj z
          rw [fe] at hj
          by_cases d : j < (E1.filter (xm pr g)).length
          · exact hx j d z
          · have : j = (E1.filter (xm pr g)).length := by simp at hj; omega
            rw [this] at z
            exact q z.symm
      · have fe : (E1 ++ [t]).filter (xm pr g) = E1.filter (xm pr g) := by rw [List.filter_append, List.filter_cons_of_neg (by rw [xm_f c]; decide)]; simp
        have := ih (E1 ++ [t]) m e2 (by simp at hn; omega) (by rw [fe]; exact hx)
        rw [fe] at this
        exact nm_r (e' := nI (E1 ++ [t]).length) (by rw [nI_1, el]) this
theorem xs_eventOf {post : Int32 → SX → Prop} {pr : Nat → Prop} {g : Nat → ge_S} (G : sw_G pr g) (hg : xg pr g f_present a_fromX a_fromY a_toX a_toY) (x : Int32)
    (h1 : ∀ E fe nw ac fc px py pb eX eY eB eS o fr, xw pr g E fe eX eY eB eS → ∀ m t e, x = nI m → (E.filter (xm pr g))[m]? = some t → E[e]? = some t → post (nI e) (f_present, fe, nw, ac, fc, px, py, pb, f_edges, a_fromX, a_fromY, a_toX, a_toY, eX, eY, eB, eS, o, fr, a_edgeFrom, a_edgeTo, a_edgeSegment, a_gone, a_groupOf))
    (h0 : ∀ E fe nw ac fc px py pb eX eY eB eS o fr, xw pr g E fe eX eY eB eS → (∀ m, m < (E.filter (xm pr g)).length → x ≠ nI m) → post (-1) (f_present, fe, nw, ac, fc, px, py, pb, f_edges, a_fromX, a_fromY, a_toX, a_toY, eX, eY, eB, eS, o, fr, a_edgeFrom, a_edgeTo, a_edgeSegment, a_gone, a_groupOf)) :
    wpX_eventOf post (f_present, f_events, f_now, f_active, f_freshCount, f_pointX, f_pointY, f_pointBottom, f_edges, a_fromX, a_fromY, a_toX, a_toY, a_eventX, a_eventY, a_eventBottom, a_eventSet, a_order, a_fresh, a_edgeFrom, a_edgeTo, a_edgeSegment, a_gone, a_groupOf) x := by
  unfold wpX_eventOf
  refine xs_sweep G hg ?_
  intro E fe nw ac fc px py pb eX eY eB eS o fr hw
  exact ⟨E.length + 1, xs_evOf8 G x hw (h1 E _ _ _ _ _ _ _ _ _ _ _ _ _ hw) (h0 E _ _ _ _ _ _ _ _ _ _ _ _ _ hw) E [] (E.length + 1) rfl (by omega) (fun m hm => absurd hm (by simp))⟩
end
theorem i_vc_meetings {k : Nat} {u : SX} {v : SY} (I : i_Rel k u v) (hk : k + 3 ≤ 1536) : wpX_meetings (fun r u' => wpY_meetings (fun r' v' => r' = r ∧ i_Rel (k + 3) u' v') v) u := by
  refine zz_el (P := fun u v => wpX_meetings (fun r u' => wpY_meetings (fun r' v' => r' = r ∧ i_Rel (k + 3) u' v') v) u) ?_ I
  clear I u v
  intro f_present f_events f_now f_active f_freshCount f_pointX f_pointY f_pointBottom f_edges a_fromX a_fromY a_toX a_toY a_eventX a_eventY a_eventBottom a_eventSet a_order a_fresh a_edgeFrom a_edgeTo a_edgeSegment a_gone a_groupOf f_found a_there a_ends a_points a_spot pr g hz
  obtain ⟨G, hg, hy⟩ := id hz
  unfold wpX_meetings
  refine xs_sweep G hg ?_
  intro E fe nw ac fc px py pb eX eY eB eS o fr hw
  refine ⟨E.length + 1, xs_meet8 G hw ?_ E [] (E.length + 1) rfl (by omega)⟩
  unfold wpY_meetings
  refine ys_search G hy ?_
  intro Q fd pts sp hf hp hs hm
  refine ⟨?_, zz_in hz⟩
  rw [hf, xw_Q hw hs hm, List.length_map]
end
section
/-! top, bottom, through -/
theorem zI_divx {c k : Int} (hk : 0 < k) (hk2 : k < 2147483648) (hc : zB (c * k)) : zI (c * k) / zI k = zI c := by
  have e := Int32.ofInt_tdiv (a := c * k) (b := k) (by show -2147483648 ≤ _; exact hc.1) (by show _ ≤ 2147483647; have := hc.2; omega) (by show -2147483648 ≤ _; omega) (by show _ ≤ 2147483647; omega)
  unfold zI
  rw [← e, Int.mul_tdiv_cancel _ (by omega)]
theorem xs_divZ {post : Int32 → Prop} {x b : Int} (hx : 0 ≤ x) (hx2 : x ≤ 16000) (hb : 1 ≤ b) (hb2 : b ≤ 800) (h : post (zI (Int.gcd x b : Int))) : wpX_divisor post (zI x) (zI b) := by
  obtain ⟨m, rfl⟩ := Int.eq_ofNat_of_zero_le hx
  obtain ⟨c, rfl⟩ := Int.eq_ofNat_of_zero_le (show 0 ≤ b by omega)
  rw [← zI_nI, ← zI_nI]
  refine xs_divisor m c (by omega) (by omega) ?_
  rw [zI_nI]
  exact h
/-- the two reduced numbers, as the component makes them -/
theorem xs_red {x b : Int} (hx : 0 ≤ x) (hx2 : x ≤ 16000) (hb : 1 ≤ b) (hb2 : b ≤ 800) {q : Rat} (hq : q * (b : Rat) = (x : Rat)) : ¬ zI (Int.gcd x b : Int) ≤ 0 ∧ ¬ zI (Int.gcd x b : Int) = 0 ∧ zI x / zI (Int.gcd x b : Int) = zI q.num ∧ zI b / zI (Int.gcd x b : Int) = zI (q.den : Int) := by
  obtain ⟨r1, r2⟩ := (y_red (by omega) hq).1 (by omega)
  have gp : 0 < Int.gcd x b := by
    rcases Nat.eq_zero_or_pos (Int.gcd x b) with z | z
    · have := (Int.gcd_eq_zero_iff.mp z).2; omega
    · exact z
  have gl : Int.gcd x b ≤ b.natAbs := Nat.le_of_dvd (by omega) (Nat.gcd_dvd_right x.natAbs b.natAbs)
  have bg : zB (Int.gcd x b : Int) := ⟨by omega, by omega⟩
  have b0 : zB 0 := ⟨by omega, by omega⟩
  refine ⟨fun z => ?_, fun z => ?_, ?_, ?_⟩
  · have := (zI_le (b := 0) bg b0).mp z; omega
  · have := (zI_eq (b := 0) bg b0).mp z; omega
  · conv => lhs; lhs; rw [r1]
    exact zI_divx (by omega) (by omega) (by rw [← r1]; exact ⟨by omega, by omega⟩)
  · conv => lhs; lhs; rw [r2]
    exact zI_divx (by omega) (by omega) (by rw [← r2]; exact ⟨by omega, by omega⟩)
section
variable {f_present f_events f_now f_active f_freshCount f_pointX f_pointY f_pointBottom f_edges : Int32} {a_fromX a_fromY a_toX a_toY a_eventX a_eventY a_eventBottom a_eventSet a_order a_fresh a_edgeFrom a_edgeTo a_edgeSegment a_gone a_groupOf : Nat → Int32}
theorem xs_top18 {post : Int32 → SX → Prop} {pr : Nat → Prop} {g : Nat → ge_S} (G : sw_G pr g) {E : List xe_T} {e : Nat} {t : xe_T} {ax : Int32} (hw : xw pr g E f_events a_eventX a_eventY a_eventBottom a_eventSet) (he : E[e]? = some t)
    (h0 : ax = 0 → post (zI (xe_P t).1.num) (f_present, f_events, f_now, f_active, f_freshCount, f_pointX, f_pointY, f_pointBottom, f_edges, a_fromX, a_fromY, a_toX, a_toY, a_eventX, a_eventY, a_eventBottom, a_eventSet, a_order, a_fresh, a_edgeFrom, a_edgeTo, a_edgeSegment, a_gone, a_groupOf)) (h1 : ¬ ax = 0 → post (zI (xe_P t).2.num) (f_present, f_events, f_now, f_active, f_freshCount, f_pointX, f_pointY, f_pointBottom, f_edges, a_fromX, a_fromY, a_toX, a_toY, a_eventX, a_eventY, a_eventBottom, a_eventSet, a_order, a_fresh, a_edgeFrom, a_edgeTo, a_edgeSegment, a_gone, a_groupOf)) : wX_top_18 post ax (nI e) f_present f_events f_now f_active f_freshCount f_pointX f_pointY f_pointBottom f_edges a_fromX a_fromY a_toX a_toY a_eventX a_eventY a_eventBottom a_eventSet a_order a_fresh a_edgeFrom a_edgeTo a_edgeSegment a_gone a_groupOf := by
  have hlen := xv_len G hw.1
  have hl := xe_len he
  obtain ⟨e1, e2, e3⟩ := hw.1.2.1 e t he
  obtain ⟨t1, t2, t3, t4, t5, t6⟩ := hw.1.2.2.1 t (List.mem_of_getElem? he)
  obtain ⟨a1, a2⟩ := xe_at t1
  have v : vp_in (nI e) 66 := vp_in_nI (by omega) (by omega)
  refine br_t (nI_pos' (by omega)) (br_c (fun c => And.intro v (And.intro v ?_)) (fun c => And.intro v (And.intro v ?_)))
  · rw [nI_clamp (by omega), e1, e3]
    obtain ⟨r1, r2, r3, r4⟩ := xs_red t3 (by omega) t1 t2 a1
    refine xs_divZ t3 (by omega) t1 t2 (br_f r1 (And.intro r2 ?_))
    rw [r3]; exact h0 c
  · rw [nI_clamp (by omega), e2, e3]
    obtain ⟨r1, r2, r3, r4⟩ := xs_red t5 (by omega) t1 t2 a2
    refine xs_divZ t5 (by omega) t1 t2 (br_f r1 (And.intro r2 ?_))
    rw [r3]; exact h1 c
theorem xs_bottom18 {post : Int32 → SX → Prop} {pr : Nat → Prop} {g : Nat → ge_S} (G : sw_G pr g) {E : List xe_T} {e : Nat} {t : xe_T} {ax : Int32} (hw : xw pr g E f_events a_eventX a_eventY a_eventBottom a_eventSet) (he : E[e]? = some t)
    (h0 : ax = 0 → post (zI ((xe_P t).1.den : Int)) (f_present, f_events, f_now, f_active, f_freshCount, f_pointX, f_pointY, f_pointBottom, f_edges, a_fromX, a_fromY, a_toX, a_toY, a_eventX, a_eventY, a_eventBottom, a_eventSet, a_order, a_fresh, a_edgeFrom, a_edgeTo, a_edgeSegment, a_gone, a_groupOf)) (h1 : ¬ ax = 0 → post (zI ((xe_P t).2.den : Int)) (f_present, f_events, f_now, f_active, f_freshCount, f_pointX, f_pointY, f_pointBottom, f_edges, a_fromX, a_fromY, a_toX, a_toY, a_eventX, a_eventY, a_eventBottom, a_eventSet, a_order, a_fresh, a_edgeFrom, a_edgeTo, a_edgeSegment, a_gone, a_groupOf)) : wX_bottom_18 post ax (nI e) f_present f_events f_now f_active f_freshCount f_pointX f_pointY f_pointBottom f_edges a_fromX a_fromY a_toX a_toY a_eventX a_eventY a_eventBottom a_eventSet a_order a_fresh a_edgeFrom a_edgeTo a_edgeSegment a_gone a_groupOf := by
  have hlen := xv_len G hw.1
  have hl := xe_len he
  obtain ⟨e1, e2, e3⟩ := hw.1.2.1 e t he
  obtain ⟨t1, t2, t3, t4, t5, t6⟩ := hw.1.2.2.1 t (List.mem_of_getElem? he)
  obtain ⟨a1, a2⟩ := xe_at t1
  have v : vp_in (nI e) 66 := vp_in_nI (by omega) (by omega)
  refine br_t (nI_pos' (by omega)) (br_c (fun c => And.intro v (And.intro v ?_)) (fun c => And.intro v (And.intro v ?_)))
  · rw [nI_clamp (by omega), e1, e3]
    obtain ⟨r1, r2, r3, r4⟩ := xs_red t3 (by omega) t1 t2 a1
    refine xs_divZ t3 (by omega) t1 t2 (br_f r1 (And.intro v (And.intro r2 ?_)))
    rw [r4]; exact h0 c
  · rw [nI_clamp (by omega), e2, e3]
    obtain ⟨r1, r2, r3, r4⟩ := xs_red t5 (by omega) t1 t2 a2
    refine xs_divZ t5 (by omega) t1 t2 (br_f r1 (And.intro v (And.intro r2 ?_)))
    rw [r4]; exact h1 c
end
theorem ls_mapget {E : List xe_T} {m : Nat} {t : xe_T} (h : E[m]? = some t) : (E.map xe_P)[m]? = some (xe_P t) := by rw [List.getElem?_map, h]; rfl
section
variable {f_found : Int32} {a_there a_ends : Nat → Int32} {a_points a_spot : Nat → Int64}
/-- asking for a number of meeting point i -/
theorem ys_coord {post : Int32 → SY → Prop} {pr : Nat → Prop} {g : Nat → ge_S} (G : sw_G pr g) (hy : yg pr g a_there a_ends) (x : Int32) {c : Nat} (hc : c < 4)
    (h1 : ∀ (Q : List ge_P) fd pts sp, Q.Pairwise ge_lt → (∀ q, q ∈ Q ↔ sw_mt pr g q) → ∀ m p, x = nI m → Q[m]? = some p → ybd p.1 → ybd p.2 → (c = 0 → post (zI p.1.num) (fd, a_there, a_ends, pts, sp)) ∧ (c = 1 → post (zI (p.1.den : Int)) (fd, a_there, a_ends, pts, sp)) ∧ (c = 2 → post (zI p.2.num) (fd, a_there, a_ends, pts, sp)) ∧ (c = 3 → post (zI (p.2.den : Int)) (fd, a_there, a_ends, pts, sp)))
    (h0 : ∀ (Q : List ge_P) fd pts sp, Q.Pairwise ge_lt → (∀ q, q ∈ Q ↔ sw_mt pr g q) → (∀ m, m < Q.length → x ≠ nI m) → post (-1) (fd, a_there, a_ends, pts, sp)) : wpY_coordinate post (f_found, a_there, a_ends, a_points, a_spot) x (nI c) := by
  unfold wpY_coordinate
  refine ys_search G hy ?_
  intro Q fd pts sp hf hp hs hm
  have hQ : Q.length ≤ 45 := sw_mt_45 G (hs.imp (fun {a b} h z => by rw [z] at h; exact ge_lt_ir h)) (fun q hq => (hm q).mp hq)
  refine br_c (fun c1 => h0 Q _ _ _ hs hm ?_) (fun c1 => ?_)
  · rintro m hm' rfl
    exact absurd c1 (nI_pos (by omega))
  · obtain ⟨m, hm1, rfl⟩ := nI_of c1
    rw [hf]
    refine pk_le Q.length m (fun hle => ?_) (fun hlt => ?_) rfl rfl (by omega) hm1
    · refine h0 Q _ _ _ hs hm ?_
      intro j hj z
      have := (nI_eq hm1 (by omega)).mp z
      omega
    · obtain ⟨p, hpm⟩ : ∃ p, Q[m]? = some p := ⟨_, List.getElem?_eq_getElem hlt⟩
      obtain ⟨b1, b2⟩ := y_gp (sw_gp G (Or.inr ((hm p).mp (List.mem_of_getElem? hpm))))
      obtain ⟨f0, f1, f2, f3⟩ := hp m p hpm
      obtain ⟨g0, g1, g2, g3⟩ := h1 Q _ pts sp hs hm m p rfl hpm b1 b2
      obtain ⟨n1, n2, n3⟩ := b1
      obtain ⟨n4, n5, n6⟩ := b2
      rw [yix m c]
      refine And.intro (vp_in_nI (by omega) (by omega)) ?_
      rw [nI_clamp (by omega)]
      rcases (show c = 0 ∨ c = 1 ∨ c = 2 ∨ c = 3 by omega) with rfl | rfl | rfl | rfl
      · rw [Nat.add_zero, f0, zL_i ⟨by omega, by omega⟩]; exact g0 rfl
      · rw [f1, zL_i ⟨by omega, by omega⟩]; exact g1 rfl
      · rw [f2, zL_i ⟨by omega, by omega⟩]; exact g2 rfl
      · rw [f3, zL_i ⟨by omega, by omega⟩]; exact g3 rfl
theorem ys_goMeet {post : SY → Prop} {Q : List ge_P} {m : Nat} {p : ge_P} (hQ : ypa a_points Q) (hm : Q[m]? = some p) (hl : m < 45) (h : ∀ sp', ysp sp' p → post (f_found, a_there, a_ends, a_points, sp')) : wpY_goToMeeting post (f_found, a_there, a_ends, a_points, a_spot) (nI m) := by
  obtain ⟨f0, f1, f2, f3⟩ := hQ m p hm
  have loop : ∀ (n c : Nat), 4 - c < n → c ≤ 4 → ∀ sp : Nat → Int64, (∀ i, i < c → sp i = a_points (4 * m + i)) → wY_goToMeeting_2 post (nI m) f_found n (nI c) a_there a_ends a_points sp := by
    intro n
    induction n with
    | zero => intro c hc; omega
    | succ n ih =>
      intro c hc hc2 sp hsp
      refine pk_le 4 c (fun hle => ?_) (fun hlt => ?_) rfl rfl (by omega) (by omega)
      · refine h sp ⟨?_, ?_, ?_, ?_⟩
        · rw [hsp 0 (by omega)]; exact f0
        · rw [hsp 1 (by omega)]; exact f1
        · rw [hsp 2 (by omega)]; exact f2
        · rw [hsp 3 (by omega)]; exact f3
      · rw [yix m c]
        refine And.intro (vp_in_nI (by omega) (by omega)) (And.intro (vp_in_nI hlt (by omega)) (nm_e (nm_r (nI_1 c) ?_)))
        rw [nI_clamp (by omega), nI_clamp (by omega)]
        refine ih (c + 1) (by omega) (by omega) _ ?_
        intro i hi
        by_cases e : i = c
        · rw [e, pk_uLs]
        · rw [pk_uLn e]; exact hsp i (by omega)
  exact ⟨5, loop 5 0 (by omega) (by omega) a_spot (fun i hi => absurd hi (by omega))⟩
end
theorem i_vc_top {k : Nat} {u : SX} {v : SY} (I : i_Rel k u v) (hk : k + 3 ≤ 1536) (v1 : Int32) (v2 : Int32) : wpX_top (fun r u' => wpY_top (fun r' v' => r' = r ∧ i_Rel (k + 3) u' v') v v1 v2) u v1 v2 := by
  refine zz_el (P := fun u v => wpX_top (fun r u' => wpY_top (fun r' v' => r' = r ∧ i_Rel (k + 3) u' v') v v1 v2) u v1 v2) ?_ I
  clear I u v
  intro f_present f_events f_now f_active f_freshCount f_pointX f_pointY f_pointBottom f_edges a_fromX a_fromY a_toX a_toY a_eventX a_eventY a_eventBottom a_eventSet a_order a_fresh a_edgeFrom a_edgeTo a_edgeSegment a_gone a_groupOf f_found a_there a_ends a_points a_spot pr g hz
  obtain ⟨G, hg, hy⟩ := id hz
  have both : ∀ c : Nat, c < 2 → v2 = nI c → wX_top_9 (fun r u' => wpY_top (fun r' v' => r' = r ∧ i_Rel (k + 3) u' v') (f_found, a_there, a_ends, a_points, a_spot) v1 v2) v1 v2 f_present f_events f_now f_active f_freshCount f_pointX f_pointY f_pointBottom f_edges a_fromX a_fromY a_toX a_toY a_eventX a_eventY a_eventBottom a_eventSet a_order a_fresh a_edgeFrom a_edgeTo a_edgeSegment a_gone a_groupOf := by
    intro c hc e
    subst e
    have yw : ∀ (post : Int32 → SY → Prop), wpY_coordinate (fun r_2 u => match u with | (f_found, a_there, a_ends, a_points, a_spot) => (post r_2 (f_found, a_there, a_ends, a_points, a_spot))) (f_found, a_there, a_ends, a_points, a_spot) v1 (nI (2 * c)) → wpY_top post (f_found, a_there, a_ends, a_points, a_spot) v1 (nI c) := by
      intro post hh
      have e2 : (2 : Int32) * nI c = nI (2 * c) := by show nI 2 * nI c = _; rw [pk_mul]
      have hh' : wY_top_9 post v1 (nI c) f_found a_there a_ends a_points a_spot := by unfold wY_top_9; rw [e2]; exact hh
      rcases (show c = 0 ∨ c = 1 by omega) with rfl | rfl
      · exact br_t rfl hh'
      · exact br_f (by decide) (br_t rfl hh')
    unfold wX_top_9
    refine xs_eventOf G hg v1 ?_ ?_
    · intro E fe nw ac fc px py pb eX eY eB eS o fr hw m t e hx hm he
      refine xs_top18 G hw he (fun c0 => ?_) (fun c1 => ?_)
      · have c0' : c = 0 := (nI_eq (b := 0) (by omega) (by omega)).mp c0
        subst c0'
        refine yw _ (ys_coord G hy v1 (c := 0) (by omega) ?_ ?_)
        · intro Q fd pts sp hs hmm m' p hx' hp b1 b2
          have em : m' = m ∨ True := Or.inr trivial
          refine ⟨fun _ => ⟨?_, zz_in hz⟩, fun z => absurd z (by decide), fun z => absurd z (by decide), fun z => absurd z (by decide)⟩
          have l1 := xe_len hp
          have l2 := xe_len hm
          have hQ : Q.length ≤ 45 := sw_mt_45 G (hs.imp (fun {a b} h z => by rw [z] at h; exact ge_lt_ir h)) (fun q hq => (hmm q).mp hq)
          have el := xw_Q hw hs hmm
          have lQ : Q.length = (E.filter (xm pr g)).length := by rw [el, List.length_map]
          have : m' = m := (nI_eq (by omega) (by omega)).mp (hx'.symm.trans hx)
          subst this
          rw [el, ls_mapget hm] at hp
          injection hp with hp
          rw [hp]
        · intro Q fd pts sp hs hmm hno
          exfalso
          have l2 := xe_len hm
          exact hno m (by rw [xw_Q hw hs hmm, List.length_map]; exact l2) hx
      · have c1' : c = 1 := by
          rcases (show c = 0 ∨ c = 1 by omega) with z | z
          · rw [z] at c1; exact absurd rfl c1
          · exact z
        subst c1'
        refine yw _ (ys_coord G hy v1 (c := 2) (by omega) ?_ ?_)
        · intro Q fd pts sp hs hmm m' p hx' hp b1 b2
          refine ⟨fun z => absurd z (by decide), fun z => absurd z (by decide), fun _ => ⟨?_, zz_in hz⟩, fun z => absurd z (by decide)⟩
          have l1 := xe_len hp
          have l2 := xe_len hm
          have hQ : Q.length ≤ 45 := sw_mt_45 G (hs.imp (fun {a b} h z => by rw [z] at h; exact ge_lt_ir h)) (fun q hq => (hmm q).mp hq)
          have el := xw_Q hw hs hmm
          have lQ : Q.length = (E.filter (xm pr g)).length := by rw [el, List.length_map]
          have : m' = m := (nI_eq (by omega) (by omega)).mp (hx'.symm.trans hx)
          subst this
          rw [el, ls_mapget hm] at hp
          injection hp with hp
          rw [hp]
        · intro Q fd pts sp hs hmm hno
          exfalso
          have l2 := xe_len hm
          exact hno m (by rw [xw_Q hw hs hmm, List.length_map]; exact l2) hx
    · intro E fe nw ac fc px py pb eX eY eB eS o fr hw hno
      refine br_f (by decide) ?_
      refine yw _ (ys_coord G hy v1 (c := 2 * c) (by omega) ?_ ?_)
      · intro Q fd pts sp hs hmm m' p hx' hp b1 b2
        exfalso
        have l1 := xe_len hp
        exact hno m' (by rw [xw_Q hw hs hmm, List.length_map] at l1; exact l1) hx'
      · intro Q fd pts sp hs hmm _
        exact ⟨rfl, zz_in hz⟩
  refine br_c (fun c => both 0 (by omega) c) (fun c => br_c (fun d => both 1 (by omega) d) (fun d => br_f (by decide) ?_))
  exact br_f c (br_f d ⟨rfl, zz_in hz⟩)
theorem i_vc_bottom {k : Nat} {u : SX} {v : SY} (I : i_Rel k u v) (hk : k + 3 ≤ 1536) (v1 : Int32) (v2 : Int32) : wpX_bottom (fun r u' => wpY_bottom (fun r' v' => r' = r ∧ i_Rel (k + 3) u' v') v v1 v2) u v1 v2 := by
  refine zz_el (P := fun u v => wpX_bottom (fun r u' => wpY_bottom (fun r' v' => r' = r ∧ i_Rel (k + 3) u' v') v v1 v2) u v1 v2) ?_ I
  clear I u v
  intro f_present f_events f_now f_active f_freshCount f_pointX f_pointY f_pointBottom f_edges a_fromX a_fromY a_toX a_toY a_eventX a_eventY a_eventBottom a_eventSet a_order a_fresh a_edgeFrom a_edgeTo a_edgeSegment a_gone a_groupOf f_found a_there a_ends a_points a_spot pr g hz
  obtain ⟨G, hg, hy⟩ := id hz
  have both : ∀ c : Nat, c < 2 → v2 = nI c → wX_bottom_9 (fun r u' => wpY_bottom (fun r' v' => r' = r ∧ i_Rel (k + 3) u' v') (f_found, a_there, a_ends, a_points, a_spot) v1 v2) v1 v2 f_present f_events f_now f_active f_freshCount f_pointX f_pointY f_pointBottom f_edges a_fromX a_fromY a_toX a_toY a_eventX a_eventY a_eventBottom a_eventSet a_order a_fresh a_edgeFrom a_edgeTo a_edgeSegment a_gone a_groupOf := by
    intro c hc e
    subst e
    have yw : ∀ (post : Int32 → SY → Prop), wpY_coordinate (fun r_2 u => match u with | (f_found, a_there, a_ends, a_points, a_spot) => (post r_2 (f_found, a_there, a_ends, a_points, a_spot))) (f_found, a_there, a_ends, a_points, a_spot) v1 (nI (2 * c + 1)) → wpY_bottom post (f_found, a_there, a_ends, a_points, a_spot) v1 (nI c) := by
      intro post hh
      have e2 : (2 : Int32) * nI c + 1 = nI (2 * c + 1) := by show nI 2 * nI c + nI 1 = _; rw [pk_mul, nI_add]
      have hh' : wY_bottom_9 post v1 (nI c) f_found a_there a_ends a_points a_spot := by unfold wY_bottom_9; rw [e2]; exact hh
      rcases (show c = 0 ∨ c = 1 by omega) with rfl | rfl
      · exact br_t rfl hh'
      · exact br_f (by decide) (br_t rfl hh')
    unfold wX_bottom_9
    refine xs_eventOf G hg v1 ?_ ?_
    · intro E fe nw ac fc px py pb eX eY eB eS o fr hw m t e hx hm he
      refine xs_bottom18 G hw he (fun c0 => ?_) (fun c1 => ?_)
      · have c0' : c = 0 := (nI_eq (b := 0) (by omega) (by omega)).mp c0
        subst c0'
        refine yw _ (ys_coord G hy v1 (c := 1) (by omega) ?_ ?_)
        · intro Q fd pts sp hs hmm m' p hx' hp b1 b2
          have em : m' = m ∨ True := Or.inr trivial
          refine ⟨fun z => absurd z (by decide), fun _ => ⟨?_, zz_in hz⟩, fun z => absurd z (by decide), fun z => absurd z (by decide)⟩
          have l1 := xe_len hp
          have l2 := xe_len hm
          have hQ : Q.length ≤ 45 := sw_mt_45 G (hs.imp (fun {a b} h z => by rw [z] at h; exact ge_lt_ir h)) (fun q hq => (hmm q).mp hq)
          have el := xw_Q hw hs hmm
          have lQ : Q.length = (E.filter (xm pr g)).length := by rw [el, List.length_map]
          have : m' = m := (nI_eq (by omega) (by omega)).mp (hx'.symm.trans hx)
          subst this
          rw [el, ls_mapget hm] at hp
          injection hp with hp
          rw [hp]
        · intro Q fd pts sp hs hmm hno
          exfalso
          have l2 := xe_len hm
          exact hno m (by rw [xw_Q hw hs hmm, List.length_map]; exact l2) hx
      · have c1' : c = 1 := by
          rcases (show c = 0 ∨ c = 1 by omega) with z | z
          · rw [z] at c1; exact absurd rfl c1
          · exact z
        subst c1'
        refine yw _ (ys_coord G hy v1 (c := 3) (by omega) ?_ ?_)
        · intro Q fd pts sp hs hmm m' p hx' hp b1 b2
          refine ⟨fun z => absurd z (by decide), fun z => absurd z (by decide), fun z => absurd z (by decide), fun _ => ⟨?_, zz_in hz⟩⟩
          have l1 := xe_len hp
          have l2 := xe_len hm
          have hQ : Q.length ≤ 45 := sw_mt_45 G (hs.imp (fun {a b} h z => by rw [z] at h; exact ge_lt_ir h)) (fun q hq => (hmm q).mp hq)
          have el := xw_Q hw hs hmm
          have lQ : Q.length = (E.filter (xm pr g)).length := by rw [el, List.length_map]
          have : m' = m := (nI_eq (by omega) (by omega)).mp (hx'.symm.trans hx)
          subst this
          rw [el, ls_mapget hm] at hp
          injection hp with hp
          rw [hp]
        · intro Q fd pts sp hs hmm hno
          exfalso
          have l2 := xe_len hm
          exact hno m (by rw [xw_Q hw hs hmm, List.length_map]; exact l2) hx
    · intro E fe nw ac fc px py pb eX eY eB eS o fr hw hno
      refine br_f (by decide) ?_
      refine yw _ (ys_coord G hy v1 (c := 2 * c + 1) (by omega) ?_ ?_)
      · intro Q fd pts sp hs hmm m' p hx' hp b1 b2
        exfalso
        have l1 := xe_len hp
        exact hno m' (by rw [xw_Q hw hs hmm, List.length_map] at l1; exact l1) hx'
      · intro Q fd pts sp hs hmm _
        exact ⟨rfl, zz_in hz⟩
  refine br_c (fun c => both 0 (by omega) c) (fun c => br_c (fun d => both 1 (by omega) d) (fun d => br_f (by decide) ?_))
  exact br_f c (br_f d ⟨rfl, zz_in hz⟩)
end
section
/-! through, degree, meet -/
noncomputable def yo (g : Nat → ge_S) (k : Nat) (p : ge_P) : Bool := @decide (ge_on (g k) p) (Classical.propDecidable _)
theorem yo_t {g : Nat → ge_S} {k : Nat} {p : ge_P} : yo g k p = true ↔ ge_on (g k) p := by unfold yo; exact @decide_eq_true_iff _ (Classical.propDecidable _)
theorem yo_f {g : Nat → ge_S} {k : Nat} {p : ge_P} (h : ¬ ge_on (g k) p) : yo g k p = false := by
  cases c : yo g k p
  · rfl
  · exact absurd (yo_t.mp c) h
theorem ls_deg {pr : Nat → Prop} {g : Nat → ge_S} {k : Nat} (E : List xe_T) : (((E.filter (xm pr g)).map xe_P).filter (yo g k)).length = (E.filter (fun t => yo g k (xe_P t) && xm pr g t)).length := by
  rw [List.filter_map, List.length_map, List.filter_filter]
  rfl
theorem i_vc_through {k : Nat} {u : SX} {v : SY} (I : i_Rel k u v) (hk : k + 3 ≤ 1536) (v1 : Int32) : wpX_through (fun r u' => wpY_through (fun r' v' => r' = r ∧ i_Rel (k + 3) u' v') v v1) u v1 := by
  refine zz_el (P := fun u v => wpX_through (fun r u' => wpY_through (fun r' v' => r' = r ∧ i_Rel (k + 3) u' v') v v1) u v1) ?_ I
  clear I u v
  intro f_present f_events f_now f_active f_freshCount f_pointX f_pointY f_pointBottom f_edges a_fromX a_fromY a_toX a_toY a_eventX a_eventY a_eventBottom a_eventSet a_order a_fresh a_edgeFrom a_edgeTo a_edgeSegment a_gone a_groupOf f_found a_there a_ends a_points a_spot pr g hz
  obtain ⟨G, hg, hy⟩ := id hz
  unfold wpX_through
  refine xs_eventOf G hg v1 ?_ ?_
  · intro E fe nw ac fc px py pb eX eY eB eS o fr hw m t e hx hm he
    have hlen := xv_len G hw.1
    have hl := xe_len he
    refine br_t (nI_pos' (by omega)) (And.intro (vp_in_nI (by omega) (by omega)) ?_)
    rw [nI_clamp (by omega)]
    unfold wpY_through
    refine ys_search G hy ?_
    intro Q fd pts sp hf hp hs hmm
    have hQ : Q.length ≤ 45 := sw_mt_45 G (hs.imp (fun {a b} h z => by rw [z] at h; exact ge_lt_ir h)) (fun q hq => (hmm q).mp hq)
    have el := xw_Q hw hs hmm
    have lQ : Q.length = (E.filter (xm pr g)).length := by rw [el, List.length_map]
    have l2 := xe_len hm
    subst hx
    have hq : Q[m]? = some (xe_P t) := by rw [el]; exact ls_mapget hm
    refine br_f (nI_pos (by omega)) (br_t ?_ ?_)
    · rw [hf]; exact nI_lt (by omega) (by omega)
    · refine ys_goMeet hp hq (by omega) ?_
      intro sp' hsp
      obtain ⟨b1, b2⟩ := y_gp (sw_gp G (Or.inr ((hmm _).mp (List.mem_of_getElem? hq))))
      refine ys_setOn hy G.1 hsp b1 b2 ?_
      intro st hst
      exact ⟨xb_un hst (hw.2.2.1 e t he) (fun _ _ => Iff.rfl), zz_in hz⟩
  · intro E fe nw ac fc px py pb eX eY eB eS o fr hw hno
    refine br_f (by decide) ?_
    unfold wpY_through
    refine ys_search G hy ?_
    intro Q fd pts sp hf hp hs hmm
    have hQ : Q.length ≤ 45 := sw_mt_45 G (hs.imp (fun {a b} h z => by rw [z] at h; exact ge_lt_ir h)) (fun q hq => (hmm q).mp hq)
    have lQ : Q.length = (E.filter (xm pr g)).length := by rw [xw_Q hw hs hmm, List.length_map]
    refine br_c (fun c => ⟨rfl, zz_in hz⟩) (fun c => br_f ?_ ⟨rfl, zz_in hz⟩)
    obtain ⟨m, hm1, rfl⟩ := nI_of c
    intro z
    rw [hf] at z
    exact hno m (by have := (nI_ltI hm1 (by omega)).mp z; omega) rfl
section
variable {f_present f_events f_now f_active f_freshCount f_pointX f_pointY f_pointBottom f_edges : Int32} {a_fromX a_fromY a_toX a_toY a_eventX a_eventY a_eventBottom a_eventSet a_order a_fresh a_edgeFrom a_edgeTo a_edgeSegment a_gone a_groupOf : Nat → Int32}
theorem xs_deg18 {post : Int32 → SX → Prop} {pr : Nat → Prop} {g : Nat → ge_S} (G : sw_G pr g) {E : List xe_T} {k : Nat} (pk : pr k) (hw : xw pr g E f_events a_eventX a_eventY a_eventBottom a_eventSet) (h : post (nI (E.filter (fun t => yo g k (xe_P t) && xm pr g t)).length) (f_present, f_events, f_now, f_active, f_freshCount, f_pointX, f_pointY, f_pointBottom, f_edges, a_fromX, a_fromY, a_toX, a_toY, a_eventX, a_eventY, a_eventBottom, a_eventSet, a_order, a_fresh, a_edgeFrom, a_edgeTo, a_edgeSegment, a_gone, a_groupOf)) :
    ∀ (E2 E1 : List xe_T) (n : Nat), E = E1 ++ E2 → E2.length < n → wX_degree_18 post (nI k) f_present f_events f_now f_active f_freshCount f_pointX f_pointY f_pointBottom f_edges a_fromX a_fromY a_toX a_toY a_eventX a_eventY a_eventBottom a_eventSet a_order a_fresh a_edgeFrom a_edgeTo a_edgeSegment a_gone a_groupOf n (nI (E1.filter (fun t => yo g k (xe_P t) && xm pr g t)).length) (nI E1.length) := by
  have hlen := xv_len G hw.1
  have hf : f_events = nI E.length := hw.1.1
  have k10 := (G.1 k pk).1
  intro E2
  induction E2 with
  | nil =>
    intro E1 n e hn
    obtain ⟨m, rfl⟩ : ∃ m, n = m + 1 := ⟨n - 1, by simp at hn; omega⟩
    have e1 : E = E1 := by rw [e, List.append_nil]
    subst e1
    refine br_t ?_ h
    rw [hf]; exact nI_le (Nat.le_refl _) (by omega)
  | cons t E2 ih =>
    intro E1 n e hn
    obtain ⟨m, rfl⟩ : ∃ m, n = m + 1 := ⟨n - 1, by simp at hn; omega⟩
    have hl : E.length = E1.length + (E2.length + 1) := by rw [e]; simp
    have hget : E[E1.length]? = some t := by rw [e]; simp
    have e2 : E = (E1 ++ [t]) ++ E2 := by rw [e]; simp
    have el : nI E1.length + 1 = nI (E1 ++ [t]).length := by rw [nI_1]; simp
    have go := ih (E1 ++ [t]) m e2 (by simp at hn; omega)
    have no : (yo g k (xe_P t) && xm pr g t) = false → nI (E1.filter (fun t => yo g k (xe_P t) && xm pr g t)).length + 0 = nI ((E1 ++ [t]).filter (fun t => yo g k (xe_P t) && xm pr g t)).length := by
      intro z
      rw [List.filter_append, List.filter_cons_of_neg (by rw [z]; decide), Int32.add_zero]; simp
    refine br_f ?_ ?_
    · rw [hf]; exact nI_ge (by omega) (by omega)
    · refine xs_isMeeting G hw hget (fun c => br_f (by decide) (And.intro (vp_in_nI (by omega) (by omega)) ?_)) (fun c => br_t rfl (nm_r (no (by rw [xm_f c, Bool.and_false])) (nm_r el go)))
      rw [nI_clamp (by omega)]
      refine ek_if (xb_z (hw.2.2.1 _ t hget) k10) (fun d => nm_r (no (by rw [yo_f (fun z => d ⟨pk, z⟩), Bool.false_and])) (nm_r el go)) (fun d => ?_)
      refine nm_r (e' := nI ((E1 ++ [t]).filter (fun t => yo g k (xe_P t) && xm pr g t)).length) ?_ (nm_r el go)
      have d' : pr k ∧ ge_on (g k) (xe_P t) := Classical.byContradiction d
      rw [nI_1, List.filter_append, List.filter_cons_of_pos (by rw [yo_t.mpr d'.2, xm_t.mpr c]; rfl)]; simp
theorem xs_meet36 {post : Int32 → SX → Prop} {pr : Nat → Prop} {g : Nat → ge_S} (G : sw_G pr g) {E : List xe_T} {j k : Nat} (pj : pr j) (pk : pr k) (hw : xw pr g E f_events a_eventX a_eventY a_eventBottom a_eventSet)
    (h1 : (∃ t, t ∈ E ∧ ge_on (g j) (xe_P t) ∧ ge_on (g k) (xe_P t)) → post 1 (f_present, f_events, f_now, f_active, f_freshCount, f_pointX, f_pointY, f_pointBottom, f_edges, a_fromX, a_fromY, a_toX, a_toY, a_eventX, a_eventY, a_eventBottom, a_eventSet, a_order, a_fresh, a_edgeFrom, a_edgeTo, a_edgeSegment, a_gone, a_groupOf)) (h0 : ¬ (∃ t, t ∈ E ∧ ge_on (g j) (xe_P t) ∧ ge_on (g k) (xe_P t)) → post 0 (f_present, f_events, f_now, f_active, f_freshCount, f_pointX, f_pointY, f_pointBottom, f_edges, a_fromX, a_fromY, a_toX, a_toY, a_eventX, a_eventY, a_eventBottom, a_eventSet, a_order, a_fresh, a_edgeFrom, a_edgeTo, a_edgeSegment, a_gone, a_groupOf)) :
    ∀ (E2 E1 : List xe_T) (n : Nat), E = E1 ++ E2 → E2.length < n → ∀ f : Int32, ((f = 1 ∧ ∃ t, t ∈ E1 ∧ ge_on (g j) (xe_P t) ∧ ge_on (g k) (xe_P t)) ∨ (f = 0 ∧ ¬ ∃ t, t ∈ E1 ∧ ge_on (g j) (xe_P t) ∧ ge_on (g k) (xe_P t))) →
      wX_meet_36 post (((1 : Int32) <<< (nI j &&& 31)) ||| ((1 : Int32) <<< (nI k &&& 31))) f_present f_events f_now f_active f_freshCount f_pointX f_pointY f_pointBottom f_edges a_fromX a_fromY a_toX a_toY a_eventX a_eventY a_eventBottom a_eventSet a_order a_fresh a_edgeFrom a_edgeTo a_edgeSegment a_gone a_groupOf n f (nI E1.length) := by
  have hlen := xv_len G hw.1
  have hf : f_events = nI E.length := hw.1.1
  have j10 := (G.1 j pj).1
  have k10 := (G.1 k pk).1
  intro E2
  induction E2 with
  | nil =>
    intro E1 n e hn f hx
    obtain ⟨m, rfl⟩ : ∃ m, n = m + 1 := ⟨n - 1, by simp at hn; clear hx; omega⟩
    have e1 : E = E1 := by rw [e, List.append_nil]
    subst e1
    refine br_t ?_ ?_
    · rw [hf]; exact nI_le (Nat.le_refl _) (by clear hx; omega)
    · rcases hx with ⟨rfl, z⟩ | ⟨rfl, z⟩
      · exact And.intro rfl (h1 z)
      · exact And.intro rfl (h0 z)
  | cons t E2 ih =>
    intro E1 n e hn f hx
    obtain ⟨m, rfl⟩ : ∃ m, n = m + 1 := ⟨n - 1, by simp at hn; clear hx; omega⟩
    have hl : E.length = E1.length + (E2.length + 1) := by rw [e]; simp
    have hget : E[E1.length]? = some t := by rw [e]; simp
    have e2 : E = (E1 ++ [t]) ++ E2 := by rw [e]; simp
    have el : nI E1.length + 1 = nI (E1 ++ [t]).length := by rw [nI_1]; simp
    have go := ih (E1 ++ [t]) m e2 (by simp at hn; clear hx; omega)
    have vi : vp_in (nI E1.length) 66 := vp_in_nI (by clear hx; omega) (by clear hx; omega)
    have hl66 : E1.length < 2 ^ 31 := by clear hx; omega
    refine br_f ?_ ?_
    · rw [hf]; exact nI_ge (by clear hx; omega) (by clear hx; omega)
    · refine br_c (fun c => And.intro vi ?_) (fun c => nm_r el (go 1 (Or.inl ⟨rfl, ?_⟩)))
      · rw [nI_clamp hl66]
        have hno : ¬ ∃ t, t ∈ E1 ∧ ge_on (g j) (xe_P t) ∧ ge_on (g k) (xe_P t) := by
          rcases hx with ⟨z, _⟩ | ⟨_, z⟩
          · rw [z] at c; exact absurd c (by decide)
          · exact z
        refine ek_if (xb_both (hw.2.2.1 _ t hget) j10 k10) (fun d => nm_r el (go 1 (Or.inl ⟨rfl, t, by simp, d.1.2, d.2.2⟩))) (fun d => nm_r el (go 0 (Or.inr ⟨rfl, ?_⟩)))
        rintro ⟨s, hs, a, b⟩
        rcases List.mem_append.mp hs with z | z
        · exact hno ⟨s, z, a, b⟩
        · rw [List.mem_singleton.mp z] at a b
          exact d ⟨⟨pj, a⟩, ⟨pk, b⟩⟩
      · rcases hx with ⟨_, s, hs, z⟩ | ⟨z, _⟩
        · exact ⟨s, List.mem_append_left _ hs, z⟩
        · exact absurd z c
end
section
variable {f_found : Int32} {a_there a_ends : Nat → Int32} {a_points a_spot : Nat → Int64}
theorem ys_meet {post : Int32 → SY → Prop} {pr : Nat → Prop} {g : Nat → ge_S} (G : sw_G pr g) (hy : yg pr g a_there a_ends) {j k : Nat} (pj : pr j) (pk : pr k)
    (h1 : (∃ p, ge_on (g j) p ∧ ge_on (g k) p) → ∀ sp, post 1 (f_found, a_there, a_ends, a_points, sp)) (h0 : (¬ ∃ p, ge_on (g j) p ∧ ge_on (g k) p) → ∀ sp, post 0 (f_found, a_there, a_ends, a_points, sp)) : wpY_meet post (f_found, a_there, a_ends, a_points, a_spot) (nI j) (nI k) := by
  obtain ⟨j10, oj⟩ := G.1 j pj
  obtain ⟨k10, ok⟩ := G.1 k pk
  unfold wpY_meet
  refine ys_is_t hy j10 pj (br_f (by decide) ?_)
  refine ys_is_t hy k10 pk (br_f (by decide) ?_)
  refine pk_eq j k (fun e => ?_) (fun e => ?_) rfl rfl (by omega) (by omega)
  · subst e
    exact h1 ⟨_, ge_on_fr oj, ge_on_fr oj⟩ a_spot
  · exact ys_common G hy pj pk e (fun p sp' _ a b => br_f (by decide) (h1 ⟨p, a, b⟩ sp')) (fun hno sp' => br_t rfl (h0 hno sp'))
theorem ys_deg8 {post : Int32 → SY → Prop} {pr : Nat → Prop} {g : Nat → ge_S} (G : sw_G pr g) (hy : yg pr g a_there a_ends) {Q : List ge_P} {k : Nat} (pk : pr k) (hf : f_found = nI Q.length) (hQ : Q.length ≤ 45) (hp : ypa a_points Q) (hm : ∀ q, q ∈ Q → sw_mt pr g q)
    (h : ∀ sp, post (nI (Q.filter (yo g k)).length) (f_found, a_there, a_ends, a_points, sp)) :
    ∀ (Q2 Q1 : List ge_P) (n : Nat), Q = Q1 ++ Q2 → Q2.length < n → ∀ sp, wY_degree_8 post (nI k) n (nI (Q1.filter (yo g k)).length) (nI Q1.length) f_found a_there a_ends a_points sp := by
  obtain ⟨k10, ok⟩ := G.1 k pk
  obtain ⟨s, es, rs, qs⟩ := hy.2 k k10
  intro Q2
  induction Q2 with
  | nil =>
    intro Q1 n e hn sp
    obtain ⟨m, rfl⟩ : ∃ m, n = m + 1 := ⟨n - 1, by simp at hn; omega⟩
    have e1 : Q = Q1 := by rw [e, List.append_nil]
    subst e1
    refine br_t ?_ ?_
    · rw [hf]; exact nI_le (Nat.le_refl _) (by omega)
    · unfold wY_degree_51
      exact ys_is_t hy k10 pk (br_f (by decide) (h sp))
  | cons p Q2 ih =>
    intro Q1 n e hn sp
    obtain ⟨m, rfl⟩ : ∃ m, n = m + 1 := ⟨n - 1, by simp at hn; omega⟩
    have hl : Q.length = Q1.length + (Q2.length + 1) := by rw [e]; simp
    have hget : Q[Q1.length]? = some p := by rw [e]; simp
    have e2 : Q = (Q1 ++ [p]) ++ Q2 := by rw [e]; simp
    have el : nI Q1.length + 1 = nI (Q1 ++ [p]).length := by rw [nI_1]; simp
    have go := ih (Q1 ++ [p]) m e2 (by simp at hn; omega)
    obtain ⟨b1, b2⟩ := y_gp (sw_gp G (Or.inr (hm p (List.mem_of_getElem? hget))))
    have eq := y_on_g ok (qs pk) p
    refine br_f ?_ ?_
    · rw [hf]; exact nI_ge (by omega) (by omega)
    · refine ys_is_t hy k10 pk (br_f (by decide) ?_)
      refine ys_goMeet hp hget (by omega) ?_
      intro sp' hsp
      refine ys_has k10 es rs hsp b1 b2 (fun c => br_f (by decide) ?_) (fun c => br_t rfl (nm_r el ?_))
      · refine nm_r (e' := nI ((Q1 ++ [p]).filter (yo g k)).length) ?_ (nm_r el (go sp'))
        rw [nI_1, List.filter_append, List.filter_cons_of_pos (yo_t.mpr (eq.mp c))]; simp
      · have := go sp'
        rw [List.filter_append, List.filter_cons_of_neg (by rw [yo_f (fun z => c (eq.mpr z))]; decide), List.filter_nil, List.append_nil] at this
        exact this
/-- no segment there: the loop ends at once -/
theorem ys_degN {post : Int32 → SY → Prop} {pr : Nat → Prop} {g : Nat → ge_S} (hy : yg pr g a_there a_ends) (x c i : Int32) (hno : ∀ k, k < 10 → x = nI k → ¬ pr k) (h : post (-1) (f_found, a_there, a_ends, a_points, a_spot)) : wY_degree_8 post x 1 c i f_found a_there a_ends a_points a_spot := by
  have fin : wY_degree_51 post x c f_found a_there a_ends a_points a_spot := by
    unfold wY_degree_51
    exact ys_is_any x hy (fun _ => br_t rfl h) (fun k hk e pk => absurd pk (hno k hk e))
  refine br_c (fun _ => fin) (fun _ => ?_)
  exact ys_is_any x hy (fun _ => br_t rfl fin) (fun k hk e pk => absurd pk (hno k hk e))
end
theorem i_vc_degree {k : Nat} {u : SX} {v : SY} (I : i_Rel k u v) (hk : k + 3 ≤ 1536) (v1 : Int32) : wpX_degree (fun r u' => wpY_degree (fun r' v' => r' = r ∧ i_Rel (k + 3) u' v') v v1) u v1 := by
  refine zz_el (P := fun u v => wpX_degree (fun r u' => wpY_degree (fun r' v' => r' = r ∧ i_Rel (k + 3) u' v') v v1) u v1) ?_ I
  clear I u v
  intro f_present f_events f_now f_active f_freshCount f_pointX f_pointY f_pointBottom f_edges a_fromX a_fromY a_toX a_toY a_eventX a_eventY a_eventBottom a_eventSet a_order a_fresh a_edgeFrom a_edgeTo a_edgeSegment a_gone a_groupOf f_found a_there a_ends a_points a_spot pr g hz
  obtain ⟨G, hg, hy⟩ := id hz
  unfold wpX_degree
  refine xs_has_any v1 hg.1 (fun hno => br_t rfl ?_) (fun m hm e pm => br_f (by decide) ?_)
  · unfold wpY_degree
    refine ys_search G hy ?_
    intro Q fd pts sp hf hp hs hmm
    exact ⟨1, ys_degN hy v1 0 0 hno ⟨rfl, zz_in hz⟩⟩
  · subst e
    refine xs_sweep G hg ?_
    intro E fe nw ac fc px py pb eX eY eB eS o fr hw
    refine ⟨E.length + 1, xs_deg18 G pm hw ?_ E [] (E.length + 1) rfl (by omega)⟩
    unfold wpY_degree
    refine ys_search G hy ?_
    intro Q fd pts sp hf hp hs hmm
    have hQ : Q.length ≤ 45 := sw_mt_45 G (hs.imp (fun {a b} h z => by rw [z] at h; exact ge_lt_ir h)) (fun q hq => (hmm q).mp hq)
    refine ⟨Q.length + 1, ys_deg8 G hy pm hf hQ hp (fun q hq => (hmm q).mp hq) ?_ Q [] (Q.length + 1) rfl (by omega) sp⟩
    intro sp'
    refine ⟨?_, zz_in hz⟩
    rw [xw_Q hw hs hmm, ls_deg]
theorem i_vc_meet {k : Nat} {u : SX} {v : SY} (I : i_Rel k u v) (hk : k + 3 ≤ 1536) (v1 : Int32) (v2 : Int32) : wpX_meet (fun r u' => wpY_meet (fun r' v' => r' = r ∧ i_Rel (k + 3) u' v') v v1 v2) u v1 v2 := by
  refine zz_el (P := fun u v => wpX_meet (fun r u' => wpY_meet (fun r' v' => r' = r ∧ i_Rel (k + 3) u' v') v v1 v2) u v1 v2) ?_ I
  clear I u v
  intro f_present f_events f_now f_active f_freshCount f_pointX f_pointY f_pointBottom f_edges a_fromX a_fromY a_toX a_toY a_eventX a_eventY a_eventBottom a_eventSet a_order a_fresh a_edgeFrom a_edgeTo a_edgeSegment a_gone a_groupOf f_found a_there a_ends a_points a_spot pr g hz
  obtain ⟨G, hg, hy⟩ := id hz
  unfold wpX_meet
  refine xs_has_any v1 hg.1 (fun hno => br_t rfl ?_) (fun j hj ej pj => br_f (by decide) ?_)
  · unfold wpY_meet
    exact ys_is_any v1 hy (fun _ => br_t rfl ⟨rfl, zz_in hz⟩) (fun k hk e pk => absurd pk (hno k hk e))
  · refine xs_has_any v2 hg.1 (fun hno => br_t rfl ?_) (fun m hm em pm => br_f (by decide) ?_)
    · unfold wpY_meet
      refine ys_is_any v1 hy (fun _ => br_t rfl ⟨rfl, zz_in hz⟩) (fun _ _ _ _ => br_f (by decide) ?_)
      exact ys_is_any v2 hy (fun _ => br_t rfl ⟨rfl, zz_in hz⟩) (fun k hk e pk => absurd pk (hno k hk e))
    · subst ej; subst em
      refine xs_sweep G hg ?_
      intro E fe nw ac fc px py pb eX eY eB eS o fr hw
      have eqv : (∃ t, t ∈ E ∧ ge_on (g j) (xe_P t) ∧ ge_on (g m) (xe_P t)) ↔ ∃ p, ge_on (g j) p ∧ ge_on (g m) p := by
        constructor
        · rintro ⟨t, _, a, b⟩; exact ⟨_, a, b⟩
        · rintro ⟨p, a, b⟩
          by_cases e : j = m
          · subst e
            obtain ⟨t, ht, et⟩ := List.mem_map.mp ((hw.2.1 (ge_fr (g j))).mpr (Or.inl ⟨j, pj, Or.inl rfl⟩))
            have := ge_on_fr (G.1 j pj).2
            rw [← et] at this
            exact ⟨t, ht, this, this⟩
          · obtain ⟨t, ht, et⟩ := List.mem_map.mp ((hw.2.1 p).mpr (Or.inr ⟨j, m, e, pj, pm, a, b⟩))
            rw [← et] at a b
            exact ⟨t, ht, a, b⟩
      refine nm_e ⟨E.length + 1, xs_meet36 G pj pm hw (fun z => ?_) (fun z => ?_) E [] (E.length + 1) rfl (by omega) 0 (Or.inr ⟨rfl, fun ⟨t, ht, _⟩ => absurd ht (by simp)⟩)⟩
      · exact ys_meet G hy pj pm (fun _ sp => ⟨rfl, zz_in hz⟩) (fun w => absurd (eqv.mp z) w)
      · exact ys_meet G hy pj pm (fun w => absurd (eqv.mpr w) z) (fun _ sp => ⟨rfl, zz_in hz⟩)
end
section
/-! cutAll: the edges between neighbouring events of a segment -/
theorem xn_i8b {k : Nat} (h : k < 128) : vp_nar .byte ((nI k).toInt8.toInt32) = nI k := by rw [xn_i8 k h, xn_b h]
def xo (g : Nat → ge_S) (E : List xe_T) (k e : Nat) : Prop := ∃ t, E[e]? = some t ∧ ge_on (g k) (xe_P t)
/-- b is the event on k next behind a -/
def ed_c (pr : Nat → Prop) (g : Nat → ge_S) (E : List xe_T) (x : Nat × Nat × Nat) : Prop := pr x.2.2 ∧ x.1 < x.2.1 ∧ xo g E x.2.2 x.1 ∧ xo g E x.2.2 x.2.1 ∧ ∀ c, x.1 < c → c < x.2.1 → ¬ xo g E x.2.2 c
def ed_A (D : List (Nat × Nat × Nat)) (eF eT eG : Nat → Int32) : Prop := ∀ d x, D[d]? = some x → eF (2 * d) = nI x.1 ∧ eT (2 * d) = nI x.2.1 ∧ eG (2 * d) = nI x.2.2 ∧ eF (2 * d + 1) = nI x.2.1 ∧ eT (2 * d + 1) = nI x.1 ∧ eG (2 * d + 1) = nI x.2.2
/-- how many pieces a segment has -/
noncomputable def ed_n (g : Nat → ge_S) (E : List xe_T) (k : Nat) : Nat := (E.filter (fun t => yo g k (xe_P t))).length - 1
noncomputable def ed_s (pr : Nat → Prop) (g : Nat → ge_S) (E : List xe_T) : Nat → Nat
  | 0 => 0
  | k + 1 => ed_s pr g E k + cc_b (pr k) * ed_n g E k
theorem ed_on12 {pr : Nat → Prop} {g : Nat → ge_S} (G : sw_G pr g) {E : List xe_T} (hs : (E.map xe_P).Pairwise ge_lt) (hm : ∀ q, q ∈ E.map xe_P → sw_en pr g q ∨ sw_mt pr g q) {k : Nat} (pk : pr k) : (E.filter (fun t => yo g k (xe_P t))).length ≤ 12 := by
  have e : ((E.filter (fun t => yo g k (xe_P t))).map xe_P).length ≤ (ge_fr (g k) :: ge_to (g k) :: (List.range 10).map (fun j => sw_mp g (k, j))).length := by
    refine List.Nodup.length_le_of_subset ?_ ?_
    · exact (hs.sublist (List.Sublist.map xe_P List.filter_sublist)).imp (fun {a b} h z => by rw [z] at h; exact ge_lt_ir h)
    · intro q hq
      obtain ⟨t, ht, rfl⟩ := List.mem_map.mp hq
      obtain ⟨ht1, ht2⟩ := List.mem_filter.mp ht
      have onk := yo_t.mp ht2
      have other : ∀ j, pr j → j ≠ k → ge_on (g j) (xe_P t) → xe_P t ∈ (ge_fr (g k) :: ge_to (g k) :: (List.range 10).map (fun j => sw_mp g (k, j))) := by
        intro j pj hn oj
        refine List.mem_cons_of_mem _ (List.mem_cons_of_mem _ (List.mem_map.mpr ⟨j, List.mem_range.mpr (G.1 j pj).1, ?_⟩))
        have hx : ∃ q, ge_on (g k) q ∧ ge_on (g j) q := ⟨_, onk, oj⟩
        have e : sw_mp g (k, j) = hx.choose := by unfold sw_mp; exact dif_pos hx
        rw [e]
        exact sw_uniq G pk pj (fun z => hn z.symm) hx.choose_spec.1 hx.choose_spec.2 onk oj
      rcases hm _ (List.mem_map.mpr ⟨t, ht1, rfl⟩) with ⟨j, pj, c⟩ | ⟨i, j, hn, pi, pj, oi, oj⟩
      · by_cases e : j = k
        · subst e
          rcases c with c | c
          · rw [c]; exact List.mem_cons_self
          · rw [c]; exact List.mem_cons_of_mem _ List.mem_cons_self
        · refine other j pj e ?_
          rcases c with c | c
          · rw [c]; exact ge_on_fr (G.1 j pj).2
          · rw [c]; exact ge_on_to (G.1 j pj).2
      · by_cases e : i = k
        · exact other j pj (fun z => hn (e.trans z.symm)) oj
        · exact other i pi e oi
  simpa using e
theorem ed_s_le {pr : Nat → Prop} {g : Nat → ge_S} (G : sw_G pr g) {E : List xe_T} (hs : (E.map xe_P).Pairwise ge_lt) (hm : ∀ q, q ∈ E.map xe_P → sw_en pr g q ∨ sw_mt pr g q) : ∀ k, ed_s pr g E k ≤ 11 * k := by
  intro k
  induction k with
  | zero => exact Nat.le_refl 0
  | succ k ih =>
    show ed_s pr g E k + cc_b (pr k) * ed_n g E k ≤ 11 * (k + 1)
    by_cases c : pr k
    · rw [cc_bt c, Nat.one_mul]
      have := ed_on12 G hs hm c
      unfold ed_n
      omega
    · rw [cc_bf c, Nat.zero_mul]; omega
theorem ed_Aadd {D : List (Nat × Nat × Nat)} {eF eT eG : Nat → Int32} (h : ed_A D eF eT eG) (x : Nat × Nat × Nat) : ed_A (D ++ [x]) (upd (upd eF (2 * D.length) (nI x.1)) (2 * D.length + 1) (nI x.2.1)) (upd (upd eT (2 * D.length) (nI x.2.1)) (2 * D.length + 1) (nI x.1)) (upd (upd eG (2 * D.length) (nI x.2.2)) (2 * D.length + 1) (nI x.2.2)) := by
  intro d y hd
  by_cases c : d < D.length
  · rw [List.getElem?_append_left c] at hd
    obtain ⟨h1, h2, h3, h4, h5, h6⟩ := h d y hd
    refine ⟨?_, ?_, ?_, ?_, ?_, ?_⟩ <;> (rw [pk_un (by omega), pk_un (by omega)]; assumption)
  · rw [List.getElem?_append_right (by omega)] at hd
    have h0 := xe_len hd
    have : d = D.length := by simp at h0; omega
    subst this
    rw [Nat.sub_self] at hd
    have e : x = y := by simpa using hd
    subst e
    refine ⟨?_, ?_, ?_, ?_, ?_, ?_⟩
    · rw [pk_un (by omega), pk_us]
    · rw [pk_un (by omega), pk_us]
    · rw [pk_un (by omega), pk_us]
    · rw [pk_us]
    · rw [pk_us]
    · rw [pk_us]
theorem xo_lt {g : Nat → ge_S} {E1 E2 : List xe_T} {k e : Nat} (h : e < E1.length) : xo g (E1 ++ E2) k e ↔ xo g E1 k e := by
  unfold xo
  rw [List.getElem?_append_left h]
theorem xo_len {g : Nat → ge_S} {E : List xe_T} {k e : Nat} (h : xo g E k e) : e < E.length := by
  obtain ⟨t, ht, _⟩ := h
  exact xe_len ht
/-- the last event on k ahead of a place -/
def ed_l (g : Nat → ge_S) (E1 : List xe_T) (k : Nat) (l : Int32) : Prop := (l = -1 ∧ (∀ e, ¬ xo g E1 k e) ∧ (E1.filter (fun t => yo g k (xe_P t))).length = 0) ∨ (∃ a, l = nI a ∧ xo g E1 k a ∧ (∀ e, a < e → ¬ xo g E1 k e) ∧ 1 ≤ (E1.filter (fun t => yo g k (xe_P t))).length)
section
variable {f_present f_events f_now f_active f_freshCount f_pointX f_pointY f_pointBottom f_edges : Int32} {a_fromX a_fromY a_toX a_toY a_eventX a_eventY a_eventBottom a_eventSet a_order a_fresh a_edgeFrom a_edgeTo a_edgeSegment a_gone a_groupOf : Nat → Int32}
theorem xs_addEdge {post : SX → Prop} {D : List (Nat × Nat × Nat)} {x : Nat × Nat × Nat} (hf : f_edges = nI (2 * D.length)) (hl : D.length < 110) (hA : ed_A D a_edgeFrom a_edgeTo a_edgeSegment) (h1 : x.1 < 128) (h2 : x.2.1 < 128) (h3 : x.2.2 < 128)
    (h : ∀ eF eT eG, ed_A (D ++ [x]) eF eT eG → post (f_present, f_events, f_now, f_active, f_freshCount, f_pointX, f_pointY, f_pointBottom, nI (2 * (D ++ [x]).length), a_fromX, a_fromY, a_toX, a_toY, a_eventX, a_eventY, a_eventBottom, a_eventSet, a_order, a_fresh, eF, eT, eG, a_gone, a_groupOf)) : wpX_addEdge post (f_present, f_events, f_now, f_active, f_freshCount, f_pointX, f_pointY, f_pointBottom, f_edges, a_fromX, a_fromY, a_toX, a_toY, a_eventX, a_eventY, a_eventBottom, a_eventSet, a_order, a_fresh, a_edgeFrom, a_edgeTo, a_edgeSegment, a_gone, a_groupOf) (nI x.1) (nI x.2.1) (nI x.2.2) := by
  have v0 : vp_in (nI (2 * D.length)) 220 := vp_in_nI (by omega) (by omega)
  have v1 : vp_in (nI (2 * D.length + 1)) 220 := vp_in_nI (by omega) (by omega)
  have e1 : nI (2 * D.length) + 1 = nI (2 * D.length + 1) := nI_1 _
  have e2 : nI (2 * D.length) + 2 = nI (2 * (D ++ [x]).length) := by show nI (2 * D.length) + nI 2 = _; rw [nI_add]; simp; rfl
  unfold wpX_addEdge
  dsimp only
  rw [hf, e1, e2, nI_clamp (by omega), nI_clamp (by omega), xn_i8b h1, xn_i8b h2, xn_i8b h3]
  refine And.intro v0 (nm_e (And.intro v0 (nm_e (And.intro v0 (nm_e (And.intro v1 (nm_e (And.intro v1 (nm_e (And.intro v1 (nm_e (nm_e ?_))))))))))))
  exact h _ _ _ (ed_Aadd hA x)
theorem xs_cut21 {post : SX → Prop} {J : Int32 → Int32 → Int32 → Int32 → Int32 → Int32 → Int32 → Int32 → Int32 → Int32 → (Nat → Int32) → (Nat → Int32) → (Nat → Int32) → (Nat → Int32) → (Nat → Int32) → (Nat → Int32) → (Nat → Int32) → (Nat → Int32) → (Nat → Int32) → (Nat → Int32) → (Nat → Int32) → (Nat → Int32) → (Nat → Int32) → (Nat → Int32) → (Nat → Int32) → Prop}
    {pr : Nat → Prop} {g : Nat → ge_S} (G : sw_G pr g) (hg : xg pr g f_present a_fromX a_fromY a_toX a_toY) {E : List xe_T} (hw : xw pr g E f_events a_eventX a_eventY a_eventBottom a_eventSet) {k : Nat} (pk : pr k) {S : Nat} (hS : S ≤ 11 * 9)
    (h : ∀ D eF eT eG, ed_A D eF eT eG → D.Nodup → D.length = S + ed_n g E k → (∀ x, x ∈ D ↔ ed_c pr g E x ∧ x.2.2 < k + 1) → J (nI (k + 1)) f_present f_events f_now f_active f_freshCount f_pointX f_pointY f_pointBottom (nI (2 * D.length)) a_fromX a_fromY a_toX a_toY a_eventX a_eventY a_eventBottom a_eventSet a_order a_fresh eF eT eG a_gone a_groupOf) :
    ∀ (E2 E1 : List xe_T) (n : Nat), E = E1 ++ E2 → E2.length < n → ∀ (l : Int32) (D : List (Nat × Nat × Nat)) (eF eT eG : Nat → Int32), ed_l g E1 k l → ed_A D eF eT eG → D.Nodup → D.length = S + ((E1.filter (fun t => yo g k (xe_P t))).length - 1) → (∀ x, x ∈ D ↔ ed_c pr g E x ∧ (x.2.2 < k ∨ (x.2.2 = k ∧ x.2.1 < E1.length))) →
      wX_cutAll_21 post J (nI k) n l (nI E1.length) f_present f_events f_now f_active f_freshCount f_pointX f_pointY f_pointBottom (nI (2 * D.length)) a_fromX a_fromY a_toX a_toY a_eventX a_eventY a_eventBottom a_eventSet a_order a_fresh eF eT eG a_gone a_groupOf := by
  have hlen := xv_len G hw.1
  have hf : f_events = nI E.length := hw.1.1
  have k10 := (G.1 k pk).1
  have c12 := ed_on12 G hw.1.2.2.2.1 hw.1.2.2.2.2 pk
  intro E2
  induction E2 with
  | nil =>
    intro E1 n e hn l D eF eT eG hL hA hN hlD hm
    obtain ⟨m, rfl⟩ : ∃ m, n = m + 1 := ⟨n - 1, by simp at hn; clear hL hm; omega⟩
    have e1 : E = E1 := by rw [e, List.append_nil]
    subst e1
    refine br_t ?_ (nm_r (nI_1 k) (h D eF eT eG hA hN hlD (fun x => (hm x).trans ?_)))
    · rw [hf]; exact nI_le (Nat.le_refl _) (by clear hL hm; omega)
    · constructor
      · rintro ⟨a, b⟩; exact ⟨a, by clear hL hm; omega⟩
      · rintro ⟨a, b⟩
        refine ⟨a, ?_⟩
        have := xo_len a.2.2.2.1
        clear hL hm
        omega
  | cons t E2 ih =>
    intro E1 n e hn l D eF eT eG hL hA hN hlD hm
    obtain ⟨m, rfl⟩ : ∃ m, n = m + 1 := ⟨n - 1, by simp at hn; clear hL hm; omega⟩
    have hl : E.length = E1.length + (E2.length + 1) := by rw [e]; simp
    have hl1 : E1.length < 66 := by clear hL hm; omega
    have hget : E[E1.length]? = some t := by rw [e]; simp
    have e2 : E = (E1 ++ [t]) ++ E2 := by rw [e]; simp
    have el : nI E1.length + 1 = nI (E1 ++ [t]).length := by rw [nI_1]; simp
    have ll : (E1 ++ [t]).length = E1.length + 1 := by simp
    have hlm : E2.length < m := by simp at hn; clear hL hm; omega
    have xoE : xo g E k E1.length ↔ ge_on (g k) (xe_P t) := by
      constructor
      · rintro ⟨s, hs, c⟩
        rw [hget] at hs; injection hs with hs; rw [hs]; exact c
      · exact fun c => ⟨t, hget, c⟩
    refine br_f ?_ ?_
    · rw [hf]; exact nI_ge (by clear hL hm; omega) (by clear hL hm; omega)
    · refine xs_has_t hg.1 k10 pk (br_f (by decide) (And.intro (vp_in_nI hl1 (by decide)) ?_))
      rw [nI_clamp (by clear hL hm; omega)]
      refine ek_if (xb_z (hw.2.2.1 _ t hget) k10) (fun d => nm_r el ?_) (fun d => ?_)
      · have off : ¬ ge_on (g k) (xe_P t) := fun z => d ⟨pk, z⟩
        have fl : (E1 ++ [t]).filter (fun t => yo g k (xe_P t)) = E1.filter (fun t => yo g k (xe_P t)) := by rw [List.filter_append, List.filter_cons_of_neg (by rw [yo_f off]; decide)]; simp
        have xo1 : ∀ c, xo g (E1 ++ [t]) k c → xo g E1 k c := by
          rintro c ⟨s, hs, on⟩
          by_cases lt : c < E1.length
          · rw [List.getElem?_append_left lt] at hs; exact ⟨s, hs, on⟩
          · rw [List.getElem?_append_right (by clear hL hm; omega)] at hs
            have := xe_len hs
            have ec : c - E1.length = 0 := by simp at this; clear hL hm; omega
            rw [ec] at hs
            have : t = s := by simpa using hs
            rw [← this] at on
            exact absurd on off
        have xo2 : ∀ c, xo g E1 k c → xo g (E1 ++ [t]) k c := fun c hc => (xo_lt (xo_len hc)).mpr hc
        refine ih (E1 ++ [t]) m e2 hlm l D eF eT eG ?_ hA hN (by rw [fl]; exact hlD) (fun x => (hm x).trans ?_)
        · rcases hL with ⟨a, b, c⟩ | ⟨a, b, c, f, i⟩
          · exact Or.inl ⟨a, fun e z => b e (xo1 e z), by rw [fl]; exact c⟩
          · exact Or.inr ⟨a, b, xo2 a c, fun e h1 h2 => f e h1 (xo1 e h2), by rw [fl]; exact i⟩
        · rw [ll]
          constructor
          · rintro ⟨a, b⟩; exact ⟨a, by clear hL hm; omega⟩
          · rintro ⟨a, b⟩
            refine ⟨a, ?_⟩
            by_cases c : x.2.2 = k ∧ x.2.1 = E1.length
            · exfalso
              have := a.2.2.2.1
              rw [c.1, c.2, xoE] at this
              exact off this
            · clear hL hm; omega
      · have on : ge_on (g k) (xe_P t) := (Classical.byContradiction d : pr k ∧ ge_on (g k) (xe_P t)).2
        have fl : ((E1 ++ [t]).filter (fun t => yo g k (xe_P t))).length = (E1.filter (fun t => yo g k (xe_P t))).length + 1 := by rw [List.filter_append, List.filter_cons_of_pos (p := fun t => yo g k (xe_P t)) (yo_t.mpr on)]; simp
        have xn : xo g (E1 ++ [t]) k E1.length := ⟨t, by simp, on⟩
        have xz : ∀ c, E1.length < c → ¬ xo g (E1 ++ [t]) k c := fun c h1 h2 => by have := xo_len h2; rw [ll] at this; clear hL hm; omega
        have Lnew : ed_l g (E1 ++ [t]) k (nI E1.length) := Or.inr ⟨E1.length, rfl, xn, xz, by rw [fl]; clear hL hm; omega⟩
        rcases hL with ⟨a, b, c⟩ | ⟨a, b, c, f, i⟩
        · subst a
          refine br_t (by decide) (nm_r el ?_)
          refine ih (E1 ++ [t]) m e2 hlm _ D eF eT eG Lnew hA hN (by rw [fl, c]; rw [c] at hlD; exact hlD) (fun x => (hm x).trans ?_)
          rw [ll]
          constructor
          · rintro ⟨a, b⟩; exact ⟨a, by clear hm; omega⟩
          · rintro ⟨a, b'⟩
            refine ⟨a, ?_⟩
            by_cases c' : x.2.2 = k ∧ x.2.1 = E1.length
            · exfalso
              have h1 := a.2.2.1
              have h2 := a.2.1
              rw [c'.1] at h1
              rw [c'.2] at h2
              rw [e] at h1
              exact b _ ((xo_lt h2).mp h1)
            · clear hm; omega
        · subst b
          have a66 := xo_len c
          refine br_f (nI_pos (by clear hm; omega)) ?_
          have hle : (E.filter (fun t => yo g k (xe_P t))).length = ((E1 ++ [t]).filter (fun t => yo g k (xe_P t))).length + (E2.filter (fun t => yo g k (xe_P t))).length := by rw [e2, List.filter_append, List.length_append]
          have hD110 : D.length < 110 := by clear hm; omega
          have newc : ed_c pr g E (a, E1.length, k) := by
            refine ⟨pk, a66, ?_, xoE.mpr on, ?_⟩
            · rw [e]; exact (xo_lt a66).mpr c
            · intro c' h1 h2 h3
              rw [e] at h3
              exact f c' h1 ((xo_lt h2).mp h3)
          have hnin : (a, E1.length, k) ∉ D := by
            intro z
            have := ((hm _).mp z).2
            dsimp only at this
            clear hm
            omega
          refine xs_addEdge (x := (a, E1.length, k)) rfl hD110 hA (by show a < 128; clear hm; omega) (by show E1.length < 128; clear hm; omega) (by show k < 128; clear hm; omega) ?_
          intro eF' eT' eG' hA'
          refine nm_r el (ih (E1 ++ [t]) m e2 hlm _ (D ++ [(a, E1.length, k)]) eF' eT' eG' Lnew hA' ?_ ?_ ?_)
          · refine List.nodup_append.mpr ⟨hN, by simp, ?_⟩
            intro x hx y hy z
            rw [List.mem_singleton.mp hy] at z
            exact hnin (z ▸ hx)
          · rw [fl, List.length_append, List.length_singleton]; clear hm; omega
          · intro x
            rw [List.mem_append, List.mem_singleton, hm x, ll]
            constructor
            · rintro (⟨h1, h2⟩ | h1)
              · exact ⟨h1, by clear hm; omega⟩
              · rw [h1]; exact ⟨newc, Or.inr ⟨rfl, by show E1.length < E1.length + 1; omega⟩⟩
            · rintro ⟨h1, h2⟩
              by_cases c' : x.2.2 = k ∧ x.2.1 = E1.length
              · right
                obtain ⟨x1, x2, x3⟩ := x
                obtain ⟨c1, c2⟩ := c'
                dsimp only at c1 c2
                subst c1; subst c2
                have g1 : x1 < E1.length := h1.2.1
                have g2 : xo g E x3 x1 := h1.2.2.1
                have g3 : ∀ c, x1 < c → c < E1.length → ¬ xo g E x3 c := h1.2.2.2.2
                have : x1 = a := by
                  rcases Nat.lt_trichotomy x1 a with q | q | q
                  · exact absurd (by rw [e]; exact (xo_lt a66).mpr c) (g3 a q a66)
                  · exact q
                  · exfalso
                    rw [e] at g2
                    exact f x1 q ((xo_lt g1).mp g2)
                rw [this]
              · exact Or.inl ⟨h1, by clear hm; omega⟩
end
end
section
/-! cutAll, pieces -/
section
variable {f_present f_events f_now f_active f_freshCount f_pointX f_pointY f_pointBottom f_edges : Int32} {a_fromX a_fromY a_toX a_toY a_eventX a_eventY a_eventBottom a_eventSet a_order a_fresh a_edgeFrom a_edgeTo a_edgeSegment a_gone a_groupOf : Nat → Int32}
theorem xs_cut11 {post : SX → Prop} {pr : Nat → Prop} {g : Nat → ge_S} (G : sw_G pr g) (hg : xg pr g f_present a_fromX a_fromY a_toX a_toY) {E : List xe_T} (hw : xw pr g E f_events a_eventX a_eventY a_eventBottom a_eventSet)
    (h : ∀ D eF eT eG, ed_A D eF eT eG → D.Nodup → D.length = ed_s pr g E 10 → (∀ x, x ∈ D ↔ ed_c pr g E x) → post (f_present, f_events, f_now, f_active, f_freshCount, f_pointX, f_pointY, f_pointBottom, nI (2 * D.length), a_fromX, a_fromY, a_toX, a_toY, a_eventX, a_eventY, a_eventBottom, a_eventSet, a_order, a_fresh, eF, eT, eG, a_gone, a_groupOf)) :
    ∀ (n m : Nat), 10 - m < n → m ≤ 10 → ∀ (D : List (Nat × Nat × Nat)) (eF eT eG : Nat → Int32), ed_A D eF eT eG → D.Nodup → D.length = ed_s pr g E m → (∀ x, x ∈ D ↔ ed_c pr g E x ∧ x.2.2 < m) →
      wX_cutAll_11 post n (nI m) f_present f_events f_now f_active f_freshCount f_pointX f_pointY f_pointBottom (nI (2 * D.length)) a_fromX a_fromY a_toX a_toY a_eventX a_eventY a_eventBottom a_eventSet a_order a_fresh eF eT eG a_gone a_groupOf := by
  have hlen := xv_len G hw.1
  intro n
  induction n with
  | zero => intro m hm; omega
  | succ n ih =>
    intro m hm hm2 D eF eT eG hA hN hl hmem
    refine pk_le 10 m (fun hle => ?_) (fun hlt => ?_) rfl rfl (by omega) (by omega)
    · have : m = 10 := by omega
      subst this
      refine h D eF eT eG hA hN hl (fun x => (hmem x).trans ⟨fun z => z.1, fun z => ⟨z, (G.1 _ z.1).1⟩⟩)
    · by_cases pm : pr m
      · refine ⟨E.length + 1, ?_⟩
        have hS := ed_s_le G hw.1.2.2.2.1 hw.1.2.2.2.2 m
        have es : ed_s pr g E (m + 1) = ed_s pr g E m + ed_n g E m := by
          show ed_s pr g E m + cc_b (pr m) * ed_n g E m = _
          rw [cc_bt pm, Nat.one_mul]
        refine xs_cut21 G hg hw pm (S := ed_s pr g E m) (by omega) ?_ E [] (E.length + 1) rfl (by omega) (-1) D eF eT eG (Or.inl ⟨rfl, fun e z => by have := xo_len z; simp at this, rfl⟩) hA hN (by simpa using hl) (fun x => (hmem x).trans ?_)
        · intro D' eF' eT' eG' hA' hN' hl' hm'
          exact ih (m + 1) (by omega) (by omega) D' eF' eT' eG' hA' hN' (by rw [es]; exact hl') hm'
        · constructor
          · rintro ⟨a, b⟩; exact ⟨a, Or.inl b⟩
          · rintro ⟨a, b | ⟨_, b⟩⟩
            · exact ⟨a, b⟩
            · simp at b
      · have es : ed_s pr g E (m + 1) = ed_s pr g E m := by
          show ed_s pr g E m + cc_b (pr m) * ed_n g E m = _
          rw [cc_bf pm, Nat.zero_mul, Nat.add_zero]
        have go : wX_cutAll_11 post n (nI (m + 1)) f_present f_events f_now f_active f_freshCount f_pointX f_pointY f_pointBottom (nI (2 * D.length)) a_fromX a_fromY a_toX a_toY a_eventX a_eventY a_eventBottom a_eventSet a_order a_fresh eF eT eG a_gone a_groupOf := by
          refine ih (m + 1) (by omega) (by omega) D eF eT eG hA hN (by rw [es]; exact hl) (fun x => (hmem x).trans ?_)
          constructor
          · rintro ⟨a, b⟩; exact ⟨a, by omega⟩
          · rintro ⟨a, b⟩
            refine ⟨a, ?_⟩
            have : x.2.2 ≠ m := fun z => pm (z ▸ a.1)
            omega
        refine ⟨1, br_c (fun _ => nm_r (nI_1 m) go) (fun _ => ?_)⟩
        exact xs_has_f hg.1 hlt pm (br_t rfl (nm_r (nI_1 m) go))
theorem xs_cutAll {post : SX → Prop} {pr : Nat → Prop} {g : Nat → ge_S} (G : sw_G pr g) (hg : xg pr g f_present a_fromX a_fromY a_toX a_toY)
    (h : ∀ E fe nw ac fc px py pb eX eY eB eS o fr, xw pr g E fe eX eY eB eS → ∀ D eF eT eG, ed_A D eF eT eG → D.Nodup → D.length = ed_s pr g E 10 → (∀ x, x ∈ D ↔ ed_c pr g E x) → post (f_present, fe, nw, ac, fc, px, py, pb, nI (2 * D.length), a_fromX, a_fromY, a_toX, a_toY, eX, eY, eB, eS, o, fr, eF, eT, eG, a_gone, a_groupOf)) :
    wpX_cutAll post (f_present, f_events, f_now, f_active, f_freshCount, f_pointX, f_pointY, f_pointBottom, f_edges, a_fromX, a_fromY, a_toX, a_toY, a_eventX, a_eventY, a_eventBottom, a_eventSet, a_order, a_fresh, a_edgeFrom, a_edgeTo, a_edgeSegment, a_gone, a_groupOf) := by
  unfold wpX_cutAll
  refine xs_sweep G hg ?_
  intro E fe nw ac fc px py pb eX eY eB eS o fr hw
  refine ⟨11, xs_cut11 G hg hw (h E _ _ _ _ _ _ _ _ _ _ _ _ _ hw) 11 0 (by omega) (by omega) [] _ _ _ (fun d x e => absurd e (by simp)) List.nodup_nil rfl (fun x => ⟨fun z => absurd z (by simp), fun z => absurd z.2 (by omega)⟩)⟩
end
theorem y_int (q : Rat) (e : Int) : (q.den = 1 ∧ q.num = e) ↔ q = (e : Rat) := by
  constructor
  · rintro ⟨a, b⟩
    exact Rat.ext (by rw [b]; rfl) (by rw [a]; rfl)
  · intro h
    rw [h]
    exact ⟨rfl, rfl⟩
noncomputable def yq (g : Nat → ge_S) (k : Nat) (p : ge_P) : Bool := @decide (ge_on (g k) p ∧ p ≠ ge_fr (g k) ∧ p ≠ ge_to (g k)) (Classical.propDecidable _)
theorem yq_t {g : Nat → ge_S} {k : Nat} {p : ge_P} : yq g k p = true ↔ (ge_on (g k) p ∧ p ≠ ge_fr (g k) ∧ p ≠ ge_to (g k)) := by unfold yq; exact @decide_eq_true_iff _ (Classical.propDecidable _)
theorem yq_f {g : Nat → ge_S} {k : Nat} {p : ge_P} (h : ¬ (ge_on (g k) p ∧ p ≠ ge_fr (g k) ∧ p ≠ ge_to (g k))) : yq g k p = false := by
  cases c : yq g k p
  · rfl
  · exact absurd (yq_t.mp c) h
noncomputable def yp_s (pr : Nat → Prop) (g : Nat → ge_S) (Q : List ge_P) : Nat → Nat
  | 0 => 0
  | k + 1 => yp_s pr g Q k + cc_b (pr k) * (1 + (Q.filter (yq g k)).length)
/-- a segment's pieces: one, and one more for each meeting point inside it -/
theorem ed_count {pr : Nat → Prop} {g : Nat → ge_S} (G : sw_G pr g) {E : List xe_T} {fe : Int32} {eX eY eB eS : Nat → Int32} (hw : xw pr g E fe eX eY eB eS) {Q : List ge_P} (hs : Q.Pairwise ge_lt) (hm : ∀ q, q ∈ Q ↔ sw_mt pr g q) {k : Nat} (pk : pr k) : ed_n g E k = 1 + (Q.filter (yq g k)).length := by
  have ok := (G.1 k pk).2
  obtain ⟨hv, h2, h3, h4⟩ := hw
  obtain ⟨v1, v2, v3, v4, v5⟩ := hv
  have nd : ∀ {L : List ge_P}, L.Pairwise ge_lt → L.Nodup := fun h => h.imp (fun {a b} h z => by rw [z] at h; exact ge_lt_ir h)
  have nL : ((E.filter (fun t => yo g k (xe_P t))).map xe_P).Nodup := nd (v4.sublist (List.Sublist.map xe_P List.filter_sublist))
  have mL : ∀ q, q ∈ (E.filter (fun t => yo g k (xe_P t))).map xe_P ↔ (sw_en pr g q ∨ sw_mt pr g q) ∧ ge_on (g k) q := by
    intro q
    constructor
    · intro z
      obtain ⟨t, ht, rfl⟩ := List.mem_map.mp z
      obtain ⟨a, b⟩ := List.mem_filter.mp ht
      exact ⟨(h2 _).mp (List.mem_map.mpr ⟨t, a, rfl⟩), yo_t.mp b⟩
    · rintro ⟨a, b⟩
      obtain ⟨t, ht, rfl⟩ := List.mem_map.mp ((h2 q).mpr a)
      exact List.mem_map.mpr ⟨t, List.mem_filter.mpr ⟨ht, yo_t.mpr b⟩, rfl⟩
  have mM : ∀ q, q ∈ Q.filter (yq g k) ↔ sw_mt pr g q ∧ ge_on (g k) q ∧ q ≠ ge_fr (g k) ∧ q ≠ ge_to (g k) := by
    intro q
    rw [List.mem_filter, hm q, yq_t]
  have nM : (ge_fr (g k) :: ge_to (g k) :: Q.filter (yq g k)).Nodup := by
    refine List.nodup_cons.mpr ⟨?_, List.nodup_cons.mpr ⟨?_, nd (hs.sublist List.filter_sublist)⟩⟩
    · intro z
      rcases List.mem_cons.mp z with z | z
      · exact ge_fr_to ok z
      · exact ((mM _).mp z).2.2.1 rfl
    · intro z
      exact ((mM _).mp z).2.2.2 rfl
  have sub1 : (E.filter (fun t => yo g k (xe_P t))).map xe_P ⊆ ge_fr (g k) :: ge_to (g k) :: Q.filter (yq g k) := by
    intro q hq
    obtain ⟨a, b⟩ := (mL q).mp hq
    by_cases c : q = ge_fr (g k)
    · rw [c]; exact List.mem_cons_self
    · by_cases d : q = ge_to (g k)
      · rw [d]; exact List.mem_cons_of_mem _ List.mem_cons_self
      · refine List.mem_cons_of_mem _ (List.mem_cons_of_mem _ ((mM q).mpr ⟨?_, b, c, d⟩))
        rcases a with ⟨j, pj, e⟩ | a
        · refine ⟨j, k, ?_, pj, pk, ?_, b⟩
          · intro z
            rw [z] at e
            rcases e with e | e
            · exact c e
            · exact d e
          · rcases e with e | e
            · rw [e]; exact ge_on_fr (G.1 j pj).2
            · rw [e]; exact ge_on_to (G.1 j pj).2
        · exact a
  have sub2 : ge_fr (g k) :: ge_to (g k) :: Q.filter (yq g k) ⊆ (E.filter (fun t => yo g k (xe_P t))).map xe_P := by
    intro q hq
    rcases List.mem_cons.mp hq with rfl | hq
    · exact (mL _).mpr ⟨Or.inl ⟨k, pk, Or.inl rfl⟩, ge_on_fr ok⟩
    · rcases List.mem_cons.mp hq with rfl | hq
      · exact (mL _).mpr ⟨Or.inl ⟨k, pk, Or.inr rfl⟩, ge_on_to ok⟩
      · obtain ⟨a, b, _⟩ := (mM q).mp hq
        exact (mL q).mpr ⟨Or.inr a, b⟩
  have l1 := List.Nodup.length_le_of_subset nL sub1
  have l2 := List.Nodup.length_le_of_subset nM sub2
  rw [List.length_map] at l1 l2
  rw [List.length_cons, List.length_cons] at l1 l2
  unfold ed_n
  omega
theorem ed_sum {pr : Nat → Prop} {g : Nat → ge_S} (G : sw_G pr g) {E : List xe_T} {fe : Int32} {eX eY eB eS : Nat → Int32} (hw : xw pr g E fe eX eY eB eS) {Q : List ge_P} (hs : Q.Pairwise ge_lt) (hm : ∀ q, q ∈ Q ↔ sw_mt pr g q) : ∀ k, ed_s pr g E k = yp_s pr g Q k := by
  intro k
  induction k with
  | zero => rfl
  | succ k ih =>
    show ed_s pr g E k + cc_b (pr k) * ed_n g E k = yp_s pr g Q k + cc_b (pr k) * (1 + (Q.filter (yq g k)).length)
    by_cases c : pr k
    · rw [ih, ed_count G hw hs hm c]
    · rw [ih, cc_bf c, Nat.zero_mul, Nat.zero_mul]
section
variable {f_found : Int32} {a_there a_ends : Nat → Int32} {a_points a_spot : Nat → Int64}
theorem ys_isEnd {post : Int32 → Prop} {k : Nat} {s : ge_S} {p : ge_P} (hk : k < 10) (hs : ye a_ends k s) (hr : yr s) (hp : ysp a_spot p) (b1 : ybd p.1) (b2 : ybd p.2) (h1 : (p = ge_fr s ∨ p = ge_to s) → post 1) (h0 : ¬ (p = ge_fr s ∨ p = ge_to s) → post 0) : wpY_isEnd post (f_found, a_there, a_ends, a_points, a_spot) (nI k) := by
  obtain ⟨s1, s2, s3, s4, s5, s6, s7, s8⟩ := id hr
  obtain ⟨p0, p1, p2, p3⟩ := id hp
  obtain ⟨n1, n2, n3⟩ := b1
  obtain ⟨n4, n5, n6⟩ := b2
  have pe : ∀ x y : Int, p = ((x : Rat), (y : Rat)) ↔ ((p.1.den = 1 ∧ p.1.num = x) ∧ (p.2.den = 1 ∧ p.2.num = y)) := by
    intro x y
    rw [y_int, y_int]
    exact ⟨fun h => by rw [h]; exact ⟨rfl, rfl⟩, fun h => Prod.ext h.1 h.2⟩
  have d1 : a_spot 1 = 1 ↔ p.1.den = 1 := by
    rw [p1, zL_1', zL_eq ⟨by omega, by omega⟩ ⟨by omega, by omega⟩]; omega
  have d3 : a_spot 3 = 1 ↔ p.2.den = 1 := by
    rw [p3, zL_1', zL_eq ⟨by omega, by omega⟩ ⟨by omega, by omega⟩]; omega
  have d0 : ∀ e : Int, 0 ≤ e → e ≤ 20 → (a_spot 0 = (zI e).toInt64 ↔ p.1.num = e) := by
    intro e e1 e2
    rw [p0, zI_l ⟨by omega, by omega⟩, zL_eq ⟨by omega, by omega⟩ ⟨by omega, by omega⟩]
  have d2 : ∀ e : Int, 0 ≤ e → e ≤ 20 → (a_spot 2 = (zI e).toInt64 ↔ p.2.num = e) := by
    intro e e1 e2
    rw [p2, zI_l ⟨by omega, by omega⟩, zL_eq ⟨by omega, by omega⟩ ⟨by omega, by omega⟩]
  have second : ¬ p = ge_fr s → wY_isEnd_60 post (nI k) f_found a_there a_ends a_points a_spot := by
    intro hn
    have no : ¬ p = ge_to s → post 0 := fun z => h0 (fun w => w.elim hn z)
    have et := pe s.2.2.1 s.2.2.2
    refine br_t rfl ?_
    refine ek_if d1 (fun c1 => ?_) (fun c1 => no (fun z => c1 (et.mp z).1.1))
    refine ek_if d3 (fun c3 => ?_) (fun c3 => no (fun z => c3 (et.mp z).2.1))
    refine ys_e2 hk hs ?_
    refine ek_if (d0 _ s5 s6) (fun c0 => ?_) (fun c0 => no (fun z => c0 (et.mp z).1.2))
    refine ys_e3 hk hs ?_
    exact ek_if (d2 _ s7 s8) (fun c2 => h1 (Or.inr (et.mpr ⟨⟨c1, c0⟩, ⟨c3, c2⟩⟩))) (fun c2 => no (fun z => c2 (et.mp z).2.2))
  have ef := pe s.1 s.2.1
  refine ek_if d1 (fun c1 => ?_) (fun c1 => second (fun z => c1 (ef.mp z).1.1))
  refine ek_if d3 (fun c3 => ?_) (fun c3 => second (fun z => c3 (ef.mp z).2.1))
  refine ys_e0 hk hs ?_
  refine ek_if (d0 _ s1 s2) (fun c0 => ?_) (fun c0 => second (fun z => c0 (ef.mp z).1.2))
  refine ys_e1 hk hs ?_
  exact ek_if (d2 _ s3 s4) (fun c2 => br_f (by decide) (h1 (Or.inl (ef.mpr ⟨⟨c1, c0⟩, ⟨c3, c2⟩⟩)))) (fun c2 => second (fun z => c2 (ef.mp z).2.2))
theorem ys_pie33 {post : Int32 → SY → Prop} {J : Int32 → Int32 → Int32 → (Nat → Int32) → (Nat → Int32) → (Nat → Int64) → (Nat → Int64) → Prop} {pr : Nat → Prop} {g : Nat → ge_S} (G : sw_G pr g) (hy : yg pr g a_there a_ends) {Q : List ge_P} {k : Nat} (pk : pr k) (hf : f_found = nI Q.length) (hQ : Q.length ≤ 45) (hp : ypa a_points Q) (hm : ∀ q, q ∈ Q → sw_mt pr g q) {c : Nat}
    (h : ∀ sp, J (nI (c + (Q.filter (yq g k)).length)) (nI (k + 1)) f_found a_there a_ends a_points sp) :
    ∀ (Q2 Q1 : List ge_P) (n : Nat), Q = Q1 ++ Q2 → Q2.length < n → ∀ sp, wY_pieces_33 post J (nI k) n (nI (c + (Q1.filter (yq g k)).length)) (nI Q1.length) f_found a_there a_ends a_points sp := by
  obtain ⟨k10, ok⟩ := G.1 k pk
  obtain ⟨s, es, rs, qs⟩ := hy.2 k k10
  have qs := qs pk
  intro Q2
  induction Q2 with
  | nil =>
    intro Q1 n e hn sp
    obtain ⟨m, rfl⟩ : ∃ m, n = m + 1 := ⟨n - 1, by simp at hn; omega⟩
    have e1 : Q = Q1 := by rw [e, List.append_nil]
    subst e1
    refine br_t ?_ (nm_r (nI_1 k) (h sp))
    rw [hf]; exact nI_le (Nat.le_refl _) (by omega)
  | cons p Q2 ih =>
    intro Q1 n e hn sp
    obtain ⟨m, rfl⟩ : ∃ m, n = m + 1 := ⟨n - 1, by simp at hn; omega⟩
    have hl : Q.length = Q1.length + (Q2.length + 1) := by rw [e]; simp
    have hget : Q[Q1.length]? = some p := by rw [e]; simp
    have e2 : Q = (Q1 ++ [p]) ++ Q2 := by rw [e]; simp
    have el : nI Q1.length + 1 = nI (Q1 ++ [p]).length := by rw [nI_1]; simp
    have go := ih (Q1 ++ [p]) m e2 (by simp at hn; omega)
    obtain ⟨b1, b2⟩ := y_gp (sw_gp G (Or.inr (hm p (List.mem_of_getElem? hget))))
    have eq := y_on_g ok qs p
    have eend : (p = ge_fr s ∨ p = ge_to s) ↔ (p = ge_fr (g k) ∨ p = ge_to (g k)) := by
      rcases qs with z | z
      · rw [z]
      · rw [z]; exact ⟨Or.symm, Or.symm⟩
    have skip : ∀ sp, ¬ (ge_on (g k) p ∧ p ≠ ge_fr (g k) ∧ p ≠ ge_to (g k)) → wY_pieces_33 post J (nI k) m (nI (c + (Q1.filter (yq g k)).length)) (nI (Q1 ++ [p]).length) f_found a_there a_ends a_points sp := by
      intro sp hc
      have := go sp
      rw [List.filter_append, List.filter_cons_of_neg (by rw [yq_f hc]; decide), List.filter_nil, List.append_nil] at this
      exact this
    refine br_f ?_ (And.intro (vp_in_nI k10 (by omega)) ?_)
    · rw [hf]; exact nI_ge (by omega) (by omega)
    · rw [nI_clamp (by omega)]
      refine br_f (fun z => (hy.1 k k10).mp z pk) ?_
      refine ys_goMeet hp hget (by omega) ?_
      intro sp' hsp
      refine ys_has k10 es rs hsp b1 b2 (fun c1 => br_f (by decide) ?_) (fun c1 => br_t rfl (nm_r el (skip sp' (fun z => c1 (eq.mpr z.1)))))
      refine ys_isEnd k10 es rs hsp b1 b2 (fun c2 => br_f (by decide) (nm_r el (skip sp' (fun z => (eend.mp c2).elim z.2.1 z.2.2)))) (fun c2 => br_t rfl ?_)
      refine nm_r (e' := nI (c + ((Q1 ++ [p]).filter (yq g k)).length)) ?_ (nm_r el (go sp'))
      have hc : ge_on (g k) p ∧ p ≠ ge_fr (g k) ∧ p ≠ ge_to (g k) := ⟨eq.mp c1, fun z => c2 (eend.mpr (Or.inl z)), fun z => c2 (eend.mpr (Or.inr z))⟩
      rw [nI_1, List.filter_append, List.filter_cons_of_pos (yq_t.mpr hc)]; simp; rfl
theorem ys_pieces {post : Int32 → SY → Prop} {pr : Nat → Prop} {g : Nat → ge_S} (G : sw_G pr g) (hy : yg pr g a_there a_ends)
    (h : ∀ (Q : List ge_P) fd pts sp, Q.Pairwise ge_lt → (∀ q, q ∈ Q ↔ sw_mt pr g q) → post (nI (yp_s pr g Q 10)) (fd, a_there, a_ends, pts, sp)) : wpY_pieces post (f_found, a_there, a_ends, a_points, a_spot) := by
  unfold wpY_pieces
  refine ys_search G hy ?_
  intro Q fd pts sp hf hp hs hm
  have hQ : Q.length ≤ 45 := sw_mt_45 G (hs.imp (fun {a b} h z => by rw [z] at h; exact ge_lt_ir h)) (fun q hq => (hm q).mp hq)
  have loop : ∀ (n m : Nat), 10 - m < n → m ≤ 10 → ∀ sp : Nat → Int64, wY_pieces_8 post n (nI (yp_s pr g Q m)) (nI m) fd a_there a_ends pts sp := by
    intro n
    induction n with
    | zero => intro m hm; omega
    | succ n ih =>
      intro m hm1 hm2 sp
      refine pk_le 10 m (fun hle => ?_) (fun hlt => ?_) rfl rfl (by omega) (by omega)
      · have : m = 10 := by omega
        subst this
        exact h Q _ _ _ hs hm
      · refine And.intro (vp_in_nI hlt (by omega)) ?_
        rw [nI_clamp (by omega)]
        refine ek_if (hy.1 m hlt) (fun np => ⟨1, ?_⟩) (fun hp' => ?_)
        · have es : yp_s pr g Q (m + 1) = yp_s pr g Q m := by
            show yp_s pr g Q m + cc_b (pr m) * _ = _
            rw [cc_bf np, Nat.zero_mul, Nat.add_zero]
          have go := ih (m + 1) (by omega) (by omega) sp
          rw [es] at go
          refine br_c (fun _ => nm_r (nI_1 m) go) (fun _ => And.intro (vp_in_nI hlt (by omega)) (br_t ?_ (nm_r (nI_1 m) go)))
          rw [nI_clamp (by omega)]
          exact (hy.1 m hlt).mpr np
        · have pm : pr m := Classical.byContradiction hp'
          have es : yp_s pr g Q (m + 1) = (yp_s pr g Q m + 1) + (Q.filter (yq g m)).length := by
            show yp_s pr g Q m + cc_b (pr m) * _ = _
            rw [cc_bt pm, Nat.one_mul]; omega
          refine nm_r (nI_1 _) ⟨Q.length + 1, ys_pie33 (c := yp_s pr g Q m + 1) G hy pm hf hQ hp (fun q hq => (hm q).mp hq) ?_ Q [] (Q.length + 1) rfl (by omega) sp⟩
          intro sp'
          have go := ih (m + 1) (by omega) (by omega) sp'
          rw [es] at go
          exact go
  exact ⟨11, loop 11 0 (by omega) (by omega) sp⟩
end
theorem i_vc_pieces {k : Nat} {u : SX} {v : SY} (I : i_Rel k u v) (hk : k + 3 ≤ 1536) : wpX_pieces (fun r u' => wpY_pieces (fun r' v' => r' = r ∧ i_Rel (k + 3) u' v') v) u := by
  refine zz_el (P := fun u v => wpX_pieces (fun r u' => wpY_pieces (fun r' v' => r' = r ∧ i_Rel (k + 3) u' v') v) u) ?_ I
  clear I u v
  intro f_present f_events f_now f_active f_freshCount f_pointX f_pointY f_pointBottom f_edges a_fromX a_fromY a_toX a_toY a_eventX a_eventY a_eventBottom a_eventSet a_order a_fresh a_edgeFrom a_edgeTo a_edgeSegment a_gone a_groupOf f_found a_there a_ends a_points a_spot pr g hz
  obtain ⟨G, hg, hy⟩ := id hz
  unfold wpX_pieces
  refine xs_cutAll G hg ?_
  intro E fe nw ac fc px py pb eX eY eB eS o fr hw D eF eT eG hA hN hl hm
  have hS := ed_s_le G hw.1.2.2.2.1 hw.1.2.2.2.2 10
  refine And.intro (by decide) ?_
  have e2 : nI (2 * D.length) / 2 = nI D.length := by
    have := pk_div (a := 2 * D.length) (d := 2) (by omega) (by omega) (by omega)
    rw [show 2 * D.length / 2 = D.length by omega] at this
    exact this
  dsimp only
  rw [e2]
  refine ys_pieces G hy ?_
  intro Q fd pts sp hs hmm
  refine ⟨?_, zz_in hz⟩
  rw [hl, ed_sum G hw hs hmm]
end
section
/-! groups, of the component: a forest of roots -/
def gr_lk (pr : Nat → Prop) (g : Nat → ge_S) (j k : Nat) : Prop := pr j ∧ pr k ∧ ∃ p, ge_on (g j) p ∧ ge_on (g k) p
def gr_F (lk : Nat → Nat → Prop) (par rt dp : Nat → Nat) (gO : Nat → Int32) : Prop :=
  (∀ x, x < 10 → gO x = nI (par x) ∧ par x < 10 ∧ rt x < 10 ∧ rt (par x) = rt x ∧ par (rt x) = rt x ∧ (par x ≠ x → dp (par x) < dp x) ∧ (par x = x → rt x = x)) ∧ (∀ x y, x < 10 → y < 10 → (rt x = rt y ↔ cx_R lk x y))
def gr_I (pr : Nat → Prop) (g : Nat → ge_S) (E : List xe_T) (e : Nat) (lk : Nat → Nat → Prop) (par rt dp : Nat → Nat) (gO : Nat → Int32) : Prop :=
  gr_F lk par rt dp gO ∧ (∀ a b, lk a b → pr a ∧ pr b) ∧ cc_n (fun x => pr x ∧ par x = x) 10 = cx_n pr (cx_R lk) 10 ∧ (∀ a b, lk a b → cx_R (gr_lk pr g) a b) ∧
  (∀ e', e' < e → ∀ j k, pr j → xo g E j e' → pr k → xo g E k e' → cx_R lk j k)
theorem gr_rt {lk : Nat → Nat → Prop} {par rt dp : Nat → Nat} {gO : Nat → Int32} (h : gr_F lk par rt dp gO) {x : Nat} (hx : x < 10) : rt (rt x) = rt x := by
  obtain ⟨a, b, c, d, e, f, i⟩ := h.1 x hx
  obtain ⟨a', b', c', d', e', f', i'⟩ := h.1 (rt x) c
  exact i' e
theorem gr_U {pr : Nat → Prop} {g : Nat → ge_S} {E : List xe_T} {e : Nat} {lk : Nat → Nat → Prop} {par rt dp : Nat → Nat} {gO : Nat → Int32} (h : gr_I pr g E e lk par rt dp gO) {f k : Nat} (hf : f < 10) (hk : k < 10) (pf : pr f) (pk : pr k) (hfk : gr_lk pr g f k) :
    ∃ par' rt' dp', gr_I pr g E e (cx_ad lk f k) par' rt' dp' (upd gO (rt k) (nI (rt f))) := by
  obtain ⟨hF, hP, hC, hS, hE⟩ := h
  obtain ⟨h1, h2⟩ := id hF
  have rk := gr_rt hF hk
  have rf := gr_rt hF hf
  have rk10 := (h1 k hk).2.2.1
  have rf10 := (h1 f hf).2.2.1
  have prk : par (rt k) = rt k := (h1 k hk).2.2.2.2.1
  have prf : par (rt f) = rt f := (h1 f hf).2.2.2.2.1
  have ad1 : ∀ a b, cx_ad lk f k a b → pr a ∧ pr b := by
    rintro a b (z | ⟨rfl, rfl⟩)
    · exact hP a b z
    · exact ⟨pf, pk⟩
  have ad2 : ∀ a b, cx_ad lk f k a b → cx_R (gr_lk pr g) a b := by
    rintro a b (z | ⟨rfl, rfl⟩)
    · exact hS a b z
    · exact cx_lk hfk
  have ad3 : ∀ e', e' < e → ∀ j m, pr j → xo g E j e' → pr m → xo g E m e' → cx_R (cx_ad lk f k) j m := fun e' he j m a b c d => cx_ad_le (hE e' he j m a b c d)
  by_cases same : rt k = rt f
  · have hR : cx_R lk f k := (h2 f k hf hk).mp same.symm
    refine ⟨par, rt, dp, ⟨⟨?_, ?_⟩, ad1, ?_, ad2, ad3⟩⟩
    · intro x hx
      obtain ⟨a, b⟩ := h1 x hx
      refine ⟨?_, b⟩
      by_cases c : x = rt k
      · rw [c, pk_us, prk, same]
      · rw [pk_un c]; exact a
    · intro x y hx hy
      rw [h2 x y hx hy, cx_ad_same hR]
    · rw [hC, cx_n_same (P := pr) hR]
  · have nR : ¬ cx_R lk f k := fun z => same ((h2 f k hf hk).mpr z).symm
    refine ⟨fun x => if x = rt k then rt f else par x, fun x => if rt x = rt k then rt f else rt x, fun x => if rt x = rt k then dp x + dp (rt f) + 1 else dp x, ⟨⟨?_, ?_⟩, ad1, ?_, ad2, ad3⟩⟩
    · intro x hx
      obtain ⟨a, b, c, d, i, j, l⟩ := h1 x hx
      dsimp only
      by_cases e1 : x = rt k
      · subst e1
        rw [if_pos rfl, if_pos rk, if_neg (fun z => same (z.symm.trans rf)), if_neg (fun z => same z.symm), rf]
        refine ⟨pk_us, rf10, rf10, rfl, prf, fun _ => by rw [if_pos rk, if_neg (fun z => same z.symm)]; omega, fun z => z⟩
      · rw [if_neg e1, pk_un e1]
        by_cases e2 : rt x = rt k
        · rw [if_pos e2, if_pos (by rw [d]; exact e2), if_neg (fun z => same z.symm)]
          refine ⟨a, b, rf10, rfl, prf, fun z => by rw [if_pos (by rw [d]; exact e2), if_pos e2]; have := j z; omega, fun z => ?_⟩
          exact absurd (((l z).symm).trans e2) e1
        · rw [if_neg e2, if_neg (by rw [d]; exact e2), if_neg e2, i]
          exact ⟨a, b, c, d, rfl, fun z => by rw [if_neg (by rw [d]; exact e2), if_neg e2]; exact j z, l⟩
    · intro x y hx hy
      dsimp only
      rw [cx_ad_iff, ← h2 x y hx hy, ← h2 x f hx hf, ← h2 k y hk hy, ← h2 x k hx hk, ← h2 f y hf hy]
      by_cases e1 : rt x = rt k <;> by_cases e2 : rt y = rt k
      · rw [if_pos e1, if_pos e2]
        exact ⟨fun _ => Or.inl (e1.trans e2.symm), fun _ => rfl⟩
      · rw [if_pos e1, if_neg e2]
        constructor
        · intro z; exact Or.inr (Or.inr ⟨e1, z⟩)
        · rintro (z | ⟨z1, z2⟩ | ⟨z1, z2⟩)
          · exact absurd (z.symm.trans e1) e2
          · exact absurd z2.symm e2
          · exact z2
      · rw [if_neg e1, if_pos e2]
        constructor
        · intro z; exact Or.inr (Or.inl ⟨z, e2.symm⟩)
        · rintro (z | ⟨z1, z2⟩ | ⟨z1, z2⟩)
          · exact absurd (z.trans e2) e1
          · exact z1
          · exact absurd z1 e1
      · rw [if_neg e1, if_neg e2]
        constructor
        · intro z; exact Or.inl z
        · rintro (z | ⟨z1, z2⟩ | ⟨z1, z2⟩)
          · exact z
          · exact absurd z2.symm e2
          · exact absurd z1 e1
    · have pk' : pr (rt k) := by
        have hR : cx_R lk k (rt k) := (h2 k (rt k) hk rk10).mp rk.symm
        exact (hR pr (fun a b ab => ⟨fun _ => (hP a b ab).2, fun _ => (hP a b ab).1⟩)).mp pk
      have c1 := cx_n_ad (P := pr) hf hk pf pk nR
      have c2 : cc_n (fun x => pr x ∧ par x = x) 10 = cc_n (fun x => pr x ∧ (if x = rt k then rt f else par x) = x) 10 + 1 := by
        refine cc_n1 (rt k) ⟨pk', prk⟩ ?_ rk10 ?_
        · rintro ⟨_, z⟩
          rw [if_pos rfl] at z
          exact same z.symm
        · intro x _ hne
          rw [if_neg hne]
      show cc_n (fun x => pr x ∧ (if x = rt k then rt f else par x) = x) 10 = _
      omega
section
variable {f_present f_events f_now f_active f_freshCount f_pointX f_pointY f_pointBottom f_edges : Int32} {a_fromX a_fromY a_toX a_toY a_eventX a_eventY a_eventBottom a_eventSet a_order a_fresh a_edgeFrom a_edgeTo a_edgeSegment a_gone a_groupOf : Nat → Int32}
theorem xs_root {post : Int32 → Prop} {lk : Nat → Nat → Prop} {par rt dp : Nat → Nat} (hF : gr_F lk par rt dp a_groupOf) {k : Nat} (hk : k < 10) (hp : post (nI (rt k))) : wpX_rootOf post (f_present, f_events, f_now, f_active, f_freshCount, f_pointX, f_pointY, f_pointBottom, f_edges, a_fromX, a_fromY, a_toX, a_toY, a_eventX, a_eventY, a_eventBottom, a_eventSet, a_order, a_fresh, a_edgeFrom, a_edgeTo, a_edgeSegment, a_gone, a_groupOf) (nI k) := by
  have loop : ∀ (n x : Nat), dp x < n → x < 10 → rt x = rt k → wX_rootOf_2 post f_present f_events f_now f_active f_freshCount f_pointX f_pointY f_pointBottom f_edges a_fromX a_fromY a_toX a_toY a_eventX a_eventY a_eventBottom a_eventSet a_order a_fresh a_edgeFrom a_edgeTo a_edgeSegment a_gone a_groupOf n (nI x) := by
    intro n
    induction n with
    | zero => intro x hx; omega
    | succ n ih =>
      intro x hx hx10 e
      obtain ⟨a, b, c, d, i, j, l⟩ := hF.1 x hx10
      have v : vp_in (nI x) 10 := vp_in_nI hx10 (by omega)
      refine And.intro v ?_
      rw [nI_clamp (by omega), a]
      refine pk_eq (par x) x (fun z => ?_) (fun z => And.intro v (nm_e ?_)) rfl rfl (by omega) (by omega)
      · have := l z
        rw [← this, e]; exact hp
      · exact ih (par x) (by have := j z; omega) b (by rw [d, e])
  exact ⟨dp k + 1, loop (dp k + 1) k (by omega) hk rfl⟩
theorem xs_join36 {post : SX → Prop} {J : Int32 → (Nat → Int32) → (Nat → Int32) → (Nat → Int32) → (Nat → Int32) → (Nat → Int32) → (Nat → Int32) → (Nat → Int32) → (Nat → Int32) → (Nat → Int32) → (Nat → Int32) → (Nat → Int32) → (Nat → Int32) → (Nat → Int32) → (Nat → Int32) → (Nat → Int32) → Prop}
    {pr : Nat → Prop} {g : Nat → ge_S} (G : sw_G pr g) {E : List xe_T} (hw : xw pr g E f_events a_eventX a_eventY a_eventBottom a_eventSet) {e : Nat} {t : xe_T} (he : E[e]? = some t)
    (h : ∀ lk par rt dp gO, gr_I pr g E (e + 1) lk par rt dp gO → J (nI (e + 1)) a_fromX a_fromY a_toX a_toY a_eventX a_eventY a_eventBottom a_eventSet a_order a_fresh a_edgeFrom a_edgeTo a_edgeSegment a_gone gO) :
    ∀ (n m : Nat), 10 - m < n → m ≤ 10 → ∀ (lk : Nat → Nat → Prop) (par rt dp : Nat → Nat) (gO : Nat → Int32) (x2 : Int32), gr_I pr g E e lk par rt dp gO →
      ((x2 = -1 ∧ ∀ j, j < m → pr j → ¬ ge_on (g j) (xe_P t)) ∨ (∃ r f, x2 = nI r ∧ r < 10 ∧ f < 10 ∧ pr f ∧ ge_on (g f) (xe_P t) ∧ cx_R lk r f ∧ ∀ j, j < m → pr j → ge_on (g j) (xe_P t) → cx_R lk f j)) →
      wX_joinGroups_36 post J (nI e) f_present f_events f_now f_active f_freshCount f_pointX f_pointY f_pointBottom f_edges n x2 (nI m) a_fromX a_fromY a_toX a_toY a_eventX a_eventY a_eventBottom a_eventSet a_order a_fresh a_edgeFrom a_edgeTo a_edgeSegment a_gone gO := by
  have hlen := xv_len G hw.1
  have hel := xe_len he
  have xoE : ∀ j, xo g E j e ↔ ge_on (g j) (xe_P t) := by
    intro j
    constructor
    · rintro ⟨s, hs, c⟩
      rw [he] at hs; injection hs with hs; rw [hs]; exact c
    · exact fun c => ⟨t, he, c⟩
  intro n
  induction n with
  | zero => intro m hm; omega
  | succ n ih =>
    intro m hm hm2 lk par rt dp gO x2 hI hx
    have e66 : e < 66 := by clear hx; omega
    refine pk_le 10 m (fun hle => ?_) (fun hlt => And.intro (vp_in_nI e66 (by decide)) ?_) rfl rfl (by decide) (by clear hx; omega)
    · refine nm_r (nI_1 e) (h lk par rt dp gO ?_)
      obtain ⟨hF, hP, hC, hS, hE⟩ := hI
      refine ⟨hF, hP, hC, hS, ?_⟩
      intro e' he' j k pj oj pk ok
      by_cases c : e' = e
      · subst c
        rw [xoE] at oj ok
        rcases hx with ⟨_, z⟩ | ⟨r, f, _, _, _, _, _, _, z⟩
        · exact absurd oj (z j (by have := (G.1 j pj).1; omega) pj)
        · exact cx_tr (cx_sy (z j (by have := (G.1 j pj).1; omega) pj oj)) (z k (by have := (G.1 k pk).1; omega) pk ok)
      · exact hE e' (by clear hx; omega) j k pj oj pk ok
    · rw [nI_clamp (by clear hx; omega)]
      have hm' : 10 - (m + 1) < n := by clear hx; omega
      refine ek_if (xb_z (hw.2.2.1 e t he) hlt) (fun d => nm_r (nI_1 m) (ih (m + 1) hm' hlt lk par rt dp gO x2 hI ?_)) (fun d => ?_)
      · rcases hx with ⟨a, z⟩ | ⟨r, f, a, b, c, d1, d2, d3, z⟩
        · refine Or.inl ⟨a, fun j hj pj oj => ?_⟩
          by_cases c : j = m
          · subst c; exact d ⟨pj, oj⟩
          · exact z j (by omega) pj oj
        · refine Or.inr ⟨r, f, a, b, c, d1, d2, d3, fun j hj pj oj => ?_⟩
          by_cases c : j = m
          · subst c; exact absurd ⟨pj, oj⟩ d
          · exact z j (by omega) pj oj
      · obtain ⟨pm, om⟩ : pr m ∧ ge_on (g m) (xe_P t) := Classical.byContradiction d
        obtain ⟨hF, hP, hC, hS, hE⟩ := id hI
        have rm10 := (hF.1 m hlt).2.2.1
        have join : ∀ (z0 : Int32) (r f : Nat), z0 = nI r → r < 10 → f < 10 → pr f → ge_on (g f) (xe_P t) → cx_R lk r f → (∀ j, j < m → pr j → ge_on (g j) (xe_P t) → cx_R lk f j) →
            wX_joinGroups_72 post J (wX_joinGroups_36 post J (nI e) f_present f_events f_now f_active f_freshCount f_pointX f_pointY f_pointBottom f_edges n) (nI e) (nI m) (nI (rt m)) z0 f_present f_events f_now f_active f_freshCount f_pointX f_pointY f_pointBottom f_edges a_fromX a_fromY a_toX a_toY a_eventX a_eventY a_eventBottom a_eventSet a_order a_fresh a_edgeFrom a_edgeTo a_edgeSegment a_gone gO := by
          intro z0 r f ez r10 f10 pf of hrf hall
          subst ez
          have er : rt r = rt f := (hF.2 r f r10 f10).mpr hrf
          have rf10 := (hF.1 f f10).2.2.1
          unfold wX_joinGroups_72
          refine xs_root hF r10 ?_
          rw [er]
          refine And.intro (vp_in_nI rm10 (by decide)) (nm_e (nm_r (nI_1 m) ?_))
          rw [nI_clamp (by omega), xn_i8b (by omega)]
          obtain ⟨par', rt', dp', hI'⟩ := gr_U hI f10 hlt pf pm ⟨pf, pm, _, of, om⟩
          refine ih (m + 1) hm' hlt _ par' rt' dp' _ (nI r) hI' (Or.inr ⟨r, f, rfl, r10, f10, pf, of, cx_ad_le hrf, ?_⟩)
          intro j hj pj oj
          by_cases c : j = m
          · subst c; exact cx_ad_n
          · exact cx_ad_le (hall j (by omega) pj oj)
        refine xs_root hF hlt ?_
        rcases hx with ⟨a, z⟩ | ⟨r, f, a, b, c, d1, d2, d3, z⟩
        · subst a
          refine br_f (by decide) (join _ (rt m) m rfl rm10 hlt pm om ?_ ?_)
          · exact (hF.2 (rt m) m rm10 hlt).mp (gr_rt hF hlt)
          · exact fun j hj pj oj => absurd oj (z j hj pj)
        · subst a
          exact br_t (nI_pos' (by omega)) (join _ r f rfl b c d1 d2 d3 z)
theorem xs_join {post : SX → Prop} {pr : Nat → Prop} {g : Nat → ge_S} (G : sw_G pr g) {E : List xe_T} (hw : xw pr g E f_events a_eventX a_eventY a_eventBottom a_eventSet)
    (h : ∀ lk par rt dp gO, gr_I pr g E E.length lk par rt dp gO → post (f_present, f_events, f_now, f_active, f_freshCount, f_pointX, f_pointY, f_pointBottom, f_edges, a_fromX, a_fromY, a_toX, a_toY, a_eventX, a_eventY, a_eventBottom, a_eventSet, a_order, a_fresh, a_edgeFrom, a_edgeTo, a_edgeSegment, a_gone, gO)) : wpX_joinGroups post (f_present, f_events, f_now, f_active, f_freshCount, f_pointX, f_pointY, f_pointBottom, f_edges, a_fromX, a_fromY, a_toX, a_toY, a_eventX, a_eventY, a_eventBottom, a_eventSet, a_order, a_fresh, a_edgeFrom, a_edgeTo, a_edgeSegment, a_gone, a_groupOf) := by
  have hlen := xv_len G hw.1
  have hf : f_events = nI E.length := hw.1.1
  have loop24 : ∀ (n e : Nat), E.length - e < n → e ≤ E.length → ∀ (lk : Nat → Nat → Prop) (par rt dp : Nat → Nat) (gO : Nat → Int32), gr_I pr g E e lk par rt dp gO → wX_joinGroups_24 post f_present f_events f_now f_active f_freshCount f_pointX f_pointY f_pointBottom f_edges n (nI e) a_fromX a_fromY a_toX a_toY a_eventX a_eventY a_eventBottom a_eventSet a_order a_fresh a_edgeFrom a_edgeTo a_edgeSegment a_gone gO := by
    intro n
    induction n with
    | zero => intro e he; omega
    | succ n ih =>
      intro e he he2 lk par rt dp gO hI
      refine pk_le E.length e (fun hle => ?_) (fun hlt => ?_) hf rfl (by omega) (by omega)
      · have : e = E.length := by omega
        subst this
        exact h lk par rt dp gO hI
      · obtain ⟨t, ht⟩ : ∃ t, E[e]? = some t := ⟨_, List.getElem?_eq_getElem hlt⟩
        refine ⟨11, xs_join36 G hw ht (fun lk par rt dp gO hI' => ih (e + 1) (by omega) (by omega) lk par rt dp gO hI') 11 0 (by omega) (by omega) lk par rt dp gO (-1) hI (Or.inl ⟨rfl, fun j hj => absurd hj (by omega)⟩)⟩
  have loop2 : ∀ (n m : Nat), 10 - m < n → m ≤ 10 → ∀ gO : Nat → Int32, (∀ x, x < m → gO x = nI x) → wX_joinGroups_2 post f_present f_events f_now f_active f_freshCount f_pointX f_pointY f_pointBottom f_edges n (nI m) a_fromX a_fromY a_toX a_toY a_eventX a_eventY a_eventBottom a_eventSet a_order a_fresh a_edgeFrom a_edgeTo a_edgeSegment a_gone gO := by
    intro n
    induction n with
    | zero => intro m hm; omega
    | succ n ih =>
      intro m hm hm2 gO hgO
      refine pk_le 10 m (fun hle => ?_) (fun hlt => ?_) rfl rfl (by omega) (by omega)
      · refine ⟨E.length + 1, loop24 (E.length + 1) 0 (by omega) (by omega) (fun _ _ => False) (fun x => x) (fun x => x) (fun _ => 0) gO ⟨⟨?_, ?_⟩, fun _ _ z => z.elim, ?_, fun _ _ z => z.elim, fun e' he' => absurd he' (by omega)⟩⟩
        · exact fun x hx => ⟨hgO x (by omega), hx, hx, rfl, rfl, fun z => absurd rfl z, fun z => z⟩
        · intro x y _ _
          exact ⟨fun z => (show x = y from z) ▸ cx_rf _ _, fun z => (cx_fr (fun _ _ w => w.elim) z).symm⟩
        · rw [cx_n_0 (fun x y _ _ _ _ z => (cx_fr (fun _ _ w => w.elim) z).symm)]
          exact cc_nc (fun i _ => ⟨fun z => z.1, fun z => ⟨z, rfl⟩⟩)
      · refine And.intro (vp_in_nI hlt (by omega)) (nm_e (nm_r (nI_1 m) ?_))
        rw [nI_clamp (by omega), xn_i8b (by omega)]
        refine ih (m + 1) (by omega) (by omega) _ ?_
        intro x hx
        by_cases c : x = m
        · rw [c, pk_us]
        · rw [pk_un c]; exact hgO x (by omega)
  exact ⟨11, loop2 11 0 (by omega) (by omega) a_groupOf (fun x hx => absurd hx (by omega))⟩
theorem gr_fin {pr : Nat → Prop} {g : Nat → ge_S} {E : List xe_T} {fe : Int32} {eX eY eB eS : Nat → Int32} (hw : xw pr g E fe eX eY eB eS) {lk : Nat → Nat → Prop} {par rt dp : Nat → Nat} {gO : Nat → Int32} (h : gr_I pr g E E.length lk par rt dp gO) (x y : Nat) : cx_R lk x y ↔ cx_R (gr_lk pr g) x y := by
  obtain ⟨hF, hP, hC, hS, hE⟩ := h
  refine cx_co hS ?_ x y
  rintro a b ⟨pa, pb, p, oa, ob⟩
  by_cases c : a = b
  · rw [c]; exact cx_rf _ _
  · obtain ⟨t, ht, et⟩ := List.mem_map.mp ((hw.2.1 p).mpr (Or.inr ⟨a, b, c, pa, pb, oa, ob⟩))
    obtain ⟨e, he⟩ := List.mem_iff_getElem?.mp ht
    rw [← et] at oa ob
    exact hE e (xe_len he) a b pa ⟨t, he, oa⟩ pb ⟨t, he, ob⟩
theorem xs_groups {post : Int32 → SX → Prop} {pr : Nat → Prop} {g : Nat → ge_S} (G : sw_G pr g) (hg : xg pr g f_present a_fromX a_fromY a_toX a_toY)
    (h : ∀ fe nw ac fc px py pb eX eY eB eS o fr gO, post (nI (cx_n pr (cx_R (gr_lk pr g)) 10)) (f_present, fe, nw, ac, fc, px, py, pb, f_edges, a_fromX, a_fromY, a_toX, a_toY, eX, eY, eB, eS, o, fr, a_edgeFrom, a_edgeTo, a_edgeSegment, a_gone, gO)) :
    wpX_groups post (f_present, f_events, f_now, f_active, f_freshCount, f_pointX, f_pointY, f_pointBottom, f_edges, a_fromX, a_fromY, a_toX, a_toY, a_eventX, a_eventY, a_eventBottom, a_eventSet, a_order, a_fresh, a_edgeFrom, a_edgeTo, a_edgeSegment, a_gone, a_groupOf) := by
  unfold wpX_groups
  refine xs_sweep G hg ?_
  intro E fe nw ac fc px py pb eX eY eB eS o fr hw
  refine xs_join G hw ?_
  intro lk par rt dp gO hI
  have hF := hI.1
  have loop : ∀ (n m : Nat), 10 - m < n → m ≤ 10 → wX_groups_12 post f_present fe nw ac fc px py pb f_edges a_fromX a_fromY a_toX a_toY eX eY eB eS o fr a_edgeFrom a_edgeTo a_edgeSegment a_gone gO n (nI (cc_n (fun x => pr x ∧ par x = x) m)) (nI m) := by
    intro n
    induction n with
    | zero => intro m hm; omega
    | succ n ih =>
      intro m hm hm2
      refine pk_le 10 m (fun hle => ?_) (fun hlt => ?_) rfl rfl (by omega) (by omega)
      · have : m = 10 := by omega
        subst this
        rw [hI.2.2.1, cx_n_co (P' := pr) (R' := cx_R (gr_lk pr g)) (fun _ _ => Iff.rfl) (fun x y _ _ _ _ => gr_fin hw hI x y)]
        exact h _ _ _ _ _ _ _ _ _ _ _ _ _ _
      · have go := ih (m + 1) (by omega) (by omega)
        rw [cc_ns] at go
        have no : ¬ (pr m ∧ par m = m) → nI (cc_n (fun x => pr x ∧ par x = x) m) + 0 = nI (cc_n (fun x => pr x ∧ par x = x) m + cc_b (pr m ∧ par m = m)) := by
          intro z
          rw [cc_bf z, Int32.add_zero]; rfl
        refine xs_has_c hg.1 hlt (fun np => br_t rfl (nm_r (no (fun z => np z.1)) (nm_r (nI_1 m) go))) (fun hp => br_f (by decide) (And.intro (vp_in_nI hlt (by omega)) ?_))
        obtain ⟨a, b, _⟩ := hF.1 m hlt
        rw [nI_clamp (by omega), a]
        refine pk_eq (par m) m (fun z => ?_) (fun z => nm_r (no (fun w => z w.2)) (nm_r (nI_1 m) go)) rfl rfl (by omega) (by omega)
        refine nm_r (e' := nI (cc_n (fun x => pr x ∧ par x = x) m + cc_b (pr m ∧ par m = m))) ?_ (nm_r (nI_1 m) go)
        rw [cc_bt ⟨hp, z⟩, nI_1]
  exact ⟨11, loop 11 0 (by omega) (by omega)⟩
end
end
section
/-! groups, of the reference: closing a set -/
theorem cc_str {p q : Nat → Prop} {n a : Nat} (h : ∀ x, x < n → p x → q x) (ha : a < n) (qa : q a) (pa : ¬ p a) : cc_n p n + 1 ≤ cc_n q n := by
  have e := cc_n1 (p := q) (q := fun x => q x ∧ x ≠ a) a qa (fun z => z.2 rfl) ha (fun i _ hi => ⟨fun z => ⟨z, hi⟩, fun z => z.1⟩)
  have l := cc_nmono (p := p) (q := fun x => q x ∧ x ≠ a) (n := n) (fun x hx px => ⟨h x hx px, fun z => pa (z ▸ px)⟩)
  omega
theorem gr_sy {pr : Nat → Prop} {g : Nat → ge_S} {j k : Nat} (h : gr_lk pr g j k) : gr_lk pr g k j := by
  obtain ⟨a, b, p, c, d⟩ := h
  exact ⟨b, a, p, d, c⟩
section
variable {f_found : Int32} {a_there a_ends : Nat → Int32} {a_points a_spot : Nat → Int64}
theorem ys_meetA {post : Int32 → SY → Prop} {pr : Nat → Prop} {g : Nat → ge_S} (G : sw_G pr g) (hy : yg pr g a_there a_ends) {j k : Nat} (pj : pr j) (hk : k < 10)
    (h1 : gr_lk pr g j k → ∀ sp, post 1 (f_found, a_there, a_ends, a_points, sp)) (h0 : ¬ gr_lk pr g j k → ∀ sp, post 0 (f_found, a_there, a_ends, a_points, sp)) : wpY_meet post (f_found, a_there, a_ends, a_points, a_spot) (nI j) (nI k) := by
  by_cases pk : pr k
  · exact ys_meet G hy pj pk (fun ⟨p, a, b⟩ sp => h1 ⟨pj, pk, p, a, b⟩ sp) (fun z sp => h0 (fun ⟨_, _, p, a, b⟩ => z ⟨p, a, b⟩) sp)
  · unfold wpY_meet
    refine ys_is_t hy (G.1 j pj).1 pj (br_f (by decide) ?_)
    exact ys_is_any _ hy (fun _ => br_t rfl (h0 (fun z => pk z.2.1) a_spot)) (fun m hm e pm => absurd (by rw [(nI_eq (by omega) (by omega)).mp e]; exact pm) pk)
theorem ys_grp15 {post : Int32 → SY → Prop} {J : Int32 → Int32 → Int32 → (Nat → Int32) → (Nat → Int32) → (Nat → Int64) → (Nat → Int64) → Prop} {pr : Nat → Prop} {g : Nat → ge_S} (G : sw_G pr g) (hy : yg pr g a_there a_ends) {k0 : Nat} {pass : Nat} {S0 : Nat → Prop}
    (h : ∀ (S : Nat → Prop) (st : Int32) (sp : Nat → Int64), xb st S → (∀ i, S0 i → S i) → (∀ i, S i → i < 10 ∧ pr i ∧ cx_R (gr_lk pr g) k0 i) → (∀ j i, j < 10 → i < 10 → S0 j → gr_lk pr g j i → S i) → ((∀ j i, S0 j → gr_lk pr g j i → S0 i) → ∀ i, S i → S0 i) → J st (nI (pass + 1)) f_found a_there a_ends a_points sp) :
    ∀ (n c : Nat), 100 - c < n → c ≤ 100 → ∀ (S : Nat → Prop) (st : Int32) (sp : Nat → Int64), xb st S → (∀ i, S0 i → S i) → (∀ i, S i → i < 10 ∧ pr i ∧ cx_R (gr_lk pr g) k0 i) → (∀ c', c' < c → S0 (c' / 10) → gr_lk pr g (c' / 10) (c' % 10) → S (c' % 10)) → ((∀ j i, S0 j → gr_lk pr g j i → S0 i) → ∀ i, S i → S0 i) →
      wY_group_15 post J (nI pass) n st (nI c) f_found a_there a_ends a_points sp := by
  intro n
  induction n with
  | zero => intro c hc; omega
  | succ n ih =>
    intro c hc hc2 S st sp hst i1 i2 i3 i4
    have e1 : nI c / 10 = nI (c / 10) := pk_div (d := 10) (by omega) (by omega) (by omega)
    have e2 : nI c - nI c / 10 * 10 = nI (c % 10) := pk_rem (d := 10) (by omega) (by omega) (by omega)
    refine pk_le 100 c (fun hle => nm_r (nI_1 pass) (h S st sp hst i1 i2 ?_ i4)) (fun hlt => And.intro (by decide) ?_) rfl rfl (by omega) (by omega)
    · intro j i hj hi sj lj
      have := i3 (10 * j + i) (by omega) (by rw [show (10 * j + i) / 10 = j by omega]; exact sj)
      rw [show (10 * j + i) / 10 = j by omega, show (10 * j + i) % 10 = i by omega] at this
      exact this lj
    · rw [e2, e1]
      have j10 : c / 10 < 10 := by omega
      have k10 : c % 10 < 10 := by omega
      have keep : ∀ sp, (S (c / 10) → ¬ gr_lk pr g (c / 10) (c % 10)) → wY_group_15 post J (nI pass) n st (nI (c + 1)) f_found a_there a_ends a_points sp := by
        intro sp hno
        refine ih (c + 1) (by omega) (by omega) S st sp hst i1 i2 ?_ i4
        intro c' hc' s l
        by_cases e : c' = c
        · subst e; exact absurd l (hno (i1 _ s))
        · exact i3 c' (by omega) s l
      refine ek_if (xb_e hst j10) (fun sj => And.intro (by decide) (And.intro (by decide) ?_)) (fun sj => nm_r (nI_1 c) (keep sp (fun z => absurd z sj)))
      refine ys_meetA G hy (i2 _ sj).2.1 k10 (fun l sp' => br_f (by decide) (And.intro (by decide) (nm_e (nm_r (nI_1 c) ?_)))) (fun l sp' => br_t rfl (nm_r (nI_1 c) (keep sp' (fun _ => l))))
      refine ih (c + 1) (by omega) (by omega) (fun i => S i ∨ i = c % 10) _ sp' (xb_set hst k10) (fun i z => Or.inl (i1 i z)) ?_ ?_ ?_
      · rintro i (z | z)
        · exact i2 i z
        · subst z
          exact ⟨k10, l.2.1, cx_tr (i2 _ sj).2.2 (cx_lk l)⟩
      · intro c' hc' s l'
        by_cases e : c' = c
        · subst e; exact Or.inr rfl
        · exact Or.inl (i3 c' (by omega) s l')
      · rintro cl i (z | z)
        · exact i4 cl i z
        · subst z
          exact cl _ _ (i4 cl _ sj) l
theorem ys_group {post : Int32 → SY → Prop} {pr : Nat → Prop} {g : Nat → ge_S} (G : sw_G pr g) (hy : yg pr g a_there a_ends) {k0 : Nat} (pk : pr k0)
    (h : ∀ st sp, xb st (fun i => cx_R (gr_lk pr g) k0 i) → post st (f_found, a_there, a_ends, a_points, sp)) : wpY_group post (f_found, a_there, a_ends, a_points, a_spot) (nI k0) := by
  have k10 := (G.1 k0 pk).1
  have loop : ∀ (n m : Nat), 10 - m < n → m ≤ 10 → ∀ (S : Nat → Prop) (st : Int32) (sp : Nat → Int64), xb st S → S k0 → (∀ i, S i → i < 10 ∧ pr i ∧ cx_R (gr_lk pr g) k0 i) → ((∀ j i, S j → gr_lk pr g j i → S i) ∨ m + 1 ≤ cc_n S 10) → wY_group_6 post n st (nI m) f_found a_there a_ends a_points sp := by
    intro n
    induction n with
    | zero => intro m hm; omega
    | succ n ih =>
      intro m hm hm2 S st sp hst hk0 i2 hor
      refine pk_le 10 m (fun hle => h st sp (xb_co hst (fun i hi => ?_))) (fun hlt => ⟨101, ?_⟩) rfl rfl (by omega) (by omega)
      · have cl : ∀ j i, S j → gr_lk pr g j i → S i := by
          rcases hor with z | z
          · exact z
          · have := cc_nle S 10
            omega
        constructor
        · exact fun z => (i2 i z).2.2
        · intro z
          exact (z S (fun a b ab => ⟨fun s => cl a b s ab, fun s => cl b a s (gr_sy ab)⟩)).mp hk0
      · refine ys_grp15 G hy (S0 := S) ?_ 101 0 (by omega) (by omega) S st sp hst (fun _ z => z) i2 (fun c' hc' => absurd hc' (by omega)) (fun _ _ z => z)
        intro S1 st1 sp1 hst1 j1 j2 j3 j4
        refine ih (m + 1) (by omega) (by omega) S1 st1 sp1 hst1 (j1 k0 hk0) j2 ?_
        by_cases same : ∀ i, S1 i → S i
        · left
          intro j i sj l
          have lk := l
          obtain ⟨pj, pi, _⟩ := l
          exact j3 j i (G.1 j pj).1 (G.1 i pi).1 (same j sj) lk
        · right
          obtain ⟨i, hi⟩ := Classical.not_forall.mp same
          obtain ⟨s1, ns⟩ := Classical.not_imp.mp hi
          have st2 := cc_str (p := S) (q := S1) (n := 10) (a := i) (fun x _ z => j1 x z) (j2 i s1).1 s1 ns
          rcases hor with z | z
          · exact absurd (j4 z i s1) ns
          · omega
  refine nm_e ⟨11, ?_⟩
  have h0 : xb ((1 : Int32) <<< (nI k0 &&& 31)) (fun i => i = k0) := by
    intro i hi
    rw [xb_bk (by omega) hi, decide_eq_true_eq]
    exact ⟨fun z => ⟨by omega, z⟩, fun z => z.2⟩
  refine loop 11 0 (by omega) (by omega) (fun i => i = k0) _ a_spot h0 rfl ?_ (Or.inr (cc_one.mpr ⟨k0, k10, rfl⟩))
  rintro i rfl
  exact ⟨k10, pk, cx_rf _ _⟩
theorem ys_groups {post : Int32 → SY → Prop} {pr : Nat → Prop} {g : Nat → ge_S} (G : sw_G pr g) (hy : yg pr g a_there a_ends)
    (h : ∀ sp, post (nI (cx_n pr (cx_R (gr_lk pr g)) 10)) (f_found, a_there, a_ends, a_points, sp)) : wpY_groups post (f_found, a_there, a_ends, a_points, a_spot) := by
  unfold wpY_groups
  refine ys_segments hy ?_
  intro st0 hst0
  have loop : ∀ (n m : Nat), 10 - m < n → m ≤ 10 → ∀ (left : Int32) (sp : Nat → Int64), xb left (fun i => pr i ∧ ∀ j, j < m → pr j → ¬ cx_R (gr_lk pr g) j i) → wY_groups_9 post n left (nI (cx_n pr (cx_R (gr_lk pr g)) m)) (nI m) f_found a_there a_ends a_points sp := by
    intro n
    induction n with
    | zero => intro m hm; omega
    | succ n ih =>
      intro m hm hm2 left sp hl
      refine pk_le 10 m (fun hle => ?_) (fun hlt => ?_) rfl rfl (by omega) (by omega)
      · have : m = 10 := by omega
        subst this
        exact h sp
      · have es : cx_n pr (cx_R (gr_lk pr g)) (m + 1) = cx_n pr (cx_R (gr_lk pr g)) m + cc_b (pr m ∧ ∀ y, y < m → pr y → ¬ cx_R (gr_lk pr g) y m) := rfl
        refine ek_if (xb_e hl hlt) (fun lead => ?_) (fun nl => ?_)
        · refine ys_group G hy lead.1 ?_
          intro st sp' hst
          refine nm_e (nm_r (nI_1 _) (nm_r (nI_1 m) ?_))
          have go := ih (m + 1) (by omega) (by omega) (left &&& (st ^^^ (-1))) sp' (xb_co (xb_and hl hst) (fun i _ => ?_))
          · rw [es, cc_bt lead] at go
            exact go
          · constructor
            · rintro ⟨⟨a, b⟩, c⟩
              refine ⟨a, fun j hj pj r => ?_⟩
              by_cases e : j = m
              · subst e; exact c r
              · exact b j (by omega) pj r
            · rintro ⟨a, b⟩
              exact ⟨⟨a, fun j hj pj => b j (by omega) pj⟩, b m (by omega) lead.1⟩
        · have go := ih (m + 1) (by omega) (by omega) left sp (xb_co hl (fun i _ => ?_))
          · rw [es, cc_bf nl, Nat.add_zero] at go
            exact nm_r (nI_1 m) go
          · constructor
            · rintro ⟨a, b⟩
              refine ⟨a, fun j hj pj r => ?_⟩
              by_cases e : j = m
              · subst e
                apply nl
                refine ⟨pj, fun y hy py ry => ?_⟩
                exact b y hy py (cx_tr ry r)
              · exact b j (by omega) pj r
            · rintro ⟨a, b⟩
              exact ⟨a, fun j hj pj => b j (by omega) pj⟩
  exact ⟨11, loop 11 0 (by omega) (by omega) st0 a_spot (xb_co hst0 (fun i _ => ⟨fun z => ⟨z, fun j hj => absurd hj (by omega)⟩, fun z => z.1⟩))⟩
end
theorem i_vc_groups {k : Nat} {u : SX} {v : SY} (I : i_Rel k u v) (hk : k + 3 ≤ 1536) : wpX_groups (fun r u' => wpY_groups (fun r' v' => r' = r ∧ i_Rel (k + 3) u' v') v) u := by
  refine zz_el (P := fun u v => wpX_groups (fun r u' => wpY_groups (fun r' v' => r' = r ∧ i_Rel (k + 3) u' v') v) u) ?_ I
  clear I u v
  intro f_present f_events f_now f_active f_freshCount f_pointX f_pointY f_pointBottom f_edges a_fromX a_fromY a_toX a_toY a_eventX a_eventY a_eventBottom a_eventSet a_order a_fresh a_edgeFrom a_edgeTo a_edgeSegment a_gone a_groupOf f_found a_there a_ends a_points a_spot pr g hz
  obtain ⟨G, hg, hy⟩ := id hz
  refine xs_groups G hg ?_
  intro fe nw ac fc px py pb eX eY eB eS o fr gO
  refine ys_groups G hy ?_
  intro sp
  exact ⟨rfl, zz_in hz⟩
end
section
/-! darts: the edges both ways, and the order of those that leave an event -/
theorem ix_lt {E : List xe_T} (hs : (E.map xe_P).Pairwise ge_lt) {i j : Nat} {s t : xe_T} (hi : E[i]? = some s) (hj : E[j]? = some t) : i < j ↔ ge_lt (xe_P s) (xe_P t) := by
  have fwd : ∀ {i j : Nat} {s t : xe_T}, E[i]? = some s → E[j]? = some t → i < j → ge_lt (xe_P s) (xe_P t) := by
    intro i j s t hi hj hij
    have li := xe_len hi
    have lj := xe_len hj
    have e1 : (E.map xe_P)[i]'(by rw [List.length_map]; exact li) = xe_P s := by
      rw [List.getElem_map]
      rw [List.getElem?_eq_getElem li] at hi
      injection hi with hi; rw [hi]
    have e2 : (E.map xe_P)[j]'(by rw [List.length_map]; exact lj) = xe_P t := by
      rw [List.getElem_map]
      rw [List.getElem?_eq_getElem lj] at hj
      injection hj with hj; rw [hj]
    have := List.pairwise_iff_getElem.mp hs i j (by rw [List.length_map]; exact li) (by rw [List.length_map]; exact lj) hij
    rw [e1, e2] at this
    exact this
  constructor
  · exact fwd hi hj
  · intro h
    rcases Nat.lt_trichotomy i j with c | c | c
    · exact c
    · subst c
      rw [hi] at hj; injection hj with hj
      rw [hj] at h; exact absurd h ge_lt_ir
    · exact absurd (ge_lt_tr h (fwd hj hi c)) ge_lt_ir
/-- what is held of events and edges -/
def fd_H (pr : Nat → Prop) (g : Nat → ge_S) (E : List xe_T) (D : List (Nat × Nat × Nat)) : Prop :=
  sw_G pr g ∧ (E.map xe_P).Pairwise ge_lt ∧ (∀ q, q ∈ E.map xe_P ↔ sw_en pr g q ∨ sw_mt pr g q) ∧ D.Nodup ∧ (∀ x, x ∈ D ↔ ed_c pr g E x)
theorem fd_gp {pr : Nat → Prop} {g : Nat → ge_S} {E : List xe_T} {D : List (Nat × Nat × Nat)} (H : fd_H pr g E D) {e : Nat} {t : xe_T} (h : E[e]? = some t) : ge_gp (xe_P t) :=
  sw_gp H.1 ((H.2.2.1 _).mp (List.mem_map.mpr ⟨t, List.mem_of_getElem? h, rfl⟩))
theorem fd_fr {pr : Nat → Prop} {g : Nat → ge_S} {E : List xe_T} {D : List (Nat × Nat × Nat)} (H : fd_H pr g E D) {k e : Nat} {t : xe_T} (pk : pr k) (he : E[e]? = some t) (on : ge_on (g k) (xe_P t)) : xe_P t ≠ ge_fr (g k) ↔ ∃ e', e' < e ∧ xo g E k e' := by
  have ok := (H.1.1 k pk).2
  obtain ⟨a1, a2, a3⟩ := (ge_on_iff ok _).mp on
  constructor
  · intro hn
    obtain ⟨s, hs, es⟩ := List.mem_map.mp ((H.2.2.1 (ge_fr (g k))).mpr (Or.inl ⟨k, pk, Or.inl rfl⟩))
    obtain ⟨i, hi⟩ := List.mem_iff_getElem?.mp hs
    refine ⟨i, (ix_lt H.2.1 hi he).mpr ?_, s, hi, by rw [es]; exact ge_on_fr ok⟩
    rw [es]
    refine (ge_lt_sc (ge_gp_fr ok) (fd_gp H he)).mpr ?_
    rw [ge_sc_fr]
    refine Rat.lt_of_le_of_ne a1 (fun z => hn ?_)
    exact ge_pt_eq ok on (ge_on_fr ok) (by rw [ge_sc_fr]; exact z.symm)
  · rintro ⟨e', h1, s, hs, os⟩ z
    have l := (ix_lt H.2.1 hs he).mp h1
    have := (ge_lt_sc (fd_gp H hs) (fd_gp H he)).mp l
    rw [z, ge_sc_fr] at this
    have := ((ge_on_iff ok _).mp os).1
    grind
theorem fd_to {pr : Nat → Prop} {g : Nat → ge_S} {E : List xe_T} {D : List (Nat × Nat × Nat)} (H : fd_H pr g E D) {k e : Nat} {t : xe_T} (pk : pr k) (he : E[e]? = some t) (on : ge_on (g k) (xe_P t)) : xe_P t ≠ ge_to (g k) ↔ ∃ e', e < e' ∧ xo g E k e' := by
  have ok := (H.1.1 k pk).2
  obtain ⟨a1, a2, a3⟩ := (ge_on_iff ok _).mp on
  constructor
  · intro hn
    obtain ⟨s, hs, es⟩ := List.mem_map.mp ((H.2.2.1 (ge_to (g k))).mpr (Or.inl ⟨k, pk, Or.inr rfl⟩))
    obtain ⟨i, hi⟩ := List.mem_iff_getElem?.mp hs
    refine ⟨i, (ix_lt H.2.1 he hi).mpr ?_, s, hi, by rw [es]; exact ge_on_to ok⟩
    rw [es]
    refine (ge_lt_sc (fd_gp H he) (ge_gp_to ok)).mpr ?_
    rw [ge_sc_to]
    refine Rat.lt_of_le_of_ne a2 (fun z => hn ?_)
    exact ge_pt_eq ok on (ge_on_to ok) (by rw [ge_sc_to]; exact z)
  · rintro ⟨e', h1, s, hs, os⟩ z
    have l := (ix_lt H.2.1 he hs).mp h1
    have := (ge_lt_sc (fd_gp H he) (fd_gp H hs)).mp l
    rw [z, ge_sc_to] at this
    have := ((ge_on_iff ok _).mp os).2.1
    grind
/-- the trace, by the numbers of events -/
def fd_St (pr : Nat → Prop) (g : Nat → ge_S) (E : List xe_T) (t : Nat) (L L' : List Nat) : Prop :=
  ∃ A I F C, L = A ++ (I ++ C) ∧ L' = A ++ (F ++ C) ∧ (∀ k, k ∈ I ↔ pr k ∧ xo g E k t ∧ ∃ e', e' < t ∧ xo g E k e') ∧ (∀ k, k ∈ F ↔ pr k ∧ xo g E k t ∧ ∃ e', t < e' ∧ xo g E k e') ∧
    I.Pairwise (fun j k => ge_m (g k) < ge_m (g j)) ∧ F.Pairwise (fun j k => ge_m (g j) < ge_m (g k)) ∧ L'.Nodup
theorem fd_tr {pr : Nat → Prop} {g : Nat → ge_S} {E : List xe_T} {D : List (Nat × Nat × Nat)} (H : fd_H pr g E D) (hT : sw_T pr g (E.map xe_P) []) : ∃ Ls : Nat → List Nat, Ls 0 = [] ∧ Ls E.length = [] ∧ ∀ t, t < E.length → fd_St pr g E t (Ls t) (Ls (t + 1)) := by
  obtain ⟨Ls, h0, h1, h2⟩ := hT
  rw [List.length_map] at h1
  refine ⟨Ls, h0, h1, ?_⟩
  intro t ht
  obtain ⟨s, hs⟩ : ∃ s, E[t]? = some s := ⟨_, List.getElem?_eq_getElem ht⟩
  obtain ⟨A, I, F, C, e1, e2, hI, hF, m1, m2, nd⟩ := h2 t (xe_P s) (ls_mapget hs)
  have xoE : ∀ k, xo g E k t ↔ ge_on (g k) (xe_P s) := by
    intro k
    constructor
    · rintro ⟨s', hs', c⟩
      rw [hs] at hs'; injection hs' with hs'; rw [hs']; exact c
    · exact fun c => ⟨s, hs, c⟩
  refine ⟨A, I, F, C, e1, e2, ?_, ?_, m1, m2, nd⟩
  · intro k
    rw [hI k, xoE k]
    constructor
    · rintro ⟨a, b, c⟩; exact ⟨a, b, (fd_fr H a hs b).mp c⟩
    · rintro ⟨a, b, c⟩; exact ⟨a, b, (fd_fr H a hs b).mpr c⟩
  · intro k
    rw [hF k, xoE k]
    constructor
    · rintro ⟨a, b, c⟩; exact ⟨a, b, (fd_to H a hs b).mp c⟩
    · rintro ⟨a, b, c⟩; exact ⟨a, b, (fd_to H a hs b).mpr c⟩
/-- a segment's events: an event on it has another one on it -/
theorem fd_two {pr : Nat → Prop} {g : Nat → ge_S} {E : List xe_T} {D : List (Nat × Nat × Nat)} (H : fd_H pr g E D) {k e : Nat} (pk : pr k) (h : xo g E k e) : (∃ e', e' < e ∧ xo g E k e') ∨ (∃ e', e < e' ∧ xo g E k e') := by
  obtain ⟨t, ht, on⟩ := h
  by_cases c : xe_P t = ge_fr (g k)
  · right
    refine (fd_to H pk ht on).mp ?_
    rw [c]; exact ge_fr_to (H.1.1 k pk).2
  · left
    exact (fd_fr H pk ht on).mp c
theorem nat_top {p : Nat → Prop} : ∀ {t : Nat}, (∃ e, e < t ∧ p e) → ∃ a, a < t ∧ p a ∧ ∀ c, a < c → c < t → ¬ p c := by
  intro t
  induction t with
  | zero => rintro ⟨e, h, _⟩; omega
  | succ t ih =>
    rintro ⟨e, h, pe⟩
    by_cases c : p t
    · exact ⟨t, by omega, c, fun c h1 h2 => by omega⟩
    · obtain ⟨a, a1, a2, a3⟩ := ih ⟨e, by have : e ≠ t := fun z => c (z ▸ pe); omega, pe⟩
      refine ⟨a, by omega, a2, fun c' h1 h2 => ?_⟩
      by_cases d : c' = t
      · rw [d]; exact c
      · exact a3 c' h1 (by omega)
noncomputable def fd_c (D : List (Nat × Nat × Nat)) (t k : Nat) : Nat := @dite _ (∃ (d : Nat) (x : Nat × Nat × Nat), D[d]? = some x ∧ x.2.2 = k ∧ x.1 < t ∧ t ≤ x.2.1) (Classical.propDecidable _) (fun h => h.choose) (fun _ => 0)
theorem fd_same {pr : Nat → Prop} {g : Nat → ge_S} {E : List xe_T} {x y : Nat × Nat × Nat} {t : Nat} (hx : ed_c pr g E x) (hy : ed_c pr g E y) (k : x.2.2 = y.2.2) (x1 : x.1 < t) (x2 : t ≤ x.2.1) (y1 : y.1 < t) (y2 : t ≤ y.2.1) : x = y := by
  obtain ⟨xa, xb, xk⟩ := x
  obtain ⟨ya, yb, yk⟩ := y
  dsimp only at k x1 x2 y1 y2
  subst k
  obtain ⟨a1, a2, a3, a4, a5⟩ := hx
  obtain ⟨b1, b2, b3, b4, b5⟩ := hy
  dsimp only at *
  have e1 : xa = ya := by
    rcases Nat.lt_trichotomy xa ya with c | c | c
    · exact absurd b3 (a5 ya c (by omega))
    · exact c
    · exact absurd a3 (b5 xa c (by omega))
  have e2 : xb = yb := by
    rcases Nat.lt_trichotomy xb yb with c | c | c
    · exact absurd a4 (b5 xb (by omega) c)
    · exact c
    · exact absurd b4 (a5 yb (by omega) c)
  rw [e1, e2]
theorem fd_c_eq {pr : Nat → Prop} {g : Nat → ge_S} {E : List xe_T} {D : List (Nat × Nat × Nat)} (H : fd_H pr g E D) {t k d : Nat} {x : Nat × Nat × Nat} (hd : D[d]? = some x) (hk : x.2.2 = k) (x1 : x.1 < t) (x2 : t ≤ x.2.1) : fd_c D t k = d := by
  have h : ∃ (d : Nat) (x : Nat × Nat × Nat), D[d]? = some x ∧ x.2.2 = k ∧ x.1 < t ∧ t ≤ x.2.1 := ⟨d, x, hd, hk, x1, x2⟩
  have e : fd_c D t k = h.choose := by unfold fd_c; exact dif_pos h
  rw [e]
  obtain ⟨y, hy, yk, y1, y2⟩ := h.choose_spec
  have exy : y = x := fd_same ((H.2.2.2.2 y).mp (List.mem_of_getElem? hy)) ((H.2.2.2.2 x).mp (List.mem_of_getElem? hd)) (yk.trans hk.symm) y1 y2 x1 x2
  rw [exy] at hy
  exact (List.getElem?_inj (xe_len hy) H.2.2.2.1).mp (hy.trans hd.symm)
theorem fd_c_ex {pr : Nat → Prop} {g : Nat → ge_S} {E : List xe_T} {D : List (Nat × Nat × Nat)} (H : fd_H pr g E D) {t k : Nat} (pk : pr k) (h1 : ∃ e, e < t ∧ xo g E k e) (h2 : ∃ e, t ≤ e ∧ xo g E k e) : ∃ a b, D[fd_c D t k]? = some (a, b, k) ∧ a < t ∧ t ≤ b ∧ ed_c pr g E (a, b, k) := by
  obtain ⟨a, a1, a2, a3⟩ := nat_top h1
  obtain ⟨b, ⟨b1, b2⟩, b3⟩ := pk_least (fun e => t ≤ e ∧ xo g E k e) h2
  have hc : ed_c pr g E (a, b, k) := by
    refine ⟨pk, by show a < b; omega, a2, b2, ?_⟩
    intro c c1 c2 c3
    have c1 : a < c := c1
    have c2 : c < b := c2
    by_cases d : c < t
    · exact a3 c c1 d c3
    · exact b3 c c2 ⟨by omega, c3⟩
  obtain ⟨d, hd⟩ := List.mem_iff_getElem?.mp ((H.2.2.2.2 _).mpr hc)
  rw [fd_c_eq H hd rfl a1 b1]
  exact ⟨a, b, hd, a1, b1, hc⟩
def fd_e (D : List (Nat × Nat × Nat)) (d : Nat) : Nat × Nat × Nat := D.getD (d / 2) (0, 0, 0)
def fd_t (D : List (Nat × Nat × Nat)) (d : Nat) : Nat := if d % 2 = 0 then (fd_e D d).1 else (fd_e D d).2.1
def fd_h (D : List (Nat × Nat × Nat)) (d : Nat) : Nat := if d % 2 = 0 then (fd_e D d).2.1 else (fd_e D d).1
def fd_r (d : Nat) : Nat := if d % 2 = 0 then d + 1 else d - 1
theorem fd_e0 {D : List (Nat × Nat × Nat)} {c : Nat} {x : Nat × Nat × Nat} (h : D[c]? = some x) : fd_e D (2 * c) = x ∧ fd_e D (2 * c + 1) = x := by
  unfold fd_e
  rw [show 2 * c / 2 = c by omega, show (2 * c + 1) / 2 = c by omega, List.getD_eq_getElem?_getD, h]
  exact ⟨rfl, rfl⟩
theorem fd_d0 {D : List (Nat × Nat × Nat)} {c : Nat} {x : Nat × Nat × Nat} (h : D[c]? = some x) : fd_t D (2 * c) = x.1 ∧ fd_h D (2 * c) = x.2.1 ∧ fd_t D (2 * c + 1) = x.2.1 ∧ fd_h D (2 * c + 1) = x.1 := by
  obtain ⟨e0, e1⟩ := fd_e0 h
  unfold fd_t fd_h
  rw [e0, e1, if_pos (by omega), if_pos (by omega), if_neg (by omega), if_neg (by omega)]
  exact ⟨rfl, rfl, rfl, rfl⟩
theorem fd_r0 (c : Nat) : fd_r (2 * c) = 2 * c + 1 ∧ fd_r (2 * c + 1) = 2 * c := by
  unfold fd_r
  rw [if_pos (by omega), if_neg (by omega)]
  exact ⟨rfl, by omega⟩
theorem fd_rr (d : Nat) : fd_r (fd_r d) = d := by unfold fd_r; split <;> split <;> omega
theorem fd_cases {D : List (Nat × Nat × Nat)} {d : Nat} (h : d < 2 * D.length) : ∃ c x, D[c]? = some x ∧ (d = 2 * c ∨ d = 2 * c + 1) := by
  refine ⟨d / 2, _, List.getElem?_eq_getElem (show d / 2 < D.length by omega), by omega⟩
def fd_T (g : Nat → ge_S) (D : List (Nat × Nat × Nat)) (e f : Nat) : Prop := e % 2 < f % 2 ∨ (e % 2 = f % 2 ∧ ge_m (g (fd_e D e).2.2) < ge_m (g (fd_e D f).2.2))
def fd_C (g : Nat → ge_S) (D : List (Nat × Nat × Nat)) (e b k : Nat) : Prop := (fd_T g D e k ∧ fd_T g D b k ∧ fd_T g D b e) ∨ (¬ fd_T g D e k ∧ ¬ fd_T g D b k ∧ fd_T g D b e) ∨ (fd_T g D e k ∧ ¬ fd_T g D b k)
/-- what the edge that goes on around is -/
def fd_N (g : Nat → ge_S) (D : List (Nat × Nat × Nat)) (d r : Nat) : Prop :=
  r < 2 * D.length ∧ fd_t D r = fd_h D d ∧ (r = fd_r d → ∀ e, e < 2 * D.length → fd_t D e = fd_h D d → e = fd_r d) ∧ (r ≠ fd_r d → ∀ e, e < 2 * D.length → fd_t D e = fd_h D d → e ≠ fd_r d → e ≠ r → ¬ fd_C g D e r (fd_r d))
theorem fd_T_as {g : Nat → ge_S} {D : List (Nat × Nat × Nat)} {e f : Nat} (h : fd_T g D e f) : ¬ fd_T g D f e := by
  unfold fd_T at *
  intro k
  rcases h with h | ⟨h, h'⟩ <;> rcases k with k | ⟨k, k'⟩
  · omega
  · omega
  · omega
  · exact absurd h' (by grind)
theorem fd_T_tr {g : Nat → ge_S} {D : List (Nat × Nat × Nat)} {e f k : Nat} (h : fd_T g D e f) (h' : fd_T g D f k) : fd_T g D e k := by
  unfold fd_T at *
  rcases h with h | ⟨h, m⟩ <;> rcases h' with k | ⟨k, m'⟩
  · left; omega
  · left; omega
  · left; omega
  · right; exact ⟨by omega, by grind⟩
/-- the one before it in the order around -/
theorem fd_pred {g : Nat → ge_S} {D : List (Nat × Nat × Nat)} {W X Z : List Nat} {d r u v : Nat} (hW : W.Pairwise (fd_T g D)) (hm : ∀ w, w ∈ W ↔ w < 2 * D.length ∧ fd_t D w = fd_h D d) (hr : fd_N g D d r) (e : W = X ++ u :: v :: Z) (hv : fd_r d = v) : r = u := by
  obtain ⟨n1, n2, n3, n4⟩ := hr
  rw [hv] at n3 n4
  have mu : u ∈ W := by rw [e]; simp
  have mv : v ∈ W := by rw [e]; simp
  have hu := (hm u).mp mu
  have Tuv : fd_T g D u v := ls_pair hW e
  have uv : u ≠ v := fun z => fd_T_as Tuv (by rw [z] at Tuv ⊢; exact Tuv)
  by_cases rv : r = v
  · exact absurd (n3 rv u hu.1 hu.2) uv
  · by_cases ru : u = r
    · exact ru.symm
    · exfalso
      refine n4 rv u hu.1 hu.2 uv ru ?_
      have mr : r ∈ W := (hm r).mpr ⟨n1, n2⟩
      rw [e] at mr hW
      obtain ⟨p1, p2, p3⟩ := List.pairwise_append.mp hW
      obtain ⟨p4, p5⟩ := List.pairwise_cons.mp p2
      obtain ⟨p6, p7⟩ := List.pairwise_cons.mp p5
      rcases List.mem_append.mp mr with z | z
      · have Tru : fd_T g D r u := p3 r z u List.mem_cons_self
        exact Or.inl ⟨Tuv, fd_T_tr Tru Tuv, Tru⟩
      · rcases List.mem_cons.mp z with z | z
        · exact absurd z.symm ru
        · rcases List.mem_cons.mp z with z | z
          · exact absurd z rv
          · have Tvr : fd_T g D v r := p6 r z
            exact Or.inr (Or.inr ⟨Tuv, fd_T_as Tvr⟩)
theorem fd_predH {g : Nat → ge_S} {D : List (Nat × Nat × Nat)} {W X : List Nat} {d r u v : Nat} (hW : W.Pairwise (fd_T g D)) (hm : ∀ w, w ∈ W ↔ w < 2 * D.length ∧ fd_t D w = fd_h D d) (hr : fd_N g D d r) (e : W = v :: X) (e2 : (X = [] ∧ u = v) ∨ ∃ Y, X = Y ++ [u]) (hv : fd_r d = v) : r = u := by
  obtain ⟨n1, n2, n3, n4⟩ := hr
  rw [hv] at n3 n4
  have mr : r ∈ W := (hm r).mpr ⟨n1, n2⟩
  rcases e2 with ⟨rfl, rfl⟩ | ⟨Y, rfl⟩
  · rw [e] at mr
    simpa using mr
  · have mu : u ∈ W := by rw [e]; simp
    have hu := (hm u).mp mu
    rw [e] at hW mr
    obtain ⟨p1, p2⟩ := List.pairwise_cons.mp hW
    obtain ⟨p3, p4, p5⟩ := List.pairwise_append.mp p2
    have Tvu : fd_T g D v u := p1 u (by simp)
    have uv : u ≠ v := fun z => fd_T_as Tvu (by rw [z] at Tvu ⊢; exact Tvu)
    by_cases rv : r = v
    · exact absurd (n3 rv u hu.1 hu.2) uv
    · by_cases ru : u = r
      · exact ru.symm
      · exfalso
        refine n4 rv u hu.1 hu.2 uv ru ?_
        rcases List.mem_cons.mp mr with z | z
        · exact absurd z rv
        · rcases List.mem_append.mp z with z' | z'
          · have Tru : fd_T g D r u := p5 r z' u (by simp)
            exact Or.inr (Or.inl ⟨fd_T_as Tvu, fd_T_as (p1 r z), Tru⟩)
          · exact absurd (List.mem_singleton.mp z').symm ru
end
section
/-! the links of an event, listed -/
def eu_adj (L : List eu_It) (u v : eu_It) : Prop := ∃ X Z, L = X ++ u :: v :: Z
theorem eu_adj_1 {x u v : eu_It} : ¬ eu_adj [x] u v := by
  rintro ⟨X, Z, e⟩
  have := congrArg List.length e
  simp at this
  omega
theorem eu_adj_0 {u v : eu_It} : ¬ eu_adj [] u v := by
  rintro ⟨X, Z, e⟩
  have := congrArg List.length e
  simp at this
theorem eu_adj_c {x y u v : eu_It} {I : List eu_It} : eu_adj (x :: y :: I) u v ↔ (u = x ∧ v = y) ∨ eu_adj (y :: I) u v := by
  constructor
  · rintro ⟨X, Z, e⟩
    cases X with
    | nil =>
      rw [List.nil_append] at e
      injection e with e1 e2
      injection e2 with e3 e4
      exact Or.inl ⟨e1.symm, e3.symm⟩
    | cons a X =>
      rw [List.cons_append] at e
      injection e with e1 e2
      exact Or.inr ⟨X, Z, e2⟩
  · rintro (⟨rfl, rfl⟩ | ⟨X, Z, e⟩)
    · exact ⟨[], I, rfl⟩
    · exact ⟨x :: X, Z, by rw [e]; rfl⟩
theorem eu_lm_iff : ∀ (I : List eu_It) {lk : Nat → Nat → Prop} {x : eu_It} {a b : Nat}, eu_lm lk x I a b ↔ lk a b ∨ ∃ u v, eu_adj (x :: I) u v ∧ a = u.2.2 ∧ b = v.2.1 := by
  intro I
  induction I with
  | nil =>
    intro lk x a b
    exact ⟨Or.inl, fun z => z.elim id (fun ⟨u, v, h, _⟩ => absurd h eu_adj_1)⟩
  | cons y I ih =>
    intro lk x a b
    show eu_lm (cx_ad lk x.2.2 y.2.1) (eu_m x y) I a b ↔ _
    rw [ih]
    constructor
    · rintro ((z | ⟨z1, z2⟩) | ⟨u, v, h, e1, e2⟩)
      · exact Or.inl z
      · exact Or.inr ⟨x, y, eu_adj_c.mpr (Or.inl ⟨rfl, rfl⟩), z1, z2⟩
      · cases I with
        | nil => exact absurd h eu_adj_1
        | cons w I =>
          rcases eu_adj_c.mp h with ⟨rfl, rfl⟩ | h
          · exact Or.inr ⟨y, v, eu_adj_c.mpr (Or.inr (eu_adj_c.mpr (Or.inl ⟨rfl, rfl⟩))), e1, e2⟩
          · exact Or.inr ⟨u, v, eu_adj_c.mpr (Or.inr (eu_adj_c.mpr (Or.inr h))), e1, e2⟩
    · rintro (z | ⟨u, v, h, e1, e2⟩)
      · exact Or.inl (Or.inl z)
      · rcases eu_adj_c.mp h with ⟨rfl, rfl⟩ | h
        · exact Or.inl (Or.inr ⟨e1, e2⟩)
        · cases I with
          | nil => exact absurd h eu_adj_1
          | cons w I =>
            rcases eu_adj_c.mp h with ⟨rfl, rfl⟩ | h
            · exact Or.inr ⟨eu_m x u, v, eu_adj_c.mpr (Or.inl ⟨rfl, rfl⟩), e1, e2⟩
            · exact Or.inr ⟨u, v, eu_adj_c.mpr (Or.inr h), e1, e2⟩
theorem eu_lf_iff : ∀ (F : List eu_It) {lk : Nat → Nat → Prop} {x : eu_It} {a b : Nat}, eu_lf lk x F a b ↔ lk a b ∨ ∃ u v, eu_adj (x :: F) u v ∧ a = v.2.1 ∧ b = u.2.2 := by
  intro F
  induction F with
  | nil =>
    intro lk x a b
    exact ⟨Or.inl, fun z => z.elim id (fun ⟨u, v, h, _⟩ => absurd h eu_adj_1)⟩
  | cons y F ih =>
    intro lk x a b
    show eu_lf (cx_ad lk y.2.1 x.2.2) y F a b ↔ _
    rw [ih]
    constructor
    · rintro ((z | ⟨z1, z2⟩) | ⟨u, v, h, e1, e2⟩)
      · exact Or.inl z
      · exact Or.inr ⟨x, y, eu_adj_c.mpr (Or.inl ⟨rfl, rfl⟩), z1, z2⟩
      · exact Or.inr ⟨u, v, eu_adj_c.mpr (Or.inr h), e1, e2⟩
    · rintro (z | ⟨u, v, h, e1, e2⟩)
      · exact Or.inl (Or.inl z)
      · rcases eu_adj_c.mp h with ⟨rfl, rfl⟩ | h
        · exact Or.inl (Or.inr ⟨e1, e2⟩)
        · exact Or.inr ⟨u, v, h, e1, e2⟩
theorem eu_lqm_iff : ∀ (I : List eu_It) {lq : Nat → Nat → Prop} {c a b : Nat}, eu_lqm lq c I a b ↔ lq a b ∨ (a = c ∧ ∃ y, y ∈ I ∧ b = y.1) := by
  intro I
  induction I with
  | nil => intro lq c a b; exact ⟨Or.inl, fun z => z.elim id (fun ⟨_, y, h, _⟩ => absurd h (by simp))⟩
  | cons y I ih =>
    intro lq c a b
    show eu_lqm (cx_ad lq c y.1) c I a b ↔ _
    rw [ih]
    constructor
    · rintro ((z | ⟨z1, z2⟩) | ⟨z, w, h, e⟩)
      · exact Or.inl z
      · exact Or.inr ⟨z1, y, List.mem_cons_self, z2⟩
      · exact Or.inr ⟨z, w, List.mem_cons_of_mem _ h, e⟩
    · rintro (z | ⟨z, w, h, e⟩)
      · exact Or.inl (Or.inl z)
      · rcases List.mem_cons.mp h with rfl | h
        · exact Or.inl (Or.inr ⟨z, e⟩)
        · exact Or.inr ⟨z, w, h, e⟩
theorem eu_lst_app : ∀ (I : List eu_It) (x : eu_It), ∃ Y, x :: I = Y ++ [eu_lst x I] := by
  intro I
  induction I with
  | nil => exact fun x => ⟨[], rfl⟩
  | cons y I ih =>
    intro x
    obtain ⟨Y, e⟩ := ih y
    exact ⟨x :: Y, by show x :: y :: I = x :: Y ++ [eu_lst y I]; rw [List.cons_append, ← e]⟩
/-- the links at the two ends of the order around -/
def eu_end : List eu_It → List eu_It → Nat → Nat → Prop
  | [], [], _, _ => False
  | [], f :: F, a, b => a = f.2.1 ∧ b = (eu_lst f F).2.2
  | x :: I, [], a, b => a = (eu_lst x I).2.2 ∧ b = x.2.1
  | x :: I, f :: F, a, b => (a = f.2.1 ∧ b = x.2.1) ∨ (a = (eu_lst f F).2.2 ∧ b = (eu_lst x I).2.2)
theorem eu_stR_iff {lk : Nat → Nat → Prop} (I F : List eu_It) {a b : Nat} : eu_stR lk I F a b ↔ lk a b ∨ (∃ u v, eu_adj I u v ∧ a = u.2.2 ∧ b = v.2.1) ∨ (∃ u v, eu_adj F u v ∧ a = v.2.1 ∧ b = u.2.2) ∨ eu_end I F a b := by
  cases I with
  | nil =>
    cases F with
    | nil =>
      constructor
      · exact Or.inl
      · rintro (z | ⟨u, v, h, _⟩ | ⟨u, v, h, _⟩ | z)
        · exact z
        · exact absurd h eu_adj_0
        · exact absurd h eu_adj_0
        · exact z.elim
    | cons f F =>
      show eu_lf (cx_ad lk f.2.1 (eu_lst f F).2.2) f F a b ↔ _
      rw [eu_lf_iff]
      constructor
      · rintro ((z | z) | z)
        · exact Or.inl z
        · exact Or.inr (Or.inr (Or.inr z))
        · exact Or.inr (Or.inr (Or.inl z))
      · rintro (z | ⟨u, v, h, _⟩ | z | z)
        · exact Or.inl (Or.inl z)
        · exact absurd h eu_adj_0
        · exact Or.inr z
        · exact Or.inl (Or.inr z)
  | cons x I =>
    obtain ⟨m1, m2, m3⟩ := eu_mm_1 I x
    cases F with
    | nil =>
      show cx_ad (eu_lm lk x I) (eu_mm x I).2.2 (eu_mm x I).2.1 a b ↔ _
      unfold cx_ad
      rw [eu_lm_iff, m2, m3]
      constructor
      · rintro ((z | z) | z)
        · exact Or.inl z
        · exact Or.inr (Or.inl z)
        · exact Or.inr (Or.inr (Or.inr z))
      · rintro (z | z | ⟨u, v, h, _⟩ | z)
        · exact Or.inl (Or.inl z)
        · exact Or.inl (Or.inr z)
        · exact absurd h eu_adj_0
        · exact Or.inr z
    | cons f F =>
      show eu_lf (cx_ad (cx_ad (eu_lm lk x I) f.2.1 (eu_mm x I).2.1) (eu_lst f F).2.2 (eu_mm x I).2.2) f F a b ↔ _
      rw [eu_lf_iff]
      unfold cx_ad
      rw [eu_lm_iff, m2, m3]
      constructor
      · rintro ((((z | z) | z) | z) | z)
        · exact Or.inl z
        · exact Or.inr (Or.inl z)
        · exact Or.inr (Or.inr (Or.inr (Or.inl z)))
        · exact Or.inr (Or.inr (Or.inr (Or.inr z)))
        · exact Or.inr (Or.inr (Or.inl z))
      · rintro (z | z | z | z | z)
        · exact Or.inl (Or.inl (Or.inl (Or.inl z)))
        · exact Or.inl (Or.inl (Or.inl (Or.inr z)))
        · exact Or.inr z
        · exact Or.inl (Or.inl (Or.inr z))
        · exact Or.inl (Or.inr z)
/-- the order around: outgoing ones upwards, then incoming ones downwards -/
def eu_W (I F : List eu_It) : List Nat := F.map (fun f => f.2.2) ++ (I.map (fun x => x.2.1)).reverse
theorem eu_adj_map {L : List eu_It} {f : eu_It → Nat} {X Z : List Nat} {a b : Nat} (h : L.map f = X ++ a :: b :: Z) : ∃ u v, eu_adj L u v ∧ f u = a ∧ f v = b := by
  obtain ⟨L1, L2, e, h1, h2⟩ := List.map_eq_append_iff.mp h
  obtain ⟨u, L3, e2, h3, h4⟩ := List.map_eq_cons_iff.mp h2
  obtain ⟨v, L4, e3, h5, h6⟩ := List.map_eq_cons_iff.mp h4
  exact ⟨u, v, ⟨L1, L4, by rw [e, e2, e3]⟩, h3, h5⟩
/-- the links are those from a dart to the next one around -/
theorem eu_star {I F : List eu_It} {ph : Nat → Nat} (hr : ∀ u, u ∈ I ∨ u ∈ F → fd_r u.2.2 = u.2.1 ∧ fd_r u.2.1 = u.2.2)
    (hp : ∀ X u v Z, eu_W I F = X ++ u :: v :: Z → ph (fd_r v) = u) (hh : ∀ v X u, eu_W I F = v :: X → ((X = [] ∧ u = v) ∨ ∃ Y, X = Y ++ [u]) → ph (fd_r v) = u) (lk : Nat → Nat → Prop) :
    (∀ a b, eu_stR lk I F a b → lk a b ∨ (∃ w, w ∈ eu_W I F ∧ ((a = fd_r w ∧ b = ph a) ∨ (b = fd_r w ∧ a = ph b)))) ∧ (∀ w, w ∈ eu_W I F → cx_R (eu_stR lk I F) (fd_r w) (ph (fd_r w))) := by
  have inI : ∀ {u v}, eu_adj I u v → u ∈ I ∧ v ∈ I := by
    rintro u v ⟨X, Z, e⟩; rw [e]; exact ⟨by simp, by simp⟩
  have inF : ∀ {u v}, eu_adj F u v → u ∈ F ∧ v ∈ F := by
    rintro u v ⟨X, Z, e⟩; rw [e]; exact ⟨by simp, by simp⟩
  have wF : ∀ {u}, u ∈ F → u.2.2 ∈ eu_W I F := fun h => List.mem_append_left _ (List.mem_map.mpr ⟨_, h, rfl⟩)
  have wI : ∀ {u}, u ∈ I → u.2.1 ∈ eu_W I F := fun h => List.mem_append_right _ (List.mem_reverse.mpr (List.mem_map.mpr ⟨_, h, rfl⟩))
  -- the four kinds of neighbours around
  have kI : ∀ {u v}, eu_adj I u v → ph u.2.2 = v.2.1 := by
    intro u v h
    have r := (hr u (Or.inl (inI h).1)).2
    obtain ⟨X, Z, e⟩ := h
    rw [← r]
    refine hp (F.map (fun f => f.2.2) ++ (Z.map (fun x => x.2.1)).reverse) v.2.1 u.2.1 (X.map (fun x => x.2.1)).reverse ?_
    unfold eu_W
    rw [e]; simp
  have kF : ∀ {u v}, eu_adj F u v → ph v.2.1 = u.2.2 := by
    intro u v h
    have r := (hr v (Or.inr (inF h).2)).1
    obtain ⟨X, Z, e⟩ := h
    rw [← r]
    refine hp (X.map (fun f => f.2.2)) u.2.2 v.2.2 (Z.map (fun f => f.2.2) ++ (I.map (fun x => x.2.1)).reverse) ?_
    unfold eu_W
    rw [e]; simp
  have kE : ∀ a b, eu_end I F a b → ∃ w, w ∈ eu_W I F ∧ ((a = fd_r w ∧ b = ph a) ∨ (b = fd_r w ∧ a = ph b)) := by
    intro a b h
    cases I with
    | nil =>
      cases F with
      | nil => exact h.elim
      | cons f F =>
        obtain ⟨rfl, rfl⟩ := h
        have r := (hr f (Or.inr List.mem_cons_self)).1
        refine ⟨f.2.2, wF List.mem_cons_self, Or.inl ⟨r.symm, ?_⟩⟩
        rw [← r]
        refine (hh f.2.2 (F.map (fun f => f.2.2)) _ (by unfold eu_W; simp) ?_).symm
        cases F with
        | nil => exact Or.inl ⟨rfl, rfl⟩
        | cons y F =>
          obtain ⟨Y, e⟩ := eu_lst_app F y
          exact Or.inr ⟨Y.map (fun f => f.2.2), by have h2 := congrArg (List.map (fun f : eu_It => f.2.2)) e; rw [List.map_append] at h2; exact h2⟩
    | cons x I =>
      obtain ⟨Y, eI⟩ := eu_lst_app I x
      have lI : eu_lst x I ∈ x :: I := eu_lst_mem I x
      have r1 := (hr _ (Or.inl lI)).2
      cases F with
      | nil =>
        obtain ⟨rfl, rfl⟩ := h
        refine ⟨(eu_lst x I).2.1, wI lI, Or.inl ⟨r1.symm, ?_⟩⟩
        rw [← r1]
        refine (hh (eu_lst x I).2.1 (Y.map (fun x => x.2.1)).reverse _ (by unfold eu_W; rw [eI]; simp) ?_).symm
        cases Y with
        | nil =>
          left
          rw [List.nil_append] at eI
          injection eI with e1 e2
          exact ⟨rfl, by rw [← e1]⟩
        | cons y Y =>
          right
          rw [List.cons_append] at eI
          injection eI with e1 e2
          exact ⟨(Y.map (fun x => x.2.1)).reverse, by rw [← e1]; simp⟩
      | cons f F =>
        obtain ⟨Y2, eF⟩ := eu_lst_app F f
        have lF : eu_lst f F ∈ f :: F := eu_lst_mem F f
        rcases h with ⟨rfl, rfl⟩ | ⟨rfl, rfl⟩
        · have r := (hr f (Or.inr List.mem_cons_self)).1
          refine ⟨f.2.2, wF List.mem_cons_self, Or.inl ⟨r.symm, ?_⟩⟩
          rw [← r]
          refine (hh f.2.2 (F.map (fun f => f.2.2) ++ ((x :: I).map (fun x => x.2.1)).reverse) _ (by unfold eu_W; simp) (Or.inr ⟨F.map (fun f => f.2.2) ++ (I.map (fun x => x.2.1)).reverse, by simp⟩)).symm
        · refine ⟨(eu_lst x I).2.1, wI lI, Or.inr ⟨r1.symm, ?_⟩⟩
          rw [← r1]
          refine (hp (Y2.map (fun f => f.2.2)) (eu_lst f F).2.2 (eu_lst x I).2.1 (Y.map (fun x => x.2.1)).reverse ?_).symm
          unfold eu_W
          rw [eI, eF]; simp
  constructor
  · intro a b h
    rcases (eu_stR_iff I F).mp h with z | ⟨u, v, z, e1, e2⟩ | ⟨u, v, z, e1, e2⟩ | z
    · exact Or.inl z
    · refine Or.inr ⟨u.2.1, wI (inI z).1, Or.inl ⟨?_, ?_⟩⟩
      · rw [e1]; exact (hr u (Or.inl (inI z).1)).2.symm
      · rw [e1, e2]; exact (kI z).symm
    · refine Or.inr ⟨v.2.2, wF (inF z).2, Or.inl ⟨?_, ?_⟩⟩
      · rw [e1]; exact (hr v (Or.inr (inF z).2)).1.symm
      · rw [e1, e2]; exact (kF z).symm
    · exact Or.inr (kE a b z)
  · intro w hw
    have lkI : ∀ {u v}, eu_adj I u v → cx_R (eu_stR lk I F) u.2.2 v.2.1 := fun {u v} h => cx_lk ((eu_stR_iff I F).mpr (Or.inr (Or.inl ⟨u, v, h, rfl, rfl⟩)))
    have lkF : ∀ {u v}, eu_adj F u v → cx_R (eu_stR lk I F) v.2.1 u.2.2 := fun {u v} h => cx_lk ((eu_stR_iff I F).mpr (Or.inr (Or.inr (Or.inl ⟨u, v, h, rfl, rfl⟩))))
    have lkE : ∀ {a b}, eu_end I F a b → cx_R (eu_stR lk I F) a b := fun {a b} h => cx_lk ((eu_stR_iff I F).mpr (Or.inr (Or.inr (Or.inr h))))
    rcases List.mem_append.mp hw with z | z
    · -- an outgoing one
      obtain ⟨f, hf, rfl⟩ := List.mem_map.mp z
      have r := (hr f (Or.inr hf)).1
      rw [r]
      obtain ⟨X, Z, e⟩ := List.append_of_mem hf
      rcases List.eq_nil_or_concat X with e0 | ⟨X', u, e0⟩
      · subst e0
        rw [List.nil_append] at e
        subst e
        cases I with
        | nil =>
          have e1 : eu_end [] (f :: Z) f.2.1 (eu_lst f Z).2.2 := ⟨rfl, rfl⟩
          have : ph f.2.1 = (eu_lst f Z).2.2 := by
            rw [← r]
            refine hh f.2.2 (Z.map (fun f => f.2.2)) _ (by unfold eu_W; simp) ?_
            cases Z with
            | nil => exact Or.inl ⟨rfl, rfl⟩
            | cons y Z =>
              obtain ⟨Y, e⟩ := eu_lst_app Z y
              exact Or.inr ⟨Y.map (fun f => f.2.2), by have h2 := congrArg (List.map (fun f : eu_It => f.2.2)) e; rw [List.map_append] at h2; exact h2⟩
          rw [this]
          exact lkE e1
        | cons x I =>
          have : ph f.2.1 = x.2.1 := by
            rw [← r]
            exact hh f.2.2 (Z.map (fun f => f.2.2) ++ ((x :: I).map (fun x => x.2.1)).reverse) _ (by unfold eu_W; simp) (Or.inr ⟨Z.map (fun f => f.2.2) ++ (I.map (fun x => x.2.1)).reverse, by simp⟩)
          rw [this]
          exact lkE (Or.inl ⟨rfl, rfl⟩)
      · rw [List.concat_eq_append] at e0
        have ad : eu_adj F u f := ⟨X', Z, by rw [e, e0]; simp⟩
        rw [kF ad]
        exact lkF ad
    · -- an incoming one
      obtain ⟨x, hx, rfl⟩ := List.mem_map.mp (List.mem_reverse.mp z)
      have r := (hr x (Or.inl hx)).2
      rw [r]
      obtain ⟨X, Z, e⟩ := List.append_of_mem hx
      cases Z with
      | cons v Z =>
        have ad : eu_adj I x v := ⟨X, Z, e⟩
        rw [kI ad]
        exact lkI ad
      | nil =>
        -- the topmost incoming one
        cases I with
        | nil => exact absurd hx (by simp)
        | cons y I =>
          obtain ⟨Y, eI⟩ := eu_lst_app I y
          have ex : x = eu_lst y I := by
            rw [eI] at e
            have := List.append_inj_right' e rfl
            injection this with this
            exact this.symm
          subst ex
          cases F with
          | nil =>
            have : ph (eu_lst y I).2.2 = y.2.1 := by
              rw [← r]
              refine hh (eu_lst y I).2.1 (Y.map (fun x => x.2.1)).reverse _ (by unfold eu_W; rw [eI]; simp) ?_
              cases Y with
              | nil =>
                left
                rw [List.nil_append] at eI
                injection eI with e1 e2
                exact ⟨rfl, by rw [← e1]⟩
              | cons y' Y =>
                right
                rw [List.cons_append] at eI
                injection eI with e1 e2
                exact ⟨(Y.map (fun x => x.2.1)).reverse, by rw [← e1]; simp⟩
            rw [this]
            exact lkE ⟨rfl, rfl⟩
          | cons f F =>
            obtain ⟨Y2, eF⟩ := eu_lst_app F f
            have : ph (eu_lst y I).2.2 = (eu_lst f F).2.2 := by
              rw [← r]
              refine hp (Y2.map (fun f => f.2.2)) (eu_lst f F).2.2 (eu_lst y I).2.1 (Y.map (fun x => x.2.1)).reverse ?_
              unfold eu_W
              rw [eI, eF]; simp
            rw [this]
            exact cx_sy (lkE (Or.inr ⟨rfl, rfl⟩))
end
section
/-! going over the events: edges, places and groups -/
theorem cc_list : ∀ (M : List Nat) {p q : Nat → Prop} {n : Nat}, M.Nodup → (∀ x, x ∈ M → x < n) → (∀ x, x < n → (q x ↔ p x ∨ x ∈ M)) → (∀ x, x ∈ M → ¬ p x) → cc_n q n = cc_n p n + M.length := by
  intro M
  induction M with
  | nil =>
    intro p q n _ _ h _
    rw [List.length_nil, Nat.add_zero]
    exact cc_nc (fun i hi => (h i hi).trans ⟨fun z => z.elim id (fun w => absurd w (by simp)), Or.inl⟩)
  | cons a M ih =>
    intro p q n hn hl h hp
    obtain ⟨n1, n2⟩ := List.nodup_cons.mp hn
    have e1 := cc_n1 (p := q) (q := fun x => q x ∧ x ≠ a) a ((h a (hl a List.mem_cons_self)).mpr (Or.inr List.mem_cons_self)) (fun z => z.2 rfl) (hl a List.mem_cons_self) (fun i _ hi => ⟨fun z => ⟨z, hi⟩, fun z => z.1⟩)
    have e2 := ih (p := p) (q := fun x => q x ∧ x ≠ a) (n := n) n2 (fun x hx => hl x (List.mem_cons_of_mem _ hx)) (by
      intro x hx
      rw [h x hx]
      constructor
      · rintro ⟨z | z, w⟩
        · exact Or.inl z
        · exact Or.inr ((List.mem_cons.mp z).resolve_left w)
      · rintro (z | z)
        · exact ⟨Or.inl z, fun w => hp a List.mem_cons_self (w ▸ z)⟩
        · exact ⟨Or.inr (List.mem_cons_of_mem _ z), fun w => n1 (w ▸ z)⟩) (fun x hx => hp x (List.mem_cons_of_mem _ hx))
    rw [e1, e2, List.length_cons]; omega
noncomputable def fd_i (D : List (Nat × Nat × Nat)) (t k : Nat) : eu_It := (k, 2 * fd_c D t k + 1, 2 * fd_c D t k)
def fd_P (pr : Nat → Prop) (g : Nat → ge_S) (E : List xe_T) (t k : Nat) : Prop := pr k ∧ ∃ e, e < t ∧ xo g E k e
def fd_b (D : List (Nat × Nat × Nat)) (d : Nat) : Nat := (fd_e D d).1
theorem fd_hr {D : List (Nat × Nat × Nat)} {v : Nat} (h : v < 2 * D.length) : fd_h D (fd_r v) = fd_t D v ∧ fd_t D (fd_r v) = fd_h D v ∧ fd_r v < 2 * D.length ∧ fd_b D (fd_r v) = fd_b D v := by
  obtain ⟨c, x, hc, e⟩ := fd_cases h
  have l := xe_len hc
  obtain ⟨d1, d2, d3, d4⟩ := fd_d0 hc
  obtain ⟨r1, r2⟩ := fd_r0 c
  obtain ⟨f1, f2⟩ := fd_e0 hc
  unfold fd_b
  rcases e with rfl | rfl
  · rw [r1, d1, d2, d3, d4, f1, f2]; exact ⟨rfl, rfl, by omega, rfl⟩
  · rw [r2, d1, d2, d3, d4, f1, f2]; exact ⟨rfl, rfl, by omega, rfl⟩
theorem eu_stQ_r {lq : Nat → Nat → Prop} (I F : List eu_It) : (∀ a b, eu_stQ lq I F a b → lq a b ∨ ∃ x y, (x ∈ I ∨ x ∈ F) ∧ (y ∈ I ∨ y ∈ F) ∧ a = x.1 ∧ b = y.1) ∧ (∀ x y, (x ∈ I ∨ x ∈ F) → (y ∈ I ∨ y ∈ F) → cx_R (eu_stQ lq I F) x.1 y.1) ∧ (∀ a b, lq a b → cx_R (eu_stQ lq I F) a b) := by
  cases I with
  | nil =>
    cases F with
    | nil => exact ⟨fun a b h => Or.inl h, fun x y h => absurd h (by simp), fun a b h => cx_lk h⟩
    | cons f F =>
      obtain ⟨h1, h2⟩ := eu_lqm_r F (lq := lq) (a := f.1)
      have key : ∀ x, (x ∈ ([] : List eu_It) ∨ x ∈ f :: F) → cx_R (eu_lqm lq f.1 F) f.1 x.1 := by
        rintro x (h | h)
        · exact absurd h (by simp)
        · rcases List.mem_cons.mp h with rfl | h
          · exact cx_rf _ _
          · exact h2 x h
      refine ⟨?_, fun x y hx hy => cx_tr (cx_sy (key x hx)) (key y hy), fun a b h => h1 a b (cx_lk h)⟩
      intro a b h
      rcases (eu_lqm_iff F).mp h with z | ⟨z, y, hy, e⟩
      · exact Or.inl z
      · exact Or.inr ⟨f, y, Or.inr List.mem_cons_self, Or.inr (List.mem_cons_of_mem _ hy), z, e⟩
  | cons x I =>
    obtain ⟨h1, h2⟩ := eu_lqm_r I (lq := lq) (a := x.1)
    obtain ⟨h3, h4⟩ := eu_lqm_r F (lq := eu_lqm lq x.1 I) (a := x.1)
    have key : ∀ y, (y ∈ x :: I ∨ y ∈ F) → cx_R (eu_lqm (eu_lqm lq x.1 I) x.1 F) x.1 y.1 := by
      rintro y (h | h)
      · rcases List.mem_cons.mp h with rfl | h
        · exact cx_rf _ _
        · exact h3 _ _ (h2 y h)
      · exact h4 y h
    have e : eu_stQ lq (x :: I) F = eu_lqm (eu_lqm lq x.1 I) x.1 F := by cases F <;> rfl
    rw [e]
    refine ⟨?_, fun a b ha hb => cx_tr (cx_sy (key a ha)) (key b hb), fun a b h => h3 _ _ (h1 a b (cx_lk h))⟩
    intro a b h
    rcases (eu_lqm_iff F).mp h with z | ⟨z, y, hy, e⟩
    · rcases (eu_lqm_iff I).mp z with z | ⟨z, y, hy, e⟩
      · exact Or.inl z
      · exact Or.inr ⟨x, y, Or.inl List.mem_cons_self, Or.inl (List.mem_cons_of_mem _ hy), z, e⟩
    · exact Or.inr ⟨x, y, Or.inl List.mem_cons_self, Or.inr hy, z, e⟩
def fd_L (D : List (Nat × Nat × Nat)) (ph : Nat → Nat) (x y : Nat) : Prop := x < 2 * D.length ∧ y = ph x
def fd_J (pr : Nat → Prop) (g : Nat → ge_S) (E : List xe_T) (D : List (Nat × Nat × Nat)) (ph : Nat → Nat) (t : Nat) (L : List Nat) : Prop :=
  L.Nodup ∧ (∀ k, k ∈ L → pr k ∧ (∃ e, e < t ∧ xo g E k e) ∧ (∃ e, t ≤ e ∧ xo g E k e)) ∧
  ∃ lk lq nb, eu_J (2 * D.length) 10 (fd_P pr g E t) lk lq nb (L.map (fd_i D t)) (cc_n (fun c => (D.getD c (0, 0, 0)).1 < t) D.length + t) ∧
    (∀ a b, lk a b → fd_b D a < t ∧ fd_b D b < t) ∧ (∀ a b, lk a b → cx_R (fd_L D ph) a b) ∧ (∀ d, d < 2 * D.length → fd_h D d < t → cx_R lk d (ph d)) ∧
    (∀ a b, lq a b → fd_P pr g E t a ∧ fd_P pr g E t b) ∧ (∀ a b, lq a b → cx_R (gr_lk pr g) a b) ∧ (∀ e', e' < t → ∀ j k, pr j → xo g E j e' → pr k → xo g E k e' → cx_R lq j k)
theorem fd_step {pr : Nat → Prop} {g : Nat → ge_S} {E : List xe_T} {D : List (Nat × Nat × Nat)} (H : fd_H pr g E D) {ph : Nat → Nat} (hph : ∀ d, d < 2 * D.length → fd_N g D d (ph d)) {t : Nat} (ht : t < E.length) {L L' : List Nat} (hJ : fd_J pr g E D ph t L) (hS : fd_St pr g E t L L') : fd_J pr g E D ph (t + 1) L' := by
  obtain ⟨ndL, act, lk, lq, nb, J, b1, b2, b3, q1, q2, q3⟩ := hJ
  obtain ⟨A, I, F, C, rfl, rfl, hI, hF, mI, mF, nd'⟩ := hS
  have iA : ∀ k, k ∈ A → k ∈ A ++ (I ++ C) := fun k h => List.mem_append_left _ h
  have iI : ∀ k, k ∈ I → k ∈ A ++ (I ++ C) := fun k h => List.mem_append_right _ (List.mem_append_left _ h)
  have iC : ∀ k, k ∈ C → k ∈ A ++ (I ++ C) := fun k h => List.mem_append_right _ (List.mem_append_right _ h)
  -- the edges that are at hand
  have edL : ∀ k, k ∈ A ++ (I ++ C) → ∃ a b, D[fd_c D t k]? = some (a, b, k) ∧ a < t ∧ t ≤ b ∧ ed_c pr g E (a, b, k) := fun k hk => fd_c_ex H (act k hk).1 (act k hk).2.1 (act k hk).2.2
  have edI : ∀ k, k ∈ I → ∃ a, D[fd_c D t k]? = some (a, t, k) ∧ a < t := by
    intro k hk
    obtain ⟨a, b, h1, h2, h3, h4⟩ := edL k (iI k hk)
    have : b = t := by
      by_cases c : b = t
      · exact c
      · exact absurd ((hI k).mp hk).2.1 (h4.2.2.2.2 t h2 (by show t < b; omega))
    subst this
    exact ⟨a, h1, h2⟩
  have edF : ∀ k, k ∈ F → ∃ b, D[fd_c D (t + 1) k]? = some (t, b, k) ∧ t < b := by
    intro k hk
    obtain ⟨pk, xk', e', h1, h2⟩ := (hF k).mp hk
    obtain ⟨a, b, h3, h4, h5, h6⟩ := fd_c_ex H (t := t + 1) pk ⟨t, by omega, xk'⟩ ⟨e', by omega, h2⟩
    have : a = t := by
      by_cases c : a = t
      · exact c
      · exact absurd xk' (h6.2.2.2.2 t (by show a < t; omega) (by show t < b; omega))
    subst this
    exact ⟨b, h3, by omega⟩
  have offAC : ∀ k, k ∈ A ∨ k ∈ C → ¬ xo g E k t := by
    intro k hk hx
    obtain ⟨n1, n2, n3⟩ := List.nodup_append.mp ndL
    obtain ⟨n4, n5, n6⟩ := List.nodup_append.mp n2
    have kL : k ∈ A ++ (I ++ C) := hk.elim (iA k) (iC k)
    have kI : k ∈ I := (hI k).mpr ⟨(act k kL).1, hx, (act k kL).2.1⟩
    rcases hk with hk | hk
    · exact n3 k hk k (List.mem_append_left _ kI) rfl
    · exact n6 k kI k hk rfl
  have same : ∀ k, k ∈ A ∨ k ∈ C → fd_i D (t + 1) k = fd_i D t k := by
    intro k hk
    have kL : k ∈ A ++ (I ++ C) := hk.elim (iA k) (iC k)
    obtain ⟨a, b, h1, h2, h3, h4⟩ := edL k kL
    have hb : b ≠ t := fun z => offAC k hk (z ▸ h4.2.2.2.1)
    unfold fd_i
    rw [fd_c_eq H h1 rfl (t := t + 1) (by show a < t + 1; omega) (by show t + 1 ≤ b; omega)]
  -- the order around
  have mW : ∀ w, w ∈ eu_W (I.map (fd_i D t)) (F.map (fd_i D (t + 1))) ↔ w < 2 * D.length ∧ fd_t D w = t := by
    intro w
    constructor
    · intro hw
      rcases List.mem_append.mp hw with z | z
      · obtain ⟨f, hf, rfl⟩ := List.mem_map.mp z
        obtain ⟨k, hk, rfl⟩ := List.mem_map.mp hf
        obtain ⟨b, h1, h2⟩ := edF k hk
        have l := xe_len h1
        exact ⟨by show 2 * fd_c D (t + 1) k < _; omega, (fd_d0 h1).1⟩
      · obtain ⟨f, hf, rfl⟩ := List.mem_map.mp (List.mem_reverse.mp z)
        obtain ⟨k, hk, rfl⟩ := List.mem_map.mp hf
        obtain ⟨a, h1, h2⟩ := edI k hk
        have l := xe_len h1
        exact ⟨by show 2 * fd_c D t k + 1 < _; omega, (fd_d0 h1).2.2.1⟩
    · rintro ⟨hw, ht'⟩
      obtain ⟨c, x, hc, e⟩ := fd_cases hw
      obtain ⟨x1, x2, x3⟩ := x
      have hx := (H.2.2.2.2 _).mp (List.mem_of_getElem? hc)
      obtain ⟨y1, y2, y3, y4, y5⟩ := hx
      dsimp only at y1 y2 y3 y4 y5
      obtain ⟨d1, d2, d3, d4⟩ := fd_d0 hc
      rcases e with rfl | rfl
      · rw [d1] at ht'
        have ht' : x1 = t := ht'
        subst ht'
        have kF : x3 ∈ F := (hF x3).mpr ⟨y1, y3, x2, y2, y4⟩
        refine List.mem_append_left _ (List.mem_map.mpr ⟨fd_i D (x1 + 1) x3, List.mem_map.mpr ⟨x3, kF, rfl⟩, ?_⟩)
        show 2 * fd_c D (x1 + 1) x3 = 2 * c
        rw [fd_c_eq H hc rfl (by show x1 < x1 + 1; omega) (by show x1 + 1 ≤ x2; omega)]
      · rw [d3] at ht'
        have ht' : x2 = t := ht'
        subst ht'
        have kI : x3 ∈ I := (hI x3).mpr ⟨y1, y4, x1, y2, y3⟩
        refine List.mem_append_right _ (List.mem_reverse.mpr (List.mem_map.mpr ⟨fd_i D x2 x3, List.mem_map.mpr ⟨x3, kI, rfl⟩, ?_⟩))
        show 2 * fd_c D x2 x3 + 1 = 2 * c + 1
        rw [fd_c_eq H hc rfl (by show x1 < x2; omega) (by show x2 ≤ x2; omega)]
  have sW : (eu_W (I.map (fd_i D t)) (F.map (fd_i D (t + 1)))).Pairwise (fd_T g D) := by
    unfold eu_W
    rw [List.map_map, List.map_map, ← List.map_reverse]
    refine List.pairwise_append.mpr ⟨?_, ?_, ?_⟩
    · rw [List.pairwise_map]
      refine List.Pairwise.imp_of_mem (fun {j k} hj hk h => ?_) mF
      obtain ⟨b, h1, _⟩ := edF j hj
      obtain ⟨b', h2, _⟩ := edF k hk
      right
      refine ⟨by show 2 * fd_c D (t + 1) j % 2 = 2 * fd_c D (t + 1) k % 2; omega, ?_⟩
      show ge_m (g (fd_e D (2 * fd_c D (t + 1) j)).2.2) < ge_m (g (fd_e D (2 * fd_c D (t + 1) k)).2.2)
      rw [(fd_e0 h1).1, (fd_e0 h2).1]
      exact h
    · rw [List.pairwise_map, List.pairwise_reverse]
      refine List.Pairwise.imp_of_mem (fun {j k} hj hk h => ?_) mI
      obtain ⟨b, h1, _⟩ := edI j hj
      obtain ⟨b', h2, _⟩ := edI k hk
      right
      refine ⟨by show (2 * fd_c D t k + 1) % 2 = (2 * fd_c D t j + 1) % 2; omega, ?_⟩
      show ge_m (g (fd_e D (2 * fd_c D t k + 1)).2.2) < ge_m (g (fd_e D (2 * fd_c D t j + 1)).2.2)
      rw [(fd_e0 h1).2, (fd_e0 h2).2]
      exact h
    · intro a ha b hb
      obtain ⟨j, hj, rfl⟩ := List.mem_map.mp ha
      obtain ⟨k, hk, rfl⟩ := List.mem_map.mp hb
      left
      show 2 * fd_c D (t + 1) j % 2 < (2 * fd_c D t k + 1) % 2
      omega
  have bW : ∀ w, w ∈ eu_W (I.map (fd_i D t)) (F.map (fd_i D (t + 1))) → fd_b D w < t + 1 := by
    intro w hw
    unfold fd_b
    rcases List.mem_append.mp hw with z | z
    · obtain ⟨f, hf, rfl⟩ := List.mem_map.mp z
      obtain ⟨k, hk, rfl⟩ := List.mem_map.mp hf
      obtain ⟨b, h1, h2⟩ := edF k hk
      show (fd_e D (2 * fd_c D (t + 1) k)).1 < t + 1
      rw [(fd_e0 h1).1]; show t < t + 1; omega
    · obtain ⟨f, hf, rfl⟩ := List.mem_map.mp (List.mem_reverse.mp z)
      obtain ⟨k, hk, rfl⟩ := List.mem_map.mp hf
      obtain ⟨a, h1, h2⟩ := edI k hk
      show (fd_e D (2 * fd_c D t k + 1)).1 < t + 1
      rw [(fd_e0 h1).2]; show a < t + 1; omega
  have hrev : ∀ u : eu_It, u ∈ I.map (fd_i D t) ∨ u ∈ F.map (fd_i D (t + 1)) → fd_r u.2.2 = u.2.1 ∧ fd_r u.2.1 = u.2.2 := by
    rintro u (h | h)
    · obtain ⟨k, hk, rfl⟩ := List.mem_map.mp h
      exact fd_r0 _
    · obtain ⟨k, hk, rfl⟩ := List.mem_map.mp h
      exact fd_r0 _
  have atW : ∀ v, v ∈ eu_W (I.map (fd_i D t)) (F.map (fd_i D (t + 1))) → fd_r v < 2 * D.length ∧ fd_h D (fd_r v) = t := by
    intro v hv
    obtain ⟨h1, h2⟩ := (mW v).mp hv
    obtain ⟨h3, h4, h5, h6⟩ := fd_hr h1
    exact ⟨h5, h3.trans h2⟩
  obtain ⟨st1, st2⟩ := eu_star (ph := ph) hrev (by
    intro X u v Z e
    have mv : v ∈ eu_W (I.map (fd_i D t)) (F.map (fd_i D (t + 1))) := by rw [e]; simp
    obtain ⟨r1, r2⟩ := atW v mv
    exact fd_pred sW (fun w => by rw [r2]; exact mW w) (hph _ r1) e (fd_rr v)) (by
    intro v X u e hc
    have mv : v ∈ eu_W (I.map (fd_i D t)) (F.map (fd_i D (t + 1))) := by rw [e]; simp
    obtain ⟨r1, r2⟩ := atW v mv
    exact fd_predH sW (fun w => by rw [r2]; exact mW w) (hph _ r1) e hc (fd_rr v)) lk
  -- what goes out
  have Fn : F.Nodup := ls_mnd mF
  have cF : ∀ k, k ∈ F → ∀ x, x ∈ A ++ (I ++ C) → fd_c D (t + 1) k ≠ fd_c D t x := by
    intro k hk x hx e
    obtain ⟨b, h1, _⟩ := edF k hk
    obtain ⟨a, b', h2, h3, _⟩ := edL x hx
    rw [e, h2] at h1
    injection h1 with h1
    have : a = t := congrArg Prod.fst h1
    omega
  have hO : eu_Out (2 * D.length) 10 (fd_P pr g E t) lk lq (A.map (fd_i D t) ++ (I.map (fd_i D t) ++ C.map (fd_i D t))) (I.map (fd_i D t)) (F.map (fd_i D (t + 1))) := by
    refine ⟨?_, ?_, ?_, ?_, ?_⟩
    · intro f hf
      obtain ⟨k, hk, rfl⟩ := List.mem_map.mp hf
      obtain ⟨b, h1, h2⟩ := edF k hk
      have l := xe_len h1
      have fr : ∀ d, fd_b D d = t → eu_fr lk d := fun d hd a b' z => ⟨fun e => by have := (b1 a b' z).1; rw [e, hd] at this; omega, fun e => by have := (b1 a b' z).2; rw [e, hd] at this; omega⟩
      refine ⟨(H.1.1 k ((hF k).mp hk).1).1, by show 2 * fd_c D (t + 1) k + 1 < _; omega, by show 2 * fd_c D (t + 1) k < _; omega, fr _ ?_, fr _ ?_⟩
      · unfold fd_b; show (fd_e D (2 * fd_c D (t + 1) k + 1)).1 = t; rw [(fd_e0 h1).2]
      · unfold fd_b; show (fd_e D (2 * fd_c D (t + 1) k)).1 = t; rw [(fd_e0 h1).1]
    · intro f hf g' hg'
      obtain ⟨k, hk, rfl⟩ := List.mem_map.mp hf
      obtain ⟨k', hk', rfl⟩ := List.mem_map.mp hg'
      show 2 * fd_c D (t + 1) k + 1 ≠ 2 * fd_c D (t + 1) k'
      omega
    · rw [List.pairwise_map]
      refine List.Pairwise.imp_of_mem (fun {j k} hj hk h => ?_) Fn
      obtain ⟨b, h1, _⟩ := edF j hj
      obtain ⟨b', h2, _⟩ := edF k hk
      have ne : fd_c D (t + 1) j ≠ fd_c D (t + 1) k := by
        intro e
        rw [e, h2] at h1
        injection h1 with h1
        have : k = j := congrArg (fun x => x.2.2) h1
        exact h this.symm
      exact ⟨h, by show 2 * fd_c D (t + 1) j + 1 ≠ 2 * fd_c D (t + 1) k + 1; omega, by show 2 * fd_c D (t + 1) j ≠ 2 * fd_c D (t + 1) k; omega⟩
    · intro f hf x hx
      obtain ⟨k, hk, rfl⟩ := List.mem_map.mp hf
      rw [← List.map_append, ← List.map_append] at hx
      obtain ⟨k', hk', rfl⟩ := List.mem_map.mp hx
      have := cF k hk k' hk'
      refine ⟨?_, ?_, ?_, ?_⟩
      · show 2 * fd_c D (t + 1) k + 1 ≠ 2 * fd_c D t k' + 1; omega
      · show 2 * fd_c D (t + 1) k + 1 ≠ 2 * fd_c D t k'; omega
      · show 2 * fd_c D (t + 1) k ≠ 2 * fd_c D t k' + 1; omega
      · show 2 * fd_c D (t + 1) k ≠ 2 * fd_c D t k'; omega
    · intro f hf
      obtain ⟨k, hk, rfl⟩ := List.mem_map.mp hf
      obtain ⟨pk, xk', e', h1, h2⟩ := (hF k).mp hk
      by_cases c : ∃ e, e < t ∧ xo g E k e
      · left
        exact ⟨fd_i D t k, List.mem_map.mpr ⟨k, (hI k).mpr ⟨pk, xk', c⟩, rfl⟩, rfl⟩
      · right
        refine ⟨fun z => c z.2, fun a b z => ⟨fun e => c ?_, fun e => c ?_⟩⟩
        · have e : a = k := e
          rw [← e]; exact (q1 a b z).1.2
        · have e : b = k := e
          rw [← e]; exact (q1 a b z).2.2
  have hne : I.map (fd_i D t) ≠ [] ∨ F.map (fd_i D (t + 1)) ≠ [] := by
    obtain ⟨s, hs⟩ : ∃ s, E[t]? = some s := ⟨_, List.getElem?_eq_getElem ht⟩
    obtain ⟨k, pk, on⟩ : ∃ k, pr k ∧ ge_on (g k) (xe_P s) := by
      rcases (H.2.2.1 _).mp (List.mem_map.mpr ⟨s, List.mem_of_getElem? hs, rfl⟩) with ⟨k, pk, c⟩ | ⟨j, k, _, pj, pk, oj, ok⟩
      · refine ⟨k, pk, ?_⟩
        rcases c with c | c
        · rw [c]; exact ge_on_fr (H.1.1 k pk).2
        · rw [c]; exact ge_on_to (H.1.1 k pk).2
      · exact ⟨k, pk, ok⟩
    have xk' : xo g E k t := ⟨s, hs, on⟩
    rcases fd_two H pk xk' with c | c
    · left
      intro z
      have := List.mem_map.mpr ⟨k, (hI k).mpr ⟨pk, xk', c⟩, (rfl : fd_i D t k = fd_i D t k)⟩
      rw [z] at this
      exact absurd this (by simp)
    · right
      intro z
      have := List.mem_map.mpr ⟨k, (hF k).mpr ⟨pk, xk', c⟩, (rfl : fd_i D (t + 1) k = fd_i D (t + 1) k)⟩
      rw [z] at this
      exact absurd this (by simp)
  rw [List.map_append, List.map_append] at J
  obtain ⟨nb', J1, J2, J3, J4⟩ := eu_ev J hne hO
  have PP : ∀ z, (fd_P pr g E t z ∨ ∃ f, f ∈ F.map (fd_i D (t + 1)) ∧ z = f.1) ↔ fd_P pr g E (t + 1) z := by
    intro z
    constructor
    · rintro (⟨a, e, b, c⟩ | ⟨f, hf, rfl⟩)
      · exact ⟨a, e, by omega, c⟩
      · obtain ⟨k, hk, rfl⟩ := List.mem_map.mp hf
        obtain ⟨pk, xk', _⟩ := (hF k).mp hk
        exact ⟨pk, t, by omega, xk'⟩
    · rintro ⟨a, e, b, c⟩
      by_cases d : e = t
      · subst d
        rcases fd_two H a c with ⟨e', h1, h2⟩ | h
        · exact Or.inl ⟨a, e', h1, h2⟩
        · exact Or.inr ⟨_, List.mem_map.mpr ⟨z, (hF z).mpr ⟨a, c, h⟩, rfl⟩, rfl⟩
      · exact Or.inl ⟨a, e, by omega, c⟩
  have eL : A.map (fd_i D t) ++ (F.map (fd_i D (t + 1)) ++ C.map (fd_i D t)) = (A ++ (F ++ C)).map (fd_i D (t + 1)) := by
    rw [List.map_append, List.map_append]
    congr 1
    · exact List.map_congr_left (fun k hk => (same k (Or.inl hk)).symm)
    · congr 1
      exact List.map_congr_left (fun k hk => (same k (Or.inr hk)).symm)
  have cnt : cc_n (fun c => (D.getD c (0, 0, 0)).1 < t + 1) D.length = cc_n (fun c => (D.getD c (0, 0, 0)).1 < t) D.length + F.length := by
    have gd : ∀ {c : Nat} {x : Nat × Nat × Nat}, D[c]? = some x → D.getD c (0, 0, 0) = x := fun h => by rw [List.getD_eq_getElem?_getD, h]; rfl
    have := cc_list (F.map (fd_c D (t + 1))) (p := fun c => (D.getD c (0, 0, 0)).1 < t) (q := fun c => (D.getD c (0, 0, 0)).1 < t + 1) (n := D.length) ?_ ?_ ?_ ?_
    · rw [List.length_map] at this; exact this
    · refine List.pairwise_map.mpr (List.Pairwise.imp_of_mem (fun {j k} hj hk h e => ?_) Fn)
      obtain ⟨b, h1, _⟩ := edF j hj
      obtain ⟨b', h2, _⟩ := edF k hk
      rw [e, h2] at h1
      injection h1 with h1
      have : k = j := congrArg (fun x => x.2.2) h1
      exact h this.symm
    · intro c hc
      obtain ⟨k, hk, rfl⟩ := List.mem_map.mp hc
      obtain ⟨b, h1, _⟩ := edF k hk
      exact xe_len h1
    · intro c hc
      obtain ⟨x, hx⟩ : ∃ x, D[c]? = some x := ⟨_, List.getElem?_eq_getElem hc⟩
      obtain ⟨x1, x2, x3⟩ := x
      have hed := (H.2.2.2.2 _).mp (List.mem_of_getElem? hx)
      obtain ⟨y1, y2, y3, y4, y5⟩ := hed
      dsimp only at y1 y2 y3 y4
      rw [gd hx]
      show x1 < t + 1 ↔ x1 < t ∨ _
      constructor
      · intro z
        by_cases d : x1 = t
        · subst d
          right
          refine List.mem_map.mpr ⟨x3, (hF x3).mpr ⟨y1, y3, x2, y2, y4⟩, ?_⟩
          exact fd_c_eq H hx rfl (by show x1 < x1 + 1; omega) (by show x1 + 1 ≤ x2; omega)
        · left; omega
      · rintro (z | z)
        · omega
        · obtain ⟨k, hk, e⟩ := List.mem_map.mp z
          obtain ⟨b, h1, _⟩ := edF k hk
          rw [e, hx] at h1
          injection h1 with h1
          have : x1 = t := congrArg Prod.fst h1
          omega
    · intro c hc
      obtain ⟨k, hk, rfl⟩ := List.mem_map.mp hc
      obtain ⟨b, h1, _⟩ := edF k hk
      rw [gd h1]
      show ¬ t < t
      omega
  obtain ⟨sq1, sq2, sq3⟩ := eu_stQ_r (lq := lq) (I.map (fd_i D t)) (F.map (fd_i D (t + 1)))
  have lab : ∀ x : eu_It, x ∈ I.map (fd_i D t) ∨ x ∈ F.map (fd_i D (t + 1)) → pr x.1 ∧ xo g E x.1 t := by
    rintro x (h | h)
    · obtain ⟨k, hk, rfl⟩ := List.mem_map.mp h
      exact ⟨((hI k).mp hk).1, ((hI k).mp hk).2.1⟩
    · obtain ⟨k, hk, rfl⟩ := List.mem_map.mp h
      exact ⟨((hF k).mp hk).1, ((hF k).mp hk).2.1⟩
  refine ⟨nd', ?_, eu_stR lk (I.map (fd_i D t)) (F.map (fd_i D (t + 1))), eu_stQ lq (I.map (fd_i D t)) (F.map (fd_i D (t + 1))), nb', ⟨by rw [← eL]; exact J1, by rw [← eL]; exact J2, ?_, ?_⟩, ?_, ?_, ?_, ?_, ?_, ?_⟩
  · intro k hk
    have old : k ∈ A ∨ k ∈ C → pr k ∧ (∃ e, e < t + 1 ∧ xo g E k e) ∧ (∃ e, t + 1 ≤ e ∧ xo g E k e) := by
      intro h
      have kL : k ∈ A ++ (I ++ C) := h.elim (iA k) (iC k)
      obtain ⟨a1, ⟨e1, a2, a3⟩, ⟨e2, a4, a5⟩⟩ := act k kL
      refine ⟨a1, ⟨e1, by omega, a3⟩, ⟨e2, ?_, a5⟩⟩
      have : e2 ≠ t := fun z => offAC k h (z ▸ a5)
      omega
    rcases List.mem_append.mp hk with z | z
    · exact old (Or.inl z)
    · rcases List.mem_append.mp z with z | z
      · obtain ⟨pk, xk', e', h1, h2⟩ := (hF k).mp z
        exact ⟨pk, ⟨t, by omega, xk'⟩, ⟨e', by omega, h2⟩⟩
      · exact old (Or.inr z)
  · intro x hx
    rw [← eL] at hx
    obtain ⟨a, b, c, d⟩ := J3 x hx
    exact ⟨a, (PP _).mp b, c, d⟩
  · rw [cnt]
    rw [List.length_map] at J4
    rw [cx_n_co (P' := fun z => fd_P pr g E t z ∨ ∃ f, f ∈ F.map (fd_i D (t + 1)) ∧ z = f.1) (R' := cx_R (eu_stQ lq (I.map (fd_i D t)) (F.map (fd_i D (t + 1))))) (fun z _ => (PP z).symm) (fun _ _ _ _ _ _ => Iff.rfl)]
    omega
  · intro a b h
    rcases st1 a b h with z | ⟨w, hw, z⟩
    · have := b1 a b z
      exact ⟨by omega, by omega⟩
    · have hw1 := (mW w).mp hw
      obtain ⟨r1, r2, r3, r4⟩ := fd_hr hw1.1
      have w1 := bW w hw
      have nx : fd_b D (ph (fd_r w)) < t + 1 := by
        obtain ⟨n1, n2, _⟩ := hph (fd_r w) r3
        exact bW _ ((mW _).mpr ⟨n1, by rw [n2, r1]; exact hw1.2⟩)
      rcases z with ⟨rfl, rfl⟩ | ⟨rfl, rfl⟩
      · exact ⟨by rw [r4]; exact w1, nx⟩
      · exact ⟨nx, by rw [r4]; exact w1⟩
  · intro a b h
    rcases st1 a b h with z | ⟨w, hw, z⟩
    · exact b2 a b z
    · obtain ⟨r1, r2⟩ := atW w hw
      rcases z with ⟨rfl, rfl⟩ | ⟨rfl, rfl⟩
      · exact cx_lk ⟨r1, rfl⟩
      · exact cx_sy (cx_lk ⟨r1, rfl⟩)
  · intro d hd hh
    by_cases c : fd_h D d = t
    · obtain ⟨r1, r2, r3, r4⟩ := fd_hr hd
      have := st2 (fd_r d) ((mW _).mpr ⟨r3, by rw [r2, c]⟩)
      rw [fd_rr] at this
      exact this
    · exact cx_mo (fun a b z => cx_lk ((eu_stR_iff _ _).mpr (Or.inl z))) (b3 d hd (by omega))
  · intro a b h
    rcases sq1 a b h with z | ⟨x, y, hx, hy, rfl, rfl⟩
    · obtain ⟨z1, z2⟩ := q1 a b z
      exact ⟨(PP _).mp (Or.inl z1), (PP _).mp (Or.inl z2)⟩
    · exact ⟨⟨(lab x hx).1, t, by omega, (lab x hx).2⟩, ⟨(lab y hy).1, t, by omega, (lab y hy).2⟩⟩
  · intro a b h
    rcases sq1 a b h with z | ⟨x, y, hx, hy, rfl, rfl⟩
    · exact q2 a b z
    · obtain ⟨p1, s1, hs1, o1⟩ := lab x hx
      obtain ⟨p2, s2, hs2, o2⟩ := lab y hy
      rw [hs1] at hs2; injection hs2 with hs2
      rw [← hs2] at o2
      exact cx_lk ⟨p1, p2, _, o1, o2⟩
  · intro e' he' j k pj xj pk xk'
    by_cases c : e' = t
    · subst c
      have mem : ∀ k, pr k → xo g E k e' → ∃ x : eu_It, (x ∈ I.map (fd_i D e') ∨ x ∈ F.map (fd_i D (e' + 1))) ∧ x.1 = k := by
        intro k pk xk'
        rcases fd_two H pk xk' with h | h
        · exact ⟨fd_i D e' k, Or.inl (List.mem_map.mpr ⟨k, (hI k).mpr ⟨pk, xk', h⟩, rfl⟩), rfl⟩
        · exact ⟨fd_i D (e' + 1) k, Or.inr (List.mem_map.mpr ⟨k, (hF k).mpr ⟨pk, xk', h⟩, rfl⟩), rfl⟩
      obtain ⟨x, hx, ex⟩ := mem j pj xj
      obtain ⟨y, hy, ey⟩ := mem k pk xk'
      rw [← ex, ← ey]
      exact sq2 x y hx hy
    · exact cx_mo sq3 (q3 e' (by omega) j k pj xj pk xk')
end
section
/-! Euler's count: ways around + places = pieces + twice the groups -/
theorem eu_V_nil {lk lq : Nat → Nat → Prop} {n : Nat} (h : eu_V lk lq n []) : n = 0 := by
  cases n with
  | zero => rfl
  | succ n =>
    obtain ⟨X, B, Z, e, hB, _⟩ := h
    have := congrArg List.length e
    simp at this
    exact absurd (List.length_eq_zero_iff.mp (show B.length = 0 by omega)) hB
theorem fd_main {pr : Nat → Prop} {g : Nat → ge_S} {E : List xe_T} {D : List (Nat × Nat × Nat)} (H : fd_H pr g E D) (hT : sw_T pr g (E.map xe_P) []) {ph : Nat → Nat} (hph : ∀ d, d < 2 * D.length → fd_N g D d (ph d)) :
    cx_n (fun _ => True) (cx_R (fd_L D ph)) (2 * D.length) + E.length = D.length + 2 * cx_n pr (cx_R (gr_lk pr g)) 10 := by
  obtain ⟨Ls, h0, hn, hs⟩ := fd_tr H hT
  have start : fd_J pr g E D ph 0 (Ls 0) := by
    rw [h0]
    refine ⟨List.nodup_nil, fun k hk => absurd hk (by simp), fun _ _ => False, fun _ _ => False, 0, ⟨rfl, List.Pairwise.nil, fun x hx => absurd hx (by simp), ?_⟩, fun _ _ z => z.elim, fun _ _ z => z.elim, fun d _ h => absurd h (by omega), fun _ _ z => z.elim, fun _ _ z => z.elim, fun e' he' => absurd he' (by omega)⟩
    have e1 : cx_n (fun _ => True) (cx_R (fun _ _ => False)) (2 * D.length) = 2 * D.length := by
      rw [cx_n_0 (fun x y _ _ _ _ z => (cx_fr (fun _ _ w => w.elim) z).symm)]
      exact cc_nt (fun _ _ => trivial)
    have e2 : cx_n (fd_P pr g E 0) (cx_R (fun _ _ => False)) 10 = 0 := by
      unfold cx_n
      refine cc_nf (fun i _ z => ?_)
      obtain ⟨e, he, _⟩ := z.1.2
      omega
    have e3 : cc_n (fun c => (D.getD c (0, 0, 0)).1 < 0) D.length = 0 := cc_nf (fun i _ z => by omega)
    rw [e1, e2, e3]
  have all : ∀ t, t ≤ E.length → fd_J pr g E D ph t (Ls t) := by
    intro t
    induction t with
    | zero => exact fun _ => start
    | succ t ih => exact fun ht => fd_step H hph (by omega) (ih (by omega)) (hs t (by omega))
  obtain ⟨_, _, lk, lq, nb, ⟨J1, _, _, J4⟩, _, b2, b3, q1, q2, q3⟩ := all E.length (Nat.le_refl _)
  rw [hn] at J1
  have nb0 := eu_V_nil J1
  have dl : ∀ {c : Nat} {x : Nat × Nat × Nat}, D[c]? = some x → x.1 < E.length ∧ x.2.1 < E.length := by
    intro c x hc
    have hx := (H.2.2.2.2 x).mp (List.mem_of_getElem? hc)
    exact ⟨xo_len hx.2.2.1, xo_len hx.2.2.2.1⟩
  have e1 : cc_n (fun c => (D.getD c (0, 0, 0)).1 < E.length) D.length = D.length := by
    refine cc_nt (fun c hc => ?_)
    have h1 := List.getElem?_eq_getElem hc
    rw [List.getD_eq_getElem?_getD, h1]
    exact (dl h1).1
  have e2 : cx_n (fun _ => True) (cx_R lk) (2 * D.length) = cx_n (fun _ => True) (cx_R (fd_L D ph)) (2 * D.length) := by
    refine cx_n_co (fun _ _ => Iff.rfl) (fun x y _ _ _ _ => cx_co b2 ?_ x y)
    rintro a b ⟨ha, rfl⟩
    refine b3 a ha ?_
    obtain ⟨c, x, hc, e⟩ := fd_cases ha
    obtain ⟨d1, d2, d3, d4⟩ := fd_d0 hc
    rcases e with rfl | rfl
    · rw [d2]; exact (dl hc).2
    · rw [d4]; exact (dl hc).1
  have e3 : cx_n (fd_P pr g E E.length) (cx_R lq) 10 = cx_n pr (cx_R (gr_lk pr g)) 10 := by
    refine cx_n_co (fun k _ => ⟨fun z => z.1, fun pk => ⟨pk, ?_⟩⟩) (fun x y _ _ _ _ => cx_co q2 ?_ x y)
    · obtain ⟨s, hs', es⟩ := List.mem_map.mp ((H.2.2.1 (ge_fr (g k))).mpr (Or.inl ⟨k, pk, Or.inl rfl⟩))
      obtain ⟨i, hi⟩ := List.mem_iff_getElem?.mp hs'
      exact ⟨i, xe_len hi, s, hi, by rw [es]; exact ge_on_fr (H.1.1 k pk).2⟩
    · rintro a b ⟨pa, pb, p, oa, ob⟩
      by_cases c : a = b
      · rw [c]; exact cx_rf _ _
      · obtain ⟨t, ht, et⟩ := List.mem_map.mp ((H.2.2.1 p).mpr (Or.inr ⟨a, b, c, pa, pb, oa, ob⟩))
        obtain ⟨e, he⟩ := List.mem_iff_getElem?.mp ht
        rw [← et] at oa ob
        exact q3 e (xe_len he) a b pa ⟨t, he, oa⟩ pb ⟨t, he, ob⟩
  rw [nb0, e1, e2, e3] at J4
  omega
end
section
/-! nextAround -/
def vc_up (v : Int × Int) : Prop := 0 < v.2 ∨ (v.2 = 0 ∧ 0 < v.1)
def vc_rt (v : Int × Int) : Prop := 0 < v.1 ∨ (v.1 = 0 ∧ 0 < v.2)
def vc_x (a b : Int × Int) : Int := a.1 * b.2 - a.2 * b.1
def vc_c (a b : Int × Int) : Prop := (vc_up a ∧ ¬ vc_up b) ∨ ((vc_up a ↔ vc_up b) ∧ 0 < vc_x a b)
def vc_t (a b : Int × Int) : Prop := (vc_rt a ∧ ¬ vc_rt b) ∨ ((vc_rt a ↔ vc_rt b) ∧ 0 < vc_x a b)
def vc_q (v : Int × Int) : Prop := ¬ vc_up v ∧ vc_rt v
theorem vc_pos {a b : Int × Int} (h1 : 0 ≤ a.1 * b.2) (h2 : a.2 * b.1 ≤ 0) (h : 0 < a.1 * b.2 ∨ a.2 * b.1 < 0) : 0 < vc_x a b := by unfold vc_x; omega
theorem vc_neg {a b : Int × Int} (h1 : a.1 * b.2 ≤ 0) (h2 : 0 ≤ a.2 * b.1) : ¬ 0 < vc_x a b := by unfold vc_x; omega
theorem im_pn {x y : Int} (h1 : 0 ≤ x) (h2 : y ≤ 0) : x * y ≤ 0 := by
  have := Int.mul_nonneg h1 (show 0 ≤ -y by omega)
  rw [Int.mul_neg] at this; omega
theorem im_np {x y : Int} (h1 : x ≤ 0) (h2 : 0 ≤ y) : x * y ≤ 0 := by rw [Int.mul_comm]; exact im_pn h2 h1
theorem im_nn {x y : Int} (h1 : x ≤ 0) (h2 : y ≤ 0) : 0 ≤ x * y := by
  have := Int.mul_nonneg (show 0 ≤ -x by omega) (show 0 ≤ -y by omega)
  rw [Int.neg_mul_neg] at this; exact this
theorem im_pN {x y : Int} (h1 : 0 < x) (h2 : y < 0) : x * y < 0 := by
  have := Int.mul_pos h1 (show 0 < -y by omega)
  rw [Int.mul_neg] at this; omega
theorem im_Np {x y : Int} (h1 : x < 0) (h2 : 0 < y) : x * y < 0 := by rw [Int.mul_comm]; exact im_pN h2 h1
theorem im_NN {x y : Int} (h1 : x < 0) (h2 : y < 0) : 0 < x * y := by
  have := Int.mul_pos (show 0 < -x by omega) (show 0 < -y by omega)
  rw [Int.neg_mul_neg] at this; exact this
/-- one off the lower right against the others -/
theorem vc_q1 {a b : Int × Int} (hb : b ≠ (0, 0)) (qa : vc_q a) (qb : ¬ vc_q b) : vc_t a b ∧ ¬ vc_c a b := by
  obtain ⟨a1, a2⟩ := a
  obtain ⟨b1, b2⟩ := b
  have hb' : ¬ (b1 = 0 ∧ b2 = 0) := fun z => hb (by rw [z.1, z.2])
  unfold vc_q vc_up vc_rt at qa qb
  dsimp only at qa qb
  have xa : 0 < a1 := by omega
  have ya : a2 < 0 := by omega
  unfold vc_t vc_c vc_up vc_rt
  dsimp only
  constructor
  · by_cases c : 0 < b1 ∨ (b1 = 0 ∧ 0 < b2)
    · right
      refine ⟨⟨fun _ => c, fun _ => Or.inl xa⟩, ?_⟩
      have b1' : 0 ≤ b1 := by omega
      have b2' : 0 ≤ b2 := by omega
      refine vc_pos (Int.mul_nonneg (by show 0 ≤ a1; omega) b2') (im_np (by show a2 ≤ 0; omega) b1') ?_
      by_cases d : 0 < b1
      · right; exact im_Np ya d
      · left; exact Int.mul_pos xa (by show 0 < b2; omega)
    · left; exact ⟨Or.inl xa, c⟩
  · rintro (⟨z, _⟩ | ⟨z, w⟩)
    · omega
    · have ub : ¬ (0 < b2 ∨ (b2 = 0 ∧ 0 < b1)) := fun y => by have := z.mpr y; omega
      have b1' : b1 ≤ 0 := by omega
      have b2' : b2 ≤ 0 := by omega
      exact vc_neg (im_pn (by show 0 ≤ a1; omega) b2') (im_nn (by show a2 ≤ 0; omega) b1') w
theorem vc_x_sy (a b : Int × Int) : vc_x b a = - vc_x a b := by
  unfold vc_x
  rw [Int.mul_comm b.1 a.2, Int.mul_comm b.2 a.1]; omega
theorem vc_q2 {a b : Int × Int} (ha : a ≠ (0, 0)) (qa : ¬ vc_q a) (qb : vc_q b) : vc_c a b ∧ ¬ vc_t a b := by
  obtain ⟨a1, a2⟩ := a
  obtain ⟨b1, b2⟩ := b
  have ha' : ¬ (a1 = 0 ∧ a2 = 0) := fun z => ha (by rw [z.1, z.2])
  unfold vc_q vc_up vc_rt at qa qb
  dsimp only at qa qb
  have xb : 0 < b1 := by omega
  have yb : b2 < 0 := by omega
  unfold vc_t vc_c vc_up vc_rt
  dsimp only
  constructor
  · by_cases c : 0 < a2 ∨ (a2 = 0 ∧ 0 < a1)
    · left; exact ⟨c, by omega⟩
    · right
      refine ⟨⟨fun z => absurd z c, fun z => by omega⟩, ?_⟩
      have a1' : a1 ≤ 0 := by omega
      have a2' : a2 ≤ 0 := by omega
      refine vc_pos (im_nn a1' (by show b2 ≤ 0; omega)) (im_np a2' (by show 0 ≤ b1; omega)) ?_
      by_cases d : a1 < 0
      · left; exact im_NN d yb
      · right; exact im_Np (by show a2 < 0; omega) xb
  · rintro (⟨_, z⟩ | ⟨z, w⟩)
    · exact z (Or.inl xb)
    · have ra : 0 < a1 ∨ (a1 = 0 ∧ 0 < a2) := z.mpr (Or.inl xb)
      have a1' : 0 ≤ a1 := by omega
      have a2' : 0 ≤ a2 := by omega
      exact vc_neg (im_pn a1' (by show b2 ≤ 0; omega)) (Int.mul_nonneg a2' (by show 0 ≤ b1; omega)) w
theorem vc_q3 {a b : Int × Int} (ha : a ≠ (0, 0)) (hb : b ≠ (0, 0)) (h : vc_q a ↔ vc_q b) : vc_c a b ↔ vc_t a b := by
  obtain ⟨a1, a2⟩ := a
  obtain ⟨b1, b2⟩ := b
  have ha' : ¬ (a1 = 0 ∧ a2 = 0) := fun z => ha (by rw [z.1, z.2])
  have hb' : ¬ (b1 = 0 ∧ b2 = 0) := fun z => hb (by rw [z.1, z.2])
  have hx : vc_x (a1, a2) (b1, b2) = a1 * b2 - a2 * b1 := rfl
  by_cases ua : vc_up (a1, a2) <;> by_cases ub : vc_up (b1, b2) <;> by_cases ra : vc_rt (a1, a2) <;> by_cases rb : vc_rt (b1, b2)
  all_goals unfold vc_q at h
  all_goals simp only [ua, ub, ra, rb, not_true, not_false_iff, true_and, and_true, false_and, and_false, iff_true, iff_false, true_iff, false_iff] at h
  all_goals unfold vc_c vc_t
  all_goals simp only [ua, ub, ra, rb, not_true, not_false_iff, true_and, and_true, false_and, and_false, true_or, or_true, or_false, false_or, iff_true, iff_false, true_iff, false_iff, iff_self]
  all_goals unfold vc_up at ua ub
  all_goals unfold vc_rt at ra rb
  all_goals dsimp only at ua ub ra rb
  · -- a right and up, b left and up
    refine vc_pos (Int.mul_nonneg (by show 0 ≤ a1; omega) (by show 0 ≤ b2; omega)) (im_pn (by show 0 ≤ a2; omega) (by show b1 ≤ 0; omega)) ?_
    by_cases d : 0 < a1
    · left; exact Int.mul_pos d (by show 0 < b2; omega)
    · right; exact im_pN (by show 0 < a2; omega) (by show b1 < 0; omega)
  · exact vc_neg (im_np (by show a1 ≤ 0; omega) (by show 0 ≤ b2; omega)) (Int.mul_nonneg (by show 0 ≤ a2; omega) (by show 0 ≤ b1; omega))
  all_goals first
    | (refine vc_pos (im_nn (by show a1 ≤ 0; omega) (by show b2 ≤ 0; omega)) (im_pn (by show 0 ≤ a2; omega) (by show b1 ≤ 0; omega)) ?_
       by_cases d : b2 < 0
       · left; exact im_NN (by show a1 < 0; omega) d
       · right; exact im_pN (by show 0 < a2; omega) (by show b1 < 0; omega))
    | exact vc_neg (im_np (by show a1 ≤ 0; omega) (by show 0 ≤ b2; omega)) (im_nn (by show a2 ≤ 0; omega) (by show b1 ≤ 0; omega))
    | skip
end
section
/-! nextAround, of the component -/
def vc_CN (c : (Int × Int) → (Int × Int) → Prop) (a b k : Int × Int) : Prop := ((c a k ↔ c b k) ∧ c b a) ∨ (c a k ∧ ¬ c b k)
theorem vc_cyc {a b k : Int × Int} (ha : a ≠ (0, 0)) (hb : b ≠ (0, 0)) (hk : k ≠ (0, 0)) : vc_CN vc_c a b k ↔ vc_CN vc_t a b k := by
  have rel : ∀ {x y : Int × Int}, x ≠ (0, 0) → y ≠ (0, 0) → ((vc_q x ↔ vc_q y) → (vc_c x y ↔ vc_t x y)) ∧ (vc_q x → ¬ vc_q y → vc_t x y ∧ ¬ vc_c x y) ∧ (¬ vc_q x → vc_q y → vc_c x y ∧ ¬ vc_t x y) :=
    fun hx hy => ⟨vc_q3 hx hy, vc_q1 hy, vc_q2 hx⟩
  obtain ⟨p1, p2, p3⟩ := rel ha hk
  obtain ⟨r1, r2, r3⟩ := rel hb hk
  obtain ⟨s1, s2, s3⟩ := rel hb ha
  unfold vc_CN
  generalize vc_c a k = A1 at *
  generalize vc_t a k = A2 at *
  generalize vc_c b k = B1 at *
  generalize vc_t b k = B2 at *
  generalize vc_c b a = C1 at *
  generalize vc_t b a = C2 at *
  generalize vc_q a = qa at *
  generalize vc_q b = qb at *
  generalize vc_q k = qk at *
  clear rel
  by_cases h1 : qa <;> by_cases h2 : qb <;> by_cases h3 : qk <;> simp_all
def fd_v (g : Nat → ge_S) (D : List (Nat × Nat × Nat)) (d : Nat) : Int × Int := if d % 2 = 0 then (ge_dx (g (fd_e D d).2.2), ge_dy (g (fd_e D d).2.2)) else (-ge_dx (g (fd_e D d).2.2), -ge_dy (g (fd_e D d).2.2))
theorem fd_v0 {g : Nat → ge_S} {D : List (Nat × Nat × Nat)} {d : Nat} (ok : ge_ok (g (fd_e D d).2.2)) : fd_v g D d ≠ (0, 0) ∧ (vc_rt (fd_v g D d) ↔ d % 2 = 0) := by
  obtain ⟨h1, h2, h3, h4, h5, h6, h7, h8, h9⟩ := ok
  unfold fd_v
  split
  · next c =>
    constructor
    · intro z
      have z1 := congrArg Prod.fst z
      have z2 := congrArg Prod.snd z
      dsimp only at z1 z2
      unfold ge_dx at z1
      unfold ge_dy at z2
      omega
    · unfold vc_rt ge_dx ge_dy
      dsimp only
      exact ⟨fun _ => c, fun _ => by omega⟩
  · next c =>
    constructor
    · intro z
      have z1 := congrArg Prod.fst z
      have z2 := congrArg Prod.snd z
      dsimp only at z1 z2
      unfold ge_dx at z1
      unfold ge_dy at z2
      omega
    · unfold vc_rt ge_dx ge_dy
      dsimp only
      exact ⟨fun z => by omega, fun z => absurd z c⟩
theorem fd_Tv {g : Nat → ge_S} {D : List (Nat × Nat × Nat)} {e f : Nat} (oe : ge_ok (g (fd_e D e).2.2)) (of : ge_ok (g (fd_e D f).2.2)) : fd_T g D e f ↔ vc_t (fd_v g D e) (fd_v g D f) := by
  have re := (fd_v0 oe).2
  have rf := (fd_v0 of).2
  have me := Nat.mod_two_eq_zero_or_one e
  have mf := Nat.mod_two_eq_zero_or_one f
  have x : e % 2 = f % 2 → vc_x (fd_v g D e) (fd_v g D f) = ge_turn (g (fd_e D e).2.2) (g (fd_e D f).2.2) := by
    intro h
    unfold fd_v vc_x ge_turn
    by_cases c : e % 2 = 0
    · rw [if_pos c, if_pos (by omega)]
    · rw [if_neg c, if_neg (by omega)]
      dsimp only
      rw [Int.neg_mul_neg, Int.neg_mul_neg]
  unfold fd_T vc_t
  rw [re, rf]
  constructor
  · rintro (z | ⟨z, w⟩)
    · left; omega
    · right
      refine ⟨by omega, ?_⟩
      rw [x z]
      exact (ge_turn_p oe of).mpr w
  · rintro (z | ⟨z, w⟩)
    · left; omega
    · right
      have h : e % 2 = f % 2 := by omega
      rw [x h] at w
      exact ⟨h, (ge_turn_p oe of).mp w⟩
theorem fd_Cv {g : Nat → ge_S} {D : List (Nat × Nat × Nat)} {e b k : Nat} (oe : ge_ok (g (fd_e D e).2.2)) (ob : ge_ok (g (fd_e D b).2.2)) (ok : ge_ok (g (fd_e D k).2.2)) : vc_CN vc_c (fd_v g D e) (fd_v g D b) (fd_v g D k) ↔ fd_C g D e b k := by
  rw [vc_cyc (fd_v0 oe).1 (fd_v0 ob).1 (fd_v0 ok).1]
  unfold vc_CN fd_C
  rw [← fd_Tv oe ok, ← fd_Tv ob ok, ← fd_Tv ob oe]
  by_cases h1 : fd_T g D e k <;> by_cases h2 : fd_T g D b k <;> by_cases h3 : fd_T g D b e <;> simp [h1, h2, h3]
theorem fd_C_as {g : Nat → ge_S} {D : List (Nat × Nat × Nat)} {e b k : Nat} (h : fd_C g D e b k) : ¬ fd_C g D b e k := by
  unfold fd_C at *
  intro z
  have a := fun y : fd_T g D b e => fd_T_as y
  by_cases h1 : fd_T g D e k <;> by_cases h2 : fd_T g D b k <;> by_cases h3 : fd_T g D b e <;> by_cases h4 : fd_T g D e b <;> simp_all
theorem fd_C_tr {g : Nat → ge_S} {D : List (Nat × Nat × Nat)} {e b c k : Nat} (h : fd_C g D e b k) (h' : fd_C g D b c k) : fd_C g D e c k := by
  unfold fd_C at *
  have a := fun (y : fd_T g D c b) (z : fd_T g D b e) => fd_T_tr y z
  by_cases h1 : fd_T g D e k <;> by_cases h2 : fd_T g D b k <;> by_cases h3 : fd_T g D c k <;> simp_all
/-- what is held of the edges' arrays -/
def fx_A (pr : Nat → Prop) (g : Nat → ge_S) (D : List (Nat × Nat × Nat)) (fe : Int32) (eF eT eG : Nat → Int32) : Prop :=
  fe = nI (2 * D.length) ∧ D.length ≤ 110 ∧ ed_A D eF eT eG ∧ ∀ x, x ∈ D → pr x.2.2 ∧ x.1 < 66 ∧ x.2.1 < 66
theorem fx_get {pr : Nat → Prop} {g : Nat → ge_S} {D : List (Nat × Nat × Nat)} {fe : Int32} {eF eT eG : Nat → Int32} (h : fx_A pr g D fe eF eT eG) {d : Nat} (hd : d < 2 * D.length) : eF d = nI (fd_t D d) ∧ eG d = nI (fd_e D d).2.2 ∧ pr (fd_e D d).2.2 ∧ fd_t D d < 66 := by
  obtain ⟨_, _, hA, hm⟩ := h
  obtain ⟨c, x, hc, e⟩ := fd_cases hd
  obtain ⟨h1, h2, h3, h4, h5, h6⟩ := hA c x hc
  obtain ⟨d1, d2, d3, d4⟩ := fd_d0 hc
  obtain ⟨f1, f2⟩ := fd_e0 hc
  obtain ⟨m1, m2, m3⟩ := hm x (List.mem_of_getElem? hc)
  rcases e with rfl | rfl
  · rw [d1, f1]; exact ⟨h1, h3, m1, m2⟩
  · rw [d3, f2]; exact ⟨h4, h6, m1, m3⟩
theorem xx_1 : ∀ d, d < 220 → d ^^^ 1 = fd_r d := by decide
section
variable {f_present f_events f_now f_active f_freshCount f_pointX f_pointY f_pointBottom f_edges : Int32} {a_fromX a_fromY a_toX a_toY a_eventX a_eventY a_eventBottom a_eventSet a_order a_fresh a_edgeFrom a_edgeTo a_edgeSegment a_gone a_groupOf : Nat → Int32}
theorem xs_goesX {post : Int32 → Prop} {pr : Nat → Prop} {g : Nat → ge_S} {D : List (Nat × Nat × Nat)} (hg : xg pr g f_present a_fromX a_fromY a_toX a_toY) (hD : fx_A pr g D f_edges a_edgeFrom a_edgeTo a_edgeSegment) {d : Nat} (hd : d < 2 * D.length) (h : post (zI (fd_v g D d).1)) : wpX_goesX post (f_present, f_events, f_now, f_active, f_freshCount, f_pointX, f_pointY, f_pointBottom, f_edges, a_fromX, a_fromY, a_toX, a_toY, a_eventX, a_eventY, a_eventBottom, a_eventSet, a_order, a_fresh, a_edgeFrom, a_edgeTo, a_edgeSegment, a_gone, a_groupOf) (nI d) := by
  obtain ⟨e1, e2, e3, e4⟩ := fx_get hD hd
  have l := hD.2.1
  refine And.intro (vp_in_nI (by omega) (by omega)) ?_
  rw [nI_clamp (by omega), e2]
  refine xs_stepX (hg.2 _ e3) ?_
  have em : nI d &&& 1 = nI (d % 2) := pk_andN (n := d) (by omega) (m := 1) 1 (by decide)
  rw [em]
  unfold fd_v at h
  refine pk_eq (d % 2) 0 (fun c => ?_) (fun c => ?_) rfl rfl (by omega) (by omega)
  · rw [if_pos c] at h; exact h
  · rw [if_neg c] at h; rw [zI_neg]; exact h
theorem xs_goesY {post : Int32 → Prop} {pr : Nat → Prop} {g : Nat → ge_S} {D : List (Nat × Nat × Nat)} (hg : xg pr g f_present a_fromX a_fromY a_toX a_toY) (hD : fx_A pr g D f_edges a_edgeFrom a_edgeTo a_edgeSegment) {d : Nat} (hd : d < 2 * D.length) (h : post (zI (fd_v g D d).2)) : wpX_goesY post (f_present, f_events, f_now, f_active, f_freshCount, f_pointX, f_pointY, f_pointBottom, f_edges, a_fromX, a_fromY, a_toX, a_toY, a_eventX, a_eventY, a_eventBottom, a_eventSet, a_order, a_fresh, a_edgeFrom, a_edgeTo, a_edgeSegment, a_gone, a_groupOf) (nI d) := by
  obtain ⟨e1, e2, e3, e4⟩ := fx_get hD hd
  have l := hD.2.1
  refine And.intro (vp_in_nI (by omega) (by omega)) ?_
  rw [nI_clamp (by omega), e2]
  refine xs_stepY (hg.2 _ e3) ?_
  have em : nI d &&& 1 = nI (d % 2) := pk_andN (n := d) (by omega) (m := 1) 1 (by decide)
  rw [em]
  unfold fd_v at h
  refine pk_eq (d % 2) 0 (fun c => ?_) (fun c => ?_) rfl rfl (by omega) (by omega)
  · rw [if_pos c] at h; exact h
  · rw [if_neg c] at h; rw [zI_neg]; exact h
theorem fd_vB {g : Nat → ge_S} {D : List (Nat × Nat × Nat)} {d : Nat} (ok : ge_ok (g (fd_e D d).2.2)) : -20 ≤ (fd_v g D d).1 ∧ (fd_v g D d).1 ≤ 20 ∧ -20 ≤ (fd_v g D d).2 ∧ (fd_v g D d).2 ≤ 20 := by
  obtain ⟨h1, h2, h3, h4, h5, h6, h7, h8, h9⟩ := ok
  unfold fd_v ge_dx ge_dy
  split <;> (dsimp only; omega)
theorem xs_turns {post : Int32 → Prop} {pr : Nat → Prop} {g : Nat → ge_S} {D : List (Nat × Nat × Nat)} (G : sw_G pr g) (hg : xg pr g f_present a_fromX a_fromY a_toX a_toY) (hD : fx_A pr g D f_edges a_edgeFrom a_edgeTo a_edgeSegment) {d e : Nat} (hd : d < 2 * D.length) (he : e < 2 * D.length) (h1 : vc_c (fd_v g D d) (fd_v g D e) → post 1) (h0 : ¬ vc_c (fd_v g D d) (fd_v g D e) → post 0) : wpX_turnsBefore post (f_present, f_events, f_now, f_active, f_freshCount, f_pointX, f_pointY, f_pointBottom, f_edges, a_fromX, a_fromY, a_toX, a_toY, a_eventX, a_eventY, a_eventBottom, a_eventSet, a_order, a_fresh, a_edgeFrom, a_edgeTo, a_edgeSegment, a_gone, a_groupOf) (nI d) (nI e) := by
  have od := (G.1 _ (fx_get hD hd).2.2.1).2
  have oe := (G.1 _ (fx_get hD he).2.2.1).2
  obtain ⟨b1, b2, b3, b4⟩ := fd_vB od
  obtain ⟨c1, c2, c3, c4⟩ := fd_vB oe
  have z0 : zB 0 := ⟨by omega, by omega⟩
  have bx1 : zB (fd_v g D d).1 := ⟨by omega, by omega⟩
  have by1 : zB (fd_v g D d).2 := ⟨by omega, by omega⟩
  have bx2 : zB (fd_v g D e).1 := ⟨by omega, by omega⟩
  have by2 : zB (fd_v g D e).2 := ⟨by omega, by omega⟩
  have last : ∀ h1v h2v : Int32, (vc_up (fd_v g D d) ∧ h1v = 0 ∨ ¬ vc_up (fd_v g D d) ∧ h1v = 1) → (vc_up (fd_v g D e) ∧ h2v = 0 ∨ ¬ vc_up (fd_v g D e) ∧ h2v = 1) → wX_turnsBefore_59 post (nI d) (nI e) h1v h2v f_present f_events f_now f_active f_freshCount f_pointX f_pointY f_pointBottom f_edges a_fromX a_fromY a_toX a_toY a_eventX a_eventY a_eventBottom a_eventSet a_order a_fresh a_edgeFrom a_edgeTo a_edgeSegment a_gone a_groupOf := by
    intro h1v h2v k1 k2
    refine br_c (fun c => ?_) (fun c => ?_)
    · have same : vc_up (fd_v g D d) ↔ vc_up (fd_v g D e) := by
        rcases k1 with ⟨u1, v1⟩ | ⟨u1, v1⟩ <;> rcases k2 with ⟨u2, v2⟩ | ⟨u2, v2⟩
        · exact ⟨fun _ => u2, fun _ => u1⟩
        · rw [v1, v2] at c; exact absurd c (by decide)
        · rw [v1, v2] at c; exact absurd c (by decide)
        · exact ⟨fun z => absurd z u1, fun z => absurd z u2⟩
      refine xs_goesX hg hD hd ?_
      refine xs_goesY hg hD he (nm_e ?_)
      refine xs_goesY hg hD hd ?_
      refine xs_goesX hg hD he ?_
      simp only [zI_mul, zI_sub]
      have m1 := zb_mul (x := (fd_v g D d).1) (y := (fd_v g D e).2) (A := 20) (B := 20) b1 b2 c3 c4
      have m2 := zb_mul (x := (fd_v g D d).2) (y := (fd_v g D e).1) (A := 20) (B := 20) b3 b4 c1 c2
      have x : vc_x (fd_v g D d) (fd_v g D e) = (fd_v g D d).1 * (fd_v g D e).2 - (fd_v g D d).2 * (fd_v g D e).1 := rfl
      refine ek_if (zI_le (b := 0) ⟨by omega, by omega⟩ z0) (fun q => h0 ?_) (fun q => h1 (Or.inr ⟨same, by rw [x]; omega⟩))
      rintro (⟨w1, w2⟩ | ⟨_, w⟩)
      · exact w2 (same.mp w1)
      · rw [x] at w; omega
    · have diff : ¬ (vc_up (fd_v g D d) ↔ vc_up (fd_v g D e)) := by
        intro z
        apply c
        rcases k1 with ⟨u1, v1⟩ | ⟨u1, v1⟩ <;> rcases k2 with ⟨u2, v2⟩ | ⟨u2, v2⟩
        · rw [v1, v2]
        · exact absurd (z.mp u1) u2
        · exact absurd (z.mpr u2) u1
        · rw [v1, v2]
      rcases k1 with ⟨u1, v1⟩ | ⟨u1, v1⟩
      · rcases k2 with ⟨u2, v2⟩ | ⟨u2, v2⟩
        · exact absurd ⟨fun _ => u2, fun _ => u1⟩ diff
        · rw [v1, v2]
          exact br_f (by decide) (h1 (Or.inl ⟨u1, u2⟩))
      · rcases k2 with ⟨u2, v2⟩ | ⟨u2, v2⟩
        · rw [v1, v2]
          refine br_t (by decide) (h0 ?_)
          rintro (⟨w1, _⟩ | ⟨w, _⟩)
          · exact u1 w1
          · exact diff w
        · exact absurd ⟨fun z => absurd z u1, fun z => absurd z u2⟩ diff
  have mid : ∀ h1v : Int32, (vc_up (fd_v g D d) ∧ h1v = 0 ∨ ¬ vc_up (fd_v g D d) ∧ h1v = 1) → wX_turnsBefore_29 post (nI d) (nI e) h1v f_present f_events f_now f_active f_freshCount f_pointX f_pointY f_pointBottom f_edges a_fromX a_fromY a_toX a_toY a_eventX a_eventY a_eventBottom a_eventSet a_order a_fresh a_edgeFrom a_edgeTo a_edgeSegment a_gone a_groupOf := by
    intro h1v k1
    unfold wX_turnsBefore_29
    refine xs_goesY hg hD he ?_
    refine ek_if (zI_lt (a := 0) z0 by2) (fun c => last h1v 0 k1 (Or.inl ⟨Or.inl c, rfl⟩)) (fun c => ?_)
    refine xs_goesY hg hD he ?_
    refine ek_if (zI_eq (b := 0) by2 z0) (fun q => ?_) (fun q => last h1v 1 k1 (Or.inr ⟨fun z => z.elim c (fun w => q w.1), rfl⟩))
    refine xs_goesX hg hD he ?_
    exact ek_if (zI_le (b := 0) bx2 z0) (fun r => last h1v 1 k1 (Or.inr ⟨fun z => z.elim c (fun w => by have := w.2; omega), rfl⟩)) (fun r => last h1v 0 k1 (Or.inl ⟨Or.inr ⟨q, by omega⟩, rfl⟩))
  unfold wpX_turnsBefore
  refine xs_goesY hg hD hd ?_
  refine ek_if (zI_lt (a := 0) z0 by1) (fun c => mid 0 (Or.inl ⟨Or.inl c, rfl⟩)) (fun c => ?_)
  refine xs_goesY hg hD hd ?_
  refine ek_if (zI_eq (b := 0) by1 z0) (fun q => ?_) (fun q => mid 1 (Or.inr ⟨fun z => z.elim c (fun w => q w.1), rfl⟩))
  refine xs_goesX hg hD hd ?_
  exact ek_if (zI_le (b := 0) bx1 z0) (fun r => mid 1 (Or.inr ⟨fun z => z.elim c (fun w => by have := w.2; omega), rfl⟩)) (fun r => mid 0 (Or.inl ⟨Or.inr ⟨q, by omega⟩, rfl⟩))
theorem xs_comes {post : Int32 → Prop} {pr : Nat → Prop} {g : Nat → ge_S} {D : List (Nat × Nat × Nat)} (G : sw_G pr g) (hg : xg pr g f_present a_fromX a_fromY a_toX a_toY) (hD : fx_A pr g D f_edges a_edgeFrom a_edgeTo a_edgeSegment) {e b k : Nat} (he : e < 2 * D.length) (hb : b < 2 * D.length) (hk : k < 2 * D.length) (h1 : (b = k ∨ fd_C g D e b k) → post 1) (h0 : ¬ (b = k ∨ fd_C g D e b k) → post 0) : wpX_comesNext post (f_present, f_events, f_now, f_active, f_freshCount, f_pointX, f_pointY, f_pointBottom, f_edges, a_fromX, a_fromY, a_toX, a_toY, a_eventX, a_eventY, a_eventBottom, a_eventSet, a_order, a_fresh, a_edgeFrom, a_edgeTo, a_edgeSegment, a_gone, a_groupOf) (nI e) (nI b) (nI k) := by
  have l := hD.2.1
  have oe := (G.1 _ (fx_get hD he).2.2.1).2
  have ob := (G.1 _ (fx_get hD hb).2.2.1).2
  have ok := (G.1 _ (fx_get hD hk).2.2.1).2
  have eq := fd_Cv (g := g) (D := D) oe ob ok
  refine pk_eq b k (fun c => h1 (Or.inl c)) (fun c => ?_) rfl rfl (by omega) (by omega)
  have y1 : vc_CN vc_c (fd_v g D e) (fd_v g D b) (fd_v g D k) → post 1 := fun z => h1 (Or.inr (eq.mp z))
  have y0 : ¬ vc_CN vc_c (fd_v g D e) (fd_v g D b) (fd_v g D k) → post 0 := fun z => h0 (fun w => w.elim c (fun v => z (eq.mpr v)))
  refine xs_turns G hg hD he hk (fun p => ?_) (fun p => ?_)
  · refine xs_turns G hg hD hb hk (fun q => br_t rfl ?_) (fun q => br_f (by decide) (And.intro rfl (y1 (Or.inr ⟨p, q⟩))))
    refine xs_turns G hg hD hb he (fun r => And.intro rfl (y1 (Or.inl ⟨⟨fun _ => q, fun _ => p⟩, r⟩))) (fun r => And.intro rfl (y0 ?_))
    rintro (⟨_, w⟩ | ⟨_, w⟩)
    · exact r w
    · exact w q
  · refine xs_turns G hg hD hb hk (fun q => br_f (by decide) (And.intro rfl (y0 ?_))) (fun q => br_t rfl ?_)
    · rintro (⟨w, _⟩ | ⟨w, _⟩)
      · exact p (w.mpr q)
      · exact p w
    · refine xs_turns G hg hD hb he (fun r => And.intro rfl (y1 (Or.inl ⟨⟨fun z => absurd z p, fun z => absurd z q⟩, r⟩))) (fun r => And.intro rfl (y0 ?_))
      rintro (⟨_, w⟩ | ⟨w, _⟩)
      · exact r w
      · exact p w
theorem xs_next {pr : Nat → Prop} {g : Nat → ge_S} {D : List (Nat × Nat × Nat)} (G : sw_G pr g) (hg : xg pr g f_present a_fromX a_fromY a_toX a_toY) (hD : fx_A pr g D f_edges a_edgeFrom a_edgeTo a_edgeSegment) {d : Nat} (hd : d < 2 * D.length) {post : Int32 → Prop} (h : ∀ r, fd_N g D d r → post (nI r)) : wpX_nextAround post (f_present, f_events, f_now, f_active, f_freshCount, f_pointX, f_pointY, f_pointBottom, f_edges, a_fromX, a_fromY, a_toX, a_toY, a_eventX, a_eventY, a_eventBottom, a_eventSet, a_order, a_fresh, a_edgeFrom, a_edgeTo, a_edgeSegment, a_gone, a_groupOf) (nI d) := by
  have l := hD.2.1
  obtain ⟨r1, r2, r3, r4⟩ := fd_hr hd
  have hx : nI d ^^^ 1 = nI (fd_r d) := by
    show nI d ^^^ nI 1 = _
    rw [nx_xor, xx_1 d (by omega)]
  have loop : ∀ (n e : Nat), 2 * D.length - e < n → e ≤ 2 * D.length → ∀ b : Nat, b < 2 * D.length → ((b = fd_r d ∧ ∀ e', e' < e → fd_t D e' = fd_h D d → e' = fd_r d) ∨ (b ≠ fd_r d ∧ fd_t D b = fd_h D d ∧ ∀ e', e' < e → fd_t D e' = fd_h D d → e' ≠ fd_r d → e' ≠ b → ¬ fd_C g D e' b (fd_r d))) → wX_nextAround_9 post (nI (fd_r d)) f_present f_events f_now f_active f_freshCount f_pointX f_pointY f_pointBottom f_edges a_fromX a_fromY a_toX a_toY a_eventX a_eventY a_eventBottom a_eventSet a_order a_fresh a_edgeFrom a_edgeTo a_edgeSegment a_gone a_groupOf n (nI b) (nI e) := by
    intro n
    induction n with
    | zero => intro e he; omega
    | succ n ih =>
      intro e he he2 b hb hinv
      refine pk_le (2 * D.length) e (fun hle => h b ?_) (fun hlt => ?_) hD.1 rfl (by omega) (by omega)
      · rcases hinv with ⟨a, c⟩ | ⟨a, c, f⟩
        · refine ⟨hb, by rw [a, r2], fun _ e' he' => c e' (by omega), fun z => absurd a z⟩
        · exact ⟨hb, c, fun z => absurd z a, fun _ e' he' => f e' (by omega)⟩
      · obtain ⟨f1, f2, f3, f4⟩ := fx_get hD hlt
        obtain ⟨g1, g2, g3, g4⟩ := fx_get hD r3
        have keep : (fd_t D e = fd_h D d → e ≠ fd_r d → b ≠ fd_r d ∧ (e ≠ b → ¬ fd_C g D e b (fd_r d))) → wX_nextAround_9 post (nI (fd_r d)) f_present f_events f_now f_active f_freshCount f_pointX f_pointY f_pointBottom f_edges a_fromX a_fromY a_toX a_toY a_eventX a_eventY a_eventBottom a_eventSet a_order a_fresh a_edgeFrom a_edgeTo a_edgeSegment a_gone a_groupOf n (nI b) (nI (e + 1)) := by
          intro hk
          refine ih (e + 1) (by omega) (by omega) b hb ?_
          rcases hinv with ⟨a, c⟩ | ⟨a, c, f⟩
          · refine Or.inl ⟨a, fun e' he' ht => ?_⟩
            by_cases q : e' = e
            · subst q
              by_cases w : e' = fd_r d
              · exact w
              · exact absurd a (hk ht w).1
            · exact c e' (by omega) ht
          · refine Or.inr ⟨a, c, fun e' he' ht hne hnb => ?_⟩
            by_cases q : e' = e
            · subst q; exact (hk ht hne).2 hnb
            · exact f e' (by omega) ht hne hnb
        refine And.intro (vp_in_nI (by omega) (by omega)) (And.intro (vp_in_nI (by omega) (by omega)) ?_)
        rw [nI_clamp (by omega), nI_clamp (by omega), f1, g1]
        refine pk_eq (fd_t D e) (fd_t D (fd_r d)) (fun c => ?_) (fun c => nm_r (nI_1 e) (keep (fun z => absurd (by rw [z, r2]) c))) rfl rfl (by omega) (by omega)
        have ct : fd_t D e = fd_h D d := by rw [c, r2]
        refine pk_eq e (fd_r d) (fun q => nm_r (nI_1 e) (keep (fun _ z => absurd q z))) (fun q => ?_) rfl rfl (by omega) (by omega)
        refine xs_comes G hg hD hlt hb r3 (fun w => br_f (by decide) (nm_r (nI_1 e) ?_)) (fun w => br_t rfl (nm_r (nI_1 e) (keep (fun _ _ => ⟨fun z => w (Or.inl z), fun _ z => w (Or.inr z)⟩))))
        refine ih (e + 1) (by omega) (by omega) e hlt (Or.inr ⟨q, ct, fun e' he' ht hne hnb => ?_⟩)
        have he'' : e' < e := by omega
        rcases hinv with ⟨a, c'⟩ | ⟨a, c', f⟩
        · exact absurd (c' e' he'' ht) hne
        · have wC := w.resolve_left a
          by_cases s : e' = b
          · rw [s]; exact fd_C_as wC
          · exact fun z => f e' he'' ht hne s (fd_C_tr z wC)
  refine nm_r hx ⟨2 * D.length + 1, loop (2 * D.length + 1) 0 (by omega) (by omega) (fd_r d) r3 (Or.inl ⟨rfl, fun e' he' => absurd he' (by omega)⟩)⟩
end
end
section
/-! goAround, faces -/
theorem sw_slopeL {pr : Nat → Prop} {g : Nat → ge_S} (G : sw_G pr g) {j k : Nat} (hj : pr j) (hk : pr k) (hn : j ≠ k) {p : ge_P} (oj : ge_on (g j) p) (ok : ge_on (g k) p) (nj : p ≠ ge_fr (g j)) (nk : p ≠ ge_fr (g k)) : ge_m (g j) ≠ ge_m (g k) := by
  intro hm
  have o1 := (G.1 j hj).2
  have o2 := (G.1 k hk).2
  obtain ⟨a1, a2, a3⟩ := (ge_on_iff o1 p).mp oj
  obtain ⟨b1, b2, b3⟩ := (ge_on_iff o2 p).mp ok
  rcases ge_touch o1 o2 (G.2 j k hj hk hn) hm oj ok with c | c
  · exact nk (ge_pt_eq o2 ok (ge_on_fr o2) (by rw [ge_sc_fr]; grind))
  · exact nj (ge_pt_eq o1 oj (ge_on_fr o1) (by rw [ge_sc_fr]; grind))
theorem fd_tot {pr : Nat → Prop} {g : Nat → ge_S} {E : List xe_T} {D : List (Nat × Nat × Nat)} (H : fd_H pr g E D) {e f : Nat} (he : e < 2 * D.length) (hf : f < 2 * D.length) (ht : fd_t D e = fd_t D f) (hn : e ≠ f) : fd_T g D e f ∨ fd_T g D f e := by
  by_cases c : e % 2 = f % 2
  · have key : ge_m (g (fd_e D e).2.2) ≠ ge_m (g (fd_e D f).2.2) := by
      obtain ⟨i, x, hi, ex⟩ := fd_cases he
      obtain ⟨j, y, hj, ey⟩ := fd_cases hf
      obtain ⟨x1, x2, x3⟩ := x
      obtain ⟨y1, y2, y3⟩ := y
      have cx := (H.2.2.2.2 _).mp (List.mem_of_getElem? hi)
      have cy := (H.2.2.2.2 _).mp (List.mem_of_getElem? hj)
      obtain ⟨p1, p2, p3, p4, p5⟩ := cx
      obtain ⟨q1, q2, q3, q4, q5⟩ := cy
      dsimp only at p1 p2 p3 p4 p5 q1 q2 q3 q4 q5
      have ij : i ≠ j := by
        intro z
        rcases ex with ex | ex <;> rcases ey with ey | ey <;> omega
      have ne : (x1, x2, x3) ≠ (y1, y2, y3) := by
        intro z
        rw [z] at hi
        exact ij ((List.getElem?_inj (xe_len hi) H.2.2.2.1).mp (hi.trans hj.symm))
      rcases ex with rfl | rfl
      · obtain rfl : f = 2 * j := by omega
        rw [(fd_d0 hi).1, (fd_d0 hj).1] at ht
        have ht : x1 = y1 := ht
        subst ht
        rw [(fd_e0 hi).1, (fd_e0 hj).1]
        have kn : x3 ≠ y3 := by
          intro z
          subst z
          apply ne
          have : x2 = y2 := by
            rcases Nat.lt_trichotomy x2 y2 with w | w | w
            · exact absurd p4 (q5 x2 p2 w)
            · exact w
            · exact absurd q4 (p5 y2 q2 w)
          rw [this]
        obtain ⟨t, ht, o1⟩ := p3
        obtain ⟨t', ht', o2⟩ := q3
        rw [ht] at ht'; injection ht' with ht'
        rw [← ht'] at o2
        exact sw_slope H.1 p1 q1 kn o1 o2 ((fd_to H p1 ht o1).mpr ⟨x2, p2, p4⟩) ((fd_to H q1 ht o2).mpr ⟨y2, q2, q4⟩)
      · obtain rfl : f = 2 * j + 1 := by omega
        rw [(fd_d0 hi).2.2.1, (fd_d0 hj).2.2.1] at ht
        have ht : x2 = y2 := ht
        subst ht
        rw [(fd_e0 hi).2, (fd_e0 hj).2]
        have kn : x3 ≠ y3 := by
          intro z
          subst z
          apply ne
          have : x1 = y1 := by
            rcases Nat.lt_trichotomy x1 y1 with w | w | w
            · exact absurd q3 (p5 y1 w q2)
            · exact w
            · exact absurd p3 (q5 x1 w p2)
          rw [this]
        obtain ⟨t, ht, o1⟩ := p4
        obtain ⟨t', ht', o2⟩ := q4
        rw [ht] at ht'; injection ht' with ht'
        rw [← ht'] at o2
        exact sw_slopeL H.1 p1 q1 kn o1 o2 ((fd_fr H p1 ht o1).mpr ⟨x1, p2, p3⟩) ((fd_fr H q1 ht o2).mpr ⟨y1, q2, q3⟩)
    rcases (show ge_m (g (fd_e D e).2.2) < ge_m (g (fd_e D f).2.2) ∨ ge_m (g (fd_e D f).2.2) < ge_m (g (fd_e D e).2.2) by grind) with z | z
    · exact Or.inl (Or.inr ⟨c, z⟩)
    · exact Or.inr (Or.inr ⟨c.symm, z⟩)
  · have me := Nat.mod_two_eq_zero_or_one e
    have mf := Nat.mod_two_eq_zero_or_one f
    rcases (show e % 2 < f % 2 ∨ f % 2 < e % 2 by omega) with z | z
    · exact Or.inl (Or.inl z)
    · exact Or.inr (Or.inl z)
theorem fd_Ctot {g : Nat → ge_S} {D : List (Nat × Nat × Nat)} {e b k : Nat} (h : fd_T g D e b ∨ fd_T g D b e) : fd_C g D e b k ∨ fd_C g D b e k := by
  unfold fd_C
  by_cases h1 : fd_T g D e k <;> by_cases h2 : fd_T g D b k <;> simp_all
  · exact h.symm
  · exact h.symm
theorem fd_N_un {pr : Nat → Prop} {g : Nat → ge_S} {E : List xe_T} {D : List (Nat × Nat × Nat)} (H : fd_H pr g E D) {d r r' : Nat} (h : fd_N g D d r) (h' : fd_N g D d r') : r = r' := by
  obtain ⟨a1, a2, a3, a4⟩ := h
  obtain ⟨b1, b2, b3, b4⟩ := h'
  by_cases c : r = fd_r d
  · exact c.trans (a3 c r' b1 b2).symm
  · by_cases c' : r' = fd_r d
    · exact absurd (b3 c' r a1 a2) c
    · by_cases e : r = r'
      · exact e
      · exfalso
        have t := fd_tot H a1 b1 (a2.trans b2.symm) e
        rcases fd_Ctot (k := fd_r d) t with z | z
        · exact b4 c' r a1 a2 c e z
        · exact a4 c r' b1 b2 c' (fun w => e w.symm) z
theorem fd_N_in {pr : Nat → Prop} {g : Nat → ge_S} {E : List xe_T} {D : List (Nat × Nat × Nat)} (H : fd_H pr g E D) {d d' r : Nat} (hd : d < 2 * D.length) (hd' : d' < 2 * D.length) (h : fd_N g D d r) (h' : fd_N g D d' r) : d = d' := by
  obtain ⟨a1, a2, a3, a4⟩ := h
  obtain ⟨b1, b2, b3, b4⟩ := h'
  obtain ⟨u1, u2, u3, u4⟩ := fd_hr hd
  obtain ⟨v1, v2, v3, v4⟩ := fd_hr hd'
  have hh : fd_h D d = fd_h D d' := a2.symm.trans b2
  have back : fd_r d = fd_r d' → d = d' := fun z => by rw [← fd_rr d, ← fd_rr d', z]
  apply back
  by_cases c : r = fd_r d
  · exact (a3 c (fd_r d') v3 (by rw [v2, hh])).symm
  · by_cases c' : r = fd_r d'
    · exact b3 c' (fd_r d) u3 (by rw [u2, hh])
    · by_cases e : fd_r d = fd_r d'
      · exact e
      · exfalso
        have n1 := a4 c (fd_r d') v3 (by rw [v2, hh]) (fun z => e z.symm) (fun z => c' z.symm)
        have n2 := b4 c' (fd_r d) u3 (by rw [u2, hh]) e (fun z => c z.symm)
        have tk : fd_t D (fd_r d) = fd_h D d := u2
        have tk' : fd_t D (fd_r d') = fd_h D d := by rw [v2, hh]
        have t1 := fd_tot H a1 u3 (by rw [a2, tk]) c
        have t2 := fd_tot H a1 v3 (by rw [a2, tk']) c'
        have t3 := fd_tot H u3 v3 (by rw [tk, tk']) e
        generalize fd_r d = k at *
        generalize fd_r d' = k' at *
        have s1 : fd_T g D r k → ¬ fd_T g D k r := fd_T_as
        have s2 : fd_T g D r k' → ¬ fd_T g D k' r := fd_T_as
        have s3 : fd_T g D k k' → ¬ fd_T g D k' k := fd_T_as
        have w1 : fd_T g D k' r → fd_T g D r k → fd_T g D k' k := fd_T_tr
        have w2 : fd_T g D r k' → fd_T g D k' k → fd_T g D r k := fd_T_tr
        have w3 : fd_T g D k r → fd_T g D r k' → fd_T g D k k' := fd_T_tr
        have w4 : fd_T g D k' k → fd_T g D k r → fd_T g D k' r := fd_T_tr
        have w5 : fd_T g D k k' → fd_T g D k' r → fd_T g D k r := fd_T_tr
        have w6 : fd_T g D r k → fd_T g D k k' → fd_T g D r k' := fd_T_tr
        unfold fd_C at n1 n2
        clear a3 a4 b3 b4
        generalize fd_T g D r k = A at *
        generalize fd_T g D k r = A' at *
        generalize fd_T g D k' k = B at *
        generalize fd_T g D k k' = B' at *
        generalize fd_T g D k' r = C at *
        generalize fd_T g D r k' = C' at *
        clear a1 a2 b1 b2 u1 u2 u3 u4 v1 v2 v3 v4 hh back c c' e tk tk'
        by_cases hA : A <;> by_cases hB : B <;> by_cases hC : C <;> simp_all
noncomputable def fd_ph (g : Nat → ge_S) (D : List (Nat × Nat × Nat)) (d : Nat) : Nat := @dite _ (∃ r, fd_N g D d r) (Classical.propDecidable _) (fun h => h.choose) (fun _ => 0)
theorem fd_ph_eq {pr : Nat → Prop} {g : Nat → ge_S} {E : List xe_T} {D : List (Nat × Nat × Nat)} (H : fd_H pr g E D) {d r : Nat} (h : fd_N g D d r) : r = fd_ph g D d := by
  have hx : ∃ r, fd_N g D d r := ⟨r, h⟩
  have e : fd_ph g D d = hx.choose := by unfold fd_ph; exact dif_pos hx
  rw [e]
  exact fd_N_un H h hx.choose_spec
section
variable {f_present f_events f_now f_active f_freshCount f_pointX f_pointY f_pointBottom f_edges : Int32} {a_fromX a_fromY a_toX a_toY a_eventX a_eventY a_eventBottom a_eventSet a_order a_fresh a_edgeFrom a_edgeTo a_edgeSegment a_gone a_groupOf : Nat → Int32}
/-- that there is a next one: the walk of the component shows it -/
theorem fd_ex {pr : Nat → Prop} {g : Nat → ge_S} {E : List xe_T} {D : List (Nat × Nat × Nat)} (H : fd_H pr g E D) (hg : xg pr g f_present a_fromX a_fromY a_toX a_toY) (hD : fx_A pr g D f_edges a_edgeFrom a_edgeTo a_edgeSegment) {d : Nat} (hd : d < 2 * D.length) : fd_N g D d (fd_ph g D d) := by
  have key : ∃ r, fd_N g D d r := by
    obtain ⟨r1, r2, r3, r4⟩ := fd_hr hd
    have fold : ∀ e, e ≤ 2 * D.length → ∃ b, b < 2 * D.length ∧ ((b = fd_r d ∧ ∀ e', e' < e → fd_t D e' = fd_h D d → e' = fd_r d) ∨ (b ≠ fd_r d ∧ fd_t D b = fd_h D d ∧ ∀ e', e' < e → fd_t D e' = fd_h D d → e' ≠ fd_r d → e' ≠ b → ¬ fd_C g D e' b (fd_r d))) := by
      intro e
      induction e with
      | zero => exact fun _ => ⟨fd_r d, r3, Or.inl ⟨rfl, fun e' he' => absurd he' (by omega)⟩⟩
      | succ e ih =>
        intro he
        obtain ⟨b, hb, hinv⟩ := ih (by omega)
        by_cases c : fd_t D e = fd_h D d ∧ e ≠ fd_r d
        · rcases hinv with ⟨a, z⟩ | ⟨a, z, f⟩
          · refine ⟨e, by omega, Or.inr ⟨c.2, c.1, fun e' he' ht hne hnb => ?_⟩⟩
            exact absurd (z e' (by omega) ht) hne
          · by_cases w : fd_C g D e b (fd_r d)
            · refine ⟨e, by omega, Or.inr ⟨c.2, c.1, fun e' he' ht hne hnb => ?_⟩⟩
              by_cases s : e' = b
              · rw [s]; exact fd_C_as w
              · exact fun y => f e' (by omega) ht hne s (fd_C_tr y w)
            · refine ⟨b, hb, Or.inr ⟨a, z, fun e' he' ht hne hnb => ?_⟩⟩
              by_cases q : e' = e
              · subst q; exact w
              · exact f e' (by omega) ht hne hnb
        · refine ⟨b, hb, ?_⟩
          rcases hinv with ⟨a, z⟩ | ⟨a, z, f⟩
          · refine Or.inl ⟨a, fun e' he' ht => ?_⟩
            by_cases q : e' = e
            · subst q
              by_cases w : e' = fd_r d
              · exact w
              · exact absurd ⟨ht, w⟩ c
            · exact z e' (by omega) ht
          · refine Or.inr ⟨a, z, fun e' he' ht hne hnb => ?_⟩
            by_cases q : e' = e
            · subst q; exact absurd ⟨ht, hne⟩ c
            · exact f e' (by omega) ht hne hnb
    obtain ⟨b, hb, hinv⟩ := fold (2 * D.length) (Nat.le_refl _)
    refine ⟨b, ?_⟩
    rcases hinv with ⟨a, z⟩ | ⟨a, z, f⟩
    · exact ⟨hb, by rw [a, r2], fun _ => z, fun w => absurd a w⟩
    · exact ⟨hb, z, fun w => absurd w a, fun _ => f⟩
  obtain ⟨r, hr⟩ := key
  rw [← fd_ph_eq H hr]
  exact hr
def fx_G (D : List (Nat × Nat × Nat)) (gn : Nat → Int32) (S : Nat → Prop) : Prop := ∀ d, d < 2 * D.length → (gn d = 0 ↔ ¬ S d)
theorem xs_goAround {pr : Nat → Prop} {g : Nat → ge_S} {E : List xe_T} {D : List (Nat × Nat × Nat)} (H : fd_H pr g E D) (hg : xg pr g f_present a_fromX a_fromY a_toX a_toY) (hD : fx_A pr g D f_edges a_edgeFrom a_edgeTo a_edgeSegment) {post : SX → Prop} {S : Nat → Prop} (hS : fx_G D a_gone S) (hinv : ∀ x y, cx_R (fd_L D (fd_ph g D)) x y → (S x ↔ S y)) {s : Nat} (hs : s < 2 * D.length)
    (h : ∀ gn, fx_G D gn (fun d => S d ∨ cx_R (fd_L D (fd_ph g D)) s d) → post (f_present, f_events, f_now, f_active, f_freshCount, f_pointX, f_pointY, f_pointBottom, f_edges, a_fromX, a_fromY, a_toX, a_toY, a_eventX, a_eventY, a_eventBottom, a_eventSet, a_order, a_fresh, a_edgeFrom, a_edgeTo, a_edgeSegment, gn, a_groupOf)) : wpX_goAround post (f_present, f_events, f_now, f_active, f_freshCount, f_pointX, f_pointY, f_pointBottom, f_edges, a_fromX, a_fromY, a_toX, a_toY, a_eventX, a_eventY, a_eventBottom, a_eventSet, a_order, a_fresh, a_edgeFrom, a_edgeTo, a_edgeSegment, a_gone, a_groupOf) (nI s) := by
  have l := hD.2.1
  have hph : ∀ {d}, d < 2 * D.length → fd_N g D d (fd_ph g D d) := fun hd => fd_ex H hg hD hd
  by_cases ss : S s
  · refine ⟨1, br_f ?_ (And.intro (vp_in_nI (by omega) (by omega)) (br_f ?_ (h a_gone ?_)))⟩
    · rw [hD.1]
      intro w
      have := (nI_ltI (a := 2 * D.length) (b := 0) (by omega) (by omega)).mp w
      omega
    · rw [nI_clamp (by omega)]
      exact fun z => (hS s hs).mp z ss
    · intro d hd
      rw [hS d hd]
      exact ⟨fun z w => z (w.elim id (fun r => (hinv s d r).mp ss)), fun z w => z (Or.inl w)⟩
  · have loop : ∀ (n : Nat) (P : List Nat) (c : Nat) (gn : Nat → Int32), 2 * D.length + 1 - P.length < n → P.Nodup → (∀ d, d ∈ P → d < 2 * D.length ∧ cx_R (fd_L D (fd_ph g D)) s d) → c < 2 * D.length → cx_R (fd_L D (fd_ph g D)) s c → (∀ d, d ∈ P → fd_ph g D d ∈ P ∨ fd_ph g D d = c) → (s ∈ P ∨ (P = [] ∧ c = s)) → fx_G D gn (fun d => S d ∨ d ∈ P) → wX_goAround_4 post f_present f_events f_now f_active f_freshCount f_pointX f_pointY f_pointBottom f_edges n (nI c) (nI P.length) a_fromX a_fromY a_toX a_toY a_eventX a_eventY a_eventBottom a_eventSet a_order a_fresh a_edgeFrom a_edgeTo a_edgeSegment gn a_groupOf := by
      intro n
      induction n with
      | zero =>
        intro P c gn hn hnd hP
        have : P.length ≤ 2 * D.length := by
          have := List.Nodup.length_le_of_subset (l₂ := List.range (2 * D.length)) hnd (fun x hx => List.mem_range.mpr (hP x hx).1)
          simpa using this
        omega
      | succ n ih =>
        intro P c gn hn hnd hP hc hsc h2 h4 hG
        have hlen : P.length ≤ 2 * D.length := by
          have := List.Nodup.length_le_of_subset (l₂ := List.range (2 * D.length)) hnd (fun x hx => List.mem_range.mpr (hP x hx).1)
          simpa using this
        have v : vp_in (nI c) 220 := vp_in_nI (by omega) (by omega)
        have nS : ∀ d, cx_R (fd_L D (fd_ph g D)) s d → ¬ S d := fun d r z => ss ((hinv s d r).mpr z)
        refine br_f ?_ (And.intro v ?_)
        · rw [hD.1]; exact nI_nlt hlen (by omega)
        · rw [nI_clamp (by omega)]
          refine ek_if (hG c hc) (fun q => And.intro v (nm_e ?_)) (fun q => ?_)
          · have cP : c ∉ P := fun z => q (Or.inr z)
            have hgn : fx_G D (upd gn c (vp_nar .boolean 1)) (fun d => S d ∨ d ∈ P ++ [c]) := by
              intro d hd
              by_cases e : d = c
              · subst e
                rw [pk_us]
                exact ⟨fun z => absurd z (by decide), fun z => absurd (Or.inr (by simp)) z⟩
              · rw [pk_un e, hG d hd]
                constructor
                · rintro z (w | w)
                  · exact z (Or.inl w)
                  · rcases List.mem_append.mp w with w | w
                    · exact z (Or.inr w)
                    · exact e (List.mem_singleton.mp w)
                · rintro z (w | w)
                  · exact z (Or.inl w)
                  · exact z (Or.inr (List.mem_append_left _ w))
            refine xs_next H.1 hg hD hc ?_
            intro r hr
            have er := fd_ph_eq H hr
            have r1 := hr.1
            have rl : cx_R (fd_L D (fd_ph g D)) c r := cx_lk ⟨hc, er⟩
            refine nm_r (e' := nI (P ++ [c]).length) (by rw [nI_1]; simp) (ih (P ++ [c]) r _ (by simp; omega) ?_ ?_ r1 (cx_tr hsc rl) ?_ ?_ hgn)
            · refine List.nodup_append.mpr ⟨hnd, by simp, ?_⟩
              intro x hx y hy z
              rw [List.mem_singleton.mp hy] at z
              exact cP (z ▸ hx)
            · intro d hd
              rcases List.mem_append.mp hd with w | w
              · exact hP d w
              · rw [List.mem_singleton.mp w]; exact ⟨hc, hsc⟩
            · intro d hd
              rcases List.mem_append.mp hd with w | w
              · rcases h2 d w with y | y
                · exact Or.inl (List.mem_append_left _ y)
                · exact Or.inl (by rw [y]; simp)
              · rw [List.mem_singleton.mp w]; exact Or.inr er.symm
            · left
              rcases h4 with w | ⟨w1, w2⟩
              · exact List.mem_append_left _ w
              · rw [w2]; simp
          · have cP : c ∈ P := by
              have : S c ∨ c ∈ P := Classical.byContradiction q
              exact this.resolve_left (nS c hsc)
            have sP : s ∈ P := h4.elim id (fun w => by rw [w.1] at cP; exact absurd cP (by simp))
            have closed : ∀ d, d ∈ P → fd_ph g D d ∈ P := fun d hd => (h2 d hd).elim id (fun w => by rw [w]; exact cP)
            have inj : ∀ d, d ∈ P → ∀ d', d' < 2 * D.length → fd_ph g D d = fd_ph g D d' → d = d' := by
              intro d hd d' hd' e
              have n1 := hph (hP d hd).1
              have n2 := hph hd'
              rw [e] at n1
              exact fd_N_in H (hP d hd).1 hd' n1 n2
            have onto : ∀ x, x ∈ P → ∃ d, d ∈ P ∧ fd_ph g D d = x := by
              intro x hx
              have nm : (P.map (fd_ph g D)).Nodup := List.pairwise_map.mpr (List.Pairwise.imp_of_mem (fun {a b} ha hb h' e => h' (inj a ha b (hP b hb).1 e)) hnd)
              by_cases w : x ∈ P.map (fd_ph g D)
              · obtain ⟨d, hd, e⟩ := List.mem_map.mp w
                exact ⟨d, hd, e⟩
              · exfalso
                have := List.Nodup.length_le_of_subset (l₁ := x :: P.map (fd_ph g D)) (l₂ := P) (List.nodup_cons.mpr ⟨w, nm⟩) (by
                  intro y hy
                  rcases List.mem_cons.mp hy with rfl | hy
                  · exact hx
                  · obtain ⟨d, hd, e⟩ := List.mem_map.mp hy
                    rw [← e]; exact closed d hd)
                simp at this
                omega
            refine h gn ?_
            intro d hd
            rw [hG d hd]
            have eqv : d ∈ P ↔ cx_R (fd_L D (fd_ph g D)) s d := by
              constructor
              · exact fun w => (hP d w).2
              · intro r
                refine (r (fun x => x ∈ P) ?_).mp sP
                rintro a b ⟨ha, rfl⟩
                constructor
                · exact closed a
                · intro w
                  obtain ⟨d', hd', e⟩ := onto _ w
                  rw [← inj d' hd' a ha e]; exact hd'
            exact not_congr (or_congr Iff.rfl eqv)
    refine ⟨2 * D.length + 2, loop (2 * D.length + 2) [] s a_gone (by simp) List.nodup_nil (fun d hd => absurd hd (by simp)) hs (cx_rf _ _) (fun d hd => absurd hd (by simp)) (Or.inr ⟨rfl, rfl⟩) ?_⟩
    intro d hd
    rw [hS d hd]
    exact ⟨fun z w => w.elim z (fun y => absurd y (by simp)), fun z w => z (Or.inl w)⟩
theorem xs_ways {pr : Nat → Prop} {g : Nat → ge_S} {E : List xe_T} {D : List (Nat × Nat × Nat)} (H : fd_H pr g E D) (hg : xg pr g f_present a_fromX a_fromY a_toX a_toY) (hD : fx_A pr g D f_edges a_edgeFrom a_edgeTo a_edgeSegment) {post : Int32 → SX → Prop} {x1 : Int32}
    (h : ∀ gn, post (nI (cx_n (fun _ => True) (cx_R (fd_L D (fd_ph g D))) (2 * D.length)) - x1) (f_present, f_events, f_now, f_active, f_freshCount, f_pointX, f_pointY, f_pointBottom, f_edges, a_fromX, a_fromY, a_toX, a_toY, a_eventX, a_eventY, a_eventBottom, a_eventSet, a_order, a_fresh, a_edgeFrom, a_edgeTo, a_edgeSegment, gn, a_groupOf)) : ∃ n, wX_faces_11 post x1 f_present f_events f_now f_active f_freshCount f_pointX f_pointY f_pointBottom f_edges n 0 a_fromX a_fromY a_toX a_toY a_eventX a_eventY a_eventBottom a_eventSet a_order a_fresh a_edgeFrom a_edgeTo a_edgeSegment a_gone a_groupOf := by
  have l := hD.2.1
  have loop36 : ∀ (n e : Nat), 2 * D.length - e < n → e ≤ 2 * D.length → ∀ gn, fx_G D gn (fun d => ∃ e', e' < e ∧ cx_R (fd_L D (fd_ph g D)) e' d) → wX_faces_36 post x1 n (nI (cx_n (fun _ => True) (cx_R (fd_L D (fd_ph g D))) e)) (nI e) f_present f_events f_now f_active f_freshCount f_pointX f_pointY f_pointBottom f_edges a_fromX a_fromY a_toX a_toY a_eventX a_eventY a_eventBottom a_eventSet a_order a_fresh a_edgeFrom a_edgeTo a_edgeSegment gn a_groupOf := by
    intro n
    induction n with
    | zero => intro e he; omega
    | succ n ih =>
      intro e he he2 gn hG
      refine pk_le (2 * D.length) e (fun hle => ?_) (fun hlt => ?_) hD.1 rfl (by omega) (by omega)
      · have : e = 2 * D.length := by omega
        subst this
        exact h gn
      · have es : cx_n (fun _ => True) (cx_R (fd_L D (fd_ph g D))) (e + 1) = cx_n (fun _ => True) (cx_R (fd_L D (fd_ph g D))) e + cc_b (True ∧ ∀ y, y < e → True → ¬ cx_R (fd_L D (fd_ph g D)) y e) := rfl
        have go : ∀ z0 : Int32, nI (cx_n (fun _ => True) (cx_R (fd_L D (fd_ph g D))) e) + z0 = nI (cx_n (fun _ => True) (cx_R (fd_L D (fd_ph g D))) (e + 1)) → wX_faces_59 post (wX_faces_36 post x1 n) x1 (nI e) z0 (nI (cx_n (fun _ => True) (cx_R (fd_L D (fd_ph g D))) e)) f_present f_events f_now f_active f_freshCount f_pointX f_pointY f_pointBottom f_edges a_fromX a_fromY a_toX a_toY a_eventX a_eventY a_eventBottom a_eventSet a_order a_fresh a_edgeFrom a_edgeTo a_edgeSegment gn a_groupOf := by
          intro z0 ez
          refine nm_r ez ?_
          refine xs_goAround H hg hD hG ?_ hlt ?_
          · intro x y r
            exact ⟨fun ⟨e', a, b⟩ => ⟨e', a, cx_tr b r⟩, fun ⟨e', a, b⟩ => ⟨e', a, cx_tr b (cx_sy r)⟩⟩
          · intro gn' hG'
            refine nm_r (nI_1 e) (ih (e + 1) (by omega) (by omega) gn' ?_)
            intro d hd
            rw [hG' d hd]
            refine not_congr ?_
            constructor
            · rintro (⟨e', a, b⟩ | r)
              · exact ⟨e', by omega, b⟩
              · exact ⟨e, by omega, r⟩
            · rintro ⟨e', a, b⟩
              by_cases q : e' = e
              · subst q; exact Or.inr b
              · exact Or.inl ⟨e', by omega, b⟩
        refine And.intro (vp_in_nI (by omega) (by omega)) ?_
        rw [nI_clamp (by omega)]
        refine ek_if (hG e hlt) (fun q => go 1 ?_) (fun q => go 0 ?_)
        · rw [es, cc_bt ⟨trivial, fun y hy _ r => q ⟨y, hy, r⟩⟩, nI_1]
        · rw [es, cc_bf (fun z => q (fun ⟨y, hy, r⟩ => z.2 y hy trivial r)), Int32.add_zero]; rfl
  have loop11 : ∀ (n e : Nat), 2 * D.length - e < n → e ≤ 2 * D.length → ∀ gn : Nat → Int32, (∀ d, d < e → gn d = 0) → wX_faces_11 post x1 f_present f_events f_now f_active f_freshCount f_pointX f_pointY f_pointBottom f_edges n (nI e) a_fromX a_fromY a_toX a_toY a_eventX a_eventY a_eventBottom a_eventSet a_order a_fresh a_edgeFrom a_edgeTo a_edgeSegment gn a_groupOf := by
    intro n
    induction n with
    | zero => intro e he; omega
    | succ n ih =>
      intro e he he2 gn hz
      refine pk_le (2 * D.length) e (fun hle => ?_) (fun hlt => ?_) hD.1 rfl (by omega) (by omega)
      · refine ⟨2 * D.length + 1, loop36 (2 * D.length + 1) 0 (by omega) (by omega) gn ?_⟩
        intro d hd
        exact ⟨fun _ ⟨e', a, _⟩ => by omega, fun _ => hz d (by omega)⟩
      · refine And.intro (vp_in_nI (by omega) (by omega)) (nm_e (nm_r (nI_1 e) ?_))
        rw [nI_clamp (by omega)]
        refine ih (e + 1) (by omega) (by omega) _ ?_
        intro d hd
        by_cases q : d = e
        · rw [q, pk_us]; rfl
        · rw [pk_un q]; exact hz d (by omega)
  exact ⟨2 * D.length + 1, loop11 (2 * D.length + 1) 0 (by omega) (by omega) a_gone (fun d hd => absurd hd (by omega))⟩
end
end
section
/-! places, and the last of the cases -/
def yb_two (m : Nat) : Bool := (List.range 10).any (fun k => (List.range k).any (fun j => m.testBit j && m.testBit k))
theorem yb_all : ∀ m : Fin 1024, (m.val &&& (m.val - 1) == 0) = !(yb_two m.val) := by decide +kernel
theorem yb_iff {m : Nat} : yb_two m = true ↔ ∃ j k, j < k ∧ k < 10 ∧ m.testBit j = true ∧ m.testBit k = true := by
  unfold yb_two
  rw [List.any_eq_true]
  constructor
  · rintro ⟨k, hk, h⟩
    rw [List.any_eq_true] at h
    obtain ⟨j, hj, h⟩ := h
    rw [Bool.and_eq_true] at h
    exact ⟨j, k, List.mem_range.mp hj, List.mem_range.mp hk, h.1, h.2⟩
  · rintro ⟨j, k, h1, h2, h3, h4⟩
    refine ⟨k, List.mem_range.mpr h2, ?_⟩
    rw [List.any_eq_true]
    exact ⟨j, List.mem_range.mpr h1, by rw [h3, h4]; rfl⟩
theorem xb_nat {x : Int32} {P : Nat → Prop} (h : xb x P) : ∃ m, m < 1024 ∧ x = nI m ∧ ∀ i, i < 10 → (m.testBit i = true ↔ P i) := by
  obtain ⟨m, hm, e⟩ := wb_of32 x
  have tb : ∀ i, i < 32 → bt x i = m.testBit i := by
    intro i hi
    rw [e]
    unfold bt
    rw [← BitVec.testBit_toNat, pk_tn hm]
  refine ⟨m, ?_, e, ?_⟩
  · show m < 2 ^ 10
    refine Nat.lt_pow_two_of_testBit m (fun j hj => ?_)
    by_cases c : j < 32
    · have := tb j c
      cases d : m.testBit j
      · rfl
      · rw [d] at this
        exact absurd ((h j c).mp this).1 (by omega)
    · exact Nat.testBit_lt_two_pow (Nat.lt_of_lt_of_le hm (Nat.pow_le_pow_right (by omega) (by omega)))
  · intro i hi
    rw [← tb i (by omega), h i (by omega)]
    exact ⟨fun z => z.2, fun z => ⟨hi, z⟩⟩
/-- at most one member -/
theorem xb_single {x : Int32} {P : Nat → Prop} (h : xb x P) : (x &&& (x - 1) = 0) ↔ ¬ ∃ j k, j < k ∧ k < 10 ∧ P j ∧ P k := by
  obtain ⟨m, hm, e, hb⟩ := xb_nat h
  have two : yb_two m = true ↔ ∃ j k, j < k ∧ k < 10 ∧ P j ∧ P k := by
    rw [yb_iff]
    constructor
    · rintro ⟨j, k, h1, h2, h3, h4⟩; exact ⟨j, k, h1, h2, (hb j (by omega)).mp h3, (hb k h2).mp h4⟩
    · rintro ⟨j, k, h1, h2, h3, h4⟩; exact ⟨j, k, h1, h2, (hb j (by omega)).mpr h3, (hb k h2).mpr h4⟩
  have al := yb_all ⟨m, hm⟩
  dsimp only at al
  have nat : (m &&& (m - 1) = 0) ↔ ¬ ∃ j k, j < k ∧ k < 10 ∧ P j ∧ P k := by
    rw [← two]
    cases c : yb_two m
    · rw [c] at al
      simp only [Bool.not_false, beq_iff_eq] at al
      exact ⟨fun _ z => absurd z (by decide), fun _ => al⟩
    · rw [c] at al
      simp only [Bool.not_true, beq_eq_false_iff_ne, ne_eq] at al
      exact ⟨fun z => absurd z al, fun z => absurd rfl z⟩
  rw [← nat, e]
  rcases Nat.eq_zero_or_pos m with z | z
  · subst z
    exact ⟨fun _ => rfl, fun _ => by decide⟩
  · obtain ⟨n, rfl⟩ : ∃ n, m = n + 1 := ⟨m - 1, by omega⟩
    rw [nI_pred, nx_and, Nat.add_sub_cancel]
    have lt : (n + 1) &&& n < 2 ^ 31 := Nat.lt_of_le_of_lt Nat.and_le_right (by omega)
    exact nI_eq (b := 0) lt (by omega)
theorem mt_two {pr : Nat → Prop} {g : Nat → ge_S} (G : sw_G pr g) {p : ge_P} : (∃ j k, j < k ∧ k < 10 ∧ (pr j ∧ ge_on (g j) p) ∧ (pr k ∧ ge_on (g k) p)) ↔ sw_mt pr g p := by
  constructor
  · rintro ⟨j, k, a, b, ⟨c1, c2⟩, d1, d2⟩; exact ⟨j, k, by omega, c1, d1, c2, d2⟩
  · rintro ⟨j, k, hn, hj, hk, oj, ok⟩
    rcases Nat.lt_or_gt_of_ne hn with c | c
    · exact ⟨j, k, c, (G.1 k hk).1, ⟨hj, oj⟩, ⟨hk, ok⟩⟩
    · exact ⟨k, j, c, (G.1 j hj).1, ⟨hk, ok⟩, ⟨hj, oj⟩⟩
/-- the ends, by one number: twice the segment, and which -/
def yp_p (sk : Nat → ge_S) (c : Nat) : ge_P := if c % 2 = 0 then ge_fr (sk (c / 2)) else ge_to (sk (c / 2))
theorem yp_en {pr : Nat → Prop} {g : Nat → ge_S} (G : sw_G pr g) {sk : Nat → ge_S} (hk : ∀ k, pr k → sk k = g k ∨ sk k = ge_sw (g k)) {c : Nat} (hc : pr (c / 2)) : ge_on (g (c / 2)) (yp_p sk c) ∧ (yp_p sk c = ge_fr (g (c / 2)) ∨ yp_p sk c = ge_to (g (c / 2))) := by
  have ok := (G.1 _ hc).2
  have key : yp_p sk c = ge_fr (g (c / 2)) ∨ yp_p sk c = ge_to (g (c / 2)) := by
    unfold yp_p
    rcases hk _ hc with e | e
    · rw [e]; split
      · exact Or.inl rfl
      · exact Or.inr rfl
    · rw [e]; split
      · exact Or.inr rfl
      · exact Or.inl rfl
  refine ⟨?_, key⟩
  rcases key with e | e
  · rw [e]; exact ge_on_fr ok
  · rw [e]; exact ge_on_to ok
theorem yp_inj {pr : Nat → Prop} {g : Nat → ge_S} (G : sw_G pr g) {sk : Nat → ge_S} (hk : ∀ k, pr k → sk k = g k ∨ sk k = ge_sw (g k)) {c d : Nat} (hc : pr (c / 2)) (hd : pr (d / 2)) (hm : ¬ sw_mt pr g (yp_p sk c)) (e : yp_p sk c = yp_p sk d) : c = d := by
  have a := (yp_en G hk hc).1
  have b := (yp_en G hk hd).1
  rw [← e] at b
  have k : c / 2 = d / 2 := by
    by_cases z : c / 2 = d / 2
    · exact z
    · exact absurd ⟨_, _, z, hc, hd, a, b⟩ hm
  have ne : ge_fr (sk (c / 2)) ≠ ge_to (sk (c / 2)) := by
    have := ge_fr_to (G.1 _ hc).2
    rcases hk _ hc with z | z
    · rw [z]; exact this
    · rw [z]; exact fun w => this w.symm
  unfold yp_p at e
  rw [← k] at e
  by_cases p1 : c % 2 = 0 <;> by_cases p2 : d % 2 = 0
  · omega
  · rw [if_pos p1, if_neg p2] at e; exact absurd e ne
  · rw [if_neg p1, if_pos p2] at e; exact absurd e.symm ne
  · omega
theorem yp_count {pr : Nat → Prop} {g : Nat → ge_S} (G : sw_G pr g) {sk : Nat → ge_S} (hk : ∀ k, pr k → sk k = g k ∨ sk k = ge_sw (g k)) {E : List xe_T} {fe : Int32} {eX eY eB eS : Nat → Int32} (hw : xw pr g E fe eX eY eB eS) {Q : List ge_P} (hs : Q.Pairwise ge_lt) (hm : ∀ q, q ∈ Q ↔ sw_mt pr g q) :
    Q.length + cc_n (fun c => pr (c / 2) ∧ ¬ sw_mt pr g (yp_p sk c)) 20 = E.length := by
  have lQ : Q.length = (E.filter (xm pr g)).length := by rw [xw_Q hw hs hm, List.length_map]
  have split : E.length = (E.filter (xm pr g)).length + (E.filter (fun t => !(xm pr g t))).length := by
    have := List.length_eq_countP_add_countP (xm pr g) (l := E)
    rw [List.countP_eq_length_filter, List.countP_eq_length_filter] at this
    rw [this]
    congr 2
    refine List.filter_congr ?_
    intro t _
    cases xm pr g t <;> rfl
  have mem : ∀ t, t ∈ E.filter (fun t => !(xm pr g t)) → ∃ c, c < 20 ∧ pr (c / 2) ∧ yp_p sk c = xe_P t ∧ ¬ sw_mt pr g (xe_P t) := by
    intro t ht
    obtain ⟨t1, t2⟩ := List.mem_filter.mp ht
    have nm : ¬ sw_mt pr g (xe_P t) := fun z => by rw [xm_t.mpr z] at t2; exact absurd t2 (by decide)
    rcases (hw.2.1 _).mp (List.mem_map.mpr ⟨t, t1, rfl⟩) with ⟨k, pk, z⟩ | z
    · have k10 := (G.1 k pk).1
      have e0 : yp_p sk (2 * k) = ge_fr (sk k) := by unfold yp_p; rw [if_pos (by omega), show 2 * k / 2 = k by omega]
      have e1 : yp_p sk (2 * k + 1) = ge_to (sk k) := by unfold yp_p; rw [if_neg (by omega), show (2 * k + 1) / 2 = k by omega]
      have both : xe_P t = ge_fr (sk k) ∨ xe_P t = ge_to (sk k) := by
        rcases hk k pk with w | w
        · rw [w]; exact z
        · rw [w]; exact z.symm
      rcases both with w | w
      · exact ⟨2 * k, by omega, by rw [show 2 * k / 2 = k by omega]; exact pk, by rw [e0, w], nm⟩
      · exact ⟨2 * k + 1, by omega, by rw [show (2 * k + 1) / 2 = k by omega]; exact pk, by rw [e1, w], nm⟩
    · exact absurd z nm
  -- the number of each event that is no meeting point
  have ex : ∃ ix : xe_T → Nat, ∀ t, t ∈ E.filter (fun t => !(xm pr g t)) → ix t < 20 ∧ pr (ix t / 2) ∧ yp_p sk (ix t) = xe_P t ∧ ¬ sw_mt pr g (xe_P t) :=
    ⟨fun t => @dite _ (∃ c, c < 20 ∧ pr (c / 2) ∧ yp_p sk c = xe_P t ∧ ¬ sw_mt pr g (xe_P t)) (Classical.propDecidable _) (fun h => h.choose) (fun _ => 0), fun t ht => by
      have h := mem t ht
      have e : (@dite Nat (∃ c, c < 20 ∧ pr (c / 2) ∧ yp_p sk c = xe_P t ∧ ¬ sw_mt pr g (xe_P t)) (Classical.propDecidable _) (fun h => h.choose) (fun _ => 0)) = h.choose := dif_pos h
      dsimp only
      rw [e]
      exact h.choose_spec⟩
  obtain ⟨ix, hix⟩ := ex
  have ndE : (E.map xe_P).Nodup := hw.1.2.2.2.1.imp (fun {a b} h z => by rw [z] at h; exact ge_lt_ir h)
  have cnt := cc_list ((E.filter (fun t => !(xm pr g t))).map ix) (p := fun _ => False) (q := fun c => pr (c / 2) ∧ ¬ sw_mt pr g (yp_p sk c)) (n := 20) ?_ ?_ ?_ (fun _ _ z => z)
  · rw [List.length_map, cc_nf (fun _ _ z => z)] at cnt
    omega
  · have nf : ((E.filter (fun t => !(xm pr g t))).map xe_P).Nodup := List.Pairwise.sublist (List.Sublist.map xe_P List.filter_sublist) ndE
    refine List.pairwise_map.mpr (List.Pairwise.imp_of_mem (fun {a b} ha hb h e => ?_) (List.pairwise_map.mp nf))
    apply h
    rw [← (hix a ha).2.2.1, ← (hix b hb).2.2.1, e]
  · intro c hc
    obtain ⟨t, ht, rfl⟩ := List.mem_map.mp hc
    exact (hix t ht).1
  · intro c hc
    constructor
    · rintro ⟨a, b⟩
      right
      have en : sw_en pr g (yp_p sk c) := ⟨c / 2, a, (yp_en G hk a).2⟩
      obtain ⟨t, ht, et⟩ := List.mem_map.mp ((hw.2.1 _).mpr (Or.inl en))
      have nm : ¬ sw_mt pr g (xe_P t) := by rw [et]; exact b
      have hf : t ∈ E.filter (fun t => !(xm pr g t)) := List.mem_filter.mpr ⟨ht, by rw [xm_f nm]; rfl⟩
      refine List.mem_map.mpr ⟨t, hf, ?_⟩
      obtain ⟨i1, i2, i3, i4⟩ := hix t hf
      exact yp_inj G hk i2 a (by rw [i3]; exact nm) (by rw [i3, et])
    · rintro (z | z)
      · exact z.elim
      · obtain ⟨t, ht, rfl⟩ := List.mem_map.mp z
        obtain ⟨i1, i2, i3, i4⟩ := hix t ht
        exact ⟨i2, by rw [i3]; exact i4⟩
section
variable {f_found : Int32} {a_there a_ends : Nat → Int32} {a_points a_spot : Nat → Int64}
theorem ys_places {post : Int32 → SY → Prop} {pr : Nat → Prop} {g : Nat → ge_S} (G : sw_G pr g) (hy : yg pr g a_there a_ends)
    (h : ∀ (Q : List ge_P) (sk : Nat → ge_S) fd pts sp, Q.Pairwise ge_lt → (∀ q, q ∈ Q ↔ sw_mt pr g q) → (∀ k, pr k → sk k = g k ∨ sk k = ge_sw (g k)) → post (nI (Q.length + cc_n (fun c => pr (c / 2) ∧ ¬ sw_mt pr g (yp_p sk c)) 20)) (fd, a_there, a_ends, pts, sp)) : wpY_places post (f_found, a_there, a_ends, a_points, a_spot) := by
  have ex : ∃ sk : Nat → ge_S, ∀ k, k < 10 → ye a_ends k (sk k) ∧ yr (sk k) ∧ (pr k → sk k = g k ∨ sk k = ge_sw (g k)) :=
    ⟨fun k => @dite _ (∃ s, ye a_ends k s ∧ yr s ∧ (pr k → s = g k ∨ s = ge_sw (g k))) (Classical.propDecidable _) (fun h => h.choose) (fun _ => (0, 0, 0, 0)), fun k hk => by
      have h := hy.2 k hk
      have e : (@dite ge_S (∃ s, ye a_ends k s ∧ yr s ∧ (pr k → s = g k ∨ s = ge_sw (g k))) (Classical.propDecidable _) (fun h => h.choose) (fun _ => (0, 0, 0, 0))) = h.choose := dif_pos h
      dsimp only
      rw [e]
      exact h.choose_spec⟩
  obtain ⟨sk, hsk⟩ := ex
  have hk : ∀ k, pr k → sk k = g k ∨ sk k = ge_sw (g k) := fun k pk => (hsk k (G.1 k pk).1).2.2 pk
  unfold wpY_places
  refine ys_search G hy ?_
  intro Q fd pts sp hf hp hs hm
  have loop : ∀ (n c : Nat), 20 - c < n → c ≤ 20 → ∀ sp : Nat → Int64, wY_places_11 post n (nI (Q.length + cc_n (fun c => pr (c / 2) ∧ ¬ sw_mt pr g (yp_p sk c)) c)) (nI c) fd a_there a_ends pts sp := by
    intro n
    induction n with
    | zero => intro c hc; omega
    | succ n ih =>
      intro c hc hc2 sp
      refine pk_le 20 c (fun hle => ?_) (fun hlt => ?_) rfl rfl (by omega) (by omega)
      · have : c = 20 := by omega
        subst this
        exact h Q sk _ _ _ hs hm hk
      · have e1 : nI c / 2 = nI (c / 2) := pk_div (d := 2) (by omega) (by omega) (by omega)
        have e2 : nI c - nI c / 2 * 2 = nI (c % 2) := pk_rem (d := 2) (by omega) (by omega) (by omega)
        have k10 : c / 2 < 10 := by omega
        have go := fun sp => ih (c + 1) (by omega) (by omega) sp
        have es : cc_n (fun c => pr (c / 2) ∧ ¬ sw_mt pr g (yp_p sk c)) (c + 1) = cc_n (fun c => pr (c / 2) ∧ ¬ sw_mt pr g (yp_p sk c)) c + cc_b (pr (c / 2) ∧ ¬ sw_mt pr g (yp_p sk c)) := rfl
        refine And.intro (by decide) (nm_r e1 (And.intro (vp_in_nI k10 (by omega)) ?_))
        rw [nI_clamp (by omega), e2]
        have skip : ∀ sp, ¬ (pr (c / 2) ∧ ¬ sw_mt pr g (yp_p sk c)) → wY_places_11 post n (nI (Q.length + cc_n (fun c => pr (c / 2) ∧ ¬ sw_mt pr g (yp_p sk c)) c)) (nI (c + 1)) fd a_there a_ends pts sp := by
          intro sp z
          have := go sp
          rw [es, cc_bf z, Nat.add_zero] at this
          exact this
        refine ek_if (hy.1 _ k10) (fun np => nm_r (nI_1 c) (skip sp (fun z => np z.1))) (fun hp' => And.intro (by decide) ?_)
        have pk : pr (c / 2) := Classical.byContradiction hp'
        obtain ⟨s1, s2, s3⟩ := hsk _ k10
        refine ys_goEnd k10 (by omega) s1 s2 ?_
        intro sp' hsp
        have hsp' : ysp sp' (yp_p sk c) := hsp
        obtain ⟨b1, b2⟩ := y_gp (sw_gp G (Or.inl ⟨c / 2, pk, (yp_en G hk pk).2⟩))
        refine ys_setOn hy G.1 hsp' b1 b2 ?_
        intro st hst
        refine ek_if (xb_single hst) (fun w => ?_) (fun w => nm_r (nI_1 c) (skip sp' (fun z => w (fun y => z.2 ((mt_two G).mp y)))))
        have good : pr (c / 2) ∧ ¬ sw_mt pr g (yp_p sk c) := ⟨pk, fun z => w ((mt_two G).mpr z)⟩
        have := go sp'
        rw [es, cc_bt good] at this
        exact nm_r (nI_1 _) (nm_r (nI_1 c) this)
  have := loop 21 0 (by omega) (by omega) sp
  rw [show cc_n (fun c => pr (c / 2) ∧ ¬ sw_mt pr g (yp_p sk c)) 0 = 0 from rfl, Nat.add_zero, ← hf] at this
  exact ⟨21, this⟩
end
theorem i_vc_faces {k : Nat} {u : SX} {v : SY} (I : i_Rel k u v) (hk : k + 3 ≤ 1536) : wpX_faces (fun r u' => wpY_faces (fun r' v' => r' = r ∧ i_Rel (k + 3) u' v') v) u := by
  refine zz_el (P := fun u v => wpX_faces (fun r u' => wpY_faces (fun r' v' => r' = r ∧ i_Rel (k + 3) u' v') v) u) ?_ I
  clear I u v
  intro f_present f_events f_now f_active f_freshCount f_pointX f_pointY f_pointBottom f_edges a_fromX a_fromY a_toX a_toY a_eventX a_eventY a_eventBottom a_eventSet a_order a_fresh a_edgeFrom a_edgeTo a_edgeSegment a_gone a_groupOf f_found a_there a_ends a_points a_spot pr g hz
  obtain ⟨G, hg, hy⟩ := id hz
  unfold wpX_faces
  refine xs_groups G hg ?_
  intro fe0 nw0 ac0 fc0 px0 py0 pb0 eX0 eY0 eB0 eS0 o0 fr0 gO
  refine xs_cutAll G hg ?_
  intro E fe nw ac fc px py pb eX eY eB eS o fr hw D eF eT eG hA hN hl hm
  have hS := ed_s_le G hw.1.2.2.2.1 hw.1.2.2.2.2 10
  have hlenE := xv_len G hw.1
  have H : fd_H pr g E D := ⟨G, hw.1.2.2.2.1, hw.2.1, hN, hm⟩
  have hD : fx_A pr g D (nI (2 * D.length)) eF eT eG := by
    refine ⟨rfl, by omega, hA, fun x hx => ?_⟩
    have c := (hm x).mp hx
    have l1 := xo_len c.2.2.1
    have l2 := xo_len c.2.2.2.1
    exact ⟨c.1, by omega, by omega⟩
  refine xs_ways H hg hD ?_
  intro gn
  have euler := fd_main H hw.2.2.2 (ph := fd_ph g D) (fun d hd => fd_ex (f_present := f_present) (f_edges := nI (2 * D.length)) (a_fromX := a_fromX) (a_fromY := a_fromY) (a_toX := a_toX) (a_toY := a_toY) (a_edgeFrom := eF) (a_edgeTo := eT) (a_edgeSegment := eG) H hg hD hd)
  unfold wpY_faces
  refine ys_places G hy ?_
  intro Q sk fd pts sp hs hmm hsk
  refine ys_pieces G hy ?_
  intro Q' fd' pts' sp' hs' hmm'
  refine ys_groups G hy ?_
  intro sp''
  refine ⟨?_, zz_in hz⟩
  rw [yp_count G hsk hw hs hmm, ← ed_sum G hw hs' hmm', ← hl]
  simp only [zI_nI, zI_sub, zI_add]
  congr 1
  omega
end
