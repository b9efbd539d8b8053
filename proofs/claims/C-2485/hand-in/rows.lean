section
/-! pure rows to paste: stores, nI and lN arithmetic, masks, shifts, narrowing, branches by naturals (pk_le, pk_lt, pk_eq), loops (lp1 .. lp16: the measure of the state; rp1 ..: recursion), negatives. Take what you need -/
theorem pk_us {f : Nat → Int32} {k : Nat} {x : Int32} : upd f k x k = x := if_pos rfl
theorem pk_un {f : Nat → Int32} {k j : Nat} {x : Int32} (h : j ≠ k) : upd f k x j = f j := if_neg h
theorem pk_uLs {f : Nat → Int64} {k : Nat} {x : Int64} : vp_updL f k x k = x := if_pos rfl
theorem pk_uLn {f : Nat → Int64} {k j : Nat} {x : Int64} (h : j ≠ k) : vp_updL f k x j = f j := if_neg h
theorem pk_sub {a b : Nat} (h : b ≤ a) : nI a - nI b = nI (a - b) := by
  obtain ⟨c, rfl⟩ : ∃ c, a = c + b := ⟨a - b, by omega⟩
  rw [← nI_add, Int32.add_sub_cancel, Nat.add_sub_cancel]
theorem pk_m1 (n : Nat) : nI (n + 1) + (-1) = nI n := by
  rw [← nI_1, Int32.add_assoc, show (1 : Int32) + (-1) = 0 from rfl, Int32.add_zero]
theorem pk_mul (a b : Nat) : nI a * nI b = nI (a * b) := (Int32.ofNat_mul a b).symm
theorem pk_div {a d : Nat} (ha : a < 2 ^ 31) (h0 : 0 < d) (hd : d < 2 ^ 31) : nI a / nI d = nI (a / d) := by
  apply Int32.toInt_inj.mp
  rw [lg_idiv_nonneg (by rw [nI_toInt ha]; omega) (by rw [nI_toInt hd]; omega), nI_toInt ha, nI_toInt hd, nI_toInt (Nat.lt_of_le_of_lt (Nat.div_le_self a d) ha)]
  first | rfl | exact (Int.natCast_ediv _ _).symm
theorem pk_rem {a d : Nat} (ha : a < 2 ^ 31) (h0 : 0 < d) (hd : d < 2 ^ 31) : nI a - nI a / nI d * nI d = nI (a % d) := by
  rw [pk_div ha h0 hd, pk_mul, pk_sub (Nat.div_mul_le_self a d)]
  exact congrArg nI (by have := Nat.div_add_mod' a d; omega)
theorem pk_sub_toInt {a b : Nat} (ha : a < 2 ^ 30) (hb : b < 2 ^ 30) : (nI a - nI b).toInt = (a : Int) - b := by
  rw [Int32.toInt_sub, nI_toInt (by omega), nI_toInt (by omega)]
  exact Int.bmod_eq_of_le (by omega) (by omega)
theorem pk_sneg {a b : Nat} (hb : b < 2 ^ 30) (h : a < b) : nI a - nI b < 0 := by
  rw [Int32.lt_iff_toInt_lt, pk_sub_toInt (by omega) hb, show (0 : Int32).toInt = 0 from by decide]
  omega
theorem pk_ix (x : Int32) {n : Nat} (hn : n < 2 ^ 31) : x < 0 ∨ nI n ≤ x ∨ ∃ j : Nat, j < n ∧ x = nI j := by
  by_cases h : x < 0
  · exact Or.inl h
  · obtain ⟨j, hj, rfl⟩ := nI_of h
    by_cases h2 : j < n
    · exact Or.inr (Or.inr ⟨j, h2, rfl⟩)
    · exact Or.inr (Or.inl (nI_le (by omega) hj))
theorem pk_le {x y : Int32} {A B : Prop} (a b : Nat) (f : a ≤ b → A) (g : b < a → B) (hx : x = nI a := by rfl) (hy : y = nI b := by rfl) (ha : a < 2 ^ 31 := by omega) (hb : b < 2 ^ 31 := by omega) : (x ≤ y → A) ∧ (¬ x ≤ y → B) := by
  subst hx hy
  rw [nI_leI ha hb]
  exact ⟨f, fun z => g (by omega)⟩
theorem pk_lt {x y : Int32} {A B : Prop} (a b : Nat) (f : a < b → A) (g : b ≤ a → B) (hx : x = nI a := by rfl) (hy : y = nI b := by rfl) (ha : a < 2 ^ 31 := by omega) (hb : b < 2 ^ 31 := by omega) : (x < y → A) ∧ (¬ x < y → B) := by
  subst hx hy
  rw [nI_ltI ha hb]
  exact ⟨f, fun z => g (by omega)⟩
theorem pk_eq {x y : Int32} {A B : Prop} (a b : Nat) (f : a = b → A) (g : a ≠ b → B) (hx : x = nI a := by rfl) (hy : y = nI b := by rfl) (ha : a < 2 ^ 31 := by omega) (hb : b < 2 ^ 31 := by omega) : (x = y → A) ∧ (¬ x = y → B) := by
  subst hx hy
  rw [nI_eq ha hb]
  exact ⟨f, g⟩
theorem pk_in {x : Int32} (n N : Nat) (h : n < N) (hx : x = nI n := by rfl) (hN : N < 2 ^ 31 := by omega) : vp_in x N := by
  subst hx
  exact vp_in_nI h hN
theorem pk_cl {x : Int32} (n : Nat) (hx : x = nI n := by rfl) (h : n < 2 ^ 31 := by omega) : x.toNatClampNeg = n := by
  subst hx
  exact nI_clamp h
theorem pk_tn {n : Nat} (h : n < 2 ^ 32) : (nI n).toBitVec.toNat = n := Nat.mod_eq_of_lt h
theorem pk_and (x : Int32) {m : Int32} (k : Nat) (hm : m.toBitVec.toNat = 2 ^ k - 1) : x &&& m = nI (x.toBitVec.toNat % 2 ^ k) := by
  apply Int32.toBitVec_inj.mp
  apply BitVec.eq_of_toNat_eq
  rw [Int32.toBitVec_and, BitVec.toNat_and, hm, Nat.and_two_pow_sub_one_eq_mod]
  show _ = (BitVec.ofNat 32 _).toNat
  rw [BitVec.toNat_ofNat]
  exact (Nat.mod_eq_of_lt (Nat.lt_of_le_of_lt (Nat.mod_le _ _) x.toBitVec.isLt)).symm
theorem pk_andN {n : Nat} (h : n < 2 ^ 32) {m : Int32} (k : Nat) (hm : m.toBitVec.toNat = 2 ^ k - 1) : nI n &&& m = nI (n % 2 ^ k) := by
  rw [pk_and _ k hm, pk_tn h]
theorem pk_andE (x : Int32) {m : Int32} (k : Nat) (hm : m.toBitVec.toNat = 2 ^ k - 1) : ∃ j : Nat, j < 2 ^ k ∧ x &&& m = nI j := ⟨_, Nat.mod_lt _ (Nat.two_pow_pos k), pk_and x k hm⟩
theorem pk_andIn (x : Int32) {m : Int32} (k : Nat) (hm : m.toBitVec.toNat = 2 ^ k - 1) (hk : k ≤ 30) : vp_in (x &&& m) (2 ^ k) := by
  obtain ⟨j, hj, e⟩ := pk_andE x k hm
  rw [e]
  exact vp_in_nI hj (Nat.lt_of_le_of_lt (Nat.pow_le_pow_right (by decide) hk) (by decide))
theorem pk_shl (a s : Int32) (k : Nat) (hs : (s.toBitVec.smod 32).toNat = k) : (a <<< s).toBitVec.toNat = a.toBitVec.toNat * 2 ^ k % 2 ^ 32 := by
  show (a.toBitVec <<< (s.toBitVec.smod 32).toNat).toNat = _
  rw [hs, BitVec.toNat_shiftLeft, Nat.shiftLeft_eq]
theorem pk_shlN {n : Nat} (s : Int32) (k : Nat) (hs : (s.toBitVec.smod 32).toNat = k) (h : n * 2 ^ k < 2 ^ 32) : nI n <<< s = nI (n * 2 ^ k) := by
  apply Int32.toBitVec_inj.mp
  apply BitVec.eq_of_toNat_eq
  have hn : n < 2 ^ 32 := Nat.lt_of_le_of_lt (Nat.le_mul_of_pos_right n (Nat.two_pow_pos k)) h
  rw [pk_shl _ _ k hs, pk_tn hn, pk_tn h, Nat.mod_eq_of_lt h]
theorem pk_shr (a s : Int32) (k : Nat) (hs : (s.toBitVec.smod 32).toNat = k) : (a >>> s).toInt = a.toInt >>> k := by
  show (a.toBitVec.sshiftRight (s.toBitVec.smod 32).toNat).toInt = _
  rw [hs, BitVec.toInt_sshiftRight]
  rfl
theorem pk_shrN {n : Nat} (h : n < 2 ^ 31) (s : Int32) (k : Nat) (hs : (s.toBitVec.smod 32).toNat = k) : nI n >>> s = nI (n / 2 ^ k) := by
  apply Int32.toInt_inj.mp
  have h2 : n / 2 ^ k ≤ n := Nat.div_le_self _ _
  rw [pk_shr _ _ k hs, nI_toInt h, nI_toInt (by omega), Int.shiftRight_eq_div_pow]
  rfl
theorem pk_ushr (x s : Int32) (k : Nat) (hs : ((s.toUInt32 &&& Int32.toUInt32 31).toBitVec % 32).toNat = k) : (x.toUInt32 >>> (s.toUInt32 &&& Int32.toUInt32 31)).toInt32.toBitVec.toNat = x.toBitVec.toNat / 2 ^ k := by
  have e : (x.toUInt32 >>> (s.toUInt32 &&& Int32.toUInt32 31)).toInt32.toBitVec = x.toBitVec >>> k := by
    rw [← hs]
    exact UInt32.toBitVec_shiftRight _ _
  rw [e, BitVec.toNat_ushiftRight, Nat.shiftRight_eq_div_pow]
theorem pk_ushrN {n : Nat} (hn : n < 2 ^ 32) (s : Int32) (k : Nat) (hs : ((s.toUInt32 &&& Int32.toUInt32 31).toBitVec % 32).toNat = k) : ((nI n).toUInt32 >>> (s.toUInt32 &&& Int32.toUInt32 31)).toInt32 = nI (n / 2 ^ k) := by
  apply Int32.toBitVec_inj.mp
  apply BitVec.eq_of_toNat_eq
  rw [pk_ushr _ s k hs, pk_tn hn, pk_tn (Nat.lt_of_le_of_lt (Nat.div_le_self _ _) hn)]
theorem pk_nb (z : Int32) : narrow .byte (.int z.toInt8.toInt32) = .int z.toInt8.toInt32 := congrArg Value.int (by simp)
theorem pk_ns (z : Int32) : narrow .short (.int z.toInt16.toInt32) = .int z.toInt16.toInt32 := congrArg Value.int (by simp)
theorem pk_fb (r : Int32) : fits .byte (.int r.toInt8.toInt32) = true := by
  have ⟨a, b⟩ := lg_i2b_range r
  have h1 : (-128 : Int32).toInt = -128 := by decide
  have h2 : (127 : Int32).toInt = 127 := by decide
  simp only [fits, Bool.and_eq_true, decide_eq_true_eq, Int32.le_iff_toInt_le, h1, h2]
  omega
theorem pk_fs (r : Int32) : fits .short (.int r.toInt16.toInt32) = true := by
  have ⟨a, b⟩ := lg_i2s_range r
  have h1 : (-32768 : Int32).toInt = -32768 := by decide
  have h2 : (32767 : Int32).toInt = 32767 := by decide
  simp only [fits, Bool.and_eq_true, decide_eq_true_eq, Int32.le_iff_toInt_le, h1, h2]
  omega
theorem pk_charN {q : Nat} (hq : q < 65536) : narrow .char (.int (nI q)) = .int (nI q) ∧ fits .char (.int (nI q)) = true := by
  constructor
  · have e : (nI q).toUInt32.toUInt16.toUInt32.toInt32 = nI q := by
      apply Int32.toBitVec_inj.mp
      apply BitVec.eq_of_toNat_eq
      show (nI q).toUInt32.toUInt16.toUInt32.toNat = q % 2 ^ 32
      rw [UInt16.toNat_toUInt32, UInt32.toNat_toUInt16, show (nI q).toUInt32.toNat = q % 2 ^ 32 from rfl]
      omega
    exact congrArg Value.int e
  · have a : (0 : Int32) ≤ nI q := nI_pos' (by omega)
    have b : nI q ≤ 65535 := nI_le (b := 65535) (by omega) (by decide)
    show (decide ((0 : Int32) ≤ nI q) && decide (nI q ≤ 65535)) = true
    rw [decide_eq_true a, decide_eq_true b]
    rfl
theorem pk_char (x : Int32) : (x.toUInt32 % 65536).toInt32 = nI (x.toBitVec.toNat % 65536) := by
  apply Int32.toBitVec_inj.mp
  apply BitVec.eq_of_toNat_eq
  rw [pk_tn (by omega)]
  show (x.toUInt32 % 65536).toNat = _
  rw [UInt32.toNat_mod]
  rfl
theorem pk_nc (x : Int32) : narrow .char (.int (x.toUInt32 % 65536).toInt32) = .int (x.toUInt32 % 65536).toInt32 := by
  rw [pk_char]
  exact (pk_charN (Nat.mod_lt _ (by decide))).1
theorem pk_fc (x : Int32) : fits .char (.int (x.toUInt32 % 65536).toInt32) = true := by
  rw [pk_char]
  exact (pk_charN (Nat.mod_lt _ (by decide))).2
theorem pk_vb (z : Int32) : vp_nar .byte z.toInt8.toInt32 = z.toInt8.toInt32 := by rw [vp_nar_byte]; simp
theorem pk_vs (z : Int32) : vp_nar .short z.toInt16.toInt32 = z.toInt16.toInt32 := by rw [vp_nar_short]; simp
theorem pk_vc (z : Int32) : vp_nar .char (z.toUInt32 % 65536).toInt32 = (z.toUInt32 % 65536).toInt32 := Value.int.inj (pk_nc z)
theorem pk_lT {n : Nat} (h : n < 2 ^ 63) : (lN n).toInt = (n : Int) := lg_ofNat_toInt h
theorem pk_lLT {a b : Nat} (ha : a < 2 ^ 63) (hb : b < 2 ^ 63) : lN a < lN b ↔ a < b := by
  rw [Int64.lt_iff_toInt_lt, pk_lT ha, pk_lT hb]; omega
theorem pk_lLE {a b : Nat} (ha : a < 2 ^ 63) (hb : b < 2 ^ 63) : lN a ≤ lN b ↔ a ≤ b := by
  rw [Int64.le_iff_toInt_le, pk_lT ha, pk_lT hb]; omega
theorem pk_lEQ {a b : Nat} (ha : a < 2 ^ 63) (hb : b < 2 ^ 63) : lN a = lN b ↔ a = b := by
  rw [← Int64.toInt_inj, pk_lT ha, pk_lT hb]; omega
theorem pk_lOf {x : Int64} (h : ¬ x < 0) : ∃ k : Nat, k < 2 ^ 63 ∧ x = lN k := by
  rw [Int64.lt_iff_toInt_lt] at h
  have h0 : (0 : Int64).toInt = 0 := by decide
  have hx := Int64.toInt_lt x
  refine ⟨x.toInt.toNat, by omega, Int64.toInt_inj.mp ?_⟩
  rw [pk_lT (by omega)]
  omega
theorem pk_lDiv {a b : Nat} (ha : a < 2 ^ 63) (h0 : 0 < b) (hb : b < 2 ^ 63) : lN a / lN b = lN (a / b) := by
  apply Int64.toInt_inj.mp
  rw [lg_ldiv_nonneg (by rw [pk_lT ha]; omega) (by rw [pk_lT hb]; omega), pk_lT ha, pk_lT hb, pk_lT (Nat.lt_of_le_of_lt (Nat.div_le_self a b) ha)]
  rfl
theorem pk_lRem {a b : Nat} (ha : a < 2 ^ 63) (h0 : 0 < b) (hb : b < 2 ^ 63) : lN a - lN a / lN b * lN b = lN (a % b) := by
  rw [pk_lDiv ha h0 hb, lN_mul, lN_sub (Nat.div_mul_le_self a b)]
  exact congrArg lN (by have := Nat.div_add_mod' a b; omega)
theorem pk_loop {σ : Type} (W : Nat → Nat → σ → Prop) (I : Nat → σ → Prop) (e i0 : Nat) (s : σ) (hi : i0 ≤ e) (h0 : I i0 s) (hx : ∀ n s, I e s → W (n + 1) e s)
    (hs : ∀ n i s, i < e → I i s → (∀ s', I (i + 1) s' → W n (i + 1) s') → W (n + 1) i s) : ∃ n, W n i0 s :=
  ⟨e + 1, loop_i W I e hx hs (e + 1) i0 s hi (by omega) h0⟩
theorem pk_loopD {σ : Type} (W : Nat → Nat → σ → Prop) (I : Nat → σ → Prop) (hx : ∀ n s, I 0 s → W (n + 1) 0 s)
    (hs : ∀ n i s, I (i + 1) s → (∀ s', I i s' → W n i s') → W (n + 1) (i + 1) s) : ∀ (e : Nat) (s : σ), I e s → W (e + 1) e s := by
  intro e
  induction e with
  | zero => exact fun s h => hx 0 s h
  | succ e ih => exact fun s h => hs (e + 1) e s h (fun s' h' => ih s' h')
theorem lp1 {A1 : Type} (W : Nat → A1 → Prop) (I : A1 → Prop) (μ : A1 → Nat) (hs : ∀ (n : Nat) (a1 : A1), I a1 → (∀ (b1 : A1), I b1 → μ b1 < μ a1 → W n b1) → W (n + 1) a1) (a1 : A1) (h : I a1) : ∃ n, W n a1 :=
  loop_m (σ := A1) (fun n s => W n s) (fun s => I s) (fun s => μ s) (fun n s hI hk => hs n s hI (fun b1 h9 hm => hk b1 h9 hm)) a1 h
theorem lp2 {A1 A2 : Type} (W : Nat → A1 → A2 → Prop) (I : A1 → A2 → Prop) (μ : A1 → A2 → Nat) (hs : ∀ (n : Nat) (a1 : A1) (a2 : A2), I a1 a2 → (∀ (b1 : A1) (b2 : A2), I b1 b2 → μ b1 b2 < μ a1 a2 → W n b1 b2) → W (n + 1) a1 a2) (a1 : A1) (a2 : A2) (h : I a1 a2) : ∃ n, W n a1 a2 :=
  loop_m (σ := A1 × A2) (fun n s => W n s.1 s.2) (fun s => I s.1 s.2) (fun s => μ s.1 s.2) (fun n s hI hk => hs n s.1 s.2 hI (fun b1 b2 h9 hm => hk (b1, b2) h9 hm)) (a1, a2) h
theorem lp3 {A1 A2 A3 : Type} (W : Nat → A1 → A2 → A3 → Prop) (I : A1 → A2 → A3 → Prop) (μ : A1 → A2 → A3 → Nat) (hs : ∀ (n : Nat) (a1 : A1) (a2 : A2) (a3 : A3), I a1 a2 a3 → (∀ (b1 : A1) (b2 : A2) (b3 : A3), I b1 b2 b3 → μ b1 b2 b3 < μ a1 a2 a3 → W n b1 b2 b3) → W (n + 1) a1 a2 a3) (a1 : A1) (a2 : A2) (a3 : A3) (h : I a1 a2 a3) : ∃ n, W n a1 a2 a3 :=
  loop_m (σ := A1 × A2 × A3) (fun n s => W n s.1 s.2.1 s.2.2) (fun s => I s.1 s.2.1 s.2.2) (fun s => μ s.1 s.2.1 s.2.2) (fun n s hI hk => hs n s.1 s.2.1 s.2.2 hI (fun b1 b2 b3 h9 hm => hk (b1, b2, b3) h9 hm)) (a1, a2, a3) h
theorem lp4 {A1 A2 A3 A4 : Type} (W : Nat → A1 → A2 → A3 → A4 → Prop) (I : A1 → A2 → A3 → A4 → Prop) (μ : A1 → A2 → A3 → A4 → Nat) (hs : ∀ (n : Nat) (a1 : A1) (a2 : A2) (a3 : A3) (a4 : A4), I a1 a2 a3 a4 → (∀ (b1 : A1) (b2 : A2) (b3 : A3) (b4 : A4), I b1 b2 b3 b4 → μ b1 b2 b3 b4 < μ a1 a2 a3 a4 → W n b1 b2 b3 b4) → W (n + 1) a1 a2 a3 a4) (a1 : A1) (a2 : A2) (a3 : A3) (a4 : A4) (h : I a1 a2 a3 a4) : ∃ n, W n a1 a2 a3 a4 :=
  loop_m (σ := A1 × A2 × A3 × A4) (fun n s => W n s.1 s.2.1 s.2.2.1 s.2.2.2) (fun s => I s.1 s.2.1 s.2.2.1 s.2.2.2) (fun s => μ s.1 s.2.1 s.2.2.1 s.2.2.2) (fun n s hI hk => hs n s.1 s.2.1 s.2.2.1 s.2.2.2 hI (fun b1 b2 b3 b4 h9 hm => hk (b1, b2, b3, b4) h9 hm)) (a1, a2, a3, a4) h
theorem lp5 {A1 A2 A3 A4 A5 : Type} (W : Nat → A1 → A2 → A3 → A4 → A5 → Prop) (I : A1 → A2 → A3 → A4 → A5 → Prop) (μ : A1 → A2 → A3 → A4 → A5 → Nat) (hs : ∀ (n : Nat) (a1 : A1) (a2 : A2) (a3 : A3) (a4 : A4) (a5 : A5), I a1 a2 a3 a4 a5 → (∀ (b1 : A1) (b2 : A2) (b3 : A3) (b4 : A4) (b5 : A5), I b1 b2 b3 b4 b5 → μ b1 b2 b3 b4 b5 < μ a1 a2 a3 a4 a5 → W n b1 b2 b3 b4 b5) → W (n + 1) a1 a2 a3 a4 a5) (a1 : A1) (a2 : A2) (a3 : A3) (a4 : A4) (a5 : A5) (h : I a1 a2 a3 a4 a5) : ∃ n, W n a1 a2 a3 a4 a5 :=
  loop_m (σ := A1 × A2 × A3 × A4 × A5) (fun n s => W n s.1 s.2.1 s.2.2.1 s.2.2.2.1 s.2.2.2.2) (fun s => I s.1 s.2.1 s.2.2.1 s.2.2.2.1 s.2.2.2.2) (fun s => μ s.1 s.2.1 s.2.2.1 s.2.2.2.1 s.2.2.2.2) (fun n s hI hk => hs n s.1 s.2.1 s.2.2.1 s.2.2.2.1 s.2.2.2.2 hI (fun b1 b2 b3 b4 b5 h9 hm => hk (b1, b2, b3, b4, b5) h9 hm)) (a1, a2, a3, a4, a5) h
theorem lp6 {A1 A2 A3 A4 A5 A6 : Type} (W : Nat → A1 → A2 → A3 → A4 → A5 → A6 → Prop) (I : A1 → A2 → A3 → A4 → A5 → A6 → Prop) (μ : A1 → A2 → A3 → A4 → A5 → A6 → Nat) (hs : ∀ (n : Nat) (a1 : A1) (a2 : A2) (a3 : A3) (a4 : A4) (a5 : A5) (a6 : A6), I a1 a2 a3 a4 a5 a6 → (∀ (b1 : A1) (b2 : A2) (b3 : A3) (b4 : A4) (b5 : A5) (b6 : A6), I b1 b2 b3 b4 b5 b6 → μ b1 b2 b3 b4 b5 b6 < μ a1 a2 a3 a4 a5 a6 → W n b1 b2 b3 b4 b5 b6) → W (n + 1) a1 a2 a3 a4 a5 a6) (a1 : A1) (a2 : A2) (a3 : A3) (a4 : A4) (a5 : A5) (a6 : A6) (h : I a1 a2 a3 a4 a5 a6) : ∃ n, W n a1 a2 a3 a4 a5 a6 :=
  loop_m (σ := A1 × A2 × A3 × A4 × A5 × A6) (fun n s => W n s.1 s.2.1 s.2.2.1 s.2.2.2.1 s.2.2.2.2.1 s.2.2.2.2.2) (fun s => I s.1 s.2.1 s.2.2.1 s.2.2.2.1 s.2.2.2.2.1 s.2.2.2.2.2) (fun s => μ s.1 s.2.1 s.2.2.1 s.2.2.2.1 s.2.2.2.2.1 s.2.2.2.2.2) (fun n s hI hk => hs n s.1 s.2.1 s.2.2.1 s.2.2.2.1 s.2.2.2.2.1 s.2.2.2.2.2 hI (fun b1 b2 b3 b4 b5 b6 h9 hm => hk (b1, b2, b3, b4, b5, b6) h9 hm)) (a1, a2, a3, a4, a5, a6) h
theorem lp7 {A1 A2 A3 A4 A5 A6 A7 : Type} (W : Nat → A1 → A2 → A3 → A4 → A5 → A6 → A7 → Prop) (I : A1 → A2 → A3 → A4 → A5 → A6 → A7 → Prop) (μ : A1 → A2 → A3 → A4 → A5 → A6 → A7 → Nat) (hs : ∀ (n : Nat) (a1 : A1) (a2 : A2) (a3 : A3) (a4 : A4) (a5 : A5) (a6 : A6) (a7 : A7), I a1 a2 a3 a4 a5 a6 a7 → (∀ (b1 : A1) (b2 : A2) (b3 : A3) (b4 : A4) (b5 : A5) (b6 : A6) (b7 : A7), I b1 b2 b3 b4 b5 b6 b7 → μ b1 b2 b3 b4 b5 b6 b7 < μ a1 a2 a3 a4 a5 a6 a7 → W n b1 b2 b3 b4 b5 b6 b7) → W (n + 1) a1 a2 a3 a4 a5 a6 a7) (a1 : A1) (a2 : A2) (a3 : A3) (a4 : A4) (a5 : A5) (a6 : A6) (a7 : A7) (h : I a1 a2 a3 a4 a5 a6 a7) : ∃ n, W n a1 a2 a3 a4 a5 a6 a7 :=
  loop_m (σ := A1 × A2 × A3 × A4 × A5 × A6 × A7) (fun n s => W n s.1 s.2.1 s.2.2.1 s.2.2.2.1 s.2.2.2.2.1 s.2.2.2.2.2.1 s.2.2.2.2.2.2) (fun s => I s.1 s.2.1 s.2.2.1 s.2.2.2.1 s.2.2.2.2.1 s.2.2.2.2.2.1 s.2.2.2.2.2.2) (fun s => μ s.1 s.2.1 s.2.2.1 s.2.2.2.1 s.2.2.2.2.1 s.2.2.2.2.2.1 s.2.2.2.2.2.2) (fun n s hI hk => hs n s.1 s.2.1 s.2.2.1 s.2.2.2.1 s.2.2.2.2.1 s.2.2.2.2.2.1 s.2.2.2.2.2.2 hI (fun b1 b2 b3 b4 b5 b6 b7 h9 hm => hk (b1, b2, b3, b4, b5, b6, b7) h9 hm)) (a1, a2, a3, a4, a5, a6, a7) h
theorem lp8 {A1 A2 A3 A4 A5 A6 A7 A8 : Type} (W : Nat → A1 → A2 → A3 → A4 → A5 → A6 → A7 → A8 → Prop) (I : A1 → A2 → A3 → A4 → A5 → A6 → A7 → A8 → Prop) (μ : A1 → A2 → A3 → A4 → A5 → A6 → A7 → A8 → Nat) (hs : ∀ (n : Nat) (a1 : A1) (a2 : A2) (a3 : A3) (a4 : A4) (a5 : A5) (a6 : A6) (a7 : A7) (a8 : A8), I a1 a2 a3 a4 a5 a6 a7 a8 → (∀ (b1 : A1) (b2 : A2) (b3 : A3) (b4 : A4) (b5 : A5) (b6 : A6) (b7 : A7) (b8 : A8), I b1 b2 b3 b4 b5 b6 b7 b8 → μ b1 b2 b3 b4 b5 b6 b7 b8 < μ a1 a2 a3 a4 a5 a6 a7 a8 → W n b1 b2 b3 b4 b5 b6 b7 b8) → W (n + 1) a1 a2 a3 a4 a5 a6 a7 a8) (a1 : A1) (a2 : A2) (a3 : A3) (a4 : A4) (a5 : A5) (a6 : A6) (a7 : A7) (a8 : A8) (h : I a1 a2 a3 a4 a5 a6 a7 a8) : ∃ n, W n a1 a2 a3 a4 a5 a6 a7 a8 :=
  loop_m (σ := A1 × A2 × A3 × A4 × A5 × A6 × A7 × A8) (fun n s => W n s.1 s.2.1 s.2.2.1 s.2.2.2.1 s.2.2.2.2.1 s.2.2.2.2.2.1 s.2.2.2.2.2.2.1 s.2.2.2.2.2.2.2) (fun s => I s.1 s.2.1 s.2.2.1 s.2.2.2.1 s.2.2.2.2.1 s.2.2.2.2.2.1 s.2.2.2.2.2.2.1 s.2.2.2.2.2.2.2) (fun s => μ s.1 s.2.1 s.2.2.1 s.2.2.2.1 s.2.2.2.2.1 s.2.2.2.2.2.1 s.2.2.2.2.2.2.1 s.2.2.2.2.2.2.2) (fun n s hI hk => hs n s.1 s.2.1 s.2.2.1 s.2.2.2.1 s.2.2.2.2.1 s.2.2.2.2.2.1 s.2.2.2.2.2.2.1 s.2.2.2.2.2.2.2 hI (fun b1 b2 b3 b4 b5 b6 b7 b8 h9 hm => hk (b1, b2, b3, b4, b5, b6, b7, b8) h9 hm)) (a1, a2, a3, a4, a5, a6, a7, a8) h
theorem lp9 {A1 A2 A3 A4 A5 A6 A7 A8 A9 : Type} (W : Nat → A1 → A2 → A3 → A4 → A5 → A6 → A7 → A8 → A9 → Prop) (I : A1 → A2 → A3 → A4 → A5 → A6 → A7 → A8 → A9 → Prop) (μ : A1 → A2 → A3 → A4 → A5 → A6 → A7 → A8 → A9 → Nat) (hs : ∀ (n : Nat) (a1 : A1) (a2 : A2) (a3 : A3) (a4 : A4) (a5 : A5) (a6 : A6) (a7 : A7) (a8 : A8) (a9 : A9), I a1 a2 a3 a4 a5 a6 a7 a8 a9 → (∀ (b1 : A1) (b2 : A2) (b3 : A3) (b4 : A4) (b5 : A5) (b6 : A6) (b7 : A7) (b8 : A8) (b9 : A9), I b1 b2 b3 b4 b5 b6 b7 b8 b9 → μ b1 b2 b3 b4 b5 b6 b7 b8 b9 < μ a1 a2 a3 a4 a5 a6 a7 a8 a9 → W n b1 b2 b3 b4 b5 b6 b7 b8 b9) → W (n + 1) a1 a2 a3 a4 a5 a6 a7 a8 a9) (a1 : A1) (a2 : A2) (a3 : A3) (a4 : A4) (a5 : A5) (a6 : A6) (a7 : A7) (a8 : A8) (a9 : A9) (h : I a1 a2 a3 a4 a5 a6 a7 a8 a9) : ∃ n, W n a1 a2 a3 a4 a5 a6 a7 a8 a9 :=
  loop_m (σ := A1 × A2 × A3 × A4 × A5 × A6 × A7 × A8 × A9) (fun n s => W n s.1 s.2.1 s.2.2.1 s.2.2.2.1 s.2.2.2.2.1 s.2.2.2.2.2.1 s.2.2.2.2.2.2.1 s.2.2.2.2.2.2.2.1 s.2.2.2.2.2.2.2.2) (fun s => I s.1 s.2.1 s.2.2.1 s.2.2.2.1 s.2.2.2.2.1 s.2.2.2.2.2.1 s.2.2.2.2.2.2.1 s.2.2.2.2.2.2.2.1 s.2.2.2.2.2.2.2.2) (fun s => μ s.1 s.2.1 s.2.2.1 s.2.2.2.1 s.2.2.2.2.1 s.2.2.2.2.2.1 s.2.2.2.2.2.2.1 s.2.2.2.2.2.2.2.1 s.2.2.2.2.2.2.2.2) (fun n s hI hk => hs n s.1 s.2.1 s.2.2.1 s.2.2.2.1 s.2.2.2.2.1 s.2.2.2.2.2.1 s.2.2.2.2.2.2.1 s.2.2.2.2.2.2.2.1 s.2.2.2.2.2.2.2.2 hI (fun b1 b2 b3 b4 b5 b6 b7 b8 b9 h9 hm => hk (b1, b2, b3, b4, b5, b6, b7, b8, b9) h9 hm)) (a1, a2, a3, a4, a5, a6, a7, a8, a9) h
theorem lp10 {A1 A2 A3 A4 A5 A6 A7 A8 A9 A10 : Type} (W : Nat → A1 → A2 → A3 → A4 → A5 → A6 → A7 → A8 → A9 → A10 → Prop) (I : A1 → A2 → A3 → A4 → A5 → A6 → A7 → A8 → A9 → A10 → Prop) (μ : A1 → A2 → A3 → A4 → A5 → A6 → A7 → A8 → A9 → A10 → Nat) (hs : ∀ (n : Nat) (a1 : A1) (a2 : A2) (a3 : A3) (a4 : A4) (a5 : A5) (a6 : A6) (a7 : A7) (a8 : A8) (a9 : A9) (a10 : A10), I a1 a2 a3 a4 a5 a6 a7 a8 a9 a10 → (∀ (b1 : A1) (b2 : A2) (b3 : A3) (b4 : A4) (b5 : A5) (b6 : A6) (b7 : A7) (b8 : A8) (b9 : A9) (b10 : A10), I b1 b2 b3 b4 b5 b6 b7 b8 b9 b10 → μ b1 b2 b3 b4 b5 b6 b7 b8 b9 b10 < μ a1 a2 a3 a4 a5 a6 a7 a8 a9 a10 → W n b1 b2 b3 b4 b5 b6 b7 b8 b9 b10) → W (n + 1) a1 a2 a3 a4 a5 a6 a7 a8 a9 a10) (a1 : A1) (a2 : A2) (a3 : A3) (a4 : A4) (a5 : A5) (a6 : A6) (a7 : A7) (a8 : A8) (a9 : A9) (a10 : A10) (h : I a1 a2 a3 a4 a5 a6 a7 a8 a9 a10) : ∃ n, W n a1 a2 a3 a4 a5 a6 a7 a8 a9 a10 :=
  loop_m (σ := A1 × A2 × A3 × A4 × A5 × A6 × A7 × A8 × A9 × A10) (fun n s => W n s.1 s.2.1 s.2.2.1 s.2.2.2.1 s.2.2.2.2.1 s.2.2.2.2.2.1 s.2.2.2.2.2.2.1 s.2.2.2.2.2.2.2.1 s.2.2.2.2.2.2.2.2.1 s.2.2.2.2.2.2.2.2.2) (fun s => I s.1 s.2.1 s.2.2.1 s.2.2.2.1 s.2.2.2.2.1 s.2.2.2.2.2.1 s.2.2.2.2.2.2.1 s.2.2.2.2.2.2.2.1 s.2.2.2.2.2.2.2.2.1 s.2.2.2.2.2.2.2.2.2) (fun s => μ s.1 s.2.1 s.2.2.1 s.2.2.2.1 s.2.2.2.2.1 s.2.2.2.2.2.1 s.2.2.2.2.2.2.1 s.2.2.2.2.2.2.2.1 s.2.2.2.2.2.2.2.2.1 s.2.2.2.2.2.2.2.2.2) (fun n s hI hk => hs n s.1 s.2.1 s.2.2.1 s.2.2.2.1 s.2.2.2.2.1 s.2.2.2.2.2.1 s.2.2.2.2.2.2.1 s.2.2.2.2.2.2.2.1 s.2.2.2.2.2.2.2.2.1 s.2.2.2.2.2.2.2.2.2 hI (fun b1 b2 b3 b4 b5 b6 b7 b8 b9 b10 h9 hm => hk (b1, b2, b3, b4, b5, b6, b7, b8, b9, b10) h9 hm)) (a1, a2, a3, a4, a5, a6, a7, a8, a9, a10) h
theorem lp11 {A1 A2 A3 A4 A5 A6 A7 A8 A9 A10 A11 : Type} (W : Nat → A1 → A2 → A3 → A4 → A5 → A6 → A7 → A8 → A9 → A10 → A11 → Prop) (I : A1 → A2 → A3 → A4 → A5 → A6 → A7 → A8 → A9 → A10 → A11 → Prop) (μ : A1 → A2 → A3 → A4 → A5 → A6 → A7 → A8 → A9 → A10 → A11 → Nat) (hs : ∀ (n : Nat) (a1 : A1) (a2 : A2) (a3 : A3) (a4 : A4) (a5 : A5) (a6 : A6) (a7 : A7) (a8 : A8) (a9 : A9) (a10 : A10) (a11 : A11), I a1 a2 a3 a4 a5 a6 a7 a8 a9 a10 a11 → (∀ (b1 : A1) (b2 : A2) (b3 : A3) (b4 : A4) (b5 : A5) (b6 : A6) (b7 : A7) (b8 : A8) (b9 : A9) (b10 : A10) (b11 : A11), I b1 b2 b3 b4 b5 b6 b7 b8 b9 b10 b11 → μ b1 b2 b3 b4 b5 b6 b7 b8 b9 b10 b11 < μ a1 a2 a3 a4 a5 a6 a7 a8 a9 a10 a11 → W n b1 b2 b3 b4 b5 b6 b7 b8 b9 b10 b11) → W (n + 1) a1 a2 a3 a4 a5 a6 a7 a8 a9 a10 a11) (a1 : A1) (a2 : A2) (a3 : A3) (a4 : A4) (a5 : A5) (a6 : A6) (a7 : A7) (a8 : A8) (a9 : A9) (a10 : A10) (a11 : A11) (h : I a1 a2 a3 a4 a5 a6 a7 a8 a9 a10 a11) : ∃ n, W n a1 a2 a3 a4 a5 a6 a7 a8 a9 a10 a11 :=
  loop_m (σ := A1 × A2 × A3 × A4 × A5 × A6 × A7 × A8 × A9 × A10 × A11) (fun n s => W n s.1 s.2.1 s.2.2.1 s.2.2.2.1 s.2.2.2.2.1 s.2.2.2.2.2.1 s.2.2.2.2.2.2.1 s.2.2.2.2.2.2.2.1 s.2.2.2.2.2.2.2.2.1 s.2.2.2.2.2.2.2.2.2.1 s.2.2.2.2.2.2.2.2.2.2) (fun s => I s.1 s.2.1 s.2.2.1 s.2.2.2.1 s.2.2.2.2.1 s.2.2.2.2.2.1 s.2.2.2.2.2.2.1 s.2.2.2.2.2.2.2.1 s.2.2.2.2.2.2.2.2.1 s.2.2.2.2.2.2.2.2.2.1 s.2.2.2.2.2.2.2.2.2.2) (fun s => μ s.1 s.2.1 s.2.2.1 s.2.2.2.1 s.2.2.2.2.1 s.2.2.2.2.2.1 s.2.2.2.2.2.2.1 s.2.2.2.2.2.2.2.1 s.2.2.2.2.2.2.2.2.1 s.2.2.2.2.2.2.2.2.2.1 s.2.2.2.2.2.2.2.2.2.2) (fun n s hI hk => hs n s.1 s.2.1 s.2.2.1 s.2.2.2.1 s.2.2.2.2.1 s.2.2.2.2.2.1 s.2.2.2.2.2.2.1 s.2.2.2.2.2.2.2.1 s.2.2.2.2.2.2.2.2.1 s.2.2.2.2.2.2.2.2.2.1 s.2.2.2.2.2.2.2.2.2.2 hI (fun b1 b2 b3 b4 b5 b6 b7 b8 b9 b10 b11 h9 hm => hk (b1, b2, b3, b4, b5, b6, b7, b8, b9, b10, b11) h9 hm)) (a1, a2, a3, a4, a5, a6, a7, a8, a9, a10, a11) h
theorem lp12 {A1 A2 A3 A4 A5 A6 A7 A8 A9 A10 A11 A12 : Type} (W : Nat → A1 → A2 → A3 → A4 → A5 → A6 → A7 → A8 → A9 → A10 → A11 → A12 → Prop) (I : A1 → A2 → A3 → A4 → A5 → A6 → A7 → A8 → A9 → A10 → A11 → A12 → Prop) (μ : A1 → A2 → A3 → A4 → A5 → A6 → A7 → A8 → A9 → A10 → A11 → A12 → Nat) (hs : ∀ (n : Nat) (a1 : A1) (a2 : A2) (a3 : A3) (a4 : A4) (a5 : A5) (a6 : A6) (a7 : A7) (a8 : A8) (a9 : A9) (a10 : A10) (a11 : A11) (a12 : A12), I a1 a2 a3 a4 a5 a6 a7 a8 a9 a10 a11 a12 → (∀ (b1 : A1) (b2 : A2) (b3 : A3) (b4 : A4) (b5 : A5) (b6 : A6) (b7 : A7) (b8 : A8) (b9 : A9) (b10 : A10) (b11 : A11) (b12 : A12), I b1 b2 b3 b4 b5 b6 b7 b8 b9 b10 b11 b12 → μ b1 b2 b3 b4 b5 b6 b7 b8 b9 b10 b11 b12 < μ a1 a2 a3 a4 a5 a6 a7 a8 a9 a10 a11 a12 → W n b1 b2 b3 b4 b5 b6 b7 b8 b9 b10 b11 b12) → W (n + 1) a1 a2 a3 a4 a5 a6 a7 a8 a9 a10 a11 a12) (a1 : A1) (a2 : A2) (a3 : A3) (a4 : A4) (a5 : A5) (a6 : A6) (a7 : A7) (a8 : A8) (a9 : A9) (a10 : A10) (a11 : A11) (a12 : A12) (h : I a1 a2 a3 a4 a5 a6 a7 a8 a9 a10 a11 a12) : ∃ n, W n a1 a2 a3 a4 a5 a6 a7 a8 a9 a10 a11 a12 :=
  loop_m (σ := A1 × A2 × A3 × A4 × A5 × A6 × A7 × A8 × A9 × A10 × A11 × A12) (fun n s => W n s.1 s.2.1 s.2.2.1 s.2.2.2.1 s.2.2.2.2.1 s.2.2.2.2.2.1 s.2.2.2.2.2.2.1 s.2.2.2.2.2.2.2.1 s.2.2.2.2.2.2.2.2.1 s.2.2.2.2.2.2.2.2.2.1 s.2.2.2.2.2.2.2.2.2.2.1 s.2.2.2.2.2.2.2.2.2.2.2) (fun s => I s.1 s.2.1 s.2.2.1 s.2.2.2.1 s.2.2.2.2.1 s.2.2.2.2.2.1 s.2.2.2.2.2.2.1 s.2.2.2.2.2.2.2.1 s.2.2.2.2.2.2.2.2.1 s.2.2.2.2.2.2.2.2.2.1 s.2.2.2.2.2.2.2.2.2.2.1 s.2.2.2.2.2.2.2.2.2.2.2) (fun s => μ s.1 s.2.1 s.2.2.1 s.2.2.2.1 s.2.2.2.2.1 s.2.2.2.2.2.1 s.2.2.2.2.2.2.1 s.2.2.2.2.2.2.2.1 s.2.2.2.2.2.2.2.2.1 s.2.2.2.2.2.2.2.2.2.1 s.2.2.2.2.2.2.2.2.2.2.1 s.2.2.2.2.2.2.2.2.2.2.2) (fun n s hI hk => hs n s.1 s.2.1 s.2.2.1 s.2.2.2.1 s.2.2.2.2.1 s.2.2.2.2.2.1 s.2.2.2.2.2.2.1 s.2.2.2.2.2.2.2.1 s.2.2.2.2.2.2.2.2.1 s.2.2.2.2.2.2.2.2.2.1 s.2.2.2.2.2.2.2.2.2.2.1 s.2.2.2.2.2.2.2.2.2.2.2 hI (fun b1 b2 b3 b4 b5 b6 b7 b8 b9 b10 b11 b12 h9 hm => hk (b1, b2, b3, b4, b5, b6, b7, b8, b9, b10, b11, b12) h9 hm)) (a1, a2, a3, a4, a5, a6, a7, a8, a9, a10, a11, a12) h
theorem lp13 {A1 A2 A3 A4 A5 A6 A7 A8 A9 A10 A11 A12 A13 : Type} (W : Nat → A1 → A2 → A3 → A4 → A5 → A6 → A7 → A8 → A9 → A10 → A11 → A12 → A13 → Prop) (I : A1 → A2 → A3 → A4 → A5 → A6 → A7 → A8 → A9 → A10 → A11 → A12 → A13 → Prop) (μ : A1 → A2 → A3 → A4 → A5 → A6 → A7 → A8 → A9 → A10 → A11 → A12 → A13 → Nat) (hs : ∀ (n : Nat) (a1 : A1) (a2 : A2) (a3 : A3) (a4 : A4) (a5 : A5) (a6 : A6) (a7 : A7) (a8 : A8) (a9 : A9) (a10 : A10) (a11 : A11) (a12 : A12) (a13 : A13), I a1 a2 a3 a4 a5 a6 a7 a8 a9 a10 a11 a12 a13 → (∀ (b1 : A1) (b2 : A2) (b3 : A3) (b4 : A4) (b5 : A5) (b6 : A6) (b7 : A7) (b8 : A8) (b9 : A9) (b10 : A10) (b11 : A11) (b12 : A12) (b13 : A13), I b1 b2 b3 b4 b5 b6 b7 b8 b9 b10 b11 b12 b13 → μ b1 b2 b3 b4 b5 b6 b7 b8 b9 b10 b11 b12 b13 < μ a1 a2 a3 a4 a5 a6 a7 a8 a9 a10 a11 a12 a13 → W n b1 b2 b3 b4 b5 b6 b7 b8 b9 b10 b11 b12 b13) → W (n + 1) a1 a2 a3 a4 a5 a6 a7 a8 a9 a10 a11 a12 a13) (a1 : A1) (a2 : A2) (a3 : A3) (a4 : A4) (a5 : A5) (a6 : A6) (a7 : A7) (a8 : A8) (a9 : A9) (a10 : A10) (a11 : A11) (a12 : A12) (a13 : A13) (h : I a1 a2 a3 a4 a5 a6 a7 a8 a9 a10 a11 a12 a13) : ∃ n, W n a1 a2 a3 a4 a5 a6 a7 a8 a9 a10 a11 a12 a13 :=
  loop_m (σ := A1 × A2 × A3 × A4 × A5 × A6 × A7 × A8 × A9 × A10 × A11 × A12 × A13) (fun n s => W n s.1 s.2.1 s.2.2.1 s.2.2.2.1 s.2.2.2.2.1 s.2.2.2.2.2.1 s.2.2.2.2.2.2.1 s.2.2.2.2.2.2.2.1 s.2.2.2.2.2.2.2.2.1 s.2.2.2.2.2.2.2.2.2.1 s.2.2.2.2.2.2.2.2.2.2.1 s.2.2.2.2.2.2.2.2.2.2.2.1 s.2.2.2.2.2.2.2.2.2.2.2.2) (fun s => I s.1 s.2.1 s.2.2.1 s.2.2.2.1 s.2.2.2.2.1 s.2.2.2.2.2.1 s.2.2.2.2.2.2.1 s.2.2.2.2.2.2.2.1 s.2.2.2.2.2.2.2.2.1 s.2.2.2.2.2.2.2.2.2.1 s.2.2.2.2.2.2.2.2.2.2.1 s.2.2.2.2.2.2.2.2.2.2.2.1 s.2.2.2.2.2.2.2.2.2.2.2.2) (fun s => μ s.1 s.2.1 s.2.2.1 s.2.2.2.1 s.2.2.2.2.1 s.2.2.2.2.2.1 s.2.2.2.2.2.2.1 s.2.2.2.2.2.2.2.1 s.2.2.2.2.2.2.2.2.1 s.2.2.2.2.2.2.2.2.2.1 s.2.2.2.2.2.2.2.2.2.2.1 s.2.2.2.2.2.2.2.2.2.2.2.1 s.2.2.2.2.2.2.2.2.2.2.2.2) (fun n s hI hk => hs n s.1 s.2.1 s.2.2.1 s.2.2.2.1 s.2.2.2.2.1 s.2.2.2.2.2.1 s.2.2.2.2.2.2.1 s.2.2.2.2.2.2.2.1 s.2.2.2.2.2.2.2.2.1 s.2.2.2.2.2.2.2.2.2.1 s.2.2.2.2.2.2.2.2.2.2.1 s.2.2.2.2.2.2.2.2.2.2.2.1 s.2.2.2.2.2.2.2.2.2.2.2.2 hI (fun b1 b2 b3 b4 b5 b6 b7 b8 b9 b10 b11 b12 b13 h9 hm => hk (b1, b2, b3, b4, b5, b6, b7, b8, b9, b10, b11, b12, b13) h9 hm)) (a1, a2, a3, a4, a5, a6, a7, a8, a9, a10, a11, a12, a13) h
theorem lp14 {A1 A2 A3 A4 A5 A6 A7 A8 A9 A10 A11 A12 A13 A14 : Type} (W : Nat → A1 → A2 → A3 → A4 → A5 → A6 → A7 → A8 → A9 → A10 → A11 → A12 → A13 → A14 → Prop) (I : A1 → A2 → A3 → A4 → A5 → A6 → A7 → A8 → A9 → A10 → A11 → A12 → A13 → A14 → Prop) (μ : A1 → A2 → A3 → A4 → A5 → A6 → A7 → A8 → A9 → A10 → A11 → A12 → A13 → A14 → Nat) (hs : ∀ (n : Nat) (a1 : A1) (a2 : A2) (a3 : A3) (a4 : A4) (a5 : A5) (a6 : A6) (a7 : A7) (a8 : A8) (a9 : A9) (a10 : A10) (a11 : A11) (a12 : A12) (a13 : A13) (a14 : A14), I a1 a2 a3 a4 a5 a6 a7 a8 a9 a10 a11 a12 a13 a14 → (∀ (b1 : A1) (b2 : A2) (b3 : A3) (b4 : A4) (b5 : A5) (b6 : A6) (b7 : A7) (b8 : A8) (b9 : A9) (b10 : A10) (b11 : A11) (b12 : A12) (b13 : A13) (b14 : A14), I b1 b2 b3 b4 b5 b6 b7 b8 b9 b10 b11 b12 b13 b14 → μ b1 b2 b3 b4 b5 b6 b7 b8 b9 b10 b11 b12 b13 b14 < μ a1 a2 a3 a4 a5 a6 a7 a8 a9 a10 a11 a12 a13 a14 → W n b1 b2 b3 b4 b5 b6 b7 b8 b9 b10 b11 b12 b13 b14) → W (n + 1) a1 a2 a3 a4 a5 a6 a7 a8 a9 a10 a11 a12 a13 a14) (a1 : A1) (a2 : A2) (a3 : A3) (a4 : A4) (a5 : A5) (a6 : A6) (a7 : A7) (a8 : A8) (a9 : A9) (a10 : A10) (a11 : A11) (a12 : A12) (a13 : A13) (a14 : A14) (h : I a1 a2 a3 a4 a5 a6 a7 a8 a9 a10 a11 a12 a13 a14) : ∃ n, W n a1 a2 a3 a4 a5 a6 a7 a8 a9 a10 a11 a12 a13 a14 :=
  loop_m (σ := A1 × A2 × A3 × A4 × A5 × A6 × A7 × A8 × A9 × A10 × A11 × A12 × A13 × A14) (fun n s => W n s.1 s.2.1 s.2.2.1 s.2.2.2.1 s.2.2.2.2.1 s.2.2.2.2.2.1 s.2.2.2.2.2.2.1 s.2.2.2.2.2.2.2.1 s.2.2.2.2.2.2.2.2.1 s.2.2.2.2.2.2.2.2.2.1 s.2.2.2.2.2.2.2.2.2.2.1 s.2.2.2.2.2.2.2.2.2.2.2.1 s.2.2.2.2.2.2.2.2.2.2.2.2.1 s.2.2.2.2.2.2.2.2.2.2.2.2.2) (fun s => I s.1 s.2.1 s.2.2.1 s.2.2.2.1 s.2.2.2.2.1 s.2.2.2.2.2.1 s.2.2.2.2.2.2.1 s.2.2.2.2.2.2.2.1 s.2.2.2.2.2.2.2.2.1 s.2.2.2.2.2.2.2.2.2.1 s.2.2.2.2.2.2.2.2.2.2.1 s.2.2.2.2.2.2.2.2.2.2.2.1 s.2.2.2.2.2.2.2.2.2.2.2.2.1 s.2.2.2.2.2.2.2.2.2.2.2.2.2) (fun s => μ s.1 s.2.1 s.2.2.1 s.2.2.2.1 s.2.2.2.2.1 s.2.2.2.2.2.1 s.2.2.2.2.2.2.1 s.2.2.2.2.2.2.2.1 s.2.2.2.2.2.2.2.2.1 s.2.2.2.2.2.2.2.2.2.1 s.2.2.2.2.2.2.2.2.2.2.1 s.2.2.2.2.2.2.2.2.2.2.2.1 s.2.2.2.2.2.2.2.2.2.2.2.2.1 s.2.2.2.2.2.2.2.2.2.2.2.2.2) (fun n s hI hk => hs n s.1 s.2.1 s.2.2.1 s.2.2.2.1 s.2.2.2.2.1 s.2.2.2.2.2.1 s.2.2.2.2.2.2.1 s.2.2.2.2.2.2.2.1 s.2.2.2.2.2.2.2.2.1 s.2.2.2.2.2.2.2.2.2.1 s.2.2.2.2.2.2.2.2.2.2.1 s.2.2.2.2.2.2.2.2.2.2.2.1 s.2.2.2.2.2.2.2.2.2.2.2.2.1 s.2.2.2.2.2.2.2.2.2.2.2.2.2 hI (fun b1 b2 b3 b4 b5 b6 b7 b8 b9 b10 b11 b12 b13 b14 h9 hm => hk (b1, b2, b3, b4, b5, b6, b7, b8, b9, b10, b11, b12, b13, b14) h9 hm)) (a1, a2, a3, a4, a5, a6, a7, a8, a9, a10, a11, a12, a13, a14) h
theorem lp15 {A1 A2 A3 A4 A5 A6 A7 A8 A9 A10 A11 A12 A13 A14 A15 : Type} (W : Nat → A1 → A2 → A3 → A4 → A5 → A6 → A7 → A8 → A9 → A10 → A11 → A12 → A13 → A14 → A15 → Prop) (I : A1 → A2 → A3 → A4 → A5 → A6 → A7 → A8 → A9 → A10 → A11 → A12 → A13 → A14 → A15 → Prop) (μ : A1 → A2 → A3 → A4 → A5 → A6 → A7 → A8 → A9 → A10 → A11 → A12 → A13 → A14 → A15 → Nat) (hs : ∀ (n : Nat) (a1 : A1) (a2 : A2) (a3 : A3) (a4 : A4) (a5 : A5) (a6 : A6) (a7 : A7) (a8 : A8) (a9 : A9) (a10 : A10) (a11 : A11) (a12 : A12) (a13 : A13) (a14 : A14) (a15 : A15), I a1 a2 a3 a4 a5 a6 a7 a8 a9 a10 a11 a12 a13 a14 a15 → (∀ (b1 : A1) (b2 : A2) (b3 : A3) (b4 : A4) (b5 : A5) (b6 : A6) (b7 : A7) (b8 : A8) (b9 : A9) (b10 : A10) (b11 : A11) (b12 : A12) (b13 : A13) (b14 : A14) (b15 : A15), I b1 b2 b3 b4 b5 b6 b7 b8 b9 b10 b11 b12 b13 b14 b15 → μ b1 b2 b3 b4 b5 b6 b7 b8 b9 b10 b11 b12 b13 b14 b15 < μ a1 a2 a3 a4 a5 a6 a7 a8 a9 a10 a11 a12 a13 a14 a15 → W n b1 b2 b3 b4 b5 b6 b7 b8 b9 b10 b11 b12 b13 b14 b15) → W (n + 1) a1 a2 a3 a4 a5 a6 a7 a8 a9 a10 a11 a12 a13 a14 a15) (a1 : A1) (a2 : A2) (a3 : A3) (a4 : A4) (a5 : A5) (a6 : A6) (a7 : A7) (a8 : A8) (a9 : A9) (a10 : A10) (a11 : A11) (a12 : A12) (a13 : A13) (a14 : A14) (a15 : A15) (h : I a1 a2 a3 a4 a5 a6 a7 a8 a9 a10 a11 a12 a13 a14 a15) : ∃ n, W n a1 a2 a3 a4 a5 a6 a7 a8 a9 a10 a11 a12 a13 a14 a15 :=
  loop_m (σ := A1 × A2 × A3 × A4 × A5 × A6 × A7 × A8 × A9 × A10 × A11 × A12 × A13 × A14 × A15) (fun n s => W n s.1 s.2.1 s.2.2.1 s.2.2.2.1 s.2.2.2.2.1 s.2.2.2.2.2.1 s.2.2.2.2.2.2.1 s.2.2.2.2.2.2.2.1 s.2.2.2.2.2.2.2.2.1 s.2.2.2.2.2.2.2.2.2.1 s.2.2.2.2.2.2.2.2.2.2.1 s.2.2.2.2.2.2.2.2.2.2.2.1 s.2.2.2.2.2.2.2.2.2.2.2.2.1 s.2.2.2.2.2.2.2.2.2.2.2.2.2.1 s.2.2.2.2.2.2.2.2.2.2.2.2.2.2) (fun s => I s.1 s.2.1 s.2.2.1 s.2.2.2.1 s.2.2.2.2.1 s.2.2.2.2.2.1 s.2.2.2.2.2.2.1 s.2.2.2.2.2.2.2.1 s.2.2.2.2.2.2.2.2.1 s.2.2.2.2.2.2.2.2.2.1 s.2.2.2.2.2.2.2.2.2.2.1 s.2.2.2.2.2.2.2.2.2.2.2.1 s.2.2.2.2.2.2.2.2.2.2.2.2.1 s.2.2.2.2.2.2.2.2.2.2.2.2.2.1 s.2.2.2.2.2.2.2.2.2.2.2.2.2.2) (fun s => μ s.1 s.2.1 s.2.2.1 s.2.2.2.1 s.2.2.2.2.1 s.2.2.2.2.2.1 s.2.2.2.2.2.2.1 s.2.2.2.2.2.2.2.1 s.2.2.2.2.2.2.2.2.1 s.2.2.2.2.2.2.2.2.2.1 s.2.2.2.2.2.2.2.2.2.2.1 s.2.2.2.2.2.2.2.2.2.2.2.1 s.2.2.2.2.2.2.2.2.2.2.2.2.1 s.2.2.2.2.2.2.2.2.2.2.2.2.2.1 s.2.2.2.2.2.2.2.2.2.2.2.2.2.2) (fun n s hI hk => hs n s.1 s.2.1 s.2.2.1 s.2.2.2.1 s.2.2.2.2.1 s.2.2.2.2.2.1 s.2.2.2.2.2.2.1 s.2.2.2.2.2.2.2.1 s.2.2.2.2.2.2.2.2.1 s.2.2.2.2.2.2.2.2.2.1 s.2.2.2.2.2.2.2.2.2.2.1 s.2.2.2.2.2.2.2.2.2.2.2.1 s.2.2.2.2.2.2.2.2.2.2.2.2.1 s.2.2.2.2.2.2.2.2.2.2.2.2.2.1 s.2.2.2.2.2.2.2.2.2.2.2.2.2.2 hI (fun b1 b2 b3 b4 b5 b6 b7 b8 b9 b10 b11 b12 b13 b14 b15 h9 hm => hk (b1, b2, b3, b4, b5, b6, b7, b8, b9, b10, b11, b12, b13, b14, b15) h9 hm)) (a1, a2, a3, a4, a5, a6, a7, a8, a9, a10, a11, a12, a13, a14, a15) h
theorem lp16 {A1 A2 A3 A4 A5 A6 A7 A8 A9 A10 A11 A12 A13 A14 A15 A16 : Type} (W : Nat → A1 → A2 → A3 → A4 → A5 → A6 → A7 → A8 → A9 → A10 → A11 → A12 → A13 → A14 → A15 → A16 → Prop) (I : A1 → A2 → A3 → A4 → A5 → A6 → A7 → A8 → A9 → A10 → A11 → A12 → A13 → A14 → A15 → A16 → Prop) (μ : A1 → A2 → A3 → A4 → A5 → A6 → A7 → A8 → A9 → A10 → A11 → A12 → A13 → A14 → A15 → A16 → Nat) (hs : ∀ (n : Nat) (a1 : A1) (a2 : A2) (a3 : A3) (a4 : A4) (a5 : A5) (a6 : A6) (a7 : A7) (a8 : A8) (a9 : A9) (a10 : A10) (a11 : A11) (a12 : A12) (a13 : A13) (a14 : A14) (a15 : A15) (a16 : A16), I a1 a2 a3 a4 a5 a6 a7 a8 a9 a10 a11 a12 a13 a14 a15 a16 → (∀ (b1 : A1) (b2 : A2) (b3 : A3) (b4 : A4) (b5 : A5) (b6 : A6) (b7 : A7) (b8 : A8) (b9 : A9) (b10 : A10) (b11 : A11) (b12 : A12) (b13 : A13) (b14 : A14) (b15 : A15) (b16 : A16), I b1 b2 b3 b4 b5 b6 b7 b8 b9 b10 b11 b12 b13 b14 b15 b16 → μ b1 b2 b3 b4 b5 b6 b7 b8 b9 b10 b11 b12 b13 b14 b15 b16 < μ a1 a2 a3 a4 a5 a6 a7 a8 a9 a10 a11 a12 a13 a14 a15 a16 → W n b1 b2 b3 b4 b5 b6 b7 b8 b9 b10 b11 b12 b13 b14 b15 b16) → W (n + 1) a1 a2 a3 a4 a5 a6 a7 a8 a9 a10 a11 a12 a13 a14 a15 a16) (a1 : A1) (a2 : A2) (a3 : A3) (a4 : A4) (a5 : A5) (a6 : A6) (a7 : A7) (a8 : A8) (a9 : A9) (a10 : A10) (a11 : A11) (a12 : A12) (a13 : A13) (a14 : A14) (a15 : A15) (a16 : A16) (h : I a1 a2 a3 a4 a5 a6 a7 a8 a9 a10 a11 a12 a13 a14 a15 a16) : ∃ n, W n a1 a2 a3 a4 a5 a6 a7 a8 a9 a10 a11 a12 a13 a14 a15 a16 :=
  loop_m (σ := A1 × A2 × A3 × A4 × A5 × A6 × A7 × A8 × A9 × A10 × A11 × A12 × A13 × A14 × A15 × A16) (fun n s => W n s.1 s.2.1 s.2.2.1 s.2.2.2.1 s.2.2.2.2.1 s.2.2.2.2.2.1 s.2.2.2.2.2.2.1 s.2.2.2.2.2.2.2.1 s.2.2.2.2.2.2.2.2.1 s.2.2.2.2.2.2.2.2.2.1 s.2.2.2.2.2.2.2.2.2.2.1 s.2.2.2.2.2.2.2.2.2.2.2.1 s.2.2.2.2.2.2.2.2.2.2.2.2.1 s.2.2.2.2.2.2.2.2.2.2.2.2.2.1 s.2.2.2.2.2.2.2.2.2.2.2.2.2.2.1 s.2.2.2.2.2.2.2.2.2.2.2.2.2.2.2) (fun s => I s.1 s.2.1 s.2.2.1 s.2.2.2.1 s.2.2.2.2.1 s.2.2.2.2.2.1 s.2.2.2.2.2.2.1 s.2.2.2.2.2.2.2.1 s.2.2.2.2.2.2.2.2.1 s.2.2.2.2.2.2.2.2.2.1 s.2.2.2.2.2.2.2.2.2.2.1 s.2.2.2.2.2.2.2.2.2.2.2.1 s.2.2.2.2.2.2.2.2.2.2.2.2.1 s.2.2.2.2.2.2.2.2.2.2.2.2.2.1 s.2.2.2.2.2.2.2.2.2.2.2.2.2.2.1 s.2.2.2.2.2.2.2.2.2.2.2.2.2.2.2) (fun s => μ s.1 s.2.1 s.2.2.1 s.2.2.2.1 s.2.2.2.2.1 s.2.2.2.2.2.1 s.2.2.2.2.2.2.1 s.2.2.2.2.2.2.2.1 s.2.2.2.2.2.2.2.2.1 s.2.2.2.2.2.2.2.2.2.1 s.2.2.2.2.2.2.2.2.2.2.1 s.2.2.2.2.2.2.2.2.2.2.2.1 s.2.2.2.2.2.2.2.2.2.2.2.2.1 s.2.2.2.2.2.2.2.2.2.2.2.2.2.1 s.2.2.2.2.2.2.2.2.2.2.2.2.2.2.1 s.2.2.2.2.2.2.2.2.2.2.2.2.2.2.2) (fun n s hI hk => hs n s.1 s.2.1 s.2.2.1 s.2.2.2.1 s.2.2.2.2.1 s.2.2.2.2.2.1 s.2.2.2.2.2.2.1 s.2.2.2.2.2.2.2.1 s.2.2.2.2.2.2.2.2.1 s.2.2.2.2.2.2.2.2.2.1 s.2.2.2.2.2.2.2.2.2.2.1 s.2.2.2.2.2.2.2.2.2.2.2.1 s.2.2.2.2.2.2.2.2.2.2.2.2.1 s.2.2.2.2.2.2.2.2.2.2.2.2.2.1 s.2.2.2.2.2.2.2.2.2.2.2.2.2.2.1 s.2.2.2.2.2.2.2.2.2.2.2.2.2.2.2 hI (fun b1 b2 b3 b4 b5 b6 b7 b8 b9 b10 b11 b12 b13 b14 b15 b16 h9 hm => hk (b1, b2, b3, b4, b5, b6, b7, b8, b9, b10, b11, b12, b13, b14, b15, b16) h9 hm)) (a1, a2, a3, a4, a5, a6, a7, a8, a9, a10, a11, a12, a13, a14, a15, a16) h
theorem pk_least (P : Nat → Prop) (h : ∃ k, P k) : ∃ k, P k ∧ ∀ j, j < k → ¬ P j := by
  obtain ⟨k, hk⟩ := h
  induction k using Nat.strongRecOn with
  | ind k ih =>
    by_cases e : ∃ j, j < k ∧ P j
    · obtain ⟨j, hj, pj⟩ := e
      exact ih j hj pj
    · exact ⟨k, hk, fun j hj pj => e ⟨j, hj, pj⟩⟩
theorem rp1 {ρ A1 : Type} (W : Nat → (ρ → Prop) → A1 → Prop) (ok : A1 → Prop) (μ : A1 → Nat) (val : A1 → ρ)
    (hs : ∀ (d : Nat) (post : ρ → Prop) (a1 : A1), ok a1 → post (val a1) → (∀ (post' : ρ → Prop) (b1 : A1), ok b1 → μ b1 < μ a1 → post' (val b1) → W d post' b1) → W (d + 1) post a1) :
    ∀ (d : Nat) (post : ρ → Prop) (a1 : A1), ok a1 → μ a1 < d → post (val a1) → W d post a1 := by
  intro d
  induction d with
  | zero => intro post a1 _ h; omega
  | succ d ih =>
    intro post a1 ho hm hp
    exact hs d post a1 ho hp (fun post' b1 ho' hm' hp' => ih post' b1 ho' (by omega) hp')
theorem rp2 {ρ A1 A2 : Type} (W : Nat → (ρ → Prop) → A1 → A2 → Prop) (ok : A1 → A2 → Prop) (μ : A1 → A2 → Nat) (val : A1 → A2 → ρ)
    (hs : ∀ (d : Nat) (post : ρ → Prop) (a1 : A1) (a2 : A2), ok a1 a2 → post (val a1 a2) → (∀ (post' : ρ → Prop) (b1 : A1) (b2 : A2), ok b1 b2 → μ b1 b2 < μ a1 a2 → post' (val b1 b2) → W d post' b1 b2) → W (d + 1) post a1 a2) :
    ∀ (d : Nat) (post : ρ → Prop) (a1 : A1) (a2 : A2), ok a1 a2 → μ a1 a2 < d → post (val a1 a2) → W d post a1 a2 := by
  intro d
  induction d with
  | zero => intro post a1 a2 _ h; omega
  | succ d ih =>
    intro post a1 a2 ho hm hp
    exact hs d post a1 a2 ho hp (fun post' b1 b2 ho' hm' hp' => ih post' b1 b2 ho' (by omega) hp')
theorem rp3 {ρ A1 A2 A3 : Type} (W : Nat → (ρ → Prop) → A1 → A2 → A3 → Prop) (ok : A1 → A2 → A3 → Prop) (μ : A1 → A2 → A3 → Nat) (val : A1 → A2 → A3 → ρ)
    (hs : ∀ (d : Nat) (post : ρ → Prop) (a1 : A1) (a2 : A2) (a3 : A3), ok a1 a2 a3 → post (val a1 a2 a3) → (∀ (post' : ρ → Prop) (b1 : A1) (b2 : A2) (b3 : A3), ok b1 b2 b3 → μ b1 b2 b3 < μ a1 a2 a3 → post' (val b1 b2 b3) → W d post' b1 b2 b3) → W (d + 1) post a1 a2 a3) :
    ∀ (d : Nat) (post : ρ → Prop) (a1 : A1) (a2 : A2) (a3 : A3), ok a1 a2 a3 → μ a1 a2 a3 < d → post (val a1 a2 a3) → W d post a1 a2 a3 := by
  intro d
  induction d with
  | zero => intro post a1 a2 a3 _ h; omega
  | succ d ih =>
    intro post a1 a2 a3 ho hm hp
    exact hs d post a1 a2 a3 ho hp (fun post' b1 b2 b3 ho' hm' hp' => ih post' b1 b2 b3 ho' (by omega) hp')
theorem rp4 {ρ A1 A2 A3 A4 : Type} (W : Nat → (ρ → Prop) → A1 → A2 → A3 → A4 → Prop) (ok : A1 → A2 → A3 → A4 → Prop) (μ : A1 → A2 → A3 → A4 → Nat) (val : A1 → A2 → A3 → A4 → ρ)
    (hs : ∀ (d : Nat) (post : ρ → Prop) (a1 : A1) (a2 : A2) (a3 : A3) (a4 : A4), ok a1 a2 a3 a4 → post (val a1 a2 a3 a4) → (∀ (post' : ρ → Prop) (b1 : A1) (b2 : A2) (b3 : A3) (b4 : A4), ok b1 b2 b3 b4 → μ b1 b2 b3 b4 < μ a1 a2 a3 a4 → post' (val b1 b2 b3 b4) → W d post' b1 b2 b3 b4) → W (d + 1) post a1 a2 a3 a4) :
    ∀ (d : Nat) (post : ρ → Prop) (a1 : A1) (a2 : A2) (a3 : A3) (a4 : A4), ok a1 a2 a3 a4 → μ a1 a2 a3 a4 < d → post (val a1 a2 a3 a4) → W d post a1 a2 a3 a4 := by
  intro d
  induction d with
  | zero => intro post a1 a2 a3 a4 _ h; omega
  | succ d ih =>
    intro post a1 a2 a3 a4 ho hm hp
    exact hs d post a1 a2 a3 a4 ho hp (fun post' b1 b2 b3 b4 ho' hm' hp' => ih post' b1 b2 b3 b4 ho' (by omega) hp')
theorem rp5 {ρ A1 A2 A3 A4 A5 : Type} (W : Nat → (ρ → Prop) → A1 → A2 → A3 → A4 → A5 → Prop) (ok : A1 → A2 → A3 → A4 → A5 → Prop) (μ : A1 → A2 → A3 → A4 → A5 → Nat) (val : A1 → A2 → A3 → A4 → A5 → ρ)
    (hs : ∀ (d : Nat) (post : ρ → Prop) (a1 : A1) (a2 : A2) (a3 : A3) (a4 : A4) (a5 : A5), ok a1 a2 a3 a4 a5 → post (val a1 a2 a3 a4 a5) → (∀ (post' : ρ → Prop) (b1 : A1) (b2 : A2) (b3 : A3) (b4 : A4) (b5 : A5), ok b1 b2 b3 b4 b5 → μ b1 b2 b3 b4 b5 < μ a1 a2 a3 a4 a5 → post' (val b1 b2 b3 b4 b5) → W d post' b1 b2 b3 b4 b5) → W (d + 1) post a1 a2 a3 a4 a5) :
    ∀ (d : Nat) (post : ρ → Prop) (a1 : A1) (a2 : A2) (a3 : A3) (a4 : A4) (a5 : A5), ok a1 a2 a3 a4 a5 → μ a1 a2 a3 a4 a5 < d → post (val a1 a2 a3 a4 a5) → W d post a1 a2 a3 a4 a5 := by
  intro d
  induction d with
  | zero => intro post a1 a2 a3 a4 a5 _ h; omega
  | succ d ih =>
    intro post a1 a2 a3 a4 a5 ho hm hp
    exact hs d post a1 a2 a3 a4 a5 ho hp (fun post' b1 b2 b3 b4 b5 ho' hm' hp' => ih post' b1 b2 b3 b4 b5 ho' (by omega) hp')
theorem rp6 {ρ A1 A2 A3 A4 A5 A6 : Type} (W : Nat → (ρ → Prop) → A1 → A2 → A3 → A4 → A5 → A6 → Prop) (ok : A1 → A2 → A3 → A4 → A5 → A6 → Prop) (μ : A1 → A2 → A3 → A4 → A5 → A6 → Nat) (val : A1 → A2 → A3 → A4 → A5 → A6 → ρ)
    (hs : ∀ (d : Nat) (post : ρ → Prop) (a1 : A1) (a2 : A2) (a3 : A3) (a4 : A4) (a5 : A5) (a6 : A6), ok a1 a2 a3 a4 a5 a6 → post (val a1 a2 a3 a4 a5 a6) → (∀ (post' : ρ → Prop) (b1 : A1) (b2 : A2) (b3 : A3) (b4 : A4) (b5 : A5) (b6 : A6), ok b1 b2 b3 b4 b5 b6 → μ b1 b2 b3 b4 b5 b6 < μ a1 a2 a3 a4 a5 a6 → post' (val b1 b2 b3 b4 b5 b6) → W d post' b1 b2 b3 b4 b5 b6) → W (d + 1) post a1 a2 a3 a4 a5 a6) :
    ∀ (d : Nat) (post : ρ → Prop) (a1 : A1) (a2 : A2) (a3 : A3) (a4 : A4) (a5 : A5) (a6 : A6), ok a1 a2 a3 a4 a5 a6 → μ a1 a2 a3 a4 a5 a6 < d → post (val a1 a2 a3 a4 a5 a6) → W d post a1 a2 a3 a4 a5 a6 := by
  intro d
  induction d with
  | zero => intro post a1 a2 a3 a4 a5 a6 _ h; omega
  | succ d ih =>
    intro post a1 a2 a3 a4 a5 a6 ho hm hp
    exact hs d post a1 a2 a3 a4 a5 a6 ho hp (fun post' b1 b2 b3 b4 b5 b6 ho' hm' hp' => ih post' b1 b2 b3 b4 b5 b6 ho' (by omega) hp')
theorem rec_p {σ ρ : Type} (W : Nat → (ρ → Prop) → σ → Prop) (ok : σ → Prop) (μ : σ → Nat) (val : σ → ρ)
    (hs : ∀ d s post, ok s → post (val s) → (∀ s' post', ok s' → μ s' < μ s → post' (val s') → W d post' s') → W (d + 1) post s) :
    ∀ d s post, ok s → μ s < d → post (val s) → W d post s := by
  intro d
  induction d with
  | zero => intro s post _ h; omega
  | succ d ih =>
    intro s post ho hm hp
    exact hs d s post ho hp (fun s' post' ho' hm' hp' => ih s' post' ho' (by omega) hp')
theorem rec_q {σ ρ : Type} (W : Nat → (ρ → Prop) → σ → Prop) (ok : σ → Prop) (μ : σ → Nat) (Q : σ → ρ → Prop)
    (hs : ∀ d s post, ok s → (∀ r, Q s r → post r) → (∀ s' post', ok s' → μ s' < μ s → (∀ r, Q s' r → post' r) → W d post' s') → W (d + 1) post s) :
    ∀ d s post, ok s → μ s < d → (∀ r, Q s r → post r) → W d post s := by
  intro d
  induction d with
  | zero => intro s post _ h; omega
  | succ d ih =>
    intro s post ho hm hp
    exact hs d s post ho hp (fun s' post' ho' hm' hp' => ih s' post' ho' (by omega) hp')
def bx_sum (f : Nat → Int32) : Nat → Int32
  | 0 => 0
  | n + 1 => bx_sum f n + f n
theorem ek_u {A : Prop} {B : Nat → Prop} {k N : Nat} (hk : k < N) (h : B k) : (some k = none → A) ∧ (∀ y : Nat, some k = some y → (y < N ∧ B y)) :=
  ⟨fun z => absurd z (Option.some_ne_none k), fun _ e => (by cases e; exact ⟨hk, h⟩)⟩
theorem ek_nu {A : Prop} {B : Nat → Prop} (h : A) : ((none : Option Nat) = none → A) ∧ (∀ y : Nat, (none : Option Nat) = some y → B y) :=
  ⟨fun _ => h, fun _ e => (by cases e)⟩
theorem ek_if {c d A B : Prop} (e : c ↔ d) (f : d → A) (g : ¬ d → B) : (c → A) ∧ (¬ c → B) :=
  ⟨fun z => f (e.mp z), fun z => g (fun y => z (e.mpr y))⟩
theorem ek_v {α : Sort _} {P : α → Prop} {a b : α} (e : a = b) (h : P b) : P a := e ▸ h
theorem co_some {x : Option Nat} {A : Prop} {B : Nat → Prop} (i : Nat) (h : B i) (hx : x = some i := by rfl) : (x = none → A) ∧ (∀ y : Nat, x = some y → B y) := by
  subst hx
  exact ⟨fun e => (nomatch e), fun y e => Option.some.inj e ▸ h⟩
theorem co_none {x : Option Nat} {A : Prop} {B : Nat → Prop} (h : A) (hx : x = none := by rfl) : (x = none → A) ∧ (∀ y : Nat, x = some y → B y) := by
  subst hx
  exact ⟨fun _ => h, fun y e => (nomatch e)⟩
theorem co_any {x : Option Nat} {A : Prop} {B : Nat → Prop} (hn : x = none → A) (hs : ∀ i : Nat, x = some i → B i) : (x = none → A) ∧ (∀ y : Nat, x = some y → B y) := ⟨hn, hs⟩
theorem co_2 {P : Nat → Prop} (h0 : P 0) (h1 : P 1) {i : Nat} (hi : i < 2) : P i :=
  match i, hi with
  | 0, _ => h0
  | 1, _ => h1
theorem co_3 {P : Nat → Prop} (h0 : P 0) (h1 : P 1) (h2 : P 2) {i : Nat} (hi : i < 3) : P i :=
  match i, hi with
  | 0, _ => h0
  | 1, _ => h1
  | 2, _ => h2
theorem co_4 {P : Nat → Prop} (h0 : P 0) (h1 : P 1) (h2 : P 2) (h3 : P 3) {i : Nat} (hi : i < 4) : P i :=
  match i, hi with
  | 0, _ => h0
  | 1, _ => h1
  | 2, _ => h2
  | 3, _ => h3
theorem co_dec {N : Nat} {P : Nat → Prop} [DecidablePred P] (h : (List.range N).all (fun i => decide (P i)) = true) {i : Nat} (hi : i < N) : P i := by
  have := List.all_eq_true.mp h i (List.mem_range.mpr hi)
  exact of_decide_eq_true this
theorem co_tab {α : Type} {l : List α} {d : α} {P : α → Prop} (h : ∀ a, a ∈ l → P a) {i : Nat} (hi : i < l.length) : P (l.getD i d) := by
  rw [List.getD_eq_getElem?_getD, List.getElem?_eq_getElem hi]
  exact h _ (List.getElem_mem hi)
theorem pk_mu {x : Int32} {L : Nat} (h0 : ¬ x < 0) (h : ¬ nI L ≤ x) (hL : L < 2 ^ 31) : ∃ j : Nat, j < L ∧ x = nI j ∧ x + 1 = nI (j + 1) ∧ x.toNatClampNeg = j ∧ L - (x + 1).toNatClampNeg < L - x.toNatClampNeg := by
  obtain ⟨j, hj, rfl⟩ := nI_of h0
  have hl : j < L := Nat.not_le.mp fun q => h (nI_le q hj)
  refine ⟨j, hl, rfl, nI_1 j, nI_clamp hj, ?_⟩
  rw [nI_1, nI_clamp (by omega), nI_clamp hj]
  omega
theorem op_s {α : Type} {r : Option α} {A : Prop} {B : α → Prop} {y : α} (h : r = some y) (b : B y) : (r = none → A) ∧ ∀ z, r = some z → B z :=
  ⟨fun e => (by rw [h] at e; cases e), fun z e => (by rw [h] at e; cases e; exact b)⟩
def l_holds {α : Type} (a : Nat → Option Nat) (LP : List Nat) (p : Nat → α) (c : Nat) (b : Nat → α) : Prop :=
  ∀ j, j < c → ∃ y, a j = some y ∧ y ∈ LP ∧ p y = b j
theorem l_holds_0 {α : Type} {a : Nat → Option Nat} {LP : List Nat} {p b : Nat → α} : l_holds a LP p 0 b := fun j h => absurd h (Nat.not_lt_zero j)
theorem l_in_new (LP : List Nat) (q : Nat) : q ∈ LP ++ [q] := List.mem_append.mpr (Or.inr (List.mem_singleton.mpr rfl))
def l_sum (b : Nat → Int32) : Nat → Int32
  | 0 => 0
  | k + 1 => l_sum b k + b k
theorem sb_shr0 (x : Int32) : x >>> ((0 : Int32) &&& 31) = x := by
  rw [show ((0 : Int32) &&& 31) = 0 by decide]
  simp
theorem sb_shl0 (x : Int32) : x <<< ((0 : Int32) &&& 31) = x := by
  rw [show ((0 : Int32) &&& 31) = 0 by decide]
  simp
theorem sb_cl0 : (0 : Int32).toNatClampNeg = 0 := by decide
theorem sb_m1 {p : Nat} (h : 0 < p) : nI p + (-1) = nI (p - 1) := by
  obtain ⟨q, rfl⟩ : ∃ q, p = q + 1 := ⟨p - 1, by omega⟩
  exact pk_m1 q
def sb_b (c : Nat) : Int32 := (nI c).toInt8.toInt32
theorem sb_byte : ∀ c, c < 256 → sb_b c &&& 255 = nI c ∧ ((nI c).toUInt32 % 65536).toInt32 = nI c ∧ nI c ≤ 255 := by decide +kernel
def sb_Fit (a : Nat → Int32) : Prop := ∀ j, fits .byte (.int (a j)) = true
def sb_Lat (t : Nat → Nat) (n : Nat) (a : Nat → Int32) : Prop := ∀ j, j < n → t j < 256 ∧ a j = sb_b (t j)
theorem sb_fitB (c : Nat) : fits .byte (.int (sb_b c)) = true := pk_fb _
theorem sb_fit0 : sb_Fit (fun _ => 0) := fun _ => by
  show fits .byte (.int 0) = true
  decide
theorem sb_fitU {a : Nat → Int32} {k : Nat} {x : Int32} (h : sb_Fit a) (hx : fits .byte (.int x) = true) : sb_Fit (upd a k x) := by
  intro j
  by_cases e : j = k
  · subst e
    rw [pk_us]
    exact hx
  · rw [pk_un e]
    exact h j
def sb_cat (t : Nat → Nat) (n : Nat) (s : Nat → Nat) : Nat → Nat := fun j => if j < n then t j else s (j - n)
theorem sb_cat_lo {t s : Nat → Nat} {n j : Nat} (h : j < n) : sb_cat t n s j = t j := if_pos h
theorem sb_cat_hi {t s : Nat → Nat} {n j : Nat} : sb_cat t n s (n + j) = s j := by
  show (if n + j < n then t (n + j) else s (n + j - n)) = s j
  rw [if_neg (by omega), Nat.add_sub_cancel_left]
theorem sb_latPut {t s : Nat → Nat} {n w : Nat} {a a' : Nat → Int32} (h : sb_Lat t n a) (hk : ∀ j, j < n → a' j = a j) (hs : ∀ i, i < w → s i < 256 ∧ a' (n + i) = sb_b (s i)) : sb_Lat (sb_cat t n s) (n + w) a' := by
  intro j hj
  by_cases e : j < n
  · rw [sb_cat_lo e, hk j e]
    exact h j e
  · obtain ⟨i, rfl⟩ : ∃ i, j = n + i := ⟨j - n, by omega⟩
    rw [sb_cat_hi]
    exact hs i (by omega)
theorem sb_latKeep {t : Nat → Nat} {n : Nat} {a a' : Nat → Int32} (h : sb_Lat t n a) (hk : ∀ j, j < n → a' j = a j) : sb_Lat t n a' := fun j hj => by
  rw [hk j hj]
  exact h j hj
def sb_cap (q m : Nat) : Nat := if q ≤ m then m else if 2 * m + 2 < q then q else 2 * m + 2
def sb_Room (q m mc ms : Nat) : Prop := q ≤ m ∨ (1 ≤ mc ∧ sb_cap q m ≤ ms ∧ sb_cap q m ≤ 65536)
theorem sb_cap_ge (q m : Nat) : q ≤ sb_cap q m := by
  unfold sb_cap
  split
  · omega
  · split <;> omega
theorem sb_cap_gem (q m : Nat) : m ≤ sb_cap q m := by
  unfold sb_cap
  split
  · omega
  · split <;> omega
theorem sb_cap_le {q m mc ms : Nat} (hm : m ≤ 65536) (hr : sb_Room q m mc ms) : sb_cap q m ≤ 65536 := by
  rcases hr with h | h
  · rw [sb_cap, if_pos h]
    exact hm
  · exact h.2.2
theorem sb_at {P : Int32 → Prop} {x y : Int32} (e : x = y) (h : P y) : P x := e ▸ h
def sb_dg (w : Nat) : Nat := if w < 10 then 1 else if w < 100 then 2 else if w < 1000 then 3 else if w < 10000 then 4 else if w < 100000 then 5 else if w < 1000000 then 6 else if w < 10000000 then 7 else if w < 100000000 then 8 else if w < 1000000000 then 9 else 10
def sb_dec (v : Nat) : Nat → Nat := fun i => 48 + v / 10 ^ (sb_dg v - 1 - i) % 10
theorem sb_dg_in (w : Nat) : 1 ≤ sb_dg w ∧ sb_dg w ≤ 10 := by
  unfold sb_dg
  constructor <;> (repeat' split) <;> omega
theorem sb_dg100 {w : Nat} (h : 100 ≤ w) (hw : w < 2 ^ 31) : sb_dg w = sb_dg (w / 100) + 2 := by
  rw [sb_dg, sb_dg, if_neg (show ¬ w < 10 by omega), if_neg (show ¬ w < 100 by omega)]
  by_cases h3 : w < 1000
  · rw [if_pos h3, if_pos (show w / 100 < 10 by omega)]
  rw [if_neg h3, if_neg (show ¬ w / 100 < 10 by omega)]
  by_cases h4 : w < 10000
  · rw [if_pos h4, if_pos (show w / 100 < 100 by omega)]
  rw [if_neg h4, if_neg (show ¬ w / 100 < 100 by omega)]
  by_cases h5 : w < 100000
  · rw [if_pos h5, if_pos (show w / 100 < 1000 by omega)]
  rw [if_neg h5, if_neg (show ¬ w / 100 < 1000 by omega)]
  by_cases h6 : w < 1000000
  · rw [if_pos h6, if_pos (show w / 100 < 10000 by omega)]
  rw [if_neg h6, if_neg (show ¬ w / 100 < 10000 by omega)]
  by_cases h7 : w < 10000000
  · rw [if_pos h7, if_pos (show w / 100 < 100000 by omega)]
  rw [if_neg h7, if_neg (show ¬ w / 100 < 100000 by omega)]
  by_cases h8 : w < 100000000
  · rw [if_pos h8, if_pos (show w / 100 < 1000000 by omega)]
  rw [if_neg h8, if_neg (show ¬ w / 100 < 1000000 by omega)]
  by_cases h9 : w < 1000000000
  · rw [if_pos h9, if_pos (show w / 100 < 10000000 by omega)]
  rw [if_neg h9, if_neg (show ¬ w / 100 < 10000000 by omega)]
  rw [if_pos (show w / 100 < 100000000 by omega)]
theorem sb_negT {w : Nat} (h : w < 2 ^ 31) : (-nI w).toInt = -(w : Int) := by
  rw [Int32.toInt_neg, nI_toInt h]
  exact Int.bmod_eq_of_le (by omega) (by omega)
theorem sb_nle {a b : Nat} (ha : a < 2 ^ 31) (hb : b < 2 ^ 31) : -nI a ≤ -nI b ↔ b ≤ a := by
  rw [Int32.le_iff_toInt_le, sb_negT ha, sb_negT hb]
  omega
theorem sb_nlt {a b : Nat} (ha : a < 2 ^ 31) (hb : b < 2 ^ 31) : -nI a < -nI b ↔ b < a := by
  rw [Int32.lt_iff_toInt_lt, sb_negT ha, sb_negT hb]
  omega
theorem sb_cmp {A B : Prop} {x : Int32} (v c : Nat) (f : c ≤ v → A) (g : v < c → B) (hv : v < 2 ^ 31) (hx : x = -nI c := by rfl) (hc : c < 2 ^ 31 := by omega) : (-nI v ≤ x → A) ∧ (¬ -nI v ≤ x → B) := by
  subst hx
  rw [sb_nle hv hc]
  exact ⟨f, fun z => g (by omega)⟩
theorem sb_ndiv {w : Nat} (hw : w < 2 ^ 31) : (-nI w) / 100 = -nI (w / 100) := by
  apply Int32.toInt_inj.mp
  have h100 : (100 : Int32).toInt = 100 := by decide
  rw [Int32.toInt_div, sb_negT hw, h100, sb_negT (by omega), Int.neg_tdiv, Int.tdiv_eq_ediv_of_nonneg (by omega), Int.bmod_eq_of_le (by omega) (by omega)]
  omega
theorem sb_nrem {w : Nat} (hw : w < 2 ^ 31) : (-nI (w / 100)) * 100 - (-nI w) = nI (w % 100) := by
  have h := pk_rem (a := w) (d := 100) hw (by decide) (by decide)
  rw [pk_div hw (by decide) (by decide)] at h
  rw [← h]
  show (-nI (w / 100)) * nI 100 - (-nI w) = nI w - nI (w / 100) * nI 100
  rw [Int32.neg_mul, Int32.sub_neg, Int32.add_comm, ← Int32.sub_eq_add_neg]
end
section
/-! arrays of numbers, last index, counts, masks -/
def rk_en : Nat → Int32
  | 0 => -1
  | n + 1 => nI n
def rk_nf (f : Nat → Nat) : Nat → Int32 := fun c => nI (f c)
def rk_ef (f : Nat → Nat) : Nat → Int32 := fun c => rk_en (f c)
def rk_uN (f : Nat → Nat) (k x : Nat) : Nat → Nat := fun j => if j = k then x else f j
theorem rk_rd {f : Nat → Int32} {c : Nat} {y : Int32} (h : c < 2 ^ 31) (e : f c = y) : f (nI c).toNatClampNeg = y := by
  rw [nI_clamp h]; exact e
theorem rk_us {f : Nat → Nat} {k x : Nat} : rk_uN f k x k = x := if_pos rfl
theorem rk_un {f : Nat → Nat} {k x j : Nat} (h : j ≠ k) : rk_uN f k x j = f j := if_neg h
theorem rk_unf (f : Nat → Nat) (k x : Nat) : upd (rk_nf f) k (nI x) = rk_nf (rk_uN f k x) := by
  funext j
  by_cases h : j = k
  · subst h; rw [pk_us]; unfold rk_nf; rw [rk_us]
  · rw [pk_un h]; unfold rk_nf; rw [rk_un h]
theorem rk_uef (f : Nat → Nat) (k x : Nat) : upd (rk_ef f) k (rk_en x) = rk_ef (rk_uN f k x) := by
  funext j
  by_cases h : j = k
  · subst h; rw [pk_us]; unfold rk_ef; rw [rk_us]
  · rw [pk_un h]; unfold rk_ef; rw [rk_un h]
theorem rk_wr {f g : Nat → Int32} {c : Nat} {x : Int32} (h : c < 2 ^ 31) (e : upd f c x = g) : upd f (nI c).toNatClampNeg x = g := by
  rw [nI_clamp h]; exact e
theorem rk_m1T : (-1 : Int32).toInt = -1 := by decide
theorem rk_n1 {n : Nat} (h : n < 2 ^ 31) : ¬ nI n = -1 := by
  intro e
  have := congrArg Int32.toInt e
  rw [nI_toInt h, rk_m1T] at this
  omega
theorem rk_b1 {x : Int32} {A B : Prop} (n : Nat) (hx : x = rk_en n) (hn : n ≤ 2 ^ 31) (f : n = 0 → A) (g : ∀ c, n = c + 1 → x = nI c → B) : (x = -1 → A) ∧ (¬ x = -1 → B) := by
  cases n with
  | zero => exact ⟨fun _ => f rfl, fun z => absurd hx z⟩
  | succ c => exact ⟨fun z => absurd (hx.symm.trans z) (rk_n1 (by omega)), fun _ => g c rfl hx⟩
theorem rk_nb0 : vp_nar .boolean 0 = 0 := rfl
theorem rk_nb1 : vp_nar .boolean 1 = 1 := rfl
theorem rk_nb {x : Int32} (h : x = 0 ∨ x = 1) : vp_nar .boolean x = x := by
  rcases h with h | h <;> rw [h] <;> rfl
theorem rk_nw {x : Int32} (h : x = 0 ∨ x = 1) : narrow .boolean (.int x) = .int x := by
  rcases h with h | h <;> rw [h] <;> rfl
theorem rk_ix (x : Int32) (n : Nat) (hn : n < 2 ^ 31) : (x < 0 ∨ (¬ x < 0 ∧ nI n ≤ x)) ∨ ∃ j : Nat, j < n ∧ x = nI j := by
  by_cases h : x < 0
  · exact Or.inl (Or.inl h)
  · rcases pk_ix x hn with h1 | h1 | h1
    · exact absurd h1 h
    · exact Or.inl (Or.inr ⟨h, h1⟩)
    · exact Or.inr h1
/-! the last index below n with p, plus one; 0 if there is none -/
def rk_lp (p : Nat → Bool) : Nat → Nat
  | 0 => 0
  | n + 1 => if p n = true then n + 1 else rk_lp p n
theorem rk_lp_le (p : Nat → Bool) : ∀ n, rk_lp p n ≤ n
  | 0 => Nat.le_refl 0
  | n + 1 => by
    have := rk_lp_le p n
    unfold rk_lp
    split <;> omega
theorem rk_lp_z {p : Nat → Bool} : ∀ {n : Nat}, (∀ i, i < n → p i = false) → rk_lp p n = 0
  | 0, _ => rfl
  | n + 1, h => by
    unfold rk_lp
    rw [if_neg (by rw [h n (by omega)]; decide)]
    exact rk_lp_z (fun i hi => h i (by omega))
theorem rk_lp_i {p : Nat → Bool} {c : Nat} : ∀ {n : Nat}, c < n → p c = true → (∀ i, c < i → i < n → p i = false) → rk_lp p n = c + 1
  | 0, h, _, _ => by omega
  | n + 1, h, hp, hq => by
    unfold rk_lp
    by_cases e : c = n
    · subst e; rw [if_pos hp]
    · rw [if_neg (by rw [hq n (by omega) (by omega)]; decide)]
      exact rk_lp_i (by omega) hp (fun i h1 h2 => hq i h1 (by omega))
theorem rk_lp_e {p : Nat → Bool} : ∀ (n : Nat), (rk_lp p n = 0 ∧ ∀ i, i < n → p i = false) ∨ (∃ c, rk_lp p n = c + 1 ∧ c < n ∧ p c = true ∧ ∀ i, c < i → i < n → p i = false)
  | 0 => Or.inl ⟨rfl, fun i h => by omega⟩
  | n + 1 => by
    by_cases h : p n = true
    · exact Or.inr ⟨n, by unfold rk_lp; rw [if_pos h], by omega, h, fun i h1 h2 => by omega⟩
    · have hf : p n = false := by revert h; cases p n <;> simp
      rcases rk_lp_e (p := p) n with ⟨e, a⟩ | ⟨c, e, hc, hp, a⟩
      · exact Or.inl ⟨by unfold rk_lp; rw [if_neg h]; exact e, fun i hi => by
          by_cases e2 : i = n
          · rw [e2]; exact hf
          · exact a i (by omega)⟩
      · exact Or.inr ⟨c, by unfold rk_lp; rw [if_neg h]; exact e, by omega, hp, fun i h1 h2 => by
          by_cases e2 : i = n
          · rw [e2]; exact hf
          · exact a i h1 (by omega)⟩
theorem rk_lp_0 {p : Nat → Bool} {n : Nat} (h : rk_lp p n = 0) : ∀ i, i < n → p i = false := by
  rcases rk_lp_e (p := p) n with ⟨_, a⟩ | ⟨c, e, _⟩
  · exact a
  · omega
theorem rk_lp_s {p : Nat → Bool} {n c : Nat} (h : rk_lp p n = c + 1) : c < n ∧ p c = true ∧ ∀ i, c < i → i < n → p i = false := by
  rcases rk_lp_e (p := p) n with ⟨e, _⟩ | ⟨d, e, a⟩
  · omega
  · have : d = c := by omega
    subst this; exact a
theorem rk_lp_c {p q : Nat → Bool} : ∀ {n : Nat}, (∀ i, i < n → p i = q i) → rk_lp p n = rk_lp q n
  | 0, _ => rfl
  | n + 1, h => by
    unfold rk_lp
    rw [h n (by omega), rk_lp_c (fun i hi => h i (by omega))]
def rk_pk (ky : Nat → Nat) (k : Nat) : Nat → Bool := fun c => decide (ky c = k)
def rk_pr (rv ky : Nat → Nat) (k R : Nat) : Nat → Bool := fun c => decide (ky c = k ∧ rv c ≤ R)
def rk_lk (ky : Nat → Nat) (k n : Nat) : Nat := rk_lp (rk_pk ky k) n
def rk_la (rv ky : Nat → Nat) (k R n : Nat) : Nat := rk_lp (rk_pr rv ky k R) n
theorem rk_lk_le (ky : Nat → Nat) (k n : Nat) : rk_lk ky k n ≤ n := rk_lp_le _ n
theorem rk_la_le (rv ky : Nat → Nat) (k R n : Nat) : rk_la rv ky k R n ≤ n := rk_lp_le _ n
theorem rk_lk_0 {ky : Nat → Nat} {k n : Nat} (h : rk_lk ky k n = 0) : ∀ i, i < n → ky i ≠ k :=
  fun i hi => of_decide_eq_false (rk_lp_0 h i hi)
theorem rk_lk_s {ky : Nat → Nat} {k n c : Nat} (h : rk_lk ky k n = c + 1) : c < n ∧ ky c = k ∧ ∀ i, c < i → i < n → ky i ≠ k :=
  ⟨(rk_lp_s h).1, of_decide_eq_true (rk_lp_s h).2.1, fun i a b => of_decide_eq_false ((rk_lp_s h).2.2 i a b)⟩
theorem rk_lk_z {ky : Nat → Nat} {k n : Nat} (h : ∀ i, i < n → ky i ≠ k) : rk_lk ky k n = 0 :=
  rk_lp_z fun i hi => decide_eq_false (h i hi)
theorem rk_lk_i {ky : Nat → Nat} {k n c : Nat} (h : c < n) (hk : ky c = k) (h2 : ∀ i, c < i → i < n → ky i ≠ k) : rk_lk ky k n = c + 1 :=
  rk_lp_i h (decide_eq_true hk) fun i a b => decide_eq_false (h2 i a b)
theorem rk_la_0 {rv ky : Nat → Nat} {k R n : Nat} (h : rk_la rv ky k R n = 0) : ∀ i, i < n → ky i = k → R < rv i :=
  fun i hi e => by
    have := of_decide_eq_false (rk_lp_0 h i hi)
    exact Nat.lt_of_not_le fun z => this ⟨e, z⟩
theorem rk_la_s {rv ky : Nat → Nat} {k R n c : Nat} (h : rk_la rv ky k R n = c + 1) : c < n ∧ ky c = k ∧ rv c ≤ R ∧ ∀ i, c < i → i < n → ky i = k → R < rv i :=
  ⟨(rk_lp_s h).1, (of_decide_eq_true (rk_lp_s h).2.1).1, (of_decide_eq_true (rk_lp_s h).2.1).2, fun i a b e => by
    have := of_decide_eq_false ((rk_lp_s h).2.2 i a b)
    exact Nat.lt_of_not_le fun z => this ⟨e, z⟩⟩
theorem rk_la_z {rv ky : Nat → Nat} {k R n : Nat} (h : ∀ i, i < n → ky i = k → R < rv i) : rk_la rv ky k R n = 0 :=
  rk_lp_z fun i hi => decide_eq_false fun z => by have := h i hi z.1; omega
theorem rk_la_i {rv ky : Nat → Nat} {k R n c : Nat} (h : c < n) (hk : ky c = k) (hr : rv c ≤ R) (h2 : ∀ i, c < i → i < n → ky i = k → R < rv i) : rk_la rv ky k R n = c + 1 :=
  rk_lp_i h (decide_eq_true ⟨hk, hr⟩) fun i a b => decide_eq_false fun z => by have := h2 i a b z.1; omega
theorem rk_la_k0 {rv ky : Nat → Nat} {k R n : Nat} (h : rk_lk ky k n = 0) : rk_la rv ky k R n = 0 :=
  rk_la_z fun i hi e => absurd e (rk_lk_0 h i hi)
theorem rk_la_k1 {rv ky : Nat → Nat} {k R n c : Nat} (h : rk_lk ky k n = c + 1) (hr : rv c ≤ R) : rk_la rv ky k R n = c + 1 :=
  rk_la_i (rk_lk_s h).1 (rk_lk_s h).2.1 hr fun i a b e => absurd e ((rk_lk_s h).2.2 i a b)
theorem rk_la_eq {rv ky : Nat → Nat} {k R n m : Nat} (hm : m ≤ n) (h : ∀ i, m ≤ i → i < n → ky i = k → R < rv i) : rk_la rv ky k R n = rk_la rv ky k R m := by
  rcases e : rk_la rv ky k R m with _ | c
  · exact rk_la_z fun i hi e2 => by
      by_cases hh : i < m
      · exact rk_la_0 e i hh e2
      · exact h i (by omega) hi e2
  · have hc := rk_la_s e
    exact rk_la_i (by omega) hc.2.1 hc.2.2.1 fun i h1 h2 e2 => by
      by_cases hh : i < m
      · exact hc.2.2.2 i h1 hh e2
      · exact h i (by omega) h2 e2
theorem rk_la_k2 {rv ky : Nat → Nat} {k R n c : Nat} (h : rk_lk ky k n = c + 1) (hr : R < rv c) : rk_la rv ky k R n = rk_la rv ky k R c :=
  rk_la_eq (by have := (rk_lk_s h).1; omega) fun i a b e => by
    by_cases z : i = c
    · rw [z]; exact hr
    · exact absurd e ((rk_lk_s h).2.2 i (by omega) b)
theorem rk_la_lk {rv ky : Nat → Nat} {k R n : Nat} (h : ∀ c, c < n → rv c ≤ R) : rk_la rv ky k R n = rk_lk ky k n := by
  rcases e : rk_lk ky k n with _ | c
  · exact rk_la_k0 e
  · exact rk_la_k1 e (h c (rk_lk_s e).1)
/-! counts -/
def rk_ct (p : Nat → Bool) : Nat → Nat
  | 0 => 0
  | n + 1 => rk_ct p n + (if p n = true then 1 else 0)
theorem rk_ct_t {p : Nat → Bool} {n : Nat} (h : p n = true) : rk_ct p (n + 1) = rk_ct p n + 1 := by
  show rk_ct p n + (if p n = true then 1 else 0) = _
  rw [if_pos h]
theorem rk_ct_f {p : Nat → Bool} {n : Nat} (h : ¬ p n = true) : rk_ct p (n + 1) = rk_ct p n := by
  show rk_ct p n + (if p n = true then 1 else 0) = _
  rw [if_neg h]; rfl
theorem rk_ct_le (p : Nat → Bool) : ∀ n, rk_ct p n ≤ n
  | 0 => Nat.le_refl 0
  | n + 1 => by
    have := rk_ct_le p n
    show rk_ct p n + (if p n = true then 1 else 0) ≤ _
    split <;> omega
theorem rk_ct_c {p q : Nat → Bool} : ∀ {n : Nat}, (∀ i, i < n → p i = q i) → rk_ct p n = rk_ct q n
  | 0, _ => rfl
  | n + 1, h => by
    show rk_ct p n + (if p n = true then 1 else 0) = rk_ct q n + (if q n = true then 1 else 0)
    rw [h n (by omega), rk_ct_c (fun i hi => h i (by omega))]
theorem rk_ct_sk {p : Nat → Bool} (a : Nat) : ∀ {n : Nat}, a ≤ n → (∀ i, a ≤ i → i < n → ¬ p i = true) → rk_ct p n = rk_ct p a
  | 0, h, _ => by have : a = 0 := by omega
                  rw [this]
  | n + 1, h, hz => by
    by_cases e : a = n + 1
    · rw [e]
    · rw [rk_ct_f (hz n (by omega) (by omega)), rk_ct_sk a (by omega) fun i h1 h2 => hz i h1 (by omega)]
theorem rk_ct_z {p : Nat → Bool} {n : Nat} (h : ∀ i, i < n → ¬ p i = true) : rk_ct p n = 0 :=
  (rk_ct_sk 0 (Nat.zero_le n) fun i _ hi => h i hi)
theorem rk_ct_0 {p : Nat → Bool} : ∀ {n : Nat}, rk_ct p n = 0 → ∀ i, i < n → ¬ p i = true
  | 0, _, i, hi => by omega
  | n + 1, h, i, hi => by
    have h' : rk_ct p n + (if p n = true then 1 else 0) = 0 := h
    by_cases e : i = n
    · subst e
      intro z
      rw [if_pos z] at h'
      omega
    · exact rk_ct_0 (n := n) (by omega) i (by omega)
theorem rk_ct_m {p : Nat → Bool} : ∀ {n : Nat} (a : Nat), a ≤ n → rk_ct p a ≤ rk_ct p n
  | 0, a, h => by have : a = 0 := by omega
                  rw [this]; exact Nat.le_refl _
  | n + 1, a, h => by
    by_cases e : a = n + 1
    · rw [e]; exact Nat.le_refl _
    · have := rk_ct_m (p := p) (n := n) a (by omega)
      show _ ≤ rk_ct p n + (if p n = true then 1 else 0)
      omega
theorem rk_ct_lt {p : Nat → Bool} {a n : Nat} (h : a < n) (hp : p a = true) : rk_ct p a < rk_ct p n := by
  have := rk_ct_m (p := p) (n := n) (a + 1) h
  rw [rk_ct_t hp] at this
  omega
theorem rk_ct_ex {p : Nat → Bool} : ∀ {n j : Nat}, j < rk_ct p n → ∃ i, i < n ∧ p i = true ∧ rk_ct p i = j
  | 0, j, h => by
    have h' : j < 0 := h
    omega
  | n + 1, j, h => by
    by_cases hp : p n = true
    · rw [rk_ct_t hp] at h
      by_cases e : j = rk_ct p n
      · exact ⟨n, by omega, hp, e.symm⟩
      · obtain ⟨i, h1, h2, h3⟩ := rk_ct_ex (p := p) (n := n) (j := j) (by omega)
        exact ⟨i, by omega, h2, h3⟩
    · rw [rk_ct_f hp] at h
      obtain ⟨i, h1, h2, h3⟩ := rk_ct_ex (p := p) (n := n) (j := j) h
      exact ⟨i, by omega, h2, h3⟩
theorem rk_ct_mono {p q : Nat → Bool} : ∀ {n : Nat}, (∀ i, i < n → p i = true → q i = true) → rk_ct p n ≤ rk_ct q n
  | 0, _ => Nat.le_refl 0
  | n + 1, h => by
    have := rk_ct_mono (n := n) fun i hi => h i (by omega)
    by_cases hp : p n = true
    · rw [rk_ct_t hp, rk_ct_t (h n (by omega) hp)]; omega
    · rw [rk_ct_f hp]
      show _ ≤ rk_ct q n + (if q n = true then 1 else 0)
      omega
theorem rk_ct_dj {p q r : Nat → Bool} : ∀ {n : Nat}, (∀ i, i < n → (p i = true ↔ (q i = true ∨ r i = true)) ∧ ¬ (q i = true ∧ r i = true)) → rk_ct p n = rk_ct q n + rk_ct r n
  | 0, _ => rfl
  | n + 1, h => by
    have e := rk_ct_dj (n := n) fun i hi => h i (by omega)
    have hn := h n (by omega)
    by_cases hq : q n = true
    · have hr : ¬ r n = true := fun z => hn.2 ⟨hq, z⟩
      rw [rk_ct_t (hn.1.mpr (Or.inl hq)), rk_ct_t hq, rk_ct_f hr, e]; omega
    · by_cases hr : r n = true
      · rw [rk_ct_t (hn.1.mpr (Or.inr hr)), rk_ct_f hq, rk_ct_t hr, e]; omega
      · have hp : ¬ p n = true := fun z => by rcases hn.1.mp z with z | z <;> contradiction
        rw [rk_ct_f hp, rk_ct_f hq, rk_ct_f hr, e]
/-! different numbers below m are at most m -/
theorem rk_pig : ∀ (m n : Nat) (f : Nat → Nat), (∀ i, i < n → f i < m) → (∀ i j, i < n → j < n → f i = f j → i = j) → n ≤ m
  | 0, n, f, h, _ => by
    cases n with
    | zero => exact Nat.le_refl 0
    | succ n => exact absurd (h 0 (by omega)) (by omega)
  | m + 1, n, f, h, hi => by
    by_cases z : ∃ a, a < n ∧ f a = m
    · obtain ⟨a, ha, ea⟩ := z
      have := rk_pig m (n - 1) (fun i => if i < a then f i else f (i + 1)) (fun i hh => by
        show (if i < a then f i else f (i + 1)) < m
        by_cases c : i < a
        · rw [if_pos c]
          have h1 := h i (by omega)
          have : f i ≠ m := fun e => by have := hi i a (by omega) ha (e.trans ea.symm); omega
          omega
        · rw [if_neg c]
          have h1 := h (i + 1) (by omega)
          have : f (i + 1) ≠ m := fun e => by have := hi (i + 1) a (by omega) ha (e.trans ea.symm); omega
          omega) (fun i j h1 h2 e => by
        have e' : (if i < a then f i else f (i + 1)) = (if j < a then f j else f (j + 1)) := e
        by_cases c : i < a <;> by_cases d : j < a
        · rw [if_pos c, if_pos d] at e'; exact hi i j (by omega) (by omega) e'
        · rw [if_pos c, if_neg d] at e'; have := hi i (j + 1) (by omega) (by omega) e'; omega
        · rw [if_neg c, if_pos d] at e'; have := hi (i + 1) j (by omega) (by omega) e'; omega
        · rw [if_neg c, if_neg d] at e'; have := hi (i + 1) (j + 1) (by omega) (by omega) e'; omega)
      omega
    · have := rk_pig m n f (fun i hh => by
        have h1 := h i hh
        have : f i ≠ m := fun e => z ⟨i, hh, e⟩
        omega) hi
      omega
/-! masks -/
def rk_mk (p : Nat → Bool) : Nat → Nat
  | 0 => 0
  | n + 1 => rk_mk p n + (if p n = true then 2 ^ n else 0)
theorem rk_mk_t {p : Nat → Bool} {n : Nat} (h : p n = true) : rk_mk p (n + 1) = rk_mk p n + 2 ^ n := by
  show rk_mk p n + (if p n = true then 2 ^ n else 0) = _
  rw [if_pos h]
theorem rk_mk_f {p : Nat → Bool} {n : Nat} (h : ¬ p n = true) : rk_mk p (n + 1) = rk_mk p n := by
  show rk_mk p n + (if p n = true then 2 ^ n else 0) = _
  rw [if_neg h]; rfl
theorem rk_mk_lt (p : Nat → Bool) : ∀ n, rk_mk p n < 2 ^ n
  | 0 => Nat.zero_lt_one
  | n + 1 => by
    have := rk_mk_lt p n
    have e : 2 ^ (n + 1) = 2 * 2 ^ n := by rw [Nat.pow_succ]; omega
    show rk_mk p n + (if p n = true then 2 ^ n else 0) < _
    rw [e]
    split <;> omega
theorem rk_mk_b {p : Nat → Bool} {k : Nat} : ∀ {n : Nat}, k < n → rk_mk p n / 2 ^ k % 2 = if p k = true then 1 else 0
  | 0, h => by omega
  | n + 1, h => by
    have hl := rk_mk_lt p n
    have hp : 0 < 2 ^ k := Nat.two_pow_pos k
    by_cases e : k = n
    · subst e
      by_cases hq : p k = true
      · rw [rk_mk_t hq, if_pos hq, Nat.add_div_right _ hp, Nat.div_eq_of_lt hl]
      · rw [rk_mk_f hq, if_neg hq, Nat.div_eq_of_lt hl]
    · have ih := rk_mk_b (p := p) (k := k) (n := n) (by omega)
      by_cases hq : p n = true
      · rw [rk_mk_t hq, ← ih]
        have e1 : 2 ^ n = 2 ^ k * (2 * 2 ^ (n - k - 1)) := by
          rw [← Nat.pow_succ', ← Nat.pow_add]; congr 1; omega
        rw [e1, Nat.add_mul_div_left _ _ hp]
        omega
      · rw [rk_mk_f hq]; exact ih
theorem rk_mk_sk {p : Nat → Bool} (a : Nat) : ∀ {n : Nat}, a ≤ n → (∀ i, a ≤ i → i < n → ¬ p i = true) → rk_mk p n = rk_mk p a
  | 0, h, _ => by have : a = 0 := by omega
                  rw [this]
  | n + 1, h, hz => by
    by_cases e : a = n + 1
    · rw [e]
    · rw [rk_mk_f (hz n (by omega) (by omega)), rk_mk_sk a (by omega) fun i h1 h2 => hz i h1 (by omega)]
theorem rk_mk_0 {p : Nat → Bool} : ∀ {n : Nat}, rk_mk p n = 0 → rk_ct p n = 0
  | 0, _ => rfl
  | n + 1, h => by
    have h' : rk_mk p n + (if p n = true then 2 ^ n else 0) = 0 := h
    have := Nat.two_pow_pos n
    by_cases hp : p n = true
    · rw [if_pos hp] at h'; omega
    · rw [if_neg hp] at h'; rw [rk_ct_f hp]; exact rk_mk_0 (n := n) (by omega)
theorem rk_mk_z {p : Nat → Bool} {n : Nat} (h : rk_ct p n = 0) : rk_mk p n = 0 :=
  (rk_mk_sk 0 (Nat.zero_le n) fun i _ hi => rk_ct_0 h i hi)
theorem rk_shc : ∀ k, k < 32 → ((nI k &&& 31).toBitVec.smod 32).toNat = k := by decide +kernel
theorem rk_one : ∀ k, k < 16 → (1 : Int32) <<< (nI k &&& 31) = nI (2 ^ k) := by decide +kernel
theorem rk_bit {p : Nat → Bool} {k n : Nat} (hn : n ≤ 16) (hk : k < n) : (nI (rk_mk p n) >>> (nI k &&& 31)) &&& 1 = nI (if p k = true then 1 else 0) := by
  have hl := rk_mk_lt p n
  have hn2 : 2 ^ n ≤ 2 ^ 16 := Nat.pow_le_pow_right (by decide) hn
  have h16 : (2 : Nat) ^ 16 = 65536 := by decide
  have hd : rk_mk p n / 2 ^ k ≤ rk_mk p n := Nat.div_le_self _ _
  rw [pk_shrN (by omega) _ k (rk_shc k (by omega)), pk_andN (by omega) 1 (by decide), show (2 : Nat) ^ 1 = 2 from rfl, rk_mk_b hk]
theorem rk_orN (a b : Nat) : nI a ||| nI b = nI (a ||| b) := by
  apply Int32.toBitVec_inj.mp
  apply BitVec.eq_of_toNat_eq
  rw [Int32.toBitVec_or, BitVec.toNat_or]
  show (BitVec.ofNat 32 a).toNat ||| (BitVec.ofNat 32 b).toNat = (BitVec.ofNat 32 (a ||| b)).toNat
  rw [BitVec.toNat_ofNat, BitVec.toNat_ofNat, BitVec.toNat_ofNat, Nat.or_mod_two_pow]
theorem rk_set {p : Nat → Bool} {k : Nat} (hk : k < 16) (h : p k = true) : nI (rk_mk p k) ||| ((1 : Int32) <<< (nI k &&& 31)) = nI (rk_mk p (k + 1)) := by
  rw [rk_one k hk, rk_orN, rk_mk_t h]
  congr 1
  rw [Nat.or_comm, Nat.add_comm]
  have := Nat.two_pow_add_eq_or_of_lt (rk_mk_lt p k) 1
  rw [Nat.mul_one] at this
  exact this.symm
end
section
/-! the relation's parts -/
def rk_pb (pt : Nat → Int32) : Nat → Int32
  | 0 => 0
  | c + 1 => pt c
def rk_Lg (P P0 F O C D K : Nat) (rv ky : Nat → Nat) (pt : Nat → Int32) (bf lc : Nat → Nat) : Prop :=
  (∀ c, c < C → ky c < 16) ∧
  (∀ c, c < C → pt c = 0 ∨ pt c = 1) ∧
  (C = O + D) ∧
  (F ≤ P) ∧
  (∀ k, k < 16 → lc k = rk_lk ky k C) ∧
  (∀ c, c < C → bf c = rk_lk ky (ky c) c) ∧
  (∀ i j, i < j → j < C → rv i < rv j ∨ (rv i = rv j ∧ ky i < ky j)) ∧
  (∀ c, c < C → (c < O ↔ rv c ≤ F)) ∧
  (∀ i j, i < O → j < O → ky i = ky j → i = j) ∧
  (P0 + O ≤ F + C) ∧
  (∀ c, O ≤ c → c < C → P0 + c + 1 ≤ rv c + C) ∧
  (∀ c, c < C → rv c < P ∨ (rv c = P ∧ ky c < K))
theorem rk_Lg_kyB {P P0 F O C D K : Nat} {rv ky : Nat → Nat} {pt : Nat → Int32} {bf lc : Nat → Nat} (h : rk_Lg P P0 F O C D K rv ky pt bf lc) : ∀ c, c < C → ky c < 16 := h.1
theorem rk_Lg_p01 {P P0 F O C D K : Nat} {rv ky : Nat → Nat} {pt : Nat → Int32} {bf lc : Nat → Nat} (h : rk_Lg P P0 F O C D K rv ky pt bf lc) : ∀ c, c < C → pt c = 0 ∨ pt c = 1 := h.2.1
theorem rk_Lg_cod {P P0 F O C D K : Nat} {rv ky : Nat → Nat} {pt : Nat → Int32} {bf lc : Nat → Nat} (h : rk_Lg P P0 F O C D K rv ky pt bf lc) : C = O + D := h.2.2.1
theorem rk_Lg_FP {P P0 F O C D K : Nat} {rv ky : Nat → Nat} {pt : Nat → Int32} {bf lc : Nat → Nat} (h : rk_Lg P P0 F O C D K rv ky pt bf lc) : F ≤ P := h.2.2.2.1
theorem rk_Lg_lcE {P P0 F O C D K : Nat} {rv ky : Nat → Nat} {pt : Nat → Int32} {bf lc : Nat → Nat} (h : rk_Lg P P0 F O C D K rv ky pt bf lc) : ∀ k, k < 16 → lc k = rk_lk ky k C := h.2.2.2.2.1
theorem rk_Lg_bfE {P P0 F O C D K : Nat} {rv ky : Nat → Nat} {pt : Nat → Int32} {bf lc : Nat → Nat} (h : rk_Lg P P0 F O C D K rv ky pt bf lc) : ∀ c, c < C → bf c = rk_lk ky (ky c) c := h.2.2.2.2.2.1
theorem rk_Lg_ord {P P0 F O C D K : Nat} {rv ky : Nat → Nat} {pt : Nat → Int32} {bf lc : Nat → Nat} (h : rk_Lg P P0 F O C D K rv ky pt bf lc) : ∀ i j, i < j → j < C → rv i < rv j ∨ (rv i = rv j ∧ ky i < ky j) := h.2.2.2.2.2.2.1
theorem rk_Lg_old {P P0 F O C D K : Nat} {rv ky : Nat → Nat} {pt : Nat → Int32} {bf lc : Nat → Nat} (h : rk_Lg P P0 F O C D K rv ky pt bf lc) : ∀ c, c < C → (c < O ↔ rv c ≤ F) := h.2.2.2.2.2.2.2.1
theorem rk_Lg_dis {P P0 F O C D K : Nat} {rv ky : Nat → Nat} {pt : Nat → Int32} {bf lc : Nat → Nat} (h : rk_Lg P P0 F O C D K rv ky pt bf lc) : ∀ i j, i < O → j < O → ky i = ky j → i = j := h.2.2.2.2.2.2.2.2.1
theorem rk_Lg_pa0 {P P0 F O C D K : Nat} {rv ky : Nat → Nat} {pt : Nat → Int32} {bf lc : Nat → Nat} (h : rk_Lg P P0 F O C D K rv ky pt bf lc) : P0 + O ≤ F + C := h.2.2.2.2.2.2.2.2.2.1
theorem rk_Lg_pac {P P0 F O C D K : Nat} {rv ky : Nat → Nat} {pt : Nat → Int32} {bf lc : Nat → Nat} (h : rk_Lg P P0 F O C D K rv ky pt bf lc) : ∀ c, O ≤ c → c < C → P0 + c + 1 ≤ rv c + C := h.2.2.2.2.2.2.2.2.2.2.1
theorem rk_Lg_nxt {P P0 F O C D K : Nat} {rv ky : Nat → Nat} {pt : Nat → Int32} {bf lc : Nat → Nat} (h : rk_Lg P P0 F O C D K rv ky pt bf lc) : ∀ c, c < C → rv c < P ∨ (rv c = P ∧ ky c < K) := h.2.2.2.2.2.2.2.2.2.2.2
def rk_St (P F C : Nat) (rv ky : Nat → Nat) (vl pt ex va : Nat → Int32) : Prop :=
  (∀ R k, F ≤ R → R ≤ P → k < 16 → ex (16 * (R - F) + k) = rk_pb pt (rk_la rv ky k R C)) ∧
  (∀ R k c, F ≤ R → R ≤ P → k < 16 → rk_la rv ky k R C = c + 1 → pt c ≠ 0 → va (16 * (R - F) + k) = vl c)
theorem rk_St_ex {P F C : Nat} {rv ky : Nat → Nat} {vl pt ex va : Nat → Int32} (h : rk_St P F C rv ky vl pt ex va) : ∀ R k, F ≤ R → R ≤ P → k < 16 → ex (16 * (R - F) + k) = rk_pb pt (rk_la rv ky k R C) := h.1
theorem rk_St_va {P F C : Nat} {rv ky : Nat → Nat} {vl pt ex va : Nat → Int32} (h : rk_St P F C rv ky vl pt ex va) : ∀ R k c, F ≤ R → R ≤ P → k < 16 → rk_la rv ky k R C = c + 1 → pt c ≠ 0 → va (16 * (R - F) + k) = vl c := h.2
def rk_Nw (rv : Nat → Nat) (pt md vs : Nat → Int32) (lc : Nat → Nat) (ma se ve : Nat → Int32) : Prop :=
  ∀ k c, k < 16 → lc k = c + 1 → pt c ≠ 0 → ma k = md c ∧ se k = nI (rv c) ∧ ve k = vs c
def rk_Lk (O D : Nat) (rv ky : Nat → Nat) (vl pt ys yk yp yg : Nat → Int32) : Prop :=
  ∀ i, i < D → ys i = nI (rv (O + i)) ∧ yk i = nI (ky (O + i)) ∧ yp i = pt (O + i) ∧ yg i = vl (O + i)
/-- wanted by its range and first revision -/
def rk_wb (rv ky : Nat → Nat) (lo hi fr : Nat → Int32) (w c : Nat) : Prop := ¬ nI (ky c) < lo w ∧ ¬ hi w < nI (ky c) ∧ ¬ nI (rv c) < fr w
/-- not handed out yet, as Y says it -/
def rk_ny (rv ky : Nat → Nat) (lr lk : Nat → Int32) (w c : Nat) : Prop := lk w < 0 ∨ lr w < nI (rv c) ∨ (nI (rv c) = lr w ∧ ¬ nI (ky c) ≤ lk w)
def rk_Wa (Q O C : Nat) (rv ky : Nat → Nat) (lo hi fr pl lr lk : Nat → Int32) (w : Nat) : Prop :=
  ∃ p, p ≤ C ∧ pl w = nI p ∧ (∀ c, p ≤ c → c < O → ¬ rk_wb rv ky lo hi fr w c) ∧ (∀ c, O ≤ c → c < C → rk_wb rv ky lo hi fr w c → (p ≤ c ↔ rk_ny rv ky lr lk w c)) ∧ (lk w < 0 ∨ ∃ q, q ≤ Q ∧ lr w = nI q)
def rk_Hd (ah ak aq av lk lq lv : Nat → Int32) (w : Nat) : Prop :=
  (ah w = 0 ∧ lk w < 0) ∨ (ah w ≠ 0 ∧ ¬ lk w < 0 ∧ ak w = lk w ∧ aq w = (if lq w = 0 then 0 else 1) ∧ av w = lv w)
def rk_Wt (Q O C : Nat) (rv ky : Nat → Nat) (iu il lo hi fr pl ah ak aq av st lr lk lq lv : Nat → Int32) : Prop :=
  ∀ w, w < 4 → (iu w = 0 ∧ st w = 0) ∨ (iu w ≠ 0 ∧ rk_Hd ah ak aq av lk lq lv w ∧ ((il w = 0 ∧ st w = 1 ∧ rk_Wa Q O C rv ky lo hi fr pl lr lk w) ∨ (il w ≠ 0 ∧ st w = 2)))
def rk_Co (P P0 Q F O C D K : Nat) (np : Nat → Int32) (rv ky bf lc : Nat → Nat) (vl pt md vs iu il lo hi fr pl ah ak aq av ex va ma se ve ys yk yp yg st lr lk lq lv : Nat → Int32) : Prop :=
  (rk_Lg P P0 F O C D K rv ky pt bf lc) ∧
  (rk_St P F C rv ky vl pt ex va) ∧
  (rk_Nw rv pt md vs lc ma se ve) ∧
  (rk_Lk O D rv ky vl pt ys yk yp yg) ∧
  (rk_Wt Q O C rv ky iu il lo hi fr pl ah ak aq av st lr lk lq lv) ∧
  (∀ k, k < 16 → np k = rk_pb pt (lc k))
theorem rk_Co_Lg {P P0 Q F O C D K : Nat} {np : Nat → Int32} {rv ky bf lc : Nat → Nat} {vl pt md vs iu il lo hi fr pl ah ak aq av ex va ma se ve ys yk yp yg st lr lk lq lv : Nat → Int32} (h : rk_Co P P0 Q F O C D K np rv ky bf lc vl pt md vs iu il lo hi fr pl ah ak aq av ex va ma se ve ys yk yp yg st lr lk lq lv) : rk_Lg P P0 F O C D K rv ky pt bf lc := h.1
theorem rk_Co_St {P P0 Q F O C D K : Nat} {np : Nat → Int32} {rv ky bf lc : Nat → Nat} {vl pt md vs iu il lo hi fr pl ah ak aq av ex va ma se ve ys yk yp yg st lr lk lq lv : Nat → Int32} (h : rk_Co P P0 Q F O C D K np rv ky bf lc vl pt md vs iu il lo hi fr pl ah ak aq av ex va ma se ve ys yk yp yg st lr lk lq lv) : rk_St P F C rv ky vl pt ex va := h.2.1
theorem rk_Co_Nw {P P0 Q F O C D K : Nat} {np : Nat → Int32} {rv ky bf lc : Nat → Nat} {vl pt md vs iu il lo hi fr pl ah ak aq av ex va ma se ve ys yk yp yg st lr lk lq lv : Nat → Int32} (h : rk_Co P P0 Q F O C D K np rv ky bf lc vl pt md vs iu il lo hi fr pl ah ak aq av ex va ma se ve ys yk yp yg st lr lk lq lv) : rk_Nw rv pt md vs lc ma se ve := h.2.2.1
theorem rk_Co_Lk {P P0 Q F O C D K : Nat} {np : Nat → Int32} {rv ky bf lc : Nat → Nat} {vl pt md vs iu il lo hi fr pl ah ak aq av ex va ma se ve ys yk yp yg st lr lk lq lv : Nat → Int32} (h : rk_Co P P0 Q F O C D K np rv ky bf lc vl pt md vs iu il lo hi fr pl ah ak aq av ex va ma se ve ys yk yp yg st lr lk lq lv) : rk_Lk O D rv ky vl pt ys yk yp yg := h.2.2.2.1
theorem rk_Co_Wt {P P0 Q F O C D K : Nat} {np : Nat → Int32} {rv ky bf lc : Nat → Nat} {vl pt md vs iu il lo hi fr pl ah ak aq av ex va ma se ve ys yk yp yg st lr lk lq lv : Nat → Int32} (h : rk_Co P P0 Q F O C D K np rv ky bf lc vl pt md vs iu il lo hi fr pl ah ak aq av ex va ma se ve ys yk yp yg st lr lk lq lv) : rk_Wt Q O C rv ky iu il lo hi fr pl ah ak aq av st lr lk lq lv := h.2.2.2.2.1
theorem rk_Co_np {P P0 Q F O C D K : Nat} {np : Nat → Int32} {rv ky bf lc : Nat → Nat} {vl pt md vs iu il lo hi fr pl ah ak aq av ex va ma se ve ys yk yp yg st lr lk lq lv : Nat → Int32} (h : rk_Co P P0 Q F O C D K np rv ky bf lc vl pt md vs iu il lo hi fr pl ah ak aq av ex va ma se ve ys yk yp yg st lr lk lq lv) : ∀ k, k < 16 → np k = rk_pb pt (lc k) := h.2.2.2.2.2
/-- the relation amid a turn -/
def rk_Md (P P0 Q F O C D K T T2 : Nat) (ls op ln en np : Nat → Int32) (u : SX) (v : SY) : Prop :=
  ∃ (rv ky bf lc : Nat → Nat) (vl pt md vs rn iu il lo hi fr pl ah ak aq av ex va ma se ve ys yk yp yg st lr lk lq lv : Nat → Int32),
    u = (nI C, nI O, nI P, nI F, nI T, rk_nf rv, rk_nf ky, vl, pt, md, vs, rk_ef bf, rk_ef lc, ls, rn, op, ln, en, iu, il, lo, hi, fr, pl, ah, ak, aq, av) ∧ v = (nI F, nI P, nI D, nI T2, ex, va, ma, se, ve, ls, ys, yk, yp, yg, ln, en, op, st, lo, hi, fr, lr, lk, lq, lv) ∧ rk_Co P P0 Q F O C D K np rv ky bf lc vl pt md vs iu il lo hi fr pl ah ak aq av ex va ma se ve ys yk yp yg st lr lk lq lv
theorem rk_Md_el {P P0 Q F O C D K T T2 : Nat} {ls op ln en np : Nat → Int32} {G : SX → SY → Prop}
    (h : ∀ (rv ky bf lc : Nat → Nat) (vl pt md vs rn iu il lo hi fr pl ah ak aq av ex va ma se ve ys yk yp yg st lr lk lq lv : Nat → Int32), rk_Co P P0 Q F O C D K np rv ky bf lc vl pt md vs iu il lo hi fr pl ah ak aq av ex va ma se ve ys yk yp yg st lr lk lq lv → G (nI C, nI O, nI P, nI F, nI T, rk_nf rv, rk_nf ky, vl, pt, md, vs, rk_ef bf, rk_ef lc, ls, rn, op, ln, en, iu, il, lo, hi, fr, pl, ah, ak, aq, av) (nI F, nI P, nI D, nI T2, ex, va, ma, se, ve, ls, ys, yk, yp, yg, ln, en, op, st, lo, hi, fr, lr, lk, lq, lv))
    {u : SX} {v : SY} (I : rk_Md P P0 Q F O C D K T T2 ls op ln en np u v) : G u v :=
  I.elim fun rv I => I.elim fun ky I => I.elim fun bf I => I.elim fun lc I => I.elim fun vl I => I.elim fun pt I => I.elim fun md I => I.elim fun vs I => I.elim fun rn I => I.elim fun iu I => I.elim fun il I => I.elim fun lo I => I.elim fun hi I => I.elim fun fr I => I.elim fun pl I => I.elim fun ah I => I.elim fun ak I => I.elim fun aq I => I.elim fun av I => I.elim fun ex I => I.elim fun va I => I.elim fun ma I => I.elim fun se I => I.elim fun ve I => I.elim fun ys I => I.elim fun yk I => I.elim fun yp I => I.elim fun yg I => I.elim fun st I => I.elim fun lr I => I.elim fun lk I => I.elim fun lq I => I.elim fun lv I =>
    Eq.mpr (congrArg (fun z => G z v) I.1) (Eq.mpr (congrArg (fun z => G _ z) I.2.1) (h rv ky bf lc vl pt md vs rn iu il lo hi fr pl ah ak aq av ex va ma se ve ys yk yp yg st lr lk lq lv I.2.2))
theorem rk_Md_in {P P0 Q F O C D K T T2 : Nat} {ls op ln en np : Nat → Int32} {rv ky bf lc : Nat → Nat} {vl pt md vs : Nat → Int32} (rn : Nat → Int32) {iu il lo hi fr pl ah ak aq av ex va ma se ve ys yk yp yg st lr lk lq lv : Nat → Int32}
    (h : rk_Co P P0 Q F O C D K np rv ky bf lc vl pt md vs iu il lo hi fr pl ah ak aq av ex va ma se ve ys yk yp yg st lr lk lq lv) : rk_Md P P0 Q F O C D K T T2 ls op ln en np (nI C, nI O, nI P, nI F, nI T, rk_nf rv, rk_nf ky, vl, pt, md, vs, rk_ef bf, rk_ef lc, ls, rn, op, ln, en, iu, il, lo, hi, fr, pl, ah, ak, aq, av) (nI F, nI P, nI D, nI T2, ex, va, ma, se, ve, ls, ys, yk, yp, yg, ln, en, op, st, lo, hi, fr, lr, lk, lq, lv) :=
  ⟨rv, ky, bf, lc, vl, pt, md, vs, rn, iu, il, lo, hi, fr, pl, ah, ak, aq, av, ex, va, ma, se, ve, ys, yk, yp, yg, st, lr, lk, lq, lv, rfl, rfl, h⟩
def rk_Ls (T : Nat) (ls op ln en np : Nat → Int32) : Prop :=
  (∀ k, k < 16 → ls k = -1 ∨ ∃ l, l < 6 ∧ ls k = nI l ∧ op l ≠ 0 ∧ np k ≠ 0) ∧
  (∀ l, l < 6 → op l ≠ 0 → ∃ e, en l = nI e ∧ T < e ∧ e ≤ T + 50) ∧
  (∀ l, l < 6 → op l ≠ 0 → ∃ q, ln l = nI q ∧ 1 ≤ q ∧ q ≤ 50)
theorem rk_Ls_ok {T : Nat} {ls op ln en np : Nat → Int32} (h : rk_Ls T ls op ln en np) : ∀ k, k < 16 → ls k = -1 ∨ ∃ l, l < 6 ∧ ls k = nI l ∧ op l ≠ 0 ∧ np k ≠ 0 := h.1
theorem rk_Ls_en {T : Nat} {ls op ln en np : Nat → Int32} (h : rk_Ls T ls op ln en np) : ∀ l, l < 6 → op l ≠ 0 → ∃ e, en l = nI e ∧ T < e ∧ e ≤ T + 50 := h.2.1
theorem rk_Ls_ln {T : Nat} {ls op ln en np : Nat → Int32} (h : rk_Ls T ls op ln en np) : ∀ l, l < 6 → op l ≠ 0 → ∃ q, ln l = nI q ∧ 1 ≤ q ∧ q ≤ 50 := h.2.2
def rk_le (ls : Nat → Int32) : Nat → Bool := fun k => decide (ls k ≠ -1)
def i_Rel (k : Nat) (u : SX) (v : SY) : Prop :=
  ∃ (P F O C D T : Nat) (ls op ln en np : Nat → Int32), rk_Md P P P F O C D 16 T T ls op ln en np u v ∧ rk_Ls T ls op ln en np ∧ D + rk_ct (rk_le ls) 16 ≤ 116 ∧ P ≤ 2 * k ∧ T ≤ 20 * k
theorem i_up {k : Nat} {u : SX} {v : SY} (h : i_Rel k u v) : i_Rel (k + 5) u v := by
  obtain ⟨P, F, O, C, D, T, ls, op, ln, en, np, h1, h2, h3, h4, h5⟩ := h
  exact ⟨P, F, O, C, D, T, ls, op, ln, en, np, h1, h2, h3, by omega, by omega⟩
theorem rk_Lg_rvP {P P0 F O C D K : Nat} {rv ky : Nat → Nat} {pt : Nat → Int32} {bf lc : Nat → Nat} (h : rk_Lg P P0 F O C D K rv ky pt bf lc) : ∀ c, c < C → rv c ≤ P := fun c hc => by
  rcases rk_Lg_nxt h c hc with z | z <;> omega
theorem rk_Lg_OC {P P0 F O C D K : Nat} {rv ky : Nat → Nat} {pt : Nat → Int32} {bf lc : Nat → Nat} (h : rk_Lg P P0 F O C D K rv ky pt bf lc) : O ≤ C := by
  have := rk_Lg_cod h; omega
theorem rk_Lg_O16 {P P0 F O C D K : Nat} {rv ky : Nat → Nat} {pt : Nat → Int32} {bf lc : Nat → Nat} (h : rk_Lg P P0 F O C D K rv ky pt bf lc) : O ≤ 16 :=
  rk_pig 16 O ky (fun i hi => rk_Lg_kyB h i (by have := rk_Lg_OC h; omega)) (rk_Lg_dis h)
/-- take a relation apart: all its names, its facts, with the bounds that the walks use -/
theorem rk_op {k : Nat} {G : SX → SY → Prop} (hk : k + 5 ≤ 2560)
    (h : ∀ (P F O C D T : Nat) (ls op ln en np : Nat → Int32) (rv ky bf lc : Nat → Nat) (vl pt md vs rn iu il lo hi fr pl ah ak aq av ex va ma se ve ys yk yp yg st lr lk lq lv : Nat → Int32), rk_Co P P P F O C D 16 np rv ky bf lc vl pt md vs iu il lo hi fr pl ah ak aq av ex va ma se ve ys yk yp yg st lr lk lq lv → rk_Ls T ls op ln en np → D + rk_ct (rk_le ls) 16 ≤ 116 → P ≤ 2 * k → T ≤ 20 * k → P ≤ 5120 → T ≤ 51200 → C ≤ 132 → i_Rel k (nI C, nI O, nI P, nI F, nI T, rk_nf rv, rk_nf ky, vl, pt, md, vs, rk_ef bf, rk_ef lc, ls, rn, op, ln, en, iu, il, lo, hi, fr, pl, ah, ak, aq, av) (nI F, nI P, nI D, nI T, ex, va, ma, se, ve, ls, ys, yk, yp, yg, ln, en, op, st, lo, hi, fr, lr, lk, lq, lv) → G (nI C, nI O, nI P, nI F, nI T, rk_nf rv, rk_nf ky, vl, pt, md, vs, rk_ef bf, rk_ef lc, ls, rn, op, ln, en, iu, il, lo, hi, fr, pl, ah, ak, aq, av) (nI F, nI P, nI D, nI T, ex, va, ma, se, ve, ls, ys, yk, yp, yg, ln, en, op, st, lo, hi, fr, lr, lk, lq, lv))
    {u : SX} {v : SY} (I : i_Rel k u v) : G u v :=
  I.elim fun P I1 => I1.elim fun F I1 => I1.elim fun O I1 => I1.elim fun C I1 => I1.elim fun D I1 => I1.elim fun T I1 => I1.elim fun ls I1 => I1.elim fun op I1 => I1.elim fun ln I1 => I1.elim fun en I1 => I1.elim fun np I1 =>
    rk_Md_el (G := fun u v => i_Rel k u v → G u v) (fun rv ky bf lc vl pt md vs rn iu il lo hi fr pl ah ak aq av ex va ma se ve ys yk yp yg st lr lk lq lv c I0 =>
      h P F O C D T ls op ln en np rv ky bf lc vl pt md vs rn iu il lo hi fr pl ah ak aq av ex va ma se ve ys yk yp yg st lr lk lq lv c I1.2.1 I1.2.2.1 I1.2.2.2.1 I1.2.2.2.2 (by have := I1.2.2.2.1; omega) (by have := I1.2.2.2.2; omega) (by have := I1.2.2.1; have := rk_Lg_O16 (rk_Co_Lg c); have := rk_Lg_cod (rk_Co_Lg c); omega) I0) I1.1 I
/-- close it -/
theorem rk_cl {k P F O C D T : Nat} {ls op ln en np : Nat → Int32} {u : SX} {v : SY} (h1 : rk_Md P P P F O C D 16 T T ls op ln en np u v) (h2 : rk_Ls T ls op ln en np) (h3 : D + rk_ct (rk_le ls) 16 ≤ 116) (h4 : P ≤ 2 * k) (h5 : T ≤ 20 * k) : i_Rel k u v :=
  ⟨P, F, O, C, D, T, ls, op, ln, en, np, h1, h2, h3, h4, h5⟩
end
section
/-! a new revision, a new change: what they do to the relation -/
theorem rk_lk_st {ky : Nat → Nat} {k n : Nat} (h : ky n = k) : rk_lk ky k (n + 1) = n + 1 := rk_lk_i (by omega) h fun i a b => by omega
theorem rk_lk_cg {ky ky2 : Nat → Nat} {k n : Nat} (h : ∀ i, i < n → ky i = ky2 i) : rk_lk ky k n = rk_lk ky2 k n :=
  rk_lp_c fun i hi => by unfold rk_pk; rw [h i hi]
theorem rk_la_cg {rv rv2 ky ky2 : Nat → Nat} {k R n : Nat} (h : ∀ i, i < n → ky i = ky2 i) (h2 : ∀ i, i < n → rv i = rv2 i) : rk_la rv ky k R n = rk_la rv2 ky2 k R n :=
  rk_lp_c fun i hi => by unfold rk_pr; rw [h i hi, h2 i hi]
theorem rk_lk_sf {ky : Nat → Nat} {k n : Nat} (h : ky n ≠ k) : rk_lk ky k (n + 1) = rk_lk ky k n := by
  show (if decide (ky n = k) = true then n + 1 else rk_lp (rk_pk ky k) n) = _
  rw [if_neg (by rw [decide_eq_false h]; decide)]; rfl
theorem rk_la_sf {rv ky : Nat → Nat} {k R n : Nat} (h : ¬ (ky n = k ∧ rv n ≤ R)) : rk_la rv ky k R (n + 1) = rk_la rv ky k R n := by
  show (if decide (ky n = k ∧ rv n ≤ R) = true then n + 1 else rk_lp (rk_pr rv ky k R) n) = _
  rw [if_neg (by rw [decide_eq_false h]; decide)]; rfl
theorem rk_la_st {rv ky : Nat → Nat} {k R n : Nat} (h : ky n = k) (h2 : rv n ≤ R) : rk_la rv ky k R (n + 1) = n + 1 := rk_la_i (by omega) h h2 fun i a b => by omega
theorem rk_pb_u {pt : Nat → Int32} {C x : Nat} {b : Int32} (h : x ≤ C) : rk_pb (upd pt C b) x = rk_pb pt x := by
  cases x with
  | zero => rfl
  | succ c => exact pk_un (by omega)
section
variable {P P0 Q F O C D K k : Nat} {rv ky bf lc : Nat → Nat} {b x : Int32} {vl pt md vs ex va ma se ve ys yk yp yg : Nat → Int32}
theorem rk_lk_n {k0 : Nat} : rk_lk (rk_uN ky C k) k0 C = rk_lk ky k0 C := rk_lk_cg fun i hi => rk_un (by omega)
theorem rk_la_n {k0 R : Nat} : rk_la (rk_uN rv C P) (rk_uN ky C k) k0 R C = rk_la rv ky k0 R C := rk_la_cg (fun i hi => rk_un (by omega)) fun i hi => rk_un (by omega)
theorem rk_Lg_note (h : rk_Lg P P0 F O C D K rv ky pt bf lc) (hP : P ≤ P0 + 1) (hF : F < P) (hk : k < 16) (hK : K ≤ k) (hb : b = 0 ∨ b = 1) :
    rk_Lg P P F O (C + 1) (D + 1) (k + 1) (rk_uN rv C P) (rk_uN ky C k) (upd pt C b) (rk_uN bf C (lc k)) (rk_uN lc k (C + 1)) := by
  have hOC := rk_Lg_OC h
  refine ⟨fun c hc => ?_, fun c hc => ?_, by have := rk_Lg_cod h; omega, rk_Lg_FP h, fun k0 h0 => ?_, fun c hc => ?_, fun i j hij hj => ?_, fun c hc => ?_, fun i j hi hj e => ?_, ?_, fun c h1 h2 => ?_, fun c hc => ?_⟩
  · by_cases e : c = C
    · subst e; rw [rk_us]; exact hk
    · rw [rk_un e]; exact rk_Lg_kyB h c (by omega)
  · by_cases e : c = C
    · subst e; rw [pk_us]; exact hb
    · rw [pk_un e]; exact rk_Lg_p01 h c (by omega)
  · by_cases e : k0 = k
    · subst e; rw [rk_us, rk_lk_st rk_us]
    · rw [rk_un e, rk_lk_sf (by rw [rk_us]; exact fun z => e z.symm), rk_lk_n]; exact rk_Lg_lcE h k0 h0
  · by_cases e : c = C
    · subst e; rw [rk_us, rk_us, rk_lk_n]; exact rk_Lg_lcE h k hk
    · rw [rk_un e, rk_un e, rk_Lg_bfE h c (by omega)]
      exact rk_lk_cg fun i hi => (rk_un (by omega)).symm
  · rw [rk_un (f := rv) (j := i) (by omega), rk_un (f := ky) (j := i) (by omega)]
    by_cases e : j = C
    · subst e; rw [rk_us, rk_us]
      rcases rk_Lg_nxt h i hij with z | ⟨z1, z2⟩
      · exact Or.inl z
      · exact Or.inr ⟨z1, by omega⟩
    · rw [rk_un e, rk_un e]; exact rk_Lg_ord h i j hij (by omega)
  · by_cases e : c = C
    · subst e; rw [rk_us]; omega
    · rw [rk_un e]; exact rk_Lg_old h c (by omega)
  · rw [rk_un (by omega), rk_un (by omega)] at e
    exact rk_Lg_dis h i j hi hj e
  · have := rk_Lg_pa0 h; omega
  · by_cases e : c = C
    · subst e; rw [rk_us]; omega
    · rw [rk_un e]; have := rk_Lg_pac h c h1 (by omega); omega
  · by_cases e : c = C
    · subst e; rw [rk_us, rk_us]; exact Or.inr ⟨rfl, by omega⟩
    · rw [rk_un e, rk_un e]
      rcases rk_Lg_nxt h c (by omega) with z | ⟨z1, z2⟩
      · exact Or.inl z
      · exact Or.inr ⟨z1, by omega⟩
theorem rk_St_note {va2 : Nat → Int32} (hL : rk_Lg P P0 F O C D K rv ky pt bf lc) (h : rk_St P F C rv ky vl pt ex va) (hk : k < 16)
    (hv1 : b ≠ 0 → va2 (16 * (P - F) + k) = x) (hv2 : ∀ j, j ≠ 16 * (P - F) + k → va2 j = va j) :
    rk_St P F (C + 1) (rk_uN rv C P) (rk_uN ky C k) (upd vl C x) (upd pt C b) (upd ex (16 * (P - F) + k) b) va2 := by
  have hFP := rk_Lg_FP hL
  refine ⟨fun R k0 h1 h2 h3 => ?_, fun R k0 c h1 h2 h3 h4 h5 => ?_⟩
  · by_cases e : k0 = k ∧ R = P
    · obtain ⟨e1, e2⟩ := e
      subst e1; subst e2
      rw [pk_us, rk_la_st rk_us (by rw [rk_us]; omega)]
      exact pk_us.symm
    · have hne : 16 * (R - F) + k0 ≠ 16 * (P - F) + k := fun z => e ⟨by omega, by omega⟩
      rw [pk_un hne, rk_la_sf (by rw [rk_us, rk_us]; exact fun z => e ⟨z.1.symm, by omega⟩), rk_la_n, rk_pb_u (rk_la_le ..)]
      exact rk_St_ex h R k0 h1 h2 h3
  · by_cases e : k0 = k ∧ R = P
    · obtain ⟨e1, e2⟩ := e
      subst e1; subst e2
      rw [rk_la_st rk_us (by rw [rk_us]; omega)] at h4
      have : c = C := by omega
      subst this
      rw [pk_us] at h5 ⊢
      exact hv1 h5
    · have hne : 16 * (R - F) + k0 ≠ 16 * (P - F) + k := fun z => e ⟨by omega, by omega⟩
      rw [rk_la_sf (by rw [rk_us, rk_us]; exact fun z => e ⟨z.1.symm, by omega⟩), rk_la_n] at h4
      have hc := (rk_la_s h4).1
      rw [pk_un (by omega)] at h5
      rw [pk_un (by omega), hv2 _ hne]
      exact rk_St_va h R k0 c h1 h2 h3 h4 h5
theorem rk_Nw_erase {d e : Int32} (hL : rk_Lg P P0 F O C D K rv ky pt bf lc) (h : rk_Nw rv pt md vs lc ma se ve) :
    rk_Nw (rk_uN rv C P) (upd pt C 0) (upd md C d) (upd vs C e) (rk_uN lc k (C + 1)) ma se ve := fun k0 c h1 h2 h3 => by
  by_cases e : k0 = k
  · subst e; rw [rk_us] at h2
    have : c = C := by omega
    subst this
    rw [pk_us] at h3
    exact absurd rfl h3
  · rw [rk_un e] at h2
    have hc : c < C := (rk_lk_s ((rk_Lg_lcE hL k0 h1).symm.trans h2)).1
    rw [pk_un (by omega)] at h3
    rw [pk_un (by omega), pk_un (by omega), rk_un (by omega)]
    exact h k0 c h1 h2 h3
theorem rk_Nw_put {d e : Int32} (hL : rk_Lg P P0 F O C D K rv ky pt bf lc) (h : rk_Nw rv pt md vs lc ma se ve) :
    rk_Nw (rk_uN rv C P) (upd pt C 1) (upd md C d) (upd vs C e) (rk_uN lc k (C + 1)) (upd ma k d) (upd se k (nI P)) (upd ve k e) := fun k0 c h1 h2 h3 => by
  by_cases e : k0 = k
  · subst e; rw [rk_us] at h2
    have : c = C := by omega
    subst this
    rw [pk_us, pk_us, pk_us, pk_us, pk_us, rk_us]
    exact ⟨rfl, rfl, rfl⟩
  · rw [rk_un e] at h2
    have hc : c < C := (rk_lk_s ((rk_Lg_lcE hL k0 h1).symm.trans h2)).1
    rw [pk_un (by omega)] at h3
    rw [pk_un (f := md) (by omega), pk_un (f := vs) (by omega), rk_un (by omega), pk_un (f := ma) e, pk_un (f := se) e, pk_un (f := ve) e]
    exact h k0 c h1 h2 h3
theorem rk_Lk_note (hC : C = O + D) (h : rk_Lk O D rv ky vl pt ys yk yp yg) :
    rk_Lk O (D + 1) (rk_uN rv C P) (rk_uN ky C k) (upd vl C x) (upd pt C b) (upd ys D (nI P)) (upd yk D (nI k)) (upd yp D b) (upd yg D x) := fun i hi => by
  by_cases e : i = D
  · subst e; subst hC
    rw [pk_us, pk_us, pk_us, pk_us, rk_us, rk_us, pk_us, pk_us]
    exact ⟨rfl, rfl, rfl, rfl⟩
  · rw [pk_un e, pk_un e, pk_un e, pk_un e, rk_un (by omega), rk_un (by omega), pk_un (by omega), pk_un (by omega)]
    exact h i (by omega)
theorem rk_np_note {np : Nat → Int32} (hL : rk_Lg P P0 F O C D K rv ky pt bf lc) (h : ∀ k, k < 16 → np k = rk_pb pt (lc k)) :
    ∀ k0, k0 < 16 → upd np k b k0 = rk_pb (upd pt C b) (rk_uN lc k (C + 1) k0) := fun k0 h0 => by
  by_cases e : k0 = k
  · subst e; rw [pk_us, rk_us]; exact pk_us.symm
  · rw [pk_un e, rk_un e, rk_pb_u (by rw [rk_Lg_lcE hL k0 h0]; exact rk_lk_le ..)]; exact h k0 h0
end
section
variable {P P0 Q F O C D K k : Nat} {rv ky bf lc : Nat → Nat} {b x : Int32} {vl pt md vs iu il lo hi fr pl ah ak aq av ex va ma se ve ys yk yp yg st lr lk lq lv np : Nat → Int32}
theorem rk_wb_c {rv2 ky2 : Nat → Nat} {w c c2 : Nat} (h1 : rv c = rv2 c2) (h2 : ky c = ky2 c2) : rk_wb rv ky lo hi fr w c ↔ rk_wb rv2 ky2 lo hi fr w c2 := by
  unfold rk_wb; rw [h1, h2]
theorem rk_ny_c {rv2 ky2 : Nat → Nat} {w c c2 : Nat} (h1 : rv c = rv2 c2) (h2 : ky c = ky2 c2) : rk_ny rv ky lr lk w c ↔ rk_ny rv2 ky2 lr lk w c2 := by
  unfold rk_ny; rw [h1, h2]
theorem rk_Wa_note {w : Nat} (hOC : O ≤ C) (hQ : Q < P) (hP : P < 2 ^ 31) (h : rk_Wa Q O C rv ky lo hi fr pl lr lk w) : rk_Wa Q O (C + 1) (rk_uN rv C P) (rk_uN ky C k) lo hi fr pl lr lk w := by
  obtain ⟨p, h1, h2, h3, h4, h5⟩ := h
  refine ⟨p, by omega, h2, fun c a b z => ?_, fun c a b z => ?_, h5⟩
  · exact h3 c a b ((rk_wb_c (rk_un (by omega)) (rk_un (by omega))).mp z)
  · by_cases e : c = C
    · subst e
      refine ⟨fun _ => ?_, fun _ => h1⟩
      unfold rk_ny
      rw [rk_us]
      rcases h5 with z | ⟨q, hq, eq⟩
      · exact Or.inl z
      · exact Or.inr (Or.inl (by rw [eq]; exact nI_lt (by omega) hP))
    · rw [rk_ny_c (rv2 := rv) (ky2 := ky) (rk_un e) (rk_un e)]
      exact h4 c a (by omega) ((rk_wb_c (rk_un e) (rk_un e)).mp z)
theorem rk_Wt_note (hOC : O ≤ C) (hQ : Q < P) (hP : P < 2 ^ 31) (h : rk_Wt Q O C rv ky iu il lo hi fr pl ah ak aq av st lr lk lq lv) : rk_Wt Q O (C + 1) (rk_uN rv C P) (rk_uN ky C k) iu il lo hi fr pl ah ak aq av st lr lk lq lv := fun w hw => by
  rcases h w hw with z | ⟨z1, z2, ⟨z3, z4, z5⟩ | z3⟩
  · exact Or.inl z
  · exact Or.inr ⟨z1, z2, Or.inl ⟨z3, z4, rk_Wa_note hOC hQ hP z5⟩⟩
  · exact Or.inr ⟨z1, z2, Or.inr z3⟩
theorem rk_Wt_Q {Q2 : Nat} (hQ : Q ≤ Q2) (h : rk_Wt Q O C rv ky iu il lo hi fr pl ah ak aq av st lr lk lq lv) : rk_Wt Q2 O C rv ky iu il lo hi fr pl ah ak aq av st lr lk lq lv := fun w hw => by
  rcases h w hw with z | ⟨z1, z2, ⟨z3, z4, p, h1, h2, h3, h4, h5⟩ | z3⟩
  · exact Or.inl z
  · refine Or.inr ⟨z1, z2, Or.inl ⟨z3, z4, p, h1, h2, h3, h4, ?_⟩⟩
    rcases h5 with z | ⟨q, hq, eq⟩
    · exact Or.inl z
    · exact Or.inr ⟨q, by omega, eq⟩
  · exact Or.inr ⟨z1, z2, Or.inr z3⟩
/-- an erased key -/
theorem rk_Co_erase {d e : Int32} (h : rk_Co P P0 Q F O C D K np rv ky bf lc vl pt md vs iu il lo hi fr pl ah ak aq av ex va ma se ve ys yk yp yg st lr lk lq lv) (hP : P ≤ P0 + 1) (hF : F < P) (hQ : Q < P) (hB : P < 2 ^ 31) (h16 : k < 16) (hK : K ≤ k) :
    rk_Co P P Q F O (C + 1) (D + 1) (k + 1) (upd np k 0) (rk_uN rv C P) (rk_uN ky C k) (rk_uN bf C (lc k)) (rk_uN lc k (C + 1)) (upd vl C 0) (upd pt C 0) (upd md C d) (upd vs C e) iu il lo hi fr pl ah ak aq av (upd ex (16 * (P - F) + k) 0) va ma se ve (upd ys D (nI P)) (upd yk D (nI k)) (upd yp D 0) (upd yg D 0) st lr lk lq lv :=
  ⟨rk_Lg_note (rk_Co_Lg h) hP hF h16 hK (Or.inl rfl), rk_St_note (rk_Co_Lg h) (rk_Co_St h) h16 (fun z => absurd rfl z) (fun _ _ => rfl), rk_Nw_erase (rk_Co_Lg h) (rk_Co_Nw h), rk_Lk_note (rk_Lg_cod (rk_Co_Lg h)) (rk_Co_Lk h), rk_Wt_note (rk_Lg_OC (rk_Co_Lg h)) hQ hB (rk_Co_Wt h), rk_np_note (rk_Co_Lg h) (rk_Co_np h)⟩
/-- a key that is put -/
theorem rk_Co_put {d e : Int32} (h : rk_Co P P0 Q F O C D K np rv ky bf lc vl pt md vs iu il lo hi fr pl ah ak aq av ex va ma se ve ys yk yp yg st lr lk lq lv) (hP : P ≤ P0 + 1) (hF : F < P) (hQ : Q < P) (hB : P < 2 ^ 31) (h16 : k < 16) (hK : K ≤ k) :
    rk_Co P P Q F O (C + 1) (D + 1) (k + 1) (upd np k 1) (rk_uN rv C P) (rk_uN ky C k) (rk_uN bf C (lc k)) (rk_uN lc k (C + 1)) (upd vl C x) (upd pt C 1) (upd md C d) (upd vs C e) iu il lo hi fr pl ah ak aq av (upd ex (16 * (P - F) + k) 1) (upd va (16 * (P - F) + k) x) (upd ma k d) (upd se k (nI P)) (upd ve k e) (upd ys D (nI P)) (upd yk D (nI k)) (upd yp D 1) (upd yg D x) st lr lk lq lv :=
  ⟨rk_Lg_note (rk_Co_Lg h) hP hF h16 hK (Or.inr rfl), rk_St_note (rk_Co_Lg h) (rk_Co_St h) h16 (fun _ => pk_us) (fun _ z => pk_un z), rk_Nw_put (rk_Co_Lg h) (rk_Co_Nw h), rk_Lk_note (rk_Lg_cod (rk_Co_Lg h)) (rk_Co_Lk h), rk_Wt_note (rk_Lg_OC (rk_Co_Lg h)) hQ hB (rk_Co_Wt h), rk_np_note (rk_Co_Lg h) (rk_Co_np h)⟩
/-- the end of a turn -/
theorem rk_Co_end (h : rk_Co P P Q F O C D K np rv ky bf lc vl pt md vs iu il lo hi fr pl ah ak aq av ex va ma se ve ys yk yp yg st lr lk lq lv) (hQ : Q ≤ P) :
    rk_Co P P P F O C D 16 np rv ky bf lc vl pt md vs iu il lo hi fr pl ah ak aq av ex va ma se ve ys yk yp yg st lr lk lq lv := by
  obtain ⟨⟨a1, a2, a3, a4, a5, a6, a7, a8, a9, a10, a11, a12⟩, h2, h3, h4, h5, h6⟩ := h
  refine ⟨⟨a1, a2, a3, a4, a5, a6, a7, a8, a9, a10, a11, fun c hc => ?_⟩, h2, h3, h4, rk_Wt_Q hQ h5, h6⟩
  rcases a12 c hc with z | ⟨z, _⟩
  · exact Or.inl z
  · exact Or.inr ⟨z, a1 c hc⟩
/-- the row of the store that a new revision copies -/
def rk_sh (a : Nat → Int32) (t i : Nat) : Nat → Int32 := fun j => if t ≤ j ∧ j < t + i then a (j - 16) else a j
theorem rk_sh_i {a : Nat → Int32} {t i j : Nat} (h1 : t ≤ j) (h2 : j < t + i) : rk_sh a t i j = a (j - 16) := if_pos ⟨h1, h2⟩
theorem rk_sh_o {a : Nat → Int32} {t i j : Nat} (h : j < t ∨ t + i ≤ j) : rk_sh a t i j = a j := if_neg (by omega)
theorem rk_sh_0 {a : Nat → Int32} {t : Nat} : rk_sh a t 0 = a := by funext j; exact rk_sh_o (by omega)
theorem rk_sh_s {a : Nat → Int32} {t i : Nat} {x : Int32} (h : x = a (t + i - 16)) : upd (rk_sh a t i) (t + i) x = rk_sh a t (i + 1) := by
  funext j
  by_cases e : j = t + i
  · subst e; rw [pk_us, rk_sh_i (by omega) (by omega)]; exact h
  · rw [pk_un e]
    by_cases e2 : t ≤ j ∧ j < t + i
    · rw [rk_sh_i e2.1 e2.2, rk_sh_i e2.1 (by omega)]
    · rw [rk_sh_o (by omega), rk_sh_o (by omega)]
theorem rk_Co_new (h : rk_Co P P Q F O C D K np rv ky bf lc vl pt md vs iu il lo hi fr pl ah ak aq av ex va ma se ve ys yk yp yg st lr lk lq lv) :
    rk_Co (P + 1) P Q F O C D 0 np rv ky bf lc vl pt md vs iu il lo hi fr pl ah ak aq av (rk_sh ex (16 * (P + 1 - F)) 16) (rk_sh va (16 * (P + 1 - F)) 16) ma se ve ys yk yp yg st lr lk lq lv := by
  have hr := rk_Lg_rvP (rk_Co_Lg h)
  have hFP := rk_Lg_FP (rk_Co_Lg h)
  have hs := rk_Co_St h
  have key : ∀ k, rk_la rv ky k (P + 1) C = rk_la rv ky k P C := fun k => by
    rw [rk_la_lk hr, rk_la_lk fun c hc => by have := hr c hc; omega]
  obtain ⟨⟨a1, a2, a3, a4, a5, a6, a7, a8, a9, a10, a11, a12⟩, h2, h3, h4, h5, h6⟩ := h
  refine ⟨⟨a1, a2, a3, by omega, a5, a6, a7, a8, a9, a10, a11, fun c hc => ?_⟩, ⟨fun R k r1 r2 hk => ?_, fun R k c r1 r2 hk e n0 => ?_⟩, h3, h4, h5, h6⟩
  · have := hr c hc; exact Or.inl (by omega)
  · by_cases e : R = P + 1
    · subst e
      rw [rk_sh_i (by omega) (by omega), key, show 16 * (P + 1 - F) + k - 16 = 16 * (P - F) + k from by omega]
      exact rk_St_ex hs P k hFP (Nat.le_refl _) hk
    · rw [rk_sh_o (by omega)]; exact rk_St_ex hs R k r1 (by omega) hk
  · by_cases e2 : R = P + 1
    · subst e2
      rw [key] at e
      rw [rk_sh_i (by omega) (by omega), show 16 * (P + 1 - F) + k - 16 = 16 * (P - F) + k from by omega]
      exact rk_St_va hs P k c hFP (Nat.le_refl _) hk e n0
    · rw [rk_sh_o (by omega)]; exact rk_St_va hs R k c r1 (by omega) hk e n0
end
end
section
/-! walks of the small methods -/
theorem rk_b0 {x : Int32} {A B : Prop} (h : x = 0 ∨ x = 1) (f : x = 0 → A) (g : x = 1 → B) : (x = 0 → A) ∧ (¬ x = 0 → B) := by
  refine ⟨f, fun z => ?_⟩
  rcases h with h | h
  · exact absurd h z
  · exact g h
theorem rk_rx {f : Nat → Int32} {x : Int32} {c : Nat} {y : Int32} (hx : x = nI c) (h : c < 2 ^ 31) (e : f c = y) : f x.toNatClampNeg = y := by
  rw [hx, nI_clamp h]; exact e
theorem rk_wx {f g : Nat → Int32} {x : Int32} {c : Nat} {v : Int32} (hx : x = nI c) (h : c < 2 ^ 31) (e : upd f c v = g) : upd f x.toNatClampNeg v = g := by
  rw [hx, nI_clamp h]; exact e
theorem rk_vx {x : Int32} {c N : Nat} (hx : x = nI c) (h : c < N) (hN : N < 2 ^ 31) : vp_in x N := by
  rw [hx]; exact vp_in_nI h hN
theorem rk_gt {x : Int32} {n : Nat} (hn : n + 1 < 2 ^ 31) (h : nI (n + 1) ≤ x) : nI n < x := by
  rw [Int32.le_iff_toInt_le, nI_toInt hn] at h
  rw [Int32.lt_iff_toInt_lt, nI_toInt (by omega)]
  omega
theorem rk_nlt {x y : Int32} (h : y ≤ x) : ¬ x < y := Int32.not_lt.mpr h
def rk_bad (n : Nat) (x : Int32) : Prop := x < 0 ∨ (¬ x < 0 ∧ nI n ≤ x)
section
variable {C O D P F T T2 : Nat} {rv ky bf lc : Nat → Nat} {vl pt md vs ls rn op ln en iu il lo hi fr pl ah ak aq av : Nat → Int32} {ex va ma se ve ys yk yp yg st lr lk lq lv : Nat → Int32}
theorem rx_bK0 {post : Int32 → Prop} {u : SX} {k : Nat} (hk : k < 16) (h : post 0) : wpX_badKey post u (nI k) := by
  rcases u with ⟨_, _, _, _, _, _, _, _, _, _, _, _, _, _, _, _, _, _, _, _, _, _, _, _, _, _, _, _⟩
  exact br_f (nI_pos (by omega)) (br_t (nI_lt (b := 16) hk (by decide)) h)
theorem rx_bK1 {post : Int32 → Prop} {u : SX} {x : Int32} (hx : rk_bad 16 x) (h : post 1) : wpX_badKey post u x := by
  rcases u with ⟨_, _, _, _, _, _, _, _, _, _, _, _, _, _, _, _, _, _, _, _, _, _, _, _, _, _, _, _⟩
  rcases hx with z | ⟨z, z2⟩
  · exact br_t z h
  · exact br_f z (br_f (rk_nlt z2) h)
theorem rx_bL0 {post : Int32 → Prop} {u : SX} {k : Nat} (hk : k < 6) (h : post 0) : wpX_badLease post u (nI k) := by
  rcases u with ⟨_, _, _, _, _, _, _, _, _, _, _, _, _, _, _, _, _, _, _, _, _, _, _, _, _, _, _, _⟩
  exact br_f (nI_pos (by omega)) (br_t (nI_lt (b := 6) hk (by decide)) h)
theorem rx_bL1 {post : Int32 → Prop} {u : SX} {x : Int32} (hx : rk_bad 6 x) (h : post 1) : wpX_badLease post u x := by
  rcases u with ⟨_, _, _, _, _, _, _, _, _, _, _, _, _, _, _, _, _, _, _, _, _, _, _, _, _, _, _, _⟩
  rcases hx with z | ⟨z, z2⟩
  · exact br_t z h
  · exact br_f z (br_f (rk_nlt z2) h)
theorem rx_bW0 {post : Int32 → Prop} {u : SX} {k : Nat} (hk : k < 4) (h : post 0) : wpX_badWatch post u (nI k) := by
  rcases u with ⟨_, _, _, _, _, _, _, _, _, _, _, _, _, _, _, _, _, _, _, _, _, _, _, _, _, _, _, _⟩
  exact br_f (nI_pos (by omega)) (br_t (nI_lt (b := 4) hk (by decide)) h)
theorem rx_bW1 {post : Int32 → Prop} {u : SX} {x : Int32} (hx : rk_bad 4 x) (h : post 1) : wpX_badWatch post u x := by
  rcases u with ⟨_, _, _, _, _, _, _, _, _, _, _, _, _, _, _, _, _, _, _, _, _, _, _, _, _, _, _, _⟩
  rcases hx with z | ⟨z, z2⟩
  · exact br_t z h
  · exact br_f z (br_f (rk_nlt z2) h)
theorem ry_bK0 {post : Int32 → Prop} {v : SY} {k : Nat} (hk : k < 16) (h : post 1) : wpY_isKey post v (nI k) := by
  rcases v with ⟨_, _, _, _, _, _, _, _, _, _, _, _, _, _, _, _, _, _, _, _, _, _, _, _, _⟩
  exact br_f (nI_pos (by omega)) (br_f (nI_nlt (b := k) (a := 15) (by omega) (by decide)) h)
theorem ry_bK1 {post : Int32 → Prop} {v : SY} {x : Int32} (hx : rk_bad 16 x) (h : post 0) : wpY_isKey post v x := by
  rcases v with ⟨_, _, _, _, _, _, _, _, _, _, _, _, _, _, _, _, _, _, _, _, _, _, _, _, _⟩
  rcases hx with z | ⟨z, z2⟩
  · exact br_t z h
  · exact br_f z (br_t (rk_gt (n := 15) (by decide) z2) h)
theorem ry_bL0 {post : Int32 → Prop} {v : SY} {k : Nat} (hk : k < 6) (h : post 1) : wpY_isLease post v (nI k) := by
  rcases v with ⟨_, _, _, _, _, _, _, _, _, _, _, _, _, _, _, _, _, _, _, _, _, _, _, _, _⟩
  exact br_f (nI_pos (by omega)) (br_f (nI_nlt (b := k) (a := 5) (by omega) (by decide)) h)
theorem ry_bL1 {post : Int32 → Prop} {v : SY} {x : Int32} (hx : rk_bad 6 x) (h : post 0) : wpY_isLease post v x := by
  rcases v with ⟨_, _, _, _, _, _, _, _, _, _, _, _, _, _, _, _, _, _, _, _, _, _, _, _, _⟩
  rcases hx with z | ⟨z, z2⟩
  · exact br_t z h
  · exact br_f z (br_t (rk_gt (n := 5) (by decide) z2) h)
theorem ry_bW0 {post : Int32 → Prop} {v : SY} {k : Nat} (hk : k < 4) (h : post 1) : wpY_isWatch post v (nI k) := by
  rcases v with ⟨_, _, _, _, _, _, _, _, _, _, _, _, _, _, _, _, _, _, _, _, _, _, _, _, _⟩
  exact br_f (nI_pos (by omega)) (br_f (nI_nlt (b := k) (a := 3) (by omega) (by decide)) h)
theorem ry_bW1 {post : Int32 → Prop} {v : SY} {x : Int32} (hx : rk_bad 4 x) (h : post 0) : wpY_isWatch post v x := by
  rcases v with ⟨_, _, _, _, _, _, _, _, _, _, _, _, _, _, _, _, _, _, _, _, _, _, _, _, _⟩
  rcases hx with z | ⟨z, z2⟩
  · exact br_t z h
  · exact br_f z (br_t (rk_gt (n := 3) (by decide) z2) h)
theorem rx_exists {post : Int32 → Prop} {k : Nat} (hk : k < 16) (hl : lc k ≤ 140) (hp : ∀ c, lc k = c + 1 → pt c = 0 ∨ pt c = 1) (h : post (rk_pb pt (lc k))) : wpX_exists post (nI C, nI O, nI P, nI F, nI T, rk_nf rv, rk_nf ky, vl, pt, md, vs, rk_ef bf, rk_ef lc, ls, rn, op, ln, en, iu, il, lo, hi, fr, pl, ah, ak, aq, av) (nI k) := by
  refine And.intro (vp_in_nI hk (by decide)) ?_
  refine rk_b1 (lc k) (rk_rd (by omega) rfl) (by omega) (fun e => ?_) (fun c e ec => ?_)
  · rw [e] at h; exact h
  · refine And.intro (vp_in_nI hk (by decide)) (And.intro (rk_vx ec (by omega) (by decide)) ?_)
    rw [e] at h
    have h' : post (pt c) := h
    rcases hp c e with z | z
    · rw [z] at h'; exact br_t (rk_rx ec (by omega) z) h'
    · rw [z] at h'; exact br_f (fun y => absurd ((rk_rx ec (by omega) z).symm.trans y) (by decide)) h'
theorem rx_rem {post : Int32 → Prop} (hC : C = O + D) (h : post (nI D)) : wpX_rememberedNow post (nI C, nI O, nI P, nI F, nI T, rk_nf rv, rk_nf ky, vl, pt, md, vs, rk_ef bf, rk_ef lc, ls, rn, op, ln, en, iu, il, lo, hi, fr, pl, ah, ak, aq, av) := by
  show post (nI C - nI O)
  rw [pk_sub (by omega), show C - O = D from by omega]
  exact h
def rk_dm (P : Nat) (md pt : Nat → Int32) (x : Nat) : Int32 := if rk_pb pt x = 0 then nI P else md (x - 1)
def rk_dv (vs pt : Nat → Int32) (x : Nat) : Int32 := if rk_pb pt x = 0 then 1 else vs (x - 1) + 1
theorem rx_note63 {post : SX → Prop} {k : Nat} {wr xv d e : Int32} (hk : k < 16) (hC : C < 140) (hl : lc k ≤ 140)
    (hw : (wr = 0 ∧ d = nI P ∧ e = 1) ∨ (∃ c, lc k = c + 1 ∧ ¬ wr = 0 ∧ d = md c ∧ e = vs c + 1))
    (h : post (nI (C + 1), nI O, nI P, nI F, nI T, rk_nf rv, rk_nf ky, upd vl C xv, pt, upd md C d, upd vs C e, rk_ef (rk_uN bf C (lc k)), rk_ef (rk_uN lc k (C + 1)), ls, rn, op, ln, en, iu, il, lo, hi, fr, pl, ah, ak, aq, av)) :
    wX_note_63 post (nI k) (rk_en (lc k)) wr (nI C) xv (nI C) (nI C) (nI O) (nI P) (nI F) (nI T) (rk_nf rv) (rk_nf ky) vl pt md vs (rk_ef bf) (rk_ef lc) ls rn op ln en iu il lo hi fr pl ah ak aq av := by
  have hC2 : vp_in (nI C) 140 := vp_in_nI hC (by decide)
  have hk2 : vp_in (nI k) 16 := vp_in_nI hk (by decide)
  refine And.intro hC2 (nm_r (rk_wr (by omega) rfl) ?_)
  rcases hw with ⟨w0, d0, e0⟩ | ⟨c, ec, w1, d1, e1⟩
  · subst d0; subst e0
    refine br_t w0 (And.intro hC2 (nm_r (rk_wr (by omega) rfl) (br_t w0 ?_)))
    refine And.intro hC2 (nm_r (rk_wr (by omega) rfl) (And.intro hC2 (nm_r (rk_wr (by omega) (rk_uef bf C (lc k))) (And.intro hk2 (nm_r (rk_wr (by omega) (rk_uef lc k (C + 1))) (nm_r (nI_1 C) h))))))
  · have ex : rk_en (lc k) = nI c := by rw [ec]; rfl
    have hc : vp_in (rk_en (lc k)) 140 := rk_vx ex (by omega) (by decide)
    subst d1; subst e1
    refine br_f w1 (And.intro hc (And.intro hC2 (nm_r (e' := upd md C (md c)) (by rw [rk_rx (f := md) ex (by omega) rfl]; exact rk_wr (by omega) rfl) (br_f w1 (And.intro hc ?_)))))
    refine And.intro hC2 (nm_r (e' := upd vs C (vs c + 1)) (by rw [rk_rx (f := vs) ex (by omega) rfl]; exact rk_wr (by omega) rfl) (And.intro hC2 (nm_r (rk_wr (by omega) (rk_uef bf C (lc k))) (And.intro hk2 (nm_r (rk_wr (by omega) (rk_uef lc k (C + 1))) (nm_r (nI_1 C) h))))))
theorem rk_dw {k : Nat} (hp : ∀ c, lc k = c + 1 → pt c = 0 ∨ pt c = 1) : (rk_pb pt (lc k) = 0 ∧ rk_dm P md pt (lc k) = nI P ∧ rk_dv vs pt (lc k) = 1) ∨ (∃ c, lc k = c + 1 ∧ ¬ rk_pb pt (lc k) = 0 ∧ rk_dm P md pt (lc k) = md c ∧ rk_dv vs pt (lc k) = vs c + 1) := by
  unfold rk_dm rk_dv
  rcases e : lc k with _ | c
  · exact Or.inl ⟨rfl, if_pos rfl, if_pos rfl⟩
  · rcases hp c e with z | z
    · have z' : rk_pb pt (c + 1) = 0 := z
      exact Or.inl ⟨z', if_pos z', if_pos z'⟩
    · have z' : ¬ rk_pb pt (c + 1) = 0 := fun y => absurd (z.symm.trans y) (by decide)
      exact Or.inr ⟨c, rfl, z', if_neg z', if_neg z'⟩
theorem rx_noteP {post : SX → Prop} {k : Nat} {x : Int32} (hk : k < 16) (hC : C < 140) (hl : lc k ≤ 140) (hp : ∀ c, lc k = c + 1 → pt c = 0 ∨ pt c = 1)
    (h : post (nI (C + 1), nI O, nI P, nI F, nI T, rk_nf (rk_uN rv C P), rk_nf (rk_uN ky C k), upd vl C x, upd pt C 1, upd md C (rk_dm P md pt (lc k)), upd vs C (rk_dv vs pt (lc k)), rk_ef (rk_uN bf C (lc k)), rk_ef (rk_uN lc k (C + 1)), ls, rn, op, ln, en, iu, il, lo, hi, fr, pl, ah, ak, aq, av)) :
    wpX_note post (nI C, nI O, nI P, nI F, nI T, rk_nf rv, rk_nf ky, vl, pt, md, vs, rk_ef bf, rk_ef lc, ls, rn, op, ln, en, iu, il, lo, hi, fr, pl, ah, ak, aq, av) (nI k) 1 x := by
  have hC2 : vp_in (nI C) 140 := vp_in_nI hC (by decide)
  refine And.intro (vp_in_nI hk (by decide)) (nm_r (e' := rk_en (lc k)) (rk_rd (by omega) rfl) ?_)
  refine rx_exists hk hl hp ?_
  refine And.intro hC2 (nm_r (rk_wr (by omega) (rk_unf rv C P)) (And.intro hC2 (nm_r (rk_wr (by omega) (rk_unf ky C k)) (And.intro hC2 (nm_r (e' := upd pt C 1) (rk_wr (by omega) (by rw [rk_nb1])) ?_)))))
  exact br_f (by decide) (rx_note63 hk hC hl (rk_dw hp) h)
theorem rx_noteE {post : SX → Prop} {k : Nat} {x : Int32} (hk : k < 16) (hC : C < 140) (hl : lc k ≤ 140) (hp : ∀ c, lc k = c + 1 → pt c = 0 ∨ pt c = 1)
    (h : post (nI (C + 1), nI O, nI P, nI F, nI T, rk_nf (rk_uN rv C P), rk_nf (rk_uN ky C k), upd vl C 0, upd pt C 0, upd md C (rk_dm P md pt (lc k)), upd vs C (rk_dv vs pt (lc k)), rk_ef (rk_uN bf C (lc k)), rk_ef (rk_uN lc k (C + 1)), ls, rn, op, ln, en, iu, il, lo, hi, fr, pl, ah, ak, aq, av)) :
    wpX_note post (nI C, nI O, nI P, nI F, nI T, rk_nf rv, rk_nf ky, vl, pt, md, vs, rk_ef bf, rk_ef lc, ls, rn, op, ln, en, iu, il, lo, hi, fr, pl, ah, ak, aq, av) (nI k) 0 x := by
  have hC2 : vp_in (nI C) 140 := vp_in_nI hC (by decide)
  refine And.intro (vp_in_nI hk (by decide)) (nm_r (e' := rk_en (lc k)) (rk_rd (by omega) rfl) ?_)
  refine rx_exists hk hl hp ?_
  refine And.intro hC2 (nm_r (rk_wr (by omega) (rk_unf rv C P)) (And.intro hC2 (nm_r (rk_wr (by omega) (rk_unf ky C k)) (And.intro hC2 (nm_r (e' := upd pt C 0) (rk_wr (by omega) (by rw [rk_nb0])) ?_)))))
  exact br_t rfl (rx_note63 hk hC hl (rk_dw hp) h)
theorem rx_putNow {post : Int32 → SX → Prop} {k : Nat} {x l : Int32} (hk : k < 16) (hC : C < 140) (hl : lc k ≤ 140) (hp : ∀ c, lc k = c + 1 → pt c = 0 ∨ pt c = 1)
    (h : post (nI (P + 1)) (nI (C + 1), nI O, nI (P + 1), nI F, nI T, rk_nf (rk_uN rv C (P + 1)), rk_nf (rk_uN ky C k), upd vl C x, upd pt C 1, upd md C (rk_dm (P + 1) md pt (lc k)), upd vs C (rk_dv vs pt (lc k)), rk_ef (rk_uN bf C (lc k)), rk_ef (rk_uN lc k (C + 1)), upd ls k l, rn, op, ln, en, iu, il, lo, hi, fr, pl, ah, ak, aq, av)) :
    wpX_putNow post (nI C, nI O, nI P, nI F, nI T, rk_nf rv, rk_nf ky, vl, pt, md, vs, rk_ef bf, rk_ef lc, ls, rn, op, ln, en, iu, il, lo, hi, fr, pl, ah, ak, aq, av) (nI k) x l := by
  refine nm_r (nI_1 P) ?_
  refine rx_noteP (P := P + 1) hk hC hl hp ?_
  exact And.intro (vp_in_nI hk (by decide)) (nm_r (rk_wr (by omega) rfl) h)
theorem rx_eraseNow {post : SX → Prop} {k : Nat} (hk : k < 16) (hC : C < 140) (hl : lc k ≤ 140) (hp : ∀ c, lc k = c + 1 → pt c = 0 ∨ pt c = 1)
    (h : post (nI (C + 1), nI O, nI P, nI F, nI T, rk_nf (rk_uN rv C P), rk_nf (rk_uN ky C k), upd vl C 0, upd pt C 0, upd md C (rk_dm P md pt (lc k)), upd vs C (rk_dv vs pt (lc k)), rk_ef (rk_uN bf C (lc k)), rk_ef (rk_uN lc k (C + 1)), upd ls k (-1), rn, op, ln, en, iu, il, lo, hi, fr, pl, ah, ak, aq, av)) :
    wpX_eraseNow post (nI C, nI O, nI P, nI F, nI T, rk_nf rv, rk_nf ky, vl, pt, md, vs, rk_ef bf, rk_ef lc, ls, rn, op, ln, en, iu, il, lo, hi, fr, pl, ah, ak, aq, av) (nI k) := by
  unfold wpX_eraseNow
  refine rx_noteE hk hC hl hp ?_
  exact And.intro (vp_in_nI hk (by decide)) (nm_r (rk_wr (by omega) rfl) h)
theorem ry_present {post : Int32 → Prop} (hF : F ≤ P) (h : post (nI (16 * (P - F)))) : wpY_present post (nI F, nI P, nI D, nI T2, ex, va, ma, se, ve, ls, ys, yk, yp, yg, ln, en, op, st, lo, hi, fr, lr, lk, lq, lv) := by
  show post (16 * (nI P - nI F))
  rw [pk_sub hF, show (16 : Int32) = nI 16 from rfl, pk_mul]
  exact h
theorem ry_existsNow {post : Int32 → Prop} {k : Nat} (hF : F ≤ P) (hix : 16 * (P - F) + k < 1920) (h1 : ex (16 * (P - F) + k) = 0 ∨ ex (16 * (P - F) + k) = 1) (h : post (ex (16 * (P - F) + k))) : wpY_existsNow post (nI F, nI P, nI D, nI T2, ex, va, ma, se, ve, ls, ys, yk, yp, yg, ln, en, op, st, lo, hi, fr, lr, lk, lq, lv) (nI k) := by
  unfold wpY_existsNow
  refine ry_present hF ?_
  have e := nI_add (16 * (P - F)) k
  have e2 : ex (nI (16 * (P - F)) + nI k).toNatClampNeg = ex (16 * (P - F) + k) := rk_rx e (by omega) rfl
  refine And.intro (rk_vx e hix (by decide)) (And.intro ?_ ?_)
  · rw [e2]; exact rk_nw h1
  · rw [e2]; exact h
theorem ry_nr17 {post : SY → Prop} {t : Nat} (ht : 16 ≤ t) (ht2 : t + 16 ≤ 1920) (h1 : ∀ j, t - 16 ≤ j → j < t → ex j = 0 ∨ ex j = 1) (h : post (nI F, nI P, nI D, nI T2, rk_sh ex t 16, rk_sh va t 16, ma, se, ve, ls, ys, yk, yp, yg, ln, en, op, st, lo, hi, fr, lr, lk, lq, lv)) :
    ∀ n i, i ≤ 16 → 16 - i < n → wY_newRevision_17 post (nI t) (nI F) (nI P) (nI D) (nI T2) n (nI i) (rk_sh ex t i) (rk_sh va t i) ma se ve ls ys yk yp yg ln en op st lo hi fr lr lk lq lv := by
  intro n
  induction n with
  | zero => intro i _ hn; omega
  | succ n ih =>
    intro i hi hn
    by_cases e : i = 16
    · subst e; exact br_t (nI_le (a := 16) (b := 16) (by omega) (by decide)) h
    · have e1 : (nI t - 16) + nI i = nI (t - 16 + i) := by
        rw [show (16 : Int32) = nI 16 from rfl, pk_sub ht, nI_add]
      have e2 := nI_add t i
      have hv1 := rk_vx (N := 1920) e1 (by omega) (by decide)
      have hv2 := rk_vx (N := 1920) e2 (by omega) (by decide)
      refine br_f (nI_ge (a := i) (b := 16) (by omega) (by decide)) (And.intro hv1 (And.intro hv2 (nm_r (e' := rk_sh ex t (i + 1)) ?_ (And.intro hv1 (And.intro hv2 (nm_r (e' := rk_sh va t (i + 1)) ?_ (nm_r (nI_1 i) ?_)))))))
      · rw [rk_rx e1 (by omega) (rk_sh_o (by omega)), rk_nb (h1 _ (by omega) (by omega))]
        exact rk_wx e2 (by omega) (rk_sh_s (by congr 1; omega))
      · rw [rk_rx e1 (by omega) (rk_sh_o (by omega))]
        exact rk_wx e2 (by omega) (rk_sh_s (by congr 1; omega))
      · exact ih (i + 1) (by omega) (by omega)
theorem ry_newRevision {post : SY → Prop} (hF : F ≤ P) (hix : 16 * (P + 1 - F) + 16 ≤ 1920) (h1 : ∀ k, k < 16 → ex (16 * (P - F) + k) = 0 ∨ ex (16 * (P - F) + k) = 1)
    (h : post (nI F, nI (P + 1), nI D, nI T2, rk_sh ex (16 * (P + 1 - F)) 16, rk_sh va (16 * (P + 1 - F)) 16, ma, se, ve, ls, ys, yk, yp, yg, ln, en, op, st, lo, hi, fr, lr, lk, lq, lv)) : wpY_newRevision post (nI F, nI P, nI D, nI T2, ex, va, ma, se, ve, ls, ys, yk, yp, yg, ln, en, op, st, lo, hi, fr, lr, lk, lq, lv) := by
  refine nm_r (nI_1 P) (ry_present (P := P + 1) (by omega) ⟨17, ?_⟩)
  have := ry_nr17 (P := P + 1) (F := F) (D := D) (T2 := T2) (ex := ex) (va := va) (post := post) (t := 16 * (P + 1 - F)) (by omega) hix (fun j a b => by
    have := h1 (j - 16 * (P - F)) (by omega)
    rw [show 16 * (P - F) + (j - 16 * (P - F)) = j from by omega] at this
    exact this) h 17 0 (by omega) (by omega)
  rw [rk_sh_0, rk_sh_0] at this
  exact this
theorem ry_noteP {post : SY → Prop} {k : Nat} {x : Int32} (hD : D < 120)
    (h : post (nI F, nI P, nI (D + 1), nI T2, ex, va, ma, se, ve, ls, upd ys D (nI P), upd yk D (nI k), upd yp D 1, upd yg D x, ln, en, op, st, lo, hi, fr, lr, lk, lq, lv)) : wpY_note post (nI F, nI P, nI D, nI T2, ex, va, ma, se, ve, ls, ys, yk, yp, yg, ln, en, op, st, lo, hi, fr, lr, lk, lq, lv) (nI k) 1 x := by
  have hD2 : vp_in (nI D) 120 := vp_in_nI hD (by decide)
  refine And.intro hD2 (nm_r (rk_wr (by omega) rfl) (And.intro hD2 (nm_r (rk_wr (by omega) rfl) (And.intro hD2 (nm_r (e' := upd yp D 1) (rk_wr (by omega) (by rw [rk_nb1])) (br_f (by decide) ?_))))))
  exact And.intro hD2 (nm_r (rk_wr (by omega) rfl) (nm_r (nI_1 D) h))
theorem ry_noteE {post : SY → Prop} {k : Nat} {x : Int32} (hD : D < 120)
    (h : post (nI F, nI P, nI (D + 1), nI T2, ex, va, ma, se, ve, ls, upd ys D (nI P), upd yk D (nI k), upd yp D 0, upd yg D 0, ln, en, op, st, lo, hi, fr, lr, lk, lq, lv)) : wpY_note post (nI F, nI P, nI D, nI T2, ex, va, ma, se, ve, ls, ys, yk, yp, yg, ln, en, op, st, lo, hi, fr, lr, lk, lq, lv) (nI k) 0 x := by
  have hD2 : vp_in (nI D) 120 := vp_in_nI hD (by decide)
  refine And.intro hD2 (nm_r (rk_wr (by omega) rfl) (And.intro hD2 (nm_r (rk_wr (by omega) rfl) (And.intro hD2 (nm_r (e' := upd yp D 0) (rk_wr (by omega) (by rw [rk_nb0])) (br_t rfl ?_))))))
  exact And.intro hD2 (nm_r (rk_wr (by omega) rfl) (nm_r (nI_1 D) h))
end
end
section
/-! put, swap -/
section
variable {C O D P F T T2 : Nat} {rv ky bf lc : Nat → Nat} {vl pt md vs ls rn op ln en iu il lo hi fr pl ah ak aq av : Nat → Int32} {ex va ma se ve ys yk yp yg st lr lk lq lv : Nat → Int32}
variable {P0 Q K : Nat} {np : Nat → Int32}
theorem rk_ex01 {R k : Nat} (hL : rk_Lg P P0 F O C D K rv ky pt bf lc) (hS : rk_St P F C rv ky vl pt ex va) (h1 : F ≤ R) (h2 : R ≤ P) (hk : k < 16) : ex (16 * (R - F) + k) = 0 ∨ ex (16 * (R - F) + k) = 1 := by
  rw [rk_St_ex hS R k h1 h2 hk]
  rcases e : rk_la rv ky k R C with _ | c
  · exact Or.inl rfl
  · exact rk_Lg_p01 hL c (rk_la_s e).1
theorem rk_exN {k : Nat} (hL : rk_Lg P P0 F O C D K rv ky pt bf lc) (hS : rk_St P F C rv ky vl pt ex va) (hk : k < 16) : ex (16 * (P - F) + k) = rk_pb pt (lc k) := by
  rw [rk_St_ex hS P k (rk_Lg_FP hL) (Nat.le_refl _) hk, rk_la_lk (rk_Lg_rvP hL), rk_Lg_lcE hL k hk]
theorem rk_lcC {k : Nat} (hL : rk_Lg P P0 F O C D K rv ky pt bf lc) (hk : k < 16) : lc k ≤ C := by
  rw [rk_Lg_lcE hL k hk]; exact rk_lk_le ..
theorem rk_lp01 {k : Nat} (hL : rk_Lg P P0 F O C D K rv ky pt bf lc) (hk : k < 16) : ∀ c, lc k = c + 1 → pt c = 0 ∨ pt c = 1 := fun c e =>
  rk_Lg_p01 hL c (by have := rk_lcC hL hk; omega)
theorem rk_pbL {k : Nat} (hL : rk_Lg P P0 F O C D K rv ky pt bf lc) (hk : k < 16) : rk_pb pt (lc k) = 0 ∨ rk_pb pt (lc k) = 1 := by
  rcases e : lc k with _ | c
  · exact Or.inl rfl
  · exact rk_lp01 hL hk c e
theorem rk_PFD (hL : rk_Lg P P F O C D K rv ky pt bf lc) : P - F ≤ D := by
  have := rk_Lg_pa0 hL; have := rk_Lg_cod hL; omega
theorem ry_w66 {post : Int32 → SY → Prop} {k : Nat} {x l x4 d e : Int32} (hk : k < 16) (hD : D < 120) (hw : (x4 = 0 ∧ e = ve k + 1) ∨ (¬ x4 = 0 ∧ e = 1))
    (h : post (nI P) (nI F, nI P, nI (D + 1), nI T2, ex, va, upd ma k d, upd se k (nI P), upd ve k e, upd ls k l, upd ys D (nI P), upd yk D (nI k), upd yp D 1, upd yg D x, ln, en, op, st, lo, hi, fr, lr, lk, lq, lv)) :
    wY_write_66 post (nI k) x l x4 d (nI k) (nI F) (nI P) (nI D) (nI T2) ex va ma se ve ls ys yk yp yg ln en op st lo hi fr lr lk lq lv := by
  have hk2 : vp_in (nI k) 16 := vp_in_nI hk (by decide)
  refine And.intro hk2 (nm_r (rk_wr (by omega) rfl) ?_)
  rcases hw with ⟨w, rfl⟩ | ⟨w, rfl⟩
  · refine br_t w (And.intro hk2 (And.intro hk2 (nm_r (e' := upd ve k (ve k + 1)) (by rw [rk_rd (f := ve) (by omega) rfl]; exact rk_wr (by omega) rfl) (And.intro hk2 (nm_r (rk_wr (by omega) rfl) (And.intro hk2 (nm_r (rk_wr (by omega) rfl) ?_)))))))
    exact ry_noteP hD h
  · refine br_f w (And.intro hk2 (nm_r (e' := upd ve k 1) (rk_wr (by omega) rfl) (And.intro hk2 (nm_r (rk_wr (by omega) rfl) (And.intro hk2 (nm_r (rk_wr (by omega) rfl) ?_))))))
    exact ry_noteP hD h
theorem ry_w13 {post : Int32 → SY → Prop} {k : Nat} {x l z0 d e : Int32} (hk : k < 16) (hD : D < 120) (hF : F ≤ P) (hix : 16 * (P + 1 - F) + 16 ≤ 1920) (h1 : ∀ k, k < 16 → ex (16 * (P - F) + k) = 0 ∨ ex (16 * (P - F) + k) = 1)
    (hw : (z0 = 0 ∧ d = ma k ∧ e = ve k + 1) ∨ (¬ z0 = 0 ∧ d = nI (P + 1) ∧ e = 1))
    (h : post (nI (P + 1)) (nI F, nI (P + 1), nI (D + 1), nI T2, upd (rk_sh ex (16 * (P + 1 - F)) 16) (16 * (P + 1 - F) + k) 1, upd (rk_sh va (16 * (P + 1 - F)) 16) (16 * (P + 1 - F) + k) x, upd ma k d, upd se k (nI (P + 1)), upd ve k e, upd ls k l, upd ys D (nI (P + 1)), upd yk D (nI k), upd yp D 1, upd yg D x, ln, en, op, st, lo, hi, fr, lr, lk, lq, lv)) :
    wY_write_13 post (nI k) x l z0 (nI F) (nI P) (nI D) (nI T2) ex va ma se ve ls ys yk yp yg ln en op st lo hi fr lr lk lq lv := by
  unfold wY_write_13
  have hk2 : vp_in (nI k) 16 := vp_in_nI hk (by decide)
  have ea := nI_add (16 * (P + 1 - F)) k
  have hv := rk_vx (N := 1920) ea (by omega) (by decide)
  refine ry_newRevision hF hix h1 ?_
  refine ry_present (P := P + 1) (by omega) (And.intro hv (nm_r (e' := upd (rk_sh ex (16 * (P + 1 - F)) 16) (16 * (P + 1 - F) + k) 1) (by rw [rk_nb1]; exact rk_wx ea (by omega) rfl) ?_))
  refine ry_present (P := P + 1) (by omega) (And.intro hv (nm_r (rk_wx ea (by omega) rfl) ?_))
  rcases hw with ⟨w, rfl, rfl⟩ | ⟨w, rfl, rfl⟩
  · refine br_t w (And.intro hk2 ?_)
    rw [rk_rd (f := ma) (c := k) (by omega) rfl]
    exact ry_w66 (P := P + 1) hk hD (Or.inl ⟨w, rfl⟩) h
  · refine br_f w ?_
    exact ry_w66 (P := P + 1) hk hD (Or.inr ⟨w, rfl⟩) h
theorem ry_write {post : Int32 → SY → Prop} {k : Nat} {x l d e : Int32} (hk : k < 16) (hD : D < 120) (hF : F ≤ P) (hix : 16 * (P + 1 - F) + 16 ≤ 1920) (h1 : ∀ k, k < 16 → ex (16 * (P - F) + k) = 0 ∨ ex (16 * (P - F) + k) = 1)
    (hw : (¬ ex (16 * (P - F) + k) = 0 ∧ d = ma k ∧ e = ve k + 1) ∨ (ex (16 * (P - F) + k) = 0 ∧ d = nI (P + 1) ∧ e = 1))
    (h : post (nI (P + 1)) (nI F, nI (P + 1), nI (D + 1), nI T2, upd (rk_sh ex (16 * (P + 1 - F)) 16) (16 * (P + 1 - F) + k) 1, upd (rk_sh va (16 * (P + 1 - F)) 16) (16 * (P + 1 - F) + k) x, upd ma k d, upd se k (nI (P + 1)), upd ve k e, upd ls k l, upd ys D (nI (P + 1)), upd yk D (nI k), upd yp D 1, upd yg D x, ln, en, op, st, lo, hi, fr, lr, lk, lq, lv)) :
    wpY_write post (nI F, nI P, nI D, nI T2, ex, va, ma, se, ve, ls, ys, yk, yp, yg, ln, en, op, st, lo, hi, fr, lr, lk, lq, lv) (nI k) x l := by
  unfold wpY_write
  refine ry_existsNow hF (by omega) (h1 k hk) ?_
  rcases hw with ⟨w, rfl, rfl⟩ | ⟨w, rfl, rfl⟩
  · exact br_f w (ry_w13 hk hD hF hix h1 (Or.inl ⟨rfl, rfl, rfl⟩) h)
  · exact br_t w (ry_w13 hk hD hF hix h1 (Or.inr ⟨by decide, rfl, rfl⟩) h)
/-- both sides put a key: one new revision -/
theorem rj_write {k : Nat} {x l : Int32} (h : rk_Co P P P F O C D 16 np rv ky bf lc vl pt md vs iu il lo hi fr pl ah ak aq av ex va ma se ve ys yk yp yg st lr lk lq lv) (hk : k < 16) (hD : D ≤ 116) (hP : P ≤ 6000) (hC : C ≤ 132) :
    ∃ u' v', rk_Md (P + 1) (P + 1) (P + 1) F O (C + 1) (D + 1) 16 T T2 (upd ls k l) op ln en (upd np k 1) u' v' ∧ (∀ post : Int32 → SX → Prop, post (nI (P + 1)) u' → wpX_putNow post (nI C, nI O, nI P, nI F, nI T, rk_nf rv, rk_nf ky, vl, pt, md, vs, rk_ef bf, rk_ef lc, ls, rn, op, ln, en, iu, il, lo, hi, fr, pl, ah, ak, aq, av) (nI k) x l) ∧ (∀ post : Int32 → SY → Prop, post (nI (P + 1)) v' → wpY_write post (nI F, nI P, nI D, nI T2, ex, va, ma, se, ve, ls, ys, yk, yp, yg, ln, en, op, st, lo, hi, fr, lr, lk, lq, lv) (nI k) x l) := by
  have hL := rk_Co_Lg h
  have hS := rk_Co_St h
  have hFP := rk_Lg_FP hL
  have hPF := rk_PFD hL
  have hlc := rk_lcC hL hk
  have h2 := rk_Co_end (rk_Co_put (x := x) (d := rk_dm (P + 1) md pt (lc k)) (e := rk_dv vs pt (lc k)) (rk_Co_new h) (Nat.le_refl _) (by omega) (by omega) (by omega) hk (by omega)) (by omega)
  refine ⟨_, _, rk_Md_in rn h2, fun post hp => ?_, fun post hp => ?_⟩
  · exact rx_putNow hk (by omega) (by omega) (rk_lp01 hL hk) hp
  · refine ry_write hk (by omega) hFP (by omega) (fun k hk => rk_ex01 hL hS hFP (Nat.le_refl _) hk) ?_ hp
    rw [rk_exN hL hS hk]
    rcases rk_dw (P := P + 1) (md := md) (vs := vs) (rk_lp01 hL hk) with ⟨a, b, c⟩ | ⟨c, e, a, b, d⟩
    · exact Or.inr ⟨a, b, c⟩
    · rw [e] at a
      have := rk_Co_Nw h k c hk e a
      refine Or.inl ⟨by rw [e]; exact a, b.trans this.1.symm, by rw [d, this.2.2]⟩
end
theorem rk_ct16 (p : Nat → Bool) : rk_ct p 16 ≤ 16 := rk_ct_le p 16
theorem rk_Ls_put {T k : Nat} {l : Int32} {ls op ln en np : Nat → Int32} (h : rk_Ls T ls op ln en np) (hl : l = -1 ∨ ∃ j, j < 6 ∧ l = nI j ∧ op j ≠ 0) : rk_Ls T (upd ls k l) op ln en (upd np k 1) := by
  refine ⟨fun k0 h0 => ?_, rk_Ls_en h, rk_Ls_ln h⟩
  by_cases e : k0 = k
  · subst e; rw [pk_us, pk_us]
    rcases hl with z | ⟨j, z1, z2, z3⟩
    · exact Or.inl z
    · exact Or.inr ⟨j, z1, z2, z3, by decide⟩
  · rw [pk_un e, pk_un e]; exact rk_Ls_ok h k0 h0
theorem i_vc_put {k : Nat} {u : SX} {v : SY} (I : i_Rel k u v) (hk : k + 5 ≤ 2560) (v1 : Int32) (v2 : Int32) (v3 : Int32) : wpX_put (fun r u' => wpY_put (fun r' v' => r' = r ∧ i_Rel (k + 5) u' v') v v1 v2 v3) u v1 v2 v3 := by
  refine rk_op (G := fun u v => wpX_put (fun r u' => wpY_put (fun r' v' => r' = r ∧ i_Rel (k + 5) u' v') v v1 v2 v3) u v1 v2 v3) hk ?_ I
  intro P F O C D T ls op ln en np rv ky bf lc vl pt md vs rn iu il lo hi fr pl ah ak aq av ex va ma se ve ys yk yp yg st lr lk lq lv co hls hbd hPk hTk hP hT hC I0
  unfold wpX_put wpY_put
  rcases rk_ix v1 16 (by decide) with hb | ⟨kk, hkk, rfl⟩
  · exact rx_bK1 hb (br_f (by decide) (ry_bK1 hb (br_t rfl ⟨rfl, i_up I0⟩)))
  refine rx_bK0 hkk (br_t rfl ?_)
  have hcod := rk_Lg_cod (rk_Co_Lg co)
  -- both remember too much, or both write
  have fin : (v3 = -1 ∨ ∃ j, j < 6 ∧ v3 = nI j ∧ op j ≠ 0) → ∃ r u' v', i_Rel (k + 5) u' v' ∧ (∀ post : Int32 → SX → Prop, post r u' → wX_put_41 post (nI kk) v2 v3 (nI C) (nI O) (nI P) (nI F) (nI T) (rk_nf rv) (rk_nf ky) vl pt md vs (rk_ef bf) (rk_ef lc) ls rn op ln en iu il lo hi fr pl ah ak aq av) ∧ (∀ post : Int32 → SY → Prop, post r v' → wY_put_37 post (nI kk) v2 v3 (nI F) (nI P) (nI D) (nI T) ex va ma se ve ls ys yk yp yg ln en op st lo hi fr lr lk lq lv) := fun hl => by
    by_cases hD : D < 100
    · obtain ⟨u', v', hM, hX, hY⟩ := rj_write (T := T) (T2 := T) (ls := ls) (rn := rn) (op := op) (ln := ln) (en := en) (x := v2) (l := v3) co hkk (by omega) (by omega) hC
      refine ⟨nI (P + 1), u', v', rk_cl hM (rk_Ls_put hls hl) (by have := rk_ct16 (rk_le (upd ls kk v3)); omega) (by omega) (by omega), fun post hp => ?_, fun post hp => ?_⟩
      · unfold wX_put_41
        exact rx_rem hcod (br_t (nI_lt (b := 100) hD (by decide)) (hX _ hp))
      · exact br_t (nI_lt (b := 100) hD (by decide)) (hY _ hp)
    · refine ⟨-1000000002, _, _, i_up I0, fun post hp => ?_, fun post hp => ?_⟩
      · unfold wX_put_41
        exact rx_rem hcod (br_f (nI_nlt (b := 100) (by omega) (by omega)) hp)
      · exact br_f (nI_nlt (b := 100) (by omega) (by omega)) hp
  by_cases h1 : v3 = -1
  · obtain ⟨r, u', v', hR, hX, hY⟩ := fin (Or.inl h1)
    refine br_t h1 (br_t h1 (hX _ ?_))
    refine ry_bK0 hkk (br_f (by decide) ?_)
    have a1 : ¬ v3 < -1 := by rw [h1]; decide
    have a2 : v3 ≤ 5 := by rw [h1]; decide
    have a3 : v3 < 0 := by rw [h1]; decide
    exact br_f a1 (br_t a2 (br_t a3 (hY _ ⟨rfl, hR⟩)))
  · refine br_f h1 ?_
    rcases rk_ix v3 6 (by decide) with hb | ⟨l, hl, rfl⟩
    · refine rx_bL1 hb (br_f (by decide) (ry_bK0 hkk (br_f (by decide) ?_)))
      rcases hb with z | ⟨z, z2⟩
      · have : v3 < -1 := by
          rw [Int32.lt_iff_toInt_lt, rk_m1T]
          rw [Int32.lt_iff_toInt_lt, show (0 : Int32).toInt = 0 from by decide] at z
          have : v3.toInt ≠ -1 := fun y => h1 (Int32.toInt_inj.mp (y.trans rk_m1T.symm))
          omega
        exact br_t this ⟨rfl, i_up I0⟩
      · have z3 := rk_gt (n := 5) (by decide) z2
        refine br_f (fun y => z ?_) (br_f (fun y => ?_) ⟨rfl, i_up I0⟩)
        · rw [Int32.lt_iff_toInt_lt, rk_m1T] at y
          rw [Int32.lt_iff_toInt_lt, show (0 : Int32).toInt = 0 from by decide]
          omega
        · exact absurd y (Int32.not_le.mpr z3)
    · refine rx_bL0 hl (br_t rfl (br_f h1 (And.intro (vp_in_nI hl (by decide)) ?_)))
      have a1 : ¬ nI l < -1 := fun y => by
        rw [Int32.lt_iff_toInt_lt, rk_m1T, nI_toInt (by omega)] at y
        omega
      have a2 : nI l ≤ 5 := nI_le (b := 5) (by omega) (by decide)
      by_cases ho : op l = 0
      · refine br_t (rk_rd (by omega) ho) (ry_bK0 hkk (br_f (by decide) (br_f a1 (br_t a2 (br_f (nI_pos (by omega)) (And.intro (vp_in_nI hl (by decide)) (br_t (rk_rd (by omega) ho) ⟨rfl, i_up I0⟩)))))))
      · have ho' : ¬ op (nI l).toNatClampNeg = 0 := by rw [nI_clamp (by omega)]; exact ho
        obtain ⟨r, u', v', hR, hX, hY⟩ := fin (Or.inr ⟨l, hl, rfl, ho⟩)
        refine br_f ho' (hX _ ?_)
        exact ry_bK0 hkk (br_f (by decide) (br_f a1 (br_t a2 (br_f (nI_pos (by omega)) (And.intro (vp_in_nI hl (by decide)) (br_f ho' (hY _ ⟨rfl, hR⟩)))))))
theorem i_vc_swap {k : Nat} {u : SX} {v : SY} (I : i_Rel k u v) (hk : k + 5 ≤ 2560) (v1 : Int32) (v2 : Int32) (v3 : Int32) : wpX_swap (fun r u' => wpY_swap (fun r' v' => r' = r ∧ i_Rel (k + 5) u' v') v v1 v2 v3) u v1 v2 v3 := by
  refine rk_op (G := fun u v => wpX_swap (fun r u' => wpY_swap (fun r' v' => r' = r ∧ i_Rel (k + 5) u' v') v v1 v2 v3) u v1 v2 v3) hk ?_ I
  intro P F O C D T ls op ln en np rv ky bf lc vl pt md vs rn iu il lo hi fr pl ah ak aq av ex va ma se ve ys yk yp yg st lr lk lq lv co hls hbd hPk hTk hP hT hC I0
  unfold wpX_swap wpY_swap
  rcases rk_ix v1 16 (by decide) with hb | ⟨kk, hkk, rfl⟩
  · exact rx_bK1 hb (br_f (by decide) (ry_bK1 hb (br_t rfl ⟨rfl, i_up I0⟩)))
  have hL := rk_Co_Lg co
  have hS := rk_Co_St co
  have hFP := rk_Lg_FP hL
  have hPF := rk_PFD hL
  have hcod := rk_Lg_cod hL
  have hlc := rk_lcC hL hkk
  have hk2 : vp_in (nI kk) 16 := vp_in_nI hkk (by decide)
  have e01 := rk_ex01 hL hS hFP (Nat.le_refl P) hkk
  have eN := rk_exN hL hS hkk
  -- the last part, with the same own revision z and the same lease l on both sides
  have fin : ∀ z : Int32, ∃ r u' v', i_Rel (k + 5) u' v' ∧ (∀ post : Int32 → SX → Prop, post r u' → wX_swap_34 post (nI kk) v2 v3 z (nI C) (nI O) (nI P) (nI F) (nI T) (rk_nf rv) (rk_nf ky) vl pt md vs (rk_ef bf) (rk_ef lc) ls rn op ln en iu il lo hi fr pl ah ak aq av) ∧ (∀ post : Int32 → SY → Prop, post r v' → wY_swap_29 post (nI kk) v2 v3 z (nI F) (nI P) (nI D) (nI T) ex va ma se ve ls ys yk yp yg ln en op st lo hi fr lr lk lq lv) := fun z => by
    by_cases hz : z = v2
    · by_cases hD : D < 100
      · by_cases h0 : rk_pb pt (lc kk) = 0
        · obtain ⟨u', v', hM, hX, hY⟩ := rj_write (T := T) (T2 := T) (ls := ls) (rn := rn) (op := op) (ln := ln) (en := en) (x := v3) (l := -1) co hkk (by omega) (by omega) hC
          refine ⟨nI (P + 1), u', v', rk_cl hM (rk_Ls_put hls (Or.inl rfl)) (by have := rk_ct16 (rk_le (upd ls kk (-1))); omega) (by omega) (by omega), fun post hp => ?_, fun post hp => ?_⟩
          · exact br_t hz (rx_rem hcod (br_t (nI_lt (b := 100) hD (by decide)) (rx_exists hkk (by omega) (rk_lp01 hL hkk) (br_t h0 (hX _ hp)))))
          · exact br_t hz (br_t (nI_lt (b := 100) hD (by decide)) (ry_existsNow hFP (by omega) e01 (br_t (eN.trans h0) (hY _ hp))))
        · obtain ⟨u', v', hM, hX, hY⟩ := rj_write (T := T) (T2 := T) (ls := ls) (rn := rn) (op := op) (ln := ln) (en := en) (x := v3) (l := ls kk) co hkk (by omega) (by omega) hC
          have hlk : ls kk = -1 ∨ ∃ j, j < 6 ∧ ls kk = nI j ∧ op j ≠ 0 := by
            rcases rk_Ls_ok hls kk hkk with y | ⟨j, y1, y2, y3, _⟩
            · exact Or.inl y
            · exact Or.inr ⟨j, y1, y2, y3⟩
          have rl : ls (nI kk).toNatClampNeg = ls kk := rk_rd (by omega) rfl
          refine ⟨nI (P + 1), u', v', rk_cl hM (rk_Ls_put hls hlk) (by have := rk_ct16 (rk_le (upd ls kk (ls kk))); omega) (by omega) (by omega), fun post hp => ?_, fun post hp => ?_⟩
          · refine br_t hz (rx_rem hcod (br_t (nI_lt (b := 100) hD (by decide)) (rx_exists hkk (by omega) (rk_lp01 hL hkk) (br_f h0 (And.intro hk2 ?_)))))
            rw [rl]; exact hX _ hp
          · refine br_t hz (br_t (nI_lt (b := 100) hD (by decide)) (ry_existsNow hFP (by omega) e01 (br_f (by rw [eN]; exact h0) (And.intro hk2 ?_))))
            rw [rl]; exact hY _ hp
      · refine ⟨-1000000002, _, _, i_up I0, fun post hp => ?_, fun post hp => ?_⟩
        · exact br_t hz (rx_rem hcod (br_f (nI_nlt (b := 100) (by omega) (by omega)) hp))
        · exact br_t hz (br_f (nI_nlt (b := 100) (by omega) (by omega)) hp)
    · exact ⟨-1000000003, _, _, i_up I0, fun post hp => br_f hz hp, fun post hp => br_f hz hp⟩
  refine rx_bK0 hkk (br_t rfl (rx_exists hkk (by omega) (rk_lp01 hL hkk) ?_))
  by_cases h0 : rk_pb pt (lc kk) = 0
  · obtain ⟨r, u', v', hR, hX, hY⟩ := fin 0
    refine br_t h0 (hX _ (ry_bK0 hkk (br_f (by decide) (ry_existsNow hFP (by omega) e01 (br_t (eN.trans h0) (hY _ ⟨rfl, hR⟩))))))
  · rcases e : lc kk with _ | c
    · rw [e] at h0; exact absurd rfl h0
    have h0' := h0
    rw [e] at h0'
    have hc : c < C := by omega
    have hn := rk_Co_Nw co kk c hkk e h0'
    obtain ⟨r, u', v', hR, hX, hY⟩ := fin (nI (rv c))
    have r1 : rk_ef lc (nI kk).toNatClampNeg = nI c := rk_rd (by omega) (by show rk_en (lc kk) = _; rw [e]; rfl)
    have r2 : rk_nf rv (rk_ef lc (nI kk).toNatClampNeg).toNatClampNeg = nI (rv c) := rk_rx r1 (by omega) rfl
    rw [← e]
    refine br_f h0 (And.intro hk2 (And.intro (rk_vx r1 (by omega) (by decide)) ?_))
    rw [r2]
    refine hX _ (ry_bK0 hkk (br_f (by decide) (ry_existsNow hFP (by omega) e01 (br_f (by rw [eN]; exact h0) (And.intro hk2 ?_)))))
    rw [rk_rd (f := se) (c := kk) (by omega) hn.2.1]
    exact hY _ ⟨rfl, hR⟩
end
section
/-! methods that only read the present -/
theorem i_vc_revision {k : Nat} {u : SX} {v : SY} (I : i_Rel k u v) (hk : k + 5 ≤ 2560) : wpX_revision (fun r => wpY_revision (fun r' => r' = r ∧ i_Rel (k + 5) u v) v) u := by
  refine rk_op (G := fun u v => wpX_revision (fun r => wpY_revision (fun r' => r' = r ∧ i_Rel (k + 5) u v) v) u) hk ?_ I
  intro P F O C D T ls op ln en np rv ky bf lc vl pt md vs rn iu il lo hi fr pl ah ak aq av ex va ma se ve ys yk yp yg st lr lk lq lv co hls hbd hPk hTk hP hT hC I0
  unfold wpX_revision wpY_revision
  exact And.intro rfl (i_up I0)
theorem i_vc_remembered {k : Nat} {u : SX} {v : SY} (I : i_Rel k u v) (hk : k + 5 ≤ 2560) : wpX_remembered (fun r => wpY_remembered (fun r' => r' = r ∧ i_Rel (k + 5) u v) v) u := by
  refine rk_op (G := fun u v => wpX_remembered (fun r => wpY_remembered (fun r' => r' = r ∧ i_Rel (k + 5) u v) v) u) hk ?_ I
  intro P F O C D T ls op ln en np rv ky bf lc vl pt md vs rn iu il lo hi fr pl ah ak aq av ex va ma se ve ys yk yp yg st lr lk lq lv co hls hbd hPk hTk hP hT hC I0
  unfold wpX_remembered wpY_remembered
  exact rx_rem (rk_Lg_cod (rk_Co_Lg co)) (And.intro rfl (i_up I0))
theorem i_vc_made {k : Nat} {u : SX} {v : SY} (I : i_Rel k u v) (hk : k + 5 ≤ 2560) (v1 : Int32) : wpX_made (fun r => wpY_made (fun r' => r' = r ∧ i_Rel (k + 5) u v) v v1) u v1 := by
  refine rk_op (G := fun u v => wpX_made (fun r => wpY_made (fun r' => r' = r ∧ i_Rel (k + 5) u v) v v1) u v1) hk ?_ I
  intro P F O C D T ls op ln en np rv ky bf lc vl pt md vs rn iu il lo hi fr pl ah ak aq av ex va ma se ve ys yk yp yg st lr lk lq lv co hls hbd hPk hTk hP hT hC I0
  unfold wpX_made wpY_made
  rcases rk_ix v1 16 (by decide) with hb | ⟨kk, hkk, rfl⟩
  · exact rx_bK1 hb (br_f (by decide) (ry_bK1 hb (br_t rfl ⟨rfl, i_up I0⟩)))
  have hL := rk_Co_Lg co
  have hS := rk_Co_St co
  have hFP := rk_Lg_FP hL
  have hPF := rk_PFD hL
  have hlc := rk_lcC hL hkk
  have hk2 : vp_in (nI kk) 16 := vp_in_nI hkk (by decide)
  have e01 := rk_ex01 hL hS hFP (Nat.le_refl P) hkk
  have eN := rk_exN hL hS hkk
  refine rx_bK0 hkk (br_t rfl (rx_exists hkk (by omega) (rk_lp01 hL hkk) ?_))
  by_cases h0 : rk_pb pt (lc kk) = 0
  · exact br_t h0 (ry_bK0 hkk (br_f (by decide) (ry_existsNow hFP (by omega) e01 (br_t (eN.trans h0) ⟨rfl, i_up I0⟩))))
  · rcases e : lc kk with _ | c
    · rw [e] at h0; exact absurd rfl h0
    have h0' := h0
    rw [e] at h0'
    have hn := rk_Co_Nw co kk c hkk e h0'
    have r1 : rk_ef lc (nI kk).toNatClampNeg = nI c := rk_rd (by omega) (by show rk_en (lc kk) = _; rw [e]; rfl)
    have r2 : md (rk_ef lc (nI kk).toNatClampNeg).toNatClampNeg = md c := rk_rx r1 (by omega) rfl
    rw [← e]
    refine br_f h0 (And.intro hk2 (And.intro (rk_vx r1 (by omega) (by decide)) (ry_bK0 hkk (br_f (by decide) (ry_existsNow hFP (by omega) e01 (br_f (by rw [eN]; exact h0) (And.intro hk2 ?_)))))))
    refine ⟨?_, i_up I0⟩
    rw [r2]
    exact rk_rd (by omega) hn.1
theorem i_vc_set {k : Nat} {u : SX} {v : SY} (I : i_Rel k u v) (hk : k + 5 ≤ 2560) (v1 : Int32) : wpX_set (fun r => wpY_set (fun r' => r' = r ∧ i_Rel (k + 5) u v) v v1) u v1 := by
  refine rk_op (G := fun u v => wpX_set (fun r => wpY_set (fun r' => r' = r ∧ i_Rel (k + 5) u v) v v1) u v1) hk ?_ I
  intro P F O C D T ls op ln en np rv ky bf lc vl pt md vs rn iu il lo hi fr pl ah ak aq av ex va ma se ve ys yk yp yg st lr lk lq lv co hls hbd hPk hTk hP hT hC I0
  unfold wpX_set wpY_set
  rcases rk_ix v1 16 (by decide) with hb | ⟨kk, hkk, rfl⟩
  · exact rx_bK1 hb (br_f (by decide) (ry_bK1 hb (br_t rfl ⟨rfl, i_up I0⟩)))
  have hL := rk_Co_Lg co
  have hS := rk_Co_St co
  have hFP := rk_Lg_FP hL
  have hPF := rk_PFD hL
  have hlc := rk_lcC hL hkk
  have hk2 : vp_in (nI kk) 16 := vp_in_nI hkk (by decide)
  have e01 := rk_ex01 hL hS hFP (Nat.le_refl P) hkk
  have eN := rk_exN hL hS hkk
  refine rx_bK0 hkk (br_t rfl (rx_exists hkk (by omega) (rk_lp01 hL hkk) ?_))
  by_cases h0 : rk_pb pt (lc kk) = 0
  · exact br_t h0 (ry_bK0 hkk (br_f (by decide) (ry_existsNow hFP (by omega) e01 (br_t (eN.trans h0) ⟨rfl, i_up I0⟩))))
  · rcases e : lc kk with _ | c
    · rw [e] at h0; exact absurd rfl h0
    have h0' := h0
    rw [e] at h0'
    have hn := rk_Co_Nw co kk c hkk e h0'
    have r1 : rk_ef lc (nI kk).toNatClampNeg = nI c := rk_rd (by omega) (by show rk_en (lc kk) = _; rw [e]; rfl)
    have r2 : (rk_nf rv) (rk_ef lc (nI kk).toNatClampNeg).toNatClampNeg = nI (rv c) := rk_rx r1 (by omega) rfl
    rw [← e]
    refine br_f h0 (And.intro hk2 (And.intro (rk_vx r1 (by omega) (by decide)) (ry_bK0 hkk (br_f (by decide) (ry_existsNow hFP (by omega) e01 (br_f (by rw [eN]; exact h0) (And.intro hk2 ?_)))))))
    refine ⟨?_, i_up I0⟩
    rw [r2]
    exact rk_rd (by omega) hn.2.1
theorem i_vc_version {k : Nat} {u : SX} {v : SY} (I : i_Rel k u v) (hk : k + 5 ≤ 2560) (v1 : Int32) : wpX_version (fun r => wpY_version (fun r' => r' = r ∧ i_Rel (k + 5) u v) v v1) u v1 := by
  refine rk_op (G := fun u v => wpX_version (fun r => wpY_version (fun r' => r' = r ∧ i_Rel (k + 5) u v) v v1) u v1) hk ?_ I
  intro P F O C D T ls op ln en np rv ky bf lc vl pt md vs rn iu il lo hi fr pl ah ak aq av ex va ma se ve ys yk yp yg st lr lk lq lv co hls hbd hPk hTk hP hT hC I0
  unfold wpX_version wpY_version
  rcases rk_ix v1 16 (by decide) with hb | ⟨kk, hkk, rfl⟩
  · exact rx_bK1 hb (br_f (by decide) (ry_bK1 hb (br_t rfl ⟨rfl, i_up I0⟩)))
  have hL := rk_Co_Lg co
  have hS := rk_Co_St co
  have hFP := rk_Lg_FP hL
  have hPF := rk_PFD hL
  have hlc := rk_lcC hL hkk
  have hk2 : vp_in (nI kk) 16 := vp_in_nI hkk (by decide)
  have e01 := rk_ex01 hL hS hFP (Nat.le_refl P) hkk
  have eN := rk_exN hL hS hkk
  refine rx_bK0 hkk (br_t rfl (rx_exists hkk (by omega) (rk_lp01 hL hkk) ?_))
  by_cases h0 : rk_pb pt (lc kk) = 0
  · exact br_t h0 (ry_bK0 hkk (br_f (by decide) (ry_existsNow hFP (by omega) e01 (br_t (eN.trans h0) ⟨rfl, i_up I0⟩))))
  · rcases e : lc kk with _ | c
    · rw [e] at h0; exact absurd rfl h0
    have h0' := h0
    rw [e] at h0'
    have hn := rk_Co_Nw co kk c hkk e h0'
    have r1 : rk_ef lc (nI kk).toNatClampNeg = nI c := rk_rd (by omega) (by show rk_en (lc kk) = _; rw [e]; rfl)
    have r2 : vs (rk_ef lc (nI kk).toNatClampNeg).toNatClampNeg = vs c := rk_rx r1 (by omega) rfl
    rw [← e]
    refine br_f h0 (And.intro hk2 (And.intro (rk_vx r1 (by omega) (by decide)) (ry_bK0 hkk (br_f (by decide) (ry_existsNow hFP (by omega) e01 (br_f (by rw [eN]; exact h0) (And.intro hk2 ?_)))))))
    refine ⟨?_, i_up I0⟩
    rw [r2]
    exact rk_rd (by omega) hn.2.2
theorem i_vc_leaseOf {k : Nat} {u : SX} {v : SY} (I : i_Rel k u v) (hk : k + 5 ≤ 2560) (v1 : Int32) : wpX_leaseOf (fun r => wpY_leaseOf (fun r' => r' = r ∧ i_Rel (k + 5) u v) v v1) u v1 := by
  refine rk_op (G := fun u v => wpX_leaseOf (fun r => wpY_leaseOf (fun r' => r' = r ∧ i_Rel (k + 5) u v) v v1) u v1) hk ?_ I
  intro P F O C D T ls op ln en np rv ky bf lc vl pt md vs rn iu il lo hi fr pl ah ak aq av ex va ma se ve ys yk yp yg st lr lk lq lv co hls hbd hPk hTk hP hT hC I0
  unfold wpX_leaseOf wpY_leaseOf
  rcases rk_ix v1 16 (by decide) with hb | ⟨kk, hkk, rfl⟩
  · exact rx_bK1 hb (br_f (by decide) (ry_bK1 hb (br_t rfl ⟨rfl, i_up I0⟩)))
  have hL := rk_Co_Lg co
  have hS := rk_Co_St co
  have hFP := rk_Lg_FP hL
  have hPF := rk_PFD hL
  have hlc := rk_lcC hL hkk
  have hk2 : vp_in (nI kk) 16 := vp_in_nI hkk (by decide)
  have e01 := rk_ex01 hL hS hFP (Nat.le_refl P) hkk
  have eN := rk_exN hL hS hkk
  have rl : ls (nI kk).toNatClampNeg = ls kk := rk_rd (by omega) rfl
  refine rx_bK0 hkk (br_t rfl (rx_exists hkk (by omega) (rk_lp01 hL hkk) ?_))
  by_cases h0 : rk_pb pt (lc kk) = 0
  · exact br_t h0 (ry_bK0 hkk (br_f (by decide) (ry_existsNow hFP (by omega) e01 (br_t (eN.trans h0) ⟨rfl, i_up I0⟩))))
  · refine br_f h0 (And.intro hk2 ?_)
    rcases rk_Ls_ok hls kk hkk with y | ⟨j, y1, y2, y3, _⟩
    · refine br_t (rl.trans y) (ry_bK0 hkk (br_f (by decide) (ry_existsNow hFP (by omega) e01 (br_f (by rw [eN]; exact h0) (And.intro hk2 (br_t ?_ ⟨rfl, i_up I0⟩))))))
      rw [rl, y]; decide
    · refine br_f (by rw [rl, y2]; exact rk_n1 (by omega)) (And.intro hk2 (ry_bK0 hkk (br_f (by decide) (ry_existsNow hFP (by omega) e01 (br_f (by rw [eN]; exact h0) (And.intro hk2 (br_f ?_ (And.intro hk2 ⟨rfl, i_up I0⟩))))))))
      rw [rl, y2]; exact nI_pos (by omega)
end
section
/-! asking at a revision: value, count, keyAt -/
section
variable {C O D P F T T2 : Nat} {rv ky bf lc : Nat → Nat} {vl pt md vs ls rn op ln en iu il lo hi fr pl ah ak aq av : Nat → Int32} {ex va ma se ve ys yk yp yg st lr lk lq lv : Nat → Int32}
variable {P0 Q K : Nat} {np : Nat → Int32}
theorem rx_ca10 {post : Int32 → Prop} {R k : Nat} (hL : rk_Lg P P0 F O C D K rv ky pt bf lc) (hP : P ≤ 6000) (hC : C ≤ 132) (hR : R ≤ 6000) :
    ∀ n m i, m ≤ C → m + i ≤ 139 → m < n → post (rk_en (rk_la rv ky k R m)) → wX_changeAt_10 post (nI R) (nI C) (nI O) (nI P) (nI F) (nI T) (rk_nf rv) (rk_nf ky) vl pt md vs (rk_ef bf) (rk_ef lc) ls rn op ln en iu il lo hi fr pl ah ak aq av n (rk_en (rk_lk ky k m)) (nI i) := by
  intro n
  induction n with
  | zero => intro m i _ _ hn; omega
  | succ n ih =>
    intro m i hm hi hn h
    refine br_f (nI_ge (a := i) (b := 140) (by omega) (by decide)) ?_
    refine rk_b1 (rk_lk ky k m) rfl (by have := rk_lk_le ky k m; omega) (fun e => ?_) (fun c e ec => ?_)
    · rw [rk_la_k0 e] at h; rw [e]; exact h
    · have hs := rk_lk_s e
      have hrv := rk_Lg_rvP hL c (by omega)
      have hv := rk_vx (N := 140) ec (by omega) (by decide)
      refine And.intro hv (pk_le (rv c) R (fun hle => ?_) (fun hgt => ?_) (rk_rx ec (by omega) rfl) rfl (by omega) (by omega))
      · rw [rk_la_k1 e hle] at h; rw [e]; exact h
      · refine And.intro hv (nm_r (e' := rk_en (rk_lk ky k c)) ?_ (nm_r (nI_1 i) ?_))
        · exact rk_rx ec (by omega) (by show rk_en (bf c) = _; rw [rk_Lg_bfE hL c (by omega), hs.2.1])
        · rw [rk_la_k2 e hgt] at h
          exact ih c (i + 1) (by omega) (by omega) (by omega) h
theorem rx_changeAt {post : Int32 → Prop} {R k : Nat} (hL : rk_Lg P P0 F O C D K rv ky pt bf lc) (hP : P ≤ 6000) (hC : C ≤ 132) (hR : R ≤ 6000) (hk : k < 16)
    (h : post (rk_en (rk_la rv ky k R C))) : wpX_changeAt post (nI C, nI O, nI P, nI F, nI T, rk_nf rv, rk_nf ky, vl, pt, md, vs, rk_ef bf, rk_ef lc, ls, rn, op, ln, en, iu, il, lo, hi, fr, pl, ah, ak, aq, av) (nI k) (nI R) :=
  And.intro (vp_in_nI hk (by decide)) (nm_r (e' := rk_en (rk_lk ky k C)) (rk_rd (by omega) (by show rk_en (lc k) = _; rw [rk_Lg_lcE hL k hk])) ⟨C + 1, rx_ca10 hL hP hC hR (C + 1) C 0 (Nat.le_refl _) (by omega) (by omega) h⟩)
theorem rx_existed {post : Int32 → Prop} {R k : Nat} (hL : rk_Lg P P0 F O C D K rv ky pt bf lc) (hP : P ≤ 6000) (hC : C ≤ 132) (hR : R ≤ 6000) (hk : k < 16)
    (h : post (rk_pb pt (rk_la rv ky k R C))) : wpX_existed post (nI C, nI O, nI P, nI F, nI T, rk_nf rv, rk_nf ky, vl, pt, md, vs, rk_ef bf, rk_ef lc, ls, rn, op, ln, en, iu, il, lo, hi, fr, pl, ah, ak, aq, av) (nI k) (nI R) := by
  refine rx_changeAt hL hP hC hR hk ?_
  refine rk_b1 (rk_la rv ky k R C) rfl (by have := rk_la_le rv ky k R C; omega) (fun e => ?_) (fun c e ec => ?_)
  · rw [e] at h; exact h
  · have hs := rk_la_s e
    rw [e] at h
    have h' : post (pt c) := h
    refine And.intro (rk_vx ec (by omega) (by decide)) ?_
    rcases rk_Lg_p01 hL c hs.1 with z | z
    · rw [z] at h'; exact br_t (rk_rx ec (by omega) z) h'
    · rw [z] at h'; exact br_f (fun y => absurd ((rk_rx ec (by omega) z).symm.trans y) (by decide)) h'
/-- a revision that is asked for: both refuse it with one code, or both mean R -/
theorem rj_rev (r : Int32) (hF : F ≤ P) (hP : P ≤ 6000) :
    (∃ c : Int32, ¬ (0 : Int32) ≤ c ∧ (∀ post : Int32 → Prop, post c → wpX_refused post (nI C, nI O, nI P, nI F, nI T, rk_nf rv, rk_nf ky, vl, pt, md, vs, rk_ef bf, rk_ef lc, ls, rn, op, ln, en, iu, il, lo, hi, fr, pl, ah, ak, aq, av) r) ∧ (∀ post : Int32 → Prop, post c → wpY_placeOf post (nI F, nI P, nI D, nI T2, ex, va, ma, se, ve, ls, ys, yk, yp, yg, ln, en, op, st, lo, hi, fr, lr, lk, lq, lv) r)) ∨
    (∃ R, F ≤ R ∧ R ≤ P ∧ (∀ post : Int32 → Prop, post 0 → wpX_refused post (nI C, nI O, nI P, nI F, nI T, rk_nf rv, rk_nf ky, vl, pt, md, vs, rk_ef bf, rk_ef lc, ls, rn, op, ln, en, iu, il, lo, hi, fr, pl, ah, ak, aq, av) r) ∧ (∀ post : Int32 → Prop, post (nI R) → wpX_meant post (nI C, nI O, nI P, nI F, nI T, rk_nf rv, rk_nf ky, vl, pt, md, vs, rk_ef bf, rk_ef lc, ls, rn, op, ln, en, iu, il, lo, hi, fr, pl, ah, ak, aq, av) r) ∧ (∀ post : Int32 → Prop, post (nI (16 * (R - F))) → wpY_placeOf post (nI F, nI P, nI D, nI T2, ex, va, ma, se, ve, ls, ys, yk, yp, yg, ln, en, op, st, lo, hi, fr, lr, lk, lq, lv) r)) := by
  by_cases h1 : r = -1
  · refine Or.inr ⟨P, hF, Nat.le_refl _, fun post h => ?_, fun post h => br_t h1 h, fun post h => br_t h1 (ry_present hF h)⟩
    have : r ≤ nI P := by
      rw [h1, Int32.le_iff_toInt_le, rk_m1T, nI_toInt (by omega)]; omega
    exact br_t h1 (br_t this h)
  · by_cases h2 : nI F ≤ r
    · by_cases h3 : r ≤ nI P
      · obtain ⟨R, hR, rfl⟩ := nI_of (x := r) (fun z => by
          rw [Int32.le_iff_toInt_le, nI_toInt (by omega)] at h2
          rw [Int32.lt_iff_toInt_lt, show (0 : Int32).toInt = 0 from by decide] at z
          omega)
        have h2' := h2
        have h3' := h3
        rw [nI_leI (by omega) hR] at h2'
        rw [nI_leI hR (by omega)] at h3'
        refine Or.inr ⟨R, h2', h3', fun post h => br_f h1 (br_t h2 (br_t h3 h)), fun post h => br_f h1 h, fun post h => ?_⟩
        refine br_f h1 (br_f (Int32.not_lt.mpr h2) (br_t h3 ?_))
        rw [pk_sub h2', show (16 : Int32) = nI 16 from rfl, pk_mul]
        exact h
      · refine Or.inl ⟨-1000000005, by decide, fun post h => br_f h1 (br_t h2 (br_f h3 h)), fun post h => ?_⟩
        exact br_f h1 (br_f (Int32.not_lt.mpr h2) (br_f h3 (br_t h2 h)))
    · refine Or.inl ⟨-1000000004, by decide, fun post h => br_f h1 (br_f h2 h), fun post h => ?_⟩
      exact br_f h1 (br_t (Int32.not_le.mp h2) (br_f h2 h))
theorem rx_ct40 {post : Int32 → Prop} {a b R : Nat} {r : Int32} {p : Nat → Bool} (hL : rk_Lg P P0 F O C D K rv ky pt bf lc) (hP : P ≤ 6000) (hC : C ≤ 132) (hR : R ≤ 6000) (hb : b < 16)
    (hm : ∀ post : Int32 → Prop, post (nI R) → wpX_meant post (nI C, nI O, nI P, nI F, nI T, rk_nf rv, rk_nf ky, vl, pt, md, vs, rk_ef bf, rk_ef lc, ls, rn, op, ln, en, iu, il, lo, hi, fr, pl, ah, ak, aq, av) r) (hp : ∀ k, a ≤ k → k ≤ b → (p k = true ↔ ¬ rk_pb pt (rk_la rv ky k R C) = 0)) (h : post (nI (rk_ct p (b + 1)))) :
    ∀ n k, a ≤ k → k ≤ b + 1 → b + 1 - k < n → wX_count_40 post (nI b) r (nI C) (nI O) (nI P) (nI F) (nI T) (rk_nf rv) (rk_nf ky) vl pt md vs (rk_ef bf) (rk_ef lc) ls rn op ln en iu il lo hi fr pl ah ak aq av n (nI (rk_ct p k)) (nI k) := by
  intro n
  induction n with
  | zero => intro k _ _ hn; omega
  | succ n ih =>
    intro k h1 h2 hn
    by_cases e : k = b + 1
    · subst e; exact br_t (nI_lt (by omega) (by omega)) h
    · refine br_f (nI_nlt (by omega) (by omega)) (hm _ (rx_existed hL hP hC hR (by omega) ?_))
      have hpk := hp k h1 (by omega)
      by_cases z : rk_pb pt (rk_la rv ky k R C) = 0
      · refine br_t z (nm_r (nI_1 k) ?_)
        have := ih (k + 1) (by omega) (by omega) (by omega)
        rw [rk_ct_f (fun y => hpk.mp y z)] at this
        exact this
      · refine br_f z (nm_r (nI_1 _) (nm_r (nI_1 k) ?_))
        have := ih (k + 1) (by omega) (by omega) (by omega)
        rw [rk_ct_t (hpk.mpr z)] at this
        exact this
theorem ry_ka6 {post : Int32 → Prop} {t a b : Nat} {p : Nat → Bool} (ht : t + 16 ≤ 1920) (hb : b < 16) (hp : ∀ k, a ≤ k → k ≤ b → (p k = true ↔ ¬ ex (t + k) = 0)) (h : post (nI (rk_mk p (b + 1)))) :
    ∀ n k, a ≤ k → k ≤ b + 1 → b + 1 - k < n → wY_keysAt_6 post (nI t) (nI b) (nI F) (nI P) (nI D) (nI T2) ex va ma se ve ls ys yk yp yg ln en op st lo hi fr lr lk lq lv n (nI (rk_mk p k)) (nI k) := by
  intro n
  induction n with
  | zero => intro k _ _ hn; omega
  | succ n ih =>
    intro k h1 h2 hn
    by_cases e : k = b + 1
    · subst e; exact br_t (nI_lt (by omega) (by omega)) h
    · have ea := nI_add t k
      refine br_f (nI_nlt (by omega) (by omega)) (And.intro (rk_vx ea (by omega) (by decide)) ?_)
      have hpk := hp k h1 (by omega)
      have er : ex (nI t + nI k).toNatClampNeg = ex (t + k) := rk_rx ea (by omega) rfl
      by_cases z : ex (t + k) = 0
      · refine br_t (er.trans z) (nm_r (nI_1 k) ?_)
        have := ih (k + 1) (by omega) (by omega) (by omega)
        rw [rk_mk_f (fun y => hpk.mp y z)] at this
        exact this
      · refine br_f (by rw [er]; exact z) (nm_r (rk_set (by omega) (hpk.mpr z)) (nm_r (nI_1 k) ?_))
        exact ih (k + 1) (by omega) (by omega) (by omega)
theorem ry_keysAt {post : Int32 → Prop} {t a b : Nat} {p : Nat → Bool} (ht : t + 16 ≤ 1920) (ha : a < 16) (hb : b < 16) (hp : ∀ k, k < 16 → (p k = true ↔ (a ≤ k ∧ k ≤ b ∧ ¬ ex (t + k) = 0))) (h : post (nI (rk_mk p 16))) :
    wpY_keysAt post (nI F, nI P, nI D, nI T2, ex, va, ma, se, ve, ls, ys, yk, yp, yg, ln, en, op, st, lo, hi, fr, lr, lk, lq, lv) (nI t) (nI a) (nI b) := by
  have h0 : rk_mk p a = 0 := rk_mk_z (rk_ct_z fun i hi z => by have := (hp i (by omega)).mp z; omega)
  by_cases hab : a ≤ b
  · have e : rk_mk p 16 = rk_mk p (b + 1) := rk_mk_sk (b + 1) (by omega) fun i h1 h2 z => by have := (hp i h2).mp z; omega
    refine ⟨18, ?_⟩
    have := ry_ka6 (F := F) (P := P) (D := D) (T2 := T2) (ex := ex) (va := va) (ma := ma) (se := se) (ve := ve) (ls := ls) (ys := ys) (yk := yk) (yp := yp) (yg := yg) (ln := ln) (en := en) (op := op) (st := st) (lo := lo) (hi := hi) (fr := fr) (lr := lr) (lk := lk) (lq := lq) (lv := lv) (post := post) (p := p) (a := a) ht hb (fun k h1 h2 => ⟨fun z => ((hp k (by omega)).mp z).2.2, fun z => (hp k (by omega)).mpr ⟨h1, h2, z⟩⟩) (e ▸ h) 18 a (Nat.le_refl _) (by omega) (by omega)
    rw [h0] at this
    exact this
  · have e : rk_mk p 16 = 0 := rk_mk_z (rk_ct_z fun i hi z => by have := (hp i hi).mp z; omega)
    rw [e] at h
    exact ⟨1, br_t (nI_lt (by omega) (by omega)) h⟩
theorem ry_bits4 {post : Int32 → Prop} {p : Nat → Bool} (h : post (nI (rk_ct p 16))) : ∀ n i, i ≤ 16 → 16 - i < n → wY_bits_4 post (nI (rk_mk p 16)) (nI F) (nI P) (nI D) (nI T2) ex va ma se ve ls ys yk yp yg ln en op st lo hi fr lr lk lq lv n (nI (rk_ct p i)) (nI i) := by
  intro n
  induction n with
  | zero => intro i _ hn; omega
  | succ n ih =>
    intro i hi hn
    by_cases e : i = 16
    · subst e; exact br_t (nI_le (a := 16) (b := 16) (by omega) (by decide)) h
    · refine br_f (nI_ge (a := i) (b := 16) (by omega) (by decide)) (nm_r (e' := nI (rk_ct p (i + 1))) ?_ (nm_r (nI_1 i) (ih (i + 1) (by omega) (by omega))))
      rw [rk_bit (Nat.le_refl 16) (by omega), nI_add]
      rfl
theorem ry_bits {post : Int32 → Prop} {p : Nat → Bool} (h : post (nI (rk_ct p 16))) : wpY_bits post (nI F, nI P, nI D, nI T2, ex, va, ma, se, ve, ls, ys, yk, yp, yg, ln, en, op, st, lo, hi, fr, lr, lk, lq, lv) (nI (rk_mk p 16)) :=
  ⟨17, ry_bits4 h 17 0 (by omega) (by omega)⟩
theorem rk_sub0 {i x : Int32} : i - x = 0 ↔ x = i := by
  constructor
  · intro h; have : i = x := by grind
    exact this.symm
  · intro h; subst h; grind
theorem rk_subS {i : Int32} {c : Nat} : i - nI c + (-1) = i - nI (c + 1) := by
  rw [← nI_1]; grind
theorem rj_ka {b R t : Nat} {i r : Int32} (hL : rk_Lg P P0 F O C D K rv ky pt bf lc) (hS : rk_St P F C rv ky vl pt ex va) (hP : P ≤ 6000) (hC : C ≤ 132) (hFR : F ≤ R) (hRP : R ≤ P) (hb : b < 16) (ht : t = 16 * (R - F)) (ht2 : t + 16 ≤ 1920)
    (hm : ∀ post : Int32 → Prop, post (nI R) → wpX_meant post (nI C, nI O, nI P, nI F, nI T, rk_nf rv, rk_nf ky, vl, pt, md, vs, rk_ef bf, rk_ef lc, ls, rn, op, ln, en, iu, il, lo, hi, fr, pl, ah, ak, aq, av) r) :
    ∀ d k cn, k < 17 → b + 1 ≤ k + d → ∃ q : Int32, (∀ post : Int32 → Prop, ∀ n, d < n → post q → wX_keyAt_41 post (nI b) i r (nI C) (nI O) (nI P) (nI F) (nI T) (rk_nf rv) (rk_nf ky) vl pt md vs (rk_ef bf) (rk_ef lc) ls rn op ln en iu il lo hi fr pl ah ak aq av n (nI cn) (nI k)) ∧ (∀ post : Int32 → Prop, ∀ n, d < n → post q → wY_keyAt_41 post (nI b) (nI t) (nI F) (nI P) (nI D) (nI T2) ex va ma se ve ls ys yk yp yg ln en op st lo hi fr lr lk lq lv n (i - nI cn) (nI k)) := by
  have out : ∀ d k cn, k < 17 → b < k → ∃ q : Int32, (∀ post : Int32 → Prop, ∀ n, d < n → post q → wX_keyAt_41 post (nI b) i r (nI C) (nI O) (nI P) (nI F) (nI T) (rk_nf rv) (rk_nf ky) vl pt md vs (rk_ef bf) (rk_ef lc) ls rn op ln en iu il lo hi fr pl ah ak aq av n (nI cn) (nI k)) ∧ (∀ post : Int32 → Prop, ∀ n, d < n → post q → wY_keyAt_41 post (nI b) (nI t) (nI F) (nI P) (nI D) (nI T2) ex va ma se ve ls ys yk yp yg ln en op st lo hi fr lr lk lq lv n (i - nI cn) (nI k)) := fun d k cn hk hbk => by
    refine ⟨-1000000003, fun post n hn hp => ?_, fun post n hn hp => ?_⟩
    · cases n with
      | zero => omega
      | succ n => exact br_t (nI_lt hbk (by omega)) hp
    · cases n with
      | zero => omega
      | succ n => exact br_t (nI_lt hbk (by omega)) hp
  intro d
  induction d with
  | zero => intro k cn hk hd; exact out 0 k cn hk (by omega)
  | succ d ih =>
    intro k cn hk hd
    by_cases hbk : b < k
    · exact out (d + 1) k cn hk hbk
    have hx := rk_St_ex hS R k hFR hRP (by omega)
    have ea := nI_add t k
    have er : ex (nI t + nI k).toNatClampNeg = rk_pb pt (rk_la rv ky k R C) := rk_rx ea (by omega) (by rw [ht]; exact hx)
    have hv := rk_vx (N := 1920) ea (by omega) (by decide)
    have nb : ¬ nI b < nI k := nI_nlt (by omega) (by omega)
    by_cases z : rk_pb pt (rk_la rv ky k R C) = 0
    · obtain ⟨q, hX, hY⟩ := ih (k + 1) cn (by omega) (by omega)
      refine ⟨q, fun post n hn hp => ?_, fun post n hn hp => ?_⟩
      · cases n with
        | zero => omega
        | succ n => exact br_f nb (hm _ (rx_existed hL hP hC (by omega) (by omega) (br_t z (nm_r (nI_1 k) (hX post n (by omega) hp)))))
      · cases n with
        | zero => omega
        | succ n => exact br_f nb (And.intro hv (br_t (er.trans z) (nm_r (nI_1 k) (hY post n (by omega) hp))))
    · have z' : ¬ ex (nI t + nI k).toNatClampNeg = 0 := by rw [er]; exact z
      by_cases y : nI cn = i
      · refine ⟨nI k, fun post n hn hp => ?_, fun post n hn hp => ?_⟩
        · cases n with
          | zero => omega
          | succ n => exact br_f nb (hm _ (rx_existed hL hP hC (by omega) (by omega) (br_f z (br_t y hp))))
        · cases n with
          | zero => omega
          | succ n => exact br_f nb (And.intro hv (br_f z' (br_t (rk_sub0.mpr y) hp)))
      · obtain ⟨q, hX, hY⟩ := ih (k + 1) (cn + 1) (by omega) (by omega)
        refine ⟨q, fun post n hn hp => ?_, fun post n hn hp => ?_⟩
        · cases n with
          | zero => omega
          | succ n => exact br_f nb (hm _ (rx_existed hL hP hC (by omega) (by omega) (br_f z (br_f y (nm_r (nI_1 cn) (nm_r (nI_1 k) (hX post n (by omega) hp)))))))
        · cases n with
          | zero => omega
          | succ n => exact br_f nb (And.intro hv (br_f z' (br_f (fun w => y (rk_sub0.mp w)) (nm_r rk_subS (nm_r (nI_1 k) (hY post n (by omega) hp))))))
end
theorem i_vc_value {k : Nat} {u : SX} {v : SY} (I : i_Rel k u v) (hk : k + 5 ≤ 2560) (v1 : Int32) (v2 : Int32) : wpX_value (fun r => wpY_value (fun r' => r' = r ∧ i_Rel (k + 5) u v) v v1 v2) u v1 v2 := by
  refine rk_op (G := fun u v => wpX_value (fun r => wpY_value (fun r' => r' = r ∧ i_Rel (k + 5) u v) v v1 v2) u v1 v2) hk ?_ I
  intro P F O C D T ls op ln en np rv ky bf lc vl pt md vs rn iu il lo hi fr pl ah ak aq av ex va ma se ve ys yk yp yg st lr lk lq lv co hls hbd hPk hTk hP hT hC I0
  unfold wpX_value wpY_value
  rcases rk_ix v1 16 (by decide) with hb | ⟨kk, hkk, rfl⟩
  · exact rx_bK1 hb (br_f (by decide) (ry_bK1 hb (br_t rfl ⟨rfl, i_up I0⟩)))
  have hL := rk_Co_Lg co
  have hS := rk_Co_St co
  have hPF := rk_PFD hL
  refine rx_bK0 hkk (br_t rfl ?_)
  rcases rj_rev v2 (rk_Lg_FP hL) (by omega) with ⟨c, hc, hX, hY⟩ | ⟨R, hFR, hRP, hX, hM, hY⟩
  · exact hX _ (br_f hc (ry_bK0 hkk (br_f (by decide) (hY _ (br_f hc ⟨rfl, i_up I0⟩)))))
  · refine hX _ (br_t (by decide) (hM _ (rx_changeAt hL (by omega) hC (by omega) hkk ?_)))
    have ea := nI_add (16 * (R - F)) kk
    have hv := rk_vx (N := 1920) ea (by omega) (by decide)
    have hx := rk_St_ex hS R kk hFR hRP hkk
    have h0 : (0 : Int32) ≤ nI (16 * (R - F)) := nI_pos' (by omega)
    refine rk_b1 (rk_la rv ky kk R C) rfl (by have := rk_la_le rv ky kk R C; omega) (fun e => ?_) (fun c e ec => ?_)
    · rw [e] at hx
      exact ry_bK0 hkk (br_f (by decide) (hY _ (br_t h0 (And.intro hv (br_t (rk_rx ea (by omega) hx) ⟨rfl, i_up I0⟩)))))
    · have hs := rk_la_s e
      rw [e] at hx
      have hvx := rk_vx (N := 140) ec (by omega) (by decide)
      refine And.intro hvx ?_
      rcases rk_Lg_p01 hL c hs.1 with z | z
      · refine br_t (rk_rx ec (by omega) z) (ry_bK0 hkk (br_f (by decide) (hY _ (br_t h0 (And.intro hv (br_t (rk_rx ea (by omega) (hx.trans z)) ⟨rfl, i_up I0⟩))))))
      · have z0 : ¬ pt c = 0 := by rw [z]; decide
        have a1 : pt (rk_en (rk_la rv ky kk R C)).toNatClampNeg = pt c := rk_rx ec (by omega) rfl
        have a2 : ex (nI (16 * (R - F)) + nI kk).toNatClampNeg = pt c := rk_rx ea (by omega) hx
        refine br_f (by rw [a1]; exact z0) (And.intro hvx (ry_bK0 hkk (br_f (by decide) (hY _ (br_t h0 (And.intro hv (br_f (by rw [a2]; exact z0) (And.intro hv ⟨?_, i_up I0⟩))))))))
        have b1 : vl (rk_en (rk_la rv ky kk R C)).toNatClampNeg = vl c := rk_rx ec (by omega) rfl
        rw [b1]
        exact rk_rx ea (by omega) (rk_St_va hS R kk c hFR hRP hkk e z0)
theorem i_vc_count {k : Nat} {u : SX} {v : SY} (I : i_Rel k u v) (hk : k + 5 ≤ 2560) (v1 : Int32) (v2 : Int32) (v3 : Int32) : wpX_count (fun r => wpY_count (fun r' => r' = r ∧ i_Rel (k + 5) u v) v v1 v2 v3) u v1 v2 v3 := by
  refine rk_op (G := fun u v => wpX_count (fun r => wpY_count (fun r' => r' = r ∧ i_Rel (k + 5) u v) v v1 v2 v3) u v1 v2 v3) hk ?_ I
  intro P F O C D T ls op ln en np rv ky bf lc vl pt md vs rn iu il lo hi fr pl ah ak aq av ex va ma se ve ys yk yp yg st lr lk lq lv co hls hbd hPk hTk hP hT hC I0
  unfold wpX_count wpY_count
  rcases rk_ix v1 16 (by decide) with hb | ⟨a, ha, rfl⟩
  · exact rx_bK1 hb (br_f (by decide) (ry_bK1 hb (br_t rfl ⟨rfl, i_up I0⟩)))
  rcases rk_ix v2 16 (by decide) with hb | ⟨b, hb, rfl⟩
  · exact rx_bK0 ha (br_t rfl (rx_bK1 hb (br_f (by decide) (ry_bK0 ha (br_f (by decide) (ry_bK1 hb (br_t rfl ⟨rfl, i_up I0⟩)))))))
  have hL := rk_Co_Lg co
  have hS := rk_Co_St co
  have hPF := rk_PFD hL
  refine rx_bK0 ha (br_t rfl (rx_bK0 hb (br_t rfl ?_)))
  rcases rj_rev v3 (rk_Lg_FP hL) (by omega) with ⟨c, hc, hX, hY⟩ | ⟨R, hFR, hRP, hX, hM, hY⟩
  · exact hX _ (br_f hc (ry_bK0 ha (br_f (by decide) (ry_bK0 hb (br_f (by decide) (hY _ (br_f hc ⟨rfl, i_up I0⟩)))))))
  · have h0 : (0 : Int32) ≤ nI (16 * (R - F)) := nI_pos' (by omega)
    have hp : ∀ j, j < 16 → ((fun j => decide (a ≤ j ∧ j ≤ b ∧ ¬ ex (16 * (R - F) + j) = 0)) j = true ↔ (a ≤ j ∧ j ≤ b ∧ ¬ ex (16 * (R - F) + j) = 0)) := fun j _ => decide_eq_true_iff
    have fin : ∀ c, c = rk_ct (fun j => decide (a ≤ j ∧ j ≤ b ∧ ¬ ex (16 * (R - F) + j) = 0)) 16 → wpY_count (fun r' => r' = nI c ∧ i_Rel (k + 5) (nI C, nI O, nI P, nI F, nI T, rk_nf rv, rk_nf ky, vl, pt, md, vs, rk_ef bf, rk_ef lc, ls, rn, op, ln, en, iu, il, lo, hi, fr, pl, ah, ak, aq, av) (nI F, nI P, nI D, nI T, ex, va, ma, se, ve, ls, ys, yk, yp, yg, ln, en, op, st, lo, hi, fr, lr, lk, lq, lv)) (nI F, nI P, nI D, nI T, ex, va, ma, se, ve, ls, ys, yk, yp, yg, ln, en, op, st, lo, hi, fr, lr, lk, lq, lv) (nI a) (nI b) v3 := fun c hc => by
      subst hc
      unfold wpY_count
      exact ry_bK0 ha (br_f (by decide) (ry_bK0 hb (br_f (by decide) (hY _ (br_t h0 (ry_keysAt (by omega) ha hb hp (ry_bits ⟨rfl, i_up I0⟩)))))))
    refine hX _ (br_t (by decide) ?_)
    generalize hq : (fun j => decide (a ≤ j ∧ j ≤ b ∧ ¬ ex (16 * (R - F) + j) = 0)) = p at hp fin
    by_cases hab : a ≤ b
    · refine ⟨18, ?_⟩
      have e0 : rk_ct p a = 0 := rk_ct_z fun i hi z => by have := (hp i (by omega)).mp z; omega
      have e : rk_ct p 16 = rk_ct p (b + 1) := rk_ct_sk (b + 1) (by omega) fun i h1 h2 z => by have := (hp i h2).mp z; omega
      have := rx_ct40 (post := fun r => wpY_count (fun r' => r' = r ∧ i_Rel (k + 5) (nI C, nI O, nI P, nI F, nI T, rk_nf rv, rk_nf ky, vl, pt, md, vs, rk_ef bf, rk_ef lc, ls, rn, op, ln, en, iu, il, lo, hi, fr, pl, ah, ak, aq, av) (nI F, nI P, nI D, nI T, ex, va, ma, se, ve, ls, ys, yk, yp, yg, ln, en, op, st, lo, hi, fr, lr, lk, lq, lv)) (nI F, nI P, nI D, nI T, ex, va, ma, se, ve, ls, ys, yk, yp, yg, ln, en, op, st, lo, hi, fr, lr, lk, lq, lv) (nI a) (nI b) v3) (p := p) (a := a) (b := b) (R := R) (r := v3) hL (by omega) hC (by omega) hb hM (fun j h1 h2 => by
        rw [hp j (by omega), rk_St_ex hS R j hFR hRP (by omega)]
        exact ⟨fun z => z.2.2, fun z => ⟨h1, h2, z⟩⟩) (fin _ e.symm) 18 a (Nat.le_refl _) (by omega) (by omega)
      rw [e0] at this
      exact this
    · have e : rk_ct p 16 = 0 := rk_ct_z fun i hi z => by have := (hp i hi).mp z; omega
      exact ⟨1, br_t (nI_lt (by omega) (by omega)) (fin 0 e.symm)⟩
theorem i_vc_keyAt {k : Nat} {u : SX} {v : SY} (I : i_Rel k u v) (hk : k + 5 ≤ 2560) (v1 : Int32) (v2 : Int32) (v3 : Int32) (v4 : Int32) : wpX_keyAt (fun r => wpY_keyAt (fun r' => r' = r ∧ i_Rel (k + 5) u v) v v1 v2 v3 v4) u v1 v2 v3 v4 := by
  refine rk_op (G := fun u v => wpX_keyAt (fun r => wpY_keyAt (fun r' => r' = r ∧ i_Rel (k + 5) u v) v v1 v2 v3 v4) u v1 v2 v3 v4) hk ?_ I
  intro P F O C D T ls op ln en np rv ky bf lc vl pt md vs rn iu il lo hi fr pl ah ak aq av ex va ma se ve ys yk yp yg st lr lk lq lv co hls hbd hPk hTk hP hT hC I0
  unfold wpX_keyAt wpY_keyAt
  rcases rk_ix v1 16 (by decide) with hb | ⟨a, ha, rfl⟩
  · exact rx_bK1 hb (br_f (by decide) (ry_bK1 hb (br_t rfl ⟨rfl, i_up I0⟩)))
  rcases rk_ix v2 16 (by decide) with hb | ⟨b, hb, rfl⟩
  · exact rx_bK0 ha (br_t rfl (rx_bK1 hb (br_f (by decide) (ry_bK0 ha (br_f (by decide) (ry_bK1 hb (br_t rfl ⟨rfl, i_up I0⟩)))))))
  have hL := rk_Co_Lg co
  have hS := rk_Co_St co
  have hPF := rk_PFD hL
  refine rx_bK0 ha (br_t rfl (rx_bK0 hb (br_t rfl ?_)))
  rcases rj_rev v4 (rk_Lg_FP hL) (by omega) with ⟨c, hc, hX, hY⟩ | ⟨R, hFR, hRP, hX, hM, hY⟩
  · exact hX _ (br_f hc (ry_bK0 ha (br_f (by decide) (ry_bK0 hb (br_f (by decide) (hY _ (br_f hc ⟨rfl, i_up I0⟩)))))))
  · have h0 : (0 : Int32) ≤ nI (16 * (R - F)) := nI_pos' (by omega)
    obtain ⟨q, hx, hy⟩ := rj_ka (T2 := T) (ma := ma) (se := se) (ve := ve) (ys := ys) (yk := yk) (yp := yp) (yg := yg) (st := st) (lr := lr) (lk := lk) (lq := lq) (lv := lv) (i := v3) (t := 16 * (R - F)) hL hS (by omega) hC hFR hRP hb rfl (by omega) hM 17 a 0 (by omega) (by omega)
    refine hX _ (br_t (by decide) ⟨18, hx _ 18 (by omega) ?_⟩)
    refine ry_bK0 ha (br_f (by decide) (ry_bK0 hb (br_f (by decide) (hY _ (br_t h0 ⟨18, ?_⟩)))))
    have := hy (fun r' => r' = q ∧ i_Rel (k + 5) (nI C, nI O, nI P, nI F, nI T, rk_nf rv, rk_nf ky, vl, pt, md, vs, rk_ef bf, rk_ef lc, ls, rn, op, ln, en, iu, il, lo, hi, fr, pl, ah, ak, aq, av) (nI F, nI P, nI D, nI T, ex, va, ma, se, ve, ls, ys, yk, yp, yg, ln, en, op, st, lo, hi, fr, lr, lk, lq, lv)) 18 (by omega) ⟨rfl, i_up I0⟩
    rw [nI_0, show v3 - 0 = v3 from by grind] at this
    exact this
end
section
/-! erasing a set of keys, by one revision -/
def rx_E1 (post : Int32 → SX → Prop) (x1 x2 : Int32) (n : Nat) (x3 : Int32) (u : SX) : Prop := match u with
  | (q1, q2, q3, q4, q5, q6, q7, q8, q9, q10, q11, q12, q13, q14, q15, q16, q17, q18, q19, q20, q21, q22, q23, q24, q25, q26, q27, q28) => wX_endLease_29 post x1 x2 n x3 q1 q2 q3 q4 q5 q6 q7 q8 q9 q10 q11 q12 q13 q14 q15 q16 q17 q18 q19 q20 q21 q22 q23 q24 q25 q26 q27 q28
def rx_E2 (post : Int32 → SX → Prop) (x2 x3 : Int32) (n : Nat) (x4 : Int32) (u : SX) : Prop := match u with
  | (q1, q2, q3, q4, q5, q6, q7, q8, q9, q10, q11, q12, q13, q14, q15, q16, q17, q18, q19, q20, q21, q22, q23, q24, q25, q26, q27, q28) => wX_erase_87 post x2 x3 n x4 q1 q2 q3 q4 q5 q6 q7 q8 q9 q10 q11 q12 q13 q14 q15 q16 q17 q18 q19 q20 q21 q22 q23 q24 q25 q26 q27 q28
def ry_E (post : SY → Prop) (x1 : Int32) (n : Nat) (x2 : Int32) (v : SY) : Prop := match v with
  | (s1, s2, s3, s4, s5, s6, s7, s8, s9, s10, s11, s12, s13, s14, s15, s16, s17, s18, s19, s20, s21, s22, s23, s24, s25) => wY_eraseAll_11 post x1 n x2 s1 s2 s3 s4 s5 s6 s7 s8 s9 s10 s11 s12 s13 s14 s15 s16 s17 s18 s19 s20 s21 s22 s23 s24 s25
def rk_Ec (p : Nat → Bool) (d k P P0 Q F O D T T2 : Nat) (ls op ln en np : Nat → Int32) (u : SX) (v : SY) : Prop :=
  ∃ (P1 C1 D1 : Nat) (ls1 np1 : Nat → Int32) (u1 : SX) (v1 : SY), rk_Md P P1 Q F O C1 D1 16 T T2 ls1 op ln en np1 u1 v1 ∧
    (P0 = P ∨ rk_ct p k < rk_ct p 16 → P1 = P) ∧ D1 = D + (rk_ct p 16 - rk_ct p k) ∧
    (∀ j, j < 16 → ls1 j = if k ≤ j ∧ p j = true then -1 else ls j) ∧ (∀ j, j < 16 → np1 j = if k ≤ j ∧ p j = true then 0 else np j) ∧
    ((∀ j, k ≤ j → j < 16 → ¬ p j = true) → u1 = u) ∧
    (∀ (l : Int32) (n : Nat) (r : Int32) (post : Int32 → SX → Prop), (∀ j, k ≤ j → j < 16 → (p j = true ↔ ls j = l)) → d < n → post r u1 → rx_E1 post l r n (nI k) u) ∧
    (∀ (b n : Nat) (r : Int32) (post : Int32 → SX → Prop), b < 16 → k ≤ b + 1 → (∀ j, k ≤ j → j < 16 → (p j = true ↔ (j ≤ b ∧ ¬ np j = 0))) → d < n → post r u1 → rx_E2 post (nI b) r n (nI k) u) ∧
    (∀ (n : Nat) (post : SY → Prop), d < n → post v1 → ry_E post (nI (rk_mk p 16)) n (nI k) v)
section
variable {C O D P F T T2 : Nat} {rv ky bf lc : Nat → Nat} {vl pt md vs ls rn op ln en iu il lo hi fr pl ah ak aq av : Nat → Int32} {ex va ma se ve ys yk yp yg st lr lk lq lv : Nat → Int32}
variable {P0 Q K : Nat} {np : Nat → Int32}
theorem rk_Co_K (h : rk_Co P P0 Q F O C D K np rv ky bf lc vl pt md vs iu il lo hi fr pl ah ak aq av ex va ma se ve ys yk yp yg st lr lk lq lv) : rk_Co P P0 Q F O C D 16 np rv ky bf lc vl pt md vs iu il lo hi fr pl ah ak aq av ex va ma se ve ys yk yp yg st lr lk lq lv := by
  obtain ⟨⟨a1, a2, a3, a4, a5, a6, a7, a8, a9, a10, a11, a12⟩, h2, h3, h4, h5, h6⟩ := h
  refine ⟨⟨a1, a2, a3, a4, a5, a6, a7, a8, a9, a10, a11, fun c hc => ?_⟩, h2, h3, h4, h5, h6⟩
  rcases a12 c hc with z | ⟨z, _⟩
  · exact Or.inl z
  · exact Or.inr ⟨z, a1 c hc⟩
theorem rj_ers0 {p : Nat → Bool} (co : rk_Co P P0 Q F O C D K np rv ky bf lc vl pt md vs iu il lo hi fr pl ah ak aq av ex va ma se ve ys yk yp yg st lr lk lq lv) : rk_Ec p 0 16 P P0 Q F O D T T2 ls op ln en np (nI C, nI O, nI P, nI F, nI T, rk_nf rv, rk_nf ky, vl, pt, md, vs, rk_ef bf, rk_ef lc, ls, rn, op, ln, en, iu, il, lo, hi, fr, pl, ah, ak, aq, av) (nI F, nI P, nI D, nI T2, ex, va, ma, se, ve, ls, ys, yk, yp, yg, ln, en, op, st, lo, hi, fr, lr, lk, lq, lv) := by
  refine ⟨P0, C, D, ls, np, _, _, rk_Md_in rn (rk_Co_K co), fun z => ?_, by omega, fun j hj => ?_, fun j hj => ?_, fun _ => rfl, fun l n r post _ hn hp => ?_, fun b n r post hb hk _ hn hp => ?_, fun n post hn hp => ?_⟩
  · rcases z with z | z
    · exact z
    · omega
  · rw [if_neg (by omega)]
  · rw [if_neg (by omega)]
  · cases n with
    | zero => omega
    | succ n => exact br_t (nI_le (a := 16) (b := 16) (by omega) (by decide)) hp
  · cases n with
    | zero => omega
    | succ n => exact br_t (nI_lt (b := 16) (by omega) (by decide)) hp
  · cases n with
    | zero => omega
    | succ n => exact br_t (nI_le (a := 16) (b := 16) (by omega) (by decide)) hp
theorem rj_ersF {p : Nat → Bool} {d k : Nat} (co : rk_Co P P0 Q F O C D K np rv ky bf lc vl pt md vs iu il lo hi fr pl ah ak aq av ex va ma se ve ys yk yp yg st lr lk lq lv) (hC : C ≤ 132) (hk : k < 16) (hp : ¬ p k = true) (h : rk_Ec p d (k + 1) P P0 Q F O D T T2 ls op ln en np (nI C, nI O, nI P, nI F, nI T, rk_nf rv, rk_nf ky, vl, pt, md, vs, rk_ef bf, rk_ef lc, ls, rn, op, ln, en, iu, il, lo, hi, fr, pl, ah, ak, aq, av) (nI F, nI P, nI D, nI T2, ex, va, ma, se, ve, ls, ys, yk, yp, yg, ln, en, op, st, lo, hi, fr, lr, lk, lq, lv)) : rk_Ec p (d + 1) k P P0 Q F O D T T2 ls op ln en np (nI C, nI O, nI P, nI F, nI T, rk_nf rv, rk_nf ky, vl, pt, md, vs, rk_ef bf, rk_ef lc, ls, rn, op, ln, en, iu, il, lo, hi, fr, pl, ah, ak, aq, av) (nI F, nI P, nI D, nI T2, ex, va, ma, se, ve, ls, ys, yk, yp, yg, ln, en, op, st, lo, hi, fr, lr, lk, lq, lv) := by
  obtain ⟨P1, C1, D1, ls1, np1, u1, v1, h1, h2, h3, h4, h5, h6, h7, h8, h9⟩ := h
  have hL := rk_Co_Lg co
  have hk2 : vp_in (nI k) 16 := vp_in_nI hk (by decide)
  have hlc := rk_lcC hL hk
  have e : rk_ct p (k + 1) = rk_ct p k := rk_ct_f hp
  rw [e] at h2 h3
  have ei : ∀ j, (k ≤ j ∧ p j = true) ↔ (k + 1 ≤ j ∧ p j = true) := fun j => by
    constructor
    · intro z
      refine ⟨?_, z.2⟩
      have : j ≠ k := fun y => hp (y ▸ z.2)
      omega
    · intro z; exact ⟨by omega, z.2⟩
  have n16 : ¬ (16 : Int32) ≤ nI k := nI_ge (a := k) (b := 16) hk (by decide)
  refine ⟨P1, C1, D1, ls1, np1, u1, v1, h1, h2, h3, fun j hj => ?_, fun j hj => ?_, fun z => h6 fun j a b => z j (by omega) b, fun l n r post z hn hq => ?_, fun b n r post hb hkb z hn hq => ?_, fun n post hn hq => ?_⟩
  · rw [h4 j hj]; simp only [ei]
  · rw [h5 j hj]; simp only [ei]
  · cases n with
    | zero => omega
    | succ n =>
      have zk : ¬ ls k = l := fun y => hp ((z k (Nat.le_refl _) hk).mpr y)
      refine br_f n16 (And.intro hk2 (br_f (by rw [nI_clamp (by omega)]; exact zk) (nm_r (nI_1 k) ?_)))
      exact h7 l n r post (fun j a b => z j (by omega) b) (by omega) hq
  · cases n with
    | zero => omega
    | succ n =>
      by_cases eb : k = b + 1
      · have : u1 = _ := h6 fun j a c y => by have := (z j (by omega) c).mp y; omega
        rw [this] at hq
        exact br_t (nI_lt (by omega) (by omega)) hq
      · have zk : rk_pb pt (lc k) = 0 := by
          rw [← rk_Co_np co k hk]
          exact Classical.byContradiction fun y => hp ((z k (Nat.le_refl _) hk).mpr ⟨by omega, y⟩)
        refine br_f (nI_nlt (by omega) (by omega)) (rx_exists hk (by omega) (rk_lp01 hL hk) (br_t zk (nm_r (nI_1 k) ?_)))
        exact h8 b n r post hb (by omega) (fun j a c => z j (by omega) c) (by omega) hq
  · cases n with
    | zero => omega
    | succ n =>
      refine br_f n16 (br_f (fun y => ?_) (nm_r (nI_1 k) (h9 n post (by omega) hq)))
      rw [rk_bit (Nat.le_refl 16) hk, if_neg hp] at y
      exact absurd y (by decide)
theorem rj_ersT {p : Nat → Bool} {d k : Nat} (co : rk_Co P P0 Q F O C D K np rv ky bf lc vl pt md vs iu il lo hi fr pl ah ak aq av ex va ma se ve ys yk yp yg st lr lk lq lv) (hP : P ≤ 6000) (hF : F < P) (hPP : P ≤ P0 + 1) (hD : D < 116) (hC : C ≤ 132) (hk : k < 16) (hp : p k = true)
    (h : rk_Ec p d (k + 1) P P Q F O (D + 1) T T2 (upd ls k (-1)) op ln en (upd np k 0) (nI (C + 1), nI O, nI P, nI F, nI T, rk_nf (rk_uN rv C P), rk_nf (rk_uN ky C k), upd vl C 0, upd pt C 0, upd md C (rk_dm P md pt (lc k)), upd vs C (rk_dv vs pt (lc k)), rk_ef (rk_uN bf C (lc k)), rk_ef (rk_uN lc k (C + 1)), upd ls k (-1), rn, op, ln, en, iu, il, lo, hi, fr, pl, ah, ak, aq, av) (nI F, nI P, nI (D + 1), nI T2, upd ex (16 * (P - F) + k) 0, va, ma, se, ve, upd ls k (-1), upd ys D (nI P), upd yk D (nI k), upd yp D 0, upd yg D 0, ln, en, op, st, lo, hi, fr, lr, lk, lq, lv)) :
    rk_Ec p (d + 1) k P P0 Q F O D T T2 ls op ln en np (nI C, nI O, nI P, nI F, nI T, rk_nf rv, rk_nf ky, vl, pt, md, vs, rk_ef bf, rk_ef lc, ls, rn, op, ln, en, iu, il, lo, hi, fr, pl, ah, ak, aq, av) (nI F, nI P, nI D, nI T2, ex, va, ma, se, ve, ls, ys, yk, yp, yg, ln, en, op, st, lo, hi, fr, lr, lk, lq, lv) := by
  obtain ⟨P1, C1, D1, ls1, np1, u1, v1, h1, h2, h3, h4, h5, h6, h7, h8, h9⟩ := h
  have hL := rk_Co_Lg co
  have hk2 : vp_in (nI k) 16 := vp_in_nI hk (by decide)
  have hlc := rk_lcC hL hk
  have e : rk_ct p (k + 1) = rk_ct p k + 1 := rk_ct_t hp
  have hlt := rk_ct_lt (p := p) hk hp
  have n16 : ¬ (16 : Int32) ≤ nI k := nI_ge (a := k) (b := 16) hk (by decide)
  have hpa := rk_Lg_pa0 hL
  have hcod := rk_Lg_cod hL
  refine ⟨P1, C1, D1, ls1, np1, u1, v1, h1, fun _ => h2 (Or.inl rfl), by omega, fun j hj => ?_, fun j hj => ?_, fun z => absurd hp (z k (Nat.le_refl _) hk), fun l n r post z hn hq => ?_, fun b n r post hb hkb z hn hq => ?_, fun n post hn hq => ?_⟩
  · rw [h4 j hj]
    by_cases ej : j = k
    · subst ej; rw [if_neg (c := j + 1 ≤ j ∧ p j = true) (by omega), pk_us, if_pos ⟨Nat.le_refl _, hp⟩]
    · rw [pk_un ej]
      by_cases c : k ≤ j ∧ p j = true
      · rw [if_pos c, if_pos ⟨by omega, c.2⟩]
      · rw [if_neg c, if_neg (fun y => c ⟨by omega, y.2⟩)]
  · rw [h5 j hj]
    by_cases ej : j = k
    · subst ej; rw [if_neg (c := j + 1 ≤ j ∧ p j = true) (by omega), pk_us, if_pos ⟨Nat.le_refl _, hp⟩]
    · rw [pk_un ej]
      by_cases c : k ≤ j ∧ p j = true
      · rw [if_pos c, if_pos ⟨by omega, c.2⟩]
      · rw [if_neg c, if_neg (fun y => c ⟨by omega, y.2⟩)]
  · cases n with
    | zero => omega
    | succ n =>
      have zk : ls k = l := (z k (Nat.le_refl _) hk).mp hp
      refine br_f n16 (And.intro hk2 (br_t (rk_rd (by omega) zk) (rx_eraseNow hk (by omega) (by omega) (rk_lp01 hL hk) (nm_r (nI_1 k) ?_))))
      exact h7 l n r post (fun j a b => by rw [pk_un (by omega)]; exact z j (by omega) b) (by omega) hq
  · cases n with
    | zero => omega
    | succ n =>
      have zk := (z k (Nat.le_refl _) hk).mp hp
      have zn : ¬ rk_pb pt (lc k) = 0 := by rw [← rk_Co_np co k hk]; exact zk.2
      refine br_f (nI_nlt (by omega) (by omega)) (rx_exists hk (by omega) (rk_lp01 hL hk) (br_f zn (rx_eraseNow hk (by omega) (by omega) (rk_lp01 hL hk) (nm_r (nI_1 k) ?_))))
      exact h8 b n r post hb (by omega) (fun j a c => by rw [pk_un (by omega)]; exact z j (by omega) c) (by omega) hq
  · cases n with
    | zero => omega
    | succ n =>
      have ea := nI_add (16 * (P - F)) k
      refine br_f n16 (br_t ((rk_bit (Nat.le_refl 16) hk).trans (by rw [if_pos hp]; rfl)) (ry_present (by omega) (And.intro (rk_vx ea (by omega) (by decide)) (nm_r (e' := upd ex (16 * (P - F) + k) 0) (by rw [rk_nb0]; exact rk_wx ea (by omega) rfl) (And.intro hk2 (nm_r (rk_wr (by omega) rfl) (ry_noteE (by omega) (nm_r (nI_1 k) ?_)))))))) 
      exact h9 n post (by omega) hq
end
theorem rj_ers {p : Nat → Bool} {P Q F O T T2 : Nat} {op ln en : Nat → Int32} (hP : P ≤ 6000) (hF : F < P) (hQ : Q < P) :
    ∀ d k, k + d = 16 → ∀ (P0 C D K : Nat) (ls np : Nat → Int32) (u : SX) (v : SY), rk_Md P P0 Q F O C D K T T2 ls op ln en np u v → P ≤ P0 + 1 → K ≤ k → D + (rk_ct p 16 - rk_ct p k) ≤ 116 → rk_Ec p d k P P0 Q F O D T T2 ls op ln en np u v := by
  intro d
  induction d with
  | zero =>
    intro k hk P0 C D K ls np u v hM hPP hK hD
    have : k = 16 := by omega
    subst this
    exact rk_Md_el (G := fun u v => rk_Ec p 0 16 P P0 Q F O D T T2 ls op ln en np u v) (fun rv ky bf lc vl pt md vs rn iu il lo hi fr pl ah ak aq av ex va ma se ve ys yk yp yg st lr lk lq lv co => rj_ers0 co) hM
  | succ d ih =>
    intro k hk P0 C D K ls np u v hM hPP hK hD
    refine rk_Md_el (G := fun u v => rk_Ec p (d + 1) k P P0 Q F O D T T2 ls op ln en np u v) (fun rv ky bf lc vl pt md vs rn iu il lo hi fr pl ah ak aq av ex va ma se ve ys yk yp yg st lr lk lq lv co => ?_) hM
    have hO := rk_Lg_O16 (rk_Co_Lg co)
    have hcod := rk_Lg_cod (rk_Co_Lg co)
    by_cases hp : p k = true
    · have hlt := rk_ct_lt (p := p) (n := 16) (by omega) hp
      have e : rk_ct p (k + 1) = rk_ct p k + 1 := rk_ct_t hp
      refine rj_ersT co hP hF hPP (by omega) (by omega) (by omega) hp ?_
      exact ih (k + 1) (by omega) P (C + 1) (D + 1) (k + 1) _ _ _ _ (rk_Md_in rn (rk_Co_erase co hPP hF hQ (by omega) (by omega) hK)) (by omega) (Nat.le_refl _) (by omega)
    · refine rj_ersF co (by omega) (by omega) hp ?_
      exact ih (k + 1) (by omega) P0 C D K ls np _ _ (rk_Md_in rn co) hPP (by omega) (by rw [rk_ct_f hp]; exact hD)
end
section
/-! erase; a lease that ends: revoke, keysOf -/
theorem rk_Md_end {P Q F O C D K T T2 : Nat} {ls op ln en np : Nat → Int32} {u : SX} {v : SY} (hM : rk_Md P P Q F O C D K T T2 ls op ln en np u v) (hQ : Q ≤ P) : rk_Md P P P F O C D 16 T T2 ls op ln en np u v :=
  rk_Md_el (G := fun u v => rk_Md P P P F O C D 16 T T2 ls op ln en np u v) (fun rv ky bf lc vl pt md vs rn iu il lo hi fr pl ah ak aq av ex va ma se ve ys yk yp yg st lr lk lq lv co => rk_Md_in rn (rk_Co_end co hQ)) hM
theorem rk_Ls_er {T k : Nat} {p : Nat → Bool} {ls op ln en np ls1 np1 : Nat → Int32} (h : rk_Ls T ls op ln en np) (h1 : ∀ j, j < 16 → ls1 j = if k ≤ j ∧ p j = true then -1 else ls j) (h2 : ∀ j, j < 16 → np1 j = if k ≤ j ∧ p j = true then 0 else np j) : rk_Ls T ls1 op ln en np1 := by
  refine ⟨fun j hj => ?_, rk_Ls_en h, rk_Ls_ln h⟩
  rw [h1 j hj, h2 j hj]
  by_cases c : k ≤ j ∧ p j = true
  · rw [if_pos c]; exact Or.inl rfl
  · rw [if_neg c, if_neg c]; exact rk_Ls_ok h j hj
theorem ry_skip {post : SY → Prop} {p : Nat → Bool} {a n : Nat} {v : SY} (ha : a ≤ 16) (h : ry_E post (nI (rk_mk p 16)) n (nI a) v) : ∀ d i, i + d = a → (∀ j, i ≤ j → j < a → ¬ p j = true) → ry_E post (nI (rk_mk p 16)) (n + d) (nI i) v := by
  intro d
  induction d with
  | zero => intro i hi _; have : i = a := by omega
            subst this; exact h
  | succ d ih =>
    intro i hi hp
    have := ih (i + 1) (by omega) fun j a b => hp j (by omega) b
    rcases v with ⟨s1, s2, s3, s4, s5, s6, s7, s8, s9, s10, s11, s12, s13, s14, s15, s16, s17, s18, s19, s20, s21, s22, s23, s24, s25⟩
    refine br_f (nI_ge (a := i) (b := 16) (by omega) (by decide)) (br_f (fun y => ?_) (nm_r (nI_1 i) this))
    rw [rk_bit (Nat.le_refl 16) (by omega), if_neg (hp i (Nat.le_refl _) (by omega))] at y
    exact absurd y (by decide)
theorem ry_bitsV4 {post : Int32 → Prop} {p : Nat → Bool} {s1 s2 s3 s4 : Int32} {s5 s6 s7 s8 s9 s10 s11 s12 s13 s14 s15 s16 s17 s18 s19 s20 s21 s22 s23 s24 s25 : Nat → Int32} (h : post (nI (rk_ct p 16))) : ∀ n i, i ≤ 16 → 16 - i < n → wY_bits_4 post (nI (rk_mk p 16)) s1 s2 s3 s4 s5 s6 s7 s8 s9 s10 s11 s12 s13 s14 s15 s16 s17 s18 s19 s20 s21 s22 s23 s24 s25 n (nI (rk_ct p i)) (nI i) := by
  intro n
  induction n with
  | zero => intro i _ hn; omega
  | succ n ih =>
    intro i hi hn
    by_cases e : i = 16
    · subst e; exact br_t (nI_le (a := 16) (b := 16) (by omega) (by decide)) h
    · refine br_f (nI_ge (a := i) (b := 16) (by omega) (by decide)) (nm_r (e' := nI (rk_ct p (i + 1))) ?_ (nm_r (nI_1 i) (ih (i + 1) (by omega) (by omega))))
      rw [rk_bit (Nat.le_refl 16) (by omega), nI_add]
      rfl
theorem ry_bitsV {post : Int32 → Prop} {p : Nat → Bool} {v : SY} (h : post (nI (rk_ct p 16))) : wpY_bits post v (nI (rk_mk p 16)) := by
  rcases v with ⟨s1, s2, s3, s4, s5, s6, s7, s8, s9, s10, s11, s12, s13, s14, s15, s16, s17, s18, s19, s20, s21, s22, s23, s24, s25⟩
  exact ⟨17, ry_bitsV4 h 17 0 (by omega) (by omega)⟩
section
variable {C O D P F T T2 : Nat} {rv ky bf lc : Nat → Nat} {vl pt md vs ls rn op ln en iu il lo hi fr pl ah ak aq av : Nat → Int32} {ex va ma se ve ys yk yp yg st lr lk lq lv : Nat → Int32}
variable {P0 Q K : Nat} {np : Nat → Int32}
theorem rx_er24 {post : Int32 → SX → Prop} {a b c : Nat} {p : Nat → Bool} (hL : rk_Lg P P0 F O C D K rv ky pt bf lc) (hC : C ≤ 132) (ha : a < 16) (hb : b < 16) (hc : c = rk_ct p (b + 1))
    (hp : ∀ k, a ≤ k → k ≤ b → (p k = true ↔ ¬ rk_pb pt (lc k) = 0))
    (h0 : c = 0 → post (-1000000003) (nI C, nI O, nI P, nI F, nI T, rk_nf rv, rk_nf ky, vl, pt, md, vs, rk_ef bf, rk_ef lc, ls, rn, op, ln, en, iu, il, lo, hi, fr, pl, ah, ak, aq, av)) (h1 : 0 < c → D + c ≤ 100 → ∃ n, rx_E2 post (nI b) (nI c) n (nI a) (nI C, nI O, nI (P + 1), nI F, nI T, rk_nf rv, rk_nf ky, vl, pt, md, vs, rk_ef bf, rk_ef lc, ls, rn, op, ln, en, iu, il, lo, hi, fr, pl, ah, ak, aq, av)) (h2 : 0 < c → 100 < D + c → post (-1000000002) (nI C, nI O, nI P, nI F, nI T, rk_nf rv, rk_nf ky, vl, pt, md, vs, rk_ef bf, rk_ef lc, ls, rn, op, ln, en, iu, il, lo, hi, fr, pl, ah, ak, aq, av)) :
    ∀ n k, a ≤ k → k ≤ b + 1 → b + 1 - k < n → wX_erase_24 post (nI a) (nI b) (nI C) (nI O) (nI P) (nI F) (nI T) (rk_nf rv) (rk_nf ky) vl pt md vs (rk_ef bf) (rk_ef lc) ls rn op ln en iu il lo hi fr pl ah ak aq av n (nI (rk_ct p k)) (nI k) := by
  intro n
  induction n with
  | zero => intro k _ _ hn; omega
  | succ n ih =>
    intro k hk1 hk2 hn
    have hcl := rk_ct_le p (b + 1)
    have hD : D ≤ 132 := by have := rk_Lg_cod hL; omega
    by_cases e : k = b + 1
    · subst e
      rw [← hc]
      refine br_t (nI_lt (by omega) (by omega)) ?_
      refine pk_eq c 0 (fun z => h0 z) (fun z => ?_) rfl rfl (by omega) (by omega)
      refine rx_rem (rk_Lg_cod hL) ?_
      refine pk_le (D + c) 100 (fun y => nm_r (nI_1 P) (h1 (by omega) y)) (fun y => h2 (by omega) y) (nI_add D c) rfl (by omega) (by omega)
    · have hpk := hp k hk1 (by omega)
      refine br_f (nI_nlt (by omega) (by omega)) (rx_exists (by omega) (by have := rk_lcC (k := k) hL (by omega); omega) (rk_lp01 hL (by omega)) ?_)
      by_cases z : rk_pb pt (lc k) = 0
      · refine br_t z (nm_r (nI_1 k) ?_)
        have := ih (k + 1) (by omega) (by omega) (by omega)
        rw [rk_ct_f (fun y => hpk.mp y z)] at this
        exact this
      · refine br_f z (nm_r (nI_1 _) (nm_r (nI_1 k) ?_))
        have := ih (k + 1) (by omega) (by omega) (by omega)
        rw [rk_ct_t (hpk.mpr z)] at this
        exact this
theorem ry_eraseAll {post : SY → Prop} {p : Nat → Bool} (hF : F ≤ P) (hix : 16 * (P + 1 - F) + 16 ≤ 1920) (h1 : ∀ k, k < 16 → ex (16 * (P - F) + k) = 0 ∨ ex (16 * (P - F) + k) = 1) (hc : 0 < rk_ct p 16)
    (h : ∃ n, ry_E post (nI (rk_mk p 16)) n (nI 0) (nI F, nI (P + 1), nI D, nI T2, rk_sh ex (16 * (P + 1 - F)) 16, rk_sh va (16 * (P + 1 - F)) 16, ma, se, ve, ls, ys, yk, yp, yg, ln, en, op, st, lo, hi, fr, lr, lk, lq, lv)) : wpY_eraseAll post (nI F, nI P, nI D, nI T2, ex, va, ma, se, ve, ls, ys, yk, yp, yg, ln, en, op, st, lo, hi, fr, lr, lk, lq, lv) (nI (rk_mk p 16)) := by
  have hm : rk_mk p 16 ≠ 0 := fun z => by have := rk_mk_0 z; omega
  have hl := rk_mk_lt p 16
  have e16 : (2 : Nat) ^ 16 = 65536 := by decide
  refine br_f (nI_ne0 (by omega) (by omega)) (ry_newRevision hF hix h1 ?_)
  exact h
theorem rx_ku4 {post : Int32 → Prop} {p : Nat → Bool} {l : Int32} (hp : ∀ k, k < 16 → (p k = true ↔ ls k = l)) (h : post (nI (rk_ct p 16))) : ∀ n k, k ≤ 16 → 16 - k < n → wX_keysUnder_4 post l (nI C) (nI O) (nI P) (nI F) (nI T) (rk_nf rv) (rk_nf ky) vl pt md vs (rk_ef bf) (rk_ef lc) ls rn op ln en iu il lo hi fr pl ah ak aq av n (nI (rk_ct p k)) (nI k) := by
  intro n
  induction n with
  | zero => intro i _ hn; omega
  | succ n ih =>
    intro k hk hn
    by_cases e : k = 16
    · subst e; exact br_t (nI_le (a := 16) (b := 16) (by omega) (by decide)) h
    · refine br_f (nI_ge (a := k) (b := 16) (by omega) (by decide)) (And.intro (vp_in_nI (by omega) (by decide)) ?_)
      have := ih (k + 1) (by omega) (by omega)
      by_cases z : ls k = l
      · rw [rk_ct_t ((hp k (by omega)).mpr z)] at this
        exact br_t (rk_rd (by omega) z) (nm_r (nI_1 _) (nm_r (nI_1 k) this))
      · rw [rk_ct_f (fun y => z ((hp k (by omega)).mp y))] at this
        exact br_f (by rw [nI_clamp (by omega)]; exact z) (nm_r (nI_1 k) this)
theorem rx_keysUnder {post : Int32 → Prop} {p : Nat → Bool} {l : Int32} (hp : ∀ k, k < 16 → (p k = true ↔ ls k = l)) (h : post (nI (rk_ct p 16))) : wpX_keysUnder post (nI C, nI O, nI P, nI F, nI T, rk_nf rv, rk_nf ky, vl, pt, md, vs, rk_ef bf, rk_ef lc, ls, rn, op, ln, en, iu, il, lo, hi, fr, pl, ah, ak, aq, av) l :=
  ⟨17, rx_ku4 hp h 17 0 (by omega) (by omega)⟩
theorem ry_un4 {post : Int32 → Prop} {p : Nat → Bool} {l : Int32} (hF : F ≤ P) (hix : 16 * (P - F) + 16 ≤ 1920) (h1 : ∀ k, k < 16 → ex (16 * (P - F) + k) = 0 ∨ ex (16 * (P - F) + k) = 1)
    (hp : ∀ k, k < 16 → (p k = true ↔ (¬ ex (16 * (P - F) + k) = 0 ∧ ls k = l))) (h : post (nI (rk_mk p 16))) : ∀ n k, k ≤ 16 → 16 - k < n → wY_under_4 post l (nI F) (nI P) (nI D) (nI T2) ex va ma se ve ls ys yk yp yg ln en op st lo hi fr lr lk lq lv n (nI (rk_mk p k)) (nI k) := by
  intro n
  induction n with
  | zero => intro i _ hn; omega
  | succ n ih =>
    intro k hk hn
    by_cases e : k = 16
    · subst e; exact br_t (nI_le (a := 16) (b := 16) (by omega) (by decide)) h
    · refine br_f (nI_ge (a := k) (b := 16) (by omega) (by decide)) (ry_existsNow hF (by omega) (h1 k (by omega)) ?_)
      have := ih (k + 1) (by omega) (by omega)
      by_cases y : ex (16 * (P - F) + k) = 0
      · rw [rk_mk_f (fun w => ((hp k (by omega)).mp w).1 y)] at this
        exact br_t y (nm_r (nI_1 k) this)
      · refine br_f y (And.intro (vp_in_nI (by omega) (by decide)) ?_)
        by_cases z : ls k = l
        · exact br_t (rk_rd (by omega) z) (nm_r (rk_set (by omega) ((hp k (by omega)).mpr ⟨y, z⟩)) (nm_r (nI_1 k) this))
        · rw [rk_mk_f (fun w => z ((hp k (by omega)).mp w).2)] at this
          exact br_f (by rw [nI_clamp (by omega)]; exact z) (nm_r (nI_1 k) this)
theorem ry_under {post : Int32 → Prop} {p : Nat → Bool} {l : Int32} (hF : F ≤ P) (hix : 16 * (P - F) + 16 ≤ 1920) (h1 : ∀ k, k < 16 → ex (16 * (P - F) + k) = 0 ∨ ex (16 * (P - F) + k) = 1)
    (hp : ∀ k, k < 16 → (p k = true ↔ (¬ ex (16 * (P - F) + k) = 0 ∧ ls k = l))) (h : post (nI (rk_mk p 16))) : wpY_under post (nI F, nI P, nI D, nI T2, ex, va, ma, se, ve, ls, ys, yk, yp, yg, ln, en, op, st, lo, hi, fr, lr, lk, lq, lv) l :=
  ⟨17, ry_un4 hF hix h1 hp h 17 0 (by omega) (by omega)⟩
end
theorem i_vc_erase {k : Nat} {u : SX} {v : SY} (I : i_Rel k u v) (hk : k + 5 ≤ 2560) (v1 : Int32) (v2 : Int32) : wpX_erase (fun r u' => wpY_erase (fun r' v' => r' = r ∧ i_Rel (k + 5) u' v') v v1 v2) u v1 v2 := by
  refine rk_op (G := fun u v => wpX_erase (fun r u' => wpY_erase (fun r' v' => r' = r ∧ i_Rel (k + 5) u' v') v v1 v2) u v1 v2) hk ?_ I
  intro P F O C D T ls op ln en np rv ky bf lc vl pt md vs rn iu il lo hi fr pl ah ak aq av ex va ma se ve ys yk yp yg st lr lk lq lv co hls hbd hPk hTk hP hT hC I0
  unfold wpX_erase wpY_erase
  rcases rk_ix v1 16 (by decide) with hb | ⟨a, ha, rfl⟩
  · exact rx_bK1 hb (br_f (by decide) (ry_bK1 hb (br_t rfl ⟨rfl, i_up I0⟩)))
  rcases rk_ix v2 16 (by decide) with hb | ⟨b, hb, rfl⟩
  · exact rx_bK0 ha (br_t rfl (rx_bK1 hb (br_f (by decide) (ry_bK0 ha (br_f (by decide) (ry_bK1 hb (br_t rfl ⟨rfl, i_up I0⟩)))))))
  have hL := rk_Co_Lg co
  have hS := rk_Co_St co
  have hFP := rk_Lg_FP hL
  have hPF := rk_PFD hL
  have hcod := rk_Lg_cod hL
  have h01 : ∀ k, k < 16 → ex (16 * (P - F) + k) = 0 ∨ ex (16 * (P - F) + k) = 1 := fun k hk => rk_ex01 hL hS hFP (Nat.le_refl P) hk
  refine rx_bK0 ha (br_t rfl (rx_bK0 hb (br_t rfl ?_)))
  have hp : ∀ j, j < 16 → ((fun j => decide (a ≤ j ∧ j ≤ b ∧ ¬ np j = 0)) j = true ↔ (a ≤ j ∧ j ≤ b ∧ ¬ np j = 0)) := fun j _ => decide_eq_true_iff
  generalize hq : (fun j => decide (a ≤ j ∧ j ≤ b ∧ ¬ np j = 0)) = p at hp
  have hpx : ∀ j, j < 16 → (p j = true ↔ (a ≤ j ∧ j ≤ b ∧ ¬ ex (16 * (P - F) + j) = 0)) := fun j hj => by
    rw [hp j hj, rk_exN hL hS hj, rk_Co_np co j hj]
  have hpn : ∀ j, a ≤ j → j ≤ b → (p j = true ↔ ¬ rk_pb pt (lc j) = 0) := fun j h1 h2 => by
    rw [hp j (by omega), rk_Co_np co j (by omega)]
    exact ⟨fun z => z.2.2, fun z => ⟨h1, h2, z⟩⟩
  have hc16 := rk_ct_le p 16
  have e0 : rk_ct p a = 0 := rk_ct_z fun i hi z => by have := (hp i (by omega)).mp z; omega
  -- Y's first part: both count c
  have yy : ∀ post : Int32 → SY → Prop, (rk_ct p 16 = 0 → post (-1000000003) (nI F, nI P, nI D, nI T, ex, va, ma, se, ve, ls, ys, yk, yp, yg, ln, en, op, st, lo, hi, fr, lr, lk, lq, lv)) → (0 < rk_ct p 16 → 100 < D + rk_ct p 16 → post (-1000000002) (nI F, nI P, nI D, nI T, ex, va, ma, se, ve, ls, ys, yk, yp, yg, ln, en, op, st, lo, hi, fr, lr, lk, lq, lv)) → (0 < rk_ct p 16 → D + rk_ct p 16 ≤ 100 → wpY_eraseAll (fun v' => post (nI (rk_ct p 16)) v') (nI F, nI P, nI D, nI T, ex, va, ma, se, ve, ls, ys, yk, yp, yg, ln, en, op, st, lo, hi, fr, lr, lk, lq, lv) (nI (rk_mk p 16))) → wpY_erase post (nI F, nI P, nI D, nI T, ex, va, ma, se, ve, ls, ys, yk, yp, yg, ln, en, op, st, lo, hi, fr, lr, lk, lq, lv) (nI a) (nI b) := fun post g0 g2 g1 => by
    unfold wpY_erase
    refine ry_bK0 ha (br_f (by decide) (ry_bK0 hb (br_f (by decide) (ry_present hFP (ry_keysAt (by omega) ha hb hpx (ry_bits ?_))))))
    refine pk_eq (rk_ct p 16) 0 (fun z => g0 z) (fun z => ?_) rfl rfl (by omega) (by omega)
    exact pk_le (D + rk_ct p 16) 100 (fun y => g1 (by omega) y) (fun y => g2 (by omega) y) (nI_add _ _) rfl (by omega) (by omega)
  by_cases hc0 : rk_ct p 16 = 0
  · have fin : wpY_erase (fun r' v' => r' = -1000000003 ∧ i_Rel (k + 5) (nI C, nI O, nI P, nI F, nI T, rk_nf rv, rk_nf ky, vl, pt, md, vs, rk_ef bf, rk_ef lc, ls, rn, op, ln, en, iu, il, lo, hi, fr, pl, ah, ak, aq, av) v') (nI F, nI P, nI D, nI T, ex, va, ma, se, ve, ls, ys, yk, yp, yg, ln, en, op, st, lo, hi, fr, lr, lk, lq, lv) (nI a) (nI b) := yy _ (fun _ => ⟨rfl, i_up I0⟩) (fun z => by omega) (fun z => by omega)
    by_cases hab : a ≤ b
    · have e : rk_ct p 16 = rk_ct p (b + 1) := rk_ct_sk (b + 1) (by omega) fun i h1 h2 z => by have := (hp i h2).mp z; omega
      refine ⟨18, ?_⟩
      have := rx_er24 (post := fun r u' => wpY_erase (fun r' v' => r' = r ∧ i_Rel (k + 5) u' v') (nI F, nI P, nI D, nI T, ex, va, ma, se, ve, ls, ys, yk, yp, yg, ln, en, op, st, lo, hi, fr, lr, lk, lq, lv) (nI a) (nI b)) (T := T) (vl := vl) (md := md) (vs := vs) (ls := ls) (rn := rn) (op := op) (ln := ln) (en := en) (iu := iu) (il := il) (lo := lo) (hi := hi) (fr := fr) (pl := pl) (ah := ah) (ak := ak) (aq := aq) (av := av) (c := rk_ct p (b + 1)) hL hC ha hb rfl hpn (fun _ => fin) (fun z => by omega) (fun z => by omega) 18 a (Nat.le_refl _) (by omega) (by omega)
      rw [e0] at this
      exact this
    · exact ⟨1, br_t (nI_lt (by omega) (by omega)) (br_t rfl fin)⟩
  · have hab : a ≤ b := Nat.le_of_not_lt fun z => hc0 (rk_ct_z fun i hi y => by have := (hp i hi).mp y; omega)
    have e : rk_ct p 16 = rk_ct p (b + 1) := rk_ct_sk (b + 1) (by omega) fun i h1 h2 z => by have := (hp i h2).mp z; omega
    refine ⟨18, ?_⟩
    have := rx_er24 (post := fun r u' => wpY_erase (fun r' v' => r' = r ∧ i_Rel (k + 5) u' v') (nI F, nI P, nI D, nI T, ex, va, ma, se, ve, ls, ys, yk, yp, yg, ln, en, op, st, lo, hi, fr, lr, lk, lq, lv) (nI a) (nI b)) (T := T) (vl := vl) (md := md) (vs := vs) (ls := ls) (rn := rn) (op := op) (ln := ln) (en := en) (iu := iu) (il := il) (lo := lo) (hi := hi) (fr := fr) (pl := pl) (ah := ah) (ak := ak) (aq := aq) (av := av) (c := rk_ct p 16) hL hC ha hb e hpn (fun z => absurd z hc0) (fun _ hD => ?_) (fun _ hD => yy _ (fun z => by omega) (fun _ _ => ⟨rfl, i_up I0⟩) (fun _ z => by omega)) 18 a (Nat.le_refl _) (by omega) (by omega)
    · rw [e0] at this
      exact this
    · obtain ⟨P1, C1, D1, ls1, np1, u1, v1, h1, h2, h3, h4, h5, h6, h7, h8, h9⟩ := rj_ers (p := p) (P := P + 1) (Q := P) (F := F) (O := O) (T := T) (T2 := T) (op := op) (ln := ln) (en := en) (by omega) (by omega) (by omega) (16 - a) a (by omega) P C D 0 ls np _ _ (rk_Md_in rn (rk_Co_new co)) (by omega) (by omega) (by omega)
      have e1 : P1 = P + 1 := h2 (Or.inr (by omega))
      subst e1
      refine ⟨17, h8 b 17 _ _ hb (by omega) (fun j z1 z2 => ?_) (by omega) ?_⟩
      · rw [hp j z2]
        exact ⟨fun w => w.2, fun w => ⟨z1, w⟩⟩
      · refine yy _ (fun z => absurd z hc0) (fun _ z => by omega) (fun _ _ => ?_)
        refine ry_eraseAll hFP (by omega) h01 (by omega) ⟨17 + a, ?_⟩
        refine ry_skip (by omega) (h9 17 _ (by omega) ?_) a 0 (by omega) (fun j _ z y => by have := (hp j (by omega)).mp y; omega)
        refine ⟨rfl, rk_cl (rk_Md_end h1 (by omega)) (rk_Ls_er hls h4 h5) (by have := rk_ct16 (rk_le ls1); omega) (by omega) (by omega)⟩
end
section
/-! leases -/
/-- what the end of a lease leaves -/
def rk_En (l P F O D T T2 : Nat) (ls op ln en np : Nat → Int32) (u : SX) (v : SY) : Prop :=
  ∃ (c P1 C1 D1 : Nat) (ls1 np1 : Nat → Int32) (u1 : SX) (v1 : SY), rk_Md P1 P1 P1 F O C1 D1 16 T T2 ls1 (upd op l 0) ln en np1 u1 v1 ∧ P ≤ P1 ∧ P1 ≤ P + 1 ∧ D1 + rk_ct (rk_le ls1) 16 ≤ 116 ∧
    (∀ j, j < 16 → ls1 j = if ls j = nI l then -1 else ls j) ∧ (∀ j, j < 16 → np1 j = if ls j = nI l then 0 else np j) ∧
    (∀ post : Int32 → SX → Prop, post (nI c) u1 → wpX_endLease post u (nI l)) ∧ (∀ post : Int32 → SY → Prop, post (nI c) v1 → wpY_end post v (nI l))
section
variable {C O D P F T T2 : Nat} {rv ky bf lc : Nat → Nat} {vl pt md vs ls rn op ln en iu il lo hi fr pl ah ak aq av : Nat → Int32} {ex va ma se ve ys yk yp yg st lr lk lq lv : Nat → Int32}
variable {P0 Q K : Nat} {np : Nat → Int32}
theorem rj_end' {l : Nat} (co : rk_Co P P P F O C D 16 np rv ky bf lc vl pt md vs iu il lo hi fr pl ah ak aq av ex va ma se ve ys yk yp yg st lr lk lq lv) (hl : l < 6) (hbd : D + rk_ct (rk_le ls) 16 ≤ 116) (hok : ∀ j, j < 16 → ls j = nI l → np j ≠ 0) (hP : P < 6000) : rk_En l P F O D T T2 ls op ln en np (nI C, nI O, nI P, nI F, nI T, rk_nf rv, rk_nf ky, vl, pt, md, vs, rk_ef bf, rk_ef lc, ls, rn, op, ln, en, iu, il, lo, hi, fr, pl, ah, ak, aq, av) (nI F, nI P, nI D, nI T2, ex, va, ma, se, ve, ls, ys, yk, yp, yg, ln, en, op, st, lo, hi, fr, lr, lk, lq, lv) := by
  have hL := rk_Co_Lg co
  have hS := rk_Co_St co
  have hFP := rk_Lg_FP hL
  have hPF := rk_PFD hL
  have hcod := rk_Lg_cod hL
  have hO := rk_Lg_O16 hL
  have hl2 : vp_in (nI l) 6 := vp_in_nI hl (by decide)
  have h01 : ∀ k, k < 16 → ex (16 * (P - F) + k) = 0 ∨ ex (16 * (P - F) + k) = 1 := fun k hk => rk_ex01 hL hS hFP (Nat.le_refl P) hk
  have hp : ∀ j, j < 16 → ((fun j => decide (ls j = nI l)) j = true ↔ ls j = nI l) := fun j _ => decide_eq_true_iff
  generalize hq : (fun j => decide (ls j = nI l)) = p at hp
  have hpy : ∀ j, j < 16 → (p j = true ↔ (¬ ex (16 * (P - F) + j) = 0 ∧ ls j = nI l)) := fun j hj => by
    rw [hp j hj, rk_exN hL hS hj, ← rk_Co_np co j hj]
    exact ⟨fun z => ⟨hok j hj z, z⟩, fun z => z.2⟩
  have hc16 := rk_ct_le p 16
  have eo : upd op (nI l).toNatClampNeg (vp_nar .boolean 0) = upd op l 0 := by rw [rk_nb0]; exact rk_wr (by omega) rfl
  by_cases hc0 : rk_ct p 16 = 0
  · have hz : ∀ j, j < 16 → ¬ ls j = nI l := fun j hj z => rk_ct_0 hc0 j hj ((hp j hj).mpr z)
    refine ⟨0, P, C, D, ls, np, _, _, rk_Md_in rn co, Nat.le_refl _, by omega, hbd, fun j hj => (if_neg (hz j hj)).symm, fun j hj => (if_neg (hz j hj)).symm, fun post h => ?_, fun post h => ?_⟩
    · unfold wpX_endLease
      refine rx_keysUnder hp (And.intro hl2 (nm_r eo ?_))
      rw [hc0]
      exact br_t (nI_le (a := 0) (b := 0) (by omega) (by decide)) h
    · unfold wpY_end
      refine ry_under hFP (by omega) h01 hpy (And.intro hl2 (nm_r eo ?_))
      have e : rk_mk p 16 = 0 := rk_mk_z hc0
      refine br_t (by rw [e]; rfl) (ry_bitsV ?_)
      rw [hc0]
      exact h
  · obtain ⟨P1, C1, D1, ls1, np1, u1, v1, h1, h2, h3, h4, h5, h6, h7, h8, h9⟩ := rj_ers (p := p) (P := P + 1) (Q := P) (F := F) (O := O) (T := T) (T2 := T2) (op := upd op l 0) (ln := ln) (en := en) (by omega) (by omega) (by omega) 16 0 (by omega) P C D 0 ls np _ _ (rk_Md_in rn (rk_Co_new co)) (by omega) (by omega) (by
      have : rk_ct p 16 ≤ rk_ct (rk_le ls) 16 := rk_ct_mono fun i hi z => decide_eq_true (by rw [(hp i hi).mp z]; exact rk_n1 (by omega))
      have : rk_ct p 0 = 0 := rfl
      omega)
    have c0 : rk_ct p 0 = 0 := rfl
    have e1 : P1 = P + 1 := h2 (Or.inr (by omega))
    subst e1
    have h4' : ∀ j, j < 16 → ls1 j = if ls j = nI l then -1 else ls j := fun j hj => by
      rw [h4 j hj]
      by_cases z : ls j = nI l
      · rw [if_pos z, if_pos ⟨by omega, (hp j hj).mpr z⟩]
      · rw [if_neg z, if_neg (fun y => z ((hp j hj).mp y.2))]
    have h5' : ∀ j, j < 16 → np1 j = if ls j = nI l then 0 else np j := fun j hj => by
      rw [h5 j hj]
      by_cases z : ls j = nI l
      · rw [if_pos z, if_pos ⟨by omega, (hp j hj).mpr z⟩]
      · rw [if_neg z, if_neg (fun y => z ((hp j hj).mp y.2))]
    have hdj : rk_ct (rk_le ls) 16 = rk_ct p 16 + rk_ct (rk_le ls1) 16 := rk_ct_dj fun i hi => by
      unfold rk_le
      rw [decide_eq_true_iff, decide_eq_true_iff, hp i hi, h4' i hi]
      by_cases z : ls i = nI l
      · rw [if_pos z, z]
        exact ⟨⟨fun _ => Or.inl rfl, fun _ => rk_n1 (by omega)⟩, fun y => y.2 rfl⟩
      · rw [if_neg z]
        exact ⟨⟨fun y => Or.inr y, fun y => y.elim (fun w => absurd w z) id⟩, fun y => z y.1⟩
    refine ⟨rk_ct p 16, P + 1, C1, D1, ls1, np1, u1, v1, rk_Md_end h1 (by omega), by omega, Nat.le_refl _, by omega, h4', h5', fun post h => ?_, fun post h => ?_⟩
    · unfold wpX_endLease
      refine rx_keysUnder hp (And.intro hl2 (nm_r eo (br_f (nI_nle (by omega) (by omega)) (nm_r (nI_1 P) ⟨17, ?_⟩))))
      exact h7 (nI l) 17 _ post (fun j _ b => hp j b) (by omega) h
    · unfold wpY_end
      refine ry_under hFP (by omega) h01 hpy (And.intro hl2 (nm_r eo ?_))
      refine ry_eraseAll hFP (by omega) h01 (by omega) ⟨17, h9 17 _ (by omega) (ry_bitsV h)⟩
end
theorem rj_end {l P F O C D T T2 : Nat} {ls op ln en np : Nat → Int32} {u : SX} {v : SY} (hM : rk_Md P P P F O C D 16 T T2 ls op ln en np u v) (hl : l < 6) (hbd : D + rk_ct (rk_le ls) 16 ≤ 116) (hok : ∀ j, j < 16 → ls j = nI l → np j ≠ 0) (hP : P < 6000) : rk_En l P F O D T T2 ls op ln en np u v :=
  rk_Md_el (G := fun u v => rk_En l P F O D T T2 ls op ln en np u v) (fun rv ky bf lc vl pt md vs rn iu il lo hi fr pl ah ak aq av ex va ma se ve ys yk yp yg st lr lk lq lv co => rj_end' co hl hbd hok hP) hM
theorem rk_Ls_end {T l : Nat} {ls op ln en np ls1 np1 : Nat → Int32} (h : rk_Ls T ls op ln en np) (h4 : ∀ j, j < 16 → ls1 j = if ls j = nI l then -1 else ls j) (h5 : ∀ j, j < 16 → np1 j = if ls j = nI l then 0 else np j) : rk_Ls T ls1 (upd op l 0) ln en np1 := by
  refine ⟨fun j hj => ?_, fun l2 hl2 ho => ?_, fun l2 hl2 ho => ?_⟩
  · rw [h4 j hj, h5 j hj]
    by_cases z : ls j = nI l
    · rw [if_pos z]; exact Or.inl rfl
    · rw [if_neg z, if_neg z]
      rcases rk_Ls_ok h j hj with y | ⟨l2, a, b, c, d⟩
      · exact Or.inl y
      · refine Or.inr ⟨l2, a, b, ?_, d⟩
        rw [pk_un (fun e => z (by rw [b, e]))]
        exact c
  · by_cases e : l2 = l
    · subst e; rw [pk_us] at ho; exact absurd rfl ho
    · rw [pk_un e] at ho; exact rk_Ls_en h l2 hl2 ho
  · by_cases e : l2 = l
    · subst e; rw [pk_us] at ho; exact absurd rfl ho
    · rw [pk_un e] at ho; exact rk_Ls_ln h l2 hl2 ho
theorem rk_Ls_np {T l : Nat} {ls op ln en np : Nat → Int32} (h : rk_Ls T ls op ln en np) : ∀ j, j < 16 → ls j = nI l → l < 6 → np j ≠ 0 := fun j hj e hl => by
  rcases rk_Ls_ok h j hj with y | ⟨l2, a, b, c, d⟩
  · exact absurd (e.symm.trans y) (rk_n1 (by omega))
  · exact d
theorem i_vc_revoke {k : Nat} {u : SX} {v : SY} (I : i_Rel k u v) (hk : k + 5 ≤ 2560) (v1 : Int32) : wpX_revoke (fun r u' => wpY_revoke (fun r' v' => r' = r ∧ i_Rel (k + 5) u' v') v v1) u v1 := by
  refine rk_op (G := fun u v => wpX_revoke (fun r u' => wpY_revoke (fun r' v' => r' = r ∧ i_Rel (k + 5) u' v') v v1) u v1) hk ?_ I
  intro P F O C D T ls op ln en np rv ky bf lc vl pt md vs rn iu il lo hi fr pl ah ak aq av ex va ma se ve ys yk yp yg st lr lk lq lv co hls hbd hPk hTk hP hT hC I0
  unfold wpX_revoke wpY_revoke
  rcases rk_ix v1 6 (by decide) with hb | ⟨l, hl, rfl⟩
  · exact rx_bL1 hb (br_f (by decide) (ry_bL1 hb (br_t rfl ⟨rfl, i_up I0⟩)))
  have hl2 : vp_in (nI l) 6 := vp_in_nI hl (by decide)
  refine rx_bL0 hl (br_t rfl (And.intro hl2 ?_))
  by_cases ho : op l = 0
  · exact br_t (rk_rd (by omega) ho) (ry_bL0 hl (br_f (by decide) (And.intro hl2 (br_t (rk_rd (by omega) ho) ⟨rfl, i_up I0⟩))))
  · have ho' : ¬ op (nI l).toNatClampNeg = 0 := by rw [nI_clamp (by omega)]; exact ho
    obtain ⟨c, P1, C1, D1, ls1, np1, u1, v1, h1, h2, h3, h4, h5, h6, h7, h8⟩ := rj_end' (T := T) (T2 := T) (rn := rn) (op := op) (ln := ln) (en := en) co hl hbd (fun j hj e => rk_Ls_np hls j hj e hl) (by omega)
    refine br_f ho' (h7 _ ?_)
    refine ry_bL0 hl (br_f (by decide) (And.intro hl2 (br_f ho' (h8 _ ?_))))
    exact ⟨rfl, rk_cl h1 (rk_Ls_end hls h5 h6) h4 (by omega) (by omega)⟩
theorem i_vc_keysOf {k : Nat} {u : SX} {v : SY} (I : i_Rel k u v) (hk : k + 5 ≤ 2560) (v1 : Int32) : wpX_keysOf (fun r => wpY_keysOf (fun r' => r' = r ∧ i_Rel (k + 5) u v) v v1) u v1 := by
  refine rk_op (G := fun u v => wpX_keysOf (fun r => wpY_keysOf (fun r' => r' = r ∧ i_Rel (k + 5) u v) v v1) u v1) hk ?_ I
  intro P F O C D T ls op ln en np rv ky bf lc vl pt md vs rn iu il lo hi fr pl ah ak aq av ex va ma se ve ys yk yp yg st lr lk lq lv co hls hbd hPk hTk hP hT hC I0
  unfold wpX_keysOf wpY_keysOf
  rcases rk_ix v1 6 (by decide) with hb | ⟨l, hl, rfl⟩
  · exact rx_bL1 hb (br_f (by decide) (ry_bL1 hb (br_t rfl ⟨rfl, i_up I0⟩)))
  have hl2 : vp_in (nI l) 6 := vp_in_nI hl (by decide)
  refine rx_bL0 hl (br_t rfl (And.intro hl2 ?_))
  by_cases ho : op l = 0
  · exact br_t (rk_rd (by omega) ho) (ry_bL0 hl (br_f (by decide) (And.intro hl2 (br_t (rk_rd (by omega) ho) ⟨rfl, i_up I0⟩))))
  · have ho' : ¬ op (nI l).toNatClampNeg = 0 := by rw [nI_clamp (by omega)]; exact ho
    have hL := rk_Co_Lg co
    have hS := rk_Co_St co
    have hFP := rk_Lg_FP hL
    have hPF := rk_PFD hL
    have h01 : ∀ k, k < 16 → ex (16 * (P - F) + k) = 0 ∨ ex (16 * (P - F) + k) = 1 := fun k hk => rk_ex01 hL hS hFP (Nat.le_refl P) hk
    have hp : ∀ j, j < 16 → ((fun j => decide (ls j = nI l)) j = true ↔ ls j = nI l) := fun j _ => decide_eq_true_iff
    generalize hq : (fun j => decide (ls j = nI l)) = p at hp
    have hpy : ∀ j, j < 16 → (p j = true ↔ (¬ ex (16 * (P - F) + j) = 0 ∧ ls j = nI l)) := fun j hj => by
      rw [hp j hj, rk_exN hL hS hj, ← rk_Co_np co j hj]
      exact ⟨fun z => ⟨rk_Ls_np hls j hj z hl, z⟩, fun z => z.2⟩
    refine br_f ho' (rx_keysUnder hp ?_)
    exact ry_bL0 hl (br_f (by decide) (And.intro hl2 (br_f ho' (ry_under hFP (by omega) h01 hpy (ry_bits ⟨rfl, i_up I0⟩)))))
theorem i_vc_remaining {k : Nat} {u : SX} {v : SY} (I : i_Rel k u v) (hk : k + 5 ≤ 2560) (v1 : Int32) : wpX_remaining (fun r => wpY_remaining (fun r' => r' = r ∧ i_Rel (k + 5) u v) v v1) u v1 := by
  refine rk_op (G := fun u v => wpX_remaining (fun r => wpY_remaining (fun r' => r' = r ∧ i_Rel (k + 5) u v) v v1) u v1) hk ?_ I
  intro P F O C D T ls op ln en np rv ky bf lc vl pt md vs rn iu il lo hi fr pl ah ak aq av ex va ma se ve ys yk yp yg st lr lk lq lv co hls hbd hPk hTk hP hT hC I0
  unfold wpX_remaining wpY_remaining
  rcases rk_ix v1 6 (by decide) with hb | ⟨l, hl, rfl⟩
  · exact rx_bL1 hb (br_f (by decide) (ry_bL1 hb (br_t rfl ⟨rfl, i_up I0⟩)))
  have hl2 : vp_in (nI l) 6 := vp_in_nI hl (by decide)
  refine rx_bL0 hl (br_t rfl (And.intro hl2 (br_c (fun ho => ?_) (fun ho => And.intro hl2 ?_))))
  · exact ry_bL0 hl (br_f (by decide) (And.intro hl2 (br_t ho ⟨rfl, i_up I0⟩)))
  · exact ry_bL0 hl (br_f (by decide) (And.intro hl2 (br_f ho (And.intro hl2 ⟨rfl, i_up I0⟩))))
theorem i_vc_grant {k : Nat} {u : SX} {v : SY} (I : i_Rel k u v) (hk : k + 5 ≤ 2560) (v1 : Int32) (v2 : Int32) : wpX_grant (fun r u' => wpY_grant (fun r' v' => r' = r ∧ i_Rel (k + 5) u' v') v v1 v2) u v1 v2 := by
  refine rk_op (G := fun u v => wpX_grant (fun r u' => wpY_grant (fun r' v' => r' = r ∧ i_Rel (k + 5) u' v') v v1 v2) u v1 v2) hk ?_ I
  intro P F O C D T ls op ln en np rv ky bf lc vl pt md vs rn iu il lo hi fr pl ah ak aq av ex va ma se ve ys yk yp yg st lr lk lq lv co hls hbd hPk hTk hP hT hC I0
  unfold wpX_grant wpY_grant
  rcases rk_ix v1 6 (by decide) with hb | ⟨l, hl, rfl⟩
  · exact rx_bL1 hb (br_f (by decide) (ry_bL1 hb (br_t rfl ⟨rfl, i_up I0⟩)))
  have hl2 : vp_in (nI l) 6 := vp_in_nI hl (by decide)
  refine rx_bL0 hl (br_t rfl ?_)
  by_cases g1 : v2 < 1
  · exact br_t g1 (ry_bL0 hl (br_f (by decide) (br_t g1 ⟨rfl, i_up I0⟩)))
  by_cases g2 : v2 ≤ 50
  · refine br_f g1 (br_t g2 (And.intro hl2 ?_))
    by_cases ho : op l = 0
    · refine br_t (rk_rd (by omega) ho) (And.intro hl2 (nm_r (e' := upd op l 1) (by rw [rk_nb1]; exact rk_wr (by omega) rfl) (And.intro hl2 (nm_r (rk_wr (by omega) rfl) (And.intro hl2 (nm_r (rk_wr (by omega) rfl) (And.intro hl2 ?_)))))))
      refine ry_bL0 hl (br_f (by decide) (br_f g1 (br_t g2 (And.intro hl2 (br_t (rk_rd (by omega) ho) (And.intro hl2 (nm_r (e' := upd op l 1) (by rw [rk_nb1]; exact rk_wr (by omega) rfl) (And.intro hl2 (nm_r (rk_wr (by omega) rfl) (And.intro hl2 (nm_r (rk_wr (by omega) rfl) (And.intro hl2 ?_))))))))))))
      refine ⟨rfl, ?_⟩
      obtain ⟨q, hq, e⟩ : ∃ q : Nat, (1 ≤ q ∧ q ≤ 50) ∧ v2 = nI q := by
        rw [Int32.lt_iff_toInt_lt, show (1 : Int32).toInt = 1 from by decide] at g1
        obtain ⟨q, hq, rfl⟩ := nI_of (x := v2) (fun z => by
          rw [Int32.lt_iff_toInt_lt, show (0 : Int32).toInt = 0 from by decide] at z
          omega)
        rw [show (50 : Int32) = nI 50 from rfl, nI_leI hq (by decide)] at g2
        rw [nI_toInt hq] at g1
        exact ⟨q, ⟨by omega, g2⟩, rfl⟩
      subst e
      rw [nI_add]
      refine rk_cl (rk_Md_in rn co) ?_ hbd (by omega) (by omega)
      refine ⟨fun j hj => ?_, fun l2 hl2 ho2 => ?_, fun l2 hl2 ho2 => ?_⟩
      · rcases rk_Ls_ok hls j hj with y | ⟨l2, a, b, c, d⟩
        · exact Or.inl y
        · refine Or.inr ⟨l2, a, b, ?_, d⟩
          by_cases e : l2 = l
          · subst e; rw [pk_us]; decide
          · rw [pk_un e]; exact c
      · by_cases e : l2 = l
        · subst e; exact ⟨T + q, by rw [pk_us], by omega, by omega⟩
        · rw [pk_un e] at ho2; rw [pk_un e]; exact rk_Ls_en hls l2 hl2 ho2
      · by_cases e : l2 = l
        · subst e; exact ⟨q, by rw [pk_us], by omega, by omega⟩
        · rw [pk_un e] at ho2; rw [pk_un e]; exact rk_Ls_ln hls l2 hl2 ho2
    · have ho' : ¬ op (nI l).toNatClampNeg = 0 := by rw [nI_clamp (by omega)]; exact ho
      exact br_f ho' (ry_bL0 hl (br_f (by decide) (br_f g1 (br_t g2 (And.intro hl2 (br_f ho' ⟨rfl, i_up I0⟩))))))
  · exact br_f g1 (br_f g2 (ry_bL0 hl (br_f (by decide) (br_f g1 (br_f g2 ⟨rfl, i_up I0⟩)))))
theorem i_vc_renew {k : Nat} {u : SX} {v : SY} (I : i_Rel k u v) (hk : k + 5 ≤ 2560) (v1 : Int32) : wpX_renew (fun r u' => wpY_renew (fun r' v' => r' = r ∧ i_Rel (k + 5) u' v') v v1) u v1 := by
  refine rk_op (G := fun u v => wpX_renew (fun r u' => wpY_renew (fun r' v' => r' = r ∧ i_Rel (k + 5) u' v') v v1) u v1) hk ?_ I
  intro P F O C D T ls op ln en np rv ky bf lc vl pt md vs rn iu il lo hi fr pl ah ak aq av ex va ma se ve ys yk yp yg st lr lk lq lv co hls hbd hPk hTk hP hT hC I0
  unfold wpX_renew wpY_renew
  rcases rk_ix v1 6 (by decide) with hb | ⟨l, hl, rfl⟩
  · exact rx_bL1 hb (br_f (by decide) (ry_bL1 hb (br_t rfl ⟨rfl, i_up I0⟩)))
  have hl2 : vp_in (nI l) 6 := vp_in_nI hl (by decide)
  refine rx_bL0 hl (br_t rfl (And.intro hl2 ?_))
  by_cases ho : op l = 0
  · exact br_t (rk_rd (by omega) ho) (ry_bL0 hl (br_f (by decide) (And.intro hl2 (br_t (rk_rd (by omega) ho) ⟨rfl, i_up I0⟩))))
  · have ho' : ¬ op (nI l).toNatClampNeg = 0 := by rw [nI_clamp (by omega)]; exact ho
    obtain ⟨q, e, q1, q2⟩ := rk_Ls_ln hls l hl ho
    have eu : upd en (nI l).toNatClampNeg (nI T + ln (nI l).toNatClampNeg) = upd en l (nI (T + q)) := by
      rw [rk_rd (f := ln) (by omega) e, nI_add]; exact rk_wr (by omega) rfl
    refine br_f ho' (And.intro hl2 (And.intro hl2 (nm_r eu (And.intro hl2 ?_))))
    refine ry_bL0 hl (br_f (by decide) (And.intro hl2 (br_f ho' (And.intro hl2 (And.intro hl2 (nm_r eu (And.intro hl2 ?_)))))))
    refine ⟨rfl, ?_⟩
    refine rk_cl (rk_Md_in rn co) ⟨rk_Ls_ok hls, fun l2 hl2 ho2 => ?_, rk_Ls_ln hls⟩ hbd (by omega) (by omega)
    by_cases e : l2 = l
    · subst e; exact ⟨T + q, by rw [pk_us], by omega, by omega⟩
    · rw [pk_un e]; exact rk_Ls_en hls l2 hl2 ho2
end
section
/-! watches -/
noncomputable def rk_dc (p : Prop) : Bool := @decide p (Classical.propDecidable p)
theorem rk_dc_t {p : Prop} : rk_dc p = true ↔ p := @decide_eq_true_iff p (Classical.propDecidable p)
theorem rk_first (A : Nat → Prop) : ∀ d a, (∃ c, a ≤ c ∧ c < a + d ∧ A c ∧ ∀ j, a ≤ j → j < c → ¬ A j) ∨ (∀ c, a ≤ c → c < a + d → ¬ A c) := by
  intro d
  induction d with
  | zero => intro a; exact Or.inr fun c h1 h2 => by omega
  | succ d ih =>
    intro a
    by_cases h : A a
    · exact Or.inl ⟨a, Nat.le_refl _, by omega, h, fun j h1 h2 => by omega⟩
    · rcases ih (a + 1) with ⟨c, h1, h2, h3, h4⟩ | h1
      · refine Or.inl ⟨c, by omega, by omega, h3, fun j g1 g2 => ?_⟩
        by_cases e : j = a
        · rw [e]; exact h
        · exact h4 j (by omega) g2
      · refine Or.inr fun c g1 g2 => ?_
        by_cases e : c = a
        · rw [e]; exact h
        · exact h1 c (by omega) (by omega)
section
variable {C O D P F T T2 : Nat} {rv ky bf lc : Nat → Nat} {vl pt md vs ls rn op ln en iu il lo hi fr pl ah ak aq av : Nat → Int32} {ex va ma se ve ys yk yp yg st lr lk lq lv : Nat → Int32}
variable {P0 Q K : Nat} {np : Nat → Int32}
theorem rx_wanted {post : Int32 → Prop} {w c : Nat} (hw : w < 4) (hc : c < 140) (h1 : rk_wb rv ky lo hi fr w c → post 1) (h0 : ¬ rk_wb rv ky lo hi fr w c → post 0) : wpX_isWanted post (nI C, nI O, nI P, nI F, nI T, rk_nf rv, rk_nf ky, vl, pt, md, vs, rk_ef bf, rk_ef lc, ls, rn, op, ln, en, iu, il, lo, hi, fr, pl, ah, ak, aq, av) (nI w) (nI c) := by
  have e1 : (nI c).toNatClampNeg = c := nI_clamp (by omega)
  have e2 : (nI w).toNatClampNeg = w := nI_clamp (by omega)
  have hv := vp_in_nI hc (by decide)
  have hv2 := vp_in_nI hw (by decide)
  unfold wpX_isWanted
  dsimp only
  rw [e1, e2]
  exact ⟨hv, hv2, br_c (fun z => h0 fun y => y.1 z) fun z1 => ⟨hv, hv2, br_c (fun z => h0 fun y => y.2.1 z) fun z2 => ⟨hv, hv2, br_c (fun z => h0 fun y => y.2.2 z) fun z3 => h1 ⟨z1, z2, z3⟩⟩⟩⟩
theorem ry_wanted {post : Int32 → Prop} {w i c : Nat} (hw : w < 4) (hi' : i < 120) (er : ys i = nI (rv c)) (ek : yk i = nI (ky c)) (h1 : rk_wb rv ky lo hi fr w c ∧ rk_ny rv ky lr lk w c → post 1) (h0 : ¬ (rk_wb rv ky lo hi fr w c ∧ rk_ny rv ky lr lk w c) → post 0) : wpY_isWanted post (nI F, nI P, nI D, nI T2, ex, va, ma, se, ve, ls, ys, yk, yp, yg, ln, en, op, st, lo, hi, fr, lr, lk, lq, lv) (nI w) (nI i) := by
  have e1 : (nI i).toNatClampNeg = i := nI_clamp (by omega)
  have e2 : (nI w).toNatClampNeg = w := nI_clamp (by omega)
  have hv := vp_in_nI hi' (by decide)
  have hv2 := vp_in_nI hw (by decide)
  unfold wpY_isWanted
  dsimp only
  rw [e1, e2, er, ek]
  refine ⟨hv, hv2, br_c (fun z => h0 fun y => y.1.2.2 z) fun z3 => ⟨hv, hv2, br_c (fun z => h0 fun y => y.1.1 z) fun z1 => ⟨hv, hv2, br_c (fun z2 => ?_) fun z => h0 fun y => z (Int32.not_lt.mp y.1.2.1)⟩⟩⟩
  have hb : rk_wb rv ky lo hi fr w c := ⟨z1, Int32.not_lt.mpr z2, z3⟩
  refine ⟨hv2, br_c (fun z => h1 ⟨hb, Or.inl z⟩) fun y1 => ⟨hv, hv2, br_c (fun z => h1 ⟨hb, Or.inr (Or.inl z)⟩) fun y2 => ⟨hv, hv2, br_c (fun y3 => ⟨hv, hv2, br_c (fun z => h0 fun y => ?_) fun z => h1 ⟨hb, Or.inr (Or.inr ⟨y3, z⟩)⟩⟩) fun y3 => h0 fun y => ?_⟩⟩⟩
  · rcases y.2 with w1 | w1 | w1
    · exact y1 w1
    · exact y2 w1
    · exact w1.2 z
  · rcases y.2 with w1 | w1 | w1
    · exact y1 w1
    · exact y2 w1
    · exact y3 w1.1
theorem rx_wt55 {post : Int32 → Prop} {w p : Nat} {q : Nat → Bool} (hw : w < 4) (hC : C ≤ 132) (hq : ∀ c, p ≤ c → c < C → (q c = true ↔ rk_wb rv ky lo hi fr w c)) (h : post (nI (rk_ct q C))) :
    ∀ n c, p ≤ c → c ≤ C → C - c < n → wX_waiting_55 post (nI w) (nI C) (nI O) (nI P) (nI F) (nI T) (rk_nf rv) (rk_nf ky) vl pt md vs (rk_ef bf) (rk_ef lc) ls rn op ln en iu il lo hi fr pl ah ak aq av n (nI (rk_ct q c)) (nI c) := by
  intro n
  induction n with
  | zero => intro c _ _ hn; omega
  | succ n ih =>
    intro c h1 h2 hn
    by_cases e : c = C
    · subst e; exact br_t (nI_le (Nat.le_refl _) (by omega)) h
    · have := ih (c + 1) (by omega) (by omega) (by omega)
      refine br_f (nI_ge (by omega) (by omega)) (rx_wanted hw (by omega) (fun z => ?_) (fun z => ?_))
      · rw [rk_ct_t ((hq c h1 (by omega)).mpr z)] at this
        exact br_f (by decide) (nm_r (nI_1 _) (nm_r (nI_1 c) this))
      · rw [rk_ct_f (fun y => z ((hq c h1 (by omega)).mp y))] at this
        exact br_t rfl (nm_r (nI_1 c) this)
theorem ry_wt42 {post : Int32 → Prop} {w : Nat} {q : Nat → Bool} (hw : w < 4) (hC : C = O + D) (hD : D < 120) (hk : rk_Lk O D rv ky vl pt ys yk yp yg) (hq : ∀ c, O ≤ c → c < C → (q c = true ↔ (rk_wb rv ky lo hi fr w c ∧ rk_ny rv ky lr lk w c))) (h : post (nI (rk_ct q C))) :
    ∀ n i, i ≤ D → D - i < n → wY_waiting_42 post (nI w) (nI F) (nI P) (nI D) (nI T2) ex va ma se ve ls ys yk yp yg ln en op st lo hi fr lr lk lq lv n (nI (rk_ct q (O + i))) (nI i) := by
  intro n
  induction n with
  | zero => intro c _ hn; omega
  | succ n ih =>
    intro i h2 hn
    by_cases e : i = D
    · subst e; rw [hC] at h; exact br_t (nI_le (Nat.le_refl _) (by omega)) h
    · have := ih (i + 1) (by omega) (by omega)
      have hl := hk i (by omega)
      rw [show O + (i + 1) = O + i + 1 from rfl] at this
      refine br_f (nI_ge (by omega) (by omega)) (ry_wanted hw (by omega) hl.1 hl.2.1 (fun z => ?_) (fun z => ?_))
      · rw [rk_ct_t ((hq (O + i) (by omega) (by omega)).mpr z)] at this
        exact br_f (by decide) (nm_r (nI_1 _) (nm_r (nI_1 i) this))
      · rw [rk_ct_f (fun y => z ((hq (O + i) (by omega) (by omega)).mp y))] at this
        exact br_t rfl (nm_r (nI_1 i) this)
theorem rx_nxF {post : Int32 → SX → Prop} {w p m : Nat} (hw : w < 4) (hC : C ≤ 132) (hm : m < C) (hb : rk_wb rv ky lo hi fr w m) (hn : ∀ c, p ≤ c → c < m → ¬ rk_wb rv ky lo hi fr w c) (hpt : pt m = 0 ∨ pt m = 1)
    (h : post (nI (rv m)) (nI C, nI O, nI P, nI F, nI T, rk_nf rv, rk_nf ky, vl, pt, md, vs, rk_ef bf, rk_ef lc, ls, rn, op, ln, en, iu, il, lo, hi, fr, upd pl w (nI (m + 1)), upd ah w 1, upd ak w (nI (ky m)), upd aq w (pt m), upd av w (vl m))) :
    ∀ n c, p ≤ c → c ≤ m → m - c < n → wX_next_53 post (nI w) (nI C) (nI O) (nI P) (nI F) (nI T) (rk_nf rv) (rk_nf ky) vl pt md vs (rk_ef bf) (rk_ef lc) ls rn op ln en iu il lo hi fr pl ah ak aq av n (nI c) := by
  intro n
  induction n with
  | zero => intro c _ _ hn; omega
  | succ n ih =>
    intro c h1 h2 hn2
    refine br_f (nI_ge (by omega) (by omega)) (rx_wanted hw (by omega) (fun z => ?_) (fun z => ?_))
    · have e : c = m := Nat.le_antisymm h2 (Nat.le_of_not_lt fun y => hn c h1 y z)
      subst e
      have hv := vp_in_nI (N := 140) (n := c) (by omega) (by decide)
      have hv2 := vp_in_nI hw (by decide)
      refine br_f (by decide) (And.intro hv2 (nm_r (e' := upd pl w (nI (c + 1))) (by rw [nI_1]; exact rk_wr (by omega) rfl) (And.intro hv2 (nm_r (e' := upd ah w 1) (by rw [rk_nb1]; exact rk_wr (by omega) rfl) (And.intro hv (And.intro hv2 (nm_r (e' := upd ak w (nI (ky c))) (by rw [rk_rd (f := rk_nf ky) (c := c) (by omega) rfl]; exact rk_wr (by omega) rfl) (And.intro hv ?_))))))))
      have er : rk_nf rv (nI c).toNatClampNeg = nI (rv c) := rk_rd (by omega) rfl
      have tail : ∀ z0, z0 = pt c → wX_next_117 post (nI w) (nI c) z0 (nI w) (nI C) (nI O) (nI P) (nI F) (nI T) (rk_nf rv) (rk_nf ky) vl pt md vs (rk_ef bf) (rk_ef lc) ls rn op ln en iu il lo hi fr (upd pl w (nI (c + 1))) (upd ah w 1) (upd ak w (nI (ky c))) aq av := fun z0 ez => by
        subst ez
        refine And.intro hv2 (nm_r (rk_wr (by omega) rfl) (And.intro hv (And.intro hv2 (nm_r (e' := upd av w (vl c)) (by rw [rk_rd (f := vl) (c := c) (by omega) rfl]; exact rk_wr (by omega) rfl) (And.intro hv ?_)))))
        rw [er]
        exact h
      rcases hpt with y | y
      · exact br_t (rk_rd (by omega) y) (tail 0 y.symm)
      · exact br_f (by rw [nI_clamp (by omega), y]; decide) (tail 1 y.symm)
    · have : c ≠ m := fun e => z (e ▸ hb)
      exact br_t rfl (nm_r (nI_1 c) (ih (c + 1) (by omega) (by omega) (by omega)))
theorem rx_nxN {post : Int32 → SX → Prop} {w p : Nat} (hw : w < 4) (hC : C ≤ 132) (hn : ∀ c, p ≤ c → c < C → ¬ rk_wb rv ky lo hi fr w c)
    (h : post (-1000000003) (nI C, nI O, nI P, nI F, nI T, rk_nf rv, rk_nf ky, vl, pt, md, vs, rk_ef bf, rk_ef lc, ls, rn, op, ln, en, iu, il, lo, hi, fr, upd pl w (nI C), ah, ak, aq, av)) :
    ∀ n c, p ≤ c → c ≤ C → C - c < n → wX_next_53 post (nI w) (nI C) (nI O) (nI P) (nI F) (nI T) (rk_nf rv) (rk_nf ky) vl pt md vs (rk_ef bf) (rk_ef lc) ls rn op ln en iu il lo hi fr pl ah ak aq av n (nI c) := by
  intro n
  induction n with
  | zero => intro c _ _ hn; omega
  | succ n ih =>
    intro c h1 h2 hn2
    by_cases e : c = C
    · subst e; exact br_t (nI_le (Nat.le_refl _) (by omega)) (And.intro (vp_in_nI hw (by decide)) (nm_r (rk_wr (by omega) rfl) h))
    · exact br_f (nI_ge (by omega) (by omega)) (rx_wanted hw (by omega) (fun z => absurd z (hn c h1 (by omega))) fun _ => br_t rfl (nm_r (nI_1 c) (ih (c + 1) (by omega) (by omega) (by omega))))
theorem ry_nxF {post : Int32 → SY → Prop} {w i0 : Nat} (hw : w < 4) (hD : D < 120) (hm : i0 < D) (hk : rk_Lk O D rv ky vl pt ys yk yp yg) (hb : rk_wb rv ky lo hi fr w (O + i0) ∧ rk_ny rv ky lr lk w (O + i0)) (hn : ∀ i, i < i0 → ¬ (rk_wb rv ky lo hi fr w (O + i) ∧ rk_ny rv ky lr lk w (O + i))) (hpt : pt (O + i0) = 0 ∨ pt (O + i0) = 1)
    (h : post (nI (rv (O + i0))) (nI F, nI P, nI D, nI T2, ex, va, ma, se, ve, ls, ys, yk, yp, yg, ln, en, op, st, lo, hi, fr, upd lr w (nI (rv (O + i0))), upd lk w (nI (ky (O + i0))), upd lq w (pt (O + i0)), upd lv w (vl (O + i0)))) :
    ∀ n i, i ≤ i0 → i0 - i < n → wY_next_40 post (nI w) (nI F) (nI P) (nI D) (nI T2) ex va ma se ve ls ys yk yp yg ln en op st lo hi fr lr lk lq lv n (nI i) := by
  intro n
  induction n with
  | zero => intro c _ hn; omega
  | succ n ih =>
    intro i h2 hn2
    have hl := hk i (by omega)
    refine br_f (nI_ge (by omega) (by omega)) (ry_wanted hw (by omega) hl.1 hl.2.1 (fun z => ?_) (fun z => ?_))
    · have e : i = i0 := Nat.le_antisymm h2 (Nat.le_of_not_lt fun y => hn i y z)
      subst e
      have hv := vp_in_nI (N := 120) (n := i) (by omega) (by decide)
      have hv2 := vp_in_nI hw (by decide)
      have e1 : ys (nI i).toNatClampNeg = nI (rv (O + i)) := rk_rd (by omega) hl.1
      have e2 : yk (nI i).toNatClampNeg = nI (ky (O + i)) := rk_rd (by omega) hl.2.1
      have e3 : yp (nI i).toNatClampNeg = pt (O + i) := rk_rd (by omega) hl.2.2.1
      have e4 : yg (nI i).toNatClampNeg = vl (O + i) := rk_rd (by omega) hl.2.2.2
      refine br_f (by decide) (And.intro hv (And.intro hv2 (nm_r (e' := upd lr w (nI (rv (O + i)))) (by rw [e1]; exact rk_wr (by omega) rfl) (And.intro hv (And.intro hv2 (nm_r (e' := upd lk w (nI (ky (O + i)))) (by rw [e2]; exact rk_wr (by omega) rfl) (And.intro hv (And.intro hv2 (nm_r (e' := upd lq w (pt (O + i))) (by rw [e3, rk_nb hpt]; exact rk_wr (by omega) rfl) (And.intro hv (And.intro hv2 (nm_r (e' := upd lv w (vl (O + i))) (by rw [e4]; exact rk_wr (by omega) rfl) (And.intro hv ?_)))))))))))))
      rw [e1]
      exact h
    · have : i ≠ i0 := fun e => z (e ▸ hb)
      exact br_t rfl (nm_r (nI_1 i) (ih (i + 1) (by omega) (by omega)))
theorem ry_nxN {post : Int32 → SY → Prop} {w : Nat} (hw : w < 4) (hD : D < 120) (hk : rk_Lk O D rv ky vl pt ys yk yp yg) (hn : ∀ i, i < D → ¬ (rk_wb rv ky lo hi fr w (O + i) ∧ rk_ny rv ky lr lk w (O + i))) (h : post (-1000000003) (nI F, nI P, nI D, nI T2, ex, va, ma, se, ve, ls, ys, yk, yp, yg, ln, en, op, st, lo, hi, fr, lr, lk, lq, lv)) :
    ∀ n i, i ≤ D → D - i < n → wY_next_40 post (nI w) (nI F) (nI P) (nI D) (nI T2) ex va ma se ve ls ys yk yp yg ln en op st lo hi fr lr lk lq lv n (nI i) := by
  intro n
  induction n with
  | zero => intro c _ hn; omega
  | succ n ih =>
    intro i h2 hn2
    by_cases e : i = D
    · subst e; exact br_t (nI_le (Nat.le_refl _) (by omega)) h
    · have hl := hk i (by omega)
      exact br_f (nI_ge (by omega) (by omega)) (ry_wanted hw (by omega) hl.1 hl.2.1 (fun z => absurd z (hn i (by omega))) fun _ => br_t rfl (nm_r (nI_1 i) (ih (i + 1) (by omega) (by omega))))
end
end
section
/-! the methods of watches -/
theorem rk_nyN {rv ky : Nat → Nat} {lr lk : Nat → Int32} {w c a b : Nat} (hr : rv c < 2 ^ 31) (hk : ky c < 2 ^ 31) (ha : a < 2 ^ 31) (hb : b < 2 ^ 31) (h1 : lr w = nI a) (h2 : lk w = nI b) : rk_ny rv ky lr lk w c ↔ (a < rv c ∨ (rv c = a ∧ b < ky c)) := by
  unfold rk_ny
  rw [h1, h2, nI_ltI ha hr, nI_eq hr ha, nI_leI hk hb]
  constructor
  · intro z
    rcases z with z | z | z
    · exact absurd z (nI_pos hb)
    · exact Or.inl z
    · exact Or.inr ⟨z.1, by omega⟩
  · intro z
    rcases z with z | z
    · exact Or.inr (Or.inl z)
    · exact Or.inr (Or.inr ⟨z.1, by omega⟩)
theorem i_vc_watch {k : Nat} {u : SX} {v : SY} (I : i_Rel k u v) (hk : k + 5 ≤ 2560) (v1 : Int32) (v2 : Int32) (v3 : Int32) (v4 : Int32) : wpX_watch (fun r u' => wpY_watch (fun r' v' => r' = r ∧ i_Rel (k + 5) u' v') v v1 v2 v3 v4) u v1 v2 v3 v4 := by
  refine rk_op (G := fun u v => wpX_watch (fun r u' => wpY_watch (fun r' v' => r' = r ∧ i_Rel (k + 5) u' v') v v1 v2 v3 v4) u v1 v2 v3 v4) hk ?_ I
  intro P F O C D T ls op ln en np rv ky bf lc vl pt md vs rn iu il lo hi fr pl ah ak aq av ex va ma se ve ys yk yp yg st lr lk lq lv co hls hbd hPk hTk hP hT hC I0
  unfold wpX_watch wpY_watch
  rcases rk_ix v1 4 (by decide) with hb | ⟨w, hw, rfl⟩
  · exact rx_bW1 hb (br_f (by decide) (ry_bW1 hb (br_t rfl ⟨rfl, i_up I0⟩)))
  rcases rk_ix v2 16 (by decide) with hb | ⟨a, ha, rfl⟩
  · exact rx_bW0 hw (br_t rfl (rx_bK1 hb (br_f (by decide) (ry_bW0 hw (br_f (by decide) (ry_bK1 hb (br_t rfl ⟨rfl, i_up I0⟩)))))))
  rcases rk_ix v3 16 (by decide) with hb | ⟨b, hb, rfl⟩
  · exact rx_bW0 hw (br_t rfl (rx_bK0 ha (br_t rfl (rx_bK1 hb (br_f (by decide) (ry_bW0 hw (br_f (by decide) (ry_bK0 ha (br_f (by decide) (ry_bK1 hb (br_t rfl ⟨rfl, i_up I0⟩)))))))))))
  have hw2 : vp_in (nI w) 4 := vp_in_nI hw (by decide)
  have hL := rk_Co_Lg co
  have hFP := rk_Lg_FP hL
  have hW := rk_Co_Wt co w hw
  refine rx_bW0 hw (br_t rfl (rx_bK0 ha (br_t rfl (rx_bK0 hb (br_t rfl (And.intro hw2 ?_))))))
  -- the states behind it
  have fin : ∀ z : Int32, iu w = 0 → i_Rel (k + 5) (nI C, nI O, nI P, nI F, nI T, rk_nf rv, rk_nf ky, vl, pt, md, vs, rk_ef bf, rk_ef lc, ls, rn, op, ln, en, upd iu w 1, upd il w 0, upd lo w (nI a), upd hi w (nI b), upd fr w z, upd pl w (nI O), upd ah w 0, ak, aq, av) (nI F, nI P, nI D, nI T, ex, va, ma, se, ve, ls, ys, yk, yp, yg, ln, en, op, upd st w 1, upd lo w (nI a), upd hi w (nI b), upd fr w z, lr, upd lk w (-1), lq, lv) := fun z hz => by
    refine rk_cl (rk_Md_in rn ⟨rk_Co_Lg co, rk_Co_St co, rk_Co_Nw co, rk_Co_Lk co, ?_, rk_Co_np co⟩) hls hbd (by omega) (by omega)
    intro w' hw'
    by_cases e : w' = w
    · subst e
      refine Or.inr ⟨by rw [pk_us]; decide, Or.inl ⟨pk_us, by rw [pk_us]; decide⟩, Or.inl ⟨pk_us, pk_us, O, rk_Lg_OC hL, pk_us, fun c h1 h2 => by omega, fun c h1 h2 _ => ⟨fun _ => Or.inl (by rw [pk_us]; decide), fun _ => h1⟩, Or.inl (by rw [pk_us]; decide)⟩⟩
    · have hh := rk_Co_Wt co w' hw'
      simp only [rk_Hd, rk_Wa, rk_wb, rk_ny, pk_un e] at hh ⊢
      exact hh
  have yfin : ∀ z : Int32, iu w = 0 → nI F < z → wY_watch_56 (fun r' v' => r' = 0 ∧ i_Rel (k + 5) (nI C, nI O, nI P, nI F, nI T, rk_nf rv, rk_nf ky, vl, pt, md, vs, rk_ef bf, rk_ef lc, ls, rn, op, ln, en, upd iu w 1, upd il w 0, upd lo w (nI a), upd hi w (nI b), upd fr w z, upd pl w (nI O), upd ah w 0, ak, aq, av) v') (nI w) (nI a) (nI b) z (nI F) (nI P) (nI D) (nI T) ex va ma se ve ls ys yk yp yg ln en op st lo hi fr lr lk lq lv := fun z hz hF => by
    refine br_t hF (And.intro hw2 (nm_r (rk_wr (by omega) rfl) (And.intro hw2 (nm_r (rk_wr (by omega) rfl) (And.intro hw2 (nm_r (rk_wr (by omega) rfl) (And.intro hw2 (nm_r (rk_wr (by omega) rfl) (And.intro hw2 (nm_r (rk_wr (by omega) rfl) ?_))))))))))
    exact ⟨rfl, fin z hz⟩
  have xfin : ∀ (z : Int32) (post : Int32 → SX → Prop), post 0 (nI C, nI O, nI P, nI F, nI T, rk_nf rv, rk_nf ky, vl, pt, md, vs, rk_ef bf, rk_ef lc, ls, rn, op, ln, en, upd iu w 1, upd il w 0, upd lo w (nI a), upd hi w (nI b), upd fr w z, upd pl w (nI O), upd ah w 0, ak, aq, av) → (v4 = -1 ∧ z = nI (P + 1) ∨ ¬ v4 = -1 ∧ z = v4) → wX_watch_57 post (nI w) (nI a) (nI b) v4 (nI C) (nI O) (nI P) (nI F) (nI T) (rk_nf rv) (rk_nf ky) vl pt md vs (rk_ef bf) (rk_ef lc) ls rn op ln en iu il lo hi fr pl ah ak aq av := fun z post hp hz => by
    refine And.intro hw2 (nm_r (e' := upd iu w 1) (by rw [rk_nb1]; exact rk_wr (by omega) rfl) (And.intro hw2 (nm_r (e' := upd il w 0) (by rw [rk_nb0]; exact rk_wr (by omega) rfl) (And.intro hw2 (nm_r (rk_wr (by omega) rfl) (And.intro hw2 (nm_r (rk_wr (by omega) rfl) ?_)))))))
    rcases hz with ⟨h1, h2⟩ | ⟨h1, h2⟩
    · subst h2
      refine br_t h1 ?_
      rw [nI_1]
      exact And.intro hw2 (nm_r (rk_wr (by omega) rfl) (And.intro hw2 (nm_r (rk_wr (by omega) rfl) (And.intro hw2 (nm_r (e' := upd ah w 0) (by rw [rk_nb0]; exact rk_wr (by omega) rfl) hp)))))
    · subst h2
      refine br_f h1 ?_
      exact And.intro hw2 (nm_r (rk_wr (by omega) rfl) (And.intro hw2 (nm_r (rk_wr (by omega) rfl) (And.intro hw2 (nm_r (e' := upd ah w 0) (by rw [rk_nb0]; exact rk_wr (by omega) rfl) hp)))))
  by_cases hz : iu w = 0
  · have hs : st w = 0 := by
      rcases hW with y | y
      · exact y.2
      · exact absurd hz y.1
    refine br_t (rk_rd (by omega) hz) ?_
    have yo : ∀ post : Int32 → SY → Prop, (v4 = -1 → wY_watch_56 post (nI w) (nI a) (nI b) (nI (P + 1)) (nI F) (nI P) (nI D) (nI T) ex va ma se ve ls ys yk yp yg ln en op st lo hi fr lr lk lq lv) → (¬ v4 = -1 → wY_watch_56 post (nI w) (nI a) (nI b) v4 (nI F) (nI P) (nI D) (nI T) ex va ma se ve ls ys yk yp yg ln en op st lo hi fr lr lk lq lv) → wpY_watch post (nI F, nI P, nI D, nI T, ex, va, ma, se, ve, ls, ys, yk, yp, yg, ln, en, op, st, lo, hi, fr, lr, lk, lq, lv) (nI w) (nI a) (nI b) v4 := fun post g1 g2 => by
      unfold wpY_watch
      refine ry_bW0 hw (br_f (by decide) (ry_bK0 ha (br_f (by decide) (ry_bK0 hb (br_f (by decide) (And.intro hw2 (br_t (rk_rd (by omega) hs) (br_c (fun z => ?_) g2))))))))
      rw [nI_1]; exact g1 z
    by_cases h1 : v4 = -1
    · refine br_t h1 (xfin (nI (P + 1)) _ ?_ (Or.inl ⟨h1, rfl⟩))
      exact yo _ (fun _ => yfin (nI (P + 1)) hz (nI_lt (by omega) (by omega))) (fun z => absurd h1 z)
    · by_cases h2 : nI F < v4
      · refine br_f h1 (br_t h2 (xfin v4 _ ?_ (Or.inr ⟨h1, rfl⟩)))
        exact yo _ (fun z => absurd z h1) (fun _ => yfin v4 hz h2)
      · refine br_f h1 (br_f h2 ?_)
        exact yo (fun r' v' => r' = -1000000004 ∧ i_Rel (k + 5) (nI C, nI O, nI P, nI F, nI T, rk_nf rv, rk_nf ky, vl, pt, md, vs, rk_ef bf, rk_ef lc, ls, rn, op, ln, en, iu, il, lo, hi, fr, pl, ah, ak, aq, av) v') (fun z => absurd z h1) (fun _ => br_f h2 ⟨rfl, i_up I0⟩)
  · have hs : ¬ st w = 0 := by
      rcases hW with y | ⟨_, _, y | y⟩
      · exact absurd y.1 hz
      · rw [y.2.1]; decide
      · rw [y.2]; decide
    refine br_f (by rw [nI_clamp (by omega)]; exact hz) ?_
    exact ry_bW0 hw (br_f (by decide) (ry_bK0 ha (br_f (by decide) (ry_bK0 hb (br_f (by decide) (And.intro hw2 (br_f (by rw [nI_clamp (by omega)]; exact hs) ⟨rfl, i_up I0⟩)))))))
theorem i_vc_unwatch {k : Nat} {u : SX} {v : SY} (I : i_Rel k u v) (hk : k + 5 ≤ 2560) (v1 : Int32) : wpX_unwatch (fun r u' => wpY_unwatch (fun r' v' => r' = r ∧ i_Rel (k + 5) u' v') v v1) u v1 := by
  refine rk_op (G := fun u v => wpX_unwatch (fun r u' => wpY_unwatch (fun r' v' => r' = r ∧ i_Rel (k + 5) u' v') v v1) u v1) hk ?_ I
  intro P F O C D T ls op ln en np rv ky bf lc vl pt md vs rn iu il lo hi fr pl ah ak aq av ex va ma se ve ys yk yp yg st lr lk lq lv co hls hbd hPk hTk hP hT hC I0
  unfold wpX_unwatch wpY_unwatch
  rcases rk_ix v1 4 (by decide) with hb | ⟨w, hw, rfl⟩
  · exact rx_bW1 hb (br_f (by decide) (ry_bW1 hb (br_t rfl ⟨rfl, i_up I0⟩)))
  have hw2 : vp_in (nI w) 4 := vp_in_nI hw (by decide)
  have hW := rk_Co_Wt co w hw
  have fin : ∀ iu2 : Nat → Int32, iu2 w = 0 → (∀ j, j ≠ w → iu2 j = iu j) → i_Rel (k + 5) (nI C, nI O, nI P, nI F, nI T, rk_nf rv, rk_nf ky, vl, pt, md, vs, rk_ef bf, rk_ef lc, ls, rn, op, ln, en, iu2, il, lo, hi, fr, pl, ah, ak, aq, av) (nI F, nI P, nI D, nI T, ex, va, ma, se, ve, ls, ys, yk, yp, yg, ln, en, op, upd st w 0, lo, hi, fr, lr, lk, lq, lv) := fun iu2 h1 h2 => by
    refine rk_cl (rk_Md_in rn ⟨rk_Co_Lg co, rk_Co_St co, rk_Co_Nw co, rk_Co_Lk co, ?_, rk_Co_np co⟩) hls hbd (by omega) (by omega)
    intro w' hw'
    by_cases e : w' = w
    · subst e; exact Or.inl ⟨h1, pk_us⟩
    · have hh := rk_Co_Wt co w' hw'
      simp only [pk_un e, h2 w' e]
      exact hh
  refine rx_bW0 hw (br_t rfl (And.intro hw2 ?_))
  rcases hW with ⟨z1, z2⟩ | ⟨z1, _, y⟩
  · refine br_t (rk_rd (by omega) z1) (ry_bW0 hw (br_f (by decide) (And.intro hw2 (nm_r (rk_rd (by omega) z2) (And.intro hw2 (nm_r (rk_wr (by omega) rfl) (br_t rfl ⟨rfl, fin iu z1 fun _ _ => rfl⟩)))))))
  · refine br_f (by rw [nI_clamp (by omega)]; exact z1) (And.intro hw2 (nm_r (e' := upd iu w 0) (by rw [rk_nb0]; exact rk_wr (by omega) rfl) (And.intro hw2 ?_)))
    have hf := fin (upd iu w 0) pk_us fun j hj => pk_un hj
    rcases y with ⟨y1, y2, _⟩ | ⟨y1, y2⟩
    · refine br_t (rk_rd (by omega) y1) (ry_bW0 hw (br_f (by decide) (And.intro hw2 (nm_r (rk_rd (by omega) y2) (And.intro hw2 (nm_r (rk_wr (by omega) rfl) (br_f (by decide) ⟨by decide, hf⟩)))))))
    · refine br_f (by rw [nI_clamp (by omega)]; exact y1) (ry_bW0 hw (br_f (by decide) (And.intro hw2 (nm_r (rk_rd (by omega) y2) (And.intro hw2 (nm_r (rk_wr (by omega) rfl) (br_f (by decide) ⟨by decide, hf⟩)))))))
theorem i_vc_handed {k : Nat} {u : SX} {v : SY} (I : i_Rel k u v) (hk : k + 5 ≤ 2560) (v1 : Int32) (v2 : Int32) : wpX_handed (fun r => wpY_handed (fun r' => r' = r ∧ i_Rel (k + 5) u v) v v1 v2) u v1 v2 := by
  refine rk_op (G := fun u v => wpX_handed (fun r => wpY_handed (fun r' => r' = r ∧ i_Rel (k + 5) u v) v v1 v2) u v1 v2) hk ?_ I
  intro P F O C D T ls op ln en np rv ky bf lc vl pt md vs rn iu il lo hi fr pl ah ak aq av ex va ma se ve ys yk yp yg st lr lk lq lv co hls hbd hPk hTk hP hT hC I0
  unfold wpX_handed wpY_handed
  rcases rk_ix v1 4 (by decide) with hb | ⟨w, hw, rfl⟩
  · exact rx_bW1 hb (br_f (by decide) (ry_bW1 hb (br_t rfl ⟨rfl, i_up I0⟩)))
  have hw2 : vp_in (nI w) 4 := vp_in_nI hw (by decide)
  have ew : (nI w).toNatClampNeg = w := nI_clamp (by omega)
  have hW := rk_Co_Wt co w hw
  refine rx_bW0 hw (br_t rfl ?_)
  by_cases g1 : v2 < 0
  · exact br_t g1 (ry_bW0 hw (br_f (by decide) (br_t g1 ⟨rfl, i_up I0⟩)))
  by_cases g2 : v2 ≤ 2
  · refine br_f g1 (br_t g2 (And.intro hw2 ?_))
    rcases hW with ⟨z1, z2⟩ | ⟨z1, hd, y⟩
    · exact br_t (rk_rd (by omega) z1) (ry_bW0 hw (br_f (by decide) (br_f g1 (br_t g2 (And.intro hw2 (br_t (rk_rd (by omega) z2) ⟨rfl, i_up I0⟩))))))
    · have hs : ¬ st (nI w).toNatClampNeg = 0 := by
        rw [ew]
        rcases y with y | y
        · rw [y.2.1]; decide
        · rw [y.2]; decide
      refine br_f (by rw [ew]; exact z1) (And.intro hw2 ?_)
      rcases hd with ⟨h1, h2⟩ | ⟨h1, h2, h3, h4, h5⟩
      · refine br_t (rk_rd (by omega) h1) (ry_bW0 hw (br_f (by decide) (br_f g1 (br_t g2 (And.intro hw2 (br_f hs (And.intro hw2 (br_f ?_ ⟨rfl, i_up I0⟩))))))))
        rw [ew]; exact Int32.not_le.mpr h2
      · have hle : (0 : Int32) ≤ lk (nI w).toNatClampNeg := by rw [ew]; exact Int32.not_lt.mp h2
        refine br_f (by rw [ew]; exact h1) ?_
        by_cases g3 : v2 = 0
        · refine br_t g3 (And.intro hw2 (ry_bW0 hw (br_f (by decide) (br_f g1 (br_t g2 (And.intro hw2 (br_f hs (And.intro hw2 (br_t hle (br_t g3 (And.intro hw2 ⟨?_, i_up I0⟩)))))))))))
          rw [ew]; exact h3.symm
        · by_cases g4 : v2 = 1
          · refine br_f g3 (br_t g4 (And.intro hw2 (ry_bW0 hw (br_f (by decide) (br_f g1 (br_t g2 (And.intro hw2 (br_f hs (And.intro hw2 (br_t hle (br_f g3 (br_t g4 (And.intro hw2 ?_)))))))))))))
            rw [ew, h4]
            exact br_c (fun z => ⟨by rw [if_pos z], i_up I0⟩) (fun z => ⟨by rw [if_neg z], i_up I0⟩)
          · refine br_f g3 (br_f g4 (And.intro hw2 (ry_bW0 hw (br_f (by decide) (br_f g1 (br_t g2 (And.intro hw2 (br_f hs (And.intro hw2 (br_t hle (br_f g3 (br_f g4 (And.intro hw2 ⟨?_, i_up I0⟩)))))))))))))
            rw [ew]; exact h5.symm
  · exact br_f g1 (br_f g2 (ry_bW0 hw (br_f (by decide) (br_f g1 (br_f g2 ⟨rfl, i_up I0⟩)))))
theorem i_vc_waiting {k : Nat} {u : SX} {v : SY} (I : i_Rel k u v) (hk : k + 5 ≤ 2560) (v1 : Int32) : wpX_waiting (fun r => wpY_waiting (fun r' => r' = r ∧ i_Rel (k + 5) u v) v v1) u v1 := by
  refine rk_op (G := fun u v => wpX_waiting (fun r => wpY_waiting (fun r' => r' = r ∧ i_Rel (k + 5) u v) v v1) u v1) hk ?_ I
  intro P F O C D T ls op ln en np rv ky bf lc vl pt md vs rn iu il lo hi fr pl ah ak aq av ex va ma se ve ys yk yp yg st lr lk lq lv co hls hbd hPk hTk hP hT hC I0
  unfold wpX_waiting wpY_waiting
  rcases rk_ix v1 4 (by decide) with hb | ⟨w, hw, rfl⟩
  · exact rx_bW1 hb (br_f (by decide) (ry_bW1 hb (br_t rfl ⟨rfl, i_up I0⟩)))
  have hw2 : vp_in (nI w) 4 := vp_in_nI hw (by decide)
  have ew : (nI w).toNatClampNeg = w := nI_clamp (by omega)
  have hcod := rk_Lg_cod (rk_Co_Lg co)
  refine rx_bW0 hw (br_t rfl (And.intro hw2 ?_))
  rcases rk_Co_Wt co w hw with ⟨z1, z2⟩ | ⟨z1, _, ⟨y1, y2, p, p1, p2, p3, p4, p5⟩ | ⟨y1, y2⟩⟩
  · refine br_t (rk_rd (by omega) z1) (And.intro hw2 (br_t (rk_rd (by omega) z1) (ry_bW0 hw (br_f (by decide) (And.intro hw2 (br_f (by rw [ew, z2]; decide) (And.intro hw2 (br_t (rk_rd (by omega) z2) ⟨rfl, i_up I0⟩))))))))
  · refine br_f (by rw [ew]; exact z1) (And.intro hw2 (br_t (rk_rd (by omega) y1) (And.intro hw2 (nm_r (rk_rd (by omega) p2) ?_))))
    have hq : ∀ c, rk_dc (p ≤ c ∧ O ≤ c ∧ rk_wb rv ky lo hi fr w c) = true ↔ (p ≤ c ∧ O ≤ c ∧ rk_wb rv ky lo hi fr w c) := fun c => rk_dc_t
    generalize hqq : (fun c => rk_dc (p ≤ c ∧ O ≤ c ∧ rk_wb rv ky lo hi fr w c)) = q
    have hq2 : ∀ c, q c = true ↔ (p ≤ c ∧ O ≤ c ∧ rk_wb rv ky lo hi fr w c) := fun c => by rw [← hqq]; exact hq c
    have e1 : rk_ct q p = 0 := rk_ct_z fun i hi z => by have := (hq2 i).mp z; omega
    have e2 : rk_ct q O = 0 := rk_ct_z fun i hi z => by have := (hq2 i).mp z; omega
    have hx : ∀ c, p ≤ c → c < C → (q c = true ↔ rk_wb rv ky lo hi fr w c) := fun c h1 h2 => by
      rw [hq2]
      refine ⟨fun z => z.2.2, fun z => ⟨h1, ?_, z⟩⟩
      exact Nat.le_of_not_lt fun y => p3 c h1 y z
    have hy : ∀ c, O ≤ c → c < C → (q c = true ↔ (rk_wb rv ky lo hi fr w c ∧ rk_ny rv ky lr lk w c)) := fun c h1 h2 => by
      rw [hq2]
      exact ⟨fun z => ⟨z.2.2, (p4 c h1 h2 z.2.2).mp z.1⟩, fun z => ⟨(p4 c h1 h2 z.1).mpr z.2, h1, z.1⟩⟩
    have K : ∀ post : Int32 → Prop, post (nI (rk_ct q C)) → ∃ n, wX_waiting_55 post (nI w) (nI C) (nI O) (nI P) (nI F) (nI T) (rk_nf rv) (rk_nf ky) vl pt md vs (rk_ef bf) (rk_ef lc) ls rn op ln en iu il lo hi fr pl ah ak aq av n 0 (nI p) := fun post h => ⟨C + 1, by
      have := rx_wt55 (post := post) (O := O) (P := P) (F := F) (T := T) (bf := bf) (lc := lc) (vl := vl) (pt := pt) (md := md) (vs := vs) (ls := ls) (rn := rn) (op := op) (ln := ln) (en := en) (iu := iu) (il := il) (pl := pl) (ah := ah) (ak := ak) (aq := aq) (av := av) hw hC hx h (C + 1) p (Nat.le_refl _) p1 (by omega)
      rw [e1] at this
      exact this⟩
    refine K _ ?_
    refine ry_bW0 hw (br_f (by decide) (And.intro hw2 (br_t (rk_rd (by omega) y2) ⟨D + 1, ?_⟩)))
    have := ry_wt42 (post := fun r' => r' = nI (rk_ct q C) ∧ i_Rel (k + 5) (nI C, nI O, nI P, nI F, nI T, rk_nf rv, rk_nf ky, vl, pt, md, vs, rk_ef bf, rk_ef lc, ls, rn, op, ln, en, iu, il, lo, hi, fr, pl, ah, ak, aq, av) (nI F, nI P, nI D, nI T, ex, va, ma, se, ve, ls, ys, yk, yp, yg, ln, en, op, st, lo, hi, fr, lr, lk, lq, lv)) (F := F) (P := P) (T2 := T) (ex := ex) (va := va) (ma := ma) (se := se) (ve := ve) (ls := ls) (ln := ln) (en := en) (op := op) (st := st) (lq := lq) (lv := lv) hw hcod (by omega) (rk_Co_Lk co) hy ⟨rfl, i_up I0⟩ (D + 1) 0 (by omega) (by omega)
    rw [show O + 0 = O from rfl, e2] at this
    exact this
  · refine br_f (by rw [ew]; exact z1) (And.intro hw2 (br_f (by rw [ew]; exact y1) (And.intro hw2 (br_f (by rw [ew]; exact z1) (ry_bW0 hw (br_f (by decide) (And.intro hw2 (br_f (by rw [ew, y2]; decide) (And.intro hw2 (br_f (by rw [ew, y2]; decide) ⟨rfl, i_up I0⟩))))))))))
theorem i_vc_next {k : Nat} {u : SX} {v : SY} (I : i_Rel k u v) (hk : k + 5 ≤ 2560) (v1 : Int32) : wpX_next (fun r u' => wpY_next (fun r' v' => r' = r ∧ i_Rel (k + 5) u' v') v v1) u v1 := by
  refine rk_op (G := fun u v => wpX_next (fun r u' => wpY_next (fun r' v' => r' = r ∧ i_Rel (k + 5) u' v') v v1) u v1) hk ?_ I
  intro P F O C D T ls op ln en np rv ky bf lc vl pt md vs rn iu il lo hi fr pl ah ak aq av ex va ma se ve ys yk yp yg st lr lk lq lv co hls hbd hPk hTk hP hT hC I0
  unfold wpX_next wpY_next
  rcases rk_ix v1 4 (by decide) with hb | ⟨w, hw, rfl⟩
  · exact rx_bW1 hb (br_f (by decide) (ry_bW1 hb (br_t rfl ⟨rfl, i_up I0⟩)))
  have hw2 : vp_in (nI w) 4 := vp_in_nI hw (by decide)
  have ew : (nI w).toNatClampNeg = w := nI_clamp (by omega)
  have hL := rk_Co_Lg co
  have hcod := rk_Lg_cod hL
  refine rx_bW0 hw (br_t rfl (And.intro hw2 ?_))
  rcases rk_Co_Wt co w hw with ⟨z1, z2⟩ | ⟨z1, hd, ⟨y1, y2, p, p1, p2, p3, p4, p5⟩ | ⟨y1, y2⟩⟩
  · refine br_t (rk_rd (by omega) z1) (And.intro hw2 (br_t (rk_rd (by omega) z1) (ry_bW0 hw (br_f (by decide) (And.intro hw2 (br_f (by rw [ew, z2]; decide) (And.intro hw2 (br_t (rk_rd (by omega) z2) ⟨rfl, i_up I0⟩))))))))
  · refine br_f (by rw [ew]; exact z1) (And.intro hw2 (br_t (rk_rd (by omega) y1) (And.intro hw2 (nm_r (rk_rd (by omega) p2) ⟨C + 1, ?_⟩))))
    have yo : ∀ post : Int32 → SY → Prop, wY_next_40 post (nI w) (nI F) (nI P) (nI D) (nI T) ex va ma se ve ls ys yk yp yg ln en op st lo hi fr lr lk lq lv (D + 1) (nI 0) → wpY_next post (nI F, nI P, nI D, nI T, ex, va, ma, se, ve, ls, ys, yk, yp, yg, ln, en, op, st, lo, hi, fr, lr, lk, lq, lv) (nI w) := fun post g => by
      unfold wpY_next
      exact ry_bW0 hw (br_f (by decide) (And.intro hw2 (br_t (rk_rd (by omega) y2) ⟨D + 1, g⟩)))
    rcases rk_first (fun c => p ≤ c ∧ rk_wb rv ky lo hi fr w c) D O with ⟨m, m1, m2, m3, m4⟩ | hn
    · have hpt := rk_Lg_p01 hL m (by omega)
      have hrm := rk_Lg_rvP hL m (by omega)
      have hkm := rk_Lg_kyB hL m (by omega)
      refine rx_nxF hw hC (by omega) m3.2 (fun c h1 h2 z => ?_) hpt ?_ (C + 1) p (Nat.le_refl _) m3.1 (by omega)
      · by_cases y : c < O
        · exact p3 c h1 y z
        · exact m4 c (by omega) h2 ⟨h1, z⟩
      · refine yo (fun r' v' => r' = nI (rv m) ∧ i_Rel (k + 5) (nI C, nI O, nI P, nI F, nI T, rk_nf rv, rk_nf ky, vl, pt, md, vs, rk_ef bf, rk_ef lc, ls, rn, op, ln, en, iu, il, lo, hi, fr, upd pl w (nI (m + 1)), upd ah w 1, upd ak w (nI (ky m)), upd aq w (pt m), upd av w (vl m)) v') ?_
        obtain ⟨i0, rfl⟩ : ∃ i0, m = O + i0 := ⟨m - O, by omega⟩
        refine ry_nxF (i0 := i0) hw (by omega) (by omega) (rk_Co_Lk co) ⟨m3.2, (p4 _ m1 (by omega) m3.2).mp m3.1⟩ (fun i hi z => ?_) hpt ?_ (D + 1) 0 (by omega) (by omega)
        · exact m4 (O + i) (by omega) (by omega) ⟨(p4 _ (by omega) (by omega) z.1).mpr z.2, z.1⟩
        · refine ⟨rfl, ?_⟩
          refine rk_cl (rk_Md_in rn ⟨rk_Co_Lg co, rk_Co_St co, rk_Co_Nw co, rk_Co_Lk co, ?_, rk_Co_np co⟩) hls hbd (by omega) (by omega)
          intro w' hw'
          by_cases e : w' = w
          · subst e
            refine Or.inr ⟨z1, Or.inr ⟨by rw [pk_us]; decide, by rw [pk_us]; exact nI_pos (by omega), by rw [pk_us, pk_us], ?_, by rw [pk_us, pk_us]⟩, Or.inl ⟨y1, y2, O + i0 + 1, by omega, pk_us, fun c h1 h2 => by omega, fun c h1 h2 _ => ?_, Or.inr ⟨rv (O + i0), hrm, pk_us⟩⟩⟩
            · rw [pk_us, pk_us]
              rcases hpt with y | y <;> rw [y] <;> decide
            · have hrc := rk_Lg_rvP hL c h2
              have hkc := rk_Lg_kyB hL c h2
              rw [rk_nyN (a := rv (O + i0)) (b := ky (O + i0)) (by omega) (by omega) (by omega) (by omega) pk_us pk_us]
              rcases Nat.lt_trichotomy c (O + i0) with y | y | y
              · have := rk_Lg_ord hL c (O + i0) y (by omega); omega
              · subst y; omega
              · have := rk_Lg_ord hL (O + i0) c y (by omega); omega
          · have hh := rk_Co_Wt co w' hw'
            simp only [rk_Hd, rk_Wa, rk_wb, rk_ny, pk_un e] at hh ⊢
            exact hh
    · refine rx_nxN hw hC (fun c h1 h2 z => ?_) ?_ (C + 1) p (Nat.le_refl _) p1 (by omega)
      · by_cases y : c < O
        · exact p3 c h1 y z
        · exact hn c (by omega) (by omega) ⟨h1, z⟩
      · refine yo (fun r' v' => r' = -1000000003 ∧ i_Rel (k + 5) (nI C, nI O, nI P, nI F, nI T, rk_nf rv, rk_nf ky, vl, pt, md, vs, rk_ef bf, rk_ef lc, ls, rn, op, ln, en, iu, il, lo, hi, fr, upd pl w (nI C), ah, ak, aq, av) v') ?_
        refine ry_nxN hw (by omega) (rk_Co_Lk co) (fun i hi z => hn (O + i) (by omega) (by omega) ⟨(p4 _ (by omega) (by omega) z.1).mpr z.2, z.1⟩) ?_ (D + 1) 0 (by omega) (by omega)
        refine ⟨rfl, ?_⟩
        refine rk_cl (rk_Md_in rn ⟨rk_Co_Lg co, rk_Co_St co, rk_Co_Nw co, rk_Co_Lk co, ?_, rk_Co_np co⟩) hls hbd (by omega) (by omega)
        intro w' hw'
        by_cases e : w' = w
        · subst e
          refine Or.inr ⟨z1, hd, Or.inl ⟨y1, y2, C, Nat.le_refl _, pk_us, fun c h1 h2 => by omega, fun c h1 h2 h3 => ⟨fun z => by omega, fun z => ?_⟩, p5⟩⟩
          exact absurd ⟨(p4 c h1 h2 h3).mpr z, h3⟩ (hn c h1 (by omega))
        · have hh := rk_Co_Wt co w' hw'
          simp only [rk_Hd, rk_Wa, rk_wb, rk_ny, pk_un e] at hh ⊢
          exact hh
  · refine br_f (by rw [ew]; exact z1) (And.intro hw2 (br_f (by rw [ew]; exact y1) (And.intro hw2 (br_f (by rw [ew]; exact z1) (ry_bW0 hw (br_f (by decide) (And.intro hw2 (br_f (by rw [ew, y2]; decide) (And.intro hw2 (br_f (by rw [ew, y2]; decide) ⟨rfl, i_up I0⟩))))))))))
end
section
/-! advance: X ends the leases by their ends, Y tick by tick -/
def rx_A (post : Int32 → SX → Prop) (n : Nat) (x2 x3 x4 : Int32) (u : SX) : Prop := match u with
  | (q1, q2, q3, q4, q5, q6, q7, q8, q9, q10, q11, q12, q13, q14, q15, q16, q17, q18, q19, q20, q21, q22, q23, q24, q25, q26, q27, q28) => wX_advance_33 post n x2 x3 x4 q1 q2 q3 q4 q5 q6 q7 q8 q9 q10 q11 q12 q13 q14 q15 q16 q17 q18 q19 q20 q21 q22 q23 q24 q25 q26 q27 q28
def ry_A1 (post : Int32 → SY → Prop) (x1 : Int32) (n : Nat) (x2 x3 : Int32) (v : SY) : Prop := match v with
  | (s1, s2, s3, s4, s5, s6, s7, s8, s9, s10, s11, s12, s13, s14, s15, s16, s17, s18, s19, s20, s21, s22, s23, s24, s25) => wY_advance_17 post x1 n x2 x3 s1 s2 s3 s4 s5 s6 s7 s8 s9 s10 s11 s12 s13 s14 s15 s16 s17 s18 s19 s20 s21 s22 s23 s24 s25
/-- the first lease to end among those below n (plus one; 0: none) -/
def rk_ft (op en : Nat → Int32) : Nat → Nat
  | 0 => 0
  | l + 1 => if op l = 0 then rk_ft op en l else if rk_ft op en l = 0 then l + 1 else if en (rk_ft op en l - 1) ≤ en l then rk_ft op en l else l + 1
theorem rk_ft_z {op en : Nat → Int32} {l : Nat} (h : op l = 0) : rk_ft op en (l + 1) = rk_ft op en l := if_pos h
theorem rk_ft_0 {op en : Nat → Int32} {l : Nat} (h : ¬ op l = 0) (h0 : rk_ft op en l = 0) : rk_ft op en (l + 1) = l + 1 := by
  show (if op l = 0 then rk_ft op en l else if rk_ft op en l = 0 then l + 1 else if en (rk_ft op en l - 1) ≤ en l then rk_ft op en l else l + 1) = _
  rw [if_neg h, if_pos h0]
theorem rk_ft_a {op en : Nat → Int32} {l b : Nat} (h : ¬ op l = 0) (h0 : rk_ft op en l = b + 1) (h1 : en b ≤ en l) : rk_ft op en (l + 1) = b + 1 := by
  show (if op l = 0 then rk_ft op en l else if rk_ft op en l = 0 then l + 1 else if en (rk_ft op en l - 1) ≤ en l then rk_ft op en l else l + 1) = _
  rw [h0, if_neg h, if_neg (by omega), Nat.add_sub_cancel, if_pos h1]
theorem rk_ft_b {op en : Nat → Int32} {l b : Nat} (h : ¬ op l = 0) (h0 : rk_ft op en l = b + 1) (h1 : ¬ en b ≤ en l) : rk_ft op en (l + 1) = l + 1 := by
  show (if op l = 0 then rk_ft op en l else if rk_ft op en l = 0 then l + 1 else if en (rk_ft op en l - 1) ≤ en l then rk_ft op en l else l + 1) = _
  rw [h0, if_neg h, if_neg (by omega), Nat.add_sub_cancel, if_neg h1]
theorem rk_ft_e {op en : Nat → Int32} : ∀ n, (rk_ft op en n = 0 ∧ ∀ l, l < n → op l = 0) ∨ (∃ b, rk_ft op en n = b + 1 ∧ b < n ∧ ¬ op b = 0 ∧ ∀ l, l < n → ¬ op l = 0 → (en b < en l ∨ (en b = en l ∧ b ≤ l)))
  | 0 => Or.inl ⟨rfl, fun l hl => by omega⟩
  | n + 1 => by
    by_cases h : op n = 0
    · rcases rk_ft_e (op := op) (en := en) n with ⟨e, a⟩ | ⟨b, e, b1, b2, b3⟩
      · refine Or.inl ⟨(rk_ft_z h).trans e, fun l hl => ?_⟩
        by_cases z : l = n
        · rw [z]; exact h
        · exact a l (by omega)
      · refine Or.inr ⟨b, (rk_ft_z h).trans e, by omega, b2, fun l hl ho => ?_⟩
        by_cases z : l = n
        · rw [z] at ho; exact absurd h ho
        · exact b3 l (by omega) ho
    · rcases rk_ft_e (op := op) (en := en) n with ⟨e, a⟩ | ⟨b, e, b1, b2, b3⟩
      · refine Or.inr ⟨n, rk_ft_0 h e, by omega, h, fun l hl ho => ?_⟩
        by_cases z : l = n
        · rw [z]; exact Or.inr ⟨rfl, Nat.le_refl _⟩
        · exact absurd (a l (by omega)) ho
      · by_cases c : en b ≤ en n
        · refine Or.inr ⟨b, rk_ft_a h e c, by omega, b2, fun l hl ho => ?_⟩
          by_cases z : l = n
          · rw [z]
            by_cases y : en b = en n
            · exact Or.inr ⟨y, by omega⟩
            · refine Or.inl ?_
              rw [Int32.lt_iff_toInt_lt]
              rw [Int32.le_iff_toInt_le] at c
              have : (en b).toInt ≠ (en n).toInt := fun w => y (Int32.toInt_inj.mp w)
              omega
          · exact b3 l (by omega) ho
        · refine Or.inr ⟨n, rk_ft_b h e c, by omega, h, fun l hl ho => ?_⟩
          by_cases z : l = n
          · rw [z]; exact Or.inr ⟨rfl, Nat.le_refl _⟩
          · refine Or.inl ?_
            have c1 := Int32.not_le.mp c
            rw [Int32.lt_iff_toInt_lt] at c1 ⊢
            rcases b3 l (by omega) ho with w | w
            · rw [Int32.lt_iff_toInt_lt] at w; omega
            · rw [← w.1]; exact c1
theorem rk_ft_is {op en : Nat → Int32} {E : Nat → Nat} {b : Nat} (hb : b < 6) (ho : ¬ op b = 0) (hE : ∀ l, l < 6 → ¬ op l = 0 → en l = nI (E l) ∧ E l < 2 ^ 31) (h : ∀ l, l < 6 → ¬ op l = 0 → E b < E l ∨ (E b = E l ∧ b ≤ l)) : rk_ft op en 6 = b + 1 := by
  rcases rk_ft_e (op := op) (en := en) 6 with ⟨e, a⟩ | ⟨c, e, c1, c2, c3⟩
  · exact absurd (a b hb) ho
  · have h1 := h c c1 c2
    have h2 := c3 b hb ho
    have e1 := hE c c1 c2
    have e2 := hE b hb ho
    rw [e1.1, e2.1, nI_ltI e1.2 e2.2, nI_eq e1.2 e2.2] at h2
    have : c = b := by omega
    rw [e, this]
section
variable {C O D P F T T2 : Nat} {rv ky bf lc : Nat → Nat} {vl pt md vs ls rn op ln en iu il lo hi fr pl ah ak aq av : Nat → Int32} {ex va ma se ve ys yk yp yg st lr lk lq lv : Nat → Int32}
variable {P0 Q K : Nat} {np : Nat → Int32}
theorem rx_ft4 {post : Int32 → Prop} (h : post (rk_en (rk_ft op en 6))) : ∀ n l, l ≤ 6 → 6 - l < n → wX_firstToEnd_4 post (nI C) (nI O) (nI P) (nI F) (nI T) (rk_nf rv) (rk_nf ky) vl pt md vs (rk_ef bf) (rk_ef lc) ls rn op ln en iu il lo hi fr pl ah ak aq av n (rk_en (rk_ft op en l)) (nI l) := by
  intro n
  induction n with
  | zero => intro l _ hn; omega
  | succ n ih =>
    intro l hl hn
    by_cases e : l = 6
    · subst e; exact br_t (nI_le (a := 6) (b := 6) (by omega) (by decide)) h
    · have := ih (l + 1) (by omega) (by omega)
      have hv : vp_in (nI l) 6 := vp_in_nI (by omega) (by decide)
      refine br_f (nI_ge (a := l) (b := 6) (by omega) (by decide)) (And.intro hv ?_)
      by_cases ho : op l = 0
      · rw [rk_ft_z ho] at this
        exact br_t (rk_rd (by omega) ho) (nm_r (nI_1 l) this)
      · refine br_f (by rw [nI_clamp (by omega)]; exact ho) ?_
        rcases rk_ft_e (op := op) (en := en) l with ⟨e0, _⟩ | ⟨b, e0, b1, _⟩
        · rw [rk_ft_0 ho e0] at this
          exact br_t (by rw [e0]; rfl) (nm_r (nI_1 l) this)
        · have eb : rk_en (rk_ft op en l) = nI b := by rw [e0]; rfl
          refine br_f (by rw [eb]; exact rk_n1 (by omega)) (And.intro hv (And.intro (rk_vx eb (by omega) (by decide)) ?_))
          have r1 : en (rk_en (rk_ft op en l)).toNatClampNeg = en b := rk_rx eb (by omega) rfl
          have r2 : en (nI l).toNatClampNeg = en l := rk_rd (by omega) rfl
          by_cases c : en b ≤ en l
          · rw [rk_ft_a ho e0 c] at this
            refine br_t (by rw [r1, r2]; exact c) (nm_r (nI_1 l) ?_)
            rw [e0]; exact this
          · rw [rk_ft_b ho e0 c] at this
            exact br_f (by rw [r1, r2]; exact c) (nm_r (nI_1 l) this)
theorem rx_firstToEnd {post : Int32 → Prop} (h : post (rk_en (rk_ft op en 6))) : wpX_firstToEnd post (nI C, nI O, nI P, nI F, nI T, rk_nf rv, rk_nf ky, vl, pt, md, vs, rk_ef bf, rk_ef lc, ls, rn, op, ln, en, iu, il, lo, hi, fr, pl, ah, ak, aq, av) :=
  ⟨7, rx_ft4 h 7 0 (by omega) (by omega)⟩
end
theorem rx_ftM {P P0 Q F O C D K T T2 : Nat} {ls op ln en np : Nat → Int32} {u : SX} {v : SY} (hM : rk_Md P P0 Q F O C D K T T2 ls op ln en np u v) : ∀ post : Int32 → Prop, post (rk_en (rk_ft op en 6)) → wpX_firstToEnd post u :=
  rk_Md_el (G := fun u v => ∀ post : Int32 → Prop, post (rk_en (rk_ft op en 6)) → wpX_firstToEnd post u) (fun rv ky bf lc vl pt md vs rn iu il lo hi fr pl ah ak aq av ex va ma se ve ys yk yp yg st lr lk lq lv co post h => rx_firstToEnd h) hM
def rk_oc (op : Nat → Int32) : Nat → Bool := fun j => decide (op j ≠ 0)
def rk_Av (t tx l cn P0 P D : Nat) (ls op ln en np : Nat → Int32) : Prop :=
  (P ≤ P0 + cn) ∧
  (D + rk_ct (rk_le ls) 16 ≤ 116) ∧
  (∀ k, k < 16 → ls k = -1 ∨ ∃ l, l < 6 ∧ ls k = nI l ∧ op l ≠ 0 ∧ np k ≠ 0) ∧
  (∀ j, j < 6 → op j ≠ 0 → ∃ e, en j = nI e ∧ e ≤ tx + 50 ∧ (t < e ∨ (e = t ∧ l ≤ j))) ∧
  (∀ j, j < 6 → op j ≠ 0 → ∃ q, ln j = nI q ∧ 1 ≤ q ∧ q ≤ 50) ∧
  (cn + rk_ct (rk_oc op) 6 ≤ 6)
theorem rk_Av_P {t tx l cn P0 P D : Nat} {ls op ln en np : Nat → Int32} (h : rk_Av t tx l cn P0 P D ls op ln en np) : P ≤ P0 + cn := h.1
theorem rk_Av_bd {t tx l cn P0 P D : Nat} {ls op ln en np : Nat → Int32} (h : rk_Av t tx l cn P0 P D ls op ln en np) : D + rk_ct (rk_le ls) 16 ≤ 116 := h.2.1
theorem rk_Av_ok {t tx l cn P0 P D : Nat} {ls op ln en np : Nat → Int32} (h : rk_Av t tx l cn P0 P D ls op ln en np) : ∀ k, k < 16 → ls k = -1 ∨ ∃ l, l < 6 ∧ ls k = nI l ∧ op l ≠ 0 ∧ np k ≠ 0 := h.2.2.1
theorem rk_Av_en {t tx l cn P0 P D : Nat} {ls op ln en np : Nat → Int32} (h : rk_Av t tx l cn P0 P D ls op ln en np) : ∀ j, j < 6 → op j ≠ 0 → ∃ e, en j = nI e ∧ e ≤ tx + 50 ∧ (t < e ∨ (e = t ∧ l ≤ j)) := h.2.2.2.1
theorem rk_Av_ln {t tx l cn P0 P D : Nat} {ls op ln en np : Nat → Int32} (h : rk_Av t tx l cn P0 P D ls op ln en np) : ∀ j, j < 6 → op j ≠ 0 → ∃ q, ln j = nI q ∧ 1 ≤ q ∧ q ≤ 50 := h.2.2.2.2.1
theorem rk_Av_ct {t tx l cn P0 P D : Nat} {ls op ln en np : Nat → Int32} (h : rk_Av t tx l cn P0 P D ls op ln en np) : cn + rk_ct (rk_oc op) 6 ≤ 6 := h.2.2.2.2.2
def rk_Aw (t tx l cn P0 F O : Nat) (ln en op : Nat → Int32) (u : SX) (v : SY) : Prop :=
  ∃ (P C D : Nat) (ls np : Nat → Int32), rk_Md P P P F O C D 16 tx t ls op ln en np u v ∧ rk_Av t tx l cn P0 P D ls op ln en np
def rk_X1 (post : Int32 → SX → Prop) (cn : Nat) (op en : Nat → Int32) (u : SX) : Prop := ∀ n, 6 - cn < n → rx_A post n (nI cn) (rk_en (rk_ft op en 6)) (nI cn) u
end
section
/-! advance in lockstep -/
abbrev rk_JT : Type := Int32 → Int32 → Int32 → Int32 → Int32 → Int32 → (Nat → Int32) → (Nat → Int32) → (Nat → Int32) → (Nat → Int32) → (Nat → Int32) → (Nat → Int32) → (Nat → Int32) → (Nat → Int32) → (Nat → Int32) → (Nat → Int32) → (Nat → Int32) → (Nat → Int32) → (Nat → Int32) → (Nat → Int32) → (Nat → Int32) → (Nat → Int32) → (Nat → Int32) → (Nat → Int32) → (Nat → Int32) → (Nat → Int32) → (Nat → Int32) → Prop
def ry_A2 (post : Int32 → SY → Prop) (J : rk_JT) (x1 x3 : Int32) (n : Nat) (x2 x4 : Int32) (v : SY) : Prop := match v with
  | (s1, s2, s3, s4, s5, s6, s7, s8, s9, s10, s11, s12, s13, s14, s15, s16, s17, s18, s19, s20, s21, s22, s23, s24, s25) => wY_advance_35 post J x1 x3 n x2 x4 s1 s2 s3 s4 s5 s6 s7 s8 s9 s10 s11 s12 s13 s14 s15 s16 s17 s18 s19 s20 s21 s22 s23 s24 s25
def ry_J (J : rk_JT) (x2 x3 : Int32) (v : SY) : Prop := match v with
  | (s1, s2, s3, s4, s5, s6, s7, s8, s9, s10, s11, s12, s13, s14, s15, s16, s17, s18, s19, s20, s21, s22, s23, s24, s25) => J x2 x3 s1 s2 s3 s4 s5 s6 s7 s8 s9 s10 s11 s12 s13 s14 s15 s16 s17 s18 s19 s20 s21 s22 s23 s24 s25
section
variable {t tx l cn P0 F O : Nat} {ln en op : Nat → Int32} {u : SX} {v : SY}
theorem rj_inS (hA : rk_Aw t tx l cn P0 F O ln en op u v) (htx : t ≤ tx) (hb : tx ≤ 60000) (hl : l < 6) (hs : op l = 0 ∨ ¬ en l = nI t) :
    rk_Aw t tx (l + 1) cn P0 F O ln en op u v ∧ (∀ (post : Int32 → SY → Prop) (J : rk_JT) (x1 x3 : Int32) (n : Nat), ry_A2 post J x1 x3 n (nI cn) (nI (l + 1)) v → ry_A2 post J x1 x3 (n + 1) (nI cn) (nI l) v) := by
  obtain ⟨P, C, D, ls, np, hM, hv⟩ := hA
  refine ⟨⟨P, C, D, ls, np, hM, rk_Av_P hv, rk_Av_bd hv, rk_Av_ok hv, fun j hj ho => ?_, rk_Av_ln hv, rk_Av_ct hv⟩, ?_⟩
  · obtain ⟨e, e1, e2, e3⟩ := rk_Av_en hv j hj ho
    refine ⟨e, e1, e2, ?_⟩
    rcases e3 with z | ⟨z1, z2⟩
    · exact Or.inl z
    · refine Or.inr ⟨z1, ?_⟩
      have : j ≠ l := fun y => by
        subst y; subst z1
        rcases hs with w | w
        · exact ho w
        · exact w e1
      omega
  · refine rk_Md_el (G := fun u v => ∀ (post : Int32 → SY → Prop) (J : rk_JT) (x1 x3 : Int32) (n : Nat), ry_A2 post J x1 x3 n (nI cn) (nI (l + 1)) v → ry_A2 post J x1 x3 (n + 1) (nI cn) (nI l) v) (fun rv ky bf lc vl pt md vs rn iu il lo hi fr pl ah ak aq av ex va ma se ve ys yk yp yg st lr lk lq lv co post J x1 x3 n h => ?_) hM
    have hv2 : vp_in (nI l) 6 := vp_in_nI hl (by decide)
    have ew : (nI l).toNatClampNeg = l := nI_clamp (by omega)
    refine br_f (nI_ge (a := l) (b := 6) hl (by decide)) (And.intro hv2 (br_c (fun _ => nm_r (nI_1 l) h) fun ho => And.intro hv2 (br_f ?_ (nm_r (nI_1 l) h))))
    rw [ew] at ho ⊢
    rcases hs with w | w
    · exact absurd w ho
    · exact w
theorem rj_inE (hA : rk_Aw t tx l cn P0 F O ln en op u v) (hP0 : P0 ≤ 5200) (htx : t ≤ tx) (hb : tx ≤ 60000) (hl : l < 6) (ho : ¬ op l = 0) (he : en l = nI t) :
    ∃ (op1 : Nat → Int32) (u1 : SX) (v1 : SY), rk_Aw t tx (l + 1) (cn + 1) P0 F O ln en op1 u1 v1 ∧ (∀ post : Int32 → SX → Prop, rk_X1 post (cn + 1) op1 en u1 → rk_X1 post cn op en u) ∧
      (∀ (post : Int32 → SY → Prop) (J : rk_JT) (x1 x3 : Int32) (n : Nat), ry_A2 post J x1 x3 n (nI (cn + 1)) (nI (l + 1)) v1 → ry_A2 post J x1 x3 (n + 1) (nI cn) (nI l) v) := by
  obtain ⟨P, C, D, ls, np, hM, hv⟩ := hA
  have hct := rk_Av_ct hv
  have hPc := rk_Av_P hv
  have hpos : rk_ct (rk_oc op) l < rk_ct (rk_oc op) 6 := rk_ct_lt hl (decide_eq_true ho)
  obtain ⟨c, P1, C1, D1, ls1, np1, u1, v1, h1, h2, h3, h4, h5, h6, h7, h8⟩ := rj_end hM hl (rk_Av_bd hv) (fun j hj e => by
    rcases rk_Av_ok hv j hj with y | ⟨l2, a, b, c, d⟩
    · exact absurd (e.symm.trans y) (rk_n1 (by omega))
    · exact d) (by omega)
  have hdj : rk_ct (rk_oc op) 6 = rk_ct (fun j => decide (j = l)) 6 + rk_ct (rk_oc (upd op l 0)) 6 := rk_ct_dj fun i hi => by
    unfold rk_oc
    rw [decide_eq_true_iff, decide_eq_true_iff, decide_eq_true_iff]
    by_cases e : i = l
    · subst e; rw [pk_us]
      exact ⟨⟨fun _ => Or.inl rfl, fun _ => ho⟩, fun y => y.2 rfl⟩
    · rw [pk_un e]
      exact ⟨⟨fun y => Or.inr y, fun y => y.elim (fun w => absurd w e) id⟩, fun y => e y.1⟩
  have h1l : 0 < rk_ct (fun j => decide (j = l)) 6 := by
    have := rk_ct_lt (p := fun j => decide (j = l)) hl (decide_eq_true rfl)
    omega
  have hop : ∀ j, ¬ upd op l 0 j = 0 → j ≠ l ∧ ¬ op j = 0 := fun j hj => by
    by_cases e : j = l
    · subst e; rw [pk_us] at hj; exact absurd rfl hj
    · rw [pk_un e] at hj; exact ⟨e, hj⟩
  refine ⟨upd op l 0, u1, v1, ⟨P1, C1, D1, ls1, np1, h1, by omega, h4, fun j hj => ?_, fun j hj hz => ?_, fun j hj hz => rk_Av_ln hv j hj (hop j hz).2, by omega⟩, fun post hX n hn => ?_, ?_⟩
  · rw [h5 j hj, h6 j hj]
    by_cases z : ls j = nI l
    · rw [if_pos z]; exact Or.inl rfl
    · rw [if_neg z, if_neg z]
      rcases rk_Av_ok hv j hj with y | ⟨l2, a, b, c, d⟩
      · exact Or.inl y
      · refine Or.inr ⟨l2, a, b, ?_, d⟩
        rw [pk_un (fun e => z (by rw [b, e]))]
        exact c
  · obtain ⟨e, e1, e2, e3⟩ := rk_Av_en hv j hj (hop j hz).2
    have := (hop j hz).1
    exact ⟨e, e1, e2, by omega⟩
  · -- X's turn
    have hft : rk_ft op en 6 = l + 1 := by
      refine rk_ft_is (E := fun j => (en j).toNatClampNeg) hl ho (fun j hj hz => ?_) (fun j hj hz => ?_)
      · obtain ⟨e, e1, e2, e3⟩ := rk_Av_en hv j hj hz
        show en j = nI (en j).toNatClampNeg ∧ _
        rw [e1, nI_clamp (by omega)]
        exact ⟨rfl, by omega⟩
      · obtain ⟨e, e1, e2, e3⟩ := rk_Av_en hv j hj hz
        show (en l).toNatClampNeg < (en j).toNatClampNeg ∨ ((en l).toNatClampNeg = (en j).toNatClampNeg ∧ l ≤ j)
        rw [e1, he, nI_clamp (by omega), nI_clamp (by omega)]
        omega
    rw [hft]
    have hFT := rx_ftM h1
    cases n with
    | zero => omega
    | succ n =>
      have hX2 := hX n (by omega)
      revert h7 hFT hX2
      refine rk_Md_el (G := fun u v => (∀ post : Int32 → SX → Prop, post (nI c) u1 → wpX_endLease post u (nI l)) → (∀ post : Int32 → Prop, post (rk_en (rk_ft (upd op l 0) en 6)) → wpX_firstToEnd post u1) → rx_A post n (nI (cn + 1)) (rk_en (rk_ft (upd op l 0) en 6)) (nI (cn + 1)) u1 → rx_A post (n + 1) (nI cn) (rk_en (l + 1)) (nI cn) u) (fun rv ky bf lc vl pt md vs rn iu il lo hi fr pl ah ak aq av ex va ma se ve ys yk yp yg st lr lk lq lv co h7 hFT hX2 => ?_) hM
      refine br_f (nI_ge (a := cn) (b := 6) (by omega) (by decide)) (br_f (rk_n1 (by omega)) (And.intro (vp_in_nI hl (by decide)) (br_f ?_ (h7 _ ?_))))
      · show ¬ nI tx < en (nI l).toNatClampNeg
        rw [rk_rd (f := en) (c := l) (by omega) he]
        exact nI_nlt htx (by omega)
      · rcases u1 with ⟨q1, q2, q3, q4, q5, q6, q7, q8, q9, q10, q11, q12, q13, q14, q15, q16, q17, q18, q19, q20, q21, q22, q23, q24, q25, q26, q27, q28⟩
        exact nm_r (nI_1 cn) (hFT _ (nm_r (nI_1 cn) hX2))
  · -- Y's turn
    revert h8
    refine rk_Md_el (G := fun u v => (∀ post : Int32 → SY → Prop, post (nI c) v1 → wpY_end post v (nI l)) → ∀ (post : Int32 → SY → Prop) (J : rk_JT) (x1 x3 : Int32) (n : Nat), ry_A2 post J x1 x3 n (nI (cn + 1)) (nI (l + 1)) v1 → ry_A2 post J x1 x3 (n + 1) (nI cn) (nI l) v) (fun rv ky bf lc vl pt md vs rn iu il lo hi fr pl ah ak aq av ex va ma se ve ys yk yp yg st lr lk lq lv co h8 post J x1 x3 n h => ?_) hM
    have hv2 : vp_in (nI l) 6 := vp_in_nI hl (by decide)
    refine br_f (nI_ge (a := l) (b := 6) hl (by decide)) (And.intro hv2 (br_f (by rw [nI_clamp (by omega)]; exact ho) (And.intro hv2 (br_t (rk_rd (by omega) he) (h8 _ ?_)))))
    rcases v1 with ⟨s1, s2, s3, s4, s5, s6, s7, s8, s9, s10, s11, s12, s13, s14, s15, s16, s17, s18, s19, s20, s21, s22, s23, s24, s25⟩
    exact nm_r (nI_1 cn) (nm_r (nI_1 l) h)
end
theorem rj_in {t tx P0 F O : Nat} {ln en : Nat → Int32} (hP0 : P0 ≤ 5200) (htx : t ≤ tx) (hb : tx ≤ 60000) : ∀ d l, l + d = 6 → ∀ (cn : Nat) (op : Nat → Int32) (u : SX) (v : SY), rk_Aw t tx l cn P0 F O ln en op u v →
    ∃ (cn1 : Nat) (op1 : Nat → Int32) (u1 : SX) (v1 : SY), rk_Aw t tx 6 cn1 P0 F O ln en op1 u1 v1 ∧ (∀ post : Int32 → SX → Prop, rk_X1 post cn1 op1 en u1 → rk_X1 post cn op en u) ∧
      (∀ (post : Int32 → SY → Prop) (J : rk_JT) (x1 x3 : Int32) (n : Nat), d < n → ry_J J (nI cn1) (x3 + 1) v1 → ry_A2 post J x1 x3 n (nI cn) (nI l) v) := by
  intro d
  induction d with
  | zero =>
    intro l hl cn op u v hA
    have : l = 6 := by omega
    subst this
    refine ⟨cn, op, u, v, hA, fun _ h => h, fun post J x1 x3 n hn h => ?_⟩
    cases n with
    | zero => omega
    | succ n =>
      rcases v with ⟨s1, s2, s3, s4, s5, s6, s7, s8, s9, s10, s11, s12, s13, s14, s15, s16, s17, s18, s19, s20, s21, s22, s23, s24, s25⟩
      exact br_t (nI_le (a := 6) (b := 6) (by omega) (by decide)) (nm_e h)
  | succ d ih =>
    intro l hl cn op u v hA
    by_cases hs : op l = 0 ∨ ¬ en l = nI t
    · obtain ⟨hA2, hY2⟩ := rj_inS hA htx hb (by omega) hs
      obtain ⟨cn1, op1, u1, v1, g1, g2, g3⟩ := ih (l + 1) (by omega) cn op u v hA2
      refine ⟨cn1, op1, u1, v1, g1, g2, fun post J x1 x3 n hn h => ?_⟩
      cases n with
      | zero => omega
      | succ n => exact hY2 post J x1 x3 n (g3 post J x1 x3 n (by omega) h)
    · have ho : ¬ op l = 0 := fun z => hs (Or.inl z)
      have he : en l = nI t := Classical.byContradiction fun z => hs (Or.inr z)
      obtain ⟨op0, u0, v0, hA2, hX2, hY2⟩ := rj_inE hA hP0 htx hb (by omega) ho he
      obtain ⟨cn1, op1, u1, v1, g1, g2, g3⟩ := ih (l + 1) (by omega) (cn + 1) op0 u0 v0 hA2
      refine ⟨cn1, op1, u1, v1, g1, fun post h => hX2 post (g2 post h), fun post J x1 x3 n hn h => ?_⟩
      cases n with
      | zero => omega
      | succ n => exact hY2 post J x1 x3 n (g3 post J x1 x3 n (by omega) h)
/-- X stops when all leases end later -/
theorem rj_stop {tx l cn P0 F O : Nat} {ln en op : Nat → Int32} {u : SX} {v : SY} (hA : rk_Aw tx tx 6 cn P0 F O ln en op u v) (hb : tx ≤ 60000) : ∀ post : Int32 → SX → Prop, post (nI cn) u → rk_X1 post cn op en u := by
  obtain ⟨P, C, D, ls, np, hM, hv⟩ := hA
  have hct := rk_Av_ct hv
  refine rk_Md_el (G := fun u v => ∀ post : Int32 → SX → Prop, post (nI cn) u → rk_X1 post cn op en u) (fun rv ky bf lc vl pt md vs rn iu il lo hi fr pl ah ak aq av ex va ma se ve ys yk yp yg st lr lk lq lv co post h n hn => ?_) hM
  cases n with
  | zero => omega
  | succ n =>
    by_cases h6 : cn = 6
    · subst h6; exact br_t (nI_le (a := 6) (b := 6) (by omega) (by decide)) h
    · refine br_f (nI_ge (a := cn) (b := 6) (by omega) (by decide)) ?_
      rcases rk_ft_e (op := op) (en := en) 6 with ⟨e, a⟩ | ⟨b, e, b1, b2, b3⟩
      · exact br_t (by rw [e]; rfl) h
      · have eb : rk_en (rk_ft op en 6) = nI b := by rw [e]; rfl
        obtain ⟨ee, e1, e2, e3⟩ := rk_Av_en hv b b1 b2
        refine br_f (by rw [eb]; exact rk_n1 (by omega)) (And.intro (rk_vx eb b1 (by decide)) (br_t ?_ h))
        rw [rk_rx (f := en) eb (by omega) e1]
        exact nI_lt (by omega) (by omega)
theorem rj_out {tx P0 F O m : Nat} {ln en : Nat → Int32} (hP0 : P0 ≤ 5200) (hb : tx ≤ 60000) (hm : m ≤ 100) : ∀ d t, t + d = tx → ∀ (i cn : Nat) (op : Nat → Int32) (u : SX) (v : SY), i + d = m → rk_Aw t tx 6 cn P0 F O ln en op u v →
    ∃ (cn1 : Nat) (op1 : Nat → Int32) (u1 : SX) (v1 : SY), rk_Aw tx tx 6 cn1 P0 F O ln en op1 u1 v1 ∧ (∀ post : Int32 → SX → Prop, post (nI cn1) u1 → rk_X1 post cn op en u) ∧
      (∀ (post : Int32 → SY → Prop) (n : Nat), d < n → post (nI cn1) v1 → ry_A1 post (nI m) n (nI cn) (nI i) v) := by
  intro d
  induction d with
  | zero =>
    intro t ht i cn op u v hi hA
    have : t = tx := by omega
    subst this
    refine ⟨cn, op, u, v, hA, rj_stop (l := 0) hA hb, fun post n hn h => ?_⟩
    cases n with
    | zero => omega
    | succ n =>
      rcases v with ⟨s1, s2, s3, s4, s5, s6, s7, s8, s9, s10, s11, s12, s13, s14, s15, s16, s17, s18, s19, s20, s21, s22, s23, s24, s25⟩
      exact br_t (nI_le (by omega) (by omega)) h
  | succ d ih =>
    intro t ht i cn op u v hi hA
    obtain ⟨P, C, D, ls, np, hM, hv⟩ := hA
    have main : ∃ v2 : SY, rk_Aw (t + 1) tx 0 cn P0 F O ln en op u v2 ∧ (∀ (post : Int32 → SY → Prop) (n : Nat), (∃ n2, ry_A2 post (wY_advance_17 post (nI m) n) (nI m) (nI i) n2 (nI cn) (nI 0) v2) → ry_A1 post (nI m) (n + 1) (nI cn) (nI i) v) := by
      refine rk_Md_el (G := fun u v => ∃ v2 : SY, rk_Aw (t + 1) tx 0 cn P0 F O ln en op u v2 ∧ (∀ (post : Int32 → SY → Prop) (n : Nat), (∃ n2, ry_A2 post (wY_advance_17 post (nI m) n) (nI m) (nI i) n2 (nI cn) (nI 0) v2) → ry_A1 post (nI m) (n + 1) (nI cn) (nI i) v)) (fun rv ky bf lc vl pt md vs rn iu il lo hi fr pl ah ak aq av ex va ma se ve ys yk yp yg st lr lk lq lv co => ?_) hM
      refine ⟨_, ⟨P, C, D, ls, np, rk_Md_in (T2 := t + 1) rn co, rk_Av_P hv, rk_Av_bd hv, rk_Av_ok hv, fun j hj ho => ?_, rk_Av_ln hv, rk_Av_ct hv⟩, fun post n h => ?_⟩
      · obtain ⟨e, e1, e2, e3⟩ := rk_Av_en hv j hj ho
        exact ⟨e, e1, e2, by omega⟩
      · exact br_f (nI_ge (by omega) (by omega)) (nm_r (nI_1 t) h)
    obtain ⟨v2, hA2, hY2⟩ := main
    obtain ⟨cn1, op1, u1, v1, g1, g2, g3⟩ := rj_in hP0 (by omega) hb 6 0 (by omega) cn op u v2 hA2
    obtain ⟨cn3, op3, u3, v3, f1, f2, f3⟩ := ih (t + 1) (by omega) (i + 1) cn1 op1 u1 v1 (by omega) g1
    refine ⟨cn3, op3, u3, v3, f1, fun post h => g2 post (f2 post h), fun post n hn h => ?_⟩
    cases n with
    | zero => omega
    | succ n =>
      refine hY2 post n ⟨7, g3 post _ _ _ 7 (by omega) ?_⟩
      have := f3 post n (by omega) h
      rw [nI_1]
      rcases v1 with ⟨s1, s2, s3, s4, s5, s6, s7, s8, s9, s10, s11, s12, s13, s14, s15, s16, s17, s18, s19, s20, s21, s22, s23, s24, s25⟩
      exact this
theorem i_vc_advance {k : Nat} {u : SX} {v : SY} (I : i_Rel k u v) (hk : k + 5 ≤ 2560) (v1 : Int32) : wpX_advance (fun r u' => wpY_advance (fun r' v' => r' = r ∧ i_Rel (k + 5) u' v') v v1) u v1 := by
  refine rk_op (G := fun u v => wpX_advance (fun r u' => wpY_advance (fun r' v' => r' = r ∧ i_Rel (k + 5) u' v') v v1) u v1) hk ?_ I
  intro P F O C D T ls op ln en np rv ky bf lc vl pt md vs rn iu il lo hi fr pl ah ak aq av ex va ma se ve ys yk yp yg st lr lk lq lv co hls hbd hPk hTk hP hT hC I0
  unfold wpX_advance wpY_advance
  by_cases g1 : v1 < 0
  · exact br_t g1 (br_t g1 ⟨rfl, i_up I0⟩)
  by_cases g2 : v1 ≤ 100
  · obtain ⟨m, hm, rfl⟩ := nI_of2 (n := 100) (by decide) g1 g2
    refine br_f g1 (br_t g2 (nm_r (nI_add T m) (rx_firstToEnd ?_)))
    obtain ⟨cn1, op1, u1, v1, h1, h2, h3⟩ := rj_out (tx := T + m) (P0 := P) (F := F) (O := O) (m := m) (ln := ln) (en := en) (by omega) (by omega) hm m T rfl 0 0 op _ _ (by omega) ⟨P, C, D, ls, np, rk_Md_in (T := T + m) (T2 := T) rn co, by omega, hbd, rk_Ls_ok hls, fun j hj ho => by
      obtain ⟨e, e1, e2, e3⟩ := rk_Ls_en hls j hj ho
      exact ⟨e, e1, by omega, Or.inl e2⟩, rk_Ls_ln hls, by have := rk_ct_le (rk_oc op) 6; omega⟩
    have hX : ∀ post : Int32 → SX → Prop, post (nI cn1) u1 → wX_advance_33 post 7 (nI 0) (rk_en (rk_ft op en 6)) (nI 0) (nI C) (nI O) (nI P) (nI F) (nI (T + m)) (rk_nf rv) (rk_nf ky) vl pt md vs (rk_ef bf) (rk_ef lc) ls rn op ln en iu il lo hi fr pl ah ak aq av := fun post h => h2 post h 7 (by omega)
    have hY : ∀ post : Int32 → SY → Prop, post (nI cn1) v1 → wY_advance_17 post (nI m) (m + 1) (nI 0) (nI 0) (nI F) (nI P) (nI D) (nI T) ex va ma se ve ls ys yk yp yg ln en op st lo hi fr lr lk lq lv := fun post h => h3 post (m + 1) (by omega) h
    refine ⟨7, hX _ ?_⟩
    refine br_f g1 (br_t g2 ⟨m + 1, hY _ ⟨rfl, ?_⟩⟩)
    obtain ⟨P1, C1, D1, ls1, np1, hM, hv⟩ := h1
    have hct := rk_Av_ct hv
    have hPc := rk_Av_P hv
    refine rk_cl hM ⟨rk_Av_ok hv, fun j hj ho => ?_, rk_Av_ln hv⟩ (rk_Av_bd hv) (by omega) (by omega)
    obtain ⟨e, e1, e2, e3⟩ := rk_Av_en hv j hj ho
    exact ⟨e, e1, by omega, e2⟩
  · exact br_f g1 (br_f g2 (br_f g1 (br_f g2 ⟨rfl, i_up I0⟩)))
end
section
/-! compaction, the pure part -/
def rk_kp (rv ky : Nat → Nat) (pt : Nat → Int32) (r C : Nat) : Nat → Bool := fun c => decide (r < rv c ∨ (rk_la rv ky (ky c) r C = c + 1 ∧ pt c ≠ 0))
/-- the new number of a change (0: none) -/
def rk_r (kp : Nat → Bool) : Nat → Nat
  | 0 => 0
  | b + 1 => if kp b = true then rk_ct kp b + 1 else 0
theorem rk_r_t {kp : Nat → Bool} {b : Nat} (h : kp b = true) : rk_r kp (b + 1) = rk_ct kp b + 1 := if_pos h
theorem rk_r_f {kp : Nat → Bool} {b : Nat} (h : ¬ kp b = true) : rk_r kp (b + 1) = 0 := if_neg h
def rk_Mv (kp : Nat → Bool) (c : Nat) (rv ky bf : Nat → Nat) (vl pt md vs : Nat → Int32) (rv2 ky2 bf2 : Nat → Nat) (vl2 pt2 md2 vs2 : Nat → Int32) : Prop :=
  (∀ j, j < c → kp j = true → rv2 (rk_ct kp j) = rv j ∧ ky2 (rk_ct kp j) = ky j ∧ bf2 (rk_ct kp j) = rk_r kp (bf j) ∧ vl2 (rk_ct kp j) = vl j ∧ pt2 (rk_ct kp j) = pt j ∧ md2 (rk_ct kp j) = md j ∧ vs2 (rk_ct kp j) = vs j) ∧
  (∀ j, c ≤ j → rv2 j = rv j ∧ ky2 j = ky j ∧ bf2 j = bf j ∧ vl2 j = vl j ∧ pt2 j = pt j ∧ md2 j = md j ∧ vs2 j = vs j)
theorem rk_Mv_lo {kp : Nat → Bool} {c : Nat} {rv ky bf : Nat → Nat} {vl pt md vs : Nat → Int32} {rv2 ky2 bf2 : Nat → Nat} {vl2 pt2 md2 vs2 : Nat → Int32} (h : rk_Mv kp c rv ky bf vl pt md vs rv2 ky2 bf2 vl2 pt2 md2 vs2) : ∀ j, j < c → kp j = true → rv2 (rk_ct kp j) = rv j ∧ ky2 (rk_ct kp j) = ky j ∧ bf2 (rk_ct kp j) = rk_r kp (bf j) ∧ vl2 (rk_ct kp j) = vl j ∧ pt2 (rk_ct kp j) = pt j ∧ md2 (rk_ct kp j) = md j ∧ vs2 (rk_ct kp j) = vs j := h.1
theorem rk_Mv_hi {kp : Nat → Bool} {c : Nat} {rv ky bf : Nat → Nat} {vl pt md vs : Nat → Int32} {rv2 ky2 bf2 : Nat → Nat} {vl2 pt2 md2 vs2 : Nat → Int32} (h : rk_Mv kp c rv ky bf vl pt md vs rv2 ky2 bf2 vl2 pt2 md2 vs2) : ∀ j, c ≤ j → rv2 j = rv j ∧ ky2 j = ky j ∧ bf2 j = bf j ∧ vl2 j = vl j ∧ pt2 j = pt j ∧ md2 j = md j ∧ vs2 j = vs j := h.2
section
variable {P P0 F O C D K r g : Nat} {rv ky bf lc rv2 ky2 bf2 lc2 : Nat → Nat} {vl pt md vs vl2 pt2 md2 vs2 : Nat → Int32}
theorem rk_mono (hL : rk_Lg P P0 F O C D K rv ky pt bf lc) {i j : Nat} (h : i ≤ j) (hj : j < C) : rv i ≤ rv j := by
  by_cases e : i = j
  · rw [e]; exact Nat.le_refl _
  · rcases rk_Lg_ord hL i j (by omega) hj with z | z <;> omega
theorem rk_kp_hi {c : Nat} (h : r < rv c) : rk_kp rv ky pt r C c = true := decide_eq_true (Or.inl h)
theorem rk_kp_lo {c : Nat} (h : rk_kp rv ky pt r C c = true) (hr : rv c ≤ r) : rk_la rv ky (ky c) r C = c + 1 ∧ pt c ≠ 0 := by
  rcases of_decide_eq_true h with z | z
  · omega
  · exact z
theorem rk_kp_not {c : Nat} (h : ¬ rk_kp rv ky pt r C c = true) : rv c ≤ r ∧ ¬ (rk_la rv ky (ky c) r C = c + 1 ∧ pt c ≠ 0) := by
  constructor
  · exact Nat.le_of_not_lt fun z => h (decide_eq_true (Or.inl z))
  · exact fun z => h (decide_eq_true (Or.inr z))
/-- what is not kept hides nothing: no kept one of its key stands below it -/
theorem rk_kp_no (hL : rk_Lg P P0 F O C D K rv ky pt bf lc) {b i : Nat} (hb : b < C) (h : ¬ rk_kp rv ky pt r C b = true) (hi : rk_kp rv ky pt r C i = true) (hib : i ≤ b) (hk : ky i = ky b) : False := by
  have hr := (rk_kp_not h).1
  have hne : i ≠ b := fun e => h (e ▸ hi)
  have h1 := rk_mono hL hib hb
  have h2 := rk_la_s (rk_kp_lo hi (by omega)).1
  have := h2.2.2.2 b (by omega) hb hk.symm
  omega
/-- a last change at or before R, R at or above r, that is not kept was no put -/
theorem rk_kp_p0 {k R b : Nat} (hR : r ≤ R) (e : rk_la rv ky k R C = b + 1) (h : ¬ rk_kp rv ky pt r C b = true) : pt b = 0 := by
  have h1 := rk_la_s e
  have h2 := rk_kp_not h
  have h3 : rk_la rv ky (ky b) r C = b + 1 := rk_la_i h1.1 rfl h2.1 fun i a c z => by
    have := h1.2.2.2 i a c (z.trans h1.2.1)
    omega
  exact Classical.byContradiction fun z => h2.2 ⟨h3, z⟩
theorem rk_mv_ex {kp : Nat → Bool} (hM : rk_Mv kp C rv ky bf vl pt md vs rv2 ky2 bf2 vl2 pt2 md2 vs2) {n j : Nat} (hn : n ≤ C) (hj : j < rk_ct kp n) : ∃ i, i < n ∧ kp i = true ∧ rk_ct kp i = j ∧ rv2 j = rv i ∧ ky2 j = ky i ∧ bf2 j = rk_r kp (bf i) ∧ vl2 j = vl i ∧ pt2 j = pt i ∧ md2 j = md i ∧ vs2 j = vs i := by
  obtain ⟨i, h1, h2, h3⟩ := rk_ct_ex hj
  have := rk_Mv_lo hM i (by omega) h2
  rw [h3] at this
  exact ⟨i, h1, h2, h3, this⟩
theorem rk_ct_inv {kp : Nat → Bool} {a b : Nat} (h : rk_ct kp a ≤ rk_ct kp b) (hb : kp b = true) : a ≤ b ∨ rk_ct kp a = rk_ct kp b := by
  by_cases e : a ≤ b
  · exact Or.inl e
  · have := rk_ct_lt (p := kp) (a := b) (n := a) (by omega) hb
    omega
theorem rk_ct_ge {kp : Nat → Bool} {a b : Nat} (hb : kp b = true) : rk_ct kp a ≤ rk_ct kp b ↔ a ≤ b := by
  constructor
  · intro h
    exact Nat.le_of_not_lt fun z => by have := rk_ct_lt (p := kp) z hb; omega
  · exact fun h => rk_ct_m a h
theorem rk_lk_mv (hL : rk_Lg P P0 F O C D K rv ky pt bf lc) (hM : rk_Mv (rk_kp rv ky pt r C) C rv ky bf vl pt md vs rv2 ky2 bf2 vl2 pt2 md2 vs2) {n k : Nat} (hn : n ≤ C) :
    rk_lk ky2 k (rk_ct (rk_kp rv ky pt r C) n) = rk_r (rk_kp rv ky pt r C) (rk_lk ky k n) := by
  rcases e : rk_lk ky k n with _ | b
  · refine rk_lk_z fun j hj => ?_
    obtain ⟨i, h1, h2, h3, h4⟩ := rk_mv_ex hM hn hj
    rw [h4.2.1]
    exact rk_lk_0 e i h1
  · have hb := rk_lk_s e
    by_cases hk : rk_kp rv ky pt r C b = true
    · rw [rk_r_t hk]
      have hv := rk_Mv_lo hM b (by omega) hk
      refine rk_lk_i (rk_ct_lt hb.1 hk) (hv.2.1.trans hb.2.1) fun j h1 h2 => ?_
      obtain ⟨i, g1, g2, g3, g4⟩ := rk_mv_ex hM hn h2
      rw [g4.2.1]
      refine hb.2.2 i ?_ g1
      exact Nat.lt_of_not_le fun z => by have := rk_ct_m (p := rk_kp rv ky pt r C) i z; omega
    · rw [rk_r_f hk]
      refine rk_lk_z fun j hj => ?_
      obtain ⟨i, g1, g2, g3, g4⟩ := rk_mv_ex hM hn hj
      rw [g4.2.1]
      intro z
      refine rk_kp_no hL (by omega) hk g2 ?_ (z.trans hb.2.1.symm)
      exact Nat.le_of_not_lt fun y => hb.2.2 i y g1 z
theorem rk_la_mv (hL : rk_Lg P P0 F O C D K rv ky pt bf lc) (hM : rk_Mv (rk_kp rv ky pt r C) C rv ky bf vl pt md vs rv2 ky2 bf2 vl2 pt2 md2 vs2) {k R : Nat} :
    rk_la rv2 ky2 k R (rk_ct (rk_kp rv ky pt r C) C) = rk_r (rk_kp rv ky pt r C) (rk_la rv ky k R C) := by
  rcases e : rk_la rv ky k R C with _ | b
  · refine rk_la_z fun j hj z => ?_
    obtain ⟨i, h1, h2, h3, h4⟩ := rk_mv_ex hM (Nat.le_refl _) hj
    rw [h4.1]
    exact rk_la_0 e i h1 (h4.2.1.symm.trans z)
  · have hb := rk_la_s e
    by_cases hk : rk_kp rv ky pt r C b = true
    · rw [rk_r_t hk]
      have hv := rk_Mv_lo hM b hb.1 hk
      refine rk_la_i (rk_ct_lt hb.1 hk) (hv.2.1.trans hb.2.1) (by rw [hv.1]; exact hb.2.2.1) fun j h1 h2 z => ?_
      obtain ⟨i, g1, g2, g3, g4⟩ := rk_mv_ex hM (Nat.le_refl _) h2
      rw [g4.1]
      refine hb.2.2.2 i ?_ g1 (g4.2.1.symm.trans z)
      exact Nat.lt_of_not_le fun z => by have := rk_ct_m (p := rk_kp rv ky pt r C) i z; omega
    · rw [rk_r_f hk]
      refine rk_la_z fun j hj z => ?_
      obtain ⟨i, g1, g2, g3, g4⟩ := rk_mv_ex hM (Nat.le_refl _) hj
      rw [g4.1]
      refine Nat.lt_of_not_le fun y => ?_
      have hki := g4.2.1.symm.trans z
      refine rk_kp_no hL hb.1 hk g2 ?_ (hki.trans hb.2.1.symm)
      exact Nat.le_of_not_lt fun w => by have := hb.2.2.2 i w g1 hki; omega
/-- the put bit of a last change stays -/
theorem rk_pb_mv (hM : rk_Mv (rk_kp rv ky pt r C) C rv ky bf vl pt md vs rv2 ky2 bf2 vl2 pt2 md2 vs2) {k R : Nat} (hR : r ≤ R) :
    rk_pb pt2 (rk_r (rk_kp rv ky pt r C) (rk_la rv ky k R C)) = rk_pb pt (rk_la rv ky k R C) := by
  rcases e : rk_la rv ky k R C with _ | b
  · rfl
  · by_cases hk : rk_kp rv ky pt r C b = true
    · rw [rk_r_t hk]
      exact (rk_Mv_lo hM b (rk_la_s e).1 hk).2.2.2.2.1
    · rw [rk_r_f hk]
      exact (rk_kp_p0 hR e hk).symm
/-- where the revisions at or before r end -/
theorem rk_cut (hL : rk_Lg P P0 F O C D K rv ky pt bf lc) (hF : F ≤ r) : ∃ g, O ≤ g ∧ g ≤ C ∧ ∀ c, c < C → (c < g ↔ rv c ≤ r) := by
  have hOC := rk_Lg_OC hL
  rcases rk_first (fun c => r < rv c) C 0 with ⟨g, h1, h2, h3, h4⟩ | h
  · refine ⟨g, ?_, by omega, fun c hc => ⟨fun z => ?_, fun z => ?_⟩⟩
    · refine Nat.le_of_not_lt fun z => ?_
      have := (rk_Lg_old hL g (by omega)).mp z
      omega
    · have := h4 c (by omega) z
      omega
    · refine Nat.lt_of_not_le fun y => ?_
      have := rk_mono hL y hc
      omega
  · refine ⟨C, hOC, Nat.le_refl _, fun c hc => ⟨fun _ => ?_, fun _ => hc⟩⟩
    have := h c (by omega) (by omega)
    omega
theorem rk_ct_up {kp : Nat → Bool} {g : Nat} : ∀ d, (∀ i, g ≤ i → i < g + d → kp i = true) → rk_ct kp (g + d) = rk_ct kp g + d
  | 0, _ => rfl
  | d + 1, h => by
    rw [show g + (d + 1) = g + d + 1 from rfl, rk_ct_t (h (g + d) (by omega) (by omega)), rk_ct_up d fun i a b => h i a (by omega)]
    rfl
theorem rk_ct_upC {i : Nat} (hg2 : g ≤ C) (hg : ∀ c, c < C → (c < g ↔ rv c ≤ r)) (h1 : g ≤ i) (h2 : i ≤ C) : rk_ct (rk_kp rv ky pt r C) i = rk_ct (rk_kp rv ky pt r C) g + (i - g) := by
  have := rk_ct_up (kp := rk_kp rv ky pt r C) (g := g) (i - g) fun j a b => rk_kp_hi (Nat.lt_of_not_le fun z => by have := (hg j (by omega)).mpr z; omega)
  rw [show g + (i - g) = i from by omega] at this
  exact this
theorem rk_Lg_comp (hL : rk_Lg P P F O C D 16 rv ky pt bf lc) (hFr : F ≤ r) (hrP : r ≤ P) (hM : rk_Mv (rk_kp rv ky pt r C) C rv ky bf vl pt md vs rv2 ky2 bf2 vl2 pt2 md2 vs2)
    (hlc : ∀ k, k < 16 → lc2 k = rk_r (rk_kp rv ky pt r C) (lc k)) (hg1 : O ≤ g) (hg2 : g ≤ C) (hg : ∀ c, c < C → (c < g ↔ rv c ≤ r)) :
    rk_Lg P P r (rk_ct (rk_kp rv ky pt r C) g) (rk_ct (rk_kp rv ky pt r C) C) (C - g) 16 rv2 ky2 pt2 bf2 lc2 := by
  have hup := fun i => rk_ct_upC (ky := ky) (pt := pt) (i := i) hg2 hg
  have hC := hup C hg2 (Nat.le_refl _)
  refine ⟨fun c hc => ?_, fun c hc => ?_, by omega, hrP, fun k hk => ?_, fun c hc => ?_, fun i j hij hj => ?_, fun c hc => ?_, fun i j hi hj e => ?_, ?_, fun c h1 h2 => ?_, fun c hc => ?_⟩
  · obtain ⟨i, g1, g2, g3, g4⟩ := rk_mv_ex hM (Nat.le_refl _) hc
    rw [g4.2.1]; exact rk_Lg_kyB hL i g1
  · obtain ⟨i, g1, g2, g3, g4⟩ := rk_mv_ex hM (Nat.le_refl _) hc
    rw [g4.2.2.2.2.1]; exact rk_Lg_p01 hL i g1
  · rw [hlc k hk, rk_Lg_lcE hL k hk, rk_lk_mv hL hM (Nat.le_refl _)]
  · obtain ⟨i, g1, g2, g3, g4⟩ := rk_mv_ex hM (Nat.le_refl _) hc
    rw [g4.2.2.1, g4.2.1, rk_Lg_bfE hL i g1, ← g3, rk_lk_mv hL hM (Nat.le_of_lt g1)]
  · obtain ⟨i1, g1, g2, g3, g4⟩ := rk_mv_ex hM (Nat.le_refl _) (Nat.lt_trans hij hj)
    obtain ⟨i2, f1, f2, f3, f4⟩ := rk_mv_ex hM (Nat.le_refl _) hj
    rw [g4.1, g4.2.1, f4.1, f4.2.1]
    refine rk_Lg_ord hL i1 i2 ?_ f1
    exact Nat.lt_of_not_le fun z => by have := rk_ct_m (p := rk_kp rv ky pt r C) i2 z; omega
  · obtain ⟨i, g1, g2, g3, g4⟩ := rk_mv_ex hM (Nat.le_refl _) hc
    rw [g4.1, ← hg i g1, ← g3]
    refine ⟨fun z => ?_, fun z => rk_ct_lt z g2⟩
    exact Nat.lt_of_not_le fun y => by have := rk_ct_m (p := rk_kp rv ky pt r C) g y; omega
  · obtain ⟨i1, g1, g2, g3, g4⟩ := rk_mv_ex hM hg2 hi
    obtain ⟨i2, f1, f2, f3, f4⟩ := rk_mv_ex hM hg2 hj
    rw [g4.2.1, f4.2.1] at e
    have a1 := rk_kp_lo g2 ((hg i1 (by omega)).mp g1)
    have a2 := rk_kp_lo f2 ((hg i2 (by omega)).mp f1)
    rw [e] at a1
    have := a1.1.symm.trans a2.1
    have : i1 = i2 := by omega
    rw [← g3, ← f3, this]
  · have h0 := rk_Lg_pa0 hL
    by_cases e : g = O
    · rw [e] at hC ⊢; omega
    · have h1 := rk_Lg_pac hL (g - 1) (by omega) (by omega)
      have h2 := (hg (g - 1) (by omega)).mp (by omega)
      omega
  · obtain ⟨i, g1, g2, g3, g4⟩ := rk_mv_ex hM (Nat.le_refl _) h2
    have hgi : g ≤ i := Nat.le_of_not_lt fun y => by have := rk_ct_lt (p := rk_kp rv ky pt r C) y g2; omega
    have := hup i hgi (Nat.le_of_lt g1)
    have := rk_Lg_pac hL i (by omega) g1
    rw [g4.1]
    omega
  · obtain ⟨i, g1, g2, g3, g4⟩ := rk_mv_ex hM (Nat.le_refl _) hc
    rw [g4.1, g4.2.1]
    exact rk_Lg_nxt hL i g1
/-- a copy downwards by e, the first i done -/
def rk_cp (a : Nat → Int32) (e i : Nat) : Nat → Int32 := fun j => if j < i then a (j + e) else a j
theorem rk_cp_i {a : Nat → Int32} {e i j : Nat} (h : j < i) : rk_cp a e i j = a (j + e) := if_pos h
theorem rk_cp_o {a : Nat → Int32} {e i j : Nat} (h : i ≤ j) : rk_cp a e i j = a j := if_neg (by omega)
theorem rk_cp_0 {a : Nat → Int32} {e : Nat} : rk_cp a e 0 = a := by funext j; exact rk_cp_o (by omega)
theorem rk_cp_s {a : Nat → Int32} {e i : Nat} {x : Int32} (h : x = a (i + e)) : upd (rk_cp a e i) i x = rk_cp a e (i + 1) := by
  funext j
  by_cases z : j = i
  · subst z; rw [pk_us, rk_cp_i (by omega)]; exact h
  · rw [pk_un z]
    by_cases y : j < i
    · rw [rk_cp_i y, rk_cp_i (by omega)]
    · rw [rk_cp_o (by omega), rk_cp_o (by omega)]
theorem rk_St_comp {ex va : Nat → Int32} (hL : rk_Lg P P F O C D 16 rv ky pt bf lc) (hS : rk_St P F C rv ky vl pt ex va) (hFr : F ≤ r) (hrP : r ≤ P) (hM : rk_Mv (rk_kp rv ky pt r C) C rv ky bf vl pt md vs rv2 ky2 bf2 vl2 pt2 md2 vs2) :
    rk_St P r (rk_ct (rk_kp rv ky pt r C) C) rv2 ky2 vl2 pt2 (rk_cp ex (16 * (r - F)) (16 * (P - r) + 16)) (rk_cp va (16 * (r - F)) (16 * (P - r) + 16)) := by
  refine ⟨fun R k h1 h2 hk => ?_, fun R k c h1 h2 hk e n0 => ?_⟩
  · rw [rk_cp_i (by omega), rk_la_mv hL hM, rk_pb_mv hM h1, show 16 * (R - r) + k + 16 * (r - F) = 16 * (R - F) + k from by omega]
    exact rk_St_ex hS R k (by omega) h2 hk
  · rw [rk_cp_i (by omega), show 16 * (R - r) + k + 16 * (r - F) = 16 * (R - F) + k from by omega]
    rw [rk_la_mv hL hM] at e
    rcases eb : rk_la rv ky k R C with _ | b
    · rw [eb] at e; exact absurd e (by show ¬ 0 = c + 1; omega)
    · rw [eb] at e
      by_cases hb : rk_kp rv ky pt r C b = true
      · rw [rk_r_t hb] at e
        have hv := rk_Mv_lo hM b (rk_la_s eb).1 hb
        have : rk_ct (rk_kp rv ky pt r C) b = c := by omega
        rw [this] at hv
        rw [hv.2.2.2.1]
        rw [hv.2.2.2.2.1] at n0
        exact rk_St_va hS R k b (by omega) h2 hk eb n0
      · rw [rk_r_f hb] at e
        omega
theorem rk_Nw_comp {ma se ve : Nat → Int32} (hL : rk_Lg P P F O C D 16 rv ky pt bf lc) (hN : rk_Nw rv pt md vs lc ma se ve) (hM : rk_Mv (rk_kp rv ky pt r C) C rv ky bf vl pt md vs rv2 ky2 bf2 vl2 pt2 md2 vs2)
    (hlc : ∀ k, k < 16 → lc2 k = rk_r (rk_kp rv ky pt r C) (lc k)) : rk_Nw rv2 pt2 md2 vs2 lc2 ma se ve := fun k c hk e n0 => by
  rw [hlc k hk] at e
  rcases eb : lc k with _ | b
  · rw [eb] at e; exact absurd e (by show ¬ 0 = c + 1; omega)
  · rw [eb] at e
    have hbC : b < C := (rk_lk_s ((rk_Lg_lcE hL k hk).symm.trans eb)).1
    by_cases hb : rk_kp rv ky pt r C b = true
    · rw [rk_r_t hb] at e
      have hv := rk_Mv_lo hM b hbC hb
      have : rk_ct (rk_kp rv ky pt r C) b = c := by omega
      rw [this] at hv
      rw [hv.2.2.2.2.1] at n0
      rw [hv.1, hv.2.2.2.2.2.1, hv.2.2.2.2.2.2]
      exact hN k b hk eb n0
    · rw [rk_r_f hb] at e
      omega
theorem rk_Lk_comp {ys yk yp yg : Nat → Int32} (hL : rk_Lg P P F O C D 16 rv ky pt bf lc) (hK : rk_Lk O D rv ky vl pt ys yk yp yg) (hM : rk_Mv (rk_kp rv ky pt r C) C rv ky bf vl pt md vs rv2 ky2 bf2 vl2 pt2 md2 vs2)
    (hg1 : O ≤ g) (hg2 : g ≤ C) (hg : ∀ c, c < C → (c < g ↔ rv c ≤ r)) :
    rk_Lk (rk_ct (rk_kp rv ky pt r C) g) (C - g) rv2 ky2 vl2 pt2 (rk_cp ys (g - O) (C - g)) (rk_cp yk (g - O) (C - g)) (rk_cp yp (g - O) (C - g)) (rk_cp yg (g - O) (C - g)) := fun i hi => by
  have hcod := rk_Lg_cod hL
  have h1 := hK (i + (g - O)) (by omega)
  have hgi : ¬ rv (g + i) ≤ r := fun z => by have := (hg (g + i) (by omega)).mpr z; omega
  have hv := rk_Mv_lo hM (g + i) (by omega) (rk_kp_hi (by omega))
  have e := rk_ct_upC (ky := ky) (pt := pt) (i := g + i) hg2 hg (by omega) (by omega)
  rw [show g + i - g = i from by omega] at e
  rw [e] at hv
  rw [rk_cp_i hi, rk_cp_i hi, rk_cp_i hi, rk_cp_i hi, hv.1, hv.2.1, hv.2.2.2.1, hv.2.2.2.2.1]
  rw [show O + (i + (g - O)) = g + i from by omega] at h1
  exact h1
theorem rk_np_comp {np : Nat → Int32} (hL : rk_Lg P P F O C D 16 rv ky pt bf lc) (hn : ∀ k, k < 16 → np k = rk_pb pt (lc k)) (hrP : r ≤ P) (hM : rk_Mv (rk_kp rv ky pt r C) C rv ky bf vl pt md vs rv2 ky2 bf2 vl2 pt2 md2 vs2)
    (hlc : ∀ k, k < 16 → lc2 k = rk_r (rk_kp rv ky pt r C) (lc k)) : ∀ k, k < 16 → np k = rk_pb pt2 (lc2 k) := fun k hk => by
  rw [hn k hk, hlc k hk, rk_Lg_lcE hL k hk, ← rk_la_lk (rv := rv) (rk_Lg_rvP hL), rk_pb_mv hM hrP]
/-- what a compaction at r takes from a watch before it was handed out: as X looks, as Y looks -/
def rk_mX (C r : Nat) (rv ky : Nat → Nat) (lo hi fr : Nat → Int32) (p w : Nat) : Prop := ∃ c, p ≤ c ∧ c < C ∧ rv c ≤ r ∧ rk_wb rv ky lo hi fr w c
def rk_mY (O C r : Nat) (rv ky : Nat → Nat) (lo hi fr lr lk : Nat → Int32) (w : Nat) : Prop := ∃ c, O ≤ c ∧ c < C ∧ rv c ≤ r ∧ rk_wb rv ky lo hi fr w c ∧ rk_ny rv ky lr lk w c
theorem rk_mXY {lo hi fr lr lk : Nat → Int32} {w p : Nat} (h3 : ∀ c, p ≤ c → c < O → ¬ rk_wb rv ky lo hi fr w c) (h4 : ∀ c, O ≤ c → c < C → rk_wb rv ky lo hi fr w c → (p ≤ c ↔ rk_ny rv ky lr lk w c)) :
    rk_mX C r rv ky lo hi fr p w ↔ rk_mY O C r rv ky lo hi fr lr lk w := by
  constructor
  · rintro ⟨c, a1, a2, a3, a4⟩
    have hO : O ≤ c := Nat.le_of_not_lt fun z => h3 c a1 z a4
    exact ⟨c, hO, a2, a3, a4, (h4 c hO a2 a4).mp a1⟩
  · rintro ⟨c, a1, a2, a3, a4, a5⟩
    exact ⟨c, (h4 c a1 a2 a4).mpr a5, a2, a3, a4⟩
theorem rk_Wa_comp {lo hi fr pl pl2 lr lk : Nat → Int32} {Q w p : Nat} (hM : rk_Mv (rk_kp rv ky pt r C) C rv ky bf vl pt md vs rv2 ky2 bf2 vl2 pt2 md2 vs2)
    (hg1 : O ≤ g) (hg2 : g ≤ C) (hg : ∀ c, c < C → (c < g ↔ rv c ≤ r))
    (h1 : p ≤ C) (h3 : ∀ c, p ≤ c → c < O → ¬ rk_wb rv ky lo hi fr w c) (h4 : ∀ c, O ≤ c → c < C → rk_wb rv ky lo hi fr w c → (p ≤ c ↔ rk_ny rv ky lr lk w c)) (h5 : lk w < 0 ∨ ∃ q, q ≤ Q ∧ lr w = nI q)
    (hm : ¬ rk_mX C r rv ky lo hi fr p w) (hp2 : pl2 w = nI (rk_ct (rk_kp rv ky pt r C) p)) : rk_Wa Q (rk_ct (rk_kp rv ky pt r C) g) (rk_ct (rk_kp rv ky pt r C) C) rv2 ky2 lo hi fr pl2 lr lk w := by
  refine ⟨_, rk_ct_m p h1, hp2, fun c a b z => ?_, fun c a b z => ?_, h5⟩
  · obtain ⟨i, g1, g2, g3, g4⟩ := rk_mv_ex hM hg2 b
    rw [← g3, rk_ct_ge g2] at a
    exact hm ⟨i, a, by omega, (hg i (by omega)).mp g1, (rk_wb_c g4.1 g4.2.1).mp z⟩
  · obtain ⟨i, g1, g2, g3, g4⟩ := rk_mv_ex hM (Nat.le_refl _) b
    have hgi : g ≤ i := Nat.le_of_not_lt fun y => by have := rk_ct_lt (p := rk_kp rv ky pt r C) y g2; omega
    rw [← g3, rk_ct_ge g2, g3, rk_ny_c g4.1 g4.2.1]
    exact h4 i (by omega) g1 ((rk_wb_c g4.1 g4.2.1).mp z)
end
end
section
/-! compaction: X's walk -/
def rk_mx (i : Nat) (f g : Nat → Int32) : Nat → Int32 := fun j => if j < i then f j else g j
theorem rk_mx_lo {i j : Nat} {f g : Nat → Int32} (h : j < i) : rk_mx i f g j = f j := if_pos h
theorem rk_mx_hi {i j : Nat} {f g : Nat → Int32} (h : i ≤ j) : rk_mx i f g j = g j := if_neg (by omega)
theorem rk_mx_0 {f g : Nat → Int32} : rk_mx 0 f g = g := by funext j; exact rk_mx_hi (by omega)
theorem rk_mx_s {i : Nat} {f g : Nat → Int32} {x : Int32} (h : x = f i) : upd (rk_mx i f g) i x = rk_mx (i + 1) f g := by
  funext j
  by_cases e : j = i
  · subst e; rw [pk_us, rk_mx_lo (by omega)]; exact h
  · rw [pk_un e]
    by_cases e2 : j < i
    · rw [rk_mx_lo e2, rk_mx_lo (by omega)]
    · rw [rk_mx_hi (by omega), rk_mx_hi (by omega)]
theorem rk_mx_n {i : Nat} {f g : Nat → Int32} (h : f i = g i) : rk_mx i f g = rk_mx (i + 1) f g := by
  funext j
  by_cases e : j = i
  · subst e; rw [rk_mx_hi (Nat.le_refl _), rk_mx_lo (by omega)]; exact h.symm
  · by_cases e2 : j < i
    · rw [rk_mx_lo e2, rk_mx_lo (by omega)]
    · rw [rk_mx_hi (by omega), rk_mx_hi (by omega)]
def rk_mN (i : Nat) (f g : Nat → Nat) : Nat → Nat := fun j => if j < i then f j else g j
theorem rk_mN_lo {i j : Nat} {f g : Nat → Nat} (h : j < i) : rk_mN i f g j = f j := if_pos h
theorem rk_mN_hi {i j : Nat} {f g : Nat → Nat} (h : i ≤ j) : rk_mN i f g j = g j := if_neg (by omega)
theorem rk_mN_0 {f g : Nat → Nat} : rk_mN 0 f g = g := by funext j; exact rk_mN_hi (by omega)
theorem rk_mN_s {i x : Nat} {f g : Nat → Nat} (h : x = f i) : rk_uN (rk_mN i f g) i x = rk_mN (i + 1) f g := by
  funext j
  by_cases e : j = i
  · subst e; rw [rk_us, rk_mN_lo (by omega)]; exact h
  · rw [rk_un e]
    by_cases e2 : j < i
    · rw [rk_mN_lo e2, rk_mN_lo (by omega)]
    · rw [rk_mN_hi (by omega), rk_mN_hi (by omega)]
/-- the new numbers of all changes -/
def rk_rf (kp : Nat → Bool) : Nat → Int32 := fun j => rk_en (rk_r kp (j + 1))
theorem rk_r_le {kp : Nat → Bool} (x : Nat) : rk_r kp x ≤ x := by
  cases x with
  | zero => exact Nat.le_refl _
  | succ b =>
    by_cases h : kp b = true
    · rw [rk_r_t h]; have := rk_ct_le kp b; omega
    · rw [rk_r_f h]; omega
theorem rk_rf_t {kp : Nat → Bool} {j : Nat} (h : kp j = true) : rk_rf kp j = nI (rk_ct kp j) := by
  show rk_en (rk_r kp (j + 1)) = _
  rw [rk_r_t h]; rfl
theorem rk_rf_f {kp : Nat → Bool} {j : Nat} (h : ¬ kp j = true) : rk_rf kp j = -1 := by
  show rk_en (rk_r kp (j + 1)) = _
  rw [rk_r_f h]; rfl
theorem rk_en_eq {x c : Nat} (hx : x ≤ 2 ^ 31) (hc : c < 2 ^ 31) : rk_en x = nI c ↔ x = c + 1 := by
  cases x with
  | zero => exact ⟨fun z => absurd z.symm (rk_n1 hc), fun z => by omega⟩
  | succ b =>
    show nI b = nI c ↔ _
    rw [nI_eq (by omega) hc]
    omega
def rx_K84 (post : Int32 → SX → Prop) (x1 x2 : Int32) (u : SX) : Prop := match u with
  | (q1, q2, q3, q4, q5, q6, q7, q8, q9, q10, q11, q12, q13, q14, q15, q16, q17, q18, q19, q20, q21, q22, q23, q24, q25, q26, q27, q28) => ∃ n84 : Nat, wX_compact_84 post x1 x2 q1 q2 q3 q4 q5 n84 0 q6 q7 q8 q9 q10 q11 q12 q13 q14 q15 q16 q17 q18 q19 q20 q21 q22 q23 q24 q25 q26 q27 q28
section
variable {C O D P F T T2 : Nat} {rv ky bf lc : Nat → Nat} {vl pt md vs ls rn op ln en iu il lo hi fr pl ah ak aq av : Nat → Int32} {ex va ma se ve ys yk yp yg st lr lk lq lv : Nat → Int32}
variable {P0 Q K : Nat} {np : Nat → Int32}
theorem rx_ik30 {post : Int32 → Prop} {c r k : Nat} (hL : rk_Lg P P0 F O C D K rv ky pt bf lc) (hP : P ≤ 6000) (hC : C ≤ 132) (hr : r ≤ 6000) :
    ∀ n m i, m ≤ C → m + i ≤ 139 → m < n → wX_isKept_70 post (nI c) (rk_en (rk_la rv ky k r m)) (nI C) (nI O) (nI P) (nI F) (nI T) (rk_nf rv) (rk_nf ky) vl pt md vs (rk_ef bf) (rk_ef lc) ls rn op ln en iu il lo hi fr pl ah ak aq av → wX_isKept_30 post (nI c) (nI r) (nI C) (nI O) (nI P) (nI F) (nI T) (rk_nf rv) (rk_nf ky) vl pt md vs (rk_ef bf) (rk_ef lc) ls rn op ln en iu il lo hi fr pl ah ak aq av n (rk_en (rk_lk ky k m)) (nI i) := by
  intro n
  induction n with
  | zero => intro m i _ _ hn; omega
  | succ n ih =>
    intro m i hm hi hn h
    refine br_f (nI_ge (a := i) (b := 140) (by omega) (by decide)) ?_
    refine rk_b1 (rk_lk ky k m) rfl (by have := rk_lk_le ky k m; omega) (fun e => ?_) (fun c e ec => ?_)
    · rw [rk_la_k0 e] at h; rw [e]; exact h
    · have hs := rk_lk_s e
      have hrv := rk_Lg_rvP hL c (by omega)
      have hv := rk_vx (N := 140) ec (by omega) (by decide)
      refine And.intro hv (pk_le (rv c) r (fun hle => ?_) (fun hgt => ?_) (rk_rx ec (by omega) rfl) rfl (by omega) (by omega))
      · rw [rk_la_k1 e hle] at h; rw [e]; exact h
      · refine And.intro hv (nm_r (e' := rk_en (rk_lk ky k c)) ?_ (nm_r (nI_1 i) ?_))
        · exact rk_rx ec (by omega) (by show rk_en (bf c) = _; rw [rk_Lg_bfE hL c (by omega), hs.2.1])
        · rw [rk_la_k2 e hgt] at h
          exact ih c (i + 1) (by omega) (by omega) (by omega) h
theorem rx_isKept {post : Int32 → Prop} {c r : Nat} (hL : rk_Lg P P0 F O C D K rv ky pt bf lc) (hP : P ≤ 6000) (hC : C ≤ 132) (hr : r ≤ 6000) (hc : c < C)
    (h1 : rk_kp rv ky pt r C c = true → post 1) (h0 : ¬ rk_kp rv ky pt r C c = true → post 0) : wpX_isKept post (nI C, nI O, nI P, nI F, nI T, rk_nf rv, rk_nf ky, vl, pt, md, vs, rk_ef bf, rk_ef lc, ls, rn, op, ln, en, iu, il, lo, hi, fr, pl, ah, ak, aq, av) (nI c) (nI r) := by
  have hv := vp_in_nI (N := 140) (n := c) (by omega) (by decide)
  have hk := rk_Lg_kyB hL c hc
  have hrv := rk_Lg_rvP hL c hc
  refine And.intro hv (pk_le (rv c) r (fun hle => ?_) (fun hgt => h1 (rk_kp_hi hgt)) (rk_rd (by omega) rfl) rfl (by omega) (by omega))
  refine And.intro hv (nm_r (e' := nI (ky c)) (rk_rd (by omega) rfl) (And.intro (vp_in_nI hk (by decide)) (nm_r (e' := rk_en (rk_lk ky (ky c) C)) (rk_rd (by omega) (by show rk_en (lc (ky c)) = _; rw [rk_Lg_lcE hL _ hk])) ⟨C + 1, rx_ik30 hL hP hC hr (C + 1) C 0 (Nat.le_refl _) (by omega) (by omega) ?_⟩)))
  have hle2 := rk_la_le rv ky (ky c) r C
  by_cases e : rk_la rv ky (ky c) r C = c + 1
  · refine br_t ((rk_en_eq (by omega) (by omega)).mpr e) (And.intro hv ?_)
    refine rk_b0 (by rw [nI_clamp (by omega)]; exact rk_Lg_p01 hL c hc) (fun z => h0 fun y => ?_) (fun z => h1 (decide_eq_true (Or.inr ⟨e, ?_⟩)))
    · rw [nI_clamp (by omega)] at z
      exact (rk_kp_lo y hle).2 z
    · rw [nI_clamp (by omega)] at z
      rw [z]; decide
  · refine br_f (fun z => e ((rk_en_eq (by omega) (by omega)).mp z)) (h0 fun y => e (rk_kp_lo y hle).1)
theorem rx_c26 {post : Int32 → SX → Prop} {r : Nat} (hL : rk_Lg P P0 F O C D K rv ky pt bf lc) (hP : P ≤ 6000) (hC : C ≤ 132) (hr : r ≤ 6000)
    (h : wpX_moveWatches (rx_K84 post (nI r) (nI (rk_ct (rk_kp rv ky pt r C) C))) (nI C, nI O, nI P, nI F, nI T, rk_nf rv, rk_nf ky, vl, pt, md, vs, rk_ef bf, rk_ef lc, ls, rk_mx C (rk_rf (rk_kp rv ky pt r C)) rn, op, ln, en, iu, il, lo, hi, fr, pl, ah, ak, aq, av) (nI r)) :
    ∀ n c, c ≤ C → C - c < n → wX_compact_26 post (nI r) (nI C) (nI O) (nI P) (nI F) (nI T) n (nI (rk_ct (rk_kp rv ky pt r C) c)) (nI c) (rk_nf rv) (rk_nf ky) vl pt md vs (rk_ef bf) (rk_ef lc) ls (rk_mx c (rk_rf (rk_kp rv ky pt r C)) rn) op ln en iu il lo hi fr pl ah ak aq av := by
  intro n
  induction n with
  | zero => intro c _ hn; omega
  | succ n ih =>
    intro c hc hn
    by_cases e : c = C
    · subst e
      exact br_t (nI_le (Nat.le_refl _) (by omega)) h
    · have := ih (c + 1) (by omega) (by omega)
      have hv := vp_in_nI (N := 140) (n := c) (by omega) (by decide)
      refine br_f (nI_ge (by omega) (by omega)) (rx_isKept hL hP hC hr (by omega) (fun z => ?_) (fun z => ?_))
      · rw [rk_ct_t z] at this
        refine br_f (by decide) (And.intro hv (nm_r (rk_wr (by omega) (rk_mx_s (rk_rf_t z).symm)) (br_f (by decide) (nm_r (nI_1 _) (nm_r (nI_1 c) this)))))
      · rw [rk_ct_f z] at this
        refine br_t rfl (And.intro hv (nm_r (rk_wr (by omega) (rk_mx_s (rk_rf_f z).symm)) (br_t rfl (nm_r (nI_1 c) this))))
theorem rx_mo1 {post : Int32 → Prop} {w r : Nat} (hC : C ≤ 132) (h : post 1) : ∀ n c, c ≤ C → C - c < n → wX_missesOne_10 post (nI w) (nI r) (nI C) (nI O) (nI P) (nI F) (nI T) (rk_nf rv) (rk_nf ky) vl pt md vs (rk_ef bf) (rk_ef lc) ls rn op ln en iu il lo hi fr pl ah ak aq av n 1 (nI c) := by
  intro n
  induction n with
  | zero => intro c _ hn; omega
  | succ n ih =>
    intro c hc hn
    by_cases e : c = C
    · subst e; exact br_t (nI_le (Nat.le_refl _) (by omega)) ⟨rk_nw (Or.inr rfl), h⟩
    · exact br_f (nI_ge (by omega) (by omega)) (br_f (by decide) (nm_r (nI_1 c) (ih (c + 1) (by omega) (by omega))))
theorem rx_mo0 {post : Int32 → Prop} {w r : Nat} (hw : w < 4) (hC : C ≤ 132) (hrv : ∀ c, c < C → rv c ≤ 6000) (hr : r ≤ 6000) : ∀ n c, c ≤ C → C - c < n → (rk_mX C r rv ky lo hi fr c w → post 1) → (¬ rk_mX C r rv ky lo hi fr c w → post 0) → wX_missesOne_10 post (nI w) (nI r) (nI C) (nI O) (nI P) (nI F) (nI T) (rk_nf rv) (rk_nf ky) vl pt md vs (rk_ef bf) (rk_ef lc) ls rn op ln en iu il lo hi fr pl ah ak aq av n 0 (nI c) := by
  intro n
  induction n with
  | zero => intro c _ hn; omega
  | succ n ih =>
    intro c hc hn h1 h0
    by_cases e : c = C
    · subst e
      exact br_t (nI_le (Nat.le_refl _) (by omega)) ⟨rk_nw (Or.inl rfl), h0 fun y => by obtain ⟨c', a, b, _⟩ := y; omega⟩
    · have go : ¬ (rv c ≤ r ∧ rk_wb rv ky lo hi fr w c) → wX_missesOne_10 post (nI w) (nI r) (nI C) (nI O) (nI P) (nI F) (nI T) (rk_nf rv) (rk_nf ky) vl pt md vs (rk_ef bf) (rk_ef lc) ls rn op ln en iu il lo hi fr pl ah ak aq av n 0 (nI (c + 1)) := fun hz =>
        ih (c + 1) (by omega) (by omega) (fun y => h1 (by obtain ⟨c', a, b, d⟩ := y; exact ⟨c', by omega, b, d⟩)) (fun y => h0 fun x => by
          obtain ⟨c', a, b, d⟩ := x
          by_cases e2 : c' = c
          · subst e2; exact hz d
          · exact y ⟨c', by omega, b, d⟩)
      have hv := vp_in_nI (N := 140) (n := c) (by omega) (by decide)
      have := hrv c (by omega)
      refine br_f (nI_ge (by omega) (by omega)) (br_t rfl (And.intro hv (pk_lt r (rv c) (fun z => nm_r (nI_1 c) (go fun y => by omega)) (fun z => ?_) rfl (rk_rd (by omega) rfl) (by omega) (by omega))))
      refine rx_wanted hw (by omega) (fun y => br_f (by decide) (nm_r (nI_1 c) (rx_mo1 hC (h1 ⟨c, Nat.le_refl _, by omega, z, y⟩) n (c + 1) (by omega) (by omega)))) (fun y => br_t rfl (nm_r (nI_1 c) (go fun x => y x.2)))
theorem rx_misses {post : Int32 → Prop} {w r p : Nat} (hw : w < 4) (hC : C ≤ 132) (hrv : ∀ c, c < C → rv c ≤ 6000) (hr : r ≤ 6000) (hp : p ≤ C) (hpl : pl w = nI p) (h1 : rk_mX C r rv ky lo hi fr p w → post 1) (h0 : ¬ rk_mX C r rv ky lo hi fr p w → post 0) : wpX_missesOne post (nI C, nI O, nI P, nI F, nI T, rk_nf rv, rk_nf ky, vl, pt, md, vs, rk_ef bf, rk_ef lc, ls, rn, op, ln, en, iu, il, lo, hi, fr, pl, ah, ak, aq, av) (nI w) (nI r) :=
  And.intro (vp_in_nI hw (by decide)) (nm_r (rk_rd (by omega) hpl) ⟨C + 1, rx_mo0 hw hC hrv hr (C + 1) p hp (by omega) h1 h0⟩)
theorem rx_ff4 {post : Int32 → Prop} {kp : Nat → Bool} {p : Nat} (hC : C ≤ 132) (hp : p ≤ C) (hrn : ∀ j, j < C → rn j = rk_rf kp j) (h : post (nI (rk_ct kp p))) : ∀ n c, c ≤ p → p - c < n → wX_firstFrom_4 post (nI p) (nI C) (nI O) (nI P) (nI F) (nI T) (rk_nf rv) (rk_nf ky) vl pt md vs (rk_ef bf) (rk_ef lc) ls rn op ln en iu il lo hi fr pl ah ak aq av n (nI (rk_ct kp c)) (nI c) := by
  intro n
  induction n with
  | zero => intro c _ hn; omega
  | succ n ih =>
    intro c hc hn
    by_cases e : c = p
    · subst e; exact br_t (nI_le (Nat.le_refl _) (by omega)) h
    · have := ih (c + 1) (by omega) (by omega)
      refine br_f (nI_ge (by omega) (by omega)) (And.intro (vp_in_nI (by omega) (by decide)) ?_)
      have er : rn (nI c).toNatClampNeg = rk_rf kp c := rk_rd (by omega) (hrn c (by omega))
      by_cases z : kp c = true
      · rw [rk_ct_t z] at this
        have := rk_ct_le kp c
        refine br_f ?_ (nm_r (nI_1 _) (nm_r (nI_1 c) (by assumption)))
        rw [er, rk_rf_t z]; exact rk_n1 (by omega)
      · rw [rk_ct_f z] at this
        exact br_t (by rw [er, rk_rf_f z]) (nm_r (nI_1 c) this)
theorem rx_firstFrom {post : Int32 → Prop} {kp : Nat → Bool} {p : Nat} (hC : C ≤ 132) (hp : p ≤ C) (hrn : ∀ j, j < C → rn j = rk_rf kp j) (h : post (nI (rk_ct kp p))) : wpX_firstFrom post (nI C, nI O, nI P, nI F, nI T, rk_nf rv, rk_nf ky, vl, pt, md, vs, rk_ef bf, rk_ef lc, ls, rn, op, ln, en, iu, il, lo, hi, fr, pl, ah, ak, aq, av) (nI p) :=
  ⟨p + 1, rx_ff4 hC hp hrn h (p + 1) 0 (by omega) (by omega)⟩
theorem rx_mw2 {post : SX → Prop} {kp : Nat → Bool} {r : Nat} {il2 pl2 : Nat → Int32} (hC : C ≤ 132) (hrv : ∀ c, c < C → rv c ≤ 6000) (hr : r ≤ 6000) (hrn : ∀ j, j < C → rn j = rk_rf kp j)
    (hw2 : ∀ w, w < 4 → ((iu w = 0 ∨ (iu w ≠ 0 ∧ il w ≠ 0)) ∧ il2 w = il w ∧ pl2 w = pl w) ∨ (iu w ≠ 0 ∧ il w = 0 ∧ ∃ p, p ≤ C ∧ pl w = nI p ∧ pl2 w = nI (rk_ct kp p) ∧ (rk_mX C r rv ky lo hi fr p w → il2 w = 1) ∧ (¬ rk_mX C r rv ky lo hi fr p w → il2 w = 0)))
    (h : post (nI C, nI O, nI P, nI F, nI T, rk_nf rv, rk_nf ky, vl, pt, md, vs, rk_ef bf, rk_ef lc, ls, rn, op, ln, en, iu, rk_mx 4 il2 il, lo, hi, fr, rk_mx 4 pl2 pl, ah, ak, aq, av)) : ∀ n w, w ≤ 4 → 4 - w < n → wX_moveWatches_2 post (nI r) (nI C) (nI O) (nI P) (nI F) (nI T) n (nI w) (rk_nf rv) (rk_nf ky) vl pt md vs (rk_ef bf) (rk_ef lc) ls rn op ln en iu (rk_mx w il2 il) lo hi fr (rk_mx w pl2 pl) ah ak aq av := by
  intro n
  induction n with
  | zero => intro c _ hn; omega
  | succ n ih =>
    intro w hw hn
    by_cases e : w = 4
    · subst e; exact br_t (nI_le (a := 4) (b := 4) (by omega) (by decide)) h
    · have := ih (w + 1) (by omega) (by omega)
      have hv : vp_in (nI w) 4 := vp_in_nI (by omega) (by decide)
      have ew : (nI w).toNatClampNeg = w := nI_clamp (by omega)
      refine br_f (nI_ge (a := w) (b := 4) (by omega) (by decide)) (And.intro hv ?_)
      rcases hw2 w (by omega) with ⟨z1, z2, z3⟩ | ⟨z1, z2, p, p1, p2, p3, p4, p5⟩
      · rw [← rk_mx_n z2, ← rk_mx_n z3] at this
        refine br_c (fun _ => nm_r (nI_1 w) this) fun y => And.intro hv (br_f ?_ (nm_r (nI_1 w) this))
        rw [ew] at y ⊢
        rw [rk_mx_hi (Nat.le_refl _)]
        rcases z1 with z1 | z1
        · exact absurd z1 y
        · exact z1.2
      · have el : rk_mx w il2 il (nI w).toNatClampNeg = 0 := rk_rd (by omega) ((rk_mx_hi (Nat.le_refl _)).trans z2)
        have ep : rk_mx w pl2 pl (nI w).toNatClampNeg = nI p := rk_rd (by omega) ((rk_mx_hi (Nat.le_refl _)).trans p2)
        refine br_f (by rw [ew]; exact z1) (And.intro hv (br_t el (rx_misses (by omega) hC hrv hr p1 ((rk_mx_hi (Nat.le_refl _)).trans p2) (fun y => ?_) (fun y => ?_))))
        · refine And.intro hv (nm_r (e' := rk_mx (w + 1) il2 il) (by rw [rk_nb1]; exact rk_wr (by omega) (rk_mx_s (p4 y).symm)) (And.intro hv ?_))
          rw [ep]
          refine rx_firstFrom hC p1 hrn (And.intro hv (nm_r (rk_wr (by omega) (rk_mx_s p3.symm)) (nm_r (nI_1 w) this)))
        · refine And.intro hv (nm_r (e' := rk_mx (w + 1) il2 il) (by rw [rk_nb0]; exact rk_wr (by omega) (rk_mx_s (p5 y).symm)) (And.intro hv ?_))
          rw [ep]
          refine rx_firstFrom hC p1 hrn (And.intro hv (nm_r (rk_wr (by omega) (rk_mx_s p3.symm)) (nm_r (nI_1 w) this)))
theorem rx_moveWatches {post : SX → Prop} {kp : Nat → Bool} {r : Nat} {il2 pl2 : Nat → Int32} (hC : C ≤ 132) (hrv : ∀ c, c < C → rv c ≤ 6000) (hr : r ≤ 6000) (hrn : ∀ j, j < C → rn j = rk_rf kp j)
    (hw2 : ∀ w, w < 4 → ((iu w = 0 ∨ (iu w ≠ 0 ∧ il w ≠ 0)) ∧ il2 w = il w ∧ pl2 w = pl w) ∨ (iu w ≠ 0 ∧ il w = 0 ∧ ∃ p, p ≤ C ∧ pl w = nI p ∧ pl2 w = nI (rk_ct kp p) ∧ (rk_mX C r rv ky lo hi fr p w → il2 w = 1) ∧ (¬ rk_mX C r rv ky lo hi fr p w → il2 w = 0)))
    (h : post (nI C, nI O, nI P, nI F, nI T, rk_nf rv, rk_nf ky, vl, pt, md, vs, rk_ef bf, rk_ef lc, ls, rn, op, ln, en, iu, rk_mx 4 il2 il, lo, hi, fr, rk_mx 4 pl2 pl, ah, ak, aq, av)) : wpX_moveWatches post (nI C, nI O, nI P, nI F, nI T, rk_nf rv, rk_nf ky, vl, pt, md, vs, rk_ef bf, rk_ef lc, ls, rn, op, ln, en, iu, il, lo, hi, fr, pl, ah, ak, aq, av) (nI r) := by
  have := rx_mw2 hC hrv hr hrn hw2 h 5 0 (by omega) (by omega)
  rw [rk_mx_0, rk_mx_0] at this
  exact ⟨5, this⟩
theorem rx_renumber {post : Int32 → Prop} {kp : Nat → Bool} {x : Nat} (hC : C ≤ 132) (hx : x ≤ C) (hrn : ∀ j, j < C → rn j = rk_rf kp j) (h : post (rk_en (rk_r kp x))) : wpX_renumber post (nI C, nI O, nI P, nI F, nI T, rk_nf rv, rk_nf ky, vl, pt, md, vs, rk_ef bf, rk_ef lc, ls, rn, op, ln, en, iu, il, lo, hi, fr, pl, ah, ak, aq, av) (rk_en x) := by
  refine rk_b1 x rfl (by omega) (fun e => ?_) (fun c e ec => ?_)
  · rw [e] at h; exact h
  · refine And.intro (rk_vx ec (by omega) (by decide)) ?_
    rw [rk_rx ec (by omega) (hrn c (by omega))]
    rw [e] at h
    exact h
theorem rx_c84 {post : Int32 → SX → Prop} {kp : Nat → Bool} {r : Nat} {x2 : Int32} (hC : C ≤ 132) (hlc : ∀ k, k < 16 → lc k ≤ C) (hrn : ∀ j, j < C → rn j = rk_rf kp j)
    (h : ∃ n119 : Nat, wX_compact_119 post (nI r) x2 n119 0 (nI C) 0 (nI P) (nI F) (nI T) (rk_nf rv) (rk_nf ky) vl pt md vs (rk_ef bf) (rk_ef (rk_mN 16 (fun k => rk_r kp (lc k)) lc)) ls rn op ln en iu il lo hi fr pl ah ak aq av) :
    ∀ n k, k ≤ 16 → 16 - k < n → wX_compact_84 post (nI r) x2 (nI C) (nI O) (nI P) (nI F) (nI T) n (nI k) (rk_nf rv) (rk_nf ky) vl pt md vs (rk_ef bf) (rk_ef (rk_mN k (fun k => rk_r kp (lc k)) lc)) ls rn op ln en iu il lo hi fr pl ah ak aq av := by
  intro n
  induction n with
  | zero => intro c _ hn; omega
  | succ n ih =>
    intro k hk hn
    by_cases e : k = 16
    · subst e; exact br_t (nI_le (a := 16) (b := 16) (by omega) (by decide)) h
    · have hv : vp_in (nI k) 16 := vp_in_nI (by omega) (by decide)
      refine br_f (nI_ge (a := k) (b := 16) (by omega) (by decide)) (And.intro hv ?_)
      have el : rk_ef (rk_mN k (fun k => rk_r kp (lc k)) lc) (nI k).toNatClampNeg = rk_en (lc k) := rk_rd (by omega) (by
        show rk_en (rk_mN k (fun k => rk_r kp (lc k)) lc k) = _
        rw [rk_mN_hi (Nat.le_refl _)])
      rw [el]
      refine rx_renumber hC (hlc k (by omega)) hrn (And.intro hv (nm_r (e' := rk_ef (rk_mN (k + 1) (fun k => rk_r kp (lc k)) lc)) (rk_wr (by omega) ?_) (nm_r (nI_1 k) (ih (k + 1) (by omega) (by omega)))))
      rw [rk_uef, rk_mN_s rfl]
theorem rx_moveChange {post : SX → Prop} {c t : Nat} (hc : c < 140) (ht : t < 140) (hp : pt c = 0 ∨ pt c = 1)
    (h : post (nI C, nI O, nI P, nI F, nI T, rk_nf (rk_uN rv t (rv c)), rk_nf (rk_uN ky t (ky c)), upd vl t (vl c), upd pt t (pt c), upd md t (md c), upd vs t (vs c), rk_ef (rk_uN bf t (bf c)), rk_ef lc, ls, rn, op, ln, en, iu, il, lo, hi, fr, pl, ah, ak, aq, av)) : wpX_moveChange post (nI C, nI O, nI P, nI F, nI T, rk_nf rv, rk_nf ky, vl, pt, md, vs, rk_ef bf, rk_ef lc, ls, rn, op, ln, en, iu, il, lo, hi, fr, pl, ah, ak, aq, av) (nI c) (nI t) := by
  have hv := vp_in_nI (N := 140) (n := c) (by omega) (by decide)
  have hv2 := vp_in_nI (N := 140) (n := t) (by omega) (by decide)
  have ec : (nI c).toNatClampNeg = c := nI_clamp (by omega)
  refine And.intro hv (And.intro hv2 (nm_r (e' := rk_nf (rk_uN rv t (rv c))) ?_ (And.intro hv (And.intro hv2 (nm_r (e' := rk_nf (rk_uN ky t (ky c))) ?_ (And.intro hv (And.intro hv2 (nm_r (e' := upd vl t (vl c)) ?_ (And.intro hv (And.intro hv2 (nm_r (e' := upd pt t (pt c)) ?_ (And.intro hv (And.intro hv2 (nm_r (e' := upd md t (md c)) ?_ (And.intro hv (And.intro hv2 (nm_r (e' := upd vs t (vs c)) ?_ (And.intro hv (And.intro hv2 (nm_r (e' := rk_ef (rk_uN bf t (bf c))) ?_ h))))))))))))))))))))
  · rw [ec]; exact rk_wr (by omega) (rk_unf rv t (rv c))
  · rw [ec]; exact rk_wr (by omega) (rk_unf ky t (ky c))
  · rw [ec]; exact rk_wr (by omega) rfl
  · rw [ec, rk_nb hp]; exact rk_wr (by omega) rfl
  · rw [ec]; exact rk_wr (by omega) rfl
  · rw [ec]; exact rk_wr (by omega) rfl
  · rw [ec]; exact rk_wr (by omega) (rk_uef bf t (bf c))
end
end
section
/-! compaction: X's moving loop, and the whole of X -/
theorem rk_Mv_0 {kp : Nat → Bool} {rv ky bf : Nat → Nat} {vl pt md vs : Nat → Int32} : rk_Mv kp 0 rv ky bf vl pt md vs rv ky bf vl pt md vs :=
  ⟨fun j hj => by omega, fun j _ => ⟨rfl, rfl, rfl, rfl, rfl, rfl, rfl⟩⟩
theorem rk_Mv_f {kp : Nat → Bool} {c : Nat} {rv ky bf rv2 ky2 bf2 : Nat → Nat} {vl pt md vs vl2 pt2 md2 vs2 : Nat → Int32} (hM : rk_Mv kp c rv ky bf vl pt md vs rv2 ky2 bf2 vl2 pt2 md2 vs2) (hk : ¬ kp c = true) : rk_Mv kp (c + 1) rv ky bf vl pt md vs rv2 ky2 bf2 vl2 pt2 md2 vs2 := by
  refine ⟨fun j hj hp => rk_Mv_lo hM j ?_ hp, fun j hj => rk_Mv_hi hM j (by omega)⟩
  have : j ≠ c := fun e => hk (e ▸ hp)
  omega
theorem rk_Mv_t {kp : Nat → Bool} {c : Nat} {rv ky bf rv2 ky2 bf2 : Nat → Nat} {vl pt md vs vl2 pt2 md2 vs2 : Nat → Int32} (hM : rk_Mv kp c rv ky bf vl pt md vs rv2 ky2 bf2 vl2 pt2 md2 vs2) (hk : kp c = true) :
    rk_Mv kp (c + 1) rv ky bf vl pt md vs (rk_uN rv2 (rk_ct kp c) (rv2 c)) (rk_uN ky2 (rk_ct kp c) (ky2 c)) (rk_uN (rk_uN bf2 c (rk_r kp (bf c))) (rk_ct kp c) (rk_uN bf2 c (rk_r kp (bf c)) c)) (upd vl2 (rk_ct kp c) (vl2 c)) (upd pt2 (rk_ct kp c) (pt2 c)) (upd md2 (rk_ct kp c) (md2 c)) (upd vs2 (rk_ct kp c) (vs2 c)) := by
  have htc := rk_ct_le kp c
  refine ⟨fun j hj hp => ?_, fun j hj => ?_⟩
  · by_cases e : j = c
    · subst e
      have h := rk_Mv_hi hM j (Nat.le_refl _)
      rw [rk_us, rk_us, rk_us, rk_us, pk_us, pk_us, pk_us, pk_us]
      exact ⟨h.1, h.2.1, rfl, h.2.2.2⟩
    · have hjc : j < c := by omega
      have h := rk_Mv_lo hM j hjc hp
      have h1 := rk_ct_lt (p := kp) hjc hp
      have h2 := rk_ct_le kp j
      rw [rk_un (f := rv2) (by omega), rk_un (f := ky2) (by omega), rk_un (f := rk_uN bf2 c (rk_r kp (bf c))) (by omega), rk_un (f := bf2) (by omega), pk_un (f := vl2) (by omega), pk_un (f := pt2) (by omega), pk_un (f := md2) (by omega), pk_un (f := vs2) (by omega)]
      exact h
  · have h := rk_Mv_hi hM j (by omega)
    rw [rk_un (f := rv2) (by omega), rk_un (f := ky2) (by omega), rk_un (f := rk_uN bf2 c (rk_r kp (bf c))) (by omega), rk_un (f := bf2) (by omega), pk_un (f := vl2) (by omega), pk_un (f := pt2) (by omega), pk_un (f := md2) (by omega), pk_un (f := vs2) (by omega)]
    exact h
section
variable {C O D P F T T2 : Nat} {rv ky bf lc : Nat → Nat} {vl pt md vs ls rn op ln en iu il lo hi fr pl ah ak aq av : Nat → Int32} {ex va ma se ve ys yk yp yg st lr lk lq lv : Nat → Int32}
variable {P0 Q K : Nat} {np : Nat → Int32} {rv0 ky0 bf0 : Nat → Nat} {vl0 pt0 md0 vs0 : Nat → Int32}
theorem rx_c119 {post : Int32 → SX → Prop} {kp q : Nat → Bool} {r C2 : Nat} (hC : C ≤ 132) (hC2 : C2 ≤ 132) (hr : r ≤ 6000) (hrn : ∀ j, j < C → rn j = rk_rf kp j) (hrv : ∀ c, c < C → rv0 c ≤ 6000) (h01 : ∀ c, c < C → pt0 c = 0 ∨ pt0 c = 1) (hbf : ∀ c, c < C → bf0 c ≤ C)
    (hq : ∀ c, c < C → (q c = true ↔ (kp c = true ∧ rv0 c ≤ r))) (hO : rk_ct q C ≤ C2)
    (h : ∀ (rv ky bf : Nat → Nat) (vl pt md vs : Nat → Int32), rk_Mv kp C rv0 ky0 bf0 vl0 pt0 md0 vs0 rv ky bf vl pt md vs → post (nI (C2 - rk_ct q C)) (nI C2, nI (rk_ct q C), nI P, nI r, nI T, rk_nf rv, rk_nf ky, vl, pt, md, vs, rk_ef bf, rk_ef lc, ls, rn, op, ln, en, iu, il, lo, hi, fr, pl, ah, ak, aq, av)) :
    ∀ (n c : Nat) (rv ky bf : Nat → Nat) (vl pt md vs : Nat → Int32), c ≤ C → C - c < n → rk_Mv kp c rv0 ky0 bf0 vl0 pt0 md0 vs0 rv ky bf vl pt md vs → wX_compact_119 post (nI r) (nI C2) n (nI c) (nI C) (nI (rk_ct q c)) (nI P) (nI F) (nI T) (rk_nf rv) (rk_nf ky) vl pt md vs (rk_ef bf) (rk_ef lc) ls rn op ln en iu il lo hi fr pl ah ak aq av := by
  intro n
  induction n with
  | zero => intro c rv ky bf vl pt md vs _ hn; omega
  | succ n ih =>
    intro c rv ky bf vl pt md vs hc hn hM
    by_cases e : c = C
    · subst e
      refine br_t (nI_le (Nat.le_refl _) (by omega)) (rx_rem (D := C2 - rk_ct q c) (by omega) ?_)
      exact h rv ky bf vl pt md vs hM
    · have hv := vp_in_nI (N := 140) (n := c) (by omega) (by decide)
      have ec : (nI c).toNatClampNeg = c := nI_clamp (by omega)
      have hcC : c < C := by omega
      have hh := rk_Mv_hi hM c (Nat.le_refl _)
      have hrc := hrv c hcC
      refine br_f (nI_ge (by omega) (by omega)) (And.intro hv ?_)
      by_cases z : kp c = true
      · have htc := rk_ct_le kp c
        have er : rn (nI c).toNatClampNeg = nI (rk_ct kp c) := rk_rd (by omega) ((hrn c hcC).trans (rk_rf_t z))
        refine nm_r er (br_f (rk_n1 (by omega)) (And.intro hv ?_))
        have eb : rk_ef bf (nI c).toNatClampNeg = rk_en (bf0 c) := rk_rd (by omega) (by show rk_en (bf c) = _; rw [hh.2.2.1])
        rw [eb]
        refine rx_renumber hC (hbf c hcC) hrn (And.intro hv (nm_r (rk_wr (by omega) (rk_uef bf c (rk_r kp (bf0 c)))) ?_))
        refine rx_moveChange (bf := rk_uN bf c (rk_r kp (bf0 c))) (by omega) (by omega) (by rw [hh.2.2.2.2.1]; exact h01 c hcC) ?_
        have hM2 := rk_Mv_t hM z
        have key := ih (c + 1) _ _ _ _ _ _ _ (by omega) (by omega) hM2
        refine And.intro (vp_in_nI (by omega) (by decide)) (pk_lt r (rv0 c) (fun y => ?_) (fun y => ?_) rfl (rk_rd (by omega) ?_) (by omega) (by omega))
        · rw [rk_ct_f (fun w => by have := ((hq c hcC).mp w).2; omega)] at key
          exact nm_r (nI_1 c) key
        · rw [rk_ct_t ((hq c hcC).mpr ⟨z, y⟩)] at key
          exact nm_r (nI_1 _) (nm_r (nI_1 c) key)
        · show nI (rk_uN rv (rk_ct kp c) (rv c) (rk_ct kp c)) = _
          rw [rk_us, hh.1]
      · have er : rn (nI c).toNatClampNeg = -1 := rk_rd (by omega) ((hrn c hcC).trans (rk_rf_f z))
        have key := ih (c + 1) _ _ _ _ _ _ _ (by omega) (by omega) (rk_Mv_f hM z)
        rw [rk_ct_f (fun w => z ((hq c hcC).mp w).1)] at key
        exact nm_r er (br_t rfl (nm_r (nI_1 c) key))
/-- the whole of X: what it leaves is any arrays that hold the kept changes at their new numbers -/
theorem rx_comp {post : Int32 → SX → Prop} {r g : Nat} {il2 pl2 : Nat → Int32} (hL : rk_Lg P P F O C D 16 rv ky pt bf lc) (hP : P ≤ 6000) (hC : C ≤ 132) (hFr : F ≤ r) (hrP : r ≤ P) (hg2 : g ≤ C) (hg : ∀ c, c < C → (c < g ↔ rv c ≤ r))
    (hw2 : ∀ w, w < 4 → ((iu w = 0 ∨ (iu w ≠ 0 ∧ il w ≠ 0)) ∧ il2 w = il w ∧ pl2 w = pl w) ∨ (iu w ≠ 0 ∧ il w = 0 ∧ ∃ p, p ≤ C ∧ pl w = nI p ∧ pl2 w = nI (rk_ct (rk_kp rv ky pt r C) p) ∧ (rk_mX C r rv ky lo hi fr p w → il2 w = 1) ∧ (¬ rk_mX C r rv ky lo hi fr p w → il2 w = 0)))
    (h : ∀ (rv2 ky2 bf2 : Nat → Nat) (vl2 pt2 md2 vs2 : Nat → Int32), rk_Mv (rk_kp rv ky pt r C) C rv ky bf vl pt md vs rv2 ky2 bf2 vl2 pt2 md2 vs2 →
      post (nI (C - g)) (nI (rk_ct (rk_kp rv ky pt r C) C), nI (rk_ct (rk_kp rv ky pt r C) g), nI P, nI r, nI T, rk_nf rv2, rk_nf ky2, vl2, pt2, md2, vs2, rk_ef bf2, rk_ef (rk_mN 16 (fun k => rk_r (rk_kp rv ky pt r C) (lc k)) lc), ls, rk_mx C (rk_rf (rk_kp rv ky pt r C)) rn, op, ln, en, iu, rk_mx 4 il2 il, lo, hi, fr, rk_mx 4 pl2 pl, ah, ak, aq, av)) :
    wpX_compact post (nI C, nI O, nI P, nI F, nI T, rk_nf rv, rk_nf ky, vl, pt, md, vs, rk_ef bf, rk_ef lc, ls, rn, op, ln, en, iu, il, lo, hi, fr, pl, ah, ak, aq, av) (nI r) := by
  have hrv : ∀ c, c < C → rv c ≤ 6000 := fun c hc => by have := rk_Lg_rvP hL c hc; omega
  have hrn : ∀ j, j < C → rk_mx C (rk_rf (rk_kp rv ky pt r C)) rn j = rk_rf (rk_kp rv ky pt r C) j := fun j hj => rk_mx_lo hj
  have hkC := rk_ct_le (rk_kp rv ky pt r C) C
  have eC := rk_ct_upC (ky := ky) (pt := pt) (i := C) hg2 hg hg2 (Nat.le_refl _)
  have hq : ∀ c, c < C → ((fun c => rk_kp rv ky pt r C c && decide (rv c ≤ r)) c = true ↔ (rk_kp rv ky pt r C c = true ∧ rv c ≤ r)) := fun c _ => by
    show (rk_kp rv ky pt r C c && decide (rv c ≤ r)) = true ↔ _
    rw [Bool.and_eq_true, decide_eq_true_iff]
  generalize hqq : (fun c => rk_kp rv ky pt r C c && decide (rv c ≤ r)) = q at hq
  have eq : rk_ct q C = rk_ct (rk_kp rv ky pt r C) g := by
    rw [rk_ct_sk (p := q) g hg2 fun i h1 h2 z => by have := (hg i h2).mpr ((hq i h2).mp z).2; omega]
    refine rk_ct_c fun i hi => ?_
    have h1 := hq i (by omega)
    have h2 := (hg i (by omega)).mp hi
    by_cases z : rk_kp rv ky pt r C i = true
    · rw [z]; exact h1.mpr ⟨z, h2⟩
    · have : ¬ q i = true := fun y => z (h1.mp y).1
      rw [Bool.not_eq_true] at z this
      rw [z, this]
  refine br_t (nI_le hFr (by omega)) (br_t (nI_le hrP (by omega)) ⟨C + 1, ?_⟩)
  have key := rx_c26 (T := T) (vl := vl) (md := md) (vs := vs) (ls := ls) (rn := rn) (op := op) (ln := ln) (en := en) (iu := iu) (il := il) (lo := lo) (hi := hi) (fr := fr) (pl := pl) (ah := ah) (ak := ak) (aq := aq) (av := av) (post := post) (r := r) hL hP hC (by omega) ?_ (C + 1) 0 (by omega) (by omega)
  · rw [rk_mx_0] at key
    exact key
  refine rx_moveWatches hC hrv (by omega) hrn hw2 ⟨17, ?_⟩
  have key2 := rx_c84 (O := O) (P := P) (F := F) (T := T) (rv := rv) (ky := ky) (bf := bf) (vl := vl) (pt := pt) (md := md) (vs := vs) (ls := ls) (rn := rk_mx C (rk_rf (rk_kp rv ky pt r C)) rn) (op := op) (ln := ln) (en := en) (iu := iu) (il := rk_mx 4 il2 il) (lo := lo) (hi := hi) (fr := fr) (pl := rk_mx 4 pl2 pl) (ah := ah) (ak := ak) (aq := aq) (av := av) (post := post) (r := r) (x2 := nI (rk_ct (rk_kp rv ky pt r C) C)) hC (fun k hk => rk_lcC hL hk) hrn ?_ 17 0 (by omega) (by omega)
  · rw [rk_mN_0] at key2
    exact key2
  refine ⟨C + 1, ?_⟩
  refine rx_c119 (q := q) hC (by omega) (by omega) hrn hrv (rk_Lg_p01 hL) (fun c hc => by rw [rk_Lg_bfE hL c hc]; have := rk_lk_le ky (ky c) c; omega) hq (by omega) (fun rv2 ky2 bf2 vl2 pt2 md2 vs2 hM => ?_) (C + 1) 0 rv ky bf vl pt md vs (by omega) (by omega) rk_Mv_0
  have := h rv2 ky2 bf2 vl2 pt2 md2 vs2 hM
  rw [eq, show rk_ct (rk_kp rv ky pt r C) C - rk_ct (rk_kp rv ky pt r C) g = C - g from by omega]
  exact this
end
end
section
/-! compaction: Y's walk -/
theorem rk_uid {f : Nat → Int32} {k : Nat} : upd f k (f k) = f := by
  funext j
  by_cases e : j = k
  · subst e; rw [pk_us]
  · rw [pk_un e]
section
variable {C O D P F T T2 : Nat} {rv ky bf lc : Nat → Nat} {vl pt md vs ls rn op ln en iu il lo hi fr pl ah ak aq av : Nat → Int32} {ex va ma se ve ys yk yp yg st lr lk lq lv : Nat → Int32}
variable {P0 Q K : Nat} {np : Nat → Int32}
theorem ry_lA {post : SY → Prop} {J : Int32 → (Nat → Int32) → (Nat → Int32) → (Nat → Int32) → (Nat → Int32) → (Nat → Int32) → (Nat → Int32) → (Nat → Int32) → (Nat → Int32) → (Nat → Int32) → (Nat → Int32) → (Nat → Int32) → (Nat → Int32) → (Nat → Int32) → (Nat → Int32) → (Nat → Int32) → (Nat → Int32) → (Nat → Int32) → (Nat → Int32) → (Nat → Int32) → (Nat → Int32) → (Nat → Int32) → Prop} {r w i n : Nat} (hw : w < 4) (hs : ¬ st w = 1) (h : J (nI (w + 1)) ex va ma se ve ls ys yk yp yg ln en op st lo hi fr lr lk lq lv) : wY_lose_9 post J (nI r) (nI w) (nI F) (nI P) (nI D) (nI T2) (n + 1) (nI i) ex va ma se ve ls ys yk yp yg ln en op st lo hi fr lr lk lq lv :=
  br_c (fun _ => nm_r (nI_1 w) h) fun _ => And.intro (vp_in_nI hw (by decide)) (br_f (by rw [nI_clamp (by omega)]; exact hs) (nm_r (nI_1 w) h))
theorem ry_lB {post : SY → Prop} {J : Int32 → (Nat → Int32) → (Nat → Int32) → (Nat → Int32) → (Nat → Int32) → (Nat → Int32) → (Nat → Int32) → (Nat → Int32) → (Nat → Int32) → (Nat → Int32) → (Nat → Int32) → (Nat → Int32) → (Nat → Int32) → (Nat → Int32) → (Nat → Int32) → (Nat → Int32) → (Nat → Int32) → (Nat → Int32) → (Nat → Int32) → (Nat → Int32) → (Nat → Int32) → (Nat → Int32) → Prop} {r w : Nat} (hcod : C = O + D) (hD : D < 120) (hr : r ≤ 6000) (hrv : ∀ c, c < C → rv c ≤ 6000) (hk : rk_Lk O D rv ky vl pt ys yk yp yg) (hw : w < 4) (hs : st w = 1) :
    ∀ n i, i ≤ D → D - i < n → (rk_mY (O + i) C r rv ky lo hi fr lr lk w → J (nI (w + 1)) ex va ma se ve ls ys yk yp yg ln en op (upd st w 2) lo hi fr lr lk lq lv) → (¬ rk_mY (O + i) C r rv ky lo hi fr lr lk w → J (nI (w + 1)) ex va ma se ve ls ys yk yp yg ln en op st lo hi fr lr lk lq lv) → wY_lose_9 post J (nI r) (nI w) (nI F) (nI P) (nI D) (nI T2) n (nI i) ex va ma se ve ls ys yk yp yg ln en op st lo hi fr lr lk lq lv := by
  intro n
  induction n with
  | zero => intro c _ hn; omega
  | succ n ih =>
    intro i hiD hn h1 h0
    by_cases e : i = D
    · subst e
      exact br_t (nI_le (Nat.le_refl _) (by omega)) (nm_r (nI_1 w) (h0 fun y => by obtain ⟨c, a, b, _⟩ := y; omega))
    · have hv : vp_in (nI w) 4 := vp_in_nI hw (by decide)
      have hl := hk i (by omega)
      have hrc := hrv (O + i) (by omega)
      have eu : upd st (nI w).toNatClampNeg (st (nI w).toNatClampNeg) = st := rk_uid
      have go : ¬ (rv (O + i) ≤ r ∧ rk_wb rv ky lo hi fr w (O + i) ∧ rk_ny rv ky lr lk w (O + i)) → wY_lose_9 post J (nI r) (nI w) (nI F) (nI P) (nI D) (nI T2) n (nI (i + 1)) ex va ma se ve ls ys yk yp yg ln en op st lo hi fr lr lk lq lv := fun hz =>
        ih (i + 1) (by omega) (by omega) (fun y => h1 (by obtain ⟨c, a, b, d⟩ := y; exact ⟨c, by omega, b, d⟩)) (fun y => h0 fun x => by
          obtain ⟨c, a, b, d⟩ := x
          by_cases e2 : c = O + i
          · subst e2; exact hz d
          · exact y ⟨c, by omega, b, d⟩)
      refine br_f (nI_ge (by omega) (by omega)) (And.intro hv (br_t (rk_rd (by omega) hs) (And.intro (vp_in_nI (by omega) (by decide)) (pk_lt r (rv (O + i)) (fun z => ?_) (fun z => ?_) rfl (rk_rd (by omega) hl.1) (by omega) (by omega)))))
      · exact And.intro hv (And.intro hv (nm_r eu (nm_r (nI_1 i) (go fun y => by omega))))
      · refine ry_wanted hw (by omega) hl.1 hl.2.1 (fun y => ?_) (fun y => ?_)
        · refine br_f (by decide) (And.intro hv (nm_r (rk_wr (by omega) rfl) (nm_r (nI_1 i) ?_)))
          cases n with
          | zero => omega
          | succ n => exact ry_lA hw (by rw [pk_us]; decide) (h1 ⟨O + i, Nat.le_refl _, by omega, z, y⟩)
        · exact br_t rfl (And.intro hv (And.intro hv (nm_r eu (nm_r (nI_1 i) (go fun x => y x.2)))))
theorem ry_l2 {post : SY → Prop} {r : Nat} {st2 : Nat → Int32} (hcod : C = O + D) (hD : D < 120) (hr : r ≤ 6000) (hrv : ∀ c, c < C → rv c ≤ 6000) (hk : rk_Lk O D rv ky vl pt ys yk yp yg)
    (hs2 : ∀ w, w < 4 → (¬ st w = 1 ∧ st2 w = st w) ∨ (st w = 1 ∧ (rk_mY O C r rv ky lo hi fr lr lk w → st2 w = 2) ∧ (¬ rk_mY O C r rv ky lo hi fr lr lk w → st2 w = 1)))
    (h : post (nI F, nI P, nI D, nI T2, ex, va, ma, se, ve, ls, ys, yk, yp, yg, ln, en, op, rk_mx 4 st2 st, lo, hi, fr, lr, lk, lq, lv)) : ∀ n w, w ≤ 4 → 4 - w < n → wY_lose_2 post (nI r) (nI F) (nI P) (nI D) (nI T2) n (nI w) ex va ma se ve ls ys yk yp yg ln en op (rk_mx w st2 st) lo hi fr lr lk lq lv := by
  intro n
  induction n with
  | zero => intro c _ hn; omega
  | succ n ih =>
    intro w hw hn
    by_cases e : w = 4
    · subst e; exact br_t (nI_le (a := 4) (b := 4) (by omega) (by decide)) h
    · have := ih (w + 1) (by omega) (by omega)
      refine br_f (nI_ge (a := w) (b := 4) (by omega) (by decide)) ⟨D + 1, ?_⟩
      rcases hs2 w (by omega) with ⟨z1, z2⟩ | ⟨z1, z2, z3⟩
      · rw [← rk_mx_n z2] at this
        exact ry_lA (by omega) (by rw [rk_mx_hi (Nat.le_refl _)]; exact z1) this
      · refine ry_lB hcod hD hr hrv hk (by omega) ((rk_mx_hi (Nat.le_refl _)).trans z1) (D + 1) 0 (by omega) (by omega) (fun y => ?_) (fun y => ?_)
        · rw [rk_mx_s (z2 y).symm]; exact this
        · rw [← rk_mx_n ((z3 y).trans z1.symm)] at this
          exact this
theorem ry_lose {post : SY → Prop} {r : Nat} {st2 : Nat → Int32} (hcod : C = O + D) (hD : D < 120) (hr : r ≤ 6000) (hrv : ∀ c, c < C → rv c ≤ 6000) (hk : rk_Lk O D rv ky vl pt ys yk yp yg)
    (hs2 : ∀ w, w < 4 → (¬ st w = 1 ∧ st2 w = st w) ∨ (st w = 1 ∧ (rk_mY O C r rv ky lo hi fr lr lk w → st2 w = 2) ∧ (¬ rk_mY O C r rv ky lo hi fr lr lk w → st2 w = 1)))
    (h : post (nI F, nI P, nI D, nI T2, ex, va, ma, se, ve, ls, ys, yk, yp, yg, ln, en, op, rk_mx 4 st2 st, lo, hi, fr, lr, lk, lq, lv)) : wpY_lose post (nI F, nI P, nI D, nI T2, ex, va, ma, se, ve, ls, ys, yk, yp, yg, ln, en, op, st, lo, hi, fr, lr, lk, lq, lv) (nI r) := by
  have := ry_l2 hcod hD hr hrv hk hs2 h 5 0 (by omega) (by omega)
  rw [rk_mx_0] at this
  exact ⟨5, this⟩
theorem ry_c39 {post : Int32 → SY → Prop} {r g : Nat} (hcod : C = O + D) (hD : D < 120) (hr : r ≤ 6000) (hrv : ∀ c, c < C → rv c ≤ 6000) (hk : rk_Lk O D rv ky vl pt ys yk yp yg) (hg1 : O ≤ g) (hg2 : g ≤ C) (hg : ∀ c, c < C → (c < g ↔ rv c ≤ r))
    (h : wY_compact_63 post (nI r) (nI (g - O)) (nI F) (nI P) (nI D) (nI T2) ex va ma se ve ls ys yk yp yg ln en op st lo hi fr lr lk lq lv) : ∀ n i, i ≤ g - O → g - O - i < n → wY_compact_39 post (nI r) (nI F) (nI P) (nI D) (nI T2) ex va ma se ve ls ys yk yp yg ln en op st lo hi fr lr lk lq lv n (nI i) := by
  intro n
  induction n with
  | zero => intro c _ hn; omega
  | succ n ih =>
    intro i hi hn
    by_cases eD : i = D
    · have : i = g - O := by omega
      subst this
      exact br_t (nI_le (by omega) (by omega)) h
    · have hl := hk i (by omega)
      have hrc := hrv (O + i) (by omega)
      have hgi := hg (O + i) (by omega)
      refine br_f (nI_ge (by omega) (by omega)) (And.intro (vp_in_nI (by omega) (by decide)) (pk_lt r (rv (O + i)) (fun z => ?_) (fun z => nm_r (nI_1 i) (ih (i + 1) (by omega) (by omega))) rfl (rk_rd (by omega) hl.1) (by omega) (by omega)))
      have : i = g - O := by omega
      subst this
      exact h
theorem ry_c167 {post : Int32 → SY → Prop} {r s L : Nat} (hL : s + L ≤ 1920) (h01 : ∀ j, s ≤ j → j < s + L → ex j = 0 ∨ ex j = 1)
    (h : post (nI D) (nI r, nI P, nI D, nI T2, rk_cp ex s L, rk_cp va s L, ma, se, ve, ls, ys, yk, yp, yg, ln, en, op, st, lo, hi, fr, lr, lk, lq, lv)) : ∀ n j, j ≤ L → L - j < n → wY_compact_167 post (nI r) (nI s) (nI (s + L)) (nI F) (nI P) (nI D) (nI T2) n (nI (s + j)) (rk_cp ex s j) (rk_cp va s j) ma se ve ls ys yk yp yg ln en op st lo hi fr lr lk lq lv := by
  intro n
  induction n with
  | zero => intro c _ hn; omega
  | succ n ih =>
    intro j hj hn
    by_cases e : j = L
    · subst e; exact br_t (nI_le (Nat.le_refl _) (by omega)) h
    · have e1 : nI (s + j) - nI s = nI j := by rw [pk_sub (by omega)]; congr 1; omega
      have hv1 := vp_in_nI (N := 1920) (n := s + j) (by omega) (by decide)
      have hv2 := rk_vx (N := 1920) e1 (by omega) (by decide)
      have r1 : rk_cp ex s j (nI (s + j)).toNatClampNeg = ex (s + j) := rk_rd (by omega) (rk_cp_o (by omega))
      have r2 : rk_cp va s j (nI (s + j)).toNatClampNeg = va (s + j) := rk_rd (by omega) (rk_cp_o (by omega))
      refine br_f (nI_ge (by omega) (by omega)) (And.intro hv1 (And.intro hv2 (nm_r (e' := rk_cp ex s (j + 1)) ?_ (And.intro hv1 (And.intro hv2 (nm_r (e' := rk_cp va s (j + 1)) ?_ (nm_r (nI_1 (s + j)) (ih (j + 1) (by omega) (by omega)))))))))
      · rw [r1, rk_nb (h01 (s + j) (by omega) (by omega))]
        exact rk_wx e1 (by omega) (rk_cp_s (by rw [Nat.add_comm]))
      · rw [r2]
        exact rk_wx e1 (by omega) (rk_cp_s (by rw [Nat.add_comm]))
theorem ry_c75 {post : Int32 → SY → Prop} {r e : Nat} (he : D + e < 120) (hF : F ≤ r) (hrP : r ≤ P) (hP : 16 * (P - F) + 16 ≤ 1920) (hp01 : ∀ i, i < D + e → yp i = 0 ∨ yp i = 1) (h01 : ∀ j, 16 * (r - F) ≤ j → j < 16 * (r - F) + (16 * (P - r) + 16) → ex j = 0 ∨ ex j = 1)
    (h : post (nI D) (nI r, nI P, nI D, nI T2, rk_cp ex (16 * (r - F)) (16 * (P - r) + 16), rk_cp va (16 * (r - F)) (16 * (P - r) + 16), ma, se, ve, ls, rk_cp ys e D, rk_cp yk e D, rk_cp yp e D, rk_cp yg e D, ln, en, op, st, lo, hi, fr, lr, lk, lq, lv)) :
    ∀ n i, i ≤ D → D - i < n → wY_compact_75 post (nI r) (nI e) (nI F) (nI P) (nI D) (nI T2) n (nI i) ex va ma se ve ls (rk_cp ys e i) (rk_cp yk e i) (rk_cp yp e i) (rk_cp yg e i) ln en op st lo hi fr lr lk lq lv := by
  intro n
  induction n with
  | zero => intro c _ hn; omega
  | succ n ih =>
    intro i hi hn
    by_cases eD : i = D
    · subst eD
      have e1 : (16 : Int32) * (nI r - nI F) = nI (16 * (r - F)) := by rw [pk_sub hF, show (16 : Int32) = nI 16 from rfl, pk_mul]
      refine br_t (nI_le (Nat.le_refl _) (by omega)) (nm_r e1 (ry_present (by omega) (nm_r (e' := nI (16 * (r - F) + (16 * (P - r) + 16))) ?_ ⟨16 * (P - r) + 17, ?_⟩)))
      · rw [show (16 : Int32) = nI 16 from rfl, nI_add]; congr 1; omega
      · have := ry_c167 (post := post) (F := F) (P := P) (T2 := T2) (D := i) (r := r) (s := 16 * (r - F)) (L := 16 * (P - r) + 16) (by omega) h01 h (16 * (P - r) + 17) 0 (by omega) (by omega)
        rw [rk_cp_0, rk_cp_0] at this
        exact this
    · have ea := nI_add i e
      have hv1 := rk_vx (N := 120) ea (by omega) (by decide)
      have hv2 := vp_in_nI (N := 120) (n := i) (by omega) (by decide)
      have rd : ∀ a : Nat → Int32, rk_cp a e i (nI i + nI e).toNatClampNeg = a (i + e) := fun a => rk_rx ea (by omega) (rk_cp_o (by omega))
      refine br_f (nI_ge (by omega) (by omega)) (And.intro hv1 (And.intro hv2 (nm_r (e' := rk_cp ys e (i + 1)) ?_ (And.intro hv1 (And.intro hv2 (nm_r (e' := rk_cp yk e (i + 1)) ?_ (And.intro hv1 (And.intro hv2 (nm_r (e' := rk_cp yp e (i + 1)) ?_ (And.intro hv1 (And.intro hv2 (nm_r (e' := rk_cp yg e (i + 1)) ?_ (nm_r (nI_1 i) (ih (i + 1) (by omega) (by omega)))))))))))))))
      · rw [rd ys]; exact rk_wr (by omega) (rk_cp_s rfl)
      · rw [rd yk]; exact rk_wr (by omega) (rk_cp_s rfl)
      · rw [rd yp, rk_nb (hp01 (i + e) (by omega))]; exact rk_wr (by omega) (rk_cp_s rfl)
      · rw [rd yg]; exact rk_wr (by omega) (rk_cp_s rfl)
theorem ry_comp {post : Int32 → SY → Prop} {r g : Nat} {st2 : Nat → Int32} (hL : rk_Lg P P F O C D 16 rv ky pt bf lc) (hS : rk_St P F C rv ky vl pt ex va) (hk : rk_Lk O D rv ky vl pt ys yk yp yg) (hP : P ≤ 6000) (hD : D ≤ 116) (hFr : F ≤ r) (hrP : r ≤ P) (hg1 : O ≤ g) (hg2 : g ≤ C) (hg : ∀ c, c < C → (c < g ↔ rv c ≤ r))
    (hs2 : ∀ w, w < 4 → (¬ st w = 1 ∧ st2 w = st w) ∨ (st w = 1 ∧ (rk_mY O C r rv ky lo hi fr lr lk w → st2 w = 2) ∧ (¬ rk_mY O C r rv ky lo hi fr lr lk w → st2 w = 1)))
    (h : post (nI (C - g)) (nI r, nI P, nI (C - g), nI T2, rk_cp ex (16 * (r - F)) (16 * (P - r) + 16), rk_cp va (16 * (r - F)) (16 * (P - r) + 16), ma, se, ve, ls, rk_cp ys (g - O) (C - g), rk_cp yk (g - O) (C - g), rk_cp yp (g - O) (C - g), rk_cp yg (g - O) (C - g), ln, en, op, rk_mx 4 st2 st, lo, hi, fr, lr, lk, lq, lv)) :
    wpY_compact post (nI F, nI P, nI D, nI T2, ex, va, ma, se, ve, ls, ys, yk, yp, yg, ln, en, op, st, lo, hi, fr, lr, lk, lq, lv) (nI r) := by
  have hrv : ∀ c, c < C → rv c ≤ 6000 := fun c hc => by have := rk_Lg_rvP hL c hc; omega
  have hcod := rk_Lg_cod hL
  have hPF := rk_PFD hL
  refine br_f (nI_nlt hFr (by omega)) (br_t (nI_le hrP (by omega)) (ry_lose hcod (by omega) (by omega) hrv hk hs2 ⟨D + 1, ?_⟩))
  refine ry_c39 hcod (by omega) (by omega) hrv hk hg1 hg2 hg ?_ (D + 1) 0 (by omega) (by omega)
  refine nm_r (e' := nI (C - g)) (by rw [pk_sub (by omega)]; congr 1; omega) ⟨D + 1, ?_⟩
  have := ry_c75 (post := post) (F := F) (P := P) (D := C - g) (T2 := T2) (ex := ex) (va := va) (ma := ma) (se := se) (ve := ve) (ls := ls) (ys := ys) (yk := yk) (yp := yp) (yg := yg) (ln := ln) (en := en) (op := op) (st := rk_mx 4 st2 st) (lo := lo) (hi := hi) (fr := fr) (lr := lr) (lk := lk) (lq := lq) (lv := lv) (r := r) (e := g - O) (by omega) hFr hrP (by omega) (fun i hi => by rw [(hk i (by omega)).2.2.1]; exact rk_Lg_p01 hL _ (by omega)) (fun j h1 h2 => by
    have := rk_ex01 (R := F + j / 16) (k := j % 16) hL hS (by omega) (by omega) (by omega)
    rw [show 16 * (F + j / 16 - F) + j % 16 = j from by omega] at this
    exact this) h (D + 1) 0 (by omega) (by omega)
  rw [rk_cp_0, rk_cp_0, rk_cp_0, rk_cp_0] at this
  exact this
end
end
section
/-! compact on both sides; the beginning -/
theorem i_vc_compact {k : Nat} {u : SX} {v : SY} (I : i_Rel k u v) (hk : k + 5 ≤ 2560) (v1 : Int32) : wpX_compact (fun r u' => wpY_compact (fun r' v' => r' = r ∧ i_Rel (k + 5) u' v') v v1) u v1 := by
  refine rk_op (G := fun u v => wpX_compact (fun r u' => wpY_compact (fun r' v' => r' = r ∧ i_Rel (k + 5) u' v') v v1) u v1) hk ?_ I
  intro P F O C D T ls op ln en np rv ky bf lc vl pt md vs rn iu il lo hi fr pl ah ak aq av ex va ma se ve ys yk yp yg st lr lk lq lv co hls hbd hPk hTk hP hT hC I0
  have hL := rk_Co_Lg co
  have hS := rk_Co_St co
  have hFP := rk_Lg_FP hL
  have hcod := rk_Lg_cod hL
  by_cases h2 : nI F ≤ v1
  · by_cases h3 : v1 ≤ nI P
    · obtain ⟨r, hr, rfl⟩ := nI_of (x := v1) (fun z => by
        rw [Int32.le_iff_toInt_le, nI_toInt (by omega)] at h2
        rw [Int32.lt_iff_toInt_lt, show (0 : Int32).toInt = 0 from by decide] at z
        omega)
      rw [nI_leI (by omega) hr] at h2
      rw [nI_leI hr (by omega)] at h3
      obtain ⟨g, hg1, hg2, hg⟩ := rk_cut hL h2
      -- the watches behind it
      have hx : ∃ il2 pl2 st2 : Nat → Int32, ∀ w, w < 4 →
          ((iu w = 0 ∨ (iu w ≠ 0 ∧ il w ≠ 0)) ∧ il2 w = il w ∧ pl2 w = pl w ∧ ¬ st w = 1 ∧ st2 w = st w) ∨
          (iu w ≠ 0 ∧ il w = 0 ∧ st w = 1 ∧ ∃ p, p ≤ C ∧ pl w = nI p ∧ pl2 w = nI (rk_ct (rk_kp rv ky pt r C) p) ∧ (∀ c, p ≤ c → c < O → ¬ rk_wb rv ky lo hi fr w c) ∧ (∀ c, O ≤ c → c < C → rk_wb rv ky lo hi fr w c → (p ≤ c ↔ rk_ny rv ky lr lk w c)) ∧ (lk w < 0 ∨ ∃ q, q ≤ P ∧ lr w = nI q) ∧
            ((rk_mX C r rv ky lo hi fr p w ∧ il2 w = 1 ∧ st2 w = 2) ∨ (¬ rk_mX C r rv ky lo hi fr p w ∧ il2 w = 0 ∧ st2 w = 1))) := by
        refine ⟨fun w => if rk_dc (iu w ≠ 0 ∧ il w = 0) = true then (if rk_dc (rk_mX C r rv ky lo hi fr (pl w).toNatClampNeg w) = true then 1 else 0) else il w,
          fun w => if rk_dc (iu w ≠ 0 ∧ il w = 0) = true then nI (rk_ct (rk_kp rv ky pt r C) (pl w).toNatClampNeg) else pl w,
          fun w => if rk_dc (iu w ≠ 0 ∧ il w = 0) = true then (if rk_dc (rk_mX C r rv ky lo hi fr (pl w).toNatClampNeg w) = true then 2 else 1) else st w, fun w hw => ?_⟩
        dsimp only
        rcases rk_Co_Wt co w hw with ⟨z1, z2⟩ | ⟨z1, _, ⟨y1, y2, p, p1, p2, p3, p4, p5⟩ | ⟨y1, y2⟩⟩
        · have hn : ¬ rk_dc (iu w ≠ 0 ∧ il w = 0) = true := fun z => (rk_dc_t.mp z).1 z1
          rw [if_neg hn, if_neg hn, if_neg hn]
          exact Or.inl ⟨Or.inl z1, rfl, rfl, by rw [z2]; decide, rfl⟩
        · have hn : rk_dc (iu w ≠ 0 ∧ il w = 0) = true := rk_dc_t.mpr ⟨z1, y1⟩
          have ep : (pl w).toNatClampNeg = p := by rw [p2]; exact nI_clamp (by omega)
          rw [if_pos hn, if_pos hn, if_pos hn, ep]
          refine Or.inr ⟨z1, y1, y2, p, p1, p2, rfl, p3, p4, p5, ?_⟩
          by_cases hm : rk_mX C r rv ky lo hi fr p w
          · rw [if_pos (rk_dc_t.mpr hm), if_pos (rk_dc_t.mpr hm)]
            exact Or.inl ⟨hm, rfl, rfl⟩
          · rw [if_neg (fun z => hm (rk_dc_t.mp z)), if_neg (fun z => hm (rk_dc_t.mp z))]
            exact Or.inr ⟨hm, rfl, rfl⟩
        · have hn : ¬ rk_dc (iu w ≠ 0 ∧ il w = 0) = true := fun z => y1 (rk_dc_t.mp z).2
          rw [if_neg hn, if_neg hn, if_neg hn]
          exact Or.inl ⟨Or.inr ⟨z1, y1⟩, rfl, rfl, by rw [y2]; decide, rfl⟩
      obtain ⟨il2, pl2, st2, hw⟩ := hx
      refine rx_comp (il2 := il2) (pl2 := pl2) (g := g) hL (by omega) hC h2 h3 hg2 hg (fun w h => ?_) (fun rv2 ky2 bf2 vl2 pt2 md2 vs2 hM => ?_)
      · rcases hw w h with ⟨a, b, c, _⟩ | ⟨a, b, _, p, p1, p2, p3, _, _, _, p7⟩
        · exact Or.inl ⟨a, b, c⟩
        · refine Or.inr ⟨a, b, p, p1, p2, p3, fun z => ?_, fun z => ?_⟩
          · rcases p7 with y | y
            · exact y.2.1
            · exact absurd z y.1
          · rcases p7 with y | y
            · exact absurd y.1 z
            · exact y.2.1
      · refine ry_comp (st2 := st2) (g := g) hL hS (rk_Co_Lk co) (by omega) (by omega) h2 h3 hg1 hg2 hg (fun w h => ?_) ⟨rfl, ?_⟩
        · rcases hw w h with ⟨_, _, _, a, b⟩ | ⟨_, _, a, p, p1, p2, p3, p4, p5, _, p7⟩
          · exact Or.inl ⟨a, b⟩
          · refine Or.inr ⟨a, fun z => ?_, fun z => ?_⟩
            · rcases p7 with y | y
              · exact y.2.2
              · exact absurd ((rk_mXY p4 p5).mpr z) y.1
            · rcases p7 with y | y
              · exact absurd ((rk_mXY p4 p5).mp y.1) z
              · exact y.2.2
        · have hlc : ∀ k, k < 16 → rk_mN 16 (fun k => rk_r (rk_kp rv ky pt r C) (lc k)) lc k = rk_r (rk_kp rv ky pt r C) (lc k) := fun k hk => rk_mN_lo hk
          refine rk_cl (rk_Md_in _ ⟨rk_Lg_comp hL h2 h3 hM hlc hg1 hg2 hg, rk_St_comp hL hS h2 h3 hM, rk_Nw_comp hL (rk_Co_Nw co) hM hlc, rk_Lk_comp hL (rk_Co_Lk co) hM hg1 hg2 hg, fun w h => ?_, rk_np_comp hL (rk_Co_np co) h3 hM hlc⟩) hls (by omega) (by omega) (by omega)
          rw [rk_mx_lo h, rk_mx_lo h]
          have hW := rk_Co_Wt co w h
          rcases hw w h with ⟨a, b, c, d, e⟩ | ⟨a, b, c, p, p1, p2, p3, p4, p5, p6, p7⟩
          · rw [b, e]
            rcases hW with z | ⟨z1, z2, z | z⟩
            · exact Or.inl z
            · exact absurd z.2.1 d
            · exact Or.inr ⟨z1, z2, Or.inr z⟩
          · rcases hW with z | ⟨z1, z2, z⟩
            · exact absurd z.1 a
            · rcases p7 with y | y
              · rw [y.2.1, y.2.2]
                exact Or.inr ⟨z1, z2, Or.inr ⟨by decide, rfl⟩⟩
              · rw [y.2.1, y.2.2]
                exact Or.inr ⟨z1, z2, Or.inl ⟨rfl, rfl, rk_Wa_comp (pl := pl) hM hg1 hg2 hg p1 p4 p5 p6 y.1 ((rk_mx_lo h).trans p3)⟩⟩
    · refine br_t h2 (br_f h3 (br_f (Int32.not_lt.mpr h2) (br_f h3 (br_t h2 ⟨rfl, i_up I0⟩))))
  · exact br_f h2 (br_t (Int32.not_le.mp h2) (br_f h2 ⟨rfl, i_up I0⟩))
section
variable {C O D P F T T2 : Nat} {rv ky bf lc : Nat → Nat} {vl pt md vs ls rn op ln en iu il lo hi fr pl ah ak aq av : Nat → Int32} {ex va ma se ve ys yk yp yg st lr lk lq lv : Nat → Int32}
theorem rx_in {post : SX → Prop} (h : post (nI C, nI O, nI P, nI F, nI T, rk_nf rv, rk_nf ky, vl, pt, md, vs, rk_ef bf, rk_ef (rk_mN 16 (fun _ => 0) lc), rk_mx 16 (fun _ => -1) ls, rn, op, ln, en, iu, il, lo, hi, fr, pl, ah, ak, aq, av)) : ∀ n k, k ≤ 16 → 16 - k < n → wX_init_188 post (nI C) (nI O) (nI P) (nI F) (nI T) n (nI k) (rk_nf rv) (rk_nf ky) vl pt md vs (rk_ef bf) (rk_ef (rk_mN k (fun _ => 0) lc)) (rk_mx k (fun _ => -1) ls) rn op ln en iu il lo hi fr pl ah ak aq av := by
  intro n
  induction n with
  | zero => intro c _ hn; omega
  | succ n ih =>
    intro k hk hn
    by_cases e : k = 16
    · subst e; exact br_t (nI_le (a := 16) (b := 16) (by omega) (by decide)) h
    · have hv : vp_in (nI k) 16 := vp_in_nI (by omega) (by decide)
      refine br_f (nI_ge (a := k) (b := 16) (by omega) (by decide)) (And.intro hv (nm_r (e' := rk_ef (rk_mN (k + 1) (fun _ => 0) lc)) (rk_wr (by omega) ?_) (And.intro hv (nm_r (rk_wr (by omega) (rk_mx_s rfl)) (nm_r (nI_1 k) (ih (k + 1) (by omega) (by omega)))))))
      exact (rk_uef _ k 0).trans (by rw [rk_mN_s rfl])
theorem ry_in {post : SY → Prop} (h : post (nI F, nI P, nI D, nI T2, ex, va, ma, se, ve, rk_mx 16 (fun _ => -1) ls, ys, yk, yp, yg, ln, en, op, st, lo, hi, fr, lr, lk, lq, lv)) : ∀ n k, k ≤ 16 → 16 - k < n → wY_init_168 post (nI F) (nI P) (nI D) (nI T2) n (nI k) ex va ma se ve (rk_mx k (fun _ => -1) ls) ys yk yp yg ln en op st lo hi fr lr lk lq lv := by
  intro n
  induction n with
  | zero => intro c _ hn; omega
  | succ n ih =>
    intro k hk hn
    by_cases e : k = 16
    · subst e; exact br_t (nI_le (a := 16) (b := 16) (by omega) (by decide)) h
    · have hv : vp_in (nI k) 16 := vp_in_nI (by omega) (by decide)
      exact br_f (nI_ge (a := k) (b := 16) (by omega) (by decide)) (And.intro hv (nm_r (rk_wr (by omega) (rk_mx_s rfl)) (nm_r (nI_1 k) (ih (k + 1) (by omega) (by omega)))))
end
theorem rk_R0 : i_Rel 0 (nI 0, nI 0, nI 0, nI 0, nI 0, rk_nf (fun _ => 0), rk_nf (fun _ => 0), fun _ => 0, fun _ => 0, fun _ => 0, fun _ => 0, rk_ef (fun _ => 1), rk_ef (rk_mN 16 (fun _ => 0) (fun _ => 1)), rk_mx 16 (fun _ => -1) (fun _ => 0), fun _ => 0, fun _ => 0, fun _ => 0, fun _ => 0, fun _ => 0, fun _ => 0, fun _ => 0, fun _ => 0, fun _ => 0, fun _ => 0, fun _ => 0, fun _ => 0, fun _ => 0, fun _ => 0) (nI 0, nI 0, nI 0, nI 0, fun _ => 0, fun _ => 0, fun _ => 0, fun _ => 0, fun _ => 0, rk_mx 16 (fun _ => -1) (fun _ => 0), fun _ => 0, fun _ => 0, fun _ => 0, fun _ => 0, fun _ => 0, fun _ => 0, fun _ => 0, fun _ => 0, fun _ => 0, fun _ => 0, fun _ => 0, fun _ => 0, fun _ => 0, fun _ => 0, fun _ => 0) := by
  refine rk_cl (P := 0) (F := 0) (O := 0) (C := 0) (D := 0) (T := 0) (np := fun _ => 0) (rk_Md_in _ ⟨⟨fun c hc => by omega, fun c hc => by omega, rfl, Nat.le_refl _, fun k hk => rk_mN_lo hk, fun c hc => by omega, fun i j _ hj => by omega, fun c hc => by omega, fun i j hi => by omega, Nat.le_refl _, fun c _ hc => by omega, fun c hc => by omega⟩, ⟨fun R k _ _ _ => rfl, fun R k c _ _ _ e => ?_⟩, fun k c hk e => ?_, fun i hi => by omega, fun w hw => Or.inl ⟨rfl, rfl⟩, fun k hk => ?_⟩) ⟨fun k hk => Or.inl (rk_mx_lo hk), fun l _ ho => absurd rfl ho, fun l _ ho => absurd rfl ho⟩ (by have := rk_ct16 (rk_le (rk_mx 16 (fun _ => -1) (fun _ => 0))); omega) (by omega) (by omega)
  · have : (0 : Nat) = c + 1 := e
    omega
  · rw [rk_mN_lo hk] at e
    omega
  · rw [rk_mN_lo hk]; rfl
theorem i_vc0 : wpX_init (fun u => wpY_init (fun v => i_Rel 0 u v)) := by
  have hy : ∀ post : SY → Prop, post (nI 0, nI 0, nI 0, nI 0, fun _ => 0, fun _ => 0, fun _ => 0, fun _ => 0, fun _ => 0, rk_mx 16 (fun _ => -1) (fun _ => 0), fun _ => 0, fun _ => 0, fun _ => 0, fun _ => 0, fun _ => 0, fun _ => 0, fun _ => 0, fun _ => 0, fun _ => 0, fun _ => 0, fun _ => 0, fun _ => 0, fun _ => 0, fun _ => 0, fun _ => 0) → wpY_init post := fun post h => by
    have := ry_in (F := 0) (P := 0) (D := 0) (T2 := 0) (ls := fun _ => 0) h 17 0 (by omega) (by omega)
    rw [rk_mx_0] at this
    exact ⟨17, this⟩
  have hx : ∀ post : SX → Prop, post (nI 0, nI 0, nI 0, nI 0, nI 0, rk_nf (fun _ => 0), rk_nf (fun _ => 0), fun _ => 0, fun _ => 0, fun _ => 0, fun _ => 0, rk_ef (fun _ => 1), rk_ef (rk_mN 16 (fun _ => 0) (fun _ => 1)), rk_mx 16 (fun _ => -1) (fun _ => 0), fun _ => 0, fun _ => 0, fun _ => 0, fun _ => 0, fun _ => 0, fun _ => 0, fun _ => 0, fun _ => 0, fun _ => 0, fun _ => 0, fun _ => 0, fun _ => 0, fun _ => 0, fun _ => 0) → wpX_init post := fun post h => by
    have := rx_in (C := 0) (O := 0) (P := 0) (F := 0) (T := 0) (rv := fun _ => 0) (ky := fun _ => 0) (bf := fun _ => 1) (lc := fun _ => 1) (ls := fun _ => 0) h 17 0 (by omega) (by omega)
    rw [rk_mx_0, rk_mN_0] at this
    exact ⟨17, this⟩
  exact hx _ (hy _ rk_R0)
end
