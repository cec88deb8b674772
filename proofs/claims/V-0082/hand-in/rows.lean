section
/-! pure rows to paste: stores, nI and lN arithmetic, masks, shifts, narrowing, branches by naturals (pk_le, pk_lt, pk_eq), loops (lp1 .. lp16: the measure of the state; rp1 ..: recursion), negatives. Take what you need -/
theorem pk_us {f : Nat → Int32} {k : Nat} {x : Int32} : upd f k x k = x := if_pos rfl
theorem pk_un {f : Nat → Int32} {k j : Nat} {x : Int32} (h : j ≠ k) : upd f k x j = f j := if_neg h
theorem pk_uLs {f : Nat → Int64} {k : Nat} {x : Int64} : vp_updL f k x k = x := if_pos rfl
theorem pk_uLn {f : Nat → Int64} {k j : Nat} {x : Int64} (h : j ≠ k) : vp_updL f k x j = f j := if_neg h
theorem pk_sub {a b : Nat} (h : b ≤ a) : nI a - nI b = nI (a - b) := by
  obtain ⟨c, rfl⟩ : ∃ c, a = c + b := ⟨a - b, by omega⟩
  rw [← nI_add, Int32.add_sub_cancel, Nat.add_sub_cancel]
theorem pk_m1 (n : Nat) : nI (n + 1) + (-1) = nI n := by
  rw [← nI_1, Int32.add_assoc, show (1 : Int32) + (-1) = 0 from rfl, Int32.add_zero]
theorem pk_mul (a b : Nat) : nI a * nI b = nI (a * b) := (Int32.ofNat_mul a b).symm
theorem pk_div {a d : Nat} (ha : a < 2 ^ 31) (h0 : 0 < d) (hd : d < 2 ^ 31) : nI a / nI d = nI (a / d) := by
  apply Int32.toInt_inj.mp
  rw [lg_idiv_nonneg (by rw [nI_toInt ha]; omega) (by rw [nI_toInt hd]; omega), nI_toInt ha, nI_toInt hd, nI_toInt (Nat.lt_of_le_of_lt (Nat.div_le_self a d) ha)]
  first | rfl | exact (Int.natCast_ediv _ _).symm
theorem pk_rem {a d : Nat} (ha : a < 2 ^ 31) (h0 : 0 < d) (hd : d < 2 ^ 31) : nI a - nI a / nI d * nI d = nI (a % d) := by
  rw [pk_div ha h0 hd, pk_mul, pk_sub (Nat.div_mul_le_self a d)]
  exact congrArg nI (by have := Nat.div_add_mod' a d; omega)
theorem pk_sub_toInt {a b : Nat} (ha : a < 2 ^ 30) (hb : b < 2 ^ 30) : (nI a - nI b).toInt = (a : Int) - b := by
  rw [Int32.toInt_sub, nI_toInt (by omega), nI_toInt (by omega)]
  exact Int.bmod_eq_of_le (by omega) (by omega)
theorem pk_sneg {a b : Nat} (hb : b < 2 ^ 30) (h : a < b) : nI a - nI b < 0 := by
  rw [Int32.lt_iff_toInt_lt, pk_sub_toInt (by omega) hb, show (0 : Int32).toInt = 0 from by decide]
  omega
theorem pk_ix (x : Int32) {n : Nat} (hn : n < 2 ^ 31) : x < 0 ∨ nI n ≤ x ∨ ∃ j : Nat, j < n ∧ x = nI j := by
  by_cases h : x < 0
  · exact Or.inl h
  · obtain ⟨j, hj, rfl⟩ := nI_of h
    by_cases h2 : j < n
    · exact Or.inr (Or.inr ⟨j, h2, rfl⟩)
    · exact Or.inr (Or.inl (nI_le (by omega) hj))
theorem pk_le {x y : Int32} {A B : Prop} (a b : Nat) (f : a ≤ b → A) (g : b < a → B) (hx : x = nI a := by rfl) (hy : y = nI b := by rfl) (ha : a < 2 ^ 31 := by omega) (hb : b < 2 ^ 31 := by omega) : (x ≤ y → A) ∧ (¬ x ≤ y → B) := by
  subst hx hy
  rw [nI_leI ha hb]
  exact ⟨f, fun z => g (by omega)⟩
theorem pk_lt {x y : Int32} {A B : Prop} (a b : Nat) (f : a < b → A) (g : b ≤ a → B) (hx : x = nI a := by rfl) (hy : y = nI b := by rfl) (ha : a < 2 ^ 31 := by omega) (hb : b < 2 ^ 31 := by omega) : (x < y → A) ∧ (¬ x < y → B) := by
  subst hx hy
  rw [nI_ltI ha hb]
  exact ⟨f, fun z => g (by omega)⟩
theorem pk_eq {x y : Int32} {A B : Prop} (a b : Nat) (f : a = b → A) (g : a ≠ b → B) (hx : x = nI a := by rfl) (hy : y = nI b := by rfl) (ha : a < 2 ^ 31 := by omega) (hb : b < 2 ^ 31 := by omega) : (x = y → A) ∧ (¬ x = y → B) := by
  subst hx hy
  rw [nI_eq ha hb]
  exact ⟨f, g⟩
theorem pk_in {x : Int32} (n N : Nat) (h : n < N) (hx : x = nI n := by rfl) (hN : N < 2 ^ 31 := by omega) : vp_in x N := by
  subst hx
  exact vp_in_nI h hN
theorem pk_cl {x : Int32} (n : Nat) (hx : x = nI n := by rfl) (h : n < 2 ^ 31 := by omega) : x.toNatClampNeg = n := by
  subst hx
  exact nI_clamp h
theorem pk_tn {n : Nat} (h : n < 2 ^ 32) : (nI n).toBitVec.toNat = n := Nat.mod_eq_of_lt h
theorem pk_and (x : Int32) {m : Int32} (k : Nat) (hm : m.toBitVec.toNat = 2 ^ k - 1) : x &&& m = nI (x.toBitVec.toNat % 2 ^ k) := by
  apply Int32.toBitVec_inj.mp
  apply BitVec.eq_of_toNat_eq
  rw [Int32.toBitVec_and, BitVec.toNat_and, hm, Nat.and_two_pow_sub_one_eq_mod]
  show _ = (BitVec.ofNat 32 _).toNat
  rw [BitVec.toNat_ofNat]
  exact (Nat.mod_eq_of_lt (Nat.lt_of_le_of_lt (Nat.mod_le _ _) x.toBitVec.isLt)).symm
theorem pk_andN {n : Nat} (h : n < 2 ^ 32) {m : Int32} (k : Nat) (hm : m.toBitVec.toNat = 2 ^ k - 1) : nI n &&& m = nI (n % 2 ^ k) := by
  rw [pk_and _ k hm, pk_tn h]
theorem pk_andE (x : Int32) {m : Int32} (k : Nat) (hm : m.toBitVec.toNat = 2 ^ k - 1) : ∃ j : Nat, j < 2 ^ k ∧ x &&& m = nI j := ⟨_, Nat.mod_lt _ (Nat.two_pow_pos k), pk_and x k hm⟩
theorem pk_andIn (x : Int32) {m : Int32} (k : Nat) (hm : m.toBitVec.toNat = 2 ^ k - 1) (hk : k ≤ 30) : vp_in (x &&& m) (2 ^ k) := by
  obtain ⟨j, hj, e⟩ := pk_andE x k hm
  rw [e]
  exact vp_in_nI hj (Nat.lt_of_le_of_lt (Nat.pow_le_pow_right (by decide) hk) (by decide))
theorem pk_shl (a s : Int32) (k : Nat) (hs : (s.toBitVec.smod 32).toNat = k) : (a <<< s).toBitVec.toNat = a.toBitVec.toNat * 2 ^ k % 2 ^ 32 := by
  show (a.toBitVec <<< (s.toBitVec.smod 32).toNat).toNat = _
  rw [hs, BitVec.toNat_shiftLeft, Nat.shiftLeft_eq]
theorem pk_shlN {n : Nat} (s : Int32) (k : Nat) (hs : (s.toBitVec.smod 32).toNat = k) (h : n * 2 ^ k < 2 ^ 32) : nI n <<< s = nI (n * 2 ^ k) := by
  apply Int32.toBitVec_inj.mp
  apply BitVec.eq_of_toNat_eq
  have hn : n < 2 ^ 32 := Nat.lt_of_le_of_lt (Nat.le_mul_of_pos_right n (Nat.two_pow_pos k)) h
  rw [pk_shl _ _ k hs, pk_tn hn, pk_tn h, Nat.mod_eq_of_lt h]
theorem pk_shr (a s : Int32) (k : Nat) (hs : (s.toBitVec.smod 32).toNat = k) : (a >>> s).toInt = a.toInt >>> k := by
  show (a.toBitVec.sshiftRight (s.toBitVec.smod 32).toNat).toInt = _
  rw [hs, BitVec.toInt_sshiftRight]
  rfl
theorem pk_shrN {n : Nat} (h : n < 2 ^ 31) (s : Int32) (k : Nat) (hs : (s.toBitVec.smod 32).toNat = k) : nI n >>> s = nI (n / 2 ^ k) := by
  apply Int32.toInt_inj.mp
  have h2 : n / 2 ^ k ≤ n := Nat.div_le_self _ _
  rw [pk_shr _ _ k hs, nI_toInt h, nI_toInt (by omega), Int.shiftRight_eq_div_pow]
  rfl
theorem pk_ushr (x s : Int32) (k : Nat) (hs : ((s.toUInt32 &&& Int32.toUInt32 31).toBitVec % 32).toNat = k) : (x.toUInt32 >>> (s.toUInt32 &&& Int32.toUInt32 31)).toInt32.toBitVec.toNat = x.toBitVec.toNat / 2 ^ k := by
  have e : (x.toUInt32 >>> (s.toUInt32 &&& Int32.toUInt32 31)).toInt32.toBitVec = x.toBitVec >>> k := by
    rw [← hs]
    exact UInt32.toBitVec_shiftRight _ _
  rw [e, BitVec.toNat_ushiftRight, Nat.shiftRight_eq_div_pow]
theorem pk_ushrN {n : Nat} (hn : n < 2 ^ 32) (s : Int32) (k : Nat) (hs : ((s.toUInt32 &&& Int32.toUInt32 31).toBitVec % 32).toNat = k) : ((nI n).toUInt32 >>> (s.toUInt32 &&& Int32.toUInt32 31)).toInt32 = nI (n / 2 ^ k) := by
  apply Int32.toBitVec_inj.mp
  apply BitVec.eq_of_toNat_eq
  rw [pk_ushr _ s k hs, pk_tn hn, pk_tn (Nat.lt_of_le_of_lt (Nat.div_le_self _ _) hn)]
theorem pk_nb (z : Int32) : narrow .byte (.int z.toInt8.toInt32) = .int z.toInt8.toInt32 := congrArg Value.int (by simp)
theorem pk_ns (z : Int32) : narrow .short (.int z.toInt16.toInt32) = .int z.toInt16.toInt32 := congrArg Value.int (by simp)
theorem pk_fb (r : Int32) : fits .byte (.int r.toInt8.toInt32) = true := by
  have ⟨a, b⟩ := lg_i2b_range r
  have h1 : (-128 : Int32).toInt = -128 := by decide
  have h2 : (127 : Int32).toInt = 127 := by decide
  simp only [fits, Bool.and_eq_true, decide_eq_true_eq, Int32.le_iff_toInt_le, h1, h2]
  omega
theorem pk_fs (r : Int32) : fits .short (.int r.toInt16.toInt32) = true := by
  have ⟨a, b⟩ := lg_i2s_range r
  have h1 : (-32768 : Int32).toInt = -32768 := by decide
  have h2 : (32767 : Int32).toInt = 32767 := by decide
  simp only [fits, Bool.and_eq_true, decide_eq_true_eq, Int32.le_iff_toInt_le, h1, h2]
  omega
theorem pk_charN {q : Nat} (hq : q < 65536) : narrow .char (.int (nI q)) = .int (nI q) ∧ fits .char (.int (nI q)) = true := by
  constructor
  · have e : (nI q).toUInt32.toUInt16.toUInt32.toInt32 = nI q := by
      apply Int32.toBitVec_inj.mp
      apply BitVec.eq_of_toNat_eq
      show (nI q).toUInt32.toUInt16.toUInt32.toNat = q % 2 ^ 32
      rw [UInt16.toNat_toUInt32, UInt32.toNat_toUInt16, show (nI q).toUInt32.toNat = q % 2 ^ 32 from rfl]
      omega
    exact congrArg Value.int e
  · have a : (0 : Int32) ≤ nI q := nI_pos' (by omega)
    have b : nI q ≤ 65535 := nI_le (b := 65535) (by omega) (by decide)
    show (decide ((0 : Int32) ≤ nI q) && decide (nI q ≤ 65535)) = true
    rw [decide_eq_true a, decide_eq_true b]
    rfl
theorem pk_char (x : Int32) : (x.toUInt32 % 65536).toInt32 = nI (x.toBitVec.toNat % 65536) := by
  apply Int32.toBitVec_inj.mp
  apply BitVec.eq_of_toNat_eq
  rw [pk_tn (by omega)]
  show (x.toUInt32 % 65536).toNat = _
  rw [UInt32.toNat_mod]
  rfl
theorem pk_nc (x : Int32) : narrow .char (.int (x.toUInt32 % 65536).toInt32) = .int (x.toUInt32 % 65536).toInt32 := by
  rw [pk_char]
  exact (pk_charN (Nat.mod_lt _ (by decide))).1
theorem pk_fc (x : Int32) : fits .char (.int (x.toUInt32 % 65536).toInt32) = true := by
  rw [pk_char]
  exact (pk_charN (Nat.mod_lt _ (by decide))).2
theorem pk_vb (z : Int32) : vp_nar .byte z.toInt8.toInt32 = z.toInt8.toInt32 := by rw [vp_nar_byte]; simp
theorem pk_vs (z : Int32) : vp_nar .short z.toInt16.toInt32 = z.toInt16.toInt32 := by rw [vp_nar_short]; simp
theorem pk_vc (z : Int32) : vp_nar .char (z.toUInt32 % 65536).toInt32 = (z.toUInt32 % 65536).toInt32 := Value.int.inj (pk_nc z)
theorem pk_lT {n : Nat} (h : n < 2 ^ 63) : (lN n).toInt = (n : Int) := lg_ofNat_toInt h
theorem pk_lLT {a b : Nat} (ha : a < 2 ^ 63) (hb : b < 2 ^ 63) : lN a < lN b ↔ a < b := by
  rw [Int64.lt_iff_toInt_lt, pk_lT ha, pk_lT hb]; omega
theorem pk_lLE {a b : Nat} (ha : a < 2 ^ 63) (hb : b < 2 ^ 63) : lN a ≤ lN b ↔ a ≤ b := by
  rw [Int64.le_iff_toInt_le, pk_lT ha, pk_lT hb]; omega
theorem pk_lEQ {a b : Nat} (ha : a < 2 ^ 63) (hb : b < 2 ^ 63) : lN a = lN b ↔ a = b := by
  rw [← Int64.toInt_inj, pk_lT ha, pk_lT hb]; omega
theorem pk_lOf {x : Int64} (h : ¬ x < 0) : ∃ k : Nat, k < 2 ^ 63 ∧ x = lN k := by
  rw [Int64.lt_iff_toInt_lt] at h
  have h0 : (0 : Int64).toInt = 0 := by decide
  have hx := Int64.toInt_lt x
  refine ⟨x.toInt.toNat, by omega, Int64.toInt_inj.mp ?_⟩
  rw [pk_lT (by omega)]
  omega
theorem pk_lDiv {a b : Nat} (ha : a < 2 ^ 63) (h0 : 0 < b) (hb : b < 2 ^ 63) : lN a / lN b = lN (a / b) := by
  apply Int64.toInt_inj.mp
  rw [lg_ldiv_nonneg (by rw [pk_lT ha]; omega) (by rw [pk_lT hb]; omega), pk_lT ha, pk_lT hb, pk_lT (Nat.lt_of_le_of_lt (Nat.div_le_self a b) ha)]
  rfl
theorem pk_lRem {a b : Nat} (ha : a < 2 ^ 63) (h0 : 0 < b) (hb : b < 2 ^ 63) : lN a - lN a / lN b * lN b = lN (a % b) := by
  rw [pk_lDiv ha h0 hb, lN_mul, lN_sub (Nat.div_mul_le_self a b)]
  exact congrArg lN (by have := Nat.div_add_mod' a b; omega)
theorem pk_loop {σ : Type} (W : Nat → Nat → σ → Prop) (I : Nat → σ → Prop) (e i0 : Nat) (s : σ) (hi : i0 ≤ e) (h0 : I i0 s) (hx : ∀ n s, I e s → W (n + 1) e s)
    (hs : ∀ n i s, i < e → I i s → (∀ s', I (i + 1) s' → W n (i + 1) s') → W (n + 1) i s) : ∃ n, W n i0 s :=
  ⟨e + 1, loop_i W I e hx hs (e + 1) i0 s hi (by omega) h0⟩
theorem pk_loopD {σ : Type} (W : Nat → Nat → σ → Prop) (I : Nat → σ → Prop) (hx : ∀ n s, I 0 s → W (n + 1) 0 s)
    (hs : ∀ n i s, I (i + 1) s → (∀ s', I i s' → W n i s') → W (n + 1) (i + 1) s) : ∀ (e : Nat) (s : σ), I e s → W (e + 1) e s := by
  intro e
  induction e with
  | zero => exact fun s h => hx 0 s h
  | succ e ih => exact fun s h => hs (e + 1) e s h (fun s' h' => ih s' h')
theorem lp1 {A1 : Type} (W : Nat → A1 → Prop) (I : A1 → Prop) (μ : A1 → Nat) (hs : ∀ (n : Nat) (a1 : A1), I a1 → (∀ (b1 : A1), I b1 → μ b1 < μ a1 → W n b1) → W (n + 1) a1) (a1 : A1) (h : I a1) : ∃ n, W n a1 :=
  loop_m (σ := A1) (fun n s => W n s) (fun s => I s) (fun s => μ s) (fun n s hI hk => hs n s hI (fun b1 h9 hm => hk b1 h9 hm)) a1 h
theorem lp2 {A1 A2 : Type} (W : Nat → A1 → A2 → Prop) (I : A1 → A2 → Prop) (μ : A1 → A2 → Nat) (hs : ∀ (n : Nat) (a1 : A1) (a2 : A2), I a1 a2 → (∀ (b1 : A1) (b2 : A2), I b1 b2 → μ b1 b2 < μ a1 a2 → W n b1 b2) → W (n + 1) a1 a2) (a1 : A1) (a2 : A2) (h : I a1 a2) : ∃ n, W n a1 a2 :=
  loop_m (σ := A1 × A2) (fun n s => W n s.1 s.2) (fun s => I s.1 s.2) (fun s => μ s.1 s.2) (fun n s hI hk => hs n s.1 s.2 hI (fun b1 b2 h9 hm => hk (b1, b2) h9 hm)) (a1, a2) h
theorem lp3 {A1 A2 A3 : Type} (W : Nat → A1 → A2 → A3 → Prop) (I : A1 → A2 → A3 → Prop) (μ : A1 → A2 → A3 → Nat) (hs : ∀ (n : Nat) (a1 : A1) (a2 : A2) (a3 : A3), I a1 a2 a3 → (∀ (b1 : A1) (b2 : A2) (b3 : A3), I b1 b2 b3 → μ b1 b2 b3 < μ a1 a2 a3 → W n b1 b2 b3) → W (n + 1) a1 a2 a3) (a1 : A1) (a2 : A2) (a3 : A3) (h : I a1 a2 a3) : ∃ n, W n a1 a2 a3 :=
  loop_m (σ := A1 × A2 × A3) (fun n s => W n s.1 s.2.1 s.2.2) (fun s => I s.1 s.2.1 s.2.2) (fun s => μ s.1 s.2.1 s.2.2) (fun n s hI hk => hs n s.1 s.2.1 s.2.2 hI (fun b1 b2 b3 h9 hm => hk (b1, b2, b3) h9 hm)) (a1, a2, a3) h
theorem lp4 {A1 A2 A3 A4 : Type} (W : Nat → A1 → A2 → A3 → A4 → Prop) (I : A1 → A2 → A3 → A4 → Prop) (μ : A1 → A2 → A3 → A4 → Nat) (hs : ∀ (n : Nat) (a1 : A1) (a2 : A2) (a3 : A3) (a4 : A4), I a1 a2 a3 a4 → (∀ (b1 : A1) (b2 : A2) (b3 : A3) (b4 : A4), I b1 b2 b3 b4 → μ b1 b2 b3 b4 < μ a1 a2 a3 a4 → W n b1 b2 b3 b4) → W (n + 1) a1 a2 a3 a4) (a1 : A1) (a2 : A2) (a3 : A3) (a4 : A4) (h : I a1 a2 a3 a4) : ∃ n, W n a1 a2 a3 a4 :=
  loop_m (σ := A1 × A2 × A3 × A4) (fun n s => W n s.1 s.2.1 s.2.2.1 s.2.2.2) (fun s => I s.1 s.2.1 s.2.2.1 s.2.2.2) (fun s => μ s.1 s.2.1 s.2.2.1 s.2.2.2) (fun n s hI hk => hs n s.1 s.2.1 s.2.2.1 s.2.2.2 hI (fun b1 b2 b3 b4 h9 hm => hk (b1, b2, b3, b4) h9 hm)) (a1, a2, a3, a4) h
theorem lp5 {A1 A2 A3 A4 A5 : Type} (W : Nat → A1 → A2 → A3 → A4 → A5 → Prop) (I : A1 → A2 → A3 → A4 → A5 → Prop) (μ : A1 → A2 → A3 → A4 → A5 → Nat) (hs : ∀ (n : Nat) (a1 : A1) (a2 : A2) (a3 : A3) (a4 : A4) (a5 : A5), I a1 a2 a3 a4 a5 → (∀ (b1 : A1) (b2 : A2) (b3 : A3) (b4 : A4) (b5 : A5), I b1 b2 b3 b4 b5 → μ b1 b2 b3 b4 b5 < μ a1 a2 a3 a4 a5 → W n b1 b2 b3 b4 b5) → W (n + 1) a1 a2 a3 a4 a5) (a1 : A1) (a2 : A2) (a3 : A3) (a4 : A4) (a5 : A5) (h : I a1 a2 a3 a4 a5) : ∃ n, W n a1 a2 a3 a4 a5 :=
  loop_m (σ := A1 × A2 × A3 × A4 × A5) (fun n s => W n s.1 s.2.1 s.2.2.1 s.2.2.2.1 s.2.2.2.2) (fun s => I s.1 s.2.1 s.2.2.1 s.2.2.2.1 s.2.2.2.2) (fun s => μ s.1 s.2.1 s.2.2.1 s.2.2.2.1 s.2.2.2.2) (fun n s hI hk => hs n s.1 s.2.1 s.2.2.1 s.2.2.2.1 s.2.2.2.2 hI (fun b1 b2 b3 b4 b5 h9 hm => hk (b1, b2, b3, b4, b5) h9 hm)) (a1, a2, a3, a4, a5) h
theorem lp6 {A1 A2 A3 A4 A5 A6 : Type} (W : Nat → A1 → A2 → A3 → A4 → A5 → A6 → Prop) (I : A1 → A2 → A3 → A4 → A5 → A6 → Prop) (μ : A1 → A2 → A3 → A4 → A5 → A6 → Nat) (hs : ∀ (n : Nat) (a1 : A1) (a2 : A2) (a3 : A3) (a4 : A4) (a5 : A5) (a6 : A6), I a1 a2 a3 a4 a5 a6 → (∀ (b1 : A1) (b2 : A2) (b3 : A3) (b4 : A4) (b5 : A5) (b6 : A6), I b1 b2 b3 b4 b5 b6 → μ b1 b2 b3 b4 b5 b6 < μ a1 a2 a3 a4 a5 a6 → W n b1 b2 b3 b4 b5 b6) → W (n + 1) a1 a2 a3 a4 a5 a6) (a1 : A1) (a2 : A2) (a3 : A3) (a4 : A4) (a5 : A5) (a6 : A6) (h : I a1 a2 a3 a4 a5 a6) : ∃ n, W n a1 a2 a3 a4 a5 a6 :=
  loop_m (σ := A1 × A2 × A3 × A4 × A5 × A6) (fun n s => W n s.1 s.2.1 s.2.2.1 s.2.2.2.1 s.2.2.2.2.1 s.2.2.2.2.2) (fun s => I s.1 s.2.1 s.2.2.1 s.2.2.2.1 s.2.2.2.2.1 s.2.2.2.2.2) (fun s => μ s.1 s.2.1 s.2.2.1 s.2.2.2.1 s.2.2.2.2.1 s.2.2.2.2.2) (fun n s hI hk => hs n s.1 s.2.1 s.2.2.1 s.2.2.2.1 s.2.2.2.2.1 s.2.2.2.2.2 hI (fun b1 b2 b3 b4 b5 b6 h9 hm => hk (b1, b2, b3, b4, b5, b6) h9 hm)) (a1, a2, a3, a4, a5, a6) h
theorem lp7 {A1 A2 A3 A4 A5 A6 A7 : Type} (W : Nat → A1 → A2 → A3 → A4 → A5 → A6 → A7 → Prop) (I : A1 → A2 → A3 → A4 → A5 → A6 → A7 → Prop) (μ : A1 → A2 → A3 → A4 → A5 → A6 → A7 → Nat) (hs : ∀ (n : Nat) (a1 : A1) (a2 : A2) (a3 : A3) (a4 : A4) (a5 : A5) (a6 : A6) (a7 : A7), I a1 a2 a3 a4 a5 a6 a7 → (∀ (b1 : A1) (b2 : A2) (b3 : A3) (b4 : A4) (b5 : A5) (b6 : A6) (b7 : A7), I b1 b2 b3 b4 b5 b6 b7 → μ b1 b2 b3 b4 b5 b6 b7 < μ a1 a2 a3 a4 a5 a6 a7 → W n b1 b2 b3 b4 b5 b6 b7) → W (n + 1) a1 a2 a3 a4 a5 a6 a7) (a1 : A1) (a2 : A2) (a3 : A3) (a4 : A4) (a5 : A5) (a6 : A6) (a7 : A7) (h : I a1 a2 a3 a4 a5 a6 a7) : ∃ n, W n a1 a2 a3 a4 a5 a6 a7 :=
  loop_m (σ := A1 × A2 × A3 × A4 × A5 × A6 × A7) (fun n s => W n s.1 s.2.1 s.2.2.1 s.2.2.2.1 s.2.2.2.2.1 s.2.2.2.2.2.1 s.2.2.2.2.2.2) (fun s => I s.1 s.2.1 s.2.2.1 s.2.2.2.1 s.2.2.2.2.1 s.2.2.2.2.2.1 s.2.2.2.2.2.2) (fun s => μ s.1 s.2.1 s.2.2.1 s.2.2.2.1 s.2.2.2.2.1 s.2.2.2.2.2.1 s.2.2.2.2.2.2) (fun n s hI hk => hs n s.1 s.2.1 s.2.2.1 s.2.2.2.1 s.2.2.2.2.1 s.2.2.2.2.2.1 s.2.2.2.2.2.2 hI (fun b1 b2 b3 b4 b5 b6 b7 h9 hm => hk (b1, b2, b3, b4, b5, b6, b7) h9 hm)) (a1, a2, a3, a4, a5, a6, a7) h
theorem lp8 {A1 A2 A3 A4 A5 A6 A7 A8 : Type} (W : Nat → A1 → A2 → A3 → A4 → A5 → A6 → A7 → A8 → Prop) (I : A1 → A2 → A3 → A4 → A5 → A6 → A7 → A8 → Prop) (μ : A1 → A2 → A3 → A4 → A5 → A6 → A7 → A8 → Nat) (hs : ∀ (n : Nat) (a1 : A1) (a2 : A2) (a3 : A3) (a4 : A4) (a5 : A5) (a6 : A6) (a7 : A7) (a8 : A8), I a1 a2 a3 a4 a5 a6 a7 a8 → (∀ (b1 : A1) (b2 : A2) (b3 : A3) (b4 : A4) (b5 : A5) (b6 : A6) (b7 : A7) (b8 : A8), I b1 b2 b3 b4 b5 b6 b7 b8 → μ b1 b2 b3 b4 b5 b6 b7 b8 < μ a1 a2 a3 a4 a5 a6 a7 a8 → W n b1 b2 b3 b4 b5 b6 b7 b8) → W (n + 1) a1 a2 a3 a4 a5 a6 a7 a8) (a1 : A1) (a2 : A2) (a3 : A3) (a4 : A4) (a5 : A5) (a6 : A6) (a7 : A7) (a8 : A8) (h : I a1 a2 a3 a4 a5 a6 a7 a8) : ∃ n, W n a1 a2 a3 a4 a5 a6 a7 a8 :=
  loop_m (σ := A1 × A2 × A3 × A4 × A5 × A6 × A7 × A8) (fun n s => W n s.1 s.2.1 s.2.2.1 s.2.2.2.1 s.2.2.2.2.1 s.2.2.2.2.2.1 s.2.2.2.2.2.2.1 s.2.2.2.2.2.2.2) (fun s => I s.1 s.2.1 s.2.2.1 s.2.2.2.1 s.2.2.2.2.1 s.2.2.2.2.2.1 s.2.2.2.2.2.2.1 s.2.2.2.2.2.2.2) (fun s => μ s.1 s.2.1 s.2.2.1 s.2.2.2.1 s.2.2.2.2.1 s.2.2.2.2.2.1 s.2.2.2.2.2.2.1 s.2.2.2.2.2.2.2) (fun n s hI hk => hs n s.1 s.2.1 s.2.2.1 s.2.2.2.1 s.2.2.2.2.1 s.2.2.2.2.2.1 s.2.2.2.2.2.2.1 s.2.2.2.2.2.2.2 hI (fun b1 b2 b3 b4 b5 b6 b7 b8 h9 hm => hk (b1, b2, b3, b4, b5, b6, b7, b8) h9 hm)) (a1, a2, a3, a4, a5, a6, a7, a8) h
theorem lp9 {A1 A2 A3 A4 A5 A6 A7 A8 A9 : Type} (W : Nat → A1 → A2 → A3 → A4 → A5 → A6 → A7 → A8 → A9 → Prop) (I : A1 → A2 → A3 → A4 → A5 → A6 → A7 → A8 → A9 → Prop) (μ : A1 → A2 → A3 → A4 → A5 → A6 → A7 → A8 → A9 → Nat) (hs : ∀ (n : Nat) (a1 : A1) (a2 : A2) (a3 : A3) (a4 : A4) (a5 : A5) (a6 : A6) (a7 : A7) (a8 : A8) (a9 : A9), I a1 a2 a3 a4 a5 a6 a7 a8 a9 → (∀ (b1 : A1) (b2 : A2) (b3 : A3) (b4 : A4) (b5 : A5) (b6 : A6) (b7 : A7) (b8 : A8) (b9 : A9), I b1 b2 b3 b4 b5 b6 b7 b8 b9 → μ b1 b2 b3 b4 b5 b6 b7 b8 b9 < μ a1 a2 a3 a4 a5 a6 a7 a8 a9 → W n b1 b2 b3 b4 b5 b6 b7 b8 b9) → W (n + 1) a1 a2 a3 a4 a5 a6 a7 a8 a9) (a1 : A1) (a2 : A2) (a3 : A3) (a4 : A4) (a5 : A5) (a6 : A6) (a7 : A7) (a8 : A8) (a9 : A9) (h : I a1 a2 a3 a4 a5 a6 a7 a8 a9) : ∃ n, W n a1 a2 a3 a4 a5 a6 a7 a8 a9 :=
  loop_m (σ := A1 × A2 × A3 × A4 × A5 × A6 × A7 × A8 × A9) (fun n s => W n s.1 s.2.1 s.2.2.1 s.2.2.2.1 s.2.2.2.2.1 s.2.2.2.2.2.1 s.2.2.2.2.2.2.1 s.2.2.2.2.2.2.2.1 s.2.2.2.2.2.2.2.2) (fun s => I s.1 s.2.1 s.2.2.1 s.2.2.2.1 s.2.2.2.2.1 s.2.2.2.2.2.1 s.2.2.2.2.2.2.1 s.2.2.2.2.2.2.2.1 s.2.2.2.2.2.2.2.2) (fun s => μ s.1 s.2.1 s.2.2.1 s.2.2.2.1 s.2.2.2.2.1 s.2.2.2.2.2.1 s.2.2.2.2.2.2.1 s.2.2.2.2.2.2.2.1 s.2.2.2.2.2.2.2.2) (fun n s hI hk => hs n s.1 s.2.1 s.2.2.1 s.2.2.2.1 s.2.2.2.2.1 s.2.2.2.2.2.1 s.2.2.2.2.2.2.1 s.2.2.2.2.2.2.2.1 s.2.2.2.2.2.2.2.2 hI (fun b1 b2 b3 b4 b5 b6 b7 b8 b9 h9 hm => hk (b1, b2, b3, b4, b5, b6, b7, b8, b9) h9 hm)) (a1, a2, a3, a4, a5, a6, a7, a8, a9) h
theorem lp10 {A1 A2 A3 A4 A5 A6 A7 A8 A9 A10 : Type} (W : Nat → A1 → A2 → A3 → A4 → A5 → A6 → A7 → A8 → A9 → A10 → Prop) (I : A1 → A2 → A3 → A4 → A5 → A6 → A7 → A8 → A9 → A10 → Prop) (μ : A1 → A2 → A3 → A4 → A5 → A6 → A7 → A8 → A9 → A10 → Nat) (hs : ∀ (n : Nat) (a1 : A1) (a2 : A2) (a3 : A3) (a4 : A4) (a5 : A5) (a6 : A6) (a7 : A7) (a8 : A8) (a9 : A9) (a10 : A10), I a1 a2 a3 a4 a5 a6 a7 a8 a9 a10 → (∀ (b1 : A1) (b2 : A2) (b3 : A3) (b4 : A4) (b5 : A5) (b6 : A6) (b7 : A7) (b8 : A8) (b9 : A9) (b10 : A10), I b1 b2 b3 b4 b5 b6 b7 b8 b9 b10 → μ b1 b2 b3 b4 b5 b6 b7 b8 b9 b10 < μ a1 a2 a3 a4 a5 a6 a7 a8 a9 a10 → W n b1 b2 b3 b4 b5 b6 b7 b8 b9 b10) → W (n + 1) a1 a2 a3 a4 a5 a6 a7 a8 a9 a10) (a1 : A1) (a2 : A2) (a3 : A3) (a4 : A4) (a5 : A5) (a6 : A6) (a7 : A7) (a8 : A8) (a9 : A9) (a10 : A10) (h : I a1 a2 a3 a4 a5 a6 a7 a8 a9 a10) : ∃ n, W n a1 a2 a3 a4 a5 a6 a7 a8 a9 a10 :=
  loop_m (σ := A1 × A2 × A3 × A4 × A5 × A6 × A7 × A8 × A9 × A10) (fun n s => W n s.1 s.2.1 s.2.2.1 s.2.2.2.1 s.2.2.2.2.1 s.2.2.2.2.2.1 s.2.2.2.2.2.2.1 s.2.2.2.2.2.2.2.1 s.2.2.2.2.2.2.2.2.1 s.2.2.2.2.2.2.2.2.2) (fun s => I s.1 s.2.1 s.2.2.1 s.2.2.2.1 s.2.2.2.2.1 s.2.2.2.2.2.1 s.2.2.2.2.2.2.1 s.2.2.2.2.2.2.2.1 s.2.2.2.2.2.2.2.2.1 s.2.2.2.2.2.2.2.2.2) (fun s => μ s.1 s.2.1 s.2.2.1 s.2.2.2.1 s.2.2.2.2.1 s.2.2.2.2.2.1 s.2.2.2.2.2.2.1 s.2.2.2.2.2.2.2.1 s.2.2.2.2.2.2.2.2.1 s.2.2.2.2.2.2.2.2.2) (fun n s hI hk => hs n s.1 s.2.1 s.2.2.1 s.2.2.2.1 s.2.2.2.2.1 s.2.2.2.2.2.1 s.2.2.2.2.2.2.1 s.2.2.2.2.2.2.2.1 s.2.2.2.2.2.2.2.2.1 s.2.2.2.2.2.2.2.2.2 hI (fun b1 b2 b3 b4 b5 b6 b7 b8 b9 b10 h9 hm => hk (b1, b2, b3, b4, b5, b6, b7, b8, b9, b10) h9 hm)) (a1, a2, a3, a4, a5, a6, a7, a8, a9, a10) h
theorem lp11 {A1 A2 A3 A4 A5 A6 A7 A8 A9 A10 A11 : Type} (W : Nat → A1 → A2 → A3 → A4 → A5 → A6 → A7 → A8 → A9 → A10 → A11 → Prop) (I : A1 → A2 → A3 → A4 → A5 → A6 → A7 → A8 → A9 → A10 → A11 → Prop) (μ : A1 → A2 → A3 → A4 → A5 → A6 → A7 → A8 → A9 → A10 → A11 → Nat) (hs : ∀ (n : Nat) (a1 : A1) (a2 : A2) (a3 : A3) (a4 : A4) (a5 : A5) (a6 : A6) (a7 : A7) (a8 : A8) (a9 : A9) (a10 : A10) (a11 : A11), I a1 a2 a3 a4 a5 a6 a7 a8 a9 a10 a11 → (∀ (b1 : A1) (b2 : A2) (b3 : A3) (b4 : A4) (b5 : A5) (b6 : A6) (b7 : A7) (b8 : A8) (b9 : A9) (b10 : A10) (b11 : A11), I b1 b2 b3 b4 b5 b6 b7 b8 b9 b10 b11 → μ b1 b2 b3 b4 b5 b6 b7 b8 b9 b10 b11 < μ a1 a2 a3 a4 a5 a6 a7 a8 a9 a10 a11 → W n b1 b2 b3 b4 b5 b6 b7 b8 b9 b10 b11) → W (n + 1) a1 a2 a3 a4 a5 a6 a7 a8 a9 a10 a11) (a1 : A1) (a2 : A2) (a3 : A3) (a4 : A4) (a5 : A5) (a6 : A6) (a7 : A7) (a8 : A8) (a9 : A9) (a10 : A10) (a11 : A11) (h : I a1 a2 a3 a4 a5 a6 a7 a8 a9 a10 a11) : ∃ n, W n a1 a2 a3 a4 a5 a6 a7 a8 a9 a10 a11 :=
  loop_m (σ := A1 × A2 × A3 × A4 × A5 × A6 × A7 × A8 × A9 × A10 × A11) (fun n s => W n s.1 s.2.1 s.2.2.1 s.2.2.2.1 s.2.2.2.2.1 s.2.2.2.2.2.1 s.2.2.2.2.2.2.1 s.2.2.2.2.2.2.2.1 s.2.2.2.2.2.2.2.2.1 s.2.2.2.2.2.2.2.2.2.1 s.2.2.2.2.2.2.2.2.2.2) (fun s => I s.1 s.2.1 s.2.2.1 s.2.2.2.1 s.2.2.2.2.1 s.2.2.2.2.2.1 s.2.2.2.2.2.2.1 s.2.2.2.2.2.2.2.1 s.2.2.2.2.2.2.2.2.1 s.2.2.2.2.2.2.2.2.2.1 s.2.2.2.2.2.2.2.2.2.2) (fun s => μ s.1 s.2.1 s.2.2.1 s.2.2.2.1 s.2.2.2.2.1 s.2.2.2.2.2.1 s.2.2.2.2.2.2.1 s.2.2.2.2.2.2.2.1 s.2.2.2.2.2.2.2.2.1 s.2.2.2.2.2.2.2.2.2.1 s.2.2.2.2.2.2.2.2.2.2) (fun n s hI hk => hs n s.1 s.2.1 s.2.2.1 s.2.2.2.1 s.2.2.2.2.1 s.2.2.2.2.2.1 s.2.2.2.2.2.2.1 s.2.2.2.2.2.2.2.1 s.2.2.2.2.2.2.2.2.1 s.2.2.2.2.2.2.2.2.2.1 s.2.2.2.2.2.2.2.2.2.2 hI (fun b1 b2 b3 b4 b5 b6 b7 b8 b9 b10 b11 h9 hm => hk (b1, b2, b3, b4, b5, b6, b7, b8, b9, b10, b11) h9 hm)) (a1, a2, a3, a4, a5, a6, a7, a8, a9, a10, a11) h
theorem lp12 {A1 A2 A3 A4 A5 A6 A7 A8 A9 A10 A11 A12 : Type} (W : Nat → A1 → A2 → A3 → A4 → A5 → A6 → A7 → A8 → A9 → A10 → A11 → A12 → Prop) (I : A1 → A2 → A3 → A4 → A5 → A6 → A7 → A8 → A9 → A10 → A11 → A12 → Prop) (μ : A1 → A2 → A3 → A4 → A5 → A6 → A7 → A8 → A9 → A10 → A11 → A12 → Nat) (hs : ∀ (n : Nat) (a1 : A1) (a2 : A2) (a3 : A3) (a4 : A4) (a5 : A5) (a6 : A6) (a7 : A7) (a8 : A8) (a9 : A9) (a10 : A10) (a11 : A11) (a12 : A12), I a1 a2 a3 a4 a5 a6 a7 a8 a9 a10 a11 a12 → (∀ (b1 : A1) (b2 : A2) (b3 : A3) (b4 : A4) (b5 : A5) (b6 : A6) (b7 : A7) (b8 : A8) (b9 : A9) (b10 : A10) (b11 : A11) (b12 : A12), I b1 b2 b3 b4 b5 b6 b7 b8 b9 b10 b11 b12 → μ b1 b2 b3 b4 b5 b6 b7 b8 b9 b10 b11 b12 < μ a1 a2 a3 a4 a5 a6 a7 a8 a9 a10 a11 a12 → W n b1 b2 b3 b4 b5 b6 b7 b8 b9 b10 b11 b12) → W (n + 1) a1 a2 a3 a4 a5 a6 a7 a8 a9 a10 a11 a12) (a1 : A1) (a2 : A2) (a3 : A3) (a4 : A4) (a5 : A5) (a6 : A6) (a7 : A7) (a8 : A8) (a9 : A9) (a10 : A10) (a11 : A11) (a12 : A12) (h : I a1 a2 a3 a4 a5 a6 a7 a8 a9 a10 a11 a12) : ∃ n, W n a1 a2 a3 a4 a5 a6 a7 a8 a9 a10 a11 a12 :=
  loop_m (σ := A1 × A2 × A3 × A4 × A5 × A6 × A7 × A8 × A9 × A10 × A11 × A12) (fun n s => W n s.1 s.2.1 s.2.2.1 s.2.2.2.1 s.2.2.2.2.1 s.2.2.2.2.2.1 s.2.2.2.2.2.2.1 s.2.2.2.2.2.2.2.1 s.2.2.2.2.2.2.2.2.1 s.2.2.2.2.2.2.2.2.2.1 s.2.2.2.2.2.2.2.2.2.2.1 s.2.2.2.2.2.2.2.2.2.2.2) (fun s => I s.1 s.2.1 s.2.2.1 s.2.2.2.1 s.2.2.2.2.1 s.2.2.2.2.2.1 s.2.2.2.2.2.2.1 s.2.2.2.2.2.2.2.1 s.2.2.2.2.2.2.2.2.1 s.2.2.2.2.2.2.2.2.2.1 s.2.2.2.2.2.2.2.2.2.2.1 s.2.2.2.2.2.2.2.2.2.2.2) (fun s => μ s.1 s.2.1 s.2.2.1 s.2.2.2.1 s.2.2.2.2.1 s.2.2.2.2.2.1 s.2.2.2.2.2.2.1 s.2.2.2.2.2.2.2.1 s.2.2.2.2.2.2.2.2.1 s.2.2.2.2.2.2.2.2.2.1 s.2.2.2.2.2.2.2.2.2.2.1 s.2.2.2.2.2.2.2.2.2.2.2) (fun n s hI hk => hs n s.1 s.2.1 s.2.2.1 s.2.2.2.1 s.2.2.2.2.1 s.2.2.2.2.2.1 s.2.2.2.2.2.2.1 s.2.2.2.2.2.2.2.1 s.2.2.2.2.2.2.2.2.1 s.2.2.2.2.2.2.2.2.2.1 s.2.2.2.2.2.2.2.2.2.2.1 s.2.2.2.2.2.2.2.2.2.2.2 hI (fun b1 b2 b3 b4 b5 b6 b7 b8 b9 b10 b11 b12 h9 hm => hk (b1, b2, b3, b4, b5, b6, b7, b8, b9, b10, b11, b12) h9 hm)) (a1, a2, a3, a4, a5, a6, a7, a8, a9, a10, a11, a12) h
theorem lp13 {A1 A2 A3 A4 A5 A6 A7 A8 A9 A10 A11 A12 A13 : Type} (W : Nat → A1 → A2 → A3 → A4 → A5 → A6 → A7 → A8 → A9 → A10 → A11 → A12 → A13 → Prop) (I : A1 → A2 → A3 → A4 → A5 → A6 → A7 → A8 → A9 → A10 → A11 → A12 → A13 → Prop) (μ : A1 → A2 → A3 → A4 → A5 → A6 → A7 → A8 → A9 → A10 → A11 → A12 → A13 → Nat) (hs : ∀ (n : Nat) (a1 : A1) (a2 : A2) (a3 : A3) (a4 : A4) (a5 : A5) (a6 : A6) (a7 : A7) (a8 : A8) (a9 : A9) (a10 : A10) (a11 : A11) (a12 : A12) (a13 : A13), I a1 a2 a3 a4 a5 a6 a7 a8 a9 a10 a11 a12 a13 → (∀ (b1 : A1) (b2 : A2) (b3 : A3) (b4 : A4) (b5 : A5) (b6 : A6) (b7 : A7) (b8 : A8) (b9 : A9) (b10 : A10) (b11 : A11) (b12 : A12) (b13 : A13), I b1 b2 b3 b4 b5 b6 b7 b8 b9 b10 b11 b12 b13 → μ b1 b2 b3 b4 b5 b6 b7 b8 b9 b10 b11 b12 b13 < μ a1 a2 a3 a4 a5 a6 a7 a8 a9 a10 a11 a12 a13 → W n b1 b2 b3 b4 b5 b6 b7 b8 b9 b10 b11 b12 b13) → W (n + 1) a1 a2 a3 a4 a5 a6 a7 a8 a9 a10 a11 a12 a13) (a1 : A1) (a2 : A2) (a3 : A3) (a4 : A4) (a5 : A5) (a6 : A6) (a7 : A7) (a8 : A8) (a9 : A9) (a10 : A10) (a11 : A11) (a12 : A12) (a13 : A13) (h : I a1 a2 a3 a4 a5 a6 a7 a8 a9 a10 a11 a12 a13) : ∃ n, W n a1 a2 a3 a4 a5 a6 a7 a8 a9 a10 a11 a12 a13 :=
  loop_m (σ := A1 × A2 × A3 × A4 × A5 × A6 × A7 × A8 × A9 × A10 × A11 × A12 × A13) (fun n s => W n s.1 s.2.1 s.2.2.1 s.2.2.2.1 s.2.2.2.2.1 s.2.2.2.2.2.1 s.2.2.2.2.2.2.1 s.2.2.2.2.2.2.2.1 s.2.2.2.2.2.2.2.2.1 s.2.2.2.2.2.2.2.2.2.1 s.2.2.2.2.2.2.2.2.2.2.1 s.2.2.2.2.2.2.2.2.2.2.2.1 s.2.2.2.2.2.2.2.2.2.2.2.2) (fun s => I s.1 s.2.1 s.2.2.1 s.2.2.2.1 s.2.2.2.2.1 s.2.2.2.2.2.1 s.2.2.2.2.2.2.1 s.2.2.2.2.2.2.2.1 s.2.2.2.2.2.2.2.2.1 s.2.2.2.2.2.2.2.2.2.1 s.2.2.2.2.2.2.2.2.2.2.1 s.2.2.2.2.2.2.2.2.2.2.2.1 s.2.2.2.2.2.2.2.2.2.2.2.2) (fun s => μ s.1 s.2.1 s.2.2.1 s.2.2.2.1 s.2.2.2.2.1 s.2.2.2.2.2.1 s.2.2.2.2.2.2.1 s.2.2.2.2.2.2.2.1 s.2.2.2.2.2.2.2.2.1 s.2.2.2.2.2.2.2.2.2.1 s.2.2.2.2.2.2.2.2.2.2.1 s.2.2.2.2.2.2.2.2.2.2.2.1 s.2.2.2.2.2.2.2.2.2.2.2.2) (fun n s hI hk => hs n s.1 s.2.1 s.2.2.1 s.2.2.2.1 s.2.2.2.2.1 s.2.2.2.2.2.1 s.2.2.2.2.2.2.1 s.2.2.2.2.2.2.2.1 s.2.2.2.2.2.2.2.2.1 s.2.2.2.2.2.2.2.2.2.1 s.2.2.2.2.2.2.2.2.2.2.1 s.2.2.2.2.2.2.2.2.2.2.2.1 s.2.2.2.2.2.2.2.2.2.2.2.2 hI (fun b1 b2 b3 b4 b5 b6 b7 b8 b9 b10 b11 b12 b13 h9 hm => hk (b1, b2, b3, b4, b5, b6, b7, b8, b9, b10, b11, b12, b13) h9 hm)) (a1, a2, a3, a4, a5, a6, a7, a8, a9, a10, a11, a12, a13) h
theorem lp14 {A1 A2 A3 A4 A5 A6 A7 A8 A9 A10 A11 A12 A13 A14 : Type} (W : Nat → A1 → A2 → A3 → A4 → A5 → A6 → A7 → A8 → A9 → A10 → A11 → A12 → A13 → A14 → Prop) (I : A1 → A2 → A3 → A4 → A5 → A6 → A7 → A8 → A9 → A10 → A11 → A12 → A13 → A14 → Prop) (μ : A1 → A2 → A3 → A4 → A5 → A6 → A7 → A8 → A9 → A10 → A11 → A12 → A13 → A14 → Nat) (hs : ∀ (n : Nat) (a1 : A1) (a2 : A2) (a3 : A3) (a4 : A4) (a5 : A5) (a6 : A6) (a7 : A7) (a8 : A8) (a9 : A9) (a10 : A10) (a11 : A11) (a12 : A12) (a13 : A13) (a14 : A14), I a1 a2 a3 a4 a5 a6 a7 a8 a9 a10 a11 a12 a13 a14 → (∀ (b1 : A1) (b2 : A2) (b3 : A3) (b4 : A4) (b5 : A5) (b6 : A6) (b7 : A7) (b8 : A8) (b9 : A9) (b10 : A10) (b11 : A11) (b12 : A12) (b13 : A13) (b14 : A14), I b1 b2 b3 b4 b5 b6 b7 b8 b9 b10 b11 b12 b13 b14 → μ b1 b2 b3 b4 b5 b6 b7 b8 b9 b10 b11 b12 b13 b14 < μ a1 a2 a3 a4 a5 a6 a7 a8 a9 a10 a11 a12 a13 a14 → W n b1 b2 b3 b4 b5 b6 b7 b8 b9 b10 b11 b12 b13 b14) → W (n + 1) a1 a2 a3 a4 a5 a6 a7 a8 a9 a10 a11 a12 a13 a14) (a1 : A1) (a2 : A2) (a3 : A3) (a4 : A4) (a5 : A5) (a6 : A6) (a7 : A7) (a8 : A8) (a9 : A9) (a10 : A10) (a11 : A11) (a12 : A12) (a13 : A13) (a14 : A14) (h : I a1 a2 a3 a4 a5 a6 a7 a8 a9 a10 a11 a12 a13 a14) : ∃ n, W n a1 a2 a3 a4 a5 a6 a7 a8 a9 a10 a11 a12 a13 a14 :=
  loop_m (σ := A1 × A2 × A3 × A4 × A5 × A6 × A7 × A8 × A9 × A10 × A11 × A12 × A13 × A14) (fun n s => W n s.1 s.2.1 s.2.2.1 s.2.2.2.1 s.2.2.2.2.1 s.2.2.2.2.2.1 s.2.2.2.2.2.2.1 s.2.2.2.2.2.2.2.1 s.2.2.2.2.2.2.2.2.1 s.2.2.2.2.2.2.2.2.2.1 s.2.2.2.2.2.2.2.2.2.2.1 s.2.2.2.2.2.2.2.2.2.2.2.1 s.2.2.2.2.2.2.2.2.2.2.2.2.1 s.2.2.2.2.2.2.2.2.2.2.2.2.2) (fun s => I s.1 s.2.1 s.2.2.1 s.2.2.2.1 s.2.2.2.2.1 s.2.2.2.2.2.1 s.2.2.2.2.2.2.1 s.2.2.2.2.2.2.2.1 s.2.2.2.2.2.2.2.2.1 s.2.2.2.2.2.2.2.2.2.1 s.2.2.2.2.2.2.2.2.2.2.1 s.2.2.2.2.2.2.2.2.2.2.2.1 s.2.2.2.2.2.2.2.2.2.2.2.2.1 s.2.2.2.2.2.2.2.2.2.2.2.2.2) (fun s => μ s.1 s.2.1 s.2.2.1 s.2.2.2.1 s.2.2.2.2.1 s.2.2.2.2.2.1 s.2.2.2.2.2.2.1 s.2.2.2.2.2.2.2.1 s.2.2.2.2.2.2.2.2.1 s.2.2.2.2.2.2.2.2.2.1 s.2.2.2.2.2.2.2.2.2.2.1 s.2.2.2.2.2.2.2.2.2.2.2.1 s.2.2.2.2.2.2.2.2.2.2.2.2.1 s.2.2.2.2.2.2.2.2.2.2.2.2.2) (fun n s hI hk => hs n s.1 s.2.1 s.2.2.1 s.2.2.2.1 s.2.2.2.2.1 s.2.2.2.2.2.1 s.2.2.2.2.2.2.1 s.2.2.2.2.2.2.2.1 s.2.2.2.2.2.2.2.2.1 s.2.2.2.2.2.2.2.2.2.1 s.2.2.2.2.2.2.2.2.2.2.1 s.2.2.2.2.2.2.2.2.2.2.2.1 s.2.2.2.2.2.2.2.2.2.2.2.2.1 s.2.2.2.2.2.2.2.2.2.2.2.2.2 hI (fun b1 b2 b3 b4 b5 b6 b7 b8 b9 b10 b11 b12 b13 b14 h9 hm => hk (b1, b2, b3, b4, b5, b6, b7, b8, b9, b10, b11, b12, b13, b14) h9 hm)) (a1, a2, a3, a4, a5, a6, a7, a8, a9, a10, a11, a12, a13, a14) h
theorem lp15 {A1 A2 A3 A4 A5 A6 A7 A8 A9 A10 A11 A12 A13 A14 A15 : Type} (W : Nat → A1 → A2 → A3 → A4 → A5 → A6 → A7 → A8 → A9 → A10 → A11 → A12 → A13 → A14 → A15 → Prop) (I : A1 → A2 → A3 → A4 → A5 → A6 → A7 → A8 → A9 → A10 → A11 → A12 → A13 → A14 → A15 → Prop) (μ : A1 → A2 → A3 → A4 → A5 → A6 → A7 → A8 → A9 → A10 → A11 → A12 → A13 → A14 → A15 → Nat) (hs : ∀ (n : Nat) (a1 : A1) (a2 : A2) (a3 : A3) (a4 : A4) (a5 : A5) (a6 : A6) (a7 : A7) (a8 : A8) (a9 : A9) (a10 : A10) (a11 : A11) (a12 : A12) (a13 : A13) (a14 : A14) (a15 : A15), I a1 a2 a3 a4 a5 a6 a7 a8 a9 a10 a11 a12 a13 a14 a15 → (∀ (b1 : A1) (b2 : A2) (b3 : A3) (b4 : A4) (b5 : A5) (b6 : A6) (b7 : A7) (b8 : A8) (b9 : A9) (b10 : A10) (b11 : A11) (b12 : A12) (b13 : A13) (b14 : A14) (b15 : A15), I b1 b2 b3 b4 b5 b6 b7 b8 b9 b10 b11 b12 b13 b14 b15 → μ b1 b2 b3 b4 b5 b6 b7 b8 b9 b10 b11 b12 b13 b14 b15 < μ a1 a2 a3 a4 a5 a6 a7 a8 a9 a10 a11 a12 a13 a14 a15 → W n b1 b2 b3 b4 b5 b6 b7 b8 b9 b10 b11 b12 b13 b14 b15) → W (n + 1) a1 a2 a3 a4 a5 a6 a7 a8 a9 a10 a11 a12 a13 a14 a15) (a1 : A1) (a2 : A2) (a3 : A3) (a4 : A4) (a5 : A5) (a6 : A6) (a7 : A7) (a8 : A8) (a9 : A9) (a10 : A10) (a11 : A11) (a12 : A12) (a13 : A13) (a14 : A14) (a15 : A15) (h : I a1 a2 a3 a4 a5 a6 a7 a8 a9 a10 a11 a12 a13 a14 a15) : ∃ n, W n a1 a2 a3 a4 a5 a6 a7 a8 a9 a10 a11 a12 a13 a14 a15 :=
  loop_m (σ := A1 × A2 × A3 × A4 × A5 × A6 × A7 × A8 × A9 × A10 × A11 × A12 × A13 × A14 × A15) (fun n s => W n s.1 s.2.1 s.2.2.1 s.2.2.2.1 s.2.2.2.2.1 s.2.2.2.2.2.1 s.2.2.2.2.2.2.1 s.2.2.2.2.2.2.2.1 s.2.2.2.2.2.2.2.2.1 s.2.2.2.2.2.2.2.2.2.1 s.2.2.2.2.2.2.2.2.2.2.1 s.2.2.2.2.2.2.2.2.2.2.2.1 s.2.2.2.2.2.2.2.2.2.2.2.2.1 s.2.2.2.2.2.2.2.2.2.2.2.2.2.1 s.2.2.2.2.2.2.2.2.2.2.2.2.2.2) (fun s => I s.1 s.2.1 s.2.2.1 s.2.2.2.1 s.2.2.2.2.1 s.2.2.2.2.2.1 s.2.2.2.2.2.2.1 s.2.2.2.2.2.2.2.1 s.2.2.2.2.2.2.2.2.1 s.2.2.2.2.2.2.2.2.2.1 s.2.2.2.2.2.2.2.2.2.2.1 s.2.2.2.2.2.2.2.2.2.2.2.1 s.2.2.2.2.2.2.2.2.2.2.2.2.1 s.2.2.2.2.2.2.2.2.2.2.2.2.2.1 s.2.2.2.2.2.2.2.2.2.2.2.2.2.2) (fun s => μ s.1 s.2.1 s.2.2.1 s.2.2.2.1 s.2.2.2.2.1 s.2.2.2.2.2.1 s.2.2.2.2.2.2.1 s.2.2.2.2.2.2.2.1 s.2.2.2.2.2.2.2.2.1 s.2.2.2.2.2.2.2.2.2.1 s.2.2.2.2.2.2.2.2.2.2.1 s.2.2.2.2.2.2.2.2.2.2.2.1 s.2.2.2.2.2.2.2.2.2.2.2.2.1 s.2.2.2.2.2.2.2.2.2.2.2.2.2.1 s.2.2.2.2.2.2.2.2.2.2.2.2.2.2) (fun n s hI hk => hs n s.1 s.2.1 s.2.2.1 s.2.2.2.1 s.2.2.2.2.1 s.2.2.2.2.2.1 s.2.2.2.2.2.2.1 s.2.2.2.2.2.2.2.1 s.2.2.2.2.2.2.2.2.1 s.2.2.2.2.2.2.2.2.2.1 s.2.2.2.2.2.2.2.2.2.2.1 s.2.2.2.2.2.2.2.2.2.2.2.1 s.2.2.2.2.2.2.2.2.2.2.2.2.1 s.2.2.2.2.2.2.2.2.2.2.2.2.2.1 s.2.2.2.2.2.2.2.2.2.2.2.2.2.2 hI (fun b1 b2 b3 b4 b5 b6 b7 b8 b9 b10 b11 b12 b13 b14 b15 h9 hm => hk (b1, b2, b3, b4, b5, b6, b7, b8, b9, b10, b11, b12, b13, b14, b15) h9 hm)) (a1, a2, a3, a4, a5, a6, a7, a8, a9, a10, a11, a12, a13, a14, a15) h
theorem lp16 {A1 A2 A3 A4 A5 A6 A7 A8 A9 A10 A11 A12 A13 A14 A15 A16 : Type} (W : Nat → A1 → A2 → A3 → A4 → A5 → A6 → A7 → A8 → A9 → A10 → A11 → A12 → A13 → A14 → A15 → A16 → Prop) (I : A1 → A2 → A3 → A4 → A5 → A6 → A7 → A8 → A9 → A10 → A11 → A12 → A13 → A14 → A15 → A16 → Prop) (μ : A1 → A2 → A3 → A4 → A5 → A6 → A7 → A8 → A9 → A10 → A11 → A12 → A13 → A14 → A15 → A16 → Nat) (hs : ∀ (n : Nat) (a1 : A1) (a2 : A2) (a3 : A3) (a4 : A4) (a5 : A5) (a6 : A6) (a7 : A7) (a8 : A8) (a9 : A9) (a10 : A10) (a11 : A11) (a12 : A12) (a13 : A13) (a14 : A14) (a15 : A15) (a16 : A16), I a1 a2 a3 a4 a5 a6 a7 a8 a9 a10 a11 a12 a13 a14 a15 a16 → (∀ (b1 : A1) (b2 : A2) (b3 : A3) (b4 : A4) (b5 : A5) (b6 : A6) (b7 : A7) (b8 : A8) (b9 : A9) (b10 : A10) (b11 : A11) (b12 : A12) (b13 : A13) (b14 : A14) (b15 : A15) (b16 : A16), I b1 b2 b3 b4 b5 b6 b7 b8 b9 b10 b11 b12 b13 b14 b15 b16 → μ b1 b2 b3 b4 b5 b6 b7 b8 b9 b10 b11 b12 b13 b14 b15 b16 < μ a1 a2 a3 a4 a5 a6 a7 a8 a9 a10 a11 a12 a13 a14 a15 a16 → W n b1 b2 b3 b4 b5 b6 b7 b8 b9 b10 b11 b12 b13 b14 b15 b16) → W (n + 1) a1 a2 a3 a4 a5 a6 a7 a8 a9 a10 a11 a12 a13 a14 a15 a16) (a1 : A1) (a2 : A2) (a3 : A3) (a4 : A4) (a5 : A5) (a6 : A6) (a7 : A7) (a8 : A8) (a9 : A9) (a10 : A10) (a11 : A11) (a12 : A12) (a13 : A13) (a14 : A14) (a15 : A15) (a16 : A16) (h : I a1 a2 a3 a4 a5 a6 a7 a8 a9 a10 a11 a12 a13 a14 a15 a16) : ∃ n, W n a1 a2 a3 a4 a5 a6 a7 a8 a9 a10 a11 a12 a13 a14 a15 a16 :=
  loop_m (σ := A1 × A2 × A3 × A4 × A5 × A6 × A7 × A8 × A9 × A10 × A11 × A12 × A13 × A14 × A15 × A16) (fun n s => W n s.1 s.2.1 s.2.2.1 s.2.2.2.1 s.2.2.2.2.1 s.2.2.2.2.2.1 s.2.2.2.2.2.2.1 s.2.2.2.2.2.2.2.1 s.2.2.2.2.2.2.2.2.1 s.2.2.2.2.2.2.2.2.2.1 s.2.2.2.2.2.2.2.2.2.2.1 s.2.2.2.2.2.2.2.2.2.2.2.1 s.2.2.2.2.2.2.2.2.2.2.2.2.1 s.2.2.2.2.2.2.2.2.2.2.2.2.2.1 s.2.2.2.2.2.2.2.2.2.2.2.2.2.2.1 s.2.2.2.2.2.2.2.2.2.2.2.2.2.2.2) (fun s => I s.1 s.2.1 s.2.2.1 s.2.2.2.1 s.2.2.2.2.1 s.2.2.2.2.2.1 s.2.2.2.2.2.2.1 s.2.2.2.2.2.2.2.1 s.2.2.2.2.2.2.2.2.1 s.2.2.2.2.2.2.2.2.2.1 s.2.2.2.2.2.2.2.2.2.2.1 s.2.2.2.2.2.2.2.2.2.2.2.1 s.2.2.2.2.2.2.2.2.2.2.2.2.1 s.2.2.2.2.2.2.2.2.2.2.2.2.2.1 s.2.2.2.2.2.2.2.2.2.2.2.2.2.2.1 s.2.2.2.2.2.2.2.2.2.2.2.2.2.2.2) (fun s => μ s.1 s.2.1 s.2.2.1 s.2.2.2.1 s.2.2.2.2.1 s.2.2.2.2.2.1 s.2.2.2.2.2.2.1 s.2.2.2.2.2.2.2.1 s.2.2.2.2.2.2.2.2.1 s.2.2.2.2.2.2.2.2.2.1 s.2.2.2.2.2.2.2.2.2.2.1 s.2.2.2.2.2.2.2.2.2.2.2.1 s.2.2.2.2.2.2.2.2.2.2.2.2.1 s.2.2.2.2.2.2.2.2.2.2.2.2.2.1 s.2.2.2.2.2.2.2.2.2.2.2.2.2.2.1 s.2.2.2.2.2.2.2.2.2.2.2.2.2.2.2) (fun n s hI hk => hs n s.1 s.2.1 s.2.2.1 s.2.2.2.1 s.2.2.2.2.1 s.2.2.2.2.2.1 s.2.2.2.2.2.2.1 s.2.2.2.2.2.2.2.1 s.2.2.2.2.2.2.2.2.1 s.2.2.2.2.2.2.2.2.2.1 s.2.2.2.2.2.2.2.2.2.2.1 s.2.2.2.2.2.2.2.2.2.2.2.1 s.2.2.2.2.2.2.2.2.2.2.2.2.1 s.2.2.2.2.2.2.2.2.2.2.2.2.2.1 s.2.2.2.2.2.2.2.2.2.2.2.2.2.2.1 s.2.2.2.2.2.2.2.2.2.2.2.2.2.2.2 hI (fun b1 b2 b3 b4 b5 b6 b7 b8 b9 b10 b11 b12 b13 b14 b15 b16 h9 hm => hk (b1, b2, b3, b4, b5, b6, b7, b8, b9, b10, b11, b12, b13, b14, b15, b16) h9 hm)) (a1, a2, a3, a4, a5, a6, a7, a8, a9, a10, a11, a12, a13, a14, a15, a16) h
theorem pk_least (P : Nat → Prop) (h : ∃ k, P k) : ∃ k, P k ∧ ∀ j, j < k → ¬ P j := by
  obtain ⟨k, hk⟩ := h
  induction k using Nat.strongRecOn with
  | ind k ih =>
    by_cases e : ∃ j, j < k ∧ P j
    · obtain ⟨j, hj, pj⟩ := e
      exact ih j hj pj
    · exact ⟨k, hk, fun j hj pj => e ⟨j, hj, pj⟩⟩
theorem rp1 {ρ A1 : Type} (W : Nat → (ρ → Prop) → A1 → Prop) (ok : A1 → Prop) (μ : A1 → Nat) (val : A1 → ρ)
    (hs : ∀ (d : Nat) (post : ρ → Prop) (a1 : A1), ok a1 → post (val a1) → (∀ (post' : ρ → Prop) (b1 : A1), ok b1 → μ b1 < μ a1 → post' (val b1) → W d post' b1) → W (d + 1) post a1) :
    ∀ (d : Nat) (post : ρ → Prop) (a1 : A1), ok a1 → μ a1 < d → post (val a1) → W d post a1 := by
  intro d
  induction d with
  | zero => intro post a1 _ h; omega
  | succ d ih =>
    intro post a1 ho hm hp
    exact hs d post a1 ho hp (fun post' b1 ho' hm' hp' => ih post' b1 ho' (by omega) hp')
theorem rp2 {ρ A1 A2 : Type} (W : Nat → (ρ → Prop) → A1 → A2 → Prop) (ok : A1 → A2 → Prop) (μ : A1 → A2 → Nat) (val : A1 → A2 → ρ)
    (hs : ∀ (d : Nat) (post : ρ → Prop) (a1 : A1) (a2 : A2), ok a1 a2 → post (val a1 a2) → (∀ (post' : ρ → Prop) (b1 : A1) (b2 : A2), ok b1 b2 → μ b1 b2 < μ a1 a2 → post' (val b1 b2) → W d post' b1 b2) → W (d + 1) post a1 a2) :
    ∀ (d : Nat) (post : ρ → Prop) (a1 : A1) (a2 : A2), ok a1 a2 → μ a1 a2 < d → post (val a1 a2) → W d post a1 a2 := by
  intro d
  induction d with
  | zero => intro post a1 a2 _ h; omega
  | succ d ih =>
    intro post a1 a2 ho hm hp
    exact hs d post a1 a2 ho hp (fun post' b1 b2 ho' hm' hp' => ih post' b1 b2 ho' (by omega) hp')
theorem rp3 {ρ A1 A2 A3 : Type} (W : Nat → (ρ → Prop) → A1 → A2 → A3 → Prop) (ok : A1 → A2 → A3 → Prop) (μ : A1 → A2 → A3 → Nat) (val : A1 → A2 → A3 → ρ)
    (hs : ∀ (d : Nat) (post : ρ → Prop) (a1 : A1) (a2 : A2) (a3 : A3), ok a1 a2 a3 → post (val a1 a2 a3) → (∀ (post' : ρ → Prop) (b1 : A1) (b2 : A2) (b3 : A3), ok b1 b2 b3 → μ b1 b2 b3 < μ a1 a2 a3 → post' (val b1 b2 b3) → W d post' b1 b2 b3) → W (d + 1) post a1 a2 a3) :
    ∀ (d : Nat) (post : ρ → Prop) (a1 : A1) (a2 : A2) (a3 : A3), ok a1 a2 a3 → μ a1 a2 a3 < d → post (val a1 a2 a3) → W d post a1 a2 a3 := by
  intro d
  induction d with
  | zero => intro post a1 a2 a3 _ h; omega
  | succ d ih =>
    intro post a1 a2 a3 ho hm hp
    exact hs d post a1 a2 a3 ho hp (fun post' b1 b2 b3 ho' hm' hp' => ih post' b1 b2 b3 ho' (by omega) hp')
theorem rp4 {ρ A1 A2 A3 A4 : Type} (W : Nat → (ρ → Prop) → A1 → A2 → A3 → A4 → Prop) (ok : A1 → A2 → A3 → A4 → Prop) (μ : A1 → A2 → A3 → A4 → Nat) (val : A1 → A2 → A3 → A4 → ρ)
    (hs : ∀ (d : Nat) (post : ρ → Prop) (a1 : A1) (a2 : A2) (a3 : A3) (a4 : A4), ok a1 a2 a3 a4 → post (val a1 a2 a3 a4) → (∀ (post' : ρ → Prop) (b1 : A1) (b2 : A2) (b3 : A3) (b4 : A4), ok b1 b2 b3 b4 → μ b1 b2 b3 b4 < μ a1 a2 a3 a4 → post' (val b1 b2 b3 b4) → W d post' b1 b2 b3 b4) → W (d + 1) post a1 a2 a3 a4) :
    ∀ (d : Nat) (post : ρ → Prop) (a1 : A1) (a2 : A2) (a3 : A3) (a4 : A4), ok a1 a2 a3 a4 → μ a1 a2 a3 a4 < d → post (val a1 a2 a3 a4) → W d post a1 a2 a3 a4 := by
  intro d
  induction d with
  | zero => intro post a1 a2 a3 a4 _ h; omega
  | succ d ih =>
    intro post a1 a2 a3 a4 ho hm hp
    exact hs d post a1 a2 a3 a4 ho hp (fun post' b1 b2 b3 b4 ho' hm' hp' => ih post' b1 b2 b3 b4 ho' (by omega) hp')
theorem rp5 {ρ A1 A2 A3 A4 A5 : Type} (W : Nat → (ρ → Prop) → A1 → A2 → A3 → A4 → A5 → Prop) (ok : A1 → A2 → A3 → A4 → A5 → Prop) (μ : A1 → A2 → A3 → A4 → A5 → Nat) (val : A1 → A2 → A3 → A4 → A5 → ρ)
    (hs : ∀ (d : Nat) (post : ρ → Prop) (a1 : A1) (a2 : A2) (a3 : A3) (a4 : A4) (a5 : A5), ok a1 a2 a3 a4 a5 → post (val a1 a2 a3 a4 a5) → (∀ (post' : ρ → Prop) (b1 : A1) (b2 : A2) (b3 : A3) (b4 : A4) (b5 : A5), ok b1 b2 b3 b4 b5 → μ b1 b2 b3 b4 b5 < μ a1 a2 a3 a4 a5 → post' (val b1 b2 b3 b4 b5) → W d post' b1 b2 b3 b4 b5) → W (d + 1) post a1 a2 a3 a4 a5) :
    ∀ (d : Nat) (post : ρ → Prop) (a1 : A1) (a2 : A2) (a3 : A3) (a4 : A4) (a5 : A5), ok a1 a2 a3 a4 a5 → μ a1 a2 a3 a4 a5 < d → post (val a1 a2 a3 a4 a5) → W d post a1 a2 a3 a4 a5 := by
  intro d
  induction d with
  | zero => intro post a1 a2 a3 a4 a5 _ h; omega
  | succ d ih =>
    intro post a1 a2 a3 a4 a5 ho hm hp
    exact hs d post a1 a2 a3 a4 a5 ho hp (fun post' b1 b2 b3 b4 b5 ho' hm' hp' => ih post' b1 b2 b3 b4 b5 ho' (by omega) hp')
theorem rp6 {ρ A1 A2 A3 A4 A5 A6 : Type} (W : Nat → (ρ → Prop) → A1 → A2 → A3 → A4 → A5 → A6 → Prop) (ok : A1 → A2 → A3 → A4 → A5 → A6 → Prop) (μ : A1 → A2 → A3 → A4 → A5 → A6 → Nat) (val : A1 → A2 → A3 → A4 → A5 → A6 → ρ)
    (hs : ∀ (d : Nat) (post : ρ → Prop) (a1 : A1) (a2 : A2) (a3 : A3) (a4 : A4) (a5 : A5) (a6 : A6), ok a1 a2 a3 a4 a5 a6 → post (val a1 a2 a3 a4 a5 a6) → (∀ (post' : ρ → Prop) (b1 : A1) (b2 : A2) (b3 : A3) (b4 : A4) (b5 : A5) (b6 : A6), ok b1 b2 b3 b4 b5 b6 → μ b1 b2 b3 b4 b5 b6 < μ a1 a2 a3 a4 a5 a6 → post' (val b1 b2 b3 b4 b5 b6) → W d post' b1 b2 b3 b4 b5 b6) → W (d + 1) post a1 a2 a3 a4 a5 a6) :
    ∀ (d : Nat) (post : ρ → Prop) (a1 : A1) (a2 : A2) (a3 : A3) (a4 : A4) (a5 : A5) (a6 : A6), ok a1 a2 a3 a4 a5 a6 → μ a1 a2 a3 a4 a5 a6 < d → post (val a1 a2 a3 a4 a5 a6) → W d post a1 a2 a3 a4 a5 a6 := by
  intro d
  induction d with
  | zero => intro post a1 a2 a3 a4 a5 a6 _ h; omega
  | succ d ih =>
    intro post a1 a2 a3 a4 a5 a6 ho hm hp
    exact hs d post a1 a2 a3 a4 a5 a6 ho hp (fun post' b1 b2 b3 b4 b5 b6 ho' hm' hp' => ih post' b1 b2 b3 b4 b5 b6 ho' (by omega) hp')
theorem rec_p {σ ρ : Type} (W : Nat → (ρ → Prop) → σ → Prop) (ok : σ → Prop) (μ : σ → Nat) (val : σ → ρ)
    (hs : ∀ d s post, ok s → post (val s) → (∀ s' post', ok s' → μ s' < μ s → post' (val s') → W d post' s') → W (d + 1) post s) :
    ∀ d s post, ok s → μ s < d → post (val s) → W d post s := by
  intro d
  induction d with
  | zero => intro s post _ h; omega
  | succ d ih =>
    intro s post ho hm hp
    exact hs d s post ho hp (fun s' post' ho' hm' hp' => ih s' post' ho' (by omega) hp')
theorem rec_q {σ ρ : Type} (W : Nat → (ρ → Prop) → σ → Prop) (ok : σ → Prop) (μ : σ → Nat) (Q : σ → ρ → Prop)
    (hs : ∀ d s post, ok s → (∀ r, Q s r → post r) → (∀ s' post', ok s' → μ s' < μ s → (∀ r, Q s' r → post' r) → W d post' s') → W (d + 1) post s) :
    ∀ d s post, ok s → μ s < d → (∀ r, Q s r → post r) → W d post s := by
  intro d
  induction d with
  | zero => intro s post _ h; omega
  | succ d ih =>
    intro s post ho hm hp
    exact hs d s post ho hp (fun s' post' ho' hm' hp' => ih s' post' ho' (by omega) hp')
def bx_sum (f : Nat → Int32) : Nat → Int32
  | 0 => 0
  | n + 1 => bx_sum f n + f n
theorem ek_u {A : Prop} {B : Nat → Prop} {k N : Nat} (hk : k < N) (h : B k) : (some k = none → A) ∧ (∀ y : Nat, some k = some y → (y < N ∧ B y)) :=
  ⟨fun z => absurd z (Option.some_ne_none k), fun _ e => (by cases e; exact ⟨hk, h⟩)⟩
theorem ek_nu {A : Prop} {B : Nat → Prop} (h : A) : ((none : Option Nat) = none → A) ∧ (∀ y : Nat, (none : Option Nat) = some y → B y) :=
  ⟨fun _ => h, fun _ e => (by cases e)⟩
theorem ek_if {c d A B : Prop} (e : c ↔ d) (f : d → A) (g : ¬ d → B) : (c → A) ∧ (¬ c → B) :=
  ⟨fun z => f (e.mp z), fun z => g (fun y => z (e.mpr y))⟩
theorem ek_v {α : Sort _} {P : α → Prop} {a b : α} (e : a = b) (h : P b) : P a := e ▸ h
theorem co_some {x : Option Nat} {A : Prop} {B : Nat → Prop} (i : Nat) (h : B i) (hx : x = some i := by rfl) : (x = none → A) ∧ (∀ y : Nat, x = some y → B y) := by
  subst hx
  exact ⟨fun e => (nomatch e), fun y e => Option.some.inj e ▸ h⟩
theorem co_none {x : Option Nat} {A : Prop} {B : Nat → Prop} (h : A) (hx : x = none := by rfl) : (x = none → A) ∧ (∀ y : Nat, x = some y → B y) := by
  subst hx
  exact ⟨fun _ => h, fun y e => (nomatch e)⟩
theorem co_any {x : Option Nat} {A : Prop} {B : Nat → Prop} (hn : x = none → A) (hs : ∀ i : Nat, x = some i → B i) : (x = none → A) ∧ (∀ y : Nat, x = some y → B y) := ⟨hn, hs⟩
theorem co_2 {P : Nat → Prop} (h0 : P 0) (h1 : P 1) {i : Nat} (hi : i < 2) : P i :=
  match i, hi with
  | 0, _ => h0
  | 1, _ => h1
theorem co_3 {P : Nat → Prop} (h0 : P 0) (h1 : P 1) (h2 : P 2) {i : Nat} (hi : i < 3) : P i :=
  match i, hi with
  | 0, _ => h0
  | 1, _ => h1
  | 2, _ => h2
theorem co_4 {P : Nat → Prop} (h0 : P 0) (h1 : P 1) (h2 : P 2) (h3 : P 3) {i : Nat} (hi : i < 4) : P i :=
  match i, hi with
  | 0, _ => h0
  | 1, _ => h1
  | 2, _ => h2
  | 3, _ => h3
theorem co_dec {N : Nat} {P : Nat → Prop} [DecidablePred P] (h : (List.range N).all (fun i => decide (P i)) = true) {i : Nat} (hi : i < N) : P i := by
  have := List.all_eq_true.mp h i (List.mem_range.mpr hi)
  exact of_decide_eq_true this
theorem co_tab {α : Type} {l : List α} {d : α} {P : α → Prop} (h : ∀ a, a ∈ l → P a) {i : Nat} (hi : i < l.length) : P (l.getD i d) := by
  rw [List.getD_eq_getElem?_getD, List.getElem?_eq_getElem hi]
  exact h _ (List.getElem_mem hi)
theorem pk_mu {x : Int32} {L : Nat} (h0 : ¬ x < 0) (h : ¬ nI L ≤ x) (hL : L < 2 ^ 31) : ∃ j : Nat, j < L ∧ x = nI j ∧ x + 1 = nI (j + 1) ∧ x.toNatClampNeg = j ∧ L - (x + 1).toNatClampNeg < L - x.toNatClampNeg := by
  obtain ⟨j, hj, rfl⟩ := nI_of h0
  have hl : j < L := Nat.not_le.mp fun q => h (nI_le q hj)
  refine ⟨j, hl, rfl, nI_1 j, nI_clamp hj, ?_⟩
  rw [nI_1, nI_clamp (by omega), nI_clamp hj]
  omega
theorem op_s {α : Type} {r : Option α} {A : Prop} {B : α → Prop} {y : α} (h : r = some y) (b : B y) : (r = none → A) ∧ ∀ z, r = some z → B z :=
  ⟨fun e => (by rw [h] at e; cases e), fun z e => (by rw [h] at e; cases e; exact b)⟩
def l_holds {α : Type} (a : Nat → Option Nat) (LP : List Nat) (p : Nat → α) (c : Nat) (b : Nat → α) : Prop :=
  ∀ j, j < c → ∃ y, a j = some y ∧ y ∈ LP ∧ p y = b j
theorem l_holds_0 {α : Type} {a : Nat → Option Nat} {LP : List Nat} {p b : Nat → α} : l_holds a LP p 0 b := fun j h => absurd h (Nat.not_lt_zero j)
theorem l_in_new (LP : List Nat) (q : Nat) : q ∈ LP ++ [q] := List.mem_append.mpr (Or.inr (List.mem_singleton.mpr rfl))
def l_sum (b : Nat → Int32) : Nat → Int32
  | 0 => 0
  | k + 1 => l_sum b k + b k
theorem sb_shr0 (x : Int32) : x >>> ((0 : Int32) &&& 31) = x := by
  rw [show ((0 : Int32) &&& 31) = 0 by decide]
  simp
theorem sb_shl0 (x : Int32) : x <<< ((0 : Int32) &&& 31) = x := by
  rw [show ((0 : Int32) &&& 31) = 0 by decide]
  simp
theorem sb_cl0 : (0 : Int32).toNatClampNeg = 0 := by decide
theorem sb_m1 {p : Nat} (h : 0 < p) : nI p + (-1) = nI (p - 1) := by
  obtain ⟨q, rfl⟩ : ∃ q, p = q + 1 := ⟨p - 1, by omega⟩
  exact pk_m1 q
def sb_b (c : Nat) : Int32 := (nI c).toInt8.toInt32
theorem sb_byte : ∀ c, c < 256 → sb_b c &&& 255 = nI c ∧ ((nI c).toUInt32 % 65536).toInt32 = nI c ∧ nI c ≤ 255 := by decide +kernel
def sb_Fit (a : Nat → Int32) : Prop := ∀ j, fits .byte (.int (a j)) = true
def sb_Lat (t : Nat → Nat) (n : Nat) (a : Nat → Int32) : Prop := ∀ j, j < n → t j < 256 ∧ a j = sb_b (t j)
theorem sb_fitB (c : Nat) : fits .byte (.int (sb_b c)) = true := pk_fb _
theorem sb_fit0 : sb_Fit (fun _ => 0) := fun _ => by
  show fits .byte (.int 0) = true
  decide
theorem sb_fitU {a : Nat → Int32} {k : Nat} {x : Int32} (h : sb_Fit a) (hx : fits .byte (.int x) = true) : sb_Fit (upd a k x) := by
  intro j
  by_cases e : j = k
  · subst e
    rw [pk_us]
    exact hx
  · rw [pk_un e]
    exact h j
def sb_cat (t : Nat → Nat) (n : Nat) (s : Nat → Nat) : Nat → Nat := fun j => if j < n then t j else s (j - n)
theorem sb_cat_lo {t s : Nat → Nat} {n j : Nat} (h : j < n) : sb_cat t n s j = t j := if_pos h
theorem sb_cat_hi {t s : Nat → Nat} {n j : Nat} : sb_cat t n s (n + j) = s j := by
  show (if n + j < n then t (n + j) else s (n + j - n)) = s j
  rw [if_neg (by omega), Nat.add_sub_cancel_left]
theorem sb_latPut {t s : Nat → Nat} {n w : Nat} {a a' : Nat → Int32} (h : sb_Lat t n a) (hk : ∀ j, j < n → a' j = a j) (hs : ∀ i, i < w → s i < 256 ∧ a' (n + i) = sb_b (s i)) : sb_Lat (sb_cat t n s) (n + w) a' := by
  intro j hj
  by_cases e : j < n
  · rw [sb_cat_lo e, hk j e]
    exact h j e
  · obtain ⟨i, rfl⟩ : ∃ i, j = n + i := ⟨j - n, by omega⟩
    rw [sb_cat_hi]
    exact hs i (by omega)
theorem sb_latKeep {t : Nat → Nat} {n : Nat} {a a' : Nat → Int32} (h : sb_Lat t n a) (hk : ∀ j, j < n → a' j = a j) : sb_Lat t n a' := fun j hj => by
  rw [hk j hj]
  exact h j hj
def sb_cap (q m : Nat) : Nat := if q ≤ m then m else if 2 * m + 2 < q then q else 2 * m + 2
def sb_Room (q m mc ms : Nat) : Prop := q ≤ m ∨ (1 ≤ mc ∧ sb_cap q m ≤ ms ∧ sb_cap q m ≤ 65536)
theorem sb_cap_ge (q m : Nat) : q ≤ sb_cap q m := by
  unfold sb_cap
  split
  · omega
  · split <;> omega
theorem sb_cap_gem (q m : Nat) : m ≤ sb_cap q m := by
  unfold sb_cap
  split
  · omega
  · split <;> omega
theorem sb_cap_le {q m mc ms : Nat} (hm : m ≤ 65536) (hr : sb_Room q m mc ms) : sb_cap q m ≤ 65536 := by
  rcases hr with h | h
  · rw [sb_cap, if_pos h]
    exact hm
  · exact h.2.2
theorem sb_at {P : Int32 → Prop} {x y : Int32} (e : x = y) (h : P y) : P x := e ▸ h
def sb_dg (w : Nat) : Nat := if w < 10 then 1 else if w < 100 then 2 else if w < 1000 then 3 else if w < 10000 then 4 else if w < 100000 then 5 else if w < 1000000 then 6 else if w < 10000000 then 7 else if w < 100000000 then 8 else if w < 1000000000 then 9 else 10
def sb_dec (v : Nat) : Nat → Nat := fun i => 48 + v / 10 ^ (sb_dg v - 1 - i) % 10
theorem sb_dg_in (w : Nat) : 1 ≤ sb_dg w ∧ sb_dg w ≤ 10 := by
  unfold sb_dg
  constructor <;> (repeat' split) <;> omega
theorem sb_dg100 {w : Nat} (h : 100 ≤ w) (hw : w < 2 ^ 31) : sb_dg w = sb_dg (w / 100) + 2 := by
  rw [sb_dg, sb_dg, if_neg (show ¬ w < 10 by omega), if_neg (show ¬ w < 100 by omega)]
  by_cases h3 : w < 1000
  · rw [if_pos h3, if_pos (show w / 100 < 10 by omega)]
  rw [if_neg h3, if_neg (show ¬ w / 100 < 10 by omega)]
  by_cases h4 : w < 10000
  · rw [if_pos h4, if_pos (show w / 100 < 100 by omega)]
  rw [if_neg h4, if_neg (show ¬ w / 100 < 100 by omega)]
  by_cases h5 : w < 100000
  · rw [if_pos h5, if_pos (show w / 100 < 1000 by omega)]
  rw [if_neg h5, if_neg (show ¬ w / 100 < 1000 by omega)]
  by_cases h6 : w < 1000000
  · rw [if_pos h6, if_pos (show w / 100 < 10000 by omega)]
  rw [if_neg h6, if_neg (show ¬ w / 100 < 10000 by omega)]
  by_cases h7 : w < 10000000
  · rw [if_pos h7, if_pos (show w / 100 < 100000 by omega)]
  rw [if_neg h7, if_neg (show ¬ w / 100 < 100000 by omega)]
  by_cases h8 : w < 100000000
  · rw [if_pos h8, if_pos (show w / 100 < 1000000 by omega)]
  rw [if_neg h8, if_neg (show ¬ w / 100 < 1000000 by omega)]
  by_cases h9 : w < 1000000000
  · rw [if_pos h9, if_pos (show w / 100 < 10000000 by omega)]
  rw [if_neg h9, if_neg (show ¬ w / 100 < 10000000 by omega)]
  rw [if_pos (show w / 100 < 100000000 by omega)]
theorem sb_negT {w : Nat} (h : w < 2 ^ 31) : (-nI w).toInt = -(w : Int) := by
  rw [Int32.toInt_neg, nI_toInt h]
  exact Int.bmod_eq_of_le (by omega) (by omega)
theorem sb_nle {a b : Nat} (ha : a < 2 ^ 31) (hb : b < 2 ^ 31) : -nI a ≤ -nI b ↔ b ≤ a := by
  rw [Int32.le_iff_toInt_le, sb_negT ha, sb_negT hb]
  omega
theorem sb_nlt {a b : Nat} (ha : a < 2 ^ 31) (hb : b < 2 ^ 31) : -nI a < -nI b ↔ b < a := by
  rw [Int32.lt_iff_toInt_lt, sb_negT ha, sb_negT hb]
  omega
theorem sb_cmp {A B : Prop} {x : Int32} (v c : Nat) (f : c ≤ v → A) (g : v < c → B) (hv : v < 2 ^ 31) (hx : x = -nI c := by rfl) (hc : c < 2 ^ 31 := by omega) : (-nI v ≤ x → A) ∧ (¬ -nI v ≤ x → B) := by
  subst hx
  rw [sb_nle hv hc]
  exact ⟨f, fun z => g (by omega)⟩
theorem sb_ndiv {w : Nat} (hw : w < 2 ^ 31) : (-nI w) / 100 = -nI (w / 100) := by
  apply Int32.toInt_inj.mp
  have h100 : (100 : Int32).toInt = 100 := by decide
  rw [Int32.toInt_div, sb_negT hw, h100, sb_negT (by omega), Int.neg_tdiv, Int.tdiv_eq_ediv_of_nonneg (by omega), Int.bmod_eq_of_le (by omega) (by omega)]
  omega
theorem sb_nrem {w : Nat} (hw : w < 2 ^ 31) : (-nI (w / 100)) * 100 - (-nI w) = nI (w % 100) := by
  have h := pk_rem (a := w) (d := 100) hw (by decide) (by decide)
  rw [pk_div hw (by decide) (by decide)] at h
  rw [← h]
  show (-nI (w / 100)) * nI 100 - (-nI w) = nI w - nI (w / 100) * nI 100
  rw [Int32.neg_mul, Int32.sub_neg, Int32.add_comm, ← Int32.sub_eq_add_neg]
/-! rows on bits, shifts and unsigned numbers, to paste: each family out of a closed proof of our own, whole with what it rests on; each by itself clean at Lean in its own claim (generation 39, form 5). Take a family whole -/
/-! ===== Int32 by its bits: bt x i ===== -/
def bt (x : Int32) (i : Nat) : Bool := x.toBitVec.getLsbD i
theorem b_ext {x y : Int32} (h : ∀ i, i < 32 → bt x i = bt y i) : x = y := Int32.toBitVec_inj.mp (BitVec.eq_of_getLsbD_eq (fun i hi => h i hi))
theorem b_or (x y : Int32) (i : Nat) : bt (x ||| y) i = (bt x i || bt y i) := by unfold bt; rw [Int32.toBitVec_or, BitVec.getLsbD_or]
theorem b_and (x y : Int32) (i : Nat) : bt (x &&& y) i = (bt x i && bt y i) := by unfold bt; rw [Int32.toBitVec_and, BitVec.getLsbD_and]
theorem b_xor (x y : Int32) (i : Nat) : bt (x ^^^ y) i = (bt x i ^^ bt y i) := by unfold bt; rw [Int32.toBitVec_xor, BitVec.getLsbD_xor]
theorem b_big {x : Int32} {i : Nat} (h : 32 ≤ i) : bt x i = false := BitVec.getLsbD_of_ge _ _ h
theorem b_255 (i : Nat) : bt 255 i = decide (i < 8) := by
  rcases Nat.lt_or_ge i 32 with h | h
  · exact (by decide +kernel : ∀ i, i < 32 → bt 255 i = decide (i < 8)) i h
  · rw [b_big h, decide_eq_false (by omega)]
theorem b_65535 (i : Nat) : bt 65535 i = decide (i < 16) := by
  rcases Nat.lt_or_ge i 32 with h | h
  · exact (by decide +kernel : ∀ i, i < 32 → bt 65535 i = decide (i < 16)) i h
  · rw [b_big h, decide_eq_false (by omega)]
theorem b_m1 : ∀ i, i < 32 → bt (-1) i = true := by decide +kernel
theorem b_0 (i : Nat) : bt 0 i = false := BitVec.getLsbD_zero
theorem s_l : ∀ n, n < 32 → ((nI n &&& 31).toBitVec.smod 32).toNat = n := by decide +kernel
theorem s_u : ∀ n, n < 32 → (((nI n).toUInt32 &&& Int32.toUInt32 31).toBitVec % 32).toNat = n := by decide +kernel
theorem b_shl (n : Nat) (hn : n < 32) (x : Int32) {i : Nat} (hi : i < 32) : bt (x <<< (nI n &&& 31)) i = (decide (n ≤ i) && bt x (i - n)) := by
  unfold bt
  rw [Int32.toBitVec_shiftLeft]
  show (x.toBitVec <<< ((nI n &&& 31).toBitVec.smod 32).toNat).getLsbD i = _
  rw [s_l n hn, BitVec.getLsbD_shiftLeft]
  rcases Nat.lt_or_ge i n with h | h
  · simp [h, Nat.not_le.mpr h]
  · simp [hi, h, Nat.not_lt.mpr h]
theorem b_ushr (n : Nat) (hn : n < 32) (x : Int32) (i : Nat) : bt ((x.toUInt32 >>> ((nI n).toUInt32 &&& Int32.toUInt32 31)).toInt32) i = bt x (n + i) := by
  show (x.toUInt32 >>> ((nI n).toUInt32 &&& Int32.toUInt32 31)).toBitVec.getLsbD i = x.toUInt32.toBitVec.getLsbD (n + i)
  rw [UInt32.toBitVec_shiftRight]
  show (x.toUInt32.toBitVec >>> (((nI n).toUInt32 &&& Int32.toUInt32 31).toBitVec % 32).toNat).getLsbD i = _
  rw [s_u n hn, BitVec.getLsbD_ushiftRight]
theorem b_sshr (n : Nat) (hn : n < 32) (x : Int32) {i : Nat} (hi : i < 32) : bt (x >>> (nI n &&& 31)) i = if n + i < 32 then bt x (n + i) else bt x 31 := by
  unfold bt
  rw [Int32.toBitVec_shiftRight]
  show (x.toBitVec.sshiftRight ((nI n &&& 31).toBitVec.smod 32).toNat).getLsbD i = _
  rw [s_l n hn, BitVec.getLsbD_sshiftRight, BitVec.msb_eq_getLsbD_last]
  simp [hi]
theorem b_shl8 (x : Int32) {i : Nat} (hi : i < 32) : bt (x <<< ((8 : Int32) &&& 31)) i = (decide (8 ≤ i) && bt x (i - 8)) := b_shl 8 (by omega) x hi
theorem b_shl16 (x : Int32) {i : Nat} (hi : i < 32) : bt (x <<< ((16 : Int32) &&& 31)) i = (decide (16 ≤ i) && bt x (i - 16)) := b_shl 16 (by omega) x hi
theorem b_shl24 (x : Int32) {i : Nat} (hi : i < 32) : bt (x <<< ((24 : Int32) &&& 31)) i = (decide (24 ≤ i) && bt x (i - 24)) := b_shl 24 (by omega) x hi
theorem b_sshr8 (x : Int32) {i : Nat} (hi : i < 32) : bt (x >>> ((8 : Int32) &&& 31)) i = if 8 + i < 32 then bt x (8 + i) else bt x 31 := b_sshr 8 (by omega) x hi
/-! ===== nI under and, xor, >>>, one bit, 65535 ===== -/
theorem nx_and (a b : Nat) : nI a &&& nI b = nI (a &&& b) := by
  apply Int32.toBitVec_inj.1
  show BitVec.ofNat 32 a &&& BitVec.ofNat 32 b = BitVec.ofNat 32 (a &&& b)
  apply BitVec.eq_of_getLsbD_eq
  intro i hi
  simp [hi]
theorem nx_xor (a b : Nat) : nI a ^^^ nI b = nI (a ^^^ b) := by
  apply Int32.toBitVec_inj.1
  show BitVec.ofNat 32 a ^^^ BitVec.ofNat 32 b = BitVec.ofNat 32 (a ^^^ b)
  apply BitVec.eq_of_getLsbD_eq
  intro i hi
  simp [hi]
theorem nx_cnt : ∀ j : Fin 32, (UInt32.ofNat j.val &&& Int32.toUInt32 31).toNat % 32 = j.val := by decide +kernel
theorem nx_ush {k j : Nat} (hk : k < 65536) (hj : j < 32) : ((nI k).toUInt32 >>> ((nI j).toUInt32 &&& Int32.toUInt32 31)).toInt32 = nI (k >>> j) := by
  have hs : k >>> j ≤ k := by
    rw [Nat.shiftRight_eq_div_pow]
    exact Nat.div_le_self _ _
  have e2 : UInt32.ofNat k >>> (UInt32.ofNat j &&& Int32.toUInt32 31) = UInt32.ofNat (k >>> j) := by
    apply UInt32.toNat_inj.1
    have h1 : (UInt32.ofNat k).toNat = k := Nat.mod_eq_of_lt (by omega)
    have h2 : (UInt32.ofNat (k >>> j)).toNat = k >>> j := Nat.mod_eq_of_lt (by omega)
    rw [UInt32.toNat_shiftRight, nx_cnt ⟨j, hj⟩, h1, h2]
  show (UInt32.ofNat k >>> (UInt32.ofNat j &&& Int32.toUInt32 31)).toInt32 = _
  rw [e2]
  rfl
theorem nx_bit {k j : Nat} (hk : k < 65536) (hj : j < 16) : (((nI k).toUInt32 >>> ((nI j).toUInt32 &&& Int32.toUInt32 31)).toInt32 &&& 1) = 0 ↔ k.testBit j = false := by
  rw [nx_ush hk (by omega)]
  show nI (k >>> j) &&& nI 1 = 0 ↔ _
  rw [nx_and, Nat.and_one_is_mod, ← nI_0, nI_eq (by omega) (by omega), Nat.testBit_eq_decide_div_mod_eq, Nat.shiftRight_eq_div_pow, decide_eq_false_iff_not]
  generalize k / 2 ^ j = z
  omega
theorem nx_mod (k : Nat) : nI k &&& 65535 = nI (k % 65536) := by
  show nI k &&& nI 65535 = _
  rw [nx_and, show (65535 : Nat) = 2 ^ 16 - 1 from rfl, Nat.and_two_pow_sub_one_eq_mod]
theorem nx_m16 {k : Nat} (h : k < 65536) : nI k &&& 65535 = nI k := by rw [nx_mod, Nat.mod_eq_of_lt h]
theorem nx_mask (x : Int32) : ∃ k, k < 65536 ∧ x &&& 65535 = nI k := by
  have e : x = nI x.toBitVec.toNat := by
    apply Int32.toBitVec_inj.1
    show x.toBitVec = BitVec.ofNat 32 x.toBitVec.toNat
    simp
  refine ⟨x.toBitVec.toNat % 65536, Nat.mod_lt _ (by omega), ?_⟩
  rw [← nx_mod, ← e]
/-! ===== Int32 as a set of bits: test, set ===== -/
def nf_M (m : Int32) : Nat := 4294967296 - m.toBitVec.toNat
theorem nf_sh : ∀ l, l < 32 → ((1 : Int32) <<< (nI l &&& 31)).toBitVec = BitVec.twoPow 32 l := by decide +kernel
theorem nf_sl : ∀ l, l < 32 → (((nI l).toUInt32 &&& Int32.toUInt32 31).toBitVec % 32).toNat = l := by decide +kernel
theorem nf_tp : ∀ l, l < 32 → BitVec.twoPow 32 l ≠ 0#32 := by decide +kernel
theorem nf_bit (m : Int32) (l : Nat) (hl : l < 32) : ((m.toUInt32 >>> ((nI l).toUInt32 &&& Int32.toUInt32 31)).toInt32 &&& 1) = 0 ↔ (m &&& ((1 : Int32) <<< (nI l &&& 31))) = 0 := by
  have e : ((m.toUInt32 >>> ((nI l).toUInt32 &&& Int32.toUInt32 31)).toInt32).toBitVec = m.toBitVec >>> l := by
    show m.toBitVec >>> (((nI l).toUInt32 &&& Int32.toUInt32 31).toBitVec % 32) = m.toBitVec >>> l
    rw [BitVec.ushiftRight_eq', nf_sl l hl]
  rw [← Int32.toBitVec_inj, ← Int32.toBitVec_inj, Int32.toBitVec_and, Int32.toBitVec_and, nf_sh l hl, e, BitVec.and_twoPow]
  show (m.toBitVec >>> l &&& 1#32) = 0#32 ↔ _ = 0#32
  rw [BitVec.and_one_eq_setWidth_ofBool_getLsbD, BitVec.getLsbD_ushiftRight, Nat.add_zero]
  cases hb : m.toBitVec.getLsbD l
  · exact ⟨fun _ => by simp, fun _ => by decide⟩
  · exact ⟨fun z => absurd z (by decide), fun z => absurd ((if_pos rfl).symm.trans z) (nf_tp l hl)⟩
theorem nf_gr (m k : Int32) (h : m &&& k = 0) (hk : k ≠ 0) : nf_M (m ||| k) < nf_M m := by
  have hm := m.toBitVec.isLt
  have hm' := (m ||| k).toBitVec.isLt
  have h1 : m.toBitVec.toNat ≤ (m ||| k).toBitVec.toNat := by
    rw [Int32.toBitVec_or, BitVec.toNat_or]
    exact Nat.left_le_or
  have h2 : m.toBitVec.toNat ≠ (m ||| k).toBitVec.toNat := by
    intro e
    have e2 : m = m ||| k := Int32.toBitVec_inj.mp (BitVec.eq_of_toNat_eq e)
    apply hk
    apply Int32.toBitVec_inj.mp
    show k.toBitVec = 0#32
    apply BitVec.eq_of_getLsbD_eq
    intro i hi
    have a : m.toBitVec.getLsbD i = (m.toBitVec.getLsbD i || k.toBitVec.getLsbD i) := by rw [← BitVec.getLsbD_or, ← Int32.toBitVec_or, ← e2]
    have b : (m.toBitVec.getLsbD i && k.toBitVec.getLsbD i) = false := by
      rw [← BitVec.getLsbD_and, ← Int32.toBitVec_and, h]
      exact BitVec.getLsbD_zero
    rw [BitVec.getLsbD_zero]
    revert a b
    cases m.toBitVec.getLsbD i <;> cases k.toBitVec.getLsbD i <;> simp
  unfold nf_M
  omega
/-! ===== a byte read unsigned ===== -/
theorem bp_b (x : Int32) : x.toInt8.toInt32 &&& 255 = x &&& 255 := by
  apply Int32.toBitVec_inj.mp
  rw [Int32.toBitVec_and, Int32.toBitVec_and, Int8.toBitVec_toInt32, Int32.toBitVec_toInt8]
  apply BitVec.eq_of_getLsbD_eq
  intro i hi
  rw [BitVec.getLsbD_and, BitVec.getLsbD_and]
  have hm : ∀ i < 32, 8 ≤ i → (255 : Int32).toBitVec.getLsbD i = false := by decide
  rcases Nat.lt_or_ge i 8 with z | z
  · rw [BitVec.getLsbD_signExtend, BitVec.getLsbD_signExtend, if_pos z, if_pos hi]
    simp only [z, hi, decide_true, Bool.true_and]
  · rw [hm i hi z]; simp
/-! ===== the char cast and 65535 ===== -/
theorem em_w (v : Int32) : ∃ w : Nat, w < 65536 ∧ (v.toUInt32 % 65536).toInt32 = nI w ∧ v &&& 65535 = nI w := by
  have hr := lw_u16_r v
  have h0 : (0 : Int32).toInt = 0 := by decide
  obtain ⟨w, h1, h2⟩ := nI_of (x := lw_u16 v) (by rw [Int32.lt_iff_toInt_lt]; omega)
  have h3 : (v.toUInt32 % 65536).toInt32 = nI w := h2
  rw [h2, nI_toInt h1] at hr
  exact ⟨w, by omega, h3, by rw [← lg_i2c_mask, ← lg_i2c_nf, h3]⟩
/-! ===== Int64 as a set of bits: test, set, clear ===== -/
theorem ts_nf {x : Bool} (h : ¬ x = false) : x = true := by cases x <;> first | rfl | exact absurd rfl h
theorem ts_nt {x : Bool} (h : ¬ x = true) : x = false := by cases x <;> first | rfl | exact absurd rfl h
theorem ts_bit {w : Int64} {s : UInt64} {j : Nat} (hj : j < 64) (hs : s.toNat = j) : ((w.toUInt64 >>> s).toInt64 &&& 1) = 0 ↔ w.toBitVec.getLsbD j = false := by
  have e : (w.toUInt64 >>> s).toInt64.toBitVec = w.toBitVec >>> j := by
    apply BitVec.eq_of_toNat_eq
    show (w.toUInt64 >>> s).toNat = _
    rw [UInt64.toNat_shiftRight, hs, Nat.mod_eq_of_lt hj, BitVec.toNat_ushiftRight]
    rfl
  rw [← Int64.toBitVec_inj, Int64.toBitVec_and, e]
  show w.toBitVec >>> j &&& 1#64 = 0#64 ↔ _
  constructor
  · intro h
    have t := congrArg (fun x => x.getLsbD 0) h
    simpa using t
  · intro h
    apply BitVec.eq_of_getLsbD_eq
    intro i hi
    cases i with
    | zero => simp [h]
    | succ i => simp
theorem ts_or {w m : Int64} {j : Nat} (hj : j < 64) (hm : m.toBitVec = BitVec.twoPow 64 j) : (w ||| m) = w ↔ w.toBitVec.getLsbD j = true := by
  rw [← Int64.toBitVec_inj, Int64.toBitVec_or, hm]
  constructor
  · intro h
    have t := congrArg (fun x => x.getLsbD j) h
    simp only [BitVec.getLsbD_or, BitVec.getLsbD_twoPow] at t
    simpa [hj] using t.symm
  · intro h
    apply BitVec.eq_of_getLsbD_eq
    intro i hi
    rw [BitVec.getLsbD_or, BitVec.getLsbD_twoPow]
    by_cases e : j = i
    · subst e; rw [h, Bool.true_or]
    · simp [e]
theorem ts_and {w m : Int64} {j : Nat} (hj : j < 64) (hm : m.toBitVec = BitVec.twoPow 64 j) : (w &&& (m ^^^ (-1))) = w ↔ w.toBitVec.getLsbD j = false := by
  have ha : (-1 : Int64).toBitVec = BitVec.allOnes 64 := by decide
  rw [← Int64.toBitVec_inj, Int64.toBitVec_and, Int64.toBitVec_xor, hm, ha]
  constructor
  · intro h
    have t := congrArg (fun x => x.getLsbD j) h
    simp only [BitVec.getLsbD_and, BitVec.getLsbD_xor, BitVec.getLsbD_twoPow, BitVec.getLsbD_allOnes] at t
    simpa [hj] using t.symm
  · intro h
    apply BitVec.eq_of_getLsbD_eq
    intro i hi
    rw [BitVec.getLsbD_and, BitVec.getLsbD_xor, BitVec.getLsbD_twoPow, BitVec.getLsbD_allOnes]
    by_cases e : j = i
    · subst e; rw [h, Bool.false_and]
    · simp [e, hi]
/-! ===== lN n to 2^64: shifts, and, or, masks, one bit ===== -/
theorem wb_tb (n : Nat) : (lN n).toBitVec = BitVec.ofNat 64 n := rfl
theorem wb_inj {a b : Int64} (h : a.toBitVec = b.toBitVec) : a = b := Int64.toBitVec_inj.mp h
theorem wb_tn {n : Nat} (h : n < 2 ^ 64) : (lN n).toBitVec.toNat = n := by rw [wb_tb, BitVec.toNat_ofNat, Nat.mod_eq_of_lt h]
theorem wb_of (x : Int64) : ∃ n, n < 2 ^ 64 ∧ x = lN n := ⟨x.toBitVec.toNat, x.toBitVec.isLt, wb_inj (by rw [wb_tb]; simp)⟩
theorem wb_of32 (x : Int32) : ∃ n, n < 2 ^ 32 ∧ x = nI n := ⟨x.toBitVec.toNat, x.toBitVec.isLt, Int32.toBitVec_inj.mp (by show _ = BitVec.ofNat 32 _; simp)⟩
theorem wb_c : ∀ k, k < 64 → ((nI k).toInt64 &&& 63) = lN k := by decide +kernel
theorem wb_cu : ∀ k, k < 64 → ((nI k).toInt64.toUInt64 &&& Int64.toUInt64 63) = UInt64.ofNat k := by decide +kernel
theorem wb_sm : ∀ k, k < 64 → (BitVec.ofNat 64 k).smod 64 = BitVec.ofNat 64 k := by decide +kernel
theorem wb_pw {a b : Nat} (h : a ≤ b) : 2 ^ b = 2 ^ a * 2 ^ (b - a) := by rw [← Nat.pow_add]; congr 1; omega
theorem wb_lt2 {a b : Nat} (h : a < b) : 2 ^ a < 2 ^ b := Nat.pow_lt_pow_right (by decide) h
theorem wb_mod (n : Nat) : lN n = lN (n % 2 ^ 64) := wb_inj (by rw [wb_tb, wb_tb]; apply BitVec.eq_of_toNat_eq; rw [BitVec.toNat_ofNat, BitVec.toNat_ofNat, Nat.mod_mod])
theorem wb_shr {n k : Nat} (hn : n < 2 ^ 64) (hk : k < 64) : ((lN n).toUInt64 >>> ((nI k).toInt64.toUInt64 &&& Int64.toUInt64 63)).toInt64 = lN (n / 2 ^ k) := by
  rw [wb_cu k hk]
  apply wb_inj
  apply BitVec.eq_of_toNat_eq
  show ((lN n).toUInt64 >>> UInt64.ofNat k).toNat = (BitVec.ofNat 64 _).toNat
  have h1 : (UInt64.ofNat k).toNat = k := by
    show (BitVec.ofNat 64 k).toNat = k
    rw [BitVec.toNat_ofNat, Nat.mod_eq_of_lt (by omega)]
  have h2 : (lN n).toUInt64.toNat = n := wb_tn hn
  rw [UInt64.toNat_shiftRight, h1, h2, Nat.mod_eq_of_lt hk, Nat.shiftRight_eq_div_pow, BitVec.toNat_ofNat, Nat.mod_eq_of_lt (Nat.lt_of_le_of_lt (Nat.div_le_self _ _) hn)]
theorem wb_shl (n : Nat) {k : Nat} (hk : k < 64) : lN n <<< ((nI k).toInt64 &&& 63) = lN (n * 2 ^ k) := by
  rw [wb_c k hk]
  apply wb_inj
  rw [Int64.toBitVec_shiftLeft, wb_tb, wb_tb, wb_tb, wb_sm k hk]
  apply BitVec.eq_of_toNat_eq
  rw [BitVec.shiftLeft_eq', BitVec.toNat_shiftLeft, BitVec.toNat_ofNat, BitVec.toNat_ofNat, BitVec.toNat_ofNat, Nat.mod_eq_of_lt (show k < 2 ^ 64 by omega), Nat.shiftLeft_eq, Nat.mul_mod, Nat.mod_mod, ← Nat.mul_mod]
theorem wb_and {a b : Nat} (ha : a < 2 ^ 64) (hb : b < 2 ^ 64) : lN a &&& lN b = lN (a &&& b) := by
  apply wb_inj
  rw [Int64.toBitVec_and, wb_tb, wb_tb, wb_tb]
  apply BitVec.eq_of_toNat_eq
  rw [BitVec.toNat_and, BitVec.toNat_ofNat, BitVec.toNat_ofNat, BitVec.toNat_ofNat, Nat.mod_eq_of_lt ha, Nat.mod_eq_of_lt hb, Nat.mod_eq_of_lt (Nat.and_lt_two_pow _ hb)]
theorem wb_or {a b : Nat} (ha : a < 2 ^ 64) (hb : b < 2 ^ 64) : lN a ||| lN b = lN (a ||| b) := by
  apply wb_inj
  rw [Int64.toBitVec_or, wb_tb, wb_tb, wb_tb]
  apply BitVec.eq_of_toNat_eq
  rw [BitVec.toNat_or, BitVec.toNat_ofNat, BitVec.toNat_ofNat, BitVec.toNat_ofNat, Nat.mod_eq_of_lt ha, Nat.mod_eq_of_lt hb, Nat.mod_eq_of_lt (Nat.or_lt_two_pow ha hb)]
theorem wb_mask {n k : Nat} (hn : n < 2 ^ 64) (hk : k < 64) : lN n &&& lN (2 ^ k - 1) = lN (n % 2 ^ k) := by
  rw [wb_and hn (by have := wb_lt2 hk; omega), Nat.and_two_pow_sub_one_eq_mod]
theorem wb_a1 {n : Nat} (hn : n < 2 ^ 64) : lN n &&& 1 = lN (n % 2) := wb_mask (k := 1) hn (by decide)
theorem wb_bit {n k : Nat} (hn : n < 2 ^ 64) (hk : k < 64) : ((lN n).toUInt64 >>> ((nI k).toInt64.toUInt64 &&& Int64.toUInt64 63)).toInt64 &&& 1 = lN (n / 2 ^ k % 2) := by
  rw [wb_shr hn hk, wb_a1 (Nat.lt_of_le_of_lt (Nat.div_le_self _ _) hn)]
theorem wb_xor {q k : Nat} (hk : k < 63) (h : 2 ^ k ≤ q) (h2 : q < 2 ^ (k + 1)) : lN q ^^^ lN (2 ^ k) = lN (q - 2 ^ k) := by
  obtain ⟨r, rfl⟩ : ∃ r, q = 2 ^ k + r := ⟨q - 2 ^ k, by omega⟩
  have hr : r < 2 ^ k := by rw [Nat.pow_succ] at h2; omega
  have hx : (2 ^ k + r) ^^^ 2 ^ k = r := by
    apply Nat.eq_of_testBit_eq
    intro i
    rw [Nat.testBit_xor, Nat.testBit_two_pow]
    rcases Nat.lt_trichotomy i k with h | h | h
    · rw [Nat.testBit_two_pow_add_gt h]
      simp [show ¬ k = i by omega]
    · subst h
      rw [Nat.testBit_two_pow_add_eq]
      simp
    · have a1 : 2 ^ (k + 1) ≤ 2 ^ i := Nat.pow_le_pow_right (by decide) h
      rw [Nat.testBit_lt_two_pow (show 2 ^ k + r < 2 ^ i by omega), Nat.testBit_lt_two_pow (show r < 2 ^ i by omega)]
      simp [show ¬ k = i by omega]
  have b1 := wb_lt2 (show k + 1 < 64 by omega)
  have b2 := wb_lt2 (show k < 64 by omega)
  apply wb_inj
  rw [Int64.toBitVec_xor, wb_tb, wb_tb, wb_tb]
  apply BitVec.eq_of_toNat_eq
  rw [BitVec.toNat_xor, BitVec.toNat_ofNat, BitVec.toNat_ofNat, BitVec.toNat_ofNat, Nat.mod_eq_of_lt (by omega : 2 ^ k + r < 2 ^ 64), Nat.mod_eq_of_lt b2, hx, Nat.add_sub_cancel_left, Nat.mod_eq_of_lt (by omega)]
/-! ===== lN: masks, 'or' of parts that don't overlap is a sum ===== -/
theorem u_tn {n : Nat} (h : n < 2 ^ 64) : (UInt64.ofNat n).toNat = n := Nat.mod_eq_of_lt h
theorem g_and {a b c : Nat} (ha : a < 2 ^ 64) (hb : b < 2 ^ 64) (hc : a &&& b = c) : lN a &&& lN b = lN c := by
  subst hc
  have h : UInt64.ofNat a &&& UInt64.ofNat b = UInt64.ofNat (a &&& b) := UInt64.toNat_inj.mp (by rw [UInt64.toNat_and, u_tn ha, u_tn hb, u_tn (Nat.and_lt_two_pow a hb)])
  have h2 := congrArg UInt64.toInt64 h
  exact h2
theorem g_and1 {a : Nat} (ha : a < 2 ^ 64) : lN a &&& 1 = lN (a % 2) := g_and (b := 1) ha (by decide) (Nat.and_two_pow_sub_one_eq_mod a 1)
theorem g_mask {a s p : Nat} (hp : 2 ^ s = p) (hs : s < 64) (ha : a < 2 ^ 64) : lN a &&& lN (p - 1) = lN (a % p) := by
  subst hp
  have := Nat.pow_lt_pow_right (show 1 < 2 by decide) hs
  exact g_and ha (by omega) (Nat.and_two_pow_sub_one_eq_mod a s)
theorem g_or {k p a b : Nat} (hp : 2 ^ k = p) (ha : a < p) (h : b * p + a < 2 ^ 64) : lN (b * p) ||| lN a = lN (b * p + a) := by
  subst hp
  have h1 : b * 2 ^ k ||| a = b * 2 ^ k + a := by rw [← Nat.shiftLeft_eq, Nat.shiftLeft_add_eq_or_of_lt ha]
  have h3 : UInt64.ofNat (b * 2 ^ k) ||| UInt64.ofNat a = UInt64.ofNat (b * 2 ^ k + a) := UInt64.toNat_inj.mp (by rw [UInt64.toNat_or, u_tn (by omega), u_tn (by omega), u_tn h, h1])
  have h2 := congrArg UInt64.toInt64 h3
  exact h2
theorem g_or' {k p a b : Nat} (hp : 2 ^ k = p) (ha : a < p) (h : a + b * p < 2 ^ 64) : lN a ||| lN (b * p) = lN (a + b * p) := by
  rw [Int64.or_comm, g_or hp ha (by omega), Nat.add_comm]
theorem g_ushr {a k p : Nat} {y : UInt64} (hy : y = UInt64.ofNat k) (hk : k < 64) (hp : 2 ^ k = p) (ha : a < 2 ^ 64) : ((lN a).toUInt64 >>> y).toInt64 = lN (a / p) := by
  subst hy hp
  have h : UInt64.ofNat a >>> UInt64.ofNat k = UInt64.ofNat (a / 2 ^ k) := UInt64.toNat_inj.mp (by rw [UInt64.toNat_shiftRight, u_tn ha, u_tn (by omega), u_tn (Nat.lt_of_le_of_lt (Nat.div_le_self _ _) ha), Nat.mod_eq_of_lt hk, Nat.shiftRight_eq_div_pow])
  have h2 := congrArg UInt64.toInt64 h
  exact h2
theorem g_shl {a k p : Nat} {y : Int64} (hy : y.toBitVec.smod 64 = BitVec.ofNat 64 k) (hk : k < 64) (hp : 2 ^ k = p) (ha : a < 2 ^ 64) : lN a <<< y = lN (a * p) := by
  subst hp
  apply Int64.toBitVec_inj.mp
  rw [Int64.toBitVec_shiftLeft, hy]
  apply BitVec.eq_of_toNat_eq
  have hb : (lN a).toBitVec.toNat = a := Nat.mod_eq_of_lt ha
  have hk' : (BitVec.ofNat 64 k).toNat = k := Nat.mod_eq_of_lt (by omega)
  have h : ((lN a).toBitVec <<< BitVec.ofNat 64 k).toNat = (a * 2 ^ k) % 2 ^ 64 := by simp only [BitVec.shiftLeft_eq', BitVec.toNat_shiftLeft, hb, hk', Nat.shiftLeft_eq]
  exact h
/-! ===== lN to 2^62 under >> and >>> ===== -/
theorem pf_lI {a : Nat} (h : a < 2 ^ 63) : (lN a).toInt = (a : Int) := lg_ofNat_toInt h
theorem pf_shr {a d : Nat} {D : Int64} (hD : (D.toBitVec.smod 64).toNat = d) (h : a < 2 ^ 62) : lN a >>> D = lN (a / 2 ^ d) := by
  have hd : a / 2 ^ d ≤ a := Nat.div_le_self _ _
  apply Int64.toInt_inj.mp
  have e : (lN a >>> D).toInt = (lN a).toInt >>> d := by
    rw [← hD]
    exact BitVec.toInt_sshiftRight ..
  rw [e, Int.shiftRight_eq_div_pow, pf_lI (by omega), pf_lI (by omega)]
  rfl
theorem pf_ushr {a d : Nat} {D : UInt64} (hD : D.toNat % 64 = d) (h : a < 2 ^ 62) : ((lN a).toUInt64 >>> D).toInt64 = lN (a / 2 ^ d) := by
  have hd : a / 2 ^ d ≤ a := Nat.div_le_self _ _
  have e : (lN a).toUInt64 >>> D = UInt64.ofNat (a / 2 ^ d) := UInt64.toNat_inj.mp (by
    rw [UInt64.toNat_shiftRight, hD, Nat.shiftRight_eq_div_pow, UInt64.toNat_ofNat']
    show (UInt64.ofNat a).toNat / 2 ^ d = _
    rw [UInt64.toNat_ofNat', Nat.mod_eq_of_lt (by omega), Nat.mod_eq_of_lt (by omega)])
  rw [e]
  rfl
theorem pf_andw (x : Int64) : ∃ m, m < 2 ^ 32 ∧ x &&& 4294967295 = lN m := ⟨x.toBitVec.toNat % 2 ^ 32, Nat.mod_lt _ (by decide), Int64.toBitVec_inj.mp (BitVec.eq_of_toNat_eq (by
  show (x.toBitVec &&& 4294967295#64).toNat = (BitVec.ofNat 64 (x.toBitVec.toNat % 2 ^ 32)).toNat
  rw [BitVec.toNat_and, show (4294967295#64).toNat = 2 ^ 32 - 1 from by decide, Nat.and_two_pow_sub_one_eq_mod, BitVec.toNat_ofNat]
  omega))⟩
/-! ===== Int64 as an unsigned number: uN x ===== -/
def uN (x : Int64) : Nat := x.toUInt64.toNat
theorem uN_lt (x : Int64) : uN x < 18446744073709551616 := x.toUInt64.toNat_lt
theorem uN_inj {x y : Int64} (h : uN x = uN y) : x = y := congrArg UInt64.toInt64 (UInt64.toNat_inj.mp h)
theorem uN_add (x y : Int64) : uN (x + y) = (uN x + uN y) % 18446744073709551616 := by
  show (x.toUInt64 + y.toUInt64).toNat = _
  exact UInt64.toNat_add _ _
theorem uN_mul (x y : Int64) : uN (x * y) = (uN x * uN y) % 18446744073709551616 := by
  show (x.toUInt64 * y.toUInt64).toNat = _
  exact UInt64.toNat_mul _ _
theorem uN_shl (x : Int64) : uN (x <<< ((1 : Int32).toInt64 &&& 63)) = (2 * uN x) % 18446744073709551616 := by
  have h : (((1 : Int32).toInt64 &&& 63).toBitVec.smod 64).toNat = 1 := by decide
  show (x.toBitVec <<< (((1 : Int32).toInt64 &&& 63).toBitVec.smod 64).toNat).toNat = _
  rw [h, BitVec.toNat_shiftLeft, Nat.shiftLeft_eq, Nat.mul_comm]
  rfl
theorem uN_shr (x : Int64) (s : UInt64) : uN (x.toUInt64 >>> s).toInt64 = uN x / 2 ^ (s.toNat % 64) := by
  show (x.toUInt64 >>> s).toNat = _
  rw [UInt64.toNat_shiftRight, Nat.shiftRight_eq_div_pow]
  rfl
theorem uN_s32 (x : Int64) : uN (x.toUInt64 >>> ((32 : Int32).toInt64.toUInt64 &&& Int64.toUInt64 63)).toInt64 = uN x / 4294967296 := by
  have h : ((32 : Int32).toInt64.toUInt64 &&& Int64.toUInt64 63).toNat % 64 = 32 := by decide
  rw [uN_shr, h]
theorem uN_s63 (x : Int64) : uN (x.toUInt64 >>> ((63 : Int32).toInt64.toUInt64 &&& Int64.toUInt64 63)).toInt64 = uN x / 9223372036854775808 := by
  have h : ((63 : Int32).toInt64.toUInt64 &&& Int64.toUInt64 63).toNat % 64 = 63 := by decide
  rw [uN_shr, h]
theorem uN_lo (x : Int64) : uN (x &&& 4294967295) = uN x % 4294967296 := by
  show (x.toUInt64 &&& Int64.toUInt64 4294967295).toNat = _
  rw [UInt64.toNat_and]
  exact Nat.and_two_pow_sub_one_eq_mod _ 32
theorem uN_bit (x : Int64) : (x &&& 1) = 0 ↔ uN x % 2 = 0 := by
  have h : uN (x &&& 1) = uN x % 2 := by
    show (x.toUInt64 &&& Int64.toUInt64 1).toNat = _
    rw [UInt64.toNat_and]
    exact Nat.and_two_pow_sub_one_eq_mod _ 1
  rw [← h]
  exact ⟨fun z => by rw [z]; rfl, fun z => uN_inj (z.trans rfl)⟩
theorem uN_or {x y : Int64} (hy : uN y < 2) : uN ((x <<< ((1 : Int32).toInt64 &&& 63)) ||| y) = (2 * uN x) % 18446744073709551616 + uN y := by
  have h1 : uN ((x <<< ((1 : Int32).toInt64 &&& 63)) ||| y) = uN (x <<< ((1 : Int32).toInt64 &&& 63)) ||| uN y := UInt64.toNat_or _ _
  have h2 : (2 * uN x) % 18446744073709551616 = 2 ^ 1 * (uN x % 9223372036854775808) := by omega
  rw [h1, uN_shl, h2]
  exact (Nat.two_pow_add_eq_or_of_lt (i := 1) hy _).symm
theorem nat_xor {a : Nat} (h : a < 18446744073709551616) : a ^^^ 2 ^ 63 = (a + 9223372036854775808) % 18446744073709551616 := by
  have h1 : (a ^^^ 2 ^ 63) % 2 ^ 63 = a % 2 ^ 63 := by rw [Nat.xor_mod_two_pow, Nat.mod_self, Nat.xor_zero]
  have h2 : (a ^^^ 2 ^ 63) / 2 ^ 63 = (a / 2 ^ 63) ^^^ 1 := by rw [Nat.xor_div_two_pow, Nat.div_self (Nat.two_pow_pos 63)]
  have h3 : a / 2 ^ 63 = 0 ∨ a / 2 ^ 63 = 1 := by omega
  generalize a ^^^ 2 ^ 63 = t at h1 h2
  rcases h3 with h3 | h3
  · rw [h3] at h2
    have h2 : t / 2 ^ 63 = 1 := h2
    omega
  · rw [h3] at h2
    have h2 : t / 2 ^ 63 = 0 := h2
    omega
theorem uN_xor (x : Int64) : uN (x ^^^ (-9223372036854775808)) = (uN x + 9223372036854775808) % 18446744073709551616 := by
  rw [← nat_xor (uN_lt x)]
  exact UInt64.toNat_xor _ _
theorem uN_int (x : Int64) : x.toInt = if 2 * uN x < 18446744073709551616 then (uN x : Int) else (uN x : Int) - 18446744073709551616 := BitVec.toInt_eq_toNat_cond _
theorem uN_le (x y : Int64) : (x ^^^ (-9223372036854775808)) ≤ (y ^^^ (-9223372036854775808)) ↔ uN x ≤ uN y := by
  have hx := uN_lt x
  have hy := uN_lt y
  rw [Int64.le_iff_toInt_le, uN_int, uN_int, uN_xor, uN_xor]
  omega
theorem uN_sk (x : Int64) {k : Nat} (hk : k < 64) : uN (x.toUInt64 >>> ((nI k).toInt64.toUInt64 &&& Int64.toUInt64 63)).toInt64 = uN x / 2 ^ k := by
  have h : ((nI k).toInt64.toUInt64 &&& Int64.toUInt64 63).toNat % 64 = k := by
    rw [nI_l (by omega), UInt64.toNat_and]
    have e : (lN k).toUInt64.toNat = k % 2 ^ 64 := rfl
    have e2 : (Int64.toUInt64 63).toNat = 2 ^ 6 - 1 := by decide
    rw [e, e2, Nat.and_two_pow_sub_one_eq_mod]
    omega
  rw [uN_shr, h]
/-! ===== unsigned comparison by xor with the least ===== -/
theorem lN_bv (n : Nat) : (lN n).toBitVec = BitVec.ofNat 64 n := rfl
theorem lN_nat {n : Nat} (h : n < 2 ^ 64) : (lN n).toBitVec.toNat = n := by rw [lN_bv, BitVec.toNat_ofNat]; exact Nat.mod_eq_of_lt h
theorem lN_xor (a b : Nat) : lN a ^^^ lN b = lN (a ^^^ b) := by
  apply Int64.toBitVec_inj.mp; rw [Int64.toBitVec_xor, lN_bv, lN_bv, lN_bv]; apply BitVec.eq_of_getLsbD_eq; intro i hi; simp [BitVec.getLsbD_ofNat, Nat.testBit_xor, hi]
theorem lN_ti {m : Nat} (h : m < 2 ^ 64) : (lN m).toInt = if m < 2 ^ 63 then (m : Int) else (m : Int) - 2 ^ 64 := by
  have c := BitVec.toInt_eq_toNat_cond (lN m).toBitVec
  rw [lN_nat h] at c
  show (lN m).toBitVec.toInt = _
  rw [c]
  split <;> split <;> omega
theorem xor63 {x : Nat} (h : x < 2 ^ 63) : x ^^^ 2 ^ 63 = 2 ^ 63 + x := by
  apply Nat.eq_of_testBit_eq
  intro i
  rw [Nat.testBit_xor, Nat.testBit_two_pow]
  rcases Nat.lt_trichotomy i 63 with z | z | z
  · rw [Nat.testBit_two_pow_add_gt z, decide_eq_false (by omega)]; simp
  · subst z; rw [Nat.testBit_two_pow_add_eq]; simp
  · have hp : 2 ^ 64 ≤ 2 ^ i := Nat.pow_le_pow_right (by decide) z
    rw [Nat.testBit_lt_two_pow (show x < 2 ^ i by omega), Nat.testBit_lt_two_pow (show 2 ^ 63 + x < 2 ^ i by omega), decide_eq_false (by omega)]; rfl
theorem xorS {a : Nat} (h : a < 2 ^ 64) : (lN a ^^^ (-9223372036854775808)).toInt = (a : Int) - 2 ^ 63 := by
  rw [show (-9223372036854775808 : Int64) = lN (2 ^ 63) from by decide +kernel, lN_xor]
  rcases Nat.lt_or_ge a (2 ^ 63) with z | z
  · rw [xor63 z, lN_ti (by omega), if_neg (by omega)]; omega
  · obtain ⟨x, rfl⟩ : ∃ x, a = 2 ^ 63 + x := ⟨a - 2 ^ 63, by omega⟩
    rw [← xor63 (by omega), Nat.xor_assoc, Nat.xor_self, Nat.xor_zero, lN_ti (by omega), if_pos (by omega), xor63 (by omega)]; omega
theorem ultL {a b : Nat} (ha : a < 2 ^ 64) (hb : b < 2 ^ 64) : ((lN b ^^^ (-9223372036854775808)) ≤ (lN a ^^^ (-9223372036854775808))) ↔ b ≤ a := by
  rw [Int64.le_iff_toInt_le, xorS ha, xorS hb]; omega
/-! ===== Int64 masks of n low bits ===== -/
theorem cr_bits (W U M : BitVec 64) : ((W &&& U) &&& (U &&& (M ^^^ BitVec.allOnes 64))) = 0#64 ↔ (W &&& U) &&& M = W &&& U := by
  constructor
  · intro h
    apply BitVec.eq_of_getLsbD_eq
    intro i hi
    have e := congrArg (fun x => BitVec.getLsbD x i) h
    simp only [BitVec.getLsbD_and, BitVec.getLsbD_xor, BitVec.getLsbD_allOnes, BitVec.getLsbD_zero, hi, decide_true] at e ⊢
    revert e
    cases W.getLsbD i <;> cases U.getLsbD i <;> cases M.getLsbD i <;> decide
  · intro h
    apply BitVec.eq_of_getLsbD_eq
    intro i hi
    have e := congrArg (fun x => BitVec.getLsbD x i) h
    simp only [BitVec.getLsbD_and, BitVec.getLsbD_xor, BitVec.getLsbD_allOnes, BitVec.getLsbD_zero, hi, decide_true] at e ⊢
    revert e
    cases W.getLsbD i <;> cases U.getLsbD i <;> cases M.getLsbD i <;> decide
theorem cr_mask (w U m : Int64) (n : Nat) (hm : m.toBitVec.toNat = 2 ^ n - 1) : ((w &&& U) &&& (U &&& (m ^^^ (-1)))) = 0 ↔ (w &&& U).toBitVec.toNat < 2 ^ n := by
  have e0 : (-1 : Int64).toBitVec = BitVec.allOnes 64 := by decide
  have z0 : (0 : Int64).toBitVec = 0#64 := by decide
  rw [← Int64.toBitVec_inj, z0, Int64.toBitVec_and, Int64.toBitVec_and, Int64.toBitVec_and, Int64.toBitVec_xor, e0, cr_bits]
  generalize w.toBitVec &&& U.toBitVec = T
  rw [← BitVec.toNat_inj, BitVec.toNat_and, hm, Nat.and_two_pow_sub_one_eq_mod]
  constructor
  · intro h
    have t := Nat.mod_lt T.toNat (Nat.two_pow_pos n)
    rw [h] at t
    exact t
  · exact Nat.mod_eq_of_lt
theorem cr_shr (t : Int64) (x : UInt64) (n : Nat) (hx : x.toNat % 64 = n) : (t.toUInt64 >>> x).toInt64 = 0 ↔ t.toBitVec.toNat < 2 ^ n := by
  rw [← Int64.toBitVec_inj, ← BitVec.toNat_inj]
  show (t.toUInt64 >>> x).toNat = 0 ↔ t.toUInt64.toNat < 2 ^ n
  rw [UInt64.toNat_shiftRight, hx, Nat.shiftRight_eq_div_pow]
  constructor
  · intro h
    have d : t.toUInt64.toNat / 2 ^ n < 1 := by
      rw [h]
      decide
    have e := (Nat.div_lt_iff_lt_mul (Nat.two_pow_pos n)).mp d
    rw [Nat.one_mul] at e
    exact e
  · exact Nat.div_eq_of_lt
theorem cr_amt (s : Int64) : ∃ n, n < 64 ∧ s &&& 63 = lN n ∧ (s.toUInt64 &&& Int64.toUInt64 63).toNat % 64 = n := by
  have e : (s.toUInt64 &&& Int64.toUInt64 63).toNat = s.toUInt64.toNat % 2 ^ 6 := by
    rw [UInt64.toNat_and, show (Int64.toUInt64 63).toNat = 2 ^ 6 - 1 from by decide, Nat.and_two_pow_sub_one_eq_mod]
  refine ⟨s.toUInt64.toNat % 2 ^ 6, by omega, ?_, by omega⟩
  rw [← Int64.toBitVec_inj, ← BitVec.toNat_inj]
  show (s.toUInt64 &&& Int64.toUInt64 63).toNat = (BitVec.ofNat 64 (s.toUInt64.toNat % 2 ^ 6)).toNat
  rw [e, BitVec.toNat_ofNat]
  omega
end
section
/-! counting below a bound, pigeonhole, and iteration until nothing changes -/
noncomputable def ct_b (P : Prop) : Nat := @ite Nat P (Classical.propDecidable P) 1 0
theorem ct_b1 {P : Prop} (h : P) : ct_b P = 1 := if_pos h
theorem ct_b0 {P : Prop} (h : ¬ P) : ct_b P = 0 := if_neg h
theorem ct_ble {P Q : Prop} (h : P → Q) : ct_b P ≤ ct_b Q := by
  by_cases p : P
  · rw [ct_b1 p, ct_b1 (h p)]; exact Nat.le_refl _
  · rw [ct_b0 p]; exact Nat.zero_le _
theorem ct_b_le1 (P : Prop) : ct_b P ≤ 1 := by
  by_cases p : P
  · rw [ct_b1 p]; exact Nat.le_refl _
  · rw [ct_b0 p]; exact Nat.zero_le _
noncomputable def ct_n (p : Nat → Prop) : Nat → Nat
  | 0 => 0
  | n + 1 => ct_n p n + ct_b (p n)
theorem ct_le (p : Nat → Prop) : ∀ n, ct_n p n ≤ n
  | 0 => Nat.le_refl _
  | n + 1 => by have := ct_le p n; have := ct_b_le1 (p n); show ct_n p n + ct_b (p n) ≤ n + 1; omega
theorem ct_mono {p q : Nat → Prop} : ∀ n, (∀ i, i < n → p i → q i) → ct_n p n ≤ ct_n q n
  | 0, _ => Nat.le_refl _
  | n + 1, h => by
    have h1 := ct_mono (p := p) (q := q) n (fun i hi => h i (by omega))
    have h2 := ct_ble (h n (by omega))
    show ct_n p n + ct_b (p n) ≤ ct_n q n + ct_b (q n)
    omega
theorem ct_strict {p q : Nat → Prop} : ∀ n, (∀ i, i < n → p i → q i) → ∀ i, i < n → q i → ¬ p i → ct_n p n < ct_n q n
  | 0, _, i, hi, _, _ => absurd hi (by omega)
  | n + 1, h, i, hi, hq, hp => by
    show ct_n p n + ct_b (p n) < ct_n q n + ct_b (q n)
    by_cases e : i = n
    · subst e
      have h1 := ct_mono (p := p) (q := q) i (fun j hj => h j (by omega))
      rw [ct_b1 hq, ct_b0 hp]; omega
    · have h1 := ct_strict (p := p) (q := q) n (fun j hj => h j (by omega)) i (by omega) hq hp
      have h2 := ct_ble (h n (by omega))
      omega
theorem ct_pos {p : Nat → Prop} : ∀ n i, i < n → p i → 1 ≤ ct_n p n
  | 0, i, hi, _ => absurd hi (by omega)
  | n + 1, i, hi, hp => by
    show 1 ≤ ct_n p n + ct_b (p n)
    by_cases e : i = n
    · subst e; rw [ct_b1 hp]; omega
    · have := ct_pos n i (by omega) hp; omega
/-- rising sets below N, the first one not empty: within M ≥ N steps some step adds nothing -/
theorem ct_iter (N M : Nat) (A : Nat → Nat → Prop) (h0 : 1 ≤ ct_n (A 0) N) (hm : ∀ j i, i < N → A j i → A (j + 1) i) (hN : N ≤ M) : ∃ j, j < M ∧ ∀ i, i < N → A (j + 1) i → A j i := by
  apply Classical.byContradiction
  intro hc
  have h1 : ∀ j, j < M → ∃ i, i < N ∧ A (j + 1) i ∧ ¬ A j i := by
    intro j hj
    apply Classical.byContradiction
    intro h2
    apply hc
    refine ⟨j, hj, fun i hi ha => ?_⟩
    apply Classical.byContradiction
    intro h3
    exact h2 ⟨i, hi, ha, h3⟩
  have h2 : ∀ j, j ≤ M → j + 1 ≤ ct_n (A j) N := by
    intro j
    induction j with
    | zero => intro _; omega
    | succ j ih =>
      intro hj
      obtain ⟨i, hi, ha, hn⟩ := h1 j (by omega)
      have := ct_strict N (hm j) i hi ha hn
      have := ih (by omega)
      omega
  have h3 := h2 M (Nat.le_refl _)
  have h4 := ct_le (A M) N
  omega
/-- an injection of [0, m) into [0, n) -/
theorem ct_inj : ∀ (n m : Nat) (f : Nat → Nat), (∀ i, i < m → f i < n) → (∀ i j, i < m → j < m → f i = f j → i = j) → m ≤ n := by
  intro n
  induction n with
  | zero =>
    intro m f h1 _
    cases m with
    | zero => omega
    | succ m => have := h1 0 (by omega); omega
  | succ n ih =>
    intro m f h1 h2
    by_cases h : ∃ i, i < m ∧ f i = n
    · obtain ⟨i0, hi0, e0⟩ := h
      have key : m - 1 ≤ n := by
        refine ih (m - 1) (fun i => if i < i0 then f i else f (i + 1)) ?_ ?_
        · intro i hi
          show (if i < i0 then f i else f (i + 1)) < n
          by_cases c : i < i0
          · rw [if_pos c]
            have a := h1 i (by omega)
            have b : f i ≠ n := fun e => by have := h2 i i0 (by omega) hi0 (e.trans e0.symm); omega
            omega
          · rw [if_neg c]
            have a := h1 (i + 1) (by omega)
            have b : f (i + 1) ≠ n := fun e => by have := h2 (i + 1) i0 (by omega) hi0 (e.trans e0.symm); omega
            omega
        · intro i j hi hj e
          have e : (if i < i0 then f i else f (i + 1)) = (if j < i0 then f j else f (j + 1)) := e
          by_cases ci : i < i0
          · rw [if_pos ci] at e
            by_cases cj : j < i0
            · rw [if_pos cj] at e; exact h2 i j (by omega) (by omega) e
            · rw [if_neg cj] at e; have := h2 i (j + 1) (by omega) (by omega) e; omega
          · rw [if_neg ci] at e
            by_cases cj : j < i0
            · rw [if_pos cj] at e; have := h2 (i + 1) j (by omega) (by omega) e; omega
            · rw [if_neg cj] at e; have := h2 (i + 1) (j + 1) (by omega) (by omega) e; omega
      omega
    · have : m ≤ n := by
        refine ih m f ?_ h2
        intro i hi
        have a := h1 i hi
        have b : f i ≠ n := fun e => h ⟨i, hi, e⟩
        omega
      omega
/-- an injection of [0, n) into itself meets every number below n -/
theorem ct_surj (n : Nat) (f : Nat → Nat) (h1 : ∀ i, i < n → f i < n) (h2 : ∀ i j, i < n → j < n → f i = f j → i = j) (c : Nat) (hc : c < n) : ∃ i, i < n ∧ f i = c := by
  apply Classical.byContradiction
  intro h
  have hne : ∀ i, i < n → f i ≠ c := fun i hi e => h ⟨i, hi, e⟩
  have := ct_inj (n - 1) n (fun i => if f i < c then f i else f i - 1) (by
    intro i hi
    have a := h1 i hi
    have b := hne i hi
    show (if f i < c then f i else f i - 1) < n - 1
    by_cases d : f i < c
    · rw [if_pos d]; omega
    · rw [if_neg d]; omega) (by
    intro i j hi hj e
    have e : (if f i < c then f i else f i - 1) = (if f j < c then f j else f j - 1) := e
    have a := hne i hi
    have b := hne j hj
    apply h2 i j hi hj
    by_cases ci : f i < c
    · rw [if_pos ci] at e
      by_cases cj : f j < c
      · rw [if_pos cj] at e; exact e
      · rw [if_neg cj] at e; omega
    · rw [if_neg ci] at e
      by_cases cj : f j < c
      · rw [if_pos cj] at e; omega
      · rw [if_neg cj] at e; omega)
  omega
end
section
/-! situations: agreement on words up to a length, for ever, and the bound -/
def mo_E (lab : Nat → Int32) (go : Nat → Nat → Nat) (L : Nat) : Nat → Nat → Nat → Prop
  | 0 => fun u v => lab u = lab v
  | j + 1 => fun u v => mo_E lab go L j u v ∧ ∀ a, a < L → mo_E lab go L j (go u a) (go v a)
def mo_Q (lab : Nat → Int32) (go : Nat → Nat → Nat) (L : Nat) (u v : Nat) : Prop := ∀ j, mo_E lab go L j u v
section
variable {lab : Nat → Int32} {go : Nat → Nat → Nat} {L : Nat}
theorem mo_E_refl : ∀ j u, mo_E lab go L j u u
  | 0, _ => rfl
  | j + 1, u => ⟨mo_E_refl j u, fun a _ => mo_E_refl j _⟩
theorem mo_E_symm : ∀ j u v, mo_E lab go L j u v → mo_E lab go L j v u
  | 0, _, _, h => Eq.symm h
  | j + 1, u, v, h => ⟨mo_E_symm j u v h.1, fun a ha => mo_E_symm j _ _ (h.2 a ha)⟩
theorem mo_E_trans : ∀ j u v w, mo_E lab go L j u v → mo_E lab go L j v w → mo_E lab go L j u w
  | 0, _, _, _, h, k => Eq.trans h k
  | j + 1, u, v, w, h, k => ⟨mo_E_trans j u v w h.1 k.1, fun a ha => mo_E_trans j _ _ _ (h.2 a ha) (k.2 a ha)⟩
theorem mo_E_le {i j u v : Nat} (hij : i ≤ j) (h : mo_E lab go L j u v) : mo_E lab go L i u v := by
  induction j with
  | zero => have : i = 0 := by omega
            subst this; exact h
  | succ j ih =>
    by_cases e : i = j + 1
    · subst e; exact h
    · exact ih (by omega) h.1
theorem mo_Q_refl (u : Nat) : mo_Q lab go L u u := fun j => mo_E_refl j u
theorem mo_Q_symm {u v : Nat} (h : mo_Q lab go L u v) : mo_Q lab go L v u := fun j => mo_E_symm j u v (h j)
theorem mo_Q_trans {u v w : Nat} (h : mo_Q lab go L u v) (k : mo_Q lab go L v w) : mo_Q lab go L u w := fun j => mo_E_trans j u v w (h j) (k j)
theorem mo_Q_lab {u v : Nat} (h : mo_Q lab go L u v) : lab u = lab v := h 0
theorem mo_Q_go {u v a : Nat} (h : mo_Q lab go L u v) (ha : a < L) : mo_Q lab go L (go u a) (go v a) := fun j => (h (j + 1)).2 a ha
/-- what is kept by labels and steps is agreement for ever -/
theorem mo_Q_co (S : Nat → Nat → Prop) (h : ∀ u v, S u v → lab u = lab v ∧ ∀ a, a < L → S (go u a) (go v a)) {u v : Nat} (s : S u v) : mo_Q lab go L u v := by
  have : ∀ j u v, S u v → mo_E lab go L j u v := by
    intro j
    induction j with
    | zero => intro u v s; exact (h u v s).1
    | succ j ih => intro u v s; exact ⟨ih u v s, fun a ha => ih _ _ ((h u v s).2 a ha)⟩
  exact fun j => this j u v s
/-- N situations: words up to N letters tell all that differ -/
theorem mo_bound (N : Nat) (hN : 0 < N) (hg : ∀ u a, u < N → a < L → go u a < N) {u v : Nat} (hu : u < N) (hv : v < N) (h : mo_E lab go L N u v) : mo_Q lab go L u v := by
  obtain ⟨j, hj, hst⟩ := ct_iter N N (fun j u => ∀ v, v < u → ¬ mo_E lab go L j u v)
    (ct_pos N 0 hN (fun v hv => absurd hv (by omega)))
    (fun j i _ ha v hv he => ha v hv he.1) (Nat.le_refl N)
  -- least equal situation below or at u
  have least : ∀ m u, ∃ w, w ≤ u ∧ mo_E lab go L m u w ∧ ∀ x, x < w → ¬ mo_E lab go L m w x := by
    intro m u
    induction u using Nat.strongRecOn with
    | ind u ih =>
      by_cases c : ∃ x, x < u ∧ mo_E lab go L m u x
      · obtain ⟨x, hx, e⟩ := c
        obtain ⟨w, hw, e2, hl⟩ := ih x hx
        exact ⟨w, by omega, mo_E_trans m _ _ _ e e2, hl⟩
      · exact ⟨u, Nat.le_refl _, mo_E_refl m u, fun x hx e => c ⟨x, hx, e⟩⟩
  have step : ∀ u v, u < N → v < N → mo_E lab go L j u v → mo_E lab go L (j + 1) u v := by
    intro u v hu hv e
    obtain ⟨p, hp, ep, lp⟩ := least (j + 1) u
    obtain ⟨q, hq, eq, lq⟩ := least (j + 1) v
    have lp' := hst p (by omega) lp
    have lq' := hst q (by omega) lq
    have epq : mo_E lab go L j p q := mo_E_trans j _ _ _ (mo_E_symm j _ _ ep.1) (mo_E_trans j _ _ _ e eq.1)
    have hpq : p = q := by
      rcases Nat.lt_trichotomy p q with c | c | c
      · exact absurd (mo_E_symm j _ _ epq) (lq' p c)
      · exact c
      · exact absurd epq (lp' q c)
    subst hpq
    exact mo_E_trans (j + 1) _ _ _ ep (mo_E_symm (j + 1) _ _ eq)
  have all : ∀ d u v, u < N → v < N → mo_E lab go L j u v → mo_E lab go L (j + d) u v := by
    intro d
    induction d with
    | zero => intro u v _ _ e; exact e
    | succ d ih =>
      intro u v hu hv e
      have e1 := step u v hu hv e
      exact ⟨ih u v hu hv e, fun a ha => ih _ _ (hg u a hu ha) (hg v a hv ha) (e1.2 a ha)⟩
  intro m
  have e := mo_E_le (i := j) (by omega) h
  have e2 := all m u v hu hv e
  exact mo_E_le (by omega) e2
end
end
section
/-! the reference's edge, atom, moves as pure functions over places; what they find, by depths -/
def gr_w (t : Nat) : Int := if t = 16 then 1 else if t = 17 then -1 else 0
theorem gr_w16 {t : Nat} (h : t = 16) : gr_w t = 1 := if_pos h
theorem gr_w17 {t : Nat} (h : t = 17) : gr_w t = -1 := by subst h; rfl
theorem gr_w0 {t : Nat} (h : t ≠ 16) (k : t ≠ 17) : gr_w t = 0 := by
  unfold gr_w
  rw [if_neg h, if_neg k]
def gr_eR (t : Nat → Nat) : Nat → Nat → Nat → Nat
  | 0, q, _ => q
  | n + 1, q, d => if t q = 0 then q else if d = 0 ∧ t q = 17 then q else gr_eR t n (q + 1) (if t q = 16 then d + 1 else if t q = 17 then d - 1 else d)
def gr_eL (t : Nat → Nat) : Nat → Nat → Nat → Nat
  | 0, q, _ => q
  | n + 1, q, d => if t q = 0 then q else if d = 0 ∧ t q = 16 then q else gr_eL t n (q - 1) (if t q = 16 then d - 1 else if t q = 17 then d + 1 else d)
def gr_sk (t : Nat → Nat) : Nat → Nat → Nat
  | 0, q => q
  | n + 1, q => if 19 ≤ t q ∧ t q ≤ 21 then gr_sk t n (q - 1) else q
def gr_at (t : Nat → Nat) (p : Nat) : Nat := if t (gr_sk t 25 (p - 1)) = 17 then gr_eL t 25 (gr_sk t 25 (p - 1) - 1) 0 else gr_sk t 25 (p - 1)
def gr_mv (t : Nat → Nat) (g h : Nat) : Prop :=
  if 16 ≤ t g ∧ t g ≠ 18 ∧ h = g + 1 then True
  else if t g = 18 then gr_eR t 25 (g + 1) 0 = h
  else if t g = 19 ∨ t g = 20 then gr_at t g = h
  else if t g = 16 ∧ t (h - 1) = 18 then gr_eL t 25 (h - 1 - 1) 0 = g
  else if t (h - 1) = 19 ∨ t (h - 1) = 21 then gr_at t (h - 1) = g
  else False
/-- a finished row at [b, n), with its depths -/
def gr_H (t : Nat → Nat) (D : Nat → Int) (b n : Nat) : Prop :=
  (1 ≤ b ∧ b < n ∧ n ≤ b + 24) ∧ (t (b - 1) = 0 ∧ ∀ p, n ≤ p → p ≤ b + 24 → t p = 0) ∧
  (∀ p, b ≤ p → p < n → 1 ≤ t p ∧ t p ≤ 22) ∧
  (∀ p, b ≤ p → p < n → D (p + 1) = D p + gr_w (t p)) ∧
  (∀ p, b ≤ p → p ≤ n → 0 ≤ D p) ∧ (D b = 0 ∧ D n = 0) ∧
  (∀ p, b ≤ p → p < n → 17 ≤ t p → t p ≤ 21 → b < p ∧ t (p - 1) ≠ 16 ∧ t (p - 1) ≠ 18) ∧
  (t (n - 1) ≠ 16 ∧ t (n - 1) ≠ 18)
def gr_Cl (t : Nat → Nat) (D : Nat → Int) (n g c : Nat) : Prop := g < c ∧ c ≤ n ∧ D c = D g ∧ (∀ x, g ≤ x → x ≤ c → D g ≤ D x) ∧ (c < n → t c = 17)
def gr_En (t : Nat → Nat) (D : Nat → Int) (o p : Nat) : Prop := o < p ∧ t o = 16 ∧ D o + 1 = D p ∧ ∀ x, o < x → x ≤ p → D p ≤ D x
def gr_At (t : Nat → Nat) (D : Nat → Int) (b a g : Nat) : Prop := b ≤ a ∧ a < g ∧ D a = D g ∧ ¬ (19 ≤ t a ∧ t a ≤ 21) ∧ ∀ x, a < x → x ≤ g → D a ≤ D x ∧ (D x = D a → 19 ≤ t x ∧ t x ≤ 21)
def gr_M (t : Nat → Nat) (D : Nat → Int) (b n g h : Nat) : Prop :=
  (16 ≤ t g ∧ t g ≠ 18 ∧ h = g + 1) ∨ (t g = 18 ∧ gr_Cl t D n g h) ∨ ((t g = 19 ∨ t g = 20) ∧ gr_At t D b h g) ∨
  (t g = 16 ∧ t (h - 1) = 18 ∧ gr_En t D g (h - 1)) ∨ ((t (h - 1) = 19 ∨ t (h - 1) = 21) ∧ gr_At t D b g (h - 1))
section
variable {t : Nat → Nat} {D : Nat → Int} {b n : Nat}
theorem gr_nz (H : gr_H t D b n) {p : Nat} (h1 : b ≤ p) (h2 : p ≤ n) (h : t p = 0) : p = n := by
  apply Classical.byContradiction
  intro c
  have := (H.2.2.1 p h1 (by omega)).1
  omega
theorem gr_tn (H : gr_H t D b n) : t n = 0 := H.2.1.2 n (Nat.le_refl _) H.1.2.2
theorem gr_Cl_u (H : gr_H t D b n) {g c c' : Nat} (hg : b ≤ g) (h : gr_Cl t D n g c) (h' : gr_Cl t D n g c') : c = c' := by
  have key : ∀ c c', gr_Cl t D n g c → gr_Cl t D n g c' → ¬ c < c' := by
    intro c c' h h' lt
    have e := h.2.2.2.2 (by have := h'.2.1; omega)
    have d := H.2.2.2.1 c (by have := h.1; omega) (by have := h'.2.1; omega)
    rw [gr_w17 e] at d
    have := h'.2.2.2.1 (c + 1) (by have := h.1; omega) (by omega)
    have := h.2.2.1
    omega
  rcases Nat.lt_trichotomy c c' with k | k | k
  · exact absurd k (key c c' h h')
  · exact k
  · exact absurd k (key c' c h' h)
theorem gr_En_u {o o' p : Nat} (h : gr_En t D o p) (h' : gr_En t D o' p) : o = o' := by
  have key : ∀ o o', gr_En t D o p → gr_En t D o' p → ¬ o < o' := by
    intro o o' h h' lt
    have := h.2.2.2 o' lt (by have := h'.1; omega)
    have := h'.2.2.1
    omega
  rcases Nat.lt_trichotomy o o' with k | k | k
  · exact absurd k (key o o' h h')
  · exact k
  · exact absurd k (key o' o h' h)
theorem gr_At_u {a a' g : Nat} (h : gr_At t D b a g) (h' : gr_At t D b a' g) : a = a' := by
  have key : ∀ a a', gr_At t D b a g → gr_At t D b a' g → ¬ a < a' := by
    intro a a' h h' lt
    have := (h.2.2.2.2 a' lt (by have := h'.2.1; omega)).2 (by rw [h'.2.2.1, h.2.2.1])
    exact h'.2.2.2.1 this
  rcases Nat.lt_trichotomy a a' with k | k | k
  · exact absurd k (key a a' h h')
  · exact k
  · exact absurd k (key a' a h' h)
/-- where an atom begins: a leaf, EMPTY, or an opening bracket -/
theorem gr_At_t (H : gr_H t D b n) {a g : Nat} (hg : g < n) (h : gr_At t D b a g) : t a ≠ 17 ∧ t a ≠ 18 := by
  have hb := h.1
  have hl := h.2.1
  have hx := h.2.2.2.2 (a + 1) (by omega) (by omega)
  have d := H.2.2.2.1 a hb (by omega)
  constructor
  · intro e
    rw [gr_w17 e] at d
    omega
  · intro e
    rw [gr_w0 (by omega) (by omega)] at d
    have s := hx.2 (by omega)
    have v := H.2.2.2.2.2.2.1 (a + 1) (by omega) (by omega) (by omega) (by omega)
    exact v.2.2 (by rw [Nat.add_sub_cancel]; exact e)
theorem gr_eR_s (H : gr_H t D b n) {g : Nat} (hg : b ≤ g) : ∀ (f q d : Nat), g < q → q ≤ n → n - q < f → (d : Int) = D q - D g → (∀ x, g ≤ x → x ≤ q → D g ≤ D x) → gr_Cl t D n g (gr_eR t f q d) := by
  intro f
  induction f with
  | zero => intro q d _ _ h; omega
  | succ f ih =>
    intro q d h1 h2 h3 hd hx
    unfold gr_eR
    by_cases c0 : t q = 0
    · rw [if_pos c0]
      have e := gr_nz H (by omega) h2 c0
      subst e
      have a := hx q (by omega) (Nat.le_refl _)
      have b0 := H.2.2.2.2.1 g hg (by omega)
      have c1 := H.2.2.2.2.2.1.2
      exact ⟨h1, h2, by omega, hx, fun l => by omega⟩
    · rw [if_neg c0]
      have hq : q < n := by
        rcases Nat.lt_or_ge q n with k | k
        · exact k
        · exact absurd (by have : q = n := by omega
                           rw [this]; exact gr_tn H) c0
      by_cases c1 : d = 0 ∧ t q = 17
      · rw [if_pos c1]
        exact ⟨h1, h2, by omega, hx, fun _ => c1.2⟩
      · rw [if_neg c1]
        have ds := H.2.2.2.1 q (by omega) hq
        have key : (((if t q = 16 then d + 1 else if t q = 17 then d - 1 else d : Nat) : Int) = D (q + 1) - D g) ∧ D g ≤ D (q + 1) := by
          by_cases c16 : t q = 16
          · rw [gr_w16 c16] at ds
            rw [if_pos c16]
            omega
          · by_cases c17 : t q = 17
            · rw [gr_w17 c17] at ds
              rw [if_neg c16, if_pos c17]
              have : d ≠ 0 := fun e => c1 ⟨e, c17⟩
              omega
            · rw [gr_w0 c16 c17] at ds
              rw [if_neg c16, if_neg c17]
              omega
        refine ih (q + 1) _ (by omega) (by omega) (by omega) key.1 ?_
        intro x l1 l2
        by_cases e : x = q + 1
        · rw [e]; exact key.2
        · exact hx x l1 (by omega)
theorem gr_eR_bar (H : gr_H t D b n) {g : Nat} (hg : b ≤ g) (hn : g < n) (h : t g = 18) : gr_Cl t D n g (gr_eR t 25 (g + 1) 0) := by
  have d := H.2.2.2.1 g hg hn
  rw [gr_w0 (by omega) (by omega)] at d
  refine gr_eR_s H hg 25 (g + 1) 0 (by omega) (by omega) (by have := H.1; omega) (by omega) ?_
  intro x l1 l2
  have : x = g ∨ x = g + 1 := by omega
  rcases this with e | e <;> subst e <;> omega
theorem gr_eL_s (H : gr_H t D b n) {p : Nat} (hp : p ≤ n) : ∀ (f q d : Nat), b ≤ q + 1 → q < p → q + 1 - b < f → (d : Int) = D (q + 1) - D p → (∀ x, q < x → x ≤ p → D p ≤ D x) → (b ≤ gr_eL t f q d ∧ gr_En t D (gr_eL t f q d) p) ∨ (gr_eL t f q d + 1 = b ∧ D p = 0) := by
  intro f
  induction f with
  | zero => intro q d _ _ h; omega
  | succ f ih =>
    intro q d h1 h2 h3 hd hx
    unfold gr_eL
    by_cases c0 : t q = 0
    · rw [if_pos c0]
      right
      have e : q + 1 = b := by
        rcases Nat.lt_or_ge q b with k | k
        · omega
        · have := (H.2.2.1 q k (by omega)).1; omega
      have a := hx b (by omega) (by omega)
      have z := H.2.2.2.2.2.1.1
      have b0 := H.2.2.2.2.1 p (by omega) hp
      exact ⟨e, by omega⟩
    · rw [if_neg c0]
      have hq : b ≤ q := by
        rcases Nat.lt_or_ge q b with k | k
        · exact absurd (by have : q = b - 1 := by omega
                           rw [this]; exact H.2.1.1) c0
        · exact k
      have ds := H.2.2.2.1 q hq (by omega)
      by_cases c1 : d = 0 ∧ t q = 16
      · rw [if_pos c1]
        left
        rw [gr_w16 c1.2] at ds
        exact ⟨hq, h2, c1.2, by omega, hx⟩
      · rw [if_neg c1]
        have key : (((if t q = 16 then d - 1 else if t q = 17 then d + 1 else d : Nat) : Int) = D q - D p) ∧ D p ≤ D q := by
          by_cases c16 : t q = 16
          · rw [gr_w16 c16] at ds
            rw [if_pos c16]
            have : d ≠ 0 := fun e => c1 ⟨e, c16⟩
            omega
          · by_cases c17 : t q = 17
            · rw [gr_w17 c17] at ds
              rw [if_neg c16, if_pos c17]
              omega
            · rw [gr_w0 c16 c17] at ds
              rw [if_neg c16, if_neg c17]
              omega
        have hb := H.1.1
        refine ih (q - 1) _ (by omega) (by omega) (by omega) (by rw [show q - 1 + 1 = q by omega]; exact key.1) ?_
        intro x l1 l2
        by_cases e : x = q
        · rw [e]; exact key.2
        · exact hx x (by omega) l2
theorem gr_eL_at (H : gr_H t D b n) {p : Nat} (hb : b ≤ p) (hp : p ≤ n) (h1 : b < p ∨ True) : (b ≤ gr_eL t 25 (p - 1) 0 ∧ gr_En t D (gr_eL t 25 (p - 1) 0) p) ∨ (gr_eL t 25 (p - 1) 0 + 1 = b ∧ D p = 0) := by
  have hb1 := H.1
  refine gr_eL_s H hp 25 (p - 1) 0 (by omega) (by omega) (by omega) (by rw [show p - 1 + 1 = p by omega]; simp) ?_
  intro x l1 l2
  have : x = p := by omega
  rw [this]; exact Int.le_refl _
theorem gr_sk_s (H : gr_H t D b n) {g : Nat} (hg : g < n) : ∀ f q, b ≤ q → q < g → q - b < f → (∀ x, q < x → x ≤ g → 19 ≤ t x ∧ t x ≤ 21) → b ≤ gr_sk t f q ∧ gr_sk t f q ≤ q ∧ ¬ (19 ≤ t (gr_sk t f q) ∧ t (gr_sk t f q) ≤ 21) ∧ ∀ x, gr_sk t f q < x → x ≤ g → 19 ≤ t x ∧ t x ≤ 21 := by
  intro f
  induction f with
  | zero => intro q _ _ h; omega
  | succ f ih =>
    intro q h1 h2 h3 hx
    unfold gr_sk
    by_cases c : 19 ≤ t q ∧ t q ≤ 21
    · rw [if_pos c]
      have v := H.2.2.2.2.2.2.1 q h1 (by omega) (by omega) (by omega)
      have r := ih (q - 1) (by omega) (by omega) (by omega) (fun x l1 l2 => by
        by_cases e : x = q
        · rw [e]; exact c
        · exact hx x (by omega) l2)
      exact ⟨r.1, by omega, r.2.2.1, r.2.2.2⟩
    · rw [if_neg c]
      exact ⟨h1, Nat.le_refl _, c, hx⟩
theorem gr_flat (H : gr_H t D b n) {r g : Nat} (hb : b ≤ r) (hg : g < n) (hx : ∀ x, r < x → x ≤ g → 19 ≤ t x ∧ t x ≤ 21) : ∀ x, r < x → x ≤ g → D x = D (r + 1) := by
  intro x
  induction x with
  | zero => intro h; omega
  | succ x ih =>
    intro h1 h2
    by_cases e : x = r
    · subst e; rfl
    · have a := ih (by omega) (by omega)
      have c := hx x (by omega) (by omega)
      have d := H.2.2.2.1 x (by omega) (by omega)
      rw [gr_w0 (by omega) (by omega)] at d
      omega
theorem gr_at_s (H : gr_H t D b n) {g : Nat} (hb : b ≤ g) (hg : g < n) (hs : 19 ≤ t g ∧ t g ≤ 21) : gr_At t D b (gr_at t g) g := by
  have v := H.2.2.2.2.2.2.1 g hb hg (by omega) (by omega)
  have hn := H.1
  have k := gr_sk_s H hg 25 (g - 1) (by omega) (by omega) (by omega) (fun x l1 l2 => by
    have : x = g := by omega
    rw [this]; exact hs)
  unfold gr_at
  generalize gr_sk t 25 (g - 1) = r at k
  obtain ⟨k1, k2, k3, k4⟩ := k
  have fl := gr_flat H k1 hg k4
  have s1 := k4 (r + 1) (by omega) (by omega)
  have v1 := H.2.2.2.2.2.2.1 (r + 1) (by omega) (by omega) (by omega) (by omega)
  rw [Nat.add_sub_cancel] at v1
  have dg := fl g (by omega) (Nat.le_refl _)
  have dr := H.2.2.2.1 r k1 (by omega)
  have tr := H.2.2.1 r k1 (by omega)
  by_cases c : t r = 17
  · rw [if_pos c]
    rw [gr_w17 c] at dr
    have v2 := H.2.2.2.2.2.2.1 r k1 (by omega) (by omega) (by omega)
    have nn := H.2.2.2.2.1 (r + 1) (by omega) (by omega)
    rcases gr_eL_at H k1 (by omega) (Or.inr trivial) with e | e
    · generalize gr_eL t 25 (r - 1) 0 = a at e
      obtain ⟨e1, e2, e3, e4, e5⟩ := e
      refine ⟨e1, by omega, by omega, by omega, ?_⟩
      intro x l1 l2
      by_cases lx : x ≤ r
      · have := e5 x l1 lx
        exact ⟨by omega, fun z => by omega⟩
      · have := fl x (by omega) l2
        exact ⟨by omega, fun _ => k4 x (by omega) l2⟩
    · omega
  · rw [if_neg c]
    rw [gr_w0 v1.2.1 c] at dr
    refine ⟨k1, by omega, by omega, k3, ?_⟩
    intro x l1 l2
    have := fl x l1 l2
    exact ⟨by omega, fun _ => k4 x l1 l2⟩
/-- the reference's one move is the move by depths -/
theorem gr_mvM (H : gr_H t D b n) {g h : Nat} (hg : b ≤ g) (hgn : g < n) (hh : b ≤ h) (hhn : h ≤ n) : gr_mv t g h ↔ gr_M t D b n g h := by
  have hb1 := H.1
  have tb := H.2.1.1
  unfold gr_mv
  by_cases c1 : 16 ≤ t g ∧ t g ≠ 18 ∧ h = g + 1
  · rw [if_pos c1]
    exact ⟨fun _ => Or.inl c1, fun _ => trivial⟩
  rw [if_neg c1]
  by_cases c2 : t g = 18
  · rw [if_pos c2]
    constructor
    · intro e
      right; left
      rw [← e]
      exact ⟨c2, gr_eR_bar H hg hgn c2⟩
    · rintro (m | m | m | m | m)
      · exact absurd c2 m.2.1
      · exact gr_Cl_u H hg (gr_eR_bar H hg hgn c2) m.2
      · omega
      · omega
      · exact absurd c2 (gr_At_t H (by omega) m.2).2
  rw [if_neg c2]
  by_cases c3 : t g = 19 ∨ t g = 20
  · rw [if_pos c3]
    constructor
    · intro e
      right; right; left
      rw [← e]
      exact ⟨c3, gr_at_s H hg hgn (by omega)⟩
    · rintro (m | m | m | m | m)
      · exact absurd m c1
      · exact absurd m.1 c2
      · exact gr_At_u (gr_at_s H hg hgn (by omega)) m.2
      · omega
      · exact absurd (by omega) m.2.2.2.2.1
  rw [if_neg c3]
  by_cases c4 : t g = 16 ∧ t (h - 1) = 18
  · rw [if_pos c4]
    have hb2 : b ≤ h - 1 := by
      rcases Nat.lt_or_ge (h - 1) b with k | k
      · have : h - 1 = b - 1 := by omega
        rw [this] at c4; omega
      · exact k
    have s := gr_eL_at H hb2 (by omega) (Or.inr trivial)
    constructor
    · intro e
      right; right; right; left
      rw [e] at s
      rcases s with s | s
      · exact ⟨c4.1, c4.2, s.2⟩
      · omega
    · rintro (m | m | m | m | m)
      · exact absurd m c1
      · exact absurd m.1 c2
      · exact absurd m.1 c3
      · rcases s with s | s
        · exact gr_En_u s.2 m.2.2
        · have a := m.2.2.2.2.1
          have b0 := H.2.2.2.2.1 g hg (by omega)
          omega
      · omega
  rw [if_neg c4]
  by_cases c5 : t (h - 1) = 19 ∨ t (h - 1) = 21
  · rw [if_pos c5]
    have hb2 : b ≤ h - 1 := by
      rcases Nat.lt_or_ge (h - 1) b with k | k
      · have : h - 1 = b - 1 := by omega
        rw [this] at c5; omega
      · exact k
    have s := gr_at_s H hb2 (by omega) (by omega)
    constructor
    · intro e
      right; right; right; right
      rw [e] at s
      exact ⟨c5, s⟩
    · rintro (m | m | m | m | m)
      · exact absurd m c1
      · exact absurd m.1 c2
      · exact absurd m.1 c3
      · exact absurd ⟨m.1, m.2.1⟩ c4
      · exact gr_At_u s m.2
  rw [if_neg c5]
  constructor
  · intro e; exact e.elim
  · rintro (m | m | m | m | m)
    · exact absurd m c1
    · exact absurd m.1 c2
    · exact absurd m.1 c3
    · exact absurd ⟨m.1, m.2.1⟩ c4
    · exact absurd m.1 c5
/-- in the row's 25 places every move stays in [b, n], and starts below n -/
theorem gr_mvIn (H : gr_H t D b n) {g h : Nat} (hg : b ≤ g) (hgn : g ≤ b + 24) (hh : b ≤ h) (hhn : h ≤ b + 24) (m : gr_mv t g h) : g < n ∧ h ≤ n := by
  have hb1 := H.1
  have tb := H.2.1.1
  have g1 : g < n := by
    apply Classical.byContradiction
    intro c
    have tz := H.2.1.2 g (by omega) hgn
    unfold gr_mv at m
    rw [if_neg (by omega), if_neg (by omega), if_neg (by omega), if_neg (by omega)] at m
    by_cases c5 : t (h - 1) = 19 ∨ t (h - 1) = 21
    · rw [if_pos c5] at m
      have hb2 : b ≤ h - 1 := by
        rcases Nat.lt_or_ge (h - 1) b with k | k
        · have : h - 1 = b - 1 := by omega
          rw [this] at c5; omega
        · exact k
      have hn2 : h - 1 < n := by
        rcases Nat.lt_or_ge (h - 1) n with k | k
        · exact k
        · have := H.2.1.2 (h - 1) k (by omega); omega
      have s := gr_at_s H hb2 hn2 (by omega)
      rw [m] at s
      have := s.2.1
      omega
    · rw [if_neg c5] at m; exact m
  refine ⟨g1, ?_⟩
  apply Classical.byContradiction
  intro c
  have tz := H.2.1.2 (h - 1) (by omega) (by omega)
  unfold gr_mv at m
  by_cases c1 : 16 ≤ t g ∧ t g ≠ 18 ∧ h = g + 1
  · omega
  rw [if_neg c1] at m
  by_cases c2 : t g = 18
  · rw [if_pos c2] at m
    have := (gr_eR_bar H hg g1 c2).2.1
    omega
  rw [if_neg c2] at m
  by_cases c3 : t g = 19 ∨ t g = 20
  · rw [if_pos c3] at m
    have := (gr_at_s H hg g1 (by omega)).2.1
    omega
  rw [if_neg c3, if_neg (by omega), if_neg (by omega)] at m
  exact m
end
end
section
/-! least reachability inside a segment [s, e]: moves from g < e to h <= e -/
def gr_R (M : Nat → Nat → Prop) (s e x y : Nat) : Prop := ∀ S : Nat → Prop, S x → (∀ g h, s ≤ g → g < e → s ≤ h → h ≤ e → S g → M g h → S h) → S y
section
variable {M : Nat → Nat → Prop} {s e x y z : Nat}
theorem gr_R0 : gr_R M s e x x := fun _ h _ => h
theorem gr_R1 {g h : Nat} (r : gr_R M s e x g) (h1 : s ≤ g) (h2 : g < e) (h3 : s ≤ h) (h4 : h ≤ e) (m : M g h) : gr_R M s e x h := fun S h0 hs => hs g h h1 h2 h3 h4 (r S h0 hs) m
theorem gr_Rt (r : gr_R M s e x y) (k : gr_R M s e y z) : gr_R M s e x z := fun S h0 hs => k S (r S h0 hs) hs
theorem gr_Rm {s' e' : Nat} (h1 : s' ≤ s) (h2 : e ≤ e') (r : gr_R M s e x y) : gr_R M s' e' x y := fun S h0 hs => r S h0 (fun g h a b c d k m => hs g h (by omega) (by omega) (by omega) (by omega) k m)
theorem gr_Rc {M' : Nat → Nat → Prop} (hc : ∀ g h, s ≤ g → g < e → s ≤ h → h ≤ e → M g h → M' g h) (r : gr_R M s e x y) : gr_R M' s e x y := fun S h0 hs => r S h0 (fun g h a b c d k m => hs g h a b c d k (hc g h a b c d m))
theorem gr_Rin (h1 : s ≤ x) (h2 : x ≤ e) (r : gr_R M s e x y) : s ≤ y ∧ y ≤ e := r (fun y => s ≤ y ∧ y ≤ e) ⟨h1, h2⟩ (fun _ _ _ _ c d _ _ => ⟨c, d⟩)
theorem gr_Rend (r : gr_R M s e e y) : y = e := r (fun y => y = e) rfl (fun g h _ b _ _ k _ => by omega)
/-- two segments that meet at a, with no move over a and none back -/
theorem gr_j1 {a : Nat} (hs : s ≤ a) (he : a ≤ e) (cut : ∀ g h, s ≤ g → g < e → s ≤ h → h ≤ e → M g h → (g < a → h ≤ a) ∧ (a ≤ g → a ≤ h)) (h2 : x ≤ a) : gr_R M s e x y ↔ (y ≤ a ∧ gr_R M s a x y) ∨ (a ≤ y ∧ gr_R M s a x a ∧ gr_R M a e a y) := by
  constructor
  · intro r
    refine r (fun y => (y ≤ a ∧ gr_R M s a x y) ∨ (a ≤ y ∧ gr_R M s a x a ∧ gr_R M a e a y)) (Or.inl ⟨h2, gr_R0⟩) ?_
    rintro g h c1 c2 c3 c4 (⟨k1, k2⟩ | ⟨k1, k2, k3⟩) m
    · have q := cut g h c1 c2 c3 c4 m
      by_cases l : g < a
      · exact Or.inl ⟨q.1 l, gr_R1 k2 c1 l c3 (q.1 l) m⟩
      · have e1 : g = a := by omega
        subst e1
        exact Or.inr ⟨q.2 (Nat.le_refl _), k2, gr_R1 gr_R0 (Nat.le_refl _) c2 (q.2 (Nat.le_refl _)) c4 m⟩
    · have q := cut g h c1 c2 c3 c4 m
      exact Or.inr ⟨q.2 k1, k2, gr_R1 k3 k1 c2 (q.2 k1) c4 m⟩
  · rintro (⟨k1, k2⟩ | ⟨k1, k2, k3⟩)
    · exact gr_Rm (Nat.le_refl _) he k2
    · exact gr_Rt (gr_Rm (Nat.le_refl _) he k2) (gr_Rm hs (Nat.le_refl _) k3)
theorem gr_j2 {a : Nat} (hs : s ≤ a) (cut : ∀ g h, s ≤ g → g < e → s ≤ h → h ≤ e → M g h → (g < a → h ≤ a) ∧ (a ≤ g → a ≤ h)) (h2 : a ≤ x) : gr_R M s e x y ↔ a ≤ y ∧ gr_R M a e x y := by
  constructor
  · intro r
    refine r (fun y => a ≤ y ∧ gr_R M a e x y) ⟨h2, gr_R0⟩ ?_
    rintro g h c1 c2 c3 c4 ⟨k1, k2⟩ m
    have q := cut g h c1 c2 c3 c4 m
    exact ⟨q.2 k1, gr_R1 k2 k1 c2 (q.2 k1) c4 m⟩
  · rintro ⟨_, k⟩
    exact gr_Rm hs (Nat.le_refl _) k
/-- a suffix at i behind the atom [a, i): once more (rep), pass over (byp) -/
theorem gr_s1 {a i : Nat} {rep byp : Prop} (ha : a < i)
    (hin : ∀ g, a ≤ g → g ≤ i → (M g (i + 1) ↔ g = i ∨ (byp ∧ g = a)))
    (hout : ∀ h, a ≤ h → h ≤ i + 1 → (M i h ↔ h = i + 1 ∨ (rep ∧ h = a)))
    (h1 : a ≤ x) (h2 : x ≤ i) (hy : y ≤ i) : gr_R M a (i + 1) x y ↔ gr_R M a i x y ∨ (rep ∧ gr_R M a i x i ∧ gr_R M a i a y) := by
  constructor
  · intro r
    have k := r (fun y => y ≤ i → gr_R M a i x y ∨ (rep ∧ gr_R M a i x i ∧ gr_R M a i a y)) (fun _ => Or.inl gr_R0) ?_
    · exact k hy
    · intro g h c1 c2 c3 c4 k m hi
      by_cases gi : g = i
      · subst gi
        rcases (hout h c3 c4).mp m with e | ⟨p, e⟩
        · omega
        · subst e
          rcases k (Nat.le_refl _) with q | ⟨_, q, _⟩
          · exact Or.inr ⟨p, q, gr_R0⟩
          · exact Or.inr ⟨p, q, gr_R0⟩
      · rcases k (by omega) with q | ⟨p, q, q2⟩
        · exact Or.inl (gr_R1 q c1 (by omega) c3 hi m)
        · exact Or.inr ⟨p, q, gr_R1 q2 c1 (by omega) c3 hi m⟩
  · rintro (q | ⟨p, q, q2⟩)
    · exact gr_Rm (Nat.le_refl _) (by omega) q
    · have s1 := gr_Rm (s' := a) (e' := i + 1) (Nat.le_refl _) (by omega) q
      have s2 := gr_R1 s1 (by omega) (by omega) (Nat.le_refl a) (by omega) ((hout a (Nat.le_refl _) (by omega)).mpr (Or.inr ⟨p, rfl⟩))
      exact gr_Rt s2 (gr_Rm (Nat.le_refl _) (by omega) q2)
theorem gr_s2 {a i : Nat} {rep byp : Prop} (ha : a < i)
    (hin : ∀ g, a ≤ g → g ≤ i → (M g (i + 1) ↔ g = i ∨ (byp ∧ g = a)))
    (hout : ∀ h, a ≤ h → h ≤ i + 1 → (M i h ↔ h = i + 1 ∨ (rep ∧ h = a)))
    (h1 : a ≤ x) (h2 : x ≤ i) : gr_R M a (i + 1) x (i + 1) ↔ gr_R M a i x i ∨ (byp ∧ gr_R M a i x a) := by
  constructor
  · intro r
    have k := r (fun y => (y ≤ i ∧ gr_R M a (i + 1) x y) ∨ (y = i + 1 ∧ (gr_R M a i x i ∨ (byp ∧ gr_R M a i x a)))) (Or.inl ⟨h2, gr_R0⟩) ?_
    · rcases k with k | k
      · omega
      · exact k.2
    · rintro g h c1 c2 c3 c4 (⟨k1, k2⟩ | ⟨k1, k2⟩) m
      · by_cases hi : h ≤ i
        · exact Or.inl ⟨hi, gr_R1 k2 c1 c2 c3 c4 m⟩
        · have e : h = i + 1 := by omega
          subst e
          refine Or.inr ⟨rfl, ?_⟩
          rcases (hin g c1 (by omega)).mp m with e | ⟨p, e⟩
          · subst e
            rcases (gr_s1 ha hin hout h1 h2 (Nat.le_refl _)).mp k2 with q | q
            · exact Or.inl q
            · exact Or.inl q.2.1
          · subst e
            rcases (gr_s1 ha hin hout h1 h2 (by omega)).mp k2 with q | q
            · exact Or.inr ⟨p, q⟩
            · exact Or.inl q.2.1
      · omega
  · rintro (q | ⟨p, q⟩)
    · exact gr_R1 (gr_Rm (Nat.le_refl _) (by omega) q) (by omega) (by omega) (by omega) (Nat.le_refl _) ((hin i (by omega) (Nat.le_refl _)).mpr (Or.inl rfl))
    · exact gr_R1 (gr_Rm (Nat.le_refl _) (by omega) q) (Nat.le_refl _) (by omega) (by omega) (Nat.le_refl _) ((hin a (Nat.le_refl _) (by omega)).mpr (Or.inr ⟨p, rfl⟩))
/-- a branch [b, e] of the group (o, c): from inside one stays, or leaves by its end to c -/
theorem gr_b1 {lo c b : Nat} (hb : lo ≤ b) (hec : e ≤ c)
    (h1 : ∀ g h, b ≤ g → g < e → lo ≤ h → h ≤ c → M g h → b ≤ h ∧ h ≤ e)
    (h2 : e < c → ∀ h, lo ≤ h → h ≤ c → (M e h ↔ h = c))
    (hx1 : b ≤ x) (hx2 : x ≤ e) : gr_R M lo c x y ↔ (b ≤ y ∧ y ≤ e ∧ gr_R M b e x y) ∨ (y = c ∧ gr_R M b e x e) := by
  constructor
  · intro r
    refine r (fun y => (b ≤ y ∧ y ≤ e ∧ gr_R M b e x y) ∨ (y = c ∧ gr_R M b e x e)) (Or.inl ⟨hx1, hx2, gr_R0⟩) ?_
    rintro g h c1 c2 c3 c4 (⟨k1, k2, k3⟩ | ⟨k1, k2⟩) m
    · by_cases l : g < e
      · have q := h1 g h k1 l c3 c4 m
        exact Or.inl ⟨q.1, q.2, gr_R1 k3 k1 l q.1 q.2 m⟩
      · have e1 : g = e := by omega
        subst e1
        exact Or.inr ⟨(h2 c2 h c3 c4).mp m, k3⟩
    · omega
  · rintro (⟨k1, k2, k3⟩ | ⟨k1, k2⟩)
    · exact gr_Rm hb hec k3
    · subst k1
      have q := gr_Rm (s' := lo) (e' := y) hb hec k2
      by_cases l : e < y
      · exact gr_R1 q (by omega) l (by omega) (Nat.le_refl _) ((h2 l y (by omega) (Nat.le_refl _)).mpr rfl)
      · have : e = y := by omega
        rw [← this]; rw [← this] at q; exact q
/-- the same inside the closed group [o, c] as an atom [o, c + 1) -/
theorem gr_g1 {o c b : Nat} (hob : o < b) (hec : e ≤ c)
    (h1 : ∀ g h, b ≤ g → g < e → o ≤ h → h ≤ c + 1 → M g h → b ≤ h ∧ h ≤ e)
    (h2 : e < c → ∀ h, o ≤ h → h ≤ c + 1 → (M e h ↔ h = c))
    (h3 : ∀ h, o ≤ h → h ≤ c + 1 → (M c h ↔ h = c + 1))
    (hx1 : b ≤ x) (hx2 : x ≤ e) : gr_R M o (c + 1) x y ↔ (b ≤ y ∧ y ≤ e ∧ gr_R M b e x y) ∨ ((y = c ∨ y = c + 1) ∧ gr_R M b e x e) := by
  constructor
  · intro r
    refine r (fun y => (b ≤ y ∧ y ≤ e ∧ gr_R M b e x y) ∨ ((y = c ∨ y = c + 1) ∧ gr_R M b e x e)) (Or.inl ⟨hx1, hx2, gr_R0⟩) ?_
    rintro g h c1 c2 c3 c4 (⟨k1, k2, k3⟩ | ⟨k1, k2⟩) m
    · by_cases l : g < e
      · have q := h1 g h k1 l c3 c4 m
        exact Or.inl ⟨q.1, q.2, gr_R1 k3 k1 l q.1 q.2 m⟩
      · have e1 : g = e := by omega
        subst e1
        by_cases l2 : g < c
        · exact Or.inr ⟨Or.inl ((h2 l2 h c3 c4).mp m), k3⟩
        · have e2 : g = c := by omega
          subst e2
          exact Or.inr ⟨Or.inr ((h3 h c3 c4).mp m), k3⟩
    · have e2 : g = c := by omega
      subst e2
      exact Or.inr ⟨Or.inr ((h3 h c3 c4).mp m), k2⟩
  · have toc : gr_R M b e x e → gr_R M o (c + 1) x c := by
      intro k2
      have q := gr_Rm (s' := o) (e' := c + 1) (by omega) (by omega) k2
      by_cases l : e < c
      · exact gr_R1 q (by omega) (by omega) (by omega) (by omega) ((h2 l c (by omega) (by omega)).mpr rfl)
      · have : e = c := by omega
        rw [this] at q; exact q
    rintro (⟨k1, k2, k3⟩ | ⟨k1 | k1, k2⟩)
    · exact gr_Rm (by omega) (by omega) k3
    · subst k1; exact toc k2
    · subst k1
      exact gr_R1 (toc k2) (by omega) (by omega) (by omega) (Nat.le_refl _) ((h3 (c + 1) (by omega) (Nat.le_refl _)).mpr rfl)
theorem gr_g2 {o c : Nat} {St : Nat → Prop} (hoc : o ≤ c) (h0 : ∀ h, o ≤ h → h ≤ c + 1 → (M o h ↔ St h)) (hs : ∀ b, St b → o < b ∧ b ≤ c) : gr_R M o (c + 1) o y ↔ y = o ∨ ∃ b, St b ∧ gr_R M o (c + 1) b y := by
  constructor
  · intro r
    refine r (fun y => y = o ∨ ∃ b, St b ∧ gr_R M o (c + 1) b y) (Or.inl rfl) ?_
    rintro g h c1 c2 c3 c4 (k | ⟨b, k1, k2⟩) m
    · subst k
      exact Or.inr ⟨h, (h0 h c3 c4).mp m, gr_R0⟩
    · exact Or.inr ⟨b, k1, gr_R1 k2 c1 c2 c3 c4 m⟩
  · rintro (k | ⟨b, k1, k2⟩)
    · subst k; exact gr_R0
    · have q := hs b k1
      exact gr_Rt (gr_R1 gr_R0 (Nat.le_refl _) (by omega) (by omega) (by omega) ((h0 b (by omega) (by omega)).mpr k1)) k2
end
end
section
/-! moves by depths, inside segments of a finished row -/
/-- a branch [b, e] of the group whose content begins at lo, at depth d -/
def gr_Br (t : Nat → Nat) (D : Nat → Int) (lo : Nat) (d : Int) (b e : Nat) : Prop := lo ≤ b ∧ b ≤ e ∧ (b = lo ∨ (lo < b ∧ t (b - 1) = 18 ∧ D (b - 1) = d)) ∧ D b = d ∧ D e = d ∧ ∀ x, b ≤ x → x < e → D x = d → t x ≠ 18
section
variable {t : Nat → Nat} {D : Nat → Int} {B n : Nat}
theorem gr_cut (H : gr_H t D B n) {s a e : Nat} {d : Int} (hB : B ≤ s) (hsa : s ≤ a) (he : e ≤ n) (hd : ∀ x, s ≤ x → x ≤ e → d ≤ D x) (ha : D a = d) (hna : a < e → ¬ (19 ≤ t a ∧ t a ≤ 21)) (hbar : ∀ x, s ≤ x → x < e → D x = d → t x ≠ 18) : ∀ g h, s ≤ g → g < e → s ≤ h → h ≤ e → gr_M t D B n g h → (g < a → h ≤ a) ∧ (a ≤ g → a ≤ h) := by
  intro g h c1 c2 c3 c4 m
  rcases m with m | m | m | m | m
  · exact ⟨fun _ => by omega, fun _ => by omega⟩
  · refine ⟨fun l => ?_, fun l => ?_⟩
    · apply Classical.byContradiction
      intro c
      have q := m.2.2.2.2.1 a (by omega) (by omega)
      have q2 := hd g c1 (by omega)
      exact hbar g c1 c2 (by omega) m.1
    · have := m.2.1; omega
  · have q := m.2.2.1
    refine ⟨fun l => by omega, fun l => ?_⟩
    apply Classical.byContradiction
    intro c
    have q2 := m.2.2.2.2.2 a (by omega) (by omega)
    have q3 := hd h c3 (by omega)
    exact hna (by omega) (q2.2 (by omega))
  · have q := m.2.2.1
    refine ⟨fun l => ?_, fun l => by omega⟩
    apply Classical.byContradiction
    intro c
    have q2 := m.2.2.2.2.2 a (by omega) (by omega)
    have q3 := m.2.2.2.2.1
    have q4 := hd g c1 (by omega)
    omega
  · have q := m.2.2.1
    refine ⟨fun l => ?_, fun l => by omega⟩
    apply Classical.byContradiction
    intro c
    have q2 := m.2.2.2.2.2 a (by omega) (by omega)
    have q3 := hd g c1 (by omega)
    exact hna (by omega) (q2.2 (by omega))
theorem gr_suf (H : gr_H t D B n) {a i : Nat} (hi : i < n) (A : gr_At t D B a i) (hs : 19 ≤ t i ∧ t i ≤ 21) :
    (∀ g, a ≤ g → g ≤ i → (gr_M t D B n g (i + 1) ↔ g = i ∨ ((t i = 19 ∨ t i = 21) ∧ g = a))) ∧
    (∀ h, a ≤ h → h ≤ i + 1 → (gr_M t D B n i h ↔ h = i + 1 ∨ ((t i = 19 ∨ t i = 20) ∧ h = a))) := by
  have hB := A.1
  have ht := gr_At_t H hi A
  have di := H.2.2.2.1 i (by have := A.2.1; omega) hi
  rw [gr_w0 (by omega) (by omega)] at di
  constructor
  · intro g g1 g2
    constructor
    · rintro (m | m | m | m | m)
      · left; omega
      · exfalso
        have q := m.2.2.2.1
        by_cases e : g = a
        · rw [e] at m; exact ht.2 m.1
        · have q2 := A.2.2.2.2 g (by omega) g2
          have q3 := A.2.2.1
          have q4 := q2.2 (by omega)
          have q5 := m.1
          omega
      · have := m.2.2.1; omega
      · rw [Nat.add_sub_cancel] at m; omega
      · rw [Nat.add_sub_cancel] at m
        exact Or.inr ⟨m.1, gr_At_u m.2 A⟩
    · rintro (e | ⟨p, e⟩)
      · left; exact ⟨by rw [e]; omega, by rw [e]; omega, by omega⟩
      · right; right; right; right
        rw [Nat.add_sub_cancel, e]
        exact ⟨p, A⟩
  · intro h h1 h2
    constructor
    · rintro (m | m | m | m | m)
      · left; exact m.2.2
      · omega
      · exact Or.inr ⟨m.1, gr_At_u m.2 A⟩
      · omega
      · have := m.2.2.2.2.1; omega
    · rintro (e | ⟨p, e⟩)
      · left; exact ⟨by omega, by omega, e⟩
      · right; right; left
        rw [e]; exact ⟨p, A⟩
/-- the first place of a branch is no suffix -/
theorem gr_Br_ns (H : gr_H t D B n) {lo b e : Nat} {d : Int} (hlo : lo = B ∨ t (lo - 1) = 16) (hB : B ≤ lo) (hb : gr_Br t D lo d b e) (hbn : b < n) : ¬ (17 ≤ t b ∧ t b ≤ 21) := by
  intro c
  have v := H.2.2.2.2.2.2.1 b (by have := hb.1; omega) hbn c.1 c.2
  rcases hb.2.2.1 with k | k
  · rw [k] at v
    rcases hlo with l | l
    · omega
    · exact v.2.1 l
  · exact v.2.2 k.2.1
theorem gr_br1 (H : gr_H t D B n) {lo c b e : Nat} {d : Int} (hB : B ≤ lo) (hlo : lo = B ∨ t (lo - 1) = 16) (hc : c ≤ n) (hd : ∀ x, lo ≤ x → x ≤ c → d ≤ D x) (hb : gr_Br t D lo d b e) (hec : e ≤ c) (hte : t e = 18 ∨ t e = 17 ∨ e = n) : ∀ g h, b ≤ g → g < e → lo ≤ h → h ≤ n → gr_M t D B n g h → b ≤ h ∧ h ≤ e := by
  intro g h c1 c2 c3 c4 m
  have hns := gr_Br_ns H hlo hB hb (by omega)
  obtain ⟨b1, b2, b3, b4, b5, b6⟩ := hb
  have dg := hd g (by omega) (by omega)
  have te : ¬ (19 ≤ t e ∧ t e ≤ 21) := by
    rcases hte with k | k | k
    · omega
    · omega
    · rw [k, gr_tn H]; omega
  rcases m with m | m | m | m | m
  · omega
  · have q1 := m.2.1
    have q2 : D g ≠ d := fun z => b6 g c1 c2 z m.1
    refine ⟨by omega, ?_⟩
    apply Classical.byContradiction
    intro c
    have := m.2.2.2.2.1 e (by omega) (by omega)
    omega
  · have q1 := m.2.2.1
    refine ⟨?_, by omega⟩
    apply Classical.byContradiction
    intro c
    have q2 := m.2.2.2.2.2 b (by omega) c1
    have q3 := hd h c3 (by omega)
    have := q2.2 (by omega)
    omega
  · have q1 := m.2.2.1
    have q2 := m.2.2.2.2.1
    refine ⟨by omega, ?_⟩
    apply Classical.byContradiction
    intro c
    have := m.2.2.2.2.2 e (by omega) (by omega)
    omega
  · have q1 := m.2.2.1
    refine ⟨by omega, ?_⟩
    apply Classical.byContradiction
    intro c
    have q2 := m.2.2.2.2.2 e (by omega) (by omega)
    exact te (q2.2 (by omega))
theorem gr_br2 (H : gr_H t D B n) {lo c e : Nat} {d : Int} (hB : B ≤ lo) (hle : lo ≤ e) (hc : c ≤ n) (hd : ∀ x, lo ≤ x → x ≤ c → d ≤ D x) (he : D e = d) (hte : t e = 18) (hec : e < c) (hDc : D c = d) (htc : c < n → t c = 17) : ∀ h, gr_M t D B n e h ↔ h = c := by
  have k : gr_Cl t D n e c := ⟨hec, hc, by omega, fun x x1 x2 => by have := hd x (by omega) x2; omega, htc⟩
  intro h
  constructor
  · rintro (m | m | m | m | m)
    · omega
    · exact gr_Cl_u H (by omega) m.2 k
    · omega
    · omega
    · by_cases l : h - 1 < n
      · exact absurd hte (gr_At_t H l m.2).2
      · exfalso
        have q := m.2.2.2.2.2 n (by omega) (by omega)
        have q2 := m.2.2.2.1
        have dn := H.2.2.2.2.2.1.2
        have q3 := m.2.2.2.2.2 (e + 1) (by omega) (by have := m.2.2.1; omega)
        have dd := H.2.2.2.1 e (by omega) (by omega)
        rw [gr_w0 (by omega) (by omega)] at dd
        have q4 := q3.2 (by omega)
        have v := H.2.2.2.2.2.2.1 (e + 1) (by omega) (by
          rcases Nat.lt_or_ge (e + 1) n with z | z
          · exact z
          · have : e + 1 = n := by omega
            rw [this, gr_tn H] at q4; omega) (by omega) (by omega)
        rw [Nat.add_sub_cancel] at v
        exact v.2.2 hte
  · intro e1
    right; left
    rw [e1]
    exact ⟨hte, k⟩
/-- a place where a branch of the group at o begins -/
def gr_St (t : Nat → Nat) (D : Nat → Int) (lo : Nat) (d : Int) (b : Nat) : Prop := b = lo ∨ (lo < b ∧ t (b - 1) = 18 ∧ D (b - 1) = d)
theorem gr_gc (H : gr_H t D B n) {o c : Nat} (htc : t c = 17) : ∀ h, h ≤ c + 1 → (gr_M t D B n c h ↔ h = c + 1) := by
  intro h hh
  constructor
  · rintro (m | m | m | m | m)
    · exact m.2.2
    · omega
    · omega
    · omega
    · have := m.2.2.1; omega
  · intro e
    left; omega
theorem gr_go (H : gr_H t D B n) {o c : Nat} {d : Int} (hB : B ≤ o) (hto : t o = 16) (hoc : o < c) (hDo : D o + 1 = d) (hd : ∀ x, o + 1 ≤ x → x ≤ c → d ≤ D x) : ∀ h, o ≤ h → h ≤ c + 1 → (gr_M t D B n o h ↔ gr_St t D (o + 1) d h) := by
  intro h h1 h2
  constructor
  · rintro (m | m | m | m | m)
    · left; omega
    · omega
    · omega
    · have q := m.2.2.1
      have q2 := m.2.2.2.2.1
      right
      exact ⟨by omega, m.2.1, by omega⟩
    · exfalso
      have q := m.2.2.1
      have q2 := m.2.2.2.1
      have q3 := hd (h - 1) (by omega) (by omega)
      omega
  · rintro (k | k)
    · left; omega
    · right; right; right; left
      refine ⟨hto, k.2.1, by omega, hto, by omega, ?_⟩
      intro x x1 x2
      have := hd x (by omega) (by omega)
      omega
theorem gr_no (H : gr_H t D B n) {o c : Nat} {d : Int} (hDo : D o + 1 = d) (hd : ∀ x, o + 1 ≤ x → x ≤ c → d ≤ D x) {g : Nat} (g1 : o < g) (g2 : g ≤ c) : ¬ gr_M t D B n g o := by
  rintro (m | m | m | m | m)
  · omega
  · have := m.2.1; omega
  · have q := m.2.2.2.1
    have := hd g (by omega) g2
    omega
  · have := m.2.2.1; omega
  · have := m.2.2.1; omega
/-- every start has its branch -/
theorem gr_Br_ex {lo c : Nat} {d : Int} (hDlo : D lo = d) (hs : ∀ x, lo < x → t (x - 1) = 18 → D (x - 1) = d → x ≤ c → D x = d) (hDc : D c = d) {b : Nat} (hb : gr_St t D lo d b) (hbc : b ≤ c) (hlo : lo ≤ c) : ∃ e, gr_Br t D lo d b e ∧ e ≤ c ∧ ((t e = 18 ∧ e < c) ∨ e = c) := by
  have hDb : D b = d := by
    rcases hb with k | k
    · rw [k]; exact hDlo
    · exact hs b k.1 k.2.1 k.2.2 hbc
  have hlb : lo ≤ b := by rcases hb with k | k <;> omega
  have key : ∀ m x, x + m = c → b ≤ x → (∀ y, b ≤ y → y < x → D y = d → t y ≠ 18) → ∃ e, gr_Br t D lo d b e ∧ e ≤ c ∧ ((t e = 18 ∧ e < c) ∨ e = c) := by
    intro m
    induction m with
    | zero =>
      intro x hx bx hy
      have : x = c := by omega
      subst this
      exact ⟨x, ⟨hlb, bx, hb, hDb, hDc, hy⟩, Nat.le_refl _, Or.inr rfl⟩
    | succ m ih =>
      intro x hx bx hy
      by_cases q : D x = d ∧ t x = 18
      · exact ⟨x, ⟨hlb, bx, hb, hDb, q.1, hy⟩, by omega, Or.inl ⟨q.2, by omega⟩⟩
      · refine ih (x + 1) (by omega) (by omega) ?_
        intro y y1 y2 y3
        by_cases z : y = x
        · subst z; exact fun w => q ⟨y3, w⟩
        · exact hy y y1 (by omega) y3
  exact key (c - b) b (by omega) (Nat.le_refl _) (fun y y1 y2 => absurd y1 (by omega))
/-- every leaf of the group lies in a branch -/
theorem gr_Br_cov {lo c : Nat} {d : Int} (hDlo : D lo = d) (hs : ∀ x, lo < x → t (x - 1) = 18 → D (x - 1) = d → x ≤ c → D x = d) (hDc : D c = d) {p : Nat} (hp1 : lo ≤ p) (hp2 : p < c) (hp : t p ≠ 18) : ∃ b e, gr_Br t D lo d b e ∧ e ≤ c ∧ ((t e = 18 ∧ e < c) ∨ e = c) ∧ b ≤ p ∧ p < e := by
  have key : ∀ m b, b + m = p → (∀ y, b < y → y ≤ p → ¬ gr_St t D lo d y) → lo ≤ b → ∃ b', gr_St t D lo d b' ∧ b' ≤ p ∧ ∀ y, b' < y → y ≤ p → ¬ gr_St t D lo d y := by
    intro m b
    induction b generalizing m with
    | zero =>
      intro hm hy hl
      exact ⟨0, Or.inl (by omega), by omega, hy⟩
    | succ b ih =>
      intro hm hy hl
      by_cases q : gr_St t D lo d (b + 1)
      · exact ⟨b + 1, q, by omega, hy⟩
      · refine ih (m + 1) (by omega) ?_ ?_
        · intro y y1 y2
          by_cases z : y = b + 1
          · rw [z]; exact q
          · exact hy y (by omega) y2
        · rcases Nat.lt_or_ge b lo with z | z
          · exact absurd (Or.inl (by omega)) q
          · exact z
  obtain ⟨b, b1, b2, b3⟩ := key 0 p rfl (fun y y1 y2 => absurd y1 (by omega)) hp1
  obtain ⟨e, e1, e2, e3⟩ := gr_Br_ex hDlo hs hDc b1 (by omega) (by omega)
  refine ⟨b, e, e1, e2, e3, b2, ?_⟩
  apply Classical.byContradiction
  intro c1
  have hne : e ≠ p := by
    intro z
    rcases e3 with k | k
    · rw [z] at k; exact hp k.1
    · omega
  rcases e3 with k | k
  · exact b3 (e + 1) (by have := e1.2.1; omega) (by omega) (Or.inr ⟨by have := e1.1; have := e1.2.1; omega, by rw [Nat.add_sub_cancel]; exact k.1, by rw [Nat.add_sub_cancel]; exact e1.2.2.2.2.1⟩)
  · omega
end
end
section
/-! leaf sets as bits: first, last, follow of a segment; join, suffix, group, row -/
def gr_gs (x : Int32) (P : Nat → Prop) : Prop := ∀ k, bt x k = true ↔ P k
def gr_Lf (t : Nat → Nat) (p : Nat) : Prop := 1 ≤ t p ∧ t p < 16
def gr_F (t lc : Nat → Nat) (M : Nat → Nat → Prop) (s e k : Nat) : Prop := ∃ p, s ≤ p ∧ p < e ∧ gr_Lf t p ∧ lc p = k ∧ gr_R M s e s p
def gr_La (t lc : Nat → Nat) (M : Nat → Nat → Prop) (s e k : Nat) : Prop := ∃ p, s ≤ p ∧ p < e ∧ gr_Lf t p ∧ lc p = k ∧ gr_R M s e (p + 1) e
def gr_Fo (t lc : Nat → Nat) (M : Nat → Nat → Prop) (s e p k : Nat) : Prop := ∃ q, s ≤ q ∧ q < e ∧ gr_Lf t q ∧ lc q = k ∧ gr_R M s e (p + 1) q
def gr_b01 (nu : Int32) (P : Prop) : Prop := (nu = 1 ∧ P) ∨ (nu = 0 ∧ ¬ P)
def gr_Sg (t lc : Nat → Nat) (M : Nat → Nat → Prop) (s e : Nat) (nu fi la : Int32) : Prop := gr_b01 nu (gr_R M s e s e) ∧ gr_gs fi (gr_F t lc M s e) ∧ gr_gs la (gr_La t lc M s e)
def gr_FK (t lc : Nat → Nat) (M : Nat → Nat → Prop) (fo : Nat → Int32) (s e : Nat) : Prop := ∀ p, s ≤ p → p < e → gr_Lf t p → gr_gs (fo (lc p)) (gr_Fo t lc M s e p)
def xl_lk (fo : Nat → Int32) (l f : Int32) : Nat → Int32 := fun k => if k < 8 ∧ bt l k = true then fo k ||| f else fo k
theorem xl_lk1 {fo : Nat → Int32} {l f : Int32} {k : Nat} (h : k < 8) (h2 : bt l k = true) : xl_lk fo l f k = fo k ||| f := if_pos ⟨h, h2⟩
theorem xl_lk0 {fo : Nat → Int32} {l f : Int32} {k : Nat} (h2 : ¬ bt l k = true) : xl_lk fo l f k = fo k := if_neg (fun h => h2 h.2)
theorem gr_gs_or {x y : Int32} {P Q : Nat → Prop} (h1 : gr_gs x P) (h2 : gr_gs y Q) : gr_gs (x ||| y) (fun k => P k ∨ Q k) := by
  intro k
  rw [b_or, Bool.or_eq_true, h1 k, h2 k]
theorem gr_gs_c {x : Int32} {P Q : Nat → Prop} (h1 : gr_gs x P) (h : ∀ k, P k ↔ Q k) : gr_gs x Q := fun k => (h1 k).trans (h k)
theorem gr_gs_u {x y : Int32} {P : Nat → Prop} (h1 : gr_gs x P) (h2 : gr_gs y P) : x = y := by
  apply b_ext
  intro i _
  have a := h1 i
  have b := h2 i
  cases hx : bt x i <;> cases hy : bt y i
  · rfl
  · rw [hx] at a; rw [hy] at b; exact absurd (a.mpr (b.mp rfl)) (by decide)
  · rw [hx] at a; rw [hy] at b; exact absurd (b.mpr (a.mp rfl)) (by decide)
  · rfl
theorem gr_gs_0 {P : Nat → Prop} (h : ∀ k, ¬ P k) : gr_gs 0 P := by
  intro k
  rw [b_0]
  exact ⟨fun z => absurd z (by decide), fun z => absurd z (h k)⟩
theorem gr_b01_c {nu : Int32} {P Q : Prop} (h : gr_b01 nu P) (c : P ↔ Q) : gr_b01 nu Q := by
  rcases h with h | h
  · exact Or.inl ⟨h.1, c.mp h.2⟩
  · exact Or.inr ⟨h.1, fun q => h.2 (c.mpr q)⟩
theorem gr_b01_u {x y : Int32} {P : Prop} (h1 : gr_b01 x P) (h2 : gr_b01 y P) : x = y := by
  rcases h1 with h | h
  · rcases h2 with k | k
    · rw [h.1, k.1]
    · exact absurd h.2 k.2
  · rcases h2 with k | k
    · exact absurd k.2 h.2
    · rw [h.1, k.1]
theorem gr_b01_0 {nu : Int32} {P : Prop} (h : gr_b01 nu P) : nu = 0 ↔ ¬ P := by
  rcases h with h | h
  · exact ⟨fun z => by rw [h.1] at z; exact absurd z (by decide), fun z => absurd h.2 z⟩
  · exact ⟨fun _ => h.2, fun _ => h.1⟩
theorem gr_b01_s {nu : Int32} {P : Prop} (h : gr_b01 nu P) : nu = 0 ∨ nu = 1 := by
  rcases h with h | h
  · exact Or.inr h.1
  · exact Or.inl h.1
section
variable {t lc : Nat → Nat} {M : Nat → Nat → Prop} {fo : Nat → Int32}
/-- the empty segment -/
theorem gr_Sg_0 (s : Nat) : gr_Sg t lc M s s 1 0 0 := by
  refine ⟨Or.inl ⟨rfl, gr_R0⟩, gr_gs_0 ?_, gr_gs_0 ?_⟩
  · rintro k ⟨p, h1, h2, _⟩; omega
  · rintro k ⟨p, h1, h2, _⟩; omega
theorem gr_FK_0 (s : Nat) : gr_FK t lc M fo s s := fun p h1 h2 => absurd h1 (by omega)
/-- what link leaves as it was -/
theorem gr_lk_o {s e k : Nat} {la f : Int32} (h : gr_gs la (gr_La t lc M s e)) (hk : ∀ p, s ≤ p → p < e → gr_Lf t p → lc p ≠ k) : xl_lk fo la f k = fo k := by
  apply xl_lk0
  intro z
  obtain ⟨p, h1, h2, h3, h4, _⟩ := (h k).mp z
  exact hk p h1 h2 h3 h4
theorem gr_FK_o {s e s' e' : Nat} {la f : Int32} (inj : ∀ p q, gr_Lf t p → gr_Lf t q → lc p = lc q → p = q) (h : gr_gs la (gr_La t lc M s e)) (hd : ∀ p, s ≤ p → p < e → s' ≤ p → p < e' → False) (K : gr_FK t lc M fo s' e') : gr_FK t lc M (xl_lk fo la f) s' e' := by
  intro p h1 h2 h3
  rw [gr_lk_o h (fun q q1 q2 q3 q4 => by
    have := inj q p q3 h3 q4
    subst this
    exact hd q q1 q2 h1 h2)]
  exact K p h1 h2 h3
theorem gr_join {s a e : Nat} {nu1 fi1 la1 nu2 fi2 la2 : Int32} (hsa : s ≤ a) (hae : a ≤ e)
    (cut : ∀ g h, s ≤ g → g < e → s ≤ h → h ≤ e → M g h → (g < a → h ≤ a) ∧ (a ≤ g → a ≤ h))
    (inj : ∀ p q, gr_Lf t p → gr_Lf t q → lc p = lc q → p = q) (h8 : ∀ p, s ≤ p → p < e → gr_Lf t p → lc p < 8)
    (S1 : gr_Sg t lc M s a nu1 fi1 la1) (S2 : gr_Sg t lc M a e nu2 fi2 la2) (K1 : gr_FK t lc M fo s a) (K2 : gr_FK t lc M fo a e) :
    gr_Sg t lc M s e (if nu2 = 0 then 0 else nu1) (if nu1 = 0 then fi1 else fi1 ||| fi2) (if nu2 = 0 then la2 else la1 ||| la2) ∧ gr_FK t lc M (xl_lk fo la1 fi2) s e := by
  obtain ⟨N1, F1, L1⟩ := S1
  obtain ⟨N2, F2, L2⟩ := S2
  have r1 : ∀ x y, x ≤ a → (gr_R M s e x y ↔ (y ≤ a ∧ gr_R M s a x y) ∨ (a ≤ y ∧ gr_R M s a x a ∧ gr_R M a e a y)) := fun x y h => gr_j1 hsa hae cut h
  have r2 : ∀ x y, a ≤ x → (gr_R M s e x y ↔ a ≤ y ∧ gr_R M a e x y) := fun x y h => gr_j2 hsa cut h
  have re : ∀ x, x ≤ a → (gr_R M s e x e ↔ gr_R M s a x a ∧ gr_R M a e a e) := by
    intro x hx
    rw [r1 x e hx]
    constructor
    · rintro (⟨k1, k2⟩ | ⟨_, k2, k3⟩)
      · have : a = e := by omega
        subst this
        exact ⟨k2, gr_R0⟩
      · exact ⟨k2, k3⟩
    · rintro ⟨k1, k2⟩
      exact Or.inr ⟨hae, k1, k2⟩
  refine ⟨⟨?_, ?_, ?_⟩, ?_⟩
  · have q := re s hsa
    rcases N2 with ⟨n2, p2⟩ | ⟨n2, p2⟩
    · rw [n2, if_neg (by decide)]
      refine gr_b01_c N1 ?_
      rw [q]
      exact ⟨fun z => ⟨z, p2⟩, fun z => z.1⟩
    · rw [n2, if_pos rfl]
      exact Or.inr ⟨rfl, fun z => p2 (q.mp z).2⟩
  · have hF : ∀ k, gr_F t lc M s e k ↔ gr_F t lc M s a k ∨ (gr_R M s a s a ∧ gr_F t lc M a e k) := by
      intro k
      constructor
      · rintro ⟨p, h1, h2, h3, h4, h5⟩
        rcases (r1 s p hsa).mp h5 with ⟨k1, k2⟩ | ⟨k1, k2, k3⟩
        · by_cases l : p < a
          · exact Or.inl ⟨p, h1, l, h3, h4, k2⟩
          · have : p = a := by omega
            subst this
            exact Or.inr ⟨k2, p, Nat.le_refl _, h2, h3, h4, gr_R0⟩
        · exact Or.inr ⟨k2, p, k1, h2, h3, h4, k3⟩
      · rintro (⟨p, h1, h2, h3, h4, h5⟩ | ⟨k2, p, h1, h2, h3, h4, h5⟩)
        · exact ⟨p, h1, by omega, h3, h4, (r1 s p hsa).mpr (Or.inl ⟨by omega, h5⟩)⟩
        · exact ⟨p, by omega, h2, h3, h4, (r1 s p hsa).mpr (Or.inr ⟨h1, k2, h5⟩)⟩
    rcases N1 with ⟨n1, p1⟩ | ⟨n1, p1⟩
    · rw [n1, if_neg (by decide)]
      refine gr_gs_c (gr_gs_or F1 F2) (fun k => ?_)
      rw [hF k]
      exact ⟨fun z => z.elim Or.inl (fun w => Or.inr ⟨p1, w⟩), fun z => z.elim Or.inl (fun w => Or.inr w.2)⟩
    · rw [n1, if_pos rfl]
      refine gr_gs_c F1 (fun k => ?_)
      rw [hF k]
      exact ⟨Or.inl, fun z => z.elim id (fun w => absurd w.1 p1)⟩
  · have hL : ∀ k, gr_La t lc M s e k ↔ (gr_La t lc M s a k ∧ gr_R M a e a e) ∨ gr_La t lc M a e k := by
      intro k
      constructor
      · rintro ⟨p, h1, h2, h3, h4, h5⟩
        by_cases l : p < a
        · have q := (re (p + 1) (by omega)).mp h5
          exact Or.inl ⟨⟨p, h1, l, h3, h4, q.1⟩, q.2⟩
        · exact Or.inr ⟨p, by omega, h2, h3, h4, ((r2 (p + 1) e (by omega)).mp h5).2⟩
      · rintro (⟨⟨p, h1, h2, h3, h4, h5⟩, k2⟩ | ⟨p, h1, h2, h3, h4, h5⟩)
        · exact ⟨p, h1, by omega, h3, h4, (re (p + 1) (by omega)).mpr ⟨h5, k2⟩⟩
        · exact ⟨p, by omega, h2, h3, h4, (r2 (p + 1) e (by omega)).mpr ⟨hae, h5⟩⟩
    rcases N2 with ⟨n2, p2⟩ | ⟨n2, p2⟩
    · rw [n2, if_neg (by decide)]
      refine gr_gs_c (gr_gs_or L1 L2) (fun k => ?_)
      rw [hL k]
      exact ⟨fun z => z.elim (fun w => Or.inl ⟨w, p2⟩) Or.inr, fun z => z.elim (fun w => Or.inl w.1) Or.inr⟩
    · rw [n2, if_pos rfl]
      refine gr_gs_c L2 (fun k => ?_)
      rw [hL k]
      exact ⟨Or.inr, fun z => z.elim (fun w => absurd w.2 p2) id⟩
  · intro p h1 h2 h3
    by_cases l : p < a
    · have hO : ∀ k, gr_Fo t lc M s e p k ↔ gr_Fo t lc M s a p k ∨ (gr_R M s a (p + 1) a ∧ gr_F t lc M a e k) := by
        intro k
        constructor
        · rintro ⟨q, g1, g2, g3, g4, g5⟩
          rcases (r1 (p + 1) q (by omega)).mp g5 with ⟨k1, k2⟩ | ⟨k1, k2, k3⟩
          · by_cases lq : q < a
            · exact Or.inl ⟨q, g1, lq, g3, g4, k2⟩
            · have : q = a := by omega
              subst this
              exact Or.inr ⟨k2, q, Nat.le_refl _, g2, g3, g4, gr_R0⟩
          · exact Or.inr ⟨k2, q, k1, g2, g3, g4, k3⟩
        · rintro (⟨q, g1, g2, g3, g4, g5⟩ | ⟨k2, q, g1, g2, g3, g4, g5⟩)
          · exact ⟨q, g1, by omega, g3, g4, (r1 (p + 1) q (by omega)).mpr (Or.inl ⟨by omega, g5⟩)⟩
          · exact ⟨q, by omega, g2, g3, g4, (r1 (p + 1) q (by omega)).mpr (Or.inr ⟨g1, k2, g5⟩)⟩
      have K := K1 p h1 l h3
      by_cases hb : bt la1 (lc p) = true
      · rw [xl_lk1 (h8 p h1 h2 h3) hb]
        have hr : gr_R M s a (p + 1) a := by
          obtain ⟨p', q1, q2, q3, q4, q5⟩ := (L1 (lc p)).mp hb
          have := inj p' p q3 h3 q4
          subst this
          exact q5
        refine gr_gs_c (gr_gs_or K F2) (fun k => ?_)
        rw [hO k]
        exact ⟨fun z => z.elim Or.inl (fun w => Or.inr ⟨hr, w⟩), fun z => z.elim Or.inl (fun w => Or.inr w.2)⟩
      · rw [xl_lk0 hb]
        have hr : ¬ gr_R M s a (p + 1) a := fun z => hb ((L1 (lc p)).mpr ⟨p, h1, l, h3, rfl, z⟩)
        refine gr_gs_c K (fun k => ?_)
        rw [hO k]
        exact ⟨Or.inl, fun z => z.elim id (fun w => absurd w.1 hr)⟩
    · have l2 : a ≤ p := by omega
      rw [gr_lk_o L1 (fun q q1 q2 q3 q4 => by
        have := inj q p q3 h3 q4
        omega)]
      refine gr_gs_c (K2 p l2 h2 h3) (fun k => ?_)
      constructor
      · rintro ⟨q, g1, g2, g3, g4, g5⟩
        exact ⟨q, by omega, g2, g3, g4, (r2 (p + 1) q (by omega)).mpr ⟨g1, g5⟩⟩
      · rintro ⟨q, g1, g2, g3, g4, g5⟩
        have z := (r2 (p + 1) q (by omega)).mp g5
        exact ⟨q, z.1, g2, g3, g4, z.2⟩
/-- from inside the atom one comes back to its start only if one can reach its end -/
def gr_Rp (M : Nat → Nat → Prop) (a i : Nat) : Prop := ∀ x, a < x → x ≤ i → gr_R M a i x a → gr_R M a i x i
theorem gr_sufS {a i : Nat} {rep byp : Prop} {nu fi la : Int32} (ha : a < i)
    (hin : ∀ g, a ≤ g → g ≤ i → (M g (i + 1) ↔ g = i ∨ (byp ∧ g = a)))
    (hout : ∀ h, a ≤ h → h ≤ i + 1 → (M i h ↔ h = i + 1 ∨ (rep ∧ h = a)))
    (ti : ¬ gr_Lf t i) (hR : gr_Rp M a i) (S : gr_Sg t lc M a i nu fi la) {nu' : Int32} (hnu : gr_b01 nu' (byp ∨ nu = 1)) :
    gr_Sg t lc M a (i + 1) nu' fi la ∧ gr_Rp M a (i + 1) := by
  obtain ⟨N, F, L⟩ := S
  have lt : ∀ p, p < i + 1 → gr_Lf t p → p < i := by
    intro p h h2
    by_cases e : p = i
    · subst e; exact absurd h2 ti
    · omega
  refine ⟨⟨?_, ?_, ?_⟩, ?_⟩
  · refine gr_b01_c hnu ?_
    rw [gr_s2 ha hin hout (Nat.le_refl _) (by omega)]
    constructor
    · rintro (z | z)
      · exact Or.inr ⟨z, gr_R0⟩
      · left
        rcases N with w | w
        · exact w.2
        · rw [w.1] at z; exact absurd z (by decide)
    · rintro (z | z)
      · right
        rcases N with w | w
        · exact w.1
        · exact absurd z w.2
      · exact Or.inl z.1
  · refine gr_gs_c F (fun k => ?_)
    constructor
    · rintro ⟨p, h1, h2, h3, h4, h5⟩
      exact ⟨p, h1, by omega, h3, h4, (gr_s1 ha hin hout (Nat.le_refl _) (by omega) (by omega)).mpr (Or.inl h5)⟩
    · rintro ⟨p, h1, h2, h3, h4, h5⟩
      have l := lt p h2 h3
      rcases (gr_s1 ha hin hout (Nat.le_refl _) (by omega) (by omega)).mp h5 with z | z
      · exact ⟨p, h1, l, h3, h4, z⟩
      · exact ⟨p, h1, l, h3, h4, z.2.2⟩
  · refine gr_gs_c L (fun k => ?_)
    constructor
    · rintro ⟨p, h1, h2, h3, h4, h5⟩
      exact ⟨p, h1, by omega, h3, h4, (gr_s2 ha hin hout (by omega) (by omega)).mpr (Or.inl h5)⟩
    · rintro ⟨p, h1, h2, h3, h4, h5⟩
      have l := lt p h2 h3
      rcases (gr_s2 ha hin hout (by omega) (by omega)).mp h5 with z | z
      · exact ⟨p, h1, l, h3, h4, z⟩
      · exact ⟨p, h1, l, h3, h4, hR (p + 1) (by omega) (by omega) z.2⟩
  · intro x x1 x2 r
    by_cases e : x = i + 1
    · subst e
      have := gr_Rend r
      omega
    · have xi : x ≤ i := by omega
      refine (gr_s2 ha hin hout (by omega) xi).mpr (Or.inl ?_)
      rcases (gr_s1 ha hin hout (by omega) xi (by omega)).mp r with z | z
      · exact hR x x1 xi z
      · exact z.2.1
theorem gr_sufK {a i : Nat} {rep byp : Prop} {nu fi la : Int32} (ha : a < i)
    (hin : ∀ g, a ≤ g → g ≤ i → (M g (i + 1) ↔ g = i ∨ (byp ∧ g = a)))
    (hout : ∀ h, a ≤ h → h ≤ i + 1 → (M i h ↔ h = i + 1 ∨ (rep ∧ h = a)))
    (ti : ¬ gr_Lf t i) (inj : ∀ p q, gr_Lf t p → gr_Lf t q → lc p = lc q → p = q) (h8 : ∀ p, a ≤ p → p < i → gr_Lf t p → lc p < 8)
    (S : gr_Sg t lc M a i nu fi la) (K : gr_FK t lc M fo a i) :
    (rep → gr_FK t lc M (xl_lk fo la fi) a (i + 1)) ∧ (¬ rep → gr_FK t lc M fo a (i + 1)) := by
  obtain ⟨N, F, L⟩ := S
  have lt : ∀ p, p < i + 1 → gr_Lf t p → p < i := by
    intro p h h2
    by_cases e : p = i
    · subst e; exact absurd h2 ti
    · omega
  have hO : ∀ p k, a ≤ p → p < i → (gr_Fo t lc M a (i + 1) p k ↔ gr_Fo t lc M a i p k ∨ (rep ∧ gr_R M a i (p + 1) i ∧ gr_F t lc M a i k)) := by
    intro p k p1 p2
    constructor
    · rintro ⟨q, g1, g2, g3, g4, g5⟩
      have l := lt q g2 g3
      rcases (gr_s1 ha hin hout (by omega) (by omega) (by omega)).mp g5 with z | z
      · exact Or.inl ⟨q, g1, l, g3, g4, z⟩
      · exact Or.inr ⟨z.1, z.2.1, q, g1, l, g3, g4, z.2.2⟩
    · rintro (⟨q, g1, g2, g3, g4, g5⟩ | ⟨k1, k2, q, g1, g2, g3, g4, g5⟩)
      · exact ⟨q, g1, by omega, g3, g4, (gr_s1 ha hin hout (by omega) (by omega) (by omega)).mpr (Or.inl g5)⟩
      · exact ⟨q, g1, by omega, g3, g4, (gr_s1 ha hin hout (by omega) (by omega) (by omega)).mpr (Or.inr ⟨k1, k2, g5⟩)⟩
  constructor
  · intro hr p h1 h2 h3
    have l := lt p h2 h3
    have Kp := K p h1 l h3
    by_cases hb : bt la (lc p) = true
    · rw [xl_lk1 (h8 p h1 l h3) hb]
      have hr2 : gr_R M a i (p + 1) i := by
        obtain ⟨p', q1, q2, q3, q4, q5⟩ := (L (lc p)).mp hb
        have := inj p' p q3 h3 q4
        subst this
        exact q5
      refine gr_gs_c (gr_gs_or Kp F) (fun k => ?_)
      rw [hO p k h1 l]
      exact ⟨fun z => z.elim Or.inl (fun w => Or.inr ⟨hr, hr2, w⟩), fun z => z.elim Or.inl (fun w => Or.inr w.2.2)⟩
    · rw [xl_lk0 hb]
      have hr2 : ¬ gr_R M a i (p + 1) i := fun z => hb ((L (lc p)).mpr ⟨p, h1, l, h3, rfl, z⟩)
      refine gr_gs_c Kp (fun k => ?_)
      rw [hO p k h1 l]
      exact ⟨Or.inl, fun z => z.elim id (fun w => absurd w.2.1 hr2)⟩
  · intro hr p h1 h2 h3
    have l := lt p h2 h3
    refine gr_gs_c (K p h1 l h3) (fun k => ?_)
    rw [hO p k h1 l]
    exact ⟨Or.inl, fun z => z.elim id (fun w => absurd w.1 hr)⟩
/-- a set of branches, as one alternative -/
def gr_Al (t lc : Nat → Nat) (M : Nat → Nat → Prop) (fo : Nat → Int32) (Bs : Nat → Nat → Prop) (nu fi la : Int32) : Prop :=
  gr_b01 nu (∃ b e, Bs b e ∧ gr_R M b e b e) ∧ gr_gs fi (fun k => ∃ b e, Bs b e ∧ gr_F t lc M b e k) ∧ gr_gs la (fun k => ∃ b e, Bs b e ∧ gr_La t lc M b e k) ∧ ∀ b e, Bs b e → gr_FK t lc M fo b e
theorem gr_Al_add {Bs Bs' : Nat → Nat → Prop} {b e : Nat} {nu fi la nu' fi' la' : Int32} (A : gr_Al t lc M fo Bs nu fi la) (S : gr_Sg t lc M b e nu' fi' la') (K : gr_FK t lc M fo b e) (h : ∀ b' e', Bs' b' e' ↔ Bs b' e' ∨ (b' = b ∧ e' = e)) : gr_Al t lc M fo Bs' (if nu' = 0 then nu else 1) (fi ||| fi') (la ||| la') := by
  obtain ⟨N, F, L, KK⟩ := A
  obtain ⟨N', F', L'⟩ := S
  have ex : ∀ P : Nat → Nat → Prop, (∃ b' e', Bs' b' e' ∧ P b' e') ↔ (∃ b' e', Bs b' e' ∧ P b' e') ∨ P b e := by
    intro P
    constructor
    · rintro ⟨b', e', h1, h2⟩
      rcases (h b' e').mp h1 with k | ⟨k1, k2⟩
      · exact Or.inl ⟨b', e', k, h2⟩
      · subst k1 k2; exact Or.inr h2
    · rintro (⟨b', e', h1, h2⟩ | h2)
      · exact ⟨b', e', (h b' e').mpr (Or.inl h1), h2⟩
      · exact ⟨b, e, (h b e).mpr (Or.inr ⟨rfl, rfl⟩), h2⟩
  refine ⟨?_, ?_, ?_, ?_⟩
  · rcases N' with ⟨n', p'⟩ | ⟨n', p'⟩
    · rw [n', if_neg (by decide)]
      exact Or.inl ⟨rfl, (ex _).mpr (Or.inr p')⟩
    · rw [n', if_pos rfl]
      refine gr_b01_c N ?_
      rw [ex (fun b e => gr_R M b e b e)]
      exact ⟨Or.inl, fun z => z.elim id (fun w => absurd w p')⟩
  · refine gr_gs_c (gr_gs_or F F') (fun k => ?_)
    rw [ex (fun b e => gr_F t lc M b e k)]
  · refine gr_gs_c (gr_gs_or L L') (fun k => ?_)
    rw [ex (fun b e => gr_La t lc M b e k)]
  · intro b' e' hb
    rcases (h b' e').mp hb with k | ⟨k1, k2⟩
    · exact KK b' e' k
    · subst k1 k2; exact K
end
end
section
/-! the closed group as an atom, the whole row as a choice of branches -/
def gr_Bs (t : Nat → Nat) (D : Nat → Int) (lo : Nat) (d : Int) (c b e : Nat) : Prop := gr_Br t D lo d b e ∧ e ≤ c ∧ ((t e = 18 ∧ e < c) ∨ e = c)
section
variable {t lc : Nat → Nat} {D : Nat → Int} {B n : Nat} {fo : Nat → Int32}
theorem gr_hs (H : gr_H t D B n) {lo c : Nat} {d : Int} (hB : B ≤ lo) (hc : c ≤ n) : ∀ x, lo < x → t (x - 1) = 18 → D (x - 1) = d → x ≤ c → D x = d := by
  intro x h1 h2 h3 h4
  have q := H.2.2.2.1 (x - 1) (by omega) (by omega)
  rw [gr_w0 (by omega) (by omega), show x - 1 + 1 = x by omega] at q
  omega
theorem gr_grp (H : gr_H t D B n) {o c : Nat} {d : Int} {nu fi la : Int32} (hB : B ≤ o) (hto : t o = 16) (hoc : o < c) (hcn : c < n) (htc : t c = 17) (hDo : D o + 1 = d) (hDc : D c = d) (hd : ∀ x, o + 1 ≤ x → x ≤ c → d ≤ D x)
    (A : gr_Al t lc (gr_M t D B n) fo (gr_Bs t D (o + 1) d c) nu fi la) :
    gr_Sg t lc (gr_M t D B n) o (c + 1) nu fi la ∧ gr_FK t lc (gr_M t D B n) fo o (c + 1) ∧ gr_Rp (gr_M t D B n) o (c + 1) := by
  have hDlo : D (o + 1) = d := by
    have q := H.2.2.2.1 o hB (by omega)
    rw [gr_w16 hto] at q
    omega
  have hs := gr_hs H (lo := o + 1) (d := d) (by omega) (Nat.le_of_lt hcn)
  have hlo : o + 1 = B ∨ t (o + 1 - 1) = 16 := Or.inr (by rw [Nat.add_sub_cancel]; exact hto)
  -- from inside a branch
  have G : ∀ b e, gr_Bs t D (o + 1) d c b e → ∀ x y, b ≤ x → x ≤ e → (gr_R (gr_M t D B n) o (c + 1) x y ↔ (b ≤ y ∧ y ≤ e ∧ gr_R (gr_M t D B n) b e x y) ∨ ((y = c ∨ y = c + 1) ∧ gr_R (gr_M t D B n) b e x e)) := by
    intro b e hb x y x1 x2
    obtain ⟨b1, b2, b3⟩ := hb
    have hte : t e = 18 ∨ t e = 17 ∨ e = n := by
      rcases b3 with k | k
      · exact Or.inl k.1
      · rw [k]; exact Or.inr (Or.inl htc)
    refine gr_g1 (by have := b1.1; omega) b2 ?_ ?_ ?_ x1 x2
    · intro g h g1 g2 h1 h2 m
      by_cases e0 : h = o
      · subst e0
        exact absurd m (gr_no H hDo hd (by have := b1.1; omega) (by omega))
      · exact gr_br1 H (by omega) hlo (Nat.le_of_lt hcn) hd b1 b2 hte g h g1 g2 (by omega) (by omega) m
    · intro l h h1 h2
      rcases b3 with k | k
      · exact gr_br2 H (lo := o + 1) (by omega) (by have := b1.1; have := b1.2.1; omega) (Nat.le_of_lt hcn) hd b1.2.2.2.2.1 k.1 l hDc (fun _ => htc) h
      · omega
    · intro h h1 h2
      exact gr_gc H (o := o) htc h h2
  have G2 : ∀ y, gr_R (gr_M t D B n) o (c + 1) o y ↔ y = o ∨ ∃ b, (gr_St t D (o + 1) d b ∧ b ≤ c) ∧ gr_R (gr_M t D B n) o (c + 1) b y := by
    intro y
    refine gr_g2 (by omega) ?_ ?_
    · intro h h1 h2
      rw [gr_go H hB hto hoc hDo hd h h1 h2]
      constructor
      · intro k
        refine ⟨k, ?_⟩
        rcases k with k | k
        · omega
        · by_cases e : h = c + 1
          · rw [e, Nat.add_sub_cancel, htc] at k; omega
          · omega
      · intro k; exact k.1
    · intro b k
      rcases k.1 with q | q
      · omega
      · omega
  have ex : ∀ b, gr_St t D (o + 1) d b → b ≤ c → ∃ e, gr_Bs t D (o + 1) d c b e := by
    intro b hb hbc
    obtain ⟨e, e1, e2, e3⟩ := gr_Br_ex hDlo hs hDc hb hbc (by omega)
    exact ⟨e, e1, e2, e3⟩
  have nle : ∀ b e, gr_Bs t D (o + 1) d c b e → ¬ gr_Lf t e := by
    rintro b e ⟨_, _, k | k⟩ ⟨l1, l2⟩
    · omega
    · rw [k] at l2; omega
  have cov : ∀ p, o ≤ p → p < c + 1 → gr_Lf t p → ∃ b e, gr_Bs t D (o + 1) d c b e ∧ b ≤ p ∧ p < e := by
    rintro p h1 h2 ⟨l1, l2⟩
    have n1 : p ≠ o := fun z => by rw [z] at l2; omega
    have n2 : p ≠ c := fun z => by rw [z] at l2; omega
    obtain ⟨b, e, e1, e2, e3, e4, e5⟩ := gr_Br_cov hDlo hs hDc (p := p) (by omega) (by omega) (by omega)
    exact ⟨b, e, ⟨e1, e2, e3⟩, e4, e5⟩
  obtain ⟨N, F, L, KK⟩ := A
  refine ⟨⟨?_, ?_, ?_⟩, ?_, ?_⟩
  · refine gr_b01_c N ?_
    rw [G2]
    constructor
    · rintro ⟨b, e, h1, h2⟩
      right
      exact ⟨b, ⟨h1.1.2.2.1, by have := h1.1.2.1; have := h1.2.1; omega⟩, (G b e h1 b (c + 1) (Nat.le_refl _) h1.1.2.1).mpr (Or.inr ⟨Or.inr rfl, h2⟩)⟩
    · rintro (k | ⟨b, ⟨k1, k2⟩, k3⟩)
      · omega
      · obtain ⟨e, he⟩ := ex b k1 k2
        rcases (G b e he b (c + 1) (Nat.le_refl _) he.1.2.1).mp k3 with q | q
        · have := he.2.1; omega
        · exact ⟨b, e, he, q.2⟩
  · refine gr_gs_c F (fun k => ?_)
    constructor
    · rintro ⟨b, e, h1, p, p1, p2, p3, p4, p5⟩
      have := h1.1.1
      have := h1.2.1
      exact ⟨p, by omega, by omega, p3, p4, (G2 p).mpr (Or.inr ⟨b, ⟨h1.1.2.2.1, by omega⟩, (G b e h1 b p (Nat.le_refl _) h1.1.2.1).mpr (Or.inl ⟨p1, by omega, p5⟩)⟩)⟩
    · rintro ⟨p, p1, p2, p3, p4, p5⟩
      rcases (G2 p).mp p5 with q | ⟨b, ⟨k1, k2⟩, k3⟩
      · rw [q] at p3; have := p3.2; omega
      · obtain ⟨e, he⟩ := ex b k1 k2
        rcases (G b e he b p (Nat.le_refl _) he.1.2.1).mp k3 with q | q
        · have : p ≠ e := fun z => nle b e he (by rw [← z]; exact p3)
          exact ⟨b, e, he, p, q.1, by omega, p3, p4, q.2.2⟩
        · have : p = c := by omega
          rw [this] at p3; have := p3.2; omega
  · refine gr_gs_c L (fun k => ?_)
    constructor
    · rintro ⟨b, e, h1, p, p1, p2, p3, p4, p5⟩
      have := h1.1.1
      have := h1.2.1
      exact ⟨p, by omega, by omega, p3, p4, (G b e h1 (p + 1) (c + 1) (by omega) (by omega)).mpr (Or.inr ⟨Or.inr rfl, p5⟩)⟩
    · rintro ⟨p, p1, p2, p3, p4, p5⟩
      obtain ⟨b, e, he, q1, q2⟩ := cov p p1 p2 p3
      rcases (G b e he (p + 1) (c + 1) (by omega) (by omega)).mp p5 with q | q
      · have := he.2.1; omega
      · exact ⟨b, e, he, p, q1, q2, p3, p4, q.2⟩
  · intro p p1 p2 p3
    obtain ⟨b, e, he, q1, q2⟩ := cov p p1 p2 p3
    refine gr_gs_c (KK b e he p q1 q2 p3) (fun k => ?_)
    have := he.1.1
    have := he.2.1
    constructor
    · rintro ⟨q, g1, g2, g3, g4, g5⟩
      exact ⟨q, by omega, by omega, g3, g4, (G b e he (p + 1) q (by omega) (by omega)).mpr (Or.inl ⟨g1, by omega, g5⟩)⟩
    · rintro ⟨q, g1, g2, g3, g4, g5⟩
      rcases (G b e he (p + 1) q (by omega) (by omega)).mp g5 with z | z
      · have : q ≠ e := fun w => nle b e he (by rw [← w]; exact g3)
        exact ⟨q, z.1, by omega, g3, g4, z.2.2⟩
      · have : q = c := by omega
        rw [this] at g3; have := g3.2; omega
  · intro x x1 x2 r
    exfalso
    have z := r (fun y => y ≠ o ∧ o < y) ⟨by omega, x1⟩ (by
      rintro g h c1 c2 c3 c4 ⟨k1, k2⟩ m
      by_cases e : h = o
      · subst e
        exact absurd m (gr_no H hDo hd k2 (by omega))
      · exact ⟨e, by omega⟩)
    exact z.1 rfl
/-- the row: from the starts to the end -/
theorem gr_row (H : gr_H t D B n) {nu fi la : Int32} (A : gr_Al t lc (gr_M t D B n) fo (gr_Bs t D B 0 n) nu fi la) :
    gr_b01 nu (∃ s, gr_St t D B 0 s ∧ s ≤ n ∧ gr_R (gr_M t D B n) B n s n) ∧
    gr_gs fi (fun k => ∃ p, B ≤ p ∧ p < n ∧ gr_Lf t p ∧ lc p = k ∧ ∃ s, gr_St t D B 0 s ∧ s ≤ n ∧ gr_R (gr_M t D B n) B n s p) ∧
    gr_gs la (gr_La t lc (gr_M t D B n) B n) ∧ gr_FK t lc (gr_M t D B n) fo B n := by
  have hDB := H.2.2.2.2.2.1
  have hBn := H.1
  have hd : ∀ x, B ≤ x → x ≤ n → (0 : Int) ≤ D x := H.2.2.2.2.1
  have hs := gr_hs H (lo := B) (d := 0) (Nat.le_refl _) (Nat.le_refl n)
  have G : ∀ b e, gr_Bs t D B 0 n b e → ∀ x y, b ≤ x → x ≤ e → (gr_R (gr_M t D B n) B n x y ↔ (b ≤ y ∧ y ≤ e ∧ gr_R (gr_M t D B n) b e x y) ∨ (y = n ∧ gr_R (gr_M t D B n) b e x e)) := by
    intro b e hb x y x1 x2
    obtain ⟨b1, b2, b3⟩ := hb
    have hte : t e = 18 ∨ t e = 17 ∨ e = n := by
      rcases b3 with k | k
      · exact Or.inl k.1
      · exact Or.inr (Or.inr k)
    refine gr_b1 b1.1 b2 ?_ ?_ x1 x2
    · intro g h g1 g2 h1 h2 m
      exact gr_br1 H (Nat.le_refl _) (Or.inl rfl) (Nat.le_refl n) hd b1 b2 hte g h g1 g2 h1 h2 m
    · intro l h h1 h2
      rcases b3 with k | k
      · exact gr_br2 H (lo := B) (Nat.le_refl _) (by have := b1.1; have := b1.2.1; omega) (Nat.le_refl n) hd b1.2.2.2.2.1 k.1 l hDB.2 (fun z => absurd z (by omega)) h
      · omega
  have ex : ∀ b, gr_St t D B 0 b → b ≤ n → ∃ e, gr_Bs t D B 0 n b e := by
    intro b hb hbc
    obtain ⟨e, e1, e2, e3⟩ := gr_Br_ex hDB.1 hs hDB.2 hb hbc (by omega)
    exact ⟨e, e1, e2, e3⟩
  have nle : ∀ b e, gr_Bs t D B 0 n b e → ¬ gr_Lf t e := by
    rintro b e ⟨_, _, k | k⟩ ⟨l1, l2⟩
    · omega
    · rw [k, gr_tn H] at l1; omega
  have cov : ∀ p, B ≤ p → p < n → gr_Lf t p → ∃ b e, gr_Bs t D B 0 n b e ∧ b ≤ p ∧ p < e := by
    rintro p h1 h2 ⟨l1, l2⟩
    obtain ⟨b, e, e1, e2, e3, e4, e5⟩ := gr_Br_cov hDB.1 hs hDB.2 (p := p) h1 h2 (by omega)
    exact ⟨b, e, ⟨e1, e2, e3⟩, e4, e5⟩
  obtain ⟨N, F, L, KK⟩ := A
  refine ⟨?_, ?_, ?_, ?_⟩
  · refine gr_b01_c N ?_
    constructor
    · rintro ⟨b, e, h1, h2⟩
      exact ⟨b, h1.1.2.2.1, by have := h1.1.2.1; have := h1.2.1; omega, (G b e h1 b n (Nat.le_refl _) h1.1.2.1).mpr (Or.inr ⟨rfl, h2⟩)⟩
    · rintro ⟨b, k1, k2, k3⟩
      obtain ⟨e, he⟩ := ex b k1 k2
      rcases (G b e he b n (Nat.le_refl _) he.1.2.1).mp k3 with q | q
      · have h1 := he.2.1
        have : e = n := by omega
        rw [this] at he q
        exact ⟨b, n, he, q.2.2⟩
      · exact ⟨b, e, he, q.2⟩
  · refine gr_gs_c F (fun k => ?_)
    constructor
    · rintro ⟨b, e, h1, p, p1, p2, p3, p4, p5⟩
      have := h1.1.1
      have := h1.2.1
      exact ⟨p, by omega, by omega, p3, p4, b, h1.1.2.2.1, by omega, (G b e h1 b p (Nat.le_refl _) h1.1.2.1).mpr (Or.inl ⟨p1, by omega, p5⟩)⟩
    · rintro ⟨p, p1, p2, p3, p4, b, k1, k2, k3⟩
      obtain ⟨e, he⟩ := ex b k1 k2
      rcases (G b e he b p (Nat.le_refl _) he.1.2.1).mp k3 with q | q
      · have : p ≠ e := fun z => nle b e he (by rw [← z]; exact p3)
        exact ⟨b, e, he, p, q.1, by omega, p3, p4, q.2.2⟩
      · omega
  · refine gr_gs_c L (fun k => ?_)
    constructor
    · rintro ⟨b, e, h1, p, p1, p2, p3, p4, p5⟩
      have := h1.1.1
      have := h1.2.1
      exact ⟨p, by omega, by omega, p3, p4, (G b e h1 (p + 1) n (by omega) (by omega)).mpr (Or.inr ⟨rfl, p5⟩)⟩
    · rintro ⟨p, p1, p2, p3, p4, p5⟩
      obtain ⟨b, e, he, q1, q2⟩ := cov p p1 p2 p3
      rcases (G b e he (p + 1) n (by omega) (by omega)).mp p5 with q | q
      · have h1 := he.2.1
        have e1 : e = n := by omega
        subst e1
        exact ⟨b, e, he, p, q1, q2, p3, p4, q.2.2⟩
      · exact ⟨b, e, he, p, q1, q2, p3, p4, q.2⟩
  · intro p p1 p2 p3
    obtain ⟨b, e, he, q1, q2⟩ := cov p p1 p2 p3
    refine gr_gs_c (KK b e he p q1 q2 p3) (fun k => ?_)
    have := he.1.1
    have := he.2.1
    constructor
    · rintro ⟨q, g1, g2, g3, g4, g5⟩
      exact ⟨q, by omega, by omega, g3, g4, (G b e he (p + 1) q (by omega) (by omega)).mpr (Or.inl ⟨g1, by omega, g5⟩)⟩
    · rintro ⟨q, g1, g2, g3, g4, g5⟩
      rcases (G b e he (p + 1) q (by omega) (by omega)).mp g5 with z | z
      · have : q ≠ e := fun w => nle b e he (by rw [← w]; exact g3)
        exact ⟨q, z.1, by omega, g3, g4, z.2.2⟩
      · omega
end
end
section
/-! the evaluation by levels: closed branches, the concatenation so far, the pending atom -/
def ev_Bc (t : Nat → Nat) (D : Nat → Int) (lo : Nat) (d : Int) (i b e : Nat) : Prop := gr_Br t D lo d b e ∧ t e = 18 ∧ e < i
def ev_G (t : Nat → Nat) (D : Nat → Int) (B i l a : Nat) (lo bb : Nat → Nat) : Prop :=
  B ≤ i ∧ D i = (l : Int) ∧ a ≤ i ∧ bb l ≤ a ∧ D a = (l : Int) ∧ lo 0 = B ∧
  (∀ j, j ≤ l → B ≤ lo j ∧ lo j ≤ bb j ∧ gr_St t D (lo j) (j : Int) (bb j) ∧ D (bb j) = (j : Int) ∧ (∀ x, lo j ≤ x → x ≤ i → (j : Int) ≤ D x) ∧ ∀ x, bb j ≤ x → x < i → D x = (j : Int) → t x ≠ 18) ∧
  (∀ j, j < l → bb j < lo (j + 1) ∧ t (lo (j + 1) - 1) = 16 ∧ D (lo (j + 1) - 1) = (j : Int)) ∧
  (a < i → ¬ (19 ≤ t a ∧ t a ≤ 21) ∧ ∀ x, a < x → x < i → (l : Int) ≤ D x ∧ (D x = (l : Int) → 19 ≤ t x ∧ t x ≤ 21))
def ev_Lo (t lc : Nat → Nat) (D : Nat → Int) (B n i l : Nat) (lo bb : Nat → Nat) (aN aF aL cN cF cL fo : Nat → Int32) : Prop :=
  ∀ j, j < l → gr_Sg t lc (gr_M t D B n) (bb j) (lo (j + 1) - 1) (cN j) (cF j) (cL j) ∧ gr_FK t lc (gr_M t D B n) fo (bb j) (lo (j + 1) - 1) ∧ gr_Al t lc (gr_M t D B n) fo (ev_Bc t D (lo j) (j : Int) i) (aN j) (aF j) (aL j)
def ev_Tp (t lc : Nat → Nat) (D : Nat → Int) (B n i l a : Nat) (lo bb : Nat → Nat) (fo : Nat → Int32) (xN xF xL yN yF yL zN zF zL : Int32) : Prop :=
  gr_Al t lc (gr_M t D B n) fo (ev_Bc t D (lo l) (l : Int) i) xN xF xL ∧ gr_Sg t lc (gr_M t D B n) (bb l) a yN yF yL ∧ gr_FK t lc (gr_M t D B n) fo (bb l) a ∧ gr_Sg t lc (gr_M t D B n) a i zN zF zL ∧ gr_FK t lc (gr_M t D B n) fo a i ∧ gr_Rp (gr_M t D B n) a i
/-- leaves to come have no follow set yet; leaves of other rows keep theirs -/
def ev_Z (t lc : Nat → Nat) (B n i : Nat) (fo0 fo : Nat → Int32) : Prop :=
  (∀ p, i ≤ p → p < n → gr_Lf t p → fo (lc p) = 0) ∧ ∀ k, (∀ p, B ≤ p → p < n → gr_Lf t p → lc p ≠ k) → fo k = fo0 k
section
variable {t lc : Nat → Nat} {D : Nat → Int} {B n : Nat} {fo fo0 : Nat → Int32} {i l a : Nat} {lo bb : Nat → Nat}
theorem ev_ord (G : ev_G t D B i l a lo bb) : ∀ m, m ≤ l → bb (l - m) ≤ bb l := by
  intro m
  induction m with
  | zero => intro _; exact Nat.le_refl _
  | succ m ih =>
    intro hm
    have q := ih (by omega)
    have q1 := G.2.2.2.2.2.2.2.1 (l - (m + 1)) (by omega)
    have q2 := G.2.2.2.2.2.2.1 (l - m) (by omega)
    rw [show l - (m + 1) + 1 = l - m by omega] at q1
    omega
theorem ev_ord1 (G : ev_G t D B i l a lo bb) {j : Nat} (hj : j ≤ l) : bb j ≤ bb l := by
  have := ev_ord G (l - j) (by omega)
  rw [show l - (l - j) = j by omega] at this
  exact this
theorem ev_ord2 (G : ev_G t D B i l a lo bb) {j : Nat} (hj : j < l) : lo (j + 1) ≤ bb l := by
  have q1 := ev_ord1 G (j := j + 1) (by omega)
  have q2 := G.2.2.2.2.2.2.1 (j + 1) (by omega)
  omega
theorem ev_cls (G : ev_G t D B i l a lo bb) {j b e : Nat} (hj : j ≤ l) (h : ev_Bc t D (lo j) (j : Int) i b e) : e < bb l := by
  have q := G.2.2.2.2.2.2.1 j hj
  have q1 := ev_ord1 G hj
  apply Classical.byContradiction
  intro c
  exact q.2.2.2.2.2 e (by omega) h.2.2 h.1.2.2.2.2.1 h.2.1
theorem ev_Al_c {M : Nat → Nat → Prop} {Bs Bs' : Nat → Nat → Prop} {fo' : Nat → Int32} {nu fi la : Int32} (A : gr_Al t lc M fo Bs nu fi la) (h : ∀ b e, Bs b e ↔ Bs' b e) (hf : ∀ b e, Bs b e → gr_FK t lc M fo b e → gr_FK t lc M fo' b e) : gr_Al t lc M fo' Bs' nu fi la := by
  have e : Bs = Bs' := funext (fun b => funext (fun e => propext (h b e)))
  subst e
  exact ⟨A.1, A.2.1, A.2.2.1, fun b e hb => hf b e hb (A.2.2.2 b e hb)⟩
theorem ev_Bc_s {d : Int} {L : Nat} (ht : t i = 18 → D i ≠ d) : ∀ b e, ev_Bc t D L d i b e ↔ ev_Bc t D L d (i + 1) b e := by
  intro b e
  constructor
  · rintro ⟨h1, h2, h3⟩; exact ⟨h1, h2, by omega⟩
  · rintro ⟨h1, h2, h3⟩
    refine ⟨h1, h2, ?_⟩
    by_cases c : e = i
    · subst c; exact absurd h1.2.2.2.2.1 (ht h2)
    · omega
/-- lower levels go on: another place, other follow sets that agree on what lies below s -/
theorem ev_Lo_s {aN aF aL cN cF cL fo' : Nat → Int32} (G : ev_G t D B i l a lo bb) (h : ev_Lo t lc D B n i l lo bb aN aF aL cN cF cL fo) (ht : t i = 18 → D i = (l : Int)) (hf : ∀ b e, e ≤ bb l → gr_FK t lc (gr_M t D B n) fo b e → gr_FK t lc (gr_M t D B n) fo' b e) : ev_Lo t lc D B n (i + 1) l lo bb aN aF aL cN cF cL fo' := by
  intro j hj
  obtain ⟨h1, h2, h3⟩ := h j hj
  have q := ev_ord2 G hj
  refine ⟨h1, hf _ _ (by omega) h2, ev_Al_c h3 (ev_Bc_s (fun z => ?_)) (fun b e hb k => hf b e ?_ k)⟩
  · rw [ht z]; omega
  · have := ev_cls G (Nat.le_of_lt hj) hb; omega
theorem ev_Lo_f {aN aF aL cN cF cL fo' : Nat → Int32} (G : ev_G t D B i l a lo bb) (h : ev_Lo t lc D B n i l lo bb aN aF aL cN cF cL fo) (hf : ∀ b e, e ≤ bb l → gr_FK t lc (gr_M t D B n) fo b e → gr_FK t lc (gr_M t D B n) fo' b e) : ev_Lo t lc D B n i l lo bb aN aF aL cN cF cL fo' := by
  intro j hj
  obtain ⟨h1, h2, h3⟩ := h j hj
  have q := ev_ord2 G hj
  refine ⟨h1, hf _ _ (by omega) h2, ev_Al_c h3 (fun b e => Iff.rfl) (fun b e hb k => hf b e ?_ k)⟩
  have := ev_cls G (Nat.le_of_lt hj) hb; omega
theorem ev_Lo_a {aN aF aL cN cF cL aN' aF' aL' cN' cF' cL' : Nat → Int32} (h : ev_Lo t lc D B n i l lo bb aN aF aL cN cF cL fo) (e : ∀ j, j < l → aN' j = aN j ∧ aF' j = aF j ∧ aL' j = aL j ∧ cN' j = cN j ∧ cF' j = cF j ∧ cL' j = cL j) : ev_Lo t lc D B n i l lo bb aN' aF' aL' cN' cF' cL' fo := by
  intro j hj
  obtain ⟨e1, e2, e3, e4, e5, e6⟩ := e j hj
  rw [e1, e2, e3, e4, e5, e6]
  exact h j hj
theorem ev_join {aN aF aL cN cF cL : Nat → Int32} {xN xF xL yN yF yL zN zF zL : Int32} (H : gr_H t D B n)
    (inj : ∀ p q, gr_Lf t p → gr_Lf t q → lc p = lc q → p = q) (h8 : ∀ p, B ≤ p → p < n → gr_Lf t p → lc p < 8)
    (hin : i ≤ n) (G : ev_G t D B i l a lo bb) (hL : ev_Lo t lc D B n i l lo bb aN aF aL cN cF cL fo) (hT : ev_Tp t lc D B n i l a lo bb fo xN xF xL yN yF yL zN zF zL) (hZ : ev_Z t lc B n i fo0 fo) :
    ev_G t D B i l i lo bb ∧ ev_Lo t lc D B n i l lo bb aN aF aL cN cF cL (xl_lk fo yL zF) ∧
    ev_Tp t lc D B n i l i lo bb (xl_lk fo yL zF) xN xF xL (if zN = 0 then 0 else yN) (if yN = 0 then yF else yF ||| zF) (if zN = 0 then zL else yL ||| zL) 1 0 0 ∧ ev_Z t lc B n i fo0 (xl_lk fo yL zF) := by
  obtain ⟨g1, g2, g3, g4, g5, g6, g7, g8, g9⟩ := G
  have G : ev_G t D B i l a lo bb := ⟨g1, g2, g3, g4, g5, g6, g7, g8, g9⟩
  have gl := g7 l (Nat.le_refl _)
  obtain ⟨t1, t2, t3, t4, t5, t6⟩ := hT
  have cut := gr_cut H (s := bb l) (a := a) (e := i) (d := (l : Int)) (by omega) g4 hin (fun x x1 x2 => gl.2.2.2.2.1 x (by omega) x2) g5 (fun z => (g9 z).1) (fun x x1 x2 x3 => gl.2.2.2.2.2 x x1 x2 x3)
  have J := gr_join g4 g3 cut inj (fun p p1 p2 p3 => h8 p (by omega) (by omega) p3) t2 t4 t3 t5
  have hf : ∀ b e, e ≤ bb l → gr_FK t lc (gr_M t D B n) fo b e → gr_FK t lc (gr_M t D B n) (xl_lk fo yL zF) b e := fun b e he k => gr_FK_o inj t2.2.2 (fun p p1 p2 p3 p4 => by omega) k
  refine ⟨⟨g1, g2, Nat.le_refl _, by omega, g2, g6, g7, g8, fun z => absurd z (Nat.lt_irrefl _)⟩, ev_Lo_f G hL hf, ⟨ev_Al_c t1 (fun b e => Iff.rfl) (fun b e hb k => hf b e (Nat.le_of_lt (ev_cls G (Nat.le_refl _) hb)) k), J.1, J.2, gr_Sg_0 i, gr_FK_0 i, fun x x1 x2 => by omega⟩, ?_, ?_⟩
  · intro p p1 p2 p3
    rw [gr_lk_o t2.2.2 (fun q q1 q2 q3 q4 => by have := inj q p q3 p3 q4; omega)]
    exact hZ.1 p p1 p2 p3
  · intro k hk
    rw [gr_lk_o t2.2.2 (fun q q1 q2 q3 => hk q (by omega) (by omega) q3)]
    exact hZ.2 k hk
theorem ev_G_s (H : gr_H t D B n) (hin : i < n) (G : ev_G t D B i l i lo bb) (h16 : t i ≠ 16) (h17 : t i ≠ 17) (h18 : t i ≠ 18) (hs : ¬ (19 ≤ t i ∧ t i ≤ 21)) : ev_G t D B (i + 1) l i lo bb := by
  obtain ⟨g1, g2, g3, g4, g5, g6, g7, g8, g9⟩ := G
  have d := H.2.2.2.1 i g1 hin
  rw [gr_w0 h16 h17] at d
  refine ⟨by omega, by omega, by omega, g4, g5, g6, ?_, g8, fun _ => ⟨hs, fun x x1 x2 => by omega⟩⟩
  intro j hj
  obtain ⟨q1, q2, q3, q4, q5, q6⟩ := g7 j hj
  refine ⟨q1, q2, q3, q4, ?_, ?_⟩
  · intro x x1 x2
    by_cases e : x = i + 1
    · rw [e]; omega
    · exact q5 x x1 (by omega)
  · intro x x1 x2 x3
    by_cases e : x = i
    · rw [e]; exact h18
    · exact q6 x x1 (by omega) x3
theorem ev_atom {aN aF aL cN cF cL : Nat → Int32} {xN xF xL yN yF yL zN zF zL : Int32} (H : gr_H t D B n)
    (hin : i < n) (G : ev_G t D B i l i lo bb) (hL : ev_Lo t lc D B n i l lo bb aN aF aL cN cF cL fo) (hT : ev_Tp t lc D B n i l i lo bb fo xN xF xL yN yF yL 1 0 0) (hZ : ev_Z t lc B n i fo0 fo) (hlf : gr_Lf t i ∨ t i = 22)
    (h0 : gr_b01 zN (t i = 22)) (hF : gr_gs zF (fun k => gr_Lf t i ∧ lc i = k)) (hLa : gr_gs zL (fun k => gr_Lf t i ∧ lc i = k)) :
    ev_G t D B (i + 1) l i lo bb ∧ ev_Lo t lc D B n (i + 1) l lo bb aN aF aL cN cF cL fo ∧
    ev_Tp t lc D B n (i + 1) l i lo bb fo xN xF xL yN yF yL zN zF zL ∧ ev_Z t lc B n (i + 1) fo0 fo := by
  have e16 : t i ≠ 16 := by rcases hlf with k | k; (have := k.2; omega); omega
  have e17 : t i ≠ 17 := by rcases hlf with k | k; (have := k.2; omega); omega
  have e18 : t i ≠ 18 := by rcases hlf with k | k; (have := k.2; omega); omega
  have es : ¬ (19 ≤ t i ∧ t i ≤ 21) := by rcases hlf with k | k; (have := k.2; omega); omega
  obtain ⟨t1, t2, t3, t4, t5, t6⟩ := hT
  have hM : gr_M t D B n i (i + 1) ↔ t i = 22 := by
    constructor
    · rintro (m | m | m | m | m)
      · rcases hlf with k | k
        · have := k.2; omega
        · exact k
      · omega
      · omega
      · omega
      · have := m.2.2.1; omega
    · intro e; left; omega
  refine ⟨ev_G_s H hin G e16 e17 e18 es, ev_Lo_s G hL (fun z => absurd z e18) (fun _ _ _ k => k), ⟨ev_Al_c t1 (ev_Bc_s (fun z => absurd z e18)) (fun _ _ _ k => k), t2, t3, ⟨?_, ?_, ?_⟩, ?_, ?_⟩, fun p p1 p2 p3 => hZ.1 p (by omega) p2 p3, hZ.2⟩
  · refine gr_b01_c h0 ?_
    rw [← hM]
    constructor
    · intro m; exact gr_R1 gr_R0 (Nat.le_refl _) (by omega) (by omega) (Nat.le_refl _) m
    · intro r
      have := r (fun y => y = i + 1 → gr_M t D B n i (i + 1)) (fun z => by omega) (by
        intro g h c1 c2 c3 c4 k m z
        have : g = i := by omega
        subst this; subst z; exact m)
      exact this rfl
  · refine gr_gs_c hF (fun k => ?_)
    constructor
    · rintro ⟨k1, k2⟩; exact ⟨i, Nat.le_refl _, by omega, k1, k2, gr_R0⟩
    · rintro ⟨p, p1, p2, p3, p4, _⟩
      have : p = i := by omega
      subst this; exact ⟨p3, p4⟩
  · refine gr_gs_c hLa (fun k => ?_)
    constructor
    · rintro ⟨k1, k2⟩; exact ⟨i, Nat.le_refl _, by omega, k1, k2, gr_R0⟩
    · rintro ⟨p, p1, p2, p3, p4, _⟩
      have : p = i := by omega
      subst this; exact ⟨p3, p4⟩
  · intro p p1 p2 p3
    have : p = i := by omega
    subst this
    rw [hZ.1 p (Nat.le_refl _) hin p3]
    apply gr_gs_0
    rintro k ⟨q, q1, q2, q3, q4, q5⟩
    have := gr_Rend q5
    omega
  · intro x x1 x2 r
    have : x = i + 1 := by omega
    subst this
    have := gr_Rend r
    omega
theorem ev_opn {aN aF aL cN cF cL : Nat → Int32} (H : gr_H t D B n)
    (hin : i < n) (G : ev_G t D B i l i lo bb) (hL : ev_Lo t lc D B n i l lo bb aN aF aL cN cF cL fo) (hT : ev_Tp t lc D B n i l i lo bb fo (aN l) (aF l) (aL l) (cN l) (cF l) (cL l) 1 0 0) (hZ : ev_Z t lc B n i fo0 fo) (h16 : t i = 16) :
    ∃ lo' bb' : Nat → Nat, ev_G t D B (i + 1) (l + 1) (i + 1) lo' bb' ∧ ev_Lo t lc D B n (i + 1) (l + 1) lo' bb' aN aF aL cN cF cL fo ∧
    ev_Tp t lc D B n (i + 1) (l + 1) (i + 1) lo' bb' fo 0 0 0 1 0 0 1 0 0 ∧ ev_Z t lc B n (i + 1) fo0 fo := by
  obtain ⟨t1, t2, t3, t4, t5, t6⟩ := hT
  have hLs := ev_Lo_s (fo' := fo) G hL (fun z => by omega) (fun _ _ _ k => k)
  obtain ⟨g1, g2, g3, g4, g5, g6, g7, g8, g9⟩ := G
  have d := H.2.2.2.1 i g1 hin
  rw [gr_w16 h16] at d
  have lo1 : ∀ j, j ≤ l → (if j = l + 1 then i + 1 else lo j) = lo j := fun j hj => if_neg (by omega)
  have bb1 : ∀ j, j ≤ l → (if j = l + 1 then i + 1 else bb j) = bb j := fun j hj => if_neg (by omega)
  refine ⟨fun j => if j = l + 1 then i + 1 else lo j, fun j => if j = l + 1 then i + 1 else bb j, ⟨by omega, by omega, Nat.le_refl _, ?_, by omega, ?_, ?_, ?_, fun z => absurd z (Nat.lt_irrefl _)⟩, ?_, ⟨?_, ?_, ?_, ?_, ?_, ?_⟩, fun p p1 p2 p3 => hZ.1 p (by omega) p2 p3, hZ.2⟩
  · show (if l + 1 = l + 1 then i + 1 else bb (l + 1)) ≤ i + 1
    rw [if_pos rfl]; exact Nat.le_refl _
  · show (if 0 = l + 1 then i + 1 else lo 0) = B
    rw [if_neg (by omega)]; exact g6
  · intro j hj
    dsimp only
    by_cases c : j = l + 1
    · rw [if_pos c, if_pos c]
      refine ⟨by omega, Nat.le_refl _, Or.inl rfl, by omega, ?_, ?_⟩
      · intro x x1 x2
        have : x = i + 1 := by omega
        rw [this]; omega
      · intro x x1 x2; omega
    · rw [lo1 j (by omega), bb1 j (by omega)]
      obtain ⟨q1, q2, q3, q4, q5, q6⟩ := g7 j (by omega)
      refine ⟨q1, q2, q3, q4, ?_, ?_⟩
      · intro x x1 x2
        by_cases e : x = i + 1
        · rw [e]; omega
        · exact q5 x x1 (by omega)
      · intro x x1 x2 x3
        by_cases e : x = i
        · rw [e]; omega
        · exact q6 x x1 (by omega) x3
  · intro j hj
    dsimp only
    rw [bb1 j (by omega)]
    by_cases c : j = l
    · subst c
      rw [if_pos rfl, Nat.add_sub_cancel]
      exact ⟨by omega, h16, g2⟩
    · rw [if_neg (by omega)]
      exact g8 j (by omega)
  · intro j hj
    dsimp only
    rw [lo1 j (by omega), bb1 j (by omega)]
    by_cases c : j = l
    · subst c
      rw [if_pos rfl, Nat.add_sub_cancel]
      exact ⟨t2, t3, ev_Al_c t1 (ev_Bc_s (fun z => by omega)) (fun _ _ _ k => k)⟩
    · rw [if_neg (by omega)]
      exact hLs j (by omega)
  · dsimp only
    rw [if_pos rfl]
    have none : ∀ b e, ¬ ev_Bc t D (i + 1) ((l + 1 : Nat) : Int) (i + 1) b e := by
      rintro b e ⟨h1, h2, h3⟩
      have := h1.1
      have := h1.2.1
      omega
    refine ⟨Or.inr ⟨rfl, ?_⟩, gr_gs_0 ?_, gr_gs_0 ?_, ?_⟩
    · rintro ⟨b, e, h, _⟩; exact none b e h
    · rintro k ⟨b, e, h, _⟩; exact none b e h
    · rintro k ⟨b, e, h, _⟩; exact none b e h
    · intro b e h; exact absurd h (none b e)
  · dsimp only; rw [if_pos rfl]; exact gr_Sg_0 _
  · dsimp only; rw [if_pos rfl]; exact gr_FK_0 _
  · exact gr_Sg_0 _
  · exact gr_FK_0 _
  · intro x x1 x2; omega
theorem ev_suf {aN aF aL cN cF cL : Nat → Int32} {xN xF xL yN yF yL zN zF zL zN' : Int32} (H : gr_H t D B n)
    (inj : ∀ p q, gr_Lf t p → gr_Lf t q → lc p = lc q → p = q) (h8 : ∀ p, B ≤ p → p < n → gr_Lf t p → lc p < 8)
    (hin : i < n) (ha : a < i) (G : ev_G t D B i l a lo bb) (hL : ev_Lo t lc D B n i l lo bb aN aF aL cN cF cL fo) (hT : ev_Tp t lc D B n i l a lo bb fo xN xF xL yN yF yL zN zF zL) (hZ : ev_Z t lc B n i fo0 fo)
    (hs : 19 ≤ t i ∧ t i ≤ 21) (hn : gr_b01 zN' ((t i = 19 ∨ t i = 21) ∨ zN = 1)) {fo' : Nat → Int32} (hfo : (t i = 19 ∨ t i = 20) ∧ fo' = xl_lk fo zL zF ∨ ¬ (t i = 19 ∨ t i = 20) ∧ fo' = fo) :
    ev_G t D B (i + 1) l a lo bb ∧ ev_Lo t lc D B n (i + 1) l lo bb aN aF aL cN cF cL fo' ∧
    ev_Tp t lc D B n (i + 1) l a lo bb fo' xN xF xL yN yF yL zN' zF zL ∧ ev_Z t lc B n (i + 1) fo0 fo' := by
  obtain ⟨g1, g2, g3, g4, g5, g6, g7, g8, g9⟩ := G
  have G : ev_G t D B i l a lo bb := ⟨g1, g2, g3, g4, g5, g6, g7, g8, g9⟩
  obtain ⟨t1, t2, t3, t4, t5, t6⟩ := hT
  have gl := g7 l (Nat.le_refl _)
  have d := H.2.2.2.1 i g1 hin
  rw [gr_w0 (by omega) (by omega)] at d
  have sh := g9 ha
  have A : gr_At t D B a i := by
    refine ⟨by omega, ha, by omega, sh.1, ?_⟩
    intro x x1 x2
    by_cases e : x = i
    · rw [e]; exact ⟨by omega, fun _ => hs⟩
    · have := sh.2 x x1 (by omega)
      rw [g5]; exact this
  have sf := gr_suf H hin A hs
  have nl : ¬ gr_Lf t i := fun z => by have := z.2; omega
  have S := gr_sufS ha sf.1 sf.2 nl t6 t4 hn
  have K := gr_sufK (fo := fo) ha sf.1 sf.2 nl inj (fun p p1 p2 p3 => h8 p (by omega) (by omega) p3) t4 t5
  have hf : ∀ b e, e ≤ a → gr_FK t lc (gr_M t D B n) fo b e → gr_FK t lc (gr_M t D B n) fo' b e := by
    intro b e he k
    rcases hfo with q | q
    · rw [q.2]
      exact gr_FK_o inj t4.2.2 (fun p p1 p2 p3 p4 => by omega) k
    · rw [q.2]; exact k
  refine ⟨⟨by omega, by omega, by omega, g4, g5, g6, ?_, g8, fun _ => ⟨sh.1, ?_⟩⟩, ev_Lo_s G hL (fun z => by omega) (fun b e he k => hf b e (by omega) k), ⟨ev_Al_c t1 (ev_Bc_s (fun z => by omega)) (fun b e hb k => hf b e (by have := ev_cls G (Nat.le_refl _) hb; omega) k), t2, hf _ _ (Nat.le_refl _) t3, S.1, ?_, S.2⟩, ?_, ?_⟩
  · intro j hj
    obtain ⟨q1, q2, q3, q4, q5, q6⟩ := g7 j hj
    refine ⟨q1, q2, q3, q4, ?_, ?_⟩
    · intro x x1 x2
      by_cases e : x = i + 1
      · rw [e]; omega
      · exact q5 x x1 (by omega)
    · intro x x1 x2 x3
      by_cases e : x = i
      · rw [e]; omega
      · exact q6 x x1 (by omega) x3
  · intro x x1 x2
    by_cases e : x = i
    · rw [e]; exact ⟨by omega, fun _ => hs⟩
    · exact sh.2 x x1 (by omega)
  · rcases hfo with q | q
    · rw [q.2]; exact K.1 q.1
    · rw [q.2]; exact K.2 q.1
  · intro p p1 p2 p3
    rcases hfo with q | q
    · rw [q.2, gr_lk_o t4.2.2 (fun r r1 r2 r3 r4 => by have := inj r p r3 p3 r4; omega)]
      exact hZ.1 p (by omega) p2 p3
    · rw [q.2]; exact hZ.1 p (by omega) p2 p3
  · intro k hk
    rcases hfo with q | q
    · rw [q.2, gr_lk_o t4.2.2 (fun r r1 r2 r3 => hk r (by omega) (by omega) r3)]
      exact hZ.2 k hk
    · rw [q.2]; exact hZ.2 k hk
/-- a branch ends at i -/
theorem ev_end {xN xF xL yN yF yL : Int32} (G : ev_G t D B i l i lo bb) (hT : ev_Tp t lc D B n i l i lo bb fo xN xF xL yN yF yL 1 0 0) : gr_Al t lc (gr_M t D B n) fo (gr_Bs t D (lo l) (l : Int) i) (if yN = 0 then xN else 1) (xF ||| yF) (xL ||| yL) := by
  obtain ⟨g1, g2, g3, g4, g5, g6, g7, g8, g9⟩ := G
  obtain ⟨t1, t2, t3, t4, t5, t6⟩ := hT
  obtain ⟨q1, q2, q3, q4, q5, q6⟩ := g7 l (Nat.le_refl _)
  refine gr_Al_add t1 t2 t3 ?_
  intro b e
  constructor
  · rintro ⟨h1, h2, k | k⟩
    · exact Or.inl ⟨h1, k.1, k.2⟩
    · right
      subst k
      refine ⟨?_, rfl⟩
      rcases Nat.lt_trichotomy b (bb l) with c | c | c
      · exfalso
        rcases q3 with w | w
        · have := h1.1; omega
        · exact h1.2.2.2.2.2 (bb l - 1) (by omega) (by omega) w.2.2 w.2.1
      · exact c
      · exfalso
        rcases h1.2.2.1 with w | w
        · omega
        · exact q6 (b - 1) (by omega) (by have := h1.2.1; omega) w.2.2 w.2.1
  · rintro (h | ⟨h1, h2⟩)
    · exact ⟨h.1, Nat.le_of_lt h.2.2, Or.inl ⟨h.2.1, h.2.2⟩⟩
    · subst h1 h2
      exact ⟨⟨q2, g4, q3, q4, g2, fun x x1 x2 x3 => q6 x x1 x2 x3⟩, Nat.le_refl _, Or.inr rfl⟩
theorem ev_bar {aN aF aL cN cF cL : Nat → Int32} {xN xF xL yN yF yL : Int32} (H : gr_H t D B n)
    (hin : i < n) (G : ev_G t D B i l i lo bb) (hL : ev_Lo t lc D B n i l lo bb aN aF aL cN cF cL fo) (hT : ev_Tp t lc D B n i l i lo bb fo xN xF xL yN yF yL 1 0 0) (hZ : ev_Z t lc B n i fo0 fo) (h18 : t i = 18) :
    ∃ bb' : Nat → Nat, ev_G t D B (i + 1) l (i + 1) lo bb' ∧ ev_Lo t lc D B n (i + 1) l lo bb' aN aF aL cN cF cL fo ∧
    ev_Tp t lc D B n (i + 1) l (i + 1) lo bb' fo (if yN = 0 then xN else 1) (xF ||| yF) (xL ||| yL) 1 0 0 1 0 0 ∧ ev_Z t lc B n (i + 1) fo0 fo := by
  have E := ev_end G hT
  have hLs := ev_Lo_s (fo' := fo) G hL (fun z => G.2.1) (fun _ _ _ k => k)
  obtain ⟨g1, g2, g3, g4, g5, g6, g7, g8, g9⟩ := G
  obtain ⟨q1, q2, q3, q4, q5, q6⟩ := g7 l (Nat.le_refl _)
  have d := H.2.2.2.1 i g1 hin
  rw [gr_w0 (by omega) (by omega)] at d
  have bb1 : ∀ j, j < l → (if j = l then i + 1 else bb j) = bb j := fun j hj => if_neg (by omega)
  refine ⟨fun j => if j = l then i + 1 else bb j, ⟨by omega, by omega, Nat.le_refl _, ?_, by omega, g6, ?_, ?_, fun z => absurd z (Nat.lt_irrefl _)⟩, ?_, ⟨?_, ?_, ?_, ?_, ?_, ?_⟩, fun p p1 p2 p3 => hZ.1 p (by omega) p2 p3, hZ.2⟩
  · dsimp only; rw [if_pos rfl]; exact Nat.le_refl _
  · intro j hj
    dsimp only
    by_cases c : j = l
    · subst c
      rw [if_pos rfl]
      refine ⟨q1, by omega, Or.inr ⟨by omega, by rw [Nat.add_sub_cancel]; exact h18, by rw [Nat.add_sub_cancel]; exact g2⟩, by omega, ?_, ?_⟩
      · intro x x1 x2
        by_cases e : x = i + 1
        · rw [e]; omega
        · exact q5 x x1 (by omega)
      · intro x x1 x2; omega
    · rw [bb1 j (by omega)]
      obtain ⟨r1, r2, r3, r4, r5, r6⟩ := g7 j hj
      refine ⟨r1, r2, r3, r4, ?_, ?_⟩
      · intro x x1 x2
        by_cases e : x = i + 1
        · rw [e]; omega
        · exact r5 x x1 (by omega)
      · intro x x1 x2 x3
        by_cases e : x = i
        · rw [e] at x3; omega
        · exact r6 x x1 (by omega) x3
  · intro j hj
    dsimp only
    rw [bb1 j hj]
    exact g8 j hj
  · intro j hj
    dsimp only
    rw [bb1 j hj]
    exact hLs j hj
  · refine ev_Al_c E ?_ (fun _ _ _ k => k)
    intro b e
    constructor
    · rintro ⟨h1, h2, k | k⟩
      · exact ⟨h1, k.1, by omega⟩
      · exact ⟨h1, by rw [k]; exact h18, by omega⟩
    · rintro ⟨h1, h2, h3⟩
      refine ⟨h1, by omega, ?_⟩
      by_cases c : e = i
      · exact Or.inr c
      · exact Or.inl ⟨h2, by omega⟩
  · dsimp only; rw [if_pos rfl]; exact gr_Sg_0 _
  · dsimp only; rw [if_pos rfl]; exact gr_FK_0 _
  · exact gr_Sg_0 _
  · exact gr_FK_0 _
  · intro x x1 x2; omega
theorem ev_cls17 {aN aF aL cN cF cL : Nat → Int32} {xN xF xL yN yF yL : Int32} (H : gr_H t D B n)
    (hin : i < n) (G : ev_G t D B i (l + 1) i lo bb) (hL : ev_Lo t lc D B n i (l + 1) lo bb aN aF aL cN cF cL fo) (hT : ev_Tp t lc D B n i (l + 1) i lo bb fo xN xF xL yN yF yL 1 0 0) (hZ : ev_Z t lc B n i fo0 fo) (h17 : t i = 17) :
    ev_G t D B (i + 1) l (lo (l + 1) - 1) lo bb ∧ lo (l + 1) - 1 < i ∧ ev_Lo t lc D B n (i + 1) l lo bb aN aF aL cN cF cL fo ∧
    ev_Tp t lc D B n (i + 1) l (lo (l + 1) - 1) lo bb fo (aN l) (aF l) (aL l) (cN l) (cF l) (cL l) (if yN = 0 then xN else 1) (xF ||| yF) (xL ||| yL) ∧ ev_Z t lc B n (i + 1) fo0 fo := by
  have E := ev_end G hT
  have hLs := ev_Lo_s (fo' := fo) G hL (fun z => by omega) (fun _ _ _ k => k)
  obtain ⟨g1, g2, g3, g4, g5, g6, g7, g8, g9⟩ := G
  obtain ⟨q1, q2, q3, q4, q5, q6⟩ := g7 (l + 1) (Nat.le_refl _)
  obtain ⟨w1, w2, w3⟩ := g8 l (by omega)
  have d := H.2.2.2.1 i g1 hin
  rw [gr_w17 h17] at d
  obtain ⟨o, ho⟩ : ∃ o, lo (l + 1) = o + 1 := ⟨lo (l + 1) - 1, by omega⟩
  rw [ho] at w1 w2 w3 q1 q2 q3 q5 E
  rw [Nat.add_sub_cancel] at w2 w3
  rw [ho, Nat.add_sub_cancel]
  have qq := g7 l (by omega)
  have gp := gr_grp H (o := o) (c := i) (d := ((l + 1 : Nat) : Int)) (by omega) w2 (by omega) hin h17 (by omega) g2 q5 E
  have lw := hLs l (by omega)
  rw [ho, Nat.add_sub_cancel] at lw
  refine ⟨⟨by omega, by omega, by omega, by omega, w3, g6, ?_, fun j hj => g8 j (by omega), fun _ => ⟨by omega, ?_⟩⟩, by omega, fun j hj => hLs j (by omega), ⟨lw.2.2, lw.1, lw.2.1, gp.1, gp.2.1, gp.2.2⟩, fun p p1 p2 p3 => hZ.1 p (by omega) p2 p3, hZ.2⟩
  · intro j hj
    obtain ⟨r1, r2, r3, r4, r5, r6⟩ := g7 j (by omega)
    refine ⟨r1, r2, r3, r4, ?_, ?_⟩
    · intro x x1 x2
      by_cases e : x = i + 1
      · rw [e]; omega
      · exact r5 x x1 (by omega)
    · intro x x1 x2 x3
      by_cases e : x = i
      · rw [e]; omega
      · exact r6 x x1 (by omega) x3
  · intro x x1 x2
    have := q5 x (by omega) (by omega)
    exact ⟨by omega, fun z => by omega⟩
/-- the beginning -/
theorem ev_start {aN aF aL cN cF cL : Nat → Int32} (H : gr_H t D B n) (hz : ∀ p, B ≤ p → p < n → gr_Lf t p → fo (lc p) = 0) :
    ev_G t D B B 0 B (fun _ => B) (fun _ => B) ∧ ev_Lo t lc D B n B 0 (fun _ => B) (fun _ => B) aN aF aL cN cF cL fo ∧
    ev_Tp t lc D B n B 0 B (fun _ => B) (fun _ => B) fo 0 0 0 1 0 0 1 0 0 ∧ ev_Z t lc B n B fo fo := by
  have hB := H.2.2.2.2.2.1.1
  refine ⟨⟨Nat.le_refl _, by rw [hB]; rfl, Nat.le_refl _, Nat.le_refl _, by rw [hB]; rfl, rfl, ?_, fun j hj => absurd hj (by omega), fun z => absurd z (Nat.lt_irrefl _)⟩, fun j hj => absurd hj (by omega), ⟨?_, gr_Sg_0 _, gr_FK_0 _, gr_Sg_0 _, gr_FK_0 _, fun x x1 x2 => by omega⟩, hz, fun _ _ => rfl⟩
  · intro j hj
    have : j = 0 := by omega
    subst this
    refine ⟨Nat.le_refl _, Nat.le_refl _, Or.inl rfl, by rw [hB]; rfl, ?_, ?_⟩
    · intro x x1 x2
      have x1 : B ≤ x := x1
      have : x = B := by omega
      rw [this, hB]; exact Int.le_refl _
    · intro x x1 x2
      have x1 : B ≤ x := x1
      omega
  · have none : ∀ b e, ¬ ev_Bc t D B ((0 : Nat) : Int) B b e := by
      rintro b e ⟨h1, h2, h3⟩
      have := h1.1
      have := h1.2.1
      omega
    refine ⟨Or.inr ⟨rfl, ?_⟩, gr_gs_0 ?_, gr_gs_0 ?_, ?_⟩
    · rintro ⟨b, e, h, _⟩; exact none b e h
    · rintro k ⟨b, e, h, _⟩; exact none b e h
    · rintro k ⟨b, e, h, _⟩; exact none b e h
    · intro b e h; exact absurd h (none b e)
end
end
section
/-! X: link, join, close, suffix, evaluate -/
theorem xl_and1 (y : Int32) : (y &&& 1) = 0 ↔ bt y 0 = false := by
  constructor
  · intro h
    have := b_and y 1 0
    rw [h, b_0] at this
    have e1 : bt 1 0 = true := by decide
    rw [e1, Bool.and_true] at this
    exact this.symm
  · intro h
    apply b_ext
    intro i hi
    rw [b_and, b_0]
    by_cases c : i = 0
    · subst c; rw [h]; rfl
    · have : bt 1 i = false := by
        have : ∀ i, i < 32 → i ≠ 0 → bt 1 i = false := by decide
        exact this i hi c
      rw [this, Bool.and_false]
theorem xl_bit {l : Int32} {k : Nat} (hk : k < 32) : ((l >>> (nI k &&& 31)) &&& 1) = 0 ↔ bt l k = false := by
  rw [xl_and1, b_sshr k hk l (by decide), if_pos (by omega)]
  rfl
section
variable {f_letters f_maxRules f_maxLeaves f_maxText f_tokenCount f_depth f_leafCount f_finishedLeaves f_ruleCount f_rawCount f_stateTotal f_aliveRules f_compiled f_textLength f_closed f_lexCount f_position : Int32} {a_tokens a_masks a_follow a_ruleNull a_ruleFirst a_ruleLast a_altNull a_altFirst a_altLast a_catNull a_catFirst a_catLast a_atomNull a_atomFirst a_atomLast a_rawSet a_rawOfSet a_rawDelta a_rawLabel a_letterLeaves a_classOf a_nextClass a_classRep a_slotClass a_numberOf a_queue a_delta a_stateLabel a_extendable a_text a_lexRule a_lexLength a_trail : Nat → Int32} {a_slotKey a_failed : Nat → Int64}
theorem xw_link_l {post : SX → Prop} {l f : Int32} : ∀ (d k : Nat) (fo : Nat → Int32), k + d = 8 → post (f_letters, f_maxRules, f_maxLeaves, f_maxText, f_tokenCount, f_depth, f_leafCount, f_finishedLeaves, f_ruleCount, f_rawCount, f_stateTotal, f_aliveRules, f_compiled, f_textLength, f_closed, f_lexCount, f_position, a_tokens, a_masks, (fun j => if k ≤ j ∧ j < 8 ∧ bt l j = true then fo j ||| f else fo j), a_ruleNull, a_ruleFirst, a_ruleLast, a_altNull, a_altFirst, a_altLast, a_catNull, a_catFirst, a_catLast, a_atomNull, a_atomFirst, a_atomLast, a_rawSet, a_rawOfSet, a_rawDelta, a_rawLabel, a_letterLeaves, a_classOf, a_nextClass, a_classRep, a_slotClass, a_slotKey, a_numberOf, a_queue, a_delta, a_stateLabel, a_extendable, a_text, a_lexRule, a_lexLength, a_failed, a_trail) → wX_link_2 post l f f_letters f_maxRules f_maxLeaves f_maxText f_tokenCount f_depth f_leafCount f_finishedLeaves f_ruleCount f_rawCount f_stateTotal f_aliveRules f_compiled f_textLength f_closed f_lexCount f_position (d + 1) (nI k) a_tokens a_masks fo a_ruleNull a_ruleFirst a_ruleLast a_altNull a_altFirst a_altLast a_catNull a_catFirst a_catLast a_atomNull a_atomFirst a_atomLast a_rawSet a_rawOfSet a_rawDelta a_rawLabel a_letterLeaves a_classOf a_nextClass a_classRep a_slotClass a_slotKey a_numberOf a_queue a_delta a_stateLabel a_extendable a_text a_lexRule a_lexLength a_failed a_trail := by
  intro d
  induction d with
  | zero =>
    intro k fo hk hp
    have e : (fun j => if k ≤ j ∧ j < 8 ∧ bt l j = true then fo j ||| f else fo j) = fo := by
      funext j
      exact if_neg (fun h => by omega)
    rw [e] at hp
    have hk8 : k = 8 := by omega
    subst hk8
    exact br_t (nI_le (a := 8) (by omega) (by omega)) hp
  | succ d ih =>
    intro k fo hk hp
    have hi : vp_in (nI k) 8 := vp_in_nI (by omega) (by omega)
    refine br_f (nI_ge (b := 8) (by omega) (by omega)) (br_c (fun h => nm_r (nI_1 k) (ih (k + 1) fo (by omega) ?_)) (fun h => ⟨hi, hi, nm_r (e' := upd fo k (fo k ||| f)) (by rw [nI_clamp (by omega)]) (nm_r (nI_1 k) (ih (k + 1) _ (by omega) ?_))⟩))
    · rw [xl_bit (by omega)] at h
      have e : (fun j => if k + 1 ≤ j ∧ j < 8 ∧ bt l j = true then fo j ||| f else fo j) = (fun j => if k ≤ j ∧ j < 8 ∧ bt l j = true then fo j ||| f else fo j) := by
        funext j
        by_cases c : j = k
        · subst c
          rw [if_neg (fun z => by omega), if_neg (fun z => by rw [h] at z; exact absurd z.2.2 (by decide))]
        · by_cases c2 : k + 1 ≤ j ∧ j < 8 ∧ bt l j = true
          · rw [if_pos c2, if_pos ⟨by omega, c2.2⟩]
          · rw [if_neg c2, if_neg (fun z => c2 ⟨by omega, z.2⟩)]
      rw [e]; exact hp
    · have h : bt l k = true := by
        rw [xl_bit (by omega)] at h
        exact ts_nf h
      have e : (fun j => if k + 1 ≤ j ∧ j < 8 ∧ bt l j = true then upd fo k (fo k ||| f) j ||| f else upd fo k (fo k ||| f) j) = (fun j => if k ≤ j ∧ j < 8 ∧ bt l j = true then fo j ||| f else fo j) := by
        funext j
        by_cases c : j = k
        · subst c
          rw [if_neg (fun z => by omega), if_pos ⟨Nat.le_refl _, by omega, h⟩, pk_us]
        · rw [pk_un c]
          by_cases c2 : k + 1 ≤ j ∧ j < 8 ∧ bt l j = true
          · rw [if_pos c2, if_pos ⟨by omega, c2.2⟩]
          · rw [if_neg c2, if_neg (fun z => c2 ⟨by omega, z.2⟩)]
      rw [e]; exact hp
theorem xw_link {post : SX → Prop} {l f : Int32} (h : post (f_letters, f_maxRules, f_maxLeaves, f_maxText, f_tokenCount, f_depth, f_leafCount, f_finishedLeaves, f_ruleCount, f_rawCount, f_stateTotal, f_aliveRules, f_compiled, f_textLength, f_closed, f_lexCount, f_position, a_tokens, a_masks, (xl_lk a_follow l f), a_ruleNull, a_ruleFirst, a_ruleLast, a_altNull, a_altFirst, a_altLast, a_catNull, a_catFirst, a_catLast, a_atomNull, a_atomFirst, a_atomLast, a_rawSet, a_rawOfSet, a_rawDelta, a_rawLabel, a_letterLeaves, a_classOf, a_nextClass, a_classRep, a_slotClass, a_slotKey, a_numberOf, a_queue, a_delta, a_stateLabel, a_extendable, a_text, a_lexRule, a_lexLength, a_failed, a_trail)) : wpX_link post (f_letters, f_maxRules, f_maxLeaves, f_maxText, f_tokenCount, f_depth, f_leafCount, f_finishedLeaves, f_ruleCount, f_rawCount, f_stateTotal, f_aliveRules, f_compiled, f_textLength, f_closed, f_lexCount, f_position, a_tokens, a_masks, a_follow, a_ruleNull, a_ruleFirst, a_ruleLast, a_altNull, a_altFirst, a_altLast, a_catNull, a_catFirst, a_catLast, a_atomNull, a_atomFirst, a_atomLast, a_rawSet, a_rawOfSet, a_rawDelta, a_rawLabel, a_letterLeaves, a_classOf, a_nextClass, a_classRep, a_slotClass, a_slotKey, a_numberOf, a_queue, a_delta, a_stateLabel, a_extendable, a_text, a_lexRule, a_lexLength, a_failed, a_trail) l f := by
  refine ⟨9, xw_link_l 8 0 a_follow rfl ?_⟩
  have e : (fun j => if 0 ≤ j ∧ j < 8 ∧ bt l j = true then a_follow j ||| f else a_follow j) = xl_lk a_follow l f := by
    funext j
    unfold xl_lk
    by_cases c : j < 8 ∧ bt l j = true
    · rw [if_pos c, if_pos ⟨Nat.zero_le _, c⟩]
    · rw [if_neg c, if_neg (fun z => c z.2)]
  rw [e]; exact h
theorem xl_uid (f : Nat → Int32) (k : Nat) : upd f k (f k) = f := by
  funext j
  by_cases c : j = k
  · subst c; exact pk_us
  · exact pk_un c
theorem xl_uu (f : Nat → Int32) (k : Nat) (x y : Int32) : upd (upd f k x) k y = upd f k y := by
  funext j
  by_cases c : j = k
  · subst c; rw [pk_us, pk_us]
  · rw [pk_un c, pk_un c, pk_un c]
theorem xl_cl {l : Nat} (hl : l < 7) : (nI l).toNatClampNeg = l := nI_clamp (by omega)
theorem xl_nb0 : vp_nar .boolean 0 = 0 := rfl
theorem xl_nb1 : vp_nar .boolean 1 = 1 := rfl
theorem xw_resetAtom {post : SX → Prop} {l : Nat} (hl : l < 7) (h : post (f_letters, f_maxRules, f_maxLeaves, f_maxText, f_tokenCount, f_depth, f_leafCount, f_finishedLeaves, f_ruleCount, f_rawCount, f_stateTotal, f_aliveRules, f_compiled, f_textLength, f_closed, f_lexCount, f_position, a_tokens, a_masks, a_follow, a_ruleNull, a_ruleFirst, a_ruleLast, a_altNull, a_altFirst, a_altLast, a_catNull, a_catFirst, a_catLast, (upd a_atomNull l 1), (upd a_atomFirst l 0), (upd a_atomLast l 0), a_rawSet, a_rawOfSet, a_rawDelta, a_rawLabel, a_letterLeaves, a_classOf, a_nextClass, a_classRep, a_slotClass, a_slotKey, a_numberOf, a_queue, a_delta, a_stateLabel, a_extendable, a_text, a_lexRule, a_lexLength, a_failed, a_trail)) : wpX_resetAtom post (f_letters, f_maxRules, f_maxLeaves, f_maxText, f_tokenCount, f_depth, f_leafCount, f_finishedLeaves, f_ruleCount, f_rawCount, f_stateTotal, f_aliveRules, f_compiled, f_textLength, f_closed, f_lexCount, f_position, a_tokens, a_masks, a_follow, a_ruleNull, a_ruleFirst, a_ruleLast, a_altNull, a_altFirst, a_altLast, a_catNull, a_catFirst, a_catLast, a_atomNull, a_atomFirst, a_atomLast, a_rawSet, a_rawOfSet, a_rawDelta, a_rawLabel, a_letterLeaves, a_classOf, a_nextClass, a_classRep, a_slotClass, a_slotKey, a_numberOf, a_queue, a_delta, a_stateLabel, a_extendable, a_text, a_lexRule, a_lexLength, a_failed, a_trail) (nI l) := by
  have hi : vp_in (nI l) 7 := vp_in_nI hl (by omega)
  exact And.intro hi (nm_r (e' := upd a_atomNull l 1) (by rw [xl_cl hl]; rfl) (And.intro hi (nm_r (e' := upd a_atomFirst l 0) (by rw [xl_cl hl]) (And.intro hi (nm_r (e' := upd a_atomLast l 0) (by rw [xl_cl hl]) h)))))
theorem xw_resetCat {post : SX → Prop} {l : Nat} (hl : l < 7) (h : post (f_letters, f_maxRules, f_maxLeaves, f_maxText, f_tokenCount, f_depth, f_leafCount, f_finishedLeaves, f_ruleCount, f_rawCount, f_stateTotal, f_aliveRules, f_compiled, f_textLength, f_closed, f_lexCount, f_position, a_tokens, a_masks, a_follow, a_ruleNull, a_ruleFirst, a_ruleLast, a_altNull, a_altFirst, a_altLast, (upd a_catNull l 1), (upd a_catFirst l 0), (upd a_catLast l 0), a_atomNull, a_atomFirst, a_atomLast, a_rawSet, a_rawOfSet, a_rawDelta, a_rawLabel, a_letterLeaves, a_classOf, a_nextClass, a_classRep, a_slotClass, a_slotKey, a_numberOf, a_queue, a_delta, a_stateLabel, a_extendable, a_text, a_lexRule, a_lexLength, a_failed, a_trail)) : wpX_resetCat post (f_letters, f_maxRules, f_maxLeaves, f_maxText, f_tokenCount, f_depth, f_leafCount, f_finishedLeaves, f_ruleCount, f_rawCount, f_stateTotal, f_aliveRules, f_compiled, f_textLength, f_closed, f_lexCount, f_position, a_tokens, a_masks, a_follow, a_ruleNull, a_ruleFirst, a_ruleLast, a_altNull, a_altFirst, a_altLast, a_catNull, a_catFirst, a_catLast, a_atomNull, a_atomFirst, a_atomLast, a_rawSet, a_rawOfSet, a_rawDelta, a_rawLabel, a_letterLeaves, a_classOf, a_nextClass, a_classRep, a_slotClass, a_slotKey, a_numberOf, a_queue, a_delta, a_stateLabel, a_extendable, a_text, a_lexRule, a_lexLength, a_failed, a_trail) (nI l) := by
  have hi : vp_in (nI l) 7 := vp_in_nI hl (by omega)
  exact And.intro hi (nm_r (e' := upd a_catNull l 1) (by rw [xl_cl hl]; rfl) (And.intro hi (nm_r (e' := upd a_catFirst l 0) (by rw [xl_cl hl]) (And.intro hi (nm_r (e' := upd a_catLast l 0) (by rw [xl_cl hl]) h)))))
theorem xw_openLevel {post : SX → Prop} {l : Nat} (hl : l < 7) (h : post (f_letters, f_maxRules, f_maxLeaves, f_maxText, f_tokenCount, f_depth, f_leafCount, f_finishedLeaves, f_ruleCount, f_rawCount, f_stateTotal, f_aliveRules, f_compiled, f_textLength, f_closed, f_lexCount, f_position, a_tokens, a_masks, a_follow, a_ruleNull, a_ruleFirst, a_ruleLast, (upd a_altNull l 0), (upd a_altFirst l 0), (upd a_altLast l 0), (upd a_catNull l 1), (upd a_catFirst l 0), (upd a_catLast l 0), (upd a_atomNull l 1), (upd a_atomFirst l 0), (upd a_atomLast l 0), a_rawSet, a_rawOfSet, a_rawDelta, a_rawLabel, a_letterLeaves, a_classOf, a_nextClass, a_classRep, a_slotClass, a_slotKey, a_numberOf, a_queue, a_delta, a_stateLabel, a_extendable, a_text, a_lexRule, a_lexLength, a_failed, a_trail)) : wpX_openLevel post (f_letters, f_maxRules, f_maxLeaves, f_maxText, f_tokenCount, f_depth, f_leafCount, f_finishedLeaves, f_ruleCount, f_rawCount, f_stateTotal, f_aliveRules, f_compiled, f_textLength, f_closed, f_lexCount, f_position, a_tokens, a_masks, a_follow, a_ruleNull, a_ruleFirst, a_ruleLast, a_altNull, a_altFirst, a_altLast, a_catNull, a_catFirst, a_catLast, a_atomNull, a_atomFirst, a_atomLast, a_rawSet, a_rawOfSet, a_rawDelta, a_rawLabel, a_letterLeaves, a_classOf, a_nextClass, a_classRep, a_slotClass, a_slotKey, a_numberOf, a_queue, a_delta, a_stateLabel, a_extendable, a_text, a_lexRule, a_lexLength, a_failed, a_trail) (nI l) := by
  have hi : vp_in (nI l) 7 := vp_in_nI hl (by omega)
  refine And.intro hi (nm_r (e' := upd a_altNull l 0) (by rw [xl_cl hl]; rfl) (And.intro hi (nm_r (e' := upd a_altFirst l 0) (by rw [xl_cl hl]) (And.intro hi (nm_r (e' := upd a_altLast l 0) (by rw [xl_cl hl]) ?_)))))
  exact xw_resetCat hl (xw_resetAtom hl h)
theorem xw_join86 {post : SX → Prop} {l : Nat} (hl : l < 7) (h : post (f_letters, f_maxRules, f_maxLeaves, f_maxText, f_tokenCount, f_depth, f_leafCount, f_finishedLeaves, f_ruleCount, f_rawCount, f_stateTotal, f_aliveRules, f_compiled, f_textLength, f_closed, f_lexCount, f_position, a_tokens, a_masks, a_follow, a_ruleNull, a_ruleFirst, a_ruleLast, a_altNull, a_altFirst, a_altLast, a_catNull, a_catFirst, a_catLast, (upd a_atomNull l 1), (upd a_atomFirst l 0), (upd a_atomLast l 0), a_rawSet, a_rawOfSet, a_rawDelta, a_rawLabel, a_letterLeaves, a_classOf, a_nextClass, a_classRep, a_slotClass, a_slotKey, a_numberOf, a_queue, a_delta, a_stateLabel, a_extendable, a_text, a_lexRule, a_lexLength, a_failed, a_trail)) : wX_joinAtom_86 post (nI l) f_letters f_maxRules f_maxLeaves f_maxText f_tokenCount f_depth f_leafCount f_finishedLeaves f_ruleCount f_rawCount f_stateTotal f_aliveRules f_compiled f_textLength f_closed f_lexCount f_position a_tokens a_masks a_follow a_ruleNull a_ruleFirst a_ruleLast a_altNull a_altFirst a_altLast a_catNull a_catFirst a_catLast a_atomNull a_atomFirst a_atomLast a_rawSet a_rawOfSet a_rawDelta a_rawLabel a_letterLeaves a_classOf a_nextClass a_classRep a_slotClass a_slotKey a_numberOf a_queue a_delta a_stateLabel a_extendable a_text a_lexRule a_lexLength a_failed a_trail := xw_resetAtom hl h
theorem xw_join40 {post : SX → Prop} {l : Nat} (hl : l < 7) (h : post (f_letters, f_maxRules, f_maxLeaves, f_maxText, f_tokenCount, f_depth, f_leafCount, f_finishedLeaves, f_ruleCount, f_rawCount, f_stateTotal, f_aliveRules, f_compiled, f_textLength, f_closed, f_lexCount, f_position, a_tokens, a_masks, a_follow, a_ruleNull, a_ruleFirst, a_ruleLast, a_altNull, a_altFirst, a_altLast, (upd a_catNull l (if a_atomNull l = 0 then 0 else a_catNull l)), a_catFirst, (upd a_catLast l (if a_atomNull l = 0 then a_atomLast l else a_catLast l ||| a_atomLast l)), (upd a_atomNull l 1), (upd a_atomFirst l 0), (upd a_atomLast l 0), a_rawSet, a_rawOfSet, a_rawDelta, a_rawLabel, a_letterLeaves, a_classOf, a_nextClass, a_classRep, a_slotClass, a_slotKey, a_numberOf, a_queue, a_delta, a_stateLabel, a_extendable, a_text, a_lexRule, a_lexLength, a_failed, a_trail)) : wX_joinAtom_40 post (nI l) f_letters f_maxRules f_maxLeaves f_maxText f_tokenCount f_depth f_leafCount f_finishedLeaves f_ruleCount f_rawCount f_stateTotal f_aliveRules f_compiled f_textLength f_closed f_lexCount f_position a_tokens a_masks a_follow a_ruleNull a_ruleFirst a_ruleLast a_altNull a_altFirst a_altLast a_catNull a_catFirst a_catLast a_atomNull a_atomFirst a_atomLast a_rawSet a_rawOfSet a_rawDelta a_rawLabel a_letterLeaves a_classOf a_nextClass a_classRep a_slotClass a_slotKey a_numberOf a_queue a_delta a_stateLabel a_extendable a_text a_lexRule a_lexLength a_failed a_trail := by
  have hi : vp_in (nI l) 7 := vp_in_nI hl (by omega)
  by_cases c : a_atomNull l = 0
  · rw [if_pos c, if_pos c] at h
    exact And.intro hi (br_t (by rw [xl_cl hl]; exact c) (And.intro hi (And.intro hi (nm_r (e' := upd a_catLast l (a_atomLast l)) (by rw [xl_cl hl]) (And.intro hi (nm_r (e' := upd a_catNull l 0) (by rw [xl_cl hl]; rfl) (xw_join86 hl h)))))))
  · rw [if_neg c, if_neg c, xl_uid] at h
    exact And.intro hi (br_f (by rw [xl_cl hl]; exact c) (And.intro hi (And.intro hi (And.intro hi (nm_r (e' := upd a_catLast l (a_catLast l ||| a_atomLast l)) (by rw [xl_cl hl]) (xw_join86 hl h))))))
theorem xw_joinAtom {post : SX → Prop} {l : Nat} (hl : l < 7) (h : post (f_letters, f_maxRules, f_maxLeaves, f_maxText, f_tokenCount, f_depth, f_leafCount, f_finishedLeaves, f_ruleCount, f_rawCount, f_stateTotal, f_aliveRules, f_compiled, f_textLength, f_closed, f_lexCount, f_position, a_tokens, a_masks, (xl_lk a_follow (a_catLast l) (a_atomFirst l)), a_ruleNull, a_ruleFirst, a_ruleLast, a_altNull, a_altFirst, a_altLast, (upd a_catNull l (if a_atomNull l = 0 then 0 else a_catNull l)), (upd a_catFirst l (if a_catNull l = 0 then a_catFirst l else a_catFirst l ||| a_atomFirst l)), (upd a_catLast l (if a_atomNull l = 0 then a_atomLast l else a_catLast l ||| a_atomLast l)), (upd a_atomNull l 1), (upd a_atomFirst l 0), (upd a_atomLast l 0), a_rawSet, a_rawOfSet, a_rawDelta, a_rawLabel, a_letterLeaves, a_classOf, a_nextClass, a_classRep, a_slotClass, a_slotKey, a_numberOf, a_queue, a_delta, a_stateLabel, a_extendable, a_text, a_lexRule, a_lexLength, a_failed, a_trail)) : wpX_joinAtom post (f_letters, f_maxRules, f_maxLeaves, f_maxText, f_tokenCount, f_depth, f_leafCount, f_finishedLeaves, f_ruleCount, f_rawCount, f_stateTotal, f_aliveRules, f_compiled, f_textLength, f_closed, f_lexCount, f_position, a_tokens, a_masks, a_follow, a_ruleNull, a_ruleFirst, a_ruleLast, a_altNull, a_altFirst, a_altLast, a_catNull, a_catFirst, a_catLast, a_atomNull, a_atomFirst, a_atomLast, a_rawSet, a_rawOfSet, a_rawDelta, a_rawLabel, a_letterLeaves, a_classOf, a_nextClass, a_classRep, a_slotClass, a_slotKey, a_numberOf, a_queue, a_delta, a_stateLabel, a_extendable, a_text, a_lexRule, a_lexLength, a_failed, a_trail) (nI l) := by
  have hi : vp_in (nI l) 7 := vp_in_nI hl (by omega)
  refine And.intro hi (And.intro hi ?_)
  rw [xl_cl hl]
  refine xw_link (And.intro hi ?_)
  by_cases c : a_catNull l = 0
  · rw [if_pos c, xl_uid] at h
    exact br_t c (xw_join40 hl h)
  · rw [if_neg c] at h
    exact br_f c (And.intro hi (And.intro hi (And.intro hi (nm_e (xw_join40 hl h)))))
theorem xw_close21 {post : SX → Prop} {l : Nat} (hl : l < 7) (h : post (f_letters, f_maxRules, f_maxLeaves, f_maxText, f_tokenCount, f_depth, f_leafCount, f_finishedLeaves, f_ruleCount, f_rawCount, f_stateTotal, f_aliveRules, f_compiled, f_textLength, f_closed, f_lexCount, f_position, a_tokens, a_masks, a_follow, a_ruleNull, a_ruleFirst, a_ruleLast, a_altNull, (upd a_altFirst l (a_altFirst l ||| a_catFirst l)), (upd a_altLast l (a_altLast l ||| a_catLast l)), (upd a_catNull l 1), (upd a_catFirst l 0), (upd a_catLast l 0), a_atomNull, a_atomFirst, a_atomLast, a_rawSet, a_rawOfSet, a_rawDelta, a_rawLabel, a_letterLeaves, a_classOf, a_nextClass, a_classRep, a_slotClass, a_slotKey, a_numberOf, a_queue, a_delta, a_stateLabel, a_extendable, a_text, a_lexRule, a_lexLength, a_failed, a_trail)) : wX_closeBranch_21 post (nI l) f_letters f_maxRules f_maxLeaves f_maxText f_tokenCount f_depth f_leafCount f_finishedLeaves f_ruleCount f_rawCount f_stateTotal f_aliveRules f_compiled f_textLength f_closed f_lexCount f_position a_tokens a_masks a_follow a_ruleNull a_ruleFirst a_ruleLast a_altNull a_altFirst a_altLast a_catNull a_catFirst a_catLast a_atomNull a_atomFirst a_atomLast a_rawSet a_rawOfSet a_rawDelta a_rawLabel a_letterLeaves a_classOf a_nextClass a_classRep a_slotClass a_slotKey a_numberOf a_queue a_delta a_stateLabel a_extendable a_text a_lexRule a_lexLength a_failed a_trail := by
  have hi : vp_in (nI l) 7 := vp_in_nI hl (by omega)
  exact And.intro hi (And.intro hi (And.intro hi (nm_r (e' := upd a_altFirst l (a_altFirst l ||| a_catFirst l)) (by rw [xl_cl hl]) (And.intro hi (And.intro hi (And.intro hi (nm_r (e' := upd a_altLast l (a_altLast l ||| a_catLast l)) (by rw [xl_cl hl]) (xw_resetCat hl h))))))))
theorem xw_closeBranch {post : SX → Prop} {l : Nat} (hl : l < 7) (h : post (f_letters, f_maxRules, f_maxLeaves, f_maxText, f_tokenCount, f_depth, f_leafCount, f_finishedLeaves, f_ruleCount, f_rawCount, f_stateTotal, f_aliveRules, f_compiled, f_textLength, f_closed, f_lexCount, f_position, a_tokens, a_masks, (xl_lk a_follow (a_catLast l) (a_atomFirst l)), a_ruleNull, a_ruleFirst, a_ruleLast, (upd a_altNull l (if (if a_atomNull l = 0 then 0 else a_catNull l) = 0 then a_altNull l else 1)), (upd a_altFirst l (a_altFirst l ||| (if a_catNull l = 0 then a_catFirst l else a_catFirst l ||| a_atomFirst l))), (upd a_altLast l (a_altLast l ||| (if a_atomNull l = 0 then a_atomLast l else a_catLast l ||| a_atomLast l))), (upd a_catNull l 1), (upd a_catFirst l 0), (upd a_catLast l 0), (upd a_atomNull l 1), (upd a_atomFirst l 0), (upd a_atomLast l 0), a_rawSet, a_rawOfSet, a_rawDelta, a_rawLabel, a_letterLeaves, a_classOf, a_nextClass, a_classRep, a_slotClass, a_slotKey, a_numberOf, a_queue, a_delta, a_stateLabel, a_extendable, a_text, a_lexRule, a_lexLength, a_failed, a_trail)) : wpX_closeBranch post (f_letters, f_maxRules, f_maxLeaves, f_maxText, f_tokenCount, f_depth, f_leafCount, f_finishedLeaves, f_ruleCount, f_rawCount, f_stateTotal, f_aliveRules, f_compiled, f_textLength, f_closed, f_lexCount, f_position, a_tokens, a_masks, a_follow, a_ruleNull, a_ruleFirst, a_ruleLast, a_altNull, a_altFirst, a_altLast, a_catNull, a_catFirst, a_catLast, a_atomNull, a_atomFirst, a_atomLast, a_rawSet, a_rawOfSet, a_rawDelta, a_rawLabel, a_letterLeaves, a_classOf, a_nextClass, a_classRep, a_slotClass, a_slotKey, a_numberOf, a_queue, a_delta, a_stateLabel, a_extendable, a_text, a_lexRule, a_lexLength, a_failed, a_trail) (nI l) := by
  have hi : vp_in (nI l) 7 := vp_in_nI hl (by omega)
  refine xw_joinAtom hl (And.intro hi ?_)
  rw [xl_cl hl, pk_us]
  by_cases c : (if a_atomNull l = 0 then 0 else a_catNull l) = 0
  · rw [if_pos c, xl_uid] at h
    refine br_t c (xw_close21 hl ?_)
    rw [pk_us, pk_us, xl_uu, xl_uu, xl_uu]
    exact h
  · rw [if_neg c] at h
    refine br_f c (And.intro hi (nm_e (xw_close21 hl ?_)))
    rw [pk_us, pk_us, xl_uu, xl_uu, xl_uu]
    exact h
theorem xw_liftGroup {post : SX → Prop} {l : Nat} (hl : l + 1 < 7) (hb : a_altNull (l + 1) = 0 ∨ a_altNull (l + 1) = 1) (h : post (f_letters, f_maxRules, f_maxLeaves, f_maxText, f_tokenCount, f_depth, f_leafCount, f_finishedLeaves, f_ruleCount, f_rawCount, f_stateTotal, f_aliveRules, f_compiled, f_textLength, f_closed, f_lexCount, f_position, a_tokens, a_masks, a_follow, a_ruleNull, a_ruleFirst, a_ruleLast, a_altNull, a_altFirst, a_altLast, a_catNull, a_catFirst, a_catLast, (upd a_atomNull l (a_altNull (l + 1))), (upd a_atomFirst l (a_altFirst (l + 1))), (upd a_atomLast l (a_altLast (l + 1))), a_rawSet, a_rawOfSet, a_rawDelta, a_rawLabel, a_letterLeaves, a_classOf, a_nextClass, a_classRep, a_slotClass, a_slotKey, a_numberOf, a_queue, a_delta, a_stateLabel, a_extendable, a_text, a_lexRule, a_lexLength, a_failed, a_trail)) : wpX_liftGroup post (f_letters, f_maxRules, f_maxLeaves, f_maxText, f_tokenCount, f_depth, f_leafCount, f_finishedLeaves, f_ruleCount, f_rawCount, f_stateTotal, f_aliveRules, f_compiled, f_textLength, f_closed, f_lexCount, f_position, a_tokens, a_masks, a_follow, a_ruleNull, a_ruleFirst, a_ruleLast, a_altNull, a_altFirst, a_altLast, a_catNull, a_catFirst, a_catLast, a_atomNull, a_atomFirst, a_atomLast, a_rawSet, a_rawOfSet, a_rawDelta, a_rawLabel, a_letterLeaves, a_classOf, a_nextClass, a_classRep, a_slotClass, a_slotKey, a_numberOf, a_queue, a_delta, a_stateLabel, a_extendable, a_text, a_lexRule, a_lexLength, a_failed, a_trail) (nI (l + 1)) := by
  have hi : vp_in (nI (l + 1)) 7 := vp_in_nI hl (by omega)
  have hi2 : vp_in (nI (l + 1) - 1) 7 := by rw [nI_pred]; exact vp_in_nI (by omega) (by omega)
  have hc : (nI (l + 1) - 1).toNatClampNeg = l := by rw [nI_pred]; exact xl_cl (by omega)
  have hn : vp_nar .boolean (a_altNull (l + 1)) = a_altNull (l + 1) := by rcases hb with e | e <;> rw [e] <;> rfl
  exact And.intro hi (And.intro hi2 (nm_r (e' := upd a_atomNull l (a_altNull (l + 1))) (by rw [hc, xl_cl hl, hn]) (And.intro hi (And.intro hi2 (nm_r (e' := upd a_atomFirst l (a_altFirst (l + 1))) (by rw [hc, xl_cl hl]) (And.intro hi (And.intro hi2 (nm_r (e' := upd a_atomLast l (a_altLast (l + 1))) (by rw [hc, xl_cl hl]) h))))))))
theorem xw_suf28 {post : SX → Prop} {l v : Nat} (hl : l < 7) (hv : v < 100) (h : post (f_letters, f_maxRules, f_maxLeaves, f_maxText, f_tokenCount, f_depth, f_leafCount, f_finishedLeaves, f_ruleCount, f_rawCount, f_stateTotal, f_aliveRules, f_compiled, f_textLength, f_closed, f_lexCount, f_position, a_tokens, a_masks, a_follow, a_ruleNull, a_ruleFirst, a_ruleLast, a_altNull, a_altFirst, a_altLast, a_catNull, a_catFirst, a_catLast, (upd a_atomNull l (if v = 19 ∨ v = 21 then 1 else a_atomNull l)), a_atomFirst, a_atomLast, a_rawSet, a_rawOfSet, a_rawDelta, a_rawLabel, a_letterLeaves, a_classOf, a_nextClass, a_classRep, a_slotClass, a_slotKey, a_numberOf, a_queue, a_delta, a_stateLabel, a_extendable, a_text, a_lexRule, a_lexLength, a_failed, a_trail)) : wX_applySuffix_28 post (nI l) (nI v) f_letters f_maxRules f_maxLeaves f_maxText f_tokenCount f_depth f_leafCount f_finishedLeaves f_ruleCount f_rawCount f_stateTotal f_aliveRules f_compiled f_textLength f_closed f_lexCount f_position a_tokens a_masks a_follow a_ruleNull a_ruleFirst a_ruleLast a_altNull a_altFirst a_altLast a_catNull a_catFirst a_catLast a_atomNull a_atomFirst a_atomLast a_rawSet a_rawOfSet a_rawDelta a_rawLabel a_letterLeaves a_classOf a_nextClass a_classRep a_slotClass a_slotKey a_numberOf a_queue a_delta a_stateLabel a_extendable a_text a_lexRule a_lexLength a_failed a_trail := by
  have hi : vp_in (nI l) 7 := vp_in_nI hl (by omega)
  refine pk_eq v 19 (fun e => ?_) (fun e => pk_eq v 21 (fun e2 => ?_) (fun e2 => ?_))
  · rw [if_pos (Or.inl e)] at h
    exact And.intro hi (nm_r (e' := upd a_atomNull l 1) (by rw [xl_cl hl]; rfl) h)
  · rw [if_pos (Or.inr e2)] at h
    exact And.intro hi (nm_r (e' := upd a_atomNull l 1) (by rw [xl_cl hl]; rfl) h)
  · rw [if_neg (by omega), xl_uid] at h
    exact h
theorem xw_suf12 {post : SX → Prop} {l v : Nat} (hl : l < 7) (hv : v < 100) (h : post (f_letters, f_maxRules, f_maxLeaves, f_maxText, f_tokenCount, f_depth, f_leafCount, f_finishedLeaves, f_ruleCount, f_rawCount, f_stateTotal, f_aliveRules, f_compiled, f_textLength, f_closed, f_lexCount, f_position, a_tokens, a_masks, (xl_lk a_follow (a_atomLast l) (a_atomFirst l)), a_ruleNull, a_ruleFirst, a_ruleLast, a_altNull, a_altFirst, a_altLast, a_catNull, a_catFirst, a_catLast, (upd a_atomNull l (if v = 19 ∨ v = 21 then 1 else a_atomNull l)), a_atomFirst, a_atomLast, a_rawSet, a_rawOfSet, a_rawDelta, a_rawLabel, a_letterLeaves, a_classOf, a_nextClass, a_classRep, a_slotClass, a_slotKey, a_numberOf, a_queue, a_delta, a_stateLabel, a_extendable, a_text, a_lexRule, a_lexLength, a_failed, a_trail)) : wX_applySuffix_12 post (nI l) (nI v) f_letters f_maxRules f_maxLeaves f_maxText f_tokenCount f_depth f_leafCount f_finishedLeaves f_ruleCount f_rawCount f_stateTotal f_aliveRules f_compiled f_textLength f_closed f_lexCount f_position a_tokens a_masks a_follow a_ruleNull a_ruleFirst a_ruleLast a_altNull a_altFirst a_altLast a_catNull a_catFirst a_catLast a_atomNull a_atomFirst a_atomLast a_rawSet a_rawOfSet a_rawDelta a_rawLabel a_letterLeaves a_classOf a_nextClass a_classRep a_slotClass a_slotKey a_numberOf a_queue a_delta a_stateLabel a_extendable a_text a_lexRule a_lexLength a_failed a_trail := by
  have hi : vp_in (nI l) 7 := vp_in_nI hl (by omega)
  refine And.intro hi (And.intro hi ?_)
  rw [xl_cl hl]
  exact xw_link (xw_suf28 hl hv h)
theorem xw_applySuffix {post : SX → Prop} {l v : Nat} (hl : l < 7) (hv : v < 100) (h : post (f_letters, f_maxRules, f_maxLeaves, f_maxText, f_tokenCount, f_depth, f_leafCount, f_finishedLeaves, f_ruleCount, f_rawCount, f_stateTotal, f_aliveRules, f_compiled, f_textLength, f_closed, f_lexCount, f_position, a_tokens, a_masks, (if v = 19 ∨ v = 20 then xl_lk a_follow (a_atomLast l) (a_atomFirst l) else a_follow), a_ruleNull, a_ruleFirst, a_ruleLast, a_altNull, a_altFirst, a_altLast, a_catNull, a_catFirst, a_catLast, (upd a_atomNull l (if v = 19 ∨ v = 21 then 1 else a_atomNull l)), a_atomFirst, a_atomLast, a_rawSet, a_rawOfSet, a_rawDelta, a_rawLabel, a_letterLeaves, a_classOf, a_nextClass, a_classRep, a_slotClass, a_slotKey, a_numberOf, a_queue, a_delta, a_stateLabel, a_extendable, a_text, a_lexRule, a_lexLength, a_failed, a_trail)) : wpX_applySuffix post (f_letters, f_maxRules, f_maxLeaves, f_maxText, f_tokenCount, f_depth, f_leafCount, f_finishedLeaves, f_ruleCount, f_rawCount, f_stateTotal, f_aliveRules, f_compiled, f_textLength, f_closed, f_lexCount, f_position, a_tokens, a_masks, a_follow, a_ruleNull, a_ruleFirst, a_ruleLast, a_altNull, a_altFirst, a_altLast, a_catNull, a_catFirst, a_catLast, a_atomNull, a_atomFirst, a_atomLast, a_rawSet, a_rawOfSet, a_rawDelta, a_rawLabel, a_letterLeaves, a_classOf, a_nextClass, a_classRep, a_slotClass, a_slotKey, a_numberOf, a_queue, a_delta, a_stateLabel, a_extendable, a_text, a_lexRule, a_lexLength, a_failed, a_trail) (nI l) (nI v) := by
  refine pk_eq v 19 (fun e => ?_) (fun e => pk_eq v 20 (fun e2 => ?_) (fun e2 => ?_))
  · rw [if_pos (Or.inl e)] at h
    exact xw_suf12 hl hv h
  · rw [if_pos (Or.inr e2)] at h
    exact xw_suf12 hl hv h
  · rw [if_neg (by omega)] at h
    exact xw_suf28 hl hv h
end
end
section
/-! the invariant over the nine level arrays, token by token -/
def ev_I (t lc : Nat → Nat) (D : Nat → Int) (B n : Nat) (fo0 : Nat → Int32) (i l : Nat) (aN aF aL cN cF cL zN zF zL fo : Nat → Int32) : Prop :=
  ∃ (a : Nat) (lo bb : Nat → Nat), ev_G t D B i l a lo bb ∧ (a = i → i = B ∨ t (i - 1) = 16 ∨ t (i - 1) = 18) ∧ ev_Lo t lc D B n i l lo bb aN aF aL cN cF cL fo ∧ ev_Tp t lc D B n i l a lo bb fo (aN l) (aF l) (aL l) (cN l) (cF l) (cL l) (zN l) (zF l) (zL l) ∧ ev_Z t lc B n i fo0 fo
def ev_J (t lc : Nat → Nat) (D : Nat → Int) (B n : Nat) (fo0 : Nat → Int32) (i l : Nat) (aN aF aL cN cF cL fo : Nat → Int32) : Prop :=
  ∃ (lo bb : Nat → Nat), ev_G t D B i l i lo bb ∧ ev_Lo t lc D B n i l lo bb aN aF aL cN cF cL fo ∧ ev_Tp t lc D B n i l i lo bb fo (aN l) (aF l) (aL l) (cN l) (cF l) (cL l) 1 0 0 ∧ ev_Z t lc B n i fo0 fo
section
variable {t lc : Nat → Nat} {D : Nat → Int} {B n : Nat} {fo fo0 : Nat → Int32} {i l : Nat} {aN aF aL cN cF cL zN zF zL : Nat → Int32}
theorem ev_un {f : Nat → Int32} {k j : Nat} {x : Int32} (h : j < k) : upd f k x j = f j := pk_un (by omega)
theorem ev_jn (H : gr_H t D B n) (inj : ∀ p q, gr_Lf t p → gr_Lf t q → lc p = lc q → p = q) (h8 : ∀ p, B ≤ p → p < n → gr_Lf t p → lc p < 8) (hin : i ≤ n)
    (I : ev_I t lc D B n fo0 i l aN aF aL cN cF cL zN zF zL fo) :
    ev_J t lc D B n fo0 i l aN aF aL (upd cN l (if zN l = 0 then 0 else cN l)) (upd cF l (if cN l = 0 then cF l else cF l ||| zF l)) (upd cL l (if zN l = 0 then zL l else cL l ||| zL l)) (xl_lk fo (cL l) (zF l)) := by
  obtain ⟨a, lo, bb, G, _, hL, hT, hZ⟩ := I
  obtain ⟨G', hL', hT', hZ'⟩ := ev_join H inj h8 hin G hL hT hZ
  refine ⟨lo, bb, G', ev_Lo_a hL' (fun j hj => ⟨rfl, rfl, rfl, ev_un hj, ev_un hj, ev_un hj⟩), ?_, hZ'⟩
  rw [pk_us, pk_us, pk_us]
  exact hT'
theorem ev_ilf (H : gr_H t D B n) (hin : i < n) (J : ev_J t lc D B n fo0 i l aN aF aL cN cF cL fo) (hlf : gr_Lf t i) {x : Int32} (hx : gr_gs x (fun k => lc i = k)) :
    ev_I t lc D B n fo0 (i + 1) l aN aF aL cN cF cL (upd zN l 0) (upd zF l x) (upd zL l x) fo := by
  obtain ⟨lo, bb, G, hL, hT, hZ⟩ := J
  have hx2 : gr_gs x (fun k => gr_Lf t i ∧ lc i = k) := gr_gs_c hx (fun k => ⟨fun z => ⟨hlf, z⟩, fun z => z.2⟩)
  obtain ⟨G', hL', hT', hZ'⟩ := ev_atom (zN := 0) (zF := x) (zL := x) H hin G hL hT hZ (Or.inl hlf) (Or.inr ⟨rfl, fun z => by have := hlf.2; omega⟩) hx2 hx2
  refine ⟨i, lo, bb, G', fun z => by omega, hL', ?_, hZ'⟩
  rw [pk_us, pk_us, pk_us]
  exact hT'
theorem ev_i22 (H : gr_H t D B n) (hin : i < n) (J : ev_J t lc D B n fo0 i l aN aF aL cN cF cL fo) (h22 : t i = 22) :
    ev_I t lc D B n fo0 (i + 1) l aN aF aL cN cF cL (upd zN l 1) (upd zF l 0) (upd zL l 0) fo := by
  obtain ⟨lo, bb, G, hL, hT, hZ⟩ := J
  have hx2 : gr_gs 0 (fun k => gr_Lf t i ∧ lc i = k) := gr_gs_0 (fun k z => by have := z.1.2; omega)
  obtain ⟨G', hL', hT', hZ'⟩ := ev_atom (zN := 1) (zF := 0) (zL := 0) H hin G hL hT hZ (Or.inr h22) (Or.inl ⟨rfl, h22⟩) hx2 hx2
  refine ⟨i, lo, bb, G', fun z => by omega, hL', ?_, hZ'⟩
  rw [pk_us, pk_us, pk_us]
  exact hT'
theorem ev_i16 (H : gr_H t D B n) (hin : i < n) (J : ev_J t lc D B n fo0 i l aN aF aL cN cF cL fo) (h16 : t i = 16) :
    ev_I t lc D B n fo0 (i + 1) (l + 1) (upd aN (l + 1) 0) (upd aF (l + 1) 0) (upd aL (l + 1) 0) (upd cN (l + 1) 1) (upd cF (l + 1) 0) (upd cL (l + 1) 0) (upd zN (l + 1) 1) (upd zF (l + 1) 0) (upd zL (l + 1) 0) fo := by
  obtain ⟨lo, bb, G, hL, hT, hZ⟩ := J
  obtain ⟨lo', bb', G', hL', hT', hZ'⟩ := ev_opn H hin G hL hT hZ h16
  refine ⟨i + 1, lo', bb', G', fun _ => Or.inr (Or.inl (by rw [Nat.add_sub_cancel]; exact h16)), ev_Lo_a hL' (fun j hj => ⟨ev_un hj, ev_un hj, ev_un hj, ev_un hj, ev_un hj, ev_un hj⟩), ?_, hZ'⟩
  rw [pk_us, pk_us, pk_us, pk_us, pk_us, pk_us, pk_us, pk_us, pk_us]
  exact hT'
theorem ev_isf (H : gr_H t D B n) (inj : ∀ p q, gr_Lf t p → gr_Lf t q → lc p = lc q → p = q) (h8 : ∀ p, B ≤ p → p < n → gr_Lf t p → lc p < 8) (hin : i < n)
    (I : ev_I t lc D B n fo0 i l aN aF aL cN cF cL zN zF zL fo) (hs : 19 ≤ t i ∧ t i ≤ 21) :
    ev_I t lc D B n fo0 (i + 1) l aN aF aL cN cF cL (upd zN l (if t i = 19 ∨ t i = 21 then 1 else zN l)) zF zL (if t i = 19 ∨ t i = 20 then xl_lk fo (zL l) (zF l) else fo) := by
  obtain ⟨a, lo, bb, G, hne, hL, hT, hZ⟩ := I
  have v := H.2.2.2.2.2.2.1 i G.1 hin (by omega) (by omega)
  have ha : a < i := by
    have := G.2.2.1
    rcases Nat.lt_or_ge a i with k | k
    · exact k
    · have := hne (by omega); omega
  have hb : gr_b01 (if t i = 19 ∨ t i = 21 then 1 else zN l) ((t i = 19 ∨ t i = 21) ∨ zN l = 1) := by
    by_cases c : t i = 19 ∨ t i = 21
    · rw [if_pos c]; exact Or.inl ⟨rfl, Or.inl c⟩
    · rw [if_neg c]
      rcases gr_b01_s hT.2.2.2.1.1 with z | z
      · exact Or.inr ⟨z, fun w => w.elim c (fun w => by rw [z] at w; exact absurd w (by decide))⟩
      · exact Or.inl ⟨z, Or.inr z⟩
  obtain ⟨G', hL', hT', hZ'⟩ := ev_suf H inj h8 hin ha G hL hT hZ hs hb (fo' := if t i = 19 ∨ t i = 20 then xl_lk fo (zL l) (zF l) else fo) (by
    by_cases c : t i = 19 ∨ t i = 20
    · rw [if_pos c]; exact Or.inl ⟨c, rfl⟩
    · rw [if_neg c]; exact Or.inr ⟨c, rfl⟩)
  refine ⟨a, lo, bb, G', fun z => by omega, hL', ?_, hZ'⟩
  rw [pk_us]
  exact hT'
theorem ev_i18 (H : gr_H t D B n) (hin : i < n) (J : ev_J t lc D B n fo0 i l aN aF aL cN cF cL fo) (h18 : t i = 18) :
    ev_I t lc D B n fo0 (i + 1) l (upd aN l (if cN l = 0 then aN l else 1)) (upd aF l (aF l ||| cF l)) (upd aL l (aL l ||| cL l)) (upd cN l 1) (upd cF l 0) (upd cL l 0) (upd zN l 1) (upd zF l 0) (upd zL l 0) fo := by
  obtain ⟨lo, bb, G, hL, hT, hZ⟩ := J
  obtain ⟨bb', G', hL', hT', hZ'⟩ := ev_bar H hin G hL hT hZ h18
  refine ⟨i + 1, lo, bb', G', fun _ => Or.inr (Or.inr (by rw [Nat.add_sub_cancel]; exact h18)), ev_Lo_a hL' (fun j hj => ⟨ev_un hj, ev_un hj, ev_un hj, ev_un hj, ev_un hj, ev_un hj⟩), ?_, hZ'⟩
  rw [pk_us, pk_us, pk_us, pk_us, pk_us, pk_us, pk_us, pk_us, pk_us]
  exact hT'
theorem ev_i17 (H : gr_H t D B n) (hin : i < n) (J : ev_J t lc D B n fo0 i (l + 1) aN aF aL cN cF cL fo) (h17 : t i = 17) {aN' aF' aL' cN' cF' cL' : Nat → Int32} (ha : ∀ j, j < l + 1 → aN' j = aN j ∧ aF' j = aF j ∧ aL' j = aL j ∧ cN' j = cN j ∧ cF' j = cF j ∧ cL' j = cL j) :
    ev_I t lc D B n fo0 (i + 1) l aN' aF' aL' cN' cF' cL' (upd zN l (if cN (l + 1) = 0 then aN (l + 1) else 1)) (upd zF l (aF (l + 1) ||| cF (l + 1))) (upd zL l (aL (l + 1) ||| cL (l + 1))) fo := by
  obtain ⟨lo, bb, G, hL, hT, hZ⟩ := J
  obtain ⟨G', hlt, hL', hT', hZ'⟩ := ev_cls17 H hin G hL hT hZ h17
  obtain ⟨e1, e2, e3, e4, e5, e6⟩ := ha l (by omega)
  refine ⟨lo (l + 1) - 1, lo, bb, G', fun z => by omega, ev_Lo_a hL' (fun j hj => ha j (by omega)), ?_, hZ'⟩
  rw [pk_us, pk_us, pk_us, e1, e2, e3, e4, e5, e6]
  exact hT'
theorem ev_fin (J : ev_J t lc D B n fo0 n 0 aN aF aL cN cF cL fo) :
    gr_Al t lc (gr_M t D B n) fo (gr_Bs t D B 0 n) (if cN 0 = 0 then aN 0 else 1) (aF 0 ||| cF 0) (aL 0 ||| cL 0) ∧ ∀ k, (∀ p, B ≤ p → p < n → gr_Lf t p → lc p ≠ k) → fo k = fo0 k := by
  obtain ⟨lo, bb, G, hL, hT, hZ⟩ := J
  have E := ev_end G hT
  have e : lo 0 = B := G.2.2.2.2.2.1
  rw [e] at E
  exact ⟨E, hZ.2⟩
theorem ev_lev (I : ev_I t lc D B n fo0 i l aN aF aL cN cF cL zN zF zL fo) : D i = (l : Int) := by
  obtain ⟨a, lo, bb, G, _⟩ := I
  exact G.2.1
theorem ev_ini (H : gr_H t D B n) (hz : ∀ p, B ≤ p → p < n → gr_Lf t p → fo (lc p) = 0) : ev_I t lc D B n fo B 0 (upd aN 0 0) (upd aF 0 0) (upd aL 0 0) (upd cN 0 1) (upd cF 0 0) (upd cL 0 0) (upd zN 0 1) (upd zF 0 0) (upd zL 0 0) fo := by
  obtain ⟨G', hL', hT', hZ'⟩ := ev_start (aN := upd aN 0 0) (aF := upd aF 0 0) (aL := upd aL 0 0) (cN := upd cN 0 1) (cF := upd cF 0 0) (cL := upd cL 0 0) H hz
  refine ⟨B, fun _ => B, fun _ => B, G', fun _ => Or.inl rfl, hL', ?_, hZ'⟩
  rw [pk_us, pk_us, pk_us, pk_us, pk_us, pk_us, pk_us, pk_us, pk_us]
  exact hT'
end
end
section
/-! X: the evaluation's loop -/
theorem xl_one {k : Nat} (hk : k < 32) : gr_gs ((1 : Int32) <<< (nI k &&& 31)) (fun j => k = j) := by
  intro j
  by_cases hj : j < 32
  · rw [b_shl k hk 1 hj]
    have h1 : ∀ i, i < 32 → (bt 1 i = true ↔ i = 0) := by decide
    rw [Bool.and_eq_true, decide_eq_true_eq]
    constructor
    · rintro ⟨a, b⟩
      have := (h1 (j - k) (by omega)).mp b
      omega
    · intro e
      exact ⟨by omega, (h1 (j - k) (by omega)).mpr (by omega)⟩
  · rw [b_big (by omega)]
    exact ⟨fun z => absurd z (by decide), fun z => by omega⟩
theorem xl_nar01 {x : Int32} (h : x = 0 ∨ x = 1) : vp_nar .boolean x = x := by
  rcases h with e | e <;> rw [e] <;> rfl
section
variable {f_letters f_maxRules f_maxLeaves f_maxText f_tokenCount f_depth f_leafCount f_finishedLeaves f_ruleCount f_rawCount f_stateTotal f_aliveRules f_compiled f_textLength f_closed f_lexCount f_position : Int32} {a_tokens a_masks a_follow a_ruleNull a_ruleFirst a_ruleLast a_altNull a_altFirst a_altLast a_catNull a_catFirst a_catLast a_atomNull a_atomFirst a_atomLast a_rawSet a_rawOfSet a_rawDelta a_rawLabel a_letterLeaves a_classOf a_nextClass a_classRep a_slotClass a_numberOf a_queue a_delta a_stateLabel a_extendable a_text a_lexRule a_lexLength a_trail : Nat → Int32} {a_slotKey a_failed : Nat → Int64} {t lc : Nat → Nat} {D : Nat → Int} {B n m r : Nat} {fo0 : Nat → Int32} {post : SX → Prop}
theorem xw_ev182 {aN aF aL cN cF cL zN zF zL fo : Nat → Int32} (H : gr_H t D B n) (inj : ∀ p q, gr_Lf t p → gr_Lf t q → lc p = lc q → p = q) (h8 : ∀ p, B ≤ p → p < n → gr_Lf t p → lc p < 8) (hr : r < 7)
    (K : ∀ aN aF aL cN cF cL zN zF zL fo : Nat → Int32, gr_Al t lc (gr_M t D B n) fo (gr_Bs t D B 0 n) (aN 0) (aF 0) (aL 0) → (∀ k, (∀ p, B ≤ p → p < n → gr_Lf t p → lc p ≠ k) → fo k = fo0 k) → post (f_letters, f_maxRules, f_maxLeaves, f_maxText, f_tokenCount, f_depth, f_leafCount, f_finishedLeaves, f_ruleCount, f_rawCount, f_stateTotal, f_aliveRules, f_compiled, f_textLength, f_closed, f_lexCount, f_position, a_tokens, a_masks, fo, (upd a_ruleNull r (aN 0)), (upd a_ruleFirst r (aF 0)), (upd a_ruleLast r (aL 0)), aN, aF, aL, cN, cF, cL, zN, zF, zL, a_rawSet, a_rawOfSet, a_rawDelta, a_rawLabel, a_letterLeaves, a_classOf, a_nextClass, a_classRep, a_slotClass, a_slotKey, a_numberOf, a_queue, a_delta, a_stateLabel, a_extendable, a_text, a_lexRule, a_lexLength, a_failed, a_trail))
    (I : ev_I t lc D B n fo0 n 0 aN aF aL cN cF cL zN zF zL fo) : wX_evaluate_182 post (nI r) (nI 0) f_letters f_maxRules f_maxLeaves f_maxText f_tokenCount f_depth f_leafCount f_finishedLeaves f_ruleCount f_rawCount f_stateTotal f_aliveRules f_compiled f_textLength f_closed f_lexCount f_position a_tokens a_masks fo a_ruleNull a_ruleFirst a_ruleLast aN aF aL cN cF cL zN zF zL a_rawSet a_rawOfSet a_rawDelta a_rawLabel a_letterLeaves a_classOf a_nextClass a_classRep a_slotClass a_slotKey a_numberOf a_queue a_delta a_stateLabel a_extendable a_text a_lexRule a_lexLength a_failed a_trail := by
  have hi : vp_in (nI r) 7 := vp_in_nI hr (by omega)
  have F := ev_fin (ev_jn H inj h8 (Nat.le_refl n) I)
  rw [pk_us, pk_us, pk_us] at F
  have K' := K (upd aN 0 _) (upd aF 0 _) (upd aL 0 _) (upd cN 0 1) (upd cF 0 0) (upd cL 0 0) (upd zN 0 1) (upd zF 0 0) (upd zL 0 0) (xl_lk fo (cL 0) (zF 0)) (by rw [pk_us, pk_us, pk_us]; exact F.1) F.2
  have hb := gr_b01_s F.1.1
  refine xw_closeBranch (l := 0) (by omega) (And.intro hi (nm_r (e' := upd a_ruleNull r _) ?_ (And.intro hi (nm_r (e' := upd a_ruleFirst r _) ?_ (And.intro hi (nm_r (e' := upd a_ruleLast r _) ?_ K'))))))
  · rw [xl_cl hr, xl_nar01]
    rw [pk_us]; exact hb
  · rw [xl_cl hr]
  · rw [xl_cl hr]
theorem xw_evl (H : gr_H t D B n) (inj : ∀ p q, gr_Lf t p → gr_Lf t q → lc p = lc q → p = q) (h8 : ∀ p, B ≤ p → p < n → gr_Lf t p → lc p < 8) (hr : r < 7)
    (hD6 : ∀ p, B ≤ p → p ≤ n → D p ≤ 6) (hlc : ∀ p, B ≤ p → p < n → (gr_Lf t p → lc (p + 1) = lc p + 1) ∧ (¬ gr_Lf t p → lc (p + 1) = lc p)) (hm : n = B + m) (htok : ∀ i, i < m → a_tokens i = nI (t (B + i)))
    (K : ∀ aN aF aL cN cF cL zN zF zL fo : Nat → Int32, gr_Al t lc (gr_M t D B n) fo (gr_Bs t D B 0 n) (aN 0) (aF 0) (aL 0) → (∀ k, (∀ p, B ≤ p → p < n → gr_Lf t p → lc p ≠ k) → fo k = fo0 k) → post (f_letters, f_maxRules, f_maxLeaves, f_maxText, nI m, f_depth, f_leafCount, f_finishedLeaves, f_ruleCount, f_rawCount, f_stateTotal, f_aliveRules, f_compiled, f_textLength, f_closed, f_lexCount, f_position, a_tokens, a_masks, fo, (upd a_ruleNull r (aN 0)), (upd a_ruleFirst r (aF 0)), (upd a_ruleLast r (aL 0)), aN, aF, aL, cN, cF, cL, zN, zF, zL, a_rawSet, a_rawOfSet, a_rawDelta, a_rawLabel, a_letterLeaves, a_classOf, a_nextClass, a_classRep, a_slotClass, a_slotKey, a_numberOf, a_queue, a_delta, a_stateLabel, a_extendable, a_text, a_lexRule, a_lexLength, a_failed, a_trail)) :
    ∀ (d i l : Nat) (aN aF aL cN cF cL zN zF zL fo : Nat → Int32), i + d = m → ev_I t lc D B n fo0 (B + i) l aN aF aL cN cF cL zN zF zL fo → wX_evaluate_15 post (nI r) (d + 1) (nI l) (nI (lc (B + i))) (nI i) f_letters f_maxRules f_maxLeaves f_maxText (nI m) f_depth f_leafCount f_finishedLeaves f_ruleCount f_rawCount f_stateTotal f_aliveRules f_compiled f_textLength f_closed f_lexCount f_position a_tokens a_masks fo a_ruleNull a_ruleFirst a_ruleLast aN aF aL cN cF cL zN zF zL a_rawSet a_rawOfSet a_rawDelta a_rawLabel a_letterLeaves a_classOf a_nextClass a_classRep a_slotClass a_slotKey a_numberOf a_queue a_delta a_stateLabel a_extendable a_text a_lexRule a_lexLength a_failed a_trail := by
  have hB := H.1
  intro d
  induction d with
  | zero =>
    intro i l aN aF aL cN cF cL zN zF zL fo hi I
    have e : B + i = n := by omega
    have hl := ev_lev I
    rw [e, H.2.2.2.2.2.1.2] at hl
    have hl0 : l = 0 := by omega
    subst hl0
    rw [e] at I
    exact br_t (nI_le (by omega) (by omega)) (xw_ev182 H inj h8 hr K I)
  | succ d ih =>
    intro i l aN aF aL cN cF cL zN zF zL fo hi I
    have hin : B + i < n := by omega
    have hl := ev_lev I
    have hl6 := hD6 (B + i) (by omega) (by omega)
    have l7 : l < 7 := by omega
    have tv := H.2.2.1 (B + i) (by omega) hin
    have ds := H.2.2.2.1 (B + i) (by omega) hin
    have d0 := H.2.2.2.2.1 (B + i + 1) (by omega) (by omega)
    have d6 := hD6 (B + i + 1) (by omega) (by omega)
    have lcs := hlc (B + i) (by omega) hin
    have J := ev_jn H inj h8 (Nat.le_of_lt hin) I
    refine br_f (nI_ge (by omega) (by omega)) (br_f (nI_ge (b := 24) (by omega) (by omega)) (And.intro (vp_in_nI (by omega) (by omega)) (nm_r (e' := nI (t (B + i))) (by rw [nI_clamp (by omega)]; exact htok i (by omega)) ?_)))
    refine pk_eq (t (B + i)) 16 (fun e => ?_) (fun e16 => pk_eq (t (B + i)) 17 (fun e => ?_) (fun e17 => pk_eq (t (B + i)) 18 (fun e => ?_) (fun e18 => pk_eq (t (B + i)) 22 (fun e => ?_) (fun e22 => pk_le 16 (t (B + i)) (fun e => ?_) (fun e => ?_)))))
    · rw [gr_w16 e] at ds
      refine xw_joinAtom l7 (br_f (nI_ge (b := 6) (by omega) (by omega)) (nm_r (nI_1 l) ?_))
      refine xw_openLevel (l := l + 1) (by omega) (nm_r (nI_1 i) ?_)
      rw [← lcs.2 (fun z => by have := z.2; omega)]
      exact ih (i + 1) (l + 1) _ _ _ _ _ _ _ _ _ _ (by omega) (ev_i16 H hin J e)
    · rw [gr_w17 e] at ds
      cases l with
      | zero => omega
      | succ l =>
        refine xw_closeBranch l7 (br_f (nI_nle (by omega) (by omega)) (xw_liftGroup (l := l) l7 ?_ (nm_r (pk_m1 l) (nm_r (nI_1 i) ?_))))
        · rw [pk_us]
          have F := ev_end (J.choose_spec.choose_spec.1) (J.choose_spec.choose_spec.2.2.1)
          have := gr_b01_s F.1
          rw [pk_us] at this
          exact this
        · rw [← lcs.2 (fun z => by have := z.2; omega)]
          have I' := ev_i17 (zN := upd zN (l + 1) 1) (zF := upd zF (l + 1) 0) (zL := upd zL (l + 1) 0) H hin J e (aN' := upd aN (l + 1) (if (if zN (l + 1) = 0 then 0 else cN (l + 1)) = 0 then aN (l + 1) else 1)) (aF' := upd aF (l + 1) (aF (l + 1) ||| (if cN (l + 1) = 0 then cF (l + 1) else cF (l + 1) ||| zF (l + 1)))) (aL' := upd aL (l + 1) (aL (l + 1) ||| (if zN (l + 1) = 0 then zL (l + 1) else cL (l + 1) ||| zL (l + 1)))) (cN' := upd cN (l + 1) 1) (cF' := upd cF (l + 1) 0) (cL' := upd cL (l + 1) 0) (fun j hj => ⟨ev_un hj, ev_un hj, ev_un hj, (ev_un hj).trans (ev_un hj).symm, (ev_un hj).trans (ev_un hj).symm, (ev_un hj).trans (ev_un hj).symm⟩)
          rw [pk_us, pk_us, pk_us] at I'
          rw [pk_us, pk_us, pk_us]
          exact ih (i + 1) l _ _ _ _ _ _ _ _ _ _ (by omega) I'
    · refine xw_closeBranch l7 (nm_r (nI_1 i) ?_)
      rw [← lcs.2 (fun z => by have := z.2; omega)]
      have I' := ev_i18 (zN := zN) (zF := zF) (zL := zL) H hin J e
      rw [pk_us, pk_us, pk_us, xl_uu, xl_uu, xl_uu] at I'
      exact ih (i + 1) l _ _ _ _ _ _ _ _ _ _ (by omega) I'
    · refine xw_joinAtom l7 (nm_r (nI_1 i) ?_)
      rw [← lcs.2 (fun z => by have := z.2; omega)]
      exact ih (i + 1) l _ _ _ _ _ _ _ _ _ _ (by omega) (ev_i22 H hin J e)
    · have hs : 19 ≤ t (B + i) ∧ t (B + i) ≤ 21 := by omega
      refine xw_applySuffix l7 (by omega) (nm_r (nI_1 i) ?_)
      rw [← lcs.2 (fun z => by have := z.2; omega)]
      exact ih (i + 1) l _ _ _ _ _ _ _ _ _ _ (by omega) (ev_isf H inj h8 hin I hs)
    · have hlf : gr_Lf t (B + i) := ⟨tv.1, e⟩
      have k8 := h8 (B + i) (by omega) hin hlf
      have hi7 : vp_in (nI l) 7 := vp_in_nI l7 (by omega)
      have I' := ev_ilf (zN := upd zN l 1) (zF := upd zF l 0) (zL := upd zL l 0) H hin J hlf (xl_one (by omega))
      refine xw_joinAtom l7 (And.intro hi7 (nm_r (e' := upd (upd zN l 1) l 0) (by rw [xl_cl l7]; rfl) (And.intro hi7 (nm_r (e' := upd (upd zF l 0) l ((1 : Int32) <<< (nI (lc (B + i)) &&& 31))) (by rw [xl_cl l7]) (And.intro hi7 (nm_r (e' := upd (upd zL l 0) l ((1 : Int32) <<< (nI (lc (B + i)) &&& 31))) (by rw [xl_cl l7]) (nm_r (nI_1 _) (nm_r (nI_1 i) ?_))))))))
      rw [← lcs.1 hlf]
      exact ih (i + 1) l _ _ _ _ _ _ _ _ _ _ (by omega) I'
end
end
section
/-! Y: edge, atom, moves over the token places -/
theorem yl_cl {b_toks : Nat → Int32} {t : Nat → Nat} (hT : ∀ p, b_toks p = nI (t p)) {p : Nat} (h : p < 2 ^ 31) : b_toks (nI p).toNatClampNeg = nI (t p) := by rw [nI_clamp h, hT]
theorem yl_sm1 (d : Nat) : nI d - (-1) = nI (d + 1) := by
  rw [← nI_1, Int32.sub_eq_add_neg]
  rfl
theorem yl_s1 (d : Nat) (h : 0 < d) : nI d - 1 = nI (d - 1) := by
  obtain ⟨e, rfl⟩ : ∃ e, d = e + 1 := ⟨d - 1, by omega⟩
  rw [nI_pred]; rfl
theorem yl_m1 (d : Nat) (h : 0 < d) : nI d + (-1) = nI (d - 1) := by
  obtain ⟨e, rfl⟩ : ∃ e, d = e + 1 := ⟨d - 1, by omega⟩
  rw [pk_m1]; rfl
section
variable {g_letters g_maxRules g_maxLeaves g_maxText g_rules g_count g_compiled g_states g_textLength g_closed g_lexemes : Int32} {b_toks b_reach b_go b_lab b_seen b_diff b_conf b_text b_lexRule b_lexLength : Nat → Int32} {n_diff : Nat} {t : Nat → Nat}
theorem yw_eR {post : Int32 → Prop} (hT : ∀ p, b_toks p = nI (t p)) (ht : ∀ p, t p < 100) : ∀ (f c q d : Nat), c + f = 25 → (∃ z, q ≤ z ∧ z < 176 ∧ t z = 0) → d ≤ c → post (nI (gr_eR t f q d)) → wY_edge_10 post 1 g_letters g_maxRules g_maxLeaves g_maxText g_rules g_count g_compiled g_states g_textLength g_closed g_lexemes b_toks b_reach b_go b_lab b_seen b_diff b_conf b_text b_lexRule b_lexLength n_diff (f + 1) (nI q) (nI d) (nI c) := by
  intro f
  induction f with
  | zero =>
    intro c q d hc hz hd hp
    exact br_t (nI_le (a := 25) (by omega) (by omega)) hp
  | succ f ih =>
    intro c q d hc hz hd hp
    obtain ⟨z, z1, z2, z3⟩ := hz
    have tq := ht q
    have hi : vp_in (nI q) 176 := vp_in_nI (by omega) (by omega)
    have hx := yl_cl hT (p := q) (by omega)
    unfold gr_eR at hp
    have hz' : t q ≠ 0 → ∃ z, q + 1 ≤ z ∧ z < 176 ∧ t z = 0 := fun h => ⟨z, by
      rcases Nat.lt_or_ge q z with k | k
      · omega
      · have : q = z := by omega
        rw [this] at h; exact absurd z3 h, z2, z3⟩
    refine br_f (nI_ge (b := 25) (by omega) (by omega)) (And.intro hi (pk_eq (t q) 0 (fun e => ?_) (fun e => ?_) (hx := hx)))
    · rw [if_pos e] at hp; exact hp
    · rw [if_neg e] at hp
      have e70 : ∀ d', d' ≤ c + 1 → (t q = 17 → 0 < d') → post (nI (gr_eR t f (q + 1) (if t q = 17 then d' - 1 else d'))) → wY_edge_70 post (wY_edge_10 post 1 g_letters g_maxRules g_maxLeaves g_maxText g_rules g_count g_compiled g_states g_textLength g_closed g_lexemes b_toks b_reach b_go b_lab b_seen b_diff b_conf b_text b_lexRule b_lexLength n_diff (f + 1)) 1 (nI q) (nI d') (nI c) g_letters g_maxRules g_maxLeaves g_maxText g_rules g_count g_compiled g_states g_textLength g_closed g_lexemes b_toks b_reach b_go b_lab b_seen b_diff b_conf b_text b_lexRule b_lexLength n_diff := by
        intro d' h1 h2 h3
        refine And.intro hi (pk_eq (t q) 17 (fun e17 => ?_) (fun e17 => ?_) (hx := hx))
        · rw [if_pos e17] at h3
          exact nm_r (yl_s1 d' (h2 e17)) (nm_r (nI_1 q) (nm_r (nI_1 c) (ih (c + 1) (q + 1) (d' - 1) (by omega) (hz' e) (by omega) h3)))
        · rw [if_neg e17] at h3
          exact nm_r (nI_1 q) (nm_r (nI_1 c) (ih (c + 1) (q + 1) d' (by omega) (hz' e) (by omega) h3))
      have e53 : ¬ (d = 0 ∧ t q = 17) → wY_edge_53 post (wY_edge_10 post 1 g_letters g_maxRules g_maxLeaves g_maxText g_rules g_count g_compiled g_states g_textLength g_closed g_lexemes b_toks b_reach b_go b_lab b_seen b_diff b_conf b_text b_lexRule b_lexLength n_diff (f + 1)) 1 (nI q) (nI d) (nI c) g_letters g_maxRules g_maxLeaves g_maxText g_rules g_count g_compiled g_states g_textLength g_closed g_lexemes b_toks b_reach b_go b_lab b_seen b_diff b_conf b_text b_lexRule b_lexLength n_diff := by
        intro hn
        rw [if_neg hn] at hp
        refine And.intro hi (pk_eq (t q) 16 (fun e16 => ?_) (fun e16 => ?_) (hx := hx))
        · rw [if_pos e16] at hp
          exact nm_r (nI_1 d) (e70 (d + 1) (by omega) (fun _ => by omega) (by rw [if_neg (by omega)]; exact hp))
        · rw [if_neg e16] at hp
          exact e70 d (by omega) (fun h => by omega) hp
      refine pk_eq d 0 (fun d0 => ?_) (fun d0 => e53 (fun h => d0 h.1))
      refine And.intro hi (br_f (by decide) (pk_eq (t q) 17 (fun e17 => ?_) (fun e17 => e53 (fun h => e17 h.2)) (hx := hx)))
      rw [if_pos ⟨d0, e17⟩] at hp
      exact hp
theorem yw_eL {post : Int32 → Prop} (hT : ∀ p, b_toks p = nI (t p)) (ht : ∀ p, t p < 100) (h0 : t 0 = 0) : ∀ (f c q d : Nat), c + f = 25 → q < 176 → d ≤ c → post (nI (gr_eL t f q d)) → wY_edge_10 post (-1) g_letters g_maxRules g_maxLeaves g_maxText g_rules g_count g_compiled g_states g_textLength g_closed g_lexemes b_toks b_reach b_go b_lab b_seen b_diff b_conf b_text b_lexRule b_lexLength n_diff (f + 1) (nI q) (nI d) (nI c) := by
  intro f
  induction f with
  | zero =>
    intro c q d hc hz hd hp
    exact br_t (nI_le (a := 25) (by omega) (by omega)) hp
  | succ f ih =>
    intro c q d hc hq hd hp
    have tq := ht q
    have hi : vp_in (nI q) 176 := vp_in_nI (by omega) (by omega)
    have hx := yl_cl hT (p := q) (by omega)
    unfold gr_eL at hp
    refine br_f (nI_ge (b := 25) (by omega) (by omega)) (And.intro hi (pk_eq (t q) 0 (fun e => ?_) (fun e => ?_) (hx := hx)))
    · rw [if_pos e] at hp; exact hp
    · rw [if_neg e] at hp
      have q0 : 0 < q := by
        rcases Nat.eq_zero_or_pos q with k | k
        · rw [k] at e; exact absurd h0 e
        · exact k
      have e70 : ∀ d', d' ≤ c → post (nI (gr_eL t f (q - 1) (if t q = 17 then d' + 1 else d'))) → wY_edge_70 post (wY_edge_10 post (-1) g_letters g_maxRules g_maxLeaves g_maxText g_rules g_count g_compiled g_states g_textLength g_closed g_lexemes b_toks b_reach b_go b_lab b_seen b_diff b_conf b_text b_lexRule b_lexLength n_diff (f + 1)) (-1) (nI q) (nI d') (nI c) g_letters g_maxRules g_maxLeaves g_maxText g_rules g_count g_compiled g_states g_textLength g_closed g_lexemes b_toks b_reach b_go b_lab b_seen b_diff b_conf b_text b_lexRule b_lexLength n_diff := by
        intro d' h1 h3
        refine And.intro hi (pk_eq (t q) 17 (fun e17 => ?_) (fun e17 => ?_) (hx := hx))
        · rw [if_pos e17] at h3
          exact nm_r (yl_sm1 d') (nm_r (yl_m1 q q0) (nm_r (nI_1 c) (ih (c + 1) (q - 1) (d' + 1) (by omega) (by omega) (by omega) h3)))
        · rw [if_neg e17] at h3
          exact nm_r (yl_m1 q q0) (nm_r (nI_1 c) (ih (c + 1) (q - 1) d' (by omega) (by omega) (by omega) h3))
      have e53 : ¬ (d = 0 ∧ t q = 16) → wY_edge_53 post (wY_edge_10 post (-1) g_letters g_maxRules g_maxLeaves g_maxText g_rules g_count g_compiled g_states g_textLength g_closed g_lexemes b_toks b_reach b_go b_lab b_seen b_diff b_conf b_text b_lexRule b_lexLength n_diff (f + 1)) (-1) (nI q) (nI d) (nI c) g_letters g_maxRules g_maxLeaves g_maxText g_rules g_count g_compiled g_states g_textLength g_closed g_lexemes b_toks b_reach b_go b_lab b_seen b_diff b_conf b_text b_lexRule b_lexLength n_diff := by
        intro hn
        rw [if_neg hn] at hp
        refine And.intro hi (pk_eq (t q) 16 (fun e16 => ?_) (fun e16 => ?_) (hx := hx))
        · rw [if_pos e16] at hp
          exact nm_r (yl_m1 d (by omega)) (e70 (d - 1) (by omega) (by rw [if_neg (by omega)]; exact hp))
        · rw [if_neg e16] at hp
          exact e70 d (by omega) hp
      refine pk_eq d 0 (fun d0 => ?_) (fun d0 => e53 (fun h => d0 h.1))
      refine And.intro hi (br_t (by decide) (pk_eq (t q) 16 (fun e17 => ?_) (fun e17 => e53 (fun h => e17 h.2)) (hx := hx)))
      rw [if_pos ⟨d0, e17⟩] at hp
      exact hp
theorem yw_edgeR {post : Int32 → Prop} (hT : ∀ p, b_toks p = nI (t p)) (ht : ∀ p, t p < 100) {p : Nat} (hz : ∃ z, p + 1 ≤ z ∧ z < 176 ∧ t z = 0) (h : post (nI (gr_eR t 25 (p + 1) 0))) : wpY_edge post (g_letters, g_maxRules, g_maxLeaves, g_maxText, g_rules, g_count, g_compiled, g_states, g_textLength, g_closed, g_lexemes, b_toks, b_reach, b_go, b_lab, b_seen, b_diff, b_conf, b_text, b_lexRule, b_lexLength, n_diff) (nI p) 1 :=
  nm_r (nI_1 p) ⟨26, yw_eR hT ht 25 0 (p + 1) 0 rfl hz (Nat.le_refl _) h⟩
theorem yw_edgeL {post : Int32 → Prop} (hT : ∀ p, b_toks p = nI (t p)) (ht : ∀ p, t p < 100) (h0 : t 0 = 0) {p : Nat} (hp0 : 0 < p) (hp : p ≤ 176) (h : post (nI (gr_eL t 25 (p - 1) 0))) : wpY_edge post (g_letters, g_maxRules, g_maxLeaves, g_maxText, g_rules, g_count, g_compiled, g_states, g_textLength, g_closed, g_lexemes, b_toks, b_reach, b_go, b_lab, b_seen, b_diff, b_conf, b_text, b_lexRule, b_lexLength, n_diff) (nI p) (-1) :=
  nm_r (yl_m1 p hp0) ⟨26, yw_eL hT ht h0 25 0 (p - 1) 0 rfl (by omega) (Nat.le_refl _) h⟩
theorem yw_at43 {post : Int32 → Prop} (hT : ∀ p, b_toks p = nI (t p)) (ht : ∀ p, t p < 100) (h0 : t 0 = 0) {q : Nat} (hq : q < 176) (h : post (nI (if t q = 17 then gr_eL t 25 (q - 1) 0 else q))) : wY_atom_43 post (nI q) g_letters g_maxRules g_maxLeaves g_maxText g_rules g_count g_compiled g_states g_textLength g_closed g_lexemes b_toks b_reach b_go b_lab b_seen b_diff b_conf b_text b_lexRule b_lexLength n_diff := by
  have tq := ht q
  have hx := yl_cl hT (p := q) (by omega)
  refine And.intro (vp_in_nI hq (by omega)) (pk_eq (t q) 17 (fun e => ?_) (fun e => ?_) (hx := hx))
  · rw [if_pos e] at h
    have q0 : 0 < q := by
      rcases Nat.eq_zero_or_pos q with k | k
      · rw [k, h0] at e; omega
      · exact k
    exact yw_edgeL hT ht h0 q0 (by omega) h
  · rw [if_neg e] at h; exact h
theorem yw_sk {post : Int32 → Prop} (hT : ∀ p, b_toks p = nI (t p)) (ht : ∀ p, t p < 100) (h0 : t 0 = 0) : ∀ (f c q : Nat), c + f = 25 → q < 176 → post (nI (if t (gr_sk t f q) = 17 then gr_eL t 25 (gr_sk t f q - 1) 0 else gr_sk t f q)) → wY_atom_6 post g_letters g_maxRules g_maxLeaves g_maxText g_rules g_count g_compiled g_states g_textLength g_closed g_lexemes b_toks b_reach b_go b_lab b_seen b_diff b_conf b_text b_lexRule b_lexLength n_diff (f + 1) (nI q) (nI c) := by
  intro f
  induction f with
  | zero =>
    intro c q hc hq hp
    exact br_t (nI_le (a := 25) (by omega) (by omega)) (yw_at43 hT ht h0 hq hp)
  | succ f ih =>
    intro c q hc hq hp
    have tq := ht q
    have hi : vp_in (nI q) 176 := vp_in_nI (by omega) (by omega)
    have hx := yl_cl hT (p := q) (by omega)
    have en : ¬ (19 ≤ t q ∧ t q ≤ 21) → gr_sk t (f + 1) q = q := fun z => if_neg z
    have ep : 19 ≤ t q ∧ t q ≤ 21 → gr_sk t (f + 1) q = gr_sk t f (q - 1) := fun z => if_pos z
    refine br_f (nI_ge (b := 25) (by omega) (by omega)) (And.intro hi (pk_lt (t q) 19 (fun e => ?_) (fun e => And.intro hi (pk_lt 21 (t q) (fun e2 => ?_) (fun e2 => ?_) (hy := hx))) (hx := hx)))
    · rw [en (by omega)] at hp
      exact yw_at43 hT ht h0 hq hp
    · rw [en (by omega)] at hp
      exact yw_at43 hT ht h0 hq hp
    · rw [ep ⟨e, e2⟩] at hp
      have q0 : 0 < q := by
        rcases Nat.eq_zero_or_pos q with k | k
        · rw [k, h0] at e; omega
        · exact k
      exact nm_r (yl_m1 q q0) (nm_r (nI_1 c) (ih (c + 1) (q - 1) (by omega) (by omega) hp))
theorem yw_atom {post : Int32 → Prop} (hT : ∀ p, b_toks p = nI (t p)) (ht : ∀ p, t p < 100) (h0 : t 0 = 0) {p : Nat} (hp0 : 0 < p) (hp : p ≤ 176) (h : post (nI (gr_at t p))) : wpY_atom post (g_letters, g_maxRules, g_maxLeaves, g_maxText, g_rules, g_count, g_compiled, g_states, g_textLength, g_closed, g_lexemes, b_toks, b_reach, b_go, b_lab, b_seen, b_diff, b_conf, b_text, b_lexRule, b_lexLength, n_diff) (nI p) :=
  nm_r (yl_s1 p hp0) ⟨26, yw_sk hT ht h0 25 0 (p - 1) rfl (by omega) h⟩
theorem gr_eL_le (t : Nat → Nat) : ∀ f q d, gr_eL t f q d ≤ q
  | 0, q, d => Nat.le_refl _
  | f + 1, q, d => by
    unfold gr_eL
    by_cases c : t q = 0
    · rw [if_pos c]; exact Nat.le_refl _
    · rw [if_neg c]
      by_cases c2 : d = 0 ∧ t q = 16
      · rw [if_pos c2]; exact Nat.le_refl _
      · rw [if_neg c2]
        have := gr_eL_le t f (q - 1) (if t q = 16 then d - 1 else if t q = 17 then d + 1 else d)
        omega
theorem gr_sk_le (t : Nat → Nat) : ∀ f q, gr_sk t f q ≤ q
  | 0, q => Nat.le_refl _
  | f + 1, q => by
    unfold gr_sk
    by_cases c : 19 ≤ t q ∧ t q ≤ 21
    · rw [if_pos c]
      have := gr_sk_le t f (q - 1)
      omega
    · rw [if_neg c]; exact Nat.le_refl _
theorem gr_at_le (t : Nat → Nat) (p : Nat) : gr_at t p ≤ p := by
  unfold gr_at
  have h1 := gr_sk_le t 25 (p - 1)
  by_cases c : t (gr_sk t 25 (p - 1)) = 17
  · rw [if_pos c]
    have := gr_eL_le t 25 (gr_sk t 25 (p - 1) - 1) 0
    omega
  · rw [if_neg c]; omega
theorem gr_eR_le (t : Nat → Nat) : ∀ f q d, gr_eR t f q d ≤ q + f
  | 0, q, d => Nat.le_refl _
  | f + 1, q, d => by
    unfold gr_eR
    by_cases c : t q = 0
    · rw [if_pos c]; omega
    · rw [if_neg c]
      by_cases c2 : d = 0 ∧ t q = 17
      · rw [if_pos c2]; omega
      · rw [if_neg c2]
        have := gr_eR_le t f (q + 1) (if t q = 16 then d + 1 else if t q = 17 then d - 1 else d)
        omega
/-- one move: the answer is 1 or 0 as gr_mv says -/
theorem yw_moves {post : Int32 → Prop} (hT : ∀ p, b_toks p = nI (t p)) (ht : ∀ p, t p < 100) (h0 : t 0 = 0) {g h : Nat} (hg0 : 0 < g) (hg : g < 175) (hh0 : 0 < h) (hh : h ≤ 176) (hz : t g = 18 → ∃ z, g + 1 ≤ z ∧ z < 176 ∧ t z = 0) (h1 : gr_mv t g h → post 1) (h2 : ¬ gr_mv t g h → post 0) : wpY_moves post (g_letters, g_maxRules, g_maxLeaves, g_maxText, g_rules, g_count, g_compiled, g_states, g_textLength, g_closed, g_lexemes, b_toks, b_reach, b_go, b_lab, b_seen, b_diff, b_conf, b_text, b_lexRule, b_lexLength, n_diff) (nI g) (nI h) := by
  have tg := ht g
  have th := ht (h - 1)
  have hxg := yl_cl hT (p := g) (by omega)
  have hxh : b_toks (nI h - 1).toNatClampNeg = nI (t (h - 1)) := by rw [yl_s1 h hh0]; exact yl_cl hT (by omega)
  have bin : ∀ (a : Nat) (c : Nat) (X : Prop), a < 2 ^ 31 → c < 2 ^ 31 → (a = c ↔ X) → (X → post 1) → (¬ X → post 0) → (nI a = nI c → post 1) ∧ (¬ nI a = nI c → post 0) := by
    intro a c X ha hc e f1 f2
    rw [nI_eq ha hc, e]
    exact ⟨f1, f2⟩
  have eR := gr_eR_le t 25 (g + 1) 0
  have aG := gr_at_le t g
  have aH := gr_at_le t (h - 1)
  have eL := gr_eL_le t 25 (h - 1 - 1) 0
  have m41 : ¬ (16 ≤ t g ∧ t g ≠ 18 ∧ h = g + 1) → wY_moves_41 post (nI g) (nI h) (nI (t g)) (nI (t (h - 1))) g_letters g_maxRules g_maxLeaves g_maxText g_rules g_count g_compiled g_states g_textLength g_closed g_lexemes b_toks b_reach b_go b_lab b_seen b_diff b_conf b_text b_lexRule b_lexLength n_diff := by
    intro c1
    unfold gr_mv at h1 h2
    rw [if_neg c1] at h1 h2
    refine pk_eq (t g) 18 (fun e => ?_) (fun e18 => ?_)
    · rw [if_pos e] at h1 h2
      exact yw_edgeR hT ht (hz e) (bin _ _ _ (by omega) (by omega) Iff.rfl h1 h2)
    rw [if_neg e18] at h1 h2
    have m79 : t g = 19 ∨ t g = 20 → wY_moves_79 post (nI g) (nI h) g_letters g_maxRules g_maxLeaves g_maxText g_rules g_count g_compiled g_states g_textLength g_closed g_lexemes b_toks b_reach b_go b_lab b_seen b_diff b_conf b_text b_lexRule b_lexLength n_diff := by
      intro c
      rw [if_pos c] at h1 h2
      exact yw_atom hT ht h0 hg0 (by omega) (bin _ _ _ (by omega) (by omega) Iff.rfl h1 h2)
    refine pk_eq (t g) 19 (fun e => m79 (Or.inl e)) (fun e19 => pk_eq (t g) 20 (fun e => m79 (Or.inr e)) (fun e20 => ?_))
    rw [if_neg (by omega)] at h1 h2
    have m133 : ¬ (t g = 16 ∧ t (h - 1) = 18) → wY_moves_133 post (nI g) (nI h) (nI (t (h - 1))) g_letters g_maxRules g_maxLeaves g_maxText g_rules g_count g_compiled g_states g_textLength g_closed g_lexemes b_toks b_reach b_go b_lab b_seen b_diff b_conf b_text b_lexRule b_lexLength n_diff := by
      intro c
      rw [if_neg c] at h1 h2
      have m147 : t (h - 1) = 19 ∨ t (h - 1) = 21 → wY_moves_147 post (nI g) (nI h) g_letters g_maxRules g_maxLeaves g_maxText g_rules g_count g_compiled g_states g_textLength g_closed g_lexemes b_toks b_reach b_go b_lab b_seen b_diff b_conf b_text b_lexRule b_lexLength n_diff := by
        intro c
        rw [if_pos c] at h1 h2
        have hh2 : 0 < h - 1 := by
          rcases Nat.eq_zero_or_pos (h - 1) with k | k
          · rw [k, h0] at c; omega
          · exact k
        unfold wY_moves_147
        rw [yl_s1 h hh0]
        exact yw_atom hT ht h0 hh2 (by omega) (bin _ _ _ (by omega) (by omega) Iff.rfl h1 h2)
      refine pk_eq (t (h - 1)) 19 (fun e => m147 (Or.inl e)) (fun e1 => pk_eq (t (h - 1)) 21 (fun e => m147 (Or.inr e)) (fun e2 => ?_))
      rw [if_neg (by omega)] at h2
      exact h2 (fun z => z)
    refine pk_eq (t g) 16 (fun e => pk_eq (t (h - 1)) 18 (fun e2 => ?_) (fun e2 => m133 (fun z => e2 z.2))) (fun e => m133 (fun z => e z.1))
    rw [if_pos ⟨e, e2⟩] at h1 h2
    have hh2 : 0 < h - 1 := by
      rcases Nat.eq_zero_or_pos (h - 1) with k | k
      · rw [k, h0] at e2; omega
      · exact k
    rw [yl_s1 h hh0]
    exact yw_edgeL hT ht h0 hh2 (by omega) (bin _ _ _ (by omega) (by omega) Iff.rfl h1 h2)
  refine And.intro (vp_in_nI (by omega) (by omega)) (nm_r hxg (And.intro (by rw [yl_s1 h hh0]; exact vp_in_nI (by omega) (by omega)) (nm_r hxh ?_)))
  refine pk_lt (t g) 16 (fun e => m41 (by omega)) (fun e => pk_eq (t g) 18 (fun e2 => m41 (by omega)) (fun e2 => pk_eq h (g + 1) (fun e3 => ?_) (fun e3 => m41 (by omega)) (hy := nI_1 g)))
  unfold gr_mv at h1
  rw [if_pos ⟨e, e2, e3⟩] at h1
  exact h1 trivial
end
end
section
/-! Y: spread, fromPlace, fromStart -/
def yl_R (t : Nat → Nat) (B : Nat) (R0 : Nat → Prop) (y : Nat) : Prop := ∀ S : Nat → Prop, (∀ x, R0 x → S x) → (∀ g h, B ≤ g → g < B + 25 → B ≤ h → h < B + 25 → S g → gr_mv t g h → S h) → S y
def yl_In (t : Nat → Nat) (B : Nat) (R0 : Nat → Prop) (r : Nat → Int32) : Prop := ∀ y, y < 176 → (r y = 0 ∨ r y = 1) ∧ (R0 y → r y = 1) ∧ (r y = 1 → yl_R t B R0 y)
theorem yl_R_1 {t : Nat → Nat} {B : Nat} {R0 : Nat → Prop} {g h : Nat} (r : yl_R t B R0 g) (h1 : B ≤ g) (h2 : g < B + 25) (h3 : B ≤ h) (h4 : h < B + 25) (m : gr_mv t g h) : yl_R t B R0 h := fun S a b => b g h h1 h2 h3 h4 (r S a b) m
theorem yl_01 {x : Int32} (h : x = 0 ∨ x = 1) : ¬ x = 0 ↔ x = 1 := by
  rcases h with e | e <;> subst e
  · exact ⟨fun z => absurd rfl z, fun z => absurd z (by decide)⟩
  · exact ⟨fun _ => rfl, fun _ => by decide⟩
theorem yl_10 {x : Int32} (h : x = 1) : ¬ x = 0 := by subst h; decide
section
variable {g_letters g_maxRules g_maxLeaves g_maxText g_rules g_count g_compiled g_states g_textLength g_closed g_lexemes : Int32} {b_toks b_reach b_go b_lab b_seen b_diff b_conf b_text b_lexRule b_lexLength : Nat → Int32} {n_diff : Nat} {t : Nat → Nat} {B : Nat} {R0 : Nat → Prop} {post : SY → Prop}
theorem yw_sp21 {J2 : Int32 → (Nat → Int32) → (Nat → Int32) → (Nat → Int32) → (Nat → Int32) → (Nat → Int32) → (Nat → Int32) → (Nat → Int32) → (Nat → Int32) → (Nat → Int32) → (Nat → Int32) → Prop} {J10 : Int32 → (Nat → Int32) → (Nat → Int32) → (Nat → Int32) → (Nat → Int32) → (Nat → Int32) → (Nat → Int32) → (Nat → Int32) → (Nat → Int32) → (Nat → Int32) → (Nat → Int32) → Prop} {x2 : Int32}
    (hT : ∀ p, b_toks p = nI (t p)) (ht : ∀ p, t p < 100) (h0 : t 0 = 0) (hB : 1 ≤ B) (hB2 : B + 24 < 175) (hz : t (B + 24) = 0) {g : Nat} (hg : B ≤ g) (hg2 : g < B + 25) :
    ∀ (d h : Nat) (r : Nat → Int32), h + d = B + 25 → B ≤ h → yl_In t B R0 r →
    (∀ r', yl_In t B R0 r' → (∀ y, y < 176 → r y = 1 → r' y = 1) → (∀ h', h ≤ h' → h' < B + 25 → r g = 1 → gr_mv t g h' → r' h' = 1) → J10 (nI (g + 1)) b_toks r' b_go b_lab b_seen b_diff b_conf b_text b_lexRule b_lexLength) →
    wY_spread_21 post J2 J10 (nI B) x2 (nI g) g_letters g_maxRules g_maxLeaves g_maxText g_rules g_count g_compiled g_states g_textLength g_closed g_lexemes n_diff (d + 1) (nI h) b_toks r b_go b_lab b_seen b_diff b_conf b_text b_lexRule b_lexLength := by
  intro d
  induction d with
  | zero =>
    intro h r hd hb I K
    refine br_t ?_ (nm_r (nI_1 g) (K r I (fun _ _ z => z) (fun h' a b => by omega)))
    rw [show (25 : Int32) = nI 25 from rfl, nI_add]
    exact nI_le (by omega) (by omega)
  | succ d ih =>
    intro h r hd hb I K
    have hig : vp_in (nI g) 176 := vp_in_nI (by omega) (by omega)
    have hih : vp_in (nI h) 176 := vp_in_nI (by omega) (by omega)
    have cg : (nI g).toNatClampNeg = g := nI_clamp (by omega)
    have ch : (nI h).toNatClampNeg = h := nI_clamp (by omega)
    have Ig := I g (by omega)
    have Ih := I h (by omega)
    refine br_f ?_ (And.intro hig (br_c (fun z => ?_) (fun z => And.intro hih (br_c (fun z2 => ?_) (fun z2 => ?_)))))
    · rw [show (25 : Int32) = nI 25 from rfl, nI_add]
      exact nI_ge (by omega) (by omega)
    · rw [cg] at z
      refine nm_r (nI_1 h) (ih (h + 1) r (by omega) (by omega) I (fun r' I' m c => K r' I' m (fun h' a b e mv => ?_)))
      rw [z] at e; exact absurd e (by decide)
    · rw [cg] at z
      rw [ch] at z2
      have rg : r g = 1 := (yl_01 Ig.1).mp z
      have ne : g ≠ h := fun e => by rw [e] at z; exact z z2
      have wr : ∀ v : Int32, (v = 0 ∨ v = 1) → (v = 1 ↔ gr_mv t g h) → vp_in (nI h) 176 ∧ ∀ a_reach_36, a_reach_36 = upd r (nI h).toNatClampNeg (vp_nar .boolean v) → ∀ x4_37, x4_37 = nI h + 1 → wY_spread_21 post J2 J10 (nI B) x2 (nI g) g_letters g_maxRules g_maxLeaves g_maxText g_rules g_count g_compiled g_states g_textLength g_closed g_lexemes n_diff (d + 1) x4_37 b_toks a_reach_36 b_go b_lab b_seen b_diff b_conf b_text b_lexRule b_lexLength := by
        intro v hv hvm
        refine And.intro hih (nm_r (e' := upd r h v) (by rw [ch, xl_nar01 hv]) (nm_r (nI_1 h) (ih (h + 1) (upd r h v) (by omega) (by omega) ?_ (fun r' I' m c => K r' I' (fun y hy e => ?_) (fun h' a b e mv => ?_)))))
        · intro y hy
          by_cases c : y = h
          · subst c
            rw [pk_us]
            refine ⟨hv, fun q => ?_, fun q => ?_⟩
            · have := Ih.2.1 q; rw [z2] at this; exact absurd this (by decide)
            · exact yl_R_1 (Ig.2.2 rg) hg hg2 hb (by omega) (hvm.mp q)
          · rw [pk_un c]; exact I y hy
        · refine m y hy ?_
          by_cases c : y = h
          · subst c; rw [z2] at e; exact absurd e (by decide)
          · rw [pk_un c]; exact e
        · by_cases c2 : h' = h
          · subst c2
            exact m h' (by omega) (by rw [pk_us]; exact hvm.mpr mv)
          · exact c h' (by omega) b (by rw [pk_un ne]; exact e) mv
      by_cases lt : g < 175
      · refine yw_moves hT ht h0 (by omega) lt (by omega) (by omega) (fun e18 => ⟨B + 24, ?_, by omega, hz⟩) (fun mv => wr 1 (Or.inr rfl) ⟨fun _ => mv, fun _ => rfl⟩) (fun mv => wr 0 (Or.inl rfl) ⟨fun e => absurd e (by decide), fun e => absurd e mv⟩)
        rcases Nat.lt_or_ge g (B + 24) with k | k
        · omega
        · have : g = B + 24 := by omega
          rw [this, hz] at e18; omega
      · omega
    · rw [ch] at z2
      refine nm_r (nI_1 h) (ih (h + 1) r (by omega) (by omega) I (fun r' I' m c => K r' I' m (fun h' a b e mv => ?_)))
      by_cases c2 : h' = h
      · subst c2
        exact m h' (by omega) ((yl_01 Ih.1).mp z2)
      · exact c h' (by omega) b e mv
theorem yw_sp10 {J2 : Int32 → (Nat → Int32) → (Nat → Int32) → (Nat → Int32) → (Nat → Int32) → (Nat → Int32) → (Nat → Int32) → (Nat → Int32) → (Nat → Int32) → (Nat → Int32) → (Nat → Int32) → Prop} {c : Nat}
    (hT : ∀ p, b_toks p = nI (t p)) (ht : ∀ p, t p < 100) (h0 : t 0 = 0) (hB : 1 ≤ B) (hB2 : B + 24 < 175) (hz : t (B + 24) = 0) :
    ∀ (d g : Nat) (r : Nat → Int32), g + d = B + 25 → B ≤ g → yl_In t B R0 r →
    (∀ r', yl_In t B R0 r' → (∀ y, y < 176 → r y = 1 → r' y = 1) → (∀ g' h', g ≤ g' → g' < B + 25 → B ≤ h' → h' < B + 25 → r g' = 1 → gr_mv t g' h' → r' h' = 1) → J2 (nI (c + 1)) b_toks r' b_go b_lab b_seen b_diff b_conf b_text b_lexRule b_lexLength) →
    wY_spread_10 post J2 (nI B) (nI c) g_letters g_maxRules g_maxLeaves g_maxText g_rules g_count g_compiled g_states g_textLength g_closed g_lexemes n_diff (d + 1) (nI g) b_toks r b_go b_lab b_seen b_diff b_conf b_text b_lexRule b_lexLength := by
  intro d
  induction d with
  | zero =>
    intro g r hd hb I K
    refine br_t ?_ (nm_r (nI_1 c) (K r I (fun _ _ z => z) (fun g' h' a b => by omega)))
    rw [show (25 : Int32) = nI 25 from rfl, nI_add]
    exact nI_le (by omega) (by omega)
  | succ d ih =>
    intro g r hd hb I K
    refine br_f ?_ ⟨26, yw_sp21 hT ht h0 hB hB2 hz hb (by omega) 25 B r rfl (Nat.le_refl _) I (fun r1 I1 m1 c1 => ih (g + 1) r1 (by omega) (by omega) I1 (fun r2 I2 m2 c2 => K r2 I2 (fun y hy e => m2 y hy (m1 y hy e)) (fun g' h' a b a' b' e mv => ?_)))⟩
    · rw [show (25 : Int32) = nI 25 from rfl, nI_add]
      exact nI_ge (by omega) (by omega)
    · by_cases q : g' = g
      · subst q
        exact m2 h' (by omega) (c1 h' a' b' e mv)
      · exact c2 g' h' (by omega) b a' b' (m1 g' (by omega) e) mv
def yl_C (t : Nat → Nat) (B : Nat) (r : Nat → Int32) : Prop := ∀ g h, B ≤ g → g < B + 25 → B ≤ h → h < B + 25 → r g = 1 → gr_mv t g h → r h = 1
theorem yl_ex {r : Nat → Int32} (hB2 : B + 24 < 175) (I : yl_In t B R0 r) (C : yl_C t B r) {y : Nat} (hy : y < 176) : r y = 1 ↔ yl_R t B R0 y := by
  refine ⟨(I y hy).2.2, fun q => ?_⟩
  have := q (fun y => y < 176 → r y = 1) (fun x hx lx => (I x lx).2.1 hx) (fun g h a b c d e mv lh => C g h a b c d (e (by omega)) mv)
  exact this hy
theorem yw_sp2 (hT : ∀ p, b_toks p = nI (t p)) (ht : ∀ p, t p < 100) (h0 : t 0 = 0) (hB : 1 ≤ B) (hB2 : B + 24 < 175) (hz : t (B + 24) = 0)
    (K : ∀ r', (∀ y, y < 176 → gr_b01 (r' y) (yl_R t B R0 y)) → post (g_letters, g_maxRules, g_maxLeaves, g_maxText, g_rules, g_count, g_compiled, g_states, g_textLength, g_closed, g_lexemes, b_toks, r', b_go, b_lab, b_seen, b_diff, b_conf, b_text, b_lexRule, b_lexLength, n_diff)) :
    ∀ (d c : Nat) (r : Nat → Int32), c + d = 25 → yl_In t B R0 r → (yl_C t B r ∨ c + 1 ≤ ct_n (fun i => r (B + i) = 1) 25) →
    wY_spread_2 post (nI B) g_letters g_maxRules g_maxLeaves g_maxText g_rules g_count g_compiled g_states g_textLength g_closed g_lexemes n_diff (d + 1) (nI c) b_toks r b_go b_lab b_seen b_diff b_conf b_text b_lexRule b_lexLength := by
  intro d
  induction d with
  | zero =>
    intro c r hc I hC
    refine br_t (nI_le (a := 25) (by omega) (by omega)) (K r (fun y hy => ?_))
    have C : yl_C t B r := by
      rcases hC with z | z
      · exact z
      · have := ct_le (fun i => r (B + i) = 1) 25; omega
    have e := yl_ex hB2 I C hy
    rcases (I y hy).1 with z | z
    · exact Or.inr ⟨z, fun q => by have := e.mpr q; rw [z] at this; exact absurd this (by decide)⟩
    · exact Or.inl ⟨z, e.mp z⟩
  | succ d ih =>
    intro c r hc I hC
    refine br_f (nI_ge (b := 25) (by omega) (by omega)) ⟨26, yw_sp10 hT ht h0 hB hB2 hz 25 B r rfl (Nat.le_refl _) I (fun r' I' m c' => ih (c + 1) r' (by omega) I' ?_)⟩
    rcases hC with C | C
    · left
      intro g h a1 b1 a2 b2 e mv
      have e1 := (I' g (by omega)).2.2 e
      have e2 := (yl_ex hB2 I C (by omega)).mpr e1
      exact m h (by omega) (C g h a1 b1 a2 b2 e2 mv)
    · by_cases C1 : yl_C t B r
      · left
        intro g h a1 b1 a2 b2 e mv
        have e1 := (I' g (by omega)).2.2 e
        have e2 := (yl_ex hB2 I C1 (by omega)).mpr e1
        exact m h (by omega) (C1 g h a1 b1 a2 b2 e2 mv)
      · right
        have : ∃ g h, B ≤ g ∧ g < B + 25 ∧ B ≤ h ∧ h < B + 25 ∧ r g = 1 ∧ gr_mv t g h ∧ ¬ r h = 1 := by
          apply Classical.byContradiction
          intro ne
          apply C1
          intro g h a1 b1 a2 b2 e mv
          apply Classical.byContradiction
          intro nh
          exact ne ⟨g, h, a1, b1, a2, b2, e, mv, nh⟩
        obtain ⟨g, h, a1, b1, a2, b2, e, mv, nh⟩ := this
        have := ct_strict (p := fun i => r (B + i) = 1) (q := fun i => r' (B + i) = 1) 25 (fun i hi z => m (B + i) (by omega) z) (h - B) (by omega) (by
          show r' (B + (h - B)) = 1
          rw [show B + (h - B) = h by omega]
          exact c' g h a1 b1 a2 b2 e mv) (by
          show ¬ r (B + (h - B)) = 1
          rw [show B + (h - B) = h by omega]
          exact nh)
        omega
theorem yw_spread {r : Nat → Int32} (hT : ∀ p, b_toks p = nI (t p)) (ht : ∀ p, t p < 100) (h0 : t 0 = 0) (hB : 1 ≤ B) (hB2 : B + 24 < 175) (hz : t (B + 24) = 0)
    (hr : ∀ y, y < 176 → gr_b01 (r y) (R0 y)) (hne : ∃ y, B ≤ y ∧ y < B + 25 ∧ R0 y)
    (K : ∀ r', (∀ y, y < 176 → gr_b01 (r' y) (yl_R t B R0 y)) → post (g_letters, g_maxRules, g_maxLeaves, g_maxText, g_rules, g_count, g_compiled, g_states, g_textLength, g_closed, g_lexemes, b_toks, r', b_go, b_lab, b_seen, b_diff, b_conf, b_text, b_lexRule, b_lexLength, n_diff)) : wpY_spread post (g_letters, g_maxRules, g_maxLeaves, g_maxText, g_rules, g_count, g_compiled, g_states, g_textLength, g_closed, g_lexemes, b_toks, r, b_go, b_lab, b_seen, b_diff, b_conf, b_text, b_lexRule, b_lexLength, n_diff) (nI B) := by
  refine ⟨26, yw_sp2 hT ht h0 hB hB2 hz K 25 0 r rfl ?_ (Or.inr ?_)⟩
  · intro y hy
    rcases hr y hy with z | z
    · exact ⟨Or.inr z.1, fun _ => z.1, fun _ S a _ => a y z.2⟩
    · exact ⟨Or.inl z.1, fun q => absurd q z.2, fun q => by rw [z.1] at q; exact absurd q (by decide)⟩
  · obtain ⟨y, y1, y2, y3⟩ := hne
    refine ct_pos 25 (y - B) (by omega) ?_
    show r (B + (y - B)) = 1
    rw [show B + (y - B) = y by omega]
    rcases hr y (by omega) with z | z
    · exact z.1
    · exact absurd y3 z.2
theorem yw_fp2 {place : Nat} (hT : ∀ p, b_toks p = nI (t p)) (ht : ∀ p, t p < 100) (h0 : t 0 = 0) (hB : 1 ≤ B) (hB2 : B + 24 < 175) (hz : t (B + 24) = 0) (hp : B ≤ place) (hp2 : place < B + 25)
    (K : ∀ r', (∀ y, y < 176 → gr_b01 (r' y) (yl_R t B (fun y => y = place) y)) → post (g_letters, g_maxRules, g_maxLeaves, g_maxText, g_rules, g_count, g_compiled, g_states, g_textLength, g_closed, g_lexemes, b_toks, r', b_go, b_lab, b_seen, b_diff, b_conf, b_text, b_lexRule, b_lexLength, n_diff)) :
    ∀ (d c : Nat) (r : Nat → Int32), c + d = 176 → (∀ y, y < c → gr_b01 (r y) (y = place)) → wY_fromPlace_2 post (nI B) (nI place) g_letters g_maxRules g_maxLeaves g_maxText g_rules g_count g_compiled g_states g_textLength g_closed g_lexemes n_diff (d + 1) (nI c) b_toks r b_go b_lab b_seen b_diff b_conf b_text b_lexRule b_lexLength := by
  intro d
  induction d with
  | zero =>
    intro c r hc hr
    refine br_t (nI_le (a := 176) (by omega) (by omega)) (yw_spread (R0 := fun y => y = place) hT ht h0 hB hB2 hz (fun y hy => hr y (by omega)) ⟨place, hp, hp2, rfl⟩ K)
  | succ d ih =>
    intro c r hc hr
    have hi : vp_in (nI c) 176 := vp_in_nI (by omega) (by omega)
    have cc : (nI c).toNatClampNeg = c := nI_clamp (by omega)
    have st : ∀ v : Int32, gr_b01 v (c = place) → ∀ y, y < c + 1 → gr_b01 (upd r c v y) (y = place) := by
      intro v hv y hy
      by_cases e : y = c
      · subst e; rw [pk_us]; exact hv
      · rw [pk_un e]; exact hr y (by omega)
    refine br_f (nI_ge (b := 176) (by omega) (by omega)) (pk_eq c place (fun e => ?_) (fun e => ?_))
    · exact And.intro hi (nm_r (e' := upd r c 1) (by rw [cc]; rfl) (nm_r (nI_1 c) (ih (c + 1) _ (by omega) (st 1 (Or.inl ⟨rfl, e⟩)))))
    · exact And.intro hi (nm_r (e' := upd r c 0) (by rw [cc]; rfl) (nm_r (nI_1 c) (ih (c + 1) _ (by omega) (st 0 (Or.inr ⟨rfl, e⟩)))))
theorem yw_fromPlace {place : Nat} (hT : ∀ p, b_toks p = nI (t p)) (ht : ∀ p, t p < 100) (h0 : t 0 = 0) (hB : 1 ≤ B) (hB2 : B + 24 < 175) (hz : t (B + 24) = 0) (hp : B ≤ place) (hp2 : place < B + 25)
    (K : ∀ r', (∀ y, y < 176 → gr_b01 (r' y) (yl_R t B (fun y => y = place) y)) → post (g_letters, g_maxRules, g_maxLeaves, g_maxText, g_rules, g_count, g_compiled, g_states, g_textLength, g_closed, g_lexemes, b_toks, r', b_go, b_lab, b_seen, b_diff, b_conf, b_text, b_lexRule, b_lexLength, n_diff)) : wpY_fromPlace post (g_letters, g_maxRules, g_maxLeaves, g_maxText, g_rules, g_count, g_compiled, g_states, g_textLength, g_closed, g_lexemes, b_toks, b_reach, b_go, b_lab, b_seen, b_diff, b_conf, b_text, b_lexRule, b_lexLength, n_diff) (nI B) (nI place) :=
  ⟨177, yw_fp2 hT ht h0 hB hB2 hz hp hp2 K 176 0 b_reach rfl (fun y hy => absurd hy (by omega))⟩
/-- the starts that fromStart marks -/
def yl_S (t : Nat → Nat) (B y : Nat) : Prop := y = B ∨ (B < y ∧ y < B + 25 ∧ t (y - 1) = 18 ∧ gr_eL t 25 (y - 1 - 1) 0 = B - 1)
theorem yw_fs35 (hT : ∀ p, b_toks p = nI (t p)) (ht : ∀ p, t p < 100) (h0 : t 0 = 0) (hB : 1 ≤ B) (hB2 : B + 24 < 175) (hz : t (B + 24) = 0)
    (K : ∀ r', (∀ y, y < 176 → gr_b01 (r' y) (yl_R t B (yl_S t B) y)) → post (g_letters, g_maxRules, g_maxLeaves, g_maxText, g_rules, g_count, g_compiled, g_states, g_textLength, g_closed, g_lexemes, b_toks, r', b_go, b_lab, b_seen, b_diff, b_conf, b_text, b_lexRule, b_lexLength, n_diff)) :
    ∀ (d c : Nat) (r : Nat → Int32), c + d = B + 25 → B < c → (∀ y, y < 176 → gr_b01 (r y) (yl_S t B y ∧ y < c)) → wY_fromStart_35 post (nI B) g_letters g_maxRules g_maxLeaves g_maxText g_rules g_count g_compiled g_states g_textLength g_closed g_lexemes n_diff (d + 1) (nI c) b_toks r b_go b_lab b_seen b_diff b_conf b_text b_lexRule b_lexLength := by
  intro d
  induction d with
  | zero =>
    intro c r hc hb hr
    refine br_t ?_ (yw_spread (R0 := yl_S t B) hT ht h0 hB hB2 hz (fun y hy => gr_b01_c (hr y hy) ⟨fun z => z.1, fun z => ⟨z, ?_⟩⟩) ⟨B, Nat.le_refl _, by omega, Or.inl rfl⟩ K)
    · rw [show (25 : Int32) = nI 25 from rfl, nI_add]
      exact nI_le (by omega) (by omega)
    · rcases z with z | z <;> omega
  | succ d ih =>
    intro c r hc hb hr
    have hi : vp_in (nI c) 176 := vp_in_nI (by omega) (by omega)
    have cc : (nI c).toNatClampNeg = c := nI_clamp (by omega)
    have tc := ht (c - 1)
    have hx : b_toks (nI c - 1).toNatClampNeg = nI (t (c - 1)) := by rw [yl_s1 c (by omega)]; exact yl_cl hT (by omega)
    have el := gr_eL_le t 25 (c - 1 - 1) 0
    have skip : ¬ yl_S t B c → ∀ y, y < 176 → gr_b01 (r y) (yl_S t B y ∧ y < c + 1) := by
      intro ns y hy
      refine gr_b01_c (hr y hy) ⟨fun z => ⟨z.1, by omega⟩, fun z => ⟨z.1, ?_⟩⟩
      by_cases e : y = c
      · rw [e] at z; exact absurd z.1 ns
      · omega
    refine br_f ?_ (And.intro (by rw [yl_s1 c (by omega)]; exact vp_in_nI (by omega) (by omega)) (pk_eq (t (c - 1)) 18 (fun e => ?_) (fun e => ?_) (hx := hx)))
    · rw [show (25 : Int32) = nI 25 from rfl, nI_add]
      exact nI_ge (by omega) (by omega)
    · rw [yl_s1 c (by omega), yl_s1 B (by omega)]
      have c1 : 0 < c - 1 := by
        rcases Nat.eq_zero_or_pos (c - 1) with k | k
        · rw [k, h0] at e; omega
        · exact k
      refine yw_edgeL hT ht h0 c1 (by omega) (pk_eq (gr_eL t 25 (c - 1 - 1) 0) (B - 1) (fun e2 => ?_) (fun e2 => ?_))
      · refine And.intro hi (nm_r (e' := upd r c 1) (by rw [cc]; rfl) (nm_r (nI_1 c) (ih (c + 1) _ (by omega) (by omega) ?_)))
        intro y hy
        by_cases e3 : y = c
        · subst e3; rw [pk_us]
          exact Or.inl ⟨rfl, Or.inr ⟨hb, by omega, e, e2⟩, by omega⟩
        · rw [pk_un e3]
          refine gr_b01_c (hr y hy) ⟨fun z => ⟨z.1, by omega⟩, fun z => ⟨z.1, by omega⟩⟩
      · refine nm_r (nI_1 c) (ih (c + 1) _ (by omega) (by omega) (skip ?_))
        rintro (z | z)
        · omega
        · exact e2 z.2.2.2
    · refine nm_r (nI_1 c) (ih (c + 1) _ (by omega) (by omega) (skip ?_))
      rintro (z | z)
      · omega
      · exact e z.2.2.1
theorem yw_fs2 (hT : ∀ p, b_toks p = nI (t p)) (ht : ∀ p, t p < 100) (h0 : t 0 = 0) (hB : 1 ≤ B) (hB2 : B + 24 < 175) (hz : t (B + 24) = 0)
    (K : ∀ r', (∀ y, y < 176 → gr_b01 (r' y) (yl_R t B (yl_S t B) y)) → post (g_letters, g_maxRules, g_maxLeaves, g_maxText, g_rules, g_count, g_compiled, g_states, g_textLength, g_closed, g_lexemes, b_toks, r', b_go, b_lab, b_seen, b_diff, b_conf, b_text, b_lexRule, b_lexLength, n_diff)) :
    ∀ (d c : Nat) (r : Nat → Int32), c + d = 176 → (∀ y, y < c → gr_b01 (r y) (y = B)) → wY_fromStart_2 post (nI B) g_letters g_maxRules g_maxLeaves g_maxText g_rules g_count g_compiled g_states g_textLength g_closed g_lexemes n_diff (d + 1) (nI c) b_toks r b_go b_lab b_seen b_diff b_conf b_text b_lexRule b_lexLength := by
  intro d
  induction d with
  | zero =>
    intro c r hc hr
    refine br_t (nI_le (a := 176) (by omega) (by omega)) (nm_r (nI_1 B) ⟨25, yw_fs35 hT ht h0 hB hB2 hz K 24 (B + 1) r (by omega) (by omega) (fun y hy => gr_b01_c (hr y (by omega)) ⟨fun z => ⟨Or.inl z, by omega⟩, fun z => ?_⟩)⟩)
    rcases z.1 with w | w <;> omega
  | succ d ih =>
    intro c r hc hr
    have hi : vp_in (nI c) 176 := vp_in_nI (by omega) (by omega)
    have cc : (nI c).toNatClampNeg = c := nI_clamp (by omega)
    have st : ∀ v : Int32, gr_b01 v (c = B) → ∀ y, y < c + 1 → gr_b01 (upd r c v y) (y = B) := by
      intro v hv y hy
      by_cases e : y = c
      · subst e; rw [pk_us]; exact hv
      · rw [pk_un e]; exact hr y (by omega)
    refine br_f (nI_ge (b := 176) (by omega) (by omega)) (pk_eq c B (fun e => ?_) (fun e => ?_))
    · exact And.intro hi (nm_r (e' := upd r c 1) (by rw [cc]; rfl) (nm_r (nI_1 c) (ih (c + 1) _ (by omega) (st 1 (Or.inl ⟨rfl, e⟩)))))
    · exact And.intro hi (nm_r (e' := upd r c 0) (by rw [cc]; rfl) (nm_r (nI_1 c) (ih (c + 1) _ (by omega) (st 0 (Or.inr ⟨rfl, e⟩)))))
theorem yw_fromStart (hT : ∀ p, b_toks p = nI (t p)) (ht : ∀ p, t p < 100) (h0 : t 0 = 0) (hB : 1 ≤ B) (hB2 : B + 24 < 175) (hz : t (B + 24) = 0)
    (K : ∀ r', (∀ y, y < 176 → gr_b01 (r' y) (yl_R t B (yl_S t B) y)) → post (g_letters, g_maxRules, g_maxLeaves, g_maxText, g_rules, g_count, g_compiled, g_states, g_textLength, g_closed, g_lexemes, b_toks, r', b_go, b_lab, b_seen, b_diff, b_conf, b_text, b_lexRule, b_lexLength, n_diff)) : wpY_fromStart post (g_letters, g_maxRules, g_maxLeaves, g_maxText, g_rules, g_count, g_compiled, g_states, g_textLength, g_closed, g_lexemes, b_toks, b_reach, b_go, b_lab, b_seen, b_diff, b_conf, b_text, b_lexRule, b_lexLength, n_diff) (nI B) :=
  ⟨177, yw_fs2 hT ht h0 hB hB2 hz K 176 0 b_reach rfl (fun y hy => absurd hy (by omega))⟩
end
end
section
/-! rows of tokens: depth by naturals, valid rows, what a finished rule means -/
def rw_dn (t : Nat → Nat) (B : Nat) : Nat → Nat
  | 0 => 0
  | i + 1 => if t (B + i) = 16 then rw_dn t B i + 1 else if t (B + i) = 17 then rw_dn t B i - 1 else rw_dn t B i
def rw_D (t : Nat → Nat) (B p : Nat) : Int := ((rw_dn t B (p - B) : Nat) : Int)
/-- a valid row of m tokens at B (perhaps unfinished), zeros around it -/
def rw_V (t : Nat → Nat) (B m : Nat) : Prop :=
  1 ≤ B ∧ m ≤ 24 ∧ t (B - 1) = 0 ∧ (∀ p, B + m ≤ p → p ≤ B + 24 → t p = 0) ∧
  ∀ i, i < m → 1 ≤ t (B + i) ∧ t (B + i) ≤ 22 ∧ (t (B + i) = 17 → 0 < rw_dn t B i) ∧ (t (B + i) = 16 → rw_dn t B i < 6) ∧ (17 ≤ t (B + i) → t (B + i) ≤ 21 → 0 < i ∧ t (B + i - 1) ≠ 16 ∧ t (B + i - 1) ≠ 18)
def rw_F (t : Nat → Nat) (B m : Nat) : Prop := rw_V t B m ∧ 0 < m ∧ rw_dn t B m = 0 ∧ t (B + m - 1) ≠ 16 ∧ t (B + m - 1) ≠ 18
def lf_c (t : Nat → Nat) : Nat → Nat
  | 0 => 0
  | p + 1 => lf_c t p + if 1 ≤ t p ∧ t p < 16 then 1 else 0
theorem lf_mono (t : Nat → Nat) {p q : Nat} (h : p ≤ q) : lf_c t p ≤ lf_c t q := by
  induction q with
  | zero => have : p = 0 := by omega
            rw [this]; exact Nat.le_refl _
  | succ q ih =>
    by_cases e : p = q + 1
    · rw [e]; exact Nat.le_refl _
    · have := ih (by omega)
      show lf_c t p ≤ lf_c t q + _
      omega
theorem lf_s {t : Nat → Nat} {p : Nat} (h : gr_Lf t p) : lf_c t (p + 1) = lf_c t p + 1 := by
  show lf_c t p + (if 1 ≤ t p ∧ t p < 16 then 1 else 0) = _
  have h : 1 ≤ t p ∧ t p < 16 := h
  rw [if_pos h]
theorem lf_n {t : Nat → Nat} {p : Nat} (h : ¬ gr_Lf t p) : lf_c t (p + 1) = lf_c t p := by
  show lf_c t p + (if 1 ≤ t p ∧ t p < 16 then 1 else 0) = _
  have h : ¬ (1 ≤ t p ∧ t p < 16) := h
  rw [if_neg h]; rfl
theorem lf_lt {t : Nat → Nat} {p q : Nat} (hp : gr_Lf t p) (h : p < q) : lf_c t p < lf_c t q := by
  have := lf_mono t (p := p + 1) (q := q) (by omega)
  rw [lf_s hp] at this
  omega
theorem lf_inj {t : Nat → Nat} : ∀ p q, gr_Lf t p → gr_Lf t q → lf_c t p = lf_c t q → p = q := by
  intro p q hp hq e
  rcases Nat.lt_trichotomy p q with k | k | k
  · have := lf_lt hp k; omega
  · exact k
  · have := lf_lt hq k; omega
/-- every leaf number below the count has its place -/
theorem lf_ex {t : Nat → Nat} : ∀ (N k : Nat), k < lf_c t N → ∃ p, p < N ∧ gr_Lf t p ∧ lf_c t p = k := by
  intro N
  induction N with
  | zero => intro k h; exact absurd h (Nat.not_lt_zero _)
  | succ N ih =>
    intro k h
    by_cases c : gr_Lf t N
    · rw [lf_s c] at h
      by_cases e : k = lf_c t N
      · exact ⟨N, by omega, c, e.symm⟩
      · obtain ⟨p, p1, p2, p3⟩ := ih k (by omega)
        exact ⟨p, by omega, p2, p3⟩
    · rw [lf_n c] at h
      obtain ⟨p, p1, p2, p3⟩ := ih k h
      exact ⟨p, by omega, p2, p3⟩
theorem lf_agree {t t' : Nat → Nat} {N : Nat} (h : ∀ p, p < N → t' p = t p) : ∀ p, p ≤ N → lf_c t' p = lf_c t p := by
  intro p
  induction p with
  | zero => intro _; rfl
  | succ p ih =>
    intro hp
    show lf_c t' p + (if 1 ≤ t' p ∧ t' p < 16 then 1 else 0) = lf_c t p + (if 1 ≤ t p ∧ t p < 16 then 1 else 0)
    rw [ih (by omega), h p (by omega)]
theorem lf_zero {t : Nat → Nat} {N : Nat} (h : ∀ p, N ≤ p → t p = 0) : ∀ p, N ≤ p → lf_c t p = lf_c t N := by
  intro p
  induction p with
  | zero => intro hp; rw [show N = 0 by omega]
  | succ p ih =>
    intro hp
    by_cases e : N = p + 1
    · rw [e]
    · have hn : ¬ gr_Lf t p := fun z => by have := z.1; rw [h p (by omega)] at this; omega
      rw [lf_n hn]
      exact ih (by omega)
theorem rw_dn_agree {t t' : Nat → Nat} {B m : Nat} (h : ∀ i, i < m → t' (B + i) = t (B + i)) : ∀ i, i ≤ m → rw_dn t' B i = rw_dn t B i := by
  intro i
  induction i with
  | zero => intro _; rfl
  | succ i ih =>
    intro hi
    show (if t' (B + i) = 16 then rw_dn t' B i + 1 else if t' (B + i) = 17 then rw_dn t' B i - 1 else rw_dn t' B i) = (if t (B + i) = 16 then rw_dn t B i + 1 else if t (B + i) = 17 then rw_dn t B i - 1 else rw_dn t B i)
    rw [ih (by omega), h i (by omega)]
theorem rw_dn6 {t : Nat → Nat} {B m : Nat} (V : rw_V t B m) : ∀ i, i ≤ m → rw_dn t B i ≤ 6 := by
  intro i
  induction i with
  | zero => intro _; exact Nat.zero_le _
  | succ i ih =>
    intro hi
    have q := ih (by omega)
    have v := V.2.2.2.2 i (by omega)
    show (if t (B + i) = 16 then rw_dn t B i + 1 else if t (B + i) = 17 then rw_dn t B i - 1 else rw_dn t B i) ≤ 6
    by_cases c : t (B + i) = 16
    · rw [if_pos c]; have := v.2.2.2.1 c; omega
    · rw [if_neg c]
      by_cases c2 : t (B + i) = 17
      · rw [if_pos c2]; omega
      · rw [if_neg c2]; exact q
theorem rw_H {t : Nat → Nat} {B m : Nat} (F : rw_F t B m) : gr_H t (rw_D t B) B (B + m) ∧ ∀ p, B ≤ p → p ≤ B + m → rw_D t B p ≤ 6 := by
  obtain ⟨V, h0, hd, h16, h18⟩ := F
  have d6 := rw_dn6 V
  obtain ⟨v1, v2, v3, v4, v5⟩ := V
  refine ⟨⟨⟨v1, by omega, by omega⟩, ⟨v3, fun p a b => v4 p a b⟩, ?_, ?_, ?_, ⟨?_, ?_⟩, ?_, h16, h18⟩, ?_⟩
  · intro p a b
    have := v5 (p - B) (by omega)
    rw [show B + (p - B) = p by omega] at this
    exact ⟨this.1, this.2.1⟩
  · intro p a b
    have v := v5 (p - B) (by omega)
    rw [show B + (p - B) = p by omega] at v
    unfold rw_D
    rw [show p + 1 - B = (p - B) + 1 by omega]
    have e : rw_dn t B (p - B + 1) = if t (B + (p - B)) = 16 then rw_dn t B (p - B) + 1 else if t (B + (p - B)) = 17 then rw_dn t B (p - B) - 1 else rw_dn t B (p - B) := rfl
    rw [show B + (p - B) = p by omega] at e
    rw [e]
    by_cases c : t p = 16
    · rw [if_pos c, gr_w16 c]; omega
    · rw [if_neg c]
      by_cases c2 : t p = 17
      · rw [if_pos c2, gr_w17 c2]
        have := v.2.2.1 c2
        omega
      · rw [if_neg c2, gr_w0 c c2]; omega
  · intro p a b; unfold rw_D; omega
  · unfold rw_D; rw [Nat.sub_self]; rfl
  · unfold rw_D; rw [Nat.add_sub_cancel_left, hd]; rfl
  · intro p a b c d
    have v := v5 (p - B) (by omega)
    rw [show B + (p - B) = p by omega] at v
    have := v.2.2.2.2 c d
    exact ⟨by omega, this.2⟩
  · intro p a b
    unfold rw_D
    have := d6 (p - B) (by omega)
    omega
/-- what a finished rule means: from its starts to its end -/
def rs_M (t : Nat → Nat) (B n : Nat) : Nat → Nat → Prop := gr_M t (rw_D t B) B n
def rs_N (t : Nat → Nat) (B n : Nat) : Prop := ∃ s, gr_St t (rw_D t B) B 0 s ∧ s ≤ n ∧ gr_R (rs_M t B n) B n s n
def rs_F (t : Nat → Nat) (B n k : Nat) : Prop := ∃ p, B ≤ p ∧ p < n ∧ gr_Lf t p ∧ lf_c t p = k ∧ ∃ s, gr_St t (rw_D t B) B 0 s ∧ s ≤ n ∧ gr_R (rs_M t B n) B n s p
def rs_L (t : Nat → Nat) (B n k : Nat) : Prop := gr_La t (lf_c t) (rs_M t B n) B n k
def rs_O (t : Nat → Nat) (B n p k : Nat) : Prop := gr_Fo t (lf_c t) (rs_M t B n) B n p k
/-! the same tokens up to the row's end: the same meaning -/
section
variable {t t' : Nat → Nat} {B m : Nat}
theorem rs_Dag (h : ∀ p, p < B + 25 → t' p = t p) (hm : m ≤ 24) : ∀ p, B ≤ p → p ≤ B + m → rw_D t' B p = rw_D t B p := by
  intro p a b
  unfold rw_D
  rw [rw_dn_agree (t := t) (t' := t') (B := B) (m := 24) (fun i hi => h (B + i) (by omega)) (p - B) (by omega)]
theorem rs_Mag (h : ∀ p, p < B + 25 → t' p = t p) (hB : 1 ≤ B) (hm : m ≤ 24) {g q : Nat} (g1 : B ≤ g) (g2 : g < B + m) (q1 : B ≤ q) (q2 : q ≤ B + m) (M : rs_M t B (B + m) g q) : rs_M t' B (B + m) g q := by
  have hD := rs_Dag h hm
  have tg := h g (by omega)
  have tq := h (q - 1) (by omega)
  have At : ∀ a g, B ≤ a → g ≤ B + m → gr_At t (rw_D t B) B a g → gr_At t' (rw_D t' B) B a g := by
    rintro a g a1 g1 ⟨c1, c2, c3, c4, c5⟩
    refine ⟨c1, c2, ?_, ?_, ?_⟩
    · rw [hD a (by omega) (by omega), hD g (by omega) (by omega)]; exact c3
    · rw [h a (by omega)]; exact c4
    · intro x x1 x2
      rw [hD a (by omega) (by omega), hD x (by omega) (by omega), h x (by omega)]
      exact c5 x x1 x2
  rcases M with c | c | c | c | c
  · left; rw [tg]; exact c
  · right; left
    rw [tg]
    refine ⟨c.1, c.2.1, c.2.2.1, ?_, ?_, ?_⟩
    · rw [hD q q1 q2, hD g g1 (by omega)]; exact c.2.2.2.1
    · intro x x1 x2
      rw [hD g g1 (by omega), hD x (by omega) (by omega)]
      exact c.2.2.2.2.1 x x1 x2
    · intro z
      rw [h q (by omega)]
      exact c.2.2.2.2.2 z
  · right; right; left
    rw [tg]
    exact ⟨c.1, At q g q1 (by omega) c.2⟩
  · right; right; right; left
    have := c.2.2.1
    refine ⟨by rw [tg]; exact c.1, by rw [tq]; exact c.2.1, c.2.2.1, by rw [tg]; exact c.1, ?_, ?_⟩
    · rw [hD g g1 (by omega), hD (q - 1) (by omega) (by omega)]; exact c.2.2.2.2.1
    · intro x x1 x2
      rw [hD (q - 1) (by omega) (by omega), hD x (by omega) (by omega)]
      exact c.2.2.2.2.2 x x1 x2
  · right; right; right; right
    rw [tq]
    exact ⟨c.1, At g (q - 1) g1 (by omega) c.2⟩
theorem rs_Rag (h : ∀ p, p < B + 25 → t' p = t p) (hB : 1 ≤ B) (hm : m ≤ 24) {x y : Nat} : gr_R (rs_M t B (B + m)) B (B + m) x y ↔ gr_R (rs_M t' B (B + m)) B (B + m) x y :=
  ⟨gr_Rc (fun g q a b c d mm => rs_Mag h hB hm a b c d mm), gr_Rc (fun g q a b c d mm => rs_Mag (fun p hp => (h p hp).symm) hB hm a b c d mm)⟩
theorem rs_Sag (h : ∀ p, p < B + 25 → t' p = t p) (hB : 1 ≤ B) (hm : m ≤ 24) {s : Nat} (hs : s ≤ B + m) : gr_St t (rw_D t B) B 0 s ↔ gr_St t' (rw_D t' B) B 0 s := by
  unfold gr_St
  by_cases c : B < s
  · rw [h (s - 1) (by omega), rs_Dag h hm (s - 1) (by omega) (by omega)]
  · constructor
    · rintro (k | k)
      · exact Or.inl k
      · omega
    · rintro (k | k)
      · exact Or.inl k
      · omega
theorem rs_Nag (h : ∀ p, p < B + 25 → t' p = t p) (hB : 1 ≤ B) (hm : m ≤ 24) : rs_N t B (B + m) ↔ rs_N t' B (B + m) := by
  constructor
  · rintro ⟨s, s1, s2, s3⟩; exact ⟨s, (rs_Sag h hB hm s2).mp s1, s2, (rs_Rag h hB hm).mp s3⟩
  · rintro ⟨s, s1, s2, s3⟩; exact ⟨s, (rs_Sag h hB hm s2).mpr s1, s2, (rs_Rag h hB hm).mpr s3⟩
theorem rs_lag (h : ∀ p, p < B + 25 → t' p = t p) {p : Nat} (hp : p < B + 25) : (gr_Lf t p ↔ gr_Lf t' p) ∧ lf_c t' p = lf_c t p := by
  refine ⟨?_, lf_agree (N := B + 25) h p (by omega)⟩
  unfold gr_Lf
  rw [h p hp]
theorem rs_Fag (h : ∀ p, p < B + 25 → t' p = t p) (hB : 1 ≤ B) (hm : m ≤ 24) (k : Nat) : rs_F t B (B + m) k ↔ rs_F t' B (B + m) k := by
  constructor
  · rintro ⟨p, p1, p2, p3, p4, s, s1, s2, s3⟩
    have q := rs_lag h (p := p) (by omega)
    exact ⟨p, p1, p2, q.1.mp p3, q.2.trans p4, s, (rs_Sag h hB hm s2).mp s1, s2, (rs_Rag h hB hm).mp s3⟩
  · rintro ⟨p, p1, p2, p3, p4, s, s1, s2, s3⟩
    have q := rs_lag h (p := p) (by omega)
    exact ⟨p, p1, p2, q.1.mpr p3, q.2.symm.trans p4, s, (rs_Sag h hB hm s2).mpr s1, s2, (rs_Rag h hB hm).mpr s3⟩
theorem rs_Lag (h : ∀ p, p < B + 25 → t' p = t p) (hB : 1 ≤ B) (hm : m ≤ 24) (k : Nat) : rs_L t B (B + m) k ↔ rs_L t' B (B + m) k := by
  constructor
  · rintro ⟨p, p1, p2, p3, p4, s3⟩
    have q := rs_lag h (p := p) (by omega)
    exact ⟨p, p1, p2, q.1.mp p3, q.2.trans p4, (rs_Rag h hB hm).mp s3⟩
  · rintro ⟨p, p1, p2, p3, p4, s3⟩
    have q := rs_lag h (p := p) (by omega)
    exact ⟨p, p1, p2, q.1.mpr p3, q.2.symm.trans p4, (rs_Rag h hB hm).mpr s3⟩
theorem rs_Oag (h : ∀ p, p < B + 25 → t' p = t p) (hB : 1 ≤ B) (hm : m ≤ 24) (p k : Nat) : rs_O t B (B + m) p k ↔ rs_O t' B (B + m) p k := by
  constructor
  · rintro ⟨p, p1, p2, p3, p4, s3⟩
    have q := rs_lag h (p := p) (by omega)
    exact ⟨p, p1, p2, q.1.mp p3, q.2.trans p4, (rs_Rag h hB hm).mp s3⟩
  · rintro ⟨p, p1, p2, p3, p4, s3⟩
    have q := rs_lag h (p := p) (by omega)
    exact ⟨p, p1, p2, q.1.mpr p3, q.2.symm.trans p4, (rs_Rag h hB hm).mpr s3⟩
theorem rw_Vag (h : ∀ p, p < B + 25 → t' p = t p) (V : rw_V t B m) : rw_V t' B m := by
  obtain ⟨v1, v2, v3, v4, v5⟩ := V
  refine ⟨v1, v2, by rw [h _ (by omega)]; exact v3, fun p a b => by rw [h p (by omega)]; exact v4 p a b, ?_⟩
  intro i hi
  rw [h (B + i) (by omega), h (B + i - 1) (by omega), rw_dn_agree (t := t) (t' := t') (B := B) (m := 24) (fun i hi => h (B + i) (by omega)) i (by omega)]
  exact v5 i hi
theorem rw_Fag (h : ∀ p, p < B + 25 → t' p = t p) (F : rw_F t B m) : rw_F t' B m := by
  obtain ⟨V, h0, hd, h16, h18⟩ := F
  have v2 := V.2.1
  refine ⟨rw_Vag h V, h0, ?_, ?_, ?_⟩
  · rw [rw_dn_agree (t := t) (t' := t') (B := B) (m := 24) (fun i hi => h (B + i) (by omega)) m (by omega)]; exact hd
  · rw [h _ (by omega)]; exact h16
  · rw [h _ (by omega)]; exact h18
/-! the reference's reach set is the row's reachability -/
theorem yl_Rx (F : rw_F t B m) {R0 : Nat → Prop} (hR : ∀ x, R0 x → B ≤ x ∧ x ≤ B + m) (y : Nat) : yl_R t B R0 y ↔ ∃ s, R0 s ∧ gr_R (rs_M t B (B + m)) B (B + m) s y := by
  have H := (rw_H F).1
  have m24 := F.1.2.1
  constructor
  · intro r
    refine r (fun y => ∃ s, R0 s ∧ gr_R (rs_M t B (B + m)) B (B + m) s y) (fun x hx => ⟨x, hx, gr_R0⟩) ?_
    rintro g h a b c d ⟨s, s1, s2⟩ mv
    have q := gr_mvIn H a (by omega) c (by omega) mv
    exact ⟨s, s1, gr_R1 s2 a q.1 c q.2 ((gr_mvM H a q.1 c q.2).mp mv)⟩
  · rintro ⟨s, s1, s2⟩
    refine s2 (fun y => yl_R t B R0 y) (fun S a _ => a s s1) ?_
    intro g h a b c d e mv
    exact yl_R_1 e a (by omega) c (by omega) ((gr_mvM H a b c d).mpr mv)
theorem yl_Sx (F : rw_F t B m) (y : Nat) : yl_S t B y ↔ gr_St t (rw_D t B) B 0 y ∧ y ≤ B + m := by
  have H := (rw_H F).1
  have hB := H.1
  constructor
  · rintro (k | k)
    · exact ⟨Or.inl k, by omega⟩
    · have lt : y - 1 < B + m := by
        rcases Nat.lt_or_ge (y - 1) (B + m) with z | z
        · exact z
        · have := H.2.1.2 (y - 1) z (by omega); omega
      rcases gr_eL_at H (p := y - 1) (by omega) (by omega) (Or.inr trivial) with e | e
      · omega
      · exact ⟨Or.inr ⟨k.1, k.2.2.1, e.2⟩, by omega⟩
  · rintro ⟨k | k, h⟩
    · exact Or.inl k
    · right
      refine ⟨k.1, by omega, k.2.1, ?_⟩
      rcases gr_eL_at H (p := y - 1) (by omega) (by omega) (Or.inr trivial) with e | e
      · have d0 := H.2.2.2.2.1 (gr_eL t 25 (y - 1 - 1) 0) e.1 (by have := e.2.1; omega)
        have := e.2.2.2.1
        omega
      · omega
end
end
section
/-! Y: leaf places, depth, ends, reached leaves, letters -/
theorem lf_le (t : Nat → Nat) : ∀ p, lf_c t p ≤ p
  | 0 => Nat.le_refl _
  | p + 1 => by
    have := lf_le t p
    show lf_c t p + (if 1 ≤ t p ∧ t p < 16 then 1 else 0) ≤ p + 1
    by_cases c : 1 ≤ t p ∧ t p < 16
    · rw [if_pos c]; omega
    · rw [if_neg c]; omega
theorem yl_ix (R i : Nat) : (1 + (nI R * 25)) + nI i = nI (1 + 25 * R + i) := by
  rw [show (25 : Int32) = nI 25 from rfl, show (1 : Int32) = nI 1 from rfl, pk_mul, nI_add, nI_add]
  exact congrArg nI (by omega)
theorem yl_ix0 (R i : Nat) : (nI R * 25) + nI i = nI (25 * R + i) := by
  rw [show (25 : Int32) = nI 25 from rfl, pk_mul, nI_add]
  exact congrArg nI (by omega)
theorem yl_base (r : Nat) : 1 + ((nI (r + 1) - 1) * 25) = nI (1 + 25 * r) := by
  rw [nI_pred, show (25 : Int32) = nI 25 from rfl, show (1 : Int32) = nI 1 from rfl, pk_mul, nI_add]
  exact congrArg nI (by omega)
theorem yl_m1ne (q : Nat) (h : q < 2 ^ 31) : ¬ nI q = -1 := by
  intro e
  have := congrArg Int32.toInt e
  rw [nI_toInt h] at this
  rw [show (-1 : Int32).toInt = -1 from by decide] at this
  omega
section
variable {g_letters g_maxRules g_maxLeaves g_maxText g_rules g_count g_compiled g_states g_textLength g_closed g_lexemes : Int32} {b_toks b_reach b_go b_lab b_seen b_diff b_conf b_text b_lexRule b_lexLength : Nat → Int32} {n_diff : Nat} {t : Nat → Nat} {post : Int32 → Prop}
theorem yw_lp {x : Int32} (hT : ∀ p, b_toks p = nI (t p)) (ht : ∀ p, t p < 100) : ∀ (d p : Nat), p + d = 176 → (∀ q, p ≤ q → q < 176 → gr_Lf t q → nI (lf_c t q) = x → post (nI q)) → ((∀ q, p ≤ q → q < 176 → gr_Lf t q → ¬ nI (lf_c t q) = x) → post (-1)) → wY_leafPlace_4 post x g_letters g_maxRules g_maxLeaves g_maxText g_rules g_count g_compiled g_states g_textLength g_closed g_lexemes b_toks b_reach b_go b_lab b_seen b_diff b_conf b_text b_lexRule b_lexLength n_diff (d + 1) (nI (lf_c t p)) (nI p) := by
  intro d
  induction d with
  | zero =>
    intro p hp h1 h2
    exact br_t (nI_le (a := 176) (by omega) (by omega)) (h2 (fun q a b => by omega))
  | succ d ih =>
    intro p hp h1 h2
    have tp := ht p
    have hi : vp_in (nI p) 176 := vp_in_nI (by omega) (by omega)
    have hx := yl_cl hT (p := p) (by omega)
    have go : ¬ gr_Lf t p ∨ ¬ nI (lf_c t p) = x → wY_leafPlace_4 post x g_letters g_maxRules g_maxLeaves g_maxText g_rules g_count g_compiled g_states g_textLength g_closed g_lexemes b_toks b_reach b_go b_lab b_seen b_diff b_conf b_text b_lexRule b_lexLength n_diff (d + 1) (nI (lf_c t (p + 1))) (nI (p + 1)) := by
      intro c
      refine ih (p + 1) (by omega) (fun q a b => h1 q (by omega) b) (fun h => h2 (fun q a b l e => ?_))
      by_cases z : q = p
      · subst z; exact c.elim (fun c => c l) (fun c => c e)
      · exact h q (by omega) b l e
    refine br_f (nI_ge (b := 176) (by omega) (by omega)) (And.intro hi (pk_le (t p) 0 (fun e => ?_) (fun e => And.intro hi (pk_le 16 (t p) (fun e2 => ?_) (fun e2 => ?_) (hy := hx))) (hx := hx)))
    · have nl : ¬ gr_Lf t p := fun z => by have := z.1; omega
      have g := go (Or.inl nl)
      rw [lf_n nl] at g
      exact nm_r (nI_1 p) g
    · have nl : ¬ gr_Lf t p := fun z => by have := z.2; omega
      have g := go (Or.inl nl)
      rw [lf_n nl] at g
      exact nm_r (nI_1 p) g
    · have l : gr_Lf t p := ⟨by omega, e2⟩
      refine br_c (fun z => h1 p (Nat.le_refl _) (by omega) l z) (fun z => ?_)
      have g := go (Or.inr z)
      rw [lf_s l] at g
      exact nm_r (nI_1 _) (nm_r (nI_1 p) g)
theorem yw_leafPlace {x : Int32} (hT : ∀ p, b_toks p = nI (t p)) (ht : ∀ p, t p < 100) (h0 : t 0 = 0) (h1 : ∀ q, q < 176 → gr_Lf t q → nI (lf_c t q) = x → post (nI q)) (h2 : (∀ q, q < 176 → gr_Lf t q → ¬ nI (lf_c t q) = x) → post (-1)) : wpY_leafPlace post (g_letters, g_maxRules, g_maxLeaves, g_maxText, g_rules, g_count, g_compiled, g_states, g_textLength, g_closed, g_lexemes, b_toks, b_reach, b_go, b_lab, b_seen, b_diff, b_conf, b_text, b_lexRule, b_lexLength, n_diff) x := by
  have n0 : ¬ gr_Lf t 0 := fun z => by have := z.1; omega
  have e1 : lf_c t 1 = 0 := lf_n n0
  have key : wY_leafPlace_4 post x g_letters g_maxRules g_maxLeaves g_maxText g_rules g_count g_compiled g_states g_textLength g_closed g_lexemes b_toks b_reach b_go b_lab b_seen b_diff b_conf b_text b_lexRule b_lexLength n_diff 176 (nI (lf_c t 1)) (nI 1) := yw_lp (x := x) hT ht 175 1 rfl (fun q _ b => h1 q b) (fun h => h2 (fun q b l => h q (by
    rcases Nat.eq_zero_or_pos q with k | k
    · rw [k] at l; exact absurd l n0
    · exact k) b l))
  rw [e1] at key
  exact ⟨176, key⟩
theorem yw_leafPlaceN {k : Nat} (hk : k < 1000) (hT : ∀ p, b_toks p = nI (t p)) (ht : ∀ p, t p < 100) (h0 : t 0 = 0) (h1 : ∀ q, q < 176 → gr_Lf t q → lf_c t q = k → post (nI q)) (h2 : (∀ q, q < 176 → gr_Lf t q → ¬ lf_c t q = k) → post (-1)) : wpY_leafPlace post (g_letters, g_maxRules, g_maxLeaves, g_maxText, g_rules, g_count, g_compiled, g_states, g_textLength, g_closed, g_lexemes, b_toks, b_reach, b_go, b_lab, b_seen, b_diff, b_conf, b_text, b_lexRule, b_lexLength, n_diff) (nI k) := by
  have e : ∀ q, q < 176 → (nI (lf_c t q) = nI k ↔ lf_c t q = k) := fun q hq => nI_eq (by have := lf_le t q; omega) (by omega)
  exact yw_leafPlace hT ht h0 (fun q a b c => h1 q a b ((e q a).mp c)) (fun h => h2 (fun q a b c => h q a b ((e q a).mpr c)))
theorem yw_depth {R m : Nat} (hT : ∀ p, b_toks p = nI (t p)) (ht : ∀ p, t p < 100) (hR : R ≤ 6) (V : rw_V t (1 + 25 * R) m) (h : post (nI (rw_dn t (1 + 25 * R) m))) : wpY_depth post (g_letters, g_maxRules, g_maxLeaves, g_maxText, nI R, nI m, g_compiled, g_states, g_textLength, g_closed, g_lexemes, b_toks, b_reach, b_go, b_lab, b_seen, b_diff, b_conf, b_text, b_lexRule, b_lexLength, n_diff) := by
  have m24 := V.2.1
  have key : ∀ d i, i + d = m → wY_depth_4 post g_letters g_maxRules g_maxLeaves g_maxText (nI R) (nI m) g_compiled g_states g_textLength g_closed g_lexemes b_toks b_reach b_go b_lab b_seen b_diff b_conf b_text b_lexRule b_lexLength n_diff (d + 1) (nI (rw_dn t (1 + 25 * R) i)) (nI i) := by
    intro d
    induction d with
    | zero =>
      intro i hi
      have : i = m := by omega
      subst this
      exact br_t (nI_le (Nat.le_refl _) (by omega)) h
    | succ d ih =>
      intro i hi
      have tp := ht (1 + 25 * R + i)
      have v := V.2.2.2.2 i (by omega)
      have d6 := rw_dn6 V i (by omega)
      have hx : b_toks ((1 + (nI R * 25)) + nI i).toNatClampNeg = nI (t (1 + 25 * R + i)) := by rw [yl_ix]; exact yl_cl hT (by omega)
      have g := ih (i + 1) (by omega)
      have en : rw_dn t (1 + 25 * R) (i + 1) = if t (1 + 25 * R + i) = 16 then rw_dn t (1 + 25 * R) i + 1 else if t (1 + 25 * R + i) = 17 then rw_dn t (1 + 25 * R) i - 1 else rw_dn t (1 + 25 * R) i := rfl
      rw [en] at g
      refine br_f (nI_ge (by omega) (by omega)) (And.intro (by rw [yl_ix]; exact vp_in_nI (by omega) (by omega)) (nm_r hx ?_))
      refine pk_eq (t (1 + 25 * R + i)) 16 (fun e => ?_) (fun e => pk_eq (t (1 + 25 * R + i)) 17 (fun e2 => ?_) (fun e2 => ?_))
      · rw [if_pos e] at g
        exact nm_r (nI_1 _) (br_f (by intro z; rw [show (17 : Int32) = nI 17 from rfl, nI_eq (by omega) (by omega)] at z; omega) (nm_r (nI_1 i) g))
      · rw [if_neg e, if_pos e2] at g
        exact nm_r (yl_m1 _ (v.2.2.1 e2)) (nm_r (nI_1 i) g)
      · rw [if_neg e, if_neg e2] at g
        exact nm_r (nI_1 i) g
  exact ⟨m + 1, key m 0 (by omega)⟩
theorem yw_noOperand {R m : Nat} (hT : ∀ p, b_toks p = nI (t p)) (ht : ∀ p, t p < 100) (hR : R ≤ 6) (hm : m ≤ 24) (h1 : m = 0 ∨ t (25 * R + m) = 16 ∨ t (25 * R + m) = 18 → post 1) (h0 : ¬ (m = 0 ∨ t (25 * R + m) = 16 ∨ t (25 * R + m) = 18) → post 0) : wpY_noOperand post (g_letters, g_maxRules, g_maxLeaves, g_maxText, nI R, nI m, g_compiled, g_states, g_textLength, g_closed, g_lexemes, b_toks, b_reach, b_go, b_lab, b_seen, b_diff, b_conf, b_text, b_lexRule, b_lexLength, n_diff) := by
  have tp := ht (25 * R + m)
  have hx : b_toks ((nI R * 25) + nI m).toNatClampNeg = nI (t (25 * R + m)) := by rw [yl_ix0]; exact yl_cl hT (by omega)
  refine pk_eq m 0 (fun e => h1 (Or.inl e)) (fun e => And.intro (by rw [yl_ix0]; exact vp_in_nI (by omega) (by omega)) (nm_r hx ?_))
  exact pk_eq (t (25 * R + m)) 16 (fun e2 => h1 (Or.inr (Or.inl e2))) (fun e2 => pk_eq (t (25 * R + m)) 18 (fun e3 => h1 (Or.inr (Or.inr e3))) (fun e3 => h0 (by omega)))
theorem yw_endOf {B m : Nat} (hT : ∀ p, b_toks p = nI (t p)) (ht : ∀ p, t p < 100) (hB2 : B + 24 < 175) (V : rw_V t B m) (h : post (nI (B + m))) : wpY_endOf post (g_letters, g_maxRules, g_maxLeaves, g_maxText, g_rules, g_count, g_compiled, g_states, g_textLength, g_closed, g_lexemes, b_toks, b_reach, b_go, b_lab, b_seen, b_diff, b_conf, b_text, b_lexRule, b_lexLength, n_diff) (nI B) := by
  have m24 := V.2.1
  have key : ∀ d i, i + d = m → wY_endOf_4 post g_letters g_maxRules g_maxLeaves g_maxText g_rules g_count g_compiled g_states g_textLength g_closed g_lexemes b_toks b_reach b_go b_lab b_seen b_diff b_conf b_text b_lexRule b_lexLength n_diff (d + 1) (nI (B + i)) (nI i) := by
    intro d
    induction d with
    | zero =>
      intro i hi
      have : i = m := by omega
      subst this
      have tz := V.2.2.2.1 (B + i) (by omega) (by omega)
      exact pk_le 24 i (fun _ => h) (fun _ => And.intro (vp_in_nI (by omega) (by omega)) (br_t (by rw [yl_cl hT (by omega), tz]; rfl) h))
    | succ d ih =>
      intro i hi
      have tp := ht (B + i)
      have v := V.2.2.2.2 i (by omega)
      refine br_f (nI_ge (b := 24) (by omega) (by omega)) (And.intro (vp_in_nI (by omega) (by omega)) (pk_eq (t (B + i)) 0 (fun e => by omega) (fun e => nm_r (nI_1 _) (nm_r (nI_1 _) (ih (i + 1) (by omega)))) (hx := yl_cl hT (by omega))))
  exact ⟨m + 1, key m 0 (by omega)⟩
theorem yw_reachedLeaves (hT : ∀ p, b_toks p = nI (t p)) (ht : ∀ p, t p < 100) (h0 : t 0 = 0) (K : ∀ x, gr_gs x (fun k => k < 8 ∧ ∃ p, p < 176 ∧ gr_Lf t p ∧ lf_c t p = k ∧ ¬ b_reach p = 0) → post x) : wpY_reachedLeaves post (g_letters, g_maxRules, g_maxLeaves, g_maxText, g_rules, g_count, g_compiled, g_states, g_textLength, g_closed, g_lexemes, b_toks, b_reach, b_go, b_lab, b_seen, b_diff, b_conf, b_text, b_lexRule, b_lexLength, n_diff) := by
  have key : ∀ d k x, k + d = 8 → gr_gs x (fun j => j < k ∧ ∃ p, p < 176 ∧ gr_Lf t p ∧ lf_c t p = j ∧ ¬ b_reach p = 0) → wY_reachedLeaves_4 post g_letters g_maxRules g_maxLeaves g_maxText g_rules g_count g_compiled g_states g_textLength g_closed g_lexemes b_toks b_reach b_go b_lab b_seen b_diff b_conf b_text b_lexRule b_lexLength n_diff (d + 1) x (nI k) := by
    intro d
    induction d with
    | zero =>
      intro k x hk hx
      have : k = 8 := by omega
      subst this
      exact br_t (nI_le (a := 8) (by omega) (by omega)) (K x hx)
    | succ d ih =>
      intro k x hk hx
      have skip : (¬ ∃ p, p < 176 ∧ gr_Lf t p ∧ lf_c t p = k ∧ ¬ b_reach p = 0) → wY_reachedLeaves_4 post g_letters g_maxRules g_maxLeaves g_maxText g_rules g_count g_compiled g_states g_textLength g_closed g_lexemes b_toks b_reach b_go b_lab b_seen b_diff b_conf b_text b_lexRule b_lexLength n_diff (d + 1) x (nI (k + 1)) := by
        intro ne
        refine ih (k + 1) x (by omega) (gr_gs_c hx (fun j => ⟨fun z => ⟨by omega, z.2⟩, fun z => ⟨?_, z.2⟩⟩))
        by_cases e : j = k
        · rw [e] at z; exact absurd z.2 ne
        · omega
      refine br_f (nI_ge (b := 8) (by omega) (by omega)) (yw_leafPlaceN (by omega) hT ht h0 (fun q q1 q2 q3 => br_f (yl_m1ne q (by omega)) (And.intro (vp_in_nI (by omega) (by omega)) (br_c (fun z => nm_r (nI_1 k) (skip ?_)) (fun z => nm_e (nm_r (nI_1 k) (ih (k + 1) _ (by omega) ?_)))))) (fun ne => br_t rfl (nm_r (nI_1 k) (skip ?_))))
      · rintro ⟨p, p1, p2, p3, p4⟩
        have := lf_inj p q p2 q2 (p3.trans q3.symm)
        subst this
        rw [nI_clamp (by omega)] at z
        exact p4 z
      · rw [nI_clamp (by omega)] at z
        refine gr_gs_c (gr_gs_or hx (xl_one (k := k) (by omega))) (fun j => ?_)
        constructor
        · rintro (w | w)
          · exact ⟨by omega, w.2⟩
          · exact ⟨by omega, q, q1, q2, by omega, z⟩
        · rintro ⟨w1, w2⟩
          by_cases e : j = k
          · exact Or.inr e.symm
          · exact Or.inl ⟨by omega, w2⟩
      · rintro ⟨p, p1, p2, p3, p4⟩
        exact ne p p1 p2 p3
  exact ⟨9, key 8 0 0 rfl (gr_gs_0 (fun k z => by omega))⟩
theorem yw_leafMask {x : Int32} (hT : ∀ p, b_toks p = nI (t p)) (ht : ∀ p, t p < 100) (h0 : t 0 = 0) (h1 : ∀ q, q < 176 → gr_Lf t q → nI (lf_c t q) = x → post (nI (t q))) (h2 : (∀ q, q < 176 → gr_Lf t q → ¬ nI (lf_c t q) = x) → post 0) : wpY_leafMask post (g_letters, g_maxRules, g_maxLeaves, g_maxText, g_rules, g_count, g_compiled, g_states, g_textLength, g_closed, g_lexemes, b_toks, b_reach, b_go, b_lab, b_seen, b_diff, b_conf, b_text, b_lexRule, b_lexLength, n_diff) x :=
  yw_leafPlace hT ht h0 (fun q a b c => br_f (yl_m1ne q (by omega)) (And.intro (vp_in_nI a (by omega)) (ek_v (P := post) (yl_cl hT (by omega)) (h1 q a b c)))) (fun h => br_t rfl (h2 h))
theorem yw_withLetter {s : Int32} {a : Nat} (ha : a < 32) (hT : ∀ p, b_toks p = nI (t p)) (ht : ∀ p, t p < 100) (h0 : t 0 = 0) (K : ∀ x, gr_gs x (fun k => k < 8 ∧ bt s k = true ∧ ∃ p, p < 176 ∧ gr_Lf t p ∧ lf_c t p = k ∧ bt (nI (t p)) a = true) → post x) : wpY_withLetter post (g_letters, g_maxRules, g_maxLeaves, g_maxText, g_rules, g_count, g_compiled, g_states, g_textLength, g_closed, g_lexemes, b_toks, b_reach, b_go, b_lab, b_seen, b_diff, b_conf, b_text, b_lexRule, b_lexLength, n_diff) s (nI a) := by
  have key : ∀ d k x, k + d = 8 → gr_gs x (fun j => j < k ∧ bt s j = true ∧ ∃ p, p < 176 ∧ gr_Lf t p ∧ lf_c t p = j ∧ bt (nI (t p)) a = true) → wY_withLetter_5 post s (nI a) g_letters g_maxRules g_maxLeaves g_maxText g_rules g_count g_compiled g_states g_textLength g_closed g_lexemes b_toks b_reach b_go b_lab b_seen b_diff b_conf b_text b_lexRule b_lexLength n_diff (d + 1) x (nI k) := by
    intro d
    induction d with
    | zero =>
      intro k x hk hx
      have : k = 8 := by omega
      subst this
      exact br_t (nI_le (a := 8) (by omega) (by omega)) (K x hx)
    | succ d ih =>
      intro k x hk hx
      have skip : (¬ (bt s k = true ∧ ∃ p, p < 176 ∧ gr_Lf t p ∧ lf_c t p = k ∧ bt (nI (t p)) a = true)) → wY_withLetter_5 post s (nI a) g_letters g_maxRules g_maxLeaves g_maxText g_rules g_count g_compiled g_states g_textLength g_closed g_lexemes b_toks b_reach b_go b_lab b_seen b_diff b_conf b_text b_lexRule b_lexLength n_diff (d + 1) x (nI (k + 1)) := by
        intro ne
        refine ih (k + 1) x (by omega) (gr_gs_c hx (fun j => ⟨fun z => ⟨by omega, z.2⟩, fun z => ⟨?_, z.2⟩⟩))
        by_cases e : j = k
        · rw [e] at z; exact absurd z.2 ne
        · omega
      have body : ∀ v : Int32, (bt v a = true ↔ ∃ p, p < 176 ∧ gr_Lf t p ∧ lf_c t p = k ∧ bt (nI (t p)) a = true) →
          (((s >>> (nI k &&& 31)) &&& 1) = 0 → ∀ y, y = nI k + 1 → wY_withLetter_5 post s (nI a) g_letters g_maxRules g_maxLeaves g_maxText g_rules g_count g_compiled g_states g_textLength g_closed g_lexemes b_toks b_reach b_go b_lab b_seen b_diff b_conf b_text b_lexRule b_lexLength n_diff (d + 1) x y) ∧
          (¬ ((s >>> (nI k &&& 31)) &&& 1) = 0 → (((v >>> (nI a &&& 31)) &&& 1) = 0 → ∀ y, y = nI k + 1 → wY_withLetter_5 post s (nI a) g_letters g_maxRules g_maxLeaves g_maxText g_rules g_count g_compiled g_states g_textLength g_closed g_lexemes b_toks b_reach b_go b_lab b_seen b_diff b_conf b_text b_lexRule b_lexLength n_diff (d + 1) x y) ∧
            (¬ ((v >>> (nI a &&& 31)) &&& 1) = 0 → ∀ z, z = x ||| ((1 : Int32) <<< (nI k &&& 31)) → ∀ y, y = nI k + 1 → wY_withLetter_5 post s (nI a) g_letters g_maxRules g_maxLeaves g_maxText g_rules g_count g_compiled g_states g_textLength g_closed g_lexemes b_toks b_reach b_go b_lab b_seen b_diff b_conf b_text b_lexRule b_lexLength n_diff (d + 1) z y)) := by
        intro v hv
        rw [xl_bit (by omega), xl_bit (by omega)]
        refine br_c (fun z => nm_r (nI_1 k) (skip (fun w => by rw [z] at w; exact absurd w.1 (by decide)))) (fun z => br_c (fun z2 => nm_r (nI_1 k) (skip (fun w => by have := hv.mpr w.2; rw [z2] at this; exact absurd this (by decide)))) (fun z2 => nm_e (nm_r (nI_1 k) (ih (k + 1) _ (by omega) ?_))))
        refine gr_gs_c (gr_gs_or hx (xl_one (k := k) (by omega))) (fun j => ?_)
        constructor
        · rintro (w | w)
          · exact ⟨by omega, w.2⟩
          · rw [← w]; exact ⟨by omega, ts_nf z, hv.mp (ts_nf z2)⟩
        · rintro ⟨w1, w2⟩
          by_cases e : j = k
          · exact Or.inr e.symm
          · exact Or.inl ⟨by omega, w2⟩
      have e : ∀ q, q < 176 → (nI (lf_c t q) = nI k ↔ lf_c t q = k) := fun q hq => nI_eq (by have := lf_le t q; omega) (by omega)
      refine br_f (nI_ge (b := 8) (by omega) (by omega)) (yw_leafMask hT ht h0 (fun q q1 q2 q3 => body _ ?_) (fun ne => body 0 ?_))
      · constructor
        · intro w; exact ⟨q, q1, q2, (e q q1).mp q3, w⟩
        · rintro ⟨p, p1, p2, p3, p4⟩
          have := lf_inj p q p2 q2 (p3.trans ((e q q1).mp q3).symm)
          subst this
          exact p4
      · constructor
        · intro w; rw [b_0] at w; exact absurd w (by decide)
        · rintro ⟨p, p1, p2, p3, p4⟩
          exact absurd ((e p p1).mpr p3) (ne p p1 p2)
  exact ⟨9, key 8 0 0 rfl (gr_gs_0 (fun k z => by omega))⟩
end
end
section
/-! Y: the rule's sets -/
section
variable {g_letters g_maxRules g_maxLeaves g_maxText g_rules g_count g_compiled g_states g_textLength g_closed g_lexemes : Int32} {b_toks b_reach b_go b_lab b_seen b_diff b_conf b_text b_lexRule b_lexLength : Nat → Int32} {n_diff : Nat} {t : Nat → Nat} {post : Int32 → SY → Prop} {R r m : Nat}
theorem yl_N (F : rw_F t (1 + 25 * r) m) : yl_R t (1 + 25 * r) (yl_S t (1 + 25 * r)) (1 + 25 * r + m) ↔ rs_N t (1 + 25 * r) (1 + 25 * r + m) := by
  rw [yl_Rx F (fun x hx => by
    have q := (yl_Sx F x).mp hx
    refine ⟨?_, q.2⟩
    rcases q.1 with k | k <;> omega)]
  constructor
  · rintro ⟨s, s1, s2⟩
    have q := (yl_Sx F s).mp s1
    exact ⟨s, q.1, q.2, s2⟩
  · rintro ⟨s, s1, s2, s3⟩
    exact ⟨s, (yl_Sx F s).mpr ⟨s1, s2⟩, s3⟩
theorem yl_F (F : rw_F t (1 + 25 * r) m) (hr : r ≤ 5) (h8 : ∀ p, gr_Lf t p → lf_c t p < 8) (k : Nat) : (k < 8 ∧ ∃ p, p < 176 ∧ gr_Lf t p ∧ lf_c t p = k ∧ yl_R t (1 + 25 * r) (yl_S t (1 + 25 * r)) p) ↔ rs_F t (1 + 25 * r) (1 + 25 * r + m) k := by
  have H := (rw_H F).1
  have m24 := F.1.2.1
  have hS : ∀ x, yl_S t (1 + 25 * r) x → 1 + 25 * r ≤ x ∧ x ≤ 1 + 25 * r + m := fun x hx => by
    have q := (yl_Sx F x).mp hx
    refine ⟨?_, q.2⟩
    rcases q.1 with k | k <;> omega
  constructor
  · rintro ⟨_, p, p1, p2, p3, p4⟩
    obtain ⟨s, s1, s2⟩ := (yl_Rx F hS p).mp p4
    have q := (yl_Sx F s).mp s1
    have hs := hS s s1
    have hp := gr_Rin hs.1 hs.2 s2
    have : p ≠ 1 + 25 * r + m := fun e => by
      have := p2.1
      rw [e, gr_tn H] at this; omega
    exact ⟨p, hp.1, by omega, p2, p3, s, q.1, q.2, s2⟩
  · rintro ⟨p, p1, p2, p3, p4, s, s1, s2, s3⟩
    exact ⟨by rw [← p4]; exact h8 p p3, p, by omega, p3, p4, (yl_Rx F hS p).mpr ⟨s, (yl_Sx F s).mpr ⟨s1, s2⟩, s3⟩⟩
theorem yw_ruleNullable (hT : ∀ p, b_toks p = nI (t p)) (ht : ∀ p, t p < 100) (h0 : t 0 = 0) (hr : r < R) (hR : R ≤ 6) (F : rw_F t (1 + 25 * r) m)
    (K : ∀ x r', gr_b01 x (rs_N t (1 + 25 * r) (1 + 25 * r + m)) → post x (g_letters, g_maxRules, g_maxLeaves, g_maxText, nI R, g_count, g_compiled, g_states, g_textLength, g_closed, g_lexemes, b_toks, r', b_go, b_lab, b_seen, b_diff, b_conf, b_text, b_lexRule, b_lexLength, n_diff)) : wpY_ruleNullable post (g_letters, g_maxRules, g_maxLeaves, g_maxText, nI R, g_count, g_compiled, g_states, g_textLength, g_closed, g_lexemes, b_toks, b_reach, b_go, b_lab, b_seen, b_diff, b_conf, b_text, b_lexRule, b_lexLength, n_diff) (nI (r + 1)) := by
  have H := (rw_H F).1
  have m24 := F.1.2.1
  have hz := H.2.1.2 (1 + 25 * r + 24) (by omega) (by omega)
  refine br_f (nI_nlt (b := 1) (by omega) (by omega)) (br_t (nI_le (by omega) (by omega)) (nm_r (yl_base r) (yw_fromStart hT ht h0 (by omega) (by omega) hz (fun r' hr' => ?_))))
  refine yw_endOf hT ht (by omega) F.1 ?_
  have v := hr' (1 + 25 * r + m) (by omega)
  have v2 := gr_b01_c v (yl_N F)
  have e : r' (nI (1 + 25 * r + m)).toNatClampNeg = r' (1 + 25 * r + m) := by rw [nI_clamp (by omega)]
  refine And.intro (vp_in_nI (by omega) (by omega)) ?_
  rw [e]
  refine And.intro ?_ (K _ r' v2)
  rcases gr_b01_s v with z | z <;> rw [z] <;> rfl
theorem yw_firstLeaves (hT : ∀ p, b_toks p = nI (t p)) (ht : ∀ p, t p < 100) (h0 : t 0 = 0) (hr : r < R) (hR : R ≤ 6) (h8 : ∀ p, gr_Lf t p → lf_c t p < 8) (F : rw_F t (1 + 25 * r) m)
    (K : ∀ x r', gr_gs x (rs_F t (1 + 25 * r) (1 + 25 * r + m)) → post x (g_letters, g_maxRules, g_maxLeaves, g_maxText, nI R, g_count, g_compiled, g_states, g_textLength, g_closed, g_lexemes, b_toks, r', b_go, b_lab, b_seen, b_diff, b_conf, b_text, b_lexRule, b_lexLength, n_diff)) : wpY_firstLeaves post (g_letters, g_maxRules, g_maxLeaves, g_maxText, nI R, g_count, g_compiled, g_states, g_textLength, g_closed, g_lexemes, b_toks, b_reach, b_go, b_lab, b_seen, b_diff, b_conf, b_text, b_lexRule, b_lexLength, n_diff) (nI (r + 1)) := by
  have H := (rw_H F).1
  have m24 := F.1.2.1
  have hz := H.2.1.2 (1 + 25 * r + 24) (by omega) (by omega)
  refine br_f (nI_nlt (b := 1) (by omega) (by omega)) (br_t (nI_le (by omega) (by omega)) ?_)
  rw [yl_base r]
  refine yw_fromStart hT ht h0 (by omega) (by omega) hz (fun r' hr' => ?_)
  refine yw_reachedLeaves hT ht h0 (fun x hx => K x r' (gr_gs_c hx (fun k => ?_)))
  rw [← yl_F F (by omega) h8 k]
  constructor
  · rintro ⟨k8, p, p1, p2, p3, p4⟩
    refine ⟨k8, p, p1, p2, p3, ?_⟩
    rcases hr' p p1 with z | z
    · exact z.2
    · exact absurd z.1 p4
  · rintro ⟨k8, p, p1, p2, p3, p4⟩
    refine ⟨k8, p, p1, p2, p3, ?_⟩
    rcases hr' p p1 with z | z
    · exact yl_10 z.1
    · exact absurd p4 z.2
theorem yw_lastL {B : Nat} (hB : B = 1 + 25 * r) (hT : ∀ p, b_toks p = nI (t p)) (ht : ∀ p, t p < 100) (h0 : t 0 = 0) (hr : r ≤ 5) (h8 : ∀ p, gr_Lf t p → lf_c t p < 8) (F : rw_F t B m)
    (K : ∀ x r', gr_gs x (rs_L t B (B + m)) → post x (g_letters, g_maxRules, g_maxLeaves, g_maxText, g_rules, g_count, g_compiled, g_states, g_textLength, g_closed, g_lexemes, b_toks, r', b_go, b_lab, b_seen, b_diff, b_conf, b_text, b_lexRule, b_lexLength, n_diff)) :
    ∀ (d k : Nat) (x : Int32) (rr : Nat → Int32), k + d = 8 → gr_gs x (fun j => j < k ∧ rs_L t B (B + m) j) → wY_lastLeaves_36 post (nI B) (nI (B + m)) (d + 1) x (nI k) g_letters g_maxRules g_maxLeaves g_maxText g_rules g_count g_compiled g_states g_textLength g_closed g_lexemes b_toks rr b_go b_lab b_seen b_diff b_conf b_text b_lexRule b_lexLength n_diff := by
  have H := (rw_H F).1
  have m24 := F.1.2.1
  have hz := H.2.1.2 (B + 24) (by omega) (by omega)
  intro d
  induction d with
  | zero =>
    intro k x rr hk hx
    refine br_t (nI_le (a := 8) (by omega) (by omega)) (K x rr (gr_gs_c hx (fun j => ⟨fun z => z.2, fun z => ⟨?_, z⟩⟩)))
    obtain ⟨p, p1, p2, p3, p4, _⟩ := z
    have := h8 p p3
    omega
  | succ d ih =>
    intro k x rr hk hx
    have skip : ∀ rr', ¬ rs_L t B (B + m) k → wY_lastLeaves_36 post (nI B) (nI (B + m)) (d + 1) x (nI (k + 1)) g_letters g_maxRules g_maxLeaves g_maxText g_rules g_count g_compiled g_states g_textLength g_closed g_lexemes b_toks rr' b_go b_lab b_seen b_diff b_conf b_text b_lexRule b_lexLength n_diff := by
      intro rr' ne
      refine ih (k + 1) x rr' (by omega) (gr_gs_c hx (fun j => ⟨fun z => ⟨by omega, z.2⟩, fun z => ⟨?_, z.2⟩⟩))
      by_cases e : j = k
      · rw [e] at z; exact absurd z.2 ne
      · omega
    have e25 : (nI B + 25) - 1 = nI (B + 24) := by
      rw [show (25 : Int32) = nI 25 from rfl, nI_add, show B + 25 = (B + 24) + 1 by omega, nI_pred]
    refine br_f (nI_ge (b := 8) (by omega) (by omega)) (yw_leafPlaceN (by omega) hT ht h0 (fun q q1 q2 q3 => pk_lt q B (fun e => nm_r (nI_1 k) (skip rr ?_)) (fun e => ?_)) (fun ne => br_t ?_ (nm_r (nI_1 k) (skip rr ?_))))
    · rintro ⟨p, p1, p2, p3, p4, _⟩
      have := lf_inj p q p3 q2 (p4.trans q3.symm)
      omega
    · refine pk_le (B + 24) q (fun e2 => nm_r (nI_1 k) (skip rr ?_)) (fun e2 => ?_) (hx := e25)
      · rintro ⟨p, p1, p2, p3, p4, _⟩
        have := lf_inj p q p3 q2 (p4.trans q3.symm)
        omega
      · rw [nI_1 q]
        have qn : q < B + m := by
          rcases Nat.lt_or_ge q (B + m) with z | z
          · exact z
          · have := H.2.1.2 q z (by omega)
            have := q2.1
            omega
        refine yw_fromPlace hT ht h0 (by omega) (by omega) hz (by omega) (by omega) (fun r' hr' => ?_)
        have v := hr' (B + m) (by omega)
        have er : r' (nI (B + m)).toNatClampNeg = r' (B + m) := by rw [nI_clamp (by omega)]
        have eq : yl_R t B (fun y => y = q + 1) (B + m) ↔ rs_L t B (B + m) k := by
          rw [yl_Rx F (fun x hx => by omega)]
          constructor
          · rintro ⟨s, s1, s2⟩
            subst s1
            exact ⟨q, e, qn, q2, q3, s2⟩
          · rintro ⟨p, p1, p2, p3, p4, p5⟩
            have := lf_inj p q p3 q2 (p4.trans q3.symm)
            subst this
            exact ⟨p + 1, rfl, p5⟩
        have v2 := gr_b01_c v eq
        refine And.intro (vp_in_nI (by omega) (by omega)) ?_
        rw [er]
        refine br_c (fun z => nm_r (nI_1 k) (skip r' ((gr_b01_0 v2).mp z))) (fun z => nm_e (nm_r (nI_1 k) (ih (k + 1) _ r' (by omega) ?_)))
        have hl : rs_L t B (B + m) k := Classical.byContradiction (fun w => z ((gr_b01_0 v2).mpr w))
        refine gr_gs_c (gr_gs_or hx (xl_one (k := k) (by omega))) (fun j => ?_)
        constructor
        · rintro (w | w)
          · exact ⟨by omega, w.2⟩
          · rw [← w]; exact ⟨by omega, hl⟩
        · rintro ⟨w1, w2⟩
          by_cases e : j = k
          · exact Or.inr e.symm
          · exact Or.inl ⟨by omega, w2⟩
    · rw [Int32.lt_iff_toInt_lt, nI_toInt (by omega), show (-1 : Int32).toInt = -1 from by decide]
      omega
    · rintro ⟨p, p1, p2, p3, p4, _⟩
      exact ne p (by omega) p3 p4
theorem yw_lastLeaves (hT : ∀ p, b_toks p = nI (t p)) (ht : ∀ p, t p < 100) (h0 : t 0 = 0) (hr : r < R) (hR : R ≤ 6) (h8 : ∀ p, gr_Lf t p → lf_c t p < 8) (F : rw_F t (1 + 25 * r) m)
    (K : ∀ x r', gr_gs x (rs_L t (1 + 25 * r) (1 + 25 * r + m)) → post x (g_letters, g_maxRules, g_maxLeaves, g_maxText, nI R, g_count, g_compiled, g_states, g_textLength, g_closed, g_lexemes, b_toks, r', b_go, b_lab, b_seen, b_diff, b_conf, b_text, b_lexRule, b_lexLength, n_diff)) : wpY_lastLeaves post (g_letters, g_maxRules, g_maxLeaves, g_maxText, nI R, g_count, g_compiled, g_states, g_textLength, g_closed, g_lexemes, b_toks, b_reach, b_go, b_lab, b_seen, b_diff, b_conf, b_text, b_lexRule, b_lexLength, n_diff) (nI (r + 1)) := by
  refine br_f (nI_nlt (b := 1) (by omega) (by omega)) (br_t (nI_le (by omega) (by omega)) (nm_r (yl_base r) (yw_endOf hT ht (by omega) F.1 ⟨9, yw_lastL rfl hT ht h0 (by omega) h8 F K 8 0 0 b_reach rfl (gr_gs_0 (fun k z => by omega))⟩)))
/-- the row of a leaf below the unfinished row -/
theorem rw_loc (hF : ∀ r, r < R → ∃ m, rw_F t (1 + 25 * r) m) (h0 : t 0 = 0) {p : Nat} (hp : gr_Lf t p) (hpR : p < 1 + 25 * R) : (p - 1) / 25 < R ∧ 1 + 25 * ((p - 1) / 25) ≤ p ∧ ∀ m, rw_F t (1 + 25 * ((p - 1) / 25)) m → p < 1 + 25 * ((p - 1) / 25) + m := by
  have p0 : 0 < p := by
    rcases Nat.eq_zero_or_pos p with k | k
    · have := hp.1; rw [k, h0] at this; omega
    · exact k
  have d := Nat.div_add_mod (p - 1) 25
  have md := Nat.mod_lt (p - 1) (show 25 > 0 by decide)
  refine ⟨by omega, by omega, ?_⟩
  intro m F
  rcases Nat.lt_or_ge p (1 + 25 * ((p - 1) / 25) + m) with z | z
  · exact z
  · have := F.1.2.2.2.1 p z (by omega)
    have := hp.1
    omega
/-- followLeaves of a leaf number k: its leaf lies in a finished row, or the answer is -1 -/
theorem yw_followLeaves {x : Int32} (hT : ∀ p, b_toks p = nI (t p)) (ht : ∀ p, t p < 100) (h0 : t 0 = 0) (hR : R ≤ 6) (h8 : ∀ p, gr_Lf t p → lf_c t p < 8) (hF : ∀ r, r < R → ∃ m, rw_F t (1 + 25 * r) m)
    (K1 : ∀ p r m y r', p < 1 + 25 * R → gr_Lf t p → nI (lf_c t p) = x → r < R → rw_F t (1 + 25 * r) m → 1 + 25 * r ≤ p → p < 1 + 25 * r + m → gr_gs y (rs_O t (1 + 25 * r) (1 + 25 * r + m) p) → post y (g_letters, g_maxRules, g_maxLeaves, g_maxText, nI R, g_count, g_compiled, g_states, g_textLength, g_closed, g_lexemes, b_toks, r', b_go, b_lab, b_seen, b_diff, b_conf, b_text, b_lexRule, b_lexLength, n_diff))
    (K2 : (∀ p, p < 1 + 25 * R → p < 176 → gr_Lf t p → ¬ nI (lf_c t p) = x) → post (-1) (g_letters, g_maxRules, g_maxLeaves, g_maxText, nI R, g_count, g_compiled, g_states, g_textLength, g_closed, g_lexemes, b_toks, b_reach, b_go, b_lab, b_seen, b_diff, b_conf, b_text, b_lexRule, b_lexLength, n_diff)) : wpY_followLeaves post (g_letters, g_maxRules, g_maxLeaves, g_maxText, nI R, g_count, g_compiled, g_states, g_textLength, g_closed, g_lexemes, b_toks, b_reach, b_go, b_lab, b_seen, b_diff, b_conf, b_text, b_lexRule, b_lexLength, n_diff) x := by
  refine yw_leafPlace hT ht h0 (fun q q1 q2 q3 => br_f (yl_m1ne q (by omega)) ?_) (fun ne => br_t rfl (K2 (fun p _ p2 => ne p p2)))
  have ex : 1 + (nI R * 25) = nI (1 + 25 * R) := by
    rw [show (25 : Int32) = nI 25 from rfl, show (1 : Int32) = nI 1 from rfl, pk_mul, nI_add]
    exact congrArg nI (by omega)
  refine pk_lt q (1 + 25 * R) (fun e => ?_) (fun e => K2 (fun p p1 p2 p3 p4 => ?_)) (hy := ex)
  · obtain ⟨l1, l2, l3⟩ := rw_loc hF h0 q2 e
    obtain ⟨m, F⟩ := hF _ l1
    have ln := l3 m F
    have H := (rw_H F).1
    have m24 := F.1.2.1
    have hz := H.2.1.2 (1 + 25 * ((q - 1) / 25) + 24) (by omega) (by omega)
    have q0 : 0 < q := by omega
    have eb : 1 + (((nI q - 1) / 25) * 25) = nI (1 + 25 * ((q - 1) / 25)) := by
      rw [yl_s1 q q0, show (25 : Int32) = nI 25 from rfl, pk_div (by omega) (by omega) (by omega), show (1 : Int32) = nI 1 from rfl, pk_mul, nI_add]
      exact congrArg nI (by omega)
    refine And.intro (by decide) (nm_r eb ?_)
    rw [nI_1 q]
    refine yw_fromPlace hT ht h0 (by omega) (by omega) hz (by omega) (by omega) (fun r' hr' => ?_)
    refine yw_reachedLeaves hT ht h0 (fun y hy => K1 q ((q - 1) / 25) m y r' e q2 q3 l1 F l2 ln (gr_gs_c hy (fun k => ?_)))
    have hx : ∀ y, yl_R t (1 + 25 * ((q - 1) / 25)) (fun y => y = q + 1) y ↔ gr_R (rs_M t (1 + 25 * ((q - 1) / 25)) (1 + 25 * ((q - 1) / 25) + m)) (1 + 25 * ((q - 1) / 25)) (1 + 25 * ((q - 1) / 25) + m) (q + 1) y := by
      intro y
      rw [yl_Rx F (fun x hx => by omega)]
      constructor
      · rintro ⟨s, s1, s2⟩; subst s1; exact s2
      · intro s2; exact ⟨q + 1, rfl, s2⟩
    constructor
    · rintro ⟨k8, p, p1, p2, p3, p4⟩
      have rp : yl_R t (1 + 25 * ((q - 1) / 25)) (fun y => y = q + 1) p := by
        rcases hr' p p1 with z | z
        · exact z.2
        · exact absurd z.1 p4
      have rp := (hx p).mp rp
      have hin := gr_Rin (by omega) (by omega) rp
      have : p ≠ 1 + 25 * ((q - 1) / 25) + m := fun e => by
        have := p2.1
        rw [e, gr_tn H] at this; omega
      exact ⟨p, hin.1, by omega, p2, p3, rp⟩
    · rintro ⟨p, p1, p2, p3, p4, p5⟩
      refine ⟨by rw [← p4]; exact h8 p p3, p, by omega, p3, p4, ?_⟩
      rcases hr' p (by omega) with z | z
      · exact yl_10 z.1
      · exact absurd ((hx p).mpr p5) z.2
  · have l1 := lf_le t p
    have l2 := lf_le t q
    rw [← q3, nI_eq (by omega) (by omega)] at p4
    have := lf_inj p q p3 q2 p4
    omega
end
end
section
/-! Y: labels and moves of all situations -/
theorem rw_Fu {t : Nat → Nat} {B m m' : Nat} (F : rw_F t B m) (F' : rw_F t B m') : m = m' := by
  have key : ∀ m m', rw_F t B m → rw_F t B m' → ¬ m < m' := by
    intro m m' F F' lt
    have z := F.1.2.2.2.1 (B + m) (by omega) (by have := F.1.2.1; omega)
    have := (F'.1.2.2.2.2 m lt).1
    omega
  rcases Nat.lt_trichotomy m m' with k | k | k
  · exact absurd k (key m m' F F')
  · exact k
  · exact absurd k (key m' m F' F)
def sp_N (t : Nat → Nat) (r : Nat) : Prop := ∃ m, rw_F t (1 + 25 * r) m ∧ rs_N t (1 + 25 * r) (1 + 25 * r + m)
def sp_F (t : Nat → Nat) (r k : Nat) : Prop := ∃ m, rw_F t (1 + 25 * r) m ∧ rs_F t (1 + 25 * r) (1 + 25 * r + m) k
def sp_L (t : Nat → Nat) (r k : Nat) : Prop := ∃ m, rw_F t (1 + 25 * r) m ∧ rs_L t (1 + 25 * r) (1 + 25 * r + m) k
def sp_O (t : Nat → Nat) (p k : Nat) : Prop := ∃ r m, rw_F t (1 + 25 * r) m ∧ 1 + 25 * r ≤ p ∧ p < 1 + 25 * r + m ∧ rs_O t (1 + 25 * r) (1 + 25 * r + m) p k
theorem sp_Ni {t : Nat → Nat} {r m : Nat} (F : rw_F t (1 + 25 * r) m) : sp_N t r ↔ rs_N t (1 + 25 * r) (1 + 25 * r + m) :=
  ⟨fun ⟨m', F', h⟩ => by rw [rw_Fu F F']; exact h, fun h => ⟨m, F, h⟩⟩
theorem sp_Fi {t : Nat → Nat} {r m : Nat} (F : rw_F t (1 + 25 * r) m) (k : Nat) : sp_F t r k ↔ rs_F t (1 + 25 * r) (1 + 25 * r + m) k :=
  ⟨fun ⟨m', F', h⟩ => by rw [rw_Fu F F']; exact h, fun h => ⟨m, F, h⟩⟩
theorem sp_Li {t : Nat → Nat} {r m : Nat} (F : rw_F t (1 + 25 * r) m) (k : Nat) : sp_L t r k ↔ rs_L t (1 + 25 * r) (1 + 25 * r + m) k :=
  ⟨fun ⟨m', F', h⟩ => by rw [rw_Fu F F']; exact h, fun h => ⟨m, F, h⟩⟩
theorem sp_Oi {t : Nat → Nat} {r m p : Nat} (F : rw_F t (1 + 25 * r) m) (h1 : 1 + 25 * r ≤ p) (h2 : p < 1 + 25 * r + m) (k : Nat) : sp_O t p k ↔ rs_O t (1 + 25 * r) (1 + 25 * r + m) p k := by
  constructor
  · rintro ⟨r', m', F', a, b, h⟩
    have m1 := F.1.2.1
    have m2 := F'.1.2.1
    have : r' = r := by omega
    subst this
    rw [rw_Fu F F']; exact h
  · intro h; exact ⟨r, m, F, h1, h2, h⟩
/-- the label of a situation: the least rule with P -/
def lb_T (P : Nat → Prop) (lo R : Nat) (x : Int32) : Prop := (x = 0 ∧ ∀ r, lo ≤ r → r < R → ¬ P r) ∨ ∃ r, lo ≤ r ∧ r < R ∧ x = nI (r + 1) ∧ P r ∧ ∀ r', lo ≤ r' → r' < r → ¬ P r'
theorem lb_u {P : Nat → Prop} {R : Nat} {x y : Int32} (h : lb_T P 0 R x) (h' : lb_T P 0 R y) : x = y := by
  rcases h with ⟨h1, h2⟩ | ⟨r, h1, h2, h3, h4, h5⟩
  · rcases h' with ⟨k1, k2⟩ | ⟨r', k1, k2, k3, k4, k5⟩
    · rw [h1, k1]
    · exact absurd k4 (h2 r' k1 k2)
  · rcases h' with ⟨k1, k2⟩ | ⟨r', k1, k2, k3, k4, k5⟩
    · exact absurd h4 (k2 r h1 h2)
    · rcases Nat.lt_trichotomy r r' with c | c | c
      · exact absurd h4 (k5 r h1 c)
      · rw [h3, k3, c]
      · exact absurd k4 (h5 r' k1 c)
theorem lb_e {P : Nat → Prop} {lo R : Nat} (h : R ≤ lo) : lb_T P lo R 0 := Or.inl ⟨rfl, fun r a b => by omega⟩
theorem lb_y {P : Nat → Prop} {r R : Nat} (hr : r < R) (h : P r) : lb_T P r R (nI (r + 1)) := Or.inr ⟨r, Nat.le_refl _, hr, rfl, h, fun r' a b => by omega⟩
theorem lb_n {P : Nat → Prop} {r R : Nat} {x : Int32} (h : ¬ P r) (k : lb_T P (r + 1) R x) : lb_T P r R x := by
  rcases k with ⟨h1, h2⟩ | ⟨r', h1, h2, h3, h4, h5⟩
  · refine Or.inl ⟨h1, fun q a b => ?_⟩
    by_cases e : q = r
    · rw [e]; exact h
    · exact h2 q (by omega) b
  · refine Or.inr ⟨r', by omega, h2, h3, h4, fun q a b => ?_⟩
    by_cases e : q = r
    · rw [e]; exact h
    · exact h5 q (by omega) b
theorem lb_c {P Q : Nat → Prop} {lo R : Nat} {x : Int32} (h : ∀ r, r < R → (P r ↔ Q r)) (k : lb_T P lo R x) : lb_T Q lo R x := by
  rcases k with ⟨h1, h2⟩ | ⟨r', h1, h2, h3, h4, h5⟩
  · exact Or.inl ⟨h1, fun q a b z => h2 q a b ((h q b).mpr z)⟩
  · exact Or.inr ⟨r', h1, h2, h3, (h r' h2).mp h4, fun q a b z => h5 q a b ((h q (by omega)).mpr z)⟩
theorem xl_and0 {x y : Int32} : (x &&& y) = 0 ↔ ∀ k, ¬ (bt x k = true ∧ bt y k = true) := by
  constructor
  · intro h k z
    have := b_and x y k
    rw [h, b_0, z.1, z.2] at this
    exact absurd this (by decide)
  · intro h
    apply b_ext
    intro i _
    rw [b_and, b_0]
    cases hx : bt x i <;> cases hy : bt y i
    · rfl
    · rfl
    · rfl
    · exact absurd ⟨hx, hy⟩ (h i)
/-- the situation's label condition and its next leaves -/
def sg_P (t : Nat → Nat) (c r : Nat) : Prop := (c < 256 ∧ ∃ k, bt (nI c) k = true ∧ sp_L t r k) ∨ (c = 256 ∧ sp_N t r)
def sg_l (t : Nat → Nat) (a k : Nat) : Prop := ∃ p, p < 176 ∧ gr_Lf t p ∧ lf_c t p = k ∧ bt (nI (t p)) a = true
def sg_G (t : Nat → Nat) (R c a k : Nat) : Prop := sg_l t a k ∧ ((c = 256 ∧ ∃ r, r < R ∧ sp_F t r k) ∨ (c < 256 ∧ ∃ p, gr_Lf t p ∧ bt (nI c) (lf_c t p) = true ∧ sp_O t p k))
section
variable {g_letters g_maxRules g_maxLeaves g_maxText g_rules g_count g_compiled g_states g_textLength g_closed g_lexemes : Int32} {b_toks b_reach b_go b_lab b_seen b_diff b_conf b_text b_lexRule b_lexLength : Nat → Int32} {n_diff : Nat} {t : Nat → Nat} {post : SY → Prop} {R : Nat}
theorem yw_fl40 {J27 : Int32 → Int32 → Int32 → Int32 → Int32 → Int32 → Int32 → Int32 → Int32 → Int32 → Int32 → Int32 → (Nat → Int32) → (Nat → Int32) → (Nat → Int32) → (Nat → Int32) → (Nat → Int32) → (Nat → Int32) → (Nat → Int32) → (Nat → Int32) → (Nat → Int32) → (Nat → Int32) → Nat → Prop} {last : Int32} {r m : Nat} (hT : ∀ p, b_toks p = nI (t p)) (ht : ∀ p, t p < 100) (h0 : t 0 = 0) (hR : R ≤ 6) (hr : r < R) (F : rw_F t (1 + 25 * r) m) (hl : gr_gs last (sp_L t r))
    (K : ∀ lab r', (∀ c, c < 257 → lb_T (sg_P t c) r R (lab c)) → J27 (nI r) g_letters g_maxRules g_maxLeaves g_maxText (nI R) g_count g_compiled g_states g_textLength g_closed g_lexemes b_toks r' b_go lab b_seen b_diff b_conf b_text b_lexRule b_lexLength n_diff) :
    ∀ (d c : Nat) (lab : Nat → Int32), c + d = 256 → (∀ c', c' < c → lb_T (sg_P t c') r R (lab c')) → (∀ c', c ≤ c' → c' < 257 → lb_T (sg_P t c') (r + 1) R (lab c')) → wY_fillLabels_40 post J27 (nI (r + 1)) last g_letters g_maxRules g_maxLeaves g_maxText (nI R) g_count g_compiled g_states g_textLength g_closed g_lexemes n_diff (d + 1) (nI c) b_toks b_reach b_go lab b_seen b_diff b_conf b_text b_lexRule b_lexLength := by
  intro d
  induction d with
  | zero =>
    intro c lab hc h1 h2
    have e : c = 256 := by omega
    subst e
    refine br_t (nI_le (a := 256) (by omega) (by omega)) (yw_ruleNullable hT ht h0 hr hR F (fun x r' hx => ?_))
    have hx2 := gr_b01_c hx (sp_Ni F).symm
    have n256 : sg_P t 256 r ↔ sp_N t r := ⟨fun z => z.elim (fun z => by omega) (fun z => z.2), fun z => Or.inr ⟨rfl, z⟩⟩
    refine br_c (fun z => nm_r (pk_m1 r) (K lab r' (fun c hc => ?_))) (fun z => nm_e (nm_r (pk_m1 r) (K (upd lab 256 (nI (r + 1))) r' (fun c hc => ?_))))
    · by_cases e : c = 256
      · subst e
        exact lb_n (fun w => (gr_b01_0 hx2).mp z (n256.mp w)) (h2 256 (Nat.le_refl _) hc)
      · exact h1 c (by omega)
    · by_cases e : c = 256
      · subst e
        rw [pk_us]
        exact lb_y hr (n256.mpr (Classical.byContradiction (fun w => z ((gr_b01_0 hx2).mpr w))))
      · rw [pk_un e]
        exact h1 c (by omega)
  | succ d ih =>
    intro c lab hc h1 h2
    have nc : sg_P t c r ↔ ∃ k, bt (nI c) k = true ∧ sp_L t r k := ⟨fun z => z.elim (fun z => z.2) (fun z => by omega), fun z => Or.inl ⟨by omega, z⟩⟩
    refine br_f (nI_ge (b := 256) (by omega) (by omega)) (br_c (fun z => nm_r (nI_1 c) (ih (c + 1) lab (by omega) ?_ (fun c' a b => h2 c' (by omega) b))) (fun z => And.intro (vp_in_nI (by omega) (by omega)) (nm_r (e' := upd lab c (nI (r + 1))) (by rw [nI_clamp (by omega)]) (nm_r (nI_1 c) (ih (c + 1) _ (by omega) ?_ ?_)))))
    · intro c' a
      by_cases e : c' = c
      · subst e
        refine lb_n (fun w => ?_) (h2 c' (Nat.le_refl _) (by omega))
        obtain ⟨k, k1, k2⟩ := nc.mp w
        exact xl_and0.mp z k ⟨k1, (hl k).mpr k2⟩
      · exact h1 c' (by omega)
    · intro c' a
      by_cases e : c' = c
      · subst e
        rw [pk_us]
        refine lb_y hr (nc.mpr ?_)
        apply Classical.byContradiction
        intro w
        exact z (xl_and0.mpr (fun k q => w ⟨k, q.1, (hl k).mp q.2⟩))
      · rw [pk_un e]
        exact h1 c' (by omega)
    · intro c' a b
      rw [pk_un (by omega)]
      exact h2 c' (by omega) b
theorem yw_fl27 (hT : ∀ p, b_toks p = nI (t p)) (ht : ∀ p, t p < 100) (h0 : t 0 = 0) (hR : R ≤ 6) (h8 : ∀ p, gr_Lf t p → lf_c t p < 8) (hF : ∀ r, r < R → ∃ m, rw_F t (1 + 25 * r) m)
    (K : ∀ lab r', (∀ c, c < 257 → lb_T (sg_P t c) 0 R (lab c)) → post (g_letters, g_maxRules, g_maxLeaves, g_maxText, nI R, g_count, g_compiled, g_states, g_textLength, g_closed, g_lexemes, b_toks, r', b_go, lab, b_seen, b_diff, b_conf, b_text, b_lexRule, b_lexLength, n_diff)) :
    ∀ (r : Nat) (lab rr : Nat → Int32), r ≤ R → (∀ c, c < 257 → lb_T (sg_P t c) r R (lab c)) → wY_fillLabels_27 post (r + 1) (nI r) g_letters g_maxRules g_maxLeaves g_maxText (nI R) g_count g_compiled g_states g_textLength g_closed g_lexemes b_toks rr b_go lab b_seen b_diff b_conf b_text b_lexRule b_lexLength n_diff := by
  intro r
  induction r with
  | zero =>
    intro lab rr hr h
    exact br_t (nI_lt (b := 1) (by omega) (by omega)) (K lab rr h)
  | succ r ih =>
    intro lab rr hr h
    obtain ⟨m, F⟩ := hF r (by omega)
    refine br_f (nI_nlt (b := 1) (by omega) (by omega)) (yw_lastLeaves hT ht h0 (by omega) hR h8 F (fun x r' hx => ⟨257, yw_fl40 hT ht h0 hR (by omega) F (gr_gs_c hx (fun k => (sp_Li F k).symm)) (fun lab' r'' h' => ih lab' r'' (by omega) h') 256 0 lab rfl (fun c' a => by omega) (fun c' _ b => h c' b)⟩))
theorem yw_fillLabels (hT : ∀ p, b_toks p = nI (t p)) (ht : ∀ p, t p < 100) (h0 : t 0 = 0) (hR : R ≤ 6) (h8 : ∀ p, gr_Lf t p → lf_c t p < 8) (hF : ∀ r, r < R → ∃ m, rw_F t (1 + 25 * r) m)
    (K : ∀ lab r', (∀ c, c < 257 → lb_T (sg_P t c) 0 R (lab c)) → post (g_letters, g_maxRules, g_maxLeaves, g_maxText, nI R, g_count, g_compiled, g_states, g_textLength, g_closed, g_lexemes, b_toks, r', b_go, lab, b_seen, b_diff, b_conf, b_text, b_lexRule, b_lexLength, n_diff)) : wpY_fillLabels post (g_letters, g_maxRules, g_maxLeaves, g_maxText, nI R, g_count, g_compiled, g_states, g_textLength, g_closed, g_lexemes, b_toks, b_reach, b_go, b_lab, b_seen, b_diff, b_conf, b_text, b_lexRule, b_lexLength, n_diff) := by
  have key : ∀ (d c : Nat) (lab : Nat → Int32), c + d = 257 → (∀ c', c' < c → lab c' = 0) → wY_fillLabels_2 post g_letters g_maxRules g_maxLeaves g_maxText (nI R) g_count g_compiled g_states g_textLength g_closed g_lexemes n_diff (d + 1) (nI c) b_toks b_reach b_go lab b_seen b_diff b_conf b_text b_lexRule b_lexLength := by
    intro d
    induction d with
    | zero =>
      intro c lab hc h
      exact br_t (nI_le (a := 257) (by omega) (by omega)) ⟨R + 1, yw_fl27 hT ht h0 hR h8 hF K R lab b_reach (Nat.le_refl _) (fun c' a => by rw [h c' (by omega)]; exact lb_e (Nat.le_refl _))⟩
    | succ d ih =>
      intro c lab hc h
      refine br_f (nI_ge (b := 257) (by omega) (by omega)) (And.intro (vp_in_nI (by omega) (by omega)) (nm_r (e' := upd lab c 0) (by rw [nI_clamp (by omega)]) (nm_r (nI_1 c) (ih (c + 1) _ (by omega) (fun c' a => ?_)))))
      by_cases e : c' = c
      · subst e; exact pk_us
      · rw [pk_un e]; exact h c' (by omega)
  exact ⟨258, key 257 0 b_lab rfl (fun c' a => by omega)⟩
end
end
section
/-! Y: fillMoves -/
theorem gr_gs8 {y : Int32} {P : Nat → Prop} (h : gr_gs y P) (h8 : ∀ k, P k → k < 8) : ∃ v, v < 256 ∧ y = nI v := by
  have e : y &&& 255 = y := by
    apply b_ext
    intro i _
    rw [b_and, b_255]
    cases c : bt y i
    · rfl
    · have := h8 i ((h i).mp c)
      rw [decide_eq_true this]; rfl
  obtain ⟨j, hj, ej⟩ := pk_andE y (m := 255) 8 (by decide)
  exact ⟨j, hj, by rw [← e]; exact ej⟩
def yl_G (Q : Nat → Nat → Nat → Prop) (g : Nat → Int32) : Prop := ∀ c a, c ≤ 256 → a < 4 → gr_gs (g (c * 4 + a)) (Q c a)
theorem yl_Gc {Q Q' : Nat → Nat → Nat → Prop} {g : Nat → Int32} (h : yl_G Q g) (e : ∀ c a k, c ≤ 256 → a < 4 → (Q c a k ↔ Q' c a k)) : yl_G Q' g := fun c a hc ha => gr_gs_c (h c a hc ha) (fun k => e c a k hc ha)
theorem yl_Gu {Q : Nat → Nat → Nat → Prop} {g : Nat → Int32} {c a : Nat} {x : Int32} {X : Nat → Prop} (h : yl_G Q g) (hc : c ≤ 256) (ha : a < 4) (hx : gr_gs x X) : yl_G (fun c' a' j => Q c' a' j ∨ (c' = c ∧ a' = a ∧ X j)) (upd g (c * 4 + a) (g (c * 4 + a) ||| x)) := by
  intro c' a' hc' ha'
  by_cases e : c' = c ∧ a' = a
  · obtain ⟨e1, e2⟩ := e
    subst e1 e2
    rw [pk_us]
    exact gr_gs_c (gr_gs_or (h c' a' hc' ha') hx) (fun k => ⟨fun z => z.elim Or.inl (fun z => Or.inr ⟨rfl, rfl, z⟩), fun z => z.elim Or.inl (fun z => Or.inr z.2.2)⟩)
  · rw [pk_un (by omega)]
    exact gr_gs_c (h c' a' hc' ha') (fun k => ⟨Or.inl, fun z => z.elim id (fun z => absurd ⟨z.1, z.2.1⟩ e)⟩)
theorem yl_i4 (c a : Nat) : (nI c * 4) + nI a = nI (c * 4 + a) := by
  rw [show (4 : Int32) = nI 4 from rfl, pk_mul, nI_add]
section
variable {g_letters g_maxRules g_maxLeaves g_maxText g_rules g_count g_compiled g_states g_textLength g_closed g_lexemes : Int32} {b_toks b_reach b_go b_lab b_seen b_diff b_conf b_text b_lexRule b_lexLength : Nat → Int32} {n_diff : Nat} {t : Nat → Nat} {post : SY → Prop} {R : Nat}
theorem yw_fm107 {J24 J75 : Int32 → Int32 → Int32 → Int32 → Int32 → Int32 → Int32 → Int32 → Int32 → Int32 → Int32 → Int32 → (Nat → Int32) → (Nat → Int32) → (Nat → Int32) → (Nat → Int32) → (Nat → Int32) → (Nat → Int32) → (Nat → Int32) → (Nat → Int32) → (Nat → Int32) → (Nat → Int32) → Nat → Prop} {s : Int32} {a k : Nat} {X : Nat → Prop} {Q : Nat → Nat → Nat → Prop} (ha : a < 4) (hk : k < 8) (hs : gr_gs s X)
    (K : ∀ g, yl_G (fun c' a' j => Q c' a' j ∨ (c' < 256 ∧ a' = a ∧ bt (nI c') k = true ∧ X j)) g → J75 (nI (k + 1)) g_letters g_maxRules g_maxLeaves g_maxText g_rules g_count g_compiled g_states g_textLength g_closed g_lexemes b_toks b_reach g b_lab b_seen b_diff b_conf b_text b_lexRule b_lexLength n_diff) :
    ∀ (d c : Nat) (g : Nat → Int32), c + d = 256 → yl_G (fun c' a' j => Q c' a' j ∨ (c' < c ∧ a' = a ∧ bt (nI c') k = true ∧ X j)) g → wY_fillMoves_107 post J24 J75 (nI a) (nI k) s g_letters g_maxRules g_maxLeaves g_maxText g_rules g_count g_compiled g_states g_textLength g_closed g_lexemes n_diff (d + 1) (nI c) b_toks b_reach g b_lab b_seen b_diff b_conf b_text b_lexRule b_lexLength := by
  intro d
  induction d with
  | zero =>
    intro c g hc h
    have e : c = 256 := by omega
    subst e
    exact br_t (nI_le (a := 256) (by omega) (by omega)) (nm_r (nI_1 k) (K g h))
  | succ d ih =>
    intro c g hc h
    have hi : vp_in ((nI c * 4) + nI a) 1028 := by rw [yl_i4]; exact vp_in_nI (by omega) (by omega)
    refine br_f (nI_ge (b := 256) (by omega) (by omega)) ?_
    rw [xl_bit (by omega)]
    refine br_c (fun z => nm_r (nI_1 c) (ih (c + 1) g (by omega) (yl_Gc h (fun c' a' j _ _ => ?_)))) (fun z => And.intro hi (And.intro hi (nm_r (e' := upd g (c * 4 + a) (g (c * 4 + a) ||| s)) (by rw [yl_i4, nI_clamp (by omega)]) (nm_r (nI_1 c) (ih (c + 1) _ (by omega) (yl_Gc (yl_Gu h (by omega) ha hs) (fun c' a' j _ _ => ?_)))))))
    · constructor
      · rintro (w | w)
        · exact Or.inl w
        · exact Or.inr ⟨by omega, w.2⟩
      · rintro (w | w)
        · exact Or.inl w
        · refine Or.inr ⟨?_, w.2⟩
          by_cases e : c' = c
          · have := w.2.2.1; rw [e, z] at this; exact absurd this (by decide)
          · omega
    · constructor
      · rintro ((w | w) | w)
        · exact Or.inl w
        · exact Or.inr ⟨by omega, w.2⟩
        · exact Or.inr ⟨by omega, w.2.1, by rw [w.1]; exact ts_nf z, w.2.2⟩
      · rintro (w | w)
        · exact Or.inl (Or.inl w)
        · by_cases e : c' = c
          · exact Or.inr ⟨e, w.2.1, w.2.2.2⟩
          · exact Or.inl (Or.inr ⟨by omega, w.2⟩)
/-- what leaf k adds at letter a -/
def yl_X (t : Nat → Nat) (a k j : Nat) : Prop := sg_l t a j ∧ ∃ p, gr_Lf t p ∧ lf_c t p = k ∧ sp_O t p j
theorem yw_fm75 {J24 : Int32 → Int32 → Int32 → Int32 → Int32 → Int32 → Int32 → Int32 → Int32 → Int32 → Int32 → Int32 → (Nat → Int32) → (Nat → Int32) → (Nat → Int32) → (Nat → Int32) → (Nat → Int32) → (Nat → Int32) → (Nat → Int32) → (Nat → Int32) → (Nat → Int32) → (Nat → Int32) → Nat → Prop} {a : Nat} {Q : Nat → Nat → Nat → Prop} (hT : ∀ p, b_toks p = nI (t p)) (ht : ∀ p, t p < 100) (h0 : t 0 = 0) (hR : R ≤ 6) (h8 : ∀ p, gr_Lf t p → lf_c t p < 8) (hF : ∀ r, r < R → ∃ m, rw_F t (1 + 25 * r) m) (hz : ∀ p, 1 + 25 * R ≤ p → t p = 0) (ha : a < 4)
    (K : ∀ g r', yl_G (fun c' a' j => Q c' a' j ∨ (c' < 256 ∧ a' = a ∧ ∃ k', k' < 8 ∧ bt (nI c') k' = true ∧ yl_X t a k' j)) g → J24 (nI (a + 1)) g_letters g_maxRules g_maxLeaves g_maxText (nI R) g_count g_compiled g_states g_textLength g_closed g_lexemes b_toks r' g b_lab b_seen b_diff b_conf b_text b_lexRule b_lexLength n_diff) :
    ∀ (d k : Nat) (g rr : Nat → Int32), k + d = 8 → yl_G (fun c' a' j => Q c' a' j ∨ (c' < 256 ∧ a' = a ∧ ∃ k', k' < k ∧ bt (nI c') k' = true ∧ yl_X t a k' j)) g → wY_fillMoves_75 post J24 (nI a) (d + 1) (nI k) g_letters g_maxRules g_maxLeaves g_maxText (nI R) g_count g_compiled g_states g_textLength g_closed g_lexemes b_toks rr g b_lab b_seen b_diff b_conf b_text b_lexRule b_lexLength n_diff := by
  have lfR : ∀ p, gr_Lf t p → p < 1 + 25 * R := by
    intro p hp
    rcases Nat.lt_or_ge p (1 + 25 * R) with z | z
    · exact z
    · have := hp.1; rw [hz p z] at this; omega
  intro d
  induction d with
  | zero =>
    intro k g rr hk h
    have e : k = 8 := by omega
    subst e
    exact br_t (nI_le (a := 8) (by omega) (by omega)) (nm_r (nI_1 a) (K g rr h))
  | succ d ih =>
    intro k g rr hk h
    have ek : ∀ p, p < 176 → (nI (lf_c t p) = nI k ↔ lf_c t p = k) := fun p hp => nI_eq (by have := lf_le t p; omega) (by omega)
    have next : ∀ rr' g' (X : Nat → Prop), (∀ j, X j ↔ yl_X t a k j) → yl_G (fun c' a' j => (Q c' a' j ∨ (c' < 256 ∧ a' = a ∧ ∃ k', k' < k ∧ bt (nI c') k' = true ∧ yl_X t a k' j)) ∨ (c' < 256 ∧ a' = a ∧ bt (nI c') k = true ∧ X j)) g' → wY_fillMoves_75 post J24 (nI a) (d + 1) (nI (k + 1)) g_letters g_maxRules g_maxLeaves g_maxText (nI R) g_count g_compiled g_states g_textLength g_closed g_lexemes b_toks rr' g' b_lab b_seen b_diff b_conf b_text b_lexRule b_lexLength n_diff := by
      intro rr' g' X hX h'
      refine ih (k + 1) g' rr' (by omega) (yl_Gc h' (fun c' a' j _ _ => ?_))
      constructor
      · rintro ((w | ⟨w1, w2, k', w3, w4⟩) | w)
        · exact Or.inl w
        · exact Or.inr ⟨w1, w2, k', by omega, w4⟩
        · exact Or.inr ⟨w.1, w.2.1, k, by omega, w.2.2.1, (hX j).mp w.2.2.2⟩
      · rintro (w | ⟨w1, w2, k', w3, w4, w5⟩)
        · exact Or.inl (Or.inl w)
        · by_cases e : k' = k
          · subst e
            exact Or.inr ⟨w1, w2, w4, (hX j).mpr w5⟩
          · exact Or.inl (Or.inr ⟨w1, w2, k', by omega, w4, w5⟩)
    refine br_f (nI_ge (b := 8) (by omega) (by omega)) (yw_followLeaves hT ht h0 hR h8 hF (fun p r m y r' p1 p2 p3 r1 F l1 l2 hy => ?_) (fun ne => br_t rfl ⟨257, yw_fm107 (X := fun _ => False) ha (by omega) (gr_gs_0 (fun _ z => z)) (fun g' h' => next rr g' _ (fun j => ⟨fun z => z.elim, fun z => ?_⟩) h') 256 0 g rfl (yl_Gc h (fun c' a' j _ _ => ⟨Or.inl, fun z => z.elim id (fun z => by omega)⟩))⟩))
    · obtain ⟨v, v1, v2⟩ := gr_gs8 hy (fun k z => by obtain ⟨q, _, _, q3, q4, _⟩ := z; rw [← q4]; exact h8 q q3)
      refine br_f (by rw [v2]; exact yl_m1ne v (by omega)) (yw_withLetter (by omega) hT ht h0 (fun x hx => ⟨257, yw_fm107 (X := fun j => j < 8 ∧ bt y j = true ∧ sg_l t a j) ha (by omega) hx (fun g' h' => next r' g' _ (fun j => ?_) h') 256 0 g rfl (yl_Gc h (fun c' a' j _ _ => ⟨Or.inl, fun z => z.elim id (fun z => by omega)⟩))⟩))
      have pk : lf_c t p = k := (ek p (by omega)).mp p3
      constructor
      · rintro ⟨w1, w2, w3⟩
        exact ⟨w3, p, p2, pk, (sp_Oi F l1 l2 j).mpr ((hy j).mp w2)⟩
      · rintro ⟨w1, q, q1, q2, q3⟩
        have := lf_inj q p q1 p2 (q2.trans pk.symm)
        subst this
        refine ⟨?_, (hy j).mpr ((sp_Oi F l1 l2 j).mp q3), w1⟩
        obtain ⟨q', _, a2, a3, _⟩ := w1
        rw [← a3]; exact h8 q' a2
    · obtain ⟨_, q, q1, q2, _⟩ := z
      exact ne q (lfR q q1) (by have := lfR q q1; omega) q1 ((ek q (by have := lfR q q1; omega)).mpr q2)
theorem yw_fm34 {J24 : Int32 → Int32 → Int32 → Int32 → Int32 → Int32 → Int32 → Int32 → Int32 → Int32 → Int32 → Int32 → (Nat → Int32) → (Nat → Int32) → (Nat → Int32) → (Nat → Int32) → (Nat → Int32) → (Nat → Int32) → (Nat → Int32) → (Nat → Int32) → (Nat → Int32) → (Nat → Int32) → Nat → Prop} {a : Nat} {Q : Nat → Nat → Nat → Prop} (hT : ∀ p, b_toks p = nI (t p)) (ht : ∀ p, t p < 100) (h0 : t 0 = 0) (hR : R ≤ 6) (h8 : ∀ p, gr_Lf t p → lf_c t p < 8) (hF : ∀ r, r < R → ∃ m, rw_F t (1 + 25 * r) m) (hz : ∀ p, 1 + 25 * R ≤ p → t p = 0) (ha : a < 4)
    (K : ∀ g r', yl_G (fun c' a' j => (Q c' a' j ∨ (c' = 256 ∧ a' = a ∧ sg_l t a j ∧ ∃ r, r < R ∧ sp_F t r j)) ∨ (c' < 256 ∧ a' = a ∧ ∃ k', k' < 8 ∧ bt (nI c') k' = true ∧ yl_X t a k' j)) g → J24 (nI (a + 1)) g_letters g_maxRules g_maxLeaves g_maxText (nI R) g_count g_compiled g_states g_textLength g_closed g_lexemes b_toks r' g b_lab b_seen b_diff b_conf b_text b_lexRule b_lexLength n_diff) :
    ∀ (d r : Nat) (g rr : Nat → Int32), r + d = R → yl_G (fun c' a' j => Q c' a' j ∨ (c' = 256 ∧ a' = a ∧ sg_l t a j ∧ ∃ r', r' < r ∧ sp_F t r' j)) g → wY_fillMoves_34 post J24 (nI a) (d + 1) (nI (r + 1)) g_letters g_maxRules g_maxLeaves g_maxText (nI R) g_count g_compiled g_states g_textLength g_closed g_lexemes b_toks rr g b_lab b_seen b_diff b_conf b_text b_lexRule b_lexLength n_diff := by
  intro d
  induction d with
  | zero =>
    intro r g rr hr h
    have e : r = R := by omega
    subst e
    exact br_t (nI_lt (by omega) (by omega)) ⟨9, yw_fm75 hT ht h0 hR h8 hF hz ha K 8 0 g rr rfl (yl_Gc h (fun c' a' j _ _ => ⟨Or.inl, fun z => z.elim id (fun ⟨_, _, k', z, _⟩ => by omega)⟩))⟩
  | succ d ih =>
    intro r g rr hr h
    obtain ⟨m, F⟩ := hF r (by omega)
    have e1 : 1024 + nI a = nI (256 * 4 + a) := by
      rw [show (1024 : Int32) = nI (256 * 4) from rfl, nI_add]
    have hi : vp_in (1024 + nI a) 1028 := by rw [e1]; exact vp_in_nI (by omega) (by omega)
    refine br_f (nI_nlt (by omega) (by omega)) (yw_firstLeaves hT ht h0 (by omega) hR h8 F (fun y r' hy => And.intro hi (yw_withLetter (by omega) hT ht h0 (fun x hx => And.intro hi (nm_r (e' := upd g (256 * 4 + a) (g (256 * 4 + a) ||| x)) (by rw [e1, nI_clamp (by omega)]) (nm_r (nI_1 (r + 1)) (ih (r + 1) _ r' (by omega) (yl_Gc (yl_Gu h (Nat.le_refl _) ha hx) (fun c' a' j _ _ => ?_)))))))))
    constructor
    · rintro ((w | ⟨w1, w2, w3, r1, w4, w5⟩) | ⟨w1, w2, w3, w4, w5⟩)
      · exact Or.inl w
      · exact Or.inr ⟨w1, w2, w3, r1, by omega, w5⟩
      · exact Or.inr ⟨w1, w2, w5, r, by omega, (sp_Fi F j).mpr ((hy j).mp w4)⟩
    · rintro (w | ⟨w1, w2, w3, r1, w4, w5⟩)
      · exact Or.inl (Or.inl w)
      · by_cases e : r1 = r
        · subst e
          refine Or.inr ⟨w1, w2, ?_, (hy j).mpr ((sp_Fi F j).mp w5), w3⟩
          obtain ⟨q', _, a2, a3, _⟩ := w3
          rw [← a3]; exact h8 q' a2
        · exact Or.inl (Or.inr ⟨w1, w2, w3, r1, by omega, w5⟩)
theorem yw_fillMoves {L : Nat} (hL : L ≤ 4) (hT : ∀ p, b_toks p = nI (t p)) (ht : ∀ p, t p < 100) (h0 : t 0 = 0) (hR : R ≤ 6) (h8 : ∀ p, gr_Lf t p → lf_c t p < 8) (hF : ∀ r, r < R → ∃ m, rw_F t (1 + 25 * r) m) (hz : ∀ p, 1 + 25 * R ≤ p → t p = 0)
    (K : ∀ g r', (∀ c a, c ≤ 256 → a < L → gr_gs (g (c * 4 + a)) (sg_G t R c a)) → post (nI L, g_maxRules, g_maxLeaves, g_maxText, nI R, g_count, g_compiled, g_states, g_textLength, g_closed, g_lexemes, b_toks, r', g, b_lab, b_seen, b_diff, b_conf, b_text, b_lexRule, b_lexLength, n_diff)) : wpY_fillMoves post (nI L, g_maxRules, g_maxLeaves, g_maxText, nI R, g_count, g_compiled, g_states, g_textLength, g_closed, g_lexemes, b_toks, b_reach, b_go, b_lab, b_seen, b_diff, b_conf, b_text, b_lexRule, b_lexLength, n_diff) := by
  have k24 : ∀ (d a : Nat) (g rr : Nat → Int32), a + d = L → yl_G (fun c' a' j => a' < a ∧ sg_G t R c' a' j) g → wY_fillMoves_24 post (d + 1) (nI a) (nI L) g_maxRules g_maxLeaves g_maxText (nI R) g_count g_compiled g_states g_textLength g_closed g_lexemes b_toks rr g b_lab b_seen b_diff b_conf b_text b_lexRule b_lexLength n_diff := by
    intro d
    induction d with
    | zero =>
      intro a g rr hd h
      have e : a = L := by omega
      subst e
      exact br_t (nI_le (Nat.le_refl _) (by omega)) (K g rr (fun c a' hc ha' => gr_gs_c (h c a' hc (by omega)) (fun k => ⟨fun z => z.2, fun z => ⟨ha', z⟩⟩)))
    | succ d ih =>
      intro a g rr hd h
      refine br_f (nI_ge (by omega) (by omega)) ⟨R + 1, yw_fm34 (g_letters := nI L) (Q := fun c' a' j => a' < a ∧ sg_G t R c' a' j) hT ht h0 hR h8 hF hz (by omega) (fun g' r' h' => ih (a + 1) g' r' (by omega) (yl_Gc h' (fun c' a' j hc' _ => ?_))) R 0 g rr (by omega) (yl_Gc h (fun c' a' j _ _ => ⟨Or.inl, fun z => z.elim id (fun ⟨_, _, _, r', z, _⟩ => by omega)⟩))⟩
      constructor
      · rintro ((w | ⟨w1, w2, w3, w4⟩) | ⟨w1, w2, k', w3, w4, w5, p, w6, w7, w8⟩)
        · exact ⟨by omega, w.2⟩
        · subst w2; exact ⟨by omega, w3, Or.inl ⟨w1, w4⟩⟩
        · subst w2; exact ⟨by omega, w5, Or.inr ⟨w1, p, w6, by rw [w7]; exact w4, w8⟩⟩
      · rintro ⟨w1, w2, w3⟩
        by_cases e : a' = a
        · subst e
          rcases w3 with ⟨w3, w4⟩ | ⟨w3, p, w4, w5, w6⟩
          · exact Or.inl (Or.inr ⟨w3, rfl, w2, w4⟩)
          · exact Or.inr ⟨w3, rfl, lf_c t p, h8 p w4, w5, w2, p, w4, rfl, w6⟩
        · exact Or.inl (Or.inl ⟨by omega, w2, w3⟩)
  have key : ∀ (d c : Nat) (g : Nat → Int32), c + d = 1028 → (∀ c', c' < c → g c' = 0) → wY_fillMoves_2 post (nI L) g_maxRules g_maxLeaves g_maxText (nI R) g_count g_compiled g_states g_textLength g_closed g_lexemes n_diff (d + 1) (nI c) b_toks b_reach g b_lab b_seen b_diff b_conf b_text b_lexRule b_lexLength := by
    intro d
    induction d with
    | zero =>
      intro c g hc h
      refine br_t (nI_le (a := 1028) (by omega) (by omega)) ⟨L + 1, k24 L 0 g b_reach (by omega) (fun c' a' hc' ha' => ?_)⟩
      rw [h (c' * 4 + a') (by omega)]
      exact gr_gs_0 (fun k z => by omega)
    | succ d ih =>
      intro c g hc h
      refine br_f (nI_ge (b := 1028) (by omega) (by omega)) (And.intro (vp_in_nI (by omega) (by omega)) (nm_r (e' := upd g c 0) (by rw [nI_clamp (by omega)]) (nm_r (nI_1 c) (ih (c + 1) _ (by omega) (fun c' a => ?_)))))
      by_cases e : c' = c
      · subst e; exact pk_us
      · rw [pk_un e]; exact h c' (by omega)
  exact ⟨1029, key 1028 0 b_go rfl (fun c' a => by omega)⟩
end
end
section
/-! Y: fillDifferences -/
theorem yl_i257 (c a : Nat) : (nI c * 257) + nI a = nI (c * 257 + a) := by
  rw [show (257 : Int32) = nI 257 from rfl, pk_mul, nI_add]
def yd_R (go : Nat → Nat → Nat) (L y : Nat) : Prop := ∀ S : Nat → Prop, S 0 → S 256 → (∀ c a, c < 257 → a < L → S c → S (go c a)) → S y
def yd_In (go : Nat → Nat → Nat) (L : Nat) (s : Nat → Int32) : Prop := ∀ y, y < 257 → (s y = 0 ∨ s y = 1) ∧ (y = 0 ∨ y = 256 → s y = 1) ∧ (s y = 1 → yd_R go L y)
def yd_C (go : Nat → Nat → Nat) (L : Nat) (s : Nat → Int32) : Prop := ∀ c a, c < 257 → a < L → s c = 1 → s (go c a) = 1
theorem yd_ex {go : Nat → Nat → Nat} {L : Nat} {s : Nat → Int32} (hgo : ∀ c a, c < 257 → a < L → go c a < 257) (I : yd_In go L s) (C : yd_C go L s) {y : Nat} (hy : y < 257) : s y = 1 ↔ yd_R go L y := by
  refine ⟨(I y hy).2.2, fun q => ?_⟩
  have := q (fun y => y < 257 → s y = 1) (fun h => (I 0 h).2.1 (Or.inl rfl)) (fun h => (I 256 h).2.1 (Or.inr rfl)) (fun c a hc ha h _ => C c a hc ha (h hc))
  exact this hy
section
variable {g_letters g_maxRules g_maxLeaves g_maxText g_rules g_count g_compiled g_states g_textLength g_closed g_lexemes : Int32} {b_toks b_reach b_go b_lab b_seen b_diff b_conf b_text b_lexRule b_lexLength : Nat → Int32} {n_diff : Nat} {post : SY → Prop} {go : Nat → Nat → Nat} {L : Nat}
theorem yw_fd57 {J39 J48 : Int32 → (Nat → Int32) → (Nat → Int32) → (Nat → Int32) → (Nat → Int32) → (Nat → Int32) → (Nat → Int32) → (Nat → Int32) → (Nat → Int32) → (Nat → Int32) → (Nat → Int32) → Prop} {x1 : Int32} {c : Nat} (hL : L ≤ 4) (hgo : ∀ c a, c < 257 → a < L → b_go (c * 4 + a) = nI (go c a) ∧ go c a < 257) (hc : c < 257) :
    ∀ (d a : Nat) (s : Nat → Int32), a + d = L → yd_In go L s →
    (∀ s', yd_In go L s' → (∀ y, y < 257 → s y = 1 → s' y = 1) → (∀ a', a ≤ a' → a' < L → s c = 1 → s' (go c a') = 1) → J48 (nI (c + 1)) b_toks b_reach b_go b_lab s' b_diff b_conf b_text b_lexRule b_lexLength) →
    wY_fillDifferences_57 post J39 J48 x1 (nI c) (nI L) g_maxRules g_maxLeaves g_maxText g_rules g_count g_compiled g_states g_textLength g_closed g_lexemes n_diff (d + 1) (nI a) b_toks b_reach b_go b_lab s b_diff b_conf b_text b_lexRule b_lexLength := by
  intro d
  induction d with
  | zero =>
    intro a s hd I K
    exact br_t (nI_le (by omega) (by omega)) (nm_r (nI_1 c) (K s I (fun _ _ z => z) (fun a' h1 h2 => by omega)))
  | succ d ih =>
    intro a s hd I K
    have hg := hgo c a hc (by omega)
    have cc : (nI c).toNatClampNeg = c := nI_clamp (by omega)
    have e1 : b_go ((nI c * 4) + nI a).toNatClampNeg = nI (go c a) := by rw [yl_i4, nI_clamp (by omega)]; exact hg.1
    refine br_f (nI_ge (by omega) (by omega)) (And.intro (vp_in_nI hc (by omega)) (br_c (fun z => nm_r (nI_1 c) (K s I (fun _ _ z => z) (fun a' h1 h2 e => ?_))) (fun z => And.intro (by rw [yl_i4]; exact vp_in_nI (by omega) (by omega)) (And.intro (by rw [e1]; exact vp_in_nI hg.2 (by omega)) (nm_r (e' := upd s (go c a) 1) (by rw [e1, nI_clamp (by omega)]; rfl) (nm_r (nI_1 a) (ih (a + 1) _ (by omega) ?_ (fun s' I' m' p' => K s' I' (fun y hy e => ?_) (fun a' h1 h2 e => ?_)))))))))
    · rw [cc] at z; rw [z] at e; exact absurd e (by decide)
    · rw [cc] at z
      have sc := (yl_01 (I c hc).1).mp z
      intro y hy
      by_cases e : y = go c a
      · subst e
        rw [pk_us]
        exact ⟨Or.inr rfl, fun _ => rfl, fun _ S h0 h1 hs => hs c a hc (by omega) ((I c hc).2.2 sc S h0 h1 hs)⟩
      · rw [pk_un e]; exact I y hy
    · refine m' y hy ?_
      by_cases e2 : y = go c a
      · subst e2; exact pk_us
      · rw [pk_un e2]; exact e
    · by_cases e2 : a' = a
      · subst e2
        exact m' _ hg.2 pk_us
      · refine p' a' (by omega) h2 ?_
        by_cases e3 : c = go c a
        · rw [← e3]; exact pk_us
        · rw [pk_un e3]; exact e
theorem yw_fd48 {J39 : Int32 → (Nat → Int32) → (Nat → Int32) → (Nat → Int32) → (Nat → Int32) → (Nat → Int32) → (Nat → Int32) → (Nat → Int32) → (Nat → Int32) → (Nat → Int32) → (Nat → Int32) → Prop} {p : Nat} (hL : L ≤ 4) (hgo : ∀ c a, c < 257 → a < L → b_go (c * 4 + a) = nI (go c a) ∧ go c a < 257) :
    ∀ (d c : Nat) (s : Nat → Int32), c + d = 257 → yd_In go L s →
    (∀ s', yd_In go L s' → (∀ y, y < 257 → s y = 1 → s' y = 1) → (∀ c' a', c ≤ c' → c' < 257 → a' < L → s c' = 1 → s' (go c' a') = 1) → J39 (nI (p + 1)) b_toks b_reach b_go b_lab s' b_diff b_conf b_text b_lexRule b_lexLength) →
    wY_fillDifferences_48 post J39 (nI p) (nI L) g_maxRules g_maxLeaves g_maxText g_rules g_count g_compiled g_states g_textLength g_closed g_lexemes n_diff (d + 1) (nI c) b_toks b_reach b_go b_lab s b_diff b_conf b_text b_lexRule b_lexLength := by
  intro d
  induction d with
  | zero =>
    intro c s hd I K
    exact br_t (nI_le (a := 257) (by omega) (by omega)) (nm_r (nI_1 p) (K s I (fun _ _ z => z) (fun c' a' h1 h2 => by omega)))
  | succ d ih =>
    intro c s hd I K
    refine br_f (nI_ge (b := 257) (by omega) (by omega)) ⟨L + 1, yw_fd57 hL hgo (by omega) L 0 s (by omega) I (fun s1 I1 m1 p1 => ih (c + 1) s1 (by omega) I1 (fun s2 I2 m2 p2 => K s2 I2 (fun y hy e => m2 y hy (m1 y hy e)) (fun c' a' h1 h2 h3 e => ?_)))⟩
    by_cases q : c' = c
    · subst q
      exact m2 _ (hgo c' a' h2 h3).2 (p1 a' (Nat.zero_le _) h3 e)
    · exact p2 c' a' (by omega) h2 h3 (m1 c' h2 e)
theorem yw_fd39 (hL : L ≤ 4) (hgo : ∀ c a, c < 257 → a < L → b_go (c * 4 + a) = nI (go c a) ∧ go c a < 257)
    (K : ∀ s, (∀ y, y < 257 → s y = 0 ∨ s y = 1) → s 0 = 1 → s 256 = 1 → yd_C go L s → ∃ n110, wY_fillDifferences_110 post (nI L) g_maxRules g_maxLeaves g_maxText g_rules g_count g_compiled g_states g_textLength g_closed g_lexemes n_diff n110 0 b_toks b_reach b_go b_lab s b_diff b_conf b_text b_lexRule b_lexLength) :
    ∀ (d p : Nat) (s : Nat → Int32), p + d = 257 → yd_In go L s → (yd_C go L s ∨ p + 1 ≤ ct_n (fun i => s i = 1) 257) → wY_fillDifferences_39 post (nI L) g_maxRules g_maxLeaves g_maxText g_rules g_count g_compiled g_states g_textLength g_closed g_lexemes n_diff (d + 1) (nI p) b_toks b_reach b_go b_lab s b_diff b_conf b_text b_lexRule b_lexLength := by
  have hg2 : ∀ c a, c < 257 → a < L → go c a < 257 := fun c a h1 h2 => (hgo c a h1 h2).2
  intro d
  induction d with
  | zero =>
    intro p s hd I hC
    have C : yd_C go L s := by
      rcases hC with z | z
      · exact z
      · have := ct_le (fun i => s i = 1) 257; omega
    exact br_t (nI_le (a := 257) (by omega) (by omega)) (K s (fun y hy => (I y hy).1) ((I 0 (by omega)).2.1 (Or.inl rfl)) ((I 256 (by omega)).2.1 (Or.inr rfl)) C)
  | succ d ih =>
    intro p s hd I hC
    refine br_f (nI_ge (b := 257) (by omega) (by omega)) ⟨258, yw_fd48 hL hgo 257 0 s rfl I (fun s' I' m' p' => ih (p + 1) s' (by omega) I' ?_)⟩
    by_cases C : yd_C go L s
    · left
      intro c a hc ha e
      have e1 := (I' c hc).2.2 e
      have e2 := (yd_ex hg2 I C hc).mpr e1
      exact m' _ (hg2 c a hc ha) (C c a hc ha e2)
    · right
      have hC2 : p + 1 ≤ ct_n (fun i => s i = 1) 257 := hC.resolve_left C
      have : ∃ c a, c < 257 ∧ a < L ∧ s c = 1 ∧ ¬ s (go c a) = 1 := by
        apply Classical.byContradiction
        intro ne
        apply C
        intro c a hc ha e
        apply Classical.byContradiction
        intro nh
        exact ne ⟨c, a, hc, ha, e, nh⟩
      obtain ⟨c, a, hc, ha, e, nh⟩ := this
      have := ct_strict (p := fun i => s i = 1) (q := fun i => s' i = 1) 257 (fun i hi z => m' i hi z) (go c a) (hg2 c a hc ha) (p' c a (Nat.zero_le _) hc ha e) nh
      omega
/-- the seen set, closed -/
theorem yw_fdSeen (hL : L ≤ 4) (hgo : ∀ c a, c < 257 → a < L → b_go (c * 4 + a) = nI (go c a) ∧ go c a < 257)
    (K : ∀ s, (∀ y, y < 257 → s y = 0 ∨ s y = 1) → s 0 = 1 → s 256 = 1 → yd_C go L s → ∃ n110, wY_fillDifferences_110 post (nI L) g_maxRules g_maxLeaves g_maxText g_rules g_count g_compiled g_states g_textLength g_closed g_lexemes n_diff n110 0 b_toks b_reach b_go b_lab s b_diff b_conf b_text b_lexRule b_lexLength) : wpY_fillDifferences post (nI L, g_maxRules, g_maxLeaves, g_maxText, g_rules, g_count, g_compiled, g_states, g_textLength, g_closed, g_lexemes, b_toks, b_reach, b_go, b_lab, b_seen, b_diff, b_conf, b_text, b_lexRule, b_lexLength, n_diff) := by
  have key : ∀ (d c : Nat) (s : Nat → Int32), c + d = 257 → (∀ y, y < c → gr_b01 (s y) (y = 0 ∨ y = 256)) → wY_fillDifferences_2 post (nI L) g_maxRules g_maxLeaves g_maxText g_rules g_count g_compiled g_states g_textLength g_closed g_lexemes n_diff (d + 1) (nI c) b_toks b_reach b_go b_lab s b_diff b_conf b_text b_lexRule b_lexLength := by
    intro d
    induction d with
    | zero =>
      intro c s hd h
      have I : yd_In go L s := by
        intro y hy
        rcases h y (by omega) with z | z
        · refine ⟨Or.inr z.1, fun _ => z.1, fun _ S h0 h1 _ => ?_⟩
          rcases z.2 with e | e
          · rw [e]; exact h0
          · rw [e]; exact h1
        · exact ⟨Or.inl z.1, fun q => absurd q z.2, fun q => by rw [z.1] at q; exact absurd q (by decide)⟩
      exact br_t (nI_le (a := 257) (by omega) (by omega)) ⟨258, yw_fd39 hL hgo K 257 0 s rfl I (Or.inr (ct_pos 257 0 (by omega) ((I 0 (by omega)).2.1 (Or.inl rfl))))⟩
    | succ d ih =>
      intro c s hd h
      have hi : vp_in (nI c) 257 := vp_in_nI (by omega) (by omega)
      have cc : (nI c).toNatClampNeg = c := nI_clamp (by omega)
      have st : ∀ v : Int32, gr_b01 v (c = 0 ∨ c = 256) → ∀ y, y < c + 1 → gr_b01 (upd s c v y) (y = 0 ∨ y = 256) := by
        intro v hv y hy
        by_cases e : y = c
        · subst e; rw [pk_us]; exact hv
        · rw [pk_un e]; exact h y (by omega)
      refine br_f (nI_ge (b := 257) (by omega) (by omega)) (pk_eq c 0 (fun e => ?_) (fun e => pk_eq c 256 (fun e2 => ?_) (fun e2 => ?_)))
      · exact And.intro hi (nm_r (e' := upd s c 1) (by rw [cc]; rfl) (nm_r (nI_1 c) (ih (c + 1) _ (by omega) (st 1 (Or.inl ⟨rfl, Or.inl e⟩)))))
      · exact And.intro hi (nm_r (e' := upd s c 1) (by rw [cc]; rfl) (nm_r (nI_1 c) (ih (c + 1) _ (by omega) (st 1 (Or.inl ⟨rfl, Or.inr e2⟩)))))
      · exact And.intro hi (nm_r (e' := upd s c 0) (by rw [cc]; rfl) (nm_r (nI_1 c) (ih (c + 1) _ (by omega) (st 0 (Or.inr ⟨rfl, by omega⟩)))))
  exact ⟨258, key 257 0 b_seen rfl (fun y hy => by omega)⟩
/-! one round over the pairs -/
def yd_RI (lab : Nat → Int32) (go : Nat → Nat → Nat) (L : Nat) (s d0 d : Nat → Int32) (ch : Int32) (u v : Nat) : Prop :=
  (∀ x y, x < 257 → y < 257 → d (x * 257 + y) = 0 ∨ d (x * 257 + y) = 1) ∧
  (∀ x y, x < 257 → y < 257 → d0 (x * 257 + y) = 1 → d (x * 257 + y) = 1) ∧
  (∀ x y, x < 257 → y < 257 → d (x * 257 + y) = 1 → ¬ mo_Q lab go L x y) ∧
  (ch = 0 → ∀ x y, x < 257 → y < 257 → d (x * 257 + y) = 1 → d0 (x * 257 + y) = 1) ∧
  (∀ x y, x < 257 → y < 257 → (x < u ∨ (x = u ∧ y < v)) → s x = 1 → s y = 1 → d (x * 257 + y) = 1 ∨ ∀ a, a < L → ¬ d0 (go x a * 257 + go y a) = 1)
theorem yw_fd219 {J174 J189 J199 : Int32 → Int32 → (Nat → Int32) → (Nat → Int32) → (Nat → Int32) → (Nat → Int32) → (Nat → Int32) → (Nat → Int32) → (Nat → Int32) → (Nat → Int32) → (Nat → Int32) → (Nat → Int32) → Prop} {x2 : Int32} {u v : Nat} {s d0 : Nat → Int32} (hL : L ≤ 4) (hn : n_diff = 66049) (hgo : ∀ c a, c < 257 → a < L → b_go (c * 4 + a) = nI (go c a) ∧ go c a < 257) (hs : ∀ y, y < 257 → s y = 0 ∨ s y = 1) (hC : yd_C go L s) (hu : u < 257) (hv : v < 257) (su : s u = 1)
    (K : ∀ ch d, yd_RI b_lab go L s d0 d ch u (v + 1) → J199 ch (nI (v + 1)) b_toks b_reach b_go b_lab s d b_conf b_text b_lexRule b_lexLength) :
    ∀ (m a : Nat) (ch : Int32) (d : Nat → Int32), a + m = L → yd_RI b_lab go L s d0 d ch u v → (d (u * 257 + v) = 1 ∨ ∀ a', a' < a → ¬ d0 (go u a' * 257 + go v a') = 1) → wY_fillDifferences_219 post J174 J189 J199 x2 (nI u) (nI v) (nI L) g_maxRules g_maxLeaves g_maxText g_rules g_count g_compiled g_states g_textLength g_closed g_lexemes n_diff (m + 1) ch (nI a) b_toks b_reach b_go b_lab s d b_conf b_text b_lexRule b_lexLength := by
  have cv : (nI v).toNatClampNeg = v := nI_clamp (by omega)
  have iuv : (nI u * 257) + nI v = nI (u * 257 + v) := yl_i257 u v
  have cuv : (nI (u * 257 + v)).toNatClampNeg = u * 257 + v := nI_clamp (by omega)
  have fin : ∀ ch d, yd_RI b_lab go L s d0 d ch u v → (s v = 1 → d (u * 257 + v) = 1 ∨ ∀ a', a' < L → ¬ d0 (go u a' * 257 + go v a') = 1) → yd_RI b_lab go L s d0 d ch u (v + 1) := by
    rintro ch d ⟨r1, r2, r3, r4, r5⟩ h
    refine ⟨r1, r2, r3, r4, fun x y hx hy hp sx sy => ?_⟩
    by_cases e : x = u ∧ y = v
    · obtain ⟨e1, e2⟩ := e
      subst e1 e2
      exact h sy
    · exact r5 x y hx hy (by omega) sx sy
  intro m
  induction m with
  | zero =>
    intro a ch d hm I h
    refine br_t (nI_le (by omega) (by omega)) (nm_r (nI_1 v) (K ch d (fin ch d I (fun _ => ?_))))
    rcases h with z | z
    · exact Or.inl z
    · exact Or.inr (fun a' ha' => z a' (by omega))
  | succ m ih =>
    intro a ch d hm I h
    have gu := hgo u a hu (by omega)
    have gv := hgo v a hv (by omega)
    have e1 : b_go ((nI u * 4) + nI a).toNatClampNeg = nI (go u a) := by rw [yl_i4, nI_clamp (by omega)]; exact gu.1
    have e2 : b_go ((nI v * 4) + nI a).toNatClampNeg = nI (go v a) := by rw [yl_i4, nI_clamp (by omega)]; exact gv.1
    have ig : (b_go ((nI u * 4) + nI a).toNatClampNeg * 257) + b_go ((nI v * 4) + nI a).toNatClampNeg = nI (go u a * 257 + go v a) := by rw [e1, e2]; exact yl_i257 _ _
    have cg : (nI (go u a * 257 + go v a)).toNatClampNeg = go u a * 257 + go v a := nI_clamp (by omega)
    refine br_f (nI_ge (by omega) (by omega)) (And.intro (vp_in_nI hv (by omega)) (br_c (fun z => nm_r (nI_1 v) (K ch d (fin ch d I (fun sv => ?_)))) (fun z => And.intro (by rw [iuv]; exact vp_in_nI (by omega) (by omega)) (br_c (fun z2 => And.intro (by rw [yl_i4]; exact vp_in_nI (by omega) (by omega)) (And.intro (by rw [yl_i4]; exact vp_in_nI (by omega) (by omega)) (And.intro (by rw [ig]; exact vp_in_nI (by omega) (by omega)) (br_c (fun z3 => nm_r (nI_1 a) (ih (a + 1) ch d (by omega) I (Or.inr ?_))) (fun z3 => And.intro (by rw [iuv]; exact vp_in_nI (by omega) (by omega)) (nm_r (e' := upd d (u * 257 + v) 1) (by rw [iuv, cuv]; rfl) (nm_r (nI_1 a) (ih (a + 1) 1 _ (by omega) ?_ (Or.inl pk_us))))))))) (fun z2 => nm_r (nI_1 v) (K ch d (fin ch d I (fun _ => Or.inl ?_))))))))
    · rw [cv] at z; rw [z] at sv; exact absurd sv (by decide)
    · rw [iuv, cuv] at z2
      rw [ig, cg] at z3
      have nd : ¬ d (u * 257 + v) = 1 := fun w => by rw [z2] at w; exact absurd w (by decide)
      have h := h.resolve_left nd
      intro a' ha' w
      by_cases e : a' = a
      · subst e
        have := I.2.1 _ _ gu.2 gv.2 w
        rw [z3] at this; exact absurd this (by decide)
      · exact h a' (by omega) w
    · rw [ig, cg] at z3
      rw [iuv, cuv] at z2
      obtain ⟨r1, r2, r3, r4, r5⟩ := I
      have d1 := (yl_01 (r1 _ _ gu.2 gv.2)).mp z3
      have nq := r3 _ _ gu.2 gv.2 d1
      have nuv : ¬ mo_Q b_lab go L u v := fun w => nq (mo_Q_go w (by omega))
      have up : ∀ x y, x < 257 → y < 257 → (x = u ∧ y = v) ∨ upd d (u * 257 + v) 1 (x * 257 + y) = d (x * 257 + y) := by
        intro x y hx hy
        by_cases e : x = u ∧ y = v
        · exact Or.inl e
        · exact Or.inr (pk_un (by omega))
      refine ⟨fun x y hx hy => ?_, fun x y hx hy w => ?_, fun x y hx hy w => ?_, fun w => absurd w (by decide), fun x y hx hy hp sx sy => ?_⟩
      · rcases up x y hx hy with ⟨p1, p2⟩ | p
        · subst p1 p2; exact Or.inr pk_us
        · rw [p]; exact r1 x y hx hy
      · rcases up x y hx hy with ⟨p1, p2⟩ | p
        · subst p1 p2; exact pk_us
        · rw [p]; exact r2 x y hx hy w
      · rcases up x y hx hy with ⟨p1, p2⟩ | p
        · subst p1 p2; exact nuv
        · rw [p] at w; exact r3 x y hx hy w
      · rcases up x y hx hy with ⟨p1, p2⟩ | p
        · subst p1 p2; exact Or.inl pk_us
        · rw [p]; exact r5 x y hx hy hp sx sy
    · rw [iuv, cuv] at z2
      exact (yl_01 (I.1 u v hu hv)).mp z2
theorem yw_fd199 {J174 J189 : Int32 → Int32 → (Nat → Int32) → (Nat → Int32) → (Nat → Int32) → (Nat → Int32) → (Nat → Int32) → (Nat → Int32) → (Nat → Int32) → (Nat → Int32) → (Nat → Int32) → (Nat → Int32) → Prop} {x2 : Int32} {u : Nat} {s d0 : Nat → Int32} (hL : L ≤ 4) (hn : n_diff = 66049) (hgo : ∀ c a, c < 257 → a < L → b_go (c * 4 + a) = nI (go c a) ∧ go c a < 257) (hs : ∀ y, y < 257 → s y = 0 ∨ s y = 1) (hC : yd_C go L s) (hu : u < 257)
    (K : ∀ ch d, yd_RI b_lab go L s d0 d ch (u + 1) 0 → J189 ch (nI (u + 1)) b_toks b_reach b_go b_lab s d b_conf b_text b_lexRule b_lexLength) :
    ∀ (m v : Nat) (ch : Int32) (d : Nat → Int32), v + m = 257 → yd_RI b_lab go L s d0 d ch u v → wY_fillDifferences_199 post J174 J189 x2 (nI u) (nI L) g_maxRules g_maxLeaves g_maxText g_rules g_count g_compiled g_states g_textLength g_closed g_lexemes n_diff (m + 1) ch (nI v) b_toks b_reach b_go b_lab s d b_conf b_text b_lexRule b_lexLength := by
  have cu : (nI u).toNatClampNeg = u := nI_clamp (by omega)
  intro m
  induction m with
  | zero =>
    intro v ch d hm I
    refine br_t (nI_le (a := 257) (by omega) (by omega)) (nm_r (nI_1 u) (K ch d ?_))
    obtain ⟨r1, r2, r3, r4, r5⟩ := I
    exact ⟨r1, r2, r3, r4, fun x y hx hy hp sx sy => r5 x y hx hy (by omega) sx sy⟩
  | succ m ih =>
    intro v ch d hm I
    refine br_f (nI_ge (b := 257) (by omega) (by omega)) (And.intro (vp_in_nI hu (by omega)) (br_c (fun z => nm_r (nI_1 u) (K ch d ?_)) (fun z => ⟨L + 1, yw_fd219 hL hn hgo hs hC hu (by omega) ?_ (fun ch' d' I' => ih (v + 1) ch' d' (by omega) I') L 0 ch d (by omega) I (Or.inr (fun a' h => by omega))⟩)))
    · rw [cu] at z
      obtain ⟨r1, r2, r3, r4, r5⟩ := I
      refine ⟨r1, r2, r3, r4, fun x y hx hy hp sx sy => ?_⟩
      by_cases e : x = u
      · subst e; rw [z] at sx; exact absurd sx (by decide)
      · exact r5 x y hx hy (by omega) sx sy
    · rw [cu] at z
      exact (yl_01 (hs u hu)).mp z
theorem yw_fd189 {J174 : Int32 → Int32 → (Nat → Int32) → (Nat → Int32) → (Nat → Int32) → (Nat → Int32) → (Nat → Int32) → (Nat → Int32) → (Nat → Int32) → (Nat → Int32) → (Nat → Int32) → (Nat → Int32) → Prop} {j : Nat} {s d0 : Nat → Int32} (hL : L ≤ 4) (hn : n_diff = 66049) (hgo : ∀ c a, c < 257 → a < L → b_go (c * 4 + a) = nI (go c a) ∧ go c a < 257) (hs : ∀ y, y < 257 → s y = 0 ∨ s y = 1) (hC : yd_C go L s)
    (K : ∀ ch d, yd_RI b_lab go L s d0 d ch 257 0 → J174 ch (nI (j + 1)) b_toks b_reach b_go b_lab s d b_conf b_text b_lexRule b_lexLength) :
    ∀ (m u : Nat) (ch : Int32) (d : Nat → Int32), u + m = 257 → yd_RI b_lab go L s d0 d ch u 0 → wY_fillDifferences_189 post J174 (nI j) (nI L) g_maxRules g_maxLeaves g_maxText g_rules g_count g_compiled g_states g_textLength g_closed g_lexemes n_diff (m + 1) ch (nI u) b_toks b_reach b_go b_lab s d b_conf b_text b_lexRule b_lexLength := by
  intro m
  induction m with
  | zero =>
    intro u ch d hm I
    have e : u = 257 := by omega
    subst e
    exact br_t (nI_le (a := 257) (by omega) (by omega)) (nm_r (nI_1 j) (K ch d I))
  | succ m ih =>
    intro u ch d hm I
    exact br_f (nI_ge (b := 257) (by omega) (by omega)) ⟨258, yw_fd199 hL hn hgo hs hC (by omega) (fun ch' d' I' => ih (u + 1) ch' d' (by omega) I') 257 0 ch d rfl I⟩
/-- between rounds: sound, and complete for words up to j -/
def yd_RJ (lab : Nat → Int32) (go : Nat → Nat → Nat) (L : Nat) (s d : Nat → Int32) (ch : Int32) (j : Nat) : Prop :=
  (∀ x y, x < 257 → y < 257 → d (x * 257 + y) = 0 ∨ d (x * 257 + y) = 1) ∧
  (∀ x y, x < 257 → y < 257 → d (x * 257 + y) = 1 → ¬ mo_Q lab go L x y) ∧
  (∀ x y, x < 257 → y < 257 → s x = 1 → s y = 1 → ¬ mo_E lab go L j x y → d (x * 257 + y) = 1) ∧
  (ch = 0 → ∀ x y, x < 257 → y < 257 → s x = 1 → s y = 1 → d (x * 257 + y) = 1 ∨ ∀ a, a < L → ¬ d (go x a * 257 + go y a) = 1)
theorem yd_end {lab : Nat → Int32} {s d : Nat → Int32} {ch : Int32} {j : Nat} (hg : ∀ c a, c < 257 → a < L → go c a < 257) (hC : yd_C go L s) (I : yd_RJ lab go L s d ch j) (h : 257 ≤ j ∨ ch = 0) : ∀ x y, x < 257 → y < 257 → s x = 1 → s y = 1 → gr_b01 (d (x * 257 + y)) (¬ mo_Q lab go L x y) := by
  intro x y hx hy sx sy
  obtain ⟨r1, r2, r3, r4⟩ := I
  have comp : ¬ d (x * 257 + y) = 1 → mo_Q lab go L x y := by
    intro nd
    rcases h with h | h
    · refine mo_bound 257 (by omega) hg hx hy ?_
      apply Classical.byContradiction
      intro w
      exact nd (r3 x y hx hy sx sy (fun e => w (mo_E_le h e)))
    · refine mo_Q_co (fun x y => x < 257 ∧ y < 257 ∧ s x = 1 ∧ s y = 1 ∧ ¬ d (x * 257 + y) = 1) ?_ ⟨hx, hy, sx, sy, nd⟩
      rintro x y ⟨hx, hy, sx, sy, nd⟩
      refine ⟨?_, fun a ha => ⟨hg x a hx ha, hg y a hy ha, hC x a hx ha sx, hC y a hy ha sy, ?_⟩⟩
      · apply Classical.byContradiction
        intro w
        exact nd (r3 x y hx hy sx sy (fun e => w (mo_E_le (Nat.zero_le j) e)))
      · exact ((r4 h x y hx hy sx sy).resolve_left nd) a ha
  rcases r1 x y hx hy with z | z
  · exact Or.inr ⟨z, fun w => w (comp (fun q => by rw [z] at q; exact absurd q (by decide)))⟩
  · exact Or.inl ⟨z, r2 x y hx hy z⟩
theorem yw_fd174 {s : Nat → Int32} (hL : L ≤ 4) (hn : n_diff = 66049) (hgo : ∀ c a, c < 257 → a < L → b_go (c * 4 + a) = nI (go c a) ∧ go c a < 257) (hs : ∀ y, y < 257 → s y = 0 ∨ s y = 1) (hC : yd_C go L s)
    (K : ∀ d, (∀ x y, x < 257 → y < 257 → s x = 1 → s y = 1 → gr_b01 (d (x * 257 + y)) (¬ mo_Q b_lab go L x y)) → post (nI L, g_maxRules, g_maxLeaves, g_maxText, g_rules, g_count, g_compiled, g_states, g_textLength, g_closed, g_lexemes, b_toks, b_reach, b_go, b_lab, s, d, b_conf, b_text, b_lexRule, b_lexLength, n_diff)) :
    ∀ (m j : Nat) (ch : Int32) (d : Nat → Int32), j + m = 257 → yd_RJ b_lab go L s d ch j → wY_fillDifferences_174 post (nI L) g_maxRules g_maxLeaves g_maxText g_rules g_count g_compiled g_states g_textLength g_closed g_lexemes n_diff (m + 1) ch (nI j) b_toks b_reach b_go b_lab s d b_conf b_text b_lexRule b_lexLength := by
  have hg : ∀ c a, c < 257 → a < L → go c a < 257 := fun c a h1 h2 => (hgo c a h1 h2).2
  intro m
  induction m with
  | zero =>
    intro j ch d hm I
    exact br_t (nI_le (a := 257) (by omega) (by omega)) (K d (yd_end hg hC I (Or.inl (by omega))))
  | succ m ih =>
    intro j ch d hm I
    refine br_f (nI_ge (b := 257) (by omega) (by omega)) (br_c (fun z => K d (yd_end hg hC I (Or.inr z))) (fun z => ⟨258, yw_fd189 (d0 := d) hL hn hgo hs hC (fun ch' d' I' => ih (j + 1) ch' d' (by omega) ?_) 257 0 0 d rfl ⟨I.1, fun _ _ _ _ w => w, I.2.1, fun _ _ _ _ _ w => w, fun x y hx hy hp => by omega⟩⟩))
    obtain ⟨r1, r2, r3, r4, r5⟩ := I'
    refine ⟨r1, r3, fun x y hx hy sx sy ne => ?_, fun c0 x y hx hy sx sy => ?_⟩
    · by_cases e : mo_E b_lab go L j x y
      · have : ∃ a, a < L ∧ ¬ mo_E b_lab go L j (go x a) (go y a) := by
          apply Classical.byContradiction
          intro w
          apply ne
          refine ⟨e, fun a ha => ?_⟩
          apply Classical.byContradiction
          intro w2
          exact w ⟨a, ha, w2⟩
        obtain ⟨a, ha, w⟩ := this
        have q := I.2.2.1 _ _ (hg x a hx ha) (hg y a hy ha) (hC x a hx ha sx) (hC y a hy ha sy) w
        rcases r5 x y hx hy (Or.inl hx) sx sy with z | z
        · exact z
        · exact absurd q (z a ha)
      · exact r2 x y hx hy (I.2.2.1 x y hx hy sx sy e)
    · rcases r5 x y hx hy (Or.inl hx) sx sy with z | z
      · exact Or.inl z
      · exact Or.inr (fun a ha w => z a ha (r4 c0 _ _ (hg x a hx ha) (hg y a hy ha) w))
theorem yw_fd119 {J110 : Int32 → (Nat → Int32) → (Nat → Int32) → (Nat → Int32) → (Nat → Int32) → (Nat → Int32) → (Nat → Int32) → (Nat → Int32) → (Nat → Int32) → (Nat → Int32) → (Nat → Int32) → Prop} {u : Nat} (hn : n_diff = 66049) (hu : u < 257) (K : ∀ d, (∀ x y, x < u + 1 → y < 257 → gr_b01 (d (x * 257 + y)) (¬ b_lab x = b_lab y)) → J110 (nI (u + 1)) b_toks b_reach b_go b_lab b_seen d b_conf b_text b_lexRule b_lexLength) :
    ∀ (m v : Nat) (d : Nat → Int32), v + m = 257 → (∀ x y, x < 257 → y < 257 → (x < u ∨ (x = u ∧ y < v)) → gr_b01 (d (x * 257 + y)) (¬ b_lab x = b_lab y)) → wY_fillDifferences_119 post J110 (nI u) g_letters g_maxRules g_maxLeaves g_maxText g_rules g_count g_compiled g_states g_textLength g_closed g_lexemes n_diff (m + 1) (nI v) b_toks b_reach b_go b_lab b_seen d b_conf b_text b_lexRule b_lexLength := by
  intro m
  induction m with
  | zero =>
    intro v d hm h
    exact br_t (nI_le (a := 257) (by omega) (by omega)) (nm_r (nI_1 u) (K d (fun x y hx hy => h x y (by omega) hy (by omega))))
  | succ m ih =>
    intro v d hm h
    have cu : (nI u).toNatClampNeg = u := nI_clamp (by omega)
    have cv : (nI v).toNatClampNeg = v := nI_clamp (by omega)
    have iuv : (nI u * 257) + nI v = nI (u * 257 + v) := yl_i257 u v
    have cuv : (nI (u * 257 + v)).toNatClampNeg = u * 257 + v := nI_clamp (by omega)
    have hi : vp_in ((nI u * 257) + nI v) n_diff := by rw [iuv]; exact vp_in_nI (by omega) (by omega)
    have st : ∀ w : Int32, gr_b01 w (¬ b_lab u = b_lab v) → ∀ x y, x < 257 → y < 257 → (x < u ∨ (x = u ∧ y < v + 1)) → gr_b01 (upd d (u * 257 + v) w (x * 257 + y)) (¬ b_lab x = b_lab y) := by
      intro w hw x y hx hy hp
      by_cases e : x = u ∧ y = v
      · obtain ⟨e1, e2⟩ := e
        subst e1 e2
        rw [pk_us]; exact hw
      · rw [pk_un (by omega)]
        exact h x y hx hy (by omega)
    refine br_f (nI_ge (b := 257) (by omega) (by omega)) (And.intro (vp_in_nI hu (by omega)) (And.intro (vp_in_nI (by omega) (by omega)) (br_c (fun z => And.intro hi (nm_r (e' := upd d (u * 257 + v) 0) (by rw [iuv, cuv]; rfl) (nm_r (nI_1 v) (ih (v + 1) _ (by omega) (st 0 (Or.inr ⟨rfl, ?_⟩)))))) (fun z => And.intro hi (nm_r (e' := upd d (u * 257 + v) 1) (by rw [iuv, cuv]; rfl) (nm_r (nI_1 v) (ih (v + 1) _ (by omega) (st 1 (Or.inl ⟨rfl, ?_⟩)))))))))
    · rw [cu, cv] at z; exact fun w => w z
    · rw [cu, cv] at z; exact z
theorem yw_fillDifferences (hL : L ≤ 4) (hn : n_diff = 66049) (hgo : ∀ c a, c < 257 → a < L → b_go (c * 4 + a) = nI (go c a) ∧ go c a < 257)
    (K : ∀ s d, (∀ y, y < 257 → s y = 0 ∨ s y = 1) → s 0 = 1 → s 256 = 1 → yd_C go L s → (∀ x y, x < 257 → y < 257 → s x = 1 → s y = 1 → gr_b01 (d (x * 257 + y)) (¬ mo_Q b_lab go L x y)) → post (nI L, g_maxRules, g_maxLeaves, g_maxText, g_rules, g_count, g_compiled, g_states, g_textLength, g_closed, g_lexemes, b_toks, b_reach, b_go, b_lab, s, d, b_conf, b_text, b_lexRule, b_lexLength, n_diff)) : wpY_fillDifferences post (nI L, g_maxRules, g_maxLeaves, g_maxText, g_rules, g_count, g_compiled, g_states, g_textLength, g_closed, g_lexemes, b_toks, b_reach, b_go, b_lab, b_seen, b_diff, b_conf, b_text, b_lexRule, b_lexLength, n_diff) := by
  refine yw_fdSeen hL hgo (fun s h1 h2 h3 hC => ?_)
  have key : ∀ (m u : Nat) (d : Nat → Int32), u + m = 257 → (∀ x y, x < u → y < 257 → gr_b01 (d (x * 257 + y)) (¬ b_lab x = b_lab y)) → wY_fillDifferences_110 post (nI L) g_maxRules g_maxLeaves g_maxText g_rules g_count g_compiled g_states g_textLength g_closed g_lexemes n_diff (m + 1) (nI u) b_toks b_reach b_go b_lab s d b_conf b_text b_lexRule b_lexLength := by
    intro m
    induction m with
    | zero =>
      intro u d hm h
      refine br_t (nI_le (a := 257) (by omega) (by omega)) ⟨258, yw_fd174 hL hn hgo h1 hC (fun d' hd' => K s d' h1 h2 h3 hC hd') 257 0 1 d rfl ⟨fun x y hx hy => gr_b01_s (h x y (by omega) hy), fun x y hx hy w => ?_, fun x y hx hy _ _ w => ?_, fun z => absurd z (by decide)⟩⟩
      · rcases h x y (by omega) hy with z | z
        · exact fun q => z.2 (mo_Q_lab q)
        · rw [z.1] at w; exact absurd w (by decide)
      · rcases h x y (by omega) hy with z | z
        · exact z.1
        · exact absurd (fun q => w q) z.2
    | succ m ih =>
      intro u d hm h
      exact br_f (nI_ge (b := 257) (by omega) (by omega)) ⟨258, yw_fd119 hn (by omega) (fun d' hd' => ih (u + 1) d' (by omega) hd') 257 0 d rfl (fun x y hx hy hp => h x y (by omega) hy)⟩
  exact ⟨258, key 257 0 b_diff rfl (fun x y hx => by omega)⟩
end
end
section
/-! the numbering of states, as a pure function; Y: stateOf, compile -/
noncomputable def bf_1 (Q : Nat → Nat → Prop) (go : Nat → Nat → Nat) (i a : Nat) (S : Nat × (Nat → Nat)) : Nat × (Nat → Nat) :=
  @ite _ ((∃ j, j < S.1 ∧ Q (go (S.2 i) a) (S.2 j)) ∨ Q (go (S.2 i) a) 0 ∨ 256 ≤ S.1) (Classical.propDecidable _) S (S.1 + 1, fun j => if j = S.1 then go (S.2 i) a else S.2 j)
noncomputable def bf_row (Q : Nat → Nat → Prop) (go : Nat → Nat → Nat) (i : Nat) : Nat → Nat → Nat × (Nat → Nat) → Nat × (Nat → Nat)
  | 0, _, S => S
  | n + 1, a, S => bf_row Q go i n (a + 1) (bf_1 Q go i a S)
noncomputable def bf_go (Q : Nat → Nat → Prop) (go : Nat → Nat → Nat) (L : Nat) : Nat → Nat → Nat × (Nat → Nat) → Nat × (Nat → Nat)
  | 0, _, S => S
  | n + 1, i, S => if i < S.1 then bf_go Q go L n (i + 1) (bf_row Q go i L 0 S) else S
theorem bf_1y {Q : Nat → Nat → Prop} {go : Nat → Nat → Nat} {i a : Nat} {S : Nat × (Nat → Nat)} (h : (∃ j, j < S.1 ∧ Q (go (S.2 i) a) (S.2 j)) ∨ Q (go (S.2 i) a) 0 ∨ 256 ≤ S.1) : bf_1 Q go i a S = S := if_pos h
theorem bf_1n {Q : Nat → Nat → Prop} {go : Nat → Nat → Nat} {i a : Nat} {S : Nat × (Nat → Nat)} (h : ¬ ((∃ j, j < S.1 ∧ Q (go (S.2 i) a) (S.2 j)) ∨ Q (go (S.2 i) a) 0 ∨ 256 ≤ S.1)) : bf_1 Q go i a S = (S.1 + 1, fun j => if j = S.1 then go (S.2 i) a else S.2 j) := if_neg h
/-- what Y keeps of the numbering: numbers of seen situations -/
def yb_I (s : Nat → Int32) (S : Nat × (Nat → Nat)) (cf : Nat → Int32) : Prop := 1 ≤ S.1 ∧ S.1 ≤ 256 ∧ (∀ j, j < S.1 → cf j = nI (S.2 j) ∧ S.2 j < 257 ∧ s (S.2 j) = 1)
section
variable {g_letters g_maxRules g_maxLeaves g_maxText g_rules g_count g_compiled g_states g_textLength g_closed g_lexemes : Int32} {b_toks b_reach b_go b_lab b_seen b_diff b_conf b_text b_lexRule b_lexLength : Nat → Int32} {n_diff : Nat} {go : Nat → Nat → Nat} {L : Nat} {S : Nat × (Nat → Nat)} {lab : Nat → Int32}
/-- the tables of a compiled reference -/
def yc_T (go : Nat → Nat → Nat) (L : Nat) (bgo lab s d : Nat → Int32) (nd : Nat) : Prop :=
  (∀ c a, c < 257 → a < L → bgo (c * 4 + a) = nI (go c a) ∧ go c a < 257) ∧ s 0 = 1 ∧ s 256 = 1 ∧ yd_C go L s ∧ (∀ x y, x < 257 → y < 257 → s x = 1 → s y = 1 → gr_b01 (d (x * 257 + y)) (¬ mo_Q lab go L x y)) ∧ nd = 66049
theorem yw_stateOf {post : Int32 → Prop} {c : Nat} (Tt : yc_T go L b_go lab b_seen b_diff n_diff) (I : yb_I b_seen S b_conf) (hc : c < 257) (sc : b_seen c = 1)
    (K1 : ∀ j, j < S.1 → mo_Q lab go L c (S.2 j) → post (nI j)) (K2 : (∀ j, j < S.1 → ¬ mo_Q lab go L c (S.2 j)) → post (-1)) : wpY_stateOf post (g_letters, g_maxRules, g_maxLeaves, g_maxText, g_rules, g_count, g_compiled, nI S.1, g_textLength, g_closed, g_lexemes, b_toks, b_reach, b_go, b_lab, b_seen, b_diff, b_conf, b_text, b_lexRule, b_lexLength, n_diff) (nI c) := by
  have key : ∀ (m j : Nat), j + m = S.1 → (∀ j', j' < j → ¬ mo_Q lab go L c (S.2 j')) → wY_stateOf_2 post (nI c) g_letters g_maxRules g_maxLeaves g_maxText g_rules g_count g_compiled (nI S.1) g_textLength g_closed g_lexemes b_toks b_reach b_go b_lab b_seen b_diff b_conf b_text b_lexRule b_lexLength n_diff (m + 1) (nI j) := by
    intro m
    induction m with
    | zero =>
      intro j hm h
      have h256 := I.2.1
      exact br_t (nI_le (by omega) (by omega)) (K2 (fun j' hj' => h j' (by omega)))
    | succ m ih =>
      intro j hm h
      have h256 := I.2.1
      have q := I.2.2 j (by omega)
      have cj : b_conf (nI j).toNatClampNeg = nI (S.2 j) := by rw [nI_clamp (by omega)]; exact q.1
      have ix : (nI c * 257) + b_conf (nI j).toNatClampNeg = nI (c * 257 + S.2 j) := by rw [cj]; exact yl_i257 _ _
      have cx : (nI (c * 257 + S.2 j)).toNatClampNeg = c * 257 + S.2 j := nI_clamp (by omega)
      have b := Tt.2.2.2.2.1 c (S.2 j) hc q.2.1 sc q.2.2
      have hn := Tt.2.2.2.2.2
      refine br_f (nI_ge (by omega) (by omega)) (And.intro (vp_in_nI (by omega) (by omega)) (And.intro (by rw [ix]; exact vp_in_nI (by omega) (by omega)) (br_c (fun z => K1 j (by omega) ?_) (fun z => nm_r (nI_1 j) (ih (j + 1) (by omega) (fun j' hj' => ?_))))))
      · rw [ix, cx] at z
        exact Classical.byContradiction (gr_b01_0 b |>.mp z)
      · rw [ix, cx] at z
        by_cases e : j' = j
        · subst e
          rcases b with w | w
          · exact w.2
          · exact absurd w.1 z
        · exact h j' (by omega)
  exact ⟨S.1 + 1, key S.1 0 (by omega) (fun j' h => by omega)⟩
theorem yw_cp75 {post : Int32 → SY → Prop} {J58 : Int32 → Int32 → (Nat → Int32) → (Nat → Int32) → (Nat → Int32) → (Nat → Int32) → (Nat → Int32) → (Nat → Int32) → (Nat → Int32) → (Nat → Int32) → (Nat → Int32) → (Nat → Int32) → Prop} {i : Nat} (hL : L ≤ 4) (Tt : yc_T go L b_go lab b_seen b_diff n_diff) (hi : i < 256) :
    ∀ (m a : Nat) (S : Nat × (Nat → Nat)) (cf : Nat → Int32), a + m = L → yb_I b_seen S cf → i < S.1 →
    (∀ cf', yb_I b_seen (bf_row (mo_Q lab go L) go i m a S) cf' → J58 (nI (i + 1)) (nI (bf_row (mo_Q lab go L) go i m a S).1) b_toks b_reach b_go b_lab b_seen b_diff cf' b_text b_lexRule b_lexLength) →
    wY_compile_75 post J58 (nI i) (nI L) g_maxRules g_maxLeaves g_maxText g_rules g_count g_compiled g_textLength g_closed g_lexemes n_diff (m + 1) (nI a) (nI S.1) b_toks b_reach b_go b_lab b_seen b_diff cf b_text b_lexRule b_lexLength := by
  intro m
  induction m with
  | zero =>
    intro a S cf hm I hiS K
    exact br_t (nI_le (by omega) (by omega)) (nm_r (nI_1 i) (K cf I))
  | succ m ih =>
    intro a S cf hm I hiS K
    have q := I.2.2 i hiS
    have h256 := I.2.1
    have g := Tt.1 (S.2 i) a q.2.1 (by omega)
    have sg := Tt.2.2.2.1 (S.2 i) a q.2.1 (by omega) q.2.2
    have hn := Tt.2.2.2.2.2
    have ci : cf (nI i).toNatClampNeg = nI (S.2 i) := by rw [nI_clamp (by omega)]; exact q.1
    have ix : (cf (nI i).toNatClampNeg * 4) + nI a = nI (S.2 i * 4 + a) := by rw [ci]; exact yl_i4 _ _
    have eg : b_go ((cf (nI i).toNatClampNeg * 4) + nI a).toNatClampNeg = nI (go (S.2 i) a) := by rw [ix, nI_clamp (by omega)]; exact g.1
    have i0 : nI (go (S.2 i) a) * 257 = nI (go (S.2 i) a * 257 + 0) := by
      rw [show (257 : Int32) = nI 257 from rfl, pk_mul]; rfl
    have c0 : (nI (go (S.2 i) a * 257 + 0)).toNatClampNeg = go (S.2 i) a * 257 + 0 := nI_clamp (by omega)
    have b0 := Tt.2.2.2.2.1 (go (S.2 i) a) 0 g.2 (by omega) sg Tt.2.1
    have stay : ((∃ j, j < S.1 ∧ mo_Q lab go L (go (S.2 i) a) (S.2 j)) ∨ mo_Q lab go L (go (S.2 i) a) 0 ∨ 256 ≤ S.1) → wY_compile_75 post J58 (nI i) (nI L) g_maxRules g_maxLeaves g_maxText g_rules g_count g_compiled g_textLength g_closed g_lexemes n_diff (m + 1) (nI (a + 1)) (nI S.1) b_toks b_reach b_go b_lab b_seen b_diff cf b_text b_lexRule b_lexLength := by
      intro h
      refine ih (a + 1) S cf (by omega) I hiS (fun cf' I' => ?_)
      have e : bf_row (mo_Q lab go L) go i (m + 1) a S = bf_row (mo_Q lab go L) go i m (a + 1) (bf_1 (mo_Q lab go L) go i a S) := rfl
      rw [bf_1y h] at e
      rw [e] at K
      exact K cf' I'
    refine br_f (nI_ge (by omega) (by omega)) (And.intro (vp_in_nI (by omega) (by omega)) (And.intro (by rw [ix]; exact vp_in_nI (by omega) (by omega)) (nm_r eg ?_)))
    refine yw_stateOf (S := S) Tt I g.2 sg (fun j hj hq => br_f (yl_m1ne j (by omega)) (nm_r (nI_1 a) (stay (Or.inl ⟨j, hj, hq⟩)))) (fun nk => br_t rfl (And.intro (by rw [i0]; exact vp_in_nI (by omega) (by omega)) (br_c (fun z => nm_r (nI_1 a) (stay (Or.inr (Or.inl ?_)))) (fun z => ?_))))
    · rw [i0, c0] at z
      exact Classical.byContradiction (gr_b01_0 b0 |>.mp z)
    · rw [i0, c0] at z
      have n0 : ¬ mo_Q lab go L (go (S.2 i) a) 0 := by
        rcases b0 with w | w
        · exact w.2
        · exact absurd w.1 z
      refine pk_le 256 S.1 (fun e => nm_r (nI_1 a) (stay (Or.inr (Or.inr e)))) (fun e => And.intro (vp_in_nI e (by omega)) (nm_r (e' := upd cf S.1 (nI (go (S.2 i) a))) (by rw [nI_clamp (by omega)]) (nm_r (nI_1 S.1) (nm_r (nI_1 a) ?_))))
      have en : bf_1 (mo_Q lab go L) go i a S = (S.1 + 1, fun j => if j = S.1 then go (S.2 i) a else S.2 j) := bf_1n (by
        rintro (⟨j, hj, hq⟩ | w | w)
        · exact nk j hj hq
        · exact n0 w
        · omega)
      have er : bf_row (mo_Q lab go L) go i (m + 1) a S = bf_row (mo_Q lab go L) go i m (a + 1) (S.1 + 1, fun j => if j = S.1 then go (S.2 i) a else S.2 j) := by rw [← en]; rfl
      rw [er] at K
      refine ih (a + 1) (S.1 + 1, fun j => if j = S.1 then go (S.2 i) a else S.2 j) _ (by omega) ⟨by show 1 ≤ S.1 + 1; omega, by show S.1 + 1 ≤ 256; omega, fun j hj => ?_⟩ (by show i < S.1 + 1; omega) K
      have hj : j < S.1 + 1 := hj
      by_cases ej : j = S.1
      · subst ej
        dsimp only
        rw [pk_us, if_pos rfl]
        exact ⟨rfl, g.2, sg⟩
      · dsimp only
        rw [pk_un ej, if_neg ej]
        exact I.2.2 j (by omega)
theorem yw_cp58 {post : Int32 → SY → Prop} (hL : L ≤ 4) (Tt : yc_T go L b_go lab b_seen b_diff n_diff) :
    ∀ (m i : Nat) (S : Nat × (Nat → Nat)) (cf : Nat → Int32), i + m = 256 → yb_I b_seen S cf →
    (∀ cf', yb_I b_seen (bf_go (mo_Q lab go L) go L m i S) cf' → post (nI (bf_go (mo_Q lab go L) go L m i S).1) (nI L, g_maxRules, g_maxLeaves, g_maxText, g_rules, g_count, 1, nI (bf_go (mo_Q lab go L) go L m i S).1, 0, 0, 0, b_toks, b_reach, b_go, b_lab, b_seen, b_diff, cf', b_text, b_lexRule, b_lexLength, n_diff)) →
    wY_compile_58 post (nI L) g_maxRules g_maxLeaves g_maxText g_rules g_count g_compiled g_textLength g_closed g_lexemes n_diff (m + 1) (nI i) (nI S.1) b_toks b_reach b_go b_lab b_seen b_diff cf b_text b_lexRule b_lexLength := by
  intro m
  induction m with
  | zero =>
    intro i S cf hm I K
    have h256 := I.2.1
    have r : wY_compile_167 post (nI L) g_maxRules g_maxLeaves g_maxText g_rules g_count g_compiled (nI S.1) g_textLength g_closed g_lexemes b_toks b_reach b_go b_lab b_seen b_diff cf b_text b_lexRule b_lexLength n_diff := br_f (by decide) (K cf I)
    exact br_t (nI_le (by omega) (by omega)) r
  | succ m ih =>
    intro i S cf hm I K
    have h256 := I.2.1
    have e : bf_go (mo_Q lab go L) go L (m + 1) i S = if i < S.1 then bf_go (mo_Q lab go L) go L m (i + 1) (bf_row (mo_Q lab go L) go i L 0 S) else S := rfl
    refine pk_le S.1 i (fun z => ?_) (fun z => br_f (nI_ge (b := 256) (by omega) (by omega)) ⟨L + 1, ?_⟩)
    · rw [if_neg (by omega)] at e
      rw [e] at K
      exact br_f (by decide) (K cf I)
    · rw [if_pos z] at e
      rw [e] at K
      exact yw_cp75 hL Tt (by omega) L 0 S cf (by omega) I z (fun cf' I' => ih (i + 1) _ cf' (by omega) I' K)
end
end
section
/-! the automaton of the tokens: moves, labels; every set that is reached is live -/
theorem bv_ex (P : Nat → Prop) : ∃ v, v < 256 ∧ gr_gs (nI v) (fun k => k < 8 ∧ P k) := by
  have key : ∀ n, n ≤ 8 → ∃ x, gr_gs x (fun k => k < n ∧ P k) := by
    intro n
    induction n with
    | zero => intro _; exact ⟨0, gr_gs_0 (fun k z => by omega)⟩
    | succ n ih =>
      intro hn
      obtain ⟨x, hx⟩ := ih (by omega)
      by_cases c : P n
      · refine ⟨x ||| ((1 : Int32) <<< (nI n &&& 31)), gr_gs_c (gr_gs_or hx (xl_one (k := n) (by omega))) (fun k => ?_)⟩
        constructor
        · rintro (z | z)
          · exact ⟨by omega, z.2⟩
          · subst z; exact ⟨by omega, c⟩
        · rintro ⟨z1, z2⟩
          by_cases e : k = n
          · exact Or.inr e.symm
          · exact Or.inl ⟨by omega, z2⟩
      · refine ⟨x, gr_gs_c hx (fun k => ⟨fun z => ⟨by omega, z.2⟩, fun z => ⟨?_, z.2⟩⟩)⟩
        by_cases e : k = n
        · subst e; exact absurd z.2 c
        · omega
  obtain ⟨x, hx⟩ := key 8 (Nat.le_refl _)
  obtain ⟨v, v1, v2⟩ := gr_gs8 hx (fun k z => z.1)
  exact ⟨v, v1, by rw [← v2]; exact hx⟩
theorem lb_ex (P : Nat → Prop) (R : Nat) : ∃ x, lb_T P 0 R x := by
  have key : ∀ m, m ≤ R → ∃ x, lb_T P (R - m) R x := by
    intro m
    induction m with
    | zero => intro _; exact ⟨0, lb_e (by omega)⟩
    | succ m ih =>
      intro hm
      obtain ⟨x, hx⟩ := ih (by omega)
      rw [show R - m = (R - (m + 1)) + 1 by omega] at hx
      by_cases c : P (R - (m + 1))
      · exact ⟨_, lb_y (by omega) c⟩
      · exact ⟨x, lb_n c hx⟩
  have := key R (Nat.le_refl _)
  rw [Nat.sub_self] at this
  exact this
noncomputable def sg_go (t : Nat → Nat) (R c a : Nat) : Nat := Classical.choose (bv_ex (sg_G t R c a))
noncomputable def sg_lab (t : Nat → Nat) (R c : Nat) : Int32 := Classical.choose (lb_ex (sg_P t c) R)
theorem sg_labT (t : Nat → Nat) (R c : Nat) : lb_T (sg_P t c) 0 R (sg_lab t R c) := Classical.choose_spec (lb_ex (sg_P t c) R)
theorem sg_go_lt (t : Nat → Nat) (R c a : Nat) : sg_go t R c a < 256 := (Classical.choose_spec (bv_ex (sg_G t R c a))).1
section
variable {t : Nat → Nat} {R L : Nat}
theorem sg_G8 (h8 : ∀ p, gr_Lf t p → lf_c t p < 8) {c a k : Nat} (h : sg_G t R c a k) : k < 8 := by
  obtain ⟨⟨p, _, p2, p3, _⟩, _⟩ := h
  rw [← p3]; exact h8 p p2
theorem sg_goS (h8 : ∀ p, gr_Lf t p → lf_c t p < 8) (c a : Nat) : gr_gs (nI (sg_go t R c a)) (sg_G t R c a) :=
  gr_gs_c (Classical.choose_spec (bv_ex (sg_G t R c a))).2 (fun k => ⟨fun z => z.2, fun z => ⟨sg_G8 h8 z, z⟩⟩)
theorem gs_nz {v : Nat} {P : Nat → Prop} (hv : v < 256) (h : gr_gs (nI v) P) : v = 0 ↔ ∀ k, ¬ P k := by
  constructor
  · intro e k z
    have := (h k).mpr z
    rw [e, nI_0, b_0] at this
    exact absurd this (by decide)
  · intro hn
    have : nI v = 0 := gr_gs_u h (gr_gs_0 hn)
    rw [← nI_0, nI_eq (by omega) (by omega)] at this
    exact this
theorem sg_go0 (h8 : ∀ p, gr_Lf t p → lf_c t p < 8) (a : Nat) : sg_go t R 0 a = 0 := by
  refine (gs_nz (sg_go_lt t R 0 a) (sg_goS h8 0 a)).mpr ?_
  rintro k ⟨_, z | ⟨_, p, _, p2, _⟩⟩
  · omega
  · rw [nI_0, b_0] at p2; exact absurd p2 (by decide)
theorem sg_lab0 : sg_lab t R 0 = 0 := by
  have := sg_labT t R 0
  rcases this with z | ⟨r, _, _, _, z, _⟩
  · exact z.1
  · rcases z with ⟨_, k, k1, _⟩ | z
    · rw [nI_0, b_0] at k1; exact absurd k1 (by decide)
    · omega
theorem sg_labne {c r : Nat} (hR : R ≤ 6) (hr : r < R) (h : sg_P t c r) : ¬ sg_lab t R c = 0 := by
  intro e
  have := sg_labT t R c
  rw [e] at this
  rcases this with z | ⟨r', _, a, b, _⟩
  · exact z.2 r (Nat.zero_le _) hr h
  · rw [← nI_0, nI_eq (by omega) (by omega)] at b
    omega
theorem bt_ex : ∀ v, v < 16 → v ≠ 0 → ∀ L, L ≤ 4 → v < 2 ^ L → ∃ a, a < L ∧ bt (nI v) a = true := by
  have key : ∀ L, L < 5 → ∀ v, v < 16 → v ≠ 0 → v < 2 ^ L → (List.range L).any (fun a => bt (nI v) a) = true := by decide
  intro v hv h0 L hL h
  have := key L (by omega) v hv h0 h
  rw [List.any_eq_true] at this
  obtain ⟨a, a1, a2⟩ := this
  exact ⟨a, List.mem_range.mp a1, a2⟩
/-- a leaf from which the end of its rule can be read -/
def sg_A (t : Nat → Nat) (R L q : Nat) : Prop := ∀ c, c < 256 → bt (nI c) (lf_c t q) = true → ¬ mo_Q (sg_lab t R) (sg_go t R) L c 0
theorem sg_claim {r m : Nat} (hR : R ≤ 6) (hL : L ≤ 4) (hr : r < R) (h8 : ∀ p, gr_Lf t p → lf_c t p < 8) (hm : ∀ p, gr_Lf t p → t p < 2 ^ L) (F : rw_F t (1 + 25 * r) m) :
    ∀ d g, 1 + 25 * r ≤ g → g + d = 1 + 25 * r + m → gr_R (rs_M t (1 + 25 * r) (1 + 25 * r + m)) (1 + 25 * r) (1 + 25 * r + m) g (1 + 25 * r + m) ∨ ∃ q, 1 + 25 * r ≤ q ∧ q < 1 + 25 * r + m ∧ gr_Lf t q ∧ gr_R (rs_M t (1 + 25 * r) (1 + 25 * r + m)) (1 + 25 * r) (1 + 25 * r + m) g q ∧ sg_A t R L q := by
  have H := (rw_H F).1
  have m24 := F.1.2.1
  intro d
  induction d using Nat.strongRecOn with
  | ind d ih =>
    intro g hg hd
    by_cases e0 : d = 0
    · have : g = 1 + 25 * r + m := by omega
      rw [this]; exact Or.inl gr_R0
    have tv := H.2.2.1 g hg (by omega)
    have comp : ∀ h, g < h → h ≤ 1 + 25 * r + m → gr_R (rs_M t (1 + 25 * r) (1 + 25 * r + m)) (1 + 25 * r) (1 + 25 * r + m) g h → gr_R (rs_M t (1 + 25 * r) (1 + 25 * r + m)) (1 + 25 * r) (1 + 25 * r + m) g (1 + 25 * r + m) ∨ ∃ q, 1 + 25 * r ≤ q ∧ q < 1 + 25 * r + m ∧ gr_Lf t q ∧ gr_R (rs_M t (1 + 25 * r) (1 + 25 * r + m)) (1 + 25 * r) (1 + 25 * r + m) g q ∧ sg_A t R L q := by
      intro h h1 h2 h3
      rcases ih (1 + 25 * r + m - h) (by omega) h (by omega) (by omega) with z | ⟨q, q1, q2, q3, q4, q5⟩
      · exact Or.inl (gr_Rt h3 z)
      · exact Or.inr ⟨q, q1, q2, q3, gr_Rt h3 q4, q5⟩
    by_cases c18 : t g = 18
    · have q := gr_eR_bar H hg (by omega) c18
      exact comp _ q.1 q.2.1 (gr_R1 gr_R0 hg (by omega) (by have := q.1; omega) q.2.1 (Or.inr (Or.inl ⟨c18, q⟩)))
    by_cases c16 : 16 ≤ t g
    · exact comp (g + 1) (by omega) (by omega) (gr_R1 gr_R0 hg (by omega) (by omega) (by omega) (Or.inl ⟨c16, c18, rfl⟩))
    have lg : gr_Lf t g := ⟨tv.1, by omega⟩
    refine Or.inr ⟨g, hg, by omega, lg, gr_R0, ?_⟩
    intro c hc hb hq
    rcases ih (d - 1) (by omega) (g + 1) (by omega) (by omega) with z | ⟨q, q1, q2, q3, q4, q5⟩
    · have pl : sp_L t r (lf_c t g) := (sp_Li F _).mpr ⟨g, hg, by omega, lg, rfl, z⟩
      have := mo_Q_lab hq
      rw [sg_lab0] at this
      exact sg_labne hR hr (Or.inl ⟨hc, _, hb, pl⟩) this
    · obtain ⟨a, a1, a2⟩ := bt_ex (t q) q3.2 (by have := q3.1; omega) L hL (hm q q3)
      have po : sp_O t g (lf_c t q) := (sp_Oi F hg (by omega) _).mpr ⟨q, q1, q2, q3, rfl, q4⟩
      have gg : sg_G t R c a (lf_c t q) := ⟨⟨q, by omega, q3, rfl, a2⟩, Or.inr ⟨hc, g, lg, hb, po⟩⟩
      have b := (sg_goS h8 c a _).mpr gg
      have q6 := mo_Q_go hq a1
      rw [sg_go0 h8] at q6
      exact q5 _ (sg_go_lt t R c a) b q6
theorem sg_leafA (hR : R ≤ 6) (hL : L ≤ 4) (h0 : t 0 = 0) (h8 : ∀ p, gr_Lf t p → lf_c t p < 8) (hm : ∀ p, gr_Lf t p → t p < 2 ^ L) (hF : ∀ r, r < R → ∃ m, rw_F t (1 + 25 * r) m) (hz : ∀ p, 1 + 25 * R ≤ p → t p = 0) {p : Nat} (hp : gr_Lf t p) : sg_A t R L p := by
  have pR : p < 1 + 25 * R := by
    rcases Nat.lt_or_ge p (1 + 25 * R) with z | z
    · exact z
    · have := hp.1; rw [hz p z] at this; omega
  obtain ⟨l1, l2, l3⟩ := rw_loc hF h0 hp pR
  obtain ⟨m, F⟩ := hF _ l1
  have ln := l3 m F
  rcases sg_claim hR hL l1 h8 hm F (1 + 25 * ((p - 1) / 25) + m - (p + 1)) (p + 1) (by omega) (by omega) with z | ⟨q, q1, q2, q3, q4, q5⟩
  · intro c hc hb hq
    have pl : sp_L t ((p - 1) / 25) (lf_c t p) := (sp_Li F _).mpr ⟨p, l2, ln, hp, rfl, z⟩
    have := mo_Q_lab hq
    rw [sg_lab0] at this
    exact sg_labne hR l1 (Or.inl ⟨hc, _, hb, pl⟩) this
  · intro c hc hb hq
    obtain ⟨a, a1, a2⟩ := bt_ex (t q) q3.2 (by have := q3.1; omega) L hL (hm q q3)
    have m24 := F.1.2.1
    have po : sp_O t p (lf_c t q) := (sp_Oi F l2 ln _).mpr ⟨q, q1, q2, q3, rfl, q4⟩
    have gg : sg_G t R c a (lf_c t q) := ⟨⟨q, by omega, q3, rfl, a2⟩, Or.inr ⟨hc, p, hp, hb, po⟩⟩
    have b := (sg_goS h8 c a _).mpr gg
    have q6 := mo_Q_go hq a1
    rw [sg_go0 h8] at q6
    exact q5 _ (sg_go_lt t R c a) b q6
/-- a set that is reached and not empty is live -/
theorem sg_live (hR : R ≤ 6) (hL : L ≤ 4) (h0 : t 0 = 0) (h8 : ∀ p, gr_Lf t p → lf_c t p < 8) (hm : ∀ p, gr_Lf t p → t p < 2 ^ L) (hF : ∀ r, r < R → ∃ m, rw_F t (1 + 25 * r) m) (hz : ∀ p, 1 + 25 * R ≤ p → t p = 0) (c a : Nat) : sg_go t R c a = 0 ↔ mo_Q (sg_lab t R) (sg_go t R) L (sg_go t R c a) 0 := by
  constructor
  · intro e; rw [e]; exact mo_Q_refl 0
  · intro hq
    apply Classical.byContradiction
    intro ne
    have s := sg_goS (R := R) h8 c a
    have : ∃ k, sg_G t R c a k := by
      apply Classical.byContradiction
      intro w
      exact ne ((gs_nz (sg_go_lt t R c a) s).mpr (fun k z => w ⟨k, z⟩))
    obtain ⟨k, hk⟩ := this
    have hb := (s k).mpr hk
    obtain ⟨⟨p, p1, p2, p3, p4⟩, _⟩ := hk
    rw [← p3] at hb
    exact sg_leafA hR hL h0 h8 hm hF hz p2 _ (sg_go_lt t R c a) hb hq
theorem sg_liveS (hR : R ≤ 6) (hR0 : 0 < R) (hL : L ≤ 4) (h0 : t 0 = 0) (h8 : ∀ p, gr_Lf t p → lf_c t p < 8) (hm : ∀ p, gr_Lf t p → t p < 2 ^ L) (hF : ∀ r, r < R → ∃ m, rw_F t (1 + 25 * r) m) (hz : ∀ p, 1 + 25 * R ≤ p → t p = 0) : ¬ mo_Q (sg_lab t R) (sg_go t R) L 256 0 := by
  intro hq
  obtain ⟨m, F⟩ := hF 0 hR0
  have m24 := F.1.2.1
  have st : gr_St t (rw_D t (1 + 25 * 0)) (1 + 25 * 0) 0 (1 + 25 * 0) := Or.inl rfl
  rcases sg_claim hR hL hR0 h8 hm F m (1 + 25 * 0) (by omega) (by omega) with z | ⟨q, q1, q2, q3, q4, q5⟩
  · have pn : sp_N t 0 := (sp_Ni F).mpr ⟨_, st, by omega, z⟩
    have := mo_Q_lab hq
    rw [sg_lab0] at this
    exact sg_labne hR hR0 (Or.inr ⟨rfl, pn⟩) this
  · obtain ⟨a, a1, a2⟩ := bt_ex (t q) q3.2 (by have := q3.1; omega) L hL (hm q q3)
    have pf : sp_F t 0 (lf_c t q) := (sp_Fi F _).mpr ⟨q, q1, q2, q3, rfl, _, st, by omega, q4⟩
    have gg : sg_G t R 256 a (lf_c t q) := ⟨⟨q, by omega, q3, rfl, a2⟩, Or.inl ⟨rfl, 0, hR0, pf⟩⟩
    have b := (sg_goS h8 256 a _).mpr gg
    have q6 := mo_Q_go hq a1
    rw [sg_go0 h8] at q6
    exact q5 _ (sg_go_lt t R 256 a) b q6
end
theorem mo_ag {lab lab' : Nat → Int32} {go : Nat → Nat → Nat} {L N : Nat} (hl : ∀ c, c < N → lab' c = lab c) (hg : ∀ c a, c < N → a < L → go c a < N) : ∀ j u v, u < N → v < N → (mo_E lab go L j u v ↔ mo_E lab' go L j u v) := by
  intro j
  induction j with
  | zero =>
    intro u v hu hv
    show lab u = lab v ↔ lab' u = lab' v
    rw [hl u hu, hl v hv]
  | succ j ih =>
    intro u v hu hv
    show (mo_E lab go L j u v ∧ ∀ a, a < L → mo_E lab go L j (go u a) (go v a)) ↔ (mo_E lab' go L j u v ∧ ∀ a, a < L → mo_E lab' go L j (go u a) (go v a))
    constructor
    · rintro ⟨h1, h2⟩; exact ⟨(ih u v hu hv).mp h1, fun a ha => (ih _ _ (hg u a hu ha) (hg v a hv ha)).mp (h2 a ha)⟩
    · rintro ⟨h1, h2⟩; exact ⟨(ih u v hu hv).mpr h1, fun a ha => (ih _ _ (hg u a hu ha) (hg v a hv ha)).mpr (h2 a ha)⟩
theorem mo_Qag {lab lab' : Nat → Int32} {go : Nat → Nat → Nat} {L N : Nat} (hl : ∀ c, c < N → lab' c = lab c) (hg : ∀ c a, c < N → a < L → go c a < N) {u v : Nat} (hu : u < N) (hv : v < N) : mo_Q lab go L u v ↔ mo_Q lab' go L u v :=
  ⟨fun h j => (mo_ag hl hg j u v hu hv).mp (h j), fun h j => (mo_ag hl hg j u v hu hv).mpr (h j)⟩
section
variable {g_letters g_maxRules g_maxLeaves g_maxText g_rules g_count g_compiled g_states g_textLength g_closed g_lexemes : Int32} {b_toks b_reach b_go b_lab b_seen b_diff b_conf b_text b_lexRule b_lexLength : Nat → Int32} {n_diff : Nat} {t : Nat → Nat} {R L : Nat} {post : Int32 → SY → Prop}
/-- the numbering that both sides find -/
noncomputable def sg_S (t : Nat → Nat) (R L : Nat) : Nat × (Nat → Nat) := bf_go (mo_Q (sg_lab t R) (sg_go t R) L) (sg_go t R) L 256 0 (1, fun _ => 256)
/-- Y's tables after compile -/
def yc_A (t : Nat → Nat) (R L : Nat) (bgo blab s d cf : Nat → Int32) (nd : Nat) : Prop :=
  yc_T (sg_go t R) L bgo (sg_lab t R) s d nd ∧ (∀ c, c < 257 → blab c = sg_lab t R c) ∧ yb_I s (sg_S t R L) cf
theorem yw_compile (hL : L ≤ 4) (hn : n_diff = 66049) (hT : ∀ p, b_toks p = nI (t p)) (ht : ∀ p, t p < 100) (h0 : t 0 = 0) (hR : R ≤ 6) (hR0 : 0 < R) (h8 : ∀ p, gr_Lf t p → lf_c t p < 8) (hF : ∀ r, r < R → ∃ m, rw_F t (1 + 25 * r) m) (hz : ∀ p, 1 + 25 * R ≤ p → t p = 0)
    (K : ∀ rch bgo blab s d cf, yc_A t R L bgo blab s d cf n_diff → post (nI (sg_S t R L).1) (nI L, g_maxRules, g_maxLeaves, g_maxText, nI R, 0, 1, nI (sg_S t R L).1, 0, 0, 0, b_toks, rch, bgo, blab, s, d, cf, b_text, b_lexRule, b_lexLength, n_diff)) :
    wpY_compile post (nI L, g_maxRules, g_maxLeaves, g_maxText, nI R, 0, 0, g_states, g_textLength, g_closed, g_lexemes, b_toks, b_reach, b_go, b_lab, b_seen, b_diff, b_conf, b_text, b_lexRule, b_lexLength, n_diff) := by
  refine br_t rfl (br_t (by decide) (br_f (nI_ne0 hR0 (by omega)) (yw_fillLabels hT ht h0 hR h8 hF (fun blab r1 hlab => yw_fillMoves hL hT ht h0 hR h8 hF hz (fun bgo r2 hgo => ?_)))))
  have hgo' : ∀ c a, c < 257 → a < L → bgo (c * 4 + a) = nI (sg_go t R c a) ∧ sg_go t R c a < 257 := fun c a hc ha => ⟨gr_gs_u (hgo c a (by omega) ha) (sg_goS h8 c a), by have := sg_go_lt t R c a; omega⟩
  have hlab' : ∀ c, c < 257 → blab c = sg_lab t R c := fun c hc => lb_u (hlab c hc) (sg_labT t R c)
  refine yw_fillDifferences hL hn hgo' (fun s d h1 h2 h3 hC hd => nm_r (e' := upd b_conf 0 (nI 256)) rfl ?_)
  have hg2 : ∀ c a, c < 257 → a < L → sg_go t R c a < 257 := fun c a h1 h2 => (hgo' c a h1 h2).2
  have Tt : yc_T (sg_go t R) L bgo (sg_lab t R) s d n_diff := ⟨hgo', h2, h3, hC, fun x y hx hy sx sy => gr_b01_c (hd x y hx hy sx sy) (not_congr (mo_Qag hlab' hg2 hx hy).symm), hn⟩
  refine ⟨257, yw_cp58 (lab := sg_lab t R) hL Tt 256 0 (1, fun _ => 256) _ rfl ⟨Nat.le_refl _, by show 1 ≤ 256; omega, fun j hj => ?_⟩ (fun cf' I' => K _ bgo blab s d cf' ⟨Tt, hlab', I'⟩)⟩
  have hj : j < 1 := hj
  have : j = 0 := by omega
  subst this
  exact ⟨pk_us, by show 256 < 257; omega, h3⟩
end
end
section
/-! X: letters, labels, candidates, raw states -/
/-- what X holds of the finished rules -/
def xr_A (t : Nat → Nat) (R : Nat) (masks follow rN rF rL : Nat → Int32) : Prop :=
  (∀ p, gr_Lf t p → masks (lf_c t p) = nI (t p)) ∧ (∀ p, gr_Lf t p → p < 1 + 25 * R → gr_gs (follow (lf_c t p)) (sp_O t p)) ∧
  ∀ r, r < R → gr_b01 (rN (r + 1)) (sp_N t r) ∧ gr_gs (rF (r + 1)) (sp_F t r) ∧ gr_gs (rL (r + 1)) (sp_L t r)
section
variable {f_letters f_maxRules f_maxLeaves f_maxText f_tokenCount f_depth f_leafCount f_finishedLeaves f_ruleCount f_rawCount f_stateTotal f_aliveRules f_compiled f_textLength f_closed f_lexCount f_position : Int32} {a_tokens a_masks a_follow a_ruleNull a_ruleFirst a_ruleLast a_altNull a_altFirst a_altLast a_catNull a_catFirst a_catLast a_atomNull a_atomFirst a_atomLast a_rawSet a_rawOfSet a_rawDelta a_rawLabel a_letterLeaves a_classOf a_nextClass a_classRep a_slotClass a_numberOf a_queue a_delta a_stateLabel a_extendable a_text a_lexRule a_lexLength a_trail : Nat → Int32} {a_slotKey a_failed : Nat → Int64} {t : Nat → Nat} {R L : Nat}
theorem xw_startLabel {post : Int32 → Prop} (hR : R ≤ 6) (A : xr_A t R a_masks a_follow a_ruleNull a_ruleFirst a_ruleLast) (h : post (sg_lab t R 256)) : wpX_startLabel post (f_letters, f_maxRules, f_maxLeaves, f_maxText, f_tokenCount, f_depth, f_leafCount, f_finishedLeaves, nI R, f_rawCount, f_stateTotal, f_aliveRules, f_compiled, f_textLength, f_closed, f_lexCount, f_position, a_tokens, a_masks, a_follow, a_ruleNull, a_ruleFirst, a_ruleLast, a_altNull, a_altFirst, a_altLast, a_catNull, a_catFirst, a_catLast, a_atomNull, a_atomFirst, a_atomLast, a_rawSet, a_rawOfSet, a_rawDelta, a_rawLabel, a_letterLeaves, a_classOf, a_nextClass, a_classRep, a_slotClass, a_slotKey, a_numberOf, a_queue, a_delta, a_stateLabel, a_extendable, a_text, a_lexRule, a_lexLength, a_failed, a_trail) := by
  have nP : ∀ r, sg_P t 256 r ↔ sp_N t r := fun r => ⟨fun z => z.elim (fun z => by omega) (fun z => z.2), fun z => Or.inr ⟨rfl, z⟩⟩
  have key : ∀ d r, r + d = R → (∀ r', r' < r → ¬ sp_N t r') → wX_startLabel_2 post f_letters f_maxRules f_maxLeaves f_maxText f_tokenCount f_depth f_leafCount f_finishedLeaves (nI R) f_rawCount f_stateTotal f_aliveRules f_compiled f_textLength f_closed f_lexCount f_position a_tokens a_masks a_follow a_ruleNull a_ruleFirst a_ruleLast a_altNull a_altFirst a_altLast a_catNull a_catFirst a_catLast a_atomNull a_atomFirst a_atomLast a_rawSet a_rawOfSet a_rawDelta a_rawLabel a_letterLeaves a_classOf a_nextClass a_classRep a_slotClass a_slotKey a_numberOf a_queue a_delta a_stateLabel a_extendable a_text a_lexRule a_lexLength a_failed a_trail (d + 1) (nI (r + 1)) := by
    intro d
    induction d with
    | zero =>
      intro r hr hn
      have e : sg_lab t R 256 = 0 := lb_u (sg_labT t R 256) (Or.inl ⟨rfl, fun r' _ h2 z => hn r' (by omega) ((nP r').mp z)⟩)
      rw [e] at h
      exact br_t (nI_lt (by omega) (by omega)) h
    | succ d ih =>
      intro r hr hn
      have q := (A.2.2 r (by omega)).1
      refine br_f (nI_nlt (by omega) (by omega)) (And.intro (vp_in_nI (by omega) (by omega)) (br_c (fun z => nm_r (nI_1 _) (ih (r + 1) (by omega) (fun r' h' => ?_))) (fun z => ?_)))
      · rw [nI_clamp (by omega)] at z
        by_cases e : r' = r
        · subst e; exact (gr_b01_0 q).mp z
        · exact hn r' (by omega)
      · rw [nI_clamp (by omega)] at z
        have pn : sp_N t r := Classical.byContradiction (fun w => z ((gr_b01_0 q).mpr w))
        have e : sg_lab t R 256 = nI (r + 1) := lb_u (sg_labT t R 256) (Or.inr ⟨r, Nat.zero_le _, by omega, rfl, (nP r).mpr pn, fun r' _ h' z => hn r' h' ((nP r').mp z)⟩)
        rw [e] at h
        exact h
  exact ⟨R + 1, key R 0 (by omega) (fun r' h' => by omega)⟩
theorem xw_setLabel {post : Int32 → Prop} {v : Nat} (hv : v < 256) (hR : R ≤ 6) (A : xr_A t R a_masks a_follow a_ruleNull a_ruleFirst a_ruleLast) (h : post (sg_lab t R v)) : wpX_setLabel post (f_letters, f_maxRules, f_maxLeaves, f_maxText, f_tokenCount, f_depth, f_leafCount, f_finishedLeaves, nI R, f_rawCount, f_stateTotal, f_aliveRules, f_compiled, f_textLength, f_closed, f_lexCount, f_position, a_tokens, a_masks, a_follow, a_ruleNull, a_ruleFirst, a_ruleLast, a_altNull, a_altFirst, a_altLast, a_catNull, a_catFirst, a_catLast, a_atomNull, a_atomFirst, a_atomLast, a_rawSet, a_rawOfSet, a_rawDelta, a_rawLabel, a_letterLeaves, a_classOf, a_nextClass, a_classRep, a_slotClass, a_slotKey, a_numberOf, a_queue, a_delta, a_stateLabel, a_extendable, a_text, a_lexRule, a_lexLength, a_failed, a_trail) (nI v) := by
  have nP : ∀ r, sg_P t v r ↔ ∃ k, bt (nI v) k = true ∧ sp_L t r k := fun r => ⟨fun z => z.elim (fun z => z.2) (fun z => by omega), fun z => Or.inl ⟨hv, z⟩⟩
  have key : ∀ d r, r + d = R → (∀ r', r' < r → ¬ sg_P t v r') → wX_setLabel_2 post (nI v) f_letters f_maxRules f_maxLeaves f_maxText f_tokenCount f_depth f_leafCount f_finishedLeaves (nI R) f_rawCount f_stateTotal f_aliveRules f_compiled f_textLength f_closed f_lexCount f_position a_tokens a_masks a_follow a_ruleNull a_ruleFirst a_ruleLast a_altNull a_altFirst a_altLast a_catNull a_catFirst a_catLast a_atomNull a_atomFirst a_atomLast a_rawSet a_rawOfSet a_rawDelta a_rawLabel a_letterLeaves a_classOf a_nextClass a_classRep a_slotClass a_slotKey a_numberOf a_queue a_delta a_stateLabel a_extendable a_text a_lexRule a_lexLength a_failed a_trail (d + 1) (nI (r + 1)) := by
    intro d
    induction d with
    | zero =>
      intro r hr hn
      have e : sg_lab t R v = 0 := lb_u (sg_labT t R v) (Or.inl ⟨rfl, fun r' _ h2 z => hn r' (by omega) z⟩)
      rw [e] at h
      exact br_t (nI_lt (by omega) (by omega)) h
    | succ d ih =>
      intro r hr hn
      have q := (A.2.2 r (by omega)).2.2
      refine br_f (nI_nlt (by omega) (by omega)) (And.intro (vp_in_nI (by omega) (by omega)) (br_c (fun z => nm_r (nI_1 _) (ih (r + 1) (by omega) (fun r' h' => ?_))) (fun z => ?_)))
      · rw [nI_clamp (by omega)] at z
        by_cases e : r' = r
        · subst e
          intro w
          obtain ⟨k, k1, k2⟩ := (nP r').mp w
          exact xl_and0.mp z k ⟨(q k).mpr k2, k1⟩
        · exact hn r' (by omega)
      · rw [nI_clamp (by omega)] at z
        have pn : sg_P t v r := by
          rw [nP]
          apply Classical.byContradiction
          intro w
          exact z (xl_and0.mpr (fun k y => w ⟨k, y.2, (q k).mp y.1⟩))
        have e : sg_lab t R v = nI (r + 1) := lb_u (sg_labT t R v) (Or.inr ⟨r, Nat.zero_le _, by omega, rfl, pn, fun r' _ h' z => hn r' h' z⟩)
        rw [e] at h
        exact h
  exact ⟨R + 1, key R 0 (by omega) (fun r' h' => by omega)⟩
theorem xw_cand0 {post : Int32 → Prop} (hR : R ≤ 6) (A : xr_A t R a_masks a_follow a_ruleNull a_ruleFirst a_ruleLast) (K : ∀ x, gr_gs x (fun k => ∃ r, r < R ∧ sp_F t r k) → post x) : wpX_candidates post (f_letters, f_maxRules, f_maxLeaves, f_maxText, f_tokenCount, f_depth, f_leafCount, f_finishedLeaves, nI R, f_rawCount, f_stateTotal, f_aliveRules, f_compiled, f_textLength, f_closed, f_lexCount, f_position, a_tokens, a_masks, a_follow, a_ruleNull, a_ruleFirst, a_ruleLast, a_altNull, a_altFirst, a_altLast, a_catNull, a_catFirst, a_catLast, a_atomNull, a_atomFirst, a_atomLast, a_rawSet, a_rawOfSet, a_rawDelta, a_rawLabel, a_letterLeaves, a_classOf, a_nextClass, a_classRep, a_slotClass, a_slotKey, a_numberOf, a_queue, a_delta, a_stateLabel, a_extendable, a_text, a_lexRule, a_lexLength, a_failed, a_trail) 0 := by
  have key : ∀ d r x, r + d = R → gr_gs x (fun k => ∃ r', r' < r ∧ sp_F t r' k) → wX_candidates_8 post f_letters f_maxRules f_maxLeaves f_maxText f_tokenCount f_depth f_leafCount f_finishedLeaves (nI R) f_rawCount f_stateTotal f_aliveRules f_compiled f_textLength f_closed f_lexCount f_position a_tokens a_masks a_follow a_ruleNull a_ruleFirst a_ruleLast a_altNull a_altFirst a_altLast a_catNull a_catFirst a_catLast a_atomNull a_atomFirst a_atomLast a_rawSet a_rawOfSet a_rawDelta a_rawLabel a_letterLeaves a_classOf a_nextClass a_classRep a_slotClass a_slotKey a_numberOf a_queue a_delta a_stateLabel a_extendable a_text a_lexRule a_lexLength a_failed a_trail (d + 1) x (nI (r + 1)) := by
    intro d
    induction d with
    | zero =>
      intro r x hr hx
      have e : r = R := by omega
      subst e
      exact br_t (nI_lt (by omega) (by omega)) (K x hx)
    | succ d ih =>
      intro r x hr hx
      have q := (A.2.2 r (by omega)).2.1
      refine br_f (nI_nlt (by omega) (by omega)) (And.intro (vp_in_nI (by omega) (by omega)) (nm_r (e' := x ||| a_ruleFirst (r + 1)) (by rw [nI_clamp (by omega)]) (nm_r (nI_1 _) (ih (r + 1) _ (by omega) (gr_gs_c (gr_gs_or hx q) (fun k => ?_))))))
      constructor
      · rintro (⟨r', z1, z2⟩ | z)
        · exact ⟨r', by omega, z2⟩
        · exact ⟨r, by omega, z⟩
      · rintro ⟨r', z1, z2⟩
        by_cases e : r' = r
        · subst e; exact Or.inr z2
        · exact Or.inl ⟨r', by omega, z2⟩
  exact br_t rfl ⟨R + 1, key R 0 0 (by omega) (gr_gs_0 (fun k ⟨r', z, _⟩ => by omega))⟩
theorem xw_cand {post : Int32 → Prop} {s v : Nat} (hs : 0 < s) (hs2 : s < 256) (hv : v < 256) (hset : a_rawSet s = nI v) (hlf : ∀ k, bt (nI v) k = true → ∃ p, gr_Lf t p ∧ p < 1 + 25 * R ∧ lf_c t p = k)
    (A : xr_A t R a_masks a_follow a_ruleNull a_ruleFirst a_ruleLast) (K : ∀ x, gr_gs x (fun k => ∃ p, gr_Lf t p ∧ lf_c t p < 8 ∧ bt (nI v) (lf_c t p) = true ∧ sp_O t p k) → post x) : wpX_candidates post (f_letters, f_maxRules, f_maxLeaves, f_maxText, f_tokenCount, f_depth, f_leafCount, f_finishedLeaves, f_ruleCount, f_rawCount, f_stateTotal, f_aliveRules, f_compiled, f_textLength, f_closed, f_lexCount, f_position, a_tokens, a_masks, a_follow, a_ruleNull, a_ruleFirst, a_ruleLast, a_altNull, a_altFirst, a_altLast, a_catNull, a_catFirst, a_catLast, a_atomNull, a_atomFirst, a_atomLast, a_rawSet, a_rawOfSet, a_rawDelta, a_rawLabel, a_letterLeaves, a_classOf, a_nextClass, a_classRep, a_slotClass, a_slotKey, a_numberOf, a_queue, a_delta, a_stateLabel, a_extendable, a_text, a_lexRule, a_lexLength, a_failed, a_trail) (nI s) := by
  have key : ∀ d j x, j + d = 8 → gr_gs x (fun k => ∃ p, gr_Lf t p ∧ lf_c t p < j ∧ bt (nI v) (lf_c t p) = true ∧ sp_O t p k) → wX_candidates_43 post (nI v) f_letters f_maxRules f_maxLeaves f_maxText f_tokenCount f_depth f_leafCount f_finishedLeaves f_ruleCount f_rawCount f_stateTotal f_aliveRules f_compiled f_textLength f_closed f_lexCount f_position a_tokens a_masks a_follow a_ruleNull a_ruleFirst a_ruleLast a_altNull a_altFirst a_altLast a_catNull a_catFirst a_catLast a_atomNull a_atomFirst a_atomLast a_rawSet a_rawOfSet a_rawDelta a_rawLabel a_letterLeaves a_classOf a_nextClass a_classRep a_slotClass a_slotKey a_numberOf a_queue a_delta a_stateLabel a_extendable a_text a_lexRule a_lexLength a_failed a_trail (d + 1) x (nI j) := by
    intro d
    induction d with
    | zero =>
      intro j x hj hx
      have e : j = 8 := by omega
      subst e
      exact br_t (nI_le (a := 8) (by omega) (by omega)) (K x hx)
    | succ d ih =>
      intro j x hj hx
      refine br_f (nI_ge (b := 8) (by omega) (by omega)) ?_
      rw [xl_bit (by omega)]
      refine br_c (fun z => nm_r (nI_1 j) (ih (j + 1) x (by omega) (gr_gs_c hx (fun k => ?_)))) (fun z => And.intro (vp_in_nI (by omega) (by omega)) ?_)
      · constructor
        · rintro ⟨p, p1, p2, p3, p4⟩; exact ⟨p, p1, by omega, p3, p4⟩
        · rintro ⟨p, p1, p2, p3, p4⟩
          refine ⟨p, p1, ?_, p3, p4⟩
          by_cases e : lf_c t p = j
          · rw [e, z] at p3; exact absurd p3 (by decide)
          · omega
      · have z := ts_nf z
        obtain ⟨p, p1, p2, p3⟩ := hlf j z
        have q := A.2.1 p p1 p2
        rw [p3] at q
        refine nm_r (e' := x ||| a_follow j) (by rw [nI_clamp (by omega)]) (nm_r (nI_1 j) (ih (j + 1) _ (by omega) (gr_gs_c (gr_gs_or hx q) (fun k => ?_))))
        constructor
        · rintro (⟨p', z1, z2, z3, z4⟩ | w)
          · exact ⟨p', z1, by omega, z3, z4⟩
          · exact ⟨p, p1, by omega, by rw [p3]; exact z, w⟩
        · rintro ⟨p', z1, z2, z3, z4⟩
          by_cases e : lf_c t p' = j
          · have := lf_inj p' p z1 p1 (e.trans p3.symm)
            subst this
            exact Or.inr z4
          · exact Or.inl ⟨p', z1, by omega, z3, z4⟩
  exact br_f (nI_ne0 hs (by omega)) (And.intro (vp_in_nI hs2 (by omega)) (nm_r (e' := nI v) (by rw [nI_clamp (by omega)]; exact hset) ⟨9, key 8 0 0 rfl (gr_gs_0 (fun k ⟨p, _, z, _⟩ => by omega))⟩))
end
/-- raw states: sit s is the situation of raw state s -/
def rb_I (t : Nat → Nat) (R N : Nat) (sit : Nat → Nat) (rset rof rlab : Nat → Int32) : Prop :=
  1 ≤ N ∧ N ≤ 256 ∧ sit 0 = 256 ∧
  (∀ s, 1 ≤ s → s < N → rset s = nI (sit s) ∧ 1 ≤ sit s ∧ sit s < 256 ∧ rof (sit s) = nI s ∧ ∀ k, bt (nI (sit s)) k = true → ∃ p, gr_Lf t p ∧ p < 1 + 25 * R ∧ lf_c t p = k) ∧
  (∀ v, 1 ≤ v → v < 256 → (rof v = -1 ∧ ∀ s, 1 ≤ s → s < N → sit s ≠ v) ∨ ∃ s, 1 ≤ s ∧ s < N ∧ rof v = nI s ∧ sit s = v) ∧
  (∀ s, s < N → rlab s = sg_lab t R (sit s))
theorem rb_inj {t : Nat → Nat} {R N : Nat} {sit : Nat → Nat} {rset rof rlab : Nat → Int32} (I : rb_I t R N sit rset rof rlab) : ∀ s s', s < N → s' < N → sit s = sit s' → s = s' := by
  obtain ⟨h1, h2, h3, h4, h5, h6⟩ := I
  intro s s' hs hs' e
  rcases Nat.eq_zero_or_pos s with k | k
  · rcases Nat.eq_zero_or_pos s' with k' | k'
    · omega
    · have := (h4 s' k' hs').2.2.1
      rw [k, h3] at e; omega
  · rcases Nat.eq_zero_or_pos s' with k' | k'
    · have := (h4 s k hs).2.2.1
      rw [k', h3] at e; omega
    · have a := (h4 s k hs).2.2.2.1
      have b := (h4 s' k' hs').2.2.2.1
      rw [e, b, nI_eq (by omega) (by omega)] at a
      exact a.symm
theorem rb_room {t : Nat → Nat} {R N v : Nat} {sit : Nat → Nat} {rset rof rlab : Nat → Int32} (I : rb_I t R N sit rset rof rlab) (hv : 1 ≤ v) (hv2 : v < 256) (hn : ∀ s, 1 ≤ s → s < N → sit s ≠ v) : N ≤ 255 := by
  have inj := rb_inj I
  obtain ⟨h1, h2, h3, h4, h5, h6⟩ := I
  refine ct_inj 255 N (fun i => if i = 0 then v - 1 else sit i - 1) ?_ ?_
  · intro i hi
    show (if i = 0 then v - 1 else sit i - 1) < 255
    by_cases c : i = 0
    · rw [if_pos c]; omega
    · rw [if_neg c]
      have := (h4 i (by omega) hi)
      omega
  · intro i j hi hj e
    have e : (if i = 0 then v - 1 else sit i - 1) = (if j = 0 then v - 1 else sit j - 1) := e
    by_cases ci : i = 0
    · rw [if_pos ci] at e
      by_cases cj : j = 0
      · omega
      · rw [if_neg cj] at e
        have := h4 j (by omega) hj
        have := hn j (by omega) hj
        omega
    · rw [if_neg ci] at e
      have qi := h4 i (by omega) hi
      by_cases cj : j = 0
      · rw [if_pos cj] at e
        have := hn i (by omega) hi
        omega
      · rw [if_neg cj] at e
        have qj := h4 j (by omega) hj
        exact inj i j hi hj (by omega)
section
variable {f_letters f_maxRules f_maxLeaves f_maxText f_tokenCount f_depth f_leafCount f_finishedLeaves f_ruleCount f_rawCount f_stateTotal f_aliveRules f_compiled f_textLength f_closed f_lexCount f_position : Int32} {a_tokens a_masks a_follow a_ruleNull a_ruleFirst a_ruleLast a_altNull a_altFirst a_altLast a_catNull a_catFirst a_catLast a_atomNull a_atomFirst a_atomLast a_rawSet a_rawOfSet a_rawDelta a_rawLabel a_letterLeaves a_classOf a_nextClass a_classRep a_slotClass a_numberOf a_queue a_delta a_stateLabel a_extendable a_text a_lexRule a_lexLength a_trail : Nat → Int32} {a_slotKey a_failed : Nat → Int64} {t : Nat → Nat} {R L : Nat}
/-- rawState: -1 for the empty set, else the raw state of the set, perhaps a new one -/
theorem xw_rawState {post : Int32 → SX → Prop} {N v : Nat} {sit : Nat → Nat} {rset rof rlab : Nat → Int32} (hR : R ≤ 6) (A : xr_A t R a_masks a_follow a_ruleNull a_ruleFirst a_ruleLast) (I : rb_I t R N sit rset rof rlab) (hv : v < 256) (hlf : ∀ k, bt (nI v) k = true → ∃ p, gr_Lf t p ∧ p < 1 + 25 * R ∧ lf_c t p = k)
    (K0 : v = 0 → post (-1) (f_letters, f_maxRules, f_maxLeaves, f_maxText, f_tokenCount, f_depth, f_leafCount, f_finishedLeaves, nI R, nI N, f_stateTotal, f_aliveRules, f_compiled, f_textLength, f_closed, f_lexCount, f_position, a_tokens, a_masks, a_follow, a_ruleNull, a_ruleFirst, a_ruleLast, a_altNull, a_altFirst, a_altLast, a_catNull, a_catFirst, a_catLast, a_atomNull, a_atomFirst, a_atomLast, rset, rof, a_rawDelta, rlab, a_letterLeaves, a_classOf, a_nextClass, a_classRep, a_slotClass, a_slotKey, a_numberOf, a_queue, a_delta, a_stateLabel, a_extendable, a_text, a_lexRule, a_lexLength, a_failed, a_trail))
    (K1 : ∀ N' sit' rset' rof' rlab' s, rb_I t R N' sit' rset' rof' rlab' → N ≤ N' → (∀ i, i < N → sit' i = sit i) → 1 ≤ s → s < N' → sit' s = v → post (nI s) (f_letters, f_maxRules, f_maxLeaves, f_maxText, f_tokenCount, f_depth, f_leafCount, f_finishedLeaves, nI R, nI N', f_stateTotal, f_aliveRules, f_compiled, f_textLength, f_closed, f_lexCount, f_position, a_tokens, a_masks, a_follow, a_ruleNull, a_ruleFirst, a_ruleLast, a_altNull, a_altFirst, a_altLast, a_catNull, a_catFirst, a_catLast, a_atomNull, a_atomFirst, a_atomLast, rset', rof', a_rawDelta, rlab', a_letterLeaves, a_classOf, a_nextClass, a_classRep, a_slotClass, a_slotKey, a_numberOf, a_queue, a_delta, a_stateLabel, a_extendable, a_text, a_lexRule, a_lexLength, a_failed, a_trail)) :
    wpX_rawState post (f_letters, f_maxRules, f_maxLeaves, f_maxText, f_tokenCount, f_depth, f_leafCount, f_finishedLeaves, nI R, nI N, f_stateTotal, f_aliveRules, f_compiled, f_textLength, f_closed, f_lexCount, f_position, a_tokens, a_masks, a_follow, a_ruleNull, a_ruleFirst, a_ruleLast, a_altNull, a_altFirst, a_altLast, a_catNull, a_catFirst, a_catLast, a_atomNull, a_atomFirst, a_atomLast, rset, rof, a_rawDelta, rlab, a_letterLeaves, a_classOf, a_nextClass, a_classRep, a_slotClass, a_slotKey, a_numberOf, a_queue, a_delta, a_stateLabel, a_extendable, a_text, a_lexRule, a_lexLength, a_failed, a_trail) (nI v) := by
  have cv : (nI v).toNatClampNeg = v := nI_clamp (by omega)
  have hi : vp_in (nI v) 256 := vp_in_nI hv (by omega)
  have room := fun h0 hn => rb_room I (v := v) h0 hv hn
  have hI := I
  obtain ⟨h1, h2, h3, h4, h5, h6⟩ := I
  refine pk_le v 0 (fun e => K0 (by omega)) (fun e => br_t (nI_le (b := 255) (by omega) (by omega)) (And.intro hi ?_))
  rcases h5 v (by omega) hv with ⟨z, hn⟩ | ⟨s, s1, s2, z, hs⟩
  · have ne : ¬ (0 : Int32) ≤ rof (nI v).toNatClampNeg := by rw [cv, z]; decide
    have nN : N ≤ 255 := room (by omega) hn
    have cN : (nI N).toNatClampNeg = N := nI_clamp (by omega)
    have hN : vp_in (nI N) 256 := vp_in_nI (by omega) (by omega)
    refine br_f ne (br_f (nI_ge (b := 256) (by omega) (by omega)) (And.intro hi (nm_r (e' := upd rof v (nI N)) (by rw [cv]) (And.intro hN (nm_r (e' := upd rset N (nI v)) (by rw [cN]) ?_)))))
    refine xw_setLabel hv hR A (And.intro hN (nm_r (e' := upd rlab N (sg_lab t R v)) (by rw [cN]) (nm_r (nI_1 N) (And.intro hi ?_))))
    rw [cv, pk_us]
    have sitN : ∀ i, i < N → (if i = N then v else sit i) = sit i := fun i hi => if_neg (by omega)
    refine K1 (N + 1) (fun i => if i = N then v else sit i) _ _ _ N ⟨by omega, by omega, ?_, ?_, ?_, ?_⟩ (by omega) sitN (by omega) (by omega) (if_pos rfl)
    · show (if 0 = N then v else sit 0) = 256
      rw [if_neg (by omega)]; exact h3
    · intro s s1 s2
      dsimp only
      by_cases c : s = N
      · rw [if_pos c]
        subst c
        exact ⟨pk_us, by omega, hv, pk_us, hlf⟩
      · rw [if_neg c]
        have q := h4 s s1 (by omega)
        refine ⟨by rw [pk_un c]; exact q.1, q.2.1, q.2.2.1, ?_, q.2.2.2.2⟩
        rw [pk_un (hn s s1 (by omega))]; exact q.2.2.2.1
    · intro w w1 w2
      by_cases c : w = v
      · subst c
        refine Or.inr ⟨N, by omega, by omega, pk_us, if_pos rfl⟩
      · rw [pk_un c]
        rcases h5 w w1 w2 with ⟨q1, q2⟩ | ⟨s, q1, q2, q3, q4⟩
        · refine Or.inl ⟨q1, fun s s1 s2 => ?_⟩
          dsimp only
          by_cases c2 : s = N
          · rw [if_pos c2]; exact fun z => c z.symm
          · rw [if_neg c2]; exact q2 s s1 (by omega)
        · refine Or.inr ⟨s, q1, by omega, q3, ?_⟩
          dsimp only
          rw [if_neg (by omega)]; exact q4
    · intro s hs
      dsimp only
      by_cases c : s = N
      · subst c; rw [if_pos rfl]; exact pk_us
      · rw [if_neg c, pk_un c]; exact h6 s (by omega)
  · have ne : (0 : Int32) ≤ rof (nI v).toNatClampNeg := by rw [cv, z]; exact nI_pos' (by omega)
    refine br_t ne (And.intro hi ?_)
    rw [cv, z]
    exact K1 N sit rset rof rlab s hI (Nat.le_refl _) (fun _ _ => rfl) s1 s2 hs
end
end
section
/-! X: buildSubsets -/
def rb_D (t : Nat → Nat) (R L N : Nat) (sit : Nat → Nat) (s a : Nat) (rdel : Nat → Int32) : Prop :=
  ∀ s' a', s' < N → a' < L → (s' < s ∨ (s' = s ∧ a' < a)) → (sg_go t R (sit s') a' = 0 ∧ rdel (s' * 4 + a') = -1) ∨ ∃ s2, 1 ≤ s2 ∧ s2 < N ∧ rdel (s' * 4 + a') = nI s2 ∧ sit s2 = sg_go t R (sit s') a'
section
variable {f_letters f_maxRules f_maxLeaves f_maxText f_tokenCount f_depth f_leafCount f_finishedLeaves f_ruleCount f_rawCount f_stateTotal f_aliveRules f_compiled f_textLength f_closed f_lexCount f_position : Int32} {a_tokens a_masks a_follow a_ruleNull a_ruleFirst a_ruleLast a_altNull a_altFirst a_altLast a_catNull a_catFirst a_catLast a_atomNull a_atomFirst a_atomLast a_rawSet a_rawOfSet a_rawDelta a_rawLabel a_letterLeaves a_classOf a_nextClass a_classRep a_slotClass a_numberOf a_queue a_delta a_stateLabel a_extendable a_text a_lexRule a_lexLength a_trail : Nat → Int32} {a_slotKey a_failed : Nat → Int64} {t : Nat → Nat} {R L : Nat}
theorem rb_Dm {N N' s a : Nat} {sit sit' : Nat → Nat} {rdel : Nat → Int32} (h : rb_D t R L N sit s a rdel) (hN : N ≤ N') (he : ∀ i, i < N → sit' i = sit i) (hs : s < N) : rb_D t R L N' sit' s a rdel := by
  intro s' a' h1 h2 h3
  rw [he s' (by omega)]
  rcases h s' a' (by omega) h2 h3 with z | ⟨s2, z1, z2, z3, z4⟩
  · exact Or.inl z
  · exact Or.inr ⟨s2, z1, by omega, z3, by rw [he s2 z2]; exact z4⟩
theorem xw_bs136 {post : SX → Prop} {J113 : Int32 → Int32 → Int32 → Int32 → Int32 → Int32 → Int32 → Int32 → Int32 → Int32 → Int32 → Int32 → Int32 → Int32 → Int32 → Int32 → Int32 → Int32 → (Nat → Int32) → (Nat → Int32) → (Nat → Int32) → (Nat → Int32) → (Nat → Int32) → (Nat → Int32) → (Nat → Int32) → (Nat → Int32) → (Nat → Int32) → (Nat → Int32) → (Nat → Int32) → (Nat → Int32) → (Nat → Int32) → (Nat → Int32) → (Nat → Int32) → (Nat → Int32) → (Nat → Int32) → (Nat → Int32) → (Nat → Int32) → (Nat → Int32) → (Nat → Int32) → (Nat → Int32) → (Nat → Int32) → (Nat → Int32) → (Nat → Int64) → (Nat → Int32) → (Nat → Int32) → (Nat → Int32) → (Nat → Int32) → (Nat → Int32) → (Nat → Int32) → (Nat → Int32) → (Nat → Int32) → (Nat → Int64) → (Nat → Int32) → Prop} {s : Nat} {cand : Int32} {c : Nat} (hL : L ≤ 4) (hR : R ≤ 6) (h8 : ∀ p, gr_Lf t p → lf_c t p < 8) (hz : ∀ p, 1 + 25 * R ≤ p → t p = 0) (A : xr_A t R a_masks a_follow a_ruleNull a_ruleFirst a_ruleLast)
    (hcand : ∀ a, a < L → (cand &&& a_letterLeaves a) = nI (sg_go t R c a))
    (K : ∀ N' sit' rset' rof' rlab' rdel', rb_I t R N' sit' rset' rof' rlab' → s < N' → rb_D t R L N' sit' s L rdel' → J113 (nI (s + 1)) (nI L) f_maxRules f_maxLeaves f_maxText f_tokenCount f_depth f_leafCount f_finishedLeaves (nI R) (nI N') f_stateTotal f_aliveRules f_compiled f_textLength f_closed f_lexCount f_position a_tokens a_masks a_follow a_ruleNull a_ruleFirst a_ruleLast a_altNull a_altFirst a_altLast a_catNull a_catFirst a_catLast a_atomNull a_atomFirst a_atomLast rset' rof' rdel' rlab' a_letterLeaves a_classOf a_nextClass a_classRep a_slotClass a_slotKey a_numberOf a_queue a_delta a_stateLabel a_extendable a_text a_lexRule a_lexLength a_failed a_trail) :
    ∀ (m a N : Nat) (sit : Nat → Nat) (rset rof rlab rdel : Nat → Int32), a + m = L → rb_I t R N sit rset rof rlab → s < N → sit s = c → rb_D t R L N sit s a rdel → wX_buildSubsets_136 post J113 (nI s) cand (m + 1) (nI a) (nI L) f_maxRules f_maxLeaves f_maxText f_tokenCount f_depth f_leafCount f_finishedLeaves (nI R) (nI N) f_stateTotal f_aliveRules f_compiled f_textLength f_closed f_lexCount f_position a_tokens a_masks a_follow a_ruleNull a_ruleFirst a_ruleLast a_altNull a_altFirst a_altLast a_catNull a_catFirst a_catLast a_atomNull a_atomFirst a_atomLast rset rof rdel rlab a_letterLeaves a_classOf a_nextClass a_classRep a_slotClass a_slotKey a_numberOf a_queue a_delta a_stateLabel a_extendable a_text a_lexRule a_lexLength a_failed a_trail := by
  intro m
  induction m with
  | zero =>
    intro a N sit rset rof rlab rdel hm I hs hc D
    have e : a = L := by omega
    subst e
    exact br_t (nI_le (Nat.le_refl _) (by omega)) (nm_r (nI_1 s) (K N sit rset rof rlab rdel I hs D))
  | succ m ih =>
    intro a N sit rset rof rlab rdel hm I hs hc D
    have hN := I.2.1
    have hlf : ∀ k, bt (nI (sg_go t R c a)) k = true → ∃ p, gr_Lf t p ∧ p < 1 + 25 * R ∧ lf_c t p = k := by
      intro k hk
      obtain ⟨⟨p, p1, p2, p3, p4⟩, _⟩ := (sg_goS (R := R) h8 c a k).mp hk
      refine ⟨p, p2, ?_, p3⟩
      rcases Nat.lt_or_ge p (1 + 25 * R) with z | z
      · exact z
      · have := p2.1; rw [hz p z] at this; omega
    have ix : (nI s * 4) + nI a = nI (s * 4 + a) := yl_i4 s a
    have hix : vp_in ((nI s * 4) + nI a) 1024 := by rw [ix]; exact vp_in_nI (by omega) (by omega)
    have cix : ((nI s * 4) + nI a).toNatClampNeg = s * 4 + a := by rw [ix]; exact nI_clamp (by omega)
    refine br_f (nI_ge (by omega) (by omega)) (And.intro (vp_in_nI (by omega) (by omega)) (nm_r (e' := nI (sg_go t R c a)) (by rw [nI_clamp (by omega)]; exact hcand a (by omega)) ?_))
    refine xw_rawState hR A I (sg_go_lt t R c a) hlf (fun e0 => And.intro hix (nm_r (e' := upd rdel (s * 4 + a) (-1)) (by rw [cix]) (nm_r (nI_1 a) (ih (a + 1) N sit rset rof rlab _ (by omega) I hs hc ?_)))) (fun N' sit' rset' rof' rlab' s2 I' hN' he s21 s22 es => And.intro hix (nm_r (e' := upd rdel (s * 4 + a) (nI s2)) (by rw [cix]) (nm_r (nI_1 a) (ih (a + 1) N' sit' rset' rof' rlab' _ (by omega) I' (by omega) (by rw [he s hs]; exact hc) ?_))))
    · intro s' a' h1 h2 h3
      by_cases e : s' = s ∧ a' = a
      · obtain ⟨e1, e2⟩ := e
        subst e1 e2
        rw [pk_us, hc]
        exact Or.inl ⟨e0, rfl⟩
      · rw [pk_un (by omega)]
        exact D s' a' h1 h2 (by omega)
    · have D' := rb_Dm D hN' he hs
      intro s' a' h1 h2 h3
      by_cases e : s' = s ∧ a' = a
      · obtain ⟨e1, e2⟩ := e
        subst e1 e2
        rw [pk_us, he s' hs, hc]
        exact Or.inr ⟨s2, s21, s22, rfl, es⟩
      · rw [pk_un (by omega)]
        exact D' s' a' h1 h2 (by omega)
/-- what the letters' masks hold -/
def xl_LL (t : Nat → Nat) (ll : Nat → Int32) : Prop := ∀ a, a < 4 → gr_gs (ll a) (sg_l t a)
theorem xw_bs113 {post : SX → Prop} (hL : L ≤ 4) (hR : R ≤ 6) (h8 : ∀ p, gr_Lf t p → lf_c t p < 8) (hz : ∀ p, 1 + 25 * R ≤ p → t p = 0) (A : xr_A t R a_masks a_follow a_ruleNull a_ruleFirst a_ruleLast) (hll : xl_LL t a_letterLeaves)
    (K : ∀ N' sit' rset' rof' rlab' rdel', rb_I t R N' sit' rset' rof' rlab' → rb_D t R L N' sit' N' 0 rdel' → post (nI L, f_maxRules, f_maxLeaves, f_maxText, f_tokenCount, f_depth, f_leafCount, f_finishedLeaves, nI R, nI N', f_stateTotal, f_aliveRules, f_compiled, f_textLength, f_closed, f_lexCount, f_position, a_tokens, a_masks, a_follow, a_ruleNull, a_ruleFirst, a_ruleLast, a_altNull, a_altFirst, a_altLast, a_catNull, a_catFirst, a_catLast, a_atomNull, a_atomFirst, a_atomLast, rset', rof', rdel', rlab', a_letterLeaves, a_classOf, a_nextClass, a_classRep, a_slotClass, a_slotKey, a_numberOf, a_queue, a_delta, a_stateLabel, a_extendable, a_text, a_lexRule, a_lexLength, a_failed, a_trail)) :
    ∀ (m s N : Nat) (sit : Nat → Nat) (rset rof rlab rdel : Nat → Int32), s + m = 256 → rb_I t R N sit rset rof rlab → s ≤ N → rb_D t R L N sit s 0 rdel → wX_buildSubsets_113 post (m + 1) (nI s) (nI L) f_maxRules f_maxLeaves f_maxText f_tokenCount f_depth f_leafCount f_finishedLeaves (nI R) (nI N) f_stateTotal f_aliveRules f_compiled f_textLength f_closed f_lexCount f_position a_tokens a_masks a_follow a_ruleNull a_ruleFirst a_ruleLast a_altNull a_altFirst a_altLast a_catNull a_catFirst a_catLast a_atomNull a_atomFirst a_atomLast rset rof rdel rlab a_letterLeaves a_classOf a_nextClass a_classRep a_slotClass a_slotKey a_numberOf a_queue a_delta a_stateLabel a_extendable a_text a_lexRule a_lexLength a_failed a_trail := by
  intro m
  induction m with
  | zero =>
    intro s N sit rset rof rlab rdel hm I hs D
    have hN := I.2.1
    have e : s = N := by omega
    subst e
    exact br_t (nI_le (a := 256) (by omega) (by omega)) (K s sit rset rof rlab rdel I D)
  | succ m ih =>
    intro s N sit rset rof rlab rdel hm I hs D
    have hN := I.2.1
    refine br_f (nI_ge (b := 256) (by omega) (by omega)) (pk_le N s (fun e => ?_) (fun e => ?_))
    · have e : s = N := by omega
      subst e
      exact K s sit rset rof rlab rdel I D
    · have go : ∀ cand : Int32, (∀ a, a < L → (cand &&& a_letterLeaves a) = nI (sg_go t R (sit s) a)) → ∃ n136, wX_buildSubsets_136 post (wX_buildSubsets_113 post (m + 1)) (nI s) cand n136 0 (nI L) f_maxRules f_maxLeaves f_maxText f_tokenCount f_depth f_leafCount f_finishedLeaves (nI R) (nI N) f_stateTotal f_aliveRules f_compiled f_textLength f_closed f_lexCount f_position a_tokens a_masks a_follow a_ruleNull a_ruleFirst a_ruleLast a_altNull a_altFirst a_altLast a_catNull a_catFirst a_catLast a_atomNull a_atomFirst a_atomLast rset rof rdel rlab a_letterLeaves a_classOf a_nextClass a_classRep a_slotClass a_slotKey a_numberOf a_queue a_delta a_stateLabel a_extendable a_text a_lexRule a_lexLength a_failed a_trail := by
        intro cand hcand
        refine ⟨L + 1, xw_bs136 hL hR h8 hz A hcand (fun N' sit' rset' rof' rlab' rdel' I' hs' D' => ih (s + 1) N' sit' rset' rof' rlab' rdel' (by omega) I' (by omega) (fun s' a' h1 h2 h3 => D' s' a' h1 h2 (by omega))) L 0 N sit rset rof rlab rdel (by omega) I e rfl D⟩
      rcases Nat.eq_zero_or_pos s with k | k
      · subst k
        refine xw_cand0 hR A (fun x hx => go x (fun a ha => gr_gs_u (P := sg_G t R (sit 0) a) ?_ (sg_goS h8 _ _)))
        intro k
        rw [b_and, Bool.and_eq_true, hx k, hll a (by omega) k, I.2.2.1]
        constructor
        · rintro ⟨z1, z2⟩; exact ⟨z2, Or.inl ⟨rfl, z1⟩⟩
        · rintro ⟨z2, z1 | z1⟩
          · exact ⟨z1.2, z2⟩
          · omega
      · obtain ⟨q1, q2, q3, q4, q5⟩ := I.2.2.2.1 s k e
        refine xw_cand (v := sit s) k (by omega) q3 q1 q5 A (fun x hx => go x (fun a ha => gr_gs_u (P := sg_G t R (sit s) a) ?_ (sg_goS h8 _ _)))
        intro k
        rw [b_and, Bool.and_eq_true, hx k, hll a (by omega) k]
        constructor
        · rintro ⟨⟨p, p1, p2, p3, p4⟩, z2⟩; exact ⟨z2, Or.inr ⟨q3, p, p1, p3, p4⟩⟩
        · rintro ⟨z2, z1 | ⟨z1, p, p1, p3, p4⟩⟩
          · omega
          · exact ⟨⟨p, p1, h8 p p1, p3, p4⟩, z2⟩
theorem xw_bs69 {post : SX → Prop} (hL : L ≤ 4) (hR : R ≤ 6) (h8 : ∀ p, gr_Lf t p → lf_c t p < 8) (hz : ∀ p, 1 + 25 * R ≤ p → t p = 0) (A : xr_A t R a_masks a_follow a_ruleNull a_ruleFirst a_ruleLast) (hll : xl_LL t a_letterLeaves)
    (K : ∀ N' sit' rset' rof' rlab' rdel', rb_I t R N' sit' rset' rof' rlab' → rb_D t R L N' sit' N' 0 rdel' → post (nI L, f_maxRules, f_maxLeaves, f_maxText, f_tokenCount, f_depth, f_leafCount, f_finishedLeaves, nI R, nI N', f_stateTotal, f_aliveRules, f_compiled, f_textLength, f_closed, f_lexCount, f_position, a_tokens, a_masks, a_follow, a_ruleNull, a_ruleFirst, a_ruleLast, a_altNull, a_altFirst, a_altLast, a_catNull, a_catFirst, a_catLast, a_atomNull, a_atomFirst, a_atomLast, rset', rof', rdel', rlab', a_letterLeaves, a_classOf, a_nextClass, a_classRep, a_slotClass, a_slotKey, a_numberOf, a_queue, a_delta, a_stateLabel, a_extendable, a_text, a_lexRule, a_lexLength, a_failed, a_trail)) :
    ∀ (m i : Nat) (rof : Nat → Int32), i + m = 256 → (∀ v, v < i → rof v = -1) → wX_buildSubsets_69 post (nI L) f_maxRules f_maxLeaves f_maxText f_tokenCount f_depth f_leafCount f_finishedLeaves (nI R) f_rawCount f_stateTotal f_aliveRules f_compiled f_textLength f_closed f_lexCount f_position (m + 1) (nI i) a_tokens a_masks a_follow a_ruleNull a_ruleFirst a_ruleLast a_altNull a_altFirst a_altLast a_catNull a_catFirst a_catLast a_atomNull a_atomFirst a_atomLast a_rawSet rof a_rawDelta a_rawLabel a_letterLeaves a_classOf a_nextClass a_classRep a_slotClass a_slotKey a_numberOf a_queue a_delta a_stateLabel a_extendable a_text a_lexRule a_lexLength a_failed a_trail := by
  intro m
  induction m with
  | zero =>
    intro i rof hm h
    refine br_t (nI_le (a := 256) (by omega) (by omega)) (nm_e (xw_startLabel hR A (nm_e ⟨257, xw_bs113 hL hR h8 hz A hll K 256 0 1 (fun _ => 256) _ rof _ a_rawDelta rfl ⟨Nat.le_refl _, by omega, rfl, fun s s1 s2 => by omega, fun v v1 v2 => Or.inl ⟨h v (by omega), fun s s1 s2 => by omega⟩, fun s hs => ?_⟩ (by omega) (fun s' a' h1 h2 h3 => by omega)⟩)))
    have : s = 0 := by omega
    subst this
    exact pk_us
  | succ m ih =>
    intro i rof hm h
    refine br_f (nI_ge (b := 256) (by omega) (by omega)) (And.intro (vp_in_nI (by omega) (by omega)) (nm_r (e' := upd rof i (-1)) (by rw [nI_clamp (by omega)]) (nm_r (nI_1 i) (ih (i + 1) _ (by omega) (fun v hv => ?_)))))
    by_cases e : v = i
    · subst e; exact pk_us
    · rw [pk_un e]; exact h v (by omega)
theorem xw_bs16 {post : SX → Prop} {J2 : Int32 → (Nat → Int32) → (Nat → Int32) → (Nat → Int32) → (Nat → Int32) → (Nat → Int32) → (Nat → Int32) → (Nat → Int32) → (Nat → Int32) → (Nat → Int32) → (Nat → Int32) → (Nat → Int32) → (Nat → Int32) → (Nat → Int32) → (Nat → Int32) → (Nat → Int32) → (Nat → Int32) → (Nat → Int32) → (Nat → Int32) → (Nat → Int32) → (Nat → Int32) → (Nat → Int32) → (Nat → Int32) → (Nat → Int32) → (Nat → Int32) → (Nat → Int64) → (Nat → Int32) → (Nat → Int32) → (Nat → Int32) → (Nat → Int32) → (Nat → Int32) → (Nat → Int32) → (Nat → Int32) → (Nat → Int32) → (Nat → Int64) → (Nat → Int32) → Prop} {c n8 : Nat} (hc : c < 4) (hn8 : n8 ≤ 8) (hn : n8 = lf_c t 176) (hlf : ∀ p, gr_Lf t p → p < 176) (hmk : ∀ p, gr_Lf t p → a_masks (lf_c t p) = nI (t p))
    (K : ∀ ll, gr_gs (ll c) (sg_l t c) → (∀ c', c' < c → gr_gs (ll c') (sg_l t c')) → J2 (nI (c + 1)) a_tokens a_masks a_follow a_ruleNull a_ruleFirst a_ruleLast a_altNull a_altFirst a_altLast a_catNull a_catFirst a_catLast a_atomNull a_atomFirst a_atomLast a_rawSet a_rawOfSet a_rawDelta a_rawLabel ll a_classOf a_nextClass a_classRep a_slotClass a_slotKey a_numberOf a_queue a_delta a_stateLabel a_extendable a_text a_lexRule a_lexLength a_failed a_trail) :
    ∀ (m k : Nat) (ll : Nat → Int32), k + m = n8 → gr_gs (ll c) (fun j => j < k ∧ sg_l t c j) → (∀ c', c' < c → gr_gs (ll c') (sg_l t c')) → wX_buildSubsets_16 post J2 (nI c) f_letters f_maxRules f_maxLeaves f_maxText f_tokenCount f_depth (nI n8) f_finishedLeaves f_ruleCount f_rawCount f_stateTotal f_aliveRules f_compiled f_textLength f_closed f_lexCount f_position (m + 1) (nI k) a_tokens a_masks a_follow a_ruleNull a_ruleFirst a_ruleLast a_altNull a_altFirst a_altLast a_catNull a_catFirst a_catLast a_atomNull a_atomFirst a_atomLast a_rawSet a_rawOfSet a_rawDelta a_rawLabel ll a_classOf a_nextClass a_classRep a_slotClass a_slotKey a_numberOf a_queue a_delta a_stateLabel a_extendable a_text a_lexRule a_lexLength a_failed a_trail := by
  intro m
  induction m with
  | zero =>
    intro k ll hm h1 h2
    refine br_t (nI_le (by omega) (by omega)) (nm_r (nI_1 c) (K ll (gr_gs_c h1 (fun j => ⟨fun z => z.2, fun z => ⟨?_, z⟩⟩)) h2))
    obtain ⟨p, p1, p2, p3, _⟩ := z
    have := lf_lt p2 p1
    omega
  | succ m ih =>
    intro k ll hm h1 h2
    obtain ⟨p, p1, p2, p3⟩ := lf_ex (t := t) 176 k (by omega)
    have mk := hmk p p2
    rw [p3] at mk
    have lk : sg_l t c k ↔ bt (nI (t p)) c = true := by
      constructor
      · rintro ⟨q, q1, q2, q3, q4⟩
        have := lf_inj q p q2 p2 (q3.trans p3.symm)
        subst this
        exact q4
      · intro z; exact ⟨p, p1, p2, p3, z⟩
    have cc : (nI c).toNatClampNeg = c := nI_clamp (by omega)
    have ck : (nI k).toNatClampNeg = k := nI_clamp (by omega)
    have hi : vp_in (nI c) 4 := vp_in_nI hc (by omega)
    refine br_f (nI_ge (by omega) (by omega)) (br_f (nI_ge (b := 8) (by omega) (by omega)) (And.intro (vp_in_nI (by omega) (by omega)) ?_))
    rw [ck, mk, xl_bit (by omega)]
    refine br_c (fun z => nm_r (nI_1 k) (ih (k + 1) ll (by omega) (gr_gs_c h1 (fun j => ⟨fun w => ⟨by omega, w.2⟩, fun w => ⟨?_, w.2⟩⟩)) h2)) (fun z => And.intro hi (And.intro hi (nm_r (e' := upd ll c (ll c ||| ((1 : Int32) <<< (nI k &&& 31)))) (by rw [cc]) (nm_r (nI_1 k) (ih (k + 1) _ (by omega) ?_ (fun c' hc' => by rw [pk_un (by omega)]; exact h2 c' hc'))))))
    · by_cases e : j = k
      · subst e
        have := lk.mp w.2
        rw [z] at this; exact absurd this (by decide)
      · omega
    · rw [pk_us]
      refine gr_gs_c (gr_gs_or h1 (xl_one (k := k) (by omega))) (fun j => ?_)
      constructor
      · rintro (w | w)
        · exact ⟨by omega, w.2⟩
        · subst w; exact ⟨by omega, lk.mpr (ts_nf z)⟩
      · rintro ⟨w1, w2⟩
        by_cases e : j = k
        · exact Or.inr e.symm
        · exact Or.inl ⟨by omega, w2⟩
theorem xw_buildSubsets {post : SX → Prop} {n8 : Nat} (hL : L ≤ 4) (hR : R ≤ 6) (hn8 : n8 ≤ 8) (hn : n8 = lf_c t 176) (h8 : ∀ p, gr_Lf t p → lf_c t p < 8) (hz : ∀ p, 1 + 25 * R ≤ p → t p = 0) (A : xr_A t R a_masks a_follow a_ruleNull a_ruleFirst a_ruleLast)
    (K : ∀ N' sit' rset' rof' rlab' rdel' ll', rb_I t R N' sit' rset' rof' rlab' → rb_D t R L N' sit' N' 0 rdel' → post (nI L, f_maxRules, f_maxLeaves, f_maxText, f_tokenCount, f_depth, nI n8, f_finishedLeaves, nI R, nI N', f_stateTotal, f_aliveRules, f_compiled, f_textLength, f_closed, f_lexCount, f_position, a_tokens, a_masks, a_follow, a_ruleNull, a_ruleFirst, a_ruleLast, a_altNull, a_altFirst, a_altLast, a_catNull, a_catFirst, a_catLast, a_atomNull, a_atomFirst, a_atomLast, rset', rof', rdel', rlab', ll', a_classOf, a_nextClass, a_classRep, a_slotClass, a_slotKey, a_numberOf, a_queue, a_delta, a_stateLabel, a_extendable, a_text, a_lexRule, a_lexLength, a_failed, a_trail)) :
    wpX_buildSubsets post (nI L, f_maxRules, f_maxLeaves, f_maxText, f_tokenCount, f_depth, nI n8, f_finishedLeaves, nI R, f_rawCount, f_stateTotal, f_aliveRules, f_compiled, f_textLength, f_closed, f_lexCount, f_position, a_tokens, a_masks, a_follow, a_ruleNull, a_ruleFirst, a_ruleLast, a_altNull, a_altFirst, a_altLast, a_catNull, a_catFirst, a_catLast, a_atomNull, a_atomFirst, a_atomLast, a_rawSet, a_rawOfSet, a_rawDelta, a_rawLabel, a_letterLeaves, a_classOf, a_nextClass, a_classRep, a_slotClass, a_slotKey, a_numberOf, a_queue, a_delta, a_stateLabel, a_extendable, a_text, a_lexRule, a_lexLength, a_failed, a_trail) := by
  have hlf : ∀ p, gr_Lf t p → p < 176 := by
    intro p hp
    rcases Nat.lt_or_ge p (1 + 25 * R) with z | z
    · omega
    · have := hp.1; rw [hz p z] at this; omega
  have key : ∀ (m c : Nat) (ll : Nat → Int32), c + m = 4 → (∀ c', c' < c → gr_gs (ll c') (sg_l t c')) → wX_buildSubsets_2 post (nI L) f_maxRules f_maxLeaves f_maxText f_tokenCount f_depth (nI n8) f_finishedLeaves (nI R) f_rawCount f_stateTotal f_aliveRules f_compiled f_textLength f_closed f_lexCount f_position (m + 1) (nI c) a_tokens a_masks a_follow a_ruleNull a_ruleFirst a_ruleLast a_altNull a_altFirst a_altLast a_catNull a_catFirst a_catLast a_atomNull a_atomFirst a_atomLast a_rawSet a_rawOfSet a_rawDelta a_rawLabel ll a_classOf a_nextClass a_classRep a_slotClass a_slotKey a_numberOf a_queue a_delta a_stateLabel a_extendable a_text a_lexRule a_lexLength a_failed a_trail := by
    intro m
    induction m with
    | zero =>
      intro c ll hm h
      have e : c = 4 := by omega
      subst e
      exact br_t (nI_le (a := 4) (by omega) (by omega)) ⟨257, xw_bs69 hL hR h8 hz A h (fun N' sit' rset' rof' rlab' rdel' I' D' => K N' sit' rset' rof' rlab' rdel' ll I' D') 256 0 a_rawOfSet rfl (fun v hv => by omega)⟩
    | succ m ih =>
      intro c ll hm h
      refine br_f (nI_ge (b := 4) (by omega) (by omega)) (And.intro (vp_in_nI (by omega) (by omega)) (nm_r (e' := upd ll c 0) (by rw [nI_clamp (by omega)]) ⟨n8 + 1, xw_bs16 (by omega) hn8 hn hlf A.1 (fun ll' h1 h2 => ih (c + 1) ll' (by omega) (fun c' hc' => ?_)) n8 0 _ (by omega) (by rw [pk_us]; exact gr_gs_0 (fun j z => by omega)) (fun c' hc' => by rw [pk_un (by omega)]; exact h c' hc')⟩))
      by_cases e : c' = c
      · subst e; exact h1
      · exact h2 c' (by omega)
  exact ⟨5, key 4 0 a_letterLeaves rfl (fun c' hc' => by omega)⟩
end
end
section
/-! X: signature, findSlot, regroup -/
def sk_d (cls : Nat → Nat) (rdel : Nat → Int32) (s a : Nat) : Nat := if rdel (s * 4 + a) < 0 then 0 else cls (rdel (s * 4 + a)).toNatClampNeg + 1
def sk_k (cls : Nat → Nat) (rdel : Nat → Int32) (s : Nat) : Nat → Nat
  | 0 => cls s
  | a + 1 => sk_k cls rdel s a * 512 + sk_d cls rdel s a
/-- classes below 256, successors within -/
def sk_B (N L : Nat) (cls : Nat → Nat) (rdel : Nat → Int32) : Prop := (∀ s, s < N → cls s < 256) ∧ ∀ s a, s < N → a < L → rdel (s * 4 + a) = -1 ∨ ∃ s2, s2 < N ∧ rdel (s * 4 + a) = nI s2
theorem sk_d_lt {N L : Nat} {cls : Nat → Nat} {rdel : Nat → Int32} (hN : N ≤ 256) (h : sk_B N L cls rdel) {s a : Nat} (hs : s < N) (ha : a < L) : sk_d cls rdel s a < 512 := by
  unfold sk_d
  rcases h.2 s a hs ha with z | ⟨s2, z1, z2⟩
  · rw [if_pos (by rw [z]; decide)]; omega
  · rw [if_neg (by rw [z2]; exact nI_pos (by omega)), z2, nI_clamp (by omega)]
    have := h.1 s2 z1
    omega
theorem sk_k_lt {N L : Nat} {cls : Nat → Nat} {rdel : Nat → Int32} (hN : N ≤ 256) (h : sk_B N L cls rdel) {s : Nat} (hs : s < N) : ∀ a, a ≤ L → sk_k cls rdel s a < 512 ^ (a + 1) := by
  intro a
  induction a with
  | zero => intro _; have := h.1 s hs; show cls s < 512 ^ 1; omega
  | succ a ih =>
    intro ha
    have q := ih (by omega)
    have d := sk_d_lt hN h hs (a := a) (by omega)
    show sk_k cls rdel s a * 512 + sk_d cls rdel s a < 512 ^ (a + 1 + 1)
    rw [Nat.pow_succ]
    omega
theorem sk_k_inj {N L : Nat} {cls : Nat → Nat} {rdel : Nat → Int32} (hN : N ≤ 256) (h : sk_B N L cls rdel) {s s' : Nat} (hs : s < N) (hs' : s' < N) : ∀ a, a ≤ L → (sk_k cls rdel s a = sk_k cls rdel s' a ↔ cls s = cls s' ∧ ∀ a', a' < a → sk_d cls rdel s a' = sk_d cls rdel s' a') := by
  intro a
  induction a with
  | zero => intro _; exact ⟨fun z => ⟨z, fun a' ha' => by omega⟩, fun z => z.1⟩
  | succ a ih =>
    intro ha
    have q := ih (by omega)
    have d := sk_d_lt hN h hs (a := a) (by omega)
    have d' := sk_d_lt hN h hs' (a := a) (by omega)
    show sk_k cls rdel s a * 512 + sk_d cls rdel s a = sk_k cls rdel s' a * 512 + sk_d cls rdel s' a ↔ _
    constructor
    · intro e
      have e1 : sk_k cls rdel s a = sk_k cls rdel s' a := by omega
      have e2 : sk_d cls rdel s a = sk_d cls rdel s' a := by omega
      obtain ⟨p1, p2⟩ := q.mp e1
      refine ⟨p1, fun a' ha' => ?_⟩
      by_cases c : a' = a
      · rw [c]; exact e2
      · exact p2 a' (by omega)
    · rintro ⟨p1, p2⟩
      rw [q.mpr ⟨p1, fun a' ha' => p2 a' (by omega)⟩, p2 a (by omega)]
theorem sk_p {a : Nat} (ha : a ≤ 4) : 512 ^ (a + 1) ≤ 35184372088832 := by
  have : ∀ a, a < 5 → 512 ^ (a + 1) ≤ 35184372088832 := by decide
  exact this a (by omega)
theorem lN_injB {a b : Nat} (ha : a < 2 ^ 64) (hb : b < 2 ^ 64) (h : lN a = lN b) : a = b := by
  have := congrArg (fun x => x.toBitVec.toNat) h
  rw [wb_tn ha, wb_tn hb] at this
  exact this
def sk_h (k : Int64) : Nat := (k * (-7046029254386353131)).toBitVec.toNat / 2 ^ 55
theorem sk_h_lt (k : Int64) : sk_h k < 512 := by
  have := (k * (-7046029254386353131)).toBitVec.isLt
  unfold sk_h
  omega
theorem sk_h_e (k : Int64) : (((k * (-7046029254386353131)).toUInt64 >>> ((55 : Int32).toInt64.toUInt64 &&& Int64.toUInt64 63)).toInt64).toInt32 = nI (sk_h k) := by
  unfold sk_h
  obtain ⟨n, hn, e⟩ := wb_of (k * (-7046029254386353131))
  rw [e, wb_tn hn, show (55 : Int32) = nI 55 from rfl, wb_shr hn (by omega), lN_i]
section
variable {f_letters f_maxRules f_maxLeaves f_maxText f_tokenCount f_depth f_leafCount f_finishedLeaves f_ruleCount f_rawCount f_stateTotal f_aliveRules f_compiled f_textLength f_closed f_lexCount f_position : Int32} {a_tokens a_masks a_follow a_ruleNull a_ruleFirst a_ruleLast a_altNull a_altFirst a_altLast a_catNull a_catFirst a_catLast a_atomNull a_atomFirst a_atomLast a_rawSet a_rawOfSet a_rawDelta a_rawLabel a_letterLeaves a_classOf a_nextClass a_classRep a_slotClass a_numberOf a_queue a_delta a_stateLabel a_extendable a_text a_lexRule a_lexLength a_trail : Nat → Int32} {a_slotKey a_failed : Nat → Int64} {L N : Nat} {cls : Nat → Nat}
theorem xw_signature {post : Int64 → Prop} {s : Nat} (hL : L ≤ 4) (hN : N ≤ 256) (hs : s < N) (hB : sk_B N L cls a_rawDelta) (hcl : ∀ s, s < N → a_classOf s = nI (cls s)) (h : post (lN (sk_k cls a_rawDelta s L))) : wpX_signature post (nI L, f_maxRules, f_maxLeaves, f_maxText, f_tokenCount, f_depth, f_leafCount, f_finishedLeaves, f_ruleCount, f_rawCount, f_stateTotal, f_aliveRules, f_compiled, f_textLength, f_closed, f_lexCount, f_position, a_tokens, a_masks, a_follow, a_ruleNull, a_ruleFirst, a_ruleLast, a_altNull, a_altFirst, a_altLast, a_catNull, a_catFirst, a_catLast, a_atomNull, a_atomFirst, a_atomLast, a_rawSet, a_rawOfSet, a_rawDelta, a_rawLabel, a_letterLeaves, a_classOf, a_nextClass, a_classRep, a_slotClass, a_slotKey, a_numberOf, a_queue, a_delta, a_stateLabel, a_extendable, a_text, a_lexRule, a_lexLength, a_failed, a_trail) (nI s) := by
  have key : ∀ m a, a + m = L → wX_signature_11 post (nI s) (nI L) f_maxRules f_maxLeaves f_maxText f_tokenCount f_depth f_leafCount f_finishedLeaves f_ruleCount f_rawCount f_stateTotal f_aliveRules f_compiled f_textLength f_closed f_lexCount f_position a_tokens a_masks a_follow a_ruleNull a_ruleFirst a_ruleLast a_altNull a_altFirst a_altLast a_catNull a_catFirst a_catLast a_atomNull a_atomFirst a_atomLast a_rawSet a_rawOfSet a_rawDelta a_rawLabel a_letterLeaves a_classOf a_nextClass a_classRep a_slotClass a_slotKey a_numberOf a_queue a_delta a_stateLabel a_extendable a_text a_lexRule a_lexLength a_failed a_trail (m + 1) (lN (sk_k cls a_rawDelta s a)) (nI a) := by
    intro m
    induction m with
    | zero =>
      intro a hm
      have e : a = L := by omega
      subst e
      exact br_t (nI_le (Nat.le_refl _) (by omega)) h
    | succ m ih =>
      intro a hm
      have ix : (nI s * 4) + nI a = nI (s * 4 + a) := yl_i4 s a
      have cx : ((nI s * 4) + nI a).toNatClampNeg = s * 4 + a := by rw [ix]; exact nI_clamp (by omega)
      have k1 := sk_k_lt hN hB hs a (by omega)
      have k2 := sk_p (a := a) (by omega)
      have nx := ih (a + 1) (by omega)
      have en : sk_k cls a_rawDelta s (a + 1) = sk_k cls a_rawDelta s a * 512 + sk_d cls a_rawDelta s a := rfl
      have esh : lN (sk_k cls a_rawDelta s a) <<< ((9 : Int32).toInt64 &&& 63) = lN (sk_k cls a_rawDelta s a * 512) := by
        rw [show (9 : Int32) = nI 9 from rfl, wb_shl _ (by omega)]
      refine br_f (nI_ge (by omega) (by omega)) (And.intro (by rw [ix]; exact vp_in_nI (by omega) (by omega)) (nm_r (e' := a_rawDelta (s * 4 + a)) (by rw [cx]) (nm_r esh ?_)))
      rcases hB.2 s a hs (by omega) with z | ⟨s2, z1, z2⟩
      · have ed : sk_d cls a_rawDelta s a = 0 := if_pos (by rw [z]; decide)
        rw [en, ed, Nat.add_zero] at nx
        exact br_t (by rw [z]; decide) (nm_r (nI_1 a) nx)
      · have ed : sk_d cls a_rawDelta s a = cls s2 + 1 := by
          unfold sk_d
          rw [if_neg (by rw [z2]; exact nI_pos (by omega)), z2, nI_clamp (by omega)]
        have c2 := hB.1 s2 z1
        rw [en, ed] at nx
        rw [z2]
        refine br_f (nI_pos (by omega)) (And.intro (vp_in_nI (by omega) (by omega)) (nm_r (e' := lN (sk_k cls a_rawDelta s a * 512 + (cls s2 + 1))) ?_ (nm_r (nI_1 a) nx)))
        rw [nI_clamp (by omega), hcl s2 z1, nI_1, nI_l (by omega)]
        exact g_or (k := 9) (by decide) (by omega) (by omega)
  have c1 := hB.1 s hs
  exact And.intro (vp_in_nI (by omega) (by omega)) (nm_r (e' := lN (cls s)) (by rw [nI_clamp (by omega), hcl s hs, nI_l (by omega)]) ⟨L + 1, key L 0 (by omega)⟩)
theorem xw_findS {post : Int32 → Prop} {k : Int64} {h : Nat} (hh : h < 512) (hfree : ∃ i, i < 512 ∧ a_slotClass i = -1) (hsc : ∀ i, i < 512 → a_slotClass i = -1 ∨ ∃ cl, cl < 256 ∧ a_slotClass i = nI cl)
    (K : ∀ q i, q < 512 → i < 512 → i = (h + q) % 512 → (∀ q', q' < q → ¬ a_slotClass ((h + q') % 512) = -1 ∧ ¬ a_slotKey ((h + q') % 512) = k) → (a_slotClass i = -1 ∨ (¬ a_slotClass i = -1 ∧ a_slotKey i = k)) → post (nI i)) : ∀ m q, q + m = 512 → (∀ q', q' < q → ¬ a_slotClass ((h + q') % 512) = -1 ∧ ¬ a_slotKey ((h + q') % 512) = k) → wX_findSlot_13 post k f_letters f_maxRules f_maxLeaves f_maxText f_tokenCount f_depth f_leafCount f_finishedLeaves f_ruleCount f_rawCount f_stateTotal f_aliveRules f_compiled f_textLength f_closed f_lexCount f_position a_tokens a_masks a_follow a_ruleNull a_ruleFirst a_ruleLast a_altNull a_altFirst a_altLast a_catNull a_catFirst a_catLast a_atomNull a_atomFirst a_atomLast a_rawSet a_rawOfSet a_rawDelta a_rawLabel a_letterLeaves a_classOf a_nextClass a_classRep a_slotClass a_slotKey a_numberOf a_queue a_delta a_stateLabel a_extendable a_text a_lexRule a_lexLength a_failed a_trail (m + 1) (nI ((h + q) % 512)) (nI q) := by
  intro m
  induction m with
  | zero =>
    intro q hm hp
    exfalso
    obtain ⟨i, i1, i2⟩ := hfree
    have := (hp ((i + 512 - h) % 512) (by omega)).1
    rw [show (h + (i + 512 - h) % 512) % 512 = i by omega] at this
    exact this i2
  | succ m ih =>
    intro q hm hp
    obtain ⟨j, ej⟩ : ∃ j, (h + q) % 512 = j := ⟨_, rfl⟩
    have lt : j < 512 := by omega
    have en : (j + 1) % 2 ^ 9 = (h + (q + 1)) % 512 := by omega
    have hi : vp_in (nI j) 512 := vp_in_nI lt (by omega)
    have ci : (nI j).toNatClampNeg = j := nI_clamp (by omega)
    have neg : a_slotClass j < 0 ↔ a_slotClass j = -1 := by
      rcases hsc _ lt with z | ⟨cl, z1, z2⟩
      · rw [z]; exact ⟨fun _ => rfl, fun _ => by decide⟩
      · rw [z2]; exact ⟨fun w => absurd w (nI_pos (by omega)), fun w => absurd w (yl_m1ne cl (by omega))⟩
    rw [ej]
    refine br_f (nI_ge (b := 512) (by omega) (by omega)) (And.intro hi ?_)
    rw [ci, neg]
    refine br_c (fun z => K q j (by omega) lt ej.symm hp (Or.inl z)) (fun z => And.intro hi (br_c (fun z2 => K q j (by omega) lt ej.symm hp (Or.inr ⟨z, z2⟩)) (fun z2 => nm_r (e' := nI ((h + (q + 1)) % 512)) ?_ (nm_r (nI_1 q) (ih (q + 1) (by omega) (fun q' hq' => ?_))))))
    · rw [nI_1, pk_andN (by omega) (m := 511) 9 (by decide), en]
    · by_cases e : q' = q
      · rw [e, ej]; exact ⟨z, z2⟩
      · exact hp q' (by omega)
theorem xw_findSlot {post : Int32 → Prop} {k : Int64} (hfree : ∃ i, i < 512 ∧ a_slotClass i = -1) (hsc : ∀ i, i < 512 → a_slotClass i = -1 ∨ ∃ cl, cl < 256 ∧ a_slotClass i = nI cl)
    (K : ∀ q i, q < 512 → i < 512 → i = (sk_h k + q) % 512 → (∀ q', q' < q → ¬ a_slotClass ((sk_h k + q') % 512) = -1 ∧ ¬ a_slotKey ((sk_h k + q') % 512) = k) → (a_slotClass i = -1 ∨ (¬ a_slotClass i = -1 ∧ a_slotKey i = k)) → post (nI i)) : wpX_findSlot post (f_letters, f_maxRules, f_maxLeaves, f_maxText, f_tokenCount, f_depth, f_leafCount, f_finishedLeaves, f_ruleCount, f_rawCount, f_stateTotal, f_aliveRules, f_compiled, f_textLength, f_closed, f_lexCount, f_position, a_tokens, a_masks, a_follow, a_ruleNull, a_ruleFirst, a_ruleLast, a_altNull, a_altFirst, a_altLast, a_catNull, a_catFirst, a_catLast, a_atomNull, a_atomFirst, a_atomLast, a_rawSet, a_rawOfSet, a_rawDelta, a_rawLabel, a_letterLeaves, a_classOf, a_nextClass, a_classRep, a_slotClass, a_slotKey, a_numberOf, a_queue, a_delta, a_stateLabel, a_extendable, a_text, a_lexRule, a_lexLength, a_failed, a_trail) k := by
  have hh := sk_h_lt k
  refine nm_r (sk_h_e k) ?_
  generalize sk_h k = h at hh K
  have e : (h + 0) % 512 = h := by omega
  have r : wX_findSlot_13 post k f_letters f_maxRules f_maxLeaves f_maxText f_tokenCount f_depth f_leafCount f_finishedLeaves f_ruleCount f_rawCount f_stateTotal f_aliveRules f_compiled f_textLength f_closed f_lexCount f_position a_tokens a_masks a_follow a_ruleNull a_ruleFirst a_ruleLast a_altNull a_altFirst a_altLast a_catNull a_catFirst a_catLast a_atomNull a_atomFirst a_atomLast a_rawSet a_rawOfSet a_rawDelta a_rawLabel a_letterLeaves a_classOf a_nextClass a_classRep a_slotClass a_slotKey a_numberOf a_queue a_delta a_stateLabel a_extendable a_text a_lexRule a_lexLength a_failed a_trail 513 (nI ((h + 0) % 512)) (nI 0) := xw_findS hh hfree hsc K 512 0 rfl (fun q' hq' => by omega)
  rw [e] at r
  exact ⟨513, r⟩
end
/-- the slot table with c classes: rep cl is the first state of class cl, kf the keys -/
def sk_T (c : Nat) (rep kf : Nat → Nat) (sc : Nat → Int32) (sk : Nat → Int64) : Prop :=
  (∀ i, i < 512 → sc i = -1 ∨ ∃ cl, cl < c ∧ sc i = nI cl ∧ sk i = lN (kf (rep cl))) ∧
  (∀ cl, cl < c → ∃ q, q < 512 ∧ sc ((sk_h (lN (kf (rep cl))) + q) % 512) = nI cl ∧ ∀ q', q' < q → ¬ sc ((sk_h (lN (kf (rep cl))) + q') % 512) = -1) ∧
  (∀ cl cl', cl < c → cl' < c → kf (rep cl) = kf (rep cl') → cl = cl') ∧
  (∀ i j cl, i < 512 → j < 512 → cl < c → sc i = nI cl → sc j = nI cl → i = j)
theorem sk_free {c : Nat} {rep kf : Nat → Nat} {sc : Nat → Int32} {sk : Nat → Int64} (hc : c ≤ 256) (T : sk_T c rep kf sc sk) : ∃ i, i < 512 ∧ sc i = -1 := by
  apply Classical.byContradiction
  intro ne
  have oc : ∀ i, i < 512 → ∃ cl, cl < c ∧ sc i = nI cl := by
    intro i hi
    rcases T.1 i hi with z | ⟨cl, z1, z2, _⟩
    · exact absurd ⟨i, hi, z⟩ ne
    · exact ⟨cl, z1, z2⟩
  have := ct_inj c 512 (fun i => (sc i).toNatClampNeg) (by
    intro i hi
    obtain ⟨cl, z1, z2⟩ := oc i hi
    show (sc i).toNatClampNeg < c
    rw [z2, nI_clamp (by omega)]; exact z1) (by
    intro i j hi hj e
    obtain ⟨cl, z1, z2⟩ := oc i hi
    obtain ⟨cl', w1, w2⟩ := oc j hj
    have e : (sc i).toNatClampNeg = (sc j).toNatClampNeg := e
    rw [z2, w2, nI_clamp (by omega), nI_clamp (by omega)] at e
    subst e
    exact T.2.2.2 i j cl hi hj z1 z2 w2)
  omega
theorem sk_T0 (rep kf : Nat → Nat) {sc : Nat → Int32} (sk : Nat → Int64) (h : ∀ i, i < 512 → sc i = -1) : sk_T 0 rep kf sc sk :=
  ⟨fun i hi => Or.inl (h i hi), fun cl h => by omega, fun cl cl' h => by omega, fun i j cl _ _ h => by omega⟩
/-- a key that is found -/
theorem sk_hit {c : Nat} {rep kf : Nat → Nat} {sc : Nat → Int32} {sk : Nat → Int64} {k i : Nat} (hb : ∀ x, kf x < 2 ^ 64) (hk : k < 2 ^ 64) (T : sk_T c rep kf sc sk) (hi : i < 512) (h1 : ¬ sc i = -1) (h2 : sk i = lN k) : ∃ cl, cl < c ∧ sc i = nI cl ∧ kf (rep cl) = k := by
  rcases T.1 i hi with z | ⟨cl, z1, z2, z3⟩
  · exact absurd z h1
  · exact ⟨cl, z1, z2, lN_injB (hb _) hk (z3.symm.trans h2)⟩
/-- a new key -/
theorem sk_new {c : Nat} {rep kf : Nat → Nat} {sc : Nat → Int32} {sk : Nat → Int64} {s q i : Nat} (hc : c < 256) (hb : ∀ x, kf x < 2 ^ 64) (T : sk_T c rep kf sc sk) (hq : q < 512) (hi : i < 512) (ei : i = (sk_h (lN (kf s)) + q) % 512)
    (h : ∀ q', q' < q → ¬ sc ((sk_h (lN (kf s)) + q') % 512) = -1 ∧ ¬ sk ((sk_h (lN (kf s)) + q') % 512) = lN (kf s)) (hf : sc i = -1) :
    (∀ cl, cl < c → kf (rep cl) ≠ kf s) ∧ sk_T (c + 1) (fun x => if x = c then s else rep x) kf (upd sc i (nI c)) (vp_updL sk i (lN (kf s))) := by
  obtain ⟨Ta, Tb, Tc, Td⟩ := T
  have nm : ∀ cl, cl < 256 → ¬ nI cl = -1 := fun cl hcl => yl_m1ne cl (by omega)
  have new : ∀ cl, cl < c → kf (rep cl) ≠ kf s := by
    intro cl hcl e
    obtain ⟨q1, a1, a2, a3⟩ := Tb cl hcl
    rw [e] at a2 a3
    rcases Nat.lt_trichotomy q q1 with w | w | w
    · exact a3 q w (by rw [← ei]; exact hf)
    · subst w; rw [← ei, hf] at a2; exact nm cl (by omega) a2.symm
    · have b := (h q1 w).2
      rcases Ta ((sk_h (lN (kf s)) + q1) % 512) (Nat.mod_lt _ (by decide)) with z | ⟨cl', z1, z2, z3⟩
      · rw [a2] at z; exact nm cl (by omega) z
      · rw [a2, nI_eq (by omega) (by omega)] at z2
        subst z2
        rw [e] at z3
        exact b z3
  refine ⟨new, ?_, ?_, ?_, ?_⟩
  · intro j hj
    by_cases e : j = i
    · subst e
      rw [pk_us, pk_uLs]
      exact Or.inr ⟨c, by omega, rfl, by dsimp only; rw [if_pos rfl]⟩
    · rw [pk_un e, pk_uLn e]
      rcases Ta j hj with z | ⟨cl, z1, z2, z3⟩
      · exact Or.inl z
      · exact Or.inr ⟨cl, by omega, z2, by dsimp only; rw [if_neg (by omega)]; exact z3⟩
  · intro cl hcl
    by_cases e : cl = c
    · subst e
      dsimp only
      rw [if_pos rfl]
      refine ⟨q, hq, by rw [← ei]; exact pk_us, fun q' hq' => ?_⟩
      have w := (h q' hq').1
      rw [pk_un (fun z => w (by rw [z]; exact hf))]
      exact w
    · dsimp only
      rw [if_neg e]
      obtain ⟨q1, a1, a2, a3⟩ := Tb cl (by omega)
      refine ⟨q1, a1, ?_, fun q' hq' => ?_⟩
      · rw [pk_un (fun z => by rw [z, hf] at a2; exact nm cl (by omega) a2.symm)]; exact a2
      · have w := a3 q' hq'
        rw [pk_un (fun z => w (by rw [z]; exact hf))]
        exact w
  · intro cl cl' h1 h2 e
    dsimp only at e
    by_cases c1 : cl = c
    · by_cases c2 : cl' = c
      · omega
      · rw [if_pos c1, if_neg c2] at e
        exact absurd e.symm (new cl' (by omega))
    · by_cases c2 : cl' = c
      · rw [if_neg c1, if_pos c2] at e
        exact absurd e (new cl (by omega))
      · rw [if_neg c1, if_neg c2] at e
        exact Tc cl cl' (by omega) (by omega) e
  · intro j j' cl hj hj' hcl e1 e2
    have old : ∀ x, x < 512 → x ≠ i → ¬ upd sc i (nI c) x = nI c := by
      intro x hx ne z
      rw [pk_un ne] at z
      rcases Ta x hx with w | ⟨cl', w1, w2, _⟩
      · rw [w] at z; exact nm c (by omega) z.symm
      · rw [w2, nI_eq (by omega) (by omega)] at z; omega
    by_cases c1 : cl = c
    · subst c1
      have f1 : j = i := Classical.byContradiction (fun w => old j hj w e1)
      have f2 : j' = i := Classical.byContradiction (fun w => old j' hj' w e2)
      rw [f1, f2]
    · have f1 : j ≠ i := fun w => by rw [w, pk_us, nI_eq (by omega) (by omega)] at e1; omega
      have f2 : j' ≠ i := fun w => by rw [w, pk_us, nI_eq (by omega) (by omega)] at e2; omega
      rw [pk_un f1] at e1
      rw [pk_un f2] at e2
      exact Td j j' cl hj hj' (by omega) e1 e2
end
section
/-! X: regroup, refine -/
def rg_kf (N L : Nat) (cls : Nat → Nat) (rdel : Nat → Int32) (x : Nat) : Nat := if x < N then sk_k cls rdel x L else 0
theorem rg_kf_lt {N L : Nat} {cls : Nat → Nat} {rdel : Nat → Int32} (hL : L ≤ 4) (hN : N ≤ 256) (h : sk_B N L cls rdel) (x : Nat) : rg_kf N L cls rdel x < 2 ^ 64 := by
  unfold rg_kf
  by_cases c : x < N
  · rw [if_pos c]
    have k1 := sk_k_lt hN h c L (Nat.le_refl _)
    have k2 := sk_p hL
    omega
  · rw [if_neg c]; decide
def rg_I (kf : Nat → Nat) (c s : Nat) (rep cn : Nat → Nat) (nxt crep : Nat → Int32) : Prop :=
  c ≤ s ∧ (∀ s', s' < s → nxt s' = nI (cn s') ∧ cn s' < c ∧ kf (rep (cn s')) = kf s') ∧ ∀ cl, cl < c → rep cl < s ∧ crep cl = nI (rep cl)
/-- one regrouping: classes cn with first states rep, by keys -/
def rg_R (kf : Nat → Nat) (N c : Nat) (rep cn : Nat → Nat) (co crep : Nat → Int32) : Prop :=
  c ≤ N ∧ (∀ s, s < N → co s = nI (cn s) ∧ cn s < c ∧ kf (rep (cn s)) = kf s) ∧ (∀ cl, cl < c → rep cl < N ∧ crep cl = nI (rep cl)) ∧ ∀ cl cl', cl < c → cl' < c → kf (rep cl) = kf (rep cl') → cl = cl'
section
variable {f_letters f_maxRules f_maxLeaves f_maxText f_tokenCount f_depth f_leafCount f_finishedLeaves f_ruleCount f_rawCount f_stateTotal f_aliveRules f_compiled f_textLength f_closed f_lexCount f_position : Int32} {a_tokens a_masks a_follow a_ruleNull a_ruleFirst a_ruleLast a_altNull a_altFirst a_altLast a_catNull a_catFirst a_catLast a_atomNull a_atomFirst a_atomLast a_rawSet a_rawOfSet a_rawDelta a_rawLabel a_letterLeaves a_classOf a_nextClass a_classRep a_slotClass a_numberOf a_queue a_delta a_stateLabel a_extendable a_text a_lexRule a_lexLength a_trail : Nat → Int32} {a_slotKey a_failed : Nat → Int64} {L N : Nat} {cls : Nat → Nat}
theorem xw_rg104 {post : Int32 → SX → Prop} {c : Nat} {rep cn kf : Nat → Nat} (hN : N ≤ 256) (I : rg_I kf c N rep cn a_nextClass a_classRep) (hinj : ∀ cl cl', cl < c → cl' < c → kf (rep cl) = kf (rep cl') → cl = cl')
    (K : ∀ co, rg_R kf N c rep cn co a_classRep → post (nI c) (f_letters, f_maxRules, f_maxLeaves, f_maxText, f_tokenCount, f_depth, f_leafCount, f_finishedLeaves, f_ruleCount, nI N, f_stateTotal, f_aliveRules, f_compiled, f_textLength, f_closed, f_lexCount, f_position, a_tokens, a_masks, a_follow, a_ruleNull, a_ruleFirst, a_ruleLast, a_altNull, a_altFirst, a_altLast, a_catNull, a_catFirst, a_catLast, a_atomNull, a_atomFirst, a_atomLast, a_rawSet, a_rawOfSet, a_rawDelta, a_rawLabel, a_letterLeaves, co, a_nextClass, a_classRep, a_slotClass, a_slotKey, a_numberOf, a_queue, a_delta, a_stateLabel, a_extendable, a_text, a_lexRule, a_lexLength, a_failed, a_trail)) :
    ∀ (m s : Nat) (co : Nat → Int32), s + m = N → (∀ s', s' < s → co s' = nI (cn s')) → wX_regroup_104 post (nI c) f_letters f_maxRules f_maxLeaves f_maxText f_tokenCount f_depth f_leafCount f_finishedLeaves f_ruleCount (nI N) f_stateTotal f_aliveRules f_compiled f_textLength f_closed f_lexCount f_position (m + 1) (nI s) a_tokens a_masks a_follow a_ruleNull a_ruleFirst a_ruleLast a_altNull a_altFirst a_altLast a_catNull a_catFirst a_catLast a_atomNull a_atomFirst a_atomLast a_rawSet a_rawOfSet a_rawDelta a_rawLabel a_letterLeaves co a_nextClass a_classRep a_slotClass a_slotKey a_numberOf a_queue a_delta a_stateLabel a_extendable a_text a_lexRule a_lexLength a_failed a_trail := by
  intro m
  induction m with
  | zero =>
    intro s co hm h
    refine br_t (nI_le (by omega) (by omega)) (K co ⟨I.1, fun s' hs' => ⟨h s' (by omega), (I.2.1 s' hs').2⟩, I.2.2, hinj⟩)
  | succ m ih =>
    intro s co hm h
    have hi : vp_in (nI s) 256 := vp_in_nI (by omega) (by omega)
    refine br_f (nI_ge (by omega) (by omega)) (And.intro hi (And.intro hi (nm_r (e' := upd co s (nI (cn s))) (by rw [nI_clamp (by omega), (I.2.1 s (by omega)).1]) (nm_r (nI_1 s) (ih (s + 1) _ (by omega) (fun s' hs' => ?_))))))
    by_cases e : s' = s
    · subst e; exact pk_us
    · rw [pk_un e]; exact h s' (by omega)
theorem xw_rg26 {post : Int32 → SX → Prop} (hL : L ≤ 4) (hN : N ≤ 256) (hB : sk_B N L cls a_rawDelta) (hcl : ∀ s, s < N → a_classOf s = nI (cls s))
    (K : ∀ c rep cn co nxt crep sc sk, rg_R (rg_kf N L cls a_rawDelta) N c rep cn co crep → post (nI c) (nI L, f_maxRules, f_maxLeaves, f_maxText, f_tokenCount, f_depth, f_leafCount, f_finishedLeaves, f_ruleCount, nI N, f_stateTotal, f_aliveRules, f_compiled, f_textLength, f_closed, f_lexCount, f_position, a_tokens, a_masks, a_follow, a_ruleNull, a_ruleFirst, a_ruleLast, a_altNull, a_altFirst, a_altLast, a_catNull, a_catFirst, a_catLast, a_atomNull, a_atomFirst, a_atomLast, a_rawSet, a_rawOfSet, a_rawDelta, a_rawLabel, a_letterLeaves, co, nxt, crep, sc, sk, a_numberOf, a_queue, a_delta, a_stateLabel, a_extendable, a_text, a_lexRule, a_lexLength, a_failed, a_trail)) :
    ∀ (m s c : Nat) (rep cn : Nat → Nat) (nxt crep sc : Nat → Int32) (sk : Nat → Int64), s + m = N → rg_I (rg_kf N L cls a_rawDelta) c s rep cn nxt crep → sk_T c rep (rg_kf N L cls a_rawDelta) sc sk → wX_regroup_26 post (nI L) f_maxRules f_maxLeaves f_maxText f_tokenCount f_depth f_leafCount f_finishedLeaves f_ruleCount (nI N) f_stateTotal f_aliveRules f_compiled f_textLength f_closed f_lexCount f_position (m + 1) (nI c) (nI s) a_tokens a_masks a_follow a_ruleNull a_ruleFirst a_ruleLast a_altNull a_altFirst a_altLast a_catNull a_catFirst a_catLast a_atomNull a_atomFirst a_atomLast a_rawSet a_rawOfSet a_rawDelta a_rawLabel a_letterLeaves a_classOf nxt crep sc sk a_numberOf a_queue a_delta a_stateLabel a_extendable a_text a_lexRule a_lexLength a_failed a_trail := by
  have hb := rg_kf_lt hL hN hB
  intro m
  induction m with
  | zero =>
    intro s c rep cn nxt crep sc sk hm I T
    have e : s = N := by omega
    subst e
    exact br_t (nI_le (Nat.le_refl _) (by omega)) ⟨s + 1, xw_rg104 hN I T.2.2.1 (fun co hco => K c rep cn co nxt crep sc sk hco) s 0 a_classOf (by omega) (fun s' hs' => by omega)⟩
  | succ m ih =>
    intro s c rep cn nxt crep sc sk hm I T
    have hsN : s < N := by omega
    have hc := I.1
    have ek : rg_kf N L cls a_rawDelta s = sk_k cls a_rawDelta s L := if_pos hsN
    refine br_f (nI_ge (by omega) (by omega)) (xw_signature hL hN hsN hB hcl ?_)
    rw [← ek]
    refine xw_findSlot (sk_free (by omega) T) (fun i hi => ?_) (fun q i hq hi ei hp hstop => And.intro (vp_in_nI hi (by omega)) ?_)
    · rcases T.1 i hi with z | ⟨cl, z1, z2, _⟩
      · exact Or.inl z
      · exact Or.inr ⟨cl, by omega, z2⟩
    · have ci : (nI i).toNatClampNeg = i := nI_clamp (by omega)
      rw [ci]
      rcases hstop with hf | ⟨hne, hkey⟩
      · obtain ⟨new, T'⟩ := sk_new (s := s) (by omega) hb T hq hi ei hp hf
        refine br_f (by rw [hf]; decide) (And.intro (vp_in_nI hi (by omega)) (nm_r (e' := upd sc i (nI c)) rfl (And.intro (vp_in_nI hi (by omega)) (nm_r (e' := vp_updL sk i (lN (rg_kf N L cls a_rawDelta s))) rfl (And.intro (vp_in_nI (by omega) (by omega)) (nm_r (e' := upd crep c (nI s)) (by rw [nI_clamp (by omega)]) (nm_r (nI_1 c) ?_)))))))
        refine And.intro (vp_in_nI hi (by omega)) (And.intro (vp_in_nI (by omega) (by omega)) (nm_r (e' := upd nxt s (nI c)) (by rw [ci, pk_us, nI_clamp (by omega)]) (nm_r (nI_1 s) ?_)))
        refine ih (s + 1) (c + 1) (fun x => if x = c then s else rep x) (fun x => if x = s then c else cn x) _ _ _ _ (by omega) ⟨by omega, fun s' hs' => ?_, fun cl hcl' => ?_⟩ T'
        · dsimp only
          by_cases e : s' = s
          · rw [if_pos e, if_pos rfl, e]; exact ⟨pk_us, by omega, rfl⟩
          · rw [if_neg e, pk_un e]
            have w := I.2.1 s' (by omega)
            rw [if_neg (by omega)]
            exact ⟨w.1, by omega, w.2.2⟩
        · dsimp only
          by_cases e : cl = c
          · subst e; rw [if_pos rfl]; exact ⟨by omega, pk_us⟩
          · rw [if_neg e, pk_un e]
            have w := I.2.2 cl (by omega)
            exact ⟨by omega, w.2⟩
      · obtain ⟨cl, c1, c2, c3⟩ := sk_hit hb (hb s) T hi hne hkey
        refine br_t (by rw [c2]; exact nI_pos' (by omega)) (And.intro (vp_in_nI hi (by omega)) (And.intro (vp_in_nI (by omega) (by omega)) (nm_r (e' := upd nxt s (nI cl)) (by rw [ci, c2, nI_clamp (by omega)]) (nm_r (nI_1 s) (ih (s + 1) c rep (fun x => if x = s then cl else cn x) _ _ _ _ (by omega) ⟨by omega, fun s' hs' => ?_, fun cl' hcl' => ?_⟩ T)))))
        · dsimp only
          by_cases e : s' = s
          · rw [if_pos e, e]; exact ⟨pk_us, c1, c3⟩
          · rw [if_neg e, pk_un e]
            exact I.2.1 s' (by omega)
        · have w := I.2.2 cl' hcl'
          exact ⟨by omega, w.2⟩
theorem xw_regroup {post : Int32 → SX → Prop} (hL : L ≤ 4) (hN : N ≤ 256) (hB : sk_B N L cls a_rawDelta) (hcl : ∀ s, s < N → a_classOf s = nI (cls s))
    (K : ∀ c rep cn co nxt crep sc sk, rg_R (rg_kf N L cls a_rawDelta) N c rep cn co crep → post (nI c) (nI L, f_maxRules, f_maxLeaves, f_maxText, f_tokenCount, f_depth, f_leafCount, f_finishedLeaves, f_ruleCount, nI N, f_stateTotal, f_aliveRules, f_compiled, f_textLength, f_closed, f_lexCount, f_position, a_tokens, a_masks, a_follow, a_ruleNull, a_ruleFirst, a_ruleLast, a_altNull, a_altFirst, a_altLast, a_catNull, a_catFirst, a_catLast, a_atomNull, a_atomFirst, a_atomLast, a_rawSet, a_rawOfSet, a_rawDelta, a_rawLabel, a_letterLeaves, co, nxt, crep, sc, sk, a_numberOf, a_queue, a_delta, a_stateLabel, a_extendable, a_text, a_lexRule, a_lexLength, a_failed, a_trail)) :
    wpX_regroup post (nI L, f_maxRules, f_maxLeaves, f_maxText, f_tokenCount, f_depth, f_leafCount, f_finishedLeaves, f_ruleCount, nI N, f_stateTotal, f_aliveRules, f_compiled, f_textLength, f_closed, f_lexCount, f_position, a_tokens, a_masks, a_follow, a_ruleNull, a_ruleFirst, a_ruleLast, a_altNull, a_altFirst, a_altLast, a_catNull, a_catFirst, a_catLast, a_atomNull, a_atomFirst, a_atomLast, a_rawSet, a_rawOfSet, a_rawDelta, a_rawLabel, a_letterLeaves, a_classOf, a_nextClass, a_classRep, a_slotClass, a_slotKey, a_numberOf, a_queue, a_delta, a_stateLabel, a_extendable, a_text, a_lexRule, a_lexLength, a_failed, a_trail) := by
  have key : ∀ (m i : Nat) (sc : Nat → Int32), i + m = 512 → (∀ j, j < i → sc j = -1) → wX_regroup_2 post (nI L) f_maxRules f_maxLeaves f_maxText f_tokenCount f_depth f_leafCount f_finishedLeaves f_ruleCount (nI N) f_stateTotal f_aliveRules f_compiled f_textLength f_closed f_lexCount f_position (m + 1) (nI i) a_tokens a_masks a_follow a_ruleNull a_ruleFirst a_ruleLast a_altNull a_altFirst a_altLast a_catNull a_catFirst a_catLast a_atomNull a_atomFirst a_atomLast a_rawSet a_rawOfSet a_rawDelta a_rawLabel a_letterLeaves a_classOf a_nextClass a_classRep sc a_slotKey a_numberOf a_queue a_delta a_stateLabel a_extendable a_text a_lexRule a_lexLength a_failed a_trail := by
    intro m
    induction m with
    | zero =>
      intro i sc hm h
      exact br_t (nI_le (a := 512) (by omega) (by omega)) ⟨N + 1, xw_rg26 hL hN hB hcl K N 0 0 (fun x => x) (fun x => x) a_nextClass a_classRep sc a_slotKey (by omega) ⟨Nat.le_refl _, fun s' h' => by omega, fun cl h' => by omega⟩ (sk_T0 _ _ _ (fun j hj => h j (by omega)))⟩
    | succ m ih =>
      intro i sc hm h
      refine br_f (nI_ge (b := 512) (by omega) (by omega)) (And.intro (vp_in_nI (by omega) (by omega)) (nm_r (e' := upd sc i (-1)) (by rw [nI_clamp (by omega)]) (nm_r (nI_1 i) (ih (i + 1) _ (by omega) (fun j hj => ?_)))))
      by_cases e : j = i
      · subst e; exact pk_us
      · rw [pk_un e]; exact h j (by omega)
  exact ⟨513, key 512 0 a_slotClass rfl (fun j hj => by omega)⟩
end
/-! the refinement, purely: Q is agreement of situations -/
def rf_F (t : Nat → Nat) (R L N : Nat) (sit cls : Nat → Nat) : Prop :=
  (∀ s, s < N → cls s < 256) ∧ (∀ s s', s < N → s' < N → mo_Q (sg_lab t R) (sg_go t R) L (sit s) (sit s') → cls s = cls s') ∧ ∀ s s', s < N → s' < N → cls s = cls s' → sg_lab t R (sit s) = sg_lab t R (sit s')
def rf_G (N n : Nat) (rep cls : Nat → Nat) : Prop := (∀ s, s < N → cls s < n) ∧ ∀ cl, cl < n → rep cl < N ∧ cls (rep cl) = cl
section
variable {t : Nat → Nat} {R L N : Nat} {sit cls : Nat → Nat} {rset rof rlab rdel : Nat → Int32}
theorem rf_B (I : rb_I t R N sit rset rof rlab) (D : rb_D t R L N sit N 0 rdel) (F : rf_F t R L N sit cls) : sk_B N L cls rdel := by
  refine ⟨F.1, fun s a hs ha => ?_⟩
  rcases D s a hs ha (Or.inl hs) with z | ⟨s2, z1, z2, z3, _⟩
  · exact Or.inl z.2
  · exact Or.inr ⟨s2, z2, z3⟩
theorem rg_cn {kf : Nat → Nat} {c : Nat} {rep cn : Nat → Nat} {co crep : Nat → Int32} (G : rg_R kf N c rep cn co crep) {s s' : Nat} (hs : s < N) (hs' : s' < N) : cn s = cn s' ↔ kf s = kf s' := by
  have a := (G.2.1 s hs).2
  have b := (G.2.1 s' hs').2
  constructor
  · intro e; rw [← a.2, ← b.2, e]
  · intro e; exact G.2.2.2 _ _ a.1 b.1 (by rw [a.2, b.2, e])
theorem rg_G {kf : Nat → Nat} {c : Nat} {rep cn : Nat → Nat} {co crep : Nat → Int32} (G : rg_R kf N c rep cn co crep) : rf_G N c rep cn := by
  refine ⟨fun s hs => (G.2.1 s hs).2.1, fun cl hcl => ⟨(G.2.2.1 cl hcl).1, ?_⟩⟩
  have hr := (G.2.2.1 cl hcl).1
  have a := (G.2.1 (rep cl) hr).2
  exact G.2.2.2 _ _ a.1 hcl a.2
/-- the digit of a successor -/
theorem rf_dg (hN : N ≤ 256) (D : rb_D t R L N sit N 0 rdel) {s a : Nat} (hs : s < N) (ha : a < L) : (sg_go t R (sit s) a = 0 ∧ sk_d cls rdel s a = 0) ∨ ∃ s2, s2 < N ∧ 1 ≤ s2 ∧ sit s2 = sg_go t R (sit s) a ∧ sk_d cls rdel s a = cls s2 + 1 := by
  rcases D s a hs ha (Or.inl hs) with z | ⟨s2, z1, z2, z3, z4⟩
  · exact Or.inl ⟨z.1, if_pos (by rw [z.2]; decide)⟩
  · refine Or.inr ⟨s2, z2, z1, z4, ?_⟩
    unfold sk_d
    rw [if_neg (by rw [z3]; exact nI_pos (by omega)), z3, nI_clamp (by omega)]
theorem rf_next (hlive : ∀ c a, sg_go t R c a = 0 ↔ mo_Q (sg_lab t R) (sg_go t R) L (sg_go t R c a) 0) (I : rb_I t R N sit rset rof rlab) (D : rb_D t R L N sit N 0 rdel) (F : rf_F t R L N sit cls)
    {c : Nat} {rep cn : Nat → Nat} {co crep : Nat → Int32} (G : rg_R (rg_kf N L cls rdel) N c rep cn co crep) :
    rf_F t R L N sit cn ∧ (∀ s s', s < N → s' < N → cn s = cn s' → cls s = cls s' ∧ ∀ a, a < L → sk_d cls rdel s a = sk_d cls rdel s' a) := by
  have hN := I.2.1
  have hB := rf_B I D F
  have kk : ∀ s s', s < N → s' < N → (cn s = cn s' ↔ cls s = cls s' ∧ ∀ a, a < L → sk_d cls rdel s a = sk_d cls rdel s' a) := by
    intro s s' hs hs'
    rw [rg_cn G hs hs']
    unfold rg_kf
    rw [if_pos hs, if_pos hs']
    exact sk_k_inj hN hB hs hs' L (Nat.le_refl _)
  refine ⟨⟨fun s hs => ?_, fun s s' hs hs' hq => ?_, fun s s' hs hs' e => F.2.2 s s' hs hs' ((kk s s' hs hs').mp e).1⟩, fun s s' hs hs' e => (kk s s' hs hs').mp e⟩
  · have := (G.2.1 s hs).2.1
    have := G.1
    omega
  · refine (kk s s' hs hs').mpr ⟨F.2.1 s s' hs hs' hq, fun a ha => ?_⟩
    have q := mo_Q_go hq ha
    rcases rf_dg (cls := cls) hN D hs ha with ⟨z1, z2⟩ | ⟨s2, z1, z2, z3, z4⟩
    · rcases rf_dg (cls := cls) hN D hs' ha with ⟨w1, w2⟩ | ⟨s3, w1, w2, w3, w4⟩
      · rw [z2, w2]
      · exfalso
        rw [z1] at q
        have e0 := (hlive (sit s') a).mpr (mo_Q_symm q)
        have := (I.2.2.2.1 s3 w2 w1).2.1
        omega
    · rcases rf_dg (cls := cls) hN D hs' ha with ⟨w1, w2⟩ | ⟨s3, w1, w2, w3, w4⟩
      · exfalso
        rw [w1] at q
        have e0 := (hlive (sit s) a).mpr q
        have := (I.2.2.2.1 s2 z2 z1).2.1
        omega
      · rw [z4, w4, F.2.1 s2 s3 z1 w1 (by rw [z3, w3]; exact q)]
/-- more classes, or the same partition -/
theorem rf_more {n c : Nat} {rep rep' cn : Nat → Nat} (G : rf_G N n rep cls) (G' : rf_G N c rep' cn) (hr : ∀ s s', s < N → s' < N → cn s = cn s' → cls s = cls s') : n ≤ c ∧ (c = n → ∀ s s', s < N → s' < N → cls s = cls s' → cn s = cn s') := by
  have inj : ∀ i j, i < n → j < n → cn (rep i) = cn (rep j) → i = j := by
    intro i j hi hj e
    have a := G.2 i hi
    have b := G.2 j hj
    have := hr _ _ a.1 b.1 e
    rw [a.2, b.2] at this
    exact this
  refine ⟨ct_inj c n (fun i => cn (rep i)) (fun i hi => G'.1 _ (G.2 i hi).1) inj, ?_⟩
  intro e s s' hs hs' ecl
  subst e
  have key : ∀ s, s < N → cn s = cn (rep (cls s)) := by
    intro s hs
    obtain ⟨i, hi, ei⟩ := ct_surj c (fun i => cn (rep i)) (fun i hi => G'.1 _ (G.2 i hi).1) inj (cn s) (G'.1 s hs)
    have ei : cn (rep i) = cn s := ei
    have := hr _ _ (G.2 i hi).1 hs ei
    rw [(G.2 i hi).2] at this
    rw [← this, ei]
  rw [key s hs, key s' hs', ecl]
/-- a stable partition is agreement -/
theorem rf_stab (hN : N ≤ 256) (I : rb_I t R N sit rset rof rlab) (D : rb_D t R L N sit N 0 rdel) {cn : Nat → Nat} (F : rf_F t R L N sit cn)
    (h : ∀ s s', s < N → s' < N → cn s = cn s' → cls s = cls s' ∧ ∀ a, a < L → sk_d cls rdel s a = sk_d cls rdel s' a) (hst : ∀ s s', s < N → s' < N → cls s = cls s' → cn s = cn s') :
    ∀ s s', s < N → s' < N → (cn s = cn s' ↔ mo_Q (sg_lab t R) (sg_go t R) L (sit s) (sit s')) := by
  intro s s' hs hs'
  refine ⟨fun e => ?_, F.2.1 s s' hs hs'⟩
  refine mo_Q_co (fun u v => u = v ∨ ∃ s s', s < N ∧ s' < N ∧ u = sit s ∧ v = sit s' ∧ cn s = cn s') ?_ (Or.inr ⟨s, s', hs, hs', rfl, rfl, e⟩)
  rintro u v (e | ⟨s, s', hs, hs', e1, e2, e⟩)
  · subst e; exact ⟨rfl, fun a _ => Or.inl rfl⟩
  · subst e1 e2
    refine ⟨F.2.2 s s' hs hs' e, fun a ha => ?_⟩
    have d := (h s s' hs hs' e).2 a ha
    rcases rf_dg (cls := cls) hN D hs ha with ⟨z1, z2⟩ | ⟨s2, z1, z2, z3, z4⟩
    · rcases rf_dg (cls := cls) hN D hs' ha with ⟨w1, w2⟩ | ⟨s3, w1, w2, w3, w4⟩
      · left; rw [z1, w1]
      · omega
    · rcases rf_dg (cls := cls) hN D hs' ha with ⟨w1, w2⟩ | ⟨s3, w1, w2, w3, w4⟩
      · omega
      · exact Or.inr ⟨s2, s3, z1, w1, z3.symm, w3.symm, hst s2 s3 z1 w1 (by omega)⟩
end
section
variable {f_letters f_maxRules f_maxLeaves f_maxText f_tokenCount f_depth f_leafCount f_finishedLeaves f_ruleCount f_rawCount f_stateTotal f_aliveRules f_compiled f_textLength f_closed f_lexCount f_position : Int32} {a_tokens a_masks a_follow a_ruleNull a_ruleFirst a_ruleLast a_altNull a_altFirst a_altLast a_catNull a_catFirst a_catLast a_atomNull a_atomFirst a_atomLast a_rawSet a_rawOfSet a_rawDelta a_rawLabel a_letterLeaves a_classOf a_nextClass a_classRep a_slotClass a_numberOf a_queue a_delta a_stateLabel a_extendable a_text a_lexRule a_lexLength a_trail : Nat → Int32} {a_slotKey a_failed : Nat → Int64} {t : Nat → Nat} {R L N : Nat} {sit : Nat → Nat}
/-- what refine leaves: classes are agreement -/
def rf_Z (t : Nat → Nat) (R L N : Nat) (sit : Nat → Nat) (n : Nat) (rep cls : Nat → Nat) (co crep : Nat → Int32) : Prop :=
  1 ≤ n ∧ n ≤ N ∧ rf_G N n rep cls ∧ (∀ s, s < N → co s = nI (cls s)) ∧ (∀ cl, cl < n → crep cl = nI (rep cl)) ∧ ∀ s s', s < N → s' < N → (cls s = cls s' ↔ mo_Q (sg_lab t R) (sg_go t R) L (sit s) (sit s'))
theorem xw_rf34 {post : Int32 → SX → Prop} {rset rof rlab : Nat → Int32} (hL : L ≤ 4) (hlive : ∀ c a, sg_go t R c a = 0 ↔ mo_Q (sg_lab t R) (sg_go t R) L (sg_go t R c a) 0) (I : rb_I t R N sit rset rof rlab) (D : rb_D t R L N sit N 0 a_rawDelta)
    (K : ∀ n rep cls co nxt crep sc sk, rf_Z t R L N sit n rep cls co crep → post (nI n) (nI L, f_maxRules, f_maxLeaves, f_maxText, f_tokenCount, f_depth, f_leafCount, f_finishedLeaves, f_ruleCount, nI N, f_stateTotal, f_aliveRules, f_compiled, f_textLength, f_closed, f_lexCount, f_position, a_tokens, a_masks, a_follow, a_ruleNull, a_ruleFirst, a_ruleLast, a_altNull, a_altFirst, a_altLast, a_catNull, a_catFirst, a_catLast, a_atomNull, a_atomFirst, a_atomLast, a_rawSet, a_rawOfSet, a_rawDelta, a_rawLabel, a_letterLeaves, co, nxt, crep, sc, sk, a_numberOf, a_queue, a_delta, a_stateLabel, a_extendable, a_text, a_lexRule, a_lexLength, a_failed, a_trail)) :
    ∀ (m j n : Nat) (rep cls : Nat → Nat) (co nxt crep sc : Nat → Int32) (sk : Nat → Int64), j + m = 260 → j ≤ n → n ≤ 256 → rf_F t R L N sit cls → (n = 0 ∨ rf_G N n rep cls) → (∀ s, s < N → co s = nI (cls s)) → wX_refine_34 post (m + 2) (nI n) 0 (nI j) (nI L) f_maxRules f_maxLeaves f_maxText f_tokenCount f_depth f_leafCount f_finishedLeaves f_ruleCount (nI N) f_stateTotal f_aliveRules f_compiled f_textLength f_closed f_lexCount f_position a_tokens a_masks a_follow a_ruleNull a_ruleFirst a_ruleLast a_altNull a_altFirst a_altLast a_catNull a_catFirst a_catLast a_atomNull a_atomFirst a_atomLast a_rawSet a_rawOfSet a_rawDelta a_rawLabel a_letterLeaves co nxt crep sc sk a_numberOf a_queue a_delta a_stateLabel a_extendable a_text a_lexRule a_lexLength a_failed a_trail := by
  have hN := I.2.1
  have hN1 := I.1
  intro m
  induction m with
  | zero => intro j n rep cls co nxt crep sc sk hm h1 h2; omega
  | succ m ih =>
    intro j n rep cls co nxt crep sc sk hm h1 h2 F G hco
    refine br_f (nI_ge (b := 260) (by omega) (by omega)) (br_t rfl (xw_regroup hL hN (rf_B I D F) hco (fun c rep' cn co' nxt' crep' sc' sk' G' => ?_)))
    have nx := rf_next hlive I D F G'
    have GG := rg_G G'
    have c1 : 1 ≤ c := by have := GG.1 0 (by omega); omega
    have c2 := G'.1
    refine pk_eq c n (fun e => nm_r (nI_1 j) ?_) (fun e => nm_r (nI_1 j) (ih (j + 1) c rep' cn co' nxt' crep' sc' sk' (by omega) ?_ (by omega) nx.1 (Or.inr GG) (fun s hs => (G'.2.1 s hs).1)))
    · have G := G.resolve_left (by omega)
      have mo := rf_more G GG (fun s s' hs hs' ee => (nx.2 s s' hs hs' ee).1)
      have st := rf_stab hN I D nx.1 nx.2 (mo.2 e)
      have fin := K c rep' cn co' nxt' crep' sc' sk' ⟨c1, c2, GG, fun s hs => (G'.2.1 s hs).1, fun cl hcl => (G'.2.2.1 cl hcl).2, st⟩
      exact pk_le 260 (j + 1) (fun _ => fin) (fun _ => br_f (by decide) fin)
    · rcases G with z | z
      · omega
      · have mo := rf_more z GG (fun s s' hs hs' ee => (nx.2 s s' hs hs' ee).1)
        omega
theorem lb_nat {P : Nat → Prop} {R : Nat} {x : Int32} (hR : R ≤ 6) (h : lb_T P 0 R x) : ∃ v, v ≤ 6 ∧ x = nI v := by
  rcases h with ⟨z, _⟩ | ⟨r, _, z2, z3, _⟩
  · exact ⟨0, by omega, z⟩
  · exact ⟨r + 1, by omega, z3⟩
theorem xw_refine {post : Int32 → SX → Prop} {rset rof : Nat → Int32} (hL : L ≤ 4) (hR : R ≤ 6) (hlive : ∀ c a, sg_go t R c a = 0 ↔ mo_Q (sg_lab t R) (sg_go t R) L (sg_go t R c a) 0) (I : rb_I t R N sit rset rof a_rawLabel) (D : rb_D t R L N sit N 0 a_rawDelta)
    (K : ∀ n rep cls co nxt crep sc sk, rf_Z t R L N sit n rep cls co crep → post (nI n) (nI L, f_maxRules, f_maxLeaves, f_maxText, f_tokenCount, f_depth, f_leafCount, f_finishedLeaves, f_ruleCount, nI N, f_stateTotal, f_aliveRules, f_compiled, f_textLength, f_closed, f_lexCount, f_position, a_tokens, a_masks, a_follow, a_ruleNull, a_ruleFirst, a_ruleLast, a_altNull, a_altFirst, a_altLast, a_catNull, a_catFirst, a_catLast, a_atomNull, a_atomFirst, a_atomLast, a_rawSet, a_rawOfSet, a_rawDelta, a_rawLabel, a_letterLeaves, co, nxt, crep, sc, sk, a_numberOf, a_queue, a_delta, a_stateLabel, a_extendable, a_text, a_lexRule, a_lexLength, a_failed, a_trail)) : wpX_refine post (nI L, f_maxRules, f_maxLeaves, f_maxText, f_tokenCount, f_depth, f_leafCount, f_finishedLeaves, f_ruleCount, nI N, f_stateTotal, f_aliveRules, f_compiled, f_textLength, f_closed, f_lexCount, f_position, a_tokens, a_masks, a_follow, a_ruleNull, a_ruleFirst, a_ruleLast, a_altNull, a_altFirst, a_altLast, a_catNull, a_catFirst, a_catLast, a_atomNull, a_atomFirst, a_atomLast, a_rawSet, a_rawOfSet, a_rawDelta, a_rawLabel, a_letterLeaves, a_classOf, a_nextClass, a_classRep, a_slotClass, a_slotKey, a_numberOf, a_queue, a_delta, a_stateLabel, a_extendable, a_text, a_lexRule, a_lexLength, a_failed, a_trail) := by
  have hN := I.2.1
  have lv : ∀ s, sg_lab t R (sit s) = nI (sg_lab t R (sit s)).toNatClampNeg ∧ (sg_lab t R (sit s)).toNatClampNeg ≤ 6 := by
    intro s
    obtain ⟨v, v1, v2⟩ := lb_nat hR (sg_labT t R (sit s))
    rw [v2, nI_clamp (by omega)]
    exact ⟨rfl, v1⟩
  have key : ∀ (m s : Nat) (co : Nat → Int32), s + m = N → (∀ s', s' < s → co s' = sg_lab t R (sit s')) → wX_refine_2 post (nI L) f_maxRules f_maxLeaves f_maxText f_tokenCount f_depth f_leafCount f_finishedLeaves f_ruleCount (nI N) f_stateTotal f_aliveRules f_compiled f_textLength f_closed f_lexCount f_position (m + 1) (nI s) a_tokens a_masks a_follow a_ruleNull a_ruleFirst a_ruleLast a_altNull a_altFirst a_altLast a_catNull a_catFirst a_catLast a_atomNull a_atomFirst a_atomLast a_rawSet a_rawOfSet a_rawDelta a_rawLabel a_letterLeaves co a_nextClass a_classRep a_slotClass a_slotKey a_numberOf a_queue a_delta a_stateLabel a_extendable a_text a_lexRule a_lexLength a_failed a_trail := by
    intro m
    induction m with
    | zero =>
      intro s co hm h
      refine br_t (nI_le (by omega) (by omega)) ⟨262, xw_rf34 hL hlive I D K 260 0 0 (fun x => x) (fun s => (sg_lab t R (sit s)).toNatClampNeg) co a_nextClass a_classRep a_slotClass a_slotKey rfl (Nat.le_refl _) (by omega) ⟨fun s _ => ?_, fun s s' _ _ hq => ?_, fun s s' _ _ e => ?_⟩ (Or.inl rfl) (fun s hs => ?_)⟩
      · have := (lv s).2
        show (sg_lab t R (sit s)).toNatClampNeg < 256
        omega
      · show (sg_lab t R (sit s)).toNatClampNeg = (sg_lab t R (sit s')).toNatClampNeg
        rw [mo_Q_lab hq]
      · have e : (sg_lab t R (sit s)).toNatClampNeg = (sg_lab t R (sit s')).toNatClampNeg := e
        rw [(lv s).1, (lv s').1, e]
      · rw [h s (by omega)]
        exact (lv s).1
    | succ m ih =>
      intro s co hm h
      have hi : vp_in (nI s) 256 := vp_in_nI (by omega) (by omega)
      refine br_f (nI_ge (by omega) (by omega)) (And.intro hi (And.intro hi (nm_r (e' := upd co s (sg_lab t R (sit s))) (by rw [nI_clamp (by omega), I.2.2.2.2.2 s (by omega)]) (nm_r (nI_1 s) (ih (s + 1) _ (by omega) (fun s' hs' => ?_))))))
      by_cases e : s' = s
      · subst e; exact pk_us
      · rw [pk_un e]; exact h s' (by omega)
  exact ⟨N + 1, key N 0 a_classOf (by omega) (fun s' hs' => by omega)⟩
end
end
section
/-! X: numberStates, summarise, emptyText -/
def xb_I (Q : Nat → Nat → Prop) (n : Nat) (sit rep : Nat → Nat) (S : Nat × (Nat → Nat)) (q : Nat → Nat) (num que : Nat → Int32) : Prop :=
  1 ≤ S.1 ∧ S.1 ≤ 256 ∧ (∀ j, j < S.1 → que j = nI (q j) ∧ q j < n ∧ num (q j) = nI j ∧ Q (sit (rep (q j))) (S.2 j)) ∧ ∀ cl, cl < n → num cl = -1 ∨ ∃ j, j < S.1 ∧ q j = cl ∧ num cl = nI j
def xd_D (Q : Nat → Nat → Prop) (go : Nat → Nat → Nat) (L : Nat) (S : Nat × (Nat → Nat)) (i a : Nat) (del : Nat → Int32) : Prop :=
  ∀ i' a', i' < S.1 → a' < L → (i' < i ∨ (i' = i ∧ a' < a)) → (Q (go (S.2 i') a') 0 ∧ del (i' * 4 + a') = -1) ∨ ∃ j, j < S.1 ∧ del (i' * 4 + a') = nI j ∧ Q (go (S.2 i') a') (S.2 j)
section
variable {f_letters f_maxRules f_maxLeaves f_maxText f_tokenCount f_depth f_leafCount f_finishedLeaves f_ruleCount f_rawCount f_stateTotal f_aliveRules f_compiled f_textLength f_closed f_lexCount f_position : Int32} {a_tokens a_masks a_follow a_ruleNull a_ruleFirst a_ruleLast a_altNull a_altFirst a_altLast a_catNull a_catFirst a_catLast a_atomNull a_atomFirst a_atomLast a_rawSet a_rawOfSet a_rawDelta a_rawLabel a_letterLeaves a_classOf a_nextClass a_classRep a_slotClass a_numberOf a_queue a_delta a_stateLabel a_extendable a_text a_lexRule a_lexLength a_trail : Nat → Int32} {a_slotKey a_failed : Nat → Int64} {t : Nat → Nat} {R L N n : Nat} {sit rep cls : Nat → Nat}
theorem xw_ns93 {post : SX → Prop} {J51 : Int32 → Int32 → Int32 → Int32 → Int32 → Int32 → Int32 → Int32 → Int32 → Int32 → Int32 → Int32 → Int32 → Int32 → Int32 → Int32 → Int32 → Int32 → (Nat → Int32) → (Nat → Int32) → (Nat → Int32) → (Nat → Int32) → (Nat → Int32) → (Nat → Int32) → (Nat → Int32) → (Nat → Int32) → (Nat → Int32) → (Nat → Int32) → (Nat → Int32) → (Nat → Int32) → (Nat → Int32) → (Nat → Int32) → (Nat → Int32) → (Nat → Int32) → (Nat → Int32) → (Nat → Int32) → (Nat → Int32) → (Nat → Int32) → (Nat → Int32) → (Nat → Int32) → (Nat → Int32) → (Nat → Int32) → (Nat → Int64) → (Nat → Int32) → (Nat → Int32) → (Nat → Int32) → (Nat → Int32) → (Nat → Int32) → (Nat → Int32) → (Nat → Int32) → (Nat → Int32) → (Nat → Int64) → (Nat → Int32) → Prop} {rset rof rlab : Nat → Int32} {i : Nat} {qi : Nat} (hL : L ≤ 4) (hlive : ∀ c a, sg_go t R c a = 0 ↔ mo_Q (sg_lab t R) (sg_go t R) L (sg_go t R c a) 0) (I : rb_I t R N sit rset rof rlab) (D : rb_D t R L N sit N 0 a_rawDelta) (Z : rf_Z t R L N sit n rep cls a_classOf a_classRep) (hi : i < 256) :
    ∀ (m a : Nat) (S : Nat × (Nat → Nat)) (q : Nat → Nat) (num que del : Nat → Int32), a + m = L → xb_I (mo_Q (sg_lab t R) (sg_go t R) L) n sit rep S q num que → i < S.1 → q i = qi → xd_D (mo_Q (sg_lab t R) (sg_go t R) L) (sg_go t R) L S i a del →
    (∀ q' num' que' del', xb_I (mo_Q (sg_lab t R) (sg_go t R) L) n sit rep (bf_row (mo_Q (sg_lab t R) (sg_go t R) L) (sg_go t R) i m a S) q' num' que' → (∀ j, j < S.1 → (bf_row (mo_Q (sg_lab t R) (sg_go t R) L) (sg_go t R) i m a S).2 j = S.2 j) → S.1 ≤ (bf_row (mo_Q (sg_lab t R) (sg_go t R) L) (sg_go t R) i m a S).1 → xd_D (mo_Q (sg_lab t R) (sg_go t R) L) (sg_go t R) L (bf_row (mo_Q (sg_lab t R) (sg_go t R) L) (sg_go t R) i m a S) i L del' → J51 (nI (i + 1)) (nI L) f_maxRules f_maxLeaves f_maxText f_tokenCount f_depth f_leafCount f_finishedLeaves f_ruleCount f_rawCount (nI (bf_row (mo_Q (sg_lab t R) (sg_go t R) L) (sg_go t R) i m a S).1) f_aliveRules f_compiled f_textLength f_closed f_lexCount f_position a_tokens a_masks a_follow a_ruleNull a_ruleFirst a_ruleLast a_altNull a_altFirst a_altLast a_catNull a_catFirst a_catLast a_atomNull a_atomFirst a_atomLast a_rawSet a_rawOfSet a_rawDelta a_rawLabel a_letterLeaves a_classOf a_nextClass a_classRep a_slotClass a_slotKey num' que' del' a_stateLabel a_extendable a_text a_lexRule a_lexLength a_failed a_trail) →
    wX_numberStates_93 post J51 (nI i) (nI (rep qi)) (m + 1) (nI a) (nI L) f_maxRules f_maxLeaves f_maxText f_tokenCount f_depth f_leafCount f_finishedLeaves f_ruleCount f_rawCount (nI S.1) f_aliveRules f_compiled f_textLength f_closed f_lexCount f_position a_tokens a_masks a_follow a_ruleNull a_ruleFirst a_ruleLast a_altNull a_altFirst a_altLast a_catNull a_catFirst a_catLast a_atomNull a_atomFirst a_atomLast a_rawSet a_rawOfSet a_rawDelta a_rawLabel a_letterLeaves a_classOf a_nextClass a_classRep a_slotClass a_slotKey num que del a_stateLabel a_extendable a_text a_lexRule a_lexLength a_failed a_trail := by
  have hN := I.2.1
  obtain ⟨z1, z2, z3, z4, z5, z6⟩ := Z
  intro m
  induction m with
  | zero =>
    intro a S q num que del hm B hiS eq Dd K
    have e : a = L := by omega
    subst e
    exact br_t (nI_le (Nat.le_refl _) (by omega)) (nm_r (nI_1 i) (K q num que del B (fun _ _ => rfl) (Nat.le_refl _) Dd))
  | succ m ih =>
    intro a S q num que del hm B hiS eq Dd K
    obtain ⟨b1, b2, b3, b4⟩ := B
    have bi := b3 i hiS
    rw [eq] at bi
    have hr := (z3.2 qi bi.2.1).1
    have hQ := mo_Q_go bi.2.2.2 (a := a) (by omega)
    have ix : (nI (rep qi) * 4) + nI a = nI (rep qi * 4 + a) := yl_i4 _ _
    have cx : ((nI (rep qi) * 4) + nI a).toNatClampNeg = rep qi * 4 + a := by rw [ix]; exact nI_clamp (by omega)
    have iy : (nI i * 4) + nI a = nI (i * 4 + a) := yl_i4 _ _
    have cy : ((nI i * 4) + nI a).toNatClampNeg = i * 4 + a := by rw [iy]; exact nI_clamp (by omega)
    have hy : vp_in ((nI i * 4) + nI a) 1024 := by rw [iy]; exact vp_in_nI (by omega) (by omega)
    have e1 : bf_row (mo_Q (sg_lab t R) (sg_go t R) L) (sg_go t R) i (m + 1) a S = bf_row (mo_Q (sg_lab t R) (sg_go t R) L) (sg_go t R) i m (a + 1) (bf_1 (mo_Q (sg_lab t R) (sg_go t R) L) (sg_go t R) i a S) := rfl
    refine br_f (nI_ge (by omega) (by omega)) (And.intro (by rw [ix]; exact vp_in_nI (by omega) (by omega)) (nm_r (e' := a_rawDelta (rep qi * 4 + a)) (by rw [cx]) ?_))
    -- the entry is written, the numbering stays
    have stay : ∀ r : Int32, ((∃ j, j < S.1 ∧ mo_Q (sg_lab t R) (sg_go t R) L (sg_go t R (S.2 i) a) (S.2 j)) ∨ mo_Q (sg_lab t R) (sg_go t R) L (sg_go t R (S.2 i) a) 0 ∨ 256 ≤ S.1) → ((mo_Q (sg_lab t R) (sg_go t R) L (sg_go t R (S.2 i) a) 0 ∧ r = -1) ∨ ∃ j, j < S.1 ∧ r = nI j ∧ mo_Q (sg_lab t R) (sg_go t R) L (sg_go t R (S.2 i) a) (S.2 j)) → vp_in ((nI i * 4) + nI a) 1024 ∧ ∀ d', d' = upd del ((nI i * 4) + nI a).toNatClampNeg r → ∀ x, x = nI a + 1 → wX_numberStates_93 post J51 (nI i) (nI (rep qi)) (m + 1) x (nI L) f_maxRules f_maxLeaves f_maxText f_tokenCount f_depth f_leafCount f_finishedLeaves f_ruleCount f_rawCount (nI S.1) f_aliveRules f_compiled f_textLength f_closed f_lexCount f_position a_tokens a_masks a_follow a_ruleNull a_ruleFirst a_ruleLast a_altNull a_altFirst a_altLast a_catNull a_catFirst a_catLast a_atomNull a_atomFirst a_atomLast a_rawSet a_rawOfSet a_rawDelta a_rawLabel a_letterLeaves a_classOf a_nextClass a_classRep a_slotClass a_slotKey num que d' a_stateLabel a_extendable a_text a_lexRule a_lexLength a_failed a_trail := by
      intro r hst hr
      rw [bf_1y hst] at e1
      rw [e1] at K
      refine And.intro hy (nm_r (e' := upd del (i * 4 + a) r) (by rw [cy]) (nm_r (nI_1 a) (ih (a + 1) S q num que _ (by omega) ⟨b1, b2, b3, b4⟩ hiS eq (fun i' a' h1 h2 h3 => ?_) K)))
      by_cases e : i' = i ∧ a' = a
      · obtain ⟨e2, e3⟩ := e
        subst e2 e3
        rw [pk_us]
        exact hr
      · rw [pk_un (by omega)]
        exact Dd i' a' h1 h2 (by omega)
    rcases D (rep qi) a hr (by omega) (Or.inl hr) with ⟨d1, d2⟩ | ⟨s2, d1, d2, d3, d4⟩
    · rw [d2]
      have q0 : mo_Q (sg_lab t R) (sg_go t R) L (sg_go t R (S.2 i) a) 0 := by
        rw [d1] at hQ; exact mo_Q_symm hQ
      exact br_f (by decide) (stay (-1) (Or.inr (Or.inl q0)) (Or.inl ⟨q0, rfl⟩))
    · rw [d3]
      have ck := z4 s2 d2
      have kn := z3.1 s2 d2
      rw [← d4] at hQ
      refine br_t (nI_pos' (by omega)) (And.intro (vp_in_nI (by omega) (by omega)) (nm_r (e' := nI (cls s2)) (by rw [nI_clamp (by omega)]; exact ck) (And.intro (vp_in_nI (by omega) (by omega)) ?_)))
      have cc : (nI (cls s2)).toNatClampNeg = cls s2 := nI_clamp (by omega)
      rw [cc]
      rcases b4 (cls s2) kn with w | ⟨j, w1, w2, w3⟩
      · have nk : ∀ j, j < S.1 → ¬ mo_Q (sg_lab t R) (sg_go t R) L (sg_go t R (S.2 i) a) (S.2 j) := by
          intro j hj hq
          have bj := b3 j hj
          have h1 := z3.2 (q j) bj.2.1
          have h2 : mo_Q (sg_lab t R) (sg_go t R) L (sit s2) (sit (rep (q j))) := mo_Q_trans (mo_Q_trans hQ hq) (mo_Q_symm bj.2.2.2)
          have h3 := (z6 s2 (rep (q j)) d2 h1.1).mpr h2
          rw [h1.2] at h3
          rw [h3, bj.2.2.1] at w
          exact yl_m1ne j (by omega) w
        have n0 : ¬ mo_Q (sg_lab t R) (sg_go t R) L (sg_go t R (S.2 i) a) 0 := by
          intro hq
          have h1 := mo_Q_trans hQ hq
          rw [d4] at h1
          have h2 := (hlive _ _).mpr h1
          have := (I.2.2.2.1 s2 d1 d2).2.1
          omega
        have room : S.1 < 256 := by
          have := ct_inj n (S.1 + 1) (fun j => if j = S.1 then cls s2 else q j) (by
            intro j hj
            show (if j = S.1 then cls s2 else q j) < n
            by_cases c : j = S.1
            · rw [if_pos c]; exact kn
            · rw [if_neg c]; exact (b3 j (by omega)).2.1) (by
            intro j j' hj hj' e
            have e : (if j = S.1 then cls s2 else q j) = (if j' = S.1 then cls s2 else q j') := e
            have nq : ∀ x, x < S.1 → q x ≠ cls s2 := fun x hx z => by
              have := (b3 x hx).2.2.1
              rw [z, w] at this
              exact yl_m1ne x (by omega) this.symm
            by_cases c : j = S.1
            · by_cases c' : j' = S.1
              · omega
              · rw [if_pos c, if_neg c'] at e; exact absurd e.symm (nq j' (by omega))
            · by_cases c' : j' = S.1
              · rw [if_neg c, if_pos c'] at e; exact absurd e (nq j (by omega))
              · rw [if_neg c, if_neg c'] at e
                have h1 := (b3 j (by omega)).2.2.1
                have h2 := (b3 j' (by omega)).2.2.1
                rw [e, h2, nI_eq (by omega) (by omega)] at h1
                exact h1.symm)
          omega
        have en : bf_1 (mo_Q (sg_lab t R) (sg_go t R) L) (sg_go t R) i a S = (S.1 + 1, fun j => if j = S.1 then sg_go t R (S.2 i) a else S.2 j) := bf_1n (by
          rintro (⟨j, hj, hq⟩ | w | w)
          · exact nk j hj hq
          · exact n0 w
          · omega)
        rw [en] at e1
        rw [e1] at K
        refine br_f (by rw [w]; decide) (br_f (nI_ge (b := 256) (by omega) (by omega)) (And.intro (vp_in_nI (by omega) (by omega)) (nm_r (e' := upd num (cls s2) (nI S.1)) rfl (And.intro (vp_in_nI room (by omega)) (nm_r (e' := upd que S.1 (nI (cls s2))) (by rw [nI_clamp (by omega)]) (nm_r (nI_1 S.1) (And.intro (vp_in_nI (by omega) (by omega)) ?_)))))))
        rw [pk_us]
        refine And.intro hy (nm_r (e' := upd del (i * 4 + a) (nI S.1)) (by rw [cy]) (nm_r (nI_1 a) (ih (a + 1) (S.1 + 1, fun j => if j = S.1 then sg_go t R (S.2 i) a else S.2 j) (fun j => if j = S.1 then cls s2 else q j) _ _ _ (by omega) ⟨by show 1 ≤ S.1 + 1; omega, by show S.1 + 1 ≤ 256; omega, fun j hj => ?_, fun cl hcl => ?_⟩ (by show i < S.1 + 1; omega) (by rw [if_neg (by omega)]; exact eq) (fun i' a' h1 h2 h3 => ?_) (fun q' num' que' del' B' hag hle D' => K q' num' que' del' B' (fun j hj => ?_) (by have : S.1 + 1 ≤ _ := hle; omega) D'))))
        · have hj : j < S.1 + 1 := hj
          dsimp only
          by_cases c : j = S.1
          · rw [if_pos c, if_pos c, c]
            have rk := z3.2 (cls s2) kn
            refine ⟨pk_us, kn, pk_us, mo_Q_trans ((z6 (rep (cls s2)) s2 rk.1 d2).mp rk.2) hQ⟩
          · rw [if_neg c, if_neg c, pk_un c]
            have bj := b3 j (by omega)
            refine ⟨bj.1, bj.2.1, ?_, bj.2.2.2⟩
            rw [pk_un (fun z => by
              have := bj.2.2.1
              rw [z, w] at this
              exact yl_m1ne j (by omega) this.symm)]
            exact bj.2.2.1
        · by_cases c : cl = cls s2
          · subst c
            exact Or.inr ⟨S.1, by show S.1 < S.1 + 1; omega, by dsimp only; rw [if_pos rfl], pk_us⟩
          · rw [pk_un c]
            rcases b4 cl hcl with y | ⟨j, y1, y2, y3⟩
            · exact Or.inl y
            · exact Or.inr ⟨j, by show j < S.1 + 1; omega, by dsimp only; rw [if_neg (by omega)]; exact y2, y3⟩
        · have h1 : i' < S.1 + 1 := h1
          dsimp only
          by_cases e : i' = i ∧ a' = a
          · obtain ⟨e2, e3⟩ := e
            subst e2 e3
            rw [pk_us, if_neg (by omega)]
            exact Or.inr ⟨S.1, by omega, rfl, by rw [if_pos rfl]; exact mo_Q_refl _⟩
          · rw [pk_un (by omega), if_neg (by omega)]
            rcases Dd i' a' (by omega) h2 (by omega) with y | ⟨j, y1, y2, y3⟩
            · exact Or.inl y
            · exact Or.inr ⟨j, by omega, y2, by rw [if_neg (by omega)]; exact y3⟩
        · rw [hag j (by show j < S.1 + 1; omega)]
          dsimp only
          rw [if_neg (by omega)]
      · have bj := b3 j w1
        rw [w2] at bj
        have rk := z3.2 (cls s2) kn
        have hq : mo_Q (sg_lab t R) (sg_go t R) L (sg_go t R (S.2 i) a) (S.2 j) := mo_Q_trans (mo_Q_symm hQ) (mo_Q_trans ((z6 s2 (rep (cls s2)) d2 rk.1).mp rk.2.symm) bj.2.2.2)
        rw [w3]
        exact br_t (nI_pos' (by omega)) (And.intro (vp_in_nI (by omega) (by omega)) (stay (nI j) (Or.inl ⟨j, w1, hq⟩) (Or.inr ⟨j, w1, rfl, hq⟩)))
end
end
section
/-! X: numberStates, summarise, emptyText, compile -/
/-- X's tables after compile, over the numbering S -/
def xc_A (t : Nat → Nat) (R L : Nat) (S : Nat × (Nat → Nat)) (del slab : Nat → Int32) : Prop :=
  1 ≤ S.1 ∧ S.1 ≤ 256 ∧ (∀ i, i < S.1 → slab i = sg_lab t R (S.2 i)) ∧
  (∀ i a, i < S.1 → a < L → (mo_Q (sg_lab t R) (sg_go t R) L (sg_go t R (S.2 i) a) 0 ∧ del (i * 4 + a) = -1) ∨ ∃ j, j < S.1 ∧ del (i * 4 + a) = nI j ∧ mo_Q (sg_lab t R) (sg_go t R) L (sg_go t R (S.2 i) a) (S.2 j))
section
variable {f_letters f_maxRules f_maxLeaves f_maxText f_tokenCount f_depth f_leafCount f_finishedLeaves f_ruleCount f_rawCount f_stateTotal f_aliveRules f_compiled f_textLength f_closed f_lexCount f_position : Int32} {a_tokens a_masks a_follow a_ruleNull a_ruleFirst a_ruleLast a_altNull a_altFirst a_altLast a_catNull a_catFirst a_catLast a_atomNull a_atomFirst a_atomLast a_rawSet a_rawOfSet a_rawDelta a_rawLabel a_letterLeaves a_classOf a_nextClass a_classRep a_slotClass a_numberOf a_queue a_delta a_stateLabel a_extendable a_text a_lexRule a_lexLength a_trail : Nat → Int32} {a_slotKey a_failed : Nat → Int64} {t : Nat → Nat} {R L N n : Nat} {sit rep cls : Nat → Nat}
theorem xd_mono {S S' : Nat × (Nat → Nat)} {i a : Nat} {del : Nat → Int32} (h : xd_D (mo_Q (sg_lab t R) (sg_go t R) L) (sg_go t R) L S i a del) (hi : ∀ i', i' < i ∨ i' = i → i' < S.1) (he : ∀ j, j < S.1 → S'.2 j = S.2 j) (hle : S.1 ≤ S'.1) : xd_D (mo_Q (sg_lab t R) (sg_go t R) L) (sg_go t R) L S' i a del := by
  intro i' a' h1 h2 h3
  have hs : i' < S.1 := hi i' (by omega)
  rw [he i' hs]
  rcases h i' a' hs h2 h3 with z | ⟨j, z1, z2, z3⟩
  · exact Or.inl z
  · exact Or.inr ⟨j, by omega, z2, by rw [he j z1]; exact z3⟩
theorem xw_ns51 {post : SX → Prop} {rset rof : Nat → Int32} (hL : L ≤ 4) (hlive : ∀ c a, sg_go t R c a = 0 ↔ mo_Q (sg_lab t R) (sg_go t R) L (sg_go t R c a) 0) (I : rb_I t R N sit rset rof a_rawLabel) (D : rb_D t R L N sit N 0 a_rawDelta) (Z : rf_Z t R L N sit n rep cls a_classOf a_classRep) :
    ∀ (m i : Nat) (S : Nat × (Nat → Nat)) (q : Nat → Nat) (num que del slab : Nat → Int32), i + m = 256 → i ≤ S.1 → xb_I (mo_Q (sg_lab t R) (sg_go t R) L) n sit rep S q num que → xd_D (mo_Q (sg_lab t R) (sg_go t R) L) (sg_go t R) L S i 0 del → (∀ i', i' < i → slab i' = sg_lab t R (S.2 i')) →
    (∀ num' que' del' slab', xc_A t R L (bf_go (mo_Q (sg_lab t R) (sg_go t R) L) (sg_go t R) L m i S) del' slab' → post (nI L, f_maxRules, f_maxLeaves, f_maxText, f_tokenCount, f_depth, f_leafCount, f_finishedLeaves, f_ruleCount, f_rawCount, nI (bf_go (mo_Q (sg_lab t R) (sg_go t R) L) (sg_go t R) L m i S).1, f_aliveRules, f_compiled, f_textLength, f_closed, f_lexCount, f_position, a_tokens, a_masks, a_follow, a_ruleNull, a_ruleFirst, a_ruleLast, a_altNull, a_altFirst, a_altLast, a_catNull, a_catFirst, a_catLast, a_atomNull, a_atomFirst, a_atomLast, a_rawSet, a_rawOfSet, a_rawDelta, a_rawLabel, a_letterLeaves, a_classOf, a_nextClass, a_classRep, a_slotClass, a_slotKey, num', que', del', slab', a_extendable, a_text, a_lexRule, a_lexLength, a_failed, a_trail)) →
    wX_numberStates_51 post (m + 1) (nI i) (nI L) f_maxRules f_maxLeaves f_maxText f_tokenCount f_depth f_leafCount f_finishedLeaves f_ruleCount f_rawCount (nI S.1) f_aliveRules f_compiled f_textLength f_closed f_lexCount f_position a_tokens a_masks a_follow a_ruleNull a_ruleFirst a_ruleLast a_altNull a_altFirst a_altLast a_catNull a_catFirst a_catLast a_atomNull a_atomFirst a_atomLast a_rawSet a_rawOfSet a_rawDelta a_rawLabel a_letterLeaves a_classOf a_nextClass a_classRep a_slotClass a_slotKey num que del slab a_extendable a_text a_lexRule a_lexLength a_failed a_trail := by
  have hN := I.2.1
  intro m
  induction m with
  | zero =>
    intro i S q num que del slab hm hiS B Dd hs K
    have b2 := B.2.1
    have e : i = S.1 := by omega
    refine br_t (nI_le (a := 256) (by omega) (by omega)) (K num que del slab ⟨B.1, B.2.1, fun i' (h : i' < S.1) => hs i' (by omega), fun i' a' (h1 : i' < S.1) h2 => Dd i' a' h1 h2 (by omega)⟩)
  | succ m ih =>
    intro i S q num que del slab hm hiS B Dd hs K
    have b2 := B.2.1
    have e1 : bf_go (mo_Q (sg_lab t R) (sg_go t R) L) (sg_go t R) L (m + 1) i S = if i < S.1 then bf_go (mo_Q (sg_lab t R) (sg_go t R) L) (sg_go t R) L m (i + 1) (bf_row (mo_Q (sg_lab t R) (sg_go t R) L) (sg_go t R) i L 0 S) else S := rfl
    refine br_f (nI_ge (b := 256) (by omega) (by omega)) (pk_le S.1 i (fun e => ?_) (fun e => ?_))
    · rw [if_neg (by omega)] at e1
      rw [e1] at K
      exact K num que del slab ⟨B.1, B.2.1, fun i' h => hs i' (by omega), fun i' a' h1 h2 => Dd i' a' h1 h2 (by omega)⟩
    · rw [if_pos e] at e1
      rw [e1] at K
      have bi := B.2.2.1 i e
      have cq : que (nI i).toNatClampNeg = nI (q i) := by rw [nI_clamp (by omega)]; exact bi.1
      have hq := Z.2.1
      have cr := Z.2.2.2.2.1 (q i) bi.2.1
      have hr := (Z.2.2.1.2 (q i) bi.2.1).1
      have ecr : a_classRep (que (nI i).toNatClampNeg).toNatClampNeg = nI (rep (q i)) := by rw [cq, nI_clamp (by omega)]; exact cr
      have el : sg_lab t R (sit (rep (q i))) = sg_lab t R (S.2 i) := mo_Q_lab bi.2.2.2
      refine And.intro (vp_in_nI (by omega) (by omega)) (And.intro (by rw [cq]; exact vp_in_nI (by omega) (by omega)) (nm_r ecr (And.intro (vp_in_nI (by omega) (by omega)) (And.intro (vp_in_nI (by omega) (by omega)) (nm_r (e' := upd slab i (sg_lab t R (S.2 i))) (by rw [nI_clamp (by omega), nI_clamp (by omega), I.2.2.2.2.2 (rep (q i)) hr, el]) ⟨L + 1, ?_⟩)))))
      refine xw_ns93 (qi := q i) hL hlive I D Z (by omega) L 0 S q num que del (by omega) B e rfl Dd (fun q' num' que' del' B' hag hle D' => ih (i + 1) _ q' num' que' del' _ (by omega) (by omega) B' (fun i' a' h1 h2 h3 => D' i' a' h1 h2 (by omega)) (fun i' hi' => ?_) K)
      rw [hag i' (by omega)]
      by_cases c : i' = i
      · subst c; exact pk_us
      · rw [pk_un c]; exact hs i' (by omega)
theorem xw_numberStates {post : SX → Prop} {rset rof : Nat → Int32} (hL : L ≤ 4) (hlive : ∀ c a, sg_go t R c a = 0 ↔ mo_Q (sg_lab t R) (sg_go t R) L (sg_go t R c a) 0) (I : rb_I t R N sit rset rof a_rawLabel) (D : rb_D t R L N sit N 0 a_rawDelta) (Z : rf_Z t R L N sit n rep cls a_classOf a_classRep)
    (K : ∀ num' que' del' slab', xc_A t R L (sg_S t R L) del' slab' → post (nI L, f_maxRules, f_maxLeaves, f_maxText, f_tokenCount, f_depth, f_leafCount, f_finishedLeaves, f_ruleCount, f_rawCount, nI (sg_S t R L).1, f_aliveRules, f_compiled, f_textLength, f_closed, f_lexCount, f_position, a_tokens, a_masks, a_follow, a_ruleNull, a_ruleFirst, a_ruleLast, a_altNull, a_altFirst, a_altLast, a_catNull, a_catFirst, a_catLast, a_atomNull, a_atomFirst, a_atomLast, a_rawSet, a_rawOfSet, a_rawDelta, a_rawLabel, a_letterLeaves, a_classOf, a_nextClass, a_classRep, a_slotClass, a_slotKey, num', que', del', slab', a_extendable, a_text, a_lexRule, a_lexLength, a_failed, a_trail)) : wpX_numberStates post (nI L, f_maxRules, f_maxLeaves, f_maxText, f_tokenCount, f_depth, f_leafCount, f_finishedLeaves, f_ruleCount, f_rawCount, f_stateTotal, f_aliveRules, f_compiled, f_textLength, f_closed, f_lexCount, f_position, a_tokens, a_masks, a_follow, a_ruleNull, a_ruleFirst, a_ruleLast, a_altNull, a_altFirst, a_altLast, a_catNull, a_catFirst, a_catLast, a_atomNull, a_atomFirst, a_atomLast, a_rawSet, a_rawOfSet, a_rawDelta, a_rawLabel, a_letterLeaves, a_classOf, a_nextClass, a_classRep, a_slotClass, a_slotKey, a_numberOf, a_queue, a_delta, a_stateLabel, a_extendable, a_text, a_lexRule, a_lexLength, a_failed, a_trail) (nI n) := by
  have hN := I.2.1
  have hn := Z.2.1
  have c0 := Z.2.2.2.1 0 I.1
  have k0 := Z.2.2.1.1 0 I.1
  have r0 := Z.2.2.1.2 (cls 0) k0
  have key : ∀ (m i : Nat) (num : Nat → Int32), i + m = n → (∀ j, j < i → num j = -1) → wX_numberStates_2 post (nI n) (nI L) f_maxRules f_maxLeaves f_maxText f_tokenCount f_depth f_leafCount f_finishedLeaves f_ruleCount f_rawCount f_stateTotal f_aliveRules f_compiled f_textLength f_closed f_lexCount f_position (m + 1) (nI i) a_tokens a_masks a_follow a_ruleNull a_ruleFirst a_ruleLast a_altNull a_altFirst a_altLast a_catNull a_catFirst a_catLast a_atomNull a_atomFirst a_atomLast a_rawSet a_rawOfSet a_rawDelta a_rawLabel a_letterLeaves a_classOf a_nextClass a_classRep a_slotClass a_slotKey num a_queue a_delta a_stateLabel a_extendable a_text a_lexRule a_lexLength a_failed a_trail := by
    intro m
    induction m with
    | zero =>
      intro i num hm h
      have cc : (a_classOf 0).toNatClampNeg = cls 0 := by rw [c0]; exact nI_clamp (by omega)
      refine br_t (nI_le (by omega) (by omega)) (And.intro (by rw [c0]; exact vp_in_nI (by omega) (by omega)) (nm_r (e' := upd num (cls 0) (nI 0)) (by rw [cc]; rfl) (nm_r (e' := upd a_queue 0 (nI (cls 0))) (by rw [c0]) ⟨257, ?_⟩)))
      refine xw_ns51 hL hlive I D Z 256 0 (1, fun _ => 256) (fun _ => cls 0) _ _ a_delta a_stateLabel rfl (Nat.zero_le _) ⟨Nat.le_refl _, by show 1 ≤ 256; omega, fun j hj => ?_, fun cl hcl => ?_⟩ (fun i' a' h1 h2 h3 => by omega) (fun i' hi' => by omega) K
      · have hj : j < 1 := hj
        have : j = 0 := by omega
        subst this
        refine ⟨pk_us, k0, pk_us, ?_⟩
        have q := (Z.2.2.2.2.2 (rep (cls 0)) 0 r0.1 I.1).mp r0.2
        rw [I.2.2.1] at q
        exact q
      · by_cases c : cl = cls 0
        · subst c; exact Or.inr ⟨0, by show 0 < 1; omega, rfl, pk_us⟩
        · rw [pk_un c]; exact Or.inl (h cl (by omega))
    | succ m ih =>
      intro i num hm h
      refine br_f (nI_ge (by omega) (by omega)) (And.intro (vp_in_nI (by omega) (by omega)) (nm_r (e' := upd num i (-1)) (by rw [nI_clamp (by omega)]) (nm_r (nI_1 i) (ih (i + 1) _ (by omega) (fun j hj => ?_)))))
      by_cases e : j = i
      · subst e; exact pk_us
      · rw [pk_un e]; exact h j (by omega)
  exact ⟨n + 1, key n 0 a_numberOf (by omega) (fun j hj => by omega)⟩
/-- a step from state i that is not dead -/
def xs_L (t : Nat → Nat) (R L : Nat) (S : Nat × (Nat → Nat)) (i a : Nat) : Prop := ¬ mo_Q (sg_lab t R) (sg_go t R) L (sg_go t R (S.2 i) a) 0
def xs_E (t : Nat → Nat) (R L : Nat) (S : Nat × (Nat → Nat)) (i : Nat) : Prop := ∃ a, a < L ∧ xs_L t R L S i a
def xs_W (t : Nat → Nat) (R L : Nat) (S : Nat × (Nat → Nat)) (k : Nat) : Prop := ∃ i a, i < S.1 ∧ a < L ∧ xs_L t R L S i a ∧ sg_lab t R (sg_go t R (S.2 i) a) = nI k
theorem xc_live (hR0 : ∀ i, i < (sg_S t R L).1 → ¬ mo_Q (sg_lab t R) (sg_go t R) L ((sg_S t R L).2 i) 0) {del slab : Nat → Int32} (A : xc_A t R L (sg_S t R L) del slab) {i a : Nat} (hi : i < (sg_S t R L).1) (ha : a < L) :
    (del (i * 4 + a) = -1 ∧ ¬ xs_L t R L (sg_S t R L) i a) ∨ ∃ j, j < (sg_S t R L).1 ∧ del (i * 4 + a) = nI j ∧ xs_L t R L (sg_S t R L) i a ∧ mo_Q (sg_lab t R) (sg_go t R) L (sg_go t R ((sg_S t R L).2 i) a) ((sg_S t R L).2 j) := by
  rcases A.2.2.2 i a hi ha with ⟨z1, z2⟩ | ⟨j, z1, z2, z3⟩
  · exact Or.inl ⟨z2, fun w => w z1⟩
  · exact Or.inr ⟨j, z1, z2, fun w => hR0 j z1 (mo_Q_trans (mo_Q_symm z3) w), z3⟩
theorem xw_sm24 {post : SX → Prop} {J7 : Int32 → Int32 → (Nat → Int32) → (Nat → Int32) → (Nat → Int32) → (Nat → Int32) → (Nat → Int32) → (Nat → Int32) → (Nat → Int32) → (Nat → Int32) → (Nat → Int32) → (Nat → Int32) → (Nat → Int32) → (Nat → Int32) → (Nat → Int32) → (Nat → Int32) → (Nat → Int32) → (Nat → Int32) → (Nat → Int32) → (Nat → Int32) → (Nat → Int32) → (Nat → Int32) → (Nat → Int32) → (Nat → Int32) → (Nat → Int32) → (Nat → Int32) → (Nat → Int64) → (Nat → Int32) → (Nat → Int32) → (Nat → Int32) → (Nat → Int32) → (Nat → Int32) → (Nat → Int32) → (Nat → Int32) → (Nat → Int32) → (Nat → Int64) → (Nat → Int32) → Prop} {s : Nat} {S : Nat × (Nat → Nat)} (hS : S = sg_S t R L) (hL : L ≤ 4) (hR : R ≤ 6) (hlv : ∀ i, i < (sg_S t R L).1 → ¬ mo_Q (sg_lab t R) (sg_go t R) L ((sg_S t R L).2 i) 0) (A : xc_A t R L S a_delta a_stateLabel) (hs : s < S.1)
    (K : ∀ al ext, gr_gs al (fun k => ∃ i a, (i < s + 1) ∧ i < S.1 ∧ a < L ∧ xs_L t R L S i a ∧ sg_lab t R (sg_go t R (S.2 i) a) = nI k ∧ k < 7) → (∀ i, i < s + 1 → gr_b01 (ext i) (xs_E t R L S i)) → J7 (nI (s + 1)) al a_tokens a_masks a_follow a_ruleNull a_ruleFirst a_ruleLast a_altNull a_altFirst a_altLast a_catNull a_catFirst a_catLast a_atomNull a_atomFirst a_atomLast a_rawSet a_rawOfSet a_rawDelta a_rawLabel a_letterLeaves a_classOf a_nextClass a_classRep a_slotClass a_slotKey a_numberOf a_queue a_delta a_stateLabel ext a_text a_lexRule a_lexLength a_failed a_trail) :
    ∀ (m a : Nat) (al : Int32) (ext : Nat → Int32), a + m = L → gr_gs al (fun k => ∃ i a', (i < s ∨ (i = s ∧ a' < a)) ∧ i < S.1 ∧ a' < L ∧ xs_L t R L S i a' ∧ sg_lab t R (sg_go t R (S.2 i) a') = nI k ∧ k < 7) → (∀ i, i < s → gr_b01 (ext i) (xs_E t R L S i)) → gr_b01 (ext s) (∃ a', a' < a ∧ xs_L t R L S s a') → wX_summarise_24 post J7 (nI s) (nI L) f_maxRules f_maxLeaves f_maxText f_tokenCount f_depth f_leafCount f_finishedLeaves f_ruleCount f_rawCount f_stateTotal f_compiled f_textLength f_closed f_lexCount f_position (m + 1) (nI a) al a_tokens a_masks a_follow a_ruleNull a_ruleFirst a_ruleLast a_altNull a_altFirst a_altLast a_catNull a_catFirst a_catLast a_atomNull a_atomFirst a_atomLast a_rawSet a_rawOfSet a_rawDelta a_rawLabel a_letterLeaves a_classOf a_nextClass a_classRep a_slotClass a_slotKey a_numberOf a_queue a_delta a_stateLabel ext a_text a_lexRule a_lexLength a_failed a_trail := by
  have S256 := A.2.1
  have hA := A
  intro m
  induction m with
  | zero =>
    intro a al ext hm h1 h2 h3
    have e : a = L := by omega
    subst e
    refine br_t (nI_le (Nat.le_refl _) (by omega)) (nm_r (nI_1 s) (K al ext (gr_gs_c h1 (fun k => ?_)) (fun i hi => ?_)))
    · constructor
      · rintro ⟨i, a', w1, w2, w3, w4⟩; exact ⟨i, a', by omega, w2, w3, w4⟩
      · rintro ⟨i, a', w1, w2, w3, w4⟩; exact ⟨i, a', by omega, w2, w3, w4⟩
    · by_cases e : i = s
      · subst e; exact h3
      · exact h2 i (by omega)
  | succ m ih =>
    intro a al ext hm h1 h2 h3
    have ix : (nI s * 4) + nI a = nI (s * 4 + a) := yl_i4 _ _
    have cx : ((nI s * 4) + nI a).toNatClampNeg = s * 4 + a := by rw [ix]; exact nI_clamp (by omega)
    have lv : (a_delta (s * 4 + a) = -1 ∧ ¬ xs_L t R L S s a) ∨ ∃ j, j < S.1 ∧ a_delta (s * 4 + a) = nI j ∧ xs_L t R L S s a ∧ mo_Q (sg_lab t R) (sg_go t R) L (sg_go t R (S.2 s) a) (S.2 j) := by
      subst hS
      exact xc_live hlv A hs (by omega)
    refine br_f (nI_ge (by omega) (by omega)) (And.intro (by rw [ix]; exact vp_in_nI (by omega) (by omega)) (nm_r (e' := a_delta (s * 4 + a)) (by rw [cx]) ?_))
    rcases lv with ⟨z1, z2⟩ | ⟨j, z1, z2, z3, z4⟩
    · rw [z1]
      refine br_t (by decide) (nm_r (nI_1 a) (ih (a + 1) al ext (by omega) (gr_gs_c h1 (fun k => ?_)) h2 (gr_b01_c h3 ?_)))
      · constructor
        · rintro ⟨i, a', w1, w2, w3, w4⟩; exact ⟨i, a', by omega, w2, w3, w4⟩
        · rintro ⟨i, a', w1, w2, w3, w4, w5⟩
          refine ⟨i, a', ?_, w2, w3, w4, w5⟩
          by_cases c : i = s ∧ a' = a
          · rw [c.1, c.2] at w4; exact absurd w4 z2
          · omega
      · constructor
        · rintro ⟨a', w1, w2⟩; exact ⟨a', by omega, w2⟩
        · rintro ⟨a', w1, w2⟩
          refine ⟨a', ?_, w2⟩
          by_cases c : a' = a
          · rw [c] at w2; exact absurd w2 z2
          · omega
    · rw [z2]
      have lj := A.2.2.1 j z1
      have lq := mo_Q_lab z4
      obtain ⟨v, v1, v2⟩ := lb_nat hR (sg_labT t R (S.2 j))
      have cs : (nI s).toNatClampNeg = s := nI_clamp (by omega)
      refine br_f (nI_pos (by omega)) (And.intro (vp_in_nI (by omega) (by omega)) (nm_r (e' := upd ext s 1) (by rw [cs]; rfl) (And.intro (vp_in_nI (by omega) (by omega)) (nm_r (e' := al ||| ((1 : Int32) <<< (nI v &&& 31))) (by rw [nI_clamp (by omega), lj, v2]) (nm_r (nI_1 a) (ih (a + 1) _ _ (by omega) (gr_gs_c (gr_gs_or h1 (xl_one (k := v) (by omega))) (fun k => ?_)) (fun i hi => by rw [pk_un (by omega)]; exact h2 i hi) (by rw [pk_us]; exact Or.inl ⟨rfl, a, by omega, z3⟩)))))))
      constructor
      · rintro (⟨i, a', w1, w2, w3, w4⟩ | w)
        · exact ⟨i, a', by omega, w2, w3, w4⟩
        · subst w
          exact ⟨s, a, by omega, hs, by omega, z3, by rw [lq, v2], by omega⟩
      · rintro ⟨i, a', w1, w2, w3, w4, w5, w6⟩
        by_cases c : i = s ∧ a' = a
        · right
          rw [c.1, c.2, lq, v2, nI_eq (by omega) (by omega)] at w5
          exact w5
        · exact Or.inl ⟨i, a', by omega, w2, w3, w4, w5, w6⟩
theorem xw_summarise {post : SX → Prop} {S : Nat × (Nat → Nat)} (hS : S = sg_S t R L) (hL : L ≤ 4) (hR : R ≤ 6) (hlv : ∀ i, i < (sg_S t R L).1 → ¬ mo_Q (sg_lab t R) (sg_go t R) L ((sg_S t R L).2 i) 0) (A : xc_A t R L S a_delta a_stateLabel)
    (K : ∀ al ext, gr_gs al (fun k => xs_W t R L S k ∧ k < 7) → (∀ i, i < S.1 → gr_b01 (ext i) (xs_E t R L S i)) → post (nI L, f_maxRules, f_maxLeaves, f_maxText, f_tokenCount, f_depth, f_leafCount, f_finishedLeaves, f_ruleCount, f_rawCount, nI S.1, al, f_compiled, f_textLength, f_closed, f_lexCount, f_position, a_tokens, a_masks, a_follow, a_ruleNull, a_ruleFirst, a_ruleLast, a_altNull, a_altFirst, a_altLast, a_catNull, a_catFirst, a_catLast, a_atomNull, a_atomFirst, a_atomLast, a_rawSet, a_rawOfSet, a_rawDelta, a_rawLabel, a_letterLeaves, a_classOf, a_nextClass, a_classRep, a_slotClass, a_slotKey, a_numberOf, a_queue, a_delta, a_stateLabel, ext, a_text, a_lexRule, a_lexLength, a_failed, a_trail)) : wpX_summarise post (nI L, f_maxRules, f_maxLeaves, f_maxText, f_tokenCount, f_depth, f_leafCount, f_finishedLeaves, f_ruleCount, f_rawCount, nI S.1, f_aliveRules, f_compiled, f_textLength, f_closed, f_lexCount, f_position, a_tokens, a_masks, a_follow, a_ruleNull, a_ruleFirst, a_ruleLast, a_altNull, a_altFirst, a_altLast, a_catNull, a_catFirst, a_catLast, a_atomNull, a_atomFirst, a_atomLast, a_rawSet, a_rawOfSet, a_rawDelta, a_rawLabel, a_letterLeaves, a_classOf, a_nextClass, a_classRep, a_slotClass, a_slotKey, a_numberOf, a_queue, a_delta, a_stateLabel, a_extendable, a_text, a_lexRule, a_lexLength, a_failed, a_trail) := by
  have S256 := A.2.1
  have key : ∀ (m s : Nat) (al : Int32) (ext : Nat → Int32), s + m = S.1 → gr_gs al (fun k => ∃ i a', i < s ∧ i < S.1 ∧ a' < L ∧ xs_L t R L S i a' ∧ sg_lab t R (sg_go t R (S.2 i) a') = nI k ∧ k < 7) → (∀ i, i < s → gr_b01 (ext i) (xs_E t R L S i)) → wX_summarise_7 post (nI L) f_maxRules f_maxLeaves f_maxText f_tokenCount f_depth f_leafCount f_finishedLeaves f_ruleCount f_rawCount (nI S.1) f_compiled f_textLength f_closed f_lexCount f_position (m + 1) (nI s) al a_tokens a_masks a_follow a_ruleNull a_ruleFirst a_ruleLast a_altNull a_altFirst a_altLast a_catNull a_catFirst a_catLast a_atomNull a_atomFirst a_atomLast a_rawSet a_rawOfSet a_rawDelta a_rawLabel a_letterLeaves a_classOf a_nextClass a_classRep a_slotClass a_slotKey a_numberOf a_queue a_delta a_stateLabel ext a_text a_lexRule a_lexLength a_failed a_trail := by
    intro m
    induction m with
    | zero =>
      intro s al ext hm h1 h2
      refine br_t (nI_le (by omega) (by omega)) (K al ext (gr_gs_c h1 (fun k => ?_)) (fun i hi => h2 i (by omega)))
      constructor
      · rintro ⟨i, a', w1, w2, w3, w4, w5, w6⟩; exact ⟨⟨i, a', w2, w3, w4, w5⟩, w6⟩
      · rintro ⟨⟨i, a', w2, w3, w4, w5⟩, w6⟩; exact ⟨i, a', by omega, w2, w3, w4, w5, w6⟩
    | succ m ih =>
      intro s al ext hm h1 h2
      refine br_f (nI_ge (by omega) (by omega)) (And.intro (vp_in_nI (by omega) (by omega)) (nm_r (e' := upd ext s 0) (by rw [nI_clamp (by omega)]; rfl) ⟨L + 1, xw_sm24 (s := s) hS hL hR hlv A (by omega) (fun al' ext' g1 g2 => ih (s + 1) al' ext' (by omega) (gr_gs_c g1 (fun k => Iff.rfl)) g2) L 0 al _ (by omega) (gr_gs_c h1 (fun k => ?_)) (fun i hi => by rw [pk_un (by omega)]; exact h2 i hi) (by rw [pk_us]; exact Or.inr ⟨rfl, fun ⟨a', w, _⟩ => by omega⟩)⟩))
      constructor
      · rintro ⟨i, a', w1, w2, w3, w4⟩; exact ⟨i, a', Or.inl w1, w2, w3, w4⟩
      · rintro ⟨i, a', w1, w2, w3, w4⟩; exact ⟨i, a', by omega, w2, w3, w4⟩
  exact ⟨S.1 + 1, key S.1 0 0 a_extendable (by omega) (gr_gs_0 (fun k ⟨i, a', w, _⟩ => by omega)) (fun i hi => by omega)⟩
theorem xw_emptyText {post : SX → Prop} (K : ∀ fl, (∀ i, i < 260 → fl i = 0) → post (f_letters, f_maxRules, f_maxLeaves, f_maxText, f_tokenCount, f_depth, f_leafCount, f_finishedLeaves, f_ruleCount, f_rawCount, f_stateTotal, f_aliveRules, f_compiled, 0, 0, 0, 0, a_tokens, a_masks, a_follow, a_ruleNull, a_ruleFirst, a_ruleLast, a_altNull, a_altFirst, a_altLast, a_catNull, a_catFirst, a_catLast, a_atomNull, a_atomFirst, a_atomLast, a_rawSet, a_rawOfSet, a_rawDelta, a_rawLabel, a_letterLeaves, a_classOf, a_nextClass, a_classRep, a_slotClass, a_slotKey, a_numberOf, a_queue, a_delta, a_stateLabel, a_extendable, a_text, a_lexRule, a_lexLength, fl, a_trail)) : wpX_emptyText post (f_letters, f_maxRules, f_maxLeaves, f_maxText, f_tokenCount, f_depth, f_leafCount, f_finishedLeaves, f_ruleCount, f_rawCount, f_stateTotal, f_aliveRules, f_compiled, f_textLength, f_closed, f_lexCount, f_position, a_tokens, a_masks, a_follow, a_ruleNull, a_ruleFirst, a_ruleLast, a_altNull, a_altFirst, a_altLast, a_catNull, a_catFirst, a_catLast, a_atomNull, a_atomFirst, a_atomLast, a_rawSet, a_rawOfSet, a_rawDelta, a_rawLabel, a_letterLeaves, a_classOf, a_nextClass, a_classRep, a_slotClass, a_slotKey, a_numberOf, a_queue, a_delta, a_stateLabel, a_extendable, a_text, a_lexRule, a_lexLength, a_failed, a_trail) := by
  have key : ∀ (m i : Nat) (fl : Nat → Int64), i + m = 260 → (∀ j, j < i → fl j = 0) → wX_emptyText_22 post f_letters f_maxRules f_maxLeaves f_maxText f_tokenCount f_depth f_leafCount f_finishedLeaves f_ruleCount f_rawCount f_stateTotal f_aliveRules f_compiled 0 0 0 0 (m + 1) (nI i) a_tokens a_masks a_follow a_ruleNull a_ruleFirst a_ruleLast a_altNull a_altFirst a_altLast a_catNull a_catFirst a_catLast a_atomNull a_atomFirst a_atomLast a_rawSet a_rawOfSet a_rawDelta a_rawLabel a_letterLeaves a_classOf a_nextClass a_classRep a_slotClass a_slotKey a_numberOf a_queue a_delta a_stateLabel a_extendable a_text a_lexRule a_lexLength fl a_trail := by
    intro m
    induction m with
    | zero =>
      intro i fl hm h
      exact br_t (nI_le (a := 260) (by omega) (by omega)) (K fl (fun j hj => h j (by omega)))
    | succ m ih =>
      intro i fl hm h
      refine br_f (nI_ge (b := 260) (by omega) (by omega)) (And.intro (vp_in_nI (by omega) (by omega)) (nm_r (e' := vp_updL fl i 0) (by rw [nI_clamp (by omega)]) (nm_r (nI_1 i) (ih (i + 1) _ (by omega) (fun j hj => ?_)))))
      by_cases e : j = i
      · subst e; exact pk_uLs
      · rw [pk_uLn e]; exact h j (by omega)
  exact ⟨261, key 260 0 a_failed rfl (fun j hj => by omega)⟩
end
end
section
/-! the numbering's states are live and differ; X: compile -/
def bf_P (Q : Nat → Nat → Prop) (S : Nat × (Nat → Nat)) : Prop := 1 ≤ S.1 ∧ S.1 ≤ 256 ∧ S.2 0 = 256 ∧ ∀ i, i < S.1 → S.2 i < 257 ∧ ¬ Q (S.2 i) 0 ∧ ∀ j, j < i → ¬ Q (S.2 i) (S.2 j)
section
variable {Q : Nat → Nat → Prop} {go : Nat → Nat → Nat} {L : Nat}
theorem bf_P1 (hg : ∀ c a, go c a < 257) {i a : Nat} {S : Nat × (Nat → Nat)} (h : bf_P Q S) : bf_P Q (bf_1 Q go i a S) := by
  by_cases c : (∃ j, j < S.1 ∧ Q (go (S.2 i) a) (S.2 j)) ∨ Q (go (S.2 i) a) 0 ∨ 256 ≤ S.1
  · rw [bf_1y c]; exact h
  · rw [bf_1n c]
    obtain ⟨h1, h2, h3, h4⟩ := h
    have c1 : ∀ j, j < S.1 → ¬ Q (go (S.2 i) a) (S.2 j) := fun j hj hq => c (Or.inl ⟨j, hj, hq⟩)
    have c2 : ¬ Q (go (S.2 i) a) 0 := fun hq => c (Or.inr (Or.inl hq))
    have c3 : ¬ 256 ≤ S.1 := fun hq => c (Or.inr (Or.inr hq))
    refine ⟨by show 1 ≤ S.1 + 1; omega, by show S.1 + 1 ≤ 256; omega, ?_, fun k hk => ?_⟩
    · show (if 0 = S.1 then go (S.2 i) a else S.2 0) = 256
      rw [if_neg (by omega)]; exact h3
    · have hk : k < S.1 + 1 := hk
      dsimp only
      by_cases e : k = S.1
      · rw [if_pos e]
        refine ⟨hg _ _, c2, fun j hj => ?_⟩
        rw [if_neg (by omega)]; exact c1 j (by omega)
      · rw [if_neg e]
        have w := h4 k (by omega)
        refine ⟨w.1, w.2.1, fun j hj => ?_⟩
        rw [if_neg (by omega)]; exact w.2.2 j hj
theorem bf_Prow (hg : ∀ c a, go c a < 257) {i : Nat} : ∀ (m a : Nat) (S : Nat × (Nat → Nat)), bf_P Q S → bf_P Q (bf_row Q go i m a S)
  | 0, _, _, h => h
  | m + 1, a, S, h => bf_Prow hg m (a + 1) _ (bf_P1 hg h)
theorem bf_Pgo (hg : ∀ c a, go c a < 257) : ∀ (m i : Nat) (S : Nat × (Nat → Nat)), bf_P Q S → bf_P Q (bf_go Q go L m i S)
  | 0, _, _, h => h
  | m + 1, i, S, h => by
    show bf_P Q (if i < S.1 then bf_go Q go L m (i + 1) (bf_row Q go i L 0 S) else S)
    by_cases c : i < S.1
    · rw [if_pos c]; exact bf_Pgo hg m (i + 1) _ (bf_Prow hg L 0 S h)
    · rw [if_neg c]; exact h
end
/-- what compile needs of the tokens -/
def tk_C (t : Nat → Nat) (R L : Nat) : Prop :=
  L ≤ 4 ∧ R ≤ 6 ∧ 0 < R ∧ t 0 = 0 ∧ (∀ p, t p < 100) ∧ (∀ p, gr_Lf t p → lf_c t p < 8) ∧ (∀ p, gr_Lf t p → t p < 2 ^ L) ∧ (∀ r, r < R → ∃ m, rw_F t (1 + 25 * r) m) ∧ ∀ p, 1 + 25 * R ≤ p → t p = 0
theorem tk_live {t : Nat → Nat} {R L : Nat} (C : tk_C t R L) : ∀ c a, sg_go t R c a = 0 ↔ mo_Q (sg_lab t R) (sg_go t R) L (sg_go t R c a) 0 := by
  obtain ⟨c1, c2, c3, c4, c5, c6, c7, c8, c9⟩ := C
  exact sg_live c2 c1 c4 c6 c7 c8 c9
theorem tk_P {t : Nat → Nat} {R L : Nat} (C : tk_C t R L) : bf_P (mo_Q (sg_lab t R) (sg_go t R) L) (sg_S t R L) := by
  obtain ⟨c1, c2, c3, c4, c5, c6, c7, c8, c9⟩ := C
  refine bf_Pgo (fun c a => by have := sg_go_lt t R c a; omega) 256 0 _ ⟨Nat.le_refl _, by show 1 ≤ 256; omega, rfl, fun i hi => ⟨by show 256 < 257; omega, sg_liveS c2 c3 c1 c4 c6 c7 c8 c9, fun j hj => ?_⟩⟩
  have hi : i < 1 := hi
  omega
section
variable {f_letters f_maxRules f_maxLeaves f_maxText f_tokenCount f_depth f_leafCount f_finishedLeaves f_ruleCount f_rawCount f_stateTotal f_aliveRules f_compiled f_textLength f_closed f_lexCount f_position : Int32} {a_tokens a_masks a_follow a_ruleNull a_ruleFirst a_ruleLast a_altNull a_altFirst a_altLast a_catNull a_catFirst a_catLast a_atomNull a_atomFirst a_atomLast a_rawSet a_rawOfSet a_rawDelta a_rawLabel a_letterLeaves a_classOf a_nextClass a_classRep a_slotClass a_numberOf a_queue a_delta a_stateLabel a_extendable a_text a_lexRule a_lexLength a_trail : Nat → Int32} {a_slotKey a_failed : Nat → Int64} {t : Nat → Nat} {R L : Nat}
theorem xw_compile {post : Int32 → SX → Prop} {n8 : Nat} (C : tk_C t R L) (hn8 : n8 ≤ 8) (hn : n8 = lf_c t 176) (A : xr_A t R a_masks a_follow a_ruleNull a_ruleFirst a_ruleLast)
    (K : ∀ N rset rof rdel rlab ll co nxt crep sc sk num que del slab ext al fl, xc_A t R L (sg_S t R L) del slab → gr_gs al (fun k => xs_W t R L (sg_S t R L) k ∧ k < 7) → (∀ i, i < (sg_S t R L).1 → gr_b01 (ext i) (xs_E t R L (sg_S t R L) i)) → (∀ i, i < 260 → fl i = 0) →
      post (nI (sg_S t R L).1) (nI L, f_maxRules, f_maxLeaves, f_maxText, 0, f_depth, nI n8, f_finishedLeaves, nI R, N, nI (sg_S t R L).1, al, 1, 0, 0, 0, 0, a_tokens, a_masks, a_follow, a_ruleNull, a_ruleFirst, a_ruleLast, a_altNull, a_altFirst, a_altLast, a_catNull, a_catFirst, a_catLast, a_atomNull, a_atomFirst, a_atomLast, rset, rof, rdel, rlab, ll, co, nxt, crep, sc, sk, num, que, del, slab, ext, a_text, a_lexRule, a_lexLength, fl, a_trail)) :
    wpX_compile post (nI L, f_maxRules, f_maxLeaves, f_maxText, 0, f_depth, nI n8, f_finishedLeaves, nI R, f_rawCount, f_stateTotal, f_aliveRules, 0, f_textLength, f_closed, f_lexCount, f_position, a_tokens, a_masks, a_follow, a_ruleNull, a_ruleFirst, a_ruleLast, a_altNull, a_altFirst, a_altLast, a_catNull, a_catFirst, a_catLast, a_atomNull, a_atomFirst, a_atomLast, a_rawSet, a_rawOfSet, a_rawDelta, a_rawLabel, a_letterLeaves, a_classOf, a_nextClass, a_classRep, a_slotClass, a_slotKey, a_numberOf, a_queue, a_delta, a_stateLabel, a_extendable, a_text, a_lexRule, a_lexLength, a_failed, a_trail) := by
  have hlive := tk_live C
  have P := tk_P C
  obtain ⟨c1, c2, c3, c4, c5, c6, c7, c8, c9⟩ := C
  refine br_t rfl (br_t (by decide) (br_f (nI_ne0 c3 (by omega)) (xw_buildSubsets c1 c2 hn8 hn c6 c9 A (fun N sit rset rof rlab rdel ll I D => ?_))))
  refine xw_refine c1 c2 hlive I D (fun n rep cls co nxt crep sc sk Z => ?_)
  refine xw_numberStates c1 hlive I D Z (fun num que del slab Ax => ?_)
  refine xw_summarise rfl c1 c2 (fun i hi => (P.2.2.2 i hi).2.1) Ax (fun al ext h1 h2 => ?_)
  exact xw_emptyText (fun fl hfl => K (nI N) rset rof rdel rlab ll co nxt crep sc sk num que del slab ext al fl Ax h1 h2 hfl)
end
end
section
/-! runs over the text; best matches; X match, Y run, match -/
def tr_n (go : Nat → Nat → Nat) (tx : Nat → Nat) (u p : Nat) : Nat → Nat
  | 0 => u
  | n + 1 => go (tr_n go tx u p n) (tx (p + n))
theorem tr_add (go : Nat → Nat → Nat) (tx : Nat → Nat) (u p m : Nat) : ∀ n, tr_n go tx u p (m + n) = tr_n go tx (tr_n go tx u p m) (p + m) n
  | 0 => rfl
  | n + 1 => by
    show go (tr_n go tx u p (m + n)) (tx (p + (m + n))) = go (tr_n go tx (tr_n go tx u p m) (p + m) n) (tx (p + m + n))
    rw [tr_add go tx u p m n, Nat.add_assoc]
theorem tr_Q {lab : Nat → Int32} {go : Nat → Nat → Nat} {L : Nat} {tx : Nat → Nat} {u v p : Nat} (h : mo_Q lab go L u v) : ∀ n, (∀ i, i < n → tx (p + i) < L) → mo_Q lab go L (tr_n go tx u p n) (tr_n go tx v p n)
  | 0, _ => h
  | n + 1, ht => mo_Q_go (tr_Q h n (fun i hi => ht i (by omega))) (ht n (by omega))
theorem tr_0 {go : Nat → Nat → Nat} {tx : Nat → Nat} {p : Nat} (h : ∀ a, go 0 a = 0) : ∀ n, tr_n go tx 0 p n = 0
  | 0 => rfl
  | n + 1 => by
    show go (tr_n go tx 0 p n) (tx (p + n)) = 0
    rw [tr_0 h n, h]
theorem tr_lt {go : Nat → Nat → Nat} {tx : Nat → Nat} {u p : Nat} (hg : ∀ c a, go c a < 257) (hu : u < 257) : ∀ n, tr_n go tx u p n < 257
  | 0 => hu
  | n + 1 => hg _ _
/-- the longest match among the first E letters behind at -/
def bm_T (lab : Nat → Int32) (go : Nat → Nat → Nat) (tx : Nat → Nat) (p E : Nat) (x : Int32) (b : Nat) : Prop :=
  b ≤ E ∧ (∀ m, b < m → m ≤ E → lab (tr_n go tx 256 p m) = 0) ∧ ((b = 0 ∧ x = 0) ∨ (1 ≤ b ∧ ∃ v, 1 ≤ v ∧ v ≤ 6 ∧ lab (tr_n go tx 256 p b) = nI v ∧ x = nI (8 * b + v)))
theorem bm_u {lab : Nat → Int32} {go : Nat → Nat → Nat} {tx : Nat → Nat} {p E b b' : Nat} {x y : Int32} (h : bm_T lab go tx p E x b) (h' : bm_T lab go tx p E y b') : x = y ∧ b = b' := by
  obtain ⟨h1, h2, h3⟩ := h
  obtain ⟨k1, k2, k3⟩ := h'
  have nz : ∀ v, 1 ≤ v → v ≤ 6 → ¬ nI v = 0 := fun v a b => nI_ne0 (by omega) (by omega)
  rcases h3 with ⟨a1, a2⟩ | ⟨a1, v, a2, a3, a4, a5⟩
  · rcases k3 with ⟨c1, c2⟩ | ⟨c1, w, c2, c3, c4, c5⟩
    · exact ⟨by rw [a2, c2], by omega⟩
    · have := h2 b' (by omega) k1
      rw [c4] at this
      exact absurd this (nz w c2 c3)
  · rcases k3 with ⟨c1, c2⟩ | ⟨c1, w, c2, c3, c4, c5⟩
    · have := k2 b (by omega) h1
      rw [a4] at this
      exact absurd this (nz v a2 a3)
    · rcases Nat.lt_trichotomy b b' with z | z | z
      · have := h2 b' z k1
        rw [c4] at this
        exact absurd this (nz w c2 c3)
      · subst z
        rw [a4, nI_eq (by omega) (by omega)] at c4
        exact ⟨by rw [a5, c5, c4], rfl⟩
      · have := k2 b z h1
        rw [a4] at this
        exact absurd this (nz v a2 a3)
theorem bm_0 (lab : Nat → Int32) (go : Nat → Nat → Nat) (tx : Nat → Nat) (p : Nat) : bm_T lab go tx p 0 0 0 := ⟨Nat.le_refl _, fun m a b => by omega, Or.inl ⟨rfl, rfl⟩⟩
theorem bm_more {lab : Nat → Int32} {go : Nat → Nat → Nat} {tx : Nat → Nat} {p E E' b : Nat} {x : Int32} (h : bm_T lab go tx p E x b) (hE : E ≤ E') (hz : ∀ m, E < m → m ≤ E' → lab (tr_n go tx 256 p m) = 0) : bm_T lab go tx p E' x b := by
  refine ⟨by have := h.1; omega, fun m a c => ?_, h.2.2⟩
  by_cases z : m ≤ E
  · exact h.2.1 m a z
  · exact hz m (by omega) c
theorem bm_new {lab : Nat → Int32} {go : Nat → Nat → Nat} {tx : Nat → Nat} {p E v : Nat} (h1 : 1 ≤ E) (hv : 1 ≤ v) (hv6 : v ≤ 6) (h : lab (tr_n go tx 256 p E) = nI v) : bm_T lab go tx p E (nI (8 * E + v)) E := ⟨Nat.le_refl _, fun m a b => by omega, Or.inr ⟨h1, v, hv, hv6, h, rfl⟩⟩
theorem bm_ex {t : Nat → Nat} {R : Nat} (hR : R ≤ 6) (go : Nat → Nat → Nat) (tx : Nat → Nat) (p : Nat) : ∀ E, ∃ x b, bm_T (sg_lab t R) go tx p E x b
  | 0 => ⟨0, 0, bm_0 _ _ _ _⟩
  | E + 1 => by
    obtain ⟨x, b, h⟩ := bm_ex hR go tx p E
    obtain ⟨v, v1, v2⟩ := lb_nat hR (sg_labT t R (tr_n go tx 256 p (E + 1)))
    rcases Nat.eq_zero_or_pos v with z | z
    · subst z
      exact ⟨x, b, bm_more h (by omega) (fun m a c => by have : m = E + 1 := by omega
                                                         rw [this, v2]; rfl)⟩
    · exact ⟨_, _, bm_new (by omega) z v1 v2⟩
/-- the text as both hold it -/
def tx_I (tx : Nat → Nat) (L TL : Nat) (txt : Nat → Int32) : Prop := TL ≤ 64 ∧ ∀ i, i < TL → txt i = nI (tx i) ∧ tx i < L
/-- X's state q and the situation u agree -/
def xs_q (t : Nat → Nat) (R L q u : Nat) : Prop := q < (sg_S t R L).1 ∧ mo_Q (sg_lab t R) (sg_go t R) L ((sg_S t R L).2 q) u
section
variable {t : Nat → Nat} {R L : Nat}
theorem xs_step {del slab : Nat → Int32} (A : xc_A t R L (sg_S t R L) del slab) (C : tk_C t R L) {q u a : Nat} (h : xs_q t R L q u) (ha : a < L) : (mo_Q (sg_lab t R) (sg_go t R) L (sg_go t R u a) 0 ∧ del (q * 4 + a) = -1) ∨ ∃ q', del (q * 4 + a) = nI q' ∧ xs_q t R L q' (sg_go t R u a) ∧ ¬ mo_Q (sg_lab t R) (sg_go t R) L (sg_go t R u a) 0 := by
  have g := mo_Q_go h.2 ha
  rcases A.2.2.2 q a h.1 ha with ⟨z1, z2⟩ | ⟨j, z1, z2, z3⟩
  · exact Or.inl ⟨mo_Q_trans (mo_Q_symm g) z1, z2⟩
  · refine Or.inr ⟨j, z2, ⟨z1, mo_Q_trans (mo_Q_symm z3) g⟩, fun w => ?_⟩
    exact ((tk_P C).2.2.2 j z1).2.1 (mo_Q_trans (mo_Q_symm z3) (mo_Q_trans g w))
theorem xs_lab {del slab : Nat → Int32} (A : xc_A t R L (sg_S t R L) del slab) {q u : Nat} (h : xs_q t R L q u) : slab q = sg_lab t R u := (A.2.2.1 q h.1).trans (mo_Q_lab h.2)
theorem xs_start (C : tk_C t R L) : xs_q t R L 0 256 := by
  have P := tk_P C
  refine ⟨by have := P.1; omega, ?_⟩
  rw [P.2.2.1]
  exact mo_Q_refl _
theorem tr_dead (C : tk_C t R L) {tx : Nat → Nat} {u p n : Nat} (h : mo_Q (sg_lab t R) (sg_go t R) L u 0) (ht : ∀ i, i < n → tx (p + i) < L) : mo_Q (sg_lab t R) (sg_go t R) L (tr_n (sg_go t R) tx u p n) 0 := by
  have q := tr_Q (tx := tx) (p := p) h n ht
  rw [tr_0 (sg_go0 C.2.2.2.2.2.1)] at q
  exact q
theorem lab_dead {u : Nat} (h : mo_Q (sg_lab t R) (sg_go t R) L u 0) : sg_lab t R u = 0 := (mo_Q_lab h).trans sg_lab0
end
section
variable {f_letters f_maxRules f_maxLeaves f_maxText f_tokenCount f_depth f_leafCount f_finishedLeaves f_ruleCount f_rawCount f_stateTotal f_aliveRules f_compiled f_textLength f_closed f_lexCount f_position : Int32} {a_tokens a_masks a_follow a_ruleNull a_ruleFirst a_ruleLast a_altNull a_altFirst a_altLast a_catNull a_catFirst a_catLast a_atomNull a_atomFirst a_atomLast a_rawSet a_rawOfSet a_rawDelta a_rawLabel a_letterLeaves a_classOf a_nextClass a_classRep a_slotClass a_numberOf a_queue a_delta a_stateLabel a_extendable a_text a_lexRule a_lexLength a_trail : Nat → Int32} {a_slotKey a_failed : Nat → Int64} {t : Nat → Nat} {R L TL : Nat} {tx : Nat → Nat}
theorem xw_match {post : Int32 → Prop} {p : Nat} (C : tk_C t R L) (A : xc_A t R L (sg_S t R L) a_delta a_stateLabel) (T : tx_I tx L TL a_text) (hp : p < TL) (K : ∀ x b, bm_T (sg_lab t R) (sg_go t R) tx p (TL - p) x b → post x) : wpX_match post (f_letters, f_maxRules, f_maxLeaves, f_maxText, f_tokenCount, f_depth, f_leafCount, f_finishedLeaves, f_ruleCount, f_rawCount, f_stateTotal, f_aliveRules, 1, nI TL, f_closed, f_lexCount, f_position, a_tokens, a_masks, a_follow, a_ruleNull, a_ruleFirst, a_ruleLast, a_altNull, a_altFirst, a_altLast, a_catNull, a_catFirst, a_catLast, a_atomNull, a_atomFirst, a_atomLast, a_rawSet, a_rawOfSet, a_rawDelta, a_rawLabel, a_letterLeaves, a_classOf, a_nextClass, a_classRep, a_slotClass, a_slotKey, a_numberOf, a_queue, a_delta, a_stateLabel, a_extendable, a_text, a_lexRule, a_lexLength, a_failed, a_trail) (nI p) := by
  have hL := C.1
  have S256 := A.2.1
  have T64 := T.1
  have key : ∀ (m i q : Nat) (x : Int32) (b : Nat), i + m = TL → p ≤ i → xs_q t R L q (tr_n (sg_go t R) tx 256 p (i - p)) → bm_T (sg_lab t R) (sg_go t R) tx p (i - p) x b → wX_match_28 post (nI p) f_letters f_maxRules f_maxLeaves f_maxText f_tokenCount f_depth f_leafCount f_finishedLeaves f_ruleCount f_rawCount f_stateTotal f_aliveRules 1 (nI TL) f_closed f_lexCount f_position a_tokens a_masks a_follow a_ruleNull a_ruleFirst a_ruleLast a_altNull a_altFirst a_altLast a_catNull a_catFirst a_catLast a_atomNull a_atomFirst a_atomLast a_rawSet a_rawOfSet a_rawDelta a_rawLabel a_letterLeaves a_classOf a_nextClass a_classRep a_slotClass a_slotKey a_numberOf a_queue a_delta a_stateLabel a_extendable a_text a_lexRule a_lexLength a_failed a_trail (m + 2) (nI q) x (nI i) := by
    intro m
    induction m with
    | zero =>
      intro i q x b hm hi hq hb
      have e : i = TL := by omega
      subst e
      exact br_t (nI_le (Nat.le_refl _) (by omega)) (K x b hb)
    | succ m ih =>
      intro i q x b hm hi hq hb
      have ti := T.2 i (by omega)
      have q256 := hq.1
      have ct : a_text (nI i).toNatClampNeg = nI (tx i) := by rw [nI_clamp (by omega)]; exact ti.1
      have ix : (nI q * 4) + a_text (nI i).toNatClampNeg = nI (q * 4 + tx i) := by rw [ct]; exact yl_i4 _ _
      have cx : ((nI q * 4) + a_text (nI i).toNatClampNeg).toNatClampNeg = q * 4 + tx i := by rw [ix]; exact nI_clamp (by omega)
      have es : tr_n (sg_go t R) tx 256 p (i + 1 - p) = sg_go t R (tr_n (sg_go t R) tx 256 p (i - p)) (tx i) := by
        rw [show i + 1 - p = (i - p) + 1 by omega]
        show sg_go t R (tr_n (sg_go t R) tx 256 p (i - p)) (tx (p + (i - p))) = _
        rw [show p + (i - p) = i by omega]
      refine br_f (nI_ge (by omega) (by omega)) (br_f (nI_pos (by omega)) (And.intro (vp_in_nI (by omega) (by omega)) (And.intro (by rw [ix]; exact vp_in_nI (by omega) (by omega)) (nm_r (e' := a_delta (q * 4 + tx i)) (by rw [cx]) ?_))))
      rcases xs_step A C hq ti.2 with ⟨z1, z2⟩ | ⟨q', z1, z2, z3⟩
      · rw [z2]
        refine br_t (by decide) (nm_r (nI_1 i) ?_)
        have dead : ∀ m', i - p < m' → m' ≤ TL - p → sg_lab t R (tr_n (sg_go t R) tx 256 p m') = 0 := by
          intro m' a1 a2
          have e : m' = (i + 1 - p) + (m' - (i + 1 - p)) := by omega
          rw [e, tr_add, es]
          exact lab_dead (tr_dead C z1 (fun j hj => (T.2 _ (by omega)).2))
        have fin := K x b (bm_more hb (by omega) dead)
        exact pk_le TL (i + 1) (fun _ => fin) (fun _ => br_t (by decide) fin)
      · rw [z1]
        have l' := xs_lab A z2
        rw [← es] at z2 l'
        obtain ⟨v, v1, v2⟩ := lb_nat C.2.1 (sg_labT t R (tr_n (sg_go t R) tx 256 p (i + 1 - p)))
        have q2 := z2.1
        refine br_f (nI_pos (by omega)) (And.intro (vp_in_nI (by omega) (by omega)) ?_)
        rw [nI_clamp (by omega), l', v2]
        refine pk_eq v 0 (fun e => nm_r (nI_1 i) (ih (i + 1) q' x b (by omega) (by omega) z2 (bm_more hb (by omega) (fun m' a1 a2 => ?_)))) (fun e => And.intro (vp_in_nI (by omega) (by omega)) (nm_r (e' := nI (8 * (i + 1 - p) + v)) ?_ (nm_r (nI_1 i) (ih (i + 1) q' _ _ (by omega) (by omega) z2 (bm_new (by omega) (by omega) v1 v2)))))
        · have : m' = i + 1 - p := by omega
          rw [this, v2, e]; rfl
        · rw [pk_sub hi, nI_1, show (8 : Int32) = nI 8 from rfl, pk_mul, nI_add]
          exact congrArg nI (by omega)
  refine br_f (by decide) (br_f (nI_pos (by omega)) (br_t (nI_lt hp (by omega)) ⟨TL - p + 2, key (TL - p) p 0 0 0 (by omega) (Nat.le_refl _) ?_ ?_⟩))
  · rw [Nat.sub_self]; exact xs_start C
  · rw [Nat.sub_self]; exact bm_0 _ _ _ _
end
section
variable {g_letters g_maxRules g_maxLeaves g_maxText g_rules g_count g_compiled g_states g_textLength g_closed g_lexemes : Int32} {b_toks b_reach b_go b_lab b_seen b_diff b_conf b_text b_lexRule b_lexLength : Nat → Int32} {n_diff : Nat} {t : Nat → Nat} {R L TL : Nat} {tx : Nat → Nat}
theorem yw_run {post : Int32 → Prop} {p e : Nat} (hL : L ≤ 4) (Tt : yc_T (sg_go t R) L b_go (sg_lab t R) b_seen b_diff n_diff) (T : tx_I tx L TL b_text) (hpe : p ≤ e) (he : e ≤ TL) (h : post (nI (tr_n (sg_go t R) tx 256 p (e - p)))) : wpY_run post (g_letters, g_maxRules, g_maxLeaves, g_maxText, g_rules, g_count, g_compiled, g_states, g_textLength, g_closed, g_lexemes, b_toks, b_reach, b_go, b_lab, b_seen, b_diff, b_conf, b_text, b_lexRule, b_lexLength, n_diff) (nI p) (nI e) := by
  have T64 := T.1
  have hg : ∀ c a, sg_go t R c a < 257 := fun c a => by have := sg_go_lt t R c a; omega
  have key : ∀ (m i : Nat), i + m = e → p ≤ i → wY_run_7 post (nI e) g_letters g_maxRules g_maxLeaves g_maxText g_rules g_count g_compiled g_states g_textLength g_closed g_lexemes b_toks b_reach b_go b_lab b_seen b_diff b_conf b_text b_lexRule b_lexLength n_diff (m + 1) (nI (tr_n (sg_go t R) tx 256 p (i - p))) (nI i) := by
    intro m
    induction m with
    | zero =>
      intro i hm hi
      have e1 : i = e := by omega
      subst e1
      exact br_t (nI_le (Nat.le_refl _) (by omega)) h
    | succ m ih =>
      intro i hm hi
      have ti := T.2 i (by omega)
      have lt := tr_lt (tx := tx) (p := p) hg (show 256 < 257 by omega) (i - p)
      have ct : b_text (nI i).toNatClampNeg = nI (tx i) := by rw [nI_clamp (by omega)]; exact ti.1
      have ix : (nI (tr_n (sg_go t R) tx 256 p (i - p)) * 4) + b_text (nI i).toNatClampNeg = nI (tr_n (sg_go t R) tx 256 p (i - p) * 4 + tx i) := by rw [ct]; exact yl_i4 _ _
      have g := Tt.1 (tr_n (sg_go t R) tx 256 p (i - p)) (tx i) lt ti.2
      have es : tr_n (sg_go t R) tx 256 p (i + 1 - p) = sg_go t R (tr_n (sg_go t R) tx 256 p (i - p)) (tx i) := by
        rw [show i + 1 - p = (i - p) + 1 by omega]
        show sg_go t R (tr_n (sg_go t R) tx 256 p (i - p)) (tx (p + (i - p))) = _
        rw [show p + (i - p) = i by omega]
      have n := ih (i + 1) (by omega) (by omega)
      rw [es] at n
      exact br_f (nI_ge (by omega) (by omega)) (And.intro (vp_in_nI (by omega) (by omega)) (And.intro (by rw [ix]; exact vp_in_nI (by omega) (by omega)) (nm_r (e' := nI (sg_go t R (tr_n (sg_go t R) tx 256 p (i - p)) (tx i))) (by rw [ix, nI_clamp (by omega)]; exact g.1) (nm_r (nI_1 i) n))))
  have k0 := key (e - p) p (by omega) (Nat.le_refl _)
  rw [Nat.sub_self] at k0
  exact ⟨e - p + 1, k0⟩
theorem yw_match {post : Int32 → Prop} {p : Nat} (hL : L ≤ 4) (hR : R ≤ 6) (Tt : yc_T (sg_go t R) L b_go (sg_lab t R) b_seen b_diff n_diff) (hlab : ∀ c, c < 257 → b_lab c = sg_lab t R c) (T : tx_I tx L TL b_text) (hp : p < TL) (K : ∀ x b, bm_T (sg_lab t R) (sg_go t R) tx p (TL - p) x b → post x) : wpY_match post (g_letters, g_maxRules, g_maxLeaves, g_maxText, g_rules, g_count, 1, g_states, nI TL, g_closed, g_lexemes, b_toks, b_reach, b_go, b_lab, b_seen, b_diff, b_conf, b_text, b_lexRule, b_lexLength, n_diff) (nI p) := by
  have T64 := T.1
  have hg : ∀ c a, sg_go t R c a < 257 := fun c a => by have := sg_go_lt t R c a; omega
  have key : ∀ (m : Nat), m ≤ TL - p → (∀ m', m < m' → m' ≤ TL - p → sg_lab t R (tr_n (sg_go t R) tx 256 p m') = 0) → wY_match_28 post (nI p) g_letters g_maxRules g_maxLeaves g_maxText g_rules g_count 1 g_states (nI TL) g_closed g_lexemes b_toks b_reach b_go b_lab b_seen b_diff b_conf b_text b_lexRule b_lexLength n_diff (m + 1) (nI m) := by
    intro m
    induction m with
    | zero =>
      intro hm h
      exact br_t (nI_lt (b := 1) (by omega) (by omega)) (K 0 0 ⟨Nat.zero_le _, h, Or.inl ⟨rfl, rfl⟩⟩)
    | succ m ih =>
      intro hm h
      have lt := tr_lt (tx := tx) (p := p) hg (show 256 < 257 by omega) (m + 1)
      refine br_f (nI_nlt (b := 1) (by omega) (by omega)) ?_
      rw [nI_add]
      refine yw_run hL Tt T (by omega) (by omega) ?_
      rw [show p + (m + 1) - p = m + 1 by omega]
      obtain ⟨v, v1, v2⟩ := lb_nat hR (sg_labT t R (tr_n (sg_go t R) tx 256 p (m + 1)))
      refine And.intro (vp_in_nI lt (by omega)) ?_
      rw [nI_clamp (by omega), hlab _ lt, v2]
      refine pk_eq v 0 (fun e => nm_r (pk_m1 m) (ih (by omega) (fun m' a1 a2 => ?_))) (fun e => And.intro (vp_in_nI lt (by omega)) (ek_v (P := post) ?_ (K (nI (8 * (m + 1) + v)) (m + 1) ⟨hm, h, Or.inr ⟨by omega, v, by omega, v1, v2, rfl⟩⟩)))
      · by_cases z : m' = m + 1
        · rw [z, v2, e]; rfl
        · exact h m' (by omega) a2
      · rw [show (8 : Int32) = nI 8 from rfl, pk_mul, nI_add]
  exact br_f (by decide) (br_f (nI_pos (by omega)) (br_t (nI_lt hp (by omega)) (nm_r (pk_sub (by omega)) ⟨TL - p + 1, key (TL - p) (Nat.le_refl _) (fun m' a1 a2 => by omega)⟩)))
end
end
section
/-! X: the memo, munch -/
def mm_b (fl : Nat → Int64) (q p : Nat) : Prop := (fl (p * 4 + q / 64)).toBitVec.getLsbD (q % 64) = true
def mm_M (t : Nat → Nat) (R L : Nat) (tx : Nat → Nat) (TL : Nat) (clo : Int32) (q p : Nat) : Prop :=
  p ≤ TL ∧ (∀ n, 1 ≤ n → p + n ≤ TL → sg_lab t R (tr_n (sg_go t R) tx ((sg_S t R L).2 q) p n) = 0) ∧ (¬ clo = 0 ∨ ∀ a, a < L → mo_Q (sg_lab t R) (sg_go t R) L (sg_go t R (tr_n (sg_go t R) tx ((sg_S t R L).2 q) p (TL - p)) a) 0)
def mm_I (t : Nat → Nat) (R L : Nat) (tx : Nat → Nat) (TL : Nat) (clo : Int32) (fl : Nat → Int64) : Prop := ∀ q p, q < (sg_S t R L).1 → p ≤ 64 → mm_b fl q p → mm_M t R L tx TL clo q p
theorem mm_sh {q : Nat} (hq : q < 256) : nI q >>> ((6 : Int32) &&& 31) = nI (q / 64) := pk_shrN (by omega) _ 6 (by decide)
theorem mm_an {q : Nat} (hq : q < 256) : nI q &&& 63 = nI (q % 64) := by
  rw [pk_andN (by omega) (m := 63) 6 (by decide)]
theorem mm_ix {q p : Nat} (hq : q < 256) : (nI p * 4) + (nI q >>> ((6 : Int32) &&& 31)) = nI (p * 4 + q / 64) := by
  rw [mm_sh hq]; exact yl_i4 _ _
theorem mm_tp (k i : Nat) (hk : k < 64) (hi : i < 64) : (lN (1 * 2 ^ k)).toBitVec.getLsbD i = decide (k = i) := by
  rw [wb_tb, BitVec.getLsbD_ofNat, Nat.one_mul, Nat.testBit_two_pow]
  rw [decide_eq_true hi, Bool.true_and]
section
variable {f_letters f_maxRules f_maxLeaves f_maxText f_tokenCount f_depth f_leafCount f_finishedLeaves f_ruleCount f_rawCount f_stateTotal f_aliveRules f_compiled f_textLength f_closed f_lexCount f_position : Int32} {a_tokens a_masks a_follow a_ruleNull a_ruleFirst a_ruleLast a_altNull a_altFirst a_altLast a_catNull a_catFirst a_catLast a_atomNull a_atomFirst a_atomLast a_rawSet a_rawOfSet a_rawDelta a_rawLabel a_letterLeaves a_classOf a_nextClass a_classRep a_slotClass a_numberOf a_queue a_delta a_stateLabel a_extendable a_text a_lexRule a_lexLength a_trail : Nat → Int32} {a_slotKey a_failed : Nat → Int64} {t : Nat → Nat} {R L TL : Nat} {tx : Nat → Nat}
theorem xw_hasFailed {post : Int32 → Prop} {q p : Nat} (hq : q < 256) (hp : p ≤ 64) (h1 : mm_b a_failed q p → post 1) (h0 : ¬ mm_b a_failed q p → post 0) : wpX_hasFailed post (f_letters, f_maxRules, f_maxLeaves, f_maxText, f_tokenCount, f_depth, f_leafCount, f_finishedLeaves, f_ruleCount, f_rawCount, f_stateTotal, f_aliveRules, f_compiled, f_textLength, f_closed, f_lexCount, f_position, a_tokens, a_masks, a_follow, a_ruleNull, a_ruleFirst, a_ruleLast, a_altNull, a_altFirst, a_altLast, a_catNull, a_catFirst, a_catLast, a_atomNull, a_atomFirst, a_atomLast, a_rawSet, a_rawOfSet, a_rawDelta, a_rawLabel, a_letterLeaves, a_classOf, a_nextClass, a_classRep, a_slotClass, a_slotKey, a_numberOf, a_queue, a_delta, a_stateLabel, a_extendable, a_text, a_lexRule, a_lexLength, a_failed, a_trail) (nI q) (nI p) := by
  have ix := mm_ix (p := p) hq
  refine And.intro (by rw [ix]; exact vp_in_nI (by omega) (by omega)) (nm_r (e' := a_failed (p * 4 + q / 64)) (by rw [ix, nI_clamp (by omega)]) ?_)
  have hm : q % 64 < 64 := Nat.mod_lt _ (by decide)
  rw [mm_an hq, ts_bit hm (by rw [wb_cu _ hm]; exact u_tn (by omega))]
  refine br_c (fun z => h0 (fun w => ?_)) (fun z => h1 (ts_nf z))
  rw [mm_b, z] at w
  exact absurd w (by decide)
theorem xw_markFailed {post : SX → Prop} {q p : Nat} (hq : q < 256) (hp : p ≤ 64) (K : ∀ fl, (∀ q' p', q' < 256 → p' ≤ 64 → (mm_b fl q' p' ↔ mm_b a_failed q' p' ∨ (q' = q ∧ p' = p))) → post (f_letters, f_maxRules, f_maxLeaves, f_maxText, f_tokenCount, f_depth, f_leafCount, f_finishedLeaves, f_ruleCount, f_rawCount, f_stateTotal, f_aliveRules, f_compiled, f_textLength, f_closed, f_lexCount, f_position, a_tokens, a_masks, a_follow, a_ruleNull, a_ruleFirst, a_ruleLast, a_altNull, a_altFirst, a_altLast, a_catNull, a_catFirst, a_catLast, a_atomNull, a_atomFirst, a_atomLast, a_rawSet, a_rawOfSet, a_rawDelta, a_rawLabel, a_letterLeaves, a_classOf, a_nextClass, a_classRep, a_slotClass, a_slotKey, a_numberOf, a_queue, a_delta, a_stateLabel, a_extendable, a_text, a_lexRule, a_lexLength, fl, a_trail)) : wpX_markFailed post (f_letters, f_maxRules, f_maxLeaves, f_maxText, f_tokenCount, f_depth, f_leafCount, f_finishedLeaves, f_ruleCount, f_rawCount, f_stateTotal, f_aliveRules, f_compiled, f_textLength, f_closed, f_lexCount, f_position, a_tokens, a_masks, a_follow, a_ruleNull, a_ruleFirst, a_ruleLast, a_altNull, a_altFirst, a_altLast, a_catNull, a_catFirst, a_catLast, a_atomNull, a_atomFirst, a_atomLast, a_rawSet, a_rawOfSet, a_rawDelta, a_rawLabel, a_letterLeaves, a_classOf, a_nextClass, a_classRep, a_slotClass, a_slotKey, a_numberOf, a_queue, a_delta, a_stateLabel, a_extendable, a_text, a_lexRule, a_lexLength, a_failed, a_trail) (nI q) (nI p) := by
  have ix := mm_ix (p := p) hq
  have hm : q % 64 < 64 := Nat.mod_lt _ (by decide)
  have hi : vp_in ((nI p * 4) + (nI q >>> ((6 : Int32) &&& 31))) 260 := by rw [ix]; exact vp_in_nI (by omega) (by omega)
  refine And.intro hi (And.intro hi (nm_r (e' := vp_updL a_failed (p * 4 + q / 64) (a_failed (p * 4 + q / 64) ||| lN (1 * 2 ^ (q % 64)))) ?_ (K _ (fun q' p' hq' hp' => ?_))))
  · rw [ix, nI_clamp (by omega), mm_an hq, show (1 : Int64) = lN 1 from rfl, wb_shl 1 hm]
  · have hm' : q' % 64 < 64 := Nat.mod_lt _ (by decide)
    unfold mm_b
    by_cases e : p' * 4 + q' / 64 = p * 4 + q / 64
    · rw [e, pk_uLs, Int64.toBitVec_or, BitVec.getLsbD_or, mm_tp _ _ hm hm', Bool.or_eq_true, decide_eq_true_eq]
      constructor
      · rintro (z | z)
        · exact Or.inl z
        · exact Or.inr (by omega)
      · rintro (z | z)
        · exact Or.inl z
        · exact Or.inr (by omega)
    · rw [pk_uLn e]
      constructor
      · exact Or.inl
      · rintro (z | z)
        · exact z
        · exact absurd (by rw [z.1, z.2]) e
/-- where X waits: a letter to come could matter -/
def mu_W (t : Nat → Nat) (R L : Nat) (tx : Nat → Nat) (TL p : Nat) : Prop := ∃ a, a < L ∧ ¬ mo_Q (sg_lab t R) (sg_go t R) L (sg_go t R (tr_n (sg_go t R) tx 256 p (TL - p)) a) 0
theorem mu_nW {p : Nat} (h : ¬ mu_W t R L tx TL p) : ∀ a, a < L → mo_Q (sg_lab t R) (sg_go t R) L (sg_go t R (tr_n (sg_go t R) tx 256 p (TL - p)) a) 0 := by
  intro a ha
  apply Classical.byContradiction
  intro w
  exact h ⟨a, ha, w⟩
/-- the marks at the end of munch -/
theorem xw_mu150 {post : Int32 → SX → Prop} {x clo : Int32} {la : Nat} (hS : (sg_S t R L).1 ≤ 256) (hla : la ≤ 64) (htr : ∀ j, j ≤ la → (∃ q, a_trail j = nI q ∧ q < (sg_S t R L).1 ∧ mm_M t R L tx TL clo q j) ∨ True)
    {be : Nat} (hmk : ∀ j, be ≤ j → j ≤ la → ∃ q, a_trail j = nI q ∧ q < (sg_S t R L).1 ∧ mm_M t R L tx TL clo q j) (K : ∀ fl, mm_I t R L tx TL clo fl → post x (f_letters, f_maxRules, f_maxLeaves, f_maxText, f_tokenCount, f_depth, f_leafCount, f_finishedLeaves, f_ruleCount, f_rawCount, f_stateTotal, f_aliveRules, f_compiled, f_textLength, f_closed, f_lexCount, f_position, a_tokens, a_masks, a_follow, a_ruleNull, a_ruleFirst, a_ruleLast, a_altNull, a_altFirst, a_altLast, a_catNull, a_catFirst, a_catLast, a_atomNull, a_atomFirst, a_atomLast, a_rawSet, a_rawOfSet, a_rawDelta, a_rawLabel, a_letterLeaves, a_classOf, a_nextClass, a_classRep, a_slotClass, a_slotKey, a_numberOf, a_queue, a_delta, a_stateLabel, a_extendable, a_text, a_lexRule, a_lexLength, fl, a_trail)) :
    ∀ (m j : Nat) (fl : Nat → Int64), j + m = la + 1 → be ≤ j → mm_I t R L tx TL clo fl → wX_munch_150 post x (nI la) (m + 1) (nI j) f_letters f_maxRules f_maxLeaves f_maxText f_tokenCount f_depth f_leafCount f_finishedLeaves f_ruleCount f_rawCount f_stateTotal f_aliveRules f_compiled f_textLength f_closed f_lexCount f_position a_tokens a_masks a_follow a_ruleNull a_ruleFirst a_ruleLast a_altNull a_altFirst a_altLast a_catNull a_catFirst a_catLast a_atomNull a_atomFirst a_atomLast a_rawSet a_rawOfSet a_rawDelta a_rawLabel a_letterLeaves a_classOf a_nextClass a_classRep a_slotClass a_slotKey a_numberOf a_queue a_delta a_stateLabel a_extendable a_text a_lexRule a_lexLength fl a_trail := by
  intro m
  induction m with
  | zero =>
    intro j fl hm hj I
    exact br_t (nI_lt (by omega) (by omega)) (K fl I)
  | succ m ih =>
    intro j fl hm hj I
    obtain ⟨q, q1, q2, q3⟩ := hmk j hj (by omega)
    have ct : a_trail (nI j).toNatClampNeg = nI q := by rw [nI_clamp (by omega)]; exact q1
    refine br_f (nI_nlt (by omega) (by omega)) (And.intro (vp_in_nI (by omega) (by omega)) ?_)
    rw [ct]
    refine xw_markFailed (by omega) (by omega) (fun fl' h => nm_r (nI_1 j) (ih (j + 1) fl' (by omega) (by omega) (fun q' p' h1 h2 h3 => ?_)))
    rcases (h q' p' (by omega) h2).mp h3 with z | z
    · exact I q' p' h1 h2 z
    · rw [z.1, z.2]; exact q3
/-- a mark is right: the run from the trail's state goes on as the run from the start -/
theorem mu_M (C : tk_C t R L) {clo : Int32} {p q j b : Nat} {x : Int32} (T : ∀ i, i < TL → tx i < L) (hpj : p ≤ j) (hj : j ≤ TL) (hq : xs_q t R L q (tr_n (sg_go t R) tx 256 p (j - p))) (hb : bm_T (sg_lab t R) (sg_go t R) tx p (TL - p) x b) (hbj : p + b ≤ j) (hW : ¬ clo = 0 ∨ ¬ mu_W t R L tx TL p) : mm_M t R L tx TL clo q j := by
  have eq : ∀ n, j + n ≤ TL → mo_Q (sg_lab t R) (sg_go t R) L (tr_n (sg_go t R) tx ((sg_S t R L).2 q) j n) (tr_n (sg_go t R) tx 256 p (j - p + n)) := by
    intro n hn
    rw [tr_add, show p + (j - p) = j by omega]
    exact tr_Q hq.2 n (fun i hi => T _ (by omega))
  refine ⟨hj, fun n n1 n2 => ?_, ?_⟩
  · rw [mo_Q_lab (eq n n2)]
    exact hb.2.1 _ (by omega) (by omega)
  · rcases hW with w | w
    · exact Or.inl w
    · right
      intro a ha
      have e := mo_Q_go (eq (TL - j) (by omega)) ha
      rw [show j - p + (TL - j) = TL - p by omega] at e
      exact mo_Q_trans e (mu_nW w a ha)
theorem xw_mu119 {post : Int32 → SX → Prop} {p la b : Nat} {x clo : Int32} (C : tk_C t R L) (hS : (sg_S t R L).1 ≤ 256) (T64 : TL ≤ 64) (T : ∀ i, i < TL → tx i < L) (hI : mm_I t R L tx TL clo a_failed) (hb : bm_T (sg_lab t R) (sg_go t R) tx p (TL - p) x b) (hla : la ≤ TL) (hbl : p + b ≤ la) (htr : ∀ j, p ≤ j → j ≤ la → ∃ q, a_trail j = nI q ∧ xs_q t R L q (tr_n (sg_go t R) tx 256 p (j - p)))
    (hW : ¬ clo = 0 ∨ ¬ mu_W t R L tx TL p) (K : ∀ fl, mm_I t R L tx TL clo fl → post x (f_letters, f_maxRules, f_maxLeaves, f_maxText, f_tokenCount, f_depth, f_leafCount, f_finishedLeaves, f_ruleCount, f_rawCount, f_stateTotal, f_aliveRules, f_compiled, f_textLength, clo, f_lexCount, f_position, a_tokens, a_masks, a_follow, a_ruleNull, a_ruleFirst, a_ruleLast, a_altNull, a_altFirst, a_altLast, a_catNull, a_catFirst, a_catLast, a_atomNull, a_atomFirst, a_atomLast, a_rawSet, a_rawOfSet, a_rawDelta, a_rawLabel, a_letterLeaves, a_classOf, a_nextClass, a_classRep, a_slotClass, a_slotKey, a_numberOf, a_queue, a_delta, a_stateLabel, a_extendable, a_text, a_lexRule, a_lexLength, fl, a_trail)) : ∃ n150, wX_munch_150 post x (nI la) n150 (nI (p + b)) f_letters f_maxRules f_maxLeaves f_maxText f_tokenCount f_depth f_leafCount f_finishedLeaves f_ruleCount f_rawCount f_stateTotal f_aliveRules f_compiled f_textLength clo f_lexCount f_position a_tokens a_masks a_follow a_ruleNull a_ruleFirst a_ruleLast a_altNull a_altFirst a_altLast a_catNull a_catFirst a_catLast a_atomNull a_atomFirst a_atomLast a_rawSet a_rawOfSet a_rawDelta a_rawLabel a_letterLeaves a_classOf a_nextClass a_classRep a_slotClass a_slotKey a_numberOf a_queue a_delta a_stateLabel a_extendable a_text a_lexRule a_lexLength a_failed a_trail := by
  refine ⟨la + 1 - (p + b) + 1, xw_mu150 (be := p + b) hS (by omega) (fun j _ => Or.inr trivial) (fun j j1 j2 => ?_) K (la + 1 - (p + b)) (p + b) a_failed (by omega) (Nat.le_refl _) hI⟩
  obtain ⟨q, q1, q2⟩ := htr j (by omega) j2
  exact ⟨q, q1, q2.1, mu_M C T (by omega) (by omega) q2 hb j1 hW⟩
theorem xw_mu23 {post : Int32 → SX → Prop} {p : Nat} {clo : Int32} (C : tk_C t R L) (A : xc_A t R L (sg_S t R L) a_delta a_stateLabel) (hext : ∀ i, i < (sg_S t R L).1 → gr_b01 (a_extendable i) (xs_E t R L (sg_S t R L) i)) (T : tx_I tx L TL a_text) (hp : p < TL) (hI : mm_I t R L tx TL clo a_failed)
    (KN : clo = 0 → mu_W t R L tx TL p → ∀ tr, post (-1) (f_letters, f_maxRules, f_maxLeaves, f_maxText, f_tokenCount, f_depth, f_leafCount, f_finishedLeaves, f_ruleCount, f_rawCount, f_stateTotal, f_aliveRules, f_compiled, nI TL, clo, f_lexCount, f_position, a_tokens, a_masks, a_follow, a_ruleNull, a_ruleFirst, a_ruleLast, a_altNull, a_altFirst, a_altLast, a_catNull, a_catFirst, a_catLast, a_atomNull, a_atomFirst, a_atomLast, a_rawSet, a_rawOfSet, a_rawDelta, a_rawLabel, a_letterLeaves, a_classOf, a_nextClass, a_classRep, a_slotClass, a_slotKey, a_numberOf, a_queue, a_delta, a_stateLabel, a_extendable, a_text, a_lexRule, a_lexLength, a_failed, tr))
    (KB : ∀ x b fl tr, bm_T (sg_lab t R) (sg_go t R) tx p (TL - p) x b → (¬ clo = 0 ∨ ¬ mu_W t R L tx TL p) → mm_I t R L tx TL clo fl → post x (f_letters, f_maxRules, f_maxLeaves, f_maxText, f_tokenCount, f_depth, f_leafCount, f_finishedLeaves, f_ruleCount, f_rawCount, f_stateTotal, f_aliveRules, f_compiled, nI TL, clo, f_lexCount, f_position, a_tokens, a_masks, a_follow, a_ruleNull, a_ruleFirst, a_ruleLast, a_altNull, a_altFirst, a_altLast, a_catNull, a_catFirst, a_catLast, a_atomNull, a_atomFirst, a_atomLast, a_rawSet, a_rawOfSet, a_rawDelta, a_rawLabel, a_letterLeaves, a_classOf, a_nextClass, a_classRep, a_slotClass, a_slotKey, a_numberOf, a_queue, a_delta, a_stateLabel, a_extendable, a_text, a_lexRule, a_lexLength, fl, tr)) :
    ∀ (m i q : Nat) (x : Int32) (b : Nat) (tr : Nat → Int32), i + m = TL → p ≤ i → xs_q t R L q (tr_n (sg_go t R) tx 256 p (i - p)) → bm_T (sg_lab t R) (sg_go t R) tx p (i - p) x b → (∀ j, p ≤ j → j ≤ i → ∃ q, tr j = nI q ∧ xs_q t R L q (tr_n (sg_go t R) tx 256 p (j - p))) →
    wX_munch_23 post (nI p) f_letters f_maxRules f_maxLeaves f_maxText f_tokenCount f_depth f_leafCount f_finishedLeaves f_ruleCount f_rawCount f_stateTotal f_aliveRules f_compiled (nI TL) clo f_lexCount f_position (m + 2) (nI q) x (nI (p + b)) (nI i) 0 (nI i) a_tokens a_masks a_follow a_ruleNull a_ruleFirst a_ruleLast a_altNull a_altFirst a_altLast a_catNull a_catFirst a_catLast a_atomNull a_atomFirst a_atomLast a_rawSet a_rawOfSet a_rawDelta a_rawLabel a_letterLeaves a_classOf a_nextClass a_classRep a_slotClass a_slotKey a_numberOf a_queue a_delta a_stateLabel a_extendable a_text a_lexRule a_lexLength a_failed tr := by
  have hL := C.1
  have S256 := A.2.1
  have T64 := T.1
  have Tx : ∀ i, i < TL → tx i < L := fun i hi => (T.2 i hi).2
  intro m
  induction m with
  | zero =>
    intro i q x b tr hm hi hq hb htr
    have e : i = TL := by omega
    subst e
    have qS := hq.1
    have he := hext q qS
    have hEW : xs_E t R L (sg_S t R L) q ↔ mu_W t R L tx i p := by
      constructor
      · rintro ⟨a, a1, a2⟩
        exact ⟨a, a1, fun w => a2 (mo_Q_trans (mo_Q_go hq.2 a1) w)⟩
      · rintro ⟨a, a1, a2⟩
        exact ⟨a, a1, fun w => a2 (mo_Q_trans (mo_Q_symm (mo_Q_go hq.2 a1)) w)⟩
    have mark : (¬ clo = 0 ∨ ¬ mu_W t R L tx i p) → ∃ n150, wX_munch_150 post x (nI i) n150 (nI (p + b)) f_letters f_maxRules f_maxLeaves f_maxText f_tokenCount f_depth f_leafCount f_finishedLeaves f_ruleCount f_rawCount f_stateTotal f_aliveRules f_compiled (nI i) clo f_lexCount f_position a_tokens a_masks a_follow a_ruleNull a_ruleFirst a_ruleLast a_altNull a_altFirst a_altLast a_catNull a_catFirst a_catLast a_atomNull a_atomFirst a_atomLast a_rawSet a_rawOfSet a_rawDelta a_rawLabel a_letterLeaves a_classOf a_nextClass a_classRep a_slotClass a_slotKey a_numberOf a_queue a_delta a_stateLabel a_extendable a_text a_lexRule a_lexLength a_failed tr := by
      intro hW
      exact xw_mu119 C S256 T64 Tx hI hb (Nat.le_refl _) (by have := hb.1; omega) htr hW (fun fl hfl => KB x b fl tr hb hW hfl)
    refine br_t (nI_le (Nat.le_refl _) (by omega)) (br_c (fun z => br_t rfl (br_f (nI_pos (by omega)) (And.intro (vp_in_nI (by omega) (by omega)) (br_c (fun z2 => mark (Or.inr ?_)) (fun z2 => KN z ?_ tr))))) (fun z => mark (Or.inl z)))
    · rw [nI_clamp (by omega)] at z2
      exact fun w => (gr_b01_0 he).mp z2 (hEW.mpr w)
    · rw [nI_clamp (by omega)] at z2
      exact hEW.mp (Classical.byContradiction (fun w => z2 ((gr_b01_0 he).mpr w)))
  | succ m ih =>
    intro i q x b tr hm hi hq hb htr
    have ti := T.2 i (by omega)
    have q256 := hq.1
    have ct : a_text (nI i).toNatClampNeg = nI (tx i) := by rw [nI_clamp (by omega)]; exact ti.1
    have ix : (nI q * 4) + a_text (nI i).toNatClampNeg = nI (q * 4 + tx i) := by rw [ct]; exact yl_i4 _ _
    have cx : ((nI q * 4) + a_text (nI i).toNatClampNeg).toNatClampNeg = q * 4 + tx i := by rw [ix]; exact nI_clamp (by omega)
    have es : tr_n (sg_go t R) tx 256 p (i + 1 - p) = sg_go t R (tr_n (sg_go t R) tx 256 p (i - p)) (tx i) := by
      rw [show i + 1 - p = (i - p) + 1 by omega]
      show sg_go t R (tr_n (sg_go t R) tx 256 p (i - p)) (tx (p + (i - p))) = _
      rw [show p + (i - p) = i by omega]
    refine br_f (nI_ge (by omega) (by omega)) (br_f (nI_pos (by omega)) (br_t rfl (And.intro (vp_in_nI (by omega) (by omega)) (And.intro (by rw [ix]; exact vp_in_nI (by omega) (by omega)) (nm_r (e' := a_delta (q * 4 + tx i)) (by rw [cx]) ?_)))))
    rcases xs_step A C hq ti.2 with ⟨z1, z2⟩ | ⟨q', z1, z2, z3⟩
    · rw [z2]
      have dead : ∀ m', i - p < m' → m' ≤ TL - p → mo_Q (sg_lab t R) (sg_go t R) L (tr_n (sg_go t R) tx 256 p m') 0 := by
        intro m' a1 a2
        have e : m' = (i + 1 - p) + (m' - (i + 1 - p)) := by omega
        rw [e, tr_add, es]
        exact tr_dead C z1 (fun j hj => Tx _ (by omega))
      have hb' := bm_more hb (E' := TL - p) (by omega) (fun m' a1 a2 => lab_dead (dead m' a1 a2))
      have nW : ¬ mu_W t R L tx TL p := by
        rintro ⟨a, a1, a2⟩
        have d := mo_Q_go (dead (TL - p) (by omega) (Nat.le_refl _)) a1
        rw [sg_go0 C.2.2.2.2.2.1] at d
        exact a2 d
      have mk := xw_mu119 (f_textLength := nI TL) (a_trail := tr) (clo := clo) (la := i) C S256 T64 Tx hI hb' (by omega) (by have := hb.1; omega) htr (Or.inr nW) (fun fl hfl => KB x b fl tr hb' (Or.inr nW) hfl)
      have fin : wX_munch_119 post (-1) x (nI (p + b)) (nI i) 0 f_letters f_maxRules f_maxLeaves f_maxText f_tokenCount f_depth f_leafCount f_finishedLeaves f_ruleCount f_rawCount f_stateTotal f_aliveRules f_compiled (nI TL) clo f_lexCount f_position a_tokens a_masks a_follow a_ruleNull a_ruleFirst a_ruleLast a_altNull a_altFirst a_altLast a_catNull a_catFirst a_catLast a_atomNull a_atomFirst a_atomLast a_rawSet a_rawOfSet a_rawDelta a_rawLabel a_letterLeaves a_classOf a_nextClass a_classRep a_slotClass a_slotKey a_numberOf a_queue a_delta a_stateLabel a_extendable a_text a_lexRule a_lexLength a_failed tr := br_c (fun _ => br_t rfl (br_t (by decide) mk)) (fun _ => mk)
      refine br_t (by decide) (nm_r (nI_1 i) ?_)
      exact pk_le TL (i + 1) (fun _ => fin) (fun _ => br_t (by decide) fin)
    · rw [z1]
      have l' := xs_lab A z2
      rw [← es] at z2 l'
      obtain ⟨v, v1, v2⟩ := lb_nat C.2.1 (sg_labT t R (tr_n (sg_go t R) tx 256 p (i + 1 - p)))
      have q2 := z2.1
      have htr' : ∀ j, p ≤ j → j ≤ i + 1 → ∃ q, upd tr (i + 1) (nI q') j = nI q ∧ xs_q t R L q (tr_n (sg_go t R) tx 256 p (j - p)) := by
        intro j j1 j2
        by_cases e : j = i + 1
        · rw [e, pk_us]; exact ⟨q', rfl, z2⟩
        · rw [pk_un e]; exact htr j j1 (by omega)
      have m104 : ∀ x' b', bm_T (sg_lab t R) (sg_go t R) tx p (i + 1 - p) x' b' → wX_munch_104 post (wX_munch_23 post (nI p) f_letters f_maxRules f_maxLeaves f_maxText f_tokenCount f_depth f_leafCount f_finishedLeaves f_ruleCount f_rawCount f_stateTotal f_aliveRules f_compiled (nI TL) clo f_lexCount f_position (m + 2)) (nI p) (nI q') x' (nI (p + b')) (nI (i + 1)) (nI i) f_letters f_maxRules f_maxLeaves f_maxText f_tokenCount f_depth f_leafCount f_finishedLeaves f_ruleCount f_rawCount f_stateTotal f_aliveRules f_compiled (nI TL) clo f_lexCount f_position a_tokens a_masks a_follow a_ruleNull a_ruleFirst a_ruleLast a_altNull a_altFirst a_altLast a_catNull a_catFirst a_catLast a_atomNull a_atomFirst a_atomLast a_rawSet a_rawOfSet a_rawDelta a_rawLabel a_letterLeaves a_classOf a_nextClass a_classRep a_slotClass a_slotKey a_numberOf a_queue a_delta a_stateLabel a_extendable a_text a_lexRule a_lexLength a_failed (upd tr (i + 1) (nI q')) := by
        intro x' b' hb'
        refine xw_hasFailed (by omega) (by omega) (fun mb => nm_r (nI_1 i) ?_) (fun _ => nm_r (nI_1 i) (ih (i + 1) q' x' b' _ (by omega) (by omega) z2 hb' htr'))
        have mm := hI q' (i + 1) q2 (by omega) mb
        have run : ∀ n, i + 1 + n ≤ TL → mo_Q (sg_lab t R) (sg_go t R) L (tr_n (sg_go t R) tx ((sg_S t R L).2 q') (i + 1) n) (tr_n (sg_go t R) tx 256 p (i + 1 - p + n)) := by
          intro n hn
          rw [tr_add, show p + (i + 1 - p) = i + 1 by omega]
          exact tr_Q z2.2 n (fun j hj => Tx _ (by omega))
        have hb2 := bm_more hb' (E' := TL - p) (by omega) (fun m' a1 a2 => by
          have r := run (m' - (i + 1 - p)) (by omega)
          rw [show i + 1 - p + (m' - (i + 1 - p)) = m' by omega] at r
          rw [← mo_Q_lab r]
          exact mm.2.1 _ (by omega) (by omega))
        have nW : ¬ clo = 0 ∨ ¬ mu_W t R L tx TL p := by
          rcases mm.2.2 with w | w
          · exact Or.inl w
          · right
            rintro ⟨a, a1, a2⟩
            have r := mo_Q_go (run (TL - (i + 1)) (by omega)) a1
            rw [show i + 1 - p + (TL - (i + 1)) = TL - p by omega] at r
            exact a2 (mo_Q_trans (mo_Q_symm r) (w a a1))
        have mk := xw_mu119 (f_textLength := nI TL) (a_trail := upd tr (i + 1) (nI q')) (clo := clo) (la := i + 1) C S256 T64 Tx hI hb2 (by omega) (by have := hb'.1; omega) htr' nW (fun fl hfl => KB x' b' fl _ hb2 nW hfl)
        have fin : wX_munch_119 post (nI q') x' (nI (p + b')) (nI (i + 1)) 1 f_letters f_maxRules f_maxLeaves f_maxText f_tokenCount f_depth f_leafCount f_finishedLeaves f_ruleCount f_rawCount f_stateTotal f_aliveRules f_compiled (nI TL) clo f_lexCount f_position a_tokens a_masks a_follow a_ruleNull a_ruleFirst a_ruleLast a_altNull a_altFirst a_altLast a_catNull a_catFirst a_catLast a_atomNull a_atomFirst a_atomLast a_rawSet a_rawOfSet a_rawDelta a_rawLabel a_letterLeaves a_classOf a_nextClass a_classRep a_slotClass a_slotKey a_numberOf a_queue a_delta a_stateLabel a_extendable a_text a_lexRule a_lexLength a_failed (upd tr (i + 1) (nI q')) := br_c (fun _ => br_f (by decide) mk) (fun _ => mk)
        exact pk_le TL (i + 1) (fun _ => fin) (fun _ => br_f (nI_pos (by omega)) (br_f (by decide) fin))
      refine br_f (nI_pos (by omega)) (nm_r (nI_1 i) (And.intro (vp_in_nI (by omega) (by omega)) (nm_r (e' := upd tr (i + 1) (nI q')) (by rw [nI_clamp (by omega)]) (And.intro (vp_in_nI (by omega) (by omega)) ?_))))
      rw [nI_clamp (n := q') (by omega), l', v2]
      refine pk_eq v 0 (fun e => m104 x b (bm_more hb (by omega) (fun m' a1 a2 => ?_))) (fun e => And.intro (vp_in_nI (by omega) (by omega)) (nm_r (e' := nI (8 * (i + 1 - p) + v)) ?_ ?_))
      · have : m' = i + 1 - p := by omega
        rw [this, v2, e]; rfl
      · rw [pk_sub (by omega), show (8 : Int32) = nI 8 from rfl, pk_mul, nI_add]
      · have w := m104 _ (i + 1 - p) (bm_new (by omega) (by omega) v1 v2)
        rw [show p + (i + 1 - p) = i + 1 by omega] at w
        exact w
theorem xw_munch {post : Int32 → SX → Prop} {p : Nat} {clo : Int32} (C : tk_C t R L) (A : xc_A t R L (sg_S t R L) a_delta a_stateLabel) (hext : ∀ i, i < (sg_S t R L).1 → gr_b01 (a_extendable i) (xs_E t R L (sg_S t R L) i)) (T : tx_I tx L TL a_text) (hp : p < TL) (hI : mm_I t R L tx TL clo a_failed)
    (KN : clo = 0 → mu_W t R L tx TL p → ∀ tr, post (-1) (f_letters, f_maxRules, f_maxLeaves, f_maxText, f_tokenCount, f_depth, f_leafCount, f_finishedLeaves, f_ruleCount, f_rawCount, f_stateTotal, f_aliveRules, f_compiled, nI TL, clo, f_lexCount, f_position, a_tokens, a_masks, a_follow, a_ruleNull, a_ruleFirst, a_ruleLast, a_altNull, a_altFirst, a_altLast, a_catNull, a_catFirst, a_catLast, a_atomNull, a_atomFirst, a_atomLast, a_rawSet, a_rawOfSet, a_rawDelta, a_rawLabel, a_letterLeaves, a_classOf, a_nextClass, a_classRep, a_slotClass, a_slotKey, a_numberOf, a_queue, a_delta, a_stateLabel, a_extendable, a_text, a_lexRule, a_lexLength, a_failed, tr))
    (KB : ∀ x b fl tr, bm_T (sg_lab t R) (sg_go t R) tx p (TL - p) x b → (¬ clo = 0 ∨ ¬ mu_W t R L tx TL p) → mm_I t R L tx TL clo fl → post x (f_letters, f_maxRules, f_maxLeaves, f_maxText, f_tokenCount, f_depth, f_leafCount, f_finishedLeaves, f_ruleCount, f_rawCount, f_stateTotal, f_aliveRules, f_compiled, nI TL, clo, f_lexCount, f_position, a_tokens, a_masks, a_follow, a_ruleNull, a_ruleFirst, a_ruleLast, a_altNull, a_altFirst, a_altLast, a_catNull, a_catFirst, a_catLast, a_atomNull, a_atomFirst, a_atomLast, a_rawSet, a_rawOfSet, a_rawDelta, a_rawLabel, a_letterLeaves, a_classOf, a_nextClass, a_classRep, a_slotClass, a_slotKey, a_numberOf, a_queue, a_delta, a_stateLabel, a_extendable, a_text, a_lexRule, a_lexLength, fl, tr)) : wpX_munch post (f_letters, f_maxRules, f_maxLeaves, f_maxText, f_tokenCount, f_depth, f_leafCount, f_finishedLeaves, f_ruleCount, f_rawCount, f_stateTotal, f_aliveRules, f_compiled, nI TL, clo, f_lexCount, f_position, a_tokens, a_masks, a_follow, a_ruleNull, a_ruleFirst, a_ruleLast, a_altNull, a_altFirst, a_altLast, a_catNull, a_catFirst, a_catLast, a_atomNull, a_atomFirst, a_atomLast, a_rawSet, a_rawOfSet, a_rawDelta, a_rawLabel, a_letterLeaves, a_classOf, a_nextClass, a_classRep, a_slotClass, a_slotKey, a_numberOf, a_queue, a_delta, a_stateLabel, a_extendable, a_text, a_lexRule, a_lexLength, a_failed, a_trail) (nI p) := by
  have T64 := T.1
  refine And.intro (vp_in_nI (by omega) (by omega)) (nm_r (e' := upd a_trail p (nI 0)) (by rw [nI_clamp (by omega)]; rfl) ⟨TL - p + 2, ?_⟩)
  have w := xw_mu23 C A hext T hp hI KN KB (TL - p) p 0 0 0 (upd a_trail p (nI 0)) (by omega) (Nat.le_refl _) (by rw [Nat.sub_self]; exact xs_start C) (by rw [Nat.sub_self]; exact bm_0 _ _ _ _) (fun j j1 j2 => by
    have : j = p := by omega
    subst this
    rw [pk_us, Nat.sub_self]
    exact ⟨0, rfl, xs_start C⟩)
  exact w
end
end
section
/-! scan, as a pure function; X and Y walk it -/
noncomputable def sc_x (t : Nat → Nat) (R : Nat) (tx : Nat → Nat) (TL p : Nat) : Int32 := Classical.epsilon (fun x => ∃ b, bm_T (sg_lab t R) (sg_go t R) tx p (TL - p) x b)
noncomputable def sc_b (t : Nat → Nat) (R : Nat) (tx : Nat → Nat) (TL p : Nat) : Nat := Classical.epsilon (fun b => ∃ x, bm_T (sg_lab t R) (sg_go t R) tx p (TL - p) x b)
theorem sc_e {t : Nat → Nat} {R : Nat} {tx : Nat → Nat} {TL p b : Nat} {x : Int32} (h : bm_T (sg_lab t R) (sg_go t R) tx p (TL - p) x b) : sc_x t R tx TL p = x ∧ sc_b t R tx TL p = b := by
  obtain ⟨b1, h1⟩ := Classical.epsilon_spec (p := fun x => ∃ b, bm_T (sg_lab t R) (sg_go t R) tx p (TL - p) x b) ⟨x, b, h⟩
  obtain ⟨x2, h2⟩ := Classical.epsilon_spec (p := fun b => ∃ x, bm_T (sg_lab t R) (sg_go t R) tx p (TL - p) x b) ⟨b, x, h⟩
  exact ⟨(bm_u h1 h).1, (bm_u h2 h).2⟩
/-- the length that is taken -/
def sc_l (b : Nat) : Nat := if b = 0 then 1 else b
/-- lexemes, position, rules, lengths -/
noncomputable def sc_1 (t : Nat → Nat) (R : Nat) (tx : Nat → Nat) (TL : Nat) (s : Nat × Nat × (Nat → Int32) × (Nat → Int32)) : Nat × Nat × (Nat → Int32) × (Nat → Int32) :=
  (s.1 + 1, s.2.1 + sc_l (sc_b t R tx TL s.2.1), upd s.2.2.1 s.1 (sc_x t R tx TL s.2.1 &&& 7), upd s.2.2.2 s.1 (nI (sc_l (sc_b t R tx TL s.2.1))))
noncomputable def sc_f (t : Nat → Nat) (R L : Nat) (tx : Nat → Nat) (TL : Nat) (clo lim : Int32) : Nat → Nat → Nat × Nat × (Nat → Int32) × (Nat → Int32) → Nat × Nat × Nat × (Nat → Int32) × (Nat → Int32)
  | 0, n, s => (n, s)
  | m + 1, n, s => @ite _ (lim ≤ nI n ∨ TL ≤ s.2.1 ∨ (clo = 0 ∧ mu_W t R L tx TL s.2.1)) (Classical.propDecidable _) (n, s) (sc_f t R L tx TL clo lim m (n + 1) (sc_1 t R tx TL s))
def sm_n (ln : Nat → Nat) : Nat → Nat
  | 0 => 0
  | i + 1 => sm_n ln i + ln i
def sc_I (TL : Nat) (s : Nat × Nat × (Nat → Int32) × (Nat → Int32)) : Prop :=
  s.1 ≤ s.2.1 ∧ s.2.1 ≤ TL ∧ ∃ ln : Nat → Nat, (∀ i, i < s.1 → s.2.2.2 i = nI (ln i) ∧ 1 ≤ ln i) ∧ s.2.1 = sm_n ln s.1
theorem sm_ag {ln ln' : Nat → Nat} : ∀ {n : Nat}, (∀ i, i < n → ln' i = ln i) → sm_n ln' n = sm_n ln n
  | 0, _ => rfl
  | n + 1, h => by
    show sm_n ln' n + ln' n = sm_n ln n + ln n
    rw [sm_ag (n := n) (fun i hi => h i (by omega)), h n (by omega)]
theorem sm_mono (ln : Nat → Nat) {i j : Nat} (h : i ≤ j) : sm_n ln i ≤ sm_n ln j := by
  induction j with
  | zero => have : i = 0 := by omega
            rw [this]; exact Nat.le_refl _
  | succ j ih =>
    by_cases e : i = j + 1
    · rw [e]; exact Nat.le_refl _
    · have := ih (by omega)
      show sm_n ln i ≤ sm_n ln j + ln j
      omega
theorem sc_I1 {t : Nat → Nat} {R : Nat} {tx : Nat → Nat} {TL b : Nat} {x : Int32} {s : Nat × Nat × (Nat → Int32) × (Nat → Int32)} (h : sc_I TL s) (hlt : s.2.1 < TL) (hb : bm_T (sg_lab t R) (sg_go t R) tx s.2.1 (TL - s.2.1) x b) : sc_I TL (sc_1 t R tx TL s) := by
  obtain ⟨h1, h2, ln, h3, h4⟩ := h
  have e := (sc_e hb).2
  have bl := hb.1
  have l1 : 1 ≤ sc_l b ∧ s.2.1 + sc_l b ≤ TL := by
    unfold sc_l
    by_cases c : b = 0
    · rw [if_pos c]; omega
    · rw [if_neg c]; omega
  unfold sc_1
  rw [e]
  refine ⟨by show s.1 + 1 ≤ s.2.1 + sc_l b; omega, l1.2, fun i => if i = s.1 then sc_l b else ln i, fun i hi => ?_, ?_⟩
  · have hi : i < s.1 + 1 := hi
    dsimp only
    by_cases c : i = s.1
    · rw [if_pos c, c]; exact ⟨pk_us, l1.1⟩
    · rw [if_neg c, pk_un c]; exact h3 i (by omega)
  · show s.2.1 + sc_l b = sm_n (fun i => if i = s.1 then sc_l b else ln i) s.1 + (if s.1 = s.1 then sc_l b else ln s.1)
    rw [if_pos rfl, sm_ag (ln := ln) (fun i hi => if_neg (by omega)), ← h4]
theorem sc_If {t : Nat → Nat} {R L : Nat} {tx : Nat → Nat} {TL : Nat} {clo lim : Int32} (hR : R ≤ 6) : ∀ (m n : Nat) (s : Nat × Nat × (Nat → Int32) × (Nat → Int32)), sc_I TL s → sc_I TL (sc_f t R L tx TL clo lim m n s).2
  | 0, _, _, h => h
  | m + 1, n, s, h => by
    unfold sc_f
    by_cases c : lim ≤ nI n ∨ TL ≤ s.2.1 ∨ (clo = 0 ∧ mu_W t R L tx TL s.2.1)
    · rw [if_pos c]; exact h
    · rw [if_neg c]
      obtain ⟨x, b, hb⟩ := bm_ex (t := t) hR (sg_go t R) tx s.2.1 (TL - s.2.1)
      exact sc_If hR m (n + 1) _ (sc_I1 h (by
        rcases Nat.lt_or_ge s.2.1 TL with z | z
        · exact z
        · exact absurd (Or.inr (Or.inl z)) c) hb)
/-- a found match, by eights -/
theorem bm_num {lab : Nat → Int32} {go : Nat → Nat → Nat} {tx : Nat → Nat} {p E b : Nat} {x : Int32} (hE : E ≤ 64) (h : bm_T lab go tx p E x b) : ∃ w, x = nI w ∧ w < 1000 ∧ w / 8 = b ∧ (x = 0 ↔ b = 0) := by
  rcases h.2.2 with ⟨h1, h2⟩ | ⟨h1, v, h2, h3, h4, h5⟩
  · exact ⟨0, h2, by omega, by omega, ⟨fun _ => h1, fun _ => h2⟩⟩
  · have := h.1
    refine ⟨8 * b + v, h5, by omega, by omega, ⟨fun z => ?_, fun z => by omega⟩⟩
    rw [h5] at z
    exact absurd z (nI_ne0 (by omega) (by omega))
section
variable {f_letters f_maxRules f_maxLeaves f_maxText f_tokenCount f_depth f_leafCount f_finishedLeaves f_ruleCount f_rawCount f_stateTotal f_aliveRules f_compiled f_textLength f_closed f_lexCount f_position : Int32} {a_tokens a_masks a_follow a_ruleNull a_ruleFirst a_ruleLast a_altNull a_altFirst a_altLast a_catNull a_catFirst a_catLast a_atomNull a_atomFirst a_atomLast a_rawSet a_rawOfSet a_rawDelta a_rawLabel a_letterLeaves a_classOf a_nextClass a_classRep a_slotClass a_numberOf a_queue a_delta a_stateLabel a_extendable a_text a_lexRule a_lexLength a_trail : Nat → Int32} {a_slotKey a_failed : Nat → Int64} {t : Nat → Nat} {R L TL : Nat} {tx : Nat → Nat} {clo : Int32}
theorem xw_take {post : SX → Prop} {b w : Nat} {x : Int32} {s : Nat × Nat × (Nat → Int32) × (Nat → Int32)} (ex : x = nI w) (hw : w < 1000) (hwb : w / 8 = b) (hs : s.1 < 64) (h : post (f_letters, f_maxRules, f_maxLeaves, f_maxText, f_tokenCount, f_depth, f_leafCount, f_finishedLeaves, f_ruleCount, f_rawCount, f_stateTotal, f_aliveRules, f_compiled, f_textLength, f_closed, nI (s.1 + 1), nI (s.2.1 + sc_l b), a_tokens, a_masks, a_follow, a_ruleNull, a_ruleFirst, a_ruleLast, a_altNull, a_altFirst, a_altLast, a_catNull, a_catFirst, a_catLast, a_atomNull, a_atomFirst, a_atomLast, a_rawSet, a_rawOfSet, a_rawDelta, a_rawLabel, a_letterLeaves, a_classOf, a_nextClass, a_classRep, a_slotClass, a_slotKey, a_numberOf, a_queue, a_delta, a_stateLabel, a_extendable, a_text, (upd s.2.2.1 s.1 (x &&& 7)), (upd s.2.2.2 s.1 (nI (sc_l b))), a_failed, a_trail)) : wpX_takeLexeme post (f_letters, f_maxRules, f_maxLeaves, f_maxText, f_tokenCount, f_depth, f_leafCount, f_finishedLeaves, f_ruleCount, f_rawCount, f_stateTotal, f_aliveRules, f_compiled, f_textLength, f_closed, nI s.1, nI s.2.1, a_tokens, a_masks, a_follow, a_ruleNull, a_ruleFirst, a_ruleLast, a_altNull, a_altFirst, a_altLast, a_catNull, a_catFirst, a_catLast, a_atomNull, a_atomFirst, a_atomLast, a_rawSet, a_rawOfSet, a_rawDelta, a_rawLabel, a_letterLeaves, a_classOf, a_nextClass, a_classRep, a_slotClass, a_slotKey, a_numberOf, a_queue, a_delta, a_stateLabel, a_extendable, a_text, s.2.2.1, s.2.2.2, a_failed, a_trail) x := by
  have e3 : x >>> ((3 : Int32) &&& 31) = nI b := by
    rw [ex, pk_shrN (by omega) _ 3 (by decide)]
    exact congrArg nI (by omega)
  have t10 : ∀ l : Nat, l = sc_l b → wX_takeLexeme_10 post x (nI l) f_letters f_maxRules f_maxLeaves f_maxText f_tokenCount f_depth f_leafCount f_finishedLeaves f_ruleCount f_rawCount f_stateTotal f_aliveRules f_compiled f_textLength f_closed (nI s.1) (nI s.2.1) a_tokens a_masks a_follow a_ruleNull a_ruleFirst a_ruleLast a_altNull a_altFirst a_altLast a_catNull a_catFirst a_catLast a_atomNull a_atomFirst a_atomLast a_rawSet a_rawOfSet a_rawDelta a_rawLabel a_letterLeaves a_classOf a_nextClass a_classRep a_slotClass a_slotKey a_numberOf a_queue a_delta a_stateLabel a_extendable a_text (s.2.2.1) (s.2.2.2) a_failed a_trail := by
    intro l hl
    subst hl
    exact br_f (nI_ge (b := 64) (by omega) (by omega)) (And.intro (vp_in_nI hs (by omega)) (nm_r (e' := upd s.2.2.1 s.1 (x &&& 7)) (by rw [nI_clamp (by omega)]) (And.intro (vp_in_nI hs (by omega)) (nm_r (e' := upd s.2.2.2 s.1 (nI (sc_l b))) (by rw [nI_clamp (by omega)]) (nm_r (nI_1 s.1) (nm_r (nI_add s.2.1 (sc_l b)) h))))))
  refine nm_r e3 (pk_eq b 0 (fun e => t10 1 ?_) (fun e => t10 b ?_))
  · unfold sc_l; rw [if_pos e]
  · unfold sc_l; rw [if_neg e]
theorem xw_sc17 {post : Int32 → SX → Prop} {lim : Int32} (C : tk_C t R L) (A : xc_A t R L (sg_S t R L) a_delta a_stateLabel) (hext : ∀ i, i < (sg_S t R L).1 → gr_b01 (a_extendable i) (xs_E t R L (sg_S t R L) i)) (T : tx_I tx L TL a_text) :
    ∀ (m n : Nat) (s : Nat × Nat × (Nat → Int32) × (Nat → Int32)) (fl : Nat → Int64) (tr : Nat → Int32), n + m = 64 → sc_I TL s → mm_I t R L tx TL clo fl →
    (∀ fl' tr', mm_I t R L tx TL clo fl' → post (nI (sc_f t R L tx TL clo lim m n s).1) (f_letters, f_maxRules, f_maxLeaves, f_maxText, f_tokenCount, f_depth, f_leafCount, f_finishedLeaves, f_ruleCount, f_rawCount, f_stateTotal, f_aliveRules, f_compiled, nI TL, clo, nI (sc_f t R L tx TL clo lim m n s).2.1, nI (sc_f t R L tx TL clo lim m n s).2.2.1, a_tokens, a_masks, a_follow, a_ruleNull, a_ruleFirst, a_ruleLast, a_altNull, a_altFirst, a_altLast, a_catNull, a_catFirst, a_catLast, a_atomNull, a_atomFirst, a_atomLast, a_rawSet, a_rawOfSet, a_rawDelta, a_rawLabel, a_letterLeaves, a_classOf, a_nextClass, a_classRep, a_slotClass, a_slotKey, a_numberOf, a_queue, a_delta, a_stateLabel, a_extendable, a_text, (sc_f t R L tx TL clo lim m n s).2.2.2.1, (sc_f t R L tx TL clo lim m n s).2.2.2.2, fl', tr')) →
    wX_scan_17 post lim (m + 2) (nI n) 1 (nI n) f_letters f_maxRules f_maxLeaves f_maxText f_tokenCount f_depth f_leafCount f_finishedLeaves f_ruleCount f_rawCount f_stateTotal f_aliveRules f_compiled (nI TL) clo (nI s.1) (nI s.2.1) a_tokens a_masks a_follow a_ruleNull a_ruleFirst a_ruleLast a_altNull a_altFirst a_altLast a_catNull a_catFirst a_catLast a_atomNull a_atomFirst a_atomLast a_rawSet a_rawOfSet a_rawDelta a_rawLabel a_letterLeaves a_classOf a_nextClass a_classRep a_slotClass a_slotKey a_numberOf a_queue a_delta a_stateLabel a_extendable a_text (s.2.2.1) (s.2.2.2) fl tr := by
  have T64 := T.1
  intro m
  induction m with
  | zero =>
    intro n s fl tr hm hs hI K
    exact br_t (nI_le (a := 64) (by omega) (by omega)) (K fl tr hI)
  | succ m ih =>
    intro n s fl tr hm hs hI K
    have ef : ∀ c : lim ≤ nI n ∨ TL ≤ s.2.1 ∨ (clo = 0 ∧ mu_W t R L tx TL s.2.1), sc_f t R L tx TL clo lim (m + 1) n s = (n, s) := fun c => if_pos c
    have eg : ∀ c : ¬ (lim ≤ nI n ∨ TL ≤ s.2.1 ∨ (clo = 0 ∧ mu_W t R L tx TL s.2.1)), sc_f t R L tx TL clo lim (m + 1) n s = sc_f t R L tx TL clo lim m (n + 1) (sc_1 t R tx TL s) := fun c => if_neg c
    have s1 := hs.1
    have s2 := hs.2.1
    refine br_f (nI_ge (b := 64) (by omega) (by omega)) (br_f (by decide) (br_c (fun z => ?_) (fun z => pk_le TL s.2.1 (fun z2 => ?_) (fun z2 => ?_))))
    · rw [ef (Or.inl z)] at K; exact K fl tr hI
    · rw [ef (Or.inr (Or.inl z2))] at K; exact K fl tr hI
    · refine xw_munch C A hext T z2 hI (fun c0 hW tr' => br_t rfl (nm_r (nI_1 n) ?_)) (fun x b fl' tr' hb hnW hI' => ?_)
      · rw [ef (Or.inr (Or.inr ⟨c0, hW⟩))] at K
        have fin := K fl tr' hI
        exact pk_le 64 (n + 1) (fun _ => fin) (fun _ => br_t rfl fin)
      · obtain ⟨w, w1, w2, w3, w4⟩ := bm_num (by omega) hb
        rw [eg (by
          rintro (y | y | y)
          · exact z y
          · omega
          · exact hnW.elim (fun q => q y.1) (fun q => q y.2))] at K
        have e1 : sc_1 t R tx TL s = (s.1 + 1, s.2.1 + sc_l b, upd s.2.2.1 s.1 (x &&& 7), upd s.2.2.2 s.1 (nI (sc_l b))) := by
          unfold sc_1
          rw [(sc_e hb).1, (sc_e hb).2]
        have I1 := sc_I1 hs z2 hb
        rw [e1] at I1 K
        refine br_f (by rw [w1]; exact yl_m1ne w (by omega)) (xw_take w1 w2 w3 (by omega) (nm_r (nI_1 n) (nm_r (nI_1 n) (ih (n + 1) _ fl' tr' (by omega) I1 hI' K))))
theorem xw_scan {post : Int32 → SX → Prop} {lim : Int32} {s : Nat × Nat × (Nat → Int32) × (Nat → Int32)} (C : tk_C t R L) (A : xc_A t R L (sg_S t R L) a_delta a_stateLabel) (hext : ∀ i, i < (sg_S t R L).1 → gr_b01 (a_extendable i) (xs_E t R L (sg_S t R L) i)) (T : tx_I tx L TL a_text) (hs : sc_I TL s) (hI : mm_I t R L tx TL clo a_failed)
    (K : ∀ fl' tr', mm_I t R L tx TL clo fl' → post (nI (sc_f t R L tx TL clo lim 64 0 s).1) (f_letters, f_maxRules, f_maxLeaves, f_maxText, f_tokenCount, f_depth, f_leafCount, f_finishedLeaves, f_ruleCount, f_rawCount, f_stateTotal, f_aliveRules, 1, nI TL, clo, nI (sc_f t R L tx TL clo lim 64 0 s).2.1, nI (sc_f t R L tx TL clo lim 64 0 s).2.2.1, a_tokens, a_masks, a_follow, a_ruleNull, a_ruleFirst, a_ruleLast, a_altNull, a_altFirst, a_altLast, a_catNull, a_catFirst, a_catLast, a_atomNull, a_atomFirst, a_atomLast, a_rawSet, a_rawOfSet, a_rawDelta, a_rawLabel, a_letterLeaves, a_classOf, a_nextClass, a_classRep, a_slotClass, a_slotKey, a_numberOf, a_queue, a_delta, a_stateLabel, a_extendable, a_text, (sc_f t R L tx TL clo lim 64 0 s).2.2.2.1, (sc_f t R L tx TL clo lim 64 0 s).2.2.2.2, fl', tr')) :
    wpX_scan post (f_letters, f_maxRules, f_maxLeaves, f_maxText, f_tokenCount, f_depth, f_leafCount, f_finishedLeaves, f_ruleCount, f_rawCount, f_stateTotal, f_aliveRules, 1, nI TL, clo, nI s.1, nI s.2.1, a_tokens, a_masks, a_follow, a_ruleNull, a_ruleFirst, a_ruleLast, a_altNull, a_altFirst, a_altLast, a_catNull, a_catFirst, a_catLast, a_atomNull, a_atomFirst, a_atomLast, a_rawSet, a_rawOfSet, a_rawDelta, a_rawLabel, a_letterLeaves, a_classOf, a_nextClass, a_classRep, a_slotClass, a_slotKey, a_numberOf, a_queue, a_delta, a_stateLabel, a_extendable, a_text, s.2.2.1, s.2.2.2, a_failed, a_trail) lim :=
  br_f (by decide) ⟨66, xw_sc17 C A hext T 64 0 s a_failed a_trail rfl hs hI K⟩
end
section
variable {g_letters g_maxRules g_maxLeaves g_maxText g_rules g_count g_compiled g_states g_textLength g_closed g_lexemes : Int32} {b_toks b_reach b_go b_lab b_seen b_diff b_conf b_text b_lexRule b_lexLength : Nat → Int32} {n_diff : Nat} {t : Nat → Nat} {R L TL : Nat} {tx : Nat → Nat} {clo : Int32}
theorem tr_seen {go : Nat → Nat → Nat} {sn : Nat → Int32} (hC : yd_C go L sn) (hg : ∀ c a, go c a < 257) (h256 : sn 256 = 1) {p : Nat} : ∀ n, (∀ i, i < n → tx (p + i) < L) → sn (tr_n go tx 256 p n) = 1
  | 0, _ => h256
  | n + 1, h => hC _ _ (tr_lt hg (by omega) n) (h n (by omega)) (tr_seen hC hg h256 n (fun i hi => h i (by omega)))
theorem yw_sc84 {post : Int32 → SY → Prop} {J14 : Int32 → Int32 → Int32 → (Nat → Int32) → (Nat → Int32) → (Nat → Int32) → (Nat → Int32) → (Nat → Int32) → (Nat → Int32) → (Nat → Int32) → (Nat → Int32) → (Nat → Int32) → (Nat → Int32) → Prop} {lim x2 x3 : Int32} {s : Nat × Nat × (Nat → Int32) × (Nat → Int32)} (hL : L ≤ 4) (hR : R ≤ 6) (Tt : yc_T (sg_go t R) L b_go (sg_lab t R) b_seen b_diff n_diff) (hlab : ∀ c, c < 257 → b_lab c = sg_lab t R c) (T : tx_I tx L TL b_text) (hs : sc_I TL s) (hp : s.2.1 < TL)
    (KN : clo = 0 → mu_W t R L tx TL s.2.1 → post x2 (nI L, g_maxRules, g_maxLeaves, g_maxText, g_rules, g_count, 1, g_states, nI TL, clo, nI s.1, b_toks, b_reach, b_go, b_lab, b_seen, b_diff, b_conf, b_text, s.2.2.1, s.2.2.2, n_diff))
    (KB : (¬ clo = 0 ∨ ¬ mu_W t R L tx TL s.2.1) → J14 (x2 + 1) (x3 + 1) (nI (sc_1 t R tx TL s).1) b_toks b_reach b_go b_lab b_seen b_diff b_conf b_text ((sc_1 t R tx TL s).2.2.1) ((sc_1 t R tx TL s).2.2.2)) :
    ∀ (m a : Nat), a + m = L → (clo = 0 → ∀ a', a' < a → mo_Q (sg_lab t R) (sg_go t R) L (sg_go t R (tr_n (sg_go t R) tx 256 s.2.1 (TL - s.2.1)) a') 0) → wY_scan_84 post J14 lim x2 x3 (nI s.2.1) (nI (tr_n (sg_go t R) tx 256 s.2.1 (TL - s.2.1))) (nI L) g_maxRules g_maxLeaves g_maxText g_rules g_count 1 g_states (nI TL) clo (nI s.1) b_toks b_reach b_go b_lab b_seen b_diff b_conf b_text (s.2.2.1) (s.2.2.2) n_diff (m + 1) (nI a) := by
  have T64 := T.1
  have s1 := hs.1
  have hg : ∀ c a, sg_go t R c a < 257 := fun c a => by have := sg_go_lt t R c a; omega
  have lt := tr_lt (tx := tx) (p := s.2.1) hg (show 256 < 257 by omega) (TL - s.2.1)
  have sn := tr_seen (tx := tx) (p := s.2.1) Tt.2.2.2.1 hg Tt.2.2.1 (TL - s.2.1) (fun i hi => (T.2 _ (by omega)).2)
  intro m
  induction m with
  | zero =>
    intro a hm h
    refine br_t (nI_le (by omega) (by omega)) (yw_match hL hR Tt hlab T hp (fun x b hb => ?_))
    obtain ⟨w, w1, w2, w3, w4⟩ := bm_num (by omega) hb
    have e1 : sc_1 t R tx TL s = (s.1 + 1, s.2.1 + sc_l b, upd s.2.2.1 s.1 (x &&& 7), upd s.2.2.2 s.1 (nI (sc_l b))) := by
      unfold sc_1
      rw [(sc_e hb).1, (sc_e hb).2]
    have K := KB (by
      by_cases c : clo = 0
      · right
        rintro ⟨a', a1, a2⟩
        exact a2 (h c a' (by omega))
      · exact Or.inl c)
    rw [e1] at K
    have er : x - x / 8 * 8 = x &&& 7 := by
      rw [w1, show (8 : Int32) = nI 8 from rfl, pk_rem (by omega) (by omega) (by omega), pk_andN (by omega) (m := 7) 3 (by decide)]
    have cs : (nI s.1).toNatClampNeg = s.1 := nI_clamp (by omega)
    refine And.intro (by decide) (And.intro (vp_in_nI (by omega) (by omega)) (nm_r (e' := upd s.2.2.1 s.1 (x &&& 7)) (by rw [cs, er]) (br_c (fun z => ?_) (fun z => And.intro (by decide) ?_))))
    · have b0 := w4.mp z
      have el : sc_l b = 1 := by unfold sc_l; rw [if_pos b0]
      rw [el] at K
      exact And.intro (vp_in_nI (by omega) (by omega)) (nm_r (e' := upd s.2.2.2 s.1 (nI 1)) (by rw [cs]; rfl) (nm_r (nI_1 s.1) (nm_e (nm_e K))))
    · have b0 : ¬ b = 0 := fun y => z (w4.mpr y)
      have el : sc_l b = b := by unfold sc_l; rw [if_neg b0]
      rw [el] at K
      exact And.intro (vp_in_nI (by omega) (by omega)) (nm_r (e' := upd s.2.2.2 s.1 (nI b)) (by rw [cs, w1, show (8 : Int32) = nI 8 from rfl, pk_div (by omega) (by omega) (by omega), w3]) (nm_r (nI_1 s.1) (nm_e (nm_e K))))
  | succ m ih =>
    intro a hm h
    refine br_f (nI_ge (by omega) (by omega)) (br_c (fun z => ?_) (fun z => nm_r (nI_1 a) (ih (a + 1) (by omega) (fun y => absurd y z))))
    have g := Tt.1 (tr_n (sg_go t R) tx 256 s.2.1 (TL - s.2.1)) a lt (by omega)
    have sg := Tt.2.2.2.1 _ a lt (by omega) sn
    have hn := Tt.2.2.2.2.2
    have ix : (nI (tr_n (sg_go t R) tx 256 s.2.1 (TL - s.2.1)) * 4) + nI a = nI (tr_n (sg_go t R) tx 256 s.2.1 (TL - s.2.1) * 4 + a) := yl_i4 _ _
    have eg : b_go ((nI (tr_n (sg_go t R) tx 256 s.2.1 (TL - s.2.1)) * 4) + nI a).toNatClampNeg = nI (sg_go t R (tr_n (sg_go t R) tx 256 s.2.1 (TL - s.2.1)) a) := by rw [ix, nI_clamp (by omega)]; exact g.1
    have i0 : nI (sg_go t R (tr_n (sg_go t R) tx 256 s.2.1 (TL - s.2.1)) a) * 257 = nI (sg_go t R (tr_n (sg_go t R) tx 256 s.2.1 (TL - s.2.1)) a * 257 + 0) := by
      rw [show (257 : Int32) = nI 257 from rfl, pk_mul]; rfl
    have c0 : (nI (sg_go t R (tr_n (sg_go t R) tx 256 s.2.1 (TL - s.2.1)) a * 257 + 0)).toNatClampNeg = sg_go t R (tr_n (sg_go t R) tx 256 s.2.1 (TL - s.2.1)) a * 257 + 0 := nI_clamp (by omega)
    have b0 := Tt.2.2.2.2.1 _ 0 g.2 (by omega) sg Tt.2.1
    refine And.intro (by rw [ix]; exact vp_in_nI (by omega) (by omega)) ?_
    rw [eg, i0]
    refine And.intro (vp_in_nI (by omega) (by omega)) ?_
    rw [c0]
    refine br_c (fun y => nm_r (nI_1 a) (ih (a + 1) (by omega) (fun c a' ha' => ?_))) (fun y => KN z ⟨a, by omega, ?_⟩)
    · by_cases e : a' = a
      · rw [e]; exact Classical.byContradiction (gr_b01_0 b0 |>.mp y)
      · exact h c a' (by omega)
    · rcases b0 with w | w
      · exact w.2
      · exact absurd w.1 y
theorem yw_sc14 {post : Int32 → SY → Prop} {lim : Int32} (hL : L ≤ 4) (hR : R ≤ 6) (Tt : yc_T (sg_go t R) L b_go (sg_lab t R) b_seen b_diff n_diff) (hlab : ∀ c, c < 257 → b_lab c = sg_lab t R c) (T : tx_I tx L TL b_text) :
    ∀ (m n : Nat) (s : Nat × Nat × (Nat → Int32) × (Nat → Int32)), n + m = 64 → sc_I TL s →
    (post (nI (sc_f t R L tx TL clo lim m n s).1) (nI L, g_maxRules, g_maxLeaves, g_maxText, g_rules, g_count, 1, g_states, nI TL, clo, nI (sc_f t R L tx TL clo lim m n s).2.1, b_toks, b_reach, b_go, b_lab, b_seen, b_diff, b_conf, b_text, (sc_f t R L tx TL clo lim m n s).2.2.2.1, (sc_f t R L tx TL clo lim m n s).2.2.2.2, n_diff)) →
    wY_scan_14 post lim (nI L) g_maxRules g_maxLeaves g_maxText g_rules g_count 1 g_states (nI TL) clo n_diff (m + 1) (nI n) (nI n) (nI s.1) b_toks b_reach b_go b_lab b_seen b_diff b_conf b_text (s.2.2.1) (s.2.2.2) := by
  have T64 := T.1
  intro m
  induction m with
  | zero =>
    intro n s hm hs K
    exact br_t (nI_le (a := 64) (by omega) (by omega)) K
  | succ m ih =>
    intro n s hm hs K
    have ef : ∀ c : lim ≤ nI n ∨ TL ≤ s.2.1 ∨ (clo = 0 ∧ mu_W t R L tx TL s.2.1), sc_f t R L tx TL clo lim (m + 1) n s = (n, s) := fun c => if_pos c
    have eg : ∀ c : ¬ (lim ≤ nI n ∨ TL ≤ s.2.1 ∨ (clo = 0 ∧ mu_W t R L tx TL s.2.1)), sc_f t R L tx TL clo lim (m + 1) n s = sc_f t R L tx TL clo lim m (n + 1) (sc_1 t R tx TL s) := fun c => if_neg c
    have hs0 := hs
    obtain ⟨s1, s2, ln, s3, s4⟩ := hs
    refine br_f (nI_ge (b := 64) (by omega) (by omega)) (br_c (fun z => ?_) (fun z => ⟨s.1 + 1, ?_⟩))
    · rw [ef (Or.inl z)] at K; exact K
    · have key : ∀ (d i : Nat), i + d = s.1 → wY_scan_31 post (wY_scan_14 post lim (nI L) g_maxRules g_maxLeaves g_maxText g_rules g_count 1 g_states (nI TL) clo n_diff (m + 1)) lim (nI n) (nI n) (nI L) g_maxRules g_maxLeaves g_maxText g_rules g_count 1 g_states (nI TL) clo (nI s.1) b_toks b_reach b_go b_lab b_seen b_diff b_conf b_text (s.2.2.1) (s.2.2.2) n_diff (d + 1) (nI (sm_n ln i)) (nI i) := by
        intro d
        induction d with
        | zero =>
          intro i hi
          have e : i = s.1 := by omega
          subst e
          rw [← s4]
          refine br_t (nI_le (Nat.le_refl _) (by omega)) (pk_lt s.2.1 TL (fun z2 => ?_) (fun z2 => ?_))
          · refine yw_run hL Tt T (by omega) (Nat.le_refl _) ⟨L + 1, ?_⟩
            refine yw_sc84 hL hR Tt hlab T hs0 z2 (fun c0 hW => ?_) (fun hnW => ?_) L 0 (by omega) (fun _ a' h => by omega)
            · rw [ef (Or.inr (Or.inr ⟨c0, hW⟩))] at K; exact K
            · rw [eg (by
                rintro (y | y | y)
                · exact z y
                · omega
                · exact hnW.elim (fun q => q y.1) (fun q => q y.2))] at K
              obtain ⟨x, b, hb⟩ := bm_ex (t := t) hR (sg_go t R) tx s.2.1 (TL - s.2.1)
              rw [nI_1]
              exact ih (n + 1) _ (by omega) (sc_I1 hs0 z2 hb) K
          · rw [ef (Or.inr (Or.inl z2))] at K; exact K
        | succ d ihd =>
          intro i hi
          have w := s3 i (by omega)
          exact br_f (nI_ge (by omega) (by omega)) (And.intro (vp_in_nI (by omega) (by omega)) (nm_r (e' := nI (sm_n ln (i + 1))) (by rw [nI_clamp (by omega), w.1, nI_add]; rfl) (nm_r (nI_1 i) (ihd (i + 1) (by omega)))))
      exact key s.1 0 (by omega)
theorem yw_scan {post : Int32 → SY → Prop} {lim : Int32} {s : Nat × Nat × (Nat → Int32) × (Nat → Int32)} (hL : L ≤ 4) (hR : R ≤ 6) (Tt : yc_T (sg_go t R) L b_go (sg_lab t R) b_seen b_diff n_diff) (hlab : ∀ c, c < 257 → b_lab c = sg_lab t R c) (T : tx_I tx L TL b_text) (hs : sc_I TL s)
    (K : post (nI (sc_f t R L tx TL clo lim 64 0 s).1) (nI L, g_maxRules, g_maxLeaves, g_maxText, g_rules, g_count, 1, g_states, nI TL, clo, nI (sc_f t R L tx TL clo lim 64 0 s).2.1, b_toks, b_reach, b_go, b_lab, b_seen, b_diff, b_conf, b_text, (sc_f t R L tx TL clo lim 64 0 s).2.2.2.1, (sc_f t R L tx TL clo lim 64 0 s).2.2.2.2, n_diff)) :
    wpY_scan post (nI L, g_maxRules, g_maxLeaves, g_maxText, g_rules, g_count, 1, g_states, nI TL, clo, nI s.1, b_toks, b_reach, b_go, b_lab, b_seen, b_diff, b_conf, b_text, s.2.2.1, s.2.2.2, n_diff) lim :=
  br_f (by decide) ⟨65, yw_sc14 hL hR Tt hlab T 64 0 s rfl hs K⟩
end
end
section
/-! the relation -/
def re_Z (L MR ML MT : Nat) : Prop := 2 ≤ L ∧ L ≤ 4 ∧ 1 ≤ MR ∧ MR ≤ 6 ∧ 2 ≤ ML ∧ ML ≤ 8 ∧ 8 ≤ MT ∧ MT ≤ 64
/-- the tokens, the leaves, the finished rules -/
def re_T (t : Nat → Nat) (L MR ML R c : Nat) (toks masks follow rN rF rL btoks : Nat → Int32) : Prop :=
  (∀ p, btoks p = nI (t p)) ∧ (∀ p, t p < 23) ∧ t 0 = 0 ∧ R ≤ MR ∧ (0 < c → R < MR) ∧ (∀ r, r < R → ∃ m, rw_F t (1 + 25 * r) m) ∧ rw_V t (1 + 25 * R) c ∧ (∀ p, 1 + 25 * R + c ≤ p → t p = 0) ∧
  (∀ i, i < c → toks i = nI (t (1 + 25 * R + i))) ∧ lf_c t 176 ≤ ML ∧ (∀ p, gr_Lf t p → t p < 2 ^ L) ∧ (∀ p, gr_Lf t p → 1 + 25 * R ≤ p → follow (lf_c t p) = 0) ∧ xr_A t R masks follow rN rF rL
/-- compiled or not -/
def re_C (t tx : Nat → Nat) (L R c TL LC PO : Nat) (cp clo sT al gs : Int32) (del slab ext : Nat → Int32) (fl : Nat → Int64) (bgo blab sn df cf : Nat → Int32) : Prop :=
  (cp = 0 ∧ TL = 0 ∧ LC = 0 ∧ PO = 0 ∧ clo = 0) ∨
  (cp = 1 ∧ c = 0 ∧ 0 < R ∧ sT = nI (sg_S t R L).1 ∧ gs = nI (sg_S t R L).1 ∧ xc_A t R L (sg_S t R L) del slab ∧ yc_A t R L bgo blab sn df cf 66049 ∧ gr_gs al (fun k => xs_W t R L (sg_S t R L) k ∧ k < 7) ∧ (∀ i, i < (sg_S t R L).1 → gr_b01 (ext i) (xs_E t R L (sg_S t R L) i)) ∧ mm_I t R L tx TL clo fl)
def re_F (t tx : Nat → Nat) (L MR ML MT R c TL LC PO : Nat) (cp clo sT al gs : Int32) (toks masks follow rN rF rL del slab ext txt lr ll : Nat → Int32) (fl : Nat → Int64) (btoks bgo blab sn df cf : Nat → Int32) : Prop :=
  re_Z L MR ML MT ∧ re_T t L MR ML R c toks masks follow rN rF rL btoks ∧ (TL ≤ MT ∧ tx_I tx L TL txt ∧ sc_I TL (LC, PO, lr, ll) ∧ (clo = 0 ∨ clo = 1)) ∧ re_C t tx L R c TL LC PO cp clo sT al gs del slab ext fl bgo blab sn df cf
/-- the relation at the head of a turn -/
def i_Rel (k : Nat) (u : SX) (v : SY) : Prop := match u with
  | (f_letters, f_maxRules, f_maxLeaves, f_maxText, f_tokenCount, f_depth, f_leafCount, f_finishedLeaves, f_ruleCount, f_rawCount, f_stateTotal, f_aliveRules, f_compiled, f_textLength, f_closed, f_lexCount, f_position, a_tokens, a_masks, a_follow, a_ruleNull, a_ruleFirst, a_ruleLast, a_altNull, a_altFirst, a_altLast, a_catNull, a_catFirst, a_catLast, a_atomNull, a_atomFirst, a_atomLast, a_rawSet, a_rawOfSet, a_rawDelta, a_rawLabel, a_letterLeaves, a_classOf, a_nextClass, a_classRep, a_slotClass, a_slotKey, a_numberOf, a_queue, a_delta, a_stateLabel, a_extendable, a_text, a_lexRule, a_lexLength, a_failed, a_trail) => match v with
    | (g_letters, g_maxRules, g_maxLeaves, g_maxText, g_rules, g_count, g_compiled, g_states, g_textLength, g_closed, g_lexemes, b_toks, b_reach, b_go, b_lab, b_seen, b_diff, b_conf, b_text, b_lexRule, b_lexLength, n_diff) => ∃ (t tx : Nat → Nat) (L MR ML MT R c TL LC PO : Nat) (cp clo : Int32), f_letters = nI L ∧ f_maxRules = nI MR ∧ f_maxLeaves = nI ML ∧ f_maxText = nI MT ∧ f_tokenCount = nI c ∧ f_depth = nI (rw_dn t (1 + 25 * R) c) ∧ f_leafCount = nI (lf_c t 176) ∧ f_finishedLeaves = nI (lf_c t (1 + 25 * R)) ∧ f_ruleCount = nI R ∧ f_compiled = cp ∧ f_textLength = nI TL ∧ f_closed = clo ∧ f_lexCount = nI LC ∧ f_position = nI PO ∧ g_letters = nI L ∧ g_maxRules = nI MR ∧ g_maxLeaves = nI ML ∧ g_maxText = nI MT ∧ g_rules = nI R ∧ g_count = nI c ∧ g_compiled = cp ∧ g_textLength = nI TL ∧ g_closed = clo ∧ g_lexemes = nI LC ∧ b_text = a_text ∧ b_lexRule = a_lexRule ∧ b_lexLength = a_lexLength ∧ n_diff = 66049 ∧ re_F t tx L MR ML MT R c TL LC PO cp clo f_stateTotal f_aliveRules g_states a_tokens a_masks a_follow a_ruleNull a_ruleFirst a_ruleLast a_delta a_stateLabel a_extendable a_text a_lexRule a_lexLength a_failed b_toks b_go b_lab b_seen b_diff b_conf
theorem i_up {k : Nat} {u : SX} {v : SY} (h : i_Rel k u v) : i_Rel (k + 3) u v := h
theorem re_mk {k : Nat} {f_rawCount : Int32} {f_stateTotal : Int32} {f_aliveRules : Int32} {a_tokens : Nat → Int32} {a_masks : Nat → Int32} {a_follow : Nat → Int32} {a_ruleNull : Nat → Int32} {a_ruleFirst : Nat → Int32} {a_ruleLast : Nat → Int32} {a_altNull : Nat → Int32} {a_altFirst : Nat → Int32} {a_altLast : Nat → Int32} {a_catNull : Nat → Int32} {a_catFirst : Nat → Int32} {a_catLast : Nat → Int32} {a_atomNull : Nat → Int32} {a_atomFirst : Nat → Int32} {a_atomLast : Nat → Int32} {a_rawSet : Nat → Int32} {a_rawOfSet : Nat → Int32} {a_rawDelta : Nat → Int32} {a_rawLabel : Nat → Int32} {a_letterLeaves : Nat → Int32} {a_classOf : Nat → Int32} {a_nextClass : Nat → Int32} {a_classRep : Nat → Int32} {a_slotClass : Nat → Int32} {a_slotKey : Nat → Int64} {a_numberOf : Nat → Int32} {a_queue : Nat → Int32} {a_delta : Nat → Int32} {a_stateLabel : Nat → Int32} {a_extendable : Nat → Int32} {a_text : Nat → Int32} {a_lexRule : Nat → Int32} {a_lexLength : Nat → Int32} {a_failed : Nat → Int64} {a_trail : Nat → Int32} {g_states : Int32} {b_toks : Nat → Int32} {b_reach : Nat → Int32} {b_go : Nat → Int32} {b_lab : Nat → Int32} {b_seen : Nat → Int32} {b_diff : Nat → Int32} {b_conf : Nat → Int32} {t tx : Nat → Nat} {L MR ML MT R c TL LC PO : Nat} {cp clo : Int32} (h : re_F t tx L MR ML MT R c TL LC PO cp clo f_stateTotal f_aliveRules g_states a_tokens a_masks a_follow a_ruleNull a_ruleFirst a_ruleLast a_delta a_stateLabel a_extendable a_text a_lexRule a_lexLength a_failed b_toks b_go b_lab b_seen b_diff b_conf) : i_Rel k (nI L, nI MR, nI ML, nI MT, nI c, nI (rw_dn t (1 + 25 * R) c), nI (lf_c t 176), nI (lf_c t (1 + 25 * R)), nI R, f_rawCount, f_stateTotal, f_aliveRules, cp, nI TL, clo, nI LC, nI PO, a_tokens, a_masks, a_follow, a_ruleNull, a_ruleFirst, a_ruleLast, a_altNull, a_altFirst, a_altLast, a_catNull, a_catFirst, a_catLast, a_atomNull, a_atomFirst, a_atomLast, a_rawSet, a_rawOfSet, a_rawDelta, a_rawLabel, a_letterLeaves, a_classOf, a_nextClass, a_classRep, a_slotClass, a_slotKey, a_numberOf, a_queue, a_delta, a_stateLabel, a_extendable, a_text, a_lexRule, a_lexLength, a_failed, a_trail) (nI L, nI MR, nI ML, nI MT, nI R, nI c, cp, g_states, nI TL, clo, nI LC, b_toks, b_reach, b_go, b_lab, b_seen, b_diff, b_conf, a_text, a_lexRule, a_lexLength, 66049) :=
  ⟨t, tx, L, MR, ML, MT, R, c, TL, LC, PO, cp, clo, rfl, rfl, rfl, rfl, rfl, rfl, rfl, rfl, rfl, rfl, rfl, rfl, rfl, rfl, rfl, rfl, rfl, rfl, rfl, rfl, rfl, rfl, rfl, rfl, rfl, rfl, rfl, rfl, h⟩
theorem re_el {k : Nat} {P : SX → SY → Prop} (h : ∀ (f_rawCount : Int32) (f_stateTotal : Int32) (f_aliveRules : Int32) (a_tokens : Nat → Int32) (a_masks : Nat → Int32) (a_follow : Nat → Int32) (a_ruleNull : Nat → Int32) (a_ruleFirst : Nat → Int32) (a_ruleLast : Nat → Int32) (a_altNull : Nat → Int32) (a_altFirst : Nat → Int32) (a_altLast : Nat → Int32) (a_catNull : Nat → Int32) (a_catFirst : Nat → Int32) (a_catLast : Nat → Int32) (a_atomNull : Nat → Int32) (a_atomFirst : Nat → Int32) (a_atomLast : Nat → Int32) (a_rawSet : Nat → Int32) (a_rawOfSet : Nat → Int32) (a_rawDelta : Nat → Int32) (a_rawLabel : Nat → Int32) (a_letterLeaves : Nat → Int32) (a_classOf : Nat → Int32) (a_nextClass : Nat → Int32) (a_classRep : Nat → Int32) (a_slotClass : Nat → Int32) (a_slotKey : Nat → Int64) (a_numberOf : Nat → Int32) (a_queue : Nat → Int32) (a_delta : Nat → Int32) (a_stateLabel : Nat → Int32) (a_extendable : Nat → Int32) (a_text : Nat → Int32) (a_lexRule : Nat → Int32) (a_lexLength : Nat → Int32) (a_failed : Nat → Int64) (a_trail : Nat → Int32) (g_states : Int32) (b_toks : Nat → Int32) (b_reach : Nat → Int32) (b_go : Nat → Int32) (b_lab : Nat → Int32) (b_seen : Nat → Int32) (b_diff : Nat → Int32) (b_conf : Nat → Int32) (t tx : Nat → Nat) (L MR ML MT R c TL LC PO : Nat) (cp clo : Int32), re_F t tx L MR ML MT R c TL LC PO cp clo f_stateTotal f_aliveRules g_states a_tokens a_masks a_follow a_ruleNull a_ruleFirst a_ruleLast a_delta a_stateLabel a_extendable a_text a_lexRule a_lexLength a_failed b_toks b_go b_lab b_seen b_diff b_conf → P (nI L, nI MR, nI ML, nI MT, nI c, nI (rw_dn t (1 + 25 * R) c), nI (lf_c t 176), nI (lf_c t (1 + 25 * R)), nI R, f_rawCount, f_stateTotal, f_aliveRules, cp, nI TL, clo, nI LC, nI PO, a_tokens, a_masks, a_follow, a_ruleNull, a_ruleFirst, a_ruleLast, a_altNull, a_altFirst, a_altLast, a_catNull, a_catFirst, a_catLast, a_atomNull, a_atomFirst, a_atomLast, a_rawSet, a_rawOfSet, a_rawDelta, a_rawLabel, a_letterLeaves, a_classOf, a_nextClass, a_classRep, a_slotClass, a_slotKey, a_numberOf, a_queue, a_delta, a_stateLabel, a_extendable, a_text, a_lexRule, a_lexLength, a_failed, a_trail) (nI L, nI MR, nI ML, nI MT, nI R, nI c, cp, g_states, nI TL, clo, nI LC, b_toks, b_reach, b_go, b_lab, b_seen, b_diff, b_conf, a_text, a_lexRule, a_lexLength, 66049)) {u : SX} {v : SY} (I : i_Rel k u v) : P u v := by
  have key : ∀ (f_letters : Int32) (f_maxRules : Int32) (f_maxLeaves : Int32) (f_maxText : Int32) (f_tokenCount : Int32) (f_depth : Int32) (f_leafCount : Int32) (f_finishedLeaves : Int32) (f_ruleCount : Int32) (f_rawCount : Int32) (f_stateTotal : Int32) (f_aliveRules : Int32) (f_compiled : Int32) (f_textLength : Int32) (f_closed : Int32) (f_lexCount : Int32) (f_position : Int32) (a_tokens : Nat → Int32) (a_masks : Nat → Int32) (a_follow : Nat → Int32) (a_ruleNull : Nat → Int32) (a_ruleFirst : Nat → Int32) (a_ruleLast : Nat → Int32) (a_altNull : Nat → Int32) (a_altFirst : Nat → Int32) (a_altLast : Nat → Int32) (a_catNull : Nat → Int32) (a_catFirst : Nat → Int32) (a_catLast : Nat → Int32) (a_atomNull : Nat → Int32) (a_atomFirst : Nat → Int32) (a_atomLast : Nat → Int32) (a_rawSet : Nat → Int32) (a_rawOfSet : Nat → Int32) (a_rawDelta : Nat → Int32) (a_rawLabel : Nat → Int32) (a_letterLeaves : Nat → Int32) (a_classOf : Nat → Int32) (a_nextClass : Nat → Int32) (a_classRep : Nat → Int32) (a_slotClass : Nat → Int32) (a_slotKey : Nat → Int64) (a_numberOf : Nat → Int32) (a_queue : Nat → Int32) (a_delta : Nat → Int32) (a_stateLabel : Nat → Int32) (a_extendable : Nat → Int32) (a_text : Nat → Int32) (a_lexRule : Nat → Int32) (a_lexLength : Nat → Int32) (a_failed : Nat → Int64) (a_trail : Nat → Int32) (g_letters : Int32) (g_maxRules : Int32) (g_maxLeaves : Int32) (g_maxText : Int32) (g_rules : Int32) (g_count : Int32) (g_compiled : Int32) (g_states : Int32) (g_textLength : Int32) (g_closed : Int32) (g_lexemes : Int32) (b_toks : Nat → Int32) (b_reach : Nat → Int32) (b_go : Nat → Int32) (b_lab : Nat → Int32) (b_seen : Nat → Int32) (b_diff : Nat → Int32) (b_conf : Nat → Int32) (b_text : Nat → Int32) (b_lexRule : Nat → Int32) (b_lexLength : Nat → Int32) (n_diff : Nat), i_Rel k (f_letters, f_maxRules, f_maxLeaves, f_maxText, f_tokenCount, f_depth, f_leafCount, f_finishedLeaves, f_ruleCount, f_rawCount, f_stateTotal, f_aliveRules, f_compiled, f_textLength, f_closed, f_lexCount, f_position, a_tokens, a_masks, a_follow, a_ruleNull, a_ruleFirst, a_ruleLast, a_altNull, a_altFirst, a_altLast, a_catNull, a_catFirst, a_catLast, a_atomNull, a_atomFirst, a_atomLast, a_rawSet, a_rawOfSet, a_rawDelta, a_rawLabel, a_letterLeaves, a_classOf, a_nextClass, a_classRep, a_slotClass, a_slotKey, a_numberOf, a_queue, a_delta, a_stateLabel, a_extendable, a_text, a_lexRule, a_lexLength, a_failed, a_trail) (g_letters, g_maxRules, g_maxLeaves, g_maxText, g_rules, g_count, g_compiled, g_states, g_textLength, g_closed, g_lexemes, b_toks, b_reach, b_go, b_lab, b_seen, b_diff, b_conf, b_text, b_lexRule, b_lexLength, n_diff) → P (f_letters, f_maxRules, f_maxLeaves, f_maxText, f_tokenCount, f_depth, f_leafCount, f_finishedLeaves, f_ruleCount, f_rawCount, f_stateTotal, f_aliveRules, f_compiled, f_textLength, f_closed, f_lexCount, f_position, a_tokens, a_masks, a_follow, a_ruleNull, a_ruleFirst, a_ruleLast, a_altNull, a_altFirst, a_altLast, a_catNull, a_catFirst, a_catLast, a_atomNull, a_atomFirst, a_atomLast, a_rawSet, a_rawOfSet, a_rawDelta, a_rawLabel, a_letterLeaves, a_classOf, a_nextClass, a_classRep, a_slotClass, a_slotKey, a_numberOf, a_queue, a_delta, a_stateLabel, a_extendable, a_text, a_lexRule, a_lexLength, a_failed, a_trail) (g_letters, g_maxRules, g_maxLeaves, g_maxText, g_rules, g_count, g_compiled, g_states, g_textLength, g_closed, g_lexemes, b_toks, b_reach, b_go, b_lab, b_seen, b_diff, b_conf, b_text, b_lexRule, b_lexLength, n_diff) := by
    intro f_letters f_maxRules f_maxLeaves f_maxText f_tokenCount f_depth f_leafCount f_finishedLeaves f_ruleCount f_rawCount f_stateTotal f_aliveRules f_compiled f_textLength f_closed f_lexCount f_position a_tokens a_masks a_follow a_ruleNull a_ruleFirst a_ruleLast a_altNull a_altFirst a_altLast a_catNull a_catFirst a_catLast a_atomNull a_atomFirst a_atomLast a_rawSet a_rawOfSet a_rawDelta a_rawLabel a_letterLeaves a_classOf a_nextClass a_classRep a_slotClass a_slotKey a_numberOf a_queue a_delta a_stateLabel a_extendable a_text a_lexRule a_lexLength a_failed a_trail g_letters g_maxRules g_maxLeaves g_maxText g_rules g_count g_compiled g_states g_textLength g_closed g_lexemes b_toks b_reach b_go b_lab b_seen b_diff b_conf b_text b_lexRule b_lexLength n_diff I
    obtain ⟨t, tx, L, MR, ML, MT, R, c, TL, LC, PO, cp, clo, e_f_letters, e_f_maxRules, e_f_maxLeaves, e_f_maxText, e_f_tokenCount, e_f_depth, e_f_leafCount, e_f_finishedLeaves, e_f_ruleCount, e_f_compiled, e_f_textLength, e_f_closed, e_f_lexCount, e_f_position, e_g_letters, e_g_maxRules, e_g_maxLeaves, e_g_maxText, e_g_rules, e_g_count, e_g_compiled, e_g_textLength, e_g_closed, e_g_lexemes, e_b_text, e_b_lexRule, e_b_lexLength, e_n_diff, F⟩ := I
    subst e_f_letters e_f_maxRules e_f_maxLeaves e_f_maxText e_f_tokenCount e_f_depth e_f_leafCount e_f_finishedLeaves e_f_ruleCount e_f_compiled e_f_textLength e_f_closed e_f_lexCount e_f_position e_g_letters e_g_maxRules e_g_maxLeaves e_g_maxText e_g_rules e_g_count e_g_compiled e_g_textLength e_g_closed e_g_lexemes e_b_text e_b_lexRule e_b_lexLength e_n_diff
    exact h _ _ _ _ _ _ _ _ _ _ _ _ _ _ _ _ _ _ _ _ _ _ _ _ _ _ _ _ _ _ _ _ _ _ _ _ _ _ _ _ _ _ _ _ _ _ t tx L MR ML MT R c TL LC PO _ _ F
  exact key (u.1) (u.2.1) (u.2.2.1) (u.2.2.2.1) (u.2.2.2.2.1) (u.2.2.2.2.2.1) (u.2.2.2.2.2.2.1) (u.2.2.2.2.2.2.2.1) (u.2.2.2.2.2.2.2.2.1) (u.2.2.2.2.2.2.2.2.2.1) (u.2.2.2.2.2.2.2.2.2.2.1) (u.2.2.2.2.2.2.2.2.2.2.2.1) (u.2.2.2.2.2.2.2.2.2.2.2.2.1) (u.2.2.2.2.2.2.2.2.2.2.2.2.2.1) (u.2.2.2.2.2.2.2.2.2.2.2.2.2.2.1) (u.2.2.2.2.2.2.2.2.2.2.2.2.2.2.2.1) (u.2.2.2.2.2.2.2.2.2.2.2.2.2.2.2.2.1) (u.2.2.2.2.2.2.2.2.2.2.2.2.2.2.2.2.2.1) (u.2.2.2.2.2.2.2.2.2.2.2.2.2.2.2.2.2.2.1) (u.2.2.2.2.2.2.2.2.2.2.2.2.2.2.2.2.2.2.2.1) (u.2.2.2.2.2.2.2.2.2.2.2.2.2.2.2.2.2.2.2.2.1) (u.2.2.2.2.2.2.2.2.2.2.2.2.2.2.2.2.2.2.2.2.2.1) (u.2.2.2.2.2.2.2.2.2.2.2.2.2.2.2.2.2.2.2.2.2.2.1) (u.2.2.2.2.2.2.2.2.2.2.2.2.2.2.2.2.2.2.2.2.2.2.2.1) (u.2.2.2.2.2.2.2.2.2.2.2.2.2.2.2.2.2.2.2.2.2.2.2.2.1) (u.2.2.2.2.2.2.2.2.2.2.2.2.2.2.2.2.2.2.2.2.2.2.2.2.2.1) (u.2.2.2.2.2.2.2.2.2.2.2.2.2.2.2.2.2.2.2.2.2.2.2.2.2.2.1) (u.2.2.2.2.2.2.2.2.2.2.2.2.2.2.2.2.2.2.2.2.2.2.2.2.2.2.2.1) (u.2.2.2.2.2.2.2.2.2.2.2.2.2.2.2.2.2.2.2.2.2.2.2.2.2.2.2.2.1) (u.2.2.2.2.2.2.2.2.2.2.2.2.2.2.2.2.2.2.2.2.2.2.2.2.2.2.2.2.2.1) (u.2.2.2.2.2.2.2.2.2.2.2.2.2.2.2.2.2.2.2.2.2.2.2.2.2.2.2.2.2.2.1) (u.2.2.2.2.2.2.2.2.2.2.2.2.2.2.2.2.2.2.2.2.2.2.2.2.2.2.2.2.2.2.2.1) (u.2.2.2.2.2.2.2.2.2.2.2.2.2.2.2.2.2.2.2.2.2.2.2.2.2.2.2.2.2.2.2.2.1) (u.2.2.2.2.2.2.2.2.2.2.2.2.2.2.2.2.2.2.2.2.2.2.2.2.2.2.2.2.2.2.2.2.2.1) (u.2.2.2.2.2.2.2.2.2.2.2.2.2.2.2.2.2.2.2.2.2.2.2.2.2.2.2.2.2.2.2.2.2.2.1) (u.2.2.2.2.2.2.2.2.2.2.2.2.2.2.2.2.2.2.2.2.2.2.2.2.2.2.2.2.2.2.2.2.2.2.2.1) (u.2.2.2.2.2.2.2.2.2.2.2.2.2.2.2.2.2.2.2.2.2.2.2.2.2.2.2.2.2.2.2.2.2.2.2.2.1) (u.2.2.2.2.2.2.2.2.2.2.2.2.2.2.2.2.2.2.2.2.2.2.2.2.2.2.2.2.2.2.2.2.2.2.2.2.2.1) (u.2.2.2.2.2.2.2.2.2.2.2.2.2.2.2.2.2.2.2.2.2.2.2.2.2.2.2.2.2.2.2.2.2.2.2.2.2.2.1) (u.2.2.2.2.2.2.2.2.2.2.2.2.2.2.2.2.2.2.2.2.2.2.2.2.2.2.2.2.2.2.2.2.2.2.2.2.2.2.2.1) (u.2.2.2.2.2.2.2.2.2.2.2.2.2.2.2.2.2.2.2.2.2.2.2.2.2.2.2.2.2.2.2.2.2.2.2.2.2.2.2.2.1) (u.2.2.2.2.2.2.2.2.2.2.2.2.2.2.2.2.2.2.2.2.2.2.2.2.2.2.2.2.2.2.2.2.2.2.2.2.2.2.2.2.2.1) (u.2.2.2.2.2.2.2.2.2.2.2.2.2.2.2.2.2.2.2.2.2.2.2.2.2.2.2.2.2.2.2.2.2.2.2.2.2.2.2.2.2.2.1) (u.2.2.2.2.2.2.2.2.2.2.2.2.2.2.2.2.2.2.2.2.2.2.2.2.2.2.2.2.2.2.2.2.2.2.2.2.2.2.2.2.2.2.2.1) (u.2.2.2.2.2.2.2.2.2.2.2.2.2.2.2.2.2.2.2.2.2.2.2.2.2.2.2.2.2.2.2.2.2.2.2.2.2.2.2.2.2.2.2.2.1) (u.2.2.2.2.2.2.2.2.2.2.2.2.2.2.2.2.2.2.2.2.2.2.2.2.2.2.2.2.2.2.2.2.2.2.2.2.2.2.2.2.2.2.2.2.2.1) (u.2.2.2.2.2.2.2.2.2.2.2.2.2.2.2.2.2.2.2.2.2.2.2.2.2.2.2.2.2.2.2.2.2.2.2.2.2.2.2.2.2.2.2.2.2.2.1) (u.2.2.2.2.2.2.2.2.2.2.2.2.2.2.2.2.2.2.2.2.2.2.2.2.2.2.2.2.2.2.2.2.2.2.2.2.2.2.2.2.2.2.2.2.2.2.2.1) (u.2.2.2.2.2.2.2.2.2.2.2.2.2.2.2.2.2.2.2.2.2.2.2.2.2.2.2.2.2.2.2.2.2.2.2.2.2.2.2.2.2.2.2.2.2.2.2.2.1) (u.2.2.2.2.2.2.2.2.2.2.2.2.2.2.2.2.2.2.2.2.2.2.2.2.2.2.2.2.2.2.2.2.2.2.2.2.2.2.2.2.2.2.2.2.2.2.2.2.2.1) (u.2.2.2.2.2.2.2.2.2.2.2.2.2.2.2.2.2.2.2.2.2.2.2.2.2.2.2.2.2.2.2.2.2.2.2.2.2.2.2.2.2.2.2.2.2.2.2.2.2.2.1) (u.2.2.2.2.2.2.2.2.2.2.2.2.2.2.2.2.2.2.2.2.2.2.2.2.2.2.2.2.2.2.2.2.2.2.2.2.2.2.2.2.2.2.2.2.2.2.2.2.2.2.2) (v.1) (v.2.1) (v.2.2.1) (v.2.2.2.1) (v.2.2.2.2.1) (v.2.2.2.2.2.1) (v.2.2.2.2.2.2.1) (v.2.2.2.2.2.2.2.1) (v.2.2.2.2.2.2.2.2.1) (v.2.2.2.2.2.2.2.2.2.1) (v.2.2.2.2.2.2.2.2.2.2.1) (v.2.2.2.2.2.2.2.2.2.2.2.1) (v.2.2.2.2.2.2.2.2.2.2.2.2.1) (v.2.2.2.2.2.2.2.2.2.2.2.2.2.1) (v.2.2.2.2.2.2.2.2.2.2.2.2.2.2.1) (v.2.2.2.2.2.2.2.2.2.2.2.2.2.2.2.1) (v.2.2.2.2.2.2.2.2.2.2.2.2.2.2.2.2.1) (v.2.2.2.2.2.2.2.2.2.2.2.2.2.2.2.2.2.1) (v.2.2.2.2.2.2.2.2.2.2.2.2.2.2.2.2.2.2.1) (v.2.2.2.2.2.2.2.2.2.2.2.2.2.2.2.2.2.2.2.1) (v.2.2.2.2.2.2.2.2.2.2.2.2.2.2.2.2.2.2.2.2.1) (v.2.2.2.2.2.2.2.2.2.2.2.2.2.2.2.2.2.2.2.2.2) I
end
section
/-! the getters -/
theorem re_lt {t : Nat → Nat} {L MR ML MT R c : Nat} {a1 a2 a3 a4 a5 a6 a7 : Nat → Int32} (Z : re_Z L MR ML MT) (T : re_T t L MR ML R c a1 a2 a3 a4 a5 a6 a7) : (∀ p, t p < 100) ∧ R ≤ 6 ∧ (∀ p, gr_Lf t p → p < 176) ∧ (∀ p, gr_Lf t p → lf_c t p < lf_c t 176) ∧ lf_c t 176 ≤ 8 ∧ (∀ p, gr_Lf t p → lf_c t p < 8) := by
  obtain ⟨z1, z2, z3, z4, z5, z6, z7, z8⟩ := Z
  obtain ⟨h1, h2, h3, h4, h5, h6, h7, h8, h9, h10, h11, h12, h13⟩ := T
  have c24 := h7.2.1
  have lp : ∀ p, gr_Lf t p → p < 176 := by
    intro p hp
    rcases Nat.lt_or_ge p (1 + 25 * R + c) with z | z
    · by_cases e : R = 6
      · have : ¬ 0 < c := fun w => by have := h5 w; omega
        omega
      · omega
    · have := hp.1; rw [h8 p z] at this; omega
  have l2 : ∀ p, gr_Lf t p → lf_c t p < lf_c t 176 := fun p hp => lf_lt hp (lp p hp)
  exact ⟨fun p => by have := h2 p; omega, by omega, lp, l2, by omega, fun p hp => by have := l2 p hp; omega⟩
theorem i_vc_openToken {k : Nat} {u : SX} {v : SY} (I : i_Rel k u v) (hk : k + 3 ≤ 1540) (v1 : Int32) : wpX_openToken (fun r => wpY_openToken (fun r' => r' = r ∧ i_Rel (k + 3) u v) v v1) u v1 := by
  refine re_el (P := fun u v => wpX_openToken (fun r => wpY_openToken (fun r' => r' = r ∧ i_Rel (k + 3) u v) v v1) u v1) ?_ I
  intro f_rawCount f_stateTotal f_aliveRules a_tokens a_masks a_follow a_ruleNull a_ruleFirst a_ruleLast a_altNull a_altFirst a_altLast a_catNull a_catFirst a_catLast a_atomNull a_atomFirst a_atomLast a_rawSet a_rawOfSet a_rawDelta a_rawLabel a_letterLeaves a_classOf a_nextClass a_classRep a_slotClass a_slotKey a_numberOf a_queue a_delta a_stateLabel a_extendable a_text a_lexRule a_lexLength a_failed a_trail g_states b_toks b_reach b_go b_lab b_seen b_diff b_conf t tx L MR ML MT R c TL LC PO cp clo F
  have J : i_Rel (k + 3) (nI L, nI MR, nI ML, nI MT, nI c, nI (rw_dn t (1 + 25 * R) c), nI (lf_c t 176), nI (lf_c t (1 + 25 * R)), nI R, f_rawCount, f_stateTotal, f_aliveRules, cp, nI TL, clo, nI LC, nI PO, a_tokens, a_masks, a_follow, a_ruleNull, a_ruleFirst, a_ruleLast, a_altNull, a_altFirst, a_altLast, a_catNull, a_catFirst, a_catLast, a_atomNull, a_atomFirst, a_atomLast, a_rawSet, a_rawOfSet, a_rawDelta, a_rawLabel, a_letterLeaves, a_classOf, a_nextClass, a_classRep, a_slotClass, a_slotKey, a_numberOf, a_queue, a_delta, a_stateLabel, a_extendable, a_text, a_lexRule, a_lexLength, a_failed, a_trail) (nI L, nI MR, nI ML, nI MT, nI R, nI c, cp, g_states, nI TL, clo, nI LC, b_toks, b_reach, b_go, b_lab, b_seen, b_diff, b_conf, a_text, a_lexRule, a_lexLength, 66049) := re_mk F
  have lt := re_lt F.1 F.2.1
  have T := F.2.1
  have c24 := T.2.2.2.2.2.2.1.2.1
  refine br_c (fun z => br_t z ⟨rfl, J⟩) (fun z => br_c (fun z2 => ?_) (fun z2 => br_f z (br_f z2 ⟨rfl, J⟩)))
  obtain ⟨j, hj, rfl⟩ := nI_of z
  have z3 := z2
  rw [nI_ltI hj (by omega)] at z3
  have e1 := T.2.2.2.2.2.2.2.2.1 j z3
  refine And.intro (vp_in_nI (by omega) (by omega)) (br_f z (br_t z2 (And.intro (by rw [yl_ix]; exact vp_in_nI (by omega) (by omega)) ⟨?_, J⟩)))
  rw [yl_ix, nI_clamp (by omega), nI_clamp (by omega), e1]
  exact T.1 _
theorem i_vc_leafMask {k : Nat} {u : SX} {v : SY} (I : i_Rel k u v) (hk : k + 3 ≤ 1540) (v1 : Int32) : wpX_leafMask (fun r => wpY_leafMask (fun r' => r' = r ∧ i_Rel (k + 3) u v) v v1) u v1 := by
  refine re_el (P := fun u v => wpX_leafMask (fun r => wpY_leafMask (fun r' => r' = r ∧ i_Rel (k + 3) u v) v v1) u v1) ?_ I
  intro f_rawCount f_stateTotal f_aliveRules a_tokens a_masks a_follow a_ruleNull a_ruleFirst a_ruleLast a_altNull a_altFirst a_altLast a_catNull a_catFirst a_catLast a_atomNull a_atomFirst a_atomLast a_rawSet a_rawOfSet a_rawDelta a_rawLabel a_letterLeaves a_classOf a_nextClass a_classRep a_slotClass a_slotKey a_numberOf a_queue a_delta a_stateLabel a_extendable a_text a_lexRule a_lexLength a_failed a_trail g_states b_toks b_reach b_go b_lab b_seen b_diff b_conf t tx L MR ML MT R c TL LC PO cp clo F
  have J : i_Rel (k + 3) (nI L, nI MR, nI ML, nI MT, nI c, nI (rw_dn t (1 + 25 * R) c), nI (lf_c t 176), nI (lf_c t (1 + 25 * R)), nI R, f_rawCount, f_stateTotal, f_aliveRules, cp, nI TL, clo, nI LC, nI PO, a_tokens, a_masks, a_follow, a_ruleNull, a_ruleFirst, a_ruleLast, a_altNull, a_altFirst, a_altLast, a_catNull, a_catFirst, a_catLast, a_atomNull, a_atomFirst, a_atomLast, a_rawSet, a_rawOfSet, a_rawDelta, a_rawLabel, a_letterLeaves, a_classOf, a_nextClass, a_classRep, a_slotClass, a_slotKey, a_numberOf, a_queue, a_delta, a_stateLabel, a_extendable, a_text, a_lexRule, a_lexLength, a_failed, a_trail) (nI L, nI MR, nI ML, nI MT, nI R, nI c, cp, g_states, nI TL, clo, nI LC, b_toks, b_reach, b_go, b_lab, b_seen, b_diff, b_conf, a_text, a_lexRule, a_lexLength, 66049) := re_mk F
  have lt := re_lt F.1 F.2.1
  have T := F.2.1
  have none : (∀ q, q < 176 → gr_Lf t q → ¬ nI (lf_c t q) = v1) → wpY_leafMask (fun r' => r' = 0 ∧ i_Rel (k + 3) (nI L, nI MR, nI ML, nI MT, nI c, nI (rw_dn t (1 + 25 * R) c), nI (lf_c t 176), nI (lf_c t (1 + 25 * R)), nI R, f_rawCount, f_stateTotal, f_aliveRules, cp, nI TL, clo, nI LC, nI PO, a_tokens, a_masks, a_follow, a_ruleNull, a_ruleFirst, a_ruleLast, a_altNull, a_altFirst, a_altLast, a_catNull, a_catFirst, a_catLast, a_atomNull, a_atomFirst, a_atomLast, a_rawSet, a_rawOfSet, a_rawDelta, a_rawLabel, a_letterLeaves, a_classOf, a_nextClass, a_classRep, a_slotClass, a_slotKey, a_numberOf, a_queue, a_delta, a_stateLabel, a_extendable, a_text, a_lexRule, a_lexLength, a_failed, a_trail) (nI L, nI MR, nI ML, nI MT, nI R, nI c, cp, g_states, nI TL, clo, nI LC, b_toks, b_reach, b_go, b_lab, b_seen, b_diff, b_conf, a_text, a_lexRule, a_lexLength, 66049)) (nI L, nI MR, nI ML, nI MT, nI R, nI c, cp, g_states, nI TL, clo, nI LC, b_toks, b_reach, b_go, b_lab, b_seen, b_diff, b_conf, a_text, a_lexRule, a_lexLength, 66049) v1 := by
    intro h
    exact yw_leafMask T.1 lt.1 T.2.2.1 (fun q a b e => absurd e (h q a b)) (fun _ => ⟨rfl, J⟩)
  refine br_c (fun z => none (fun q a b e => ?_)) (fun z => br_c (fun z2 => ?_) (fun z2 => none (fun q a b e => ?_)))
  · rw [← e] at z; exact nI_pos (by have := lt.2.2.2.2.2 q b; omega) z
  · obtain ⟨j, hj, rfl⟩ := nI_of z
    have z3 := z2
    rw [nI_ltI hj (by omega)] at z3
    obtain ⟨p, p1, p2, p3⟩ := lf_ex (t := t) 176 j z3
    refine And.intro (vp_in_nI (by omega) (by omega)) (yw_leafMask T.1 lt.1 T.2.2.1 (fun q a b e => ⟨?_, J⟩) (fun h => absurd (by rw [p3]) (h p p1 p2)))
    rw [nI_eq (by have := lt.2.2.2.2.2 q b; omega) hj] at e
    have := lf_inj q p b p2 (e.trans p3.symm)
    subst this
    rw [nI_clamp hj, ← p3]
    exact (T.2.2.2.2.2.2.2.2.2.2.2.2.1 q b).symm
  · rw [← e] at z2
    exact z2 (nI_lt (lt.2.2.2.1 q b) (by omega))
/-- a rule's number, or none -/
theorem re_rule {R : Nat} (hR : R ≤ 6) (x : Int32) : (x < 1 ∨ nI R < x) ∨ ∃ r, r < R ∧ x = nI (r + 1) ∧ ¬ x < 1 ∧ ¬ nI R < x ∧ x ≤ nI R := by
  by_cases h1 : x < 1
  · exact Or.inl (Or.inl h1)
  · by_cases h2 : nI R < x
    · exact Or.inl (Or.inr h2)
    · right
      have h0 : ¬ x < 0 := fun w => h1 (Int32.lt_trans w (by decide))
      obtain ⟨j, hj, rfl⟩ := nI_of h0
      rw [nI_ltI (by omega) hj] at h2
      have j1 : 1 ≤ j := by
        rcases Nat.eq_zero_or_pos j with w | w
        · subst w; exact absurd (by decide) h1
        · exact w
      exact ⟨j - 1, by omega, by rw [show j - 1 + 1 = j by omega], h1, by rw [nI_ltI (by omega) hj]; exact h2, nI_le (by omega) (by omega)⟩
theorem re_nle {R : Nat} {x : Int32} (h : nI R < x) : ¬ x ≤ nI R := Int32.not_le.mpr h
theorem i_vc_ruleNullable {k : Nat} {u : SX} {v : SY} (I : i_Rel k u v) (hk : k + 3 ≤ 1540) (v1 : Int32) : wpX_ruleNullable (fun r => wpY_ruleNullable (fun r' v' => r' = r ∧ i_Rel (k + 3) u v') v v1) u v1 := by
  refine re_el (P := fun u v => wpX_ruleNullable (fun r => wpY_ruleNullable (fun r' v' => r' = r ∧ i_Rel (k + 3) u v') v v1) u v1) ?_ I
  intro f_rawCount f_stateTotal f_aliveRules a_tokens a_masks a_follow a_ruleNull a_ruleFirst a_ruleLast a_altNull a_altFirst a_altLast a_catNull a_catFirst a_catLast a_atomNull a_atomFirst a_atomLast a_rawSet a_rawOfSet a_rawDelta a_rawLabel a_letterLeaves a_classOf a_nextClass a_classRep a_slotClass a_slotKey a_numberOf a_queue a_delta a_stateLabel a_extendable a_text a_lexRule a_lexLength a_failed a_trail g_states b_toks b_reach b_go b_lab b_seen b_diff b_conf t tx L MR ML MT R c TL LC PO cp clo F
  have J : ∀ b_reach, i_Rel (k + 3) (nI L, nI MR, nI ML, nI MT, nI c, nI (rw_dn t (1 + 25 * R) c), nI (lf_c t 176), nI (lf_c t (1 + 25 * R)), nI R, f_rawCount, f_stateTotal, f_aliveRules, cp, nI TL, clo, nI LC, nI PO, a_tokens, a_masks, a_follow, a_ruleNull, a_ruleFirst, a_ruleLast, a_altNull, a_altFirst, a_altLast, a_catNull, a_catFirst, a_catLast, a_atomNull, a_atomFirst, a_atomLast, a_rawSet, a_rawOfSet, a_rawDelta, a_rawLabel, a_letterLeaves, a_classOf, a_nextClass, a_classRep, a_slotClass, a_slotKey, a_numberOf, a_queue, a_delta, a_stateLabel, a_extendable, a_text, a_lexRule, a_lexLength, a_failed, a_trail) (nI L, nI MR, nI ML, nI MT, nI R, nI c, cp, g_states, nI TL, clo, nI LC, b_toks, b_reach, b_go, b_lab, b_seen, b_diff, b_conf, a_text, a_lexRule, a_lexLength, 66049) := fun _ => re_mk F
  have lt := re_lt F.1 F.2.1
  have T := F.2.1
  rcases re_rule lt.2.1 v1 with (h | h) | ⟨r, hr, rfl, n1, n2, n3⟩
  · exact br_t h (br_t rfl (br_t h ⟨rfl, J _⟩))
  · have n1 : ¬ v1 < 1 := fun w => by
      have := Int32.lt_trans h w
      exact absurd this (nI_nlt (b := 1) (a := R) (by
        rcases Nat.eq_zero_or_pos R with e | e
        · subst e
          exfalso
          rw [Int32.lt_iff_toInt_lt] at h w
          rw [nI_toInt (by omega)] at h
          rw [show (1 : Int32).toInt = 1 from by decide] at w
          omega
        · exact e) (by omega))
    exact br_f n1 (br_t h (br_t rfl (br_f n1 (br_f (re_nle h) ⟨rfl, J _⟩))))
  · obtain ⟨m, Fm⟩ := T.2.2.2.2.2.1 r hr
    have q := (T.2.2.2.2.2.2.2.2.2.2.2.2.2.2 r hr).1
    refine br_f n1 (br_f n2 (br_f (by decide) (And.intro (vp_in_nI (by omega) (by omega)) ?_)))
    rw [nI_clamp (by omega)]
    refine And.intro (by rcases gr_b01_s q with z | z <;> rw [z] <;> rfl) ?_
    exact yw_ruleNullable T.1 lt.1 T.2.2.1 hr lt.2.1 Fm (fun x r' hx => ⟨gr_b01_u hx (gr_b01_c q (sp_Ni Fm)), J r'⟩)
theorem i_vc_firstLeaves {k : Nat} {u : SX} {v : SY} (I : i_Rel k u v) (hk : k + 3 ≤ 1540) (v1 : Int32) : wpX_firstLeaves (fun r => wpY_firstLeaves (fun r' v' => r' = r ∧ i_Rel (k + 3) u v') v v1) u v1 := by
  refine re_el (P := fun u v => wpX_firstLeaves (fun r => wpY_firstLeaves (fun r' v' => r' = r ∧ i_Rel (k + 3) u v') v v1) u v1) ?_ I
  intro f_rawCount f_stateTotal f_aliveRules a_tokens a_masks a_follow a_ruleNull a_ruleFirst a_ruleLast a_altNull a_altFirst a_altLast a_catNull a_catFirst a_catLast a_atomNull a_atomFirst a_atomLast a_rawSet a_rawOfSet a_rawDelta a_rawLabel a_letterLeaves a_classOf a_nextClass a_classRep a_slotClass a_slotKey a_numberOf a_queue a_delta a_stateLabel a_extendable a_text a_lexRule a_lexLength a_failed a_trail g_states b_toks b_reach b_go b_lab b_seen b_diff b_conf t tx L MR ML MT R c TL LC PO cp clo F
  have J : ∀ b_reach, i_Rel (k + 3) (nI L, nI MR, nI ML, nI MT, nI c, nI (rw_dn t (1 + 25 * R) c), nI (lf_c t 176), nI (lf_c t (1 + 25 * R)), nI R, f_rawCount, f_stateTotal, f_aliveRules, cp, nI TL, clo, nI LC, nI PO, a_tokens, a_masks, a_follow, a_ruleNull, a_ruleFirst, a_ruleLast, a_altNull, a_altFirst, a_altLast, a_catNull, a_catFirst, a_catLast, a_atomNull, a_atomFirst, a_atomLast, a_rawSet, a_rawOfSet, a_rawDelta, a_rawLabel, a_letterLeaves, a_classOf, a_nextClass, a_classRep, a_slotClass, a_slotKey, a_numberOf, a_queue, a_delta, a_stateLabel, a_extendable, a_text, a_lexRule, a_lexLength, a_failed, a_trail) (nI L, nI MR, nI ML, nI MT, nI R, nI c, cp, g_states, nI TL, clo, nI LC, b_toks, b_reach, b_go, b_lab, b_seen, b_diff, b_conf, a_text, a_lexRule, a_lexLength, 66049) := fun _ => re_mk F
  have lt := re_lt F.1 F.2.1
  have T := F.2.1
  rcases re_rule lt.2.1 v1 with h | ⟨r, hr, rfl, n1, n2, n3⟩
  · by_cases n1 : v1 < 1
    · exact br_t n1 (br_t rfl (br_t n1 ⟨rfl, J _⟩))
    · have h := h.resolve_left n1
      exact br_f n1 (br_t h (br_t rfl (br_f n1 (br_f (re_nle h) ⟨rfl, J _⟩))))
  · obtain ⟨m, Fm⟩ := T.2.2.2.2.2.1 r hr
    have q := (T.2.2.2.2.2.2.2.2.2.2.2.2.2.2 r hr).2.1
    refine br_f n1 (br_f n2 (br_f (by decide) (And.intro (vp_in_nI (by omega) (by omega)) ?_)))
    rw [nI_clamp (by omega)]
    exact yw_firstLeaves T.1 lt.1 T.2.2.1 hr lt.2.1 lt.2.2.2.2.2 Fm (fun x r' hx => ⟨gr_gs_u hx (gr_gs_c q (sp_Fi Fm)), J r'⟩)
theorem i_vc_lastLeaves {k : Nat} {u : SX} {v : SY} (I : i_Rel k u v) (hk : k + 3 ≤ 1540) (v1 : Int32) : wpX_lastLeaves (fun r => wpY_lastLeaves (fun r' v' => r' = r ∧ i_Rel (k + 3) u v') v v1) u v1 := by
  refine re_el (P := fun u v => wpX_lastLeaves (fun r => wpY_lastLeaves (fun r' v' => r' = r ∧ i_Rel (k + 3) u v') v v1) u v1) ?_ I
  intro f_rawCount f_stateTotal f_aliveRules a_tokens a_masks a_follow a_ruleNull a_ruleFirst a_ruleLast a_altNull a_altFirst a_altLast a_catNull a_catFirst a_catLast a_atomNull a_atomFirst a_atomLast a_rawSet a_rawOfSet a_rawDelta a_rawLabel a_letterLeaves a_classOf a_nextClass a_classRep a_slotClass a_slotKey a_numberOf a_queue a_delta a_stateLabel a_extendable a_text a_lexRule a_lexLength a_failed a_trail g_states b_toks b_reach b_go b_lab b_seen b_diff b_conf t tx L MR ML MT R c TL LC PO cp clo F
  have J : ∀ b_reach, i_Rel (k + 3) (nI L, nI MR, nI ML, nI MT, nI c, nI (rw_dn t (1 + 25 * R) c), nI (lf_c t 176), nI (lf_c t (1 + 25 * R)), nI R, f_rawCount, f_stateTotal, f_aliveRules, cp, nI TL, clo, nI LC, nI PO, a_tokens, a_masks, a_follow, a_ruleNull, a_ruleFirst, a_ruleLast, a_altNull, a_altFirst, a_altLast, a_catNull, a_catFirst, a_catLast, a_atomNull, a_atomFirst, a_atomLast, a_rawSet, a_rawOfSet, a_rawDelta, a_rawLabel, a_letterLeaves, a_classOf, a_nextClass, a_classRep, a_slotClass, a_slotKey, a_numberOf, a_queue, a_delta, a_stateLabel, a_extendable, a_text, a_lexRule, a_lexLength, a_failed, a_trail) (nI L, nI MR, nI ML, nI MT, nI R, nI c, cp, g_states, nI TL, clo, nI LC, b_toks, b_reach, b_go, b_lab, b_seen, b_diff, b_conf, a_text, a_lexRule, a_lexLength, 66049) := fun _ => re_mk F
  have lt := re_lt F.1 F.2.1
  have T := F.2.1
  rcases re_rule lt.2.1 v1 with h | ⟨r, hr, rfl, n1, n2, n3⟩
  · by_cases n1 : v1 < 1
    · exact br_t n1 (br_t rfl (br_t n1 ⟨rfl, J _⟩))
    · have h := h.resolve_left n1
      exact br_f n1 (br_t h (br_t rfl (br_f n1 (br_f (re_nle h) ⟨rfl, J _⟩))))
  · obtain ⟨m, Fm⟩ := T.2.2.2.2.2.1 r hr
    have q := (T.2.2.2.2.2.2.2.2.2.2.2.2.2.2 r hr).2.2
    refine br_f n1 (br_f n2 (br_f (by decide) (And.intro (vp_in_nI (by omega) (by omega)) ?_)))
    rw [nI_clamp (by omega)]
    exact yw_lastLeaves T.1 lt.1 T.2.2.1 hr lt.2.1 lt.2.2.2.2.2 Fm (fun x r' hx => ⟨gr_gs_u hx (gr_gs_c q (sp_Li Fm)), J r'⟩)
theorem i_vc_followLeaves {k : Nat} {u : SX} {v : SY} (I : i_Rel k u v) (hk : k + 3 ≤ 1540) (v1 : Int32) : wpX_followLeaves (fun r => wpY_followLeaves (fun r' v' => r' = r ∧ i_Rel (k + 3) u v') v v1) u v1 := by
  refine re_el (P := fun u v => wpX_followLeaves (fun r => wpY_followLeaves (fun r' v' => r' = r ∧ i_Rel (k + 3) u v') v v1) u v1) ?_ I
  intro f_rawCount f_stateTotal f_aliveRules a_tokens a_masks a_follow a_ruleNull a_ruleFirst a_ruleLast a_altNull a_altFirst a_altLast a_catNull a_catFirst a_catLast a_atomNull a_atomFirst a_atomLast a_rawSet a_rawOfSet a_rawDelta a_rawLabel a_letterLeaves a_classOf a_nextClass a_classRep a_slotClass a_slotKey a_numberOf a_queue a_delta a_stateLabel a_extendable a_text a_lexRule a_lexLength a_failed a_trail g_states b_toks b_reach b_go b_lab b_seen b_diff b_conf t tx L MR ML MT R c TL LC PO cp clo F
  have J : ∀ b_reach, i_Rel (k + 3) (nI L, nI MR, nI ML, nI MT, nI c, nI (rw_dn t (1 + 25 * R) c), nI (lf_c t 176), nI (lf_c t (1 + 25 * R)), nI R, f_rawCount, f_stateTotal, f_aliveRules, cp, nI TL, clo, nI LC, nI PO, a_tokens, a_masks, a_follow, a_ruleNull, a_ruleFirst, a_ruleLast, a_altNull, a_altFirst, a_altLast, a_catNull, a_catFirst, a_catLast, a_atomNull, a_atomFirst, a_atomLast, a_rawSet, a_rawOfSet, a_rawDelta, a_rawLabel, a_letterLeaves, a_classOf, a_nextClass, a_classRep, a_slotClass, a_slotKey, a_numberOf, a_queue, a_delta, a_stateLabel, a_extendable, a_text, a_lexRule, a_lexLength, a_failed, a_trail) (nI L, nI MR, nI ML, nI MT, nI R, nI c, cp, g_states, nI TL, clo, nI LC, b_toks, b_reach, b_go, b_lab, b_seen, b_diff, b_conf, a_text, a_lexRule, a_lexLength, 66049) := fun _ => re_mk F
  have lt := re_lt F.1 F.2.1
  have T := F.2.1
  have lR : lf_c t (1 + 25 * R) ≤ 8 := by
    have := lf_mono t (p := 1 + 25 * R) (q := 176) (by omega)
    omega
  have none : (∀ p, p < 1 + 25 * R → p < 176 → gr_Lf t p → ¬ nI (lf_c t p) = v1) → wpY_followLeaves (fun r' v' => r' = -1 ∧ i_Rel (k + 3) (nI L, nI MR, nI ML, nI MT, nI c, nI (rw_dn t (1 + 25 * R) c), nI (lf_c t 176), nI (lf_c t (1 + 25 * R)), nI R, f_rawCount, f_stateTotal, f_aliveRules, cp, nI TL, clo, nI LC, nI PO, a_tokens, a_masks, a_follow, a_ruleNull, a_ruleFirst, a_ruleLast, a_altNull, a_altFirst, a_altLast, a_catNull, a_catFirst, a_catLast, a_atomNull, a_atomFirst, a_atomLast, a_rawSet, a_rawOfSet, a_rawDelta, a_rawLabel, a_letterLeaves, a_classOf, a_nextClass, a_classRep, a_slotClass, a_slotKey, a_numberOf, a_queue, a_delta, a_stateLabel, a_extendable, a_text, a_lexRule, a_lexLength, a_failed, a_trail) v') (nI L, nI MR, nI ML, nI MT, nI R, nI c, cp, g_states, nI TL, clo, nI LC, b_toks, b_reach, b_go, b_lab, b_seen, b_diff, b_conf, a_text, a_lexRule, a_lexLength, 66049) v1 := by
    intro h
    exact yw_followLeaves T.1 lt.1 T.2.2.1 lt.2.1 lt.2.2.2.2.2 T.2.2.2.2.2.1 (fun p r m y r' p1 p2 p3 _ _ _ _ _ => absurd p3 (h p p1 (lt.2.2.1 p p2) p2)) (fun _ => ⟨rfl, J _⟩)
  refine br_c (fun z => none (fun q a b l e => ?_)) (fun z => br_c (fun z2 => ?_) (fun z2 => none (fun q a b l e => ?_)))
  · rw [← e] at z; exact nI_pos (by have := lt.2.2.2.2.2 q l; omega) z
  · obtain ⟨j, hj, rfl⟩ := nI_of z
    have z3 := z2
    rw [nI_ltI hj (by omega)] at z3
    obtain ⟨p, p1, p2, p3⟩ := lf_ex (t := t) (1 + 25 * R) j z3
    refine And.intro (vp_in_nI (by omega) (by omega)) (yw_followLeaves T.1 lt.1 T.2.2.1 lt.2.1 lt.2.2.2.2.2 T.2.2.2.2.2.1 (fun q r m y r' q1 q2 q3 r1 Fm l1 l2 hy => ⟨?_, J r'⟩) (fun h => absurd (by rw [p3]) (h p p1 (lt.2.2.1 p p2) p2)))
    rw [nI_eq (by have := lt.2.2.2.2.2 q q2; omega) hj] at q3
    have fo := T.2.2.2.2.2.2.2.2.2.2.2.2.2.1 q q2 q1
    rw [q3] at fo
    rw [nI_clamp hj]
    exact gr_gs_u hy (gr_gs_c fo (fun k => sp_Oi Fm l1 l2 k))
  · rw [← e] at z2
    exact z2 (nI_lt (lf_lt l a) (by omega))
theorem i_vc_stateCount {k : Nat} {u : SX} {v : SY} (I : i_Rel k u v) (hk : k + 3 ≤ 1540) : wpX_stateCount (fun r => wpY_stateCount (fun r' => r' = r ∧ i_Rel (k + 3) u v) v) u := by
  refine re_el (P := fun u v => wpX_stateCount (fun r => wpY_stateCount (fun r' => r' = r ∧ i_Rel (k + 3) u v) v) u) ?_ I
  intro f_rawCount f_stateTotal f_aliveRules a_tokens a_masks a_follow a_ruleNull a_ruleFirst a_ruleLast a_altNull a_altFirst a_altLast a_catNull a_catFirst a_catLast a_atomNull a_atomFirst a_atomLast a_rawSet a_rawOfSet a_rawDelta a_rawLabel a_letterLeaves a_classOf a_nextClass a_classRep a_slotClass a_slotKey a_numberOf a_queue a_delta a_stateLabel a_extendable a_text a_lexRule a_lexLength a_failed a_trail g_states b_toks b_reach b_go b_lab b_seen b_diff b_conf t tx L MR ML MT R c TL LC PO cp clo F
  have J : i_Rel (k + 3) (nI L, nI MR, nI ML, nI MT, nI c, nI (rw_dn t (1 + 25 * R) c), nI (lf_c t 176), nI (lf_c t (1 + 25 * R)), nI R, f_rawCount, f_stateTotal, f_aliveRules, cp, nI TL, clo, nI LC, nI PO, a_tokens, a_masks, a_follow, a_ruleNull, a_ruleFirst, a_ruleLast, a_altNull, a_altFirst, a_altLast, a_catNull, a_catFirst, a_catLast, a_atomNull, a_atomFirst, a_atomLast, a_rawSet, a_rawOfSet, a_rawDelta, a_rawLabel, a_letterLeaves, a_classOf, a_nextClass, a_classRep, a_slotClass, a_slotKey, a_numberOf, a_queue, a_delta, a_stateLabel, a_extendable, a_text, a_lexRule, a_lexLength, a_failed, a_trail) (nI L, nI MR, nI ML, nI MT, nI R, nI c, cp, g_states, nI TL, clo, nI LC, b_toks, b_reach, b_go, b_lab, b_seen, b_diff, b_conf, a_text, a_lexRule, a_lexLength, 66049) := re_mk F
  rcases F.2.2.2 with h | h
  · exact br_t h.1 (br_t h.1 ⟨rfl, J⟩)
  · have n1 : ¬ cp = 0 := by rw [h.1]; decide
    exact br_f n1 (br_f n1 ⟨h.2.2.2.2.1.trans h.2.2.2.1.symm, J⟩)
theorem i_vc_stateRule {k : Nat} {u : SX} {v : SY} (I : i_Rel k u v) (hk : k + 3 ≤ 1540) (v1 : Int32) : wpX_stateRule (fun r => wpY_stateRule (fun r' => r' = r ∧ i_Rel (k + 3) u v) v v1) u v1 := by
  refine re_el (P := fun u v => wpX_stateRule (fun r => wpY_stateRule (fun r' => r' = r ∧ i_Rel (k + 3) u v) v v1) u v1) ?_ I
  intro f_rawCount f_stateTotal f_aliveRules a_tokens a_masks a_follow a_ruleNull a_ruleFirst a_ruleLast a_altNull a_altFirst a_altLast a_catNull a_catFirst a_catLast a_atomNull a_atomFirst a_atomLast a_rawSet a_rawOfSet a_rawDelta a_rawLabel a_letterLeaves a_classOf a_nextClass a_classRep a_slotClass a_slotKey a_numberOf a_queue a_delta a_stateLabel a_extendable a_text a_lexRule a_lexLength a_failed a_trail g_states b_toks b_reach b_go b_lab b_seen b_diff b_conf t tx L MR ML MT R c TL LC PO cp clo F
  have J : i_Rel (k + 3) (nI L, nI MR, nI ML, nI MT, nI c, nI (rw_dn t (1 + 25 * R) c), nI (lf_c t 176), nI (lf_c t (1 + 25 * R)), nI R, f_rawCount, f_stateTotal, f_aliveRules, cp, nI TL, clo, nI LC, nI PO, a_tokens, a_masks, a_follow, a_ruleNull, a_ruleFirst, a_ruleLast, a_altNull, a_altFirst, a_altLast, a_catNull, a_catFirst, a_catLast, a_atomNull, a_atomFirst, a_atomLast, a_rawSet, a_rawOfSet, a_rawDelta, a_rawLabel, a_letterLeaves, a_classOf, a_nextClass, a_classRep, a_slotClass, a_slotKey, a_numberOf, a_queue, a_delta, a_stateLabel, a_extendable, a_text, a_lexRule, a_lexLength, a_failed, a_trail) (nI L, nI MR, nI ML, nI MT, nI R, nI c, cp, g_states, nI TL, clo, nI LC, b_toks, b_reach, b_go, b_lab, b_seen, b_diff, b_conf, a_text, a_lexRule, a_lexLength, 66049) := re_mk F
  rcases F.2.2.2 with h | h
  · exact br_t h.1 (br_t rfl (br_t h.1 ⟨rfl, J⟩))
  · obtain ⟨h1, h2, h3, h4, h5, h6, h7, h8, h9, h10⟩ := h
    have n1 : ¬ cp = 0 := by rw [h1]; decide
    subst h4 h5
    have T256 := h6.2.1
    refine br_f n1 (br_c (fun z => br_t rfl (br_f n1 (br_t z ⟨rfl, J⟩))) (fun z => br_c (fun z2 => br_t rfl (br_f n1 (br_f z (br_f (Int32.not_lt.mpr z2) ⟨rfl, J⟩)))) (fun z2 => br_f (by decide) ?_)))
    obtain ⟨j, hj, rfl⟩ := nI_of z
    have z3 := z2
    rw [nI_leI (by omega) hj] at z3
    have q := h7.2.2.2.2 j (by omega)
    have cj : b_conf (nI j).toNatClampNeg = nI ((sg_S t R L).2 j) := by rw [nI_clamp hj]; exact q.1
    refine And.intro (vp_in_nI (by omega) (by omega)) (br_f n1 (br_f z (br_t (Int32.not_le.mp z2) (And.intro (vp_in_nI (by omega) (by omega)) (And.intro (by rw [cj]; exact vp_in_nI q.2.1 (by omega)) ⟨?_, J⟩)))))
    rw [cj, nI_clamp (by omega), nI_clamp hj, h7.2.1 _ q.2.1, h6.2.2.1 j (by omega)]
theorem i_vc_letterAt {k : Nat} {u : SX} {v : SY} (I : i_Rel k u v) (hk : k + 3 ≤ 1540) (v1 : Int32) : wpX_letterAt (fun r => wpY_letterAt (fun r' => r' = r ∧ i_Rel (k + 3) u v) v v1) u v1 := by
  refine re_el (P := fun u v => wpX_letterAt (fun r => wpY_letterAt (fun r' => r' = r ∧ i_Rel (k + 3) u v) v v1) u v1) ?_ I
  intro f_rawCount f_stateTotal f_aliveRules a_tokens a_masks a_follow a_ruleNull a_ruleFirst a_ruleLast a_altNull a_altFirst a_altLast a_catNull a_catFirst a_catLast a_atomNull a_atomFirst a_atomLast a_rawSet a_rawOfSet a_rawDelta a_rawLabel a_letterLeaves a_classOf a_nextClass a_classRep a_slotClass a_slotKey a_numberOf a_queue a_delta a_stateLabel a_extendable a_text a_lexRule a_lexLength a_failed a_trail g_states b_toks b_reach b_go b_lab b_seen b_diff b_conf t tx L MR ML MT R c TL LC PO cp clo F
  have J : i_Rel (k + 3) (nI L, nI MR, nI ML, nI MT, nI c, nI (rw_dn t (1 + 25 * R) c), nI (lf_c t 176), nI (lf_c t (1 + 25 * R)), nI R, f_rawCount, f_stateTotal, f_aliveRules, cp, nI TL, clo, nI LC, nI PO, a_tokens, a_masks, a_follow, a_ruleNull, a_ruleFirst, a_ruleLast, a_altNull, a_altFirst, a_altLast, a_catNull, a_catFirst, a_catLast, a_atomNull, a_atomFirst, a_atomLast, a_rawSet, a_rawOfSet, a_rawDelta, a_rawLabel, a_letterLeaves, a_classOf, a_nextClass, a_classRep, a_slotClass, a_slotKey, a_numberOf, a_queue, a_delta, a_stateLabel, a_extendable, a_text, a_lexRule, a_lexLength, a_failed, a_trail) (nI L, nI MR, nI ML, nI MT, nI R, nI c, cp, g_states, nI TL, clo, nI LC, b_toks, b_reach, b_go, b_lab, b_seen, b_diff, b_conf, a_text, a_lexRule, a_lexLength, 66049) := re_mk F
  have E := F.2.2.1
  have T64 := E.2.1.1
  refine br_c (fun z => br_c (fun w => br_t z (br_t w ⟨rfl, J⟩)) (fun w => br_t z (br_f w ⟨rfl, J⟩))) (fun z => br_c (fun z2 => br_c (fun w => br_f z (br_t z2 (br_t w ⟨rfl, J⟩))) (fun w => br_f z (br_t z2 (br_f w ⟨rfl, J⟩)))) (fun z2 => ?_))
  obtain ⟨j, hj, rfl⟩ := nI_of z
  have z3 := z2
  rw [nI_leI (by omega) hj] at z3
  have hi : vp_in (nI j) 64 := vp_in_nI (by omega) (by omega)
  exact And.intro hi (br_f z (br_f z2 (And.intro hi ⟨rfl, J⟩)))
end
section
/-! states, text, compile, clear -/
theorem i_vc_tokenRule {k : Nat} {u : SX} {v : SY} (I : i_Rel k u v) (hk : k + 3 ≤ 1540) (v1 : Int32) : wpX_tokenRule (fun r => wpY_tokenRule (fun r' => r' = r ∧ i_Rel (k + 3) u v) v v1) u v1 := by
  refine re_el (P := fun u v => wpX_tokenRule (fun r => wpY_tokenRule (fun r' => r' = r ∧ i_Rel (k + 3) u v) v v1) u v1) ?_ I
  intro f_rawCount f_stateTotal f_aliveRules a_tokens a_masks a_follow a_ruleNull a_ruleFirst a_ruleLast a_altNull a_altFirst a_altLast a_catNull a_catFirst a_catLast a_atomNull a_atomFirst a_atomLast a_rawSet a_rawOfSet a_rawDelta a_rawLabel a_letterLeaves a_classOf a_nextClass a_classRep a_slotClass a_slotKey a_numberOf a_queue a_delta a_stateLabel a_extendable a_text a_lexRule a_lexLength a_failed a_trail g_states b_toks b_reach b_go b_lab b_seen b_diff b_conf t tx L MR ML MT R c TL LC PO cp clo F
  have J : i_Rel (k + 3) (nI L, nI MR, nI ML, nI MT, nI c, nI (rw_dn t (1 + 25 * R) c), nI (lf_c t 176), nI (lf_c t (1 + 25 * R)), nI R, f_rawCount, f_stateTotal, f_aliveRules, cp, nI TL, clo, nI LC, nI PO, a_tokens, a_masks, a_follow, a_ruleNull, a_ruleFirst, a_ruleLast, a_altNull, a_altFirst, a_altLast, a_catNull, a_catFirst, a_catLast, a_atomNull, a_atomFirst, a_atomLast, a_rawSet, a_rawOfSet, a_rawDelta, a_rawLabel, a_letterLeaves, a_classOf, a_nextClass, a_classRep, a_slotClass, a_slotKey, a_numberOf, a_queue, a_delta, a_stateLabel, a_extendable, a_text, a_lexRule, a_lexLength, a_failed, a_trail) (nI L, nI MR, nI ML, nI MT, nI R, nI c, cp, g_states, nI TL, clo, nI LC, b_toks, b_reach, b_go, b_lab, b_seen, b_diff, b_conf, a_text, a_lexRule, a_lexLength, 66049) := re_mk F
  have E := F.2.2.1
  have T64 := E.2.1.1
  have s1 : LC ≤ PO := E.2.2.1.1
  have s2 : PO ≤ TL := E.2.2.1.2.1
  refine br_c (fun z => br_t z ⟨rfl, J⟩) (fun z => br_c (fun z2 => ?_) (fun z2 => br_f z (br_f z2 ⟨rfl, J⟩)))
  obtain ⟨j, hj, rfl⟩ := nI_of z
  have z3 := z2
  rw [nI_ltI hj (by omega)] at z3
  have hi : vp_in (nI j) 64 := vp_in_nI (by omega) (by omega)
  exact And.intro hi (br_f z (br_t z2 (And.intro hi ⟨rfl, J⟩)))
theorem i_vc_tokenLength {k : Nat} {u : SX} {v : SY} (I : i_Rel k u v) (hk : k + 3 ≤ 1540) (v1 : Int32) : wpX_tokenLength (fun r => wpY_tokenLength (fun r' => r' = r ∧ i_Rel (k + 3) u v) v v1) u v1 := by
  refine re_el (P := fun u v => wpX_tokenLength (fun r => wpY_tokenLength (fun r' => r' = r ∧ i_Rel (k + 3) u v) v v1) u v1) ?_ I
  intro f_rawCount f_stateTotal f_aliveRules a_tokens a_masks a_follow a_ruleNull a_ruleFirst a_ruleLast a_altNull a_altFirst a_altLast a_catNull a_catFirst a_catLast a_atomNull a_atomFirst a_atomLast a_rawSet a_rawOfSet a_rawDelta a_rawLabel a_letterLeaves a_classOf a_nextClass a_classRep a_slotClass a_slotKey a_numberOf a_queue a_delta a_stateLabel a_extendable a_text a_lexRule a_lexLength a_failed a_trail g_states b_toks b_reach b_go b_lab b_seen b_diff b_conf t tx L MR ML MT R c TL LC PO cp clo F
  have J : i_Rel (k + 3) (nI L, nI MR, nI ML, nI MT, nI c, nI (rw_dn t (1 + 25 * R) c), nI (lf_c t 176), nI (lf_c t (1 + 25 * R)), nI R, f_rawCount, f_stateTotal, f_aliveRules, cp, nI TL, clo, nI LC, nI PO, a_tokens, a_masks, a_follow, a_ruleNull, a_ruleFirst, a_ruleLast, a_altNull, a_altFirst, a_altLast, a_catNull, a_catFirst, a_catLast, a_atomNull, a_atomFirst, a_atomLast, a_rawSet, a_rawOfSet, a_rawDelta, a_rawLabel, a_letterLeaves, a_classOf, a_nextClass, a_classRep, a_slotClass, a_slotKey, a_numberOf, a_queue, a_delta, a_stateLabel, a_extendable, a_text, a_lexRule, a_lexLength, a_failed, a_trail) (nI L, nI MR, nI ML, nI MT, nI R, nI c, cp, g_states, nI TL, clo, nI LC, b_toks, b_reach, b_go, b_lab, b_seen, b_diff, b_conf, a_text, a_lexRule, a_lexLength, 66049) := re_mk F
  have E := F.2.2.1
  have T64 := E.2.1.1
  have s1 : LC ≤ PO := E.2.2.1.1
  have s2 : PO ≤ TL := E.2.2.1.2.1
  refine br_c (fun z => br_t z ⟨rfl, J⟩) (fun z => br_c (fun z2 => ?_) (fun z2 => br_f z (br_f z2 ⟨rfl, J⟩)))
  obtain ⟨j, hj, rfl⟩ := nI_of z
  have z3 := z2
  rw [nI_ltI hj (by omega)] at z3
  have hi : vp_in (nI j) 64 := vp_in_nI (by omega) (by omega)
  exact And.intro hi (br_f z (br_t z2 (And.intro hi ⟨rfl, J⟩)))
theorem re_tk {t : Nat → Nat} {L MR ML MT R c : Nat} {a1 a2 a3 a4 a5 a6 a7 : Nat → Int32} (Z : re_Z L MR ML MT) (T : re_T t L MR ML R c a1 a2 a3 a4 a5 a6 a7) (hc : c = 0) (hR : 0 < R) : tk_C t R L := by
  have lt := re_lt Z T
  obtain ⟨z1, z2, z3, z4, z5, z6, z7, z8⟩ := Z
  obtain ⟨h1, h2, h3, h4, h5, h6, h7, h8, h9, h10, h11, h12, h13⟩ := T
  exact ⟨z2, lt.2.1, hR, h3, lt.1, lt.2.2.2.2.2, h11, h6, fun p hp => h8 p (by omega)⟩
theorem i_vc_step {k : Nat} {u : SX} {v : SY} (I : i_Rel k u v) (hk : k + 3 ≤ 1540) (v1 : Int32) (v2 : Int32) : wpX_step (fun r => wpY_step (fun r' => r' = r ∧ i_Rel (k + 3) u v) v v1 v2) u v1 v2 := by
  refine re_el (P := fun u v => wpX_step (fun r => wpY_step (fun r' => r' = r ∧ i_Rel (k + 3) u v) v v1 v2) u v1 v2) ?_ I
  intro f_rawCount f_stateTotal f_aliveRules a_tokens a_masks a_follow a_ruleNull a_ruleFirst a_ruleLast a_altNull a_altFirst a_altLast a_catNull a_catFirst a_catLast a_atomNull a_atomFirst a_atomLast a_rawSet a_rawOfSet a_rawDelta a_rawLabel a_letterLeaves a_classOf a_nextClass a_classRep a_slotClass a_slotKey a_numberOf a_queue a_delta a_stateLabel a_extendable a_text a_lexRule a_lexLength a_failed a_trail g_states b_toks b_reach b_go b_lab b_seen b_diff b_conf t tx L MR ML MT R c TL LC PO cp clo F
  have J : i_Rel (k + 3) (nI L, nI MR, nI ML, nI MT, nI c, nI (rw_dn t (1 + 25 * R) c), nI (lf_c t 176), nI (lf_c t (1 + 25 * R)), nI R, f_rawCount, f_stateTotal, f_aliveRules, cp, nI TL, clo, nI LC, nI PO, a_tokens, a_masks, a_follow, a_ruleNull, a_ruleFirst, a_ruleLast, a_altNull, a_altFirst, a_altLast, a_catNull, a_catFirst, a_catLast, a_atomNull, a_atomFirst, a_atomLast, a_rawSet, a_rawOfSet, a_rawDelta, a_rawLabel, a_letterLeaves, a_classOf, a_nextClass, a_classRep, a_slotClass, a_slotKey, a_numberOf, a_queue, a_delta, a_stateLabel, a_extendable, a_text, a_lexRule, a_lexLength, a_failed, a_trail) (nI L, nI MR, nI ML, nI MT, nI R, nI c, cp, g_states, nI TL, clo, nI LC, b_toks, b_reach, b_go, b_lab, b_seen, b_diff, b_conf, a_text, a_lexRule, a_lexLength, 66049) := re_mk F
  rcases F.2.2.2 with h | h
  · exact br_t h.1 (br_t rfl (br_t h.1 ⟨rfl, J⟩))
  · obtain ⟨h1, h2, h3, h4, h5, h6, h7, h8, h9, h10⟩ := h
    have C := re_tk F.1 F.2.1 h2 h3
    have P := tk_P C
    have hL := C.1
    have n1 : ¬ cp = 0 := by rw [h1]; decide
    subst h4 h5
    have T256 := h6.2.1
    refine br_f n1 (br_c (fun z => br_t rfl (br_f n1 (br_t z ⟨rfl, J⟩))) (fun z => br_c (fun z2 => br_t rfl (br_f n1 (br_f z (br_t z2 ⟨rfl, J⟩)))) (fun z2 => br_f (by decide) (br_c (fun y => br_f n1 (br_f z (br_f z2 (br_t y ⟨rfl, J⟩)))) (fun y => br_c (fun y2 => ?_) (fun y2 => br_f n1 (br_f z (br_f z2 (br_f y (br_f y2 ⟨rfl, J⟩))))))))))
    obtain ⟨q, hq, rfl⟩ := nI_of z
    obtain ⟨a, ha, rfl⟩ := nI_of y
    have z3 := z2
    rw [nI_leI (by omega) hq] at z3
    have y3 := y2
    rw [nI_ltI ha (by omega)] at y3
    have qs : q < (sg_S t R L).1 := by omega
    have w := h7.2.2.2.2 q qs
    have g := h7.1.1 ((sg_S t R L).2 q) a w.2.1 y3
    have sg := h7.1.2.2.2.1 _ a w.2.1 y3 w.2.2
    have cj : b_conf (nI q).toNatClampNeg = nI ((sg_S t R L).2 q) := by rw [nI_clamp hq]; exact w.1
    have ix : (nI q * 4) + nI a = nI (q * 4 + a) := yl_i4 _ _
    have iy : (b_conf (nI q).toNatClampNeg * 4) + nI a = nI ((sg_S t R L).2 q * 4 + a) := by rw [cj]; exact yl_i4 _ _
    have uniq : ∀ j j', j < (sg_S t R L).1 → j' < (sg_S t R L).1 → mo_Q (sg_lab t R) (sg_go t R) L ((sg_S t R L).2 j) ((sg_S t R L).2 j') → j = j' := by
      intro j j' hj hj' hqq
      rcases Nat.lt_trichotomy j j' with e | e | e
      · exact absurd (mo_Q_symm hqq) ((P.2.2.2 j' hj').2.2 j e)
      · exact e
      · exact absurd hqq ((P.2.2.2 j hj).2.2 j' e)
    have fy : ∀ r, ((r = -1 ∧ ∀ j, j < (sg_S t R L).1 → ¬ mo_Q (sg_lab t R) (sg_go t R) L (sg_go t R ((sg_S t R L).2 q) a) ((sg_S t R L).2 j)) ∨ ∃ j, j < (sg_S t R L).1 ∧ r = nI j ∧ mo_Q (sg_lab t R) (sg_go t R) L (sg_go t R ((sg_S t R L).2 q) a) ((sg_S t R L).2 j)) → wpY_step (fun r' => r' = r ∧ i_Rel (k + 3) (nI L, nI MR, nI ML, nI MT, nI c, nI (rw_dn t (1 + 25 * R) c), nI (lf_c t 176), nI (lf_c t (1 + 25 * R)), nI R, f_rawCount, nI (sg_S t R L).1, f_aliveRules, cp, nI TL, clo, nI LC, nI PO, a_tokens, a_masks, a_follow, a_ruleNull, a_ruleFirst, a_ruleLast, a_altNull, a_altFirst, a_altLast, a_catNull, a_catFirst, a_catLast, a_atomNull, a_atomFirst, a_atomLast, a_rawSet, a_rawOfSet, a_rawDelta, a_rawLabel, a_letterLeaves, a_classOf, a_nextClass, a_classRep, a_slotClass, a_slotKey, a_numberOf, a_queue, a_delta, a_stateLabel, a_extendable, a_text, a_lexRule, a_lexLength, a_failed, a_trail) (nI L, nI MR, nI ML, nI MT, nI R, nI c, cp, nI (sg_S t R L).1, nI TL, clo, nI LC, b_toks, b_reach, b_go, b_lab, b_seen, b_diff, b_conf, a_text, a_lexRule, a_lexLength, 66049)) (nI L, nI MR, nI ML, nI MT, nI R, nI c, cp, nI (sg_S t R L).1, nI TL, clo, nI LC, b_toks, b_reach, b_go, b_lab, b_seen, b_diff, b_conf, a_text, a_lexRule, a_lexLength, 66049) (nI q) (nI a) := by
      intro r hr
      refine br_f n1 (br_f z (br_f z2 (br_f y (br_t y2 (And.intro (vp_in_nI (by omega) (by omega)) (And.intro (by rw [iy]; exact vp_in_nI (by omega) (by omega)) ?_))))))
      rw [iy, nI_clamp (by omega), g.1]
      refine yw_stateOf (S := sg_S t R L) h7.1 h7.2.2 g.2 sg (fun j hj hq' => ⟨?_, J⟩) (fun hn => ⟨?_, J⟩)
      · rcases hr with ⟨e, hn⟩ | ⟨j', hj', e, hq''⟩
        · exact absurd hq' (hn j hj)
        · rw [e, uniq j j' hj hj' (mo_Q_trans (mo_Q_symm hq') hq'')]
      · rcases hr with ⟨e, _⟩ | ⟨j', hj', _, hq''⟩
        · exact e.symm
        · exact absurd hq'' (hn j' hj')
    refine And.intro (by rw [ix]; exact vp_in_nI (by omega) (by omega)) (nm_r (e' := a_delta (q * 4 + a)) (by rw [ix, nI_clamp (by omega)]) ?_)
    rcases h6.2.2.2 q a qs y3 with ⟨e1, e2⟩ | ⟨j, e1, e2, e3⟩
    · rw [e2]
      refine br_f (by decide) (fy (-1) (Or.inl ⟨rfl, fun j hj hq' => (P.2.2.2 j hj).2.1 (mo_Q_trans (mo_Q_symm hq') e1)⟩))
    · rw [e2]
      exact br_t (nI_pos' (by omega)) (fy (nI j) (Or.inr ⟨j, e1, rfl, e3⟩))
theorem i_vc_ruleAlive {k : Nat} {u : SX} {v : SY} (I : i_Rel k u v) (hk : k + 3 ≤ 1540) (v1 : Int32) : wpX_ruleAlive (fun r => wpY_ruleAlive (fun r' => r' = r ∧ i_Rel (k + 3) u v) v v1) u v1 := by
  refine re_el (P := fun u v => wpX_ruleAlive (fun r => wpY_ruleAlive (fun r' => r' = r ∧ i_Rel (k + 3) u v) v v1) u v1) ?_ I
  intro f_rawCount f_stateTotal f_aliveRules a_tokens a_masks a_follow a_ruleNull a_ruleFirst a_ruleLast a_altNull a_altFirst a_altLast a_catNull a_catFirst a_catLast a_atomNull a_atomFirst a_atomLast a_rawSet a_rawOfSet a_rawDelta a_rawLabel a_letterLeaves a_classOf a_nextClass a_classRep a_slotClass a_slotKey a_numberOf a_queue a_delta a_stateLabel a_extendable a_text a_lexRule a_lexLength a_failed a_trail g_states b_toks b_reach b_go b_lab b_seen b_diff b_conf t tx L MR ML MT R c TL LC PO cp clo F
  have J : i_Rel (k + 3) (nI L, nI MR, nI ML, nI MT, nI c, nI (rw_dn t (1 + 25 * R) c), nI (lf_c t 176), nI (lf_c t (1 + 25 * R)), nI R, f_rawCount, f_stateTotal, f_aliveRules, cp, nI TL, clo, nI LC, nI PO, a_tokens, a_masks, a_follow, a_ruleNull, a_ruleFirst, a_ruleLast, a_altNull, a_altFirst, a_altLast, a_catNull, a_catFirst, a_catLast, a_atomNull, a_atomFirst, a_atomLast, a_rawSet, a_rawOfSet, a_rawDelta, a_rawLabel, a_letterLeaves, a_classOf, a_nextClass, a_classRep, a_slotClass, a_slotKey, a_numberOf, a_queue, a_delta, a_stateLabel, a_extendable, a_text, a_lexRule, a_lexLength, a_failed, a_trail) (nI L, nI MR, nI ML, nI MT, nI R, nI c, cp, g_states, nI TL, clo, nI LC, b_toks, b_reach, b_go, b_lab, b_seen, b_diff, b_conf, a_text, a_lexRule, a_lexLength, 66049) := re_mk F
  rcases F.2.2.2 with h | h
  · exact br_t h.1 (br_t h.1 ⟨rfl, J⟩)
  · obtain ⟨h1, h2, h3, h4, h5, h6, h7, h8, h9, h10⟩ := h
    have C := re_tk F.1 F.2.1 h2 h3
    have hL := C.1
    have hR6 := C.2.1
    have n1 : ¬ cp = 0 := by rw [h1]; decide
    subst h4 h5
    have T256 := h6.2.1
    refine br_f n1 ?_
    rcases re_rule C.2.1 v1 with hh | ⟨r, hr, rfl, m1, m2, m3⟩
    · by_cases m1 : v1 < 1
      · exact br_t m1 (br_t rfl (br_f n1 (br_t m1 ⟨rfl, J⟩)))
      · have hh := hh.resolve_left m1
        exact br_f m1 (br_t hh (br_t rfl (br_f n1 (br_f m1 (br_f (re_nle hh) ⟨rfl, J⟩)))))
    · have fy : ∀ x : Int32, gr_b01 x (xs_W t R L (sg_S t R L) (r + 1)) → wpY_ruleAlive (fun r' => r' = x ∧ i_Rel (k + 3) (nI L, nI MR, nI ML, nI MT, nI c, nI (rw_dn t (1 + 25 * R) c), nI (lf_c t 176), nI (lf_c t (1 + 25 * R)), nI R, f_rawCount, nI (sg_S t R L).1, f_aliveRules, cp, nI TL, clo, nI LC, nI PO, a_tokens, a_masks, a_follow, a_ruleNull, a_ruleFirst, a_ruleLast, a_altNull, a_altFirst, a_altLast, a_catNull, a_catFirst, a_catLast, a_atomNull, a_atomFirst, a_atomLast, a_rawSet, a_rawOfSet, a_rawDelta, a_rawLabel, a_letterLeaves, a_classOf, a_nextClass, a_classRep, a_slotClass, a_slotKey, a_numberOf, a_queue, a_delta, a_stateLabel, a_extendable, a_text, a_lexRule, a_lexLength, a_failed, a_trail) (nI L, nI MR, nI ML, nI MT, nI R, nI c, cp, nI (sg_S t R L).1, nI TL, clo, nI LC, b_toks, b_reach, b_go, b_lab, b_seen, b_diff, b_conf, a_text, a_lexRule, a_lexLength, 66049)) (nI L, nI MR, nI ML, nI MT, nI R, nI c, cp, nI (sg_S t R L).1, nI TL, clo, nI LC, b_toks, b_reach, b_go, b_lab, b_seen, b_diff, b_conf, a_text, a_lexRule, a_lexLength, 66049) (nI (r + 1)) := by
        intro x hx
        have lb : ∀ i a, i < (sg_S t R L).1 → a < L → sg_lab t R (sg_go t R ((sg_S t R L).2 i) a) = nI (r + 1) → x = 1 := by
          intro i a hi ha e
          rcases hx with w | w
          · exact w.1
          · refine absurd ⟨i, a, hi, ha, fun q => ?_, e⟩ w.2
            rw [lab_dead q] at e
            exact nI_ne0 (n := r + 1) (by omega) (by omega) e.symm
        have key34 : ∀ (i : Nat), i < (sg_S t R L).1 → ∀ (J24 : Int32 → Prop), ((∀ a, a < L → ¬ sg_lab t R (sg_go t R ((sg_S t R L).2 i) a) = nI (r + 1)) → J24 (nI (i + 1))) → ∀ (m a : Nat), a + m = L → (∀ a', a' < a → ¬ sg_lab t R (sg_go t R ((sg_S t R L).2 i) a') = nI (r + 1)) → wY_ruleAlive_34 (fun r' => r' = x ∧ i_Rel (k + 3) (nI L, nI MR, nI ML, nI MT, nI c, nI (rw_dn t (1 + 25 * R) c), nI (lf_c t 176), nI (lf_c t (1 + 25 * R)), nI R, f_rawCount, nI (sg_S t R L).1, f_aliveRules, cp, nI TL, clo, nI LC, nI PO, a_tokens, a_masks, a_follow, a_ruleNull, a_ruleFirst, a_ruleLast, a_altNull, a_altFirst, a_altLast, a_catNull, a_catFirst, a_catLast, a_atomNull, a_atomFirst, a_atomLast, a_rawSet, a_rawOfSet, a_rawDelta, a_rawLabel, a_letterLeaves, a_classOf, a_nextClass, a_classRep, a_slotClass, a_slotKey, a_numberOf, a_queue, a_delta, a_stateLabel, a_extendable, a_text, a_lexRule, a_lexLength, a_failed, a_trail) (nI L, nI MR, nI ML, nI MT, nI R, nI c, cp, nI (sg_S t R L).1, nI TL, clo, nI LC, b_toks, b_reach, b_go, b_lab, b_seen, b_diff, b_conf, a_text, a_lexRule, a_lexLength, 66049)) J24 (nI (r + 1)) (nI i) (nI L) (nI MR) (nI ML) (nI MT) (nI R) (nI c) cp (nI (sg_S t R L).1) (nI TL) clo (nI LC) b_toks b_reach b_go b_lab b_seen b_diff b_conf a_text a_lexRule a_lexLength 66049 (m + 1) (nI a) := by
          intro i hi J24 KJ m
          induction m with
          | zero =>
            intro a hm hn
            exact br_t (nI_le (by omega) (by omega)) (nm_r (nI_1 i) (KJ (fun a' ha' => hn a' (by omega))))
          | succ m ih =>
            intro a hm hn
            have w := h7.2.2.2.2 i hi
            have g := h7.1.1 ((sg_S t R L).2 i) a w.2.1 (by omega)
            have cj : b_conf (nI i).toNatClampNeg = nI ((sg_S t R L).2 i) := by rw [nI_clamp (by omega)]; exact w.1
            have iy : (b_conf (nI i).toNatClampNeg * 4) + nI a = nI ((sg_S t R L).2 i * 4 + a) := by rw [cj]; exact yl_i4 _ _
            have eg : b_go ((b_conf (nI i).toNatClampNeg * 4) + nI a).toNatClampNeg = nI (sg_go t R ((sg_S t R L).2 i) a) := by rw [iy, nI_clamp (by omega)]; exact g.1
            refine br_f (nI_ge (by omega) (by omega)) (And.intro (vp_in_nI (by omega) (by omega)) (And.intro (by rw [iy]; exact vp_in_nI (by omega) (by omega)) (And.intro (by rw [eg]; exact vp_in_nI g.2 (by omega)) ?_)))
            rw [eg, nI_clamp (n := sg_go t R ((sg_S t R L).2 i) a) (by omega), h7.2.1 _ g.2]
            refine br_c (fun e => ⟨(lb i a hi (by omega) e).symm, J⟩) (fun e => nm_r (nI_1 a) (ih (a + 1) (by omega) (fun a' ha' => ?_)))
            by_cases e2 : a' = a
            · rw [e2]; exact e
            · exact hn a' (by omega)
        have key24 : ∀ (m i : Nat), i + m = (sg_S t R L).1 → (∀ i' a', i' < i → a' < L → ¬ sg_lab t R (sg_go t R ((sg_S t R L).2 i') a') = nI (r + 1)) → wY_ruleAlive_24 (fun r' => r' = x ∧ i_Rel (k + 3) (nI L, nI MR, nI ML, nI MT, nI c, nI (rw_dn t (1 + 25 * R) c), nI (lf_c t 176), nI (lf_c t (1 + 25 * R)), nI R, f_rawCount, nI (sg_S t R L).1, f_aliveRules, cp, nI TL, clo, nI LC, nI PO, a_tokens, a_masks, a_follow, a_ruleNull, a_ruleFirst, a_ruleLast, a_altNull, a_altFirst, a_altLast, a_catNull, a_catFirst, a_catLast, a_atomNull, a_atomFirst, a_atomLast, a_rawSet, a_rawOfSet, a_rawDelta, a_rawLabel, a_letterLeaves, a_classOf, a_nextClass, a_classRep, a_slotClass, a_slotKey, a_numberOf, a_queue, a_delta, a_stateLabel, a_extendable, a_text, a_lexRule, a_lexLength, a_failed, a_trail) (nI L, nI MR, nI ML, nI MT, nI R, nI c, cp, nI (sg_S t R L).1, nI TL, clo, nI LC, b_toks, b_reach, b_go, b_lab, b_seen, b_diff, b_conf, a_text, a_lexRule, a_lexLength, 66049)) (nI (r + 1)) (nI L) (nI MR) (nI ML) (nI MT) (nI R) (nI c) cp (nI (sg_S t R L).1) (nI TL) clo (nI LC) b_toks b_reach b_go b_lab b_seen b_diff b_conf a_text a_lexRule a_lexLength 66049 (m + 1) (nI i) := by
          intro m
          induction m with
          | zero =>
            intro i hm hn
            refine br_t (nI_le (by omega) (by omega)) ⟨?_, J⟩
            rcases hx with w | w
            · obtain ⟨i', a', w1, w2, w3, w4⟩ := w.2
              exact absurd w4 (hn i' a' (by omega) w2)
            · exact w.1.symm
          | succ m ih =>
            intro i hm hn
            refine br_f (nI_ge (by omega) (by omega)) ⟨L + 1, key34 i (by omega) _ (fun hh => ih (i + 1) (by omega) (fun i' a' hi' ha' => ?_)) L 0 (by omega) (fun a' ha' => by omega)⟩
            by_cases e2 : i' = i
            · rw [e2]; exact hh a' ha'
            · exact hn i' a' (by omega) ha'
        exact br_f n1 (br_f m1 (br_t m3 ⟨(sg_S t R L).1 + 1, key24 (sg_S t R L).1 0 (by omega) (fun i' a' hi' => by omega)⟩))
      refine br_f m1 (br_f m2 (br_f (by decide) ?_))
      rw [xl_bit (by omega)]
      have hb := h8 (r + 1)
      refine br_c (fun z => fy 0 (Or.inr ⟨rfl, fun w => ?_⟩)) (fun z => fy 1 (Or.inl ⟨rfl, (hb.mp (ts_nf z)).1⟩))
      have := hb.mpr ⟨w, by omega⟩
      rw [z] at this; exact absurd this (by decide)
theorem i_vc_match {k : Nat} {u : SX} {v : SY} (I : i_Rel k u v) (hk : k + 3 ≤ 1540) (v1 : Int32) : wpX_match (fun r => wpY_match (fun r' => r' = r ∧ i_Rel (k + 3) u v) v v1) u v1 := by
  refine re_el (P := fun u v => wpX_match (fun r => wpY_match (fun r' => r' = r ∧ i_Rel (k + 3) u v) v v1) u v1) ?_ I
  intro f_rawCount f_stateTotal f_aliveRules a_tokens a_masks a_follow a_ruleNull a_ruleFirst a_ruleLast a_altNull a_altFirst a_altLast a_catNull a_catFirst a_catLast a_atomNull a_atomFirst a_atomLast a_rawSet a_rawOfSet a_rawDelta a_rawLabel a_letterLeaves a_classOf a_nextClass a_classRep a_slotClass a_slotKey a_numberOf a_queue a_delta a_stateLabel a_extendable a_text a_lexRule a_lexLength a_failed a_trail g_states b_toks b_reach b_go b_lab b_seen b_diff b_conf t tx L MR ML MT R c TL LC PO cp clo F
  have J : i_Rel (k + 3) (nI L, nI MR, nI ML, nI MT, nI c, nI (rw_dn t (1 + 25 * R) c), nI (lf_c t 176), nI (lf_c t (1 + 25 * R)), nI R, f_rawCount, f_stateTotal, f_aliveRules, cp, nI TL, clo, nI LC, nI PO, a_tokens, a_masks, a_follow, a_ruleNull, a_ruleFirst, a_ruleLast, a_altNull, a_altFirst, a_altLast, a_catNull, a_catFirst, a_catLast, a_atomNull, a_atomFirst, a_atomLast, a_rawSet, a_rawOfSet, a_rawDelta, a_rawLabel, a_letterLeaves, a_classOf, a_nextClass, a_classRep, a_slotClass, a_slotKey, a_numberOf, a_queue, a_delta, a_stateLabel, a_extendable, a_text, a_lexRule, a_lexLength, a_failed, a_trail) (nI L, nI MR, nI ML, nI MT, nI R, nI c, cp, g_states, nI TL, clo, nI LC, b_toks, b_reach, b_go, b_lab, b_seen, b_diff, b_conf, a_text, a_lexRule, a_lexLength, 66049) := re_mk F
  have E := F.2.2.1
  have T64 := E.2.1.1
  rcases F.2.2.2 with h | h
  · exact br_t h.1 (br_t h.1 ⟨rfl, J⟩)
  · obtain ⟨h1, h2, h3, h4, h5, h6, h7, h8, h9, h10⟩ := h
    have C := re_tk F.1 F.2.1 h2 h3
    subst h1
    have n1 : ¬ (1 : Int32) = 0 := by decide
    by_cases z : v1 < 0
    · exact br_f n1 (br_t z (br_f n1 (br_t z ⟨rfl, J⟩)))
    · by_cases z2 : v1 < nI TL
      · obtain ⟨p, hp, rfl⟩ := nI_of z
        have z3 := z2
        rw [nI_ltI hp (by omega)] at z3
        exact xw_match C h6 E.2.1 z3 (fun x b hb => yw_match C.1 C.2.1 h7.1 h7.2.1 E.2.1 z3 (fun x' b' hb' => ⟨(bm_u hb' hb).1, J⟩))
      · exact br_f n1 (br_f z (br_f z2 (br_f n1 (br_f z (br_f z2 ⟨rfl, J⟩)))))
theorem i_vc_scan {k : Nat} {u : SX} {v : SY} (I : i_Rel k u v) (hk : k + 3 ≤ 1540) (v1 : Int32) : wpX_scan (fun r u' => wpY_scan (fun r' v' => r' = r ∧ i_Rel (k + 3) u' v') v v1) u v1 := by
  refine re_el (P := fun u v => wpX_scan (fun r u' => wpY_scan (fun r' v' => r' = r ∧ i_Rel (k + 3) u' v') v v1) u v1) ?_ I
  intro f_rawCount f_stateTotal f_aliveRules a_tokens a_masks a_follow a_ruleNull a_ruleFirst a_ruleLast a_altNull a_altFirst a_altLast a_catNull a_catFirst a_catLast a_atomNull a_atomFirst a_atomLast a_rawSet a_rawOfSet a_rawDelta a_rawLabel a_letterLeaves a_classOf a_nextClass a_classRep a_slotClass a_slotKey a_numberOf a_queue a_delta a_stateLabel a_extendable a_text a_lexRule a_lexLength a_failed a_trail g_states b_toks b_reach b_go b_lab b_seen b_diff b_conf t tx L MR ML MT R c TL LC PO cp clo F
  have J : i_Rel (k + 3) (nI L, nI MR, nI ML, nI MT, nI c, nI (rw_dn t (1 + 25 * R) c), nI (lf_c t 176), nI (lf_c t (1 + 25 * R)), nI R, f_rawCount, f_stateTotal, f_aliveRules, cp, nI TL, clo, nI LC, nI PO, a_tokens, a_masks, a_follow, a_ruleNull, a_ruleFirst, a_ruleLast, a_altNull, a_altFirst, a_altLast, a_catNull, a_catFirst, a_catLast, a_atomNull, a_atomFirst, a_atomLast, a_rawSet, a_rawOfSet, a_rawDelta, a_rawLabel, a_letterLeaves, a_classOf, a_nextClass, a_classRep, a_slotClass, a_slotKey, a_numberOf, a_queue, a_delta, a_stateLabel, a_extendable, a_text, a_lexRule, a_lexLength, a_failed, a_trail) (nI L, nI MR, nI ML, nI MT, nI R, nI c, cp, g_states, nI TL, clo, nI LC, b_toks, b_reach, b_go, b_lab, b_seen, b_diff, b_conf, a_text, a_lexRule, a_lexLength, 66049) := re_mk F
  obtain ⟨FZ, FT, FE, FC⟩ := F
  rcases FC with h | h
  · exact br_t h.1 (br_t h.1 ⟨rfl, J⟩)
  · obtain ⟨h1, h2, h3, h4, h5, h6, h7, h8, h9, h10⟩ := h
    have C := re_tk FZ FT h2 h3
    subst h1
    refine xw_scan (s := (LC, PO, a_lexRule, a_lexLength)) C h6 h9 FE.2.1 FE.2.2.1 h10 (fun fl' tr' hI' => ?_)
    refine yw_scan (s := (LC, PO, a_lexRule, a_lexLength)) C.1 C.2.1 h7.1 h7.2.1 FE.2.1 FE.2.2.1 ⟨rfl, ?_⟩
    refine re_mk ⟨FZ, FT, ⟨FE.1, FE.2.1, ?_, FE.2.2.2⟩, Or.inr ⟨rfl, h2, h3, h4, h5, h6, h7, h8, h9, hI'⟩⟩
    exact sc_If C.2.1 64 0 (LC, PO, a_lexRule, a_lexLength) FE.2.2.1
end
section
/-! feed, closeText, resetText, clear, compile, the constructors -/
theorem tr_ag {go : Nat → Nat → Nat} {tx tx' : Nat → Nat} {u p : Nat} : ∀ n, (∀ i, i < n → tx' (p + i) = tx (p + i)) → tr_n go tx' u p n = tr_n go tx u p n
  | 0, _ => rfl
  | n + 1, h => by
    show go (tr_n go tx' u p n) (tx' (p + n)) = go (tr_n go tx u p n) (tx (p + n))
    rw [tr_ag n (fun i hi => h i (by omega)), h n (by omega)]
theorem mm_feed {t tx : Nat → Nat} {R L TL a : Nat} {fl : Nat → Int64} (C : tk_C t R L) (ha : a < L) (h : mm_I t R L tx TL 0 fl) : mm_I t R L (fun i => if i = TL then a else tx i) (TL + 1) 0 fl := by
  intro q p hq hp hb
  obtain ⟨m1, m2, m3⟩ := h q p hq hp hb
  have m3 := m3.resolve_left (fun w => w rfl)
  have ag : ∀ n, p + n ≤ TL → tr_n (sg_go t R) (fun i => if i = TL then a else tx i) ((sg_S t R L).2 q) p n = tr_n (sg_go t R) tx ((sg_S t R L).2 q) p n := fun n hn => tr_ag n (fun i hi => if_neg (by omega))
  have last : tr_n (sg_go t R) (fun i => if i = TL then a else tx i) ((sg_S t R L).2 q) p (TL + 1 - p) = sg_go t R (tr_n (sg_go t R) tx ((sg_S t R L).2 q) p (TL - p)) a := by
    rw [show TL + 1 - p = (TL - p) + 1 by omega]
    show sg_go t R (tr_n (sg_go t R) (fun i => if i = TL then a else tx i) ((sg_S t R L).2 q) p (TL - p)) (if p + (TL - p) = TL then a else tx (p + (TL - p))) = _
    rw [if_pos (by omega), ag _ (by omega)]
  refine ⟨by omega, fun n n1 n2 => ?_, Or.inr (fun a' ha' => ?_)⟩
  · by_cases e : p + n = TL + 1
    · rw [show n = TL + 1 - p by omega, last]
      exact lab_dead (m3 a ha)
    · rw [ag n (by omega)]
      exact m2 n n1 (by omega)
  · rw [last]
    have d := mo_Q_go (m3 a ha) ha'
    rw [sg_go0 C.2.2.2.2.2.1] at d
    exact d
theorem mm_zero {t tx : Nat → Nat} {R L TL : Nat} {clo : Int32} {fl : Nat → Int64} (hS : (sg_S t R L).1 ≤ 256) (h : ∀ i, i < 260 → fl i = 0) : mm_I t R L tx TL clo fl := by
  intro q p hq hp hb
  rw [mm_b, h _ (by omega)] at hb
  exact absurd hb (by rw [show (0 : Int64).toBitVec = 0#64 from rfl, BitVec.getLsbD_zero]; decide)
theorem i_vc_feed {k : Nat} {u : SX} {v : SY} (I : i_Rel k u v) (hk : k + 3 ≤ 1540) (v1 : Int32) : wpX_feed (fun r u' => wpY_feed (fun r' v' => r' = r ∧ i_Rel (k + 3) u' v') v v1) u v1 := by
  refine re_el (P := fun u v => wpX_feed (fun r u' => wpY_feed (fun r' v' => r' = r ∧ i_Rel (k + 3) u' v') v v1) u v1) ?_ I
  intro f_rawCount f_stateTotal f_aliveRules a_tokens a_masks a_follow a_ruleNull a_ruleFirst a_ruleLast a_altNull a_altFirst a_altLast a_catNull a_catFirst a_catLast a_atomNull a_atomFirst a_atomLast a_rawSet a_rawOfSet a_rawDelta a_rawLabel a_letterLeaves a_classOf a_nextClass a_classRep a_slotClass a_slotKey a_numberOf a_queue a_delta a_stateLabel a_extendable a_text a_lexRule a_lexLength a_failed a_trail g_states b_toks b_reach b_go b_lab b_seen b_diff b_conf t tx L MR ML MT R c TL LC PO cp clo F
  have J : i_Rel (k + 3) (nI L, nI MR, nI ML, nI MT, nI c, nI (rw_dn t (1 + 25 * R) c), nI (lf_c t 176), nI (lf_c t (1 + 25 * R)), nI R, f_rawCount, f_stateTotal, f_aliveRules, cp, nI TL, clo, nI LC, nI PO, a_tokens, a_masks, a_follow, a_ruleNull, a_ruleFirst, a_ruleLast, a_altNull, a_altFirst, a_altLast, a_catNull, a_catFirst, a_catLast, a_atomNull, a_atomFirst, a_atomLast, a_rawSet, a_rawOfSet, a_rawDelta, a_rawLabel, a_letterLeaves, a_classOf, a_nextClass, a_classRep, a_slotClass, a_slotKey, a_numberOf, a_queue, a_delta, a_stateLabel, a_extendable, a_text, a_lexRule, a_lexLength, a_failed, a_trail) (nI L, nI MR, nI ML, nI MT, nI R, nI c, cp, g_states, nI TL, clo, nI LC, b_toks, b_reach, b_go, b_lab, b_seen, b_diff, b_conf, a_text, a_lexRule, a_lexLength, 66049) := re_mk F
  obtain ⟨FZ, FT, FE, FC⟩ := F
  rcases FC with h | h
  · exact br_t h.1 (br_t h.1 ⟨rfl, J⟩)
  · obtain ⟨h1, h2, h3, h4, h5, h6, h7, h8, h9, h10⟩ := h
    have C := re_tk FZ FT h2 h3
    have n1 : ¬ cp = 0 := by rw [h1]; decide
    have hL := C.1
    have MT64 := FZ.2.2.2.2.2.2.2
    have T64 := FE.2.1.1
    refine br_f n1 (br_c (fun z => br_f n1 (br_t z ⟨rfl, J⟩)) (fun z => br_c (fun z2 => br_c (fun y => br_c (fun y2 => ?_) (fun y2 => br_f n1 (br_f z (br_t z2 (br_t y (br_f y2 ⟨rfl, J⟩)))))) (fun y => br_f n1 (br_f z (br_t z2 (br_f y ⟨rfl, J⟩))))) (fun z2 => br_f n1 (br_f z (br_f z2 ⟨rfl, J⟩)))))
    obtain ⟨a, ha, rfl⟩ := nI_of z
    have z3 := z2
    rw [nI_ltI ha (by omega)] at z3
    have y3 := y2
    rw [nI_ltI (by omega) (by omega)] at y3
    subst y
    have hi : vp_in (nI TL) 64 := vp_in_nI (by omega) (by omega)
    have ct : (nI TL).toNatClampNeg = TL := nI_clamp (by omega)
    refine And.intro hi (nm_r (e' := upd a_text TL (nI a)) (by rw [ct]) (nm_r (nI_1 TL) (br_f n1 (br_f z (br_t z2 (br_t rfl (br_t y2 (And.intro hi (nm_r (e' := upd a_text TL (nI a)) (by rw [ct]) (nm_r (nI_1 TL) ⟨rfl, ?_⟩))))))))))
    refine re_mk (tx := fun i => if i = TL then a else tx i) (TL := TL + 1) ⟨FZ, FT, ⟨by omega, ⟨by omega, fun i hi => ?_⟩, ?_, FE.2.2.2⟩, Or.inr ⟨h1, h2, h3, h4, h5, h6, h7, h8, h9, mm_feed C z3 h10⟩⟩
    · dsimp only
      by_cases e : i = TL
      · rw [if_pos e, e]; exact ⟨pk_us, z3⟩
      · rw [if_neg e, pk_un e]; exact FE.2.1.2 i (by omega)
    · obtain ⟨s1, s2, s3⟩ := FE.2.2.1
      have s2 : PO ≤ TL := s2
      exact ⟨s1, by show PO ≤ TL + 1; omega, s3⟩
theorem i_vc_closeText {k : Nat} {u : SX} {v : SY} (I : i_Rel k u v) (hk : k + 3 ≤ 1540) : wpX_closeText (fun r u' => wpY_closeText (fun r' v' => r' = r ∧ i_Rel (k + 3) u' v') v) u := by
  refine re_el (P := fun u v => wpX_closeText (fun r u' => wpY_closeText (fun r' v' => r' = r ∧ i_Rel (k + 3) u' v') v) u) ?_ I
  intro f_rawCount f_stateTotal f_aliveRules a_tokens a_masks a_follow a_ruleNull a_ruleFirst a_ruleLast a_altNull a_altFirst a_altLast a_catNull a_catFirst a_catLast a_atomNull a_atomFirst a_atomLast a_rawSet a_rawOfSet a_rawDelta a_rawLabel a_letterLeaves a_classOf a_nextClass a_classRep a_slotClass a_slotKey a_numberOf a_queue a_delta a_stateLabel a_extendable a_text a_lexRule a_lexLength a_failed a_trail g_states b_toks b_reach b_go b_lab b_seen b_diff b_conf t tx L MR ML MT R c TL LC PO cp clo F
  have J : i_Rel (k + 3) (nI L, nI MR, nI ML, nI MT, nI c, nI (rw_dn t (1 + 25 * R) c), nI (lf_c t 176), nI (lf_c t (1 + 25 * R)), nI R, f_rawCount, f_stateTotal, f_aliveRules, cp, nI TL, clo, nI LC, nI PO, a_tokens, a_masks, a_follow, a_ruleNull, a_ruleFirst, a_ruleLast, a_altNull, a_altFirst, a_altLast, a_catNull, a_catFirst, a_catLast, a_atomNull, a_atomFirst, a_atomLast, a_rawSet, a_rawOfSet, a_rawDelta, a_rawLabel, a_letterLeaves, a_classOf, a_nextClass, a_classRep, a_slotClass, a_slotKey, a_numberOf, a_queue, a_delta, a_stateLabel, a_extendable, a_text, a_lexRule, a_lexLength, a_failed, a_trail) (nI L, nI MR, nI ML, nI MT, nI R, nI c, cp, g_states, nI TL, clo, nI LC, b_toks, b_reach, b_go, b_lab, b_seen, b_diff, b_conf, a_text, a_lexRule, a_lexLength, 66049) := re_mk F
  obtain ⟨FZ, FT, FE, FC⟩ := F
  rcases FC with h | h
  · exact br_t h.1 (br_t h.1 ⟨rfl, J⟩)
  · obtain ⟨h1, h2, h3, h4, h5, h6, h7, h8, h9, h10⟩ := h
    have n1 : ¬ cp = 0 := by rw [h1]; decide
    refine br_f n1 (br_c (fun z => br_f n1 (br_t z ⟨rfl, ?_⟩)) (fun z => br_f n1 (br_f z ⟨rfl, J⟩)))
    refine re_mk (clo := 1) ⟨FZ, FT, ⟨FE.1, FE.2.1, FE.2.2.1, Or.inr rfl⟩, Or.inr ⟨h1, h2, h3, h4, h5, h6, h7, h8, h9, fun q p hq hp hb => ?_⟩⟩
    obtain ⟨m1, m2, _⟩ := h10 q p hq hp hb
    exact ⟨m1, m2, Or.inl (by decide)⟩
theorem sc_I0 (TL : Nat) (lr ll : Nat → Int32) : sc_I TL (0, 0, lr, ll) := ⟨Nat.le_refl _, Nat.zero_le _, fun _ => 1, fun i hi => by
  have hi : i < 0 := hi
  omega, rfl⟩
theorem i_vc_resetText {k : Nat} {u : SX} {v : SY} (I : i_Rel k u v) (hk : k + 3 ≤ 1540) : wpX_resetText (fun r u' => wpY_resetText (fun r' v' => r' = r ∧ i_Rel (k + 3) u' v') v) u := by
  refine re_el (P := fun u v => wpX_resetText (fun r u' => wpY_resetText (fun r' v' => r' = r ∧ i_Rel (k + 3) u' v') v) u) ?_ I
  intro f_rawCount f_stateTotal f_aliveRules a_tokens a_masks a_follow a_ruleNull a_ruleFirst a_ruleLast a_altNull a_altFirst a_altLast a_catNull a_catFirst a_catLast a_atomNull a_atomFirst a_atomLast a_rawSet a_rawOfSet a_rawDelta a_rawLabel a_letterLeaves a_classOf a_nextClass a_classRep a_slotClass a_slotKey a_numberOf a_queue a_delta a_stateLabel a_extendable a_text a_lexRule a_lexLength a_failed a_trail g_states b_toks b_reach b_go b_lab b_seen b_diff b_conf t tx L MR ML MT R c TL LC PO cp clo F
  have J : i_Rel (k + 3) (nI L, nI MR, nI ML, nI MT, nI c, nI (rw_dn t (1 + 25 * R) c), nI (lf_c t 176), nI (lf_c t (1 + 25 * R)), nI R, f_rawCount, f_stateTotal, f_aliveRules, cp, nI TL, clo, nI LC, nI PO, a_tokens, a_masks, a_follow, a_ruleNull, a_ruleFirst, a_ruleLast, a_altNull, a_altFirst, a_altLast, a_catNull, a_catFirst, a_catLast, a_atomNull, a_atomFirst, a_atomLast, a_rawSet, a_rawOfSet, a_rawDelta, a_rawLabel, a_letterLeaves, a_classOf, a_nextClass, a_classRep, a_slotClass, a_slotKey, a_numberOf, a_queue, a_delta, a_stateLabel, a_extendable, a_text, a_lexRule, a_lexLength, a_failed, a_trail) (nI L, nI MR, nI ML, nI MT, nI R, nI c, cp, g_states, nI TL, clo, nI LC, b_toks, b_reach, b_go, b_lab, b_seen, b_diff, b_conf, a_text, a_lexRule, a_lexLength, 66049) := re_mk F
  obtain ⟨FZ, FT, FE, FC⟩ := F
  rcases FC with h | h
  · exact br_t h.1 (br_t h.1 ⟨rfl, J⟩)
  · obtain ⟨h1, h2, h3, h4, h5, h6, h7, h8, h9, h10⟩ := h
    have n1 : ¬ cp = 0 := by rw [h1]; decide
    refine br_f n1 (xw_emptyText (fun fl hfl => br_f n1 ⟨rfl, ?_⟩))
    exact re_mk (tx := tx) (TL := 0) (LC := 0) (PO := 0) (clo := 0) ⟨FZ, FT, ⟨Nat.zero_le _, ⟨by omega, fun i hi => by omega⟩, sc_I0 0 _ _, Or.inl rfl⟩, Or.inr ⟨h1, h2, h3, h4, h5, h6, h7, h8, h9, mm_zero h6.2.1 hfl⟩⟩
theorem lf_c0 : ∀ n, lf_c (fun _ => 0) n = 0
  | 0 => rfl
  | n + 1 => by
    show lf_c (fun _ => 0) n + (if 1 ≤ 0 ∧ 0 < 16 then 1 else 0) = 0
    rw [lf_c0 n]; rfl
/-- no tokens at all -/
theorem re_T0 {L MR ML : Nat} {a1 a2 a3 a4 a5 a6 a7 : Nat → Int32} (h : ∀ p, a7 p = 0) : re_T (fun _ => 0) L MR ML 0 0 a1 a2 a3 a4 a5 a6 a7 := by
  have nl : ∀ p, ¬ gr_Lf (fun _ => 0) p := fun p z => by
    have z1 : 1 ≤ 0 := z.1
    omega
  refine ⟨h, fun p => by show 0 < 23; omega, rfl, Nat.zero_le _, fun w => by omega, fun r w => by omega, ⟨by omega, by omega, rfl, fun _ _ _ => rfl, fun i w => by omega⟩, fun _ _ => rfl, fun i w => by omega, by rw [lf_c0]; exact Nat.zero_le _, fun p w => absurd w (nl p), fun p w => absurd w (nl p), fun p w => absurd w (nl p), fun p w => absurd w (nl p), fun r w => by omega⟩
theorem i_vc_clear {k : Nat} {u : SX} {v : SY} (I : i_Rel k u v) (hk : k + 3 ≤ 1540) : wpX_clear (fun u' => wpY_clear (fun v' => i_Rel (k + 3) u' v') v) u := by
  refine re_el (P := fun u v => wpX_clear (fun u' => wpY_clear (fun v' => i_Rel (k + 3) u' v') v) u) ?_ I
  intro f_rawCount f_stateTotal f_aliveRules a_tokens a_masks a_follow a_ruleNull a_ruleFirst a_ruleLast a_altNull a_altFirst a_altLast a_catNull a_catFirst a_catLast a_atomNull a_atomFirst a_atomLast a_rawSet a_rawOfSet a_rawDelta a_rawLabel a_letterLeaves a_classOf a_nextClass a_classRep a_slotClass a_slotKey a_numberOf a_queue a_delta a_stateLabel a_extendable a_text a_lexRule a_lexLength a_failed a_trail g_states b_toks b_reach b_go b_lab b_seen b_diff b_conf t tx L MR ML MT R c TL LC PO cp clo F
  obtain ⟨FZ, FT, FE, FC⟩ := F
  have lt := re_lt FZ FT
  refine xw_emptyText (f_textLength := nI TL) (f_closed := clo) (f_lexCount := nI LC) (f_position := nI PO) (fun fl hfl => ?_)
  have key : ∀ (m p : Nat) (tk : Nat → Int32), p + m = 176 → (∀ q, q < p → tk q = 0) → (∀ q, 176 ≤ q → tk q = 0) → wY_clear_2 (fun v' => i_Rel (k + 3) (nI L, nI MR, nI ML, nI MT, 0, 0, 0, 0, 0, f_rawCount, 0, 0, 0, 0, 0, 0, 0, a_tokens, a_masks, a_follow, a_ruleNull, a_ruleFirst, a_ruleLast, a_altNull, a_altFirst, a_altLast, a_catNull, a_catFirst, a_catLast, a_atomNull, a_atomFirst, a_atomLast, a_rawSet, a_rawOfSet, a_rawDelta, a_rawLabel, a_letterLeaves, a_classOf, a_nextClass, a_classRep, a_slotClass, a_slotKey, a_numberOf, a_queue, a_delta, a_stateLabel, a_extendable, a_text, a_lexRule, a_lexLength, fl, a_trail) v') (nI L) (nI MR) (nI ML) (nI MT) (nI R) (nI c) cp g_states (nI TL) clo (nI LC) 66049 (m + 1) (nI p) tk b_reach b_go b_lab b_seen b_diff b_conf a_text a_lexRule a_lexLength := by
    intro m
    induction m with
    | zero =>
      intro p tk hm h1 h2
      have J : i_Rel (k + 3) (nI L, nI MR, nI ML, nI MT, nI 0, nI (rw_dn (fun _ => 0) (1 + 25 * 0) 0), nI (lf_c (fun _ => 0) 176), nI (lf_c (fun _ => 0) (1 + 25 * 0)), nI 0, f_rawCount, 0, 0, 0, nI 0, 0, nI 0, nI 0, a_tokens, a_masks, a_follow, a_ruleNull, a_ruleFirst, a_ruleLast, a_altNull, a_altFirst, a_altLast, a_catNull, a_catFirst, a_catLast, a_atomNull, a_atomFirst, a_atomLast, a_rawSet, a_rawOfSet, a_rawDelta, a_rawLabel, a_letterLeaves, a_classOf, a_nextClass, a_classRep, a_slotClass, a_slotKey, a_numberOf, a_queue, a_delta, a_stateLabel, a_extendable, a_text, a_lexRule, a_lexLength, fl, a_trail) (nI L, nI MR, nI ML, nI MT, nI 0, nI 0, 0, 0, nI 0, 0, nI 0, tk, b_reach, b_go, b_lab, b_seen, b_diff, b_conf, a_text, a_lexRule, a_lexLength, 66049) := re_mk (t := fun _ => 0) (tx := tx) (TL := 0) (LC := 0) (PO := 0) (R := 0) (c := 0) (clo := 0) (cp := 0) ⟨FZ, re_T0 (fun q => by
        rcases Nat.lt_or_ge q 176 with z | z
        · exact h1 q (by omega)
        · exact h2 q z), ⟨Nat.zero_le _, ⟨by omega, fun i hi => by omega⟩, sc_I0 0 _ _, Or.inl rfl⟩, Or.inl ⟨rfl, rfl, rfl, rfl, rfl⟩⟩
      rw [lf_c0, lf_c0] at J
      exact br_t (nI_le (a := 176) (by omega) (by omega)) J
    | succ m ih =>
      intro p tk hm h1 h2
      refine br_f (nI_ge (b := 176) (by omega) (by omega)) (And.intro (vp_in_nI (by omega) (by omega)) (nm_r (e' := upd tk p 0) (by rw [nI_clamp (by omega)]) (nm_r (nI_1 p) (ih (p + 1) _ (by omega) (fun q hq => ?_) (fun q hq => ?_)))))
      · by_cases e : q = p
        · subst e; exact pk_us
        · rw [pk_un e]; exact h1 q (by omega)
      · rw [pk_un (by omega)]; exact h2 q hq
  refine ⟨177, key 176 0 b_toks rfl (fun q hq => by omega) (fun q hq => ?_)⟩
  rw [FT.1 q]
  have c24 := FT.2.2.2.2.2.2.1.2.1
  have : 1 + 25 * R + c ≤ 176 := by
    by_cases e : R = 6
    · have : ¬ 0 < c := fun w => by
        have := FT.2.2.2.2.1 w
        have := FZ.2.2.2.1
        omega
      omega
    · have := lt.2.1; omega
  rw [FT.2.2.2.2.2.2.2.1 q (by omega)]; rfl
theorem i_vc_compile {k : Nat} {u : SX} {v : SY} (I : i_Rel k u v) (hk : k + 3 ≤ 1540) : wpX_compile (fun r u' => wpY_compile (fun r' v' => r' = r ∧ i_Rel (k + 3) u' v') v) u := by
  refine re_el (P := fun u v => wpX_compile (fun r u' => wpY_compile (fun r' v' => r' = r ∧ i_Rel (k + 3) u' v') v) u) ?_ I
  intro f_rawCount f_stateTotal f_aliveRules a_tokens a_masks a_follow a_ruleNull a_ruleFirst a_ruleLast a_altNull a_altFirst a_altLast a_catNull a_catFirst a_catLast a_atomNull a_atomFirst a_atomLast a_rawSet a_rawOfSet a_rawDelta a_rawLabel a_letterLeaves a_classOf a_nextClass a_classRep a_slotClass a_slotKey a_numberOf a_queue a_delta a_stateLabel a_extendable a_text a_lexRule a_lexLength a_failed a_trail g_states b_toks b_reach b_go b_lab b_seen b_diff b_conf t tx L MR ML MT R c TL LC PO cp clo F
  have J : i_Rel (k + 3) (nI L, nI MR, nI ML, nI MT, nI c, nI (rw_dn t (1 + 25 * R) c), nI (lf_c t 176), nI (lf_c t (1 + 25 * R)), nI R, f_rawCount, f_stateTotal, f_aliveRules, cp, nI TL, clo, nI LC, nI PO, a_tokens, a_masks, a_follow, a_ruleNull, a_ruleFirst, a_ruleLast, a_altNull, a_altFirst, a_altLast, a_catNull, a_catFirst, a_catLast, a_atomNull, a_atomFirst, a_atomLast, a_rawSet, a_rawOfSet, a_rawDelta, a_rawLabel, a_letterLeaves, a_classOf, a_nextClass, a_classRep, a_slotClass, a_slotKey, a_numberOf, a_queue, a_delta, a_stateLabel, a_extendable, a_text, a_lexRule, a_lexLength, a_failed, a_trail) (nI L, nI MR, nI ML, nI MT, nI R, nI c, cp, g_states, nI TL, clo, nI LC, b_toks, b_reach, b_go, b_lab, b_seen, b_diff, b_conf, a_text, a_lexRule, a_lexLength, 66049) := re_mk F
  obtain ⟨FZ, FT, FE, FC⟩ := F
  have lt := re_lt FZ FT
  rcases FC with h | h
  · have c24 := FT.2.2.2.2.2.2.1.2.1
    rcases Nat.eq_zero_or_pos c with e | e
    · rcases Nat.eq_zero_or_pos R with e2 | e2
      · subst e e2
        exact br_t h.1 (br_t (by decide) (br_t rfl (br_t h.1 (br_t (by decide) (br_t rfl ⟨rfl, J⟩)))))
      · have C := re_tk FZ FT e e2
        subst e
        obtain ⟨h1, h2, h3, h4, h5⟩ := h
        subst h1
        refine xw_compile C lt.2.2.2.2.1 rfl FT.2.2.2.2.2.2.2.2.2.2.2.2 (fun N rset rof rdel rlab ll co nxt crep sc sk num que del slab ext al fl Ax h6 h7 h8 => ?_)
        refine yw_compile C.1 rfl FT.1 lt.1 FT.2.2.1 lt.2.1 e2 lt.2.2.2.2.2 FT.2.2.2.2.2.1 (fun p hp => FT.2.2.2.2.2.2.2.1 p (by omega)) (fun rch bgo blab s d cf Ay => ⟨rfl, ?_⟩)
        exact re_mk (tx := tx) (TL := 0) (LC := 0) (PO := 0) (clo := 0) (cp := 1) (c := 0) ⟨FZ, FT, ⟨Nat.zero_le _, ⟨by omega, fun i hi => by omega⟩, sc_I0 0 _ _, Or.inl rfl⟩, Or.inr ⟨rfl, rfl, e2, rfl, rfl, Ax, Ay, h6, h7, mm_zero Ax.2.1 h8⟩⟩
    · have n : ¬ nI c ≤ 0 := nI_nle e (by omega)
      exact br_t h.1 (br_f n (br_t h.1 (br_f n ⟨rfl, J⟩)))
  · have n1 : ¬ cp = 0 := by rw [h.1]; decide
    exact br_f n1 (br_f n1 ⟨rfl, J⟩)
/-- a value held within bounds, as both constructors do it -/
theorem re_cl (p : Int32) (lo hi : Nat) (h : lo ≤ hi) (hh : hi < 1000) : ∃ j, lo ≤ j ∧ j ≤ hi ∧ ∀ A : Int32 → Prop, A (nI j) → ((nI lo ≤ p → ((p ≤ nI hi → A p) ∧ (¬ p ≤ nI hi → A (nI hi)))) ∧ (¬ nI lo ≤ p → A (nI lo))) := by
  by_cases h1 : nI lo ≤ p
  · by_cases h2 : p ≤ nI hi
    · have h0 : ¬ p < 0 := Int32.not_lt.mpr (Int32.le_trans (nI_pos' (by omega)) h1)
      obtain ⟨j, hj, rfl⟩ := nI_of h0
      have g1 := h1
      have g2 := h2
      rw [nI_leI (by omega) hj] at g1
      rw [nI_leI hj (by omega)] at g2
      exact ⟨j, g1, g2, fun A a => br_t h1 (br_t h2 a)⟩
    · exact ⟨hi, h, Nat.le_refl _, fun A a => br_t h1 (br_f h2 a)⟩
  · exact ⟨lo, Nat.le_refl _, h, fun A a => br_f h1 a⟩
theorem re_clX {p : Int32} {lo hi j : Nat} (h : ∀ A : Int32 → Prop, A (nI j) → ((nI lo ≤ p → ((p ≤ nI hi → A p) ∧ (¬ p ≤ nI hi → A (nI hi)))) ∧ (¬ nI lo ≤ p → A (nI lo)))) {post : Int32 → Prop} {u : SX} (a : post (nI j)) : wpX_clamp post u p (nI lo) (nI hi) := h post a
theorem re_Y0 {P : SY → Prop} {k0 k1 k2 k3 : Int32} {L MR ML MT : Nat} (hL : ∀ A : Int32 → Prop, A (nI L) → ((nI 2 ≤ k0 → ((k0 ≤ nI 4 → A k0) ∧ (¬ k0 ≤ nI 4 → A (nI 4)))) ∧ (¬ nI 2 ≤ k0 → A (nI 2)))) (hM : ∀ A : Int32 → Prop, A (nI MR) → ((nI 1 ≤ k1 → ((k1 ≤ nI 6 → A k1) ∧ (¬ k1 ≤ nI 6 → A (nI 6)))) ∧ (¬ nI 1 ≤ k1 → A (nI 1)))) (hN : ∀ A : Int32 → Prop, A (nI ML) → ((nI 2 ≤ k2 → ((k2 ≤ nI 8 → A k2) ∧ (¬ k2 ≤ nI 8 → A (nI 8)))) ∧ (¬ nI 2 ≤ k2 → A (nI 2)))) (hT : ∀ A : Int32 → Prop, A (nI MT) → ((nI 8 ≤ k3 → ((k3 ≤ nI 64 → A k3) ∧ (¬ k3 ≤ nI 64 → A (nI 64)))) ∧ (¬ nI 8 ≤ k3 → A (nI 8))))
    (h : P (nI L, nI MR, nI ML, nI MT, 0, 0, 0, 0, 0, 0, 0, (fun _ => 0), (fun _ => 0), (fun _ => 0), (fun _ => 0), (fun _ => 0), (fun _ => 0), (fun _ => 0), (fun _ => 0), (fun _ => 0), (fun _ => 0), 66049)) : wpY_init P k0 k1 k2 k3 := by
  refine And.intro (by decide) (nm_r (e' := 66049) (by decide) (And.intro (Nat.le_refl _) ?_))
  have s3 : wY_init_160 P k3 (nI ML) (nI L) (nI MR) 0 0 0 0 0 0 0 0 0 (fun _ => 0) (fun _ => 0) (fun _ => 0) (fun _ => 0) (fun _ => 0) (fun _ => 0) (fun _ => 0) (fun _ => 0) (fun _ => 0) (fun _ => 0) 66049 := hT (fun z => P (nI L, nI MR, nI ML, z, 0, 0, 0, 0, 0, 0, 0, (fun _ => 0), (fun _ => 0), (fun _ => 0), (fun _ => 0), (fun _ => 0), (fun _ => 0), (fun _ => 0), (fun _ => 0), (fun _ => 0), (fun _ => 0), 66049)) h
  have s2 : wY_init_135 P k2 k3 (nI MR) (nI L) 0 0 0 0 0 0 0 0 0 0 (fun _ => 0) (fun _ => 0) (fun _ => 0) (fun _ => 0) (fun _ => 0) (fun _ => 0) (fun _ => 0) (fun _ => 0) (fun _ => 0) (fun _ => 0) 66049 := hN (fun z => wY_init_160 P k3 z (nI L) (nI MR) 0 0 0 0 0 0 0 0 0 (fun _ => 0) (fun _ => 0) (fun _ => 0) (fun _ => 0) (fun _ => 0) (fun _ => 0) (fun _ => 0) (fun _ => 0) (fun _ => 0) (fun _ => 0) 66049) s3
  have s1 : wY_init_110 P k1 k2 k3 (nI L) 0 0 0 0 0 0 0 0 0 0 0 (fun _ => 0) (fun _ => 0) (fun _ => 0) (fun _ => 0) (fun _ => 0) (fun _ => 0) (fun _ => 0) (fun _ => 0) (fun _ => 0) (fun _ => 0) 66049 := hM (fun z => wY_init_135 P k2 k3 z (nI L) 0 0 0 0 0 0 0 0 0 0 (fun _ => 0) (fun _ => 0) (fun _ => 0) (fun _ => 0) (fun _ => 0) (fun _ => 0) (fun _ => 0) (fun _ => 0) (fun _ => 0) (fun _ => 0) 66049) s2
  exact hL (fun z => wY_init_110 P k1 k2 k3 z 0 0 0 0 0 0 0 0 0 0 0 (fun _ => 0) (fun _ => 0) (fun _ => 0) (fun _ => 0) (fun _ => 0) (fun _ => 0) (fun _ => 0) (fun _ => 0) (fun _ => 0) (fun _ => 0) 66049) s1
theorem i_vc0 (k0 : Int32) (k1 : Int32) (k2 : Int32) (k3 : Int32) : wpX_init (fun u => wpY_init (fun v => i_Rel 4 u v) k0 k1 k2 k3) k0 k1 k2 k3 := by
  obtain ⟨L, l1, l2, hL⟩ := re_cl k0 2 4 (by omega) (by omega)
  obtain ⟨MR, m1, m2, hM⟩ := re_cl k1 1 6 (by omega) (by omega)
  obtain ⟨ML, n1, n2, hN⟩ := re_cl k2 2 8 (by omega) (by omega)
  obtain ⟨MT, t1, t2, hT⟩ := re_cl k3 8 64 (by omega) (by omega)
  have J := re_mk (k := 4) (t := fun _ => 0) (tx := fun _ => 0) (L := L) (MR := MR) (ML := ML) (MT := MT) (R := 0) (c := 0) (TL := 0) (LC := 0) (PO := 0) (cp := 0) (clo := 0) (f_rawCount := 0) (f_stateTotal := 0) (f_aliveRules := 0) (g_states := 0)
    (a_tokens := fun _ => 0) (a_masks := fun _ => 0) (a_follow := fun _ => 0) (a_ruleNull := fun _ => 0) (a_ruleFirst := fun _ => 0) (a_ruleLast := fun _ => 0) (a_altNull := fun _ => 0) (a_altFirst := fun _ => 0) (a_altLast := fun _ => 0) (a_catNull := fun _ => 0) (a_catFirst := fun _ => 0) (a_catLast := fun _ => 0) (a_atomNull := fun _ => 0) (a_atomFirst := fun _ => 0) (a_atomLast := fun _ => 0) (a_rawSet := fun _ => 0) (a_rawOfSet := fun _ => 0) (a_rawDelta := fun _ => 0) (a_rawLabel := fun _ => 0) (a_letterLeaves := fun _ => 0) (a_classOf := fun _ => 0) (a_nextClass := fun _ => 0) (a_classRep := fun _ => 0) (a_slotClass := fun _ => 0) (a_slotKey := fun _ => 0) (a_numberOf := fun _ => 0) (a_queue := fun _ => 0) (a_delta := fun _ => 0) (a_stateLabel := fun _ => 0) (a_extendable := fun _ => 0) (a_text := fun _ => 0) (a_lexRule := fun _ => 0) (a_lexLength := fun _ => 0) (a_failed := fun _ => 0) (a_trail := fun _ => 0)
    (b_toks := fun _ => 0) (b_reach := fun _ => 0) (b_go := fun _ => 0) (b_lab := fun _ => 0) (b_seen := fun _ => 0) (b_diff := fun _ => 0) (b_conf := fun _ => 0)
    ⟨⟨l1, l2, m1, m2, n1, n2, t1, t2⟩, re_T0 (fun _ => rfl), ⟨Nat.zero_le _, ⟨by omega, fun i hi => by omega⟩, sc_I0 0 _ _, Or.inl rfl⟩, Or.inl ⟨rfl, rfl, rfl, rfl, rfl⟩⟩
  rw [lf_c0, lf_c0] at J
  unfold wpX_init
  refine re_clX hL ?_
  refine re_clX hM ?_
  refine re_clX hN ?_
  refine re_clX hT ?_
  exact re_Y0 hL hM hN hT J
end
section
/-! put: the new token -/
section
variable {t t' : Nat → Nat} {R : Nat}
theorem sp_agN (h : ∀ p, p < 1 + 25 * R → t' p = t p) {r m : Nat} (hr : r < R) (F : rw_F t (1 + 25 * r) m) : (sp_N t r ↔ sp_N t' r) ∧ (∀ k, sp_F t r k ↔ sp_F t' r k) ∧ (∀ k, sp_L t r k ↔ sp_L t' r k) ∧ ∀ p, 1 + 25 * r ≤ p → p < 1 + 25 * r + m → ∀ k, sp_O t p k ↔ sp_O t' p k := by
  have ag : ∀ p, p < 1 + 25 * r + 25 → t' p = t p := fun p hp => h p (by omega)
  have F' := rw_Fag ag F
  have m24 := F.1.2.1
  refine ⟨?_, fun k => ?_, fun k => ?_, fun p p1 p2 k => ?_⟩
  · rw [sp_Ni F, sp_Ni F']; exact rs_Nag ag (by omega) m24
  · rw [sp_Fi F, sp_Fi F']; exact rs_Fag ag (by omega) m24 k
  · rw [sp_Li F, sp_Li F']; exact rs_Lag ag (by omega) m24 k
  · rw [sp_Oi F p1 p2, sp_Oi F' p1 p2]; exact rs_Oag ag (by omega) m24 p k
theorem xr_ag {masks follow masks' follow' rN rF rL : Nat → Int32} (h0 : t 0 = 0) (h : ∀ p, p < 1 + 25 * R → t' p = t p) (hF : ∀ r, r < R → ∃ m, rw_F t (1 + 25 * r) m) (A : xr_A t R masks follow rN rF rL) (hm : ∀ p, gr_Lf t' p → masks' (lf_c t' p) = nI (t' p)) (hf : ∀ p, gr_Lf t p → p < 1 + 25 * R → follow' (lf_c t p) = follow (lf_c t p)) : xr_A t' R masks' follow' rN rF rL := by
  refine ⟨hm, fun p hp hpR => ?_, fun r hr => ?_⟩
  · have lp : gr_Lf t p := by
      have hp := hp
      unfold gr_Lf at hp ⊢
      rw [h p hpR] at hp; exact hp
    have ec : lf_c t' p = lf_c t p := lf_agree h p (by omega)
    obtain ⟨l1, l2, l3⟩ := rw_loc hF h0 lp hpR
    obtain ⟨m, F⟩ := hF _ l1
    rw [ec, hf p lp hpR]
    exact gr_gs_c (A.2.1 p lp hpR) (fun k => (sp_agN h l1 F).2.2.2 p l2 (l3 m F) k)
  · obtain ⟨m, F⟩ := hF r hr
    have q := A.2.2 r hr
    have g := sp_agN h hr F
    exact ⟨gr_b01_c q.1 g.1, gr_gs_c q.2.1 g.2.1, gr_gs_c q.2.2 g.2.2.1⟩
end
/-- the unfinished rule lacks an operand -/
def pu_L (t : Nat → Nat) (R c : Nat) : Prop := c = 0 ∨ t (25 * R + c) = 16 ∨ t (25 * R + c) = 18
def pu_4 (t : Nat → Nat) (R c v : Nat) : Prop := (17 ≤ v ∧ v ≤ 21 ∧ pu_L t R c) ∨ (v = 17 ∧ rw_dn t (1 + 25 * R) c = 0)
def pu_5 (t : Nat → Nat) (MR ML R c v : Nat) (lf : Int32) : Prop := MR ≤ R ∨ 24 ≤ c ∨ (v = 16 ∧ 6 ≤ rw_dn t (1 + 25 * R) c) ∨ (¬ lf = 0 ∧ ML ≤ lf_c t 176)
theorem re_put {t : Nat → Nat} {L MR ML MT R c v : Nat} {lf : Int32} {toks masks follow rN rF rL btoks masks' follow' : Nat → Int32} (Z : re_Z L MR ML MT) (T : re_T t L MR ML R c toks masks follow rN rF rL btoks) (n4 : ¬ pu_4 t R c v) (n5 : ¬ pu_5 t MR ML R c v lf)
    (hv : (¬ lf = 0 ∧ 1 ≤ v ∧ v < 2 ^ L ∧ masks' = upd masks (lf_c t 176) (nI v) ∧ follow' = upd follow (lf_c t 176) 0) ∨ (lf = 0 ∧ 16 ≤ v ∧ v ≤ 22 ∧ masks' = masks ∧ follow' = follow)) :
    re_T (fun p => if p = 1 + 25 * R + c then v else t p) L MR ML R (c + 1) (upd toks c (nI v)) masks' follow' rN rF rL (upd btoks (1 + 25 * R + c) (nI v)) ∧
    rw_dn (fun p => if p = 1 + 25 * R + c then v else t p) (1 + 25 * R) (c + 1) = (if v = 16 then rw_dn t (1 + 25 * R) c + 1 else if v = 17 then rw_dn t (1 + 25 * R) c - 1 else rw_dn t (1 + 25 * R) c) ∧
    lf_c (fun p => if p = 1 + 25 * R + c then v else t p) (1 + 25 * R) = lf_c t (1 + 25 * R) ∧
    (¬ lf = 0 → lf_c (fun p => if p = 1 + 25 * R + c then v else t p) 176 = lf_c t 176 + 1) ∧ (lf = 0 → lf_c (fun p => if p = 1 + 25 * R + c then v else t p) 176 = lf_c t 176) := by
  have lt := re_lt Z T
  obtain ⟨z1, z2, z3, z4, z5, z6, z7, z8⟩ := Z
  obtain ⟨h1, h2, h3, h4, h5, h6, h7, h8, h9, h10, h11, h12, h13⟩ := T
  have c24 : c < 24 := by
    rcases Nat.lt_or_ge c 24 with w | w
    · exact w
    · exact absurd (Or.inr (Or.inl w)) n5
  have RM : R < MR := by
    rcases Nat.lt_or_ge R MR with w | w
    · exact w
    · exact absurd (Or.inl w) n5
  have p2 : 2 ^ L ≤ 16 := by
    have : ∀ L, L < 5 → 2 ^ L ≤ 16 := by decide
    exact this L (by omega)
  have v22 : 1 ≤ v ∧ v ≤ 22 := by rcases hv with w | w <;> omega
  obtain ⟨P, hP⟩ : ∃ P, P = 1 + 25 * R + c := ⟨_, rfl⟩
  rw [← hP]
  have P176 : P < 176 := by omega
  obtain ⟨t', ht'⟩ : ∃ t' : Nat → Nat, t' = fun p => if p = P then v else t p := ⟨_, rfl⟩
  rw [← ht']
  have tP : t' P = v := by rw [ht']; exact if_pos rfl
  have tO : ∀ p, p ≠ P → t' p = t p := fun p hp => by rw [ht']; exact if_neg hp
  have ag : ∀ p, p < P → t' p = t p := fun p hp => tO p (by omega)
  have lag := lf_agree (t := t) (t' := t') (N := P) ag
  have z0 : ∀ p, P ≤ p → t p = 0 := fun p hp => h8 p (by omega)
  have z0' : ∀ p, P + 1 ≤ p → t' p = 0 := fun p hp => by rw [tO p (by omega)]; exact z0 p (by omega)
  have e176 : lf_c t 176 = lf_c t P := lf_zero z0 176 (by omega)
  have e176' : lf_c t' 176 = lf_c t' (P + 1) := lf_zero z0' 176 (by omega)
  have dn : ∀ i, i ≤ c → rw_dn t' (1 + 25 * R) i = rw_dn t (1 + 25 * R) i := rw_dn_agree (fun i hi => ag _ (by omega))
  have dnc : rw_dn t' (1 + 25 * R) (c + 1) = (if v = 16 then rw_dn t (1 + 25 * R) c + 1 else if v = 17 then rw_dn t (1 + 25 * R) c - 1 else rw_dn t (1 + 25 * R) c) := by
    show (if t' (1 + 25 * R + c) = 16 then rw_dn t' (1 + 25 * R) c + 1 else if t' (1 + 25 * R + c) = 17 then rw_dn t' (1 + 25 * R) c - 1 else rw_dn t' (1 + 25 * R) c) = _
    rw [← hP, tP, dn c (Nat.le_refl _)]
  have lfP : gr_Lf t' P ↔ ¬ lf = 0 := by
    unfold gr_Lf
    rw [tP]
    rcases hv with w | w
    · exact ⟨fun _ => w.1, fun _ => by omega⟩
    · exact ⟨fun q => by omega, fun q => absurd w.1 q⟩
  have lfO : ∀ p, p ≠ P → (gr_Lf t' p ↔ gr_Lf t p) := fun p hp => by unfold gr_Lf; rw [tO p hp]
  have l1 : ¬ lf = 0 → lf_c t' 176 = lf_c t 176 + 1 := fun w => by rw [e176', e176, lf_s (lfP.mpr w), lag P (Nat.le_refl _)]
  have l0 : lf = 0 → lf_c t' 176 = lf_c t 176 := fun w => by rw [e176', e176, lf_n (fun q => lfP.mp q w), lag P (Nat.le_refl _)]
  have below : ∀ p, gr_Lf t' p → p ≠ P → p < P ∧ gr_Lf t p ∧ lf_c t' p = lf_c t p := by
    intro p hp ne
    have hp' := (lfO p ne).mp hp
    have lp : p < P := by
      rcases Nat.lt_or_ge p P with w | w
      · exact w
      · have := hp'.1; rw [z0 p w] at this; omega
    exact ⟨lp, hp', lag p (by omega)⟩
  have c7 := h7.2.2.2.2
  refine ⟨⟨fun p => ?_, fun p => ?_, ?_, h4, fun _ => RM, fun r hr => ?_, ⟨by omega, by omega, ?_, fun p a b => z0' p (by omega), fun i hi => ?_⟩, fun p hp => z0' p (by omega), fun i hi => ?_, ?_, fun p hp => ?_, fun p hp hpR => ?_, ?_⟩, dnc, lag _ (by omega), l1, l0⟩
  · by_cases e : p = P
    · rw [e, pk_us, tP]
    · rw [pk_un e, tO p e]; exact h1 p
  · by_cases e : p = P
    · rw [e, tP]; omega
    · rw [tO p e]; exact h2 p
  · rw [tO 0 (by omega)]; exact h3
  · obtain ⟨m, F⟩ := h6 r hr
    exact ⟨m, rw_Fag (fun p hp => ag p (by omega)) F⟩
  · rw [ag _ (by omega)]; exact h7.2.2.1
  · rw [dn i (by omega)]
    by_cases e : i = c
    · subst e
      rw [← hP, tP]
      have tq : t' (P - 1) = t (25 * R + i) := by
        rw [show P - 1 = 25 * R + i by omega]
        exact ag _ (by omega)
      rw [tq]
      refine ⟨v22.1, v22.2, fun w => ?_, fun w => ?_, fun w1 w2 => ?_⟩
      · rcases Nat.eq_zero_or_pos (rw_dn t (1 + 25 * R) i) with q | q
        · exact absurd (Or.inr ⟨w, q⟩) n4
        · exact q
      · rcases Nat.lt_or_ge (rw_dn t (1 + 25 * R) i) 6 with q | q
        · exact q
        · exact absurd (Or.inr (Or.inr (Or.inl ⟨w, q⟩))) n5
      · have nl : ¬ pu_L t R i := fun q => n4 (Or.inl ⟨w1, w2, q⟩)
        refine ⟨?_, fun q => nl (Or.inr (Or.inl q)), fun q => nl (Or.inr (Or.inr q))⟩
        rcases Nat.eq_zero_or_pos i with q | q
        · exact absurd (Or.inl q) nl
        · exact q
    · rw [ag (1 + 25 * R + i) (by omega), ag (1 + 25 * R + i - 1) (by omega)]
      exact c7 i (by omega)
  · by_cases e : i = c
    · subst e; rw [pk_us, ← hP, tP]
    · rw [pk_un e, ag _ (by omega)]; exact h9 i (by omega)
  · by_cases w : lf = 0
    · rw [l0 w]; exact h10
    · rw [l1 w]
      rcases Nat.lt_or_ge (lf_c t 176) ML with q | q
      · exact q
      · exact absurd (Or.inr (Or.inr (Or.inr ⟨w, q⟩))) n5
  · by_cases e : p = P
    · rw [e] at hp ⊢
      rw [tP]
      have w := lfP.mp hp
      rcases hv with q | q
      · exact q.2.2.1
      · exact absurd q.1 w
    · rw [tO p e]; exact h11 p ((lfO p e).mp hp)
  · by_cases e : p = P
    · rw [e] at hp ⊢
      have w := lfP.mp hp
      rw [lag P (Nat.le_refl _), ← e176]
      rcases hv with q | q
      · rw [q.2.2.2.2]; exact pk_us
      · exact absurd q.1 w
    · obtain ⟨b1, b2, b3⟩ := below p hp e
      rw [b3]
      have fo := h12 p b2 hpR
      rcases hv with q | q
      · rw [q.2.2.2.2, pk_un (by have := lt.2.2.2.1 p b2; omega)]; exact fo
      · rw [q.2.2.2.2]; exact fo
  · refine xr_ag h3 (fun p hp => ag p (by omega)) h6 h13 (fun p hp => ?_) (fun p hp hpR => ?_)
    · by_cases e : p = P
      · rw [e] at hp ⊢
        have w := lfP.mp hp
        rw [lag P (Nat.le_refl _), ← e176, tP]
        rcases hv with q | q
        · rw [q.2.2.2.1]; exact pk_us
        · exact absurd q.1 w
      · obtain ⟨b1, b2, b3⟩ := below p hp e
        rw [b3, tO p e]
        have mk := h13.1 p b2
        rcases hv with q | q
        · rw [q.2.2.2.1, pk_un (by have := lt.2.2.2.1 p b2; omega)]; exact mk
        · rw [q.2.2.2.1]; exact mk
    · rcases hv with q | q
      · rw [q.2.2.2.2, pk_un (by have := lt.2.2.2.1 p hp; omega)]
      · rw [q.2.2.2.2]
end
section
/-! put: both walks -/
section
variable {f_letters f_maxRules f_maxLeaves f_maxText f_tokenCount f_depth f_leafCount f_finishedLeaves f_ruleCount f_rawCount f_stateTotal f_aliveRules f_compiled f_textLength f_closed f_lexCount f_position : Int32} {a_tokens a_masks a_follow a_ruleNull a_ruleFirst a_ruleLast a_altNull a_altFirst a_altLast a_catNull a_catFirst a_catLast a_atomNull a_atomFirst a_atomLast a_rawSet a_rawOfSet a_rawDelta a_rawLabel a_letterLeaves a_classOf a_nextClass a_classRep a_slotClass a_numberOf a_queue a_delta a_stateLabel a_extendable a_text a_lexRule a_lexLength a_trail : Nat → Int32} {a_slotKey a_failed : Nat → Int64} {t : Nat → Nat} {MR ML R c v : Nat} {lf : Int32}
theorem xw_ends {post : Int32 → Prop} (hc : c ≤ 24) (ht : ∀ p, t p < 100) (htk : ∀ i, i < c → a_tokens i = nI (t (1 + 25 * R + i))) (h1 : ¬ pu_L t R c → post 1) (h0 : pu_L t R c → post 0) : wpX_endsWithOperand post (f_letters, f_maxRules, f_maxLeaves, f_maxText, nI c, f_depth, f_leafCount, f_finishedLeaves, f_ruleCount, f_rawCount, f_stateTotal, f_aliveRules, f_compiled, f_textLength, f_closed, f_lexCount, f_position, a_tokens, a_masks, a_follow, a_ruleNull, a_ruleFirst, a_ruleLast, a_altNull, a_altFirst, a_altLast, a_catNull, a_catFirst, a_catLast, a_atomNull, a_atomFirst, a_atomLast, a_rawSet, a_rawOfSet, a_rawDelta, a_rawLabel, a_letterLeaves, a_classOf, a_nextClass, a_classRep, a_slotClass, a_slotKey, a_numberOf, a_queue, a_delta, a_stateLabel, a_extendable, a_text, a_lexRule, a_lexLength, a_failed, a_trail) := by
  refine br_c (fun z => ?_) (fun z => h0 (Or.inl ?_))
  · have c0 : 0 < c := by
      rcases Nat.eq_zero_or_pos c with e | e
      · subst e; exact absurd z (by decide)
      · exact e
    have tp := ht (25 * R + c)
    have e1 : a_tokens (nI c - 1).toNatClampNeg = nI (t (25 * R + c)) := by
      rw [yl_s1 c c0, nI_clamp (by omega), htk (c - 1) (by omega)]
      exact congrArg (fun x => nI (t x)) (by omega)
    refine And.intro (by rw [yl_s1 c c0]; exact vp_in_nI (by omega) (by omega)) (nm_r e1 (pk_eq (t (25 * R + c)) 16 (fun e => h0 (Or.inr (Or.inl e))) (fun e => pk_eq (t (25 * R + c)) 18 (fun e2 => h0 (Or.inr (Or.inr e2))) (fun e2 => h1 ?_))))
    rintro (w | w | w)
    · omega
    · exact e w
    · exact e2 w
  · rcases Nat.eq_zero_or_pos c with e | e
    · exact e
    · exact absurd (nI_lt (a := 0) e (by omega)) z
theorem xw_put50 {post : Int32 → SX → Prop} (hlf : lf = 0 ∨ lf = 1) (hMR : MR ≤ 6) (hML : ML ≤ 8) (hR : R ≤ 6) (hc : c ≤ 24) (hd : rw_dn t (1 + 25 * R) c ≤ 6) (hn : lf_c t 176 ≤ 8) (hv : v ≤ 22) (ht : ∀ p, t p < 100) (htk : ∀ i, i < c → a_tokens i = nI (t (1 + 25 * R + i)))
    (K4 : pu_4 t R c v → post (-4) (f_letters, nI MR, nI ML, f_maxText, nI c, nI (rw_dn t (1 + 25 * R) c), nI (lf_c t 176), f_finishedLeaves, nI R, f_rawCount, f_stateTotal, f_aliveRules, f_compiled, f_textLength, f_closed, f_lexCount, f_position, a_tokens, a_masks, a_follow, a_ruleNull, a_ruleFirst, a_ruleLast, a_altNull, a_altFirst, a_altLast, a_catNull, a_catFirst, a_catLast, a_atomNull, a_atomFirst, a_atomLast, a_rawSet, a_rawOfSet, a_rawDelta, a_rawLabel, a_letterLeaves, a_classOf, a_nextClass, a_classRep, a_slotClass, a_slotKey, a_numberOf, a_queue, a_delta, a_stateLabel, a_extendable, a_text, a_lexRule, a_lexLength, a_failed, a_trail))
    (K5 : ¬ pu_4 t R c v → pu_5 t MR ML R c v lf → post (-5) (f_letters, nI MR, nI ML, f_maxText, nI c, nI (rw_dn t (1 + 25 * R) c), nI (lf_c t 176), f_finishedLeaves, nI R, f_rawCount, f_stateTotal, f_aliveRules, f_compiled, f_textLength, f_closed, f_lexCount, f_position, a_tokens, a_masks, a_follow, a_ruleNull, a_ruleFirst, a_ruleLast, a_altNull, a_altFirst, a_altLast, a_catNull, a_catFirst, a_catLast, a_atomNull, a_atomFirst, a_atomLast, a_rawSet, a_rawOfSet, a_rawDelta, a_rawLabel, a_letterLeaves, a_classOf, a_nextClass, a_classRep, a_slotClass, a_slotKey, a_numberOf, a_queue, a_delta, a_stateLabel, a_extendable, a_text, a_lexRule, a_lexLength, a_failed, a_trail))
    (K0 : ¬ pu_4 t R c v → ¬ pu_5 t MR ML R c v lf → lf = 0 → post 0 (f_letters, nI MR, nI ML, f_maxText, nI (c + 1), nI (if v = 16 then rw_dn t (1 + 25 * R) c + 1 else if v = 17 then rw_dn t (1 + 25 * R) c - 1 else rw_dn t (1 + 25 * R) c), nI (lf_c t 176), f_finishedLeaves, nI R, f_rawCount, f_stateTotal, f_aliveRules, f_compiled, f_textLength, f_closed, f_lexCount, f_position, (upd a_tokens c (nI v)), a_masks, a_follow, a_ruleNull, a_ruleFirst, a_ruleLast, a_altNull, a_altFirst, a_altLast, a_catNull, a_catFirst, a_catLast, a_atomNull, a_atomFirst, a_atomLast, a_rawSet, a_rawOfSet, a_rawDelta, a_rawLabel, a_letterLeaves, a_classOf, a_nextClass, a_classRep, a_slotClass, a_slotKey, a_numberOf, a_queue, a_delta, a_stateLabel, a_extendable, a_text, a_lexRule, a_lexLength, a_failed, a_trail))
    (K1 : ¬ pu_4 t R c v → ¬ pu_5 t MR ML R c v lf → ¬ lf = 0 → post 0 (f_letters, nI MR, nI ML, f_maxText, nI (c + 1), nI (rw_dn t (1 + 25 * R) c), nI (lf_c t 176 + 1), f_finishedLeaves, nI R, f_rawCount, f_stateTotal, f_aliveRules, f_compiled, f_textLength, f_closed, f_lexCount, f_position, (upd a_tokens c (nI v)), (upd a_masks (lf_c t 176) (nI v)), (upd a_follow (lf_c t 176) 0), a_ruleNull, a_ruleFirst, a_ruleLast, a_altNull, a_altFirst, a_altLast, a_catNull, a_catFirst, a_catLast, a_atomNull, a_atomFirst, a_atomLast, a_rawSet, a_rawOfSet, a_rawDelta, a_rawLabel, a_letterLeaves, a_classOf, a_nextClass, a_classRep, a_slotClass, a_slotKey, a_numberOf, a_queue, a_delta, a_stateLabel, a_extendable, a_text, a_lexRule, a_lexLength, a_failed, a_trail)) :
    wX_put_50 post (nI v) lf f_letters (nI MR) (nI ML) f_maxText (nI c) (nI (rw_dn t (1 + 25 * R) c)) (nI (lf_c t 176)) f_finishedLeaves (nI R) f_rawCount f_stateTotal f_aliveRules f_compiled f_textLength f_closed f_lexCount f_position a_tokens a_masks a_follow a_ruleNull a_ruleFirst a_ruleLast a_altNull a_altFirst a_altLast a_catNull a_catFirst a_catLast a_atomNull a_atomFirst a_atomLast a_rawSet a_rawOfSet a_rawDelta a_rawLabel a_letterLeaves a_classOf a_nextClass a_classRep a_slotClass a_slotKey a_numberOf a_queue a_delta a_stateLabel a_extendable a_text a_lexRule a_lexLength a_failed a_trail := by
  have p157 : ¬ pu_4 t R c v → ¬ pu_5 t MR ML R c v lf → wX_put_157 post (nI v) lf f_letters (nI MR) (nI ML) f_maxText (nI c) (nI (rw_dn t (1 + 25 * R) c)) (nI (lf_c t 176)) f_finishedLeaves (nI R) f_rawCount f_stateTotal f_aliveRules f_compiled f_textLength f_closed f_lexCount f_position a_tokens a_masks a_follow a_ruleNull a_ruleFirst a_ruleLast a_altNull a_altFirst a_altLast a_catNull a_catFirst a_catLast a_atomNull a_atomFirst a_atomLast a_rawSet a_rawOfSet a_rawDelta a_rawLabel a_letterLeaves a_classOf a_nextClass a_classRep a_slotClass a_slotKey a_numberOf a_queue a_delta a_stateLabel a_extendable a_text a_lexRule a_lexLength a_failed a_trail := by
    intro n4 n5
    have c24 : c < 24 := by
      rcases Nat.lt_or_ge c 24 with w | w
      · exact w
      · exact absurd (Or.inr (Or.inl w)) n5
    refine And.intro (vp_in_nI c24 (by omega)) (nm_r (e' := upd a_tokens c (nI v)) (by rw [nI_clamp (by omega)]) (nm_r (nI_1 c) (br_c (fun z => ?_) (fun z => ?_))))
    · have K := K0 n4 n5 z
      refine pk_eq v 16 (fun e => ?_) (fun e => pk_eq v 17 (fun e2 => ?_) (fun e2 => ?_))
      · rw [if_pos e] at K
        exact nm_r (nI_1 _) K
      · rw [if_neg e, if_pos e2] at K
        refine nm_r (yl_s1 _ ?_) K
        rcases Nat.eq_zero_or_pos (rw_dn t (1 + 25 * R) c) with q | q
        · exact absurd (Or.inr ⟨e2, q⟩) n4
        · exact q
      · rw [if_neg e, if_neg e2] at K
        exact K
    · have n8 : lf_c t 176 < 8 := by
        rcases Nat.lt_or_ge (lf_c t 176) ML with w | w
        · omega
        · exact absurd (Or.inr (Or.inr (Or.inr ⟨z, w⟩))) n5
      have K := K1 n4 n5 z
      exact And.intro (vp_in_nI n8 (by omega)) (nm_r (e' := upd a_masks (lf_c t 176) (nI v)) (by rw [nI_clamp (by omega)]) (And.intro (vp_in_nI n8 (by omega)) (nm_r (e' := upd a_follow (lf_c t 176) 0) (by rw [nI_clamp (by omega)]) (nm_r (nI_1 _) K))))
  have p139 : ¬ pu_4 t R c v → ¬ (MR ≤ R ∨ 24 ≤ c ∨ (v = 16 ∧ 6 ≤ rw_dn t (1 + 25 * R) c)) → wX_put_139 post (nI v) lf f_letters (nI MR) (nI ML) f_maxText (nI c) (nI (rw_dn t (1 + 25 * R) c)) (nI (lf_c t 176)) f_finishedLeaves (nI R) f_rawCount f_stateTotal f_aliveRules f_compiled f_textLength f_closed f_lexCount f_position a_tokens a_masks a_follow a_ruleNull a_ruleFirst a_ruleLast a_altNull a_altFirst a_altLast a_catNull a_catFirst a_catLast a_atomNull a_atomFirst a_atomLast a_rawSet a_rawOfSet a_rawDelta a_rawLabel a_letterLeaves a_classOf a_nextClass a_classRep a_slotClass a_slotKey a_numberOf a_queue a_delta a_stateLabel a_extendable a_text a_lexRule a_lexLength a_failed a_trail := by
    intro n4 n5
    have n5' : (¬ lf = 0 → ¬ ML ≤ lf_c t 176) → ¬ pu_5 t MR ML R c v lf := by
      rintro w (q | q | q | q)
      · exact n5 (Or.inl q)
      · exact n5 (Or.inr (Or.inl q))
      · exact n5 (Or.inr (Or.inr q))
      · exact w q.1 q.2
    refine br_c (fun z => p157 n4 (n5' (fun q => absurd z q))) (fun z => pk_lt (lf_c t 176) ML (fun w => p157 n4 (n5' (fun _ => by omega))) (fun w => K5 n4 (Or.inr (Or.inr (Or.inr ⟨z, w⟩)))))
  have p98 : ¬ pu_4 t R c v → wX_put_98 post (nI v) lf f_letters (nI MR) (nI ML) f_maxText (nI c) (nI (rw_dn t (1 + 25 * R) c)) (nI (lf_c t 176)) f_finishedLeaves (nI R) f_rawCount f_stateTotal f_aliveRules f_compiled f_textLength f_closed f_lexCount f_position a_tokens a_masks a_follow a_ruleNull a_ruleFirst a_ruleLast a_altNull a_altFirst a_altLast a_catNull a_catFirst a_catLast a_atomNull a_atomFirst a_atomLast a_rawSet a_rawOfSet a_rawDelta a_rawLabel a_letterLeaves a_classOf a_nextClass a_classRep a_slotClass a_slotKey a_numberOf a_queue a_delta a_stateLabel a_extendable a_text a_lexRule a_lexLength a_failed a_trail := by
    intro n4
    refine pk_le MR R (fun w => K5 n4 (Or.inl w)) (fun w => pk_lt c 24 (fun w2 => pk_eq v 16 (fun e => pk_lt (rw_dn t (1 + 25 * R) c) 6 (fun w3 => p139 n4 (by omega)) (fun w3 => K5 n4 (Or.inr (Or.inr (Or.inl ⟨e, w3⟩))))) (fun e => p139 n4 (by omega))) (fun w2 => K5 n4 (Or.inr (Or.inl w2))))
  have p82 : ¬ (17 ≤ v ∧ v ≤ 21 ∧ pu_L t R c) → wX_put_82 post (nI v) lf f_letters (nI MR) (nI ML) f_maxText (nI c) (nI (rw_dn t (1 + 25 * R) c)) (nI (lf_c t 176)) f_finishedLeaves (nI R) f_rawCount f_stateTotal f_aliveRules f_compiled f_textLength f_closed f_lexCount f_position a_tokens a_masks a_follow a_ruleNull a_ruleFirst a_ruleLast a_altNull a_altFirst a_altLast a_catNull a_catFirst a_catLast a_atomNull a_atomFirst a_atomLast a_rawSet a_rawOfSet a_rawDelta a_rawLabel a_letterLeaves a_classOf a_nextClass a_classRep a_slotClass a_slotKey a_numberOf a_queue a_delta a_stateLabel a_extendable a_text a_lexRule a_lexLength a_failed a_trail := by
    intro n4
    refine pk_eq v 17 (fun e => pk_eq (rw_dn t (1 + 25 * R) c) 0 (fun w => K4 (Or.inr ⟨e, w⟩)) (fun w => p98 ?_)) (fun e => p98 ?_)
    · rintro (q | q)
      · exact n4 q
      · exact w q.2
    · rintro (q | q)
      · exact n4 q
      · exact e q.1
  refine pk_lt v 17 (fun w => br_t rfl (p82 (by omega))) (fun w => pk_lt 21 v (fun w2 => br_t rfl (p82 (by omega))) (fun w2 => br_f (by decide) (xw_ends hc ht htk (fun nl => br_f (by decide) (p82 (fun q => nl q.2.2))) (fun l => br_t rfl (K4 (Or.inl ⟨w, w2, l⟩))))))
end
section
variable {g_letters g_maxRules g_maxLeaves g_maxText g_rules g_count g_compiled g_states g_textLength g_closed g_lexemes : Int32} {b_toks b_reach b_go b_lab b_seen b_diff b_conf b_text b_lexRule b_lexLength : Nat → Int32} {n_diff : Nat} {t : Nat → Nat} {MR ML R c v : Nat} {lf : Int32}
theorem yw_put50 {post : Int32 → SY → Prop} (hlf : lf = 0 ∨ lf = 1) (hMR : MR ≤ 6) (hML : ML ≤ 8) (hML2 : 2 ≤ ML) (hR : R ≤ 6) (V : rw_V t (1 + 25 * R) c) (hcR : MR ≤ R ∨ 1 + 25 * R + c < 176) (hn : lf_c t 176 ≤ 8) (hv : v ≤ 22) (hT : ∀ p, b_toks p = nI (t p)) (ht : ∀ p, t p < 100) (h0 : t 0 = 0)
    (K4 : pu_4 t R c v → post (-4) (g_letters, nI MR, nI ML, g_maxText, nI R, nI c, g_compiled, g_states, g_textLength, g_closed, g_lexemes, b_toks, b_reach, b_go, b_lab, b_seen, b_diff, b_conf, b_text, b_lexRule, b_lexLength, n_diff))
    (K5 : ¬ pu_4 t R c v → pu_5 t MR ML R c v lf → post (-5) (g_letters, nI MR, nI ML, g_maxText, nI R, nI c, g_compiled, g_states, g_textLength, g_closed, g_lexemes, b_toks, b_reach, b_go, b_lab, b_seen, b_diff, b_conf, b_text, b_lexRule, b_lexLength, n_diff))
    (K0 : ¬ pu_4 t R c v → ¬ pu_5 t MR ML R c v lf → post 0 (g_letters, nI MR, nI ML, g_maxText, nI R, nI (c + 1), g_compiled, g_states, g_textLength, g_closed, g_lexemes, (upd b_toks (1 + 25 * R + c) (nI v)), b_reach, b_go, b_lab, b_seen, b_diff, b_conf, b_text, b_lexRule, b_lexLength, n_diff)) :
    wY_put_50 post (nI v) lf g_letters (nI MR) (nI ML) g_maxText (nI R) (nI c) g_compiled g_states g_textLength g_closed g_lexemes b_toks b_reach b_go b_lab b_seen b_diff b_conf b_text b_lexRule b_lexLength n_diff := by
  have hc := V.2.1
  have hd := rw_dn6 V c (Nat.le_refl _)
  have p157 : ¬ pu_4 t R c v → ¬ pu_5 t MR ML R c v lf → wY_put_157 post (nI v) g_letters (nI MR) (nI ML) g_maxText (nI R) (nI c) g_compiled g_states g_textLength g_closed g_lexemes b_toks b_reach b_go b_lab b_seen b_diff b_conf b_text b_lexRule b_lexLength n_diff := by
    intro n4 n5
    have ir : 1 + 25 * R + c < 176 := by
      rcases hcR with w | w
      · exact absurd (Or.inl w) n5
      · exact w
    exact And.intro (by rw [yl_ix]; exact vp_in_nI ir (by omega)) (nm_r (e' := upd b_toks (1 + 25 * R + c) (nI v)) (by rw [yl_ix, nI_clamp (by omega)]) (nm_r (nI_1 c) (K0 n4 n5)))
  have p132 : ¬ pu_4 t R c v → ¬ (MR ≤ R ∨ 24 ≤ c ∨ (v = 16 ∧ 6 ≤ rw_dn t (1 + 25 * R) c)) → wY_put_132 post (nI v) lf g_letters (nI MR) (nI ML) g_maxText (nI R) (nI c) g_compiled g_states g_textLength g_closed g_lexemes b_toks b_reach b_go b_lab b_seen b_diff b_conf b_text b_lexRule b_lexLength n_diff := by
    intro n4 n5
    have n5' : (¬ lf = 0 → ¬ ML ≤ lf_c t 176) → ¬ pu_5 t MR ML R c v lf := by
      rintro w (q | q | q | q)
      · exact n5 (Or.inl q)
      · exact n5 (Or.inr (Or.inl q))
      · exact n5 (Or.inr (Or.inr q))
      · exact w q.1 q.2
    unfold wY_put_132
    rw [yl_s1 ML (by omega)]
    refine yw_leafPlaceN (by omega) hT ht h0 (fun q q1 q2 q3 => br_c (fun z => p157 n4 (n5' (fun w => absurd z w))) (fun z => br_f (yl_m1ne q (by omega)) (K5 n4 (Or.inr (Or.inr (Or.inr ⟨z, ?_⟩)))))) (fun ne => br_c (fun z => p157 n4 (n5' (fun w => absurd z w))) (fun z => br_t rfl (p157 n4 (n5' (fun _ w => ?_)))))
    · have := lf_lt q2 q1
      omega
    · obtain ⟨p, p1, p2, p3⟩ := lf_ex (t := t) 176 (ML - 1) (by omega)
      exact ne p p1 p2 p3
  have p94 : ¬ pu_4 t R c v → wY_put_94 post (nI v) lf (nI (rw_dn t (1 + 25 * R) c)) g_letters (nI MR) (nI ML) g_maxText (nI R) (nI c) g_compiled g_states g_textLength g_closed g_lexemes b_toks b_reach b_go b_lab b_seen b_diff b_conf b_text b_lexRule b_lexLength n_diff := by
    intro n4
    refine pk_le MR R (fun w => K5 n4 (Or.inl w)) (fun w => pk_lt c 24 (fun w2 => pk_eq v 16 (fun e => pk_eq (rw_dn t (1 + 25 * R) c) 6 (fun w3 => K5 n4 (Or.inr (Or.inr (Or.inl ⟨e, by omega⟩)))) (fun w3 => p132 n4 (by omega))) (fun e => p132 n4 (by omega))) (fun w2 => K5 n4 (Or.inr (Or.inl w2))))
  have p81 : ¬ (17 ≤ v ∧ v ≤ 21 ∧ pu_L t R c) → wY_put_81 post (nI v) lf (nI (rw_dn t (1 + 25 * R) c)) g_letters (nI MR) (nI ML) g_maxText (nI R) (nI c) g_compiled g_states g_textLength g_closed g_lexemes b_toks b_reach b_go b_lab b_seen b_diff b_conf b_text b_lexRule b_lexLength n_diff := by
    intro n4
    refine pk_eq v 17 (fun e => pk_eq (rw_dn t (1 + 25 * R) c) 0 (fun w => K4 (Or.inr ⟨e, w⟩)) (fun w => p94 ?_)) (fun e => p94 ?_)
    · rintro (q | q)
      · exact n4 q
      · exact w q.2
    · rintro (q | q)
      · exact n4 q
      · exact e q.1
  refine yw_depth hT ht hR V (yw_noOperand hT ht hR hc (fun l => ?_) (fun nl => ?_))
  · exact pk_lt v 17 (fun w => p81 (by omega)) (fun w => pk_lt 21 v (fun w2 => p81 (by omega)) (fun w2 => br_f (by decide) (K4 (Or.inl ⟨w, w2, l⟩))))
  · exact pk_lt v 17 (fun w => p81 (by omega)) (fun w => pk_lt 21 v (fun w2 => p81 (by omega)) (fun w2 => br_t rfl (p81 (fun q => nl q.2.2))))
end
theorem i_vc_put {k : Nat} {u : SX} {v : SY} (I : i_Rel k u v) (hk : k + 3 ≤ 1540) (v1 : Int32) : wpX_put (fun r u' => wpY_put (fun r' v' => r' = r ∧ i_Rel (k + 3) u' v') v v1) u v1 := by
  refine re_el (P := fun u v => wpX_put (fun r u' => wpY_put (fun r' v' => r' = r ∧ i_Rel (k + 3) u' v') v v1) u v1) ?_ I
  intro f_rawCount f_stateTotal f_aliveRules a_tokens a_masks a_follow a_ruleNull a_ruleFirst a_ruleLast a_altNull a_altFirst a_altLast a_catNull a_catFirst a_catLast a_atomNull a_atomFirst a_atomLast a_rawSet a_rawOfSet a_rawDelta a_rawLabel a_letterLeaves a_classOf a_nextClass a_classRep a_slotClass a_slotKey a_numberOf a_queue a_delta a_stateLabel a_extendable a_text a_lexRule a_lexLength a_failed a_trail g_states b_toks b_reach b_go b_lab b_seen b_diff b_conf t tx L MR ML MT R c TL LC PO cp clo F
  have J : i_Rel (k + 3) (nI L, nI MR, nI ML, nI MT, nI c, nI (rw_dn t (1 + 25 * R) c), nI (lf_c t 176), nI (lf_c t (1 + 25 * R)), nI R, f_rawCount, f_stateTotal, f_aliveRules, cp, nI TL, clo, nI LC, nI PO, a_tokens, a_masks, a_follow, a_ruleNull, a_ruleFirst, a_ruleLast, a_altNull, a_altFirst, a_altLast, a_catNull, a_catFirst, a_catLast, a_atomNull, a_atomFirst, a_atomLast, a_rawSet, a_rawOfSet, a_rawDelta, a_rawLabel, a_letterLeaves, a_classOf, a_nextClass, a_classRep, a_slotClass, a_slotKey, a_numberOf, a_queue, a_delta, a_stateLabel, a_extendable, a_text, a_lexRule, a_lexLength, a_failed, a_trail) (nI L, nI MR, nI ML, nI MT, nI R, nI c, cp, g_states, nI TL, clo, nI LC, b_toks, b_reach, b_go, b_lab, b_seen, b_diff, b_conf, a_text, a_lexRule, a_lexLength, 66049) := re_mk F
  obtain ⟨FZ, FT, FE, FC⟩ := F
  have lt := re_lt FZ FT
  rcases FC with h | h
  · have z := FZ
    obtain ⟨z1, z2, z3, z4, z5, z6, z7, z8⟩ := z
    have V := FT.2.2.2.2.2.2.1
    have c24 := V.2.1
    have hd := rw_dn6 V c (Nat.le_refl _)
    have hcR : MR ≤ R ∨ 1 + 25 * R + c < 176 := by
      rcases Nat.lt_or_ge R MR with w | w
      · right; omega
      · exact Or.inl w
    have eE : (1 : Int32) <<< (nI L &&& 31) = nI (2 ^ L) := by
      have : ∀ L, L < 5 → (1 : Int32) <<< (nI L &&& 31) = nI (2 ^ L) := by decide
      exact this L (by omega)
    have p2 : 2 ^ L ≤ 16 := by
      have : ∀ L, L < 5 → 2 ^ L ≤ 16 := by decide
      exact this L (by omega)
    have go50 : ∀ (vv : Nat) (lf : Int32), lf = 0 ∨ lf = 1 → ((¬ lf = 0 ∧ 1 ≤ vv ∧ vv < 2 ^ L) ∨ (lf = 0 ∧ 16 ≤ vv ∧ vv ≤ 22)) → ∀ (W : (Int32 → SY → Prop) → Prop), (∀ post, wY_put_50 post (nI vv) lf (nI L) (nI MR) (nI ML) (nI MT) (nI R) (nI c) cp g_states (nI TL) clo (nI LC) b_toks b_reach b_go b_lab b_seen b_diff b_conf a_text a_lexRule a_lexLength 66049 → W post) → wX_put_50 (fun r u' => W (fun r' v' => r' = r ∧ i_Rel (k + 3) u' v')) (nI vv) lf (nI L) (nI MR) (nI ML) (nI MT) (nI c) (nI (rw_dn t (1 + 25 * R) c)) (nI (lf_c t 176)) (nI (lf_c t (1 + 25 * R))) (nI R) f_rawCount f_stateTotal f_aliveRules cp (nI TL) clo (nI LC) (nI PO) a_tokens a_masks a_follow a_ruleNull a_ruleFirst a_ruleLast a_altNull a_altFirst a_altLast a_catNull a_catFirst a_catLast a_atomNull a_atomFirst a_atomLast a_rawSet a_rawOfSet a_rawDelta a_rawLabel a_letterLeaves a_classOf a_nextClass a_classRep a_slotClass a_slotKey a_numberOf a_queue a_delta a_stateLabel a_extendable a_text a_lexRule a_lexLength a_failed a_trail := by
      intro vv lf hlf hvv W hW
      have v22 : vv ≤ 22 := by rcases hvv with w | w <;> omega
      refine xw_put50 (t := t) (MR := MR) (ML := ML) (R := R) (c := c) hlf z4 z6 lt.2.1 c24 hd lt.2.2.2.2.1 v22 lt.1 FT.2.2.2.2.2.2.2.2.1 (fun b4 => ?_) (fun n4 b5 => ?_) (fun n4 n5 l0 => ?_) (fun n4 n5 l1 => ?_)
      · exact hW _ (yw_put50 (t := t) hlf z4 z6 z5 lt.2.1 V hcR lt.2.2.2.2.1 v22 FT.1 lt.1 FT.2.2.1 (fun _ => ⟨rfl, J⟩) (fun n4 => absurd b4 n4) (fun n4 => absurd b4 n4))
      · exact hW _ (yw_put50 (t := t) hlf z4 z6 z5 lt.2.1 V hcR lt.2.2.2.2.1 v22 FT.1 lt.1 FT.2.2.1 (fun b4 => absurd b4 n4) (fun _ _ => ⟨rfl, J⟩) (fun _ n5 => absurd b5 n5))
      · refine hW _ (yw_put50 (t := t) hlf z4 z6 z5 lt.2.1 V hcR lt.2.2.2.2.1 v22 FT.1 lt.1 FT.2.2.1 (fun b4 => absurd b4 n4) (fun _ b5 => absurd b5 n5) (fun _ _ => ⟨rfl, ?_⟩))
        obtain ⟨T', e1, e2, e3, e4⟩ := re_put (masks' := a_masks) (follow' := a_follow) FZ FT n4 n5 (Or.inr ⟨l0, by rcases hvv with w | w; exact absurd l0 w.1; exact w.2.1, v22, rfl, rfl⟩)
        have N : i_Rel (k + 3) (nI L, nI MR, nI ML, nI MT, nI (c + 1), nI (rw_dn (fun p => if p = 1 + 25 * R + c then vv else t p) (1 + 25 * R) (c + 1)), nI (lf_c (fun p => if p = 1 + 25 * R + c then vv else t p) 176), nI (lf_c (fun p => if p = 1 + 25 * R + c then vv else t p) (1 + 25 * R)), nI R, f_rawCount, f_stateTotal, f_aliveRules, cp, nI TL, clo, nI LC, nI PO, (upd a_tokens c (nI vv)), a_masks, a_follow, a_ruleNull, a_ruleFirst, a_ruleLast, a_altNull, a_altFirst, a_altLast, a_catNull, a_catFirst, a_catLast, a_atomNull, a_atomFirst, a_atomLast, a_rawSet, a_rawOfSet, a_rawDelta, a_rawLabel, a_letterLeaves, a_classOf, a_nextClass, a_classRep, a_slotClass, a_slotKey, a_numberOf, a_queue, a_delta, a_stateLabel, a_extendable, a_text, a_lexRule, a_lexLength, a_failed, a_trail) (nI L, nI MR, nI ML, nI MT, nI R, nI (c + 1), cp, g_states, nI TL, clo, nI LC, (upd b_toks (1 + 25 * R + c) (nI vv)), b_reach, b_go, b_lab, b_seen, b_diff, b_conf, a_text, a_lexRule, a_lexLength, 66049) := re_mk (t := (fun p => if p = 1 + 25 * R + c then vv else t p)) (c := c + 1) ⟨FZ, T', FE, Or.inl h⟩
        rw [e1, e2, e4 l0] at N
        exact N
      · refine hW _ (yw_put50 (t := t) hlf z4 z6 z5 lt.2.1 V hcR lt.2.2.2.2.1 v22 FT.1 lt.1 FT.2.2.1 (fun b4 => absurd b4 n4) (fun _ b5 => absurd b5 n5) (fun _ _ => ⟨rfl, ?_⟩))
        have w : 1 ≤ vv ∧ vv < 2 ^ L := by
          rcases hvv with w | w
          · exact w.2
          · exact absurd w.1 l1
        obtain ⟨T', e1, e2, e3, e4⟩ := re_put (masks' := upd a_masks (lf_c t 176) (nI vv)) (follow' := upd a_follow (lf_c t 176) 0) FZ FT n4 n5 (Or.inl ⟨l1, w.1, w.2, rfl, rfl⟩)
        have N : i_Rel (k + 3) (nI L, nI MR, nI ML, nI MT, nI (c + 1), nI (rw_dn (fun p => if p = 1 + 25 * R + c then vv else t p) (1 + 25 * R) (c + 1)), nI (lf_c (fun p => if p = 1 + 25 * R + c then vv else t p) 176), nI (lf_c (fun p => if p = 1 + 25 * R + c then vv else t p) (1 + 25 * R)), nI R, f_rawCount, f_stateTotal, f_aliveRules, cp, nI TL, clo, nI LC, nI PO, (upd a_tokens c (nI vv)), (upd a_masks (lf_c t 176) (nI vv)), (upd a_follow (lf_c t 176) 0), a_ruleNull, a_ruleFirst, a_ruleLast, a_altNull, a_altFirst, a_altLast, a_catNull, a_catFirst, a_catLast, a_atomNull, a_atomFirst, a_atomLast, a_rawSet, a_rawOfSet, a_rawDelta, a_rawLabel, a_letterLeaves, a_classOf, a_nextClass, a_classRep, a_slotClass, a_slotKey, a_numberOf, a_queue, a_delta, a_stateLabel, a_extendable, a_text, a_lexRule, a_lexLength, a_failed, a_trail) (nI L, nI MR, nI ML, nI MT, nI R, nI (c + 1), cp, g_states, nI TL, clo, nI LC, (upd b_toks (1 + 25 * R + c) (nI vv)), b_reach, b_go, b_lab, b_seen, b_diff, b_conf, a_text, a_lexRule, a_lexLength, 66049) := re_mk (t := (fun p => if p = 1 + 25 * R + c then vv else t p)) (c := c + 1) ⟨FZ, T', FE, Or.inl h⟩
        rw [e1, e2, e3 l1, if_neg (by omega), if_neg (by omega)] at N
        exact N
    have h29 : (v1 < 1 ∨ nI (2 ^ L) ≤ v1) → ∀ (W : (Int32 → SY → Prop) → Prop), (∀ post, wY_put_30 post v1 0 (nI L) (nI MR) (nI ML) (nI MT) (nI R) (nI c) cp g_states (nI TL) clo (nI LC) b_toks b_reach b_go b_lab b_seen b_diff b_conf a_text a_lexRule a_lexLength 66049 → W post) → wX_put_30 (fun r u' => W (fun r' v' => r' = r ∧ i_Rel (k + 3) u' v')) v1 0 (nI L) (nI MR) (nI ML) (nI MT) (nI c) (nI (rw_dn t (1 + 25 * R) c)) (nI (lf_c t 176)) (nI (lf_c t (1 + 25 * R))) (nI R) f_rawCount f_stateTotal f_aliveRules cp (nI TL) clo (nI LC) (nI PO) a_tokens a_masks a_follow a_ruleNull a_ruleFirst a_ruleLast a_altNull a_altFirst a_altLast a_catNull a_catFirst a_catLast a_atomNull a_atomFirst a_atomLast a_rawSet a_rawOfSet a_rawDelta a_rawLabel a_letterLeaves a_classOf a_nextClass a_classRep a_slotClass a_slotKey a_numberOf a_queue a_delta a_stateLabel a_extendable a_text a_lexRule a_lexLength a_failed a_trail := by
      intro hnl W hW
      refine br_t rfl (br_c (fun y => hW _ (br_t rfl (br_t y ⟨rfl, J⟩))) (fun y => br_c (fun y2 => ?_) (fun y2 => hW _ (br_t rfl (br_f y (br_f y2 ⟨rfl, J⟩))))))
      have y0 : ¬ v1 < 0 := fun w => y (Int32.lt_trans w (by decide))
      obtain ⟨j, hj, rfl⟩ := nI_of y0
      have g1 : ¬ nI j < nI 16 := y
      have g2 : nI j ≤ nI 22 := y2
      rw [nI_ltI hj (by omega)] at g1
      rw [nI_leI hj (by omega)] at g2
      exact go50 j 0 (Or.inl rfl) (Or.inr ⟨rfl, by omega, g2⟩) W (fun post hp => hW post (br_t rfl (br_f y (br_t y2 hp))))
    refine br_t h.1 (br_c (fun y => h29 (Or.inl y) (fun post => wpY_put post (nI L, nI MR, nI ML, nI MT, nI R, nI c, cp, g_states, nI TL, clo, nI LC, b_toks, b_reach, b_go, b_lab, b_seen, b_diff, b_conf, a_text, a_lexRule, a_lexLength, 66049) v1) (fun post hp => br_t h.1 (br_t y hp))) (fun y => br_c (fun y2 => h29 (Or.inr (by rw [← eE]; exact y2)) (fun post => wpY_put post (nI L, nI MR, nI ML, nI MT, nI R, nI c, cp, g_states, nI TL, clo, nI LC, b_toks, b_reach, b_go, b_lab, b_seen, b_diff, b_conf, a_text, a_lexRule, a_lexLength, 66049) v1) (fun post hp => br_t h.1 (br_f y (br_t y2 hp)))) (fun y2 => br_f (by decide) ?_)))
    have y0 : ¬ v1 < 0 := fun w => y (Int32.lt_trans w (by decide))
    obtain ⟨j, hj, rfl⟩ := nI_of y0
    have g1 : ¬ nI j < nI 1 := y
    have g2 := y2
    rw [nI_ltI hj (by omega)] at g1
    rw [eE, nI_leI (by omega) hj] at g2
    exact go50 j 1 (Or.inr rfl) (Or.inl ⟨by decide, by omega, by omega⟩) (fun post => wpY_put post (nI L, nI MR, nI ML, nI MT, nI R, nI c, cp, g_states, nI TL, clo, nI LC, b_toks, b_reach, b_go, b_lab, b_seen, b_diff, b_conf, a_text, a_lexRule, a_lexLength, 66049) (nI j)) (fun post hp => br_t h.1 (br_f y (br_f y2 (br_f (by decide) hp))))
  · have n1 : ¬ cp = 0 := by rw [h.1]; decide
    exact br_f n1 (br_f n1 ⟨rfl, J⟩)
end
section
/-! endRule -/
section
variable {f_letters f_maxRules f_maxLeaves f_maxText f_tokenCount f_depth f_leafCount f_finishedLeaves f_ruleCount f_rawCount f_stateTotal f_aliveRules f_compiled f_textLength f_closed f_lexCount f_position : Int32} {a_tokens a_masks a_follow a_ruleNull a_ruleFirst a_ruleLast a_altNull a_altFirst a_altLast a_catNull a_catFirst a_catLast a_atomNull a_atomFirst a_atomLast a_rawSet a_rawOfSet a_rawDelta a_rawLabel a_letterLeaves a_classOf a_nextClass a_classRep a_slotClass a_numberOf a_queue a_delta a_stateLabel a_extendable a_text a_lexRule a_lexLength a_trail : Nat → Int32} {a_slotKey a_failed : Nat → Int64} {t lc : Nat → Nat} {D : Nat → Int} {B n m r : Nat} {post : SX → Prop}
theorem xw_evaluate (H : gr_H t D B n) (inj : ∀ p q, gr_Lf t p → gr_Lf t q → lc p = lc q → p = q) (h8 : ∀ p, B ≤ p → p < n → gr_Lf t p → lc p < 8) (hr : r < 7)
    (hD6 : ∀ p, B ≤ p → p ≤ n → D p ≤ 6) (hlc : ∀ p, B ≤ p → p < n → (gr_Lf t p → lc (p + 1) = lc p + 1) ∧ (¬ gr_Lf t p → lc (p + 1) = lc p)) (hm : n = B + m) (htok : ∀ i, i < m → a_tokens i = nI (t (B + i))) (hz : ∀ p, B ≤ p → p < n → gr_Lf t p → a_follow (lc p) = 0)
    (K : ∀ aN aF aL cN cF cL zN zF zL fo : Nat → Int32, gr_Al t lc (gr_M t D B n) fo (gr_Bs t D B 0 n) (aN 0) (aF 0) (aL 0) → (∀ k, (∀ p, B ≤ p → p < n → gr_Lf t p → lc p ≠ k) → fo k = a_follow k) → post (f_letters, f_maxRules, f_maxLeaves, f_maxText, nI m, f_depth, f_leafCount, nI (lc B), f_ruleCount, f_rawCount, f_stateTotal, f_aliveRules, f_compiled, f_textLength, f_closed, f_lexCount, f_position, a_tokens, a_masks, fo, (upd a_ruleNull r (aN 0)), (upd a_ruleFirst r (aF 0)), (upd a_ruleLast r (aL 0)), aN, aF, aL, cN, cF, cL, zN, zF, zL, a_rawSet, a_rawOfSet, a_rawDelta, a_rawLabel, a_letterLeaves, a_classOf, a_nextClass, a_classRep, a_slotClass, a_slotKey, a_numberOf, a_queue, a_delta, a_stateLabel, a_extendable, a_text, a_lexRule, a_lexLength, a_failed, a_trail)) :
    wpX_evaluate post (f_letters, f_maxRules, f_maxLeaves, f_maxText, nI m, f_depth, f_leafCount, nI (lc B), f_ruleCount, f_rawCount, f_stateTotal, f_aliveRules, f_compiled, f_textLength, f_closed, f_lexCount, f_position, a_tokens, a_masks, a_follow, a_ruleNull, a_ruleFirst, a_ruleLast, a_altNull, a_altFirst, a_altLast, a_catNull, a_catFirst, a_catLast, a_atomNull, a_atomFirst, a_atomLast, a_rawSet, a_rawOfSet, a_rawDelta, a_rawLabel, a_letterLeaves, a_classOf, a_nextClass, a_classRep, a_slotClass, a_slotKey, a_numberOf, a_queue, a_delta, a_stateLabel, a_extendable, a_text, a_lexRule, a_lexLength, a_failed, a_trail) (nI r) := by
  unfold wpX_evaluate
  dsimp only
  refine xw_openLevel (l := 0) (by omega) ?_
  have w := xw_evl (f_finishedLeaves := nI (lc B)) (fo0 := a_follow) (post := post) H inj h8 hr hD6 hlc hm htok K m 0 0 _ _ _ _ _ _ _ _ _ a_follow (by omega) (ev_ini (aN := a_altNull) (aF := a_altFirst) (aL := a_altLast) (cN := a_catNull) (cF := a_catFirst) (cL := a_catLast) (zN := a_atomNull) (zF := a_atomFirst) (zL := a_atomLast) H hz)
  exact Exists.intro (m + 1) w
end
theorem i_vc_endRule {k : Nat} {u : SX} {v : SY} (I : i_Rel k u v) (hk : k + 3 ≤ 1540) : wpX_endRule (fun r u' => wpY_endRule (fun r' v' => r' = r ∧ i_Rel (k + 3) u' v') v) u := by
  refine re_el (P := fun u v => wpX_endRule (fun r u' => wpY_endRule (fun r' v' => r' = r ∧ i_Rel (k + 3) u' v') v) u) ?_ I
  intro f_rawCount f_stateTotal f_aliveRules a_tokens a_masks a_follow a_ruleNull a_ruleFirst a_ruleLast a_altNull a_altFirst a_altLast a_catNull a_catFirst a_catLast a_atomNull a_atomFirst a_atomLast a_rawSet a_rawOfSet a_rawDelta a_rawLabel a_letterLeaves a_classOf a_nextClass a_classRep a_slotClass a_slotKey a_numberOf a_queue a_delta a_stateLabel a_extendable a_text a_lexRule a_lexLength a_failed a_trail g_states b_toks b_reach b_go b_lab b_seen b_diff b_conf t tx L MR ML MT R c TL LC PO cp clo F
  have J : i_Rel (k + 3) (nI L, nI MR, nI ML, nI MT, nI c, nI (rw_dn t (1 + 25 * R) c), nI (lf_c t 176), nI (lf_c t (1 + 25 * R)), nI R, f_rawCount, f_stateTotal, f_aliveRules, cp, nI TL, clo, nI LC, nI PO, a_tokens, a_masks, a_follow, a_ruleNull, a_ruleFirst, a_ruleLast, a_altNull, a_altFirst, a_altLast, a_catNull, a_catFirst, a_catLast, a_atomNull, a_atomFirst, a_atomLast, a_rawSet, a_rawOfSet, a_rawDelta, a_rawLabel, a_letterLeaves, a_classOf, a_nextClass, a_classRep, a_slotClass, a_slotKey, a_numberOf, a_queue, a_delta, a_stateLabel, a_extendable, a_text, a_lexRule, a_lexLength, a_failed, a_trail) (nI L, nI MR, nI ML, nI MT, nI R, nI c, cp, g_states, nI TL, clo, nI LC, b_toks, b_reach, b_go, b_lab, b_seen, b_diff, b_conf, a_text, a_lexRule, a_lexLength, 66049) := re_mk F
  obtain ⟨FZ, FT, FE, FC⟩ := F
  have lt := re_lt FZ FT
  rcases FC with h | h
  · obtain ⟨z1, z2, z3, z4, z5, z6, z7, z8⟩ := FZ
    have FZ : re_Z L MR ML MT := ⟨z1, z2, z3, z4, z5, z6, z7, z8⟩
    obtain ⟨h1, h2, h3, h4, h5, h6, h7, h8, h9, h10, h11, h12, h13⟩ := FT
    have c24 := h7.2.1
    have hd := rw_dn6 h7 c (Nat.le_refl _)
    have bad : (pu_L t R c ∨ ¬ rw_dn t (1 + 25 * R) c = 0) → wpY_endRule (fun r' v' => r' = -4 ∧ i_Rel (k + 3) (nI L, nI MR, nI ML, nI MT, nI c, nI (rw_dn t (1 + 25 * R) c), nI (lf_c t 176), nI (lf_c t (1 + 25 * R)), nI R, f_rawCount, f_stateTotal, f_aliveRules, cp, nI TL, clo, nI LC, nI PO, a_tokens, a_masks, a_follow, a_ruleNull, a_ruleFirst, a_ruleLast, a_altNull, a_altFirst, a_altLast, a_catNull, a_catFirst, a_catLast, a_atomNull, a_atomFirst, a_atomLast, a_rawSet, a_rawOfSet, a_rawDelta, a_rawLabel, a_letterLeaves, a_classOf, a_nextClass, a_classRep, a_slotClass, a_slotKey, a_numberOf, a_queue, a_delta, a_stateLabel, a_extendable, a_text, a_lexRule, a_lexLength, a_failed, a_trail) v') (nI L, nI MR, nI ML, nI MT, nI R, nI c, cp, g_states, nI TL, clo, nI LC, b_toks, b_reach, b_go, b_lab, b_seen, b_diff, b_conf, a_text, a_lexRule, a_lexLength, 66049) := by
      intro w
      refine br_t h.1 (yw_depth h1 lt.1 lt.2.1 h7 (yw_noOperand h1 lt.1 lt.2.1 c24 (fun l => br_f (by decide) ⟨rfl, J⟩) (fun nl => br_t rfl (pk_eq (rw_dn t (1 + 25 * R) c) 0 (fun e => ?_) (fun e => ⟨rfl, J⟩)))))
      rcases w with w | w
      · exact absurd w nl
      · exact absurd e w
    refine br_t h.1 (xw_ends c24 lt.1 h9 (fun nl => br_f (by decide) (pk_eq (rw_dn t (1 + 25 * R) c) 0 (fun e => ?_) (fun e => bad (Or.inr e)))) (fun l => br_t rfl (bad (Or.inl l))))
    have c0 : 0 < c := by
      rcases Nat.eq_zero_or_pos c with q | q
      · exact absurd (Or.inl q) nl
      · exact q
    have RM := h5 c0
    have Fm : rw_F t (1 + 25 * R) c := ⟨h7, c0, e, by rw [show 1 + 25 * R + c - 1 = 25 * R + c by omega]; exact fun q => nl (Or.inr (Or.inl q)), by rw [show 1 + 25 * R + c - 1 = 25 * R + c by omega]; exact fun q => nl (Or.inr (Or.inr q))⟩
    have HH := rw_H Fm
    refine nm_r (nI_1 R) ?_
    refine xw_evaluate (t := t) (lc := lf_c t) (B := 1 + 25 * R) (n := 1 + 25 * R + c) (m := c) (r := R + 1) HH.1 lf_inj (fun p _ _ hp => lt.2.2.2.2.2 p hp) (by omega) HH.2 (fun p _ _ => ⟨fun q => lf_s q, fun q => lf_n q⟩) rfl h9 (fun p hp _ hl => h12 p hl hp) (fun aN aF aL cN cF cL zN zF zL fo hAl hfo => ?_)
    have row := gr_row HH.1 hAl
    refine br_t h.1 (yw_depth h1 lt.1 lt.2.1 h7 (yw_noOperand h1 lt.1 lt.2.1 c24 (fun l => absurd l nl) (fun _ => br_t rfl (br_t (by rw [e]; rfl) (nm_r (nI_1 R) ⟨rfl, ?_⟩)))))
    have ez : ∀ p, 1 + 25 * R + c ≤ p → t p = 0 := h8
    have el : lf_c t 176 = lf_c t (1 + 25 * (R + 1)) := by
      rw [lf_zero ez 176 (by omega), lf_zero ez (1 + 25 * (R + 1)) (by omega)]
    have T' : re_T t L MR ML (R + 1) 0 a_tokens a_masks fo (upd a_ruleNull (R + 1) (aN 0)) (upd a_ruleFirst (R + 1) (aF 0)) (upd a_ruleLast (R + 1) (aL 0)) b_toks := by
      refine ⟨h1, h2, h3, by omega, fun q => by omega, fun r hr => ?_, ⟨by omega, by omega, ez _ (by omega), fun p a b => ez p (by omega), fun i hi => by omega⟩, fun p hp => ez p (by omega), fun i hi => by omega, h10, h11, fun p hp hpR => ?_, h13.1, fun p hp hpR => ?_, fun r hr => ?_⟩
      · by_cases q : r = R
        · rw [q]; exact ⟨c, Fm⟩
        · exact h6 r (by omega)
      · have := hp.1
        rw [ez p (by omega)] at this; omega
      · by_cases q : p < 1 + 25 * R
        · rw [hfo (lf_c t p) (fun p' a b l e => by have := lf_inj p' p l hp e; omega)]
          exact h13.2.1 p hp q
        · have pn : p < 1 + 25 * R + c := by
            rcases Nat.lt_or_ge p (1 + 25 * R + c) with w | w
            · exact w
            · have := hp.1; rw [ez p w] at this; omega
          exact gr_gs_c (row.2.2.2 p (by omega) pn hp) (fun k => (sp_Oi Fm (by omega) pn k).symm)
      · by_cases q : r = R
        · subst q
          rw [pk_us, pk_us, pk_us]
          exact ⟨gr_b01_c row.1 (sp_Ni Fm).symm, gr_gs_c row.2.1 (fun k => (sp_Fi Fm k).symm), gr_gs_c row.2.2.1 (fun k => (sp_Li Fm k).symm)⟩
        · rw [pk_un (by omega), pk_un (by omega), pk_un (by omega)]
          exact h13.2.2 r (by omega)
    have N : i_Rel (k + 3) (nI L, nI MR, nI ML, nI MT, nI 0, nI (rw_dn t (1 + 25 * (R + 1)) 0), nI (lf_c t 176), nI (lf_c t (1 + 25 * (R + 1))), nI (R + 1), f_rawCount, f_stateTotal, f_aliveRules, cp, nI TL, clo, nI LC, nI PO, a_tokens, a_masks, fo, (upd a_ruleNull (R + 1) (aN 0)), (upd a_ruleFirst (R + 1) (aF 0)), (upd a_ruleLast (R + 1) (aL 0)), aN, aF, aL, cN, cF, cL, zN, zF, zL, a_rawSet, a_rawOfSet, a_rawDelta, a_rawLabel, a_letterLeaves, a_classOf, a_nextClass, a_classRep, a_slotClass, a_slotKey, a_numberOf, a_queue, a_delta, a_stateLabel, a_extendable, a_text, a_lexRule, a_lexLength, a_failed, a_trail) (nI L, nI MR, nI ML, nI MT, nI (R + 1), nI 0, cp, g_states, nI TL, clo, nI LC, b_toks, b_reach, b_go, b_lab, b_seen, b_diff, b_conf, a_text, a_lexRule, a_lexLength, 66049) := re_mk (R := R + 1) (c := 0) ⟨FZ, T', FE, Or.inl h⟩
    rw [← el] at N
    rw [e]
    exact N
  · have n1 : ¬ cp = 0 := by rw [h.1]; decide
    exact br_f n1 (br_f n1 ⟨rfl, J⟩)
end
