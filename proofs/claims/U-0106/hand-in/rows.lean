section
/-! pure rows to paste: stores, nI and lN arithmetic, masks, shifts, narrowing, branches by naturals (pk_le, pk_lt, pk_eq), loops (lp1 .. lp16: the measure of the state; rp1 ..: recursion), negatives. Take what you need -/
theorem pk_us {f : Nat → Int32} {k : Nat} {x : Int32} : upd f k x k = x := if_pos rfl
theorem pk_un {f : Nat → Int32} {k j : Nat} {x : Int32} (h : j ≠ k) : upd f k x j = f j := if_neg h
theorem pk_uLs {f : Nat → Int64} {k : Nat} {x : Int64} : vp_updL f k x k = x := if_pos rfl
theorem pk_uLn {f : Nat → Int64} {k j : Nat} {x : Int64} (h : j ≠ k) : vp_updL f k x j = f j := if_neg h
theorem pk_sub {a b : Nat} (h : b ≤ a) : nI a - nI b = nI (a - b) := by
  obtain ⟨c, rfl⟩ : ∃ c, a = c + b := ⟨a - b, by omega⟩
  rw [← nI_add, Int32.add_sub_cancel, Nat.add_sub_cancel]
theorem pk_m1 (n : Nat) : nI (n + 1) + (-1) = nI n := by
  rw [← nI_1, Int32.add_assoc, show (1 : Int32) + (-1) = 0 from rfl, Int32.add_zero]
theorem pk_mul (a b : Nat) : nI a * nI b = nI (a * b) := (Int32.ofNat_mul a b).symm
theorem pk_div {a d : Nat} (ha : a < 2 ^ 31) (h0 : 0 < d) (hd : d < 2 ^ 31) : nI a / nI d = nI (a / d) := by
  apply Int32.toInt_inj.mp
  rw [lg_idiv_nonneg (by rw [nI_toInt ha]; omega) (by rw [nI_toInt hd]; omega), nI_toInt ha, nI_toInt hd, nI_toInt (Nat.lt_of_le_of_lt (Nat.div_le_self a d) ha)]
  first | rfl | exact (Int.natCast_ediv _ _).symm
theorem pk_rem {a d : Nat} (ha : a < 2 ^ 31) (h0 : 0 < d) (hd : d < 2 ^ 31) : nI a - nI a / nI d * nI d = nI (a % d) := by
  rw [pk_div ha h0 hd, pk_mul, pk_sub (Nat.div_mul_le_self a d)]
  exact congrArg nI (by have := Nat.div_add_mod' a d; omega)
theorem pk_sub_toInt {a b : Nat} (ha : a < 2 ^ 30) (hb : b < 2 ^ 30) : (nI a - nI b).toInt = (a : Int) - b := by
  rw [Int32.toInt_sub, nI_toInt (by omega), nI_toInt (by omega)]
  exact Int.bmod_eq_of_le (by omega) (by omega)
theorem pk_sneg {a b : Nat} (hb : b < 2 ^ 30) (h : a < b) : nI a - nI b < 0 := by
  rw [Int32.lt_iff_toInt_lt, pk_sub_toInt (by omega) hb, show (0 : Int32).toInt = 0 from by decide]
  omega
theorem pk_ix (x : Int32) {n : Nat} (hn : n < 2 ^ 31) : x < 0 ∨ nI n ≤ x ∨ ∃ j : Nat, j < n ∧ x = nI j := by
  by_cases h : x < 0
  · exact Or.inl h
  · obtain ⟨j, hj, rfl⟩ := nI_of h
    by_cases h2 : j < n
    · exact Or.inr (Or.inr ⟨j, h2, rfl⟩)
    · exact Or.inr (Or.inl (nI_le (by omega) hj))
theorem pk_le {x y : Int32} {A B : Prop} (a b : Nat) (f : a ≤ b → A) (g : b < a → B) (hx : x = nI a := by rfl) (hy : y = nI b := by rfl) (ha : a < 2 ^ 31 := by omega) (hb : b < 2 ^ 31 := by omega) : (x ≤ y → A) ∧ (¬ x ≤ y → B) := by
  subst hx hy
  rw [nI_leI ha hb]
  exact ⟨f, fun z => g (by omega)⟩
theorem pk_lt {x y : Int32} {A B : Prop} (a b : Nat) (f : a < b → A) (g : b ≤ a → B) (hx : x = nI a := by rfl) (hy : y = nI b := by rfl) (ha : a < 2 ^ 31 := by omega) (hb : b < 2 ^ 31 := by omega) : (x < y → A) ∧ (¬ x < y → B) := by
  subst hx hy
  rw [nI_ltI ha hb]
  exact ⟨f, fun z => g (by omega)⟩
theorem pk_eq {x y : Int32} {A B : Prop} (a b : Nat) (f : a = b → A) (g : a ≠ b → B) (hx : x = nI a := by rfl) (hy : y = nI b := by rfl) (ha : a < 2 ^ 31 := by omega) (hb : b < 2 ^ 31 := by omega) : (x = y → A) ∧ (¬ x = y → B) := by
  subst hx hy
  rw [nI_eq ha hb]
  exact ⟨f, g⟩
theorem pk_in {x : Int32} (n N : Nat) (h : n < N) (hx : x = nI n := by rfl) (hN : N < 2 ^ 31 := by omega) : vp_in x N := by
  subst hx
  exact vp_in_nI h hN
theorem pk_cl {x : Int32} (n : Nat) (hx : x = nI n := by rfl) (h : n < 2 ^ 31 := by omega) : x.toNatClampNeg = n := by
  subst hx
  exact nI_clamp h
theorem pk_tn {n : Nat} (h : n < 2 ^ 32) : (nI n).toBitVec.toNat = n := Nat.mod_eq_of_lt h
theorem pk_and (x : Int32) {m : Int32} (k : Nat) (hm : m.toBitVec.toNat = 2 ^ k - 1) : x &&& m = nI (x.toBitVec.toNat % 2 ^ k) := by
  apply Int32.toBitVec_inj.mp
  apply BitVec.eq_of_toNat_eq
  rw [Int32.toBitVec_and, BitVec.toNat_and, hm, Nat.and_two_pow_sub_one_eq_mod]
  show _ = (BitVec.ofNat 32 _).toNat
  rw [BitVec.toNat_ofNat]
  exact (Nat.mod_eq_of_lt (Nat.lt_of_le_of_lt (Nat.mod_le _ _) x.toBitVec.isLt)).symm
theorem pk_andN {n : Nat} (h : n < 2 ^ 32) {m : Int32} (k : Nat) (hm : m.toBitVec.toNat = 2 ^ k - 1) : nI n &&& m = nI (n % 2 ^ k) := by
  rw [pk_and _ k hm, pk_tn h]
theorem pk_andE (x : Int32) {m : Int32} (k : Nat) (hm : m.toBitVec.toNat = 2 ^ k - 1) : ∃ j : Nat, j < 2 ^ k ∧ x &&& m = nI j := ⟨_, Nat.mod_lt _ (Nat.two_pow_pos k), pk_and x k hm⟩
theorem pk_andIn (x : Int32) {m : Int32} (k : Nat) (hm : m.toBitVec.toNat = 2 ^ k - 1) (hk : k ≤ 30) : vp_in (x &&& m) (2 ^ k) := by
  obtain ⟨j, hj, e⟩ := pk_andE x k hm
  rw [e]
  exact vp_in_nI hj (Nat.lt_of_le_of_lt (Nat.pow_le_pow_right (by decide) hk) (by decide))
theorem pk_shl (a s : Int32) (k : Nat) (hs : (s.toBitVec.smod 32).toNat = k) : (a <<< s).toBitVec.toNat = a.toBitVec.toNat * 2 ^ k % 2 ^ 32 := by
  show (a.toBitVec <<< (s.toBitVec.smod 32).toNat).toNat = _
  rw [hs, BitVec.toNat_shiftLeft, Nat.shiftLeft_eq]
theorem pk_shlN {n : Nat} (s : Int32) (k : Nat) (hs : (s.toBitVec.smod 32).toNat = k) (h : n * 2 ^ k < 2 ^ 32) : nI n <<< s = nI (n * 2 ^ k) := by
  apply Int32.toBitVec_inj.mp
  apply BitVec.eq_of_toNat_eq
  have hn : n < 2 ^ 32 := Nat.lt_of_le_of_lt (Nat.le_mul_of_pos_right n (Nat.two_pow_pos k)) h
  rw [pk_shl _ _ k hs, pk_tn hn, pk_tn h, Nat.mod_eq_of_lt h]
theorem pk_shr (a s : Int32) (k : Nat) (hs : (s.toBitVec.smod 32).toNat = k) : (a >>> s).toInt = a.toInt >>> k := by
  show (a.toBitVec.sshiftRight (s.toBitVec.smod 32).toNat).toInt = _
  rw [hs, BitVec.toInt_sshiftRight]
  rfl
theorem pk_shrN {n : Nat} (h : n < 2 ^ 31) (s : Int32) (k : Nat) (hs : (s.toBitVec.smod 32).toNat = k) : nI n >>> s = nI (n / 2 ^ k) := by
  apply Int32.toInt_inj.mp
  have h2 : n / 2 ^ k ≤ n := Nat.div_le_self _ _
  rw [pk_shr _ _ k hs, nI_toInt h, nI_toInt (by omega), Int.shiftRight_eq_div_pow]
  rfl
theorem pk_ushr (x s : Int32) (k : Nat) (hs : ((s.toUInt32 &&& Int32.toUInt32 31).toBitVec % 32).toNat = k) : (x.toUInt32 >>> (s.toUInt32 &&& Int32.toUInt32 31)).toInt32.toBitVec.toNat = x.toBitVec.toNat / 2 ^ k := by
  have e : (x.toUInt32 >>> (s.toUInt32 &&& Int32.toUInt32 31)).toInt32.toBitVec = x.toBitVec >>> k := by
    rw [← hs]
    exact UInt32.toBitVec_shiftRight _ _
  rw [e, BitVec.toNat_ushiftRight, Nat.shiftRight_eq_div_pow]
theorem pk_ushrN {n : Nat} (hn : n < 2 ^ 32) (s : Int32) (k : Nat) (hs : ((s.toUInt32 &&& Int32.toUInt32 31).toBitVec % 32).toNat = k) : ((nI n).toUInt32 >>> (s.toUInt32 &&& Int32.toUInt32 31)).toInt32 = nI (n / 2 ^ k) := by
  apply Int32.toBitVec_inj.mp
  apply BitVec.eq_of_toNat_eq
  rw [pk_ushr _ s k hs, pk_tn hn, pk_tn (Nat.lt_of_le_of_lt (Nat.div_le_self _ _) hn)]
theorem pk_nb (z : Int32) : narrow .byte (.int z.toInt8.toInt32) = .int z.toInt8.toInt32 := congrArg Value.int (by simp)
theorem pk_ns (z : Int32) : narrow .short (.int z.toInt16.toInt32) = .int z.toInt16.toInt32 := congrArg Value.int (by simp)
theorem pk_fb (r : Int32) : fits .byte (.int r.toInt8.toInt32) = true := by
  have ⟨a, b⟩ := lg_i2b_range r
  have h1 : (-128 : Int32).toInt = -128 := by decide
  have h2 : (127 : Int32).toInt = 127 := by decide
  simp only [fits, Bool.and_eq_true, decide_eq_true_eq, Int32.le_iff_toInt_le, h1, h2]
  omega
theorem pk_fs (r : Int32) : fits .short (.int r.toInt16.toInt32) = true := by
  have ⟨a, b⟩ := lg_i2s_range r
  have h1 : (-32768 : Int32).toInt = -32768 := by decide
  have h2 : (32767 : Int32).toInt = 32767 := by decide
  simp only [fits, Bool.and_eq_true, decide_eq_true_eq, Int32.le_iff_toInt_le, h1, h2]
  omega
theorem pk_charN {q : Nat} (hq : q < 65536) : narrow .char (.int (nI q)) = .int (nI q) ∧ fits .char (.int (nI q)) = true := by
  constructor
  · have e : (nI q).toUInt32.toUInt16.toUInt32.toInt32 = nI q := by
      apply Int32.toBitVec_inj.mp
      apply BitVec.eq_of_toNat_eq
      show (nI q).toUInt32.toUInt16.toUInt32.toNat = q % 2 ^ 32
      rw [UInt16.toNat_toUInt32, UInt32.toNat_toUInt16, show (nI q).toUInt32.toNat = q % 2 ^ 32 from rfl]
      omega
    exact congrArg Value.int e
  · have a : (0 : Int32) ≤ nI q := nI_pos' (by omega)
    have b : nI q ≤ 65535 := nI_le (b := 65535) (by omega) (by decide)
    show (decide ((0 : Int32) ≤ nI q) && decide (nI q ≤ 65535)) = true
    rw [decide_eq_true a, decide_eq_true b]
    rfl
theorem pk_char (x : Int32) : (x.toUInt32 % 65536).toInt32 = nI (x.toBitVec.toNat % 65536) := by
  apply Int32.toBitVec_inj.mp
  apply BitVec.eq_of_toNat_eq
  rw [pk_tn (by omega)]
  show (x.toUInt32 % 65536).toNat = _
  rw [UInt32.toNat_mod]
  rfl
theorem pk_nc (x : Int32) : narrow .char (.int (x.toUInt32 % 65536).toInt32) = .int (x.toUInt32 % 65536).toInt32 := by
  rw [pk_char]
  exact (pk_charN (Nat.mod_lt _ (by decide))).1
theorem pk_fc (x : Int32) : fits .char (.int (x.toUInt32 % 65536).toInt32) = true := by
  rw [pk_char]
  exact (pk_charN (Nat.mod_lt _ (by decide))).2
theorem pk_vb (z : Int32) : vp_nar .byte z.toInt8.toInt32 = z.toInt8.toInt32 := by rw [vp_nar_byte]; simp
theorem pk_vs (z : Int32) : vp_nar .short z.toInt16.toInt32 = z.toInt16.toInt32 := by rw [vp_nar_short]; simp
theorem pk_vc (z : Int32) : vp_nar .char (z.toUInt32 % 65536).toInt32 = (z.toUInt32 % 65536).toInt32 := Value.int.inj (pk_nc z)
theorem pk_lT {n : Nat} (h : n < 2 ^ 63) : (lN n).toInt = (n : Int) := lg_ofNat_toInt h
theorem pk_lLT {a b : Nat} (ha : a < 2 ^ 63) (hb : b < 2 ^ 63) : lN a < lN b ↔ a < b := by
  rw [Int64.lt_iff_toInt_lt, pk_lT ha, pk_lT hb]; omega
theorem pk_lLE {a b : Nat} (ha : a < 2 ^ 63) (hb : b < 2 ^ 63) : lN a ≤ lN b ↔ a ≤ b := by
  rw [Int64.le_iff_toInt_le, pk_lT ha, pk_lT hb]; omega
theorem pk_lEQ {a b : Nat} (ha : a < 2 ^ 63) (hb : b < 2 ^ 63) : lN a = lN b ↔ a = b := by
  rw [← Int64.toInt_inj, pk_lT ha, pk_lT hb]; omega
theorem pk_lOf {x : Int64} (h : ¬ x < 0) : ∃ k : Nat, k < 2 ^ 63 ∧ x = lN k := by
  rw [Int64.lt_iff_toInt_lt] at h
  have h0 : (0 : Int64).toInt = 0 := by decide
  have hx := Int64.toInt_lt x
  refine ⟨x.toInt.toNat, by omega, Int64.toInt_inj.mp ?_⟩
  rw [pk_lT (by omega)]
  omega
theorem pk_lDiv {a b : Nat} (ha : a < 2 ^ 63) (h0 : 0 < b) (hb : b < 2 ^ 63) : lN a / lN b = lN (a / b) := by
  apply Int64.toInt_inj.mp
  rw [lg_ldiv_nonneg (by rw [pk_lT ha]; omega) (by rw [pk_lT hb]; omega), pk_lT ha, pk_lT hb, pk_lT (Nat.lt_of_le_of_lt (Nat.div_le_self a b) ha)]
  rfl
theorem pk_lRem {a b : Nat} (ha : a < 2 ^ 63) (h0 : 0 < b) (hb : b < 2 ^ 63) : lN a - lN a / lN b * lN b = lN (a % b) := by
  rw [pk_lDiv ha h0 hb, lN_mul, lN_sub (Nat.div_mul_le_self a b)]
  exact congrArg lN (by have := Nat.div_add_mod' a b; omega)
theorem pk_loop {σ : Type} (W : Nat → Nat → σ → Prop) (I : Nat → σ → Prop) (e i0 : Nat) (s : σ) (hi : i0 ≤ e) (h0 : I i0 s) (hx : ∀ n s, I e s → W (n + 1) e s)
    (hs : ∀ n i s, i < e → I i s → (∀ s', I (i + 1) s' → W n (i + 1) s') → W (n + 1) i s) : ∃ n, W n i0 s :=
  ⟨e + 1, loop_i W I e hx hs (e + 1) i0 s hi (by omega) h0⟩
theorem pk_loopD {σ : Type} (W : Nat → Nat → σ → Prop) (I : Nat → σ → Prop) (hx : ∀ n s, I 0 s → W (n + 1) 0 s)
    (hs : ∀ n i s, I (i + 1) s → (∀ s', I i s' → W n i s') → W (n + 1) (i + 1) s) : ∀ (e : Nat) (s : σ), I e s → W (e + 1) e s := by
  intro e
  induction e with
  | zero => exact fun s h => hx 0 s h
  | succ e ih => exact fun s h => hs (e + 1) e s h (fun s' h' => ih s' h')
theorem lp1 {A1 : Type} (W : Nat → A1 → Prop) (I : A1 → Prop) (μ : A1 → Nat) (hs : ∀ (n : Nat) (a1 : A1), I a1 → (∀ (b1 : A1), I b1 → μ b1 < μ a1 → W n b1) → W (n + 1) a1) (a1 : A1) (h : I a1) : ∃ n, W n a1 :=
  loop_m (σ := A1) (fun n s => W n s) (fun s => I s) (fun s => μ s) (fun n s hI hk => hs n s hI (fun b1 h9 hm => hk b1 h9 hm)) a1 h
theorem lp2 {A1 A2 : Type} (W : Nat → A1 → A2 → Prop) (I : A1 → A2 → Prop) (μ : A1 → A2 → Nat) (hs : ∀ (n : Nat) (a1 : A1) (a2 : A2), I a1 a2 → (∀ (b1 : A1) (b2 : A2), I b1 b2 → μ b1 b2 < μ a1 a2 → W n b1 b2) → W (n + 1) a1 a2) (a1 : A1) (a2 : A2) (h : I a1 a2) : ∃ n, W n a1 a2 :=
  loop_m (σ := A1 × A2) (fun n s => W n s.1 s.2) (fun s => I s.1 s.2) (fun s => μ s.1 s.2) (fun n s hI hk => hs n s.1 s.2 hI (fun b1 b2 h9 hm => hk (b1, b2) h9 hm)) (a1, a2) h
theorem lp3 {A1 A2 A3 : Type} (W : Nat → A1 → A2 → A3 → Prop) (I : A1 → A2 → A3 → Prop) (μ : A1 → A2 → A3 → Nat) (hs : ∀ (n : Nat) (a1 : A1) (a2 : A2) (a3 : A3), I a1 a2 a3 → (∀ (b1 : A1) (b2 : A2) (b3 : A3), I b1 b2 b3 → μ b1 b2 b3 < μ a1 a2 a3 → W n b1 b2 b3) → W (n + 1) a1 a2 a3) (a1 : A1) (a2 : A2) (a3 : A3) (h : I a1 a2 a3) : ∃ n, W n a1 a2 a3 :=
  loop_m (σ := A1 × A2 × A3) (fun n s => W n s.1 s.2.1 s.2.2) (fun s => I s.1 s.2.1 s.2.2) (fun s => μ s.1 s.2.1 s.2.2) (fun n s hI hk => hs n s.1 s.2.1 s.2.2 hI (fun b1 b2 b3 h9 hm => hk (b1, b2, b3) h9 hm)) (a1, a2, a3) h
theorem lp4 {A1 A2 A3 A4 : Type} (W : Nat → A1 → A2 → A3 → A4 → Prop) (I : A1 → A2 → A3 → A4 → Prop) (μ : A1 → A2 → A3 → A4 → Nat) (hs : ∀ (n : Nat) (a1 : A1) (a2 : A2) (a3 : A3) (a4 : A4), I a1 a2 a3 a4 → (∀ (b1 : A1) (b2 : A2) (b3 : A3) (b4 : A4), I b1 b2 b3 b4 → μ b1 b2 b3 b4 < μ a1 a2 a3 a4 → W n b1 b2 b3 b4) → W (n + 1) a1 a2 a3 a4) (a1 : A1) (a2 : A2) (a3 : A3) (a4 : A4) (h : I a1 a2 a3 a4) : ∃ n, W n a1 a2 a3 a4 :=
  loop_m (σ := A1 × A2 × A3 × A4) (fun n s => W n s.1 s.2.1 s.2.2.1 s.2.2.2) (fun s => I s.1 s.2.1 s.2.2.1 s.2.2.2) (fun s => μ s.1 s.2.1 s.2.2.1 s.2.2.2) (fun n s hI hk => hs n s.1 s.2.1 s.2.2.1 s.2.2.2 hI (fun b1 b2 b3 b4 h9 hm => hk (b1, b2, b3, b4) h9 hm)) (a1, a2, a3, a4) h
theorem lp5 {A1 A2 A3 A4 A5 : Type} (W : Nat → A1 → A2 → A3 → A4 → A5 → Prop) (I : A1 → A2 → A3 → A4 → A5 → Prop) (μ : A1 → A2 → A3 → A4 → A5 → Nat) (hs : ∀ (n : Nat) (a1 : A1) (a2 : A2) (a3 : A3) (a4 : A4) (a5 : A5), I a1 a2 a3 a4 a5 → (∀ (b1 : A1) (b2 : A2) (b3 : A3) (b4 : A4) (b5 : A5), I b1 b2 b3 b4 b5 → μ b1 b2 b3 b4 b5 < μ a1 a2 a3 a4 a5 → W n b1 b2 b3 b4 b5) → W (n + 1) a1 a2 a3 a4 a5) (a1 : A1) (a2 : A2) (a3 : A3) (a4 : A4) (a5 : A5) (h : I a1 a2 a3 a4 a5) : ∃ n, W n a1 a2 a3 a4 a5 :=
  loop_m (σ := A1 × A2 × A3 × A4 × A5) (fun n s => W n s.1 s.2.1 s.2.2.1 s.2.2.2.1 s.2.2.2.2) (fun s => I s.1 s.2.1 s.2.2.1 s.2.2.2.1 s.2.2.2.2) (fun s => μ s.1 s.2.1 s.2.2.1 s.2.2.2.1 s.2.2.2.2) (fun n s hI hk => hs n s.1 s.2.1 s.2.2.1 s.2.2.2.1 s.2.2.2.2 hI (fun b1 b2 b3 b4 b5 h9 hm => hk (b1, b2, b3, b4, b5) h9 hm)) (a1, a2, a3, a4, a5) h
theorem lp6 {A1 A2 A3 A4 A5 A6 : Type} (W : Nat → A1 → A2 → A3 → A4 → A5 → A6 → Prop) (I : A1 → A2 → A3 → A4 → A5 → A6 → Prop) (μ : A1 → A2 → A3 → A4 → A5 → A6 → Nat) (hs : ∀ (n : Nat) (a1 : A1) (a2 : A2) (a3 : A3) (a4 : A4) (a5 : A5) (a6 : A6), I a1 a2 a3 a4 a5 a6 → (∀ (b1 : A1) (b2 : A2) (b3 : A3) (b4 : A4) (b5 : A5) (b6 : A6), I b1 b2 b3 b4 b5 b6 → μ b1 b2 b3 b4 b5 b6 < μ a1 a2 a3 a4 a5 a6 → W n b1 b2 b3 b4 b5 b6) → W (n + 1) a1 a2 a3 a4 a5 a6) (a1 : A1) (a2 : A2) (a3 : A3) (a4 : A4) (a5 : A5) (a6 : A6) (h : I a1 a2 a3 a4 a5 a6) : ∃ n, W n a1 a2 a3 a4 a5 a6 :=
  loop_m (σ := A1 × A2 × A3 × A4 × A5 × A6) (fun n s => W n s.1 s.2.1 s.2.2.1 s.2.2.2.1 s.2.2.2.2.1 s.2.2.2.2.2) (fun s => I s.1 s.2.1 s.2.2.1 s.2.2.2.1 s.2.2.2.2.1 s.2.2.2.2.2) (fun s => μ s.1 s.2.1 s.2.2.1 s.2.2.2.1 s.2.2.2.2.1 s.2.2.2.2.2) (fun n s hI hk => hs n s.1 s.2.1 s.2.2.1 s.2.2.2.1 s.2.2.2.2.1 s.2.2.2.2.2 hI (fun b1 b2 b3 b4 b5 b6 h9 hm => hk (b1, b2, b3, b4, b5, b6) h9 hm)) (a1, a2, a3, a4, a5, a6) h
theorem lp7 {A1 A2 A3 A4 A5 A6 A7 : Type} (W : Nat → A1 → A2 → A3 → A4 → A5 → A6 → A7 → Prop) (I : A1 → A2 → A3 → A4 → A5 → A6 → A7 → Prop) (μ : A1 → A2 → A3 → A4 → A5 → A6 → A7 → Nat) (hs : ∀ (n : Nat) (a1 : A1) (a2 : A2) (a3 : A3) (a4 : A4) (a5 : A5) (a6 : A6) (a7 : A7), I a1 a2 a3 a4 a5 a6 a7 → (∀ (b1 : A1) (b2 : A2) (b3 : A3) (b4 : A4) (b5 : A5) (b6 : A6) (b7 : A7), I b1 b2 b3 b4 b5 b6 b7 → μ b1 b2 b3 b4 b5 b6 b7 < μ a1 a2 a3 a4 a5 a6 a7 → W n b1 b2 b3 b4 b5 b6 b7) → W (n + 1) a1 a2 a3 a4 a5 a6 a7) (a1 : A1) (a2 : A2) (a3 : A3) (a4 : A4) (a5 : A5) (a6 : A6) (a7 : A7) (h : I a1 a2 a3 a4 a5 a6 a7) : ∃ n, W n a1 a2 a3 a4 a5 a6 a7 :=
  loop_m (σ := A1 × A2 × A3 × A4 × A5 × A6 × A7) (fun n s => W n s.1 s.2.1 s.2.2.1 s.2.2.2.1 s.2.2.2.2.1 s.2.2.2.2.2.1 s.2.2.2.2.2.2) (fun s => I s.1 s.2.1 s.2.2.1 s.2.2.2.1 s.2.2.2.2.1 s.2.2.2.2.2.1 s.2.2.2.2.2.2) (fun s => μ s.1 s.2.1 s.2.2.1 s.2.2.2.1 s.2.2.2.2.1 s.2.2.2.2.2.1 s.2.2.2.2.2.2) (fun n s hI hk => hs n s.1 s.2.1 s.2.2.1 s.2.2.2.1 s.2.2.2.2.1 s.2.2.2.2.2.1 s.2.2.2.2.2.2 hI (fun b1 b2 b3 b4 b5 b6 b7 h9 hm => hk (b1, b2, b3, b4, b5, b6, b7) h9 hm)) (a1, a2, a3, a4, a5, a6, a7) h
theorem lp8 {A1 A2 A3 A4 A5 A6 A7 A8 : Type} (W : Nat → A1 → A2 → A3 → A4 → A5 → A6 → A7 → A8 → Prop) (I : A1 → A2 → A3 → A4 → A5 → A6 → A7 → A8 → Prop) (μ : A1 → A2 → A3 → A4 → A5 → A6 → A7 → A8 → Nat) (hs : ∀ (n : Nat) (a1 : A1) (a2 : A2) (a3 : A3) (a4 : A4) (a5 : A5) (a6 : A6) (a7 : A7) (a8 : A8), I a1 a2 a3 a4 a5 a6 a7 a8 → (∀ (b1 : A1) (b2 : A2) (b3 : A3) (b4 : A4) (b5 : A5) (b6 : A6) (b7 : A7) (b8 : A8), I b1 b2 b3 b4 b5 b6 b7 b8 → μ b1 b2 b3 b4 b5 b6 b7 b8 < μ a1 a2 a3 a4 a5 a6 a7 a8 → W n b1 b2 b3 b4 b5 b6 b7 b8) → W (n + 1) a1 a2 a3 a4 a5 a6 a7 a8) (a1 : A1) (a2 : A2) (a3 : A3) (a4 : A4) (a5 : A5) (a6 : A6) (a7 : A7) (a8 : A8) (h : I a1 a2 a3 a4 a5 a6 a7 a8) : ∃ n, W n a1 a2 a3 a4 a5 a6 a7 a8 :=
  loop_m (σ := A1 × A2 × A3 × A4 × A5 × A6 × A7 × A8) (fun n s => W n s.1 s.2.1 s.2.2.1 s.2.2.2.1 s.2.2.2.2.1 s.2.2.2.2.2.1 s.2.2.2.2.2.2.1 s.2.2.2.2.2.2.2) (fun s => I s.1 s.2.1 s.2.2.1 s.2.2.2.1 s.2.2.2.2.1 s.2.2.2.2.2.1 s.2.2.2.2.2.2.1 s.2.2.2.2.2.2.2) (fun s => μ s.1 s.2.1 s.2.2.1 s.2.2.2.1 s.2.2.2.2.1 s.2.2.2.2.2.1 s.2.2.2.2.2.2.1 s.2.2.2.2.2.2.2) (fun n s hI hk => hs n s.1 s.2.1 s.2.2.1 s.2.2.2.1 s.2.2.2.2.1 s.2.2.2.2.2.1 s.2.2.2.2.2.2.1 s.2.2.2.2.2.2.2 hI (fun b1 b2 b3 b4 b5 b6 b7 b8 h9 hm => hk (b1, b2, b3, b4, b5, b6, b7, b8) h9 hm)) (a1, a2, a3, a4, a5, a6, a7, a8) h
theorem lp9 {A1 A2 A3 A4 A5 A6 A7 A8 A9 : Type} (W : Nat → A1 → A2 → A3 → A4 → A5 → A6 → A7 → A8 → A9 → Prop) (I : A1 → A2 → A3 → A4 → A5 → A6 → A7 → A8 → A9 → Prop) (μ : A1 → A2 → A3 → A4 → A5 → A6 → A7 → A8 → A9 → Nat) (hs : ∀ (n : Nat) (a1 : A1) (a2 : A2) (a3 : A3) (a4 : A4) (a5 : A5) (a6 : A6) (a7 : A7) (a8 : A8) (a9 : A9), I a1 a2 a3 a4 a5 a6 a7 a8 a9 → (∀ (b1 : A1) (b2 : A2) (b3 : A3) (b4 : A4) (b5 : A5) (b6 : A6) (b7 : A7) (b8 : A8) (b9 : A9), I b1 b2 b3 b4 b5 b6 b7 b8 b9 → μ b1 b2 b3 b4 b5 b6 b7 b8 b9 < μ a1 a2 a3 a4 a5 a6 a7 a8 a9 → W n b1 b2 b3 b4 b5 b6 b7 b8 b9) → W (n + 1) a1 a2 a3 a4 a5 a6 a7 a8 a9) (a1 : A1) (a2 : A2) (a3 : A3) (a4 : A4) (a5 : A5) (a6 : A6) (a7 : A7) (a8 : A8) (a9 : A9) (h : I a1 a2 a3 a4 a5 a6 a7 a8 a9) : ∃ n, W n a1 a2 a3 a4 a5 a6 a7 a8 a9 :=
  loop_m (σ := A1 × A2 × A3 × A4 × A5 × A6 × A7 × A8 × A9) (fun n s => W n s.1 s.2.1 s.2.2.1 s.2.2.2.1 s.2.2.2.2.1 s.2.2.2.2.2.1 s.2.2.2.2.2.2.1 s.2.2.2.2.2.2.2.1 s.2.2.2.2.2.2.2.2) (fun s => I s.1 s.2.1 s.2.2.1 s.2.2.2.1 s.2.2.2.2.1 s.2.2.2.2.2.1 s.2.2.2.2.2.2.1 s.2.2.2.2.2.2.2.1 s.2.2.2.2.2.2.2.2) (fun s => μ s.1 s.2.1 s.2.2.1 s.2.2.2.1 s.2.2.2.2.1 s.2.2.2.2.2.1 s.2.2.2.2.2.2.1 s.2.2.2.2.2.2.2.1 s.2.2.2.2.2.2.2.2) (fun n s hI hk => hs n s.1 s.2.1 s.2.2.1 s.2.2.2.1 s.2.2.2.2.1 s.2.2.2.2.2.1 s.2.2.2.2.2.2.1 s.2.2.2.2.2.2.2.1 s.2.2.2.2.2.2.2.2 hI (fun b1 b2 b3 b4 b5 b6 b7 b8 b9 h9 hm => hk (b1, b2, b3, b4, b5, b6, b7, b8, b9) h9 hm)) (a1, a2, a3, a4, a5, a6, a7, a8, a9) h
theorem lp10 {A1 A2 A3 A4 A5 A6 A7 A8 A9 A10 : Type} (W : Nat → A1 → A2 → A3 → A4 → A5 → A6 → A7 → A8 → A9 → A10 → Prop) (I : A1 → A2 → A3 → A4 → A5 → A6 → A7 → A8 → A9 → A10 → Prop) (μ : A1 → A2 → A3 → A4 → A5 → A6 → A7 → A8 → A9 → A10 → Nat) (hs : ∀ (n : Nat) (a1 : A1) (a2 : A2) (a3 : A3) (a4 : A4) (a5 : A5) (a6 : A6) (a7 : A7) (a8 : A8) (a9 : A9) (a10 : A10), I a1 a2 a3 a4 a5 a6 a7 a8 a9 a10 → (∀ (b1 : A1) (b2 : A2) (b3 : A3) (b4 : A4) (b5 : A5) (b6 : A6) (b7 : A7) (b8 : A8) (b9 : A9) (b10 : A10), I b1 b2 b3 b4 b5 b6 b7 b8 b9 b10 → μ b1 b2 b3 b4 b5 b6 b7 b8 b9 b10 < μ a1 a2 a3 a4 a5 a6 a7 a8 a9 a10 → W n b1 b2 b3 b4 b5 b6 b7 b8 b9 b10) → W (n + 1) a1 a2 a3 a4 a5 a6 a7 a8 a9 a10) (a1 : A1) (a2 : A2) (a3 : A3) (a4 : A4) (a5 : A5) (a6 : A6) (a7 : A7) (a8 : A8) (a9 : A9) (a10 : A10) (h : I a1 a2 a3 a4 a5 a6 a7 a8 a9 a10) : ∃ n, W n a1 a2 a3 a4 a5 a6 a7 a8 a9 a10 :=
  loop_m (σ := A1 × A2 × A3 × A4 × A5 × A6 × A7 × A8 × A9 × A10) (fun n s => W n s.1 s.2.1 s.2.2.1 s.2.2.2.1 s.2.2.2.2.1 s.2.2.2.2.2.1 s.2.2.2.2.2.2.1 s.2.2.2.2.2.2.2.1 s.2.2.2.2.2.2.2.2.1 s.2.2.2.2.2.2.2.2.2) (fun s => I s.1 s.2.1 s.2.2.1 s.2.2.2.1 s.2.2.2.2.1 s.2.2.2.2.2.1 s.2.2.2.2.2.2.1 s.2.2.2.2.2.2.2.1 s.2.2.2.2.2.2.2.2.1 s.2.2.2.2.2.2.2.2.2) (fun s => μ s.1 s.2.1 s.2.2.1 s.2.2.2.1 s.2.2.2.2.1 s.2.2.2.2.2.1 s.2.2.2.2.2.2.1 s.2.2.2.2.2.2.2.1 s.2.2.2.2.2.2.2.2.1 s.2.2.2.2.2.2.2.2.2) (fun n s hI hk => hs n s.1 s.2.1 s.2.2.1 s.2.2.2.1 s.2.2.2.2.1 s.2.2.2.2.2.1 s.2.2.2.2.2.2.1 s.2.2.2.2.2.2.2.1 s.2.2.2.2.2.2.2.2.1 s.2.2.2.2.2.2.2.2.2 hI (fun b1 b2 b3 b4 b5 b6 b7 b8 b9 b10 h9 hm => hk (b1, b2, b3, b4, b5, b6, b7, b8, b9, b10) h9 hm)) (a1, a2, a3, a4, a5, a6, a7, a8, a9, a10) h
theorem lp11 {A1 A2 A3 A4 A5 A6 A7 A8 A9 A10 A11 : Type} (W : Nat → A1 → A2 → A3 → A4 → A5 → A6 → A7 → A8 → A9 → A10 → A11 → Prop) (I : A1 → A2 → A3 → A4 → A5 → A6 → A7 → A8 → A9 → A10 → A11 → Prop) (μ : A1 → A2 → A3 → A4 → A5 → A6 → A7 → A8 → A9 → A10 → A11 → Nat) (hs : ∀ (n : Nat) (a1 : A1) (a2 : A2) (a3 : A3) (a4 : A4) (a5 : A5) (a6 : A6) (a7 : A7) (a8 : A8) (a9 : A9) (a10 : A10) (a11 : A11), I a1 a2 a3 a4 a5 a6 a7 a8 a9 a10 a11 → (∀ (b1 : A1) (b2 : A2) (b3 : A3) (b4 : A4) (b5 : A5) (b6 : A6) (b7 : A7) (b8 : A8) (b9 : A9) (b10 : A10) (b11 : A11), I b1 b2 b3 b4 b5 b6 b7 b8 b9 b10 b11 → μ b1 b2 b3 b4 b5 b6 b7 b8 b9 b10 b11 < μ a1 a2 a3 a4 a5 a6 a7 a8 a9 a10 a11 → W n b1 b2 b3 b4 b5 b6 b7 b8 b9 b10 b11) → W (n + 1) a1 a2 a3 a4 a5 a6 a7 a8 a9 a10 a11) (a1 : A1) (a2 : A2) (a3 : A3) (a4 : A4) (a5 : A5) (a6 : A6) (a7 : A7) (a8 : A8) (a9 : A9) (a10 : A10) (a11 : A11) (h : I a1 a2 a3 a4 a5 a6 a7 a8 a9 a10 a11) : ∃ n, W n a1 a2 a3 a4 a5 a6 a7 a8 a9 a10 a11 :=
  loop_m (σ := A1 × A2 × A3 × A4 × A5 × A6 × A7 × A8 × A9 × A10 × A11) (fun n s => W n s.1 s.2.1 s.2.2.1 s.2.2.2.1 s.2.2.2.2.1 s.2.2.2.2.2.1 s.2.2.2.2.2.2.1 s.2.2.2.2.2.2.2.1 s.2.2.2.2.2.2.2.2.1 s.2.2.2.2.2.2.2.2.2.1 s.2.2.2.2.2.2.2.2.2.2) (fun s => I s.1 s.2.1 s.2.2.1 s.2.2.2.1 s.2.2.2.2.1 s.2.2.2.2.2.1 s.2.2.2.2.2.2.1 s.2.2.2.2.2.2.2.1 s.2.2.2.2.2.2.2.2.1 s.2.2.2.2.2.2.2.2.2.1 s.2.2.2.2.2.2.2.2.2.2) (fun s => μ s.1 s.2.1 s.2.2.1 s.2.2.2.1 s.2.2.2.2.1 s.2.2.2.2.2.1 s.2.2.2.2.2.2.1 s.2.2.2.2.2.2.2.1 s.2.2.2.2.2.2.2.2.1 s.2.2.2.2.2.2.2.2.2.1 s.2.2.2.2.2.2.2.2.2.2) (fun n s hI hk => hs n s.1 s.2.1 s.2.2.1 s.2.2.2.1 s.2.2.2.2.1 s.2.2.2.2.2.1 s.2.2.2.2.2.2.1 s.2.2.2.2.2.2.2.1 s.2.2.2.2.2.2.2.2.1 s.2.2.2.2.2.2.2.2.2.1 s.2.2.2.2.2.2.2.2.2.2 hI (fun b1 b2 b3 b4 b5 b6 b7 b8 b9 b10 b11 h9 hm => hk (b1, b2, b3, b4, b5, b6, b7, b8, b9, b10, b11) h9 hm)) (a1, a2, a3, a4, a5, a6, a7, a8, a9, a10, a11) h
theorem lp12 {A1 A2 A3 A4 A5 A6 A7 A8 A9 A10 A11 A12 : Type} (W : Nat → A1 → A2 → A3 → A4 → A5 → A6 → A7 → A8 → A9 → A10 → A11 → A12 → Prop) (I : A1 → A2 → A3 → A4 → A5 → A6 → A7 → A8 → A9 → A10 → A11 → A12 → Prop) (μ : A1 → A2 → A3 → A4 → A5 → A6 → A7 → A8 → A9 → A10 → A11 → A12 → Nat) (hs : ∀ (n : Nat) (a1 : A1) (a2 : A2) (a3 : A3) (a4 : A4) (a5 : A5) (a6 : A6) (a7 : A7) (a8 : A8) (a9 : A9) (a10 : A10) (a11 : A11) (a12 : A12), I a1 a2 a3 a4 a5 a6 a7 a8 a9 a10 a11 a12 → (∀ (b1 : A1) (b2 : A2) (b3 : A3) (b4 : A4) (b5 : A5) (b6 : A6) (b7 : A7) (b8 : A8) (b9 : A9) (b10 : A10) (b11 : A11) (b12 : A12), I b1 b2 b3 b4 b5 b6 b7 b8 b9 b10 b11 b12 → μ b1 b2 b3 b4 b5 b6 b7 b8 b9 b10 b11 b12 < μ a1 a2 a3 a4 a5 a6 a7 a8 a9 a10 a11 a12 → W n b1 b2 b3 b4 b5 b6 b7 b8 b9 b10 b11 b12) → W (n + 1) a1 a2 a3 a4 a5 a6 a7 a8 a9 a10 a11 a12) (a1 : A1) (a2 : A2) (a3 : A3) (a4 : A4) (a5 : A5) (a6 : A6) (a7 : A7) (a8 : A8) (a9 : A9) (a10 : A10) (a11 : A11) (a12 : A12) (h : I a1 a2 a3 a4 a5 a6 a7 a8 a9 a10 a11 a12) : ∃ n, W n a1 a2 a3 a4 a5 a6 a7 a8 a9 a10 a11 a12 :=
  loop_m (σ := A1 × A2 × A3 × A4 × A5 × A6 × A7 × A8 × A9 × A10 × A11 × A12) (fun n s => W n s.1 s.2.1 s.2.2.1 s.2.2.2.1 s.2.2.2.2.1 s.2.2.2.2.2.1 s.2.2.2.2.2.2.1 s.2.2.2.2.2.2.2.1 s.2.2.2.2.2.2.2.2.1 s.2.2.2.2.2.2.2.2.2.1 s.2.2.2.2.2.2.2.2.2.2.1 s.2.2.2.2.2.2.2.2.2.2.2) (fun s => I s.1 s.2.1 s.2.2.1 s.2.2.2.1 s.2.2.2.2.1 s.2.2.2.2.2.1 s.2.2.2.2.2.2.1 s.2.2.2.2.2.2.2.1 s.2.2.2.2.2.2.2.2.1 s.2.2.2.2.2.2.2.2.2.1 s.2.2.2.2.2.2.2.2.2.2.1 s.2.2.2.2.2.2.2.2.2.2.2) (fun s => μ s.1 s.2.1 s.2.2.1 s.2.2.2.1 s.2.2.2.2.1 s.2.2.2.2.2.1 s.2.2.2.2.2.2.1 s.2.2.2.2.2.2.2.1 s.2.2.2.2.2.2.2.2.1 s.2.2.2.2.2.2.2.2.2.1 s.2.2.2.2.2.2.2.2.2.2.1 s.2.2.2.2.2.2.2.2.2.2.2) (fun n s hI hk => hs n s.1 s.2.1 s.2.2.1 s.2.2.2.1 s.2.2.2.2.1 s.2.2.2.2.2.1 s.2.2.2.2.2.2.1 s.2.2.2.2.2.2.2.1 s.2.2.2.2.2.2.2.2.1 s.2.2.2.2.2.2.2.2.2.1 s.2.2.2.2.2.2.2.2.2.2.1 s.2.2.2.2.2.2.2.2.2.2.2 hI (fun b1 b2 b3 b4 b5 b6 b7 b8 b9 b10 b11 b12 h9 hm => hk (b1, b2, b3, b4, b5, b6, b7, b8, b9, b10, b11, b12) h9 hm)) (a1, a2, a3, a4, a5, a6, a7, a8, a9, a10, a11, a12) h
theorem lp13 {A1 A2 A3 A4 A5 A6 A7 A8 A9 A10 A11 A12 A13 : Type} (W : Nat → A1 → A2 → A3 → A4 → A5 → A6 → A7 → A8 → A9 → A10 → A11 → A12 → A13 → Prop) (I : A1 → A2 → A3 → A4 → A5 → A6 → A7 → A8 → A9 → A10 → A11 → A12 → A13 → Prop) (μ : A1 → A2 → A3 → A4 → A5 → A6 → A7 → A8 → A9 → A10 → A11 → A12 → A13 → Nat) (hs : ∀ (n : Nat) (a1 : A1) (a2 : A2) (a3 : A3) (a4 : A4) (a5 : A5) (a6 : A6) (a7 : A7) (a8 : A8) (a9 : A9) (a10 : A10) (a11 : A11) (a12 : A12) (a13 : A13), I a1 a2 a3 a4 a5 a6 a7 a8 a9 a10 a11 a12 a13 → (∀ (b1 : A1) (b2 : A2) (b3 : A3) (b4 : A4) (b5 : A5) (b6 : A6) (b7 : A7) (b8 : A8) (b9 : A9) (b10 : A10) (b11 : A11) (b12 : A12) (b13 : A13), I b1 b2 b3 b4 b5 b6 b7 b8 b9 b10 b11 b12 b13 → μ b1 b2 b3 b4 b5 b6 b7 b8 b9 b10 b11 b12 b13 < μ a1 a2 a3 a4 a5 a6 a7 a8 a9 a10 a11 a12 a13 → W n b1 b2 b3 b4 b5 b6 b7 b8 b9 b10 b11 b12 b13) → W (n + 1) a1 a2 a3 a4 a5 a6 a7 a8 a9 a10 a11 a12 a13) (a1 : A1) (a2 : A2) (a3 : A3) (a4 : A4) (a5 : A5) (a6 : A6) (a7 : A7) (a8 : A8) (a9 : A9) (a10 : A10) (a11 : A11) (a12 : A12) (a13 : A13) (h : I a1 a2 a3 a4 a5 a6 a7 a8 a9 a10 a11 a12 a13) : ∃ n, W n a1 a2 a3 a4 a5 a6 a7 a8 a9 a10 a11 a12 a13 :=
  loop_m (σ := A1 × A2 × A3 × A4 × A5 × A6 × A7 × A8 × A9 × A10 × A11 × A12 × A13) (fun n s => W n s.1 s.2.1 s.2.2.1 s.2.2.2.1 s.2.2.2.2.1 s.2.2.2.2.2.1 s.2.2.2.2.2.2.1 s.2.2.2.2.2.2.2.1 s.2.2.2.2.2.2.2.2.1 s.2.2.2.2.2.2.2.2.2.1 s.2.2.2.2.2.2.2.2.2.2.1 s.2.2.2.2.2.2.2.2.2.2.2.1 s.2.2.2.2.2.2.2.2.2.2.2.2) (fun s => I s.1 s.2.1 s.2.2.1 s.2.2.2.1 s.2.2.2.2.1 s.2.2.2.2.2.1 s.2.2.2.2.2.2.1 s.2.2.2.2.2.2.2.1 s.2.2.2.2.2.2.2.2.1 s.2.2.2.2.2.2.2.2.2.1 s.2.2.2.2.2.2.2.2.2.2.1 s.2.2.2.2.2.2.2.2.2.2.2.1 s.2.2.2.2.2.2.2.2.2.2.2.2) (fun s => μ s.1 s.2.1 s.2.2.1 s.2.2.2.1 s.2.2.2.2.1 s.2.2.2.2.2.1 s.2.2.2.2.2.2.1 s.2.2.2.2.2.2.2.1 s.2.2.2.2.2.2.2.2.1 s.2.2.2.2.2.2.2.2.2.1 s.2.2.2.2.2.2.2.2.2.2.1 s.2.2.2.2.2.2.2.2.2.2.2.1 s.2.2.2.2.2.2.2.2.2.2.2.2) (fun n s hI hk => hs n s.1 s.2.1 s.2.2.1 s.2.2.2.1 s.2.2.2.2.1 s.2.2.2.2.2.1 s.2.2.2.2.2.2.1 s.2.2.2.2.2.2.2.1 s.2.2.2.2.2.2.2.2.1 s.2.2.2.2.2.2.2.2.2.1 s.2.2.2.2.2.2.2.2.2.2.1 s.2.2.2.2.2.2.2.2.2.2.2.1 s.2.2.2.2.2.2.2.2.2.2.2.2 hI (fun b1 b2 b3 b4 b5 b6 b7 b8 b9 b10 b11 b12 b13 h9 hm => hk (b1, b2, b3, b4, b5, b6, b7, b8, b9, b10, b11, b12, b13) h9 hm)) (a1, a2, a3, a4, a5, a6, a7, a8, a9, a10, a11, a12, a13) h
theorem lp14 {A1 A2 A3 A4 A5 A6 A7 A8 A9 A10 A11 A12 A13 A14 : Type} (W : Nat → A1 → A2 → A3 → A4 → A5 → A6 → A7 → A8 → A9 → A10 → A11 → A12 → A13 → A14 → Prop) (I : A1 → A2 → A3 → A4 → A5 → A6 → A7 → A8 → A9 → A10 → A11 → A12 → A13 → A14 → Prop) (μ : A1 → A2 → A3 → A4 → A5 → A6 → A7 → A8 → A9 → A10 → A11 → A12 → A13 → A14 → Nat) (hs : ∀ (n : Nat) (a1 : A1) (a2 : A2) (a3 : A3) (a4 : A4) (a5 : A5) (a6 : A6) (a7 : A7) (a8 : A8) (a9 : A9) (a10 : A10) (a11 : A11) (a12 : A12) (a13 : A13) (a14 : A14), I a1 a2 a3 a4 a5 a6 a7 a8 a9 a10 a11 a12 a13 a14 → (∀ (b1 : A1) (b2 : A2) (b3 : A3) (b4 : A4) (b5 : A5) (b6 : A6) (b7 : A7) (b8 : A8) (b9 : A9) (b10 : A10) (b11 : A11) (b12 : A12) (b13 : A13) (b14 : A14), I b1 b2 b3 b4 b5 b6 b7 b8 b9 b10 b11 b12 b13 b14 → μ b1 b2 b3 b4 b5 b6 b7 b8 b9 b10 b11 b12 b13 b14 < μ a1 a2 a3 a4 a5 a6 a7 a8 a9 a10 a11 a12 a13 a14 → W n b1 b2 b3 b4 b5 b6 b7 b8 b9 b10 b11 b12 b13 b14) → W (n + 1) a1 a2 a3 a4 a5 a6 a7 a8 a9 a10 a11 a12 a13 a14) (a1 : A1) (a2 : A2) (a3 : A3) (a4 : A4) (a5 : A5) (a6 : A6) (a7 : A7) (a8 : A8) (a9 : A9) (a10 : A10) (a11 : A11) (a12 : A12) (a13 : A13) (a14 : A14) (h : I a1 a2 a3 a4 a5 a6 a7 a8 a9 a10 a11 a12 a13 a14) : ∃ n, W n a1 a2 a3 a4 a5 a6 a7 a8 a9 a10 a11 a12 a13 a14 :=
  loop_m (σ := A1 × A2 × A3 × A4 × A5 × A6 × A7 × A8 × A9 × A10 × A11 × A12 × A13 × A14) (fun n s => W n s.1 s.2.1 s.2.2.1 s.2.2.2.1 s.2.2.2.2.1 s.2.2.2.2.2.1 s.2.2.2.2.2.2.1 s.2.2.2.2.2.2.2.1 s.2.2.2.2.2.2.2.2.1 s.2.2.2.2.2.2.2.2.2.1 s.2.2.2.2.2.2.2.2.2.2.1 s.2.2.2.2.2.2.2.2.2.2.2.1 s.2.2.2.2.2.2.2.2.2.2.2.2.1 s.2.2.2.2.2.2.2.2.2.2.2.2.2) (fun s => I s.1 s.2.1 s.2.2.1 s.2.2.2.1 s.2.2.2.2.1 s.2.2.2.2.2.1 s.2.2.2.2.2.2.1 s.2.2.2.2.2.2.2.1 s.2.2.2.2.2.2.2.2.1 s.2.2.2.2.2.2.2.2.2.1 s.2.2.2.2.2.2.2.2.2.2.1 s.2.2.2.2.2.2.2.2.2.2.2.1 s.2.2.2.2.2.2.2.2.2.2.2.2.1 s.2.2.2.2.2.2.2.2.2.2.2.2.2) (fun s => μ s.1 s.2.1 s.2.2.1 s.2.2.2.1 s.2.2.2.2.1 s.2.2.2.2.2.1 s.2.2.2.2.2.2.1 s.2.2.2.2.2.2.2.1 s.2.2.2.2.2.2.2.2.1 s.2.2.2.2.2.2.2.2.2.1 s.2.2.2.2.2.2.2.2.2.2.1 s.2.2.2.2.2.2.2.2.2.2.2.1 s.2.2.2.2.2.2.2.2.2.2.2.2.1 s.2.2.2.2.2.2.2.2.2.2.2.2.2) (fun n s hI hk => hs n s.1 s.2.1 s.2.2.1 s.2.2.2.1 s.2.2.2.2.1 s.2.2.2.2.2.1 s.2.2.2.2.2.2.1 s.2.2.2.2.2.2.2.1 s.2.2.2.2.2.2.2.2.1 s.2.2.2.2.2.2.2.2.2.1 s.2.2.2.2.2.2.2.2.2.2.1 s.2.2.2.2.2.2.2.2.2.2.2.1 s.2.2.2.2.2.2.2.2.2.2.2.2.1 s.2.2.2.2.2.2.2.2.2.2.2.2.2 hI (fun b1 b2 b3 b4 b5 b6 b7 b8 b9 b10 b11 b12 b13 b14 h9 hm => hk (b1, b2, b3, b4, b5, b6, b7, b8, b9, b10, b11, b12, b13, b14) h9 hm)) (a1, a2, a3, a4, a5, a6, a7, a8, a9, a10, a11, a12, a13, a14) h
theorem lp15 {A1 A2 A3 A4 A5 A6 A7 A8 A9 A10 A11 A12 A13 A14 A15 : Type} (W : Nat → A1 → A2 → A3 → A4 → A5 → A6 → A7 → A8 → A9 → A10 → A11 → A12 → A13 → A14 → A15 → Prop) (I : A1 → A2 → A3 → A4 → A5 → A6 → A7 → A8 → A9 → A10 → A11 → A12 → A13 → A14 → A15 → Prop) (μ : A1 → A2 → A3 → A4 → A5 → A6 → A7 → A8 → A9 → A10 → A11 → A12 → A13 → A14 → A15 → Nat) (hs : ∀ (n : Nat) (a1 : A1) (a2 : A2) (a3 : A3) (a4 : A4) (a5 : A5) (a6 : A6) (a7 : A7) (a8 : A8) (a9 : A9) (a10 : A10) (a11 : A11) (a12 : A12) (a13 : A13) (a14 : A14) (a15 : A15), I a1 a2 a3 a4 a5 a6 a7 a8 a9 a10 a11 a12 a13 a14 a15 → (∀ (b1 : A1) (b2 : A2) (b3 : A3) (b4 : A4) (b5 : A5) (b6 : A6) (b7 : A7) (b8 : A8) (b9 : A9) (b10 : A10) (b11 : A11) (b12 : A12) (b13 : A13) (b14 : A14) (b15 : A15), I b1 b2 b3 b4 b5 b6 b7 b8 b9 b10 b11 b12 b13 b14 b15 → μ b1 b2 b3 b4 b5 b6 b7 b8 b9 b10 b11 b12 b13 b14 b15 < μ a1 a2 a3 a4 a5 a6 a7 a8 a9 a10 a11 a12 a13 a14 a15 → W n b1 b2 b3 b4 b5 b6 b7 b8 b9 b10 b11 b12 b13 b14 b15) → W (n + 1) a1 a2 a3 a4 a5 a6 a7 a8 a9 a10 a11 a12 a13 a14 a15) (a1 : A1) (a2 : A2) (a3 : A3) (a4 : A4) (a5 : A5) (a6 : A6) (a7 : A7) (a8 : A8) (a9 : A9) (a10 : A10) (a11 : A11) (a12 : A12) (a13 : A13) (a14 : A14) (a15 : A15) (h : I a1 a2 a3 a4 a5 a6 a7 a8 a9 a10 a11 a12 a13 a14 a15) : ∃ n, W n a1 a2 a3 a4 a5 a6 a7 a8 a9 a10 a11 a12 a13 a14 a15 :=
  loop_m (σ := A1 × A2 × A3 × A4 × A5 × A6 × A7 × A8 × A9 × A10 × A11 × A12 × A13 × A14 × A15) (fun n s => W n s.1 s.2.1 s.2.2.1 s.2.2.2.1 s.2.2.2.2.1 s.2.2.2.2.2.1 s.2.2.2.2.2.2.1 s.2.2.2.2.2.2.2.1 s.2.2.2.2.2.2.2.2.1 s.2.2.2.2.2.2.2.2.2.1 s.2.2.2.2.2.2.2.2.2.2.1 s.2.2.2.2.2.2.2.2.2.2.2.1 s.2.2.2.2.2.2.2.2.2.2.2.2.1 s.2.2.2.2.2.2.2.2.2.2.2.2.2.1 s.2.2.2.2.2.2.2.2.2.2.2.2.2.2) (fun s => I s.1 s.2.1 s.2.2.1 s.2.2.2.1 s.2.2.2.2.1 s.2.2.2.2.2.1 s.2.2.2.2.2.2.1 s.2.2.2.2.2.2.2.1 s.2.2.2.2.2.2.2.2.1 s.2.2.2.2.2.2.2.2.2.1 s.2.2.2.2.2.2.2.2.2.2.1 s.2.2.2.2.2.2.2.2.2.2.2.1 s.2.2.2.2.2.2.2.2.2.2.2.2.1 s.2.2.2.2.2.2.2.2.2.2.2.2.2.1 s.2.2.2.2.2.2.2.2.2.2.2.2.2.2) (fun s => μ s.1 s.2.1 s.2.2.1 s.2.2.2.1 s.2.2.2.2.1 s.2.2.2.2.2.1 s.2.2.2.2.2.2.1 s.2.2.2.2.2.2.2.1 s.2.2.2.2.2.2.2.2.1 s.2.2.2.2.2.2.2.2.2.1 s.2.2.2.2.2.2.2.2.2.2.1 s.2.2.2.2.2.2.2.2.2.2.2.1 s.2.2.2.2.2.2.2.2.2.2.2.2.1 s.2.2.2.2.2.2.2.2.2.2.2.2.2.1 s.2.2.2.2.2.2.2.2.2.2.2.2.2.2) (fun n s hI hk => hs n s.1 s.2.1 s.2.2.1 s.2.2.2.1 s.2.2.2.2.1 s.2.2.2.2.2.1 s.2.2.2.2.2.2.1 s.2.2.2.2.2.2.2.1 s.2.2.2.2.2.2.2.2.1 s.2.2.2.2.2.2.2.2.2.1 s.2.2.2.2.2.2.2.2.2.2.1 s.2.2.2.2.2.2.2.2.2.2.2.1 s.2.2.2.2.2.2.2.2.2.2.2.2.1 s.2.2.2.2.2.2.2.2.2.2.2.2.2.1 s.2.2.2.2.2.2.2.2.2.2.2.2.2.2 hI (fun b1 b2 b3 b4 b5 b6 b7 b8 b9 b10 b11 b12 b13 b14 b15 h9 hm => hk (b1, b2, b3, b4, b5, b6, b7, b8, b9, b10, b11, b12, b13, b14, b15) h9 hm)) (a1, a2, a3, a4, a5, a6, a7, a8, a9, a10, a11, a12, a13, a14, a15) h
theorem lp16 {A1 A2 A3 A4 A5 A6 A7 A8 A9 A10 A11 A12 A13 A14 A15 A16 : Type} (W : Nat → A1 → A2 → A3 → A4 → A5 → A6 → A7 → A8 → A9 → A10 → A11 → A12 → A13 → A14 → A15 → A16 → Prop) (I : A1 → A2 → A3 → A4 → A5 → A6 → A7 → A8 → A9 → A10 → A11 → A12 → A13 → A14 → A15 → A16 → Prop) (μ : A1 → A2 → A3 → A4 → A5 → A6 → A7 → A8 → A9 → A10 → A11 → A12 → A13 → A14 → A15 → A16 → Nat) (hs : ∀ (n : Nat) (a1 : A1) (a2 : A2) (a3 : A3) (a4 : A4) (a5 : A5) (a6 : A6) (a7 : A7) (a8 : A8) (a9 : A9) (a10 : A10) (a11 : A11) (a12 : A12) (a13 : A13) (a14 : A14) (a15 : A15) (a16 : A16), I a1 a2 a3 a4 a5 a6 a7 a8 a9 a10 a11 a12 a13 a14 a15 a16 → (∀ (b1 : A1) (b2 : A2) (b3 : A3) (b4 : A4) (b5 : A5) (b6 : A6) (b7 : A7) (b8 : A8) (b9 : A9) (b10 : A10) (b11 : A11) (b12 : A12) (b13 : A13) (b14 : A14) (b15 : A15) (b16 : A16), I b1 b2 b3 b4 b5 b6 b7 b8 b9 b10 b11 b12 b13 b14 b15 b16 → μ b1 b2 b3 b4 b5 b6 b7 b8 b9 b10 b11 b12 b13 b14 b15 b16 < μ a1 a2 a3 a4 a5 a6 a7 a8 a9 a10 a11 a12 a13 a14 a15 a16 → W n b1 b2 b3 b4 b5 b6 b7 b8 b9 b10 b11 b12 b13 b14 b15 b16) → W (n + 1) a1 a2 a3 a4 a5 a6 a7 a8 a9 a10 a11 a12 a13 a14 a15 a16) (a1 : A1) (a2 : A2) (a3 : A3) (a4 : A4) (a5 : A5) (a6 : A6) (a7 : A7) (a8 : A8) (a9 : A9) (a10 : A10) (a11 : A11) (a12 : A12) (a13 : A13) (a14 : A14) (a15 : A15) (a16 : A16) (h : I a1 a2 a3 a4 a5 a6 a7 a8 a9 a10 a11 a12 a13 a14 a15 a16) : ∃ n, W n a1 a2 a3 a4 a5 a6 a7 a8 a9 a10 a11 a12 a13 a14 a15 a16 :=
  loop_m (σ := A1 × A2 × A3 × A4 × A5 × A6 × A7 × A8 × A9 × A10 × A11 × A12 × A13 × A14 × A15 × A16) (fun n s => W n s.1 s.2.1 s.2.2.1 s.2.2.2.1 s.2.2.2.2.1 s.2.2.2.2.2.1 s.2.2.2.2.2.2.1 s.2.2.2.2.2.2.2.1 s.2.2.2.2.2.2.2.2.1 s.2.2.2.2.2.2.2.2.2.1 s.2.2.2.2.2.2.2.2.2.2.1 s.2.2.2.2.2.2.2.2.2.2.2.1 s.2.2.2.2.2.2.2.2.2.2.2.2.1 s.2.2.2.2.2.2.2.2.2.2.2.2.2.1 s.2.2.2.2.2.2.2.2.2.2.2.2.2.2.1 s.2.2.2.2.2.2.2.2.2.2.2.2.2.2.2) (fun s => I s.1 s.2.1 s.2.2.1 s.2.2.2.1 s.2.2.2.2.1 s.2.2.2.2.2.1 s.2.2.2.2.2.2.1 s.2.2.2.2.2.2.2.1 s.2.2.2.2.2.2.2.2.1 s.2.2.2.2.2.2.2.2.2.1 s.2.2.2.2.2.2.2.2.2.2.1 s.2.2.2.2.2.2.2.2.2.2.2.1 s.2.2.2.2.2.2.2.2.2.2.2.2.1 s.2.2.2.2.2.2.2.2.2.2.2.2.2.1 s.2.2.2.2.2.2.2.2.2.2.2.2.2.2.1 s.2.2.2.2.2.2.2.2.2.2.2.2.2.2.2) (fun s => μ s.1 s.2.1 s.2.2.1 s.2.2.2.1 s.2.2.2.2.1 s.2.2.2.2.2.1 s.2.2.2.2.2.2.1 s.2.2.2.2.2.2.2.1 s.2.2.2.2.2.2.2.2.1 s.2.2.2.2.2.2.2.2.2.1 s.2.2.2.2.2.2.2.2.2.2.1 s.2.2.2.2.2.2.2.2.2.2.2.1 s.2.2.2.2.2.2.2.2.2.2.2.2.1 s.2.2.2.2.2.2.2.2.2.2.2.2.2.1 s.2.2.2.2.2.2.2.2.2.2.2.2.2.2.1 s.2.2.2.2.2.2.2.2.2.2.2.2.2.2.2) (fun n s hI hk => hs n s.1 s.2.1 s.2.2.1 s.2.2.2.1 s.2.2.2.2.1 s.2.2.2.2.2.1 s.2.2.2.2.2.2.1 s.2.2.2.2.2.2.2.1 s.2.2.2.2.2.2.2.2.1 s.2.2.2.2.2.2.2.2.2.1 s.2.2.2.2.2.2.2.2.2.2.1 s.2.2.2.2.2.2.2.2.2.2.2.1 s.2.2.2.2.2.2.2.2.2.2.2.2.1 s.2.2.2.2.2.2.2.2.2.2.2.2.2.1 s.2.2.2.2.2.2.2.2.2.2.2.2.2.2.1 s.2.2.2.2.2.2.2.2.2.2.2.2.2.2.2 hI (fun b1 b2 b3 b4 b5 b6 b7 b8 b9 b10 b11 b12 b13 b14 b15 b16 h9 hm => hk (b1, b2, b3, b4, b5, b6, b7, b8, b9, b10, b11, b12, b13, b14, b15, b16) h9 hm)) (a1, a2, a3, a4, a5, a6, a7, a8, a9, a10, a11, a12, a13, a14, a15, a16) h
theorem pk_least (P : Nat → Prop) (h : ∃ k, P k) : ∃ k, P k ∧ ∀ j, j < k → ¬ P j := by
  obtain ⟨k, hk⟩ := h
  induction k using Nat.strongRecOn with
  | ind k ih =>
    by_cases e : ∃ j, j < k ∧ P j
    · obtain ⟨j, hj, pj⟩ := e
      exact ih j hj pj
    · exact ⟨k, hk, fun j hj pj => e ⟨j, hj, pj⟩⟩
theorem rp1 {ρ A1 : Type} (W : Nat → (ρ → Prop) → A1 → Prop) (ok : A1 → Prop) (μ : A1 → Nat) (val : A1 → ρ)
    (hs : ∀ (d : Nat) (post : ρ → Prop) (a1 : A1), ok a1 → post (val a1) → (∀ (post' : ρ → Prop) (b1 : A1), ok b1 → μ b1 < μ a1 → post' (val b1) → W d post' b1) → W (d + 1) post a1) :
    ∀ (d : Nat) (post : ρ → Prop) (a1 : A1), ok a1 → μ a1 < d → post (val a1) → W d post a1 := by
  intro d
  induction d with
  | zero => intro post a1 _ h; omega
  | succ d ih =>
    intro post a1 ho hm hp
    exact hs d post a1 ho hp (fun post' b1 ho' hm' hp' => ih post' b1 ho' (by omega) hp')
theorem rp2 {ρ A1 A2 : Type} (W : Nat → (ρ → Prop) → A1 → A2 → Prop) (ok : A1 → A2 → Prop) (μ : A1 → A2 → Nat) (val : A1 → A2 → ρ)
    (hs : ∀ (d : Nat) (post : ρ → Prop) (a1 : A1) (a2 : A2), ok a1 a2 → post (val a1 a2) → (∀ (post' : ρ → Prop) (b1 : A1) (b2 : A2), ok b1 b2 → μ b1 b2 < μ a1 a2 → post' (val b1 b2) → W d post' b1 b2) → W (d + 1) post a1 a2) :
    ∀ (d : Nat) (post : ρ → Prop) (a1 : A1) (a2 : A2), ok a1 a2 → μ a1 a2 < d → post (val a1 a2) → W d post a1 a2 := by
  intro d
  induction d with
  | zero => intro post a1 a2 _ h; omega
  | succ d ih =>
    intro post a1 a2 ho hm hp
    exact hs d post a1 a2 ho hp (fun post' b1 b2 ho' hm' hp' => ih post' b1 b2 ho' (by omega) hp')
theorem rp3 {ρ A1 A2 A3 : Type} (W : Nat → (ρ → Prop) → A1 → A2 → A3 → Prop) (ok : A1 → A2 → A3 → Prop) (μ : A1 → A2 → A3 → Nat) (val : A1 → A2 → A3 → ρ)
    (hs : ∀ (d : Nat) (post : ρ → Prop) (a1 : A1) (a2 : A2) (a3 : A3), ok a1 a2 a3 → post (val a1 a2 a3) → (∀ (post' : ρ → Prop) (b1 : A1) (b2 : A2) (b3 : A3), ok b1 b2 b3 → μ b1 b2 b3 < μ a1 a2 a3 → post' (val b1 b2 b3) → W d post' b1 b2 b3) → W (d + 1) post a1 a2 a3) :
    ∀ (d : Nat) (post : ρ → Prop) (a1 : A1) (a2 : A2) (a3 : A3), ok a1 a2 a3 → μ a1 a2 a3 < d → post (val a1 a2 a3) → W d post a1 a2 a3 := by
  intro d
  induction d with
  | zero => intro post a1 a2 a3 _ h; omega
  | succ d ih =>
    intro post a1 a2 a3 ho hm hp
    exact hs d post a1 a2 a3 ho hp (fun post' b1 b2 b3 ho' hm' hp' => ih post' b1 b2 b3 ho' (by omega) hp')
theorem rp4 {ρ A1 A2 A3 A4 : Type} (W : Nat → (ρ → Prop) → A1 → A2 → A3 → A4 → Prop) (ok : A1 → A2 → A3 → A4 → Prop) (μ : A1 → A2 → A3 → A4 → Nat) (val : A1 → A2 → A3 → A4 → ρ)
    (hs : ∀ (d : Nat) (post : ρ → Prop) (a1 : A1) (a2 : A2) (a3 : A3) (a4 : A4), ok a1 a2 a3 a4 → post (val a1 a2 a3 a4) → (∀ (post' : ρ → Prop) (b1 : A1) (b2 : A2) (b3 : A3) (b4 : A4), ok b1 b2 b3 b4 → μ b1 b2 b3 b4 < μ a1 a2 a3 a4 → post' (val b1 b2 b3 b4) → W d post' b1 b2 b3 b4) → W (d + 1) post a1 a2 a3 a4) :
    ∀ (d : Nat) (post : ρ → Prop) (a1 : A1) (a2 : A2) (a3 : A3) (a4 : A4), ok a1 a2 a3 a4 → μ a1 a2 a3 a4 < d → post (val a1 a2 a3 a4) → W d post a1 a2 a3 a4 := by
  intro d
  induction d with
  | zero => intro post a1 a2 a3 a4 _ h; omega
  | succ d ih =>
    intro post a1 a2 a3 a4 ho hm hp
    exact hs d post a1 a2 a3 a4 ho hp (fun post' b1 b2 b3 b4 ho' hm' hp' => ih post' b1 b2 b3 b4 ho' (by omega) hp')
theorem rp5 {ρ A1 A2 A3 A4 A5 : Type} (W : Nat → (ρ → Prop) → A1 → A2 → A3 → A4 → A5 → Prop) (ok : A1 → A2 → A3 → A4 → A5 → Prop) (μ : A1 → A2 → A3 → A4 → A5 → Nat) (val : A1 → A2 → A3 → A4 → A5 → ρ)
    (hs : ∀ (d : Nat) (post : ρ → Prop) (a1 : A1) (a2 : A2) (a3 : A3) (a4 : A4) (a5 : A5), ok a1 a2 a3 a4 a5 → post (val a1 a2 a3 a4 a5) → (∀ (post' : ρ → Prop) (b1 : A1) (b2 : A2) (b3 : A3) (b4 : A4) (b5 : A5), ok b1 b2 b3 b4 b5 → μ b1 b2 b3 b4 b5 < μ a1 a2 a3 a4 a5 → post' (val b1 b2 b3 b4 b5) → W d post' b1 b2 b3 b4 b5) → W (d + 1) post a1 a2 a3 a4 a5) :
    ∀ (d : Nat) (post : ρ → Prop) (a1 : A1) (a2 : A2) (a3 : A3) (a4 : A4) (a5 : A5), ok a1 a2 a3 a4 a5 → μ a1 a2 a3 a4 a5 < d → post (val a1 a2 a3 a4 a5) → W d post a1 a2 a3 a4 a5 := by
  intro d
  induction d with
  | zero => intro post a1 a2 a3 a4 a5 _ h; omega
  | succ d ih =>
    intro post a1 a2 a3 a4 a5 ho hm hp
    exact hs d post a1 a2 a3 a4 a5 ho hp (fun post' b1 b2 b3 b4 b5 ho' hm' hp' => ih post' b1 b2 b3 b4 b5 ho' (by omega) hp')
theorem rp6 {ρ A1 A2 A3 A4 A5 A6 : Type} (W : Nat → (ρ → Prop) → A1 → A2 → A3 → A4 → A5 → A6 → Prop) (ok : A1 → A2 → A3 → A4 → A5 → A6 → Prop) (μ : A1 → A2 → A3 → A4 → A5 → A6 → Nat) (val : A1 → A2 → A3 → A4 → A5 → A6 → ρ)
    (hs : ∀ (d : Nat) (post : ρ → Prop) (a1 : A1) (a2 : A2) (a3 : A3) (a4 : A4) (a5 : A5) (a6 : A6), ok a1 a2 a3 a4 a5 a6 → post (val a1 a2 a3 a4 a5 a6) → (∀ (post' : ρ → Prop) (b1 : A1) (b2 : A2) (b3 : A3) (b4 : A4) (b5 : A5) (b6 : A6), ok b1 b2 b3 b4 b5 b6 → μ b1 b2 b3 b4 b5 b6 < μ a1 a2 a3 a4 a5 a6 → post' (val b1 b2 b3 b4 b5 b6) → W d post' b1 b2 b3 b4 b5 b6) → W (d + 1) post a1 a2 a3 a4 a5 a6) :
    ∀ (d : Nat) (post : ρ → Prop) (a1 : A1) (a2 : A2) (a3 : A3) (a4 : A4) (a5 : A5) (a6 : A6), ok a1 a2 a3 a4 a5 a6 → μ a1 a2 a3 a4 a5 a6 < d → post (val a1 a2 a3 a4 a5 a6) → W d post a1 a2 a3 a4 a5 a6 := by
  intro d
  induction d with
  | zero => intro post a1 a2 a3 a4 a5 a6 _ h; omega
  | succ d ih =>
    intro post a1 a2 a3 a4 a5 a6 ho hm hp
    exact hs d post a1 a2 a3 a4 a5 a6 ho hp (fun post' b1 b2 b3 b4 b5 b6 ho' hm' hp' => ih post' b1 b2 b3 b4 b5 b6 ho' (by omega) hp')
theorem rec_p {σ ρ : Type} (W : Nat → (ρ → Prop) → σ → Prop) (ok : σ → Prop) (μ : σ → Nat) (val : σ → ρ)
    (hs : ∀ d s post, ok s → post (val s) → (∀ s' post', ok s' → μ s' < μ s → post' (val s') → W d post' s') → W (d + 1) post s) :
    ∀ d s post, ok s → μ s < d → post (val s) → W d post s := by
  intro d
  induction d with
  | zero => intro s post _ h; omega
  | succ d ih =>
    intro s post ho hm hp
    exact hs d s post ho hp (fun s' post' ho' hm' hp' => ih s' post' ho' (by omega) hp')
theorem rec_q {σ ρ : Type} (W : Nat → (ρ → Prop) → σ → Prop) (ok : σ → Prop) (μ : σ → Nat) (Q : σ → ρ → Prop)
    (hs : ∀ d s post, ok s → (∀ r, Q s r → post r) → (∀ s' post', ok s' → μ s' < μ s → (∀ r, Q s' r → post' r) → W d post' s') → W (d + 1) post s) :
    ∀ d s post, ok s → μ s < d → (∀ r, Q s r → post r) → W d post s := by
  intro d
  induction d with
  | zero => intro s post _ h; omega
  | succ d ih =>
    intro s post ho hm hp
    exact hs d s post ho hp (fun s' post' ho' hm' hp' => ih s' post' ho' (by omega) hp')
def bx_sum (f : Nat → Int32) : Nat → Int32
  | 0 => 0
  | n + 1 => bx_sum f n + f n
theorem ek_u {A : Prop} {B : Nat → Prop} {k N : Nat} (hk : k < N) (h : B k) : (some k = none → A) ∧ (∀ y : Nat, some k = some y → (y < N ∧ B y)) :=
  ⟨fun z => absurd z (Option.some_ne_none k), fun _ e => (by cases e; exact ⟨hk, h⟩)⟩
theorem ek_nu {A : Prop} {B : Nat → Prop} (h : A) : ((none : Option Nat) = none → A) ∧ (∀ y : Nat, (none : Option Nat) = some y → B y) :=
  ⟨fun _ => h, fun _ e => (by cases e)⟩
theorem ek_if {c d A B : Prop} (e : c ↔ d) (f : d → A) (g : ¬ d → B) : (c → A) ∧ (¬ c → B) :=
  ⟨fun z => f (e.mp z), fun z => g (fun y => z (e.mpr y))⟩
theorem ek_v {α : Sort _} {P : α → Prop} {a b : α} (e : a = b) (h : P b) : P a := e ▸ h
theorem co_some {x : Option Nat} {A : Prop} {B : Nat → Prop} (i : Nat) (h : B i) (hx : x = some i := by rfl) : (x = none → A) ∧ (∀ y : Nat, x = some y → B y) := by
  subst hx
  exact ⟨fun e => (nomatch e), fun y e => Option.some.inj e ▸ h⟩
theorem co_none {x : Option Nat} {A : Prop} {B : Nat → Prop} (h : A) (hx : x = none := by rfl) : (x = none → A) ∧ (∀ y : Nat, x = some y → B y) := by
  subst hx
  exact ⟨fun _ => h, fun y e => (nomatch e)⟩
theorem co_any {x : Option Nat} {A : Prop} {B : Nat → Prop} (hn : x = none → A) (hs : ∀ i : Nat, x = some i → B i) : (x = none → A) ∧ (∀ y : Nat, x = some y → B y) := ⟨hn, hs⟩
theorem co_2 {P : Nat → Prop} (h0 : P 0) (h1 : P 1) {i : Nat} (hi : i < 2) : P i :=
  match i, hi with
  | 0, _ => h0
  | 1, _ => h1
theorem co_3 {P : Nat → Prop} (h0 : P 0) (h1 : P 1) (h2 : P 2) {i : Nat} (hi : i < 3) : P i :=
  match i, hi with
  | 0, _ => h0
  | 1, _ => h1
  | 2, _ => h2
theorem co_4 {P : Nat → Prop} (h0 : P 0) (h1 : P 1) (h2 : P 2) (h3 : P 3) {i : Nat} (hi : i < 4) : P i :=
  match i, hi with
  | 0, _ => h0
  | 1, _ => h1
  | 2, _ => h2
  | 3, _ => h3
theorem co_dec {N : Nat} {P : Nat → Prop} [DecidablePred P] (h : (List.range N).all (fun i => decide (P i)) = true) {i : Nat} (hi : i < N) : P i := by
  have := List.all_eq_true.mp h i (List.mem_range.mpr hi)
  exact of_decide_eq_true this
theorem co_tab {α : Type} {l : List α} {d : α} {P : α → Prop} (h : ∀ a, a ∈ l → P a) {i : Nat} (hi : i < l.length) : P (l.getD i d) := by
  rw [List.getD_eq_getElem?_getD, List.getElem?_eq_getElem hi]
  exact h _ (List.getElem_mem hi)
theorem pk_mu {x : Int32} {L : Nat} (h0 : ¬ x < 0) (h : ¬ nI L ≤ x) (hL : L < 2 ^ 31) : ∃ j : Nat, j < L ∧ x = nI j ∧ x + 1 = nI (j + 1) ∧ x.toNatClampNeg = j ∧ L - (x + 1).toNatClampNeg < L - x.toNatClampNeg := by
  obtain ⟨j, hj, rfl⟩ := nI_of h0
  have hl : j < L := Nat.not_le.mp fun q => h (nI_le q hj)
  refine ⟨j, hl, rfl, nI_1 j, nI_clamp hj, ?_⟩
  rw [nI_1, nI_clamp (by omega), nI_clamp hj]
  omega
theorem op_s {α : Type} {r : Option α} {A : Prop} {B : α → Prop} {y : α} (h : r = some y) (b : B y) : (r = none → A) ∧ ∀ z, r = some z → B z :=
  ⟨fun e => (by rw [h] at e; cases e), fun z e => (by rw [h] at e; cases e; exact b)⟩
def l_holds {α : Type} (a : Nat → Option Nat) (LP : List Nat) (p : Nat → α) (c : Nat) (b : Nat → α) : Prop :=
  ∀ j, j < c → ∃ y, a j = some y ∧ y ∈ LP ∧ p y = b j
theorem l_holds_0 {α : Type} {a : Nat → Option Nat} {LP : List Nat} {p b : Nat → α} : l_holds a LP p 0 b := fun j h => absurd h (Nat.not_lt_zero j)
theorem l_in_new (LP : List Nat) (q : Nat) : q ∈ LP ++ [q] := List.mem_append.mpr (Or.inr (List.mem_singleton.mpr rfl))
def l_sum (b : Nat → Int32) : Nat → Int32
  | 0 => 0
  | k + 1 => l_sum b k + b k
theorem sb_shr0 (x : Int32) : x >>> ((0 : Int32) &&& 31) = x := by
  rw [show ((0 : Int32) &&& 31) = 0 by decide]
  simp
theorem sb_shl0 (x : Int32) : x <<< ((0 : Int32) &&& 31) = x := by
  rw [show ((0 : Int32) &&& 31) = 0 by decide]
  simp
theorem sb_cl0 : (0 : Int32).toNatClampNeg = 0 := by decide
theorem sb_m1 {p : Nat} (h : 0 < p) : nI p + (-1) = nI (p - 1) := by
  obtain ⟨q, rfl⟩ : ∃ q, p = q + 1 := ⟨p - 1, by omega⟩
  exact pk_m1 q
def sb_b (c : Nat) : Int32 := (nI c).toInt8.toInt32
theorem sb_byte : ∀ c, c < 256 → sb_b c &&& 255 = nI c ∧ ((nI c).toUInt32 % 65536).toInt32 = nI c ∧ nI c ≤ 255 := by decide +kernel
def sb_Fit (a : Nat → Int32) : Prop := ∀ j, fits .byte (.int (a j)) = true
def sb_Lat (t : Nat → Nat) (n : Nat) (a : Nat → Int32) : Prop := ∀ j, j < n → t j < 256 ∧ a j = sb_b (t j)
theorem sb_fitB (c : Nat) : fits .byte (.int (sb_b c)) = true := pk_fb _
theorem sb_fit0 : sb_Fit (fun _ => 0) := fun _ => by
  show fits .byte (.int 0) = true
  decide
theorem sb_fitU {a : Nat → Int32} {k : Nat} {x : Int32} (h : sb_Fit a) (hx : fits .byte (.int x) = true) : sb_Fit (upd a k x) := by
  intro j
  by_cases e : j = k
  · subst e
    rw [pk_us]
    exact hx
  · rw [pk_un e]
    exact h j
def sb_cat (t : Nat → Nat) (n : Nat) (s : Nat → Nat) : Nat → Nat := fun j => if j < n then t j else s (j - n)
theorem sb_cat_lo {t s : Nat → Nat} {n j : Nat} (h : j < n) : sb_cat t n s j = t j := if_pos h
theorem sb_cat_hi {t s : Nat → Nat} {n j : Nat} : sb_cat t n s (n + j) = s j := by
  show (if n + j < n then t (n + j) else s (n + j - n)) = s j
  rw [if_neg (by omega), Nat.add_sub_cancel_left]
theorem sb_latPut {t s : Nat → Nat} {n w : Nat} {a a' : Nat → Int32} (h : sb_Lat t n a) (hk : ∀ j, j < n → a' j = a j) (hs : ∀ i, i < w → s i < 256 ∧ a' (n + i) = sb_b (s i)) : sb_Lat (sb_cat t n s) (n + w) a' := by
  intro j hj
  by_cases e : j < n
  · rw [sb_cat_lo e, hk j e]
    exact h j e
  · obtain ⟨i, rfl⟩ : ∃ i, j = n + i := ⟨j - n, by omega⟩
    rw [sb_cat_hi]
    exact hs i (by omega)
theorem sb_latKeep {t : Nat → Nat} {n : Nat} {a a' : Nat → Int32} (h : sb_Lat t n a) (hk : ∀ j, j < n → a' j = a j) : sb_Lat t n a' := fun j hj => by
  rw [hk j hj]
  exact h j hj
def sb_cap (q m : Nat) : Nat := if q ≤ m then m else if 2 * m + 2 < q then q else 2 * m + 2
def sb_Room (q m mc ms : Nat) : Prop := q ≤ m ∨ (1 ≤ mc ∧ sb_cap q m ≤ ms ∧ sb_cap q m ≤ 65536)
theorem sb_cap_ge (q m : Nat) : q ≤ sb_cap q m := by
  unfold sb_cap
  split
  · omega
  · split <;> omega
theorem sb_cap_gem (q m : Nat) : m ≤ sb_cap q m := by
  unfold sb_cap
  split
  · omega
  · split <;> omega
theorem sb_cap_le {q m mc ms : Nat} (hm : m ≤ 65536) (hr : sb_Room q m mc ms) : sb_cap q m ≤ 65536 := by
  rcases hr with h | h
  · rw [sb_cap, if_pos h]
    exact hm
  · exact h.2.2
theorem sb_at {P : Int32 → Prop} {x y : Int32} (e : x = y) (h : P y) : P x := e ▸ h
def sb_dg (w : Nat) : Nat := if w < 10 then 1 else if w < 100 then 2 else if w < 1000 then 3 else if w < 10000 then 4 else if w < 100000 then 5 else if w < 1000000 then 6 else if w < 10000000 then 7 else if w < 100000000 then 8 else if w < 1000000000 then 9 else 10
def sb_dec (v : Nat) : Nat → Nat := fun i => 48 + v / 10 ^ (sb_dg v - 1 - i) % 10
theorem sb_dg_in (w : Nat) : 1 ≤ sb_dg w ∧ sb_dg w ≤ 10 := by
  unfold sb_dg
  constructor <;> (repeat' split) <;> omega
theorem sb_dg100 {w : Nat} (h : 100 ≤ w) (hw : w < 2 ^ 31) : sb_dg w = sb_dg (w / 100) + 2 := by
  rw [sb_dg, sb_dg, if_neg (show ¬ w < 10 by omega), if_neg (show ¬ w < 100 by omega)]
  by_cases h3 : w < 1000
  · rw [if_pos h3, if_pos (show w / 100 < 10 by omega)]
  rw [if_neg h3, if_neg (show ¬ w / 100 < 10 by omega)]
  by_cases h4 : w < 10000
  · rw [if_pos h4, if_pos (show w / 100 < 100 by omega)]
  rw [if_neg h4, if_neg (show ¬ w / 100 < 100 by omega)]
  by_cases h5 : w < 100000
  · rw [if_pos h5, if_pos (show w / 100 < 1000 by omega)]
  rw [if_neg h5, if_neg (show ¬ w / 100 < 1000 by omega)]
  by_cases h6 : w < 1000000
  · rw [if_pos h6, if_pos (show w / 100 < 10000 by omega)]
  rw [if_neg h6, if_neg (show ¬ w / 100 < 10000 by omega)]
  by_cases h7 : w < 10000000
  · rw [if_pos h7, if_pos (show w / 100 < 100000 by omega)]
  rw [if_neg h7, if_neg (show ¬ w / 100 < 100000 by omega)]
  by_cases h8 : w < 100000000
  · rw [if_pos h8, if_pos (show w / 100 < 1000000 by omega)]
  rw [if_neg h8, if_neg (show ¬ w / 100 < 1000000 by omega)]
  by_cases h9 : w < 1000000000
  · rw [if_pos h9, if_pos (show w / 100 < 10000000 by omega)]
  rw [if_neg h9, if_neg (show ¬ w / 100 < 10000000 by omega)]
  rw [if_pos (show w / 100 < 100000000 by omega)]
theorem sb_negT {w : Nat} (h : w < 2 ^ 31) : (-nI w).toInt = -(w : Int) := by
  rw [Int32.toInt_neg, nI_toInt h]
  exact Int.bmod_eq_of_le (by omega) (by omega)
theorem sb_nle {a b : Nat} (ha : a < 2 ^ 31) (hb : b < 2 ^ 31) : -nI a ≤ -nI b ↔ b ≤ a := by
  rw [Int32.le_iff_toInt_le, sb_negT ha, sb_negT hb]
  omega
theorem sb_nlt {a b : Nat} (ha : a < 2 ^ 31) (hb : b < 2 ^ 31) : -nI a < -nI b ↔ b < a := by
  rw [Int32.lt_iff_toInt_lt, sb_negT ha, sb_negT hb]
  omega
theorem sb_cmp {A B : Prop} {x : Int32} (v c : Nat) (f : c ≤ v → A) (g : v < c → B) (hv : v < 2 ^ 31) (hx : x = -nI c := by rfl) (hc : c < 2 ^ 31 := by omega) : (-nI v ≤ x → A) ∧ (¬ -nI v ≤ x → B) := by
  subst hx
  rw [sb_nle hv hc]
  exact ⟨f, fun z => g (by omega)⟩
theorem sb_ndiv {w : Nat} (hw : w < 2 ^ 31) : (-nI w) / 100 = -nI (w / 100) := by
  apply Int32.toInt_inj.mp
  have h100 : (100 : Int32).toInt = 100 := by decide
  rw [Int32.toInt_div, sb_negT hw, h100, sb_negT (by omega), Int.neg_tdiv, Int.tdiv_eq_ediv_of_nonneg (by omega), Int.bmod_eq_of_le (by omega) (by omega)]
  omega
theorem sb_nrem {w : Nat} (hw : w < 2 ^ 31) : (-nI (w / 100)) * 100 - (-nI w) = nI (w % 100) := by
  have h := pk_rem (a := w) (d := 100) hw (by decide) (by decide)
  rw [pk_div hw (by decide) (by decide)] at h
  rw [← h]
  show (-nI (w / 100)) * nI 100 - (-nI w) = nI w - nI (w / 100) * nI 100
  rw [Int32.neg_mul, Int32.sub_neg, Int32.add_comm, ← Int32.sub_eq_add_neg]
theorem s_l : ∀ n, n < 32 → ((nI n &&& 31).toBitVec.smod 32).toNat = n := by decide +kernel
end
section
/-! sums over a..i, mappings between two intervals of nodes, their keys, the least key -/
def td_S (f : Nat → Nat) (a : Nat) : Nat → Nat
  | 0 => 0
  | i + 1 => if a ≤ i + 1 then td_S f a i + f (i + 1) else 0
theorem td_S_lt {f : Nat → Nat} {a : Nat} : ∀ {i : Nat}, i < a → td_S f a i = 0
  | 0, _ => rfl
  | i + 1, h => by
    simp only [td_S]
    rw [if_neg (by omega)]
theorem td_S_s {f : Nat → Nat} {a i : Nat} (h : a ≤ i + 1) : td_S f a (i + 1) = td_S f a i + f (i + 1) := by
  simp only [td_S]
  rw [if_pos h]
theorem td_S_p {f : Nat → Nat} {a i : Nat} (h : a ≤ i) (hi : 1 ≤ i) : td_S f a i = td_S f a (i - 1) + f i := by
  obtain ⟨k, rfl⟩ : ∃ k, i = k + 1 := ⟨i - 1, by omega⟩
  exact td_S_s h
theorem td_S_c {f g : Nat → Nat} {a : Nat} : ∀ {i : Nat}, (∀ v, a ≤ v → v ≤ i → f v = g v) → td_S f a i = td_S g a i
  | 0, _ => rfl
  | i + 1, h => by
    rcases Nat.lt_or_ge (i + 1) a with z | z
    · rw [td_S_lt z, td_S_lt z]
    · rw [td_S_s z, td_S_s z, td_S_c (i := i) (fun v h1 h2 => h v h1 (by omega)), h (i + 1) z (by omega)]
theorem td_S_split {f : Nat → Nat} {a c : Nat} (h1 : 1 ≤ a) (hac : a ≤ c) : ∀ {i : Nat}, c ≤ i + 1 → td_S f a i = td_S f a (c - 1) + td_S f c i
  | 0, h => by
    have e : c = 1 := by omega
    subst e
    rfl
  | i + 1, h => by
    rcases Nat.lt_or_ge (i + 1) c with z | z
    · have e : c - 1 = i + 1 := by omega
      rw [td_S_lt (a := c) z, e]
      rfl
    · rw [td_S_s (a := a) (by omega), td_S_s z, td_S_split h1 hac (i := i) z]
      omega
theorem td_S_le {f g : Nat → Nat} {a : Nat} : ∀ {i : Nat}, (∀ v, a ≤ v → v ≤ i → f v ≤ g v) → td_S f a i ≤ td_S g a i
  | 0, _ => Nat.le_refl _
  | i + 1, h => by
    rcases Nat.lt_or_ge (i + 1) a with z | z
    · rw [td_S_lt z, td_S_lt z]
      exact Nat.le_refl _
    · rw [td_S_s z, td_S_s z]
      have h1 := td_S_le (f := f) (g := g) (a := a) (i := i) (fun v h1 h2 => h v h1 (by omega))
      have h2 := h (i + 1) z (by omega)
      omega
theorem td_S_k {a c : Nat} : ∀ {i : Nat}, td_S (fun _ => c) a i = c * (i + 1 - a) ∨ a = 0
  | 0 => by
    rcases Nat.eq_zero_or_pos a with z | z
    · exact Or.inr z
    · refine Or.inl ?_
      have e : 0 + 1 - a = 0 := by omega
      rw [e]
      rfl
  | i + 1 => by
    rcases Nat.lt_or_ge (i + 1) a with z | z
    · refine Or.inl ?_
      have e : i + 1 + 1 - a = 0 := by omega
      rw [td_S_lt z, e, Nat.mul_zero]
    · rcases td_S_k (a := a) (c := c) (i := i) with h | h
      · refine Or.inl ?_
        have e : i + 1 + 1 - a = (i + 1 - a) + 1 := by omega
        rw [td_S_s z, h, e, Nat.mul_add, Nat.mul_one]
      · exact Or.inr h
/-- one term more: g is f but at w, where it is one more -/
theorem td_S_1 {f g : Nat → Nat} {a w : Nat} (hw : a ≤ w) (h1 : 1 ≤ w) (hg : g w = f w + 1) (ho : ∀ v, v ≠ w → g v = f v) : ∀ {i : Nat}, w ≤ i → td_S g a i = td_S f a i + 1
  | 0, h => by omega
  | i + 1, h => by
    rw [td_S_s (by omega), td_S_s (by omega)]
    rcases Nat.lt_or_ge i w with z | z
    · have e : w = i + 1 := by omega
      rw [← e, hg, td_S_c (f := g) (g := f) (i := i) (fun v _ h2 => ho v (by omega))]
      omega
    · rw [td_S_1 hw h1 hg ho (i := i) z, ho (i + 1) (by omega)]
      omega
/-- a tree's numbers: l v is the least number below v -/
def td_L (n : Nat) (l : Nat → Nat) : Prop := ∀ v, 1 ≤ v → v ≤ n → 1 ≤ l v ∧ l v ≤ v ∧ ∀ w, v < w → w ≤ n → l w ≤ v → l w ≤ l v
def td_V (l1 l2 : Nat → Nat) (a i b j : Nat) (A : Nat → Nat) : Prop :=
  (∀ v, A v ≠ 0 → a ≤ v ∧ v ≤ i ∧ b ≤ A v ∧ A v ≤ j) ∧ (∀ v x, v < x → A v ≠ 0 → A x ≠ 0 → A v < A x ∧ (l1 x ≤ v ↔ l2 (A x) ≤ A v))
def td_cs (d : Nat) (rn : Nat → Nat → Nat) (A : Nat → Nat) (v : Nat) : Nat := if A v = 0 then d else rn v (A v)
def td_nz (A : Nat → Nat) (v : Nat) : Nat := if A v = 0 then 0 else 1
def td_C (d e : Nat) (rn : Nat → Nat → Nat) (a i b j : Nat) (A : Nat → Nat) : Nat := td_S (td_cs d rn A) a i + e * (j + 1 - b - td_S (td_nz A) a i)
def td_dg (A : Nat → Nat) : Nat := A 1 + 10 * A 2 + 100 * A 3 + 1000 * A 4 + 10000 * A 5 + 100000 * A 6 + 1000000 * A 7 + 10000000 * A 8
def td_K (d e : Nat) (rn : Nat → Nat → Nat) (a i b j : Nat) (A : Nat → Nat) : Nat := 100000000 * td_C d e rn a i b j A + td_dg A
def td_R (p q : Nat) (A : Nat → Nat) (v : Nat) : Nat := if p ≤ v ∧ v ≤ q then A v else 0
def td_sg (i y : Nat) (v : Nat) : Nat := if v = i then y else 0
def td_G (i y : Nat) (B O : Nat → Nat) (v : Nat) : Nat := td_sg i y v + (B v + O v)
theorem td_R_in {p q : Nat} {A : Nat → Nat} {v : Nat} (h1 : p ≤ v) (h2 : v ≤ q) : td_R p q A v = A v := if_pos ⟨h1, h2⟩
theorem td_R_nz {p q : Nat} {A : Nat → Nat} {v : Nat} (h : td_R p q A v ≠ 0) : p ≤ v ∧ v ≤ q ∧ A v ≠ 0 ∧ td_R p q A v = A v := by
  by_cases c : p ≤ v ∧ v ≤ q
  · have e : td_R p q A v = A v := if_pos c
    exact ⟨c.1, c.2, e ▸ h, e⟩
  · exact absurd (if_neg c) h
theorem td_R_out {p q : Nat} {A : Nat → Nat} {v : Nat} (h : v < p ∨ q < v) : td_R p q A v = 0 := if_neg (by omega)
section
variable {l1 l2 : Nat → Nat} {d e : Nat} {rn : Nat → Nat → Nat} {a i b j a' i' b' j' : Nat} {A B O : Nat → Nat}
theorem td_V_w (h : td_V l1 l2 a i b j A) (ha : a' ≤ a) (hi : i ≤ i') (hb : b' ≤ b) (hj : j ≤ j') : td_V l1 l2 a' i' b' j' A :=
  ⟨fun v hv => by have := h.1 v hv; omega, h.2⟩
theorem td_V_del (h : td_V l1 l2 a i b j A) (h0 : A i = 0) : td_V l1 l2 a (i - 1) b j A :=
  ⟨fun v hv => by
    have h1 := h.1 v hv
    have h2 : v ≠ i := fun e => hv (e ▸ h0)
    omega, h.2⟩
theorem td_V_r (h : td_V l1 l2 a i b j A) {p q : Nat} (hh : ∀ v, p ≤ v → v ≤ q → A v ≠ 0 → b' ≤ A v ∧ A v ≤ j') : td_V l1 l2 p q b' j' (td_R p q A) := by
  refine ⟨fun v hv => ?_, fun v x hvx hv hx => ?_⟩
  · obtain ⟨h1, h2, h3, h4⟩ := td_R_nz hv
    rw [h4]
    exact ⟨h1, h2, hh v h1 h2 h3⟩
  · obtain ⟨h1, h2, h3, h4⟩ := td_R_nz hv
    obtain ⟨k1, k2, k3, k4⟩ := td_R_nz hx
    rw [h4, k4]
    exact h.2 v x hvx h3 k3
theorem td_V_0 : td_V l1 l2 a i b j (fun _ => 0) := ⟨fun _ h => absurd rfl h, fun _ _ _ h => absurd rfl h⟩
theorem td_V_z (h : td_V l1 l2 a i b j A) (c : i < a ∨ j < b) (v : Nat) : A v = 0 := by
  by_cases z : A v = 0
  · exact z
  · have := h.1 v z
    omega
theorem td_V_le (h : td_V l1 l2 a i b j A) (hj : j ≤ 8) (v : Nat) : A v ≤ 8 := by
  by_cases z : A v = 0
  · omega
  · have := h.1 v z
    omega
theorem td_V_out (h : td_V l1 l2 a i b j A) {v : Nat} (c : v < a ∨ i < v) : A v = 0 := by
  by_cases z : A v = 0
  · exact z
  · have := h.1 v z
    omega
theorem td_nz_t {v : Nat} (h : A v ≠ 0) : td_nz A v = 1 := if_neg h
theorem td_nz_f {v : Nat} (h : A v = 0) : td_nz A v = 0 := if_pos h
theorem td_nz_c {v : Nat} (h : A v = B v) : td_nz A v = td_nz B v := by unfold td_nz; rw [h]
theorem td_cs_c {v : Nat} (h : A v = B v) : td_cs d rn A v = td_cs d rn B v := by unfold td_cs; rw [h]
theorem td_cnt (ha : 1 ≤ a) : ∀ {i j : Nat} {A : Nat → Nat}, td_V l1 l2 a i b j A → td_S (td_nz A) a i ≤ j + 1 - b
  | 0, j, A, _ => Nat.zero_le _
  | i + 1, j, A, h => by
    rcases Nat.lt_or_ge (i + 1) a with z | z
    · rw [td_S_lt z]
      exact Nat.zero_le _
    · rw [td_S_s z]
      by_cases c : A (i + 1) = 0
      · have h1 := td_cnt ha (td_V_del h c)
        rw [td_nz_f c]
        exact h1
      · have hy := h.1 _ c
        have h1 : td_V l1 l2 a i b (A (i + 1) - 1) (td_R a i A) := td_V_r h fun v hv1 hv2 hv3 => by
          have h2 := h.2 v (i + 1) (by omega) hv3 c
          have h3 := h.1 v hv3
          omega
        have h2 := td_cnt ha h1
        rw [td_S_c (f := td_nz A) (g := td_nz (td_R a i A)) (fun v h1 h2 => td_nz_c (td_R_in h1 h2).symm), td_nz_t c]
        omega
theorem td_C_del (ha : a ≤ i) (hi : 1 ≤ i) (h0 : A i = 0) : td_C d e rn a i b j A = td_C d e rn a (i - 1) b j A + d := by
  unfold td_C
  rw [td_S_p ha hi, td_S_p (f := td_nz A) ha hi, td_nz_f h0, show td_cs d rn A i = d from if_pos h0]
  simp only [Nat.add_zero]
  omega
theorem td_C_ins (ha : 1 ≤ a) (h : td_V l1 l2 a i b (j - 1) A) (hj : 1 ≤ j) (hb : b ≤ j) : td_C d e rn a i b j A = td_C d e rn a i b (j - 1) A + e := by
  unfold td_C
  have h1 := td_cnt ha h
  have h2 : j + 1 - b - td_S (td_nz A) a i = (j - 1 + 1 - b - td_S (td_nz A) a i) + 1 := by omega
  rw [h2, Nat.mul_add, Nat.mul_one]
  omega
theorem td_G_B {y v : Nat} (VB : td_V l1 l2 (l1 i) (i - 1) (l2 y) (y - 1) B) (VO : td_V l1 l2 a (l1 i - 1) b (l2 y - 1) O) (h1 : l1 i ≤ v) (h2 : v ≤ i - 1) (hl1 : 1 ≤ l1 i) : td_G i y B O v = B v := by
  unfold td_G td_sg
  rw [if_neg (by omega), td_V_out VO (Or.inr (by omega))]
  omega
theorem td_G_O {y v : Nat} (VB : td_V l1 l2 (l1 i) (i - 1) (l2 y) (y - 1) B) (hl : l1 i ≤ i) (h1 : v < l1 i) : td_G i y B O v = O v := by
  unfold td_G td_sg
  rw [if_neg (by omega), td_V_out VB (Or.inl h1)]
  omega
theorem td_G_i {y : Nat} (VB : td_V l1 l2 (l1 i) (i - 1) (l2 y) (y - 1) B) (VO : td_V l1 l2 a (l1 i - 1) b (l2 y - 1) O) (hl : l1 i ≤ i) (h1 : 1 ≤ l1 i) : td_G i y B O i = y := by
  unfold td_G td_sg
  rw [if_pos rfl, td_V_out VB (Or.inr (by omega)), td_V_out VO (Or.inr (by omega))]
  omega
theorem td_G_out {y v : Nat} (VB : td_V l1 l2 (l1 i) (i - 1) (l2 y) (y - 1) B) (VO : td_V l1 l2 a (l1 i - 1) b (l2 y - 1) O) (hl : l1 i ≤ i) (h1 : i < v) : td_G i y B O v = 0 := by
  unfold td_G td_sg
  rw [if_neg (by omega), td_V_out VB (Or.inr (by omega)), td_V_out VO (Or.inr (by omega))]
end
end
section
/-! gluing and splitting at a pair, the least key, the recurrences of cost and mapping -/
theorem td_L_in {n : Nat} {l : Nat → Nat} (h : td_L n l) {v w : Nat} (hw : w ≤ n) (h1 : l w ≤ v) (h2 : v ≤ w) (hv : 1 ≤ v) : l w ≤ l v := by
  rcases Nat.lt_or_ge v w with z | z
  · exact (h v hv (by omega)).2.2 w z hw h1
  · have e : v = w := by omega
    rw [e]
    exact Nat.le_refl _
section
variable {l1 l2 : Nat → Nat} {d e : Nat} {rn : Nat → Nat → Nat} {n m a i b j y : Nat} {A B O : Nat → Nat}
theorem td_V_glue (h1 : td_L n l1) (h2 : td_L m l2) (hi : 1 ≤ i) (hin : i ≤ n) (hy : 1 ≤ y) (hym : y ≤ m) (ha : a ≤ l1 i) (hb : b ≤ l2 y) (hj : y ≤ j)
    (VB : td_V l1 l2 (l1 i) (i - 1) (l2 y) (y - 1) B) (VO : td_V l1 l2 a (l1 i - 1) b (l2 y - 1) O) : td_V l1 l2 a i b j (td_G i y B O) := by
  have L1 := h1 i hi hin
  have L2 := h2 y hy hym
  have cs : ∀ v, td_G i y B O v ≠ 0 → (v = i ∧ td_G i y B O v = y) ∨ (l1 i ≤ v ∧ v ≤ i - 1 ∧ td_G i y B O v = B v ∧ B v ≠ 0) ∨ (v < l1 i ∧ td_G i y B O v = O v ∧ O v ≠ 0) := by
    intro v hv
    rcases Nat.lt_or_ge v (l1 i) with z | z
    · have e := td_G_O (O := O) (y := y) VB L1.2.1 z
      exact Or.inr (Or.inr ⟨z, e, e ▸ hv⟩)
    · rcases Nat.lt_or_ge v i with z2 | z2
      · have e := td_G_B VB VO z (by omega) L1.1
        exact Or.inr (Or.inl ⟨z, by omega, e, e ▸ hv⟩)
      · rcases Nat.lt_or_ge i v with z3 | z3
        · exact absurd (td_G_out VB VO L1.2.1 z3) hv
        · have e : v = i := by omega
          rw [e]
          exact Or.inl ⟨rfl, td_G_i VB VO L1.2.1 L1.1⟩
  refine ⟨fun v hv => ?_, fun v x hvx hv hx => ?_⟩
  · rcases cs v hv with ⟨c1, c2⟩ | ⟨c1, c2, c3, c4⟩ | ⟨c1, c2, c3⟩
    · rw [c2]
      omega
    · rw [c3]
      have := VB.1 v c4
      omega
    · rw [c2]
      have := VO.1 v c3
      omega
  · rcases cs x hx with ⟨c1, c2⟩ | ⟨c1, c2, c3, c4⟩ | ⟨c1, c2, c3⟩
    · rw [c2, c1]
      rcases cs v hv with ⟨d1, d2⟩ | ⟨d1, d2, d3, d4⟩ | ⟨d1, d2, d3⟩
      · omega
      · rw [d3]
        have := VB.1 v d4
        exact ⟨by omega, fun _ => by omega, fun _ => by omega⟩
      · rw [d2]
        have := VO.1 v d3
        exact ⟨by omega, fun _ => by omega, fun _ => by omega⟩
    · rw [c3]
      rcases cs v hv with ⟨d1, d2⟩ | ⟨d1, d2, d3, d4⟩ | ⟨d1, d2, d3⟩
      · omega
      · rw [d3]
        exact VB.2 v x hvx d4 c4
      · rw [d2]
        have e1 := VO.1 v d3
        have e2 := VB.1 x c4
        have e3 := td_L_in h1 hin c1 (by omega) (by omega : 1 ≤ x)
        have e4 := td_L_in h2 hym e2.2.2.1 (by omega) (by omega : 1 ≤ B x)
        exact ⟨by omega, fun _ => by omega, fun _ => by omega⟩
    · rw [c2]
      rcases cs v hv with ⟨d1, d2⟩ | ⟨d1, d2, d3, d4⟩ | ⟨d1, d2, d3⟩
      · omega
      · omega
      · rw [d2]
        exact VO.2 v x hvx d3 c3
theorem td_C_glue (ha1 : 1 ≤ a) (ha : a ≤ l1 i) (hl : l1 i ≤ i) (hb1 : 1 ≤ b) (hb : b ≤ l2 y) (hly : l2 y ≤ y) (hj : y ≤ j)
    (VB : td_V l1 l2 (l1 i) (i - 1) (l2 y) (y - 1) B) (VO : td_V l1 l2 a (l1 i - 1) b (l2 y - 1) O) (hy : y ≠ 0) :
    td_C d e rn a i b j (td_G i y B O) = td_C d e rn a (l1 i - 1) b (l2 y - 1) O + td_C d e rn (l1 i) (i - 1) (l2 y) (y - 1) B + rn i y + e * (j - y) := by
  have gi : td_G i y B O i = y := td_G_i VB VO hl (by omega)
  have k1 := td_cnt (by omega : 1 ≤ l1 i) VB
  have k2 := td_cnt ha1 VO
  have s : ∀ f : (Nat → Nat) → Nat → Nat, (∀ (X Y : Nat → Nat) (v : Nat), X v = Y v → f X v = f Y v) → td_S (f (td_G i y B O)) a i = td_S (f O) a (l1 i - 1) + (td_S (f B) (l1 i) (i - 1) + f (td_G i y B O) i) := by
    intro f hf
    rw [td_S_split ha1 ha (i := i) (by omega), td_S_p (a := l1 i) hl (by omega),
      td_S_c (f := f (td_G i y B O)) (g := f O) (a := a) (fun v _ h2 => hf _ _ v (td_G_O VB hl (by omega))),
      td_S_c (f := f (td_G i y B O)) (g := f B) (a := l1 i) (fun v h1 h2 => hf _ _ v (td_G_B VB VO h1 h2 (by omega)))]
  have s1 := s (td_cs d rn) (fun X Y v h => td_cs_c h)
  have s2 := s td_nz (fun X Y v h => td_nz_c h)
  rw [td_nz_t (by rw [gi]; exact hy)] at s2
  have e1 : td_cs d rn (td_G i y B O) i = rn i y := by
    unfold td_cs
    rw [gi, if_neg hy]
  rw [e1] at s1
  unfold td_C
  rw [s1, s2]
  have e2 : j + 1 - b - (td_S (td_nz O) a (l1 i - 1) + (td_S (td_nz B) (l1 i) (i - 1) + 1)) = (l2 y - 1 + 1 - b - td_S (td_nz O) a (l1 i - 1)) + (y - 1 + 1 - l2 y - td_S (td_nz B) (l1 i) (i - 1)) + (j - y) := by omega
  rw [e2, Nat.mul_add, Nat.mul_add]
  omega
theorem td_dg_glue : td_dg (td_G i y B O) = td_dg (td_sg i y) + (td_dg B + td_dg O) := by
  unfold td_dg td_G
  omega
theorem td_spl (hi : 1 ≤ i) (hl1 : 1 ≤ l1 i) (hl : l1 i ≤ i) (h : td_V l1 l2 a i b j A) (h0 : A i ≠ 0) :
    td_V l1 l2 (l1 i) (i - 1) (l2 (A i)) (A i - 1) (td_R (l1 i) (i - 1) A) ∧ td_V l1 l2 a (l1 i - 1) b (l2 (A i) - 1) (td_R a (l1 i - 1) A) := by
  refine ⟨td_V_r h fun v p q r => ?_, td_V_r h fun v p q r => ?_⟩
  · have t := h.2 v i (by omega) r h0
    have t2 := t.2.mp p
    omega
  · have t := h.2 v i (by omega) r h0
    have t2 : ¬ l2 (A i) ≤ A v := fun z => by
      have := t.2.mpr z
      omega
    have t3 := h.1 v r
    omega
theorem td_spl_G (hi : 1 ≤ i) (hl1 : 1 ≤ l1 i) (hl : l1 i ≤ i) (h : td_V l1 l2 a i b j A) (h0 : A i ≠ 0) :
    td_G i (A i) (td_R (l1 i) (i - 1) A) (td_R a (l1 i - 1) A) = A := by
  obtain ⟨VB, VO⟩ := td_spl hi hl1 hl h h0
  funext v
  rcases Nat.lt_or_ge v (l1 i) with z | z
  · rw [td_G_O VB hl z]
    rcases Nat.lt_or_ge v a with z2 | z2
    · rw [td_R_out (Or.inl z2), td_V_out h (Or.inl z2)]
    · exact td_R_in z2 (by omega)
  · rcases Nat.lt_or_ge v i with z2 | z2
    · rw [td_G_B VB VO z (by omega) hl1]
      exact td_R_in z (by omega)
    · rcases Nat.lt_or_ge i v with z3 | z3
      · rw [td_G_out VB VO hl z3, td_V_out h (Or.inr z3)]
      · have e : v = i := by omega
        rw [e]
        exact td_G_i VB VO hl hl1
end
theorem td_ex (l1 l2 : Nat → Nat) (d e : Nat) (rn : Nat → Nat → Nat) (a i b j : Nat) : ∃ k, (∃ A, td_V l1 l2 a i b j A ∧ td_K d e rn a i b j A = k) ∧ ∀ k', k' < k → ¬ (∃ A, td_V l1 l2 a i b j A ∧ td_K d e rn a i b j A = k') :=
  pk_least _ ⟨_, _, td_V_0, rfl⟩
noncomputable def td_kb (l1 l2 : Nat → Nat) (d e : Nat) (rn : Nat → Nat → Nat) (a i b j : Nat) : Nat := Classical.choose (td_ex l1 l2 d e rn a i b j)
theorem td_kb_e (l1 l2 : Nat → Nat) (d e : Nat) (rn : Nat → Nat → Nat) (a i b j : Nat) : ∃ A, td_V l1 l2 a i b j A ∧ td_K d e rn a i b j A = td_kb l1 l2 d e rn a i b j :=
  (Classical.choose_spec (td_ex l1 l2 d e rn a i b j)).1
noncomputable def td_M (l1 l2 : Nat → Nat) (d e : Nat) (rn : Nat → Nat → Nat) (a i b j : Nat) : Nat → Nat := Classical.choose (td_kb_e l1 l2 d e rn a i b j)
noncomputable def td_D (l1 l2 : Nat → Nat) (d e : Nat) (rn : Nat → Nat → Nat) (a i b j : Nat) : Nat := td_C d e rn a i b j (td_M l1 l2 d e rn a i b j)
section
variable {l1 l2 : Nat → Nat} {d e : Nat} {rn : Nat → Nat → Nat} {n m a i b j y : Nat} {A B O : Nat → Nat}
theorem td_kb_le (h : td_V l1 l2 a i b j A) : td_kb l1 l2 d e rn a i b j ≤ td_K d e rn a i b j A :=
  Nat.le_of_not_lt fun z => (Classical.choose_spec (td_ex l1 l2 d e rn a i b j)).2 _ z ⟨A, h, rfl⟩
theorem td_M_V (l1 l2 : Nat → Nat) (d e : Nat) (rn : Nat → Nat → Nat) (a i b j : Nat) : td_V l1 l2 a i b j (td_M l1 l2 d e rn a i b j) := (Classical.choose_spec (td_kb_e l1 l2 d e rn a i b j)).1
theorem td_M_K (l1 l2 : Nat → Nat) (d e : Nat) (rn : Nat → Nat → Nat) (a i b j : Nat) : td_K d e rn a i b j (td_M l1 l2 d e rn a i b j) = td_kb l1 l2 d e rn a i b j := (Classical.choose_spec (td_kb_e l1 l2 d e rn a i b j)).2
theorem td_kbD (l1 l2 : Nat → Nat) (d e : Nat) (rn : Nat → Nat → Nat) (a i b j : Nat) : td_kb l1 l2 d e rn a i b j = 100000000 * td_D l1 l2 d e rn a i b j + td_dg (td_M l1 l2 d e rn a i b j) := (td_M_K l1 l2 d e rn a i b j).symm
theorem td_dg_lt (h : ∀ v, A v ≤ 8) : td_dg A < 100000000 := by
  unfold td_dg
  have h1 := h 1
  have h2 := h 2
  have h3 := h 3
  have h4 := h 4
  have h5 := h 5
  have h6 := h 6
  have h7 := h 7
  have h8 := h 8
  omega
theorem td_dg_inj (hA : ∀ v, A v ≤ 8) (hB : ∀ v, B v ≤ 8) (h : td_dg A = td_dg B) : A 1 = B 1 ∧ A 2 = B 2 ∧ A 3 = B 3 ∧ A 4 = B 4 ∧ A 5 = B 5 ∧ A 6 = B 6 ∧ A 7 = B 7 ∧ A 8 = B 8 := by
  unfold td_dg at h
  have a1 := hA 1
  have a2 := hA 2
  have a3 := hA 3
  have a4 := hA 4
  have a5 := hA 5
  have a6 := hA 6
  have a7 := hA 7
  have b1 := hB 1
  have b2 := hB 2
  have b3 := hB 3
  have b4 := hB 4
  have b5 := hB 5
  have b6 := hB 6
  have b7 := hB 7
  have c1 : A 1 = B 1 := by omega
  have c2 : A 2 = B 2 := by omega
  have c3 : A 3 = B 3 := by omega
  have c4 : A 4 = B 4 := by omega
  have c5 : A 5 = B 5 := by omega
  have c6 : A 6 = B 6 := by omega
  have c7 : A 7 = B 7 := by omega
  have c8 : A 8 = B 8 := by omega
  exact ⟨c1, c2, c3, c4, c5, c6, c7, c8⟩
/-- the first place from above where two rows of digits differ -/
theorem td_dg_cmp (hi1 : 1 ≤ i) (hi : i ≤ 8) (hA : ∀ v, A v ≤ 8) (zA : ∀ v, i < v → A v = 0) (h : A i < B i) : td_dg A < td_dg B := by
  unfold td_dg
  have a1 := hA 1
  have a2 := hA 2
  have a3 := hA 3
  have a4 := hA 4
  have a5 := hA 5
  have a6 := hA 6
  have a7 := hA 7
  have c : i = 1 ∨ i = 2 ∨ i = 3 ∨ i = 4 ∨ i = 5 ∨ i = 6 ∨ i = 7 ∨ i = 8 := by omega
  rcases c with rfl | rfl | rfl | rfl | rfl | rfl | rfl | rfl
  · have z2 := zA 2 (by omega)
    have z3 := zA 3 (by omega)
    have z4 := zA 4 (by omega)
    have z5 := zA 5 (by omega)
    have z6 := zA 6 (by omega)
    have z7 := zA 7 (by omega)
    have z8 := zA 8 (by omega)
    omega
  · have z3 := zA 3 (by omega)
    have z4 := zA 4 (by omega)
    have z5 := zA 5 (by omega)
    have z6 := zA 6 (by omega)
    have z7 := zA 7 (by omega)
    have z8 := zA 8 (by omega)
    omega
  · have z4 := zA 4 (by omega)
    have z5 := zA 5 (by omega)
    have z6 := zA 6 (by omega)
    have z7 := zA 7 (by omega)
    have z8 := zA 8 (by omega)
    omega
  · have z5 := zA 5 (by omega)
    have z6 := zA 6 (by omega)
    have z7 := zA 7 (by omega)
    have z8 := zA 8 (by omega)
    omega
  · have z6 := zA 6 (by omega)
    have z7 := zA 7 (by omega)
    have z8 := zA 8 (by omega)
    omega
  · have z7 := zA 7 (by omega)
    have z8 := zA 8 (by omega)
    omega
  · have z8 := zA 8 (by omega)
    omega
  · omega
theorem td_D_le (hj : j ≤ 8) (h : td_V l1 l2 a i b j A) : td_D l1 l2 d e rn a i b j ≤ td_C d e rn a i b j A := by
  have h1 := td_kb_le (d := d) (e := e) (rn := rn) h
  rw [td_kbD] at h1
  have h2 := td_dg_lt (td_V_le h hj)
  unfold td_K at h1
  omega
/-- among the mappings of least cost the least digits -/
theorem td_M_dg (h : td_V l1 l2 a i b j A) (hc : td_C d e rn a i b j A = td_D l1 l2 d e rn a i b j) : td_dg (td_M l1 l2 d e rn a i b j) ≤ td_dg A := by
  have h1 := td_kb_le (d := d) (e := e) (rn := rn) h
  rw [td_kbD] at h1
  unfold td_K at h1
  omega
theorem td_uniq (ha : 1 ≤ a) (hi : i ≤ 8) (hj : j ≤ 8) (h : td_V l1 l2 a i b j A) (hc : td_dg A = td_dg (td_M l1 l2 d e rn a i b j)) : td_M l1 l2 d e rn a i b j = A := by
  have hM := td_M_V l1 l2 d e rn a i b j
  obtain ⟨c1, c2, c3, c4, c5, c6, c7, c8⟩ := td_dg_inj (td_V_le h hj) (td_V_le hM hj) hc
  funext v
  rcases Nat.eq_zero_or_pos v with rfl | z
  · rw [td_V_out h (Or.inl ha), td_V_out hM (Or.inl ha)]
  · rcases Nat.lt_or_ge 8 v with z2 | z2
    · rw [td_V_out h (Or.inr (by omega)), td_V_out hM (Or.inr (by omega))]
    · have c : v = 1 ∨ v = 2 ∨ v = 3 ∨ v = 4 ∨ v = 5 ∨ v = 6 ∨ v = 7 ∨ v = 8 := by omega
      rcases c with rfl | rfl | rfl | rfl | rfl | rfl | rfl | rfl
      · exact c1.symm
      · exact c2.symm
      · exact c3.symm
      · exact c4.symm
      · exact c5.symm
      · exact c6.symm
      · exact c7.symm
      · exact c8.symm
theorem td_M_0 (h : i < a ∨ j < b) (v : Nat) : td_M l1 l2 d e rn a i b j v = 0 := td_V_z (td_M_V l1 l2 d e rn a i b j) h v
theorem td_D_i0 (h : i < a) : td_D l1 l2 d e rn a i b j = e * (j + 1 - b) := by
  unfold td_D td_C
  rw [td_S_lt h, td_S_lt h, Nat.zero_add, Nat.sub_zero]
theorem td_D_j0 (hb : j < b) (ha : a ≤ i) (hi : 1 ≤ i) : td_D l1 l2 d e rn a i b j = td_D l1 l2 d e rn a (i - 1) b j + d := by
  have e1 : td_M l1 l2 d e rn a i b j = td_M l1 l2 d e rn a (i - 1) b j := by
    funext v
    rw [td_M_0 (Or.inr hb), td_M_0 (Or.inr hb)]
  unfold td_D
  rw [e1]
  exact td_C_del ha hi (td_M_0 (Or.inr hb) i)
theorem td_D_u1 (hj : j ≤ 8) (ha : a ≤ i) (hi : 1 ≤ i) : td_D l1 l2 d e rn a i b j ≤ td_D l1 l2 d e rn a (i - 1) b j + d := by
  have hV := td_M_V l1 l2 d e rn a (i - 1) b j
  have h1 := td_D_le (d := d) (e := e) (rn := rn) hj (td_V_w hV (Nat.le_refl a) (by omega : i - 1 ≤ i) (Nat.le_refl b) (Nat.le_refl j))
  rw [td_C_del ha hi (td_V_out hV (Or.inr (by omega)))] at h1
  exact h1
theorem td_D_u2 (hj : j ≤ 8) (ha : 1 ≤ a) (hb : b ≤ j) (hj1 : 1 ≤ j) : td_D l1 l2 d e rn a i b j ≤ td_D l1 l2 d e rn a i b (j - 1) + e := by
  have hV := td_M_V l1 l2 d e rn a i b (j - 1)
  have h1 := td_D_le (d := d) (e := e) (rn := rn) hj (td_V_w hV (Nat.le_refl a) (Nat.le_refl i) (Nat.le_refl b) (by omega : j - 1 ≤ j))
  rw [td_C_ins ha hV hj1 hb] at h1
  exact h1
/-- the cost when i is paired with y, all up to j behind y being inserted -/
noncomputable def td_P (l1 l2 : Nat → Nat) (d e : Nat) (rn : Nat → Nat → Nat) (a i b j y : Nat) : Nat := td_D l1 l2 d e rn a (l1 i - 1) b (l2 y - 1) + td_D l1 l2 d e rn (l1 i) (i - 1) (l2 y) (y - 1) + rn i y + e * (j - y)
theorem td_D_u3 (h1 : td_L n l1) (h2 : td_L m l2) (hi : 1 ≤ i) (hin : i ≤ n) (hym : y ≤ m) (ha1 : 1 ≤ a) (ha : a ≤ l1 i) (hb1 : 1 ≤ b) (hby : b ≤ y) (hb : b ≤ l2 y) (hyj : y ≤ j) (hj : j ≤ 8) :
    td_D l1 l2 d e rn a i b j ≤ td_P l1 l2 d e rn a i b j y := by
  have L1 := h1 i hi hin
  have L2 := h2 y (by omega) hym
  have VB := td_M_V l1 l2 d e rn (l1 i) (i - 1) (l2 y) (y - 1)
  have VO := td_M_V l1 l2 d e rn a (l1 i - 1) b (l2 y - 1)
  have k := td_D_le (d := d) (e := e) (rn := rn) hj (td_V_glue h1 h2 hi hin (by omega) hym ha hb hyj VB VO)
  rw [td_C_glue ha1 ha L1.2.1 hb1 hb L2.2.1 hyj VB VO (by omega)] at k
  exact k
theorem td_D_l1 (hj : j ≤ 8) (ha : a ≤ i) (hi : 1 ≤ i) (h0 : td_M l1 l2 d e rn a i b j i = 0) : td_D l1 l2 d e rn a i b j = td_D l1 l2 d e rn a (i - 1) b j + d := by
  have hV := td_M_V l1 l2 d e rn a i b j
  have h1 := td_D_le (d := d) (e := e) (rn := rn) hj (td_V_del hV h0)
  have h2 : td_D l1 l2 d e rn a i b j = _ := td_C_del ha hi h0
  have h3 := td_D_u1 (l1 := l1) (l2 := l2) (d := d) (e := e) (rn := rn) (b := b) hj ha hi
  omega
/-- what the optimal mapping says when i is paired -/
theorem td_D_l3 (h1 : td_L n l1) (h2 : td_L m l2) (hi : 1 ≤ i) (hin : i ≤ n) (ha1 : 1 ≤ a) (ha : a ≤ l1 i) (hb1 : 1 ≤ b) (hb : ∀ y, b ≤ y → y ≤ j → b ≤ l2 y) (hjm : j ≤ m) (hj : j ≤ 8)
    (h0 : td_M l1 l2 d e rn a i b j i ≠ 0) :
    b ≤ td_M l1 l2 d e rn a i b j i ∧ td_M l1 l2 d e rn a i b j i ≤ j ∧ td_D l1 l2 d e rn a i b j = td_P l1 l2 d e rn a i b j (td_M l1 l2 d e rn a i b j i)
    ∧ td_dg (td_sg i (td_M l1 l2 d e rn a i b j i)) + (td_dg (td_M l1 l2 d e rn (l1 i) (i - 1) (l2 (td_M l1 l2 d e rn a i b j i)) (td_M l1 l2 d e rn a i b j i - 1)) + td_dg (td_M l1 l2 d e rn a (l1 i - 1) b (l2 (td_M l1 l2 d e rn a i b j i) - 1))) ≤ td_dg (td_M l1 l2 d e rn a i b j) := by
  have hV := td_M_V l1 l2 d e rn a i b j
  have L1 := h1 i hi hin
  have hy := hV.1 i h0
  have hly := hb _ hy.2.2.1 hy.2.2.2
  have L2 := h2 (td_M l1 l2 d e rn a i b j i) (by omega) (by omega)
  obtain ⟨VB, VO⟩ := td_spl hi L1.1 L1.2.1 hV h0
  have eG := td_spl_G hi L1.1 L1.2.1 hV h0
  have k1 := td_C_glue (d := d) (e := e) (rn := rn) ha1 ha L1.2.1 hb1 hly L2.2.1 hy.2.2.2 VB VO h0
  have k2 := td_dg_glue (i := i) (y := td_M l1 l2 d e rn a i b j i) (B := td_R (l1 i) (i - 1) (td_M l1 l2 d e rn a i b j)) (O := td_R a (l1 i - 1) (td_M l1 l2 d e rn a i b j))
  rw [eG] at k1 k2
  have k3 := td_D_u3 (d := d) (e := e) (rn := rn) h1 h2 hi hin (by omega : td_M l1 l2 d e rn a i b j i ≤ m) ha1 ha hb1 hy.2.2.1 hly hy.2.2.2 hj
  have kB := td_D_le (d := d) (e := e) (rn := rn) (by omega) VB
  have kO := td_D_le (d := d) (e := e) (rn := rn) (by omega) VO
  have k4 : td_D l1 l2 d e rn a i b j = _ := k1
  have k5 : td_D l1 l2 d e rn a i b j = td_P l1 l2 d e rn a i b j (td_M l1 l2 d e rn a i b j i) := by
    unfold td_P at k3 ⊢
    omega
  refine ⟨hy.2.2.1, hy.2.2.2, k5, ?_⟩
  unfold td_P at k5
  have gB := td_M_dg (d := d) (e := e) (rn := rn) VB (by omega)
  have gO := td_M_dg (d := d) (e := e) (rn := rn) VO (by omega)
  omega
theorem td_D_l2 (ha1 : 1 ≤ a) (hj1 : 1 ≤ j) (hb : b ≤ j) (hj : j ≤ 8) (hne : td_M l1 l2 d e rn a i b j i < j) (h0 : td_M l1 l2 d e rn a i b j i ≠ 0) :
    td_D l1 l2 d e rn a i b j = td_D l1 l2 d e rn a i b (j - 1) + e := by
  have hV := td_M_V l1 l2 d e rn a i b j
  have hV' : td_V l1 l2 a i b (j - 1) (td_M l1 l2 d e rn a i b j) := by
    refine ⟨fun v hv => ?_, hV.2⟩
    have t := hV.1 v hv
    rcases Nat.lt_or_ge v i with z | z
    · have t2 := hV.2 v i z hv h0
      omega
    · have e1 : v = i := by omega
      rw [e1] at t ⊢
      omega
  have k1 := td_D_le (d := d) (e := e) (rn := rn) (by omega) hV'
  have k2 : td_D l1 l2 d e rn a i b j = _ := td_C_ins ha1 hV' hj1 hb
  have k3 := td_D_u2 (l1 := l1) (l2 := l2) (d := d) (e := e) (rn := rn) (a := a) (i := i) hj ha1 hb hj1
  omega
/-- the recurrence that the table follows -/
theorem td_D_rec (h1 : td_L n l1) (h2 : td_L m l2) (hi : 1 ≤ i) (hin : i ≤ n) (ha1 : 1 ≤ a) (ha : a ≤ l1 i) (hb1 : 1 ≤ b) (hbj : b ≤ j) (hb : ∀ y, b ≤ y → y ≤ j → b ≤ l2 y) (hjm : j ≤ m) (hj : j ≤ 8) :
    (td_D l1 l2 d e rn a i b j ≤ td_P l1 l2 d e rn a i b j j ∧ td_D l1 l2 d e rn a i b j ≤ td_D l1 l2 d e rn a (i - 1) b j + d ∧ td_D l1 l2 d e rn a i b j ≤ td_D l1 l2 d e rn a i b (j - 1) + e)
    ∧ (td_D l1 l2 d e rn a i b j = td_P l1 l2 d e rn a i b j j ∨ td_D l1 l2 d e rn a i b j = td_D l1 l2 d e rn a (i - 1) b j + d ∨ td_D l1 l2 d e rn a i b j = td_D l1 l2 d e rn a i b (j - 1) + e) := by
  have L1 := h1 i hi hin
  refine ⟨⟨td_D_u3 h1 h2 hi hin (by omega) ha1 ha hb1 (by omega) (hb j hbj (Nat.le_refl j)) (Nat.le_refl j) hj, td_D_u1 hj (by omega) hi, td_D_u2 hj ha1 hbj (by omega)⟩, ?_⟩
  by_cases z : td_M l1 l2 d e rn a i b j i = 0
  · exact Or.inr (Or.inl (td_D_l1 hj (by omega) hi z))
  · have k := td_D_l3 h1 h2 hi hin ha1 ha hb1 hb hjm hj z
    rcases Nat.lt_or_ge (td_M l1 l2 d e rn a i b j i) j with w | w
    · exact Or.inr (Or.inr (td_D_l2 ha1 (by omega) hbj hj w z))
    · have e1 : td_M l1 l2 d e rn a i b j i = j := by omega
      rw [e1] at k
      exact Or.inl k.2.2.1
/-- the mapping: i is dropped where that is best -/
theorem td_M_del (ha1 : 1 ≤ a) (ha : a ≤ i) (hi : i ≤ 8) (hj : j ≤ 8) (hD : td_D l1 l2 d e rn a i b j = td_D l1 l2 d e rn a (i - 1) b j + d) :
    td_M l1 l2 d e rn a i b j = td_M l1 l2 d e rn a (i - 1) b j := by
  have hV := td_M_V l1 l2 d e rn a i b j
  have hV1 := td_M_V l1 l2 d e rn a (i - 1) b j
  have hV2 := td_V_w hV1 (Nat.le_refl a) (by omega : i - 1 ≤ i) (Nat.le_refl b) (Nat.le_refl j)
  have z1 : td_M l1 l2 d e rn a (i - 1) b j i = 0 := td_V_out hV1 (Or.inr (by omega))
  have c1 : td_C d e rn a i b j (td_M l1 l2 d e rn a (i - 1) b j) = td_D l1 l2 d e rn a (i - 1) b j + d := td_C_del ha (by omega) z1
  have g1 := td_M_dg (d := d) (e := e) (rn := rn) hV2 (by omega)
  have z0 : td_M l1 l2 d e rn a i b j i = 0 := by
    by_cases z : td_M l1 l2 d e rn a i b j i = 0
    · exact z
    · have t := td_dg_cmp (i := i) (A := td_M l1 l2 d e rn a (i - 1) b j) (B := td_M l1 l2 d e rn a i b j) (by omega) hi (td_V_le hV1 hj) (fun v hv => td_V_out hV1 (Or.inr (by omega))) (by omega)
      omega
  have c2 : td_D l1 l2 d e rn a i b j = _ := td_C_del ha (by omega) z0
  have g2 := td_M_dg (d := d) (e := e) (rn := rn) (td_V_del hV z0) (by omega)
  exact td_uniq ha1 hi hj hV2 (by omega)
/-- else it is paired with the least node that is best -/
theorem td_M_pair (h1 : td_L n l1) (h2 : td_L m l2) (hi1 : 1 ≤ i) (hin : i ≤ n) (hi : i ≤ 8) (ha1 : 1 ≤ a) (ha : a ≤ l1 i) (hb1 : 1 ≤ b) (hb : ∀ y, b ≤ y → y ≤ j → b ≤ l2 y) (hjm : j ≤ m) (hj : j ≤ 8)
    (hD : td_D l1 l2 d e rn a i b j ≠ td_D l1 l2 d e rn a (i - 1) b j + d) :
    ∃ y, b ≤ y ∧ y ≤ j ∧ td_P l1 l2 d e rn a i b j y = td_D l1 l2 d e rn a i b j ∧ (∀ y', b ≤ y' → y' < y → td_P l1 l2 d e rn a i b j y' ≠ td_D l1 l2 d e rn a i b j)
      ∧ td_M l1 l2 d e rn a i b j = td_G i y (td_M l1 l2 d e rn (l1 i) (i - 1) (l2 y) (y - 1)) (td_M l1 l2 d e rn a (l1 i - 1) b (l2 y - 1)) := by
  have L1 := h1 i hi1 hin
  have h0 : td_M l1 l2 d e rn a i b j i ≠ 0 := fun z => hD (td_D_l1 hj (by omega) hi1 z)
  obtain ⟨k1, k2, k3, k4⟩ := td_D_l3 h1 h2 hi1 hin ha1 ha hb1 hb hjm hj h0
  have hV := td_M_V l1 l2 d e rn a i b j
  have gl : ∀ y, b ≤ y → y ≤ j → td_V l1 l2 a i b j (td_G i y (td_M l1 l2 d e rn (l1 i) (i - 1) (l2 y) (y - 1)) (td_M l1 l2 d e rn a (l1 i - 1) b (l2 y - 1))) ∧ td_C d e rn a i b j (td_G i y (td_M l1 l2 d e rn (l1 i) (i - 1) (l2 y) (y - 1)) (td_M l1 l2 d e rn a (l1 i - 1) b (l2 y - 1))) = td_P l1 l2 d e rn a i b j y := by
    intro y hy1 hy2
    have L2 := h2 y (by omega) (by omega)
    have VB := td_M_V l1 l2 d e rn (l1 i) (i - 1) (l2 y) (y - 1)
    have VO := td_M_V l1 l2 d e rn a (l1 i - 1) b (l2 y - 1)
    exact ⟨td_V_glue h1 h2 hi1 hin (by omega) (by omega) ha (hb y hy1 hy2) hy2 VB VO, td_C_glue ha1 ha L1.2.1 hb1 (hb y hy1 hy2) L2.2.1 hy2 VB VO (by omega)⟩
  refine ⟨td_M l1 l2 d e rn a i b j i, k1, k2, k3.symm, fun y' hy1 hy2 hP => ?_, ?_⟩
  · obtain ⟨g1, g2⟩ := gl y' hy1 (by omega)
    have t := td_M_dg (d := d) (e := e) (rn := rn) g1 (by omega)
    have gi : td_G i y' (td_M l1 l2 d e rn (l1 i) (i - 1) (l2 y') (y' - 1)) (td_M l1 l2 d e rn a (l1 i - 1) b (l2 y' - 1)) i = y' := td_G_i (td_M_V l1 l2 d e rn (l1 i) (i - 1) (l2 y') (y' - 1)) (td_M_V l1 l2 d e rn a (l1 i - 1) b (l2 y' - 1)) L1.2.1 L1.1
    have t2 := td_dg_cmp (i := i) (B := td_M l1 l2 d e rn a i b j) hi1 hi (td_V_le g1 hj) (fun v hv => td_V_out g1 (Or.inr hv)) (by rw [gi]; exact hy2)
    omega
  · obtain ⟨g1, g2⟩ := gl _ k1 k2
    have t := td_M_dg (d := d) (e := e) (rn := rn) g1 (by omega)
    refine td_uniq ha1 hi hj g1 ?_
    rw [td_dg_glue] at t ⊢
    omega
end
end
section
/-! forests by parents: the least ancestor in a set, lists of children, chains of links -/
def td_fd (f : Nat → Bool) : Nat → Nat → Nat
  | _, 0 => 0
  | lo, k + 1 => if f lo = true then lo else td_fd f (lo + 1) k
theorem td_fd_s (f : Nat → Bool) : ∀ (k lo : Nat), (td_fd f lo k = 0 ∧ ∀ x, lo ≤ x → x < lo + k → f x = false) ∨ (lo ≤ td_fd f lo k ∧ td_fd f lo k < lo + k ∧ f (td_fd f lo k) = true ∧ ∀ x, lo ≤ x → x < td_fd f lo k → f x = false) := by
  intro k
  induction k with
  | zero => exact fun lo => Or.inl ⟨rfl, fun x h1 h2 => by omega⟩
  | succ k ih =>
    intro lo
    by_cases c : f lo = true
    · have e : td_fd f lo (k + 1) = lo := if_pos c
      rw [e]
      exact Or.inr ⟨Nat.le_refl _, by omega, c, fun x h1 h2 => by omega⟩
    · have e : td_fd f lo (k + 1) = td_fd f (lo + 1) k := if_neg c
      rw [e]
      have c' : f lo = false := by
        cases h : f lo with
        | false => rfl
        | true => exact absurd h c
      rcases ih (lo + 1) with ⟨h1, h2⟩ | ⟨h1, h2, h3, h4⟩
      · refine Or.inl ⟨h1, fun x a b => ?_⟩
        rcases Nat.eq_or_lt_of_le a with z | z
        · rw [← z]
          exact c'
        · exact h2 x (by omega) (by omega)
      · refine Or.inr ⟨by omega, by omega, h3, fun x a b => ?_⟩
        rcases Nat.eq_or_lt_of_le a with z | z
        · rw [← z]
          exact c'
        · exact h4 x (by omega) (by omega)
theorem td_fd_u {f : Nat → Bool} {lo k p : Nat} (h1 : lo ≤ p) (h2 : p < lo + k) (h3 : f p = true) (h4 : ∀ x, lo ≤ x → x < p → f x = false) : td_fd f lo k = p := by
  rcases td_fd_s f k lo with ⟨a, b⟩ | ⟨a, b, c, g⟩
  · rw [b p h1 h2] at h3
    exact absurd h3 (by decide)
  · rcases Nat.lt_trichotomy (td_fd f lo k) p with z | z | z
    · rw [h4 _ a z] at c
      exact absurd c (by decide)
    · exact z
    · rw [g p h1 z] at h3
      exact absurd h3 (by decide)
theorem td_fd_0 {f : Nat → Bool} {lo k : Nat} (h : ∀ x, lo ≤ x → x < lo + k → f x = false) : td_fd f lo k = 0 := by
  rcases td_fd_s f k lo with ⟨a, b⟩ | ⟨a, b, c, g⟩
  · exact a
  · rw [h _ a b] at c
    exact absurd c (by decide)
/-- the least node of P above v, or 0 -/
def td_up (P : Nat → Bool) (l : Nat → Nat) (v : Nat) : Nat := td_fd (fun p => P p && decide (l p ≤ v)) (v + 1) (8 - v)
theorem td_up_s (P : Nat → Bool) (l : Nat → Nat) (v : Nat) : (td_up P l v = 0 ∧ ∀ w, v < w → w ≤ 8 → P w = true → v < l w) ∨ (v < td_up P l v ∧ td_up P l v ≤ 8 ∧ P (td_up P l v) = true ∧ l (td_up P l v) ≤ v ∧ ∀ w, v < w → w < td_up P l v → P w = true → v < l w) := by
  unfold td_up
  rcases td_fd_s (fun p => P p && decide (l p ≤ v)) (8 - v) (v + 1) with ⟨a, b⟩ | ⟨a, b, c, g⟩
  · refine Or.inl ⟨a, fun w h1 h2 h3 => ?_⟩
    have t := b w (by omega) (by omega)
    simp only [h3, Bool.true_and, decide_eq_false_iff_not] at t
    omega
  · simp only [Bool.and_eq_true, decide_eq_true_eq] at c
    refine Or.inr ⟨by omega, by omega, c.1, c.2, fun w h1 h2 h3 => ?_⟩
    have t := g w (by omega) h2
    simp only [h3, Bool.true_and, decide_eq_false_iff_not] at t
    omega
theorem td_up_u {P : Nat → Bool} {l : Nat → Nat} {v p : Nat} (h1 : v < p) (h2 : p ≤ 8) (h3 : P p = true) (h4 : l p ≤ v) (h5 : ∀ w, v < w → w < p → P w = true → v < l w) : td_up P l v = p := by
  rcases td_up_s P l v with ⟨a, b⟩ | ⟨a, b, c, g, k⟩
  · have := b p h1 h2 h3
    omega
  · rcases Nat.lt_trichotomy (td_up P l v) p with z | z | z
    · have := h5 _ a z c
      omega
    · exact z
    · have := k p h1 z h3
      omega
theorem td_up_0 {P : Nat → Bool} {l : Nat → Nat} {v : Nat} (h : ∀ w, v < w → w ≤ 8 → P w = true → v < l w) : td_up P l v = 0 := by
  rcases td_up_s P l v with ⟨a, b⟩ | ⟨a, b, c, g, k⟩
  · exact a
  · have := h _ a b c
    omega
/-- the numbers of a forest whose nodes are the set P -/
def td_LP (P : Nat → Bool) (l : Nat → Nat) : Prop := ∀ v, 1 ≤ v → v ≤ 8 → P v = true → 1 ≤ l v ∧ l v ≤ v ∧ ∀ w, v < w → w ≤ 8 → P w = true → l w ≤ v → l w ≤ l v
def td_ad (P : Nat → Bool) (j : Nat) (v : Nat) : Bool := v == j || P v
def td_rm (P : Nat → Bool) (j : Nat) (v : Nat) : Bool := !(v == j) && P v
theorem td_ad_j (P : Nat → Bool) (j : Nat) : td_ad P j j = true := by simp [td_ad]
theorem td_ad_n {P : Nat → Bool} {j v : Nat} (h : v ≠ j) : td_ad P j v = P v := by simp [td_ad, h]
theorem td_rm_j (P : Nat → Bool) (j : Nat) : td_rm P j j = false := by simp [td_rm]
theorem td_rm_n {P : Nat → Bool} {j v : Nat} (h : v ≠ j) : td_rm P j v = P v := by simp [td_rm, h]
/-- a node more: those that it takes below itself -/
theorem td_up_ad {P : Nat → Bool} {l : Nat → Nat} {j : Nat} (hj8 : j ≤ 8) (hL : td_LP (td_ad P j) l) (hj1 : 1 ≤ j) (v : Nat) :
    td_up (td_ad P j) l v = if v ≠ j ∧ l j ≤ v ∧ v < j ∧ td_up P l v = td_up P l j then j else td_up P l v := by
  have Lj := hL j hj1 hj8 (td_ad_j P j)
  by_cases c : l j ≤ v ∧ v < j
  · have key : ∀ w, j < w → w ≤ 8 → P w = true → (l w ≤ v ↔ l w ≤ j) := fun w h1 h2 h3 => by
      have t := Lj.2.2 w h1 h2 (by rw [td_ad_n (by omega)]; exact h3)
      exact ⟨fun _ => by omega, fun q => by have := t q; omega⟩
    rcases td_up_s P l v with ⟨a1, a2⟩ | ⟨a1, a2, a3, a4, a5⟩
    · have q0 : td_up P l j = 0 := td_up_0 fun w h1 h2 h3 => by
        have t1 := a2 w (by omega) h2 h3
        have t2 := key w h1 h2 h3
        omega
      rw [if_pos ⟨by omega, c.1, c.2, by rw [a1, q0]⟩]
      refine td_up_u c.2 hj8 (td_ad_j P j) c.1 fun w h1 h2 h3 => ?_
      rw [td_ad_n (by omega)] at h3
      exact a2 w h1 (by omega) h3
    · rcases Nat.lt_or_ge (td_up P l v) j with z | z
      · have hne : td_up P l v ≠ td_up P l j := by
          rcases td_up_s P l j with ⟨b1, b2⟩ | ⟨b1, b2, b3, b4, b5⟩ <;> omega
        rw [if_neg (fun q => hne q.2.2.2)]
        refine td_up_u a1 a2 (by rw [td_ad_n (by omega)]; exact a3) a4 fun w h1 h2 h3 => ?_
        rw [td_ad_n (by omega)] at h3
        exact a5 w h1 h2 h3
      · rcases Nat.eq_or_lt_of_le z with z2 | z2
        · -- the parent is j itself: then j was in P
          have hP : P j = true := z2 ▸ a3
          have hne : td_up P l v ≠ td_up P l j := by
            rcases td_up_s P l j with ⟨b1, b2⟩ | ⟨b1, b2, b3, b4, b5⟩ <;> omega
          rw [if_neg (fun q => hne q.2.2.2), ← z2]
          refine td_up_u c.2 hj8 (td_ad_j P j) c.1 fun w h1 h2 h3 => ?_
          rw [td_ad_n (by omega)] at h3
          exact a5 w h1 (by omega) h3
        · have qj : td_up P l j = td_up P l v := td_up_u z2 a2 a3 ((key _ z2 a2 a3).mp a4) fun w h1 h2 h3 => by
            have t1 := a5 w (by omega) h2 h3
            have t2 := key w h1 (by omega) h3
            omega
          rw [if_pos ⟨by omega, c.1, c.2, qj.symm⟩]
          refine td_up_u c.2 hj8 (td_ad_j P j) c.1 fun w h1 h2 h3 => ?_
          rw [td_ad_n (by omega)] at h3
          exact a5 w h1 (by omega) h3
  · rw [if_neg (fun q => c ⟨q.2.1, q.2.2.1⟩)]
    rcases td_up_s P l v with ⟨a1, a2⟩ | ⟨a1, a2, a3, a4, a5⟩
    · rw [a1]
      refine td_up_0 fun w h1 h2 h3 => ?_
      by_cases e : w = j
      · rw [e]
        omega
      · rw [td_ad_n e] at h3
        exact a2 w h1 h2 h3
    · have a3' : td_ad P j (td_up P l v) = true := by
        by_cases e : td_up P l v = j
        · rw [e]
          exact td_ad_j P j
        · rw [td_ad_n e]
          exact a3
      refine td_up_u a1 a2 a3' a4 fun w h1 h2 h3 => ?_
      by_cases e : w = j
      · rw [e]
        omega
      · rw [td_ad_n e] at h3
        exact a5 w h1 h2 h3
/-- a node less: its children go to its parent -/
theorem td_up_rm {P : Nat → Bool} {l : Nat → Nat} {i : Nat} (hi8 : i ≤ 8) (hL : td_LP P l) (hi1 : 1 ≤ i) (hP : P i = true) (v : Nat) :
    td_up (td_rm P i) l v = if td_up P l v = i then td_up P l i else td_up P l v := by
  have Li := hL i hi1 hi8 hP
  rcases td_up_s P l v with ⟨a1, a2⟩ | ⟨a1, a2, a3, a4, a5⟩
  · rw [if_neg (by omega), a1]
    refine td_up_0 fun w h1 h2 h3 => ?_
    by_cases e : w = i
    · rw [e, td_rm_j] at h3
      exact absurd h3 (by decide)
    · rw [td_rm_n e] at h3
      exact a2 w h1 h2 h3
  · by_cases c : td_up P l v = i
    · rw [if_pos c]
      rw [c] at a1 a2 a3 a4 a5
      have key : ∀ w, i < w → w ≤ 8 → P w = true → (l w ≤ v ↔ l w ≤ i) := fun w h1 h2 h3 => by
        have t := Li.2.2 w h1 h2 h3
        exact ⟨fun _ => by omega, fun q => by have := t q; omega⟩
      rcases td_up_s P l i with ⟨b1, b2⟩ | ⟨b1, b2, b3, b4, b5⟩
      · rw [b1]
        refine td_up_0 fun w h1 h2 h3 => ?_
        by_cases e : w = i
        · rw [e, td_rm_j] at h3
          exact absurd h3 (by decide)
        · rw [td_rm_n e] at h3
          rcases Nat.lt_or_ge w i with z | z
          · exact a5 w h1 z h3
          · have t1 := b2 w (by omega) h2 h3
            have t2 := key w (by omega) h2 h3
            omega
      · refine td_up_u (by omega) b2 (by rw [td_rm_n (by omega)]; exact b3) ((key _ b1 b2 b3).mpr b4) fun w h1 h2 h3 => ?_
        by_cases e : w = i
        · rw [e, td_rm_j] at h3
          exact absurd h3 (by decide)
        · rw [td_rm_n e] at h3
          rcases Nat.lt_or_ge w i with z | z
          · exact a5 w h1 z h3
          · have t1 := b5 w (by omega) h2 h3
            have t2 := key w (by omega) (by omega) h3
            omega
    · rw [if_neg c]
      refine td_up_u a1 a2 (by rw [td_rm_n c]; exact a3) a4 fun w h1 h2 h3 => ?_
      by_cases e : w = i
      · rw [e, td_rm_j] at h3
        exact absurd h3 (by decide)
      · rw [td_rm_n e] at h3
        exact a5 w h1 h2 h3
/-- the children of q among the k numbers from lo on -/
def lk_ch (P : Nat → Bool) (pr : Nat → Nat) (q : Nat) : Nat → Nat → List Nat
  | _, 0 => []
  | lo, k + 1 => if P lo = true ∧ pr lo = q then lo :: lk_ch P pr q (lo + 1) k else lk_ch P pr q (lo + 1) k
theorem lk_ch_m {P : Nat → Bool} {pr : Nat → Nat} {q w : Nat} : ∀ {k lo : Nat}, w ∈ lk_ch P pr q lo k ↔ lo ≤ w ∧ w < lo + k ∧ P w = true ∧ pr w = q := by
  intro k
  induction k with
  | zero =>
    intro lo
    exact ⟨fun h => absurd h (List.not_mem_nil), fun h => by omega⟩
  | succ k ih =>
    intro lo
    unfold lk_ch
    by_cases c : P lo = true ∧ pr lo = q
    · rw [if_pos c, List.mem_cons, ih]
      constructor
      · rintro (h | ⟨h1, h2, h3, h4⟩)
        · rw [h]
          exact ⟨Nat.le_refl _, by omega, c.1, c.2⟩
        · exact ⟨by omega, by omega, h3, h4⟩
      · rintro ⟨h1, h2, h3, h4⟩
        rcases Nat.eq_or_lt_of_le h1 with z | z
        · exact Or.inl z.symm
        · exact Or.inr ⟨by omega, by omega, h3, h4⟩
    · rw [if_neg c, ih]
      constructor
      · rintro ⟨h1, h2, h3, h4⟩
        exact ⟨by omega, by omega, h3, h4⟩
      · rintro ⟨h1, h2, h3, h4⟩
        rcases Nat.eq_or_lt_of_le h1 with z | z
        · exact absurd ⟨z ▸ h3, z ▸ h4⟩ c
        · exact ⟨by omega, by omega, h3, h4⟩
theorem lk_ch_a {P : Nat → Bool} {pr : Nat → Nat} {q m : Nat} : ∀ {k lo : Nat}, lk_ch P pr q lo (k + m) = lk_ch P pr q lo k ++ lk_ch P pr q (lo + k) m := by
  intro k
  induction k with
  | zero =>
    intro lo
    rw [Nat.zero_add]
    rfl
  | succ k ih =>
    intro lo
    rw [show k + 1 + m = (k + m) + 1 by omega]
    unfold lk_ch
    by_cases c : P lo = true ∧ pr lo = q
    · rw [if_pos c, if_pos c, ih, show lo + 1 + k = lo + (k + 1) by omega]
      cases m <;> rfl
    · rw [if_neg c, if_neg c, ih, show lo + 1 + k = lo + (k + 1) by omega]
      cases m <;> rfl
theorem lk_ch_c {P P' : Nat → Bool} {pr pr' : Nat → Nat} {q q' : Nat} : ∀ {k lo : Nat}, (∀ w, lo ≤ w → w < lo + k → ((P w = true ∧ pr w = q) ↔ (P' w = true ∧ pr' w = q'))) → lk_ch P pr q lo k = lk_ch P' pr' q' lo k := by
  intro k
  induction k with
  | zero =>
    intro lo h
    rfl
  | succ k ih =>
    intro lo h
    have h0 := h lo (Nat.le_refl _) (by omega)
    have h1 := ih (lo := lo + 1) (fun w a b => h w (by omega) (by omega))
    unfold lk_ch
    rw [h1]
    by_cases c : P lo = true ∧ pr lo = q
    · rw [if_pos c, if_pos (h0.mp c)]
    · rw [if_neg c, if_neg (fun z => c (h0.mpr z))]
theorem lk_ch_1 {P : Nat → Bool} {pr : Nat → Nat} {q lo : Nat} (h : P lo = true ∧ pr lo = q) : lk_ch P pr q lo 1 = [lo] := by
  unfold lk_ch
  rw [if_pos h]
  rfl
theorem lk_ch_0 {P : Nat → Bool} {pr : Nat → Nat} {q : Nat} : ∀ {k lo : Nat}, (∀ w, lo ≤ w → w < lo + k → ¬ (P w = true ∧ pr w = q)) → lk_ch P pr q lo k = [] := by
  intro k
  induction k with
  | zero =>
    intro lo h
    rfl
  | succ k ih =>
    intro lo h
    unfold lk_ch
    rw [if_neg (h lo (Nat.le_refl _) (by omega))]
    exact ih (fun w a b => h w (by omega) (by omega))
theorem lk_ch_len {P : Nat → Bool} {pr : Nat → Nat} {q : Nat} : ∀ {k lo : Nat}, (lk_ch P pr q lo k).length ≤ k := by
  intro k
  induction k with
  | zero =>
    intro lo
    exact Nat.le_refl _
  | succ k ih =>
    intro lo
    unfold lk_ch
    have := ih (lo := lo + 1)
    split
    · rw [List.length_cons]
      omega
    · omega
end
section
/-! the component's tables of distances -/
theorem xw_9 : (9 : Int32) = nI 9 := rfl
theorem xw_17 (j : Nat) : (17 : Int32) + nI j = nI (17 + j) := nI_add 17 j
theorem xw_at (i j : Nat) : nI i * 9 + nI j = nI (i * 9 + j) := by rw [xw_9, pk_mul, nI_add]
theorem xw_s1 {i : Nat} (h : 1 ≤ i) : nI i - 1 = nI (i - 1) := pk_sub (b := 1) h
theorem xw_at1 {i : Nat} (j : Nat) (h : 1 ≤ i) : (nI i - 1) * 9 + nI j = nI ((i - 1) * 9 + j) := by rw [xw_s1 h, xw_at]
theorem xw_at2 (i : Nat) {j : Nat} (h : 1 ≤ j) : nI i * 9 + nI j - 1 = nI (i * 9 + (j - 1)) := by
  rw [xw_at, xw_s1 (by omega)]
  exact congrArg nI (by omega)
theorem xw_at3 {i j : Nat} (h : 1 ≤ i) (hj : 1 ≤ j) : (nI i - 1) * 9 + nI j - 1 = nI ((i - 1) * 9 + (j - 1)) := by rw [xw_s1 h, xw_at2 _ hj]
theorem xw_m9 {i : Nat} (j : Nat) (h : 1 ≤ i) : nI (i * 9 + j) - 9 = nI ((i - 1) * 9 + j) := by
  rw [xw_9, pk_sub (by omega)]
  exact congrArg nI (by omega)
theorem xw_m1 (i : Nat) {j : Nat} (h : 1 ≤ j) : nI (i * 9 + j) - 1 = nI (i * 9 + (j - 1)) := by
  rw [xw_s1 (by omega)]
  exact congrArg nI (by omega)
theorem xw_m10 {i j : Nat} (h : 1 ≤ i) (hj : 1 ≤ j) : nI (i * 9 + j) - 10 = nI ((i - 1) * 9 + (j - 1)) := by
  rw [show (10 : Int32) = nI 10 from rfl, pk_sub (by omega)]
  exact congrArg nI (by omega)
def td_rn (r : Nat) (lb1 lb2 : Nat → Nat) (i j : Nat) : Nat := if lb1 i = lb2 j then 0 else r
theorem td_rn_le {r : Nat} {lb1 lb2 : Nat → Nat} (i j : Nat) : td_rn r lb1 lb2 i j ≤ r := by
  unfold td_rn
  split <;> omega
def td_T (l1 l2 : Nat → Nat) (d e r : Nat) (lb1 lb2 : Nat → Nat) (mat tre : Nat → Int32) (i j : Nat) : Prop :=
  mat (i * 9 + j) = nI ((td_D l1 l2 d e (td_rn r lb1 lb2)) (l1 i) (i - 1) (l2 j) (j - 1) + td_rn r lb1 lb2 i j) ∧ tre (i * 9 + j) = nI ((td_D l1 l2 d e (td_rn r lb1 lb2)) (l1 i) i (l2 j) j)
def td_F (l1 l2 : Nat → Nat) (d e r : Nat) (lb1 lb2 : Nat → Nat) (F : Nat → Int32) (a b i j : Nat) : Prop := F (i * 9 + j) = nI ((td_D l1 l2 d e (td_rn r lb1 lb2)) a i b j)
def xw_E (n m : Nat) (l1 l2 lb1 lb2 : Nat → Nat) (xlft xlab : Nat → Int32) : Prop :=
  n ≤ 8 ∧ m ≤ 8 ∧ td_L n l1 ∧ td_L m l2 ∧ (∀ v, 1 ≤ v → v ≤ n → xlft v = nI (l1 v) ∧ xlab v = nI (lb1 v) ∧ lb1 v ≤ 25) ∧ (∀ v, 1 ≤ v → v ≤ m → xlft (17 + v) = nI (l2 v) ∧ xlab (17 + v) = nI (lb2 v) ∧ lb2 v ≤ 25)
section
variable {n m : Nat} {l1 l2 lb1 lb2 : Nat → Nat} {r d e a b i j x y : Nat} {rn : Nat → Nat → Nat}
theorem td_D_bd (hd : d ≤ 9) (he : e ≤ 9) (ha : 1 ≤ a) (hb : 1 ≤ b) (hi : i ≤ 8) (hj : j ≤ 8) : td_D l1 l2 d e rn a i b j ≤ 144 := by
  have h1 := td_D_le (d := d) (e := e) (rn := rn) (A := fun _ => 0) (l1 := l1) (l2 := l2) (a := a) (i := i) (b := b) hj td_V_0
  unfold td_C at h1
  have h2 : td_S (td_cs d rn (fun _ => 0)) a i = td_S (fun _ => d) a i := td_S_c (fun v _ _ => if_pos rfl)
  have h3 : td_S (fun _ => d) a i = d * (i + 1 - a) := by
    rcases td_S_k (a := a) (c := d) (i := i) with h | h
    · exact h
    · omega
  have h4 : d * (i + 1 - a) ≤ 9 * 8 := Nat.mul_le_mul hd (by omega)
  have h5 : e * (j + 1 - b - td_S (td_nz (fun _ => 0)) a i) ≤ 9 * 8 := Nat.mul_le_mul he (by omega)
  omega
theorem td_P_bd (hd : d ≤ 9) (he : e ≤ 9) (hr : ∀ i j, rn i j ≤ 9) (ha : 1 ≤ a) (hb : 1 ≤ b) (hl : 1 ≤ l1 i) (hli : l1 i ≤ i) (hk : 1 ≤ l2 y) (hky : l2 y ≤ y) (hi : i ≤ 8) (hj : j ≤ 8) (hy : y ≤ 8) : td_P l1 l2 d e rn a i b j y ≤ 369 := by
  unfold td_P
  have h1 := td_D_bd (l1 := l1) (l2 := l2) (rn := rn) (a := a) (i := l1 i - 1) (b := b) (j := l2 y - 1) hd he ha hb (by omega) (by omega)
  have h2 := td_D_bd (l1 := l1) (l2 := l2) (rn := rn) (a := l1 i) (i := i - 1) (b := l2 y) (j := y - 1) hd he hl hk (by omega) (by omega)
  have h3 := hr i y
  have h5 : e * (j - y) ≤ 9 * 8 := Nat.mul_le_mul he (by omega)
  omega
end
section
variable {n m : Nat} {l1 l2 lb1 lb2 : Nat → Nat} {r d e a b i j x y : Nat} {xcap xrel xdel xins xdif xtsk xscl xopc xpos xpad xpgl : Int32} {xfst xnxt xup xlab xusd xrts xlft xfor xtre xmat xm1 xm2 xtI xtJ xc1 xc2 xscr xopA xpag : Nat → Int32}
theorem xw_ren {post : Int32 → Prop} (E : (xw_E n m l1 l2 lb1 lb2 xlft xlab)) (hi : 1 ≤ i) (hin : i ≤ n) (hj : 1 ≤ j) (hjm : j ≤ m) (h : post (nI (td_rn r lb1 lb2 i j))) : wpX_renameCost post (xcap, nI r, xdel, xins, xdif, xtsk, xscl, xopc, xpos, xpad, xpgl, xfst, xnxt, xup, xlab, xusd, xrts, xlft, xfor, xtre, xmat, xm1, xm2, xtI, xtJ, xc1, xc2, xscr, xopA, xpag) (nI i) (nI j) := by
  obtain ⟨hn, hm, L1, L2, H1, H2⟩ := E
  have k1 := H1 i hi hin
  have k2 := H2 j hj hjm
  unfold wpX_renameCost
  simp only [xw_17, nI_clamp (show i < 2 ^ 31 by omega), nI_clamp (show 17 + j < 2 ^ 31 by omega), k1.2.1, k2.2.1, nI_eq (show lb1 i < 2 ^ 31 by omega) (show lb2 j < 2 ^ 31 by omega)]
  refine ⟨vp_in_nI (by omega) (by omega), vp_in_nI (by omega) (by omega), fun z => ?_, fun z => ?_⟩
  · unfold td_rn at h
    rw [if_pos z] at h
    exact h
  · unfold td_rn at h
    rw [if_neg z] at h
    exact h
theorem xw_paired {post : Int32 → Prop} {p q : Nat} (E : (xw_E n m l1 l2 lb1 lb2 xlft xlab)) (hi : 1 ≤ i) (hin : i ≤ n) (hj : 1 ≤ j) (hjm : j ≤ m)
    (hp : xfor ((l1 i - 1) * 9 + (l2 j - 1)) = nI p) (hq : xmat (i * 9 + j) = nI q) (h : post (nI (p + q))) : wpX_pairedCost post (xcap, xrel, xdel, xins, xdif, xtsk, xscl, xopc, xpos, xpad, xpgl, xfst, xnxt, xup, xlab, xusd, xrts, xlft, xfor, xtre, xmat, xm1, xm2, xtI, xtJ, xc1, xc2, xscr, xopA, xpag) (nI i) (nI j) := by
  obtain ⟨hn, hm, L1, L2, H1, H2⟩ := E
  have k1 := H1 i hi hin
  have k2 := H2 j hj hjm
  have t1 := L1 i hi hin
  have t2 := L2 j hj hjm
  unfold wpX_pairedCost
  simp only [xw_17, nI_clamp (show i < 2 ^ 31 by omega), nI_clamp (show 17 + j < 2 ^ 31 by omega), k1.1, k2.1, xw_at3 t1.1 t2.1, xw_at, nI_clamp (show (l1 i - 1) * 9 + (l2 j - 1) < 2 ^ 31 by omega), nI_clamp (show i * 9 + j < 2 ^ 31 by omega), hp, hq, nI_add]
  exact ⟨vp_in_nI (by omega) (by omega), vp_in_nI (by omega) (by omega), vp_in_nI (by omega) (by omega), vp_in_nI (by omega) (by omega), h⟩
theorem xw_s131 {post : SX → Prop} {k : Nat} {z v : Int32} (hk : k < 81) (h0 : z = 0 → post (xcap, xrel, xdel, xins, xdif, xtsk, xscl, xopc, xpos, xpad, xpgl, xfst, xnxt, xup, xlab, xusd, xrts, xlft, upd xfor k v, xtre, xmat, xm1, xm2, xtI, xtJ, xc1, xc2, xscr, xopA, xpag)) (h1 : ¬ z = 0 → post (xcap, xrel, xdel, xins, xdif, xtsk, xscl, xopc, xpos, xpad, xpgl, xfst, xnxt, xup, xlab, xusd, xrts, xlft, upd xfor k v, upd xtre k v, xmat, xm1, xm2, xtI, xtJ, xc1, xc2, xscr, xopA, xpag)) : wX_settle_131 post (nI k) z v xcap xrel xdel xins xdif xtsk xscl xopc xpos xpad xpgl xfst xnxt xup xlab xusd xrts xlft xfor xtre xmat xm1 xm2 xtI xtJ xc1 xc2 xscr xopA xpag := by
  unfold wX_settle_131
  rw [nI_clamp (by omega)]
  exact ⟨vp_in_nI hk (by omega), nm_e (br_c h0 fun hz => ⟨vp_in_nI hk (by omega), nm_e (h1 hz)⟩)⟩
theorem xw_s120 {post : SX → Prop} {k p q v : Nat} {z : Int32} (hk : k < 81) (hp : p < 1000) (hq : q < 1000) (hv : v = if p ≤ q then p else q) (h0 : z = 0 → post (xcap, xrel, xdel, xins, xdif, xtsk, xscl, xopc, xpos, xpad, xpgl, xfst, xnxt, xup, xlab, xusd, xrts, xlft, upd xfor k (nI v), xtre, xmat, xm1, xm2, xtI, xtJ, xc1, xc2, xscr, xopA, xpag)) (h1 : ¬ z = 0 → post (xcap, xrel, xdel, xins, xdif, xtsk, xscl, xopc, xpos, xpad, xpgl, xfst, xnxt, xup, xlab, xusd, xrts, xlft, upd xfor k (nI v), upd xtre k (nI v), xmat, xm1, xm2, xtI, xtJ, xc1, xc2, xscr, xopA, xpag)) : wX_settle_120 post (nI k) z (nI p) (nI q) xcap xrel xdel xins xdif xtsk xscl xopc xpos xpad xpgl xfst xnxt xup xlab xusd xrts xlft xfor xtre xmat xm1 xm2 xtI xtJ xc1 xc2 xscr xopA xpag := by
  unfold wX_settle_120
  refine pk_le p q (fun c => ?_) (fun c => ?_)
  · rw [if_pos c] at hv
    subst hv
    exact xw_s131 hk h0 h1
  · rw [if_neg (by omega)] at hv
    subst hv
    exact xw_s131 hk h0 h1
theorem xw_s68 {post : SX → Prop} {z : Int32} {p q s t v : Nat} (E : (xw_E n m l1 l2 lb1 lb2 xlft xlab)) (hi : 1 ≤ i) (hin : i ≤ n) (hj : 1 ≤ j) (hjm : j ≤ m)
    (hp : xfor ((l1 i - 1) * 9 + (l2 j - 1)) = nI p) (hq : xmat (i * 9 + j) = nI q) (hs : xfor ((i - 1) * 9 + j) = nI s) (ht : xfor (i * 9 + (j - 1)) = nI t)
    (bp : p + q < 1000) (bs : s + d < 1000) (bt : t + e < 1000)
    (v1 : v ≤ p + q ∧ v ≤ s + d ∧ v ≤ t + e) (v2 : v = p + q ∨ v = s + d ∨ v = t + e)
    (h0 : z = 0 → post (xcap, xrel, nI d, nI e, xdif, xtsk, xscl, xopc, xpos, xpad, xpgl, xfst, xnxt, xup, xlab, xusd, xrts, xlft, upd xfor (i * 9 + j) (nI v), xtre, xmat, xm1, xm2, xtI, xtJ, xc1, xc2, xscr, xopA, xpag)) (h1 : ¬ z = 0 → post (xcap, xrel, nI d, nI e, xdif, xtsk, xscl, xopc, xpos, xpad, xpgl, xfst, xnxt, xup, xlab, xusd, xrts, xlft, upd xfor (i * 9 + j) (nI v), upd xtre (i * 9 + j) (nI v), xmat, xm1, xm2, xtI, xtJ, xc1, xc2, xscr, xopA, xpag)) :
    wX_settle_68 post (nI i) (nI j) (nI (i * 9 + j)) z xcap xrel (nI d) (nI e) xdif xtsk xscl xopc xpos xpad xpgl xfst xnxt xup xlab xusd xrts xlft xfor xtre xmat xm1 xm2 xtI xtJ xc1 xc2 xscr xopA xpag := by
  unfold wX_settle_68
  have hn := E.1
  have hm := E.2.1
  refine xw_paired E hi hin hj hjm hp hq ?_
  rw [xw_m9 j hi, xw_m1 i hj, nI_clamp (by omega), nI_clamp (by omega), hs, ht, nI_add, nI_add]
  refine ⟨vp_in_nI (by omega) (by omega), nm_e ⟨vp_in_nI (by omega) (by omega), nm_e ?_⟩⟩
  refine pk_le (p + q) (s + d) (fun c => ?_) (fun c => ?_)
  · exact xw_s120 (by omega) bp bt (by split <;> omega) h0 h1
  · exact xw_s120 (by omega) bs bt (by split <;> omega) h0 h1
end
end
section
/-! fillForest -/
section
variable {n m : Nat} {l1 l2 lb1 lb2 : Nat → Nat} {r d e a b i j x y : Nat} {xcap xrel xdel xins xdif xtsk xscl xopc xpos xpad xpgl : Int32} {xfst xnxt xup xlab xusd xrts xlft xfor xtre xmat xm1 xm2 xtI xtJ xc1 xc2 xscr xopA xpag : Nat → Int32}
theorem xw_s37 {post : SX → Prop} {z : Int32} {p s t u v : Nat} (E : (xw_E n m l1 l2 lb1 lb2 xlft xlab)) (hi : 1 ≤ i) (hin : i ≤ n) (hj : 1 ≤ j) (hjm : j ≤ m) (hz : ¬ z = 0)
    (hp : xfor ((l1 i - 1) * 9 + (l2 j - 1)) = nI p) (hs : xfor ((i - 1) * 9 + j) = nI s) (ht : xfor (i * 9 + (j - 1)) = nI t) (hu : xfor ((i - 1) * 9 + (j - 1)) = nI u)
    (bp : p + (u + td_rn r lb1 lb2 i j) < 1000) (bs : s + d < 1000) (bt : t + e < 1000)
    (v1 : v ≤ p + (u + td_rn r lb1 lb2 i j) ∧ v ≤ s + d ∧ v ≤ t + e) (v2 : v = p + (u + td_rn r lb1 lb2 i j) ∨ v = s + d ∨ v = t + e)
    (h1 : post (xcap, nI r, nI d, nI e, xdif, xtsk, xscl, xopc, xpos, xpad, xpgl, xfst, xnxt, xup, xlab, xusd, xrts, xlft, upd xfor (i * 9 + j) (nI v), upd xtre (i * 9 + j) (nI v), upd xmat (i * 9 + j) (nI (u + td_rn r lb1 lb2 i j)), xm1, xm2, xtI, xtJ, xc1, xc2, xscr, xopA, xpag)) :
    wX_settle_37 post (nI i) (nI j) (nI (i * 9 + j)) z xcap (nI r) (nI d) (nI e) xdif xtsk xscl xopc xpos xpad xpgl xfst xnxt xup xlab xusd xrts xlft xfor xtre xmat xm1 xm2 xtI xtJ xc1 xc2 xscr xopA xpag := by
  unfold wX_settle_37
  have hn := E.1
  have hm := E.2.1
  refine br_f hz ?_
  rw [xw_m10 hi hj, nI_clamp (n := (i - 1) * 9 + (j - 1)) (by omega), hu]
  refine ⟨vp_in_nI (by omega) (by omega), xw_ren E hi hin hj hjm ?_⟩
  rw [nI_clamp (by omega), nI_add]
  refine ⟨vp_in_nI (by omega) (by omega), nm_e ?_⟩
  exact xw_s68 E hi hin hj hjm hp pk_us hs ht bp bs bt v1 v2 (fun c => absurd c hz) (fun _ => h1)
theorem xw_settle {post : SX → Prop} (E : (xw_E n m l1 l2 lb1 lb2 xlft xlab)) (hr : r ≤ 9) (hd : d ≤ 9) (he : e ≤ 9) (ha1 : 1 ≤ a) (hai : a ≤ i) (hin : i ≤ n) (ha : a ≤ l1 i) (hb1 : 1 ≤ b) (hbj : b ≤ j) (hjm : j ≤ m) (hb : ∀ y', b ≤ y' → y' ≤ j → b ≤ l2 y')
    (f1 : (td_F l1 l2 d e r lb1 lb2) xfor a b (l1 i - 1) (l2 j - 1)) (f2 : (td_F l1 l2 d e r lb1 lb2) xfor a b (i - 1) j) (f3 : (td_F l1 l2 d e r lb1 lb2) xfor a b i (j - 1)) (f4 : (td_F l1 l2 d e r lb1 lb2) xfor a b (i - 1) (j - 1))
    (hT : ¬ (l1 i = a ∧ l2 j = b) → (td_T l1 l2 d e r lb1 lb2) xmat xtre i j)
    (h : ∀ mat' tre' : Nat → Int32, (∀ k, k ≠ i * 9 + j → mat' k = xmat k ∧ tre' k = xtre k) → (td_T l1 l2 d e r lb1 lb2) mat' tre' i j → post (xcap, nI r, nI d, nI e, xdif, xtsk, xscl, xopc, xpos, xpad, xpgl, xfst, xnxt, xup, xlab, xusd, xrts, xlft, upd xfor (i * 9 + j) (nI ((td_D l1 l2 d e (td_rn r lb1 lb2)) a i b j)), tre', mat', xm1, xm2, xtI, xtJ, xc1, xc2, xscr, xopA, xpag)) :
    wpX_settle post (xcap, nI r, nI d, nI e, xdif, xtsk, xscl, xopc, xpos, xpad, xpgl, xfst, xnxt, xup, xlab, xusd, xrts, xlft, xfor, xtre, xmat, xm1, xm2, xtI, xtJ, xc1, xc2, xscr, xopA, xpag) (nI i) (nI j) (nI a) (nI b) := by
  have hn := E.1
  have hm := E.2.1
  have L1 := E.2.2.1
  have L2 := E.2.2.2.1
  have t1 := L1 i (by omega) hin
  have t2 := L2 j (by omega) hjm
  have k1 := (E.2.2.2.2.1 i (by omega) hin).1
  have k2 := (E.2.2.2.2.2 j (by omega) hjm).1
  have rr : td_rn r lb1 lb2 i j ≤ r := td_rn_le i j
  have rec' := td_D_rec (d := d) (e := e) (rn := td_rn r lb1 lb2) L1 L2 (by omega : 1 ≤ i) hin ha1 ha hb1 hbj hb hjm (by omega)
  unfold td_P at rec'
  rw [Nat.sub_self, Nat.mul_zero, Nat.add_zero] at rec'
  have b1 := td_D_bd (l1 := l1) (l2 := l2) (rn := td_rn r lb1 lb2) (a := a) (i := l1 i - 1) (b := b) (j := l2 j - 1) hd he ha1 hb1 (by omega) (by omega)
  have b2 := td_D_bd (l1 := l1) (l2 := l2) (rn := td_rn r lb1 lb2) (a := l1 i) (i := i - 1) (b := l2 j) (j := j - 1) hd he t1.1 t2.1 (by omega) (by omega)
  have b3 := td_D_bd (l1 := l1) (l2 := l2) (rn := td_rn r lb1 lb2) (a := a) (i := i - 1) (b := b) (j := j) hd he ha1 hb1 (by omega) (by omega)
  have b4 := td_D_bd (l1 := l1) (l2 := l2) (rn := td_rn r lb1 lb2) (a := a) (i := i) (b := b) (j := j - 1) hd he ha1 hb1 (by omega) (by omega)
  unfold td_F at f1 f2 f3 f4
  by_cases w : l1 i = a ∧ l2 j = b
  · have f4' : xfor ((i - 1) * 9 + (j - 1)) = nI ((td_D l1 l2 d e (td_rn r lb1 lb2)) (l1 i) (i - 1) (l2 j) (j - 1)) := by rw [f4, w.1, w.2]
    have hx := h (upd xmat (i * 9 + j) (nI ((td_D l1 l2 d e (td_rn r lb1 lb2)) (l1 i) (i - 1) (l2 j) (j - 1) + td_rn r lb1 lb2 i j))) (upd xtre (i * 9 + j) (nI ((td_D l1 l2 d e (td_rn r lb1 lb2)) a i b j))) (fun k hk => ⟨pk_un hk, pk_un hk⟩) ⟨pk_us, by rw [pk_us, w.1, w.2]⟩
    unfold wpX_settle
    simp only [xw_at, xw_17, nI_clamp (show i < 2 ^ 31 by omega), nI_clamp (show 17 + j < 2 ^ 31 by omega), k1, k2, w.1, w.2]
    refine nm_e ⟨vp_in_nI (by omega) (by omega), br_t trivial ⟨vp_in_nI (by omega) (by omega), br_t trivial ?_⟩⟩
    exact xw_s37 E (by omega) hin (by omega) hjm (by decide) f1 f2 f3 f4' (by omega) (by omega) (by omega) (by omega) (by omega) hx
  · have hx := h xmat xtre (fun k _ => ⟨rfl, rfl⟩) (hT w)
    have g : wX_settle_36 post (nI i) (nI j) (nI (i * 9 + j)) xcap (nI r) (nI d) (nI e) xdif xtsk xscl xopc xpos xpad xpgl xfst xnxt xup xlab xusd xrts xlft xfor xtre xmat xm1 xm2 xtI xtJ xc1 xc2 xscr xopA xpag := by
      unfold wX_settle_36 wX_settle_37
      exact br_t rfl (xw_s68 E (by omega) hin (by omega) hjm f1 (hT w).1 f2 f3 (by omega) (by omega) (by omega) (by omega) (by omega) (fun _ => hx) (fun c => absurd rfl c))
    unfold wpX_settle
    simp only [xw_at, xw_17, nI_clamp (show i < 2 ^ 31 by omega), nI_clamp (show 17 + j < 2 ^ 31 by omega), k1, k2, nI_eq (show l1 i < 2 ^ 31 by omega) (show a < 2 ^ 31 by omega), nI_eq (show l2 j < 2 ^ 31 by omega) (show b < 2 ^ 31 by omega)]
    refine nm_e ⟨vp_in_nI (by omega) (by omega), br_c (fun c => ⟨vp_in_nI (by omega) (by omega), br_f (fun c2 => w ⟨c, c2⟩) g⟩) (fun _ => g)⟩
end
/-- the table while it is filled: all rows ahead of i, row i up to j -/
def xw_I (l1 l2 : Nat → Nat) (d e r : Nat) (lb1 lb2 : Nat → Nat) (x y a b : Nat) (mat0 tre0 : Nat → Int32) (i j : Nat) (F mat tre : Nat → Int32) : Prop :=
  (∀ i' j', a - 1 ≤ i' → i' ≤ x → b - 1 ≤ j' → j' ≤ y → (i' < i ∨ j' < b ∨ (i' = i ∧ j' < j)) → (td_F l1 l2 d e r lb1 lb2) F a b i' j') ∧
  (∀ i' j', a ≤ i' → i' ≤ x → b ≤ j' → j' ≤ y → (i' < i ∨ (i' = i ∧ j' < j)) → (td_T l1 l2 d e r lb1 lb2) mat tre i' j') ∧
  (∀ i' j', j' ≤ 8 → (td_T l1 l2 d e r lb1 lb2) mat0 tre0 i' j' → (td_T l1 l2 d e r lb1 lb2) mat tre i' j')
section
variable {n m : Nat} {l1 l2 lb1 lb2 : Nat → Nat} {r d e a b i j x y : Nat} {xcap xrel xdel xins xdif xtsk xscl xopc xpos xpad xpgl : Int32} {xfst xnxt xup xlab xusd xrts xlft xfor xtre xmat xm1 xm2 xtI xtJ xc1 xc2 xscr xopA xpag : Nat → Int32}
theorem xw_f151 {post : SX → Prop} {J : Int32 → Int32 → Int32 → Int32 → Int32 → Int32 → Int32 → Int32 → Int32 → Int32 → Int32 → Int32 → (Nat → Int32) → (Nat → Int32) → (Nat → Int32) → (Nat → Int32) → (Nat → Int32) → (Nat → Int32) → (Nat → Int32) → (Nat → Int32) → (Nat → Int32) → (Nat → Int32) → (Nat → Int32) → (Nat → Int32) → (Nat → Int32) → (Nat → Int32) → (Nat → Int32) → (Nat → Int32) → (Nat → Int32) → (Nat → Int32) → (Nat → Int32) → Prop}
    (E : (xw_E n m l1 l2 lb1 lb2 xlft xlab)) (hr : r ≤ 9) (hd : d ≤ 9) (he : e ≤ 9) (hx1 : 1 ≤ x) (hx : x ≤ n) (hy1 : 1 ≤ y) (hy : y ≤ m) (hai : l1 x ≤ i) (hix : i ≤ x)
    (hT : ∀ i j, l1 x ≤ i → i ≤ x → l2 y ≤ j → j ≤ y → ¬ (l1 i = l1 x ∧ l2 j = l2 y) → (td_T l1 l2 d e r lb1 lb2) xmat xtre i j)
    (h : ∀ F mat tre, xw_I l1 l2 d e r lb1 lb2 x y (l1 x) (l2 y) xmat xtre i (y + 1) F mat tre → J (nI (i + 1)) xcap (nI r) (nI d) (nI e) xdif xtsk xscl xopc xpos xpad xpgl xfst xnxt xup xlab xusd xrts xlft F tre mat xm1 xm2 xtI xtJ xc1 xc2 xscr xopA xpag) :
    ∀ k j F mat tre, j + k = y + 1 → l2 y ≤ j → xw_I l1 l2 d e r lb1 lb2 x y (l1 x) (l2 y) xmat xtre i j F mat tre →
      wX_fillForest_151 post J (nI x) (nI y) (nI (l1 x)) (nI (l2 y)) (nI i) (k + 1) (nI j) xcap (nI r) (nI d) (nI e) xdif xtsk xscl xopc xpos xpad xpgl xfst xnxt xup xlab xusd xrts xlft F tre mat xm1 xm2 xtI xtJ xc1 xc2 xscr xopA xpag := by
  have hn := E.1
  have hm := E.2.1
  have L1 := E.2.2.1
  have L2 := E.2.2.2.1
  have t1 := L1 x hx1 hx
  have t2 := L2 y hy1 hy
  have ti := L1 i (by omega) (by omega)
  have tl := td_L_in L1 hx hai hix (by omega)
  intro k
  induction k with
  | zero =>
    intro j F mat tre hj hbj hI
    have ej : j = y + 1 := by omega
    subst ej
    unfold wX_fillForest_151
    refine br_t (nI_lt (by omega) (by omega)) (nm_r (nI_1 i) (h F mat tre hI))
  | succ k ih =>
    intro j F mat tre hj hbj hI
    have tj := L2 j (by omega) (by omega)
    have tl2 := td_L_in L2 hy hbj (by omega) (by omega)
    unfold wX_fillForest_151
    refine br_f (nI_nlt (by omega) (by omega)) ?_
    refine xw_settle E hr hd he t1.1 hai (by omega) tl t2.1 hbj (by omega) (fun y' h1 h2 => td_L_in L2 hy h1 (by omega) (by omega)) (hI.1 _ _ (by omega) (by omega) (by omega) (by omega) (by omega)) (hI.1 _ _ (by omega) (by omega) (by omega) (by omega) (by omega)) (hI.1 _ _ (by omega) (by omega) (by omega) (by omega) (by omega)) (hI.1 _ _ (by omega) (by omega) (by omega) (by omega) (by omega)) (fun c => hI.2.2 i j (by omega) (hT i j hai hix hbj (by omega) c)) ?_
    intro mat' tre' hu hT'
    refine nm_r (nI_1 j) (ih (j + 1) _ mat' tre' (by omega) (by omega) ⟨fun i' j' c1 c2 c3 c4 c5 => ?_, fun i' j' c1 c2 c3 c4 c5 => ?_, fun i' j' c1 c2 => ?_⟩)
    · by_cases c : i' = i ∧ j' = j
      · unfold td_F
        rw [c.1, c.2]
        exact pk_us
      · unfold td_F
        rw [pk_un (by omega)]
        exact hI.1 i' j' c1 c2 c3 c4 (by omega)
    · by_cases c : i' = i ∧ j' = j
      · rw [c.1, c.2]
        exact hT'
      · have q := hI.2.1 i' j' c1 c2 c3 c4 (by omega)
        have u := hu (i' * 9 + j') (by omega)
        unfold td_T at q ⊢
        rw [u.1, u.2]
        exact q
    · by_cases c : i' = i ∧ j' = j
      · rw [c.1, c.2]
        exact hT'
      · have q := hI.2.2 i' j' c1 c2
        have u := hu (i' * 9 + j') (by omega)
        unfold td_T at q ⊢
        rw [u.1, u.2]
        exact q
theorem xw_f141 {post : SX → Prop} (E : (xw_E n m l1 l2 lb1 lb2 xlft xlab)) (hr : r ≤ 9) (hd : d ≤ 9) (he : e ≤ 9) (hx1 : 1 ≤ x) (hx : x ≤ n) (hy1 : 1 ≤ y) (hy : y ≤ m)
    (hT : ∀ i j, l1 x ≤ i → i ≤ x → l2 y ≤ j → j ≤ y → ¬ (l1 i = l1 x ∧ l2 j = l2 y) → (td_T l1 l2 d e r lb1 lb2) xmat xtre i j)
    (h : ∀ F mat tre, xw_I l1 l2 d e r lb1 lb2 x y (l1 x) (l2 y) xmat xtre (x + 1) (l2 y) F mat tre → post (xcap, nI r, nI d, nI e, xdif, xtsk, xscl, xopc, xpos, xpad, xpgl, xfst, xnxt, xup, xlab, xusd, xrts, xlft, F, tre, mat, xm1, xm2, xtI, xtJ, xc1, xc2, xscr, xopA, xpag)) :
    ∀ k i F mat tre, i + k = x + 1 → l1 x ≤ i → xw_I l1 l2 d e r lb1 lb2 x y (l1 x) (l2 y) xmat xtre i (l2 y) F mat tre →
      wX_fillForest_141 post (nI x) (nI y) (nI (l1 x)) (nI (l2 y)) (k + 1) (nI i) xcap (nI r) (nI d) (nI e) xdif xtsk xscl xopc xpos xpad xpgl xfst xnxt xup xlab xusd xrts xlft F tre mat xm1 xm2 xtI xtJ xc1 xc2 xscr xopA xpag := by
  have hn := E.1
  have hm := E.2.1
  have t1 := E.2.2.1 x hx1 hx
  have t2 := E.2.2.2.1 y hy1 hy
  intro k
  induction k with
  | zero =>
    intro i F mat tre hi hai hI
    have ei : i = x + 1 := by omega
    subst ei
    unfold wX_fillForest_141
    exact br_t (nI_lt (by omega) (by omega)) (h F mat tre hI)
  | succ k ih =>
    intro i F mat tre hi hai hI
    unfold wX_fillForest_141
    refine br_f (nI_nlt (by omega) (by omega)) ⟨_, xw_f151 E hr hd he hx1 hx hy1 hy hai (by omega) (fun i' j' c1 c2 c3 c4 c5 => hI.2.2 i' j' (by omega) (hT i' j' c1 c2 c3 c4 c5)) ?_ (y + 1 - l2 y) (l2 y) F mat tre (by omega) (Nat.le_refl _) ⟨hI.1, hI.2.1, fun _ _ _ c => c⟩⟩
    intro F' mat' tre' hI'
    refine ih (i + 1) F' mat' tre' (by omega) (by omega) ⟨fun i' j' c1 c2 c3 c4 c5 => hI'.1 i' j' c1 c2 c3 c4 (by omega), fun i' j' c1 c2 c3 c4 c5 => hI'.2.1 i' j' c1 c2 c3 c4 (by omega), fun i' j' c1 c2 => hI'.2.2 i' j' c1 (hI.2.2 i' j' c1 c2)⟩
theorem xw_f91 {post : SX → Prop} (E : (xw_E n m l1 l2 lb1 lb2 xlft xlab)) (hr : r ≤ 9) (hd : d ≤ 9) (he : e ≤ 9) (hx1 : 1 ≤ x) (hx : x ≤ n) (hy1 : 1 ≤ y) (hy : y ≤ m)
    (hT : ∀ i j, l1 x ≤ i → i ≤ x → l2 y ≤ j → j ≤ y → ¬ (l1 i = l1 x ∧ l2 j = l2 y) → (td_T l1 l2 d e r lb1 lb2) xmat xtre i j)
    (h : ∀ F mat tre, xw_I l1 l2 d e r lb1 lb2 x y (l1 x) (l2 y) xmat xtre (x + 1) (l2 y) F mat tre → post (xcap, nI r, nI d, nI e, xdif, xtsk, xscl, xopc, xpos, xpad, xpgl, xfst, xnxt, xup, xlab, xusd, xrts, xlft, F, tre, mat, xm1, xm2, xtI, xtJ, xc1, xc2, xscr, xopA, xpag)) :
    ∀ k j F, j + k = y + 1 → l2 y ≤ j → (∀ i', l1 x - 1 ≤ i' → i' ≤ x → (td_F l1 l2 d e r lb1 lb2) F (l1 x) (l2 y) i' (l2 y - 1)) → (∀ j', l2 y - 1 ≤ j' → j' < j → (td_F l1 l2 d e r lb1 lb2) F (l1 x) (l2 y) (l1 x - 1) j') →
      wX_fillForest_91 post (nI x) (nI y) (nI (l1 x)) (nI (l2 y)) xcap (nI r) (nI d) (nI e) xdif xtsk xscl xopc xpos xpad xpgl (k + 1) (nI j) xfst xnxt xup xlab xusd xrts xlft F xtre xmat xm1 xm2 xtI xtJ xc1 xc2 xscr xopA xpag := by
  have hn := E.1
  have hm := E.2.1
  have t1 := E.2.2.1 x hx1 hx
  have t2 := E.2.2.2.1 y hy1 hy
  intro k
  induction k with
  | zero =>
    intro j F hj hbj h1 h2
    have ej : j = y + 1 := by omega
    subst ej
    unfold wX_fillForest_91
    refine br_t (nI_lt (by omega) (by omega)) ⟨_, xw_f141 E hr hd he hx1 hx hy1 hy hT h (x + 1 - l1 x) (l1 x) F xmat xtre (by omega) (Nat.le_refl _) ⟨fun i' j' c1 c2 c3 c4 c5 => ?_, fun i' j' c1 c2 c3 c4 c5 => ?_, fun _ _ _ c => c⟩⟩
    · by_cases c : j' = l2 y - 1
      · rw [c]
        exact h1 i' c1 c2
      · have e1 : i' = l1 x - 1 := by omega
        rw [e1]
        exact h2 j' c3 (by omega)
    · omega
  | succ k ih =>
    intro j F hj hbj h1 h2
    unfold wX_fillForest_91
    rw [xw_at3 t1.1 (by omega : 1 ≤ j), xw_at1 j t1.1, nI_clamp (by omega), nI_clamp (by omega)]
    refine br_f (nI_nlt (by omega) (by omega)) ⟨vp_in_nI (by omega) (by omega), vp_in_nI (by omega) (by omega), nm_e (nm_r (nI_1 j) ?_)⟩
    refine ih (j + 1) _ (by omega) (by omega) (fun i' c1 c2 => ?_) (fun j' c1 c2 => ?_)
    · unfold td_F
      rw [pk_un (by omega)]
      exact h1 i' c1 c2
    · unfold td_F
      by_cases c : j' = j
      · rw [c, pk_us]
        have q := h2 (j - 1) (by omega) (by omega)
        unfold td_F at q
        rw [q, nI_add, td_D_i0 (by omega), td_D_i0 (by omega), show j + 1 - l2 y = (j - 1 + 1 - l2 y) + 1 by omega, Nat.mul_add, Nat.mul_one]
      · rw [pk_un (by omega)]
        exact h2 j' c1 (by omega)
theorem xw_f38 {post : SX → Prop} (E : (xw_E n m l1 l2 lb1 lb2 xlft xlab)) (hr : r ≤ 9) (hd : d ≤ 9) (he : e ≤ 9) (hx1 : 1 ≤ x) (hx : x ≤ n) (hy1 : 1 ≤ y) (hy : y ≤ m)
    (hT : ∀ i j, l1 x ≤ i → i ≤ x → l2 y ≤ j → j ≤ y → ¬ (l1 i = l1 x ∧ l2 j = l2 y) → (td_T l1 l2 d e r lb1 lb2) xmat xtre i j)
    (h : ∀ F mat tre, xw_I l1 l2 d e r lb1 lb2 x y (l1 x) (l2 y) xmat xtre (x + 1) (l2 y) F mat tre → post (xcap, nI r, nI d, nI e, xdif, xtsk, xscl, xopc, xpos, xpad, xpgl, xfst, xnxt, xup, xlab, xusd, xrts, xlft, F, tre, mat, xm1, xm2, xtI, xtJ, xc1, xc2, xscr, xopA, xpag)) :
    ∀ k i F, i + k = x + 1 → l1 x ≤ i → (∀ i', l1 x - 1 ≤ i' → i' < i → (td_F l1 l2 d e r lb1 lb2) F (l1 x) (l2 y) i' (l2 y - 1)) →
      wX_fillForest_38 post (nI x) (nI y) (nI (l1 x)) (nI (l2 y)) xcap (nI r) (nI d) (nI e) xdif xtsk xscl xopc xpos xpad xpgl (k + 1) (nI i) xfst xnxt xup xlab xusd xrts xlft F xtre xmat xm1 xm2 xtI xtJ xc1 xc2 xscr xopA xpag := by
  have hn := E.1
  have hm := E.2.1
  have t1 := E.2.2.1 x hx1 hx
  have t2 := E.2.2.2.1 y hy1 hy
  intro k
  induction k with
  | zero =>
    intro i F hi hai h1
    have ei : i = x + 1 := by omega
    subst ei
    unfold wX_fillForest_38
    refine br_t (nI_lt (by omega) (by omega)) ⟨_, xw_f91 E hr hd he hx1 hx hy1 hy hT h (y + 1 - l2 y) (l2 y) F (by omega) (Nat.le_refl _) (fun i' c1 c2 => h1 i' c1 (by omega)) (fun j' c1 c2 => ?_)⟩
    have e1 : j' = l2 y - 1 := by omega
    rw [e1]
    exact h1 _ (Nat.le_refl _) (by omega)
  | succ k ih =>
    intro i F hi hai h1
    unfold wX_fillForest_38
    rw [xw_at3 (by omega : 1 ≤ i) t2.1, xw_at2 i t2.1, nI_clamp (by omega), nI_clamp (by omega)]
    refine br_f (nI_nlt (by omega) (by omega)) ⟨vp_in_nI (by omega) (by omega), vp_in_nI (by omega) (by omega), nm_e (nm_r (nI_1 i) ?_)⟩
    refine ih (i + 1) _ (by omega) (by omega) (fun i' c1 c2 => ?_)
    unfold td_F
    by_cases c : i' = i
    · rw [c, pk_us]
      have q := h1 (i - 1) (by omega) (by omega)
      unfold td_F at q
      rw [q, nI_add, td_D_j0 (i := i) (by omega) hai (by omega)]
    · rw [pk_un (by omega)]
      exact h1 i' c1 (by omega)
/-- fillForest: the table of x and y, and the cells of match and tree within it -/
theorem xw_fill {post : SX → Prop} (E : (xw_E n m l1 l2 lb1 lb2 xlft xlab)) (hr : r ≤ 9) (hd : d ≤ 9) (he : e ≤ 9) (hx1 : 1 ≤ x) (hx : x ≤ n) (hy1 : 1 ≤ y) (hy : y ≤ m)
    (hT : ∀ i j, l1 x ≤ i → i ≤ x → l2 y ≤ j → j ≤ y → ¬ (l1 i = l1 x ∧ l2 j = l2 y) → (td_T l1 l2 d e r lb1 lb2) xmat xtre i j)
    (h : ∀ F mat tre, (∀ i j, l1 x - 1 ≤ i → i ≤ x → l2 y - 1 ≤ j → j ≤ y → (td_F l1 l2 d e r lb1 lb2) F (l1 x) (l2 y) i j) → (∀ i j, j ≤ 8 → (td_T l1 l2 d e r lb1 lb2) xmat xtre i j ∨ (l1 x ≤ i ∧ i ≤ x ∧ l2 y ≤ j ∧ j ≤ y) → (td_T l1 l2 d e r lb1 lb2) mat tre i j) → post (xcap, nI r, nI d, nI e, xdif, xtsk, xscl, xopc, xpos, xpad, xpgl, xfst, xnxt, xup, xlab, xusd, xrts, xlft, F, tre, mat, xm1, xm2, xtI, xtJ, xc1, xc2, xscr, xopA, xpag)) :
    wpX_fillForest post (xcap, nI r, nI d, nI e, xdif, xtsk, xscl, xopc, xpos, xpad, xpgl, xfst, xnxt, xup, xlab, xusd, xrts, xlft, xfor, xtre, xmat, xm1, xm2, xtI, xtJ, xc1, xc2, xscr, xopA, xpag) (nI x) (nI y) := by
  have hn := E.1
  have hm := E.2.1
  have t1 := E.2.2.1 x hx1 hx
  have t2 := E.2.2.2.1 y hy1 hy
  have k1 := (E.2.2.2.2.1 x hx1 hx).1
  have k2 := (E.2.2.2.2.2 y hy1 hy).1
  unfold wpX_fillForest
  simp only [xw_17, nI_clamp (show x < 2 ^ 31 by omega), nI_clamp (show 17 + y < 2 ^ 31 by omega), k1, k2]
  refine ⟨vp_in_nI (by omega) (by omega), nm_e ⟨vp_in_nI (by omega) (by omega), nm_e ?_⟩⟩
  rw [xw_at3 t1.1 t2.1, nI_clamp (by omega)]
  refine ⟨vp_in_nI (by omega) (by omega), nm_e ⟨_, xw_f38 E hr hd he hx1 hx hy1 hy hT ?_ (x + 1 - l1 x) (l1 x) _ (by omega) (Nat.le_refl _) (fun i' c1 c2 => ?_)⟩⟩
  · intro F mat tre hI
    refine h F mat tre (fun i j c1 c2 c3 c4 => hI.1 i j c1 c2 c3 c4 (by omega)) (fun i j c1 c2 => ?_)
    rcases c2 with c2 | c2
    · exact hI.2.2 i j c1 c2
    · exact hI.2.1 i j c2.1 c2.2.1 c2.2.2.1 c2.2.2.2 (by omega)
  · have e1 : i' = l1 x - 1 := by omega
    unfold td_F
    rw [e1, pk_us, td_D_i0 (by omega), show l2 y - 1 + 1 - l2 y = 0 by omega, Nat.mul_zero]
    rfl
end
end
section
/-! keyroots; computeDistances -/
def td_kr (n : Nat) (l : Nat → Nat) (v : Nat) : Prop := ∀ w, v < w → w ≤ n → l w ≠ l v
def td_all (n : Nat) (v : Nat) : Bool := decide (v ≤ n)
theorem td_all_t {n v : Nat} (h : v ≤ n) : td_all n v = true := decide_eq_true h
theorem td_all_i {n v : Nat} (h : td_all n v = true) : v ≤ n := of_decide_eq_true h
theorem td_kr_i {n : Nat} {l : Nat → Nat} {v : Nat} (L : td_L n l) (hn : n ≤ 8) (hv1 : 1 ≤ v) (hv : v ≤ n) : td_kr n l v ↔ (td_up (td_all n) l v = 0 ∨ l (td_up (td_all n) l v) ≠ l v) := by
  have Lv := L v hv1 hv
  constructor
  · intro h
    rcases td_up_s (td_all n) l v with ⟨a1, a2⟩ | ⟨a1, a2, a3, a4, a5⟩
    · exact Or.inl a1
    · exact Or.inr (h _ a1 (td_all_i a3))
  · intro h w h1 h2 h3
    rcases td_up_s (td_all n) l v with ⟨a1, a2⟩ | ⟨a1, a2, a3, a4, a5⟩
    · have := a2 w h1 (by omega) (td_all_t h2)
      omega
    · have pn := td_all_i a3
      have q1 : l (td_up (td_all n) l v) ≠ l v := by omega
      have q2 := Lv.2.2 _ a1 pn a4
      rcases Nat.lt_trichotomy (td_up (td_all n) l v) w with z | z | z
      · have q3 := (L _ (by omega) pn).2.2 w z h2 (by omega)
        omega
      · rw [z] at q1
        exact q1 h3
      · have := a5 w h1 z (td_all_t h2)
        omega
theorem td_kr_ex {n : Nat} {l : Nat → Nat} : ∀ k v, v + k = n → ∃ z, v ≤ z ∧ z ≤ n ∧ l v = l z ∧ td_kr n l z := by
  intro k
  induction k with
  | zero => exact fun v h => ⟨v, Nat.le_refl _, by omega, rfl, fun w h1 h2 => by omega⟩
  | succ k ih =>
    intro v h
    by_cases c : ∃ z, v + 1 ≤ z ∧ z ≤ n ∧ l z = l v
    · -- go on from the least such
      obtain ⟨z, z1, z2, z3⟩ := c
      have key : ∀ k' v', v' + k' = n → v' ≤ z → v ≤ v' → ∃ y, v ≤ y ∧ y ≤ n ∧ l v = l y ∧ td_kr n l y := by
        intro k'
        induction k' with
        | zero =>
          intro v' e1 e2 e3
          have : z = v' := by omega
          subst this
          exact ⟨z, by omega, z2, z3.symm, fun w h1 h2 => by omega⟩
        | succ k' ih' =>
          intro v' e1 e2 e3
          rcases Nat.lt_or_ge v' z with q | q
          · exact ih' (v' + 1) (by omega) (by omega) (by omega)
          · have ez : z = v' := by omega
            by_cases c2 : ∃ y, z < y ∧ y ≤ n ∧ l y = l v
            · obtain ⟨y, y1, y2, y3⟩ := c2
              have : y - (v + 1) + (v + 1) = y := by omega
              obtain ⟨u, u1, u2, u3, u4⟩ := (show ∀ g y, y + g = n → v < y → l y = l v → ∃ u, v ≤ u ∧ u ≤ n ∧ l v = l u ∧ td_kr n l u by
                intro g
                induction g using Nat.strongRecOn with
                | ind g ihg =>
                  intro y gy vy ly
                  by_cases c3 : td_kr n l y
                  · exact ⟨y, by omega, by omega, ly.symm, c3⟩
                  · have : ∃ w, y < w ∧ w ≤ n ∧ l w = l y := by
                      apply Classical.byContradiction
                      intro hh
                      exact c3 fun w h1 h2 h3 => hh ⟨w, h1, h2, h3⟩
                    obtain ⟨w, w1, w2, w3⟩ := this
                    exact ihg (n - w) (by omega) w (by omega) (by omega) (by omega)) (n - y) y (by omega) (by omega) y3
              exact ⟨u, u1, u2, u3, u4⟩
            · exact ⟨z, by omega, z2, z3.symm, fun w h1 h2 h3 => c2 ⟨w, h1, h2, by omega⟩⟩
      exact key (n - v) v (by omega) (by omega) (Nat.le_refl _)
    · exact ⟨v, Nat.le_refl _, by omega, rfl, fun w h1 h2 h3 => c ⟨w, by omega, h2, h3⟩⟩
theorem td_kr_lt {n : Nat} {l : Nat → Nat} {v x z : Nat} (L : td_L n l) (hx : x ≤ n) (h1 : l x ≤ v) (h2 : v ≤ x) (hv : 1 ≤ v) (hne : l v ≠ l x) (hz : z ≤ n) (e : l v = l z) : z < x := by
  rcases Nat.lt_trichotomy z x with c | c | c
  · exact c
  · rw [c] at e
    exact absurd e hne
  · have t1 := td_L_in L hx h1 h2 hv
    have t2 := L v hv (by omega)
    have t3 := (L x (by omega) hx).2.2 z c hz (by omega)
    omega
section
variable {n m : Nat} {l1 l2 lb1 lb2 : Nat → Nat} {r d e a b i j x y : Nat} {xcap xrel xdel xins xdif xtsk xscl xopc xpos xpad xpgl : Int32} {xfst xnxt xup xlab xusd xrts xlft xfor xtre xmat xm1 xm2 xtI xtJ xc1 xc2 xscr xopA xpag : Nat → Int32}
theorem xw_key1 {post : Int32 → Prop} (E : (xw_E n m l1 l2 lb1 lb2 xlft xlab)) (U : ∀ v, 1 ≤ v → v ≤ n → xup v = nI (td_up (td_all n) l1 v)) (hx1 : 1 ≤ x) (hx : x ≤ n) (h1 : td_kr n l1 x → post 1) (h0 : ¬ td_kr n l1 x → post 0) : wpX_isKeyroot post (xcap, xrel, xdel, xins, xdif, xtsk, xscl, xopc, xpos, xpad, xpgl, xfst, xnxt, xup, xlab, xusd, xrts, xlft, xfor, xtre, xmat, xm1, xm2, xtI, xtJ, xc1, xc2, xscr, xopA, xpag) 0 (nI x) := by
  obtain ⟨hn, hm, L1, L2, H1, H2⟩ := E
  have kr := td_kr_i L1 hn hx1 hx
  have u := U x hx1 hx
  have k1 := (H1 x hx1 hx).1
  have Lx := L1 x hx1 hx
  unfold wpX_isKeyroot
  simp only [Int32.zero_add, nI_clamp (show x < 2 ^ 31 by omega), u, k1]
  refine ⟨vp_in_nI (by omega) (by omega), nm_e ?_⟩
  rcases td_up_s (td_all n) l1 x with ⟨a1, a2⟩ | ⟨a1, a2, a3, a4, a5⟩
  · rw [a1]
    exact br_t rfl (h1 (kr.mpr (Or.inl a1)))
  · have pn := td_all_i a3
    have k2 := (H1 _ (by omega) pn).1
    have Lp := L1 _ (by omega) pn
    refine br_f (nI_ne0 (by omega) (by omega)) ?_
    rw [nI_clamp (by omega), k2, nI_eq (by omega) (by omega)]
    exact ⟨vp_in_nI (by omega) (by omega), vp_in_nI (by omega) (by omega), fun c => h0 fun q => ((kr.mp q).elim (fun z => by omega) (fun z => z c)), fun c => h1 (kr.mpr (Or.inr c))⟩
theorem xw_key2 {post : Int32 → Prop} (E : (xw_E n m l1 l2 lb1 lb2 xlft xlab)) (U : ∀ v, 1 ≤ v → v ≤ m → xup (17 + v) = nI (td_up (td_all m) l2 v)) (hx1 : 1 ≤ x) (hx : x ≤ m) (h1 : td_kr m l2 x → post 1) (h0 : ¬ td_kr m l2 x → post 0) : wpX_isKeyroot post (xcap, xrel, xdel, xins, xdif, xtsk, xscl, xopc, xpos, xpad, xpgl, xfst, xnxt, xup, xlab, xusd, xrts, xlft, xfor, xtre, xmat, xm1, xm2, xtI, xtJ, xc1, xc2, xscr, xopA, xpag) 17 (nI x) := by
  obtain ⟨hn, hm, L1, L2, H1, H2⟩ := E
  have kr := td_kr_i L2 hm hx1 hx
  have u := U x hx1 hx
  have k1 := (H2 x hx1 hx).1
  have Lx := L2 x hx1 hx
  unfold wpX_isKeyroot
  simp only [xw_17, nI_clamp (show 17 + x < 2 ^ 31 by omega), u, k1]
  refine ⟨vp_in_nI (by omega) (by omega), nm_e ?_⟩
  rcases td_up_s (td_all m) l2 x with ⟨a1, a2⟩ | ⟨a1, a2, a3, a4, a5⟩
  · rw [a1]
    exact br_t rfl (h1 (kr.mpr (Or.inl a1)))
  · have pn := td_all_i a3
    have k2 := (H2 _ (by omega) pn).1
    have Lp := L2 _ (by omega) pn
    refine br_f (nI_ne0 (by omega) (by omega)) ?_
    rw [xw_17, nI_clamp (by omega), k2, nI_eq (by omega) (by omega)]
    exact ⟨vp_in_nI (by omega) (by omega), vp_in_nI (by omega) (by omega), fun c => h0 fun q => ((kr.mp q).elim (fun z => by omega) (fun z => z c)), fun c => h1 (kr.mpr (Or.inr c))⟩
end
def xw_A (n m : Nat) (l1 l2 : Nat → Nat) (d e r : Nat) (lb1 lb2 : Nat → Nat) (x : Nat) (mat tre : Nat → Int32) : Prop := ∀ i j, 1 ≤ i → i ≤ n → 1 ≤ j → j ≤ m → (∃ z, i ≤ z ∧ z < x ∧ l1 i = l1 z ∧ td_kr n l1 z) → (td_T l1 l2 d e r lb1 lb2) mat tre i j
def xw_B (n m : Nat) (l1 l2 : Nat → Nat) (d e r : Nat) (lb1 lb2 : Nat → Nat) (x y : Nat) (mat tre : Nat → Int32) : Prop := ∀ i j, 1 ≤ i → i ≤ x → 1 ≤ j → j ≤ m → l1 i = l1 x → (∃ z, j ≤ z ∧ z < y ∧ l2 j = l2 z ∧ td_kr m l2 z) → (td_T l1 l2 d e r lb1 lb2) mat tre i j
section
variable {n m : Nat} {l1 l2 lb1 lb2 : Nat → Nat} {r d e a b i j x y : Nat} {xcap xrel xdel xins xdif xtsk xscl xopc xpos xpad xpgl : Int32} {xfst xnxt xup xlab xusd xrts xlft xfor xtre xmat xm1 xm2 xtI xtJ xc1 xc2 xscr xopA xpag : Nat → Int32}
theorem xw_c26 {post : SX → Prop} {J : Int32 → Int32 → Int32 → Int32 → Int32 → Int32 → Int32 → Int32 → Int32 → Int32 → Int32 → Int32 → (Nat → Int32) → (Nat → Int32) → (Nat → Int32) → (Nat → Int32) → (Nat → Int32) → (Nat → Int32) → (Nat → Int32) → (Nat → Int32) → (Nat → Int32) → (Nat → Int32) → (Nat → Int32) → (Nat → Int32) → (Nat → Int32) → (Nat → Int32) → (Nat → Int32) → (Nat → Int32) → (Nat → Int32) → (Nat → Int32) → (Nat → Int32) → Prop}
    (E : (xw_E n m l1 l2 lb1 lb2 xlft xlab)) (hr : r ≤ 9) (hd : d ≤ 9) (he : e ≤ 9) (U2 : ∀ v, 1 ≤ v → v ≤ m → xup (17 + v) = nI (td_up (td_all m) l2 v)) (u1 : xusd 1 = nI m) (hx1 : 1 ≤ x) (hx : x ≤ n)
    (h : ∀ F mat tre, xw_A n m l1 l2 d e r lb1 lb2 x mat tre → xw_B n m l1 l2 d e r lb1 lb2 x (m + 1) mat tre → J (nI (x + 1)) xcap (nI r) (nI d) (nI e) xdif xtsk xscl xopc xpos xpad xpgl xfst xnxt xup xlab xusd xrts xlft F tre mat xm1 xm2 xtI xtJ xc1 xc2 xscr xopA xpag) :
    ∀ k y F mat tre, y + k = m + 1 → 1 ≤ y → xw_A n m l1 l2 d e r lb1 lb2 x mat tre → xw_B n m l1 l2 d e r lb1 lb2 x y mat tre →
      wX_computeDistances_26 post J (nI x) (k + 1) (nI y) xcap (nI r) (nI d) (nI e) xdif xtsk xscl xopc xpos xpad xpgl xfst xnxt xup xlab xusd xrts xlft F tre mat xm1 xm2 xtI xtJ xc1 xc2 xscr xopA xpag := by
  have hn := E.1
  have hm := E.2.1
  have L1 := E.2.2.1
  have L2 := E.2.2.2.1
  intro k
  induction k with
  | zero =>
    intro y F mat tre hy hy1 hA hB
    have ey : y = m + 1 := by omega
    subst ey
    unfold wX_computeDistances_26
    rw [u1]
    exact br_t (nI_lt (by omega) (by omega)) (nm_r (nI_1 x) (h F mat tre hA hB))
  | succ k ih =>
    intro y F mat tre hy hy1 hA hB
    unfold wX_computeDistances_26
    rw [u1]
    refine br_f (nI_nlt (by omega) (by omega)) (xw_key2 E U2 hy1 (by omega) (fun kr => br_f (by decide) ?_) (fun kr => br_t rfl ?_))
    · refine xw_fill E hr hd he hx1 hx hy1 (by omega) (fun i j c1 c2 c3 c4 c5 => ?_) ?_
      · have ti := L1 x hx1 hx
        have tj := L2 y hy1 (by omega)
        by_cases c6 : l1 i = l1 x
        · obtain ⟨z, z1, z2, z3, z4⟩ := td_kr_ex (n := m) (l := l2) (m - j) j (by omega)
          exact hB i j (by omega) c2 (by omega) (by omega) c6 ⟨z, z1, td_kr_lt L2 (by omega) c3 c4 (by omega) (fun q => c5 ⟨c6, q⟩) z2 z3, z3, z4⟩
        · obtain ⟨z, z1, z2, z3, z4⟩ := td_kr_ex (n := n) (l := l1) (n - i) i (by omega)
          exact hA i j (by omega) (by omega) (by omega) (by omega) ⟨z, z1, td_kr_lt L1 hx c1 c2 (by omega) c6 z2 z3, z3, z4⟩
      · intro F' mat' tre' hF hT
        refine nm_r (nI_1 y) (ih (y + 1) F' mat' tre' (by omega) (by omega) (fun i j c1 c2 c3 c4 c5 => hT i j (by omega) (Or.inl (hA i j c1 c2 c3 c4 c5))) (fun i j c1 c2 c3 c4 c5 c6 => ?_))
        obtain ⟨z, z1, z2, z3, z4⟩ := c6
        rcases Nat.lt_or_ge z y with q | q
        · exact hT i j (by omega) (Or.inl (hB i j c1 c2 c3 c4 c5 ⟨z, z1, q, z3, z4⟩))
        · have ez : z = y := by omega
          subst ez
          have t1 := L1 i c1 (by omega)
          have t2 := L2 j c3 c4
          exact hT i j (by omega) (Or.inr ⟨by omega, c2, by omega, z1⟩)
    · refine nm_r (nI_1 y) (ih (y + 1) F mat tre (by omega) (by omega) hA (fun i j c1 c2 c3 c4 c5 c6 => ?_))
      obtain ⟨z, z1, z2, z3, z4⟩ := c6
      rcases Nat.lt_or_ge z y with q | q
      · exact hB i j c1 c2 c3 c4 c5 ⟨z, z1, q, z3, z4⟩
      · have ez : z = y := by omega
        subst ez
        exact absurd z4 kr
theorem xw_c2 {post : SX → Prop}
    (E : (xw_E n m l1 l2 lb1 lb2 xlft xlab)) (hr : r ≤ 9) (hd : d ≤ 9) (he : e ≤ 9) (U1 : ∀ v, 1 ≤ v → v ≤ n → xup v = nI (td_up (td_all n) l1 v)) (U2 : ∀ v, 1 ≤ v → v ≤ m → xup (17 + v) = nI (td_up (td_all m) l2 v)) (u0 : xusd 0 = nI n) (u1 : xusd 1 = nI m)
    (h : ∀ F mat tre, xw_A n m l1 l2 d e r lb1 lb2 (n + 1) mat tre → post (xcap, nI r, nI d, nI e, xdif, xtsk, xscl, xopc, xpos, xpad, xpgl, xfst, xnxt, xup, xlab, xusd, xrts, xlft, F, tre, mat, xm1, xm2, xtI, xtJ, xc1, xc2, xscr, xopA, xpag)) :
    ∀ k x F mat tre, x + k = n + 1 → 1 ≤ x → xw_A n m l1 l2 d e r lb1 lb2 x mat tre →
      wX_computeDistances_2 post (k + 1) (nI x) xcap (nI r) (nI d) (nI e) xdif xtsk xscl xopc xpos xpad xpgl xfst xnxt xup xlab xusd xrts xlft F tre mat xm1 xm2 xtI xtJ xc1 xc2 xscr xopA xpag := by
  have hn := E.1
  have hm := E.2.1
  have L1 := E.2.2.1
  have L2 := E.2.2.2.1
  intro k
  induction k with
  | zero =>
    intro x F mat tre hx hx1 hA
    have ex : x = n + 1 := by omega
    subst ex
    unfold wX_computeDistances_2
    rw [u0]
    exact br_t (nI_lt (by omega) (by omega)) (h F mat tre hA)
  | succ k ih =>
    intro x F mat tre hx hx1 hA
    unfold wX_computeDistances_2
    rw [u0]
    refine br_f (nI_nlt (by omega) (by omega)) (xw_key1 E U1 hx1 (by omega) (fun kr => br_f (by decide) ?_) (fun kr => br_t rfl ?_))
    · refine ⟨_, xw_c26 E hr hd he U2 u1 hx1 (by omega) ?_ m 1 F mat tre (by omega) (Nat.le_refl _) hA (fun i j c1 c2 c3 c4 c5 c6 => ?_)⟩
      · intro F' mat' tre' hA' hB'
        refine ih (x + 1) F' mat' tre' (by omega) (by omega) (fun i j c1 c2 c3 c4 c5 => ?_)
        obtain ⟨z, z1, z2, z3, z4⟩ := c5
        rcases Nat.lt_or_ge z x with q | q
        · exact hA' i j c1 c2 c3 c4 ⟨z, z1, q, z3, z4⟩
        · have ez : z = x := by omega
          subst ez
          obtain ⟨y, y1, y2, y3, y4⟩ := td_kr_ex (n := m) (l := l2) (m - j) j (by omega)
          exact hB' i j c1 z1 c3 c4 z3 ⟨y, y1, by omega, y3, y4⟩
      · obtain ⟨z, z1, z2, z3, z4⟩ := c6
        omega
    · refine nm_r (nI_1 x) (ih (x + 1) F mat tre (by omega) (by omega) (fun i j c1 c2 c3 c4 c5 => ?_))
      obtain ⟨z, z1, z2, z3, z4⟩ := c5
      rcases Nat.lt_or_ge z x with q | q
      · exact hA i j c1 c2 c3 c4 ⟨z, z1, q, z3, z4⟩
      · have ez : z = x := by omega
        subst ez
        exact absurd z4 kr
/-- computeDistances: all cells of match and tree -/
theorem xw_comp {post : SX → Prop}
    (E : (xw_E n m l1 l2 lb1 lb2 xlft xlab)) (hr : r ≤ 9) (hd : d ≤ 9) (he : e ≤ 9) (U1 : ∀ v, 1 ≤ v → v ≤ n → xup v = nI (td_up (td_all n) l1 v)) (U2 : ∀ v, 1 ≤ v → v ≤ m → xup (17 + v) = nI (td_up (td_all m) l2 v)) (u0 : xusd 0 = nI n) (u1 : xusd 1 = nI m)
    (h : ∀ F mat tre, (∀ i j, 1 ≤ i → i ≤ n → 1 ≤ j → j ≤ m → (td_T l1 l2 d e r lb1 lb2) mat tre i j) → post (xcap, nI r, nI d, nI e, xdif, xtsk, xscl, xopc, xpos, xpad, xpgl, xfst, xnxt, xup, xlab, xusd, xrts, xlft, F, tre, mat, xm1, xm2, xtI, xtJ, xc1, xc2, xscr, xopA, xpag)) :
    wpX_computeDistances post (xcap, nI r, nI d, nI e, xdif, xtsk, xscl, xopc, xpos, xpad, xpgl, xfst, xnxt, xup, xlab, xusd, xrts, xlft, xfor, xtre, xmat, xm1, xm2, xtI, xtJ, xc1, xc2, xscr, xopA, xpag) := by
  unfold wpX_computeDistances
  refine ⟨_, xw_c2 E hr hd he U1 U2 u0 u1 ?_ n 1 xfor xmat xtre (by omega) (Nat.le_refl _) (fun i j c1 c2 c3 c4 c5 => ?_)⟩
  · intro F mat tre hA
    refine h F mat tre fun i j c1 c2 c3 c4 => hA i j c1 c2 c3 c4 ?_
    obtain ⟨z, z1, z2, z3, z4⟩ := td_kr_ex (n := n) (l := l1) (n - i) i (by omega)
    exact ⟨z, z1, by omega, z3, z4⟩
  · obtain ⟨z, z1, z2, z3, z4⟩ := c5
    omega
end
end
section
/-! the chosen mapping: smallestMate, walk, chooseMapping -/
noncomputable def td_Q (l1 l2 : Nat → Nat) (d e r : Nat) (lb1 lb2 tI tJ : Nat → Nat) : Nat → Nat → Nat
  | 0, _ => 0
  | t + 1, v => td_Q l1 l2 d e r lb1 lb2 tI tJ t v + (td_M l1 l2 d e (td_rn r lb1 lb2)) (l1 (tI t)) (tI t - 1) (l2 (tJ t)) (tJ t - 1) v
noncomputable def td_Qz (l1 l2 : Nat → Nat) (d e r : Nat) (lb1 lb2 tI tJ : Nat → Nat) : Nat → Nat → Nat
  | 0, _ => 0
  | t + 1, v => td_Qz l1 l2 d e r lb1 lb2 tI tJ t v + td_nz ((td_M l1 l2 d e (td_rn r lb1 lb2)) (l1 (tI t)) (tI t - 1) (l2 (tJ t)) (tJ t - 1)) v
def td_set (f : Nat → Nat) (k x : Nat) : Nat → Nat := fun j => if j = k then x else f j
theorem td_set_s {f : Nat → Nat} {k x : Nat} : td_set f k x k = x := if_pos rfl
theorem td_set_n {f : Nat → Nat} {k x j : Nat} (h : j ≠ k) : td_set f k x j = f j := if_neg h
def xw_W (l1 l2 : Nat → Nat) (d e r : Nat) (lb1 lb2 : Nat → Nat) (n m : Nat) (Mt : Nat → Nat) (s0 : Nat) (rest m1 tI tJ : Nat → Nat) (t : Nat) (xm1 xm2 xtI xtJ : Nat → Int32) : Prop :=
  (∀ v, Mt v = m1 v + rest v + td_Q l1 l2 d e r lb1 lb2 tI tJ t v ∧ td_nz Mt v = td_nz m1 v + td_nz rest v + td_Qz l1 l2 d e r lb1 lb2 tI tJ t v) ∧
  (∀ v, v ≤ 8 → xm1 v = nI (m1 v)) ∧ (∀ w, 1 ≤ w → w ≤ 8 → (xm2 w = 0 ↔ ∀ v, m1 v ≠ w)) ∧
  (∀ k, k < t → xtI k = nI (tI k) ∧ xtJ k = nI (tJ k) ∧ 1 ≤ tI k ∧ tI k ≤ n ∧ 1 ≤ tJ k ∧ tJ k ≤ m) ∧ td_S (td_nz m1) 1 8 = s0 + t
section
variable {n m : Nat} {l1 l2 lb1 lb2 : Nat → Nat} {r d e a b i j x y : Nat} {tI tJ tI' tJ' : Nat → Nat}
theorem td_Q_c : ∀ {t : Nat}, (∀ k, k < t → tI k = tI' k ∧ tJ k = tJ' k) → ∀ v, td_Q l1 l2 d e r lb1 lb2 tI tJ t v = td_Q l1 l2 d e r lb1 lb2 tI' tJ' t v ∧ td_Qz l1 l2 d e r lb1 lb2 tI tJ t v = td_Qz l1 l2 d e r lb1 lb2 tI' tJ' t v
  | 0, _, _ => ⟨rfl, rfl⟩
  | t + 1, h, v => by
    have h1 := td_Q_c (t := t) (fun k hk => h k (by omega)) v
    have h2 := h t (by omega)
    unfold td_Q td_Qz
    rw [h1.1, h1.2, h2.1, h2.2]
    exact ⟨rfl, rfl⟩
theorem td_nz_le (A : Nat → Nat) (v : Nat) : td_nz A v ≤ 1 := by
  unfold td_nz
  split <;> omega
theorem td_nz_0 {A : Nat → Nat} {v : Nat} (h : td_nz A v = 0) : A v = 0 := by
  by_cases c : A v = 0
  · exact c
  · rw [td_nz_t c] at h
    omega
theorem td_cnt8 (A : Nat → Nat) : td_S (td_nz A) 1 8 ≤ 8 := by
  have h1 := td_S_le (f := td_nz A) (g := fun _ => 1) (a := 1) (i := 8) (fun v _ _ => td_nz_le A v)
  have h2 : td_S (fun _ => 1) 1 8 = 8 := by decide
  omega
end
section
variable {n m : Nat} {l1 l2 lb1 lb2 : Nat → Nat} {r d e a b i j x y : Nat} {xcap xrel xdel xins xdif xtsk xscl xopc xpos xpad xpgl : Int32} {xfst xnxt xup xlab xusd xrts xlft xfor xtre xmat xm1 xm2 xtI xtJ xc1 xc2 xscr xopA xpag : Nat → Int32}
theorem xw_sm16 {post : Int32 → Prop} {y0 : Nat} (E : (xw_E n m l1 l2 lb1 lb2 xlft xlab)) (hr : r ≤ 9) (hd : d ≤ 9) (he : e ≤ 9) (hi : 1 ≤ i) (hin : i ≤ n) (ha1 : 1 ≤ a) (ha : a ≤ l1 i) (hb1 : 1 ≤ b) (hjm : j ≤ m) (hy0 : y0 ≤ j)
    (hF : ∀ y, b ≤ y → y ≤ j → (td_F l1 l2 d e r lb1 lb2) xfor a b (l1 i - 1) (l2 y - 1)) (hT : ∀ y, b ≤ y → y ≤ j → (td_T l1 l2 d e r lb1 lb2) xmat xtre i y)
    (p1 : (td_P l1 l2 d e (td_rn r lb1 lb2)) a i b j y0 = (td_D l1 l2 d e (td_rn r lb1 lb2)) a i b j) (p2 : ∀ y', b ≤ y' → y' < y0 → (td_P l1 l2 d e (td_rn r lb1 lb2)) a i b j y' ≠ (td_D l1 l2 d e (td_rn r lb1 lb2)) a i b j) (h : post (nI y0)) :
    ∀ k y, y + k = y0 → b ≤ y → wX_smallestMate_16 post (nI i) (nI j) (nI ((td_D l1 l2 d e (td_rn r lb1 lb2)) a i b j)) xcap (nI r) (nI d) (nI e) xdif xtsk xscl xopc xpos xpad xpgl xfst xnxt xup xlab xusd xrts xlft xfor xtre xmat xm1 xm2 xtI xtJ xc1 xc2 xscr xopA xpag (k + 1) (nI y) := by
  have hn := E.1
  have hm := E.2.1
  have L1 := E.2.2.1
  have L2 := E.2.2.2.1
  have ti := L1 i hi hin
  have rr : ∀ i j, td_rn r lb1 lb2 i j ≤ 9 := fun i j => Nat.le_trans (td_rn_le i j) hr
  have bD := td_D_bd (l1 := l1) (l2 := l2) (rn := td_rn r lb1 lb2) (a := a) (i := i) (b := b) (j := j) hd he ha1 hb1 (by omega) (by omega)
  have st : ∀ y, b ≤ y → y < j → ∀ (Q : Int32 → Prop), (∀ p, p = (td_P l1 l2 d e (td_rn r lb1 lb2)) a i b j y → Q (nI p)) → wpX_pairedCost (fun z => Q (z + (nI j - nI y) * nI e)) (xcap, nI r, nI d, nI e, xdif, xtsk, xscl, xopc, xpos, xpad, xpgl, xfst, xnxt, xup, xlab, xusd, xrts, xlft, xfor, xtre, xmat, xm1, xm2, xtI, xtJ, xc1, xc2, xscr, xopA, xpag) (nI i) (nI y) := by
    intro y hy1 hy2 Q hQ
    refine xw_paired E hi hin (by omega) (by omega) (hF y hy1 (by omega)) (hT y hy1 (by omega)).1 ?_
    rw [pk_sub (by omega), pk_mul, nI_add]
    refine hQ _ ?_
    unfold td_P
    rw [Nat.mul_comm e]
    omega
  intro k
  induction k with
  | zero =>
    intro y hy hby
    have ey : y = y0 := by omega
    subst ey
    unfold wX_smallestMate_16
    refine pk_le j y (fun c => ?_) (fun c => ?_)
    · have : j = y := by omega
      rw [this]
      exact h
    · refine st y hby c (fun z => (z = nI ((td_D l1 l2 d e (td_rn r lb1 lb2)) a i b j) → post (nI y)) ∧ (¬ z = nI ((td_D l1 l2 d e (td_rn r lb1 lb2)) a i b j) → ∀ x5 : Int32, x5 = nI y + 1 → wX_smallestMate_16 post (nI i) (nI j) (nI ((td_D l1 l2 d e (td_rn r lb1 lb2)) a i b j)) xcap (nI r) (nI d) (nI e) xdif xtsk xscl xopc xpos xpad xpgl xfst xnxt xup xlab xusd xrts xlft xfor xtre xmat xm1 xm2 xtI xtJ xc1 xc2 xscr xopA xpag 0 x5)) (fun p hp => ?_)
      rw [hp, p1]
      exact br_t rfl h
  | succ k ih =>
    intro y hy hby
    have tj := L2 y (by omega) (by omega)
    unfold wX_smallestMate_16
    refine br_f (nI_ge (by omega) (by omega)) ?_
    refine st y hby (by omega) (fun z => (z = nI ((td_D l1 l2 d e (td_rn r lb1 lb2)) a i b j) → post (nI y)) ∧ (¬ z = nI ((td_D l1 l2 d e (td_rn r lb1 lb2)) a i b j) → ∀ x5 : Int32, x5 = nI y + 1 → wX_smallestMate_16 post (nI i) (nI j) (nI ((td_D l1 l2 d e (td_rn r lb1 lb2)) a i b j)) xcap (nI r) (nI d) (nI e) xdif xtsk xscl xopc xpos xpad xpgl xfst xnxt xup xlab xusd xrts xlft xfor xtre xmat xm1 xm2 xtI xtJ xc1 xc2 xscr xopA xpag (k + 1) x5)) (fun p hp => ?_)
    have bP := td_P_bd (l1 := l1) (l2 := l2) (rn := td_rn r lb1 lb2) (a := a) (i := i) (b := b) (j := j) (y := y) hd he rr ha1 hb1 ti.1 ti.2.1 tj.1 tj.2.1 (by omega) (by omega) (by omega)
    have hne := p2 y hby (by omega)
    refine br_f ?_ (nm_r (nI_1 y) (ih (y + 1) (by omega) (by omega)))
    rw [nI_eq (by omega) (by omega), hp]
    exact hne
/-- walk from (i, j): what is left of the mapping goes to the mates and the tasks -/
theorem xw_w10 {post : SX → Prop} {Mt : Nat → Nat} {s0 : Nat} (E : (xw_E n m l1 l2 lb1 lb2 xlft xlab)) (hr : r ≤ 9) (hd : d ≤ 9) (he : e ≤ 9) (ha1 : 1 ≤ a) (ha9 : a ≤ 9) (hxn : x ≤ n) (hb1 : 1 ≤ b) (hb9 : b ≤ 9) (hym : y ≤ m)
    (ca : ∀ i, a ≤ i → i ≤ x → a ≤ l1 i) (cb : ∀ j, b ≤ j → j ≤ y → b ≤ l2 j)
    (hF : ∀ i j, a - 1 ≤ i → i ≤ x → b - 1 ≤ j → j ≤ y → (td_F l1 l2 d e r lb1 lb2) xfor a b i j) (hT : ∀ i j, 1 ≤ i → i ≤ n → 1 ≤ j → j ≤ m → (td_T l1 l2 d e r lb1 lb2) xmat xtre i j) (hMt : ∀ v, v < 1 ∨ 8 < v → Mt v = 0)
    (h : ∀ m1 tI tJ t xm1 xm2 xtI xtJ, xw_W l1 l2 d e r lb1 lb2 n m Mt s0 (fun _ => 0) m1 tI tJ t xm1 xm2 xtI xtJ → post (xcap, nI r, nI d, nI e, xdif, nI t, xscl, xopc, xpos, xpad, xpgl, xfst, xnxt, xup, xlab, xusd, xrts, xlft, xfor, xtre, xmat, xm1, xm2, xtI, xtJ, xc1, xc2, xscr, xopA, xpag)) :
    ∀ k i j s m1 tI tJ t xm1 xm2 xtI xtJ, i ≤ k → i ≤ x → j ≤ y → i + s ≤ x → xw_W l1 l2 d e r lb1 lb2 n m Mt s0 ((td_M l1 l2 d e (td_rn r lb1 lb2)) a i b j) m1 tI tJ t xm1 xm2 xtI xtJ →
      wX_walk_10 post (nI a) (nI b) xcap (nI r) (nI d) (nI e) xdif xscl xopc xpos xpad xpgl (k + 1) (nI i) (nI j) (nI s) (nI t) xfst xnxt xup xlab xusd xrts xlft xfor xtre xmat xm1 xm2 xtI xtJ xc1 xc2 xscr xopA xpag := by
  have hn := E.1
  have hm := E.2.1
  have L1 := E.2.2.1
  have L2 := E.2.2.2.1
  have stop : ∀ {i j m1 tI tJ t xm1 xm2 xtI xtJ}, (i < a ∨ j < b) → xw_W l1 l2 d e r lb1 lb2 n m Mt s0 ((td_M l1 l2 d e (td_rn r lb1 lb2)) a i b j) m1 tI tJ t xm1 xm2 xtI xtJ → post (xcap, nI r, nI d, nI e, xdif, nI t, xscl, xopc, xpos, xpad, xpgl, xfst, xnxt, xup, xlab, xusd, xrts, xlft, xfor, xtre, xmat, xm1, xm2, xtI, xtJ, xc1, xc2, xscr, xopA, xpag) := by
    intro i j m1 tI tJ t xm1 xm2 xtI xtJ c hW
    have e0 : (td_M l1 l2 d e (td_rn r lb1 lb2)) a i b j = fun _ => 0 := funext fun v => td_M_0 c v
    rw [e0] at hW
    exact h m1 tI tJ t xm1 xm2 xtI xtJ hW
  intro k
  induction k with
  | zero =>
    intro i j s m1 tI tJ t xm1 xm2 xtI xtJ hik hix hjy hs hW
    unfold wX_walk_10
    exact br_f (nI_ge (b := 9) (by omega) (by decide)) (br_t (nI_lt (by omega) (by omega)) (stop (Or.inl (by omega)) hW))
  | succ k ih =>
    intro i j s m1 tI tJ t xm1 xm2 xtI xtJ hik hix hjy hs hW
    unfold wX_walk_10
    refine br_f (nI_ge (b := 9) (by omega) (by decide)) (pk_lt i a (fun c => stop (Or.inl c) hW) (fun ci => pk_lt j b (fun c => stop (Or.inr c) hW) (fun cj => ?_)))
    have ti := L1 i (by omega) (by omega)
    have tai := ca i ci hix
    have f1 := hF i j (by omega) hix (by omega) hjy
    have f2 := hF (i - 1) j (by omega) (by omega) (by omega) hjy
    unfold td_F at f1 f2
    have b1 := td_D_bd (l1 := l1) (l2 := l2) (rn := td_rn r lb1 lb2) (a := a) (i := i) (b := b) (j := j) hd he ha1 hb1 (by omega) (by omega)
    have b2 := td_D_bd (l1 := l1) (l2 := l2) (rn := td_rn r lb1 lb2) (a := a) (i := i - 1) (b := b) (j := j) hd he ha1 hb1 (by omega) (by omega)
    rw [xw_at, xw_at1 j (by omega), nI_clamp (n := i * 9 + j) (by omega), nI_clamp (n := (i - 1) * 9 + j) (by omega), f1, f2, nI_add]
    refine ⟨vp_in_nI (by omega) (by omega), vp_in_nI (by omega) (by omega), ?_⟩
    refine pk_eq ((td_D l1 l2 d e (td_rn r lb1 lb2)) a i b j) ((td_D l1 l2 d e (td_rn r lb1 lb2)) a (i - 1) b j + d) (fun c => ?_) (fun c => ?_)
    · have eM := td_M_del (l1 := l1) (l2 := l2) (d := d) (e := e) (rn := td_rn r lb1 lb2) ha1 ci (by omega) (by omega) c
      rw [eM] at hW
      obtain ⟨i', rfl⟩ : ∃ i', i = i' + 1 := ⟨i - 1, by omega⟩
      refine nm_r (pk_m1 i') (nm_r (nI_1 s) ?_)
      exact ih i' j (s + 1) m1 tI tJ t xm1 xm2 xtI xtJ (by omega) (by omega) hjy (by omega) hW
    · obtain ⟨y0, y1, y2, y3, y4, y5⟩ := td_M_pair (d := d) (e := e) (rn := td_rn r lb1 lb2) L1 L2 (by omega : 1 ≤ i) (by omega) (by omega) ha1 tai hb1 (fun y' c1 c2 => cb y' c1 (by omega)) (by omega : j ≤ m) (by omega) c
      have tj := L2 y0 (by omega) (by omega)
      have tcb := cb y0 y1 (by omega)
      have VB := td_M_V l1 l2 d e (td_rn r lb1 lb2) (l1 i) (i - 1) (l2 y0) (y0 - 1)
      have VO := td_M_V l1 l2 d e (td_rn r lb1 lb2) a (l1 i - 1) b (l2 y0 - 1)
      have gi : (td_M l1 l2 d e (td_rn r lb1 lb2)) a i b j i = y0 := by
        rw [y5]
        exact td_G_i VB VO ti.2.1 ti.1
      obtain ⟨w1, w2, w3, w4, w5⟩ := hW
      have wi := w1 i
      have z1 : td_nz ((td_M l1 l2 d e (td_rn r lb1 lb2)) a i b j) i = 1 := td_nz_t (by rw [gi]; omega)
      have z2 := td_nz_le Mt i
      have z3 : m1 i = 0 := td_nz_0 (by omega)
      have cnt : td_S (td_nz (td_set m1 i y0)) 1 8 = td_S (td_nz m1) 1 8 + 1 := by
        refine td_S_1 (w := i) (by omega) (by omega) ?_ (fun v hv => ?_) (by omega)
        · rw [td_nz_t (by rw [td_set_s]; omega), td_nz_f z3]
        · exact td_nz_c (td_set_n hv)
      have c8 := td_cnt8 (td_set m1 i y0)
      unfold wpX_smallestMate
      simp only [xw_at, nI_clamp (show i * 9 + j < 2 ^ 31 by omega), f1]
      refine ⟨vp_in_nI (by omega) (by omega), nm_e ⟨_, xw_sm16 E hr hd he (by omega) (by omega) ha1 tai hb1 (by omega) y2 (fun y' c1 c2 => ?_) (fun y' c1 c2 => hT i y' (by omega) (by omega) (by omega) (by omega)) y3 y4 ?_ (y0 - b) b (by omega) (Nat.le_refl _)⟩⟩
      · have := cb y' c1 (by omega)
        have := (L2 y' (by omega) (by omega)).2.1
        exact hF _ _ (by omega) (by omega) (by omega) (by omega)
      · have k1 := (E.2.2.2.2.1 i (by omega) (by omega)).1
        have k2 := (E.2.2.2.2.2 y0 (by omega) (by omega)).1
        simp only [nI_clamp (show i < 2 ^ 31 by omega), nI_clamp (show y0 < 2 ^ 31 by omega), nI_clamp (show t < 2 ^ 31 by omega), xw_17, nI_clamp (show 17 + y0 < 2 ^ 31 by omega), k1, k2, xw_s1 ti.1, xw_s1 tj.1]
        refine ⟨vp_in_nI (by omega) (by omega), nm_e ⟨vp_in_nI (by omega) (by omega), nm_e ⟨vp_in_nI (by omega) (by omega), nm_e ⟨vp_in_nI (by omega) (by omega), nm_e (nm_r (nI_1 t) ⟨vp_in_nI (by omega) (by omega), nm_e ⟨vp_in_nI (by omega) (by omega), nm_e (nm_r (nI_1 s) ?_)⟩⟩)⟩⟩⟩⟩
        refine ih (l1 i - 1) (l2 y0 - 1) (s + 1) (td_set m1 i y0) (td_set tI t i) (td_set tJ t y0) (t + 1) _ _ _ _ (by omega) (by omega) (by omega) (by omega) ⟨fun v => ?_, fun v hv => ?_, fun w hw1 hw2 => ?_, fun k' hk' => ?_, by omega⟩
        · have qc := td_Q_c (l1 := l1) (l2 := l2) (d := d) (e := e) (r := r) (lb1 := lb1) (lb2 := lb2) (tI := td_set tI t i) (tJ := td_set tJ t y0) (tI' := tI) (tJ' := tJ) (t := t) (fun k' hk' => ⟨td_set_n (by omega), td_set_n (by omega)⟩) v
          unfold td_Q td_Qz
          rw [qc.1, qc.2, td_set_s, td_set_s]
          have wv := w1 v
          by_cases ev : v = i
          · rw [ev] at wv ⊢
            rw [gi] at wv
            have n1 : (td_M l1 l2 d e (td_rn r lb1 lb2)) (l1 i) (i - 1) (l2 y0) (y0 - 1) i = 0 := td_V_out VB (Or.inr (by omega))
            have n2 : (td_M l1 l2 d e (td_rn r lb1 lb2)) a (l1 i - 1) b (l2 y0 - 1) i = 0 := td_V_out VO (Or.inr (by omega))
            rw [td_nz_f n1, td_nz_f n2, n1, n2, td_set_s, td_nz_t (A := td_set m1 i y0) (by rw [td_set_s]; omega)]
            rw [z1, td_nz_f z3] at wv
            omega
          · rw [td_set_n ev, td_nz_c (A := td_set m1 i y0) (B := m1) (td_set_n ev)]
            rcases Nat.lt_or_ge v (l1 i) with q | q
            · have n1 : (td_M l1 l2 d e (td_rn r lb1 lb2)) (l1 i) (i - 1) (l2 y0) (y0 - 1) v = 0 := td_V_out VB (Or.inl q)
              have n3 : (td_M l1 l2 d e (td_rn r lb1 lb2)) a i b j v = (td_M l1 l2 d e (td_rn r lb1 lb2)) a (l1 i - 1) b (l2 y0 - 1) v := by
                rw [y5]
                exact td_G_O VB ti.2.1 q
              rw [n3, td_nz_c n3] at wv
              rw [td_nz_f n1, n1]
              omega
            · have n2 : (td_M l1 l2 d e (td_rn r lb1 lb2)) a (l1 i - 1) b (l2 y0 - 1) v = 0 := td_V_out VO (Or.inr (by omega))
              have n3 : (td_M l1 l2 d e (td_rn r lb1 lb2)) a i b j v = (td_M l1 l2 d e (td_rn r lb1 lb2)) (l1 i) (i - 1) (l2 y0) (y0 - 1) v := by
                rw [y5]
                rcases Nat.lt_or_ge v i with q2 | q2
                · exact td_G_B VB VO q (by omega) ti.1
                · rw [td_G_out VB VO ti.2.1 (by omega), td_V_out VB (Or.inr (by omega))]
              rw [n3, td_nz_c n3] at wv
              rw [td_nz_f n2, n2]
              omega
        · by_cases ev : v = i
          · rw [ev, pk_us, td_set_s]
          · rw [pk_un ev, td_set_n ev]
            exact w2 v hv
        · by_cases ew : w = y0
          · rw [ew, pk_us]
            refine ⟨fun q => absurd q (nI_ne0 (by omega) (by omega)), fun q => absurd (td_set_s (f := m1) (k := i) (x := y0)) (q i)⟩
          · rw [pk_un ew, w3 w hw1 hw2]
            constructor
            · intro q v
              by_cases ev : v = i
              · rw [ev, td_set_s]
                omega
              · rw [td_set_n ev]
                exact q v
            · intro q v
              by_cases ev : v = i
              · rw [ev, z3]
                omega
              · have := q v
                rw [td_set_n ev] at this
                exact this
        · by_cases ek : k' = t
          · rw [ek, pk_us, pk_us, td_set_s, td_set_s]
            exact ⟨rfl, rfl, by omega, by omega, by omega, by omega⟩
          · rw [pk_un ek, pk_un ek, td_set_n ek, td_set_n ek]
            exact w4 k' (by omega)
end
end
section
/-! chooseMapping -/
section
variable {n m : Nat} {l1 l2 lb1 lb2 : Nat → Nat} {r d e a b i j x y : Nat} {xcap xrel xdel xins xdif xtsk xscl xopc xpos xpad xpgl : Int32} {xfst xnxt xup xlab xusd xrts xlft xfor xtre xmat xm1 xm2 xtI xtJ xc1 xc2 xscr xopA xpag : Nat → Int32}
theorem xw_walk {post : SX → Prop} {Mt : Nat → Nat} {s0 t : Nat} {m1 tI tJ : Nat → Nat} (E : (xw_E n m l1 l2 lb1 lb2 xlft xlab)) (hr : r ≤ 9) (hd : d ≤ 9) (he : e ≤ 9) (ha1 : 1 ≤ a) (ha9 : a ≤ 9) (hxn : x ≤ n) (hb1 : 1 ≤ b) (hb9 : b ≤ 9) (hym : y ≤ m)
    (ca : ∀ i, a ≤ i → i ≤ x → a ≤ l1 i) (cb : ∀ j, b ≤ j → j ≤ y → b ≤ l2 j)
    (hF : ∀ i j, a - 1 ≤ i → i ≤ x → b - 1 ≤ j → j ≤ y → (td_F l1 l2 d e r lb1 lb2) xfor a b i j) (hT : ∀ i j, 1 ≤ i → i ≤ n → 1 ≤ j → j ≤ m → (td_T l1 l2 d e r lb1 lb2) xmat xtre i j) (hMt : ∀ v, v < 1 ∨ 8 < v → Mt v = 0)
    (hW : xw_W l1 l2 d e r lb1 lb2 n m Mt s0 ((td_M l1 l2 d e (td_rn r lb1 lb2)) a x b y) m1 tI tJ t xm1 xm2 xtI xtJ)
    (h : ∀ m1 tI tJ t xm1 xm2 xtI xtJ, xw_W l1 l2 d e r lb1 lb2 n m Mt s0 (fun _ => 0) m1 tI tJ t xm1 xm2 xtI xtJ → post (xcap, nI r, nI d, nI e, xdif, nI t, xscl, xopc, xpos, xpad, xpgl, xfst, xnxt, xup, xlab, xusd, xrts, xlft, xfor, xtre, xmat, xm1, xm2, xtI, xtJ, xc1, xc2, xscr, xopA, xpag)) :
    wpX_walk post (xcap, nI r, nI d, nI e, xdif, nI t, xscl, xopc, xpos, xpad, xpgl, xfst, xnxt, xup, xlab, xusd, xrts, xlft, xfor, xtre, xmat, xm1, xm2, xtI, xtJ, xc1, xc2, xscr, xopA, xpag) (nI a) (nI b) (nI x) (nI y) := by
  unfold wpX_walk
  exact ⟨_, xw_w10 E hr hd he ha1 ha9 hxn hb1 hb9 hym ca cb hF hT hMt h x x y 0 m1 tI tJ t xm1 xm2 xtI xtJ (Nat.le_refl _) (Nat.le_refl _) (Nat.le_refl _) (by omega) hW⟩
theorem xw_ch69 {post : SX → Prop} {Mt : Nat → Nat} (E : (xw_E n m l1 l2 lb1 lb2 xlft xlab)) (hr : r ≤ 9) (hd : d ≤ 9) (he : e ≤ 9) (hMt : ∀ v, v < 1 ∨ 8 < v → Mt v = 0)
    (h : ∀ tsk F mat tre xm1 xm2 xtI xtJ, (∀ i j, 1 ≤ i → i ≤ n → 1 ≤ j → j ≤ m → (td_T l1 l2 d e r lb1 lb2) mat tre i j) → (∀ v, v ≤ 8 → xm1 v = nI (Mt v)) → (∀ w, 1 ≤ w → w ≤ 8 → (xm2 w = 0 ↔ ∀ v, Mt v ≠ w)) → post (xcap, nI r, nI d, nI e, xdif, tsk, xscl, xopc, xpos, xpad, xpgl, xfst, xnxt, xup, xlab, xusd, xrts, xlft, F, tre, mat, xm1, xm2, xtI, xtJ, xc1, xc2, xscr, xopA, xpag)) :
    ∀ k s F mat tre m1 tI tJ t xm1 xm2 xtI xtJ, s + k = 8 → (∀ i j, 1 ≤ i → i ≤ n → 1 ≤ j → j ≤ m → (td_T l1 l2 d e r lb1 lb2) mat tre i j) → xw_W l1 l2 d e r lb1 lb2 n m Mt s (fun _ => 0) m1 tI tJ t xm1 xm2 xtI xtJ →
      wX_chooseMapping_69 post (k + 1) (nI s) xcap (nI r) (nI d) (nI e) xdif (nI t) xscl xopc xpos xpad xpgl xfst xnxt xup xlab xusd xrts xlft F tre mat xm1 xm2 xtI xtJ xc1 xc2 xscr xopA xpag := by
  have hn := E.1
  have hm := E.2.1
  have L1 := E.2.2.1
  have L2 := E.2.2.2.1
  have fin : ∀ {s F mat tre m1 tI tJ t xm1 xm2 xtI xtJ}, t = 0 → (∀ i j, 1 ≤ i → i ≤ n → 1 ≤ j → j ≤ m → (td_T l1 l2 d e r lb1 lb2) mat tre i j) → xw_W l1 l2 d e r lb1 lb2 n m Mt s (fun _ => 0) m1 tI tJ t xm1 xm2 xtI xtJ → post (xcap, nI r, nI d, nI e, xdif, nI t, xscl, xopc, xpos, xpad, xpgl, xfst, xnxt, xup, xlab, xusd, xrts, xlft, F, tre, mat, xm1, xm2, xtI, xtJ, xc1, xc2, xscr, xopA, xpag) := by
    intro s F mat tre m1 tI tJ t xm1 xm2 xtI xtJ ht hT hW
    subst ht
    obtain ⟨w1, w2, w3, w4, w5⟩ := hW
    have em : m1 = Mt := funext fun v => by
      have := (w1 v).1
      unfold td_Q at this
      dsimp only at this
      omega
    subst em
    exact h _ F mat tre xm1 xm2 xtI xtJ hT w2 w3
  intro k
  induction k with
  | zero =>
    intro s F mat tre m1 tI tJ t xm1 xm2 xtI xtJ hs hT hW
    have c8 := td_cnt8 m1
    have w5 := hW.2.2.2.2
    have es : s = 8 := by omega
    subst es
    unfold wX_chooseMapping_69
    exact br_t (nI_le (a := 8) (by omega) (by omega)) (fin (by omega) hT hW)
  | succ k ih =>
    intro s F mat tre m1 tI tJ t xm1 xm2 xtI xtJ hs hT hW
    have c8 := td_cnt8 m1
    have w5 := hW.2.2.2.2
    unfold wX_chooseMapping_69
    refine br_f (nI_ge (b := 8) (by omega) (by decide)) (pk_le t 0 (fun c => fin (by omega) hT hW) (fun c => ?_))
    obtain ⟨w1, w2, w3, w4, w5⟩ := hW
    obtain ⟨t', rfl⟩ : ∃ t', t = t' + 1 := ⟨t - 1, by omega⟩
    have wt := w4 t' (by omega)
    have tx := L1 (tI t') wt.2.2.1 wt.2.2.2.1
    have ty := L2 (tJ t') wt.2.2.2.2.1 wt.2.2.2.2.2
    have k1 := (E.2.2.2.2.1 (tI t') wt.2.2.1 wt.2.2.2.1).1
    have k2 := (E.2.2.2.2.2 (tJ t') wt.2.2.2.2.1 wt.2.2.2.2.2).1
    refine nm_r (nI_pred t') ?_
    rw [nI_clamp (n := t') (by omega), wt.1, wt.2.1]
    refine ⟨vp_in_nI (by omega) (by omega), nm_e ⟨vp_in_nI (by omega) (by omega), nm_e ?_⟩⟩
    refine xw_fill E hr hd he wt.2.2.1 wt.2.2.2.1 wt.2.2.2.2.1 wt.2.2.2.2.2 (fun i j c1 c2 c3 c4 _ => hT i j (by omega) (by omega) (by omega) (by omega)) ?_
    intro F' mat' tre' hF' hT'
    dsimp only
    rw [xw_17, nI_clamp (n := tI t') (by omega), nI_clamp (n := 17 + tJ t') (by omega), k1, k2, xw_s1 wt.2.2.1, xw_s1 wt.2.2.2.2.1]
    refine ⟨vp_in_nI (by omega) (by omega), vp_in_nI (by omega) (by omega), ?_⟩
    refine xw_walk (Mt := Mt) (s0 := s + 1) (t := t') (m1 := m1) (tI := tI) (tJ := tJ) E hr hd he tx.1 (by omega) (by omega) ty.1 (by omega) (by omega) (fun i c1 c2 => td_L_in L1 wt.2.2.2.1 c1 (by omega) (by omega)) (fun j c1 c2 => td_L_in L2 wt.2.2.2.2.2 c1 (by omega) (by omega)) (fun i j c1 c2 c3 c4 => hF' i j c1 (by omega) c3 (by omega)) (fun i j c1 c2 c3 c4 => hT' i j (by omega) (Or.inl (hT i j c1 c2 c3 c4))) hMt ⟨fun v => ?_, w2, w3, fun k' hk' => w4 k' (by omega), by omega⟩ ?_
    · have := w1 v
      unfold td_Q td_Qz at this
      rw [show td_nz (fun _ => 0) v = 0 from if_pos rfl] at this
      dsimp only at this
      omega
    · intro m1' tI' tJ' t2 xm1' xm2' xtI' xtJ' hW'
      exact nm_r (nI_1 s) (ih (s + 1) F' mat' tre' m1' tI' tJ' t2 xm1' xm2' xtI' xtJ' (by omega) (fun i j c1 c2 c3 c4 => hT' i j (by omega) (Or.inl (hT i j c1 c2 c3 c4))) hW')
theorem xw_ch2 {post : SX → Prop} (hn1 : 1 ≤ n) (hm1 : 1 ≤ m) (E : (xw_E n m l1 l2 lb1 lb2 xlft xlab)) (hr : r ≤ 9) (hd : d ≤ 9) (he : e ≤ 9) (r1 : l1 n = 1) (r2 : l2 m = 1) (u0 : xusd 0 = nI n) (u1 : xusd 1 = nI m)
    (hT : ∀ i j, 1 ≤ i → i ≤ n → 1 ≤ j → j ≤ m → (td_T l1 l2 d e r lb1 lb2) xmat xtre i j)
    (h : ∀ tsk F mat tre xm1 xm2 xtI xtJ, (∀ i j, 1 ≤ i → i ≤ n → 1 ≤ j → j ≤ m → (td_T l1 l2 d e r lb1 lb2) mat tre i j) → (∀ v, v ≤ 8 → xm1 v = nI ((td_M l1 l2 d e (td_rn r lb1 lb2)) 1 n 1 m v)) → (∀ w, 1 ≤ w → w ≤ 8 → (xm2 w = 0 ↔ ∀ v, (td_M l1 l2 d e (td_rn r lb1 lb2)) 1 n 1 m v ≠ w)) → post (xcap, nI r, nI d, nI e, xdif, tsk, xscl, xopc, xpos, xpad, xpgl, xfst, xnxt, xup, xlab, xusd, xrts, xlft, F, tre, mat, xm1, xm2, xtI, xtJ, xc1, xc2, xscr, xopA, xpag)) :
    ∀ k s xm1 xm2, s + k = 9 → (∀ v, v < s → xm1 v = 0 ∧ xm2 v = 0) → wX_chooseMapping_2 post xcap (nI r) (nI d) (nI e) xdif xtsk xscl xopc xpos xpad xpgl (k + 1) (nI s) xfst xnxt xup xlab xusd xrts xlft xfor xtre xmat xm1 xm2 xtI xtJ xc1 xc2 xscr xopA xpag := by
  have hn := E.1
  have hm := E.2.1
  have L1 := E.2.2.1
  have L2 := E.2.2.2.1
  have MV := td_M_V l1 l2 d e (td_rn r lb1 lb2) 1 n 1 m
  intro k
  induction k with
  | zero =>
    intro s xm1 xm2 hs h0
    have es : s = 9 := by omega
    subst es
    unfold wX_chooseMapping_2
    refine br_t (nI_le (a := 9) (by omega) (by omega)) ?_
    rw [u0, u1]
    refine xw_fill E hr hd he hn1 (Nat.le_refl _) hm1 (Nat.le_refl _) (fun i j c1 c2 c3 c4 _ => hT i j (by omega) (by omega) (by omega) (by omega)) ?_
    intro F' mat' tre' hF' hT'
    dsimp only
    rw [u0, u1]
    have hT2 : ∀ i j, 1 ≤ i → i ≤ n → 1 ≤ j → j ≤ m → (td_T l1 l2 d e r lb1 lb2) mat' tre' i j := fun i j c1 c2 c3 c4 => hT' i j (by omega) (Or.inl (hT i j c1 c2 c3 c4))
    rw [r1, r2] at hF'
    refine xw_walk (Mt := (td_M l1 l2 d e (td_rn r lb1 lb2)) 1 n 1 m) (s0 := 0) (t := 0) (m1 := fun _ => 0) (tI := fun _ => 0) (tJ := fun _ => 0) (a := 1) (b := 1) E hr hd he (by omega) (by omega) (by omega) (by omega) (by omega) (by omega) (fun i c1 c2 => (L1 i c1 c2).1) (fun j c1 c2 => (L2 j c1 c2).1) hF' hT2 (fun v hv => td_V_out MV (by omega)) ⟨fun v => ?_, fun v hv => (h0 v (by omega)).1, fun w hw1 hw2 => ?_, fun k' hk' => by omega, rfl⟩ ?_
    · unfold td_Q td_Qz
      rw [show td_nz (fun _ => 0) v = 0 from if_pos rfl]
      dsimp only
      omega
    · exact ⟨fun _ v => by show (0 : Nat) ≠ w; omega, fun _ => (h0 w (by omega)).2⟩
    · intro m1' tI' tJ' t2 xm1' xm2' xtI' xtJ' hW'
      exact ⟨_, xw_ch69 E hr hd he (fun v hv => td_V_out MV (by omega)) h 8 0 F' mat' tre' m1' tI' tJ' t2 xm1' xm2' xtI' xtJ' rfl hT2 hW'⟩
  | succ k ih =>
    intro s xm1 xm2 hs h0
    unfold wX_chooseMapping_2
    rw [nI_clamp (n := s) (by omega)]
    refine br_f (nI_ge (b := 9) (by omega) (by decide)) ⟨vp_in_nI (by omega) (by omega), nm_e ⟨vp_in_nI (by omega) (by omega), nm_e (nm_r (nI_1 s) (ih (s + 1) _ _ (by omega) fun v hv => ?_))⟩⟩
    by_cases ev : v = s
    · rw [ev, pk_us, pk_us]
      exact ⟨rfl, rfl⟩
    · rw [pk_un ev, pk_un ev]
      exact h0 v (by omega)
/-- chooseMapping: the mates are the optimal mapping -/
theorem xw_choose {post : SX → Prop} (hn1 : 1 ≤ n) (hm1 : 1 ≤ m) (E : (xw_E n m l1 l2 lb1 lb2 xlft xlab)) (hr : r ≤ 9) (hd : d ≤ 9) (he : e ≤ 9) (r1 : l1 n = 1) (r2 : l2 m = 1) (u0 : xusd 0 = nI n) (u1 : xusd 1 = nI m)
    (hT : ∀ i j, 1 ≤ i → i ≤ n → 1 ≤ j → j ≤ m → (td_T l1 l2 d e r lb1 lb2) xmat xtre i j)
    (h : ∀ tsk F mat tre xm1 xm2 xtI xtJ, (∀ i j, 1 ≤ i → i ≤ n → 1 ≤ j → j ≤ m → (td_T l1 l2 d e r lb1 lb2) mat tre i j) → (∀ v, v ≤ 8 → xm1 v = nI ((td_M l1 l2 d e (td_rn r lb1 lb2)) 1 n 1 m v)) → (∀ w, 1 ≤ w → w ≤ 8 → (xm2 w = 0 ↔ ∀ v, (td_M l1 l2 d e (td_rn r lb1 lb2)) 1 n 1 m v ≠ w)) → post (xcap, nI r, nI d, nI e, xdif, tsk, xscl, xopc, xpos, xpad, xpgl, xfst, xnxt, xup, xlab, xusd, xrts, xlft, F, tre, mat, xm1, xm2, xtI, xtJ, xc1, xc2, xscr, xopA, xpag)) :
    wpX_chooseMapping post (xcap, nI r, nI d, nI e, xdif, xtsk, xscl, xopc, xpos, xpad, xpgl, xfst, xnxt, xup, xlab, xusd, xrts, xlft, xfor, xtre, xmat, xm1, xm2, xtI, xtJ, xc1, xc2, xscr, xopA, xpag) := by
  unfold wpX_chooseMapping
  exact ⟨_, xw_ch2 hn1 hm1 E hr hd he r1 r2 u0 u1 hT h 9 0 xm1 xm2 rfl (fun v hv => by omega)⟩
end
end
section
/-! the reference: anc, valid, source, price -/
def yw_E (n m : Nat) (l1 l2 lb1 lb2 : Nat → Nat) (ylow ylab : Nat → Int32) : Prop :=
  n ≤ 8 ∧ m ≤ 8 ∧ td_L n l1 ∧ td_L m l2 ∧ (∀ v, 1 ≤ v → v ≤ n → ylow (10 + v) = nI (l1 v) ∧ ylab (10 + v) = nI (lb1 v) ∧ lb1 v ≤ 25) ∧ (∀ v, 1 ≤ v → v ≤ m → ylow (20 + v) = nI (l2 v) ∧ ylab (20 + v) = nI (lb2 v) ∧ lb2 v ≤ 25)
def td_b (p : Prop) [Decidable p] : Int32 := if p then 1 else 0
theorem td_b_i {p q : Prop} [Decidable p] [Decidable q] : td_b p = td_b q ↔ (p ↔ q) := by
  unfold td_b
  by_cases hp : p <;> by_cases hq : q
  · simp [hp, hq]
  · rw [if_pos hp, if_neg hq]
    exact ⟨fun h => absurd h (by decide), fun h => absurd (h.mp hp) hq⟩
  · rw [if_neg hp, if_pos hq]
    exact ⟨fun h => absurd h (by decide), fun h => absurd (h.mpr hq) hp⟩
  · simp [hp, hq]
theorem td_b_0 {p : Prop} [Decidable p] : td_b p = 0 ↔ ¬ p := by
  unfold td_b
  by_cases hp : p
  · rw [if_pos hp]
    exact ⟨fun h => absurd h (by decide), fun h => absurd hp h⟩
  · rw [if_neg hp]
    exact ⟨fun _ => hp, fun _ => rfl⟩
def td_ok (l1 l2 A : Nat → Nat) (i x : Nat) : Prop := i ≠ x → A i ≠ 0 → A x ≠ 0 → A i ≠ A x ∧ (i < x ↔ A i < A x) ∧ ((l1 i ≤ x ∧ x < i) ↔ (l2 (A i) ≤ A x ∧ A x < A i))
def td_src (A : Nat → Nat) (w : Nat) : Nat := td_fd (fun v => A v == w) 1 8
theorem yw_10 (v : Nat) : (1 : Int32) * 10 + nI v = nI (10 + v) := nI_add 10 v
theorem yw_20 (v : Nat) : (2 : Int32) * 10 + nI v = nI (20 + v) := nI_add 20 v
theorem yw_a10 (v : Nat) : (10 : Int32) + nI v = nI (10 + v) := nI_add 10 v
theorem yw_a20 (v : Nat) : (20 : Int32) + nI v = nI (20 + v) := nI_add 20 v
section
variable {n m : Nat} {l1 l2 lb1 lb2 A : Nat → Nat} {r d e a b i j x y bs v w : Nat} {ycap yrel ydel yins ydif ytot ypos ylen : Int32} {ycnt yrts ylow ylab ymap yop ypic yend yout : Nat → Int32}
theorem yw_anc1 {post : Int32 → Prop} (E : (yw_E n m l1 l2 lb1 lb2 ylow ylab)) (hv1 : 1 ≤ v) (hv : v ≤ n) (hw : w ≤ 100) (h : post (td_b (l1 v ≤ w ∧ w < v))) : wpY_anc post (ycap, yrel, ydel, yins, ydif, ytot, ypos, ylen, ycnt, yrts, ylow, ylab, ymap, yop, ypic, yend, yout) 1 (nI v) (nI w) := by
  obtain ⟨hn, hm, L1, L2, H1, H2⟩ := E
  have k := (H1 v hv1 hv).1
  have t := L1 v hv1 hv
  unfold wpY_anc
  simp only [yw_10, nI_clamp (show 10 + v < 2 ^ 31 by omega), k]
  refine ⟨vp_in_nI (by omega) (by omega), pk_lt w (l1 v) (fun c => ?_) (fun c => pk_le v w (fun c2 => ?_) (fun c2 => ?_))⟩
  · rw [td_b_0.mpr (by omega)] at h
    exact h
  · rw [td_b_0.mpr (by omega)] at h
    exact h
  · unfold td_b at h
    rw [if_pos ⟨c, c2⟩] at h
    exact h
theorem yw_anc2 {post : Int32 → Prop} (E : (yw_E n m l1 l2 lb1 lb2 ylow ylab)) (hv1 : 1 ≤ v) (hv : v ≤ m) (hw : w ≤ 100) (h : post (td_b (l2 v ≤ w ∧ w < v))) : wpY_anc post (ycap, yrel, ydel, yins, ydif, ytot, ypos, ylen, ycnt, yrts, ylow, ylab, ymap, yop, ypic, yend, yout) 2 (nI v) (nI w) := by
  obtain ⟨hn, hm, L1, L2, H1, H2⟩ := E
  have k := (H2 v hv1 hv).1
  have t := L2 v hv1 hv
  unfold wpY_anc
  simp only [yw_20, nI_clamp (show 20 + v < 2 ^ 31 by omega), k]
  refine ⟨vp_in_nI (by omega) (by omega), pk_lt w (l2 v) (fun c => ?_) (fun c => pk_le v w (fun c2 => ?_) (fun c2 => ?_))⟩
  · rw [td_b_0.mpr (by omega)] at h
    exact h
  · rw [td_b_0.mpr (by omega)] at h
    exact h
  · unfold td_b at h
    rw [if_pos ⟨c, c2⟩] at h
    exact h
theorem yw_v80 {post J2 J10 : Int32 → Prop} {z0 z1 : Int32} (E : (yw_E n m l1 l2 lb1 lb2 ylow ylab)) (hi : 1 ≤ i) (hin : i ≤ n) (hx8 : x ≤ 8) (ai : 1 ≤ A i) (aim : A i ≤ m) (axm : A x ≤ m) (hne : A i ≠ A x) (hz : z1 = z0 ↔ (i < x ↔ A i < A x))
    (h1 : td_ok l1 l2 A i x → J10 (nI (x + 1))) (h0 : ¬ td_ok l1 l2 A i x → post 0) (hix : i ≠ x) (ax : 1 ≤ A x) : wY_valid_80 post J2 J10 (nI bs) (nI i) (nI x) (nI (A i)) (nI (A x)) z0 z1 ycap yrel ydel yins ydif ytot ypos ylen ycnt yrts ylow ylab ymap yop ypic yend yout := by
  have hm := E.2.1
  unfold wY_valid_80
  by_cases c : i < x ↔ A i < A x
  · refine br_t (hz.mpr c) (yw_anc1 E hi hin (by omega) (yw_anc2 E ai aim (by omega) ?_))
    by_cases c2 : (l1 i ≤ x ∧ x < i) ↔ (l2 (A i) ≤ A x ∧ A x < A i)
    · exact br_t (td_b_i.mpr c2) (nm_r (nI_1 x) (h1 fun _ _ _ => ⟨hne, c, c2⟩))
    · exact br_f (fun q => c2 (td_b_i.mp q)) (h0 fun q => c2 (q hix (by omega) (by omega)).2.2)
  · exact br_f (fun q => c (hz.mp q)) (h0 fun q => c (q hix (by omega) (by omega)).2.1)
theorem yw_v10 {post J2 : Int32 → Prop} (E : (yw_E n m l1 l2 lb1 lb2 ylow ylab)) (hbs : bs ≤ 20) (hA : ∀ v, 1 ≤ v → v ≤ 8 → ymap (bs + v) = nI (A v)) (hb : ∀ v, 1 ≤ v → v ≤ 8 → A v ≠ 0 → v ≤ n ∧ A v ≤ m) (hi : 1 ≤ i) (hi8 : i ≤ 8)
    (h1 : (∀ x, 1 ≤ x → x ≤ 8 → td_ok l1 l2 A i x) → J2 (nI (i + 1))) (h0 : (∃ x, 1 ≤ x ∧ x ≤ 8 ∧ ¬ td_ok l1 l2 A i x) → post 0) :
    ∀ k x, x + k = 9 → 1 ≤ x → (∀ x', 1 ≤ x' → x' < x → td_ok l1 l2 A i x') → wY_valid_10 post J2 (nI bs) (nI i) ycap yrel ydel yins ydif ytot ypos ylen ycnt yrts ylow ylab ymap yop ypic yend yout (k + 1) (nI x) := by
  have hn := E.1
  have hm := E.2.1
  have bA : ∀ v, 1 ≤ v → v ≤ 8 → A v ≤ 8 := fun v c1 c2 => by
    by_cases z : A v = 0
    · omega
    · have := hb v c1 c2 z
      omega
  intro k
  induction k with
  | zero =>
    intro x hx hx1 ho
    unfold wY_valid_10
    exact br_t (nI_lt (a := 8) (by omega) (by omega)) (nm_r (nI_1 i) (h1 fun x' c1 c2 => ho x' c1 (by omega)))
  | succ k ih =>
    intro x hx hx1 ho
    have go : td_ok l1 l2 A i x → wY_valid_10 post J2 (nI bs) (nI i) ycap yrel ydel yins ydif ytot ypos ylen ycnt yrts ylow ylab ymap yop ypic yend yout (k + 1) (nI (x + 1)) := fun q => ih (x + 1) (by omega) (by omega) fun x' c1 c2 => by
      rcases Nat.lt_or_ge x' x with z | z
      · exact ho x' c1 z
      · have e1 : x' = x := by omega
        rw [e1]
        exact q
    have no : ¬ td_ok l1 l2 A i x → post 0 := fun q => h0 ⟨x, hx1, by omega, q⟩
    have b1 := bA i hi hi8
    have b2 := bA x hx1 (by omega)
    unfold wY_valid_10
    rw [nI_add, nI_add, nI_clamp (n := bs + i) (by omega), nI_clamp (n := bs + x) (by omega), hA i hi hi8, hA x hx1 (by omega)]
    refine br_f (nI_nlt (a := 8) (by omega) (by decide)) ⟨vp_in_nI (by omega) (by omega), nm_e ⟨vp_in_nI (by omega) (by omega), nm_e ?_⟩⟩
    refine pk_eq i x (fun c => nm_r (nI_1 x) (go fun q => absurd c q)) (fun c => ?_)
    refine pk_le (A i) 0 (fun c1 => nm_r (nI_1 x) (go fun _ q => absurd (by omega) q)) (fun c1 => ?_)
    refine pk_le (A x) 0 (fun c2 => nm_r (nI_1 x) (go fun _ _ q => absurd (by omega) q)) (fun c2 => ?_)
    refine pk_eq (A i) (A x) (fun c3 => no fun q => (q c (by omega) (by omega)).1 c3) (fun c3 => ?_)
    have q1 := hb i hi hi8 (by omega)
    have q2 := hb x hx1 (by omega) (by omega)
    refine pk_le x i (fun c4 => ?_) (fun c4 => ?_)
    · unfold wY_valid_68
      refine pk_le (A x) (A i) (fun c5 => ?_) (fun c5 => ?_)
      · exact yw_v80 E hi q1.1 (by omega) (by omega) q1.2 q2.2 c3 ⟨fun _ => by omega, fun _ => rfl⟩ go no c (by omega)
      · exact yw_v80 E hi q1.1 (by omega) (by omega) q1.2 q2.2 c3 ⟨fun q => absurd q (by decide), fun _ => by omega⟩ go no c (by omega)
    · unfold wY_valid_68
      refine pk_le (A x) (A i) (fun c5 => ?_) (fun c5 => ?_)
      · exact yw_v80 E hi q1.1 (by omega) (by omega) q1.2 q2.2 c3 ⟨fun q => absurd q (by decide), fun _ => by omega⟩ go no c (by omega)
      · exact yw_v80 E hi q1.1 (by omega) (by omega) q1.2 q2.2 c3 ⟨fun _ => by omega, fun _ => rfl⟩ go no c (by omega)
theorem yw_v2 {post : Int32 → Prop} (E : (yw_E n m l1 l2 lb1 lb2 ylow ylab)) (hbs : bs ≤ 20) (hA : ∀ v, 1 ≤ v → v ≤ 8 → ymap (bs + v) = nI (A v)) (hb : ∀ v, 1 ≤ v → v ≤ 8 → A v ≠ 0 → v ≤ n ∧ A v ≤ m)
    (h1 : (∀ i x, 1 ≤ i → i ≤ 8 → 1 ≤ x → x ≤ 8 → td_ok l1 l2 A i x) → post 1) (h0 : ¬ (∀ i x, 1 ≤ i → i ≤ 8 → 1 ≤ x → x ≤ 8 → td_ok l1 l2 A i x) → post 0) :
    ∀ k i, i + k = 9 → 1 ≤ i → (∀ i' x, 1 ≤ i' → i' < i → 1 ≤ x → x ≤ 8 → td_ok l1 l2 A i' x) → wY_valid_2 post (nI bs) ycap yrel ydel yins ydif ytot ypos ylen ycnt yrts ylow ylab ymap yop ypic yend yout (k + 1) (nI i) := by
  intro k
  induction k with
  | zero =>
    intro i hi hi1 ho
    unfold wY_valid_2
    exact br_t (nI_lt (a := 8) (by omega) (by omega)) (h1 fun i' x' c1 c2 c3 c4 => ho i' x' c1 (by omega) c3 c4)
  | succ k ih =>
    intro i hi hi1 ho
    unfold wY_valid_2
    refine br_f (nI_nlt (a := 8) (by omega) (by decide)) ⟨9, yw_v10 E hbs hA hb hi1 (by omega) (fun q => ?_) (fun q => ?_) 8 1 rfl (Nat.le_refl _) (fun x' c1 c2 => by omega)⟩
    · refine ih (i + 1) (by omega) (by omega) fun i' x' c1 c2 c3 c4 => ?_
      rcases Nat.lt_or_ge i' i with z | z
      · exact ho i' x' c1 z c3 c4
      · have e1 : i' = i := by omega
        rw [e1]
        exact q x' c3 c4
    · obtain ⟨x', c1, c2, c3⟩ := q
      exact h0 fun q => c3 (q i x' hi1 (by omega) c1 c2)
theorem yw_valid {post : Int32 → Prop} (E : (yw_E n m l1 l2 lb1 lb2 ylow ylab)) (hbs : bs ≤ 20) (hA : ∀ v, 1 ≤ v → v ≤ 8 → ymap (bs + v) = nI (A v)) (hb : ∀ v, 1 ≤ v → v ≤ 8 → A v ≠ 0 → v ≤ n ∧ A v ≤ m)
    (h1 : (∀ i x, 1 ≤ i → i ≤ 8 → 1 ≤ x → x ≤ 8 → td_ok l1 l2 A i x) → post 1) (h0 : ¬ (∀ i x, 1 ≤ i → i ≤ 8 → 1 ≤ x → x ≤ 8 → td_ok l1 l2 A i x) → post 0) : wpY_valid post (ycap, yrel, ydel, yins, ydif, ytot, ypos, ylen, ycnt, yrts, ylow, ylab, ymap, yop, ypic, yend, yout) (nI bs) := by
  unfold wpY_valid
  exact ⟨_, yw_v2 E hbs hA hb h1 h0 8 1 rfl (Nat.le_refl _) (fun i' x' c1 c2 => by omega)⟩
theorem yw_s2 {post : Int32 → Prop} (hbs : bs ≤ 20) (hw : w ≤ 100) (hA : ∀ v, 1 ≤ v → v ≤ 8 → ymap (bs + v) = nI (A v)) (hb : ∀ v, 1 ≤ v → v ≤ 8 → A v ≤ 100) :
    ∀ k v, v + k = 9 → 1 ≤ v → post (nI (td_fd (fun v => A v == w) v k)) → wY_source_2 post (nI bs) (nI w) ycap yrel ydel yins ydif ytot ypos ylen ycnt yrts ylow ylab ymap yop ypic yend yout (k + 1) (nI v) := by
  intro k
  induction k with
  | zero =>
    intro v hv hv1 h
    unfold wY_source_2
    exact br_t (nI_lt (a := 8) (by omega) (by omega)) h
  | succ k ih =>
    intro v hv hv1 h
    have b1 := hb v hv1 (by omega)
    unfold wY_source_2
    rw [nI_add, nI_clamp (n := bs + v) (by omega), hA v hv1 (by omega)]
    refine br_f (nI_nlt (a := 8) (by omega) (by decide)) ⟨vp_in_nI (by omega) (by omega), pk_eq (A v) w (fun c => ?_) (fun c => nm_r (nI_1 v) (ih (v + 1) (by omega) (by omega) ?_))⟩
    · unfold td_fd at h
      rw [if_pos (by simp [c])] at h
      exact h
    · unfold td_fd at h
      rw [if_neg (by simp [c])] at h
      exact h
theorem yw_source {post : Int32 → Prop} (hbs : bs ≤ 20) (hw : w ≤ 100) (hA : ∀ v, 1 ≤ v → v ≤ 8 → ymap (bs + v) = nI (A v)) (hb : ∀ v, 1 ≤ v → v ≤ 8 → A v ≤ 100) (h : post (nI (td_src A w))) : wpY_source post (ycap, yrel, ydel, yins, ydif, ytot, ypos, ylen, ycnt, yrts, ylow, ylab, ymap, yop, ypic, yend, yout) (nI bs) (nI w) := by
  unfold wpY_source
  exact ⟨_, yw_s2 hbs hw hA hb 8 1 rfl (Nat.le_refl _) h⟩
theorem td_src_0 : td_src A w = 0 ↔ ∀ v, 1 ≤ v → v ≤ 8 → A v ≠ w := by
  unfold td_src
  constructor
  · intro h v h1 h2 h3
    rcases td_fd_s (fun v => A v == w) 8 1 with ⟨a1, a2⟩ | ⟨a1, a2, a3, a4⟩
    · have := a2 v h1 (by omega)
      simp [h3] at this
    · omega
  · intro h
    refine td_fd_0 fun v h1 h2 => ?_
    simp [h v h1 (by omega)]
theorem td_src_s : td_src A w ≠ 0 → 1 ≤ td_src A w ∧ td_src A w ≤ 8 ∧ A (td_src A w) = w := by
  unfold td_src
  intro h
  rcases td_fd_s (fun v => A v == w) 8 1 with ⟨a1, a2⟩ | ⟨a1, a2, a3, a4⟩
  · exact absurd a1 h
  · exact ⟨a1, by omega, by simpa using a3⟩
def td_um (A : Nat → Nat) (w : Nat) : Nat := if td_src A w = 0 then 1 else 0
theorem td_S_1r {f g : Nat → Nat} {a w i : Nat} (hw : a ≤ w) (h1 : 1 ≤ w) (hi : w ≤ i) (hg : g w = f w + 1) (ho : ∀ v, a ≤ v → v ≤ i → v ≠ w → g v = f v) : td_S g a i = td_S f a i + 1 := by
  rw [← td_S_1 (f := f) (g := fun v => if v = w then f v + 1 else f v) hw h1 (by simp) (fun v hv => by simp [hv]) hi]
  refine td_S_c fun v c1 c2 => ?_
  by_cases c : v = w
  · rw [c, hg]
    simp
  · rw [ho v c1 c2 c]
    simp [c]
theorem td_cntu (ha : 1 ≤ a) (hb : 1 ≤ b) (hbj : b ≤ j + 1) : ∀ {i : Nat} {A : Nat → Nat}, i ≤ 8 → td_V l1 l2 a i b j A → td_S (td_um A) b j + td_S (td_nz A) a i = j + 1 - b := by
  have base : ∀ {i : Nat} {A : Nat → Nat}, i < a → td_V l1 l2 a i b j A → td_S (td_um A) b j + td_S (td_nz A) a i = j + 1 - b := by
    intro i A hi hV
    rw [td_S_lt hi]
    have h1 : td_S (td_um A) b j = td_S (fun _ => 1) b j := td_S_c fun w c1 c2 => by
      unfold td_um
      rw [if_pos]
      refine td_src_0.mpr fun v _ _ => ?_
      rw [td_V_z hV (Or.inl hi)]
      omega
    rw [h1]
    rcases td_S_k (a := b) (c := 1) (i := j) with h | h
    · rw [h]
      omega
    · omega
  intro i
  induction i with
  | zero => exact fun _ hV => base (by omega) hV
  | succ i ih =>
    intro A hi hV
    rcases Nat.lt_or_ge (i + 1) a with z | z
    · exact base z hV
    · rw [td_S_s z]
      by_cases c : A (i + 1) = 0
      · rw [td_nz_f c]
        exact ih (by omega) (td_V_del hV c)
      · have hy := hV.1 _ c
        have hV' : td_V l1 l2 a i b j (td_R a i A) := td_V_r hV fun v c1 c2 c3 => (hV.1 v c3).2.2
        have k := ih (by omega) hV'
        rw [td_S_c (f := td_nz A) (g := td_nz (td_R a i A)) (fun v h1 h2 => td_nz_c (td_R_in h1 h2).symm), td_nz_t c]
        have k2 : td_S (td_um (td_R a i A)) b j = td_S (td_um A) b j + 1 := by
          refine td_S_1r (w := A (i + 1)) hy.2.2.1 (by omega) hy.2.2.2 ?_ (fun w c1 c2 c3 => ?_)
          · have e1 : td_um A (A (i + 1)) = 0 := if_neg fun q => (td_src_0.mp q) (i + 1) (by omega) hi rfl
            have e2 : td_um (td_R a i A) (A (i + 1)) = 1 := by
              refine if_pos (td_src_0.mpr fun v d1 d2 d3 => ?_)
              have d4 := td_R_nz (show td_R a i A v ≠ 0 by omega)
              have d5 := hV.2 v (i + 1) (by omega) d4.2.2.1 c
              omega
            rw [e1, e2]
          · unfold td_um
            have e3 : td_src (td_R a i A) w = 0 ↔ td_src A w = 0 := by
              rw [td_src_0, td_src_0]
              constructor
              · intro q v d1 d2 d3
                have d4 := hV.1 v (by omega)
                have d5 : v ≠ i + 1 := fun q2 => c3 (by rw [← d3, q2])
                exact q v d1 d2 (by rw [td_R_in d4.1 (by omega)]; exact d3)
              · intro q v d1 d2 d3
                have d4 := td_R_nz (show td_R a i A v ≠ 0 by omega)
                exact q v d1 d2 (by omega)
            by_cases c4 : td_src A w = 0
            · rw [if_pos c4, if_pos (e3.mpr c4)]
            · rw [if_neg c4, if_neg (fun q => c4 (e3.mp q))]
        omega
end
end
section
/-! the reference's trials: sets as bits, the mapping of two sets -/
def td_bit (s v : Nat) : Nat := s / 2 ^ v % 2
def td_nb (t w : Nat) : Nat := td_fd (fun x => decide (9 ≤ x) || decide (td_bit t x = 1)) (w + 1) 9
def td_W (s t : Nat) : Nat → Nat
  | 0 => 0
  | k + 1 => if td_bit s (k + 1) = 0 then td_W s t k else td_nb t (td_W s t k)
def td_Tr (s t v : Nat) : Nat := if v = 0 then 0 else if td_bit s v = 0 then 0 else td_W s t v
def td_bs (f : Nat → Nat) : Nat := 2 * f 1 + 4 * f 2 + 8 * f 3 + 16 * f 4 + 32 * f 5 + 64 * f 6 + 128 * f 7 + 256 * f 8
theorem td_c8 {v : Nat} (h1 : 1 ≤ v) (h2 : v ≤ 8) : v = 1 ∨ v = 2 ∨ v = 3 ∨ v = 4 ∨ v = 5 ∨ v = 6 ∨ v = 7 ∨ v = 8 := by omega
theorem td_bit_01 (s v : Nat) : td_bit s v = 0 ∨ td_bit s v = 1 := by
  unfold td_bit
  omega
theorem td_nb_s (t w : Nat) : w < td_nb t w ∧ (9 ≤ td_nb t w ∨ td_bit t (td_nb t w) = 1) ∧ (td_nb t w ≤ 9 ∨ td_nb t w ≤ w + 1) ∧ ∀ x, w < x → x < td_nb t w → x < 9 ∧ td_bit t x ≠ 1 := by
  unfold td_nb
  rcases td_fd_s (fun x => decide (9 ≤ x) || decide (td_bit t x = 1)) 9 (w + 1) with ⟨a1, a2⟩ | ⟨a1, a2, a3, a4⟩
  · have := a2 (w + 9) (by omega) (by omega)
    simp only [Bool.or_eq_false_iff, decide_eq_false_iff_not] at this
    omega
  · simp only [Bool.or_eq_true, decide_eq_true_eq] at a3
    refine ⟨by omega, a3, ?_, fun x h1 h2 => ?_⟩
    · rcases Nat.lt_or_ge (td_fd (fun x => decide (9 ≤ x) || decide (td_bit t x = 1)) (w + 1) 9) 10 with z | z
      · exact Or.inl (by omega)
      · refine Or.inr ?_
        rcases Nat.lt_or_ge (w + 1) (td_fd (fun x => decide (9 ≤ x) || decide (td_bit t x = 1)) (w + 1) 9) with z2 | z2
        · have := a4 (td_fd (fun x => decide (9 ≤ x) || decide (td_bit t x = 1)) (w + 1) 9 - 1) (by omega) (by omega)
          simp only [Bool.or_eq_false_iff, decide_eq_false_iff_not] at this
          omega
        · exact z2
    · have := a4 x (by omega) h2
      simp only [Bool.or_eq_false_iff, decide_eq_false_iff_not] at this
      exact ⟨by omega, this.2⟩
theorem td_nb_u {t w p : Nat} (h1 : w < p) (h2 : p < 9) (h3 : td_bit t p = 1) (h4 : ∀ x, w < x → x < p → td_bit t x ≠ 1) : td_nb t w = p := by
  have k := td_nb_s t w
  rcases Nat.lt_trichotomy (td_nb t w) p with z | z | z
  · rcases k.2.1 with q | q
    · omega
    · exact absurd q (h4 _ k.1 z)
  · exact z
  · exact absurd h3 (k.2.2.2 p h1 z).2
theorem td_W_le {s t : Nat} : ∀ k, td_W s t k ≤ 8 + k
  | 0 => by
    unfold td_W
    omega
  | k + 1 => by
    have := td_W_le (s := s) (t := t) k
    have := td_nb_s t (td_W s t k)
    unfold td_W
    split <;> omega
theorem td_W_mono {s t : Nat} : ∀ j k, td_W s t k ≤ td_W s t (k + j)
  | 0, k => Nat.le_refl _
  | j + 1, k => by
    have h1 := td_W_mono (s := s) (t := t) j k
    have h2 := td_nb_s t (td_W s t (k + j))
    have h3 : td_W s t (k + (j + 1)) = if td_bit s (k + j + 1) = 0 then td_W s t (k + j) else td_nb t (td_W s t (k + j)) := rfl
    rw [h3]
    split <;> omega
theorem td_bs_bit {f : Nat → Nat} (hf : ∀ v, f v ≤ 1) {v : Nat} (h1 : 1 ≤ v) (h2 : v ≤ 8) : td_bit (td_bs f) v = f v := by
  have f1 := hf 1
  have f2 := hf 2
  have f3 := hf 3
  have f4 := hf 4
  have f5 := hf 5
  have f6 := hf 6
  have f7 := hf 7
  have f8 := hf 8
  unfold td_bit td_bs
  rcases td_c8 h1 h2 with rfl | rfl | rfl | rfl | rfl | rfl | rfl | rfl
  · show _ / 2 % 2 = _
    omega
  · show _ / 4 % 2 = _
    omega
  · show _ / 8 % 2 = _
    omega
  · show _ / 16 % 2 = _
    omega
  · show _ / 32 % 2 = _
    omega
  · show _ / 64 % 2 = _
    omega
  · show _ / 128 % 2 = _
    omega
  · show _ / 256 % 2 = _
    omega
theorem td_bs_lt {f : Nat → Nat} (hf : ∀ v, f v ≤ 1) {x : Nat} (hx : x ≤ 8) (h : ∀ v, x < v → f v = 0) : td_bs f < 2 ^ (x + 1) := by
  have f1 := hf 1
  have f2 := hf 2
  have f3 := hf 3
  have f4 := hf 4
  have f5 := hf 5
  have f6 := hf 6
  have f7 := hf 7
  have f8 := hf 8
  have g1 : x < 1 → f 1 = 0 := h 1
  have g2 : x < 2 → f 2 = 0 := h 2
  have g3 : x < 3 → f 3 = 0 := h 3
  have g4 : x < 4 → f 4 = 0 := h 4
  have g5 : x < 5 → f 5 = 0 := h 5
  have g6 : x < 6 → f 6 = 0 := h 6
  have g7 : x < 7 → f 7 = 0 := h 7
  have g8 : x < 8 → f 8 = 0 := h 8
  unfold td_bs
  have c : x = 0 ∨ x = 1 ∨ x = 2 ∨ x = 3 ∨ x = 4 ∨ x = 5 ∨ x = 6 ∨ x = 7 ∨ x = 8 := by omega
  rcases c with rfl | rfl | rfl | rfl | rfl | rfl | rfl | rfl | rfl
  · show _ < 2
    omega
  · show _ < 4
    omega
  · show _ < 8
    omega
  · show _ < 16
    omega
  · show _ < 32
    omega
  · show _ < 64
    omega
  · show _ < 128
    omega
  · show _ < 256
    omega
  · show _ < 512
    omega
theorem td_bs_dv {f : Nat → Nat} {a : Nat} (ha : 1 ≤ a) (ha8 : a ≤ 8) (h : ∀ v, v < a → f v = 0) : td_bs f = td_bs f / 2 ^ a * 2 ^ a := by
  have g1 : 1 < a → f 1 = 0 := h 1
  have g2 : 2 < a → f 2 = 0 := h 2
  have g3 : 3 < a → f 3 = 0 := h 3
  have g4 : 4 < a → f 4 = 0 := h 4
  have g5 : 5 < a → f 5 = 0 := h 5
  have g6 : 6 < a → f 6 = 0 := h 6
  have g7 : 7 < a → f 7 = 0 := h 7
  unfold td_bs
  rcases td_c8 ha ha8 with rfl | rfl | rfl | rfl | rfl | rfl | rfl | rfl
  · show _ = _ / 2 * 2
    omega
  · show _ = _ / 4 * 4
    omega
  · show _ = _ / 8 * 8
    omega
  · show _ = _ / 16 * 16
    omega
  · show _ = _ / 32 * 32
    omega
  · show _ = _ / 64 * 64
    omega
  · show _ = _ / 128 * 128
    omega
  · show _ = _ / 256 * 256
    omega
theorem td_bit_hi {s x v : Nat} (hs : s < 2 ^ (x + 1)) (h : x < v) : td_bit s v = 0 := by
  unfold td_bit
  have h1 : 2 ^ (x + 1) ≤ 2 ^ v := Nat.pow_le_pow_right (by omega) (by omega)
  rw [Nat.div_eq_of_lt (by omega)]
theorem td_bit_lo {c a v : Nat} (h : v < a) : td_bit (c * 2 ^ a) v = 0 := by
  unfold td_bit
  have e1 : 2 ^ a = 2 ^ (a - v - 1) * 2 * 2 ^ v := by
    rw [← Nat.pow_succ, ← Nat.pow_add]
    exact congrArg (fun z => 2 ^ z) (by omega)
  rw [e1, ← Nat.mul_assoc, Nat.mul_div_cancel _ (Nat.two_pow_pos v), ← Nat.mul_assoc]
  exact Nat.mul_mod_left _ _
section
variable {l1 l2 : Nat → Nat} {d e : Nat} {rn : Nat → Nat → Nat} {a i b j x y s t c c' : Nat} {A : Nat → Nat}
theorem td_V_ok (h : td_V l1 l2 a i b j A) (v w : Nat) : td_ok l1 l2 A v w := by
  intro hne hv hw
  rcases Nat.lt_or_ge v w with z | z
  · have k := h.2 v w z hv hw
    exact ⟨by omega, ⟨fun _ => k.1, fun _ => z⟩, ⟨fun _ => by omega, fun _ => by omega⟩⟩
  · have k := h.2 w v (by omega) hw hv
    exact ⟨by omega, ⟨fun _ => by omega, fun _ => by omega⟩, ⟨fun q => ⟨k.2.mp q.1, k.1⟩, fun q => ⟨k.2.mpr q.1, by omega⟩⟩⟩
theorem td_ok_V (hi : i ≤ 8) (ha : 1 ≤ a) (h : ∀ v, A v ≠ 0 → a ≤ v ∧ v ≤ i ∧ b ≤ A v ∧ A v ≤ j) (ho : ∀ v w, 1 ≤ v → v ≤ 8 → 1 ≤ w → w ≤ 8 → td_ok l1 l2 A v w) : td_V l1 l2 a i b j A := by
  refine ⟨h, fun v w hvw hv hw => ?_⟩
  have k1 := h v hv
  have k2 := h w hw
  have o1 := ho v w (by omega) (by omega) (by omega) (by omega) (by omega) hv hw
  have o2 := ho w v (by omega) (by omega) (by omega) (by omega) (by omega) hw hv
  have q := o1.2.1.mp hvw
  exact ⟨q, fun z => (o2.2.2.mp ⟨z, hvw⟩).1, fun z => (o2.2.2.mpr ⟨z, q⟩).1⟩
def td_OK (l1 l2 : Nat → Nat) (s t : Nat) : Prop := td_W s t 8 ≤ 8 ∧ t / 2 ^ (td_W s t 8 + 1) = 0 ∧ ∀ v w, 1 ≤ v → v ≤ 8 → 1 ≤ w → w ≤ 8 → td_ok l1 l2 (td_Tr s t) v w
theorem td_Tr_nz {v : Nat} (h : td_Tr s t v ≠ 0) : 1 ≤ v ∧ td_bit s v = 1 ∧ td_Tr s t v = td_W s t v ∧ td_W s t v = td_nb t (td_W s t (v - 1)) := by
  unfold td_Tr at h ⊢
  by_cases c1 : v = 0
  · rw [if_pos c1] at h
    exact absurd rfl h
  · rw [if_neg c1] at h ⊢
    by_cases c2 : td_bit s v = 0
    · rw [if_pos c2] at h
      exact absurd rfl h
    · rw [if_neg c2]
      obtain ⟨k, rfl⟩ : ∃ k, v = k + 1 := ⟨v - 1, by omega⟩
      refine ⟨by omega, by have := td_bit_01 s (k + 1); omega, rfl, ?_⟩
      show (if td_bit s (k + 1) = 0 then td_W s t k else td_nb t (td_W s t k)) = _
      rw [if_neg c2]
      rfl
theorem td_Tr_rg (ha : 1 ≤ a) (hx : x ≤ 8) (hb : 1 ≤ b) (hy : y ≤ 8) (hs : c * 2 ^ a < 2 ^ (x + 1)) (ht : c' * 2 ^ b < 2 ^ (y + 1)) (hW : td_W (c * 2 ^ a) (c' * 2 ^ b) 8 ≤ 8) (v : Nat) (h : td_Tr (c * 2 ^ a) (c' * 2 ^ b) v ≠ 0) :
    a ≤ v ∧ v ≤ x ∧ b ≤ td_Tr (c * 2 ^ a) (c' * 2 ^ b) v ∧ td_Tr (c * 2 ^ a) (c' * 2 ^ b) v ≤ y := by
  obtain ⟨h1, h2, h3, h4⟩ := td_Tr_nz h
  have q1 : a ≤ v := by
    rcases Nat.lt_or_ge v a with z | z
    · rw [td_bit_lo z] at h2
      omega
    · exact z
  have q2 : v ≤ x := by
    rcases Nat.lt_or_ge x v with z | z
    · rw [td_bit_hi hs z] at h2
      omega
    · exact z
  have k := td_nb_s (c' * 2 ^ b) (td_W (c * 2 ^ a) (c' * 2 ^ b) (v - 1))
  rw [← h4] at k
  have mo := td_W_mono (s := c * 2 ^ a) (t := c' * 2 ^ b) (8 - v) v
  rw [show v + (8 - v) = 8 by omega] at mo
  have k2 : td_bit (c' * 2 ^ b) (td_W (c * 2 ^ a) (c' * 2 ^ b) v) = 1 := by
    rcases k.2.1 with z | z
    · omega
    · exact z
  rw [h3]
  refine ⟨q1, q2, ?_, ?_⟩
  · rcases Nat.lt_or_ge (td_W (c * 2 ^ a) (c' * 2 ^ b) v) b with z | z
    · rw [td_bit_lo z] at k2
      omega
    · exact z
  · rcases Nat.lt_or_ge y (td_W (c * 2 ^ a) (c' * 2 ^ b) v) with z | z
    · rw [td_bit_hi ht z] at k2
      omega
    · exact z
theorem td_Tr_V (ha : 1 ≤ a) (hx : x ≤ 8) (hb : 1 ≤ b) (hy : y ≤ 8) (hs : c * 2 ^ a < 2 ^ (x + 1)) (ht : c' * 2 ^ b < 2 ^ (y + 1)) (h : td_OK l1 l2 (c * 2 ^ a) (c' * 2 ^ b)) : td_V l1 l2 a x b y (td_Tr (c * 2 ^ a) (c' * 2 ^ b)) :=
  td_ok_V hx ha (td_Tr_rg ha hx hb hy hs ht h.1) h.2.2
theorem td_div_lt {s q p : Nat} (h : s < 2 ^ q) (e : s = s / 2 ^ p * 2 ^ p) (hp : p ≤ q) : s / 2 ^ p < 2 ^ (q - p) := by
  have e1 : 2 ^ q = 2 ^ (q - p) * 2 ^ p := by
    rw [← Nat.pow_add]
    exact congrArg (fun z => 2 ^ z) (by omega)
  have h2 : s / 2 ^ p * 2 ^ p < 2 ^ (q - p) * 2 ^ p := by
    rw [← e1, ← e]
    exact h
  exact Nat.lt_of_mul_lt_mul_right h2
/-- every mapping is the trial of its two sets -/
theorem td_Tr_ex (ha : 1 ≤ a) (hax : a ≤ x) (hx : x ≤ 8) (hb : 1 ≤ b) (hby : b ≤ y) (hy : y ≤ 8) (h : td_V l1 l2 a x b y A) :
    ∃ c c', c < 2 ^ (x + 1 - a) ∧ c' < 2 ^ (y + 1 - b) ∧ td_OK l1 l2 (c * 2 ^ a) (c' * 2 ^ b) ∧ td_Tr (c * 2 ^ a) (c' * 2 ^ b) = A := by
  have hA0 : A 0 = 0 := td_V_out h (Or.inl (by omega))
  have fs : ∀ v, td_nz A v ≤ 1 := td_nz_le A
  have ft : ∀ w, 1 - td_um A w ≤ 1 := fun w => by omega
  have im0 : ∀ w, (w < b ∨ y < w) → w ≠ 0 → 1 - td_um A w = 0 := fun w hw h0 => by
    have e1 : td_um A w = 1 := if_pos (td_src_0.mpr fun v _ _ e => by
      have := h.1 v (by omega)
      omega)
    omega
  have s_lt := td_bs_lt fs hx (fun v hv => td_nz_f (td_V_out h (Or.inr hv)))
  have s_dv := td_bs_dv (f := td_nz A) ha (by omega) (fun v hv => td_nz_f (td_V_out h (Or.inl hv)))
  have f0 : ∀ f g : Nat → Nat, (∀ w, w ≠ 0 → f w = g w) → td_bs f = td_bs g := fun f g hfg => by
    unfold td_bs
    rw [hfg 1 (by omega), hfg 2 (by omega), hfg 3 (by omega), hfg 4 (by omega), hfg 5 (by omega), hfg 6 (by omega), hfg 7 (by omega), hfg 8 (by omega)]
  have et : td_bs (fun w => if w = 0 then 0 else 1 - td_um A w) = td_bs (fun w => 1 - td_um A w) := f0 _ _ fun w hw => if_neg hw
  have t_lt : td_bs (fun w => 1 - td_um A w) < 2 ^ (y + 1) := td_bs_lt ft hy (fun w hw => im0 w (Or.inr hw) (by omega))
  have t_dv : td_bs (fun w => 1 - td_um A w) = td_bs (fun w => 1 - td_um A w) / 2 ^ b * 2 ^ b := by
    have k := td_bs_dv (f := fun w => if w = 0 then 0 else 1 - td_um A w) hb (by omega) (fun w hw => by
      by_cases c : w = 0
      · exact if_pos c
      · exact (if_neg c).trans (im0 w (Or.inl hw) c))
    rw [et] at k
    exact k
  have bs : ∀ v, 1 ≤ v → v ≤ 8 → td_bit (td_bs (td_nz A)) v = td_nz A v := fun v h1 h2 => td_bs_bit fs h1 h2
  have bt : ∀ w, 1 ≤ w → w ≤ 8 → td_bit (td_bs (fun w => 1 - td_um A w)) w = 1 - td_um A w := fun w h1 h2 => td_bs_bit ft h1 h2
  have bt1 : ∀ w, 1 ≤ w → w ≤ 8 → (td_bit (td_bs (fun w => 1 - td_um A w)) w = 1 ↔ ∃ v, 1 ≤ v ∧ v ≤ 8 ∧ A v = w) := fun w h1 h2 => by
    rw [bt w h1 h2]
    unfold td_um
    constructor
    · intro q
      by_cases c : td_src A w = 0
      · rw [if_pos c] at q
        omega
      · have := td_src_s c
        exact ⟨_, this.1, this.2.1, this.2.2⟩
    · rintro ⟨v, v1, v2, v3⟩
      rw [if_neg (fun q => td_src_0.mp q v v1 v2 v3)]
  refine ⟨td_bs (td_nz A) / 2 ^ a, td_bs (fun w => 1 - td_um A w) / 2 ^ b, td_div_lt s_lt s_dv (by omega), td_div_lt t_lt t_dv (by omega), ?_⟩
  rw [← s_dv, ← t_dv]
  -- the greatest value so far
  have W : ∀ k, k ≤ 8 → (∀ v, v ≤ k → A v ≤ td_W (td_bs (td_nz A)) (td_bs (fun w => 1 - td_um A w)) k) ∧ (td_W (td_bs (td_nz A)) (td_bs (fun w => 1 - td_um A w)) k = 0 ∨ ∃ v, v ≤ k ∧ A v = td_W (td_bs (td_nz A)) (td_bs (fun w => 1 - td_um A w)) k) ∧ (A k ≠ 0 → td_W (td_bs (td_nz A)) (td_bs (fun w => 1 - td_um A w)) k = A k) := by
    intro k
    induction k with
    | zero =>
      intro _
      refine ⟨fun v hv => ?_, Or.inl rfl, fun q => absurd hA0 q⟩
      have e1 : v = 0 := by omega
      rw [e1, hA0]
      exact Nat.zero_le _
    | succ k ih =>
      intro hk
      obtain ⟨i1, i2, i3⟩ := ih (by omega)
      have eW : td_W (td_bs (td_nz A)) (td_bs (fun w => 1 - td_um A w)) (k + 1) = if td_bit (td_bs (td_nz A)) (k + 1) = 0 then td_W (td_bs (td_nz A)) (td_bs (fun w => 1 - td_um A w)) k else td_nb (td_bs (fun w => 1 - td_um A w)) (td_W (td_bs (td_nz A)) (td_bs (fun w => 1 - td_um A w)) k) := rfl
      rw [bs (k + 1) (by omega) hk] at eW
      by_cases c : A (k + 1) = 0
      · rw [td_nz_f c, if_pos rfl] at eW
        rw [eW]
        refine ⟨fun v hv => ?_, ?_, fun q => absurd c q⟩
        · rcases Nat.lt_or_ge k v with z | z
          · have e1 : v = k + 1 := by omega
            rw [e1, c]
            exact Nat.zero_le _
          · exact i1 v z
        · rcases i2 with q | ⟨v, v1, v2⟩
          · exact Or.inl q
          · exact Or.inr ⟨v, by omega, v2⟩
      · rw [td_nz_t c, if_neg (by omega)] at eW
        have hk1 := h.1 _ c
        have up : td_nb (td_bs (fun w => 1 - td_um A w)) (td_W (td_bs (td_nz A)) (td_bs (fun w => 1 - td_um A w)) k) = A (k + 1) := by
          refine td_nb_u ?_ (by omega) ((bt1 _ (by omega) (by omega)).mpr ⟨k + 1, by omega, hk, rfl⟩) (fun w w1 w2 w3 => ?_)
          · rcases i2 with q | ⟨v, v1, v2⟩
            · omega
            · rw [← v2]
              by_cases c2 : A v = 0
              · omega
              · exact (h.2 v (k + 1) (by omega) c2 c).1
          · obtain ⟨v, v1, v2, v3⟩ := (bt1 w (by omega) (by omega)).mp w3
            rcases Nat.lt_trichotomy v (k + 1) with z | z | z
            · have := i1 v (by omega)
              omega
            · rw [z] at v3
              omega
            · have := (h.2 (k + 1) v z c (by omega)).1
              omega
        rw [eW, up]
        refine ⟨fun v hv => ?_, Or.inr ⟨k + 1, Nat.le_refl _, rfl⟩, fun _ => rfl⟩
        rcases Nat.lt_or_ge k v with z | z
        · have e1 : v = k + 1 := by omega
          rw [e1]
          exact Nat.le_refl _
        · by_cases c2 : A v = 0
          · omega
          · exact Nat.le_of_lt (h.2 v (k + 1) (by omega) c2 c).1
  have eT : td_Tr (td_bs (td_nz A)) (td_bs (fun w => 1 - td_um A w)) = A := by
    funext v
    unfold td_Tr
    by_cases c1 : v = 0
    · rw [if_pos c1, c1, hA0]
    · rw [if_neg c1]
      rcases Nat.lt_or_ge 8 v with z | z
      · rw [if_pos (td_bit_hi s_lt (by omega)), td_V_out h (Or.inr (by omega))]
      · rw [bs v (by omega) z]
        by_cases c2 : A v = 0
        · rw [if_pos (td_nz_f c2), c2]
        · rw [if_neg (by rw [td_nz_t c2]; omega)]
          exact (W v z).2.2 c2
  refine ⟨⟨?_, ?_, fun v w _ _ _ _ => by rw [eT]; exact td_V_ok h v w⟩, eT⟩
  · rcases (W 8 (Nat.le_refl _)).2.1 with q | ⟨v, v1, v2⟩
    · omega
    · have := td_V_le h hy v
      omega
  · refine Nat.div_eq_of_lt (td_bs_lt ft ?_ fun w hw => ?_)
    · rcases (W 8 (Nat.le_refl _)).2.1 with q | ⟨v, v1, v2⟩
      · omega
      · have := td_V_le h hy v
        omega
    · have e1 : td_um A w = 1 := if_pos (td_src_0.mpr fun v v1 v2 v3 => by
        have := (W 8 (Nat.le_refl _)).1 v v2
        omega)
      omega
/-- the least key found in all trials is the least key -/
theorem td_srch {L : Nat} (ha : 1 ≤ a) (hax : a ≤ x) (hx : x ≤ 8) (hb : 1 ≤ b) (hby : b ≤ y) (hy : y ≤ 8) (hd : d ≤ 9) (he : e ≤ 9)
    (g : L = 999999999999 ∨ ∃ A, td_V l1 l2 a x b y A ∧ td_K d e rn a x b y A = L)
    (h : ∀ c c', c < 2 ^ (x + 1 - a) → c' < 2 ^ (y + 1 - b) → td_OK l1 l2 (c * 2 ^ a) (c' * 2 ^ b) → L ≤ td_K d e rn a x b y (td_Tr (c * 2 ^ a) (c' * 2 ^ b))) : L = td_kb l1 l2 d e rn a x b y := by
  have hV := td_M_V l1 l2 d e rn a x b y
  obtain ⟨c, c', h1, h2, h3, h4⟩ := td_Tr_ex ha hax hx hb hby hy hV
  have k := h c c' h1 h2 h3
  rw [h4, td_M_K] at k
  have bd := td_D_bd (l1 := l1) (l2 := l2) (rn := rn) (a := a) (i := x) (b := b) (j := y) hd he ha hb hx hy
  have bg := td_dg_lt (td_V_le hV hy)
  have kd := td_kbD l1 l2 d e rn a x b y
  rcases g with g | ⟨A, g1, g2⟩
  · omega
  · have := td_kb_le (d := d) (e := e) (rn := rn) g1
    omega
end
end
section
/-! the reference: price, search -/
theorem td_S_mul {f : Nat → Nat} {a c : Nat} : ∀ {i : Nat}, td_S (fun v => c * f v) a i = c * td_S f a i
  | 0 => rfl
  | i + 1 => by
    rcases Nat.lt_or_ge (i + 1) a with z | z
    · rw [td_S_lt z, td_S_lt z, Nat.mul_zero]
    · rw [td_S_s z, td_S_s z, td_S_mul (i := i), Nat.mul_add]
section
variable {n m : Nat} {l1 l2 lb1 lb2 A : Nat → Nat} {r d e a b i j x y bs v w : Nat} {ycap yrel ydel yins ydif ytot ypos ylen : Int32} {ycnt yrts ylow ylab ymap yop ypic yend yout : Nat → Int32}
theorem yw_p99 {post : Int32 → Prop} {p0 : Nat} (hbs : bs ≤ 20) (hA : ∀ v, 1 ≤ v → v ≤ 8 → ymap (bs + v) = nI (A v)) (hb : ∀ v, 1 ≤ v → v ≤ 8 → A v ≤ 100) (hy : y ≤ 8) (hb1 : 1 ≤ b)
    (h : post (nI (p0 + td_S (fun w => e * td_um A w) b y))) :
    ∀ k w p, w + k = y + 1 → b ≤ w → p = p0 + td_S (fun w => e * td_um A w) b (w - 1) → wY_price_99 post (nI bs) (nI y) ycap (nI r) (nI d) (nI e) ydif ytot ypos ylen ycnt yrts ylow ylab ymap yop ypic yend yout (k + 1) (nI p) (nI w) := by
  intro k
  induction k with
  | zero =>
    intro w p hw hbw hp
    subst hp
    have ew : w = y + 1 := by omega
    subst ew
    unfold wY_price_99
    exact br_t (nI_lt (by omega) (by omega)) h
  | succ k ih =>
    intro w p hw hbw hp
    subst hp
    have eS : td_S (fun w => e * td_um A w) b w = td_S (fun w => e * td_um A w) b (w - 1) + e * td_um A w := td_S_p hbw (by omega)
    unfold wY_price_99
    refine br_f (nI_nlt (by omega) (by omega)) (yw_source hbs (by omega) hA hb ?_)
    have st := td_src_s (A := A) (w := w)
    refine pk_eq (td_src A w) 0 (fun c => ?_) (fun c => ?_) rfl rfl (by by_cases c : td_src A w = 0 <;> omega) (by omega)
    · have eu : td_um A w = 1 := if_pos c
      rw [eu] at eS
      refine nm_r (nI_add _ _) (nm_r (nI_1 w) ?_)
      exact ih (w + 1) _ (by omega) (by omega) (by rw [show w + 1 - 1 = w by omega, eS, Nat.mul_one, ← Nat.add_assoc])
    · have eu : td_um A w = 0 := if_neg c
      rw [eu] at eS
      refine nm_r (Int32.add_zero _) (nm_r (nI_1 w) ?_)
      exact ih (w + 1) _ (by omega) (by omega) (by rw [show w + 1 - 1 = w by omega, eS, Nat.mul_zero, Nat.add_zero])
theorem yw_p14 {post : Int32 → Prop} (E : (yw_E n m l1 l2 lb1 lb2 ylow ylab)) (hbs : bs ≤ 20) (hA : ∀ v, 1 ≤ v → v ≤ 8 → ymap (bs + v) = nI (A v)) (hb : ∀ v, 1 ≤ v → v ≤ 8 → A v ≤ 100) (hx : x ≤ n) (hy1 : 1 ≤ y) (hy : y ≤ m) (ha1 : 1 ≤ a)
    (hm2 : ∀ v, A v ≠ 0 → A v ≤ m) (h : post (nI (td_S (td_cs d (td_rn r lb1 lb2) A) a x + td_S (fun w => e * td_um A w) (l2 y) y))) :
    ∀ k v p, v + k = x + 1 → a ≤ v → p = td_S (td_cs d (td_rn r lb1 lb2) A) a (v - 1) → wY_price_14 post (nI bs) (nI x) (nI y) ycap (nI r) (nI d) (nI e) ydif ytot ypos ylen ycnt yrts ylow ylab ymap yop ypic yend yout (k + 1) (nI p) (nI v) := by
  have hn := E.1
  have hm := E.2.1
  have t2 := E.2.2.2.1 y hy1 hy
  have k2 := (E.2.2.2.2.2 y hy1 hy).1
  intro k
  induction k with
  | zero =>
    intro v p hv hav hp
    subst hp
    have ev : v = x + 1 := by omega
    subst ev
    unfold wY_price_14
    refine br_t (nI_lt (by omega) (by omega)) ?_
    rw [yw_a20, nI_clamp (n := 20 + y) (by omega), k2]
    exact ⟨vp_in_nI (by omega) (by omega), nm_e ⟨_, yw_p99 (p0 := td_S (td_cs d (td_rn r lb1 lb2) A) a x) hbs hA hb (by omega) t2.1 h (y + 1 - l2 y) (l2 y) _ (by omega) (Nat.le_refl _) (by rw [td_S_lt (i := l2 y - 1) (by omega)]; rfl)⟩⟩
  | succ k ih =>
    intro v p hv hav hp
    subst hp
    have k1 := E.2.2.2.2.1 v (by omega) (by omega)
    have eS : td_S (td_cs d (td_rn r lb1 lb2) A) a v = td_S (td_cs d (td_rn r lb1 lb2) A) a (v - 1) + td_cs d (td_rn r lb1 lb2) A v := td_S_p hav (by omega)
    have bv := hb v (by omega) (by omega)
    have kk := fun p => ih (v + 1) p (by omega) (by omega)
    rw [show v + 1 - 1 = v by omega, eS] at kk
    unfold wY_price_14
    rw [nI_add, nI_clamp (n := bs + v) (by omega), hA v (by omega) (by omega)]
    refine br_f (nI_nlt (by omega) (by omega)) ⟨vp_in_nI (by omega) (by omega), pk_eq (A v) 0 (fun c => ?_) (fun c => ?_)⟩
    · have ec : td_cs d (td_rn r lb1 lb2) A v = d := if_pos c
      rw [ec] at kk
      exact nm_r (nI_add _ _) (nm_r (nI_1 v) (kk _ rfl))
    · have am := hm2 v c
      have k3 := E.2.2.2.2.2 (A v) (by omega) am
      have ec : td_cs d (td_rn r lb1 lb2) A v = td_rn r lb1 lb2 v (A v) := if_neg c
      rw [ec] at kk
      rw [yw_a10, yw_a20, nI_clamp (n := 10 + v) (by omega), nI_clamp (n := 20 + A v) (by omega), k1.2.1, k3.2.1]
      refine ⟨vp_in_nI (by omega) (by omega), vp_in_nI (by omega) (by omega), vp_in_nI (by omega) (by omega), pk_eq (lb1 v) (lb2 (A v)) (fun c2 => ?_) (fun c2 => ?_)⟩
      · unfold td_rn at kk
        rw [if_pos c2, Nat.add_zero] at kk
        exact nm_r (Int32.add_zero _) (nm_r (nI_1 v) (kk _ rfl))
      · have e2 : td_rn r lb1 lb2 v (A v) = r := if_neg c2
        rw [e2] at kk
        exact nm_r (nI_add _ _) (nm_r (nI_1 v) (kk _ rfl))
theorem yw_price {post : Int32 → Prop} (E : (yw_E n m l1 l2 lb1 lb2 ylow ylab)) (hbs : bs ≤ 20) (hA : ∀ v, 1 ≤ v → v ≤ 8 → ymap (bs + v) = nI (A v)) (hx1 : 1 ≤ x) (hx : x ≤ n) (hy1 : 1 ≤ y) (hy : y ≤ m)
    (hV : td_V l1 l2 (l1 x) x (l2 y) y A) (h : post (nI (td_C d e (td_rn r lb1 lb2) (l1 x) x (l2 y) y A))) : wpY_price post (ycap, nI r, nI d, nI e, ydif, ytot, ypos, ylen, ycnt, yrts, ylow, ylab, ymap, yop, ypic, yend, yout) (nI bs) (nI x) (nI y) := by
  have hn := E.1
  have hm := E.2.1
  have t1 := E.2.2.1 x hx1 hx
  have t2 := E.2.2.2.1 y hy1 hy
  have k1 := (E.2.2.2.2.1 x hx1 hx).1
  have cu := td_cntu t1.1 t2.1 (by omega) (by omega) hV
  have eC : td_C d e (td_rn r lb1 lb2) (l1 x) x (l2 y) y A = td_S (td_cs d (td_rn r lb1 lb2) A) (l1 x) x + td_S (fun w => e * td_um A w) (l2 y) y := by
    unfold td_C
    rw [td_S_mul]
    have e1 : y + 1 - l2 y - td_S (td_nz A) (l1 x) x = td_S (td_um A) (l2 y) y := by omega
    rw [e1]
  rw [eC] at h
  unfold wpY_price
  simp only [yw_a10, nI_clamp (show 10 + x < 2 ^ 31 by omega), k1]
  exact ⟨vp_in_nI (by omega) (by omega), nm_e ⟨_, yw_p14 E hbs hA (fun v _ _ => Nat.le_trans (td_V_le hV (by omega) v) (by omega)) hx hy1 hy t1.1 (fun v c => Nat.le_trans (hV.1 v c).2.2.2 hy) h (x + 1 - l1 x) (l1 x) 0 (by omega) (Nat.le_refl _) (by rw [td_S_lt (i := l1 x - 1) (by omega)])⟩⟩
end
end
section
/-! the reference: search finds the least key -/
def td_ac (A : Nat → Nat) : Nat → Nat → Nat
  | 0, p => p
  | v + 1, p => td_ac A v (p * 10 + A (v + 1))
theorem td_ac8 (A : Nat → Nat) (p : Nat) : td_ac A 8 p = 100000000 * p + td_dg A := by
  show (((((((p * 10 + A 8) * 10 + A 7) * 10 + A 6) * 10 + A 5) * 10 + A 4) * 10 + A 3) * 10 + A 2) * 10 + A 1 = _
  unfold td_dg
  omega
theorem yw_bit {t z : Nat} (ht : t < 2 ^ 31) (hz : z < 32) : ((nI t >>> (nI z &&& 31)) &&& 1) = nI (td_bit t z) := by
  rw [pk_shrN ht _ z (s_l z hz), pk_andN (Nat.lt_of_le_of_lt (Nat.div_le_self _ _) (by omega)) 1 (by decide)]
  rfl
theorem yw_shl1 {z : Nat} (hz : z < 31) : (1 : Int32) <<< (nI z &&& 31) = nI (2 ^ z) := by
  have h : (2 : Nat) ^ z < 2 ^ 32 := Nat.pow_lt_pow_right (by omega) (by omega)
  have k := pk_shlN (n := 1) (nI z &&& 31) z (s_l z (by omega)) (by omega)
  rw [Nat.one_mul] at k
  exact k
theorem yw_shl2 {z : Nat} (hz : z < 30) : (2 : Int32) <<< (nI z &&& 31) = nI (2 ^ (z + 1)) := by
  have h : (2 : Nat) ^ (z + 1) < 2 ^ 32 := Nat.pow_lt_pow_right (by omega) (by omega)
  have e : 2 * 2 ^ z = 2 ^ (z + 1) := by rw [Nat.pow_succ, Nat.mul_comm]
  have k := pk_shlN (n := 2) (nI z &&& 31) z (s_l z (by omega)) (by omega)
  rw [e] at k
  exact k
section
variable {n m : Nat} {l1 l2 lb1 lb2 A : Nat → Nat} {r d e a b i j x y bs v w : Nat}
theorem td_C_bd {rn : Nat → Nat → Nat} (hd : d ≤ 9) (he : e ≤ 9) (hr : ∀ i j, rn i j ≤ 9) (ha : 1 ≤ a) (hb : 1 ≤ b) (hi : i ≤ 8) (hj : j ≤ 8) : td_C d e rn a i b j A ≤ 144 := by
  unfold td_C
  have h1 := td_S_le (f := td_cs d rn A) (g := fun _ => 9) (a := a) (i := i) (fun v _ _ => by
    unfold td_cs
    split
    · exact hd
    · exact hr _ _)
  have h2 : td_S (fun _ => 9) a i = 9 * (i + 1 - a) := by
    rcases td_S_k (a := a) (c := 9) (i := i) with h | h
    · exact h
    · omega
  have h5 : e * (j + 1 - b - td_S (td_nz A) a i) ≤ 9 * 8 := Nat.mul_le_mul he (by omega)
  omega
end
section
variable {n m : Nat} {l1 l2 lb1 lb2 A : Nat → Nat} {r d e a b i j x y bs v w s t c c' : Nat} {ycap yrel ydel yins ydif ytot ypos ylen : Int32} {ycnt yrts ylow ylab ymap yop ypic yend yout : Nat → Int32}
theorem yw_188 {post : Int64 → SY → Prop} {J7 J18 : Int64 → Int32 → (Nat → Int32) → (Nat → Int32) → (Nat → Int32) → (Nat → Int32) → (Nat → Int32) → (Nat → Int32) → (Nat → Int32) → (Nat → Int32) → (Nat → Int32) → Prop} {z x5 : Int32} {L : Int64}
    (E : (yw_E n m l1 l2 lb1 lb2 ylow ylab)) (hy1 : 1 ≤ y) (hy : y ≤ m) (h : J18 L (nI (t + 2 ^ l2 y)) ycnt yrts ylow ylab ymap yop ypic yend yout) : wY_search_188 post J7 J18 z (nI y) L x5 (nI t) ycap (nI r) (nI d) (nI e) ydif ytot ypos ylen ycnt yrts ylow ylab ymap yop ypic yend yout := by
  have hm := E.2.1
  have t2 := E.2.2.2.1 y hy1 hy
  have k2 := (E.2.2.2.2.2 y hy1 hy).1
  unfold wY_search_188
  rw [yw_a20, nI_clamp (n := 20 + y) (by omega), k2, yw_shl1 (by omega), nI_add]
  exact ⟨vp_in_nI (by omega) (by omega), nm_e h⟩
theorem yw_147 {post : Int64 → SY → Prop} {J7 J18 : Int64 → Int32 → (Nat → Int32) → (Nat → Int32) → (Nat → Int32) → (Nat → Int32) → (Nat → Int32) → (Nat → Int32) → (Nat → Int32) → (Nat → Int32) → (Nat → Int32) → Prop} {z x5 : Int32} {L : Nat}
    (E : (yw_E n m l1 l2 lb1 lb2 ylow ylab)) (hy1 : 1 ≤ y) (hy : y ≤ m) (hA : ∀ v, 1 ≤ v → v ≤ 8 → ymap (0 + v) = nI (A v)) (hA8 : ∀ v, A v ≤ 8) (hL : L < 2 ^ 62) :
    ∀ v p, v ≤ 8 → td_ac A v p < 2 ^ 62 → (td_ac A v p < L → J18 (lN (td_ac A v p)) (nI (t + 2 ^ l2 y)) ycnt yrts ylow ylab ymap yop ypic yend yout) → (L ≤ td_ac A v p → J18 (lN L) (nI (t + 2 ^ l2 y)) ycnt yrts ylow ylab ymap yop ypic yend yout) →
      wY_search_147 post J7 J18 z (nI y) (lN L) x5 (nI t) ycap (nI r) (nI d) (nI e) ydif ytot ypos ylen ycnt yrts ylow ylab ymap yop ypic yend yout (v + 1) (lN p) (nI v) := by
  intro v
  induction v with
  | zero =>
    intro p _ hb h1 h2
    unfold wY_search_147
    refine br_t (nI_lt (b := 1) (by omega) (by decide)) ?_
    have hb' : p < 2 ^ 62 := hb
    refine br_c (fun q => yw_188 E hy1 hy (h2 ?_)) (fun q => yw_188 E hy1 hy (h1 ?_))
    · exact (pk_lLE (by omega) (by omega)).mp q
    · have q2 : ¬ L ≤ p := fun z => q ((pk_lLE (by omega) (by omega)).mpr z)
      show p < L
      omega
  | succ v ih =>
    intro p hv8 hb h1 h2
    have a8 := hA8 (v + 1)
    unfold wY_search_147
    rw [show (0 : Int32) + nI (v + 1) = nI (0 + (v + 1)) from nI_add 0 (v + 1), nI_clamp (n := 0 + (v + 1)) (by omega), hA (v + 1) (by omega) (by omega), nI_l (by omega), show lN p * 10 = lN (p * 10) from lN_mul p 10, lN_add]
    exact br_f (nI_nlt (b := 1) (by omega) (by omega)) ⟨vp_in_nI (by omega) (by omega), nm_e (nm_r (pk_m1 v) (ih (p * 10 + A (v + 1)) (by omega) hb h1 h2))⟩
theorem yw_65 {post : Int64 → SY → Prop} {J7 J18 : Int64 → Int32 → (Nat → Int32) → (Nat → Int32) → (Nat → Int32) → (Nat → Int32) → (Nat → Int32) → (Nat → Int32) → (Nat → Int32) → (Nat → Int32) → (Nat → Int32) → Prop} {J32 : Int32 → Int32 → (Nat → Int32) → (Nat → Int32) → (Nat → Int32) → (Nat → Int32) → (Nat → Int32) → (Nat → Int32) → (Nat → Int32) → (Nat → Int32) → (Nat → Int32) → Prop} {x1 x2 x5 : Int32} {x3 : Int64}
    (ht : t < 512) (hv : v ≤ 8) :
    ∀ k z, 9 ≤ z + k → z ≤ 20 → J32 (nI (td_fd (fun x => decide (9 ≤ x) || decide (td_bit t x = 1)) z (k + 1))) (nI (v + 1)) ycnt yrts ylow ylab (upd ymap v (nI (td_fd (fun x => decide (9 ≤ x) || decide (td_bit t x = 1)) z (k + 1)))) yop ypic yend yout →
      wY_search_65 post J7 J18 J32 x1 x2 x3 x5 (nI t) (nI v) ycap (nI r) (nI d) (nI e) ydif ytot ypos ylen ycnt yrts ylow ylab ymap yop ypic yend yout (k + 1) (nI z) := by
  have fin : ∀ z, J32 (nI z) (nI (v + 1)) ycnt yrts ylow ylab (upd ymap v (nI z)) yop ypic yend yout → wY_search_88 post J7 J18 J32 x1 x2 x3 x5 (nI t) (nI z) (nI v) ycap (nI r) (nI d) (nI e) ydif ytot ypos ylen ycnt yrts ylow ylab ymap yop ypic yend yout := fun z h => by
    unfold wY_search_88
    rw [show (0 : Int32) + nI v = nI v from Int32.zero_add _, nI_clamp (n := v) (by omega)]
    exact ⟨vp_in_nI (by omega) (by omega), nm_e (nm_r (nI_1 v) h)⟩
  have here : ∀ z k, (9 ≤ z ∨ td_bit t z = 1) → td_fd (fun x => decide (9 ≤ x) || decide (td_bit t x = 1)) z (k + 1) = z := fun z k h => by
    unfold td_fd
    rw [if_pos (by simpa using h)]
  intro k
  induction k with
  | zero =>
    intro z hz hz2 h
    rw [here z 0 (Or.inl (by omega))] at h
    unfold wY_search_65
    exact br_t (nI_le (a := 9) (by omega) (by omega)) (fin z h)
  | succ k ih =>
    intro z hz hz2 h
    unfold wY_search_65
    rw [yw_bit (by omega) (by omega)]
    refine pk_le 9 z (fun q => ?_) (fun q => pk_eq (td_bit t z) 0 (fun q2 => ?_) (fun q2 => ?_) rfl rfl (by unfold td_bit; omega) (by omega))
    · rw [here z _ (Or.inl q)] at h
      exact fin z h
    · refine nm_r (nI_1 z) (ih (z + 1) (by omega) (by omega) ?_)
      unfold td_fd at h
      rw [if_neg (by simp; omega)] at h
      exact h
    · have := td_bit_01 t z
      rw [here z _ (Or.inr (by omega))] at h
      exact fin z h
theorem yw_32z {post : Int64 → SY → Prop} {J7 J18 : Int64 → Int32 → (Nat → Int32) → (Nat → Int32) → (Nat → Int32) → (Nat → Int32) → (Nat → Int32) → (Nat → Int32) → (Nat → Int32) → (Nat → Int32) → (Nat → Int32) → Prop} {L : Nat}
    (E : (yw_E n m l1 l2 lb1 lb2 ylow ylab)) (hr : r ≤ 9) (hd : d ≤ 9) (he : e ≤ 9) (hx1 : 1 ≤ x) (hx : x ≤ n) (hy1 : 1 ≤ y) (hy : y ≤ m) (hL : L < 2 ^ 62) (hs : s = c * 2 ^ l1 x) (ht : t = c' * 2 ^ l2 y) (hs2 : s < 2 ^ (x + 1)) (ht2 : t < 2 ^ (y + 1)) (ht3 : t < 512)
    (hA : ∀ v, 1 ≤ v → v ≤ 8 → ymap v = nI (td_Tr s t v))
    (h : ∀ L', L' ≤ L → (td_OK l1 l2 s t → L' ≤ td_K d e (td_rn r lb1 lb2) (l1 x) x (l2 y) y (td_Tr s t)) → (L' = L ∨ (td_OK l1 l2 s t ∧ L' = td_K d e (td_rn r lb1 lb2) (l1 x) x (l2 y) y (td_Tr s t))) → J18 (lN L') (nI (t + 2 ^ l2 y)) ycnt yrts ylow ylab ymap yop ypic yend yout) :
    wY_search_32 post J7 J18 (nI x) (nI y) (lN L) (nI s) (nI t) ycap (nI r) (nI d) (nI e) ydif ytot ypos ylen (0 + 1) (nI (td_W s t 8)) (nI (8 + 1)) ycnt yrts ylow ylab ymap yop ypic yend yout := by
  have hn := E.1
  have hm := E.2.1
  have t1 := E.2.2.1 x hx1 hx
  have t2 := E.2.2.2.1 y hy1 hy
  have wl := td_W_le (s := s) (t := t) 8
  have rr : ∀ i j, td_rn r lb1 lb2 i j ≤ 9 := fun i j => Nat.le_trans (td_rn_le i j) hr
  have no : ¬ td_OK l1 l2 s t → J18 (lN L) (nI (t + 2 ^ l2 y)) ycnt yrts ylow ylab ymap yop ypic yend yout := fun q => h L (Nat.le_refl _) (fun z => absurd z q) (Or.inl rfl)
  unfold wY_search_32
  refine br_t (nI_lt (a := 8) (by omega) (by omega)) (pk_lt 8 (td_W s t 8) (fun q => yw_188 E hy1 hy (no fun z => ?_)) (fun q => ?_))
  · have := z.1
    omega
  · rw [nI_1, pk_shrN (by omega) _ (td_W s t 8 + 1) (s_l _ (by omega))]
    have dl : t / 2 ^ (td_W s t 8 + 1) ≤ t := Nat.div_le_self _ _
    refine pk_lt 0 (t / 2 ^ (td_W s t 8 + 1)) (fun q2 => yw_188 E hy1 hy (no fun z => ?_)) (fun q2 => ?_)
    · have := z.2.1
      omega
    · have rg := fun v => td_Tr_rg (v := v) t1.1 (by omega : x ≤ 8) t2.1 (by omega : y ≤ 8) (hs ▸ hs2) (ht ▸ ht2) (hs ▸ ht ▸ q)
      rw [← hs, ← ht] at rg
      have hA' : ∀ v, 1 ≤ v → v ≤ 8 → ymap (0 + v) = nI (td_Tr s t v) := fun v c1 c2 => by
        rw [Nat.zero_add]
        exact hA v c1 c2
      refine yw_valid (bs := 0) (A := td_Tr s t) E (by omega) hA' (fun v _ _ c3 => ?_) (fun ok => br_f (by decide) ?_) (fun ok => br_t rfl (yw_188 E hy1 hy (no fun z => ok z.2.2)))
      · have := rg v c3
        omega
      · have hOK : td_OK l1 l2 s t := ⟨q, Nat.le_zero.mp q2, ok⟩
        have hV : td_V l1 l2 (l1 x) x (l2 y) y (td_Tr s t) := td_ok_V (by omega) t1.1 rg ok
        have cb := td_C_bd (d := d) (e := e) (A := td_Tr s t) (a := l1 x) (i := x) (b := l2 y) (j := y) hd he rr t1.1 t2.1 (by omega) (by omega)
        have gb := td_dg_lt (td_V_le hV (by omega))
        refine yw_price (bs := 0) E (by omega) hA' hx1 hx hy1 hy hV ⟨8 + 1, ?_⟩
        rw [nI_l (by omega)]
        have eK : td_ac (td_Tr s t) 8 (td_C d e (td_rn r lb1 lb2) (l1 x) x (l2 y) y (td_Tr s t)) = td_K d e (td_rn r lb1 lb2) (l1 x) x (l2 y) y (td_Tr s t) := td_ac8 _ _
        have eK2 : td_K d e (td_rn r lb1 lb2) (l1 x) x (l2 y) y (td_Tr s t) = 100000000 * td_C d e (td_rn r lb1 lb2) (l1 x) x (l2 y) y (td_Tr s t) + td_dg (td_Tr s t) := rfl
        refine yw_147 (A := td_Tr s t) E hy1 hy hA' (td_V_le hV (by omega)) hL 8 _ (by omega) (by rw [eK]; omega) (fun g => ?_) (fun g => ?_)
        · rw [eK] at g ⊢
          exact h _ (by omega) (fun _ => Nat.le_refl _) (Or.inr ⟨hOK, rfl⟩)
        · rw [eK] at g
          exact h L (Nat.le_refl _) (fun _ => g) (Or.inl rfl)
theorem yw_32 {post : Int64 → SY → Prop} {J7 J18 : Int64 → Int32 → (Nat → Int32) → (Nat → Int32) → (Nat → Int32) → (Nat → Int32) → (Nat → Int32) → (Nat → Int32) → (Nat → Int32) → (Nat → Int32) → (Nat → Int32) → Prop} {L : Nat}
    (E : (yw_E n m l1 l2 lb1 lb2 ylow ylab)) (hr : r ≤ 9) (hd : d ≤ 9) (he : e ≤ 9) (hx1 : 1 ≤ x) (hx : x ≤ n) (hy1 : 1 ≤ y) (hy : y ≤ m) (hL : L < 2 ^ 62) (hs : s = c * 2 ^ l1 x) (ht : t = c' * 2 ^ l2 y) (hs2 : s < 2 ^ (x + 1)) (ht2 : t < 2 ^ (y + 1)) (hs3 : s < 512) (ht3 : t < 512)
    (h : ∀ mp L', (∀ k, 9 ≤ k → mp k = ymap k) → L' ≤ L → (td_OK l1 l2 s t → L' ≤ td_K d e (td_rn r lb1 lb2) (l1 x) x (l2 y) y (td_Tr s t)) → (L' = L ∨ (td_OK l1 l2 s t ∧ L' = td_K d e (td_rn r lb1 lb2) (l1 x) x (l2 y) y (td_Tr s t))) → J18 (lN L') (nI (t + 2 ^ l2 y)) ycnt yrts ylow ylab mp yop ypic yend yout) :
    ∀ k u mp, u + k = 8 → (∀ v, 1 ≤ v → v ≤ u → mp v = nI (td_Tr s t v)) → (∀ k, 9 ≤ k → mp k = ymap k) →
    wY_search_32 post J7 J18 (nI x) (nI y) (lN L) (nI s) (nI t) ycap (nI r) (nI d) (nI e) ydif ytot ypos ylen (k + 1) (nI (td_W s t u)) (nI (u + 1)) ycnt yrts ylow ylab mp yop ypic yend yout := by
  intro k
  induction k with
  | zero =>
    intro u mp hu h1 h2
    have eu : u = 8 := by omega
    subst eu
    exact yw_32z E hr hd he hx1 hx hy1 hy hL hs ht hs2 ht2 ht3 h1 (fun L' => h mp L' h2)
  | succ k ih =>
    intro u mp hu h1 h2
    have wl := td_W_le (s := s) (t := t) u
    have eW : td_W s t (u + 1) = if td_bit s (u + 1) = 0 then td_W s t u else td_nb t (td_W s t u) := rfl
    have eT : td_Tr s t (u + 1) = if td_bit s (u + 1) = 0 then 0 else td_W s t (u + 1) := if_neg (by omega)
    unfold wY_search_32
    rw [show (0 : Int32) + nI (u + 1) = nI (u + 1) from Int32.zero_add _, nI_clamp (n := u + 1) (by omega), yw_bit (by omega) (by omega)]
    refine br_f (nI_nlt (a := 8) (by omega) (by decide)) ⟨vp_in_nI (by omega) (by omega), nm_e (pk_eq (td_bit s (u + 1)) 0 (fun q => ?_) (fun q => ?_) rfl rfl (by unfold td_bit; omega) (by omega))⟩
    · rw [if_pos q] at eW eT
      refine nm_r (nI_1 (u + 1)) ?_
      rw [← eW]
      refine ih (u + 1) _ (by omega) (fun v c1 c2 => ?_) (fun k hk => ?_)
      · by_cases ev : v = u + 1
        · rw [ev, pk_us, eT]
          rfl
        · rw [pk_un ev]
          exact h1 v c1 (by omega)
      · rw [pk_un (by omega)]
        exact h2 k hk
    · rw [if_neg q] at eW eT
      refine nm_r (nI_1 _) ⟨9, yw_65 ht3 (by omega) 8 (td_W s t u + 1) (by omega) (by omega) ?_⟩
      have eN : td_fd (fun x => decide (9 ≤ x) || decide (td_bit t x = 1)) (td_W s t u + 1) (8 + 1) = td_W s t (u + 1) := eW.symm
      rw [eN]
      refine ih (u + 1) _ (by omega) (fun v c1 c2 => ?_) (fun k hk => ?_)
      · by_cases ev : v = u + 1
        · rw [ev, pk_us, eT]
        · rw [pk_un ev, pk_un ev]
          exact h1 v c1 (by omega)
      · rw [pk_un (by omega), pk_un (by omega)]
        exact h2 k hk
end
end
section
/-! the reference: the two outer loops of search -/
def yw_gd (l1 l2 : Nat → Nat) (d e : Nat) (rn : Nat → Nat → Nat) (a x b y L : Nat) : Prop := L = 999999999999 ∨ ∃ A, td_V l1 l2 a x b y A ∧ td_K d e rn a x b y A = L
section
variable {n m : Nat} {l1 l2 lb1 lb2 A : Nat → Nat} {r d e a b i j x y bs v w s t c c' : Nat} {ycap yrel ydel yins ydif ytot ypos ylen : Int32} {ycnt yrts ylow ylab ymap yop ypic yend yout : Nat → Int32}
theorem yw_18 {post : Int64 → SY → Prop} {J7 : Int64 → Int32 → (Nat → Int32) → (Nat → Int32) → (Nat → Int32) → (Nat → Int32) → (Nat → Int32) → (Nat → Int32) → (Nat → Int32) → (Nat → Int32) → (Nat → Int32) → Prop}
    (E : (yw_E n m l1 l2 lb1 lb2 ylow ylab)) (hr : r ≤ 9) (hd : d ≤ 9) (he : e ≤ 9) (hx1 : 1 ≤ x) (hx : x ≤ n) (hy1 : 1 ≤ y) (hy : y ≤ m) (hc : c < 2 ^ (x + 1 - l1 x))
    (h : ∀ mp L, (∀ k, 9 ≤ k → mp k = ymap k) → L ≤ 999999999999 → yw_gd l1 l2 d e (td_rn r lb1 lb2) (l1 x) x (l2 y) y L →
      (∀ c1 e1, c1 < c + 1 → e1 < 2 ^ (y + 1 - l2 y) → td_OK l1 l2 (c1 * 2 ^ l1 x) (e1 * 2 ^ l2 y) → L ≤ td_K d e (td_rn r lb1 lb2) (l1 x) x (l2 y) y (td_Tr (c1 * 2 ^ l1 x) (e1 * 2 ^ l2 y))) → J7 (lN L) (nI ((c + 1) * 2 ^ l1 x)) ycnt yrts ylow ylab mp yop ypic yend yout) :
    ∀ k c' mp L, c' + k = 2 ^ (y + 1 - l2 y) → (∀ k, 9 ≤ k → mp k = ymap k) → L ≤ 999999999999 → yw_gd l1 l2 d e (td_rn r lb1 lb2) (l1 x) x (l2 y) y L →
      (∀ c1 e1, c1 < c → e1 < 2 ^ (y + 1 - l2 y) → td_OK l1 l2 (c1 * 2 ^ l1 x) (e1 * 2 ^ l2 y) → L ≤ td_K d e (td_rn r lb1 lb2) (l1 x) x (l2 y) y (td_Tr (c1 * 2 ^ l1 x) (e1 * 2 ^ l2 y))) →
      (∀ e1, e1 < c' → td_OK l1 l2 (c * 2 ^ l1 x) (e1 * 2 ^ l2 y) → L ≤ td_K d e (td_rn r lb1 lb2) (l1 x) x (l2 y) y (td_Tr (c * 2 ^ l1 x) (e1 * 2 ^ l2 y))) →
      wY_search_18 post J7 (nI x) (nI y) (nI (c * 2 ^ l1 x)) ycap (nI r) (nI d) (nI e) ydif ytot ypos ylen (k + 1) (lN L) (nI (c' * 2 ^ l2 y)) ycnt yrts ylow ylab mp yop ypic yend yout := by
  have hn := E.1
  have hm := E.2.1
  have t1 := E.2.2.1 x hx1 hx
  have t2 := E.2.2.2.1 y hy1 hy
  have k1 := (E.2.2.2.2.1 x hx1 hx).1
  have p1 : 2 ^ (x + 1) ≤ 2 ^ 9 := Nat.pow_le_pow_right (by omega) (by omega)
  have p2 : 2 ^ (y + 1) ≤ 2 ^ 9 := Nat.pow_le_pow_right (by omega) (by omega)
  have q1 : 2 ^ (x + 1 - l1 x) * 2 ^ l1 x = 2 ^ (x + 1) := by
    rw [← Nat.pow_add]
    exact congrArg (fun z => 2 ^ z) (by omega)
  have q2 : 2 ^ (y + 1 - l2 y) * 2 ^ l2 y = 2 ^ (y + 1) := by
    rw [← Nat.pow_add]
    exact congrArg (fun z => 2 ^ z) (by omega)
  have hs2 : c * 2 ^ l1 x < 2 ^ (x + 1) := by
    rw [← q1]
    exact (Nat.mul_lt_mul_right (Nat.two_pow_pos _)).mpr hc
  intro k
  induction k with
  | zero =>
    intro c' mp L hk hmp hL hg hl1 hl2
    have ec : c' = 2 ^ (y + 1 - l2 y) := by omega
    unfold wY_search_18
    rw [yw_shl2 (by omega), yw_a10, nI_clamp (n := 10 + x) (by omega), k1, yw_shl1 (by omega), nI_add]
    refine br_t ?_ ⟨vp_in_nI (by omega) (by omega), nm_e ?_⟩
    · rw [ec, q2]
      exact nI_le (Nat.le_refl _) (by omega)
    · rw [← Nat.succ_mul]
      refine h mp L hmp hL hg fun c1 e1 d1 d2 d3 => ?_
      rcases Nat.lt_or_ge c1 c with z | z
      · exact hl1 c1 e1 z d2 d3
      · have e2 : c1 = c := by omega
        rw [e2] at d3 ⊢
        exact hl2 e1 (by omega) d3
  | succ k ih =>
    intro c' mp L hk hmp hL hg hl1 hl2
    have ht2 : c' * 2 ^ l2 y < 2 ^ (y + 1) := by
      rw [← q2]
      exact (Nat.mul_lt_mul_right (Nat.two_pow_pos _)).mpr (by omega)
    unfold wY_search_18
    rw [yw_shl2 (by omega)]
    refine br_f (nI_ge ht2 (by omega)) ⟨8 + 1, ?_⟩
    refine yw_32 (c := c) (c' := c') E hr hd he hx1 hx hy1 hy (by omega) rfl rfl hs2 ht2 (by omega) (by omega) ?_ 8 0 mp rfl (fun v d1 d2 => by omega) (fun _ _ => rfl)
    intro mp' L' hmp' hL' hok hor
    rw [← Nat.succ_mul]
    refine ih (c' + 1) mp' L' (by omega) (fun k hk => (hmp' k hk).trans (hmp k hk)) (by omega) ?_ (fun c1 e1 d1 d2 d3 => Nat.le_trans hL' (hl1 c1 e1 d1 d2 d3)) (fun e1 d1 d2 => ?_)
    · rcases hor with q | ⟨q, q3⟩
      · rw [q]
        exact hg
      · exact Or.inr ⟨_, td_Tr_V t1.1 (by omega) t2.1 (by omega) hs2 ht2 q, q3.symm⟩
    · rcases Nat.lt_or_ge e1 c' with z | z
      · exact Nat.le_trans hL' (hl2 e1 z d2)
      · have e2 : e1 = c' := by omega
        rw [e2] at d2 ⊢
        exact hok d2
theorem yw_7 {post : Int64 → SY → Prop}
    (E : (yw_E n m l1 l2 lb1 lb2 ylow ylab)) (hr : r ≤ 9) (hd : d ≤ 9) (he : e ≤ 9) (hx1 : 1 ≤ x) (hx : x ≤ n) (hy1 : 1 ≤ y) (hy : y ≤ m)
    (h : ∀ mp, (∀ k, 9 ≤ k → mp k = ymap k) → post (lN ((td_kb l1 l2 d e (td_rn r lb1 lb2)) (l1 x) x (l2 y) y)) (ycap, nI r, nI d, nI e, ydif, ytot, ypos, ylen, ycnt, yrts, ylow, ylab, mp, yop, ypic, yend, yout)) :
    ∀ k c mp L, c + k = 2 ^ (x + 1 - l1 x) → (∀ k, 9 ≤ k → mp k = ymap k) → L ≤ 999999999999 → yw_gd l1 l2 d e (td_rn r lb1 lb2) (l1 x) x (l2 y) y L →
      (∀ c1 e1, c1 < c → e1 < 2 ^ (y + 1 - l2 y) → td_OK l1 l2 (c1 * 2 ^ l1 x) (e1 * 2 ^ l2 y) → L ≤ td_K d e (td_rn r lb1 lb2) (l1 x) x (l2 y) y (td_Tr (c1 * 2 ^ l1 x) (e1 * 2 ^ l2 y))) →
      wY_search_7 post (nI x) (nI y) ycap (nI r) (nI d) (nI e) ydif ytot ypos ylen (k + 1) (lN L) (nI (c * 2 ^ l1 x)) ycnt yrts ylow ylab mp yop ypic yend yout := by
  have hn := E.1
  have hm := E.2.1
  have t1 := E.2.2.1 x hx1 hx
  have t2 := E.2.2.2.1 y hy1 hy
  have p1 : 2 ^ (x + 1) ≤ 2 ^ 9 := Nat.pow_le_pow_right (by omega) (by omega)
  have q1 : 2 ^ (x + 1 - l1 x) * 2 ^ l1 x = 2 ^ (x + 1) := by
    rw [← Nat.pow_add]
    exact congrArg (fun z => 2 ^ z) (by omega)
  intro k
  induction k with
  | zero =>
    intro c mp L hk hmp hL hg hl1
    have ec : c = 2 ^ (x + 1 - l1 x) := by omega
    have eL := td_srch t1.1 t1.2.1 (by omega) t2.1 t2.2.1 (by omega) hd he hg (fun c1 e1 d1 d2 d3 => hl1 c1 e1 (by omega) d2 d3)
    unfold wY_search_7
    rw [yw_shl2 (by omega)]
    refine br_t ?_ ?_
    · rw [ec, q1]
      exact nI_le (Nat.le_refl _) (by omega)
    · rw [eL]
      exact h mp hmp
  | succ k ih =>
    intro c mp L hk hmp hL hg hl1
    have hs2 : c * 2 ^ l1 x < 2 ^ (x + 1) := by
      rw [← q1]
      exact (Nat.mul_lt_mul_right (Nat.two_pow_pos _)).mpr (by omega)
    unfold wY_search_7
    rw [yw_shl2 (by omega)]
    refine br_f (nI_ge hs2 (by omega)) ⟨2 ^ (y + 1 - l2 y) + 1, ?_⟩
    have k18 := yw_18 (c := c) (post := post) (J7 := wY_search_7 post (nI x) (nI y) ycap (nI r) (nI d) (nI e) ydif ytot ypos ylen (k + 1)) (ymap := mp) (ycap := ycap) (ydif := ydif) (ytot := ytot) (ypos := ypos) (ylen := ylen) (ycnt := ycnt) (yrts := yrts) (yop := yop) (ypic := ypic) (yend := yend) (yout := yout) E hr hd he hx1 hx hy1 hy (by omega) (fun mp' L' d1 d2 d3 d4 => ih (c + 1) mp' L' (by omega) (fun k hk => (d1 k hk).trans (hmp k hk)) d2 d3 d4) (2 ^ (y + 1 - l2 y)) 0 mp L (by omega) (fun _ _ => rfl) hL hg hl1 (fun e1 d1 => by omega)
    rw [Nat.zero_mul] at k18
    exact k18
/-- search: the least key; only the cells of the trial change -/
theorem yw_search {post : Int64 → SY → Prop}
    (E : (yw_E n m l1 l2 lb1 lb2 ylow ylab)) (hr : r ≤ 9) (hd : d ≤ 9) (he : e ≤ 9) (hx1 : 1 ≤ x) (hx : x ≤ n) (hy1 : 1 ≤ y) (hy : y ≤ m)
    (h : ∀ mp, (∀ k, 9 ≤ k → mp k = ymap k) → post (lN ((td_kb l1 l2 d e (td_rn r lb1 lb2)) (l1 x) x (l2 y) y)) (ycap, nI r, nI d, nI e, ydif, ytot, ypos, ylen, ycnt, yrts, ylow, ylab, mp, yop, ypic, yend, yout)) : wpY_search post (ycap, nI r, nI d, nI e, ydif, ytot, ypos, ylen, ycnt, yrts, ylow, ylab, ymap, yop, ypic, yend, yout) (nI x) (nI y) := by
  unfold wpY_search
  refine ⟨2 ^ (x + 1 - l1 x) + 1, ?_⟩
  have k := yw_7 (ycap := ycap) (ydif := ydif) (ytot := ytot) (ypos := ypos) (ylen := ylen) (ycnt := ycnt) (yrts := yrts) (yop := yop) (ypic := ypic) (yend := yend) (yout := yout) E hr hd he hx1 hx hy1 hy h (2 ^ (x + 1 - l1 x)) 0 ymap 999999999999 (by omega) (fun _ _ => rfl) (Nat.le_refl _) (Or.inl rfl) (fun c1 e1 d1 => by omega)
  rw [Nat.zero_mul] at k
  exact k
end
end
section
/-! the list of ops, its text; arrays that hold lists -/
def ls_h (a : Nat → Int32) : Nat → List Nat → Prop
  | _, [] => True
  | o, x :: l => a o = nI x ∧ ls_h a (o + 1) l
theorem ls_snoc {a : Nat → Int32} {x : Nat} : ∀ {l : List Nat} {o : Nat}, ls_h a o l → ls_h (upd a (o + l.length) (nI x)) o (l ++ [x])
  | [], o, _ => ⟨pk_us, trivial⟩
  | y :: l, o, h => by
    have k := ls_snoc (x := x) (l := l) (o := o + 1) h.2
    have e : o + (y :: l).length = o + 1 + l.length := by
      rw [List.length_cons]
      omega
    rw [e]
    refine ⟨?_, k⟩
    rw [pk_un (by omega)]
    exact h.1
theorem ls_keep {a a' : Nat → Int32} : ∀ {l : List Nat} {o : Nat}, (∀ k, o ≤ k → k < o + l.length → a' k = a k) → ls_h a o l → ls_h a' o l
  | [], _, _, _ => trivial
  | y :: l, o, h, hl => by
    refine ⟨(h o (Nat.le_refl _) (by rw [List.length_cons]; omega)).trans hl.1, ls_keep (fun k h1 h2 => h k (by omega) (by rw [List.length_cons]; omega)) hl.2⟩
theorem ls_get {a : Nat → Int32} : ∀ {l : List Nat} {o k : Nat}, ls_h a o l → k < l.length → a (o + k) = nI (l.getD k 0)
  | [], _, _, _, h => absurd h (Nat.not_lt_zero _)
  | y :: l, o, 0, h, _ => h.1
  | y :: l, o, k + 1, h, hk => by
    have q := ls_get (l := l) (o := o + 1) (k := k) h.2 (by rw [List.length_cons] at hk; omega)
    rw [show o + (k + 1) = o + 1 + k by omega]
    exact q
theorem ls_app {a : Nat → Int32} : ∀ {l k : List Nat} {o : Nat}, ls_h a o (l ++ k) → ls_h a o l ∧ ls_h a (o + l.length) k
  | [], k, o, h => ⟨trivial, h⟩
  | y :: l, k, o, h => by
    have q := ls_app (l := l) (k := k) (o := o + 1) h.2
    refine ⟨⟨h.1, q.1⟩, ?_⟩
    have e : o + (y :: l).length = o + 1 + l.length := by
      rw [List.length_cons]
      omega
    rw [e]
    exact q.2
theorem ls_join {a : Nat → Int32} : ∀ {l k : List Nat} {o : Nat}, ls_h a o l → ls_h a (o + l.length) k → ls_h a o (l ++ k)
  | [], k, o, _, h => h
  | y :: l, k, o, h1, h2 => by
    refine ⟨h1.1, ls_join h1.2 ?_⟩
    have e : o + (y :: l).length = o + 1 + l.length := by
      rw [List.length_cons]
      omega
    rw [e] at h2
    exact h2
def td_oR (A lb1 lb2 : Nat → Nat) : Nat → List Nat
  | 0 => []
  | k + 1 => td_oR A lb1 lb2 k ++ (if A (k + 1) ≠ 0 ∧ lb1 (k + 1) ≠ lb2 (A (k + 1)) then [k + 1] else [])
def td_oD (A : Nat → Nat) : Nat → List Nat
  | 0 => []
  | k + 1 => (if A (k + 1) = 0 then [10 + (k + 1)] else []) ++ td_oD A k
def td_oI (A : Nat → Nat) : Nat → List Nat
  | 0 => []
  | k + 1 => (if td_src A (k + 1) = 0 then [20 + (k + 1)] else []) ++ td_oI A k
def td_OL (A lb1 lb2 : Nat → Nat) (n m : Nat) : List Nat := td_oR A lb1 lb2 n ++ (td_oD A n ++ td_oI A m)
theorem td_oRD {A lb1 lb2 : Nat → Nat} : ∀ n, (td_oR A lb1 lb2 n).length + (td_oD A n).length ≤ n
  | 0 => Nat.le_refl _
  | k + 1 => by
    have h := td_oRD (A := A) (lb1 := lb1) (lb2 := lb2) k
    unfold td_oR td_oD
    rw [List.length_append, List.length_append]
    by_cases c : A (k + 1) = 0
    · rw [if_pos c, if_neg (fun q => q.1 c)]
      simp only [List.length_cons, List.length_nil]
      omega
    · rw [if_neg c]
      split
      · simp only [List.length_cons, List.length_nil]
        omega
      · simp only [List.length_nil]
        omega
theorem td_oI_len {A : Nat → Nat} : ∀ m, (td_oI A m).length ≤ m
  | 0 => Nat.le_refl _
  | k + 1 => by
    have h := td_oI_len (A := A) k
    unfold td_oI
    rw [List.length_append]
    split
    · simp only [List.length_cons, List.length_nil]
      omega
    · simp only [List.length_nil]
      omega
theorem td_OL_len {A lb1 lb2 : Nat → Nat} (n m : Nat) : (td_OL A lb1 lb2 n m).length ≤ n + m := by
  unfold td_OL
  rw [List.length_append, List.length_append]
  have h1 := td_oRD (A := A) (lb1 := lb1) (lb2 := lb2) n
  have h2 := td_oI_len (A := A) m
  omega
theorem td_oR_m {A lb1 lb2 : Nat → Nat} {o : Nat} : ∀ {n : Nat}, o ∈ td_oR A lb1 lb2 n ↔ 1 ≤ o ∧ o ≤ n ∧ A o ≠ 0 ∧ lb1 o ≠ lb2 (A o)
  | 0 => ⟨fun h => absurd h (List.not_mem_nil), fun h => by omega⟩
  | k + 1 => by
    unfold td_oR
    rw [List.mem_append, td_oR_m (n := k)]
    by_cases c : A (k + 1) ≠ 0 ∧ lb1 (k + 1) ≠ lb2 (A (k + 1))
    · rw [if_pos c, List.mem_singleton]
      constructor
      · rintro (⟨h1, h2, h3, h4⟩ | h)
        · exact ⟨h1, by omega, h3, h4⟩
        · rw [h]
          exact ⟨by omega, by omega, c.1, c.2⟩
      · rintro ⟨h1, h2, h3, h4⟩
        rcases Nat.lt_or_ge k o with z | z
        · exact Or.inr (by omega)
        · exact Or.inl ⟨h1, z, h3, h4⟩
    · rw [if_neg c]
      constructor
      · rintro (⟨h1, h2, h3, h4⟩ | h)
        · exact ⟨h1, by omega, h3, h4⟩
        · exact absurd h (List.not_mem_nil)
      · rintro ⟨h1, h2, h3, h4⟩
        rcases Nat.lt_or_ge k o with z | z
        · have e : o = k + 1 := by omega
          rw [e] at h3 h4
          exact absurd ⟨h3, h4⟩ c
        · exact Or.inl ⟨h1, z, h3, h4⟩
theorem td_oD_m {A : Nat → Nat} {o : Nat} : ∀ {n : Nat}, o ∈ td_oD A n ↔ 11 ≤ o ∧ o ≤ 10 + n ∧ A (o - 10) = 0
  | 0 => ⟨fun h => absurd h (List.not_mem_nil), fun h => by omega⟩
  | k + 1 => by
    unfold td_oD
    rw [List.mem_append, td_oD_m (n := k)]
    by_cases c : A (k + 1) = 0
    · rw [if_pos c, List.mem_singleton]
      constructor
      · rintro (h | ⟨h1, h2, h3⟩)
        · rw [h]
          exact ⟨by omega, by omega, by rw [show 10 + (k + 1) - 10 = k + 1 by omega]; exact c⟩
        · exact ⟨h1, by omega, h3⟩
      · rintro ⟨h1, h2, h3⟩
        rcases Nat.lt_or_ge (10 + k) o with z | z
        · exact Or.inl (by omega)
        · exact Or.inr ⟨h1, z, h3⟩
    · rw [if_neg c]
      constructor
      · rintro (h | ⟨h1, h2, h3⟩)
        · exact absurd h (List.not_mem_nil)
        · exact ⟨h1, by omega, h3⟩
      · rintro ⟨h1, h2, h3⟩
        rcases Nat.lt_or_ge (10 + k) o with z | z
        · have e : o - 10 = k + 1 := by omega
          rw [e] at h3
          exact absurd h3 c
        · exact Or.inr ⟨h1, z, h3⟩
theorem td_oI_m {A : Nat → Nat} {o : Nat} : ∀ {n : Nat}, o ∈ td_oI A n ↔ 21 ≤ o ∧ o ≤ 20 + n ∧ td_src A (o - 20) = 0
  | 0 => ⟨fun h => absurd h (List.not_mem_nil), fun h => by omega⟩
  | k + 1 => by
    unfold td_oI
    rw [List.mem_append, td_oI_m (n := k)]
    by_cases c : td_src A (k + 1) = 0
    · rw [if_pos c, List.mem_singleton]
      constructor
      · rintro (h | ⟨h1, h2, h3⟩)
        · rw [h]
          exact ⟨by omega, by omega, by rw [show 20 + (k + 1) - 20 = k + 1 by omega]; exact c⟩
        · exact ⟨h1, by omega, h3⟩
      · rintro ⟨h1, h2, h3⟩
        rcases Nat.lt_or_ge (20 + k) o with z | z
        · exact Or.inl (by omega)
        · exact Or.inr ⟨h1, z, h3⟩
    · rw [if_neg c]
      constructor
      · rintro (h | ⟨h1, h2, h3⟩)
        · exact absurd h (List.not_mem_nil)
        · exact ⟨h1, by omega, h3⟩
      · rintro ⟨h1, h2, h3⟩
        rcases Nat.lt_or_ge (20 + k) o with z | z
        · have e : o - 20 = k + 1 := by omega
          rw [e] at h3
          exact absurd h3 c
        · exact Or.inr ⟨h1, z, h3⟩
/-- the nodes of side 2 that are greater than fr or partners -/
def td_Ps (A : Nat → Nat) (m fr : Nat) (w : Nat) : Bool := decide (w ≤ m) && (decide (fr < w) || decide (td_src A w ≠ 0))
theorem td_Ps_i {A : Nat → Nat} {m fr w : Nat} : td_Ps A m fr w = true ↔ w ≤ m ∧ (fr < w ∨ td_src A w ≠ 0) := by
  unfold td_Ps
  simp only [Bool.and_eq_true, Bool.or_eq_true, decide_eq_true_eq]
/-- ones where p holds -/
def td_one (p : Nat → Bool) (w : Nat) : Nat := if p w = true then 1 else 0
def td_iq (A : Nat → Nat) (m j q : Nat) (w : Nat) : Bool := td_Ps A m j w && decide (w ≤ q)
def td_if (A l2 : Nat → Nat) (m j q : Nat) (w : Nat) : Bool := td_Ps A m j w && (td_up (td_Ps A m j) l2 w == q) && decide (w < l2 j)
def td_ic (A l2 : Nat → Nat) (m j q : Nat) (w : Nat) : Bool := td_Ps A m j w && (td_up (td_Ps A m j) l2 w == q) && (decide (l2 j ≤ w) && decide (w < j))
/-- the text of one op -/
def td_tx (A l2 lb2 : Nat → Nat) (m : Nat) (o : Nat) : List Nat :=
  if o < 10 then [82, 48 + o, 97 + lb2 (A o), 59] else if o < 20 then [68, 48 + (o - 10), 59]
  else [73, 48 + td_S (td_one (td_iq A m (o - 20) (td_up (td_Ps A m (o - 20)) l2 (o - 20)))) 1 8, 48 + (1 + td_S (td_one (td_if A l2 m (o - 20) (td_up (td_Ps A m (o - 20)) l2 (o - 20)))) 1 8), 48 + td_S (td_one (td_ic A l2 m (o - 20) (td_up (td_Ps A m (o - 20)) l2 (o - 20)))) 1 8, 97 + lb2 (o - 20), 59]
theorem td_tx_len {A l2 lb2 : Nat → Nat} {m : Nat} (o : Nat) : (td_tx A l2 lb2 m o).length ≤ 6 := by
  unfold td_tx
  split
  · simp
  · split
    · simp
    · simp
theorem td_fm_len {f : Nat → List Nat} {c : Nat} (hf : ∀ o, (f o).length ≤ c) : ∀ l : List Nat, (l.flatMap f).length ≤ c * l.length
  | [] => by simp
  | o :: l => by
    have h1 := td_fm_len hf l
    have h2 := hf o
    rw [List.flatMap_cons, List.length_append, List.length_cons, Nat.mul_add, Nat.mul_one]
    omega
def td_OA (f : Nat → List Nat) (a : Nat → Int32) (l : List Nat) : Prop := ∀ k, k < l.length → a k = nI ((l.take k).flatMap f).length
theorem td_OA_s {f : Nat → List Nat} {a : Nat → Int32} {l : List Nat} (h : td_OA f a l) (o : Nat) : td_OA f (upd a l.length (nI (l.flatMap f).length)) (l ++ [o]) := by
  intro k hk
  rw [List.length_append, List.length_cons, List.length_nil] at hk
  by_cases c : k = l.length
  · rw [c, pk_us, List.take_left]
  · rw [pk_un c, List.take_append_of_le_length (by omega)]
    exact h k (by omega)
theorem td_one_le (p : Nat → Bool) (w : Nat) : td_one p w ≤ 1 := by
  unfold td_one
  split <;> omega
theorem td_one8 (p : Nat → Bool) : td_S (td_one p) 1 8 ≤ 8 := by
  have h1 := td_S_le (f := td_one p) (g := fun _ => 1) (a := 1) (i := 8) (fun v _ _ => td_one_le p v)
  have h2 : td_S (fun _ => 1) 1 8 = 8 := by decide
  omega
end
section
/-! the component's script -/
theorem td_chr {c : Nat} (h : c < 65536) : vp_nar .char (((nI c).toUInt32 % 65536).toInt32) = nI c := by
  rw [pk_vc, pk_char, pk_tn (by omega), Nat.mod_eq_of_lt h]
theorem td_S_0 {f : Nat → Nat} {a i : Nat} (h : ∀ v, a ≤ v → v ≤ i → f v = 0) : td_S f a i = 0 := by
  have e : td_S f a i = td_S (fun _ => 0) a i := td_S_c h
  rw [e]
  induction i with
  | zero => rfl
  | succ i ih =>
    rcases Nat.lt_or_ge (i + 1) a with z | z
    · exact td_S_lt z
    · rw [td_S_s z]
      have := ih (fun v h1 h2 => h v h1 (by omega)) (td_S_c fun v h1 h2 => h v h1 (by omega))
      omega
theorem td_one_t {p : Nat → Bool} {w : Nat} (h : p w = true) : td_one p w = 1 := if_pos h
theorem td_one_f {p : Nat → Bool} {w : Nat} (h : ¬ p w = true) : td_one p w = 0 := if_neg h
section
variable {n m : Nat} {l1 l2 lb1 lb2 A : Nat → Nat} {r d e a b i j x y : Nat}
theorem td_Ps_up (hj : j ≤ m) (hm : m ≤ 8) : td_up (td_Ps A m j) l2 j = td_up (td_all m) l2 j := by
  rcases td_up_s (td_all m) l2 j with ⟨a1, a2⟩ | ⟨a1, a2, a3, a4, a5⟩
  · rw [a1]
    exact td_up_0 fun w h1 h2 h3 => a2 w h1 h2 (td_all_t (td_Ps_i.mp h3).1)
  · exact td_up_u a1 a2 (td_Ps_i.mpr ⟨td_all_i a3, Or.inl a1⟩) a4 fun w h1 h2 h3 => a5 w h1 h2 (td_all_t (td_Ps_i.mp h3).1)
theorem td_iq_S (hj1 : 1 ≤ j) (hj : j ≤ m) (hm : m ≤ 8) (h0 : td_src A j = 0) : td_S (td_one (td_iq A m j (td_up (td_Ps A m j) l2 j))) 1 8 = if td_up (td_Ps A m j) l2 j = 0 then 0 else td_S (td_one (td_Ps A m j)) 1 (j - 1) + td_up (td_Ps A m j) l2 j - j := by
  rcases td_up_s (td_Ps A m j) l2 j with ⟨a1, a2⟩ | ⟨a1, a2, a3, a4, a5⟩
  · rw [if_pos a1, a1]
    refine td_S_0 fun w h1 _ => td_one_f ?_
    unfold td_iq
    simp only [Bool.and_eq_true, decide_eq_true_eq]
    omega
  · rw [if_neg (by omega)]
    generalize hq : td_up (td_Ps A m j) l2 j = q at *
    have hqm := (td_Ps_i.mp a3).1
    have iq : ∀ w, td_iq A m j q w = true ↔ td_Ps A m j w = true ∧ w ≤ q := fun w => by
      unfold td_iq
      simp only [Bool.and_eq_true, decide_eq_true_eq]
    rw [td_S_split (c := j) (by omega) hj1 (by omega), td_S_split (a := j) (c := j + 1) hj1 (by omega) (i := 8) (by omega), td_S_split (a := j + 1) (c := q + 1) (by omega) (by omega) (i := 8) (by omega)]
    have s1 : td_S (td_one (td_iq A m j q)) 1 (j - 1) = td_S (td_one (td_Ps A m j)) 1 (j - 1) := td_S_c fun w h1 h2 => by
      by_cases c : td_Ps A m j w = true
      · rw [td_one_t c, td_one_t ((iq w).mpr ⟨c, by omega⟩)]
      · rw [td_one_f c, td_one_f fun z => c ((iq w).mp z).1]
    have s2 : td_S (td_one (td_iq A m j q)) j (j + 1 - 1) = 0 := td_S_0 fun w h1 h2 => td_one_f fun z => by
      have e1 : w = j := by omega
      have := td_Ps_i.mp ((iq w).mp z).1
      rw [e1] at this
      omega
    have s3 : td_S (td_one (td_iq A m j q)) (j + 1) (q + 1 - 1) = q - j := by
      have e1 : td_S (td_one (td_iq A m j q)) (j + 1) (q + 1 - 1) = td_S (fun _ => 1) (j + 1) (q + 1 - 1) := td_S_c fun w h1 h2 => td_one_t ((iq w).mpr ⟨td_Ps_i.mpr ⟨by omega, Or.inl (by omega)⟩, by omega⟩)
      rw [e1]
      rcases td_S_k (a := j + 1) (c := 1) (i := q + 1 - 1) with z | z
      · rw [z]
        omega
      · omega
    have s4 : td_S (td_one (td_iq A m j q)) (q + 1) 8 = 0 := td_S_0 fun w h1 h2 => td_one_f fun z => by
      have := ((iq w).mp z).2
      omega
    omega
theorem td_if_i {q w : Nat} : td_if A l2 m j q w = true ↔ td_Ps A m j w = true ∧ td_up (td_Ps A m j) l2 w = q ∧ w < l2 j := by
  unfold td_if
  simp only [Bool.and_eq_true, decide_eq_true_eq, beq_iff_eq, and_assoc]
theorem td_ic_i {q w : Nat} : td_ic A l2 m j q w = true ↔ td_Ps A m j w = true ∧ td_up (td_Ps A m j) l2 w = q ∧ l2 j ≤ w ∧ w < j := by
  unfold td_ic
  simp only [Bool.and_eq_true, decide_eq_true_eq, beq_iff_eq, and_assoc]
theorem td_if_S {q : Nat} (hj1 : 1 ≤ j) (hj : j ≤ 8) (hl : l2 j ≤ j) : td_S (td_one (td_if A l2 m j q)) 1 8 = td_S (td_one (td_if A l2 m j q)) 1 (j - 1) := by
  rw [td_S_split (c := j) (by omega) hj1 (i := 8) (by omega)]
  have s2 : td_S (td_one (td_if A l2 m j q)) j 8 = 0 := td_S_0 fun w h1 h2 => td_one_f fun z => by
    have := td_if_i.mp z
    omega
  omega
theorem td_ic_S {q : Nat} (hj1 : 1 ≤ j) (hj : j ≤ 8) : td_S (td_one (td_ic A l2 m j q)) 1 8 = td_S (td_one (td_ic A l2 m j q)) 1 (j - 1) := by
  rw [td_S_split (c := j) (by omega) hj1 (i := 8) (by omega)]
  have s2 : td_S (td_one (td_ic A l2 m j q)) j 8 = 0 := td_S_0 fun w h1 h2 => td_one_f fun z => by
    have := td_ic_i.mp z
    omega
  omega
end
section
variable {n m : Nat} {l1 l2 lb1 lb2 A : Nat → Nat} {r d e a b i j x y : Nat} {tx l : List Nat} {xcap xrel xdel xins xdif xtsk xscl xopc xpos xpad xpgl : Int32} {xfst xnxt xup xlab xusd xrts xlft xfor xtre xmat xm1 xm2 xtI xtJ xc1 xc2 xscr xopA xpag : Nat → Int32}
theorem xw_put {post : SX → Prop} {c : Nat} (hl : tx.length < 128) (hc : c < 65536) (hs : ls_h xscr 0 tx) (h : ∀ scr, ls_h scr 0 (tx ++ [c]) → post (xcap, xrel, xdel, xins, xdif, xtsk, nI (tx ++ [c]).length, xopc, xpos, xpad, xpgl, xfst, xnxt, xup, xlab, xusd, xrts, xlft, xfor, xtre, xmat, xm1, xm2, xtI, xtJ, xc1, xc2, scr, xopA, xpag)) : wpX_put post (xcap, xrel, xdel, xins, xdif, xtsk, nI tx.length, xopc, xpos, xpad, xpgl, xfst, xnxt, xup, xlab, xusd, xrts, xlft, xfor, xtre, xmat, xm1, xm2, xtI, xtJ, xc1, xc2, xscr, xopA, xpag) (nI c) := by
  unfold wpX_put
  dsimp only
  rw [td_chr hc, nI_clamp (by omega)]
  refine ⟨vp_in_nI hl (by omega), nm_e (nm_r (e' := nI (tx ++ [c]).length) ?_ (h _ ?_))⟩
  · rw [nI_1, List.length_append]
    rfl
  · have := ls_snoc (x := c) hs
    rw [Nat.zero_add] at this
    exact this
theorem xw_begin {post : SX → Prop} {kd nb c : Nat} (hc : c < 17) (hl : tx.length + 2 ≤ 128) (hk : kd < 65536) (hb : nb < 100) (hs : ls_h xscr 0 tx)
    (h : ∀ scr, ls_h scr 0 (tx ++ [kd, 48 + nb]) → post (xcap, xrel, xdel, xins, xdif, xtsk, nI (tx ++ [kd, 48 + nb]).length, nI (c + 1), xpos, xpad, xpgl, xfst, xnxt, xup, xlab, xusd, xrts, xlft, xfor, xtre, xmat, xm1, xm2, xtI, xtJ, xc1, xc2, scr, upd xopA c (nI tx.length), xpag)) : wpX_beginOp post (xcap, xrel, xdel, xins, xdif, xtsk, nI tx.length, nI c, xpos, xpad, xpgl, xfst, xnxt, xup, xlab, xusd, xrts, xlft, xfor, xtre, xmat, xm1, xm2, xtI, xtJ, xc1, xc2, xscr, xopA, xpag) (nI kd) (nI nb) := by
  unfold wpX_beginOp
  dsimp only
  rw [nI_clamp (n := c) (by omega)]
  refine ⟨vp_in_nI hc (by omega), nm_e (nm_r (nI_1 c) ?_)⟩
  refine xw_put (by omega) hk hs fun scr hs1 => ?_
  rw [show (48 : Int32) + nI nb = nI (48 + nb) from nI_add 48 nb]
  refine xw_put (by rw [List.length_append, List.length_cons, List.length_nil]; omega) (by omega) hs1 fun scr2 hs2 => ?_
  have e1 : tx ++ [kd] ++ [48 + nb] = tx ++ [kd, 48 + nb] := by simp
  rw [e1] at hs2 ⊢
  exact h scr2 hs2
/-- standingAncestor: the nearest ancestor of y in the set -/
theorem xw_st13 {post : Int32 → Prop} (E : (xw_E n m l1 l2 lb1 lb2 xlft xlab)) (hy1 : 1 ≤ y) (hyj : y < j) (hj : j ≤ m) (m2 : ∀ w, 1 ≤ w → w ≤ 8 → (xm2 w = 0 ↔ td_src A w = 0)) (U2 : ∀ v, 1 ≤ v → v ≤ m → xup (17 + v) = nI (td_up (td_all m) l2 v))
    (h : post (nI (td_up (td_Ps A m j) l2 y))) :
    ∀ k v s, s + k = 9 → (v = 0 ∨ (y < v ∧ v ≤ m ∧ l2 v ≤ y ∧ s < v)) → (∀ w, y < w → (v = 0 ∨ w < v) → w ≤ 8 → td_Ps A m j w = true → y < l2 w) → wX_standingAncestor_13 post (nI j) xcap xrel xdel xins xdif xtsk xscl xopc xpos xpad xpgl xfst xnxt xup xlab xusd xrts xlft xfor xtre xmat xm1 xm2 xtI xtJ xc1 xc2 xscr xopA xpag (k + 1) (nI v) (nI s) := by
  have hm := E.2.1
  have L2 := E.2.2.2.1
  have fin : ∀ v, (v = 0 ∨ (y < v ∧ v ≤ m ∧ l2 v ≤ y ∧ td_Ps A m j v = true)) → (∀ w, y < w → (v = 0 ∨ w < v) → w ≤ 8 → td_Ps A m j w = true → y < l2 w) → post (nI v) := fun v hv hb => by
    rcases hv with q | ⟨q1, q2, q3, q4⟩
    · rw [q]
      rw [td_up_0 (fun w h1 h2 h3 => hb w h1 (Or.inl q) h2 h3)] at h
      exact h
    · rw [td_up_u q1 (by omega) q4 q3 (fun w h1 h2 h3 => hb w h1 (Or.inr h2) (by omega) h3)] at h
      exact h
  intro k
  induction k with
  | zero =>
    intro v s hs hv hb
    unfold wX_standingAncestor_13
    exact br_t (nI_le (a := 9) (by omega) (by omega)) (fin v (by omega) hb)
  | succ k ih =>
    intro v s hs hv hb
    unfold wX_standingAncestor_13
    refine br_f (nI_ge (b := 9) (by omega) (by decide)) (pk_eq v 0 (fun c => fin v (Or.inl c) hb) (fun c => ?_))
    have hv' : y < v ∧ v ≤ m ∧ l2 v ≤ y ∧ s < v := by omega
    refine pk_lt j v (fun c2 => fin v (Or.inr ⟨hv'.1, hv'.2.1, hv'.2.2.1, td_Ps_i.mpr ⟨hv'.2.1, Or.inl c2⟩⟩) hb) (fun c2 => ?_)
    rw [xw_17, nI_clamp (n := v) (by omega), nI_clamp (n := 17 + v) (by omega), U2 v (by omega) (by omega)]
    refine ⟨vp_in_nI (by omega) (by omega), br_c (fun c3 => ⟨vp_in_nI (by omega) (by omega), nm_e (nm_r (nI_1 s) (ih _ (s + 1) (by omega) ?_ ?_))⟩) (fun c3 => fin v (Or.inr ⟨hv'.1, hv'.2.1, hv'.2.2.1, td_Ps_i.mpr ⟨hv'.2.1, Or.inr fun z => c3 ((m2 v (by omega) (by omega)).mpr z)⟩⟩) hb)⟩
    · have Lv := L2 v (by omega) (by omega)
      rcases td_up_s (td_all m) l2 v with ⟨a1, a2⟩ | ⟨a1, a2, a3, a4, a5⟩
      · exact Or.inl a1
      · have := Lv.2.2 _ a1 (td_all_i a3) a4
        exact Or.inr ⟨by omega, td_all_i a3, by omega, by omega⟩
    · intro w w1 w2 w3 w4
      rcases Nat.lt_trichotomy w v with z | z | z
      · exact hb w w1 (Or.inr z) w3 w4
      · rw [z] at w4
        have p := (td_Ps_i.mp w4).2
        have p2 := (m2 v (by omega) (by omega)).mp c3
        omega
      · have wm := (td_Ps_i.mp w4).1
        rcases td_up_s (td_all m) l2 v with ⟨a1, a2⟩ | ⟨a1, a2, a3, a4, a5⟩
        · have := a2 w z w3 (td_all_t wm)
          omega
        · have := a5 w z (by omega) (td_all_t wm)
          omega
theorem xw_stand {post : Int32 → Prop} (E : (xw_E n m l1 l2 lb1 lb2 xlft xlab)) (hy1 : 1 ≤ y) (hyj : y < j) (hj : j ≤ m) (m2 : ∀ w, 1 ≤ w → w ≤ 8 → (xm2 w = 0 ↔ td_src A w = 0)) (U2 : ∀ v, 1 ≤ v → v ≤ m → xup (17 + v) = nI (td_up (td_all m) l2 v))
    (h : post (nI (td_up (td_Ps A m j) l2 y))) : wpX_standingAncestor post (xcap, xrel, xdel, xins, xdif, xtsk, xscl, xopc, xpos, xpad, xpgl, xfst, xnxt, xup, xlab, xusd, xrts, xlft, xfor, xtre, xmat, xm1, xm2, xtI, xtJ, xc1, xc2, xscr, xopA, xpag) (nI y) (nI j) := by
  have hm := E.2.1
  unfold wpX_standingAncestor
  simp only [xw_17, nI_clamp (show 17 + y < 2 ^ 31 by omega), U2 y hy1 (by omega)]
  refine ⟨vp_in_nI (by omega) (by omega), nm_e ⟨_, xw_st13 E hy1 hyj hj m2 U2 h 9 _ 0 rfl ?_ ?_⟩⟩
  · rcases td_up_s (td_all m) l2 y with ⟨a1, a2⟩ | ⟨a1, a2, a3, a4, a5⟩
    · exact Or.inl a1
    · exact Or.inr ⟨a1, td_all_i a3, a4, by omega⟩
  · intro w w1 w2 w3 w4
    have wm := (td_Ps_i.mp w4).1
    rcases td_up_s (td_all m) l2 y with ⟨a1, a2⟩ | ⟨a1, a2, a3, a4, a5⟩
    · exact a2 w w1 w3 (td_all_t wm)
    · exact a5 w w1 (by omega) (td_all_t wm)
end
end
section
/-! writeInsert, writeScript -/
section
variable {n m : Nat} {l1 l2 lb1 lb2 A : Nat → Nat} {r d e a b i j x y : Nat} {tx l : List Nat} {xcap xrel xdel xins xdif xtsk xscl xopc xpos xpad xpgl : Int32} {xfst xnxt xup xlab xusd xrts xlft xfor xtre xmat xm1 xm2 xtI xtJ xc1 xc2 xscr xopA xpag : Nat → Int32}
theorem td_l1 (tx : List Nat) (a : Nat) : (tx ++ [a]).length = tx.length + 1 := by simp
theorem td_l2 (tx : List Nat) (a b : Nat) : (tx ++ [a, b]).length = tx.length + 2 := by simp
theorem xw_putE {post : SX → Prop} {c : Nat} {p0 : Int32} (hp : p0 = nI c) (hl : tx.length < 128) (hc : c < 65536) (hs : ls_h xscr 0 tx) (h : ∀ scr, ls_h scr 0 (tx ++ [c]) → post (xcap, xrel, xdel, xins, xdif, xtsk, nI (tx ++ [c]).length, xopc, xpos, xpad, xpgl, xfst, xnxt, xup, xlab, xusd, xrts, xlft, xfor, xtre, xmat, xm1, xm2, xtI, xtJ, xc1, xc2, scr, xopA, xpag)) : wpX_put post (xcap, xrel, xdel, xins, xdif, xtsk, nI tx.length, xopc, xpos, xpad, xpgl, xfst, xnxt, xup, xlab, xusd, xrts, xlft, xfor, xtre, xmat, xm1, xm2, xtI, xtJ, xc1, xc2, xscr, xopA, xpag) p0 := by
  subst hp
  exact xw_put hl hc hs h
theorem xw_wi96 {post : SX → Prop} {q f c k : Nat} (E : (xw_E n m l1 l2 lb1 lb2 xlft xlab)) (hj1 : 1 ≤ j) (hj : j ≤ m) (hk : k < 17) (hl : tx.length + 6 ≤ 128) (hq : q < 100) (hf : f < 100) (hc : c < 100) (hs : ls_h xscr 0 tx)
    (h : ∀ scr, ls_h scr 0 (tx ++ [73, 48 + q, 48 + f, 48 + c, 97 + lb2 j, 59]) → post (xcap, xrel, xdel, xins, xdif, xtsk, nI (tx ++ [73, 48 + q, 48 + f, 48 + c, 97 + lb2 j, 59]).length, nI (k + 1), xpos, xpad, xpgl, xfst, xnxt, xup, xlab, xusd, xrts, xlft, xfor, xtre, xmat, xm1, xm2, xtI, xtJ, xc1, xc2, scr, upd xopA k (nI tx.length), xpag)) :
    wX_writeInsert_96 post (nI j) (nI f) (nI c) (nI q) xcap xrel xdel xins xdif xtsk (nI tx.length) (nI k) xpos xpad xpgl xfst xnxt xup xlab xusd xrts xlft xfor xtre xmat xm1 xm2 xtI xtJ xc1 xc2 xscr xopA xpag := by
  have hm := E.2.1
  have k2 := E.2.2.2.2.2 j hj1 hj
  unfold wX_writeInsert_96
  refine xw_begin (kd := 73) hk (by omega) (by omega) hq hs fun s1 h1 => ?_
  refine xw_putE (nI_add 48 f) (by rw [td_l2]; omega) (by omega) h1 fun s2 h2 => ?_
  refine xw_putE (nI_add 48 c) (by rw [td_l1, td_l2]; omega) (by omega) h2 fun s3 h3 => ⟨pk_in (17 + j) 51 (by omega) (xw_17 j), ?_⟩
  refine xw_putE (c := 97 + lb2 j) (by rw [xw_17, nI_clamp (n := 17 + j) (by omega), k2.2.1]; exact nI_add 97 (lb2 j)) (by rw [td_l1, td_l1, td_l2]; omega) (by omega) h3 fun s4 h4 => ?_
  refine xw_putE (c := 59) rfl (by rw [td_l1, td_l1, td_l1, td_l2]; omega) (by omega) h4 fun s5 h5 => ?_
  have e1 : tx ++ [73, 48 + q] ++ [48 + f] ++ [48 + c] ++ [97 + lb2 j] ++ [59] = tx ++ [73, 48 + q, 48 + f, 48 + c, 97 + lb2 j, 59] := by simp
  rw [e1] at h5 ⊢
  exact h s5 h5
theorem xw_wi21 {post : SX → Prop} {k : Nat} (E : (xw_E n m l1 l2 lb1 lb2 xlft xlab)) (hj1 : 1 ≤ j) (hj : j ≤ m) (h0 : td_src A j = 0) (m2 : ∀ w, 1 ≤ w → w ≤ 8 → (xm2 w = 0 ↔ td_src A w = 0)) (U2 : ∀ v, 1 ≤ v → v ≤ m → xup (17 + v) = nI (td_up (td_all m) l2 v))
    (hk : k < 17) (hl : tx.length + 6 ≤ 128) (hs : ls_h xscr 0 tx)
    (h : ∀ scr, ls_h scr 0 (tx ++ td_tx A l2 lb2 m (20 + j)) → post (xcap, xrel, xdel, xins, xdif, xtsk, nI (tx ++ td_tx A l2 lb2 m (20 + j)).length, nI (k + 1), xpos, xpad, xpgl, xfst, xnxt, xup, xlab, xusd, xrts, xlft, xfor, xtre, xmat, xm1, xm2, xtI, xtJ, xc1, xc2, scr, upd xopA k (nI tx.length), xpag)) :
    ∀ g y, y + g = j → 1 ≤ y → wX_writeInsert_21 post (nI j) (nI (td_up (td_all m) l2 j)) xcap xrel xdel xins xdif xtsk (nI tx.length) (nI k) xpos xpad xpgl xfst xnxt xup xlab xusd xrts xlft xfor xtre xmat xm1 xm2 xtI xtJ xc1 xc2 xscr xopA xpag (g + 1) (nI (td_S (td_one (td_Ps A m j)) 1 (y - 1))) (nI (1 + td_S (td_one (td_if A l2 m j (td_up (td_Ps A m j) l2 j))) 1 (y - 1))) (nI (td_S (td_one (td_ic A l2 m j (td_up (td_Ps A m j) l2 j))) 1 (y - 1))) (nI y) := by
  have hm := E.2.1
  have Lj := E.2.2.2.1 j hj1 hj
  have k2 := (E.2.2.2.2.2 j hj1 hj).1
  have ep := td_Ps_up (A := A) (l2 := l2) hj hm
  have eq := td_iq_S (l2 := l2) hj1 hj hm h0
  have ef := td_if_S (A := A) (m := m) (q := td_up (td_Ps A m j) l2 j) hj1 (by omega) Lj.2.1
  have ec := td_ic_S (A := A) (l2 := l2) (m := m) (q := td_up (td_Ps A m j) l2 j) hj1 (by omega)
  have q8 := td_one8 (td_iq A m j (td_up (td_Ps A m j) l2 j))
  have f8 := td_one8 (td_if A l2 m j (td_up (td_Ps A m j) l2 j))
  have c8 := td_one8 (td_ic A l2 m j (td_up (td_Ps A m j) l2 j))
  have et : td_tx A l2 lb2 m (20 + j) = [73, 48 + td_S (td_one (td_iq A m j (td_up (td_Ps A m j) l2 j))) 1 8, 48 + (1 + td_S (td_one (td_if A l2 m j (td_up (td_Ps A m j) l2 j))) 1 8), 48 + td_S (td_one (td_ic A l2 m j (td_up (td_Ps A m j) l2 j))) 1 8, 97 + lb2 j, 59] := by
    unfold td_tx
    rw [if_neg (by omega), if_neg (by omega), show 20 + j - 20 = j by omega]
  rw [et] at h
  have pb : td_up (td_all m) l2 j ≤ 8 := by
    rcases td_up_s (td_all m) l2 j with ⟨a1, a2⟩ | ⟨a1, a2, a3, a4, a5⟩ <;> omega
  intro g
  induction g with
  | zero =>
    intro y hy hy1
    have ey : y = j := by omega
    subst ey
    unfold wX_writeInsert_21
    refine br_t (nI_le (Nat.le_refl _) (by omega)) ?_
    rw [← ef, ← ec]
    refine pk_eq (td_up (td_all m) l2 y) 0 (fun c => ?_) (fun c => ?_)
    · have e0 : td_S (td_one (td_iq A m y (td_up (td_Ps A m y) l2 y))) 1 8 = 0 := by rw [eq, ep, if_pos c]
      rw [e0] at h
      exact xw_wi96 (q := 0) E hj1 hj hk hl (by omega) (by omega) (by omega) hs h
    · rw [ep, if_neg c] at eq
      have ug : y < td_up (td_all m) l2 y := by
        rcases td_up_s (td_all m) l2 y with ⟨a1, a2⟩ | ⟨a1, a2, a3, a4, a5⟩ <;> omega
      rw [nI_add, pk_sub (by omega), ep, ← eq]
      rw [ep] at h q8 f8 c8
      exact xw_wi96 E hj1 hj hk hl (by omega) (by omega) (by omega) hs h
  | succ g ih =>
    intro y hy hy1
    have sB : td_S (td_one (td_Ps A m j)) 1 y = td_S (td_one (td_Ps A m j)) 1 (y - 1) + td_one (td_Ps A m j) y := td_S_p hy1 hy1
    have sF : td_S (td_one (td_if A l2 m j (td_up (td_Ps A m j) l2 j))) 1 y = td_S (td_one (td_if A l2 m j (td_up (td_Ps A m j) l2 j))) 1 (y - 1) + td_one (td_if A l2 m j (td_up (td_Ps A m j) l2 j)) y := td_S_p hy1 hy1
    have sC : td_S (td_one (td_ic A l2 m j (td_up (td_Ps A m j) l2 j))) 1 y = td_S (td_one (td_ic A l2 m j (td_up (td_Ps A m j) l2 j))) 1 (y - 1) + td_one (td_ic A l2 m j (td_up (td_Ps A m j) l2 j)) y := td_S_p hy1 hy1
    have k := ih (y + 1) (by omega) (by omega)
    rw [show y + 1 - 1 = y by omega, sB, sF, sC] at k
    unfold wX_writeInsert_21
    rw [nI_clamp (n := y) (by omega)]
    refine br_f (nI_ge (by omega) (by omega)) ⟨vp_in_nI (by omega) (by omega), br_c (fun c => ?_) (fun c => ?_)⟩
    · have p0 : ¬ td_Ps A m j y = true := fun z => by
        have z1 := (td_Ps_i.mp z).2
        have z2 := (m2 y hy1 (by omega)).mp c
        omega
      rw [td_one_f p0, td_one_f (fun z => p0 (td_if_i.mp z).1), td_one_f (fun z => p0 (td_ic_i.mp z).1)] at k
      exact nm_r (nI_1 y) k
    · have p0 : td_Ps A m j y = true := td_Ps_i.mpr ⟨by omega, Or.inr fun z => c ((m2 y hy1 (by omega)).mpr z)⟩
      rw [td_one_t p0] at k
      refine nm_r (nI_1 _) (xw_stand E hy1 (by omega) hj m2 U2 ?_)
      have ub : td_up (td_Ps A m j) l2 y ≤ 8 := by
        rcases td_up_s (td_Ps A m j) l2 y with ⟨a1, a2⟩ | ⟨a1, a2, a3, a4, a5⟩ <;> omega
      rw [xw_17, nI_clamp (n := 17 + j) (by omega), k2]
      refine pk_eq (td_up (td_Ps A m j) l2 y) (td_up (td_all m) l2 j) (fun c2 => ⟨vp_in_nI (by omega) (by omega), pk_le (l2 j) y (fun c3 => ?_) (fun c3 => ?_)⟩) (fun c2 => ?_)
      · rw [td_one_f (fun z => by have := td_if_i.mp z; omega), td_one_t (p := td_ic A l2 m j (td_up (td_Ps A m j) l2 j)) (td_ic_i.mpr ⟨p0, by omega, c3, by omega⟩)] at k
        exact nm_r (nI_1 _) (nm_r (nI_1 y) k)
      · rw [td_one_f (p := td_ic A l2 m j (td_up (td_Ps A m j) l2 j)) (fun z => by have := td_ic_i.mp z; omega), td_one_t (p := td_if A l2 m j (td_up (td_Ps A m j) l2 j)) (td_if_i.mpr ⟨p0, by omega, c3⟩)] at k
        exact nm_r (nI_1 _) (nm_r (nI_1 y) k)
      · rw [td_one_f (p := td_if A l2 m j (td_up (td_Ps A m j) l2 j)) (fun z => by have := td_if_i.mp z; omega), td_one_f (p := td_ic A l2 m j (td_up (td_Ps A m j) l2 j)) (fun z => by have := td_ic_i.mp z; omega)] at k
        exact nm_r (nI_1 y) k
theorem xw_wins {post : SX → Prop} {k : Nat} (E : (xw_E n m l1 l2 lb1 lb2 xlft xlab)) (hj1 : 1 ≤ j) (hj : j ≤ m) (h0 : td_src A j = 0) (m2 : ∀ w, 1 ≤ w → w ≤ 8 → (xm2 w = 0 ↔ td_src A w = 0)) (U2 : ∀ v, 1 ≤ v → v ≤ m → xup (17 + v) = nI (td_up (td_all m) l2 v))
    (hk : k < 17) (hl : tx.length + 6 ≤ 128) (hs : ls_h xscr 0 tx)
    (h : ∀ scr, ls_h scr 0 (tx ++ td_tx A l2 lb2 m (20 + j)) → post (xcap, xrel, xdel, xins, xdif, xtsk, nI (tx ++ td_tx A l2 lb2 m (20 + j)).length, nI (k + 1), xpos, xpad, xpgl, xfst, xnxt, xup, xlab, xusd, xrts, xlft, xfor, xtre, xmat, xm1, xm2, xtI, xtJ, xc1, xc2, scr, upd xopA k (nI tx.length), xpag)) :
    wpX_writeInsert post (xcap, xrel, xdel, xins, xdif, xtsk, nI tx.length, nI k, xpos, xpad, xpgl, xfst, xnxt, xup, xlab, xusd, xrts, xlft, xfor, xtre, xmat, xm1, xm2, xtI, xtJ, xc1, xc2, xscr, xopA, xpag) (nI j) := by
  have hm := E.2.1
  unfold wpX_writeInsert
  simp only [xw_17, nI_clamp (show 17 + j < 2 ^ 31 by omega), U2 j hj1 hj]
  refine ⟨vp_in_nI (by omega) (by omega), nm_e ⟨_, xw_wi21 E hj1 hj h0 m2 U2 hk hl hs h (j - 1) 1 (by omega) (Nat.le_refl _)⟩⟩
theorem td_fm_s {f : Nat → List Nat} {l : List Nat} (o : Nat) : (l ++ [o]).flatMap f = l.flatMap f ++ f o := by simp
theorem td_fm_b {f : Nat → List Nat} {l k : List Nat} (hf : ∀ o, (f o).length ≤ 6) (h : (l ++ k).length ≤ 16) : (l.flatMap f).length ≤ 96 := by
  have h1 := td_fm_len hf l
  rw [List.length_append] at h
  omega
theorem xw_ws133 {post : SX → Prop} (E : (xw_E n m l1 l2 lb1 lb2 xlft xlab)) (m2 : ∀ w, 1 ≤ w → w ≤ 8 → (xm2 w = 0 ↔ td_src A w = 0)) (U2 : ∀ v, 1 ≤ v → v ≤ m → xup (17 + v) = nI (td_up (td_all m) l2 v))
    (h : ∀ scr oa, ls_h scr 0 ((td_OL A lb1 lb2 n m).flatMap (td_tx A l2 lb2 m)) → td_OA (td_tx A l2 lb2 m) oa (td_OL A lb1 lb2 n m) → post (xcap, xrel, xdel, xins, xdif, xtsk, nI ((td_OL A lb1 lb2 n m).flatMap (td_tx A l2 lb2 m)).length, nI (td_OL A lb1 lb2 n m).length, xpos, xpad, xpgl, xfst, xnxt, xup, xlab, xusd, xrts, xlft, xfor, xtre, xmat, xm1, xm2, xtI, xtJ, xc1, xc2, scr, oa, xpag)) :
    ∀ j l scr oa, j ≤ m → l ++ td_oI A j = td_OL A lb1 lb2 n m → ls_h scr 0 (l.flatMap (td_tx A l2 lb2 m)) → td_OA (td_tx A l2 lb2 m) oa l →
      wX_writeScript_133 post (j + 1) (nI j) xcap xrel xdel xins xdif xtsk (nI (l.flatMap (td_tx A l2 lb2 m)).length) (nI l.length) xpos xpad xpgl xfst xnxt xup xlab xusd xrts xlft xfor xtre xmat xm1 xm2 xtI xtJ xc1 xc2 scr oa xpag := by
  have hn := E.1
  have hm := E.2.1
  have hOL := td_OL_len (A := A) (lb1 := lb1) (lb2 := lb2) n m
  intro j
  induction j with
  | zero =>
    intro l scr oa hj he hs ho
    have el : l = td_OL A lb1 lb2 n m := by
      rw [← he]
      exact (List.append_nil l).symm
    subst el
    unfold wX_writeScript_133
    exact br_t (nI_lt (b := 1) (by omega) (by decide)) (h scr oa hs ho)
  | succ j ih =>
    intro l scr oa hj he hs ho
    have hlen : (l ++ td_oI A (j + 1)).length ≤ 16 := by rw [he]; omega
    have hfb := td_fm_b (f := td_tx A l2 lb2 m) td_tx_len hlen
    have eI : td_oI A (j + 1) = (if td_src A (j + 1) = 0 then [20 + (j + 1)] else []) ++ td_oI A j := rfl
    unfold wX_writeScript_133
    rw [nI_clamp (n := j + 1) (by omega)]
    refine br_f (nI_nlt (b := 1) (by omega) (by omega)) ⟨vp_in_nI (by omega) (by omega), br_c (fun c => ?_) (fun c => ?_)⟩
    · have c0 := (m2 (j + 1) (by omega) (by omega)).mp c
      rw [if_pos c0] at eI
      rw [eI, ← List.append_assoc] at he hlen
      rw [List.length_append, List.length_append, List.length_cons] at hlen
      refine xw_wins E (by omega) hj c0 m2 U2 (by omega) (by omega) hs fun scr2 hs2 => ?_
      rw [← td_fm_s, show l.length + 1 = (l ++ [20 + (j + 1)]).length by simp]
      rw [← td_fm_s] at hs2
      exact nm_r (pk_m1 j) (ih _ scr2 _ (by omega) he hs2 (td_OA_s ho _))
    · rw [if_neg (fun z => c ((m2 (j + 1) (by omega) (by omega)).mpr z)), List.nil_append] at eI
      rw [eI] at he
      exact nm_r (pk_m1 j) (ih l scr oa (by omega) he hs ho)
theorem xw_ws93 {post : SX → Prop} (E : (xw_E n m l1 l2 lb1 lb2 xlft xlab)) (m1 : ∀ v, v ≤ 8 → xm1 v = nI (A v)) (mA : ∀ v, A v ≤ 8) (m2 : ∀ w, 1 ≤ w → w ≤ 8 → (xm2 w = 0 ↔ td_src A w = 0)) (U2 : ∀ v, 1 ≤ v → v ≤ m → xup (17 + v) = nI (td_up (td_all m) l2 v)) (u1 : xusd 1 = nI m)
    (h : ∀ scr oa, ls_h scr 0 ((td_OL A lb1 lb2 n m).flatMap (td_tx A l2 lb2 m)) → td_OA (td_tx A l2 lb2 m) oa (td_OL A lb1 lb2 n m) → post (xcap, xrel, xdel, xins, xdif, xtsk, nI ((td_OL A lb1 lb2 n m).flatMap (td_tx A l2 lb2 m)).length, nI (td_OL A lb1 lb2 n m).length, xpos, xpad, xpgl, xfst, xnxt, xup, xlab, xusd, xrts, xlft, xfor, xtre, xmat, xm1, xm2, xtI, xtJ, xc1, xc2, scr, oa, xpag)) :
    ∀ j l scr oa, j ≤ n → l ++ (td_oD A j ++ td_oI A m) = td_OL A lb1 lb2 n m → ls_h scr 0 (l.flatMap (td_tx A l2 lb2 m)) → td_OA (td_tx A l2 lb2 m) oa l →
      wX_writeScript_93 post (j + 1) (nI j) xcap xrel xdel xins xdif xtsk (nI (l.flatMap (td_tx A l2 lb2 m)).length) (nI l.length) xpos xpad xpgl xfst xnxt xup xlab xusd xrts xlft xfor xtre xmat xm1 xm2 xtI xtJ xc1 xc2 scr oa xpag := by
  have hn := E.1
  have hm := E.2.1
  have hOL := td_OL_len (A := A) (lb1 := lb1) (lb2 := lb2) n m
  intro j
  induction j with
  | zero =>
    intro l scr oa hj he hs ho
    unfold wX_writeScript_93
    rw [u1]
    exact br_t (nI_lt (b := 1) (by omega) (by decide)) (nm_e ⟨_, xw_ws133 E m2 U2 h m l scr oa (Nat.le_refl _) he hs ho⟩)
  | succ j ih =>
    intro l scr oa hj he hs ho
    have hlen : (l ++ (td_oD A (j + 1) ++ td_oI A m)).length ≤ 16 := by rw [he]; omega
    have hfb := td_fm_b (f := td_tx A l2 lb2 m) td_tx_len hlen
    have aj := mA (j + 1)
    have eI : td_oD A (j + 1) = (if A (j + 1) = 0 then [10 + (j + 1)] else []) ++ td_oD A j := rfl
    unfold wX_writeScript_93
    rw [nI_clamp (n := j + 1) (by omega), m1 (j + 1) (by omega)]
    refine br_f (nI_nlt (b := 1) (by omega) (by omega)) ⟨vp_in_nI (by omega) (by omega), pk_eq (A (j + 1)) 0 (fun c => ?_) (fun c => ?_)⟩
    · rw [if_pos c] at eI
      rw [eI, List.append_assoc, ← List.append_assoc] at he hlen
      rw [List.length_append, List.length_append, List.length_cons] at hlen
      have et : td_tx A l2 lb2 m (10 + (j + 1)) = [68, 48 + (j + 1), 59] := by
        unfold td_tx
        rw [if_neg (by omega), if_pos (by omega), show 10 + (j + 1) - 10 = j + 1 by omega]
      refine xw_begin (kd := 68) (by omega) (by omega) (by omega) (by omega) hs fun s1 h1 => ?_
      dsimp only
      refine xw_put (c := 59) (by rw [td_l2]; omega) (by omega) h1 fun s2 h2 => ?_
      have e1 : l.flatMap (td_tx A l2 lb2 m) ++ [68, 48 + (j + 1)] ++ [59] = (l ++ [10 + (j + 1)]).flatMap (td_tx A l2 lb2 m) := by
        rw [td_fm_s, et]
        simp
      rw [e1, show l.length + 1 = (l ++ [10 + (j + 1)]).length by simp]
      rw [e1] at h2
      exact nm_r (pk_m1 j) (ih _ s2 _ (by omega) he h2 (td_OA_s ho _))
    · rw [if_neg c, List.nil_append] at eI
      rw [eI] at he
      exact nm_r (pk_m1 j) (ih l scr oa (by omega) he hs ho)
theorem xw_ws12 {post : SX → Prop} (E : (xw_E n m l1 l2 lb1 lb2 xlft xlab)) (m1 : ∀ v, v ≤ 8 → xm1 v = nI (A v)) (mA : ∀ v, A v ≤ m) (m2 : ∀ w, 1 ≤ w → w ≤ 8 → (xm2 w = 0 ↔ td_src A w = 0)) (U2 : ∀ v, 1 ≤ v → v ≤ m → xup (17 + v) = nI (td_up (td_all m) l2 v)) (u0 : xusd 0 = nI n) (u1 : xusd 1 = nI m)
    (h : ∀ scr oa, ls_h scr 0 ((td_OL A lb1 lb2 n m).flatMap (td_tx A l2 lb2 m)) → td_OA (td_tx A l2 lb2 m) oa (td_OL A lb1 lb2 n m) → post (xcap, xrel, xdel, xins, xdif, xtsk, nI ((td_OL A lb1 lb2 n m).flatMap (td_tx A l2 lb2 m)).length, nI (td_OL A lb1 lb2 n m).length, xpos, xpad, xpgl, xfst, xnxt, xup, xlab, xusd, xrts, xlft, xfor, xtre, xmat, xm1, xm2, xtI, xtJ, xc1, xc2, scr, oa, xpag)) :
    ∀ k i scr oa, i + k = n → ls_h scr 0 ((td_oR A lb1 lb2 i).flatMap (td_tx A l2 lb2 m)) → td_OA (td_tx A l2 lb2 m) oa (td_oR A lb1 lb2 i) →
      wX_writeScript_12 post (k + 1) (nI (i + 1)) xcap xrel xdel xins xdif xtsk (nI ((td_oR A lb1 lb2 i).flatMap (td_tx A l2 lb2 m)).length) (nI (td_oR A lb1 lb2 i).length) xpos xpad xpgl xfst xnxt xup xlab xusd xrts xlft xfor xtre xmat xm1 xm2 xtI xtJ xc1 xc2 scr oa xpag := by
  have hn := E.1
  have hm := E.2.1
  intro k
  induction k with
  | zero =>
    intro i scr oa hi hs ho
    have ei : i = n := by omega
    subst ei
    unfold wX_writeScript_12
    rw [u0]
    exact br_t (nI_lt (by omega) (by omega)) (nm_e ⟨_, xw_ws93 E m1 (fun v => Nat.le_trans (mA v) hm) m2 U2 u1 h i _ scr oa (Nat.le_refl _) rfl hs ho⟩)
  | succ k ih =>
    intro i scr oa hi hs ho
    have ai := mA (i + 1)
    have hlen := td_oRD (A := A) (lb1 := lb1) (lb2 := lb2) i
    have hfb := td_fm_len (f := td_tx A l2 lb2 m) td_tx_len (td_oR A lb1 lb2 i)
    have k1 := E.2.2.2.2.1 (i + 1) (by omega) (by omega)
    have eR : td_oR A lb1 lb2 (i + 1) = td_oR A lb1 lb2 i ++ (if A (i + 1) ≠ 0 ∧ lb1 (i + 1) ≠ lb2 (A (i + 1)) then [i + 1] else []) := rfl
    have nx : td_oR A lb1 lb2 (i + 1) = td_oR A lb1 lb2 i → wX_writeScript_12 post (k + 1) (nI (i + 1 + 1)) xcap xrel xdel xins xdif xtsk (nI ((td_oR A lb1 lb2 i).flatMap (td_tx A l2 lb2 m)).length) (nI (td_oR A lb1 lb2 i).length) xpos xpad xpgl xfst xnxt xup xlab xusd xrts xlft xfor xtre xmat xm1 xm2 xtI xtJ xc1 xc2 scr oa xpag := fun q => by
      have := ih (i + 1) scr oa (by omega)
      rw [q] at this
      exact this hs ho
    unfold wX_writeScript_12
    rw [u0, nI_clamp (n := i + 1) (by omega), m1 (i + 1) (by omega)]
    refine br_f (nI_nlt (by omega) (by omega)) ⟨vp_in_nI (by omega) (by omega), nm_e (pk_eq (A (i + 1)) 0 (fun c => ?_) (fun c => ?_))⟩
    · rw [if_neg (fun q => q.1 c), List.append_nil] at eR
      exact nm_r (nI_1 _) (nx eR)
    · have k2 := E.2.2.2.2.2 (A (i + 1)) (by omega) ai
      rw [xw_17, nI_clamp (n := 17 + A (i + 1)) (by omega), k1.2.1, k2.2.1]
      refine ⟨vp_in_nI (by omega) (by omega), vp_in_nI (by omega) (by omega), pk_eq (lb1 (i + 1)) (lb2 (A (i + 1))) (fun c2 => ?_) (fun c2 => ?_)⟩
      · rw [if_neg (fun q => q.2 c2), List.append_nil] at eR
        exact nm_r (nI_1 _) (nx eR)
      · rw [if_pos ⟨c, c2⟩] at eR
        have et : td_tx A l2 lb2 m (i + 1) = [82, 48 + (i + 1), 97 + lb2 (A (i + 1)), 59] := by
          unfold td_tx
          rw [if_pos (by omega)]
        refine xw_begin (kd := 82) (by omega) (by omega) (by omega) (by omega) hs fun s1 h1 => ⟨vp_in_nI (by omega) (by omega), ?_⟩
        refine xw_putE (c := 97 + lb2 (A (i + 1))) (by rw [k2.2.1]; exact nI_add 97 _) (by rw [td_l2]; omega) (by omega) h1 fun s2 h2 => ?_
        refine xw_put (c := 59) (by rw [td_l1, td_l2]; omega) (by omega) h2 fun s3 h3 => ?_
        have e1 : (td_oR A lb1 lb2 i).flatMap (td_tx A l2 lb2 m) ++ [82, 48 + (i + 1)] ++ [97 + lb2 (A (i + 1))] ++ [59] = (td_oR A lb1 lb2 (i + 1)).flatMap (td_tx A l2 lb2 m) := by
          rw [eR, td_fm_s, et]
          simp
        have oa2 := td_OA_s ho (i + 1)
        rw [← eR] at oa2
        rw [e1, show (td_oR A lb1 lb2 i).length + 1 = (td_oR A lb1 lb2 (i + 1)).length by rw [eR]; simp]
        rw [e1] at h3
        exact nm_r (nI_1 _) (ih (i + 1) s3 _ (by omega) h3 oa2)
/-- writeScript: the text of the ops and their places -/
theorem xw_wscript {post : SX → Prop} (E : (xw_E n m l1 l2 lb1 lb2 xlft xlab)) (m1 : ∀ v, v ≤ 8 → xm1 v = nI (A v)) (mA : ∀ v, A v ≤ m) (m2 : ∀ w, 1 ≤ w → w ≤ 8 → (xm2 w = 0 ↔ td_src A w = 0)) (U2 : ∀ v, 1 ≤ v → v ≤ m → xup (17 + v) = nI (td_up (td_all m) l2 v)) (u0 : xusd 0 = nI n) (u1 : xusd 1 = nI m)
    (h : ∀ scr oa, ls_h scr 0 ((td_OL A lb1 lb2 n m).flatMap (td_tx A l2 lb2 m)) → td_OA (td_tx A l2 lb2 m) oa (td_OL A lb1 lb2 n m) → post (xcap, xrel, xdel, xins, xdif, xtsk, nI ((td_OL A lb1 lb2 n m).flatMap (td_tx A l2 lb2 m)).length, nI (td_OL A lb1 lb2 n m).length, xpos, xpad, xpgl, xfst, xnxt, xup, xlab, xusd, xrts, xlft, xfor, xtre, xmat, xm1, xm2, xtI, xtJ, xc1, xc2, scr, oa, xpag)) :
    wpX_writeScript post (xcap, xrel, xdel, xins, xdif, xtsk, xscl, xopc, xpos, xpad, xpgl, xfst, xnxt, xup, xlab, xusd, xrts, xlft, xfor, xtre, xmat, xm1, xm2, xtI, xtJ, xc1, xc2, xscr, xopA, xpag) := by
  unfold wpX_writeScript
  exact ⟨_, xw_ws12 E m1 mA m2 U2 u0 u1 h n 0 xscr xopA (by omega) trivial (fun k hk => absurd hk (Nat.not_lt_zero _))⟩
end
end
section
/-! the reference's diff -/
theorem td_digit {A : Nat → Nat} {C u : Nat} (hA : ∀ v, A v ≤ 8) (hu : u < 8) : (100000000 * C + td_dg A) / 10 ^ u % 10 = A (u + 1) := by
  have a1 := hA 1
  have a2 := hA 2
  have a3 := hA 3
  have a4 := hA 4
  have a5 := hA 5
  have a6 := hA 6
  have a7 := hA 7
  have a8 := hA 8
  unfold td_dg
  have c : u = 0 ∨ u = 1 ∨ u = 2 ∨ u = 3 ∨ u = 4 ∨ u = 5 ∨ u = 6 ∨ u = 7 := by omega
  rcases c with rfl | rfl | rfl | rfl | rfl | rfl | rfl | rfl
  · show _ / 1 % 10 = A 1
    omega
  · show _ / 10 % 10 = A 2
    omega
  · show _ / 100 % 10 = A 3
    omega
  · show _ / 1000 % 10 = A 4
    omega
  · show _ / 10000 % 10 = A 5
    omega
  · show _ / 100000 % 10 = A 6
    omega
  · show _ / 1000000 % 10 = A 7
    omega
  · show _ / 10000000 % 10 = A 8
    omega
section
variable {n m : Nat} {l1 l2 lb1 lb2 A : Nat → Nat} {r d e a b i j x y : Nat} {ycap yrel ydel yins ydif ytot ypos ylen : Int32} {ycnt yrts ylow ylab ymap yop ypic yend yout : Nat → Int32}
theorem yw_d216 {post : Int32 → SY → Prop} (hn : n ≤ 8) (hm : m ≤ 8) (hA : ∀ v, 1 ≤ v → v ≤ 8 → ymap (10 + v) = nI (A v)) (mA : ∀ v, A v ≤ 8)
    (h : ∀ op, ls_h op 0 (td_OL A lb1 lb2 n m) → post 0 (ycap, yrel, ydel, yins, 1, nI (td_OL A lb1 lb2 n m).length, ypos, ylen, ycnt, yrts, ylow, ylab, ymap, op, ypic, yend, yout)) :
    ∀ j l op, j ≤ m → l ++ td_oI A j = td_OL A lb1 lb2 n m → ls_h op 0 l →
      wY_diff_216 post ycap yrel ydel yins ydif ypos ylen (j + 1) (nI j) (nI l.length) ycnt yrts ylow ylab ymap op ypic yend yout := by
  have hOL := td_OL_len (A := A) (lb1 := lb1) (lb2 := lb2) n m
  intro j
  induction j with
  | zero =>
    intro l op hj he hs
    have el : l = td_OL A lb1 lb2 n m := by
      rw [← he]
      exact (List.append_nil l).symm
    subst el
    unfold wY_diff_216
    exact br_t (nI_lt (b := 1) (by omega) (by decide)) (h op hs)
  | succ j ih =>
    intro l op hj he hs
    have hlen : (l ++ td_oI A (j + 1)).length ≤ 16 := by rw [he]; omega
    have eI : td_oI A (j + 1) = (if td_src A (j + 1) = 0 then [20 + (j + 1)] else []) ++ td_oI A j := rfl
    have sb : td_src A (j + 1) ≤ 8 := by
      by_cases c : td_src A (j + 1) = 0
      · omega
      · exact (td_src_s c).2.1
    unfold wY_diff_216
    refine br_f (nI_nlt (b := 1) (by omega) (by omega)) (yw_source (bs := 10) (by omega) (by omega) hA (fun v _ _ => Nat.le_trans (mA v) (by omega)) ?_)
    refine pk_eq (td_src A (j + 1)) 0 (fun c => ?_) (fun c => ?_)
    · rw [if_pos c] at eI
      rw [eI, ← List.append_assoc] at he hlen
      rw [List.length_append, td_l1] at hlen
      refine nm_r (e' := nI (l ++ [20 + (j + 1)]).length) (by rw [nI_1, td_l1]) ?_
      rw [nI_clamp (by omega), show (20 : Int32) + nI (j + 1) = nI (20 + (j + 1)) from nI_add 20 _]
      refine ⟨vp_in_nI (by omega) (by omega), nm_e (nm_r (pk_m1 j) (ih _ _ (by omega) he ?_))⟩
      have := ls_snoc (x := 20 + (j + 1)) hs
      rw [Nat.zero_add] at this
      exact this
    · rw [if_neg c, List.nil_append] at eI
      rw [eI] at he
      exact nm_r (pk_m1 j) (ih l op (by omega) he hs)
theorem yw_d166 {post : Int32 → SY → Prop} (hn : n ≤ 8) (hm : m ≤ 8) (hA : ∀ v, 1 ≤ v → v ≤ 8 → ymap (10 + v) = nI (A v)) (mA : ∀ v, A v ≤ 8) (c2 : ycnt 2 = nI m)
    (h : ∀ op, ls_h op 0 (td_OL A lb1 lb2 n m) → post 0 (ycap, yrel, ydel, yins, 1, nI (td_OL A lb1 lb2 n m).length, ypos, ylen, ycnt, yrts, ylow, ylab, ymap, op, ypic, yend, yout)) :
    ∀ j l op, j ≤ n → l ++ (td_oD A j ++ td_oI A m) = td_OL A lb1 lb2 n m → ls_h op 0 l →
      wY_diff_166 post ycap yrel ydel yins ydif ypos ylen (j + 1) (nI j) (nI l.length) ycnt yrts ylow ylab ymap op ypic yend yout := by
  have hOL := td_OL_len (A := A) (lb1 := lb1) (lb2 := lb2) n m
  intro j
  induction j with
  | zero =>
    intro l op hj he hs
    unfold wY_diff_166
    rw [c2]
    exact br_t (nI_lt (b := 1) (by omega) (by decide)) (nm_e ⟨_, yw_d216 hn hm hA mA h m l op (Nat.le_refl _) he hs⟩)
  | succ j ih =>
    intro l op hj he hs
    have hlen : (l ++ (td_oD A (j + 1) ++ td_oI A m)).length ≤ 16 := by rw [he]; omega
    have aj := mA (j + 1)
    have eI : td_oD A (j + 1) = (if A (j + 1) = 0 then [10 + (j + 1)] else []) ++ td_oD A j := rfl
    unfold wY_diff_166
    rw [yw_a10, nI_clamp (n := 10 + (j + 1)) (by omega), hA (j + 1) (by omega) (by omega)]
    refine br_f (nI_nlt (b := 1) (by omega) (by omega)) ⟨vp_in_nI (by omega) (by omega), pk_eq (A (j + 1)) 0 (fun c => ?_) (fun c => ?_)⟩
    · rw [if_pos c] at eI
      rw [eI, List.append_assoc, ← List.append_assoc] at he hlen
      rw [List.length_append, td_l1] at hlen
      refine nm_r (e' := nI (l ++ [10 + (j + 1)]).length) (by rw [nI_1, td_l1]) ?_
      rw [nI_clamp (by omega)]
      refine ⟨vp_in_nI (by omega) (by omega), nm_e (nm_r (pk_m1 j) (ih _ _ (by omega) he ?_))⟩
      have := ls_snoc (x := 10 + (j + 1)) hs
      rw [Nat.zero_add] at this
      exact this
    · rw [if_neg c, List.nil_append] at eI
      rw [eI] at he
      exact nm_r (pk_m1 j) (ih l op (by omega) he hs)
theorem yw_d85 {post : Int32 → SY → Prop} (E : (yw_E n m l1 l2 lb1 lb2 ylow ylab)) (hA : ∀ v, 1 ≤ v → v ≤ 8 → ymap (10 + v) = nI (A v)) (mA : ∀ v, A v ≤ m) (c1 : ycnt 1 = nI n) (c2 : ycnt 2 = nI m)
    (h : ∀ op, ls_h op 0 (td_OL A lb1 lb2 n m) → post 0 (ycap, yrel, ydel, yins, 1, nI (td_OL A lb1 lb2 n m).length, ypos, ylen, ycnt, yrts, ylow, ylab, ymap, op, ypic, yend, yout)) :
    ∀ k i op, i + k = n → ls_h op 0 (td_oR A lb1 lb2 i) →
      wY_diff_85 post ycap yrel ydel yins ydif ypos ylen (k + 1) (nI (i + 1)) (nI (td_oR A lb1 lb2 i).length) ycnt yrts ylow ylab ymap op ypic yend yout := by
  have hn := E.1
  have hm := E.2.1
  intro k
  induction k with
  | zero =>
    intro i op hi hs
    have ei : i = n := by omega
    subst ei
    unfold wY_diff_85
    rw [c1]
    exact br_t (nI_lt (by omega) (by omega)) (nm_e ⟨_, yw_d166 hn hm hA (fun v => Nat.le_trans (mA v) hm) c2 h i _ op (Nat.le_refl _) rfl hs⟩)
  | succ k ih =>
    intro i op hi hs
    have ai := mA (i + 1)
    have hlen := td_oRD (A := A) (lb1 := lb1) (lb2 := lb2) i
    have k1 := E.2.2.2.2.1 (i + 1) (by omega) (by omega)
    have eR : td_oR A lb1 lb2 (i + 1) = td_oR A lb1 lb2 i ++ (if A (i + 1) ≠ 0 ∧ lb1 (i + 1) ≠ lb2 (A (i + 1)) then [i + 1] else []) := rfl
    have nx : td_oR A lb1 lb2 (i + 1) = td_oR A lb1 lb2 i → wY_diff_85 post ycap yrel ydel yins ydif ypos ylen (k + 1) (nI (i + 1 + 1)) (nI (td_oR A lb1 lb2 i).length) ycnt yrts ylow ylab ymap op ypic yend yout := fun q => by
      have := ih (i + 1) op (by omega)
      rw [q] at this
      exact this hs
    unfold wY_diff_85
    rw [c1, yw_a10, nI_clamp (n := 10 + (i + 1)) (by omega), hA (i + 1) (by omega) (by omega)]
    refine br_f (nI_nlt (by omega) (by omega)) ⟨vp_in_nI (by omega) (by omega), pk_le (A (i + 1)) 0 (fun c => ?_) (fun c => ?_)⟩
    · rw [if_neg (fun q => q.1 (by omega)), List.append_nil] at eR
      exact nm_r (nI_1 _) (nx eR)
    · have k2 := E.2.2.2.2.2 (A (i + 1)) (by omega) ai
      rw [yw_a20, nI_clamp (n := 20 + A (i + 1)) (by omega), k1.2.1, k2.2.1]
      refine ⟨vp_in_nI (by omega) (by omega), vp_in_nI (by omega) (by omega), vp_in_nI (by omega) (by omega), pk_eq (lb1 (i + 1)) (lb2 (A (i + 1))) (fun c2 => ?_) (fun c2 => ?_)⟩
      · rw [if_neg (fun q => q.2 c2), List.append_nil] at eR
        exact nm_r (nI_1 _) (nx eR)
      · rw [if_pos ⟨by omega, c2⟩] at eR
        refine nm_r (e' := nI (td_oR A lb1 lb2 (i + 1)).length) (by rw [nI_1, eR, td_l1]) ?_
        rw [nI_clamp (by omega)]
        refine ⟨vp_in_nI (by omega) (by omega), nm_e (nm_r (nI_1 _) (ih (i + 1) _ (by omega) ?_))⟩
        have := ls_snoc (x := i + 1) hs
        rw [Nat.zero_add, ← eR] at this
        exact this
theorem yw_d50 {post : Int32 → SY → Prop} {C : Nat} (E : (yw_E n m l1 l2 lb1 lb2 ylow ylab)) (mA : ∀ v, A v ≤ m) (hC : C < 1000) (c1 : ycnt 1 = nI n) (c2 : ycnt 2 = nI m)
    (h : ∀ mp op, (∀ v, 1 ≤ v → v ≤ 8 → mp (10 + v) = nI (A v)) → (∀ k, 19 ≤ k → mp k = ymap k) → ls_h op 0 (td_OL A lb1 lb2 n m) → post 0 (ycap, yrel, ydel, yins, 1, nI (td_OL A lb1 lb2 n m).length, ypos, ylen, ycnt, yrts, ylow, ylab, mp, op, ypic, yend, yout)) :
    ∀ k u mp, u + k = 8 → (∀ v, 1 ≤ v → v ≤ u → mp (10 + v) = nI (A v)) → (∀ k, 19 ≤ k → mp k = ymap k) →
      wY_diff_50 post ycap yrel ydel yins ydif 0 ypos ylen (k + 1) (lN ((100000000 * C + td_dg A) / 10 ^ u)) (nI (u + 1)) ycnt yrts ylow ylab mp yop ypic yend yout := by
  have hm := E.2.1
  have mA8 : ∀ v, A v ≤ 8 := fun v => Nat.le_trans (mA v) hm
  have dl := td_dg_lt mA8
  intro k
  induction k with
  | zero =>
    intro u mp hu h1 h2
    have eu : u = 8 := by omega
    subst eu
    unfold wY_diff_50
    exact br_t (nI_lt (a := 8) (by omega) (by omega)) ⟨_, yw_d85 E h1 mA c1 c2 (fun op ho => h mp op h1 h2 ho) n 0 yop (by omega) trivial⟩
  | succ k ih =>
    intro u mp hu h1 h2
    have kl : (100000000 * C + td_dg A) / 10 ^ u ≤ 100000000 * C + td_dg A := Nat.div_le_self _ _
    have dg := td_digit (A := A) (C := C) mA8 (by omega : u < 8)
    have dd : (100000000 * C + td_dg A) / 10 ^ u / 10 = (100000000 * C + td_dg A) / 10 ^ (u + 1) := by
      rw [Nat.div_div_eq_div_mul, Nat.pow_succ]
    unfold wY_diff_50
    rw [yw_a10, nI_clamp (n := 10 + (u + 1)) (by omega), show lN ((100000000 * C + td_dg A) / 10 ^ u) - lN ((100000000 * C + td_dg A) / 10 ^ u) / 10 * 10 = lN ((100000000 * C + td_dg A) / 10 ^ u % 10) from pk_lRem (b := 10) (by omega) (by omega) (by omega), lN_i, dg, show lN ((100000000 * C + td_dg A) / 10 ^ u) / 10 = lN ((100000000 * C + td_dg A) / 10 ^ u / 10) from pk_lDiv (b := 10) (by omega) (by omega) (by omega), dd]
    refine br_f (nI_nlt (a := 8) (by omega) (by decide)) ⟨by decide, vp_in_nI (by omega) (by omega), nm_e (nm_r (nI_1 _) ⟨by decide, nm_e (ih (u + 1) _ (by omega) (fun v d1 d2 => ?_) (fun k hk => ?_))⟩)⟩
    · by_cases ev : v = u + 1
      · rw [ev, pk_us]
      · rw [pk_un (by omega)]
        exact h1 v d1 (by omega)
    · rw [pk_un (by omega)]
      exact h2 k hk
/-- diff: the reference keeps the same mapping and the same ops -/
theorem yw_diff {post : Int32 → SY → Prop} (E : (yw_E n m l1 l2 lb1 lb2 ylow ylab)) (hr : r ≤ 9) (hd : d ≤ 9) (he : e ≤ 9) (hn1 : 1 ≤ n) (hm1 : 1 ≤ m) (r1 : l1 n = 1) (r2 : l2 m = 1) (c1 : ycnt 1 = nI n) (c2 : ycnt 2 = nI m) (q1 : yrts 1 = 1) (q2 : yrts 2 = 1)
    (h : ∀ mp op, (∀ v, 1 ≤ v → v ≤ 8 → mp (10 + v) = nI ((td_M l1 l2 d e (td_rn r lb1 lb2)) 1 n 1 m v)) → (∀ k, 19 ≤ k → mp k = ymap k) → ls_h op 0 (td_OL ((td_M l1 l2 d e (td_rn r lb1 lb2)) 1 n 1 m) lb1 lb2 n m) → post 0 (ycap, nI r, nI d, nI e, 1, nI (td_OL ((td_M l1 l2 d e (td_rn r lb1 lb2)) 1 n 1 m) lb1 lb2 n m).length, ypos, ylen, ycnt, yrts, ylow, ylab, mp, op, ypic, yend, yout)) :
    wpY_diff post (ycap, nI r, nI d, nI e, 0, 0, ypos, ylen, ycnt, yrts, ylow, ylab, ymap, yop, ypic, yend, yout) := by
  have hV := td_M_V l1 l2 d e (td_rn r lb1 lb2) 1 n 1 m
  have hn := E.1
  have hm := E.2.1
  have mA : ∀ v, (td_M l1 l2 d e (td_rn r lb1 lb2)) 1 n 1 m v ≤ m := fun v => by
    by_cases c : (td_M l1 l2 d e (td_rn r lb1 lb2)) 1 n 1 m v = 0
    · omega
    · exact (hV.1 v c).2.2.2
  have bd := td_D_bd (l1 := l1) (l2 := l2) (rn := td_rn r lb1 lb2) (a := 1) (i := n) (b := 1) (j := m) hd he (by omega) (by omega) hn hm
  unfold wpY_diff
  refine br_t rfl ?_
  rw [q1, q2, c1, c2]
  refine br_t rfl (br_t rfl (yw_search E hr hd he hn1 (Nat.le_refl _) hm1 (Nat.le_refl _) fun mp hmp => ⟨8 + 1, ?_⟩))
  rw [r1, r2, td_kbD]
  have k := yw_d50 (A := (td_M l1 l2 d e (td_rn r lb1 lb2)) 1 n 1 m) (C := (td_D l1 l2 d e (td_rn r lb1 lb2)) 1 n 1 m) (ycap := ycap) (yrel := nI r) (ydel := nI d) (yins := nI e) (ydif := 0) (ypos := ypos) (ylen := ylen) (yrts := yrts) (ymap := mp) (yop := yop) (ypic := ypic) (yend := yend) (yout := yout) E mA (by omega) c1 c2 (fun mp' op d1 d2 d3 => h mp' op d1 (fun k hk => (d2 k hk).trans (hmp k (by omega))) d3) 8 0 mp rfl (fun v d1 d2 => by omega) (fun _ _ => rfl)
  rw [Nat.pow_zero, Nat.div_one] at k
  exact k
end
end
section
/-! the reference: put, show, above, place, script -/
def td_pc (P : Nat → Bool) (lb : Nat → Nat) (w : Nat) : Nat := if P w = true then 97 + lb w else 0
theorem td_pc_t {P : Nat → Bool} {lb : Nat → Nat} {w : Nat} (h : P w = true) : td_pc P lb w = 97 + lb w := if_pos h
theorem td_pc_f {P : Nat → Bool} {lb : Nat → Nat} {w : Nat} (h : ¬ P w = true) : td_pc P lb w = 0 := if_neg h
section
variable {n m : Nat} {l1 l2 lb1 lb2 lb A : Nat → Nat} {r d e a b i j x y N sd fr w : Nat} {tx l : List Nat} {ycap yrel ydel yins ydif ytot ypos ylen : Int32} {ycnt yrts ylow ylab ymap yop ypic yend yout : Nat → Int32}
theorem yw_put {post : SY → Prop} {c : Nat} {p0 : Int32} (hp : p0 = nI c) (hl : tx.length < 100) (hc : c < 65536) (hs : ls_h yout 0 tx) (h : ∀ o, ls_h o 0 (tx ++ [c]) → post (ycap, yrel, ydel, yins, ydif, ytot, ypos, nI (tx ++ [c]).length, ycnt, yrts, ylow, ylab, ymap, yop, ypic, yend, o)) : wpY_put post (ycap, yrel, ydel, yins, ydif, ytot, ypos, nI tx.length, ycnt, yrts, ylow, ylab, ymap, yop, ypic, yend, yout) p0 := by
  subst hp
  unfold wpY_put
  dsimp only
  rw [td_chr hc, nI_clamp (by omega)]
  refine br_f (nI_ge (b := 100) (by omega) (by decide)) (nm_r (e' := nI (tx ++ [c]).length) (by rw [nI_1, td_l1]) ⟨vp_in_nI hl (by omega), nm_e (h _ ?_)⟩)
  have := ls_snoc (x := c) hs
  rw [Nat.zero_add] at this
  exact this
theorem yw_sh2 {post : SY → Prop} (hsd : sd ≤ 2) (hN : N ≤ 8) (hfr : fr ≤ 100) (hc : ycnt sd = nI N) (hlab : ∀ w, 1 ≤ w → w ≤ N → ylab (sd * 10 + w) = nI (lb w)) (hA : ∀ v, 1 ≤ v → v ≤ 8 → ymap (10 + v) = nI (A v)) (mA : ∀ v, A v ≤ 8)
    (h : ∀ pic, (∀ w, 1 ≤ w → w ≤ 8 → pic w = nI (td_pc (td_Ps A N fr) lb w)) → post (ycap, yrel, ydel, yins, ydif, ytot, ypos, ylen, ycnt, yrts, ylow, ylab, ymap, yop, pic, yend, yout)) :
    ∀ k u pic, u + k = 8 → (∀ w, 1 ≤ w → w ≤ u → pic w = nI (td_pc (td_Ps A N fr) lb w)) →
      wY_show_2 post (nI sd) (nI fr) ycap yrel ydel yins ydif ytot ypos ylen (k + 1) (nI (u + 1)) ycnt yrts ylow ylab ymap yop pic yend yout := by
  intro k
  induction k with
  | zero =>
    intro u pic hu hp
    have eu : u = 8 := by omega
    subst eu
    unfold wY_show_2
    exact br_t (nI_lt (a := 8) (by omega) (by omega)) (h pic hp)
  | succ k ih =>
    intro u pic hu hp
    have nx : ∀ z, z = nI (td_pc (td_Ps A N fr) lb (u + 1)) → wY_show_2 post (nI sd) (nI fr) ycap yrel ydel yins ydif ytot ypos ylen (k + 1) (nI (u + 1 + 1)) ycnt yrts ylow ylab ymap yop (upd pic (u + 1) z) yend yout := fun z hz => by
      refine ih (u + 1) _ (by omega) fun w w1 w2 => ?_
      by_cases ew : w = u + 1
      · rw [ew, pk_us, hz]
      · rw [pk_un ew]
        exact hp w w1 (by omega)
    have big : u + 1 ≤ N → td_Ps A N fr (u + 1) = true → wY_show_38 post (wY_show_2 post (nI sd) (nI fr) ycap yrel ydel yins ydif ytot ypos ylen (k + 1)) (nI sd) (nI fr) (nI (u + 1)) (nI (u + 1)) ycap yrel ydel yins ydif ytot ypos ylen ycnt yrts ylow ylab ymap yop pic yend yout := fun q1 q2 => by
      unfold wY_show_38
      rw [show nI sd * 10 + nI (u + 1) = nI (sd * 10 + (u + 1)) by rw [show (10 : Int32) = nI 10 from rfl, pk_mul, nI_add], nI_clamp (n := sd * 10 + (u + 1)) (by omega), nI_clamp (n := u + 1) (by omega), hlab (u + 1) (by omega) q1]
      exact ⟨vp_in_nI (by omega) (by omega), vp_in_nI (by omega) (by omega), nm_e (nm_r (nI_1 _) (nx _ (by rw [td_pc_t q2]; exact nI_add 97 _)))⟩
    unfold wY_show_2
    rw [nI_clamp (n := sd) (by omega), hc, nI_clamp (n := u + 1) (by omega)]
    refine br_f (nI_nlt (a := 8) (by omega) (by decide)) ⟨vp_in_nI (by omega) (by omega), pk_lt N (u + 1) (fun c => ⟨vp_in_nI (by omega) (by omega), nm_e (nm_r (nI_1 _) (nx _ ?_))⟩) (fun c => pk_lt fr (u + 1) (fun c2 => big c (td_Ps_i.mpr ⟨c, Or.inl c2⟩)) (fun c2 => yw_source (bs := 10) (by omega) (by omega) hA (fun v _ _ => Nat.le_trans (mA v) (by omega)) ?_))⟩
    · rw [td_pc_f (fun z => by have := (td_Ps_i.mp z).1; omega)]
      rfl
    · have sb : td_src A (u + 1) ≤ 8 := by
        by_cases q : td_src A (u + 1) = 0
        · omega
        · exact (td_src_s q).2.1
      refine pk_le (td_src A (u + 1)) 0 (fun c3 => ⟨vp_in_nI (by omega) (by omega), nm_e (nm_r (nI_1 _) (nx _ ?_))⟩) (fun c3 => big c (td_Ps_i.mpr ⟨c, Or.inr (by omega)⟩))
      rw [td_pc_f (fun z => by have := (td_Ps_i.mp z).2; omega)]
      rfl
theorem yw_show {post : SY → Prop} (hsd : sd ≤ 2) (hN : N ≤ 8) (hfr : fr ≤ 100) (hc : ycnt sd = nI N) (hlab : ∀ w, 1 ≤ w → w ≤ N → ylab (sd * 10 + w) = nI (lb w)) (hA : ∀ v, 1 ≤ v → v ≤ 8 → ymap (10 + v) = nI (A v)) (mA : ∀ v, A v ≤ 8)
    (h : ∀ pic, (∀ w, 1 ≤ w → w ≤ 8 → pic w = nI (td_pc (td_Ps A N fr) lb w)) → post (ycap, yrel, ydel, yins, ydif, ytot, ypos, ylen, ycnt, yrts, ylow, ylab, ymap, yop, pic, yend, yout)) : wpY_show post (ycap, yrel, ydel, yins, ydif, ytot, ypos, ylen, ycnt, yrts, ylow, ylab, ymap, yop, ypic, yend, yout) (nI sd) (nI fr) := by
  unfold wpY_show
  exact ⟨_, yw_sh2 hsd hN hfr hc hlab hA mA h 8 0 ypic rfl (fun w h1 h2 => by omega)⟩
theorem yw_ab4 {post : Int32 → Prop} {P : Nat → Bool} (E : (yw_E n m l1 l2 lb1 lb2 ylow ylab)) (hP : ∀ w, P w = true → w ≤ m) (hw : w ≤ 8) (hpic : ∀ w, 1 ≤ w → w ≤ 8 → ypic w = nI (td_pc P lb2 w)) :
    ∀ k z, z + k = 9 → w < z → post (nI (td_fd (fun p => P p && decide (l2 p ≤ w)) z k)) → wY_above_4 post (nI w) ycap yrel ydel yins ydif ytot ypos ylen ycnt yrts ylow ylab ymap yop ypic yend yout (k + 1) (nI z) := by
  have hm := E.2.1
  intro k
  induction k with
  | zero =>
    intro z hz hwz h
    unfold wY_above_4
    exact br_t (nI_lt (a := 8) (by omega) (by omega)) h
  | succ k ih =>
    intro z hz hwz h
    unfold td_fd at h
    have pb : td_pc P lb2 z < 1000 := by
      unfold td_pc
      split
      · rename_i q
        have := (E.2.2.2.2.2 z (by omega) (hP z q)).2.2
        omega
      · omega
    unfold wY_above_4
    rw [nI_clamp (n := z) (by omega), hpic z (by omega) (by omega)]
    refine br_f (nI_nlt (a := 8) (by omega) (by decide)) ⟨vp_in_nI (by omega) (by omega), pk_le (td_pc P lb2 z) 0 (fun c => ?_) (fun c => ?_)⟩
    · have q : ¬ P z = true := fun q => by
        rw [td_pc_t q] at c
        omega
      rw [if_neg (by simp [q])] at h
      exact nm_r (nI_1 z) (ih (z + 1) (by omega) (by omega) h)
    · have q : P z = true := by
        by_cases q : P z = true
        · exact q
        · rw [td_pc_f q] at c
          omega
      refine yw_anc2 E (by omega) (hP z q) (by omega) (br_c (fun c2 => ?_) (fun c2 => ?_))
      · have c3 := td_b_0.mp c2
        rw [if_neg (by simp [q]; omega)] at h
        exact nm_r (nI_1 z) (ih (z + 1) (by omega) (by omega) h)
      · have c3 : l2 z ≤ w := by
          apply Classical.byContradiction
          intro c4
          exact c2 (td_b_0.mpr (by omega))
        rw [if_pos (by simp [q, c3])] at h
        exact h
theorem yw_above {post : Int32 → Prop} {P : Nat → Bool} (E : (yw_E n m l1 l2 lb1 lb2 ylow ylab)) (hP : ∀ w, P w = true → w ≤ m) (hw : w ≤ 8) (hpic : ∀ w, 1 ≤ w → w ≤ 8 → ypic w = nI (td_pc P lb2 w)) (h : post (nI (td_up P l2 w))) : wpY_above post (ycap, yrel, ydel, yins, ydif, ytot, ypos, ylen, ycnt, yrts, ylow, ylab, ymap, yop, ypic, yend, yout) (nI w) := by
  unfold wpY_above
  exact nm_r (nI_1 w) ⟨_, yw_ab4 E hP hw hpic (8 - w) (w + 1) (by omega) (by omega) h⟩
theorem yw_pl98 {post : SY → Prop} {J23 : Int32 → Int32 → Int32 → Int32 → Prop} {q f c : Nat} {x2 z : Int32} {ch : Prop} [Decidable ch] (E : (yw_E n m l1 l2 lb1 lb2 ylow ylab)) (hj1 : 1 ≤ j) (hj : j ≤ m) (hw : w ≤ 8) (hz : z = td_b ch)
    (h : J23 (nI q) (nI f) (nI (c + if ch ∧ l2 j ≤ w ∧ w < j then 1 else 0)) (nI (w + 1))) : wY_place_98 post J23 (nI j) x2 (nI q) (nI f) (nI c) (nI w) z ycap yrel ydel yins ydif ytot ypos ylen ycnt yrts ylow ylab ymap yop ypic yend yout := by
  subst hz
  unfold wY_place_98
  by_cases hc : ch
  · refine br_f (fun z => td_b_0.mp z hc) (yw_anc2 E hj1 hj (by omega) (br_c (fun c2 => ?_) (fun c2 => ?_)))
    · rw [if_neg (fun z => td_b_0.mp c2 z.2), Nat.add_zero] at h
      exact nm_r (nI_1 w) h
    · rw [if_pos ⟨hc, Classical.byContradiction fun z => c2 (td_b_0.mpr z)⟩] at h
      exact nm_r (nI_1 c) (nm_r (nI_1 w) h)
  · rw [if_neg (fun z => hc z.1), Nat.add_zero] at h
    exact br_t (td_b_0.mpr hc) (nm_r (nI_1 w) h)
theorem yw_pl76 {post : SY → Prop} {J23 : Int32 → Int32 → Int32 → Int32 → Prop} {q f c : Nat} {x2 z : Int32} {ch : Prop} [Decidable ch] (E : (yw_E n m l1 l2 lb1 lb2 ylow ylab)) (hj1 : 1 ≤ j) (hj : j ≤ m) (hw : w ≤ 8) (hz : z = td_b ch)
    (h : J23 (nI q) (nI (f + if ch ∧ w < l2 j then 1 else 0)) (nI (c + if ch ∧ l2 j ≤ w ∧ w < j then 1 else 0)) (nI (w + 1))) : wY_place_76 post J23 (nI j) x2 (nI q) (nI f) (nI c) (nI w) z ycap yrel ydel yins ydif ytot ypos ylen ycnt yrts ylow ylab ymap yop ypic yend yout := by
  have hm := E.2.1
  have Lj := E.2.2.2.1 j hj1 hj
  have k2 := (E.2.2.2.2.2 j hj1 hj).1
  unfold wY_place_76
  by_cases hc : ch
  · rw [yw_a20, nI_clamp (n := 20 + j) (by omega), k2]
    refine br_f (fun y => td_b_0.mp (hz ▸ y) hc) ⟨vp_in_nI (by omega) (by omega), pk_le (l2 j) w (fun c2 => ?_) (fun c2 => ?_)⟩
    · rw [if_neg (by omega), Nat.add_zero] at h
      exact yw_pl98 E hj1 hj hw hz h
    · rw [if_pos ⟨hc, c2⟩] at h
      exact nm_r (nI_1 f) (yw_pl98 E hj1 hj hw hz h)
  · rw [if_neg (fun y => hc y.1), Nat.add_zero] at h
    exact br_t (hz.trans (td_b_0.mpr hc)) (yw_pl98 E hj1 hj hw hz h)
theorem yw_pl55 {post : SY → Prop} {J23 : Int32 → Int32 → Int32 → Int32 → Prop} {q f c p : Nat} {P : Nat → Bool} {z : Int32} {ch : Prop} [Decidable ch] (E : (yw_E n m l1 l2 lb1 lb2 ylow ylab)) (hP : ∀ w, P w = true → w ≤ m) (hj1 : 1 ≤ j) (hj : j ≤ m) (hw1 : 1 ≤ w) (hw : w ≤ 8) (hp : p ≤ 8) (hz : z = td_b ch) (hpic : ∀ w, 1 ≤ w → w ≤ 8 → ypic w = nI (td_pc P lb2 w))
    (h : J23 (nI (q + if P w = true ∧ w ≤ p then 1 else 0)) (nI (f + if ch ∧ w < l2 j then 1 else 0)) (nI (c + if ch ∧ l2 j ≤ w ∧ w < j then 1 else 0)) (nI (w + 1))) : wY_place_55 post J23 (nI j) (nI p) (nI q) (nI f) (nI c) (nI w) z ycap yrel ydel yins ydif ytot ypos ylen ycnt yrts ylow ylab ymap yop ypic yend yout := by
  have pb : td_pc P lb2 w < 1000 := by
    unfold td_pc
    split
    · rename_i g
      have := (E.2.2.2.2.2 w hw1 (hP w g)).2.2
      omega
    · omega
  unfold wY_place_55
  rw [nI_clamp (n := w) (by omega), hpic w hw1 hw]
  refine ⟨vp_in_nI (by omega) (by omega), pk_le (td_pc P lb2 w) 0 (fun c1 => ?_) (fun c1 => pk_lt p w (fun c2 => ?_) (fun c2 => ?_))⟩
  · have g : ¬ P w = true := fun g => by
      rw [td_pc_t g] at c1
      omega
    rw [if_neg (fun y => g y.1), Nat.add_zero] at h
    exact yw_pl76 E hj1 hj hw hz h
  · rw [if_neg (by omega), Nat.add_zero] at h
    exact yw_pl76 E hj1 hj hw hz h
  · have g : P w = true := by
      by_cases g : P w = true
      · exact g
      · rw [td_pc_f g] at c1
        omega
    rw [if_pos ⟨g, c2⟩] at h
    exact nm_r (nI_1 q) (yw_pl76 E hj1 hj hw hz h)
end
end
section
/-! the reference: place, script -/
section
variable {n m : Nat} {l1 l2 lb1 lb2 lb A : Nat → Nat} {r d e a b i j x y N sd fr w : Nat} {tx l : List Nat} {ycap yrel ydel yins ydif ytot ypos ylen : Int32} {ycnt yrts ylow ylab ymap yop ypic yend yout : Nat → Int32}
theorem yw_pl23 {post : SY → Prop} (E : (yw_E n m l1 l2 lb1 lb2 ylow ylab)) (hj1 : 1 ≤ j) (hj : j ≤ m) (hpic : ∀ w, 1 ≤ w → w ≤ 8 → ypic w = nI (td_pc (td_Ps A m j) lb2 w)) (hl : tx.length + 3 ≤ 100) (hs : ls_h yout 0 tx)
    (h : ∀ o, ls_h o 0 (tx ++ [48 + td_S (td_one (td_iq A m j (td_up (td_Ps A m j) l2 j))) 1 8] ++ [48 + (1 + td_S (td_one (td_if A l2 m j (td_up (td_Ps A m j) l2 j))) 1 8)] ++ [48 + td_S (td_one (td_ic A l2 m j (td_up (td_Ps A m j) l2 j))) 1 8]) → post (ycap, yrel, ydel, yins, ydif, ytot, ypos, nI (tx ++ [48 + td_S (td_one (td_iq A m j (td_up (td_Ps A m j) l2 j))) 1 8] ++ [48 + (1 + td_S (td_one (td_if A l2 m j (td_up (td_Ps A m j) l2 j))) 1 8)] ++ [48 + td_S (td_one (td_ic A l2 m j (td_up (td_Ps A m j) l2 j))) 1 8]).length, ycnt, yrts, ylow, ylab, ymap, yop, ypic, yend, o)) :
    ∀ k u, u + k = 8 → wY_place_23 post (nI j) (nI (td_up (td_Ps A m j) l2 j)) ycap yrel ydel yins ydif ytot ypos (nI tx.length) ycnt yrts ylow ylab ymap yop ypic yend yout (k + 1) (nI (td_S (td_one (td_iq A m j (td_up (td_Ps A m j) l2 j))) 1 u)) (nI (1 + td_S (td_one (td_if A l2 m j (td_up (td_Ps A m j) l2 j))) 1 u)) (nI (td_S (td_one (td_ic A l2 m j (td_up (td_Ps A m j) l2 j))) 1 u)) (nI (u + 1)) := by
  have hm := E.2.1
  have q8 := td_one8 (td_iq A m j (td_up (td_Ps A m j) l2 j))
  have f8 := td_one8 (td_if A l2 m j (td_up (td_Ps A m j) l2 j))
  have c8 := td_one8 (td_ic A l2 m j (td_up (td_Ps A m j) l2 j))
  have hP : ∀ w, td_Ps A m j w = true → w ≤ m := fun w z => (td_Ps_i.mp z).1
  have pb : ∀ w, td_up (td_Ps A m j) l2 w ≤ 8 := fun w => by
    rcases td_up_s (td_Ps A m j) l2 w with ⟨a1, a2⟩ | ⟨a1, a2, a3, a4, a5⟩ <;> omega
  intro k
  induction k with
  | zero =>
    intro u hu
    have eu : u = 8 := by omega
    subst eu
    unfold wY_place_23
    refine br_t (nI_lt (a := 8) (by omega) (by omega)) ?_
    refine yw_put (nI_add 48 _) (by omega) (by omega) hs fun o1 h1 => ?_
    refine yw_put (nI_add 48 _) (by rw [td_l1]; omega) (by omega) h1 fun o2 h2 => ?_
    refine yw_put (nI_add 48 _) (by rw [td_l1, td_l1]; omega) (by omega) h2 fun o3 h3 => ?_
    exact h o3 h3
  | succ k ih =>
    intro u hu
    have kk := ih (u + 1) (by omega)
    rw [td_S_s (a := 1) (by omega), td_S_s (f := td_one (td_if A l2 m j (td_up (td_Ps A m j) l2 j))) (a := 1) (by omega), td_S_s (f := td_one (td_ic A l2 m j (td_up (td_Ps A m j) l2 j))) (a := 1) (by omega), ← Nat.add_assoc] at kk
    have e1 : td_one (td_iq A m j (td_up (td_Ps A m j) l2 j)) (u + 1) = if td_Ps A m j (u + 1) = true ∧ u + 1 ≤ td_up (td_Ps A m j) l2 j then 1 else 0 := by
      unfold td_one td_iq
      simp only [Bool.and_eq_true, decide_eq_true_eq]
    rw [e1] at kk
    have ch : ∀ ch : Prop, ∀ [Decidable ch], (ch ↔ td_Ps A m j (u + 1) = true ∧ td_up (td_Ps A m j) l2 (u + 1) = td_up (td_Ps A m j) l2 j) → ∀ z, z = td_b ch → wY_place_55 post (wY_place_23 post (nI j) (nI (td_up (td_Ps A m j) l2 j)) ycap yrel ydel yins ydif ytot ypos (nI tx.length) ycnt yrts ylow ylab ymap yop ypic yend yout (k + 1)) (nI j) (nI (td_up (td_Ps A m j) l2 j)) (nI (td_S (td_one (td_iq A m j (td_up (td_Ps A m j) l2 j))) 1 u)) (nI (1 + td_S (td_one (td_if A l2 m j (td_up (td_Ps A m j) l2 j))) 1 u)) (nI (td_S (td_one (td_ic A l2 m j (td_up (td_Ps A m j) l2 j))) 1 u)) (nI (u + 1)) z ycap yrel ydel yins ydif ytot ypos (nI tx.length) ycnt yrts ylow ylab ymap yop ypic yend yout := by
      intro ch _ hch z hz
      have e2 : td_one (td_if A l2 m j (td_up (td_Ps A m j) l2 j)) (u + 1) = if ch ∧ u + 1 < l2 j then 1 else 0 := by
        by_cases q : ch ∧ u + 1 < l2 j
        · rw [if_pos q, td_one_t (td_if_i.mpr ⟨(hch.mp q.1).1, (hch.mp q.1).2, q.2⟩)]
        · rw [if_neg q, td_one_f (fun z => q ⟨hch.mpr ⟨(td_if_i.mp z).1, (td_if_i.mp z).2.1⟩, (td_if_i.mp z).2.2⟩)]
      have e3 : td_one (td_ic A l2 m j (td_up (td_Ps A m j) l2 j)) (u + 1) = if ch ∧ l2 j ≤ u + 1 ∧ u + 1 < j then 1 else 0 := by
        by_cases q : ch ∧ l2 j ≤ u + 1 ∧ u + 1 < j
        · rw [if_pos q, td_one_t (td_ic_i.mpr ⟨(hch.mp q.1).1, (hch.mp q.1).2, q.2⟩)]
        · rw [if_neg q, td_one_f (fun z => q ⟨hch.mpr ⟨(td_ic_i.mp z).1, (td_ic_i.mp z).2.1⟩, (td_ic_i.mp z).2.2⟩)]
      rw [e2, e3] at kk
      exact yw_pl55 E hP hj1 hj (by omega) (by omega) (pb j) hz hpic kk
    have pw : td_pc (td_Ps A m j) lb2 (u + 1) < 1000 := by
      unfold td_pc
      split
      · rename_i g
        have := (E.2.2.2.2.2 (u + 1) (by omega) (hP _ g)).2.2
        omega
      · omega
    unfold wY_place_23
    rw [nI_clamp (n := u + 1) (by omega), hpic (u + 1) (by omega) (by omega)]
    refine br_f (nI_nlt (a := 8) (by omega) (by decide)) ⟨vp_in_nI (by omega) (by omega), pk_le (td_pc (td_Ps A m j) lb2 (u + 1)) 0 (fun c => ?_) (fun c => ?_)⟩
    · have g : ¬ td_Ps A m j (u + 1) = true := fun g => by
        rw [td_pc_t g] at c
        omega
      unfold wY_place_54
      exact ch False ⟨fun z => z.elim, fun z => g z.1⟩ 0 rfl
    · have g : td_Ps A m j (u + 1) = true := by
        by_cases g : td_Ps A m j (u + 1) = true
        · exact g
        · rw [td_pc_f g] at c
          omega
      refine yw_above E hP (by omega) hpic ?_
      have p1 := pb (u + 1)
      have p2 := pb j
      refine pk_eq (td_up (td_Ps A m j) l2 (u + 1)) (td_up (td_Ps A m j) l2 j) (fun c2 => ?_) (fun c2 => ?_)
      · exact ch True ⟨fun _ => ⟨g, c2⟩, fun _ => trivial⟩ 1 rfl
      · unfold wY_place_54
        exact ch False ⟨fun z => z.elim, fun z => c2 z.2⟩ 0 rfl
theorem yw_place {post : SY → Prop} (E : (yw_E n m l1 l2 lb1 lb2 ylow ylab)) (c2 : ycnt 2 = nI m) (hj1 : 1 ≤ j) (hj : j ≤ m) (hA : ∀ v, 1 ≤ v → v ≤ 8 → ymap (10 + v) = nI (A v)) (mA : ∀ v, A v ≤ 8) (hl : tx.length + 3 ≤ 100) (hs : ls_h yout 0 tx)
    (h : ∀ pic o, ls_h o 0 (tx ++ [48 + td_S (td_one (td_iq A m j (td_up (td_Ps A m j) l2 j))) 1 8] ++ [48 + (1 + td_S (td_one (td_if A l2 m j (td_up (td_Ps A m j) l2 j))) 1 8)] ++ [48 + td_S (td_one (td_ic A l2 m j (td_up (td_Ps A m j) l2 j))) 1 8]) → post (ycap, yrel, ydel, yins, ydif, ytot, ypos, nI (tx ++ [48 + td_S (td_one (td_iq A m j (td_up (td_Ps A m j) l2 j))) 1 8] ++ [48 + (1 + td_S (td_one (td_if A l2 m j (td_up (td_Ps A m j) l2 j))) 1 8)] ++ [48 + td_S (td_one (td_ic A l2 m j (td_up (td_Ps A m j) l2 j))) 1 8]).length, ycnt, yrts, ylow, ylab, ymap, yop, pic, yend, o)) :
    wpY_place post (ycap, yrel, ydel, yins, ydif, ytot, ypos, nI tx.length, ycnt, yrts, ylow, ylab, ymap, yop, ypic, yend, yout) (nI j) := by
  have hm := E.2.1
  have hP : ∀ w, td_Ps A m j w = true → w ≤ m := fun w z => (td_Ps_i.mp z).1
  unfold wpY_place
  refine yw_show (sd := 2) (N := m) (lb := lb2) (A := A) (by omega) hm (by omega) c2 (fun w w1 w2 => (E.2.2.2.2.2 w w1 w2).2.1) hA mA fun pic hpic => ?_
  refine yw_above E hP (by omega) hpic ⟨_, yw_pl23 E hj1 hj hpic hl hs (h pic) 8 0 rfl⟩
theorem yw_sc130 {post : SY → Prop} {J2 : Int32 → Int32 → Int32 → Int32 → Int32 → Int32 → Int32 → Int32 → Int32 → (Nat → Int32) → (Nat → Int32) → (Nat → Int32) → (Nat → Int32) → (Nat → Int32) → (Nat → Int32) → (Nat → Int32) → (Nat → Int32) → (Nat → Int32) → Prop} {k : Nat}
    (hl : tx.length < 100) (hs : ls_h yout 0 tx) (h : ∀ o, ls_h o 0 (tx ++ [59]) → J2 (nI (k + 1)) ycap yrel ydel yins ydif ytot ypos (nI (tx ++ [59]).length) ycnt yrts ylow ylab ymap yop ypic yend o) : wY_script_130 post J2 (nI k) ycap yrel ydel yins ydif ytot ypos (nI tx.length) ycnt yrts ylow ylab ymap yop ypic yend yout := by
  unfold wY_script_130
  exact yw_put (c := 59) rfl hl (by omega) hs fun o ho => nm_r (nI_1 k) (h o ho)
theorem yw_sc110 {post : SY → Prop} {J2 : Int32 → Int32 → Int32 → Int32 → Int32 → Int32 → Int32 → Int32 → Int32 → (Nat → Int32) → (Nat → Int32) → (Nat → Int32) → (Nat → Int32) → (Nat → Int32) → (Nat → Int32) → (Nat → Int32) → (Nat → Int32) → (Nat → Int32) → Prop} {k x : Nat} (E : (yw_E n m l1 l2 lb1 lb2 ylow ylab)) (hx1 : 1 ≤ x) (hx : x ≤ m)
    (hl : tx.length + 1 < 100) (hs : ls_h yout 0 tx) (h : ∀ o, ls_h o 0 (tx ++ [97 + lb2 x] ++ [59]) → J2 (nI (k + 1)) ycap yrel ydel yins ydif ytot ypos (nI (tx ++ [97 + lb2 x] ++ [59]).length) ycnt yrts ylow ylab ymap yop ypic yend o) : wY_script_110 post J2 (nI k) (nI x) ycap yrel ydel yins ydif ytot ypos (nI tx.length) ycnt yrts ylow ylab ymap yop ypic yend yout := by
  have hm := E.2.1
  have k2 := E.2.2.2.2.2 x hx1 hx
  unfold wY_script_110
  refine br_f (nI_nle (by omega) (by omega)) ?_
  rw [yw_a20, nI_clamp (n := 20 + x) (by omega), k2.2.1]
  refine ⟨vp_in_nI (by omega) (by omega), yw_put (nI_add 97 _) (by omega) (by omega) hs fun o ho => yw_sc130 (by rw [td_l1]; omega) ho h⟩
/-- one op's text -/
theorem yw_scop {post : SY → Prop} {J2 : Int32 → Int32 → Int32 → Int32 → Int32 → Int32 → Int32 → Int32 → Int32 → (Nat → Int32) → (Nat → Int32) → (Nat → Int32) → (Nat → Int32) → (Nat → Int32) → (Nat → Int32) → (Nat → Int32) → (Nat → Int32) → (Nat → Int32) → Prop} {k o v x : Nat} (E : (yw_E n m l1 l2 lb1 lb2 ylow ylab)) (c2 : ycnt 2 = nI m) (hk : k < 24) (ho : o < 29) (hop : yop k = nI o)
    (hA : ∀ v, 1 ≤ v → v ≤ 8 → ymap (10 + v) = nI (A v)) (mA : ∀ v, A v ≤ 8)
    (cs : (1 ≤ o ∧ o < 10 ∧ v = o ∧ x = A o ∧ 1 ≤ x ∧ x ≤ m) ∨ (11 ≤ o ∧ o < 20 ∧ v = o - 10 ∧ x = 0) ∨ (21 ≤ o ∧ v = o - 20 ∧ x = v ∧ v ≤ m))
    (hl : tx.length + 6 ≤ 100) (hs : ls_h yout 0 tx) (h : ∀ pic out, ls_h out 0 (tx ++ td_tx A l2 lb2 m o) → J2 (nI (k + 1)) ycap yrel ydel yins ydif ytot ypos (nI (tx ++ td_tx A l2 lb2 m o).length) ycnt yrts ylow ylab ymap yop pic yend out) : wY_script_44 post J2 (nI k) (nI v) (nI x) ycap yrel ydel yins ydif ytot ypos (nI tx.length) ycnt yrts ylow ylab ymap yop ypic yend yout := by
  have hm := E.2.1
  unfold wY_script_44
  rw [nI_clamp (n := k) (by omega), hop]
  refine ⟨vp_in_nI (by omega) (by omega), ?_⟩
  rcases cs with ⟨d1, d2, d3, d4, d5, d6⟩ | ⟨d1, d2, d3, d4⟩ | ⟨d1, d3, d4, d5⟩
  · have et : td_tx A l2 lb2 m o = [82, 48 + o, 97 + lb2 (A o), 59] := if_pos d2
    rw [et] at h
    refine br_f (nI_ge (b := 10) d2 (by decide)) ?_
    unfold wY_script_80
    refine yw_put (c := 82) rfl (by omega) (by omega) hs fun o1 h1 => ?_
    dsimp only
    rw [nI_clamp (n := k) (by omega), hop]
    refine ⟨vp_in_nI (by omega) (by omega), br_f (nI_ge (b := 20) (by omega) (by decide)) (yw_put (nI_add 48 v) (by rw [td_l1]; omega) (by omega) h1 fun o2 h2 => ?_)⟩
    refine yw_sc110 E d5 d6 (by rw [td_l1, td_l1]; omega) h2 fun o3 h3 => ?_
    have e1 : tx ++ [82] ++ [48 + v] ++ [97 + lb2 x] ++ [59] = tx ++ [82, 48 + o, 97 + lb2 (A o), 59] := by rw [d3, d4]; simp
    rw [e1] at h3 ⊢
    exact h _ o3 h3
  · have et : td_tx A l2 lb2 m o = [68, 48 + (o - 10), 59] := by
      unfold td_tx
      rw [if_neg (by omega), if_pos d2]
    rw [et] at h
    refine br_t (nI_le (a := 10) (by omega) (by omega)) ⟨vp_in_nI (by omega) (by omega), br_f (nI_ge (b := 20) (by omega) (by decide)) ?_⟩
    unfold wY_script_80
    refine yw_put (c := 68) rfl (by omega) (by omega) hs fun o1 h1 => ?_
    dsimp only
    rw [nI_clamp (n := k) (by omega), hop]
    refine ⟨vp_in_nI (by omega) (by omega), br_f (nI_ge (b := 20) (by omega) (by decide)) (yw_put (nI_add 48 v) (by rw [td_l1]; omega) (by omega) h1 fun o2 h2 => ?_)⟩
    unfold wY_script_110
    rw [d4]
    refine br_t (nI_le (a := 0) (b := 0) (Nat.le_refl _) (by omega)) (yw_sc130 (by rw [td_l1, td_l1]; omega) h2 fun o3 h3 => ?_)
    have e1 : tx ++ [68] ++ [48 + v] ++ [59] = tx ++ [68, 48 + (o - 10), 59] := by rw [d3]; simp
    rw [e1] at h3 ⊢
    exact h _ o3 h3
  · have et : td_tx A l2 lb2 m o = [73, 48 + td_S (td_one (td_iq A m v (td_up (td_Ps A m v) l2 v))) 1 8, 48 + (1 + td_S (td_one (td_if A l2 m v (td_up (td_Ps A m v) l2 v))) 1 8), 48 + td_S (td_one (td_ic A l2 m v (td_up (td_Ps A m v) l2 v))) 1 8, 97 + lb2 v, 59] := by
      unfold td_tx
      rw [if_neg (by omega), if_neg (by omega), ← d3]
    rw [et] at h
    refine br_t (nI_le (a := 10) (by omega) (by omega)) ⟨vp_in_nI (by omega) (by omega), br_t (nI_le (a := 20) (by omega) (by omega)) ?_⟩
    unfold wY_script_80
    refine yw_put (c := 73) rfl (by omega) (by omega) hs fun o1 h1 => ?_
    dsimp only
    rw [nI_clamp (n := k) (by omega), hop]
    refine ⟨vp_in_nI (by omega) (by omega), br_t (nI_le (a := 20) (by omega) (by omega)) (yw_place (A := A) E c2 (by omega) d5 hA mA (by rw [td_l1]; omega) h1 fun pic o2 h2 => ?_)⟩
    refine yw_sc110 E (by omega) (by omega) (by rw [td_l1, td_l1, td_l1, td_l1]; omega) h2 fun o3 h3 => ?_
    rw [d4] at h3 ⊢
    have e1 : ∀ a b c d : Nat, tx ++ [73] ++ [a] ++ [b] ++ [c] ++ [d] ++ [59] = tx ++ [73, a, b, c, d, 59] := fun a b c d => by simp
    rw [e1] at h3 ⊢
    exact h pic o3 h3
theorem yw_sc2 {post : SY → Prop} (E : (yw_E n m l1 l2 lb1 lb2 ylow ylab)) (c2 : ycnt 2 = nI m) (hA : ∀ v, 1 ≤ v → v ≤ 8 → ymap (10 + v) = nI (A v)) (mA : ∀ v, A v ≤ m) (ho : ls_h yop 0 (td_OL A lb1 lb2 n m))
    (h : ∀ pic out, ls_h out 0 ((td_OL A lb1 lb2 n m).flatMap (td_tx A l2 lb2 m)) → post (ycap, yrel, ydel, yins, ydif, nI (td_OL A lb1 lb2 n m).length, ypos, nI ((td_OL A lb1 lb2 n m).flatMap (td_tx A l2 lb2 m)).length, ycnt, yrts, ylow, ylab, ymap, yop, pic, yend, out)) :
    ∀ rest l pic out, l ++ rest = td_OL A lb1 lb2 n m → ls_h out 0 (l.flatMap (td_tx A l2 lb2 m)) →
      wY_script_2 post (rest.length + 1) (nI l.length) ycap yrel ydel yins ydif (nI (td_OL A lb1 lb2 n m).length) ypos (nI (l.flatMap (td_tx A l2 lb2 m)).length) ycnt yrts ylow ylab ymap yop pic yend out := by
  have hn := E.1
  have hm := E.2.1
  have hOL := td_OL_len (A := A) (lb1 := lb1) (lb2 := lb2) n m
  intro rest
  induction rest with
  | nil =>
    intro l pic out he hs
    have el : l = td_OL A lb1 lb2 n m := by
      rw [← he]
      exact (List.append_nil l).symm
    subst el
    unfold wY_script_2
    exact br_t (nI_le (Nat.le_refl _) (by omega)) (h pic out hs)
  | cons o rest ih =>
    intro l pic out he hs
    have hlen : (l ++ o :: rest).length ≤ 16 := by rw [he]; omega
    have hfb := td_fm_b (f := td_tx A l2 lb2 m) (l := l) (k := o :: rest) td_tx_len hlen
    have hfm : (l.flatMap (td_tx A l2 lb2 m)).length ≤ 6 * l.length := td_fm_len td_tx_len l
    have eL : (l ++ o :: rest).length = l.length + (rest.length + 1) := by rw [List.length_append, List.length_cons]
    have eO : (td_OL A lb1 lb2 n m).length = l.length + (rest.length + 1) := by rw [← he, eL]
    rw [← he] at ho
    have hop : yop l.length = nI o := by
      have := (ls_app ho).2.1
      rw [Nat.zero_add] at this
      exact this
    rw [he] at ho
    have hm' : o ∈ td_OL A lb1 lb2 n m := by
      rw [← he]
      exact List.mem_append_right _ (List.mem_cons_self)
    have he2 : (l ++ [o]) ++ rest = td_OL A lb1 lb2 n m := by
      rw [← he]
      simp
    have go : ∀ v x, ((1 ≤ o ∧ o < 10 ∧ v = o ∧ x = A o ∧ 1 ≤ x ∧ x ≤ m) ∨ (11 ≤ o ∧ o < 20 ∧ v = o - 10 ∧ x = 0) ∨ (21 ≤ o ∧ v = o - 20 ∧ x = v ∧ v ≤ m)) → o < 29 → wY_script_44 post (wY_script_2 post (rest.length + 1)) (nI l.length) (nI v) (nI x) ycap yrel ydel yins ydif (nI (td_OL A lb1 lb2 n m).length) ypos (nI (l.flatMap (td_tx A l2 lb2 m)).length) ycnt yrts ylow ylab ymap yop pic yend out := fun v x hc h29 => by
      refine yw_scop (o := o) E c2 (by omega) h29 hop hA (fun v => Nat.le_trans (mA v) hm) hc (by omega) hs fun pic2 out2 h2 => ?_
      rw [← td_fm_s, show l.length + 1 = (l ++ [o]).length by simp]
      rw [← td_fm_s] at h2
      exact ih (l ++ [o]) pic2 out2 he2 h2
    have cs : (1 ≤ o ∧ o ≤ n ∧ A o ≠ 0) ∨ (11 ≤ o ∧ o ≤ 10 + n ∧ A (o - 10) = 0) ∨ (21 ≤ o ∧ o ≤ 20 + m) := by
      unfold td_OL at hm'
      rcases List.mem_append.mp hm' with q | q
      · have := td_oR_m.mp q
        exact Or.inl ⟨this.1, this.2.1, this.2.2.1⟩
      · rcases List.mem_append.mp q with q | q
        · exact Or.inr (Or.inl (td_oD_m.mp q))
        · have := td_oI_m.mp q
          exact Or.inr (Or.inr ⟨this.1, this.2.1⟩)
    rw [List.length_cons]
    unfold wY_script_2
    rw [nI_clamp (n := l.length) (by omega), hop, show nI o - nI o / 10 * 10 = nI (o % 10) from pk_rem (d := 10) (by omega) (by omega) (by omega)]
    refine br_f (nI_ge (by omega) (by omega)) ⟨vp_in_nI (by omega) (by omega), by decide, nm_e ⟨vp_in_nI (by omega) (by omega), pk_le o 20 (fun c => ?_) (fun c => ?_)⟩⟩
    · rcases cs with ⟨d1, d2, d3⟩ | ⟨d1, d2, d3⟩ | ⟨d1, d2⟩
      · rw [show o % 10 = o by omega, yw_a10, nI_clamp (n := 10 + o) (by omega), hA o d1 (by omega)]
        exact ⟨vp_in_nI (by omega) (by omega), go o (A o) (Or.inl ⟨d1, by omega, rfl, rfl, by omega, mA o⟩) (by omega)⟩
      · rw [show o % 10 = o - 10 by omega, yw_a10, nI_clamp (n := 10 + (o - 10)) (by omega), hA (o - 10) (by omega) (by omega)]
        exact ⟨vp_in_nI (by omega) (by omega), go (o - 10) (A (o - 10)) (Or.inr (Or.inl ⟨d1, by omega, rfl, d3⟩)) (by omega)⟩
      · omega
    · rw [show o % 10 = o - 20 by omega]
      exact go (o - 20) (o - 20) (Or.inr (Or.inr ⟨by omega, rfl, rfl, by omega⟩)) (by omega)
/-- script: the same text -/
theorem yw_script {post : SY → Prop} (E : (yw_E n m l1 l2 lb1 lb2 ylow ylab)) (c2 : ycnt 2 = nI m) (hA : ∀ v, 1 ≤ v → v ≤ 8 → ymap (10 + v) = nI (A v)) (mA : ∀ v, A v ≤ m) (ho : ls_h yop 0 (td_OL A lb1 lb2 n m))
    (h : ∀ pic out, ls_h out 0 ((td_OL A lb1 lb2 n m).flatMap (td_tx A l2 lb2 m)) → post (ycap, yrel, ydel, yins, ydif, nI (td_OL A lb1 lb2 n m).length, ypos, nI ((td_OL A lb1 lb2 n m).flatMap (td_tx A l2 lb2 m)).length, ycnt, yrts, ylow, ylab, ymap, yop, pic, yend, out)) :
    wpY_script post (ycap, yrel, ydel, yins, ydif, nI (td_OL A lb1 lb2 n m).length, ypos, 0, ycnt, yrts, ylow, ylab, ymap, yop, ypic, yend, yout) := by
  unfold wpY_script
  exact ⟨_, yw_sc2 E c2 hA mA ho h (td_OL A lb1 lb2 n m) [] ypic yout rfl trivial⟩
end
end
section
/-! linked forests: chains, a node more, a node less -/
def lk_p (b : Nat) (sl : Nat → Nat) (nx : Nat → Int32) : List Nat → Nat → Prop
  | [], _ => True
  | v :: l, z => nx (b + sl v) = nI (sl (l.headD z)) ∧ lk_p b sl nx l z
theorem lk_hd_a (l k : List Nat) (z : Nat) : (l ++ k).headD z = l.headD (k.headD z) := by cases l <;> rfl
theorem lk_p_a {b : Nat} {sl : Nat → Nat} {nx : Nat → Int32} : ∀ {l k : List Nat} {z : Nat}, lk_p b sl nx (l ++ k) z ↔ lk_p b sl nx l (k.headD z) ∧ lk_p b sl nx k z
  | [], k, z => ⟨fun h => ⟨trivial, h⟩, fun h => h.2⟩
  | v :: l, k, z => by
    show (nx (b + sl v) = nI (sl ((l ++ k).headD z)) ∧ lk_p b sl nx (l ++ k) z) ↔ (nx (b + sl v) = nI (sl (l.headD (k.headD z))) ∧ lk_p b sl nx l (k.headD z)) ∧ lk_p b sl nx k z
    rw [lk_hd_a, lk_p_a (l := l)]
    exact and_assoc.symm
theorem lk_p_c {b : Nat} {sl sl' : Nat → Nat} {nx nx' : Nat → Int32} : ∀ {l : List Nat} {z : Nat}, (∀ v, v ∈ l → nx' (b + sl' v) = nx (b + sl v) ∧ sl' v = sl v) → sl' z = sl z → lk_p b sl nx l z → lk_p b sl' nx' l z
  | [], _, _, _, _ => trivial
  | v :: l, z, h, hz, hp => by
    refine ⟨?_, lk_p_c (fun w hw => h w (List.mem_cons_of_mem _ hw)) hz hp.2⟩
    rw [(h v List.mem_cons_self).1, hp.1]
    cases l with
    | nil =>
      show nI (sl z) = nI (sl' z)
      rw [hz]
    | cons w l =>
      show nI (sl w) = nI (sl' w)
      rw [(h w (by simp)).2]
theorem lk_snoc (l : List Nat) : l = [] ∨ ∃ k v, l = k ++ [v] := by
  induction l with
  | nil => exact Or.inl rfl
  | cons x l ih =>
    rcases ih with h | ⟨k, v, h⟩
    · exact Or.inr ⟨[], x, by rw [h]; rfl⟩
    · exact Or.inr ⟨x :: k, v, by rw [h]; rfl⟩
theorem lk_pw {P : Nat → Bool} {pr : Nat → Nat} {q : Nat} : ∀ {k lo : Nat}, List.Pairwise (fun a b => a < b) (lk_ch P pr q lo k) := by
  intro k
  induction k with
  | zero => exact fun {lo} => List.Pairwise.nil
  | succ k ih =>
    intro lo
    unfold lk_ch
    split
    · refine List.Pairwise.cons (fun w hw => ?_) ih
      have := lk_ch_m.mp hw
      omega
    · exact ih
theorem lk_lt {P : Nat → Bool} {pr : Nat → Nat} {q k lo v w : Nat} {l : List Nat} (h : lk_ch P pr q lo k = l ++ [v]) (hw : w ∈ l) : w < v := by
  have p := lk_pw (P := P) (pr := pr) (q := q) (k := k) (lo := lo)
  rw [h] at p
  exact (List.pairwise_append.mp p).2.2 w hw v List.mem_cons_self
def lk_K (b : Nat) (P : Nat → Bool) (pr sl : Nat → Nat) (fs nx up : Nat → Int32) : Prop :=
  (∀ q, (q = 0 ∨ (1 ≤ q ∧ q ≤ 8 ∧ P q = true)) → fs (b + sl q) = nI (sl ((lk_ch P pr q 1 8).headD 0)) ∧ lk_p b sl nx (lk_ch P pr q 1 8) 0) ∧ (∀ v, 1 ≤ v → v ≤ 8 → P v = true → up (b + sl v) = nI (sl (pr v)))
def lk_S (P : Nat → Bool) (sl : Nat → Nat) (N : Nat) : Prop :=
  sl 0 = 0 ∧ (∀ v, 1 ≤ v → v ≤ 8 → P v = true → 1 ≤ sl v ∧ sl v ≤ N) ∧ (∀ v w, 1 ≤ v → v ≤ 8 → P v = true → 1 ≤ w → w ≤ 8 → P w = true → sl v = sl w → v = w)
section
variable {b N j q t i : Nat} {P : Nat → Bool} {pr pr' sl : Nat → Nat} {fs nx up fs' nx' up' : Nat → Int32}
theorem lk_spl (hj1 : 1 ≤ j) (hj8 : j ≤ 8) (ht1 : 1 ≤ t) (htj : t ≤ j) : lk_ch P pr q 1 8 = lk_ch P pr q 1 (t - 1) ++ (lk_ch P pr q t (j - t) ++ (lk_ch P pr q j 1 ++ lk_ch P pr q (j + 1) (8 - j))) := by
  have e1 : 8 = (t - 1) + ((j - t) + (1 + (8 - j))) := by omega
  have e2 : lk_ch P pr q 1 8 = lk_ch P pr q 1 ((t - 1) + ((j - t) + (1 + (8 - j)))) := by rw [← e1]
  rw [e2, lk_ch_a, lk_ch_a, lk_ch_a, show 1 + (t - 1) = t by omega, show t + (j - t) = j by omega]
theorem lk_ins_q (hj1 : 1 ≤ j) (hj8 : j ≤ 8) (hPj : P j = false) (ht1 : 1 ≤ t) (htj : t ≤ j) (hqj : q ≠ j) (hpj : pr' j = q)
    (hp : ∀ v, 1 ≤ v → v ≤ 8 → P v = true → pr' v = if pr v = q ∧ t ≤ v ∧ v < j then j else pr v) :
    lk_ch (td_ad P j) pr' q 1 8 = lk_ch P pr q 1 (t - 1) ++ (j :: lk_ch P pr q (j + 1) (8 - j)) := by
  rw [lk_spl hj1 hj8 ht1 htj, lk_ch_1 (lo := j) ⟨td_ad_j P j, hpj⟩]
  have s1 : lk_ch (td_ad P j) pr' q 1 (t - 1) = lk_ch P pr q 1 (t - 1) := lk_ch_c fun w h1 h2 => by
    rw [td_ad_n (by omega)]
    constructor
    · rintro ⟨a1, a2⟩
      rw [hp w h1 (by omega) a1, if_neg (by omega)] at a2
      exact ⟨a1, a2⟩
    · rintro ⟨a1, a2⟩
      refine ⟨a1, ?_⟩
      rw [hp w h1 (by omega) a1, if_neg (by omega)]
      exact a2
  have s2 : lk_ch (td_ad P j) pr' q t (j - t) = [] := lk_ch_0 fun w h1 h2 => by
    rw [td_ad_n (by omega)]
    rintro ⟨a1, a2⟩
    rw [hp w (by omega) (by omega) a1] at a2
    by_cases c : pr w = q ∧ t ≤ w ∧ w < j
    · rw [if_pos c] at a2
      omega
    · rw [if_neg c] at a2
      omega
  have s3 : lk_ch (td_ad P j) pr' q (j + 1) (8 - j) = lk_ch P pr q (j + 1) (8 - j) := lk_ch_c fun w h1 h2 => by
    rw [td_ad_n (by omega)]
    constructor
    · rintro ⟨a1, a2⟩
      rw [hp w (by omega) (by omega) a1, if_neg (by omega)] at a2
      exact ⟨a1, a2⟩
    · rintro ⟨a1, a2⟩
      refine ⟨a1, ?_⟩
      rw [hp w (by omega) (by omega) a1, if_neg (by omega)]
      exact a2
  rw [s1, s2, s3]
  rfl
theorem lk_ins_j (hj1 : 1 ≤ j) (hj8 : j ≤ 8) (hPj : P j = false) (ht1 : 1 ≤ t) (htj : t ≤ j) (hqj : q ≠ j) (hpj : pr' j = q) (hno : ∀ v, 1 ≤ v → v ≤ 8 → P v = true → pr v ≠ j)
    (hp : ∀ v, 1 ≤ v → v ≤ 8 → P v = true → pr' v = if pr v = q ∧ t ≤ v ∧ v < j then j else pr v) :
    lk_ch (td_ad P j) pr' j 1 8 = lk_ch P pr q t (j - t) := by
  rw [lk_spl hj1 hj8 ht1 htj]
  have s1 : lk_ch (td_ad P j) pr' j 1 (t - 1) = [] := lk_ch_0 fun w h1 h2 => by
    rw [td_ad_n (by omega)]
    rintro ⟨a1, a2⟩
    rw [hp w h1 (by omega) a1, if_neg (by omega)] at a2
    exact hno w h1 (by omega) a1 a2
  have s2 : lk_ch (td_ad P j) pr' j t (j - t) = lk_ch P pr q t (j - t) := lk_ch_c fun w h1 h2 => by
    rw [td_ad_n (by omega)]
    constructor
    · rintro ⟨a1, a2⟩
      refine ⟨a1, ?_⟩
      rw [hp w (by omega) (by omega) a1] at a2
      by_cases c : pr w = q ∧ t ≤ w ∧ w < j
      · exact c.1
      · rw [if_neg c] at a2
        exact absurd a2 (hno w (by omega) (by omega) a1)
    · rintro ⟨a1, a2⟩
      refine ⟨a1, ?_⟩
      rw [hp w (by omega) (by omega) a1, if_pos ⟨a2, h1, by omega⟩]
  have s0 : lk_ch (td_ad P j) pr' j j 1 = [] := lk_ch_0 fun w h1 h2 => by
    rintro ⟨a1, a2⟩
    have e1 : w = j := by omega
    rw [e1, hpj] at a2
    exact hqj a2
  have s3 : lk_ch (td_ad P j) pr' j (j + 1) (8 - j) = [] := lk_ch_0 fun w h1 h2 => by
    rw [td_ad_n (by omega)]
    rintro ⟨a1, a2⟩
    rw [hp w (by omega) (by omega) a1, if_neg (by omega)] at a2
    exact hno w (by omega) (by omega) a1 a2
  rw [s1, s2, s0, s3]
  simp
theorem lk_ins_o {q' : Nat} (hj1 : 1 ≤ j) (hj8 : j ≤ 8) (hPj : P j = false) (hq1 : q' ≠ q) (hq2 : q' ≠ j) (hpj : pr' j = q)
    (hp : ∀ v, 1 ≤ v → v ≤ 8 → P v = true → pr' v = if pr v = q ∧ t ≤ v ∧ v < j then j else pr v) :
    lk_ch (td_ad P j) pr' q' 1 8 = lk_ch P pr q' 1 8 := lk_ch_c fun w h1 h2 => by
  by_cases e : w = j
  · rw [e]
    constructor
    · rintro ⟨a1, a2⟩
      rw [hpj] at a2
      exact absurd a2.symm hq1
    · rintro ⟨a1, a2⟩
      rw [hPj] at a1
      exact absurd a1 (by decide)
  · rw [td_ad_n e]
    constructor
    · rintro ⟨a1, a2⟩
      rw [hp w h1 (by omega) a1] at a2
      by_cases c : pr w = q ∧ t ≤ w ∧ w < j
      · rw [if_pos c] at a2
        exact absurd a2.symm hq2
      · rw [if_neg c] at a2
        exact ⟨a1, a2⟩
    · rintro ⟨a1, a2⟩
      refine ⟨a1, ?_⟩
      rw [hp w h1 (by omega) a1, if_neg (fun c => hq1 (by rw [← a2]; exact c.1))]
      exact a2
theorem lk_old (hj1 : 1 ≤ j) (hj8 : j ≤ 8) (hPj : P j = false) (ht1 : 1 ≤ t) (htj : t ≤ j) : lk_ch P pr q 1 8 = lk_ch P pr q 1 (t - 1) ++ (lk_ch P pr q t (j - t) ++ lk_ch P pr q (j + 1) (8 - j)) := by
  rw [lk_spl hj1 hj8 ht1 htj]
  have s0 : lk_ch P pr q j 1 = [] := lk_ch_0 fun w h1 h2 => by
    rintro ⟨a1, a2⟩
    have e1 : w = j := by omega
    rw [e1, hPj] at a1
    exact absurd a1 (by decide)
  rw [s0]
  rfl
theorem lk_ins (hS : lk_S P sl N) (hK : lk_K b P pr sl fs nx up) (hj1 : 1 ≤ j) (hj8 : j ≤ 8) (hPj : P j = false) (ht1 : 1 ≤ t) (htj : t ≤ j) (hq : q = 0 ∨ (1 ≤ q ∧ q ≤ 8 ∧ P q = true)) (hpj : pr' j = q) (hno : ∀ v, 1 ≤ v → v ≤ 8 → P v = true → pr v ≠ j)
    (hp : ∀ v, 1 ≤ v → v ≤ 8 → P v = true → pr' v = if pr v = q ∧ t ≤ v ∧ v < j then j else pr v)
    (f1 : fs' (b + (N + 1)) = nI (sl ((lk_ch P pr q t (j - t)).headD 0)))
    (f2 : lk_ch P pr q 1 (t - 1) = [] → fs' (b + sl q) = nI (N + 1))
    (f3 : ∀ v, (v = 0 ∨ (1 ≤ v ∧ v ≤ 8 ∧ P v = true)) → (lk_ch P pr q 1 (t - 1) = [] → v ≠ q) → fs' (b + sl v) = fs (b + sl v))
    (n1 : nx' (b + (N + 1)) = nI (sl ((lk_ch P pr q (j + 1) (8 - j)).headD 0)))
    (n2 : ∀ k a, lk_ch P pr q 1 (t - 1) = k ++ [a] → nx' (b + sl a) = nI (N + 1))
    (n3 : ∀ k a, lk_ch P pr q t (j - t) = k ++ [a] → nx' (b + sl a) = 0)
    (n4 : ∀ v, 1 ≤ v → v ≤ 8 → P v = true → (∀ k a, lk_ch P pr q 1 (t - 1) = k ++ [a] → v ≠ a) → (∀ k a, lk_ch P pr q t (j - t) = k ++ [a] → v ≠ a) → nx' (b + sl v) = nx (b + sl v))
    (u1 : up' (b + (N + 1)) = nI (sl q)) (u2 : ∀ v, v ∈ lk_ch P pr q t (j - t) → up' (b + sl v) = nI (N + 1))
    (u3 : ∀ v, 1 ≤ v → v ≤ 8 → P v = true → ¬ v ∈ lk_ch P pr q t (j - t) → up' (b + sl v) = up (b + sl v)) :
    lk_K b (td_ad P j) pr' (td_set sl j (N + 1)) fs' nx' up' ∧ lk_S (td_ad P j) (td_set sl j (N + 1)) (N + 1) := by
  have hqj : q ≠ j := fun e => by
    rcases hq with z | z
    · omega
    · rw [e, hPj] at z
      exact absurd z.2.2 (by decide)
  have sj : td_set sl j (N + 1) j = N + 1 := td_set_s
  have sn : ∀ v, v ≠ j → td_set sl j (N + 1) v = sl v := fun v h => td_set_n h
  have s0 := sn 0 (by omega)
  have mA : ∀ {w}, w ∈ lk_ch P pr q 1 (t - 1) → 1 ≤ w ∧ w < t ∧ P w = true ∧ pr w = q := fun h => by
    have := lk_ch_m.mp h
    exact ⟨this.1, by omega, this.2.2⟩
  have mB : ∀ {w}, w ∈ lk_ch P pr q t (j - t) → t ≤ w ∧ w < j ∧ P w = true ∧ pr w = q := fun h => by
    have := lk_ch_m.mp h
    exact ⟨this.1, by omega, this.2.2⟩
  have mC : ∀ {w}, w ∈ lk_ch P pr q (j + 1) (8 - j) → j < w ∧ w ≤ 8 ∧ P w = true ∧ pr w = q := fun h => by
    have := lk_ch_m.mp h
    exact ⟨by omega, by omega, this.2.2⟩
  have lA : ∀ {k a}, lk_ch P pr q 1 (t - 1) = k ++ [a] → 1 ≤ a ∧ a < t ∧ P a = true ∧ pr a = q := fun h => mA (by rw [h]; simp)
  have lB : ∀ {k a}, lk_ch P pr q t (j - t) = k ++ [a] → t ≤ a ∧ a < j ∧ P a = true ∧ pr a = q := fun h => mB (by rw [h]; simp)
  have old := lk_old (P := P) (pr := pr) (q := q) hj1 hj8 hPj ht1 htj
  have Kq := hK.1 q hq
  rw [old] at Kq
  have Kp := lk_p_a.mp Kq.2
  have Kp2 := lk_p_a.mp Kp.2
  have hd0 : ∀ l : List Nat, (∀ w, w ∈ l → w ≠ j) → td_set sl j (N + 1) (l.headD 0) = sl (l.headD 0) := fun l hl => by
    cases l with
    | nil => exact s0
    | cons w l => exact sn w (hl w List.mem_cons_self)
  refine ⟨⟨fun q' hq' => ?_, fun v v1 v8 vP => ?_⟩, ?_⟩
  · by_cases c1 : q' = j
    · rw [c1, lk_ins_j hj1 hj8 hPj ht1 htj hqj hpj hno hp, sj]
      refine ⟨?_, ?_⟩
      · rw [f1, hd0 _ fun w hw => by have := mB hw; omega]
      · rcases lk_snoc (lk_ch P pr q t (j - t)) with z | ⟨k, a, z⟩
        · rw [z]
          trivial
        · rw [z] at Kp2 ⊢
          have t1 := lk_p_a.mp Kp2.1
          have za := lB z
          refine lk_p_a.mpr ⟨lk_p_c (fun w hw => ?_) (sn a (by omega)) t1.1, ?_, trivial⟩
          · have w1 := mB (w := w) (by rw [z]; exact List.mem_append_left _ hw)
            have w2 := lk_lt z hw
            refine ⟨?_, sn w (by omega)⟩
            rw [sn w (by omega)]
            refine n4 w (by omega) (by omega) w1.2.2.1 (fun k' a' z' => by have := lA z'; omega) (fun k' a' z' => ?_)
            rw [z] at z'
            have := List.append_inj' z' rfl
            have e3 : a = a' := by simpa using this.2
            omega
          · show nx' (b + td_set sl j (N + 1) a) = nI (td_set sl j (N + 1) 0)
            rw [sn a (by omega), s0, hS.1, n3 k a z]
            rfl
    · by_cases c2 : q' = q
      · rw [c2, lk_ins_q hj1 hj8 hPj ht1 htj hqj hpj hp, sn q hqj]
        refine ⟨?_, lk_p_a.mpr ⟨?_, ?_, ?_⟩⟩
        · rcases z : lk_ch P pr q 1 (t - 1) with _ | ⟨w, l⟩
          · rw [f2 z]
            show nI (N + 1) = nI (td_set sl j (N + 1) j)
            rw [sj]
          · rw [f3 q hq (fun z' => by rw [z] at z'; exact absurd z' (by simp)), Kq.1, z]
            show nI (sl w) = nI (td_set sl j (N + 1) w)
            have := mA (w := w) (by rw [z]; exact List.mem_cons_self)
            rw [sn w (by omega)]
        · show lk_p b (td_set sl j (N + 1)) nx' (lk_ch P pr q 1 (t - 1)) j
          rcases lk_snoc (lk_ch P pr q 1 (t - 1)) with z | ⟨k, a, z⟩
          · rw [z]
            trivial
          · rw [z] at Kp ⊢
            have t1 := lk_p_a.mp Kp.1
            have za := lA z
            refine lk_p_a.mpr ⟨lk_p_c (fun w hw => ?_) (sn a (by omega)) t1.1, ?_, trivial⟩
            · have w1 := mA (w := w) (by rw [z]; exact List.mem_append_left _ hw)
              have w2 := lk_lt z hw
              refine ⟨?_, sn w (by omega)⟩
              rw [sn w (by omega)]
              refine n4 w (by omega) (by omega) w1.2.2.1 (fun k' a' z' => ?_) (fun k' a' z' => by have := lB z'; omega)
              rw [z] at z'
              have := List.append_inj' z' rfl
              have e3 : a = a' := by simpa using this.2
              omega
            · show nx' (b + td_set sl j (N + 1) a) = nI (td_set sl j (N + 1) j)
              rw [sn a (by omega), sj, n2 k a z]
        · rw [sj, n1, hd0 _ fun w hw => by have := mC hw; omega]
        · refine lk_p_c (fun w hw => ?_) s0 Kp2.2
          have w1 := mC hw
          refine ⟨?_, sn w (by omega)⟩
          rw [sn w (by omega)]
          exact n4 w (by omega) (by omega) w1.2.2.1 (fun k' a' z' => by have := lA z'; omega) (fun k' a' z' => by have := lB z'; omega)
      · have hq2 : q' = 0 ∨ (1 ≤ q' ∧ q' ≤ 8 ∧ P q' = true) := by
          rcases hq' with z | ⟨z1, z2, z3⟩
          · exact Or.inl z
          · rw [td_ad_n c1] at z3
            exact Or.inr ⟨z1, z2, z3⟩
        have K' := hK.1 q' hq2
        rw [lk_ins_o hj1 hj8 hPj c2 c1 hpj hp, sn q' c1, f3 q' hq2 (fun _ => c2)]
        have mO : ∀ {w}, w ∈ lk_ch P pr q' 1 8 → 1 ≤ w ∧ w ≤ 8 ∧ P w = true ∧ pr w = q' ∧ w ≠ j := fun {w} h => by
          have h1 := lk_ch_m.mp h
          refine ⟨h1.1, by omega, h1.2.2.1, h1.2.2.2, fun e => ?_⟩
          rw [e, hPj] at h1
          exact absurd h1.2.2.1 (by decide)
        refine ⟨?_, ?_⟩
        · rw [hd0 _ fun w hw => (mO hw).2.2.2.2]
          exact K'.1
        · refine lk_p_c (fun w hw => ?_) s0 K'.2
          have w1 := mO hw
          refine ⟨?_, sn w w1.2.2.2.2⟩
          rw [sn w w1.2.2.2.2]
          exact n4 w w1.1 w1.2.1 w1.2.2.1 (fun k' a' z' e => by have := lA z'; rw [← e] at this; omega) (fun k' a' z' e => by have := lB z'; rw [← e] at this; omega)
  · by_cases c1 : v = j
    · rw [c1, sj, hpj, u1, sn q hqj]
    · rw [td_ad_n c1] at vP
      rw [sn v c1, hp v v1 v8 vP]
      by_cases c2 : pr v = q ∧ t ≤ v ∧ v < j
      · rw [if_pos c2, sj]
        exact u2 v (lk_ch_m.mpr ⟨c2.2.1, by omega, vP, c2.1⟩)
      · rw [if_neg c2, sn (pr v) (hno v v1 v8 vP), u3 v v1 v8 vP (fun z => c2 ⟨(mB z).2.2.2, (mB z).1, (mB z).2.1⟩)]
        exact hK.2 v v1 v8 vP
  · refine ⟨s0.trans hS.1, fun v v1 v8 vP => ?_, fun v w v1 v8 vP w1 w8 wP e => ?_⟩
    · by_cases c1 : v = j
      · rw [c1, sj]
        omega
      · rw [td_ad_n c1] at vP
        rw [sn v c1]
        have := hS.2.1 v v1 v8 vP
        omega
    · by_cases c1 : v = j
      · by_cases c2 : w = j
        · rw [c1, c2]
        · rw [td_ad_n c2] at wP
          rw [c1, sj, sn w c2] at e
          have := hS.2.1 w w1 w8 wP
          omega
      · rw [td_ad_n c1] at vP
        by_cases c2 : w = j
        · rw [c2, sj, sn v c1] at e
          have := hS.2.1 v v1 v8 vP
          omega
        · rw [td_ad_n c2] at wP
          rw [sn v c1, sn w c2] at e
          exact hS.2.2 v w v1 v8 vP w1 w8 wP e
end
end
section
/-! linked forests: a node less; the same forest under other names -/
section
variable {b N j q t i : Nat} {P : Nat → Bool} {pr pr' sl : Nat → Nat} {fs nx up fs' nx' up' : Nat → Int32}
theorem lk_rem_old (hi1 : 1 ≤ i) (hi8 : i ≤ 8) (hPi : P i = true) (ht1 : 1 ≤ t) (hti : t ≤ i) (hqi : pr i = q) (r2 : ∀ w, t ≤ w → w < i → P w = true → pr w ≠ q) :
    lk_ch P pr q 1 8 = lk_ch P pr q 1 (t - 1) ++ (i :: lk_ch P pr q (i + 1) (8 - i)) := by
  rw [lk_spl hi1 hi8 ht1 hti, lk_ch_1 (lo := i) ⟨hPi, hqi⟩]
  have s0 : lk_ch P pr q t (i - t) = [] := lk_ch_0 fun w h1 h2 => by
    rintro ⟨a1, a2⟩
    exact r2 w h1 (by omega) a1 a2
  rw [s0]
  rfl
theorem lk_rem_i (hi1 : 1 ≤ i) (hi8 : i ≤ 8) (ht1 : 1 ≤ t) (hti : t ≤ i) (hqi : pr i = q) (hqne : q ≠ i) (r1 : ∀ w, 1 ≤ w → w < t → P w = true → pr w ≠ i) (r3 : ∀ w, i < w → w ≤ 8 → P w = true → pr w ≠ i) :
    lk_ch P pr i 1 8 = lk_ch P pr i t (i - t) := by
  rw [lk_spl hi1 hi8 ht1 hti]
  have s1 : lk_ch P pr i 1 (t - 1) = [] := lk_ch_0 fun w h1 h2 => by
    rintro ⟨a1, a2⟩
    exact r1 w h1 (by omega) a1 a2
  have s2 : lk_ch P pr i i 1 = [] := lk_ch_0 fun w h1 h2 => by
    rintro ⟨a1, a2⟩
    have e1 : w = i := by omega
    rw [e1, hqi] at a2
    exact hqne a2
  have s3 : lk_ch P pr i (i + 1) (8 - i) = [] := lk_ch_0 fun w h1 h2 => by
    rintro ⟨a1, a2⟩
    exact r3 w (by omega) (by omega) a1 a2
  rw [s1, s2, s3]
  simp
theorem lk_rem_q (hi1 : 1 ≤ i) (hi8 : i ≤ 8) (ht1 : 1 ≤ t) (hti : t ≤ i) (hqne : q ≠ i) (r1 : ∀ w, 1 ≤ w → w < t → P w = true → pr w ≠ i) (r2 : ∀ w, t ≤ w → w < i → P w = true → pr w ≠ q) (r3 : ∀ w, i < w → w ≤ 8 → P w = true → pr w ≠ i)
    (hp : ∀ v, 1 ≤ v → v ≤ 8 → P v = true → v ≠ i → pr' v = if pr v = i then q else pr v) :
    lk_ch (td_rm P i) pr' q 1 8 = lk_ch P pr q 1 (t - 1) ++ (lk_ch P pr i t (i - t) ++ lk_ch P pr q (i + 1) (8 - i)) := by
  rw [lk_spl hi1 hi8 ht1 hti]
  have s1 : lk_ch (td_rm P i) pr' q 1 (t - 1) = lk_ch P pr q 1 (t - 1) := lk_ch_c fun w h1 h2 => by
    rw [td_rm_n (by omega)]
    constructor
    · rintro ⟨a1, a2⟩
      rw [hp w h1 (by omega) a1 (by omega), if_neg (r1 w h1 (by omega) a1)] at a2
      exact ⟨a1, a2⟩
    · rintro ⟨a1, a2⟩
      refine ⟨a1, ?_⟩
      rw [hp w h1 (by omega) a1 (by omega), if_neg (r1 w h1 (by omega) a1)]
      exact a2
  have s2 : lk_ch (td_rm P i) pr' q t (i - t) = lk_ch P pr i t (i - t) := lk_ch_c fun w h1 h2 => by
    rw [td_rm_n (by omega)]
    constructor
    · rintro ⟨a1, a2⟩
      refine ⟨a1, ?_⟩
      rw [hp w (by omega) (by omega) a1 (by omega)] at a2
      by_cases c : pr w = i
      · exact c
      · rw [if_neg c] at a2
        exact absurd a2 (r2 w h1 (by omega) a1)
    · rintro ⟨a1, a2⟩
      refine ⟨a1, ?_⟩
      rw [hp w (by omega) (by omega) a1 (by omega), if_pos a2]
  have s0 : lk_ch (td_rm P i) pr' q i 1 = [] := lk_ch_0 fun w h1 h2 => by
    rintro ⟨a1, a2⟩
    have e1 : w = i := by omega
    rw [e1, td_rm_j] at a1
    exact absurd a1 (by decide)
  have s3 : lk_ch (td_rm P i) pr' q (i + 1) (8 - i) = lk_ch P pr q (i + 1) (8 - i) := lk_ch_c fun w h1 h2 => by
    rw [td_rm_n (by omega)]
    constructor
    · rintro ⟨a1, a2⟩
      rw [hp w (by omega) (by omega) a1 (by omega), if_neg (r3 w (by omega) (by omega) a1)] at a2
      exact ⟨a1, a2⟩
    · rintro ⟨a1, a2⟩
      refine ⟨a1, ?_⟩
      rw [hp w (by omega) (by omega) a1 (by omega), if_neg (r3 w (by omega) (by omega) a1)]
      exact a2
  rw [s1, s2, s0, s3]
  rfl
theorem lk_rem_o {q' : Nat} (hq1 : q' ≠ q) (hq2 : q' ≠ i) (hqi : pr i = q) (hp : ∀ v, 1 ≤ v → v ≤ 8 → P v = true → v ≠ i → pr' v = if pr v = i then q else pr v) :
    lk_ch (td_rm P i) pr' q' 1 8 = lk_ch P pr q' 1 8 := lk_ch_c fun w h1 h2 => by
  by_cases e : w = i
  · rw [e]
    constructor
    · rintro ⟨a1, a2⟩
      rw [td_rm_j] at a1
      exact absurd a1 (by decide)
    · rintro ⟨a1, a2⟩
      rw [hqi] at a2
      exact absurd a2.symm hq1
  · rw [td_rm_n e]
    constructor
    · rintro ⟨a1, a2⟩
      rw [hp w h1 (by omega) a1 e] at a2
      by_cases c : pr w = i
      · rw [if_pos c] at a2
        exact absurd a2.symm hq1
      · rw [if_neg c] at a2
        exact ⟨a1, a2⟩
    · rintro ⟨a1, a2⟩
      refine ⟨a1, ?_⟩
      rw [hp w h1 (by omega) a1 e, if_neg (fun c => hq2 (by rw [← a2]; exact c))]
      exact a2
theorem lk_rem (hS : lk_S P sl N) (hK : lk_K b P pr sl fs nx up) (hi1 : 1 ≤ i) (hi8 : i ≤ 8) (hPi : P i = true) (ht1 : 1 ≤ t) (hti : t ≤ i) (hqi : pr i = q) (hqne : q ≠ i) (hq : q = 0 ∨ (1 ≤ q ∧ q ≤ 8 ∧ P q = true))
    (r1 : ∀ w, 1 ≤ w → w < t → P w = true → pr w ≠ i) (r2 : ∀ w, t ≤ w → w < i → P w = true → pr w ≠ q) (r3 : ∀ w, i < w → w ≤ 8 → P w = true → pr w ≠ i)
    (hp : ∀ v, 1 ≤ v → v ≤ 8 → P v = true → v ≠ i → pr' v = if pr v = i then q else pr v)
    (f2 : lk_ch P pr q 1 (t - 1) = [] → fs' (b + sl q) = nI (sl ((lk_ch P pr i t (i - t) ++ lk_ch P pr q (i + 1) (8 - i)).headD 0)))
    (f3 : ∀ v, (v = 0 ∨ (1 ≤ v ∧ v ≤ 8 ∧ P v = true)) → (lk_ch P pr q 1 (t - 1) = [] → v ≠ q) → fs' (b + sl v) = fs (b + sl v))
    (n2 : ∀ k a, lk_ch P pr q 1 (t - 1) = k ++ [a] → nx' (b + sl a) = nI (sl ((lk_ch P pr i t (i - t) ++ lk_ch P pr q (i + 1) (8 - i)).headD 0)))
    (n3 : ∀ k a, lk_ch P pr i t (i - t) = k ++ [a] → nx' (b + sl a) = nI (sl ((lk_ch P pr q (i + 1) (8 - i)).headD 0)))
    (n4 : ∀ v, 1 ≤ v → v ≤ 8 → P v = true → (∀ k a, lk_ch P pr q 1 (t - 1) = k ++ [a] → v ≠ a) → (∀ k a, lk_ch P pr i t (i - t) = k ++ [a] → v ≠ a) → nx' (b + sl v) = nx (b + sl v))
    (u2 : ∀ v, v ∈ lk_ch P pr i t (i - t) → up' (b + sl v) = nI (sl q))
    (u3 : ∀ v, 1 ≤ v → v ≤ 8 → P v = true → ¬ v ∈ lk_ch P pr i t (i - t) → up' (b + sl v) = up (b + sl v)) :
    lk_K b (td_rm P i) pr' sl fs' nx' up' ∧ lk_S (td_rm P i) sl N := by
  have mA : ∀ {w}, w ∈ lk_ch P pr q 1 (t - 1) → 1 ≤ w ∧ w < t ∧ P w = true ∧ pr w = q := fun h => by
    have := lk_ch_m.mp h
    exact ⟨this.1, by omega, this.2.2⟩
  have mB : ∀ {w}, w ∈ lk_ch P pr i t (i - t) → t ≤ w ∧ w < i ∧ P w = true ∧ pr w = i := fun h => by
    have := lk_ch_m.mp h
    exact ⟨this.1, by omega, this.2.2⟩
  have mC : ∀ {w}, w ∈ lk_ch P pr q (i + 1) (8 - i) → i < w ∧ w ≤ 8 ∧ P w = true ∧ pr w = q := fun h => by
    have := lk_ch_m.mp h
    exact ⟨by omega, by omega, this.2.2⟩
  have lA : ∀ {k a}, lk_ch P pr q 1 (t - 1) = k ++ [a] → 1 ≤ a ∧ a < t ∧ P a = true ∧ pr a = q := fun h => mA (by rw [h]; simp)
  have lB : ∀ {k a}, lk_ch P pr i t (i - t) = k ++ [a] → t ≤ a ∧ a < i ∧ P a = true ∧ pr a = i := fun h => mB (by rw [h]; simp)
  have Kq := hK.1 q hq
  rw [lk_rem_old hi1 hi8 hPi ht1 hti hqi r2] at Kq
  have Kp := lk_p_a.mp Kq.2
  have Ki := hK.1 i (Or.inr ⟨hi1, hi8, hPi⟩)
  rw [lk_rem_i hi1 hi8 ht1 hti hqi hqne r1 r3] at Ki
  refine ⟨⟨fun q' hq' => ?_, fun v v1 v8 vP => ?_⟩, ?_⟩
  · have c1 : q' ≠ i := fun e => by
      rcases hq' with z | z
      · omega
      · rw [e, td_rm_j] at z
        exact absurd z.2.2 (by decide)
    by_cases c2 : q' = q
    · rw [c2, lk_rem_q hi1 hi8 ht1 hti hqne r1 r2 r3 hp]
      refine ⟨?_, lk_p_a.mpr ⟨?_, lk_p_a.mpr ⟨?_, ?_⟩⟩⟩
      · rcases z : lk_ch P pr q 1 (t - 1) with _ | ⟨w, l⟩
        · rw [f2 z]
          rfl
        · rw [f3 q hq (fun z' => by rw [z] at z'; exact absurd z' (by simp)), Kq.1, z]
          rfl
      · rcases lk_snoc (lk_ch P pr q 1 (t - 1)) with z | ⟨k, a, z⟩
        · rw [z]
          trivial
        · rw [z] at Kp ⊢
          have t1 := lk_p_a.mp Kp.1
          have za := lA z
          refine lk_p_a.mpr ⟨lk_p_c (fun w hw => ⟨?_, rfl⟩) rfl t1.1, ?_, trivial⟩
          · have w1 := mA (w := w) (by rw [z]; exact List.mem_append_left _ hw)
            have w2 := lk_lt z hw
            refine n4 w (by omega) (by omega) w1.2.2.1 (fun k' a' z' => ?_) (fun k' a' z' => by have := lB z'; omega)
            rw [z] at z'
            have := List.append_inj' z' rfl
            have e3 : a = a' := by simpa using this.2
            omega
          · exact n2 k a z
      · rcases lk_snoc (lk_ch P pr i t (i - t)) with z | ⟨k, a, z⟩
        · rw [z]
          trivial
        · have z9 := z
          rw [z] at Ki ⊢
          have t1 := lk_p_a.mp Ki.2
          have za := lB z9
          refine lk_p_a.mpr ⟨lk_p_c (fun w hw => ⟨?_, rfl⟩) rfl t1.1, ?_, trivial⟩
          · have w1 := mB (w := w) (by rw [z9]; exact List.mem_append_left _ hw)
            have w2 := lk_lt z9 hw
            refine n4 w (by omega) (by omega) w1.2.2.1 (fun k' a' z' => by have := lA z'; omega) (fun k' a' z' => ?_)
            rw [z9] at z'
            have := List.append_inj' z' rfl
            have e3 : a = a' := by simpa using this.2
            omega
          · exact n3 k a z9
      · refine lk_p_c (fun w hw => ⟨?_, rfl⟩) rfl Kp.2.2
        have w1 := mC hw
        exact n4 w (by omega) (by omega) w1.2.2.1 (fun k' a' z' => by have := lA z'; omega) (fun k' a' z' => by have := lB z'; omega)
    · have hq2 : q' = 0 ∨ (1 ≤ q' ∧ q' ≤ 8 ∧ P q' = true) := by
        rcases hq' with z | ⟨z1, z2, z3⟩
        · exact Or.inl z
        · rw [td_rm_n c1] at z3
          exact Or.inr ⟨z1, z2, z3⟩
      have K' := hK.1 q' hq2
      rw [lk_rem_o c2 c1 hqi hp, f3 q' hq2 (fun _ => c2)]
      refine ⟨K'.1, lk_p_c (fun w hw => ⟨?_, rfl⟩) rfl K'.2⟩
      have w1 := lk_ch_m.mp hw
      exact n4 w w1.1 (by omega) w1.2.2.1 (fun k' a' z' e => by have := lA z'; rw [← e] at this; omega) (fun k' a' z' e => by have := lB z'; rw [← e] at this; omega)
  · by_cases c1 : v = i
    · rw [c1, td_rm_j] at vP
      exact absurd vP (by decide)
    · rw [td_rm_n c1] at vP
      rw [hp v v1 v8 vP c1]
      by_cases c2 : pr v = i
      · rw [if_pos c2]
        refine u2 v (lk_ch_m.mpr ⟨?_, ?_, vP, c2⟩)
        · apply Nat.le_of_not_lt
          intro z
          exact r1 v v1 z vP c2
        · have : ¬ i < v := fun z => r3 v z v8 vP c2
          omega
      · rw [if_neg c2, u3 v v1 v8 vP (fun z => c2 (mB z).2.2.2)]
        exact hK.2 v v1 v8 vP
  · refine ⟨hS.1, fun v v1 v8 vP => ?_, fun v w v1 v8 vP w1 w8 wP e => ?_⟩
    · by_cases c1 : v = i
      · rw [c1, td_rm_j] at vP
        exact absurd vP (by decide)
      · rw [td_rm_n c1] at vP
        exact hS.2.1 v v1 v8 vP
    · by_cases c1 : v = i
      · rw [c1, td_rm_j] at vP
        exact absurd vP (by decide)
      · by_cases c2 : w = i
        · rw [c2, td_rm_j] at wP
          exact absurd wP (by decide)
        · rw [td_rm_n c1] at vP
          rw [td_rm_n c2] at wP
          exact hS.2.2 v w v1 v8 vP w1 w8 wP e
end
end
section
/-! the component's linked forests: follower, childNumber, handOver, insertNode -/
def lk_la (l : List Nat) : Nat := l.reverse.headD 0
theorem lk_la_s (l : List Nat) (v : Nat) : lk_la (l ++ [v]) = v := by simp [lk_la]
theorem lk_la_n : lk_la [] = 0 := rfl
section
variable {b N j q t i c rg lx : Nat} {P : Nat → Bool} {pr pr' sl : Nat → Nat} {A B C D E R : List Nat} {xcap xrel xdel xins xdif xtsk xscl xopc xpos xpad xpgl : Int32} {xfst xnxt xup xlab xusd xrts xlft xfor xtre xmat xm1 xm2 xtI xtJ xc1 xc2 xscr xopA xpag : Nat → Int32}
theorem lk_ok {w : Nat} (h : w ∈ lk_ch P pr q 1 8) : 1 ≤ w ∧ w ≤ 8 ∧ P w = true ∧ pr w = q := by
  have := lk_ch_m.mp h
  exact ⟨this.1, by omega, this.2.2⟩
theorem xw_fol {post : Int32 → Prop} (hb : b ≤ 34) (hN : N ≤ 16) (hS : lk_S P sl N) (hK : lk_K b P pr sl xfst xnxt xup) (hq : q = 0 ∨ (1 ≤ q ∧ q ≤ 8 ∧ P q = true)) (hL : lk_ch P pr q 1 8 = D ++ E) (h : post (nI (sl (E.headD 0)))) :
    wpX_follower post (xcap, xrel, xdel, xins, xdif, xtsk, xscl, xopc, xpos, xpad, xpgl, xfst, xnxt, xup, xlab, xusd, xrts, xlft, xfor, xtre, xmat, xm1, xm2, xtI, xtJ, xc1, xc2, xscr, xopA, xpag) (nI b) (nI (sl q)) (nI (sl (lk_la D))) := by
  have K := hK.1 q hq
  rw [hL] at K
  have sq : sl q ≤ 16 := by
    rcases hq with z | z
    · rw [z, hS.1]
      omega
    · have := hS.2.1 q z.1 z.2.1 z.2.2
      omega
  unfold wpX_follower
  dsimp only
  rcases lk_snoc D with z | ⟨k, v, z⟩
  · rw [z] at K
    rw [z, lk_la_n, hS.1, nI_add, nI_clamp (by omega)]
    refine br_t rfl ⟨vp_in_nI (by omega) (by omega), ?_⟩
    rw [K.1]
    exact h
  · rw [z] at K hL
    have ov := lk_ok (P := P) (pr := pr) (q := q) (w := v) (by rw [hL]; simp)
    have sv := hS.2.1 v ov.1 ov.2.1 ov.2.2.1
    have p2 := (lk_p_a.mp (lk_p_a.mp K.2).1).2.1
    rw [z, lk_la_s, nI_add, nI_add, nI_clamp (n := b + sl v) (by omega)]
    refine br_f (nI_ne0 (by omega) (by omega)) ⟨vp_in_nI (by omega) (by omega), ?_⟩
    have e1 : xnxt (b + sl v) = nI (sl (E.headD 0)) := p2
    rw [e1]
    exact h
theorem xw_cn6 {post : Int32 → Prop} (hb : b ≤ 34) (hN : N ≤ 16) (hS : lk_S P sl N) (hK : lk_K b P pr sl xfst xnxt xup) (hq : q = 0 ∨ (1 ≤ q ∧ q ≤ 8 ∧ P q = true)) (hL : lk_ch P pr q 1 8 = A ++ R) (h : post (nI (sl (lk_la A)))) :
    ∀ (E D : List Nat), A = D ++ E → wX_childNumber_6 post (nI b) (nI (sl q)) (nI A.length) xcap xrel xdel xins xdif xtsk xscl xopc xpos xpad xpgl xfst xnxt xup xlab xusd xrts xlft xfor xtre xmat xm1 xm2 xtI xtJ xc1 xc2 xscr xopA xpag (E.length + 1) (nI (sl (lk_la D))) (nI D.length) := by
  have l8 : A.length ≤ 8 := by
    have h1 := lk_ch_len (P := P) (pr := pr) (q := q) (k := 8) (lo := 1)
    rw [hL, List.length_append] at h1
    omega
  intro E
  induction E with
  | nil =>
    intro D hD
    rw [List.append_nil] at hD
    subst hD
    unfold wX_childNumber_6
    exact br_t (nI_le (Nat.le_refl _) (by omega)) h
  | cons w E ih =>
    intro D hD
    have eL : A.length = D.length + (E.length + 1) := by rw [hD, List.length_append, List.length_cons]
    rw [List.length_cons]
    unfold wX_childNumber_6
    refine br_f (nI_ge (by omega) (by omega)) (xw_fol hb hN hS hK hq (D := D) (E := w :: E ++ R) (by rw [hL, hD]; simp) ?_)
    have k := ih (D ++ [w]) (by rw [hD]; simp)
    rw [lk_la_s, td_l1] at k
    exact nm_r (nI_1 _) k
theorem xw_child {post : Int32 → Prop} {p : Int32} (hb : b ≤ 34) (hN : N ≤ 16) (hS : lk_S P sl N) (hK : lk_K b P pr sl xfst xnxt xup) (hq : q = 0 ∨ (1 ≤ q ∧ q ≤ 8 ∧ P q = true)) (hL : lk_ch P pr q 1 8 = A ++ R) (hp : p = nI A.length) (h : post (nI (sl (lk_la A)))) :
    wpX_childNumber post (xcap, xrel, xdel, xins, xdif, xtsk, xscl, xopc, xpos, xpad, xpgl, xfst, xnxt, xup, xlab, xusd, xrts, xlft, xfor, xtre, xmat, xm1, xm2, xtI, xtJ, xc1, xc2, xscr, xopA, xpag) (nI b) (nI (sl q)) p := by
  subst hp
  unfold wpX_childNumber
  have k := xw_cn6 (xcap := xcap) (xrel := xrel) (xdel := xdel) (xins := xins) (xdif := xdif) (xtsk := xtsk) (xscl := xscl) (xopc := xopc) (xpos := xpos) (xpad := xpad) (xpgl := xpgl) (xlab := xlab) (xusd := xusd) (xrts := xrts) (xlft := xlft) (xfor := xfor) (xtre := xtre) (xmat := xmat) (xm1 := xm1) (xm2 := xm2) (xtI := xtI) (xtJ := xtJ) (xc1 := xc1) (xc2 := xc2) (xscr := xscr) (xopA := xopA) (xpag := xpag) hb hN hS hK hq hL h A [] rfl
  rw [lk_la_n, hS.1] at k
  exact ⟨_, k⟩
/-- handOver: the nodes of B get a new parent -/
theorem xw_ho9 {post : Int32 → SX → Prop} {z : Nat} {x4 : Int32} (hb : b ≤ 34) (hN : N ≤ 16) (hc : c ≤ 17) (hS : lk_S P sl N) (ok : ∀ v, v ∈ B → 1 ≤ v ∧ v ≤ 8 ∧ P v = true) (hB8 : B.length ≤ 8) (hz : sl z ≤ 16) (hp : lk_p b sl xnxt B z) (hs : B.length = c ∨ (z = 0 ∧ B.length ≤ c)) (nd : ∀ D E w, B = D ++ w :: E → ¬ w ∈ D)
    (h : ∀ u, (∀ v, v ∈ B → u (b + sl v) = x4) → (∀ k, (∀ v, v ∈ B → k ≠ b + sl v) → u k = xup k) → post (nI (sl (lk_la B))) (xcap, xrel, xdel, xins, xdif, xtsk, xscl, xopc, xpos, xpad, xpgl, xfst, xnxt, u, xlab, xusd, xrts, xlft, xfor, xtre, xmat, xm1, xm2, xtI, xtJ, xc1, xc2, xscr, xopA, xpag)) :
    ∀ (E D : List Nat) u, B = D ++ E → (∀ v, v ∈ D → u (b + sl v) = x4) → (∀ k, (∀ v, v ∈ D → k ≠ b + sl v) → u k = xup k) →
      wX_handOver_9 post (nI b) (nI c) x4 xcap xrel xdel xins xdif xtsk xscl xopc xpos xpad xpgl (E.length + 1) (nI (sl (lk_la D))) (nI (sl (E.headD z))) (nI D.length) xfst xnxt u xlab xusd xrts xlft xfor xtre xmat xm1 xm2 xtI xtJ xc1 xc2 xscr xopA xpag := by
  intro E
  induction E with
  | nil =>
    intro D u hD h1 h2
    rw [List.append_nil] at hD
    subst hD
    unfold wX_handOver_9
    refine pk_le c B.length (fun q => h u h1 h2) (fun q => br_t ?_ (h u h1 h2))
    have e1 : z = 0 := by omega
    show nI (sl z) = 0
    rw [e1, hS.1]
    rfl
  | cons w E ih =>
    intro D u hD h1 h2
    have eL : B.length = D.length + (E.length + 1) := by rw [hD, List.length_append, List.length_cons]
    have ow := ok w (by rw [hD]; simp)
    have sw := hS.2.1 w ow.1 ow.2.1 ow.2.2
    have pw : xnxt (b + sl w) = nI (sl (E.headD z)) := by
      rw [hD] at hp
      exact (lk_p_a.mp hp).2.1
    rw [List.length_cons]
    unfold wX_handOver_9
    show ((nI c ≤ nI D.length → _) ∧ (¬ nI c ≤ nI D.length → ((nI (sl w) = 0 → _) ∧ (¬ nI (sl w) = 0 → _))))
    refine br_f (nI_ge (by omega) (by omega)) (br_f (nI_ne0 (by omega) (by omega)) ?_)
    have k := ih (D ++ [w]) (upd u (b + sl w) x4) (by rw [hD]; simp) (fun v hv => ?_) (fun k hk => ?_)
    · rw [lk_la_s, td_l1] at k
      show vp_in (nI b + nI (sl w)) 51 ∧ ∀ a_up_4 : Nat → Int32, a_up_4 = upd u (nI b + nI (sl w)).toNatClampNeg x4 → (vp_in (nI b + nI (sl w)) 51 ∧ (∀ x6_6 : Int32, x6_6 = xnxt (nI b + nI (sl w)).toNatClampNeg → (∀ x7_7 : Int32, x7_7 = nI D.length + 1 → wX_handOver_9 post (nI b) (nI c) x4 xcap xrel xdel xins xdif xtsk xscl xopc xpos xpad xpgl (E.length + 1) (nI (sl w)) x6_6 x7_7 xfst xnxt a_up_4 xlab xusd xrts xlft xfor xtre xmat xm1 xm2 xtI xtJ xc1 xc2 xscr xopA xpag)))
      rw [nI_add, nI_clamp (n := b + sl w) (by omega), pw]
      exact ⟨vp_in_nI (by omega) (by omega), nm_e ⟨vp_in_nI (by omega) (by omega), nm_e (nm_r (nI_1 _) k)⟩⟩
    · rcases List.mem_append.mp hv with q | q
      · have ov := ok v (by rw [hD]; exact List.mem_append_left _ q)
        have ne : v ≠ w := fun e => nd D E w hD (e ▸ q)
        rw [pk_un (fun e => ne (hS.2.2 v w ov.1 ov.2.1 ov.2.2 ow.1 ow.2.1 ow.2.2 (by omega)))]
        exact h1 v q
      · have e1 : v = w := by simpa using q
        rw [e1, pk_us]
    · rw [pk_un (hk w (by simp))]
      exact h2 k fun v hv => hk v (List.mem_append_left _ hv)
theorem xw_hover {post : Int32 → SX → Prop} {z : Nat} {x4 hd : Int32} (hb : b ≤ 34) (hN : N ≤ 16) (hc : c ≤ 17) (hS : lk_S P sl N) (ok : ∀ v, v ∈ B → 1 ≤ v ∧ v ≤ 8 ∧ P v = true) (hB8 : B.length ≤ 8) (hz : sl z ≤ 16) (hp : lk_p b sl xnxt B z) (hs : B.length = c ∨ (z = 0 ∧ B.length ≤ c)) (nd : ∀ D E w, B = D ++ w :: E → ¬ w ∈ D) (hh : hd = nI (sl (B.headD z)))
    (h : ∀ u, (∀ v, v ∈ B → u (b + sl v) = x4) → (∀ k, (∀ v, v ∈ B → k ≠ b + sl v) → u k = xup k) → post (nI (sl (lk_la B))) (xcap, xrel, xdel, xins, xdif, xtsk, xscl, xopc, xpos, xpad, xpgl, xfst, xnxt, u, xlab, xusd, xrts, xlft, xfor, xtre, xmat, xm1, xm2, xtI, xtJ, xc1, xc2, xscr, xopA, xpag)) :
    wpX_handOver post (xcap, xrel, xdel, xins, xdif, xtsk, xscl, xopc, xpos, xpad, xpgl, xfst, xnxt, xup, xlab, xusd, xrts, xlft, xfor, xtre, xmat, xm1, xm2, xtI, xtJ, xc1, xc2, xscr, xopA, xpag) (nI b) hd (nI c) x4 := by
  subst hh
  unfold wpX_handOver
  have k := xw_ho9 (xcap := xcap) (xrel := xrel) (xdel := xdel) (xins := xins) (xdif := xdif) (xtsk := xtsk) (xscl := xscl) (xopc := xopc) (xpos := xpos) (xpad := xpad) (xpgl := xpgl) (xfst := xfst) (xlab := xlab) (xusd := xusd) (xrts := xrts) (xlft := xlft) (xfor := xfor) (xtre := xtre) (xmat := xmat) (xm1 := xm1) (xm2 := xm2) (xtI := xtI) (xtJ := xtJ) (xc1 := xc1) (xc2 := xc2) (xscr := xscr) (xopA := xopA) (xpag := xpag) hb hN hc hS ok hB8 hz hp hs nd h B [] xup rfl (fun v hv => absurd hv (List.not_mem_nil)) (fun _ _ => rfl)
  rw [lk_la_n, hS.1] at k
  exact ⟨_, k⟩
theorem lk_nd {k lo : Nat} : ∀ D E w, lk_ch P pr q lo k = D ++ w :: E → ¬ w ∈ D := fun D E w h hw => by
  have p := lk_pw (P := P) (pr := pr) (q := q) (k := k) (lo := lo)
  rw [h] at p
  exact Nat.lt_irrefl w ((List.pairwise_append.mp p).2.2 w hw w List.mem_cons_self)
end
end
section
/-! insertNode -/
section
variable {b N j q t i c rg lx : Nat} {P : Nat → Bool} {pr pr' sl : Nat → Nat} {A B C D E R : List Nat} {xcap xrel xdel xins xdif xtsk xscl xopc xpos xpad xpgl : Int32} {xfst xnxt xup xlab xusd xrts xlft xfor xtre xmat xm1 xm2 xtI xtJ xc1 xc2 xscr xopA xpag : Nat → Int32}
/-- the last link of an insertion -/
theorem xw_i158 {post : Int32 → SX → Prop} {fs0 nx0 up0 : Nat → Int32} (hb : b ≤ 34) (hN : N + 1 ≤ 16) (hS : lk_S P sl N) (hK : lk_K b P pr sl fs0 nx0 up0) (hj1 : 1 ≤ j) (hj8 : j ≤ 8) (hPj : P j = false) (ht1 : 1 ≤ t) (htj : t ≤ j) (hq : q = 0 ∨ (1 ≤ q ∧ q ≤ 8 ∧ P q = true)) (hpj : pr' j = q) (hno : ∀ v, 1 ≤ v → v ≤ 8 → P v = true → pr v ≠ j)
    (hp : ∀ v, 1 ≤ v → v ≤ 8 → P v = true → pr' v = if pr v = q ∧ t ≤ v ∧ v < j then j else pr v)
    (f1 : xfst (b + (N + 1)) = nI (sl ((lk_ch P pr q t (j - t)).headD 0))) (f2 : ∀ k, k ≠ b + (N + 1) → xfst k = fs0 k)
    (n1 : xnxt (b + (N + 1)) = nI (sl ((lk_ch P pr q (j + 1) (8 - j)).headD 0))) (n3 : ∀ k a, lk_ch P pr q t (j - t) = k ++ [a] → xnxt (b + sl a) = 0) (n4 : ∀ k, k ≠ b + (N + 1) → (∀ l a, lk_ch P pr q t (j - t) = l ++ [a] → k ≠ b + sl a) → xnxt k = nx0 k)
    (u1 : xup (b + (N + 1)) = nI (sl q)) (u2 : ∀ v, v ∈ lk_ch P pr q t (j - t) → xup (b + sl v) = nI (N + 1)) (u3 : ∀ k, k ≠ b + (N + 1) → (∀ v, v ∈ lk_ch P pr q t (j - t) → k ≠ b + sl v) → xup k = up0 k)
    (h : ∀ fs nx, lk_K b (td_ad P j) pr' (td_set sl j (N + 1)) fs nx xup → lk_S (td_ad P j) (td_set sl j (N + 1)) (N + 1) → (∀ k, k < b ∨ b + 17 ≤ k → fs k = xfst k ∧ nx k = xnxt k) → post (nI (N + 1)) (xcap, xrel, xdel, xins, xdif, xtsk, xscl, xopc, xpos, xpad, xpgl, fs, nx, xup, xlab, xusd, xrts, xlft, xfor, xtre, xmat, xm1, xm2, xtI, xtJ, xc1, xc2, xscr, xopA, xpag)) :
    wX_insertNode_158 post (nI (sl q)) (nI b) (nI (N + 1)) (nI (sl (lk_la (lk_ch P pr q 1 (t - 1))))) xcap xrel xdel xins xdif xtsk xscl xopc xpos xpad xpgl xfst xnxt xup xlab xusd xrts xlft xfor xtre xmat xm1 xm2 xtI xtJ xc1 xc2 xscr xopA xpag := by
  have sb : ∀ v, (v = 0 ∨ (1 ≤ v ∧ v ≤ 8 ∧ P v = true)) → sl v ≤ N := fun v hv => by
    rcases hv with z | z
    · rw [z, hS.1]
      omega
    · exact (hS.2.1 v z.1 z.2.1 z.2.2).2
  have sq := sb q hq
  have mA : ∀ {w}, w ∈ lk_ch P pr q 1 (t - 1) → 1 ≤ w ∧ w < t ∧ P w = true := fun h => by
    have := lk_ch_m.mp h
    exact ⟨this.1, by omega, this.2.2.1⟩
  have mB : ∀ {w}, w ∈ lk_ch P pr q t (j - t) → t ≤ w ∧ w < j ∧ P w = true := fun h => by
    have := lk_ch_m.mp h
    exact ⟨this.1, by omega, this.2.2.1⟩
  have u3' : ∀ v, 1 ≤ v → v ≤ 8 → P v = true → ¬ v ∈ lk_ch P pr q t (j - t) → xup (b + sl v) = up0 (b + sl v) := fun v v1 v8 vP vn => by
    have := sb v (Or.inr ⟨v1, v8, vP⟩)
    refine u3 _ (by omega) fun w hw e => vn ?_
    have := mB hw
    have e2 := hS.2.2 v w v1 v8 vP (by omega) (by omega) this.2.2 (by omega)
    rw [e2]
    exact hw
  unfold wX_insertNode_158 wpX_link
  dsimp only
  rcases lk_snoc (lk_ch P pr q 1 (t - 1)) with z | ⟨k, a, z⟩
  · rw [z, lk_la_n, hS.1, nI_add, nI_clamp (n := b + sl q) (by omega)]
    refine br_t rfl ⟨vp_in_nI (by omega) (by omega), nm_e ?_⟩
    have ins := lk_ins (fs' := upd xfst (b + sl q) (nI (N + 1))) (nx' := xnxt) (up' := xup) hS hK hj1 hj8 hPj ht1 htj hq hpj hno hp
      (by rw [pk_un (by omega)]; exact f1) (fun _ => pk_us) (fun v hv hne => by
        have s1 := sb v hv
        have ne : sl v ≠ sl q := fun e => by
          rcases hv with y | y
          · rcases hq with y2 | y2
            · exact hne z (by rw [y, y2])
            · have := hS.2.1 q y2.1 y2.2.1 y2.2.2
              rw [y, hS.1] at e
              omega
          · rcases hq with y2 | y2
            · have := hS.2.1 v y.1 y.2.1 y.2.2
              rw [y2, hS.1] at e
              omega
            · exact hne z (hS.2.2 v q y.1 y.2.1 y.2.2 y2.1 y2.2.1 y2.2.2 e)
        rw [pk_un (by omega)]
        exact f2 _ (by omega))
      n1 (fun k a z' => by rw [z] at z'; exact absurd z' (by simp)) n3 (fun v v1 v8 vP _ hB => by
        have := sb v (Or.inr ⟨v1, v8, vP⟩)
        refine n4 _ (by omega) fun l a z' e => hB l a z' ?_
        have := mB (w := a) (by rw [z']; simp)
        exact hS.2.2 v a v1 v8 vP (by omega) (by omega) this.2.2 (by omega)) u1 u2 u3'
    exact h _ _ ins.1 ins.2 (fun k hk => ⟨pk_un (by omega), rfl⟩)
  · have oa := mA (w := a) (by rw [z]; simp)
    have sa := hS.2.1 a oa.1 (by omega) oa.2.2
    rw [z, lk_la_s, nI_add, nI_add, nI_clamp (n := b + sl a) (by omega)]
    refine br_f (nI_ne0 (by omega) (by omega)) ⟨vp_in_nI (by omega) (by omega), nm_e ?_⟩
    have ins := lk_ins (fs' := xfst) (nx' := upd xnxt (b + sl a) (nI (N + 1))) (up' := xup) hS hK hj1 hj8 hPj ht1 htj hq hpj hno hp
      f1 (fun z' => by rw [z] at z'; exact absurd z' (by simp)) (fun v hv hne => by
        have s1 := sb v hv
        exact f2 _ (by omega))
      (by rw [pk_un (by omega)]; exact n1) (fun k' a' z' => by
        rw [z] at z'
        have := List.append_inj' z' rfl
        have e3 : a = a' := by simpa using this.2
        rw [← e3, pk_us])
      (fun k' c' z' => by
        have oc := mB (w := c') (by rw [z']; simp)
        have ne : sl c' ≠ sl a := fun e => by
          have := hS.2.2 c' a (by omega) (by omega) oc.2.2 oa.1 (by omega) oa.2.2 e
          omega
        rw [pk_un (by omega)]
        exact n3 k' c' z')
      (fun v v1 v8 vP hA hB => by
        have := sb v (Or.inr ⟨v1, v8, vP⟩)
        have ne : sl v ≠ sl a := fun e => hA k a z (hS.2.2 v a v1 v8 vP oa.1 (by omega) oa.2.2 e)
        rw [pk_un (by omega)]
        refine n4 _ (by omega) fun l a' z' e => hB l a' z' ?_
        have := mB (w := a') (by rw [z']; simp)
        exact hS.2.2 v a' v1 v8 vP (by omega) (by omega) this.2.2 (by omega)) u1 u2 u3'
    exact h _ _ ins.1 ins.2 (fun k hk => ⟨rfl, pk_un (by omega)⟩)
/-- insertNode: the forest with a node more, in a fresh slot -/
theorem xw_insert {post : Int32 → SX → Prop} {p2 p3 p4 : Int32} (hrg : rg ≤ 2) (hbr : b = rg * 17) (hu : xusd rg = nI N) (hN : N + 1 ≤ 16) (hS : lk_S P sl N) (hK : lk_K b P pr sl xfst xnxt xup) (hj1 : 1 ≤ j) (hj8 : j ≤ 8) (hPj : P j = false) (ht1 : 1 ≤ t) (htj : t ≤ j) (hq : q = 0 ∨ (1 ≤ q ∧ q ≤ 8 ∧ P q = true)) (hpj : pr' j = q) (hno : ∀ v, 1 ≤ v → v ≤ 8 → P v = true → pr v ≠ j)
    (hp : ∀ v, 1 ≤ v → v ≤ 8 → P v = true → pr' v = if pr v = q ∧ t ≤ v ∧ v < j then j else pr v)
    (e2 : p2 - 1 = nI (lk_ch P pr q 1 (t - 1)).length) (e3 : p3 = nI (lk_ch P pr q t (j - t)).length)
    (h : ∀ fs nx up, lk_K b (td_ad P j) pr' (td_set sl j (N + 1)) fs nx up → lk_S (td_ad P j) (td_set sl j (N + 1)) (N + 1) → (∀ k, k < b ∨ b + 17 ≤ k → fs k = xfst k ∧ nx k = xnxt k ∧ up k = xup k) → post (nI (N + 1)) (xcap, xrel, xdel, xins, xdif, xtsk, xscl, xopc, xpos, xpad, xpgl, fs, nx, up, upd xlab (b + (N + 1)) p4, upd xusd rg (nI (N + 1)), xrts, xlft, xfor, xtre, xmat, xm1, xm2, xtI, xtJ, xc1, xc2, xscr, xopA, xpag)) :
    wpX_insertNode post (xcap, xrel, xdel, xins, xdif, xtsk, xscl, xopc, xpos, xpad, xpgl, xfst, xnxt, xup, xlab, xusd, xrts, xlft, xfor, xtre, xmat, xm1, xm2, xtI, xtJ, xc1, xc2, xscr, xopA, xpag) (nI rg) (nI (sl q)) p2 p3 p4 := by
  have hb : b ≤ 34 := by omega
  have sb : ∀ v, (v = 0 ∨ (1 ≤ v ∧ v ≤ 8 ∧ P v = true)) → sl v ≤ N := fun v hv => by
    rcases hv with z | z
    · rw [z, hS.1]
      omega
    · exact (hS.2.1 v z.1 z.2.1 z.2.2).2
  have old := lk_old (P := P) (pr := pr) (q := q) hj1 hj8 hPj ht1 htj
  have mB : ∀ {w}, w ∈ lk_ch P pr q t (j - t) → t ≤ w ∧ w < j ∧ P w = true := fun h => by
    have := lk_ch_m.mp h
    exact ⟨this.1, by omega, this.2.2.1⟩
  have Kq := hK.1 q hq
  rw [old] at Kq
  have Kp := lk_p_a.mp (lk_p_a.mp Kq.2).2
  have hzC : sl ((lk_ch P pr q (j + 1) (8 - j)).headD 0) ≤ N := by
    rcases zc : lk_ch P pr q (j + 1) (8 - j) with _ | ⟨w, l⟩
    · exact sb 0 (Or.inl rfl)
    · have := lk_ch_m.mp (show w ∈ lk_ch P pr q (j + 1) (8 - j) by rw [zc]; exact List.mem_cons_self)
      exact sb w (Or.inr ⟨by omega, by omega, this.2.2.1⟩)
  have lB8 := lk_ch_len (P := P) (pr := pr) (q := q) (k := j - t) (lo := t)
  unfold wpX_insertNode
  dsimp only
  rw [nI_clamp (n := rg) (by omega), hu]
  refine nm_r (e' := nI b) (by rw [hbr]; exact pk_mul rg 17) ⟨vp_in_nI (by omega) (by omega), vp_in_nI (by omega) (by omega), nm_r (e' := upd xusd rg (nI (N + 1))) (by rw [nI_1]) ⟨vp_in_nI (by omega) (by omega), nm_r (e' := nI (N + 1)) pk_us ?_⟩⟩
  refine xw_child hb (by omega) hS hK hq (A := lk_ch P pr q 1 (t - 1)) old e2 ?_
  refine xw_fol hb (by omega) hS hK hq old ?_
  rw [e3]
  refine xw_hover (B := lk_ch P pr q t (j - t)) (z := (lk_ch P pr q (j + 1) (8 - j)).headD 0) hb (by omega) (by omega) hS (fun v hv => ⟨by have := mB hv; omega, by have := mB hv; omega, (mB hv).2.2⟩) (by omega) (by omega) Kp.1 (Or.inl rfl) lk_nd (by rw [lk_hd_a]) ?_
  intro u hu1 hu2
  have u2' : ∀ v, v ∈ lk_ch P pr q t (j - t) → upd u (b + (N + 1)) (nI (sl q)) (b + sl v) = nI (N + 1) := fun v hv => by
    have o := mB hv
    have := sb v (Or.inr ⟨by omega, by omega, o.2.2⟩)
    rw [pk_un (by omega)]
    exact hu1 v hv
  have u3' : ∀ k, k ≠ b + (N + 1) → (∀ v, v ∈ lk_ch P pr q t (j - t) → k ≠ b + sl v) → upd u (b + (N + 1)) (nI (sl q)) k = xup k := fun k k1 k2 => by
    rw [pk_un k1]
    exact hu2 k k2
  have oth : ∀ k, k < b ∨ b + 17 ≤ k → upd u (b + (N + 1)) (nI (sl q)) k = xup k := fun k hk => u3' k (by omega) fun v hv => by
    have o := mB hv
    have := sb v (Or.inr ⟨by omega, by omega, o.2.2⟩)
    omega
  dsimp only
  rw [nI_add, nI_clamp (n := b + (N + 1)) (by omega)]
  refine ⟨vp_in_nI (by omega) (by omega), nm_e ⟨vp_in_nI (by omega) (by omega), nm_e ?_⟩⟩
  rcases lk_snoc (lk_ch P pr q t (j - t)) with z | ⟨k, c, z⟩
  · rw [z, lk_la_n, hS.1]
    refine br_t rfl ⟨vp_in_nI (by omega) (by omega), nm_e ⟨vp_in_nI (by omega) (by omega), nm_e ?_⟩⟩
    refine xw_i158 (fs0 := xfst) (nx0 := xnxt) (up0 := xup) hb hN hS hK hj1 hj8 hPj ht1 htj hq hpj hno hp (by rw [pk_us, z]; exact congrArg nI hS.1.symm) (fun k hk => pk_un hk) (by rw [pk_us]; rfl) (fun k a z' => by rw [z] at z'; exact absurd z' (by simp)) (fun k hk _ => pk_un hk) pk_us u2' u3' ?_
    intro fs nx h1 h2 h3
    refine h fs nx _ h1 h2 fun k hk => ⟨?_, ?_, oth k hk⟩
    · rw [(h3 k hk).1, pk_un (by omega)]
    · rw [(h3 k hk).2, pk_un (by omega)]
  · have oc := mB (w := c) (by rw [z]; simp)
    have sc := hS.2.1 c (by omega) (by omega) oc.2.2
    have nc : xnxt (b + sl c) = nI (sl ((lk_ch P pr q (j + 1) (8 - j)).headD 0)) := by
      have := Kp.1
      rw [z] at this
      exact (lk_p_a.mp this).2.1
    have eh : sl ((lk_ch P pr q t (j - t) ++ lk_ch P pr q (j + 1) (8 - j)).headD 0) = sl ((lk_ch P pr q t (j - t)).headD 0) := by
      rw [lk_hd_a, z]
      cases k <;> rfl
    rw [eh]
    have el : lk_la (lk_ch P pr q t (j - t)) = c := by rw [z, lk_la_s]
    rw [el, nI_add, nI_clamp (n := b + sl c) (by omega), nc]
    refine br_f (nI_ne0 (by omega) (by omega)) ⟨vp_in_nI (by omega) (by omega), nm_e ⟨vp_in_nI (by omega) (by omega), vp_in_nI (by omega) (by omega), nm_e ⟨vp_in_nI (by omega) (by omega), nm_e ?_⟩⟩⟩
    refine xw_i158 (fs0 := xfst) (nx0 := xnxt) (up0 := xup) hb hN hS hK hj1 hj8 hPj ht1 htj hq hpj hno hp pk_us (fun k hk => pk_un hk) (by rw [pk_un (by omega), pk_us]) (fun k' a' z' => by
        rw [z] at z'
        have := List.append_inj' z' rfl
        have e3 : c = a' := by simpa using this.2
        rw [← e3, pk_us]) (fun k' hk' hB => by
        rw [pk_un (hB k c z), pk_un hk']) pk_us u2' u3' ?_
    intro fs nx h1 h2 h3
    refine h fs nx _ h1 h2 fun k' hk' => ⟨?_, ?_, oth k' hk'⟩
    · rw [(h3 k' hk').1, pk_un (by omega)]
    · rw [(h3 k' hk').2, pk_un (by omega), pk_un (by omega)]
end
end
section
/-! elder, removeNode -/
section
variable {b N j q t i c rg lx : Nat} {P : Nat → Bool} {pr pr' sl : Nat → Nat} {A B C D E R : List Nat} {xcap xrel xdel xins xdif xtsk xscl xopc xpos xpad xpgl : Int32} {xfst xnxt xup xlab xusd xrts xlft xfor xtre xmat xm1 xm2 xtI xtJ xc1 xc2 xscr xopA xpag : Nat → Int32}
theorem xw_el22 {post : Int32 → Prop} (hb : b ≤ 34) (hN : N ≤ 16) (hS : lk_S P sl N) (hK : lk_K b P pr sl xfst xnxt xup) (hq : q = 0 ∨ (1 ≤ q ∧ q ≤ 8 ∧ P q = true)) (hL : lk_ch P pr q 1 8 = A ++ (i :: C)) (h : post (nI (sl (lk_la A)))) :
    ∀ (E D : List Nat), A = D ++ E → wX_elder_22 post (nI b) (nI (sl i)) xcap xrel xdel xins xdif xtsk xscl xopc xpos xpad xpgl xfst xnxt xup xlab xusd xrts xlft xfor xtre xmat xm1 xm2 xtI xtJ xc1 xc2 xscr xopA xpag (E.length + 1) (nI (sl (lk_la D))) (nI (sl ((E ++ (i :: C)).headD 0))) (nI D.length) := by
  have l8 : A.length ≤ 8 := by
    have h1 := lk_ch_len (P := P) (pr := pr) (q := q) (k := 8) (lo := 1)
    rw [hL, List.length_append] at h1
    omega
  have oi := lk_ok (P := P) (pr := pr) (q := q) (w := i) (by rw [hL]; simp)
  have si := hS.2.1 i oi.1 oi.2.1 oi.2.2.1
  intro E
  induction E with
  | nil =>
    intro D hD
    rw [List.append_nil] at hD
    subst hD
    unfold wX_elder_22
    exact br_f (nI_ge (b := 17) (by omega) (by decide)) (br_t rfl h)
  | cons w E ih =>
    intro D hD
    have eL : A.length = D.length + (E.length + 1) := by rw [hD, List.length_append, List.length_cons]
    have ow := lk_ok (P := P) (pr := pr) (q := q) (w := w) (by rw [hL, hD]; simp)
    have sw := hS.2.1 w ow.1 ow.2.1 ow.2.2.1
    have ne : w ≠ i := fun e => lk_nd (k := 8) (lo := 1) A C i hL (by rw [hD, ← e]; simp)
    have pw : xnxt (b + sl w) = nI (sl ((E ++ (i :: C)).headD 0)) := by
      have K := (hK.1 q hq).2
      rw [hL, hD, List.append_assoc] at K
      exact (lk_p_a.mp K).2.1
    have k := ih (D ++ [w]) (by rw [hD]; simp)
    rw [lk_la_s, td_l1] at k
    rw [List.length_cons]
    unfold wX_elder_22
    show ((17 : Int32) ≤ nI D.length → _) ∧ (¬ (17 : Int32) ≤ nI D.length → ((nI (sl w) = nI (sl i) → _) ∧ (¬ nI (sl w) = nI (sl i) → (vp_in (nI b + nI (sl w)) 51 ∧ (∀ x4_7 : Int32, x4_7 = xnxt (nI b + nI (sl w)).toNatClampNeg → (∀ x5_8 : Int32, x5_8 = nI D.length + 1 → wX_elder_22 post (nI b) (nI (sl i)) xcap xrel xdel xins xdif xtsk xscl xopc xpos xpad xpgl xfst xnxt xup xlab xusd xrts xlft xfor xtre xmat xm1 xm2 xtI xtJ xc1 xc2 xscr xopA xpag (E.length + 1) (nI (sl w)) x4_7 x5_8))))))
    rw [nI_add, nI_clamp (n := b + sl w) (by omega), pw]
    refine br_f (nI_ge (b := 17) (by omega) (by decide)) (br_f ?_ ⟨vp_in_nI (by omega) (by omega), nm_e (nm_r (nI_1 _) k)⟩)
    rw [nI_eq (by omega) (by omega)]
    exact fun e => ne (hS.2.2 w i ow.1 ow.2.1 ow.2.2.1 oi.1 oi.2.1 oi.2.2.1 e)
theorem xw_elder {post : Int32 → Prop} (hb : b ≤ 34) (hN : N ≤ 16) (hS : lk_S P sl N) (hK : lk_K b P pr sl xfst xnxt xup) (hq : q = 0 ∨ (1 ≤ q ∧ q ≤ 8 ∧ P q = true)) (hL : lk_ch P pr q 1 8 = A ++ (i :: C)) (h : post (nI (sl (lk_la A)))) :
    wpX_elder post (xcap, xrel, xdel, xins, xdif, xtsk, xscl, xopc, xpos, xpad, xpgl, xfst, xnxt, xup, xlab, xusd, xrts, xlft, xfor, xtre, xmat, xm1, xm2, xtI, xtJ, xc1, xc2, xscr, xopA, xpag) (nI b) (nI (sl i)) := by
  have oi := lk_ok (P := P) (pr := pr) (q := q) (w := i) (by rw [hL]; simp)
  have si := hS.2.1 i oi.1 oi.2.1 oi.2.2.1
  have sq : sl q ≤ 16 := by
    rcases hq with z | z
    · rw [z, hS.1]
      omega
    · have := hS.2.1 q z.1 z.2.1 z.2.2
      omega
  have ui := hK.2 i oi.1 oi.2.1 oi.2.2.1
  rw [oi.2.2.2] at ui
  have fq := (hK.1 q hq).1
  rw [hL] at fq
  unfold wpX_elder
  dsimp only
  rw [nI_add, nI_clamp (n := b + sl i) (by omega), ui, nI_add, nI_clamp (n := b + sl q) (by omega), fq]
  have k := xw_el22 (xcap := xcap) (xrel := xrel) (xdel := xdel) (xins := xins) (xdif := xdif) (xtsk := xtsk) (xscl := xscl) (xopc := xopc) (xpos := xpos) (xpad := xpad) (xpgl := xpgl) (xlab := xlab) (xusd := xusd) (xrts := xrts) (xlft := xlft) (xfor := xfor) (xtre := xtre) (xmat := xmat) (xm1 := xm1) (xm2 := xm2) (xtI := xtI) (xtJ := xtJ) (xc1 := xc1) (xc2 := xc2) (xscr := xscr) (xopA := xopA) (xpag := xpag) hb hN hS hK hq hL h A [] rfl
  rw [lk_la_n, hS.1] at k
  exact ⟨vp_in_nI (by omega) (by omega), vp_in_nI (by omega) (by omega), nm_e ⟨_, k⟩⟩
/-- the last link of a removal -/
theorem xw_r74 {post : SX → Prop} {fs0 nx0 up0 : Nat → Int32} (hb : b ≤ 34) (hN : N ≤ 16) (hS : lk_S P sl N) (hK : lk_K b P pr sl fs0 nx0 up0) (hi1 : 1 ≤ i) (hi8 : i ≤ 8) (hPi : P i = true) (ht1 : 1 ≤ t) (hti : t ≤ i) (hqi : pr i = q) (hqne : q ≠ i) (hq : q = 0 ∨ (1 ≤ q ∧ q ≤ 8 ∧ P q = true))
    (r1 : ∀ w, 1 ≤ w → w < t → P w = true → pr w ≠ i) (r2 : ∀ w, t ≤ w → w < i → P w = true → pr w ≠ q) (r3 : ∀ w, i < w → w ≤ 8 → P w = true → pr w ≠ i)
    (hp : ∀ v, 1 ≤ v → v ≤ 8 → P v = true → v ≠ i → pr' v = if pr v = i then q else pr v)
    (f2 : xfst = fs0) (n3 : ∀ k a, lk_ch P pr i t (i - t) = k ++ [a] → xnxt (b + sl a) = nI (sl ((lk_ch P pr q (i + 1) (8 - i)).headD 0))) (n4 : ∀ k, (∀ l a, lk_ch P pr i t (i - t) = l ++ [a] → k ≠ b + sl a) → xnxt k = nx0 k)
    (u2 : ∀ v, v ∈ lk_ch P pr i t (i - t) → xup (b + sl v) = nI (sl q)) (u3 : ∀ k, (∀ v, v ∈ lk_ch P pr i t (i - t) → k ≠ b + sl v) → xup k = up0 k)
    (h : ∀ fs nx, lk_K b (td_rm P i) pr' sl fs nx xup → lk_S (td_rm P i) sl N → (∀ k, k < b ∨ b + 17 ≤ k → fs k = xfst k ∧ nx k = xnxt k) → post (xcap, xrel, xdel, xins, xdif, xtsk, xscl, xopc, xpos, xpad, xpgl, fs, nx, xup, xlab, xusd, xrts, xlft, xfor, xtre, xmat, xm1, xm2, xtI, xtJ, xc1, xc2, xscr, xopA, xpag)) :
    wX_removeNode_74 post (nI b) (nI (sl q)) (nI (sl (lk_la (lk_ch P pr q 1 (t - 1))))) (nI (sl ((lk_ch P pr i t (i - t) ++ lk_ch P pr q (i + 1) (8 - i)).headD 0))) xcap xrel xdel xins xdif xtsk xscl xopc xpos xpad xpgl xfst xnxt xup xlab xusd xrts xlft xfor xtre xmat xm1 xm2 xtI xtJ xc1 xc2 xscr xopA xpag := by
  subst f2
  have sb : ∀ v, (v = 0 ∨ (1 ≤ v ∧ v ≤ 8 ∧ P v = true)) → sl v ≤ N := fun v hv => by
    rcases hv with z | z
    · rw [z, hS.1]
      omega
    · exact (hS.2.1 v z.1 z.2.1 z.2.2).2
  have sq := sb q hq
  have mA : ∀ {w}, w ∈ lk_ch P pr q 1 (t - 1) → 1 ≤ w ∧ w < t ∧ P w = true := fun h => by
    have := lk_ch_m.mp h
    exact ⟨this.1, by omega, this.2.2.1⟩
  have mB : ∀ {w}, w ∈ lk_ch P pr i t (i - t) → t ≤ w ∧ w < i ∧ P w = true := fun h => by
    have := lk_ch_m.mp h
    exact ⟨this.1, by omega, this.2.2.1⟩
  have u3' : ∀ v, 1 ≤ v → v ≤ 8 → P v = true → ¬ v ∈ lk_ch P pr i t (i - t) → xup (b + sl v) = up0 (b + sl v) := fun v v1 v8 vP vn => by
    refine u3 _ fun w hw e => vn ?_
    have := mB hw
    have e2 := hS.2.2 v w v1 v8 vP (by omega) (by omega) this.2.2 (by omega)
    rw [e2]
    exact hw
  have n4' : ∀ v, 1 ≤ v → v ≤ 8 → P v = true → (∀ k a, lk_ch P pr i t (i - t) = k ++ [a] → v ≠ a) → xnxt (b + sl v) = nx0 (b + sl v) := fun v v1 v8 vP hB => by
    refine n4 _ fun l a z' e => hB l a z' ?_
    have := mB (w := a) (by rw [z']; simp)
    exact hS.2.2 v a v1 v8 vP (by omega) (by omega) this.2.2 (by omega)
  unfold wX_removeNode_74 wpX_link
  dsimp only
  rcases lk_snoc (lk_ch P pr q 1 (t - 1)) with z | ⟨k, a, z⟩
  · rw [z, lk_la_n, hS.1, nI_add, nI_clamp (n := b + sl q) (by omega)]
    refine br_t rfl ⟨vp_in_nI (by omega) (by omega), nm_e ?_⟩
    have rem := lk_rem (fs' := upd xfst (b + sl q) (nI (sl ((lk_ch P pr i t (i - t) ++ lk_ch P pr q (i + 1) (8 - i)).headD 0)))) (nx' := xnxt) (up' := xup) hS hK hi1 hi8 hPi ht1 hti hqi hqne hq r1 r2 r3 hp
      (fun _ => pk_us) (fun v hv hne => by
        have ne : sl v ≠ sl q := fun e => by
          rcases hv with y | y
          · rcases hq with y2 | y2
            · exact hne z (by rw [y, y2])
            · have := hS.2.1 q y2.1 y2.2.1 y2.2.2
              rw [y, hS.1] at e
              omega
          · rcases hq with y2 | y2
            · have := hS.2.1 v y.1 y.2.1 y.2.2
              rw [y2, hS.1] at e
              omega
            · exact hne z (hS.2.2 v q y.1 y.2.1 y.2.2 y2.1 y2.2.1 y2.2.2 e)
        rw [pk_un (by omega)])
      (fun k a z' => by rw [z] at z'; exact absurd z' (by simp)) n3 (fun v v1 v8 vP _ hB => n4' v v1 v8 vP hB) u2 u3'
    exact h _ _ rem.1 rem.2 (fun k hk => ⟨pk_un (by omega), rfl⟩)
  · have oa := mA (w := a) (by rw [z]; simp)
    have sa := hS.2.1 a oa.1 (by omega) oa.2.2
    rw [z, lk_la_s, nI_add, nI_add, nI_clamp (n := b + sl a) (by omega)]
    refine br_f (nI_ne0 (by omega) (by omega)) ⟨vp_in_nI (by omega) (by omega), nm_e ?_⟩
    have rem := lk_rem (fs' := xfst) (nx' := upd xnxt (b + sl a) (nI (sl ((lk_ch P pr i t (i - t) ++ lk_ch P pr q (i + 1) (8 - i)).headD 0)))) (up' := xup) hS hK hi1 hi8 hPi ht1 hti hqi hqne hq r1 r2 r3 hp
      (fun z' => by rw [z] at z'; exact absurd z' (by simp)) (fun v hv hne => rfl)
      (fun k' a' z' => by
        rw [z] at z'
        have := List.append_inj' z' rfl
        have e3 : a = a' := by simpa using this.2
        rw [← e3, pk_us])
      (fun k' c' z' => by
        have oc := mB (w := c') (by rw [z']; simp)
        have ne : sl c' ≠ sl a := fun e => by
          have := hS.2.2 c' a (by omega) (by omega) oc.2.2 oa.1 (by omega) oa.2.2 e
          omega
        rw [pk_un (by omega)]
        exact n3 k' c' z')
      (fun v v1 v8 vP hA hB => by
        have ne : sl v ≠ sl a := fun e => hA k a z (hS.2.2 v a v1 v8 vP oa.1 (by omega) oa.2.2 e)
        rw [pk_un (by omega)]
        exact n4' v v1 v8 vP hB) u2 u3'
    exact h _ _ rem.1 rem.2 (fun k hk => ⟨rfl, pk_un (by omega)⟩)
/-- removeNode: the forest with a node less -/
theorem xw_remove {post : SX → Prop} (hb : b ≤ 34) (hN : N ≤ 16) (hS : lk_S P sl N) (hK : lk_K b P pr sl xfst xnxt xup) (hi1 : 1 ≤ i) (hi8 : i ≤ 8) (hPi : P i = true) (ht1 : 1 ≤ t) (hti : t ≤ i) (hqi : pr i = q) (hqne : q ≠ i) (hq : q = 0 ∨ (1 ≤ q ∧ q ≤ 8 ∧ P q = true))
    (r1 : ∀ w, 1 ≤ w → w < t → P w = true → pr w ≠ i) (r2 : ∀ w, t ≤ w → w < i → P w = true → pr w ≠ q) (r3 : ∀ w, i < w → w ≤ 8 → P w = true → pr w ≠ i)
    (hp : ∀ v, 1 ≤ v → v ≤ 8 → P v = true → v ≠ i → pr' v = if pr v = i then q else pr v)
    (h : ∀ fs nx up, lk_K b (td_rm P i) pr' sl fs nx up → lk_S (td_rm P i) sl N → (∀ k, k < b ∨ b + 17 ≤ k → fs k = xfst k ∧ nx k = xnxt k ∧ up k = xup k) → post (xcap, xrel, xdel, xins, xdif, xtsk, xscl, xopc, xpos, xpad, xpgl, fs, nx, up, xlab, xusd, xrts, xlft, xfor, xtre, xmat, xm1, xm2, xtI, xtJ, xc1, xc2, xscr, xopA, xpag)) :
    wpX_removeNode post (xcap, xrel, xdel, xins, xdif, xtsk, xscl, xopc, xpos, xpad, xpgl, xfst, xnxt, xup, xlab, xusd, xrts, xlft, xfor, xtre, xmat, xm1, xm2, xtI, xtJ, xc1, xc2, xscr, xopA, xpag) (nI b) (nI (sl i)) := by
  have sb : ∀ v, (v = 0 ∨ (1 ≤ v ∧ v ≤ 8 ∧ P v = true)) → sl v ≤ N := fun v hv => by
    rcases hv with z | z
    · rw [z, hS.1]
      omega
    · exact (hS.2.1 v z.1 z.2.1 z.2.2).2
  have si := hS.2.1 i hi1 hi8 hPi
  have ui := hK.2 i hi1 hi8 hPi
  rw [hqi] at ui
  have old := lk_rem_old hi1 hi8 hPi ht1 hti hqi r2
  have Ki := hK.1 i (Or.inr ⟨hi1, hi8, hPi⟩)
  rw [lk_rem_i hi1 hi8 ht1 hti hqi hqne r1 r3] at Ki
  have Kq := hK.1 q hq
  rw [old] at Kq
  have ni : xnxt (b + sl i) = nI (sl ((lk_ch P pr q (i + 1) (8 - i)).headD 0)) := (lk_p_a.mp Kq.2).2.1
  have mB : ∀ {w}, w ∈ lk_ch P pr i t (i - t) → t ≤ w ∧ w < i ∧ P w = true := fun h => by
    have := lk_ch_m.mp h
    exact ⟨this.1, by omega, this.2.2.1⟩
  have lB8 := lk_ch_len (P := P) (pr := pr) (q := i) (k := i - t) (lo := t)
  unfold wpX_removeNode
  dsimp only
  rw [nI_add, nI_clamp (n := b + sl i) (by omega), ui]
  refine ⟨vp_in_nI (by omega) (by omega), nm_e (xw_elder hb hN hS hK hq old ?_)⟩
  rw [Ki.1]
  refine ⟨vp_in_nI (by omega) (by omega), nm_e ?_⟩
  refine xw_hover (B := lk_ch P pr i t (i - t)) (z := 0) (c := 17) hb (by omega) (by omega) hS (fun v hv => ⟨by have := mB hv; omega, by have := mB hv; omega, (mB hv).2.2⟩) (by omega) (by have := sb 0 (Or.inl rfl); omega) Ki.2 (Or.inr ⟨rfl, by omega⟩) lk_nd rfl ?_
  intro u hu1 hu2
  have oth : ∀ k, k < b ∨ b + 17 ≤ k → u k = xup k := fun k hk => hu2 k fun v hv => by
    have o := mB hv
    have := sb v (Or.inr ⟨by omega, by omega, o.2.2⟩)
    omega
  dsimp only
  rcases lk_snoc (lk_ch P pr i t (i - t)) with z | ⟨k, c, z⟩
  · have el : lk_la (lk_ch P pr i t (i - t)) = 0 := by rw [z]; rfl
    rw [el, hS.1, ni]
    refine br_t rfl ⟨vp_in_nI (by omega) (by omega), nm_e ?_⟩
    have eh : sl ((lk_ch P pr q (i + 1) (8 - i)).headD 0) = sl ((lk_ch P pr i t (i - t) ++ lk_ch P pr q (i + 1) (8 - i)).headD 0) := by rw [z]; rfl
    rw [eh]
    refine xw_r74 (fs0 := xfst) (nx0 := xnxt) (up0 := xup) hb hN hS hK hi1 hi8 hPi ht1 hti hqi hqne hq r1 r2 r3 hp rfl (fun k a z' => by rw [z] at z'; exact absurd z' (by simp)) (fun _ _ => rfl) hu1 hu2 ?_
    intro fs nx h1 h2 h3
    exact h fs nx _ h1 h2 fun k hk => ⟨(h3 k hk).1, (h3 k hk).2, oth k hk⟩
  · have oc := mB (w := c) (by rw [z]; simp)
    have sc := hS.2.1 c (by omega) (by omega) oc.2.2
    have el : lk_la (lk_ch P pr i t (i - t)) = c := by rw [z, lk_la_s]
    rw [el, nI_add, nI_clamp (n := b + sl c) (by omega), ni]
    refine br_f (nI_ne0 (by omega) (by omega)) ⟨vp_in_nI (by omega) (by omega), vp_in_nI (by omega) (by omega), nm_e ?_⟩
    have eh : sl ((lk_ch P pr i t (i - t)).headD 0) = sl ((lk_ch P pr i t (i - t) ++ lk_ch P pr q (i + 1) (8 - i)).headD 0) := by
      rw [lk_hd_a, z]
      cases k <;> rfl
    rw [eh]
    refine xw_r74 (fs0 := xfst) (nx0 := xnxt) (up0 := xup) hb hN hS hK hi1 hi8 hPi ht1 hti hqi hqne hq r1 r2 r3 hp rfl (fun k' a' z' => by
        rw [z] at z'
        have := List.append_inj' z' rfl
        have e3 : c = a' := by simpa using this.2
        rw [← e3, pk_us]) (fun k' hB => pk_un (hB k c z)) hu1 hu2 ?_
    intro fs nx h1 h2 h3
    refine h fs nx _ h1 h2 fun k' hk' => ⟨(h3 k' hk').1, ?_, oth k' hk'⟩
    rw [(h3 k' hk').2, pk_un (by omega)]
end
end
section
/-! deepest, nodeAt: postorder in a linked forest -/
def lk_mn (P : Nat → Bool) (lo v : Nat) : Nat := td_fd P lo (v + 1 - lo)
section
variable {b N j q t i c v w x : Nat} {P : Nat → Bool} {l pr sl : Nat → Nat} {A B C D E R : List Nat}
theorem lk_mn_u {lo p : Nat} (h1 : lo ≤ p) (h2 : p ≤ v) (h3 : P p = true) (h4 : ∀ y, lo ≤ y → y < p → ¬ P y = true) : lk_mn P lo v = p := by
  unfold lk_mn
  refine td_fd_u h1 (by omega) h3 fun y y1 y2 => ?_
  have := h4 y y1 y2
  cases hy : P y with
  | false => rfl
  | true => exact absurd hy this
theorem lk_mn_s {lo : Nat} (h1 : lo ≤ v) (h3 : P v = true) : lo ≤ lk_mn P lo v ∧ lk_mn P lo v ≤ v ∧ P (lk_mn P lo v) = true ∧ ∀ y, lo ≤ y → y < lk_mn P lo v → ¬ P y = true := by
  unfold lk_mn
  rcases td_fd_s P (v + 1 - lo) lo with ⟨a1, a2⟩ | ⟨a1, a2, a3, a4⟩
  · have := a2 v h1 (by omega)
    rw [h3] at this
    exact absurd this (by decide)
  · exact ⟨a1, by omega, a3, fun y y1 y2 y3 => by rw [a4 y y1 y2] at y3; exact absurd y3 (by decide)⟩
/-- above w, below v: a child of v -/
theorem lk_top (hL : td_LP P l) : ∀ k v w, v - w ≤ k → 1 ≤ w → P w = true → l v ≤ w → w < v → v ≤ 8 → P v = true → ∃ c, P c = true ∧ w ≤ c ∧ c < v ∧ l c ≤ w ∧ td_up P l c = v := by
  intro k
  induction k with
  | zero =>
    intro v w h1 h2 h3 h4 h5
    omega
  | succ k ih =>
    intro v w h1 h2 h3 h4 h5 h6 h7
    have Lw := hL w h2 (by omega) h3
    rcases td_up_s P l w with ⟨a1, a2⟩ | ⟨a1, a2, a3, a4, a5⟩
    · have := a2 v h5 h6 h7
      omega
    · rcases Nat.lt_trichotomy (td_up P l w) v with z | z | z
      · obtain ⟨c, c1, c2, c3, c4, c5⟩ := ih v (td_up P l w) (by omega) (by omega) a3 (by omega) z h6 h7
        refine ⟨c, c1, by omega, c3, ?_, c5⟩
        rcases Nat.eq_or_lt_of_le c2 with y | y
        · rw [← y]
          exact a4
        · have := (hL _ (by omega) a2 a3).2.2 c y (by omega) c1 c4
          omega
      · exact ⟨w, h3, Nat.le_refl _, h5, Lw.2.1, z⟩
      · have := a5 v h5 z h7
        omega
theorem lk_top0 (hL : td_LP P l) : ∀ k w, 8 - w ≤ k → 1 ≤ w → w ≤ 8 → P w = true → ∃ c, P c = true ∧ w ≤ c ∧ c ≤ 8 ∧ l c ≤ w ∧ td_up P l c = 0 := by
  intro k
  induction k with
  | zero =>
    intro w h1 h2 h3 h4
    have Lw := hL w h2 h3 h4
    exact ⟨w, h4, Nat.le_refl _, h3, Lw.2.1, td_up_0 fun y y1 y2 => by omega⟩
  | succ k ih =>
    intro w h1 h2 h3 h4
    have Lw := hL w h2 h3 h4
    rcases td_up_s P l w with ⟨a1, a2⟩ | ⟨a1, a2, a3, a4, a5⟩
    · exact ⟨w, h4, Nat.le_refl _, h3, Lw.2.1, a1⟩
    · obtain ⟨c, c1, c2, c3, c4, c5⟩ := ih (td_up P l w) (by omega) (by omega) a2 a3
      refine ⟨c, c1, by omega, c3, ?_, c5⟩
      rcases Nat.eq_or_lt_of_le c2 with y | y
      · rw [← y]
        exact a4
      · have := (hL _ (by omega) a2 a3).2.2 c y c3 c1 c4
        omega
theorem lk_chl (h : w ∈ lk_ch P (td_up P l) q 1 8) : 1 ≤ w ∧ w ≤ 8 ∧ P w = true ∧ td_up P l w = q := lk_ok h
theorem lk_chr (h1 : 1 ≤ w) (h2 : w ≤ 8) (h3 : P w = true) (h4 : td_up P l w = q) : w ∈ lk_ch P (td_up P l) q 1 8 := lk_ch_m.mpr ⟨h1, by omega, h3, h4⟩
theorem lk_hdl {y : Nat} (h : lk_ch P (td_up P l) q 1 8 = c :: R) (hy : y ∈ lk_ch P (td_up P l) q 1 8) : c ≤ y := by
  have p := lk_pw (P := P) (pr := td_up P l) (q := q) (k := 8) (lo := 1)
  rw [h] at p hy
  rcases List.mem_cons.mp hy with z | z
  · omega
  · exact Nat.le_of_lt (List.rel_of_pairwise_cons p z)
/-- the least node below v is the least below its first child -/
theorem lk_mn_c (hL : td_LP P l) (hv1 : 1 ≤ v) (hv8 : v ≤ 8) (hv : P v = true) (hc : lk_ch P (td_up P l) v 1 8 = c :: R) : lk_mn P (l v) v = lk_mn P (l c) c := by
  have oc := lk_chl (w := c) (P := P) (l := l) (q := v) (by rw [hc]; simp)
  have Lv := hL v hv1 hv8 hv
  have Lc := hL c oc.1 oc.2.1 oc.2.2.1
  have uc := td_up_s P l c
  rw [oc.2.2.2] at uc
  have uc' : c < v ∧ l v ≤ c := by omega
  have lc := Lc.2.2 v uc'.1 hv8 hv uc'.2
  have m1 := lk_mn_s (P := P) (lo := l c) (v := c) Lc.2.1 oc.2.2.1
  refine lk_mn_u (by omega) (by omega) m1.2.2.1 fun y y1 y2 y3 => ?_
  rcases Nat.lt_or_ge y (l c) with z | z
  · obtain ⟨d, d1, d2, d3, d4, d5⟩ := lk_top hL 8 v y (by omega) (by omega) y3 y1 (by omega) hv8 hv
    have hcd := lk_hdl hc (lk_chr (w := d) (by omega) (by omega) d1 d5)
    rcases Nat.eq_or_lt_of_le hcd with e | e
    · rw [← e] at d4
      omega
    · rcases uc with ⟨a1, a2⟩ | ⟨a1, a2, a3, a4, a5⟩
      · omega
      · have := a5 d e d3 d1
        omega
  · exact m1.2.2.2 y z y2 y3
theorem lk_mn_n (hL : td_LP P l) (hv1 : 1 ≤ v) (hv8 : v ≤ 8) (hv : P v = true) (hc : lk_ch P (td_up P l) v 1 8 = []) : lk_mn P (l v) v = v := by
  have Lv := hL v hv1 hv8 hv
  refine lk_mn_u Lv.2.1 (Nat.le_refl _) hv fun y y1 y2 y3 => ?_
  obtain ⟨d, d1, d2, d3, d4, d5⟩ := lk_top hL 8 v y (by omega) (by omega) y3 y1 y2 hv8 hv
  have := lk_chr (w := d) (by omega) (by omega) d1 d5
  rw [hc] at this
  exact absurd this (List.not_mem_nil)
theorem lk_mn_0 (hL : td_LP P l) (hc : lk_ch P (td_up P l) 0 1 8 = c :: R) : lk_mn P 1 8 = lk_mn P (l c) c := by
  have oc := lk_chl (w := c) (P := P) (l := l) (q := 0) (by rw [hc]; simp)
  have Lc := hL c oc.1 oc.2.1 oc.2.2.1
  have m1 := lk_mn_s (P := P) (lo := l c) (v := c) Lc.2.1 oc.2.2.1
  refine lk_mn_u (by omega) (by omega) m1.2.2.1 fun y y1 y2 y3 => ?_
  rcases Nat.lt_or_ge y (l c) with z | z
  · obtain ⟨d, d1, d2, d3, d4, d5⟩ := lk_top0 hL 8 y (by omega) (by omega) (by omega) y3
    have hcd := lk_hdl hc (lk_chr (w := d) (by omega) (by omega) d1 d5)
    rcases Nat.eq_or_lt_of_le hcd with e | e
    · rw [← e] at d4
      omega
    · rcases td_up_s P l c with ⟨a1, a2⟩ | ⟨a1, a2, a3, a4, a5⟩
      · have := a2 d e d3 d1
        omega
      · omega
  · exact m1.2.2.2 y z y2 y3
/-- the node behind v in postorder: below the next sibling, or the parent -/
theorem lk_suc_s (hL : td_LP P l) (hq : lk_ch P (td_up P l) q 1 8 = A ++ v :: w :: R) : v < lk_mn P (l w) w ∧ ∀ y, v < y → y < lk_mn P (l w) w → ¬ P y = true := by
  have ov := lk_chl (w := v) (P := P) (l := l) (q := q) (by rw [hq]; simp)
  have ow := lk_chl (w := w) (P := P) (l := l) (q := q) (by rw [hq]; simp)
  have Lw := hL w ow.1 ow.2.1 ow.2.2.1
  have p := lk_pw (P := P) (pr := td_up P l) (q := q) (k := 8) (lo := 1)
  rw [hq] at p
  have p2 := (List.pairwise_append.mp p).2.1
  have vw : v < w := List.rel_of_pairwise_cons p2 List.mem_cons_self
  have nxt : ∀ y, P y = true → y ≤ 8 → td_up P l y = q → v < y → w ≤ y := fun y y1 y2 y3 y4 => by
    have := lk_chr (P := P) (l := l) (w := y) (by omega) y2 y1 y3
    rw [hq] at this
    rcases List.mem_append.mp this with z | z
    · have := (List.pairwise_append.mp p).2.2 y z v List.mem_cons_self
      omega
    · rcases List.mem_cons.mp z with z | z
      · omega
      · rcases List.mem_cons.mp z with z | z
        · omega
        · have := List.rel_of_pairwise_cons (List.Pairwise.of_cons p2) z
          omega
  have lw : v < l w := by
    apply Nat.lt_of_not_le
    intro z
    rcases td_up_s P l v with ⟨a1, a2⟩ | ⟨a1, a2, a3, a4, a5⟩
    · have := a2 w vw ow.2.1 ow.2.2.1
      omega
    · rcases td_up_s P l w with ⟨b1, b2⟩ | ⟨b1, b2, b3, b4, b5⟩
      · omega
      · have := a5 w vw (by omega) ow.2.2.1
        omega
  have m1 := lk_mn_s (P := P) (lo := l w) (v := w) Lw.2.1 ow.2.2.1
  refine ⟨by omega, fun y y1 y2 y3 => ?_⟩
  have z : y < l w := by
    apply Nat.lt_of_not_le
    intro z
    exact m1.2.2.2 y z y2 y3
  have key : ∃ d, P d = true ∧ y ≤ d ∧ d ≤ 8 ∧ l d ≤ y ∧ td_up P l d = q := by
    rcases td_up_s P l v with ⟨a1, a2⟩ | ⟨a1, a2, a3, a4, a5⟩
    · obtain ⟨d, d1, d2, d3, d4, d5⟩ := lk_top0 hL 8 y (by omega) (by omega) (by omega) y3
      exact ⟨d, d1, d2, d3, d4, by omega⟩
    · rw [ov.2.2.2] at a1 a2 a3 a4
      rcases td_up_s P l w with ⟨b1, b2⟩ | ⟨b1, b2, b3, b4, b5⟩
      · omega
      · obtain ⟨d, d1, d2, d3, d4, d5⟩ := lk_top hL 8 q y (by omega) (by omega) y3 (by omega) (by omega) a2 a3
        exact ⟨d, d1, d2, by omega, d4, d5⟩
  obtain ⟨d, d1, d2, d3, d4, d5⟩ := key
  have wd := nxt d d1 d3 d5 (by omega)
  rcases Nat.eq_or_lt_of_le wd with e | e
  · rw [← e] at d4
    omega
  · rcases td_up_s P l w with ⟨a1, a2⟩ | ⟨a1, a2, a3, a4, a5⟩
    · have := a2 d e d3 d1
      omega
    · rcases td_up_s P l d with ⟨b1, b2⟩ | ⟨b1, b2, b3, b4, b5⟩
      · omega
      · have := a5 d e (by omega) d1
        omega
theorem lk_suc_p (hL : td_LP P l) (hq : lk_ch P (td_up P l) q 1 8 = A ++ [v]) (hx : ∃ x, v < x ∧ x ≤ 8 ∧ P x = true) : v < q ∧ q ≤ 8 ∧ P q = true ∧ ∀ y, v < y → y < q → ¬ P y = true := by
  have ov := lk_chl (w := v) (P := P) (l := l) (q := q) (by rw [hq]; simp)
  have no : ∀ y, P y = true → y ≤ 8 → td_up P l y = q → ¬ v < y := fun y y1 y2 y3 y4 => by
    have := lk_chr (P := P) (l := l) (w := y) (by omega) y2 y1 y3
    rw [hq] at this
    rcases List.mem_append.mp this with z | z
    · have := lk_lt hq z
      omega
    · have : y = v := by simpa using z
      omega
  rcases td_up_s P l v with ⟨a1, a2⟩ | ⟨a1, a2, a3, a4, a5⟩
  · obtain ⟨x, x1, x2, x3⟩ := hx
    obtain ⟨d, d1, d2, d3, d4, d5⟩ := lk_top0 hL 8 x (by omega) (by omega) x2 x3
    exact absurd (by omega) (no d d1 d3 (by omega))
  · rw [ov.2.2.2] at a1 a2 a3 a4
    refine ⟨a1, a2, a3, fun y y1 y2 y3 => ?_⟩
    obtain ⟨d, d1, d2, d3, d4, d5⟩ := lk_top hL 8 q y (by omega) (by omega) y3 (by omega) y2 a2 a3
    exact absurd (by omega) (no d d1 (by omega) d5)
theorem lk_cnt {s : Nat} (h1 : 1 ≤ v + 1) (hvs : v < s) (hs : P s = true) (hn : ∀ y, v < y → y < s → ¬ P y = true) : td_S (td_one P) 1 s = td_S (td_one P) 1 v + 1 := by
  rw [td_S_split (c := v + 1) (by omega) h1 (i := s) (by omega), show v + 1 - 1 = v by omega, td_S_p (a := v + 1) (i := s) (by omega) (by omega), td_one_t hs, td_S_0 (a := v + 1) (i := s - 1) (fun y y1 y2 => td_one_f (hn y (by omega) (by omega)))]
end
section
variable {b N j q t i c v w x p : Nat} {P : Nat → Bool} {l pr sl : Nat → Nat} {A B C D E R : List Nat} {xcap xrel xdel xins xdif xtsk xscl xopc xpos xpad xpgl : Int32} {xfst xnxt xup xlab xusd xrts xlft xfor xtre xmat xm1 xm2 xtI xtJ xc1 xc2 xscr xopA xpag : Nat → Int32}
theorem xw_dp5 {post : Int32 → Prop} (hb : b ≤ 34) (hN : N ≤ 16) (hL : td_LP P l) (hS : lk_S P sl N) (hK : lk_K b P (td_up P l) sl xfst xnxt xup) :
    ∀ k v s, v ≤ k → 1 ≤ v → v ≤ 8 → P v = true → s + v ≤ 9 → post (nI (sl (lk_mn P (l v) v))) → wX_deepest_5 post (nI b) xcap xrel xdel xins xdif xtsk xscl xopc xpos xpad xpgl xfst xnxt xup xlab xusd xrts xlft xfor xtre xmat xm1 xm2 xtI xtJ xc1 xc2 xscr xopA xpag (k + 1) (nI (sl v)) (nI s) := by
  intro k
  induction k with
  | zero =>
    intro v s h1 h2
    omega
  | succ k ih =>
    intro v s h1 h2 h3 h4 h5 h
    have sv := hS.2.1 v h2 h3 h4
    have K := hK.1 v (Or.inr ⟨h2, h3, h4⟩)
    unfold wX_deepest_5
    rw [nI_add, nI_clamp (n := b + sl v) (by omega), K.1]
    refine br_f (nI_ge (b := 17) (by omega) (by decide)) ⟨vp_in_nI (by omega) (by omega), ?_⟩
    rcases z : lk_ch P (td_up P l) v 1 8 with _ | ⟨c, R⟩
    · rw [lk_mn_n hL h2 h3 h4 z] at h
      refine br_t ?_ h
      show nI (sl 0) = 0
      rw [hS.1]
      rfl
    · rw [lk_mn_c hL h2 h3 h4 z] at h
      have oc := lk_chl (w := c) (P := P) (l := l) (q := v) (by rw [z]; simp)
      have sc := hS.2.1 c oc.1 oc.2.1 oc.2.2.1
      have cv : c < v := by
        rcases td_up_s P l c with ⟨a1, a2⟩ | ⟨a1, a2, a3, a4, a5⟩ <;> omega
      refine br_f ?_ ⟨vp_in_nI (by omega) (by omega), nm_r (e' := nI (sl c)) rfl (nm_r (nI_1 s) (ih c (s + 1) (by omega) oc.1 oc.2.1 oc.2.2.1 (by omega) h))⟩
      show ¬ nI (sl c) = 0
      exact nI_ne0 (by omega) (by omega)
theorem xw_deep {post : Int32 → Prop} (hb : b ≤ 34) (hN : N ≤ 16) (hL : td_LP P l) (hS : lk_S P sl N) (hK : lk_K b P (td_up P l) sl xfst xnxt xup) (h2 : 1 ≤ v) (h3 : v ≤ 8) (h4 : P v = true) (h : post (nI (sl (lk_mn P (l v) v)))) :
    wpX_deepest post (xcap, xrel, xdel, xins, xdif, xtsk, xscl, xopc, xpos, xpad, xpgl, xfst, xnxt, xup, xlab, xusd, xrts, xlft, xfor, xtre, xmat, xm1, xm2, xtI, xtJ, xc1, xc2, xscr, xopA, xpag) (nI b) (nI (sl v)) := by
  unfold wpX_deepest
  exact ⟨_, xw_dp5 hb hN hL hS hK 8 v 0 h3 h2 h3 h4 (by omega) h⟩
theorem xw_deep0 {post : Int32 → Prop} (hb : b ≤ 34) (hN : N ≤ 16) (hL : td_LP P l) (hS : lk_S P sl N) (hK : lk_K b P (td_up P l) sl xfst xnxt xup) (hx1 : 1 ≤ x) (hx8 : x ≤ 8) (hx : P x = true) (h : post (nI (sl (lk_mn P 1 8)))) :
    wpX_deepest post (xcap, xrel, xdel, xins, xdif, xtsk, xscl, xopc, xpos, xpad, xpgl, xfst, xnxt, xup, xlab, xusd, xrts, xlft, xfor, xtre, xmat, xm1, xm2, xtI, xtJ, xc1, xc2, xscr, xopA, xpag) (nI b) 0 := by
  have K := (hK.1 0 (Or.inl rfl)).1
  rw [hS.1, Nat.add_zero] at K
  obtain ⟨d, d1, d2, d3, d4, d5⟩ := lk_top0 hL 8 x (by omega) hx1 hx8 hx
  have md := lk_chr (P := P) (l := l) (q := 0) (w := d) (by omega) d3 d1 d5
  rcases z : lk_ch P (td_up P l) 0 1 8 with _ | ⟨c, R⟩
  · rw [z] at md
    exact absurd md (List.not_mem_nil)
  · rw [lk_mn_0 hL z] at h
    rw [z] at K
    have oc := lk_chl (w := c) (P := P) (l := l) (q := 0) (by rw [z]; simp)
    have sc := hS.2.1 c oc.1 oc.2.1 oc.2.2.1
    unfold wpX_deepest
    refine ⟨8 + 1 + 1, ?_⟩
    unfold wX_deepest_5
    rw [show nI b + 0 = nI b from Int32.add_zero _, nI_clamp (n := b) (by omega), K]
    refine br_f (by decide) ⟨vp_in_nI (by omega) (by omega), br_f ?_ ⟨vp_in_nI (by omega) (by omega), nm_r (e' := nI (sl c)) rfl (nm_r (e' := nI 1) rfl (xw_dp5 hb hN hL hS hK 8 c 1 oc.2.1 oc.1 oc.2.1 oc.2.2.1 (by omega) h))⟩⟩
    show ¬ nI (sl c) = 0
    exact nI_ne0 (by omega) (by omega)
theorem xw_na16 {post : Int32 → Prop} (hb : b ≤ 34) (hN : N ≤ 16) (hL : td_LP P l) (hS : lk_S P sl N) (hK : lk_K b P (td_up P l) sl xfst xnxt xup) (hx1 : 1 ≤ x) (hx8 : x ≤ 8) (hx : P x = true) (hp : p = td_S (td_one P) 1 x) (hp8 : p ≤ 8) (h : post (nI (sl x))) :
    ∀ k v c, c + k = p → 1 ≤ v → v ≤ 8 → P v = true → td_S (td_one P) 1 v = c → wX_nodeAt_16 post (nI b) (nI p) xcap xrel xdel xins xdif xtsk xscl xopc xpos xpad xpgl xfst xnxt xup xlab xusd xrts xlft xfor xtre xmat xm1 xm2 xtI xtJ xc1 xc2 xscr xopA xpag (k + 1) (nI (sl v)) (nI c) := by
  have mono : ∀ v w, v < w → w ≤ 8 → P w = true → td_S (td_one P) 1 v < td_S (td_one P) 1 w := fun v w h1 h2 h3 => by
    rw [td_S_split (c := v + 1) (by omega) (by omega) (i := w) (by omega), show v + 1 - 1 = v by omega, td_S_p (a := v + 1) (i := w) (by omega) (by omega), td_one_t h3]
    omega
  intro k
  induction k with
  | zero =>
    intro v c hc v1 v8 vP vc
    have ev : v = x := by
      rcases Nat.lt_trichotomy v x with z | z | z
      · have := mono v x z hx8 hx
        omega
      · exact z
      · have := mono x v z v8 vP
        omega
    rw [ev]
    unfold wX_nodeAt_16
    exact br_t (nI_le (by omega) (by omega)) h
  | succ k ih =>
    intro v c hc v1 v8 vP vc
    have vx : v < x := by
      apply Nat.lt_of_not_le
      intro z
      rcases Nat.eq_or_lt_of_le z with e | e
      · rw [← e] at vc
        omega
      · have := mono x v e v8 vP
        omega
    have sv := hS.2.1 v v1 v8 vP
    have hup := hK.2 v v1 v8 vP
    have hq : td_up P l v = 0 ∨ (1 ≤ td_up P l v ∧ td_up P l v ≤ 8 ∧ P (td_up P l v) = true) := by
      rcases td_up_s P l v with ⟨a1, a2⟩ | ⟨a1, a2, a3, a4, a5⟩
      · exact Or.inl a1
      · exact Or.inr ⟨by omega, a2, a3⟩
    have mv := lk_chr (P := P) (l := l) (w := v) v1 v8 vP rfl
    obtain ⟨A, R, hA⟩ := List.append_of_mem mv
    have K := (hK.1 _ hq).2
    rw [hA] at K
    have nv : xnxt (b + sl v) = nI (sl (R.headD 0)) := (lk_p_a.mp K).2.1
    unfold wX_nodeAt_16
    rw [nI_add, nI_clamp (n := b + sl v) (by omega), nv, hup]
    refine br_f (nI_ge (by omega) (by omega)) ⟨vp_in_nI (by omega) (by omega), nm_e ?_⟩
    cases R with
    | nil =>
      have sp := lk_suc_p hL hA ⟨x, vx, hx8, hx⟩
      have e0 : sl (List.headD [] 0) = 0 := hS.1
      rw [e0]
      refine br_t rfl ⟨vp_in_nI (by omega) (by omega), nm_e (nm_r (nI_1 c) (ih _ (c + 1) (by omega) (by omega) sp.2.1 sp.2.2.1 ?_))⟩
      rw [lk_cnt (by omega) sp.1 sp.2.2.1 sp.2.2.2, vc]
    | cons w R =>
      have ow := lk_chl (w := w) (P := P) (l := l) (q := td_up P l v) (by rw [hA]; simp)
      have sw := hS.2.1 w ow.1 ow.2.1 ow.2.2.1
      have ss := lk_suc_s hL hA
      have Lw := hL w ow.1 ow.2.1 ow.2.2.1
      have mw := lk_mn_s (P := P) (lo := l w) (v := w) Lw.2.1 ow.2.2.1
      have e0 : sl (List.headD (w :: R) 0) = sl w := rfl
      rw [e0]
      refine br_f (nI_ne0 (by omega) (by omega)) (xw_deep hb hN hL hS hK ow.1 ow.2.1 ow.2.2.1 (nm_r (nI_1 c) (ih _ (c + 1) (by omega) (by omega) (by omega) mw.2.2.1 ?_)))
      rw [lk_cnt (by omega) ss.1 mw.2.2.1 ss.2, vc]
/-- nodeAt: the node x that has p nodes of the set up to it -/
theorem xw_nodeAt {post : Int32 → Prop} (hb : b ≤ 34) (hN : N ≤ 16) (hL : td_LP P l) (hS : lk_S P sl N) (hK : lk_K b P (td_up P l) sl xfst xnxt xup) (hx1 : 1 ≤ x) (hx8 : x ≤ 8) (hx : P x = true) (hp : p = td_S (td_one P) 1 x) (h : post (nI (sl x))) :
    wpX_nodeAt post (xcap, xrel, xdel, xins, xdif, xtsk, xscl, xopc, xpos, xpad, xpgl, xfst, xnxt, xup, xlab, xusd, xrts, xlft, xfor, xtre, xmat, xm1, xm2, xtI, xtJ, xc1, xc2, xscr, xopA, xpag) (nI b) (nI p) := by
  have hp8 : p ≤ 8 := by
    have h1 := td_S_le (f := td_one P) (g := fun _ => 1) (a := 1) (i := x) (fun v _ _ => td_one_le P v)
    rcases td_S_k (a := 1) (c := 1) (i := x) with z | z
    · rw [z] at h1
      omega
    · omega
  have hp1 : 1 ≤ p := by
    rw [hp, td_S_p hx1 hx1, td_one_t hx]
    omega
  have m0 := lk_mn_s (P := P) (lo := 1) (v := x) hx1 hx
  have e8 : lk_mn P 1 8 = lk_mn P 1 x := lk_mn_u m0.1 (by omega) m0.2.2.1 m0.2.2.2
  unfold wpX_nodeAt
  refine br_f (nI_ne0 (by omega) (by omega)) (xw_deep0 hb hN hL hS hK hx1 hx8 hx ?_)
  rw [e8]
  refine ⟨_, xw_na16 hb hN hL hS hK hx1 hx8 hx hp hp8 h (p - 1) _ 1 (by omega) m0.1 (by omega) m0.2.2.1 ?_⟩
  have := lk_cnt (P := P) (v := 0) (s := lk_mn P 1 x) (by omega) (by omega) m0.2.2.1 (fun y y1 y2 => m0.2.2.2 y (by omega) y2)
  rw [this]
  rfl
end
end
section
/-! the text of a forest -/
def tx_w (t : List Nat) : List Nat := if t = [] then [] else 40 :: (t ++ [41])
def tx_s (P : Nat → Bool) (l pc : Nat → Nat) : Nat → Nat → Nat → List Nat
  | 0, _, _ => []
  | k + 1, a, v => if v < a then [] else if P v = true then tx_s P l pc k a (l v - 1) ++ (pc v :: tx_w (tx_s P l pc k (l v) (v - 1))) else tx_s P l pc k a (v - 1)
def tx (P : Nat → Bool) (l pc : Nat → Nat) (a v : Nat) : List Nat := tx_s P l pc (v + 1) a v
def tx_T (P : Nat → Bool) (l pc : Nat → Nat) (v : Nat) : List Nat := pc v :: tx_w (tx P l pc (l v) (v - 1))
/-- what follows the text of v -/
def tx_K (P : Nat → Bool) (l pc : Nat → Nat) : Nat → Nat → List Nat
  | 0, _ => []
  | k + 1, v => if td_up P l v = 0 then tx P l pc (v + 1) 8 else tx P l pc (v + 1) (td_up P l v - 1) ++ 41 :: tx_K P l pc k (td_up P l v)
section
variable {P : Nat → Bool} {l pc : Nat → Nat} {a v c q w : Nat} {A R : List Nat}
theorem tx_fuel (hL : td_LP P l) : ∀ k k' a v, 1 ≤ a → v ≤ 8 → v < k → v < k' → tx_s P l pc k a v = tx_s P l pc k' a v := by
  intro k
  induction k with
  | zero =>
    intro k' a v h1 h8 h2
    omega
  | succ k ih =>
    intro k' a v h1 h8 h2 h3
    obtain ⟨k', rfl⟩ : ∃ j, k' = j + 1 := ⟨k' - 1, by omega⟩
    unfold tx_s
    by_cases c1 : v < a
    · rw [if_pos c1, if_pos c1]
    · rw [if_neg c1, if_neg c1]
      by_cases c2 : P v = true
      · have Lv := hL v (by omega) h8 c2
        rw [if_pos c2, if_pos c2, ih k' a (l v - 1) h1 (by omega) (by omega) (by omega), ih k' (l v) (v - 1) Lv.1 (by omega) (by omega) (by omega)]
      · rw [if_neg c2, if_neg c2, ih k' a (v - 1) h1 (by omega) (by omega) (by omega)]
theorem tx_lt (h : v < a) : tx P l pc a v = [] := by
  unfold tx tx_s
  rw [if_pos h]
theorem tx_n (hL : td_LP P l) (ha : 1 ≤ a) (h8 : v ≤ 8) (h : ¬ P v = true) : tx P l pc a v = tx P l pc a (v - 1) := by
  rcases Nat.lt_or_ge v a with z | z
  · rw [tx_lt z, tx_lt (by omega)]
  · have e : tx P l pc a v = tx_s P l pc v a (v - 1) := by
      unfold tx
      conv => lhs; unfold tx_s
      rw [if_neg (by omega), if_neg h]
    rw [e]
    exact tx_fuel hL _ _ a (v - 1) ha (by omega) (by omega) (by omega)
theorem tx_y (hL : td_LP P l) (ha : 1 ≤ a) (h8 : v ≤ 8) (h1 : a ≤ v) (h : P v = true) : tx P l pc a v = tx P l pc a (l v - 1) ++ tx_T P l pc v := by
  have Lv := hL v (by omega) h8 h
  have e : tx P l pc a v = tx_s P l pc v a (l v - 1) ++ (pc v :: tx_w (tx_s P l pc v (l v) (v - 1))) := by
    unfold tx
    conv => lhs; unfold tx_s
    rw [if_neg (by omega), if_pos h]
  have e1 : tx_s P l pc v a (l v - 1) = tx P l pc a (l v - 1) := tx_fuel hL _ _ a (l v - 1) ha (by omega) (by omega) (by omega)
  have e2 : tx_s P l pc v (l v) (v - 1) = tx P l pc (l v) (v - 1) := tx_fuel hL _ _ (l v) (v - 1) Lv.1 (by omega) (by omega) (by omega)
  rw [e, e1, e2]
  rfl
theorem tx_cut (hL : td_LP P l) (ha : 1 ≤ a) (hac : a ≤ c) : ∀ k v, v ≤ k → v ≤ 8 → c ≤ v + 1 → (∀ w, c ≤ w → w ≤ v → P w = true → c ≤ l w) → tx P l pc a v = tx P l pc a (c - 1) ++ tx P l pc c v := by
  intro k
  induction k with
  | zero =>
    intro v h1 h2 h3 h4
    rw [tx_lt (a := c) (by omega), show c - 1 = v by omega, List.append_nil]
  | succ k ih =>
    intro v h1 h2 h3 h4
    rcases Nat.lt_or_ge v c with z | z
    · rw [tx_lt (a := c) z, show c - 1 = v by omega, List.append_nil]
    · by_cases c2 : P v = true
      · have Lv := hL v (by omega) h2 c2
        have q := h4 v z (Nat.le_refl _) c2
        rw [tx_y hL ha h2 (by omega) c2, tx_y hL (by omega) h2 z c2, ih (l v - 1) (by omega) (by omega) (by omega) (fun w w1 w2 w3 => h4 w w1 (by omega) w3), List.append_assoc]
      · rw [tx_n hL ha h2 c2, tx_n hL (by omega) h2 c2, ih (v - 1) (by omega) (by omega) (by omega) (fun w w1 w2 w3 => h4 w w1 (by omega) w3)]
theorem tx_nil (hL : td_LP P l) (ha : 1 ≤ a) : ∀ v, v ≤ 8 → (∀ w, a ≤ w → w ≤ v → ¬ P w = true) → tx P l pc a v = [] := by
  intro v
  induction v with
  | zero =>
    intro _ _
    exact tx_lt (by omega)
  | succ v ih =>
    intro h8 h
    rcases Nat.lt_or_ge (v + 1) a with z | z
    · exact tx_lt z
    · rw [tx_n hL ha h8 (h (v + 1) z (Nat.le_refl _)), show v + 1 - 1 = v by omega]
      exact ih (by omega) (fun w w1 w2 => h w w1 (by omega))
/-- the first of the topmost nodes of a stretch -/
theorem tx_hd {lo hi : Nat} (hL : td_LP P l) (hlo : 1 ≤ lo) (hc1 : 1 ≤ c) (hc : P c = true) (h1 : lo ≤ l c) (h2 : c ≤ hi) (h8 : hi ≤ 8) (hf : ∀ w, lo ≤ w → w < l c → ¬ P w = true) (hn : ∀ w, c < w → w ≤ hi → P w = true → c < l w) : tx P l pc lo hi = tx_T P l pc c ++ tx P l pc (c + 1) hi := by
  have Lc := hL c hc1 (by omega) hc
  rw [tx_cut hL hlo (c := c + 1) (by omega) hi hi (Nat.le_refl _) h8 (by omega) (fun w w1 w2 w3 => hn w (by omega) w2 w3), show c + 1 - 1 = c by omega, tx_y hL hlo (by omega) (by omega) hc, tx_nil hL hlo (l c - 1) (by omega) (fun w w1 w2 => hf w w1 (by omega)), List.nil_append]
theorem tx_up_ok (h : td_up P l v = q) (hq : q ≠ 0) : v < q ∧ q ≤ 8 ∧ P q = true ∧ l q ≤ v ∧ ∀ w, v < w → w < q → P w = true → v < l w := by
  rcases td_up_s P l v with ⟨a1, a2⟩ | ⟨a1, a2, a3, a4, a5⟩
  · omega
  · rw [h] at a1 a2 a3 a4 a5
    exact ⟨a1, a2, a3, a4, a5⟩
theorem tx_up_0 (h : td_up P l v = 0) : ∀ w, v < w → w ≤ 8 → P w = true → v < l w := by
  rcases td_up_s P l v with ⟨a1, a2⟩ | ⟨a1, a2, a3, a4, a5⟩
  · exact a2
  · omega
/-- below v: its first child and what follows it -/
theorem tx_dn (hL : td_LP P l) (hv1 : 1 ≤ v) (hv8 : v ≤ 8) (hv : P v = true) (hc : lk_ch P (td_up P l) v 1 8 = c :: R) : tx P l pc (l v) (v - 1) = tx_T P l pc c ++ tx P l pc (c + 1) (v - 1) := by
  have oc := lk_chl (w := c) (P := P) (l := l) (q := v) (by rw [hc]; simp)
  have Lv := hL v hv1 hv8 hv
  have Lc := hL c oc.1 oc.2.1 oc.2.2.1
  have uc := tx_up_ok oc.2.2.2 (by omega)
  have lc := Lc.2.2 v uc.1 hv8 hv uc.2.2.2.1
  have m1 := lk_mn_s (P := P) (lo := l c) (v := c) Lc.2.1 oc.2.2.1
  have m2 := lk_mn_s (P := P) (lo := l v) (v := v) Lv.2.1 hv
  rw [lk_mn_c hL hv1 hv8 hv hc] at m2
  exact tx_hd hL Lv.1 oc.1 oc.2.2.1 lc (by omega) (by omega) (fun w w1 w2 => m2.2.2.2 w w1 (by omega)) (fun w w1 w2 w3 => uc.2.2.2.2 w w1 (by omega) w3)
theorem tx_dn0 (hL : td_LP P l) (hv1 : 1 ≤ v) (hv8 : v ≤ 8) (hv : P v = true) (hc : lk_ch P (td_up P l) v 1 8 = []) : tx P l pc (l v) (v - 1) = [] := by
  have Lv := hL v hv1 hv8 hv
  have m2 := lk_mn_s (P := P) (lo := l v) (v := v) Lv.2.1 hv
  rw [lk_mn_n hL hv1 hv8 hv hc] at m2
  exact tx_nil hL Lv.1 (v - 1) (by omega) (fun w w1 w2 => m2.2.2.2 w w1 (by omega))
theorem tx_rt (hL : td_LP P l) (hc : lk_ch P (td_up P l) 0 1 8 = c :: R) : tx P l pc 1 8 = tx_T P l pc c ++ tx P l pc (c + 1) 8 := by
  have oc := lk_chl (w := c) (P := P) (l := l) (q := 0) (by rw [hc]; simp)
  have Lc := hL c oc.1 oc.2.1 oc.2.2.1
  have uc := tx_up_0 oc.2.2.2
  have m1 := lk_mn_s (P := P) (lo := l c) (v := c) Lc.2.1 oc.2.2.1
  have m2 := lk_mn_s (P := P) (lo := 1) (v := c) oc.1 oc.2.2.1
  have e1 : lk_mn P 1 c = lk_mn P (l c) c := by
    rw [← lk_mn_0 hL hc]
    exact (lk_mn_u m2.1 (by omega) m2.2.2.1 m2.2.2.2).symm
  rw [e1] at m2
  exact tx_hd hL (by omega) oc.1 oc.2.2.1 Lc.1 oc.2.1 (by omega) (fun w w1 w2 => m2.2.2.2 w w1 (by omega)) (fun w w1 w2 w3 => uc w w1 w2 w3)
theorem tx_rt0 (hL : td_LP P l) (hc : lk_ch P (td_up P l) 0 1 8 = []) : tx P l pc 1 8 = [] := by
  refine tx_nil hL (by omega) 8 (by omega) fun w w1 w2 w3 => ?_
  obtain ⟨d, d1, d2, d3, d4, d5⟩ := lk_top0 hL 8 w (by omega) w1 w2 w3
  have := lk_chr (P := P) (l := l) (q := 0) (w := d) (by omega) d3 d1 d5
  rw [hc] at this
  exact absurd this (List.not_mem_nil)
/-- behind v: its next sibling and what follows it -/
theorem tx_K_s (hL : td_LP P l) {k : Nat} (hq : lk_ch P (td_up P l) q 1 8 = A ++ v :: w :: R) (hk : 9 ≤ v + (k + 1)) : tx_K P l pc (k + 1) v = tx_T P l pc w ++ tx_K P l pc (k + 1) w := by
  have ov := lk_chl (w := v) (P := P) (l := l) (q := q) (by rw [hq]; simp)
  have ow := lk_chl (w := w) (P := P) (l := l) (q := q) (by rw [hq]; simp)
  have Lw := hL w ow.1 ow.2.1 ow.2.2.1
  have ss := lk_suc_s hL hq
  have m1 := lk_mn_s (P := P) (lo := l w) (v := w) Lw.2.1 ow.2.2.1
  have lw : v < l w := by
    apply Nat.lt_of_not_le
    intro z
    have p := lk_pw (P := P) (pr := td_up P l) (q := q) (k := 8) (lo := 1)
    rw [hq] at p
    have vw : v < w := List.rel_of_pairwise_cons (List.pairwise_append.mp p).2.1 List.mem_cons_self
    by_cases c0 : q = 0
    · have := tx_up_0 (ov.2.2.2.trans c0) w vw ow.2.1 ow.2.2.1
      omega
    · have u1 := tx_up_ok ov.2.2.2 c0
      have u2 := tx_up_ok ow.2.2.2 c0
      have := u1.2.2.2.2 w vw u2.1 ow.2.2.1
      omega
  unfold tx_K
  rw [ov.2.2.2, ow.2.2.2]
  by_cases c0 : q = 0
  · rw [if_pos c0, if_pos c0]
    exact tx_hd hL (by omega) ow.1 ow.2.2.1 lw ow.2.1 (by omega) (fun y y1 y2 => ss.2 y (by omega) (by omega)) (fun y y1 y2 y3 => tx_up_0 (ow.2.2.2.trans c0) y y1 y2 y3)
  · rw [if_neg c0, if_neg c0]
    have u2 := tx_up_ok ow.2.2.2 c0
    rw [tx_hd hL (lo := v + 1) (c := w) (by omega) ow.1 ow.2.2.1 lw (by omega) (by omega) (fun y y1 y2 => ss.2 y (by omega) (by omega)) (fun y y1 y2 y3 => u2.2.2.2.2 y y1 (by omega) y3), List.append_assoc]
theorem tx_K_p (hL : td_LP P l) {k : Nat} (hq : lk_ch P (td_up P l) q 1 8 = A ++ [v]) : tx_K P l pc (k + 1) v = if q = 0 then [] else 41 :: tx_K P l pc k q := by
  have ov := lk_chl (w := v) (P := P) (l := l) (q := q) (by rw [hq]; simp)
  have e : tx_K P l pc (k + 1) v = if td_up P l v = 0 then tx P l pc (v + 1) 8 else tx P l pc (v + 1) (td_up P l v - 1) ++ 41 :: tx_K P l pc k (td_up P l v) := rfl
  rw [e, ov.2.2.2]
  by_cases c0 : q = 0
  · rw [if_pos c0, if_pos c0]
    refine tx_nil hL (by omega) 8 (by omega) fun y y1 y2 y3 => ?_
    have := lk_suc_p hL hq ⟨y, by omega, y2, y3⟩
    omega
  · rw [if_neg c0, if_neg c0]
    have u2 := tx_up_ok ov.2.2.2 c0
    have sp := lk_suc_p hL hq ⟨q, u2.1, u2.2.1, u2.2.2.1⟩
    rw [tx_nil hL (by omega) (q - 1) (by omega) (fun y y1 y2 => sp.2.2.2 y (by omega) (by omega)), List.nil_append]
theorem tx_K_f (hL : td_LP P l) : ∀ k k' v, 8 < v + k → 8 < v + k' → tx_K P l pc k v = tx_K P l pc k' v ∨ 8 < v := by
  intro k
  induction k with
  | zero =>
    intro k' v h1 h2
    exact Or.inr (by omega)
  | succ k ih =>
    intro k' v h1 h2
    rcases Nat.lt_or_ge 8 v with z | z
    · exact Or.inr z
    · refine Or.inl ?_
      obtain ⟨k', rfl⟩ : ∃ j, k' = j + 1 := ⟨k' - 1, by omega⟩
      unfold tx_K
      by_cases c0 : td_up P l v = 0
      · rw [if_pos c0, if_pos c0]
      · rw [if_neg c0, if_neg c0]
        have u := tx_up_ok (P := P) (l := l) (v := v) rfl c0
        rcases ih k' (td_up P l v) (by omega) (by omega) with y | y
        · rw [y]
        · omega
/-- letters and length -/
def tx_lc (t : List Nat) : Nat := t.countP (fun x => decide (97 ≤ x))
theorem tx_lc_a (s t : List Nat) : tx_lc (s ++ t) = tx_lc s + tx_lc t := List.countP_append
theorem tx_w_lc (t : List Nat) : tx_lc (tx_w t) = tx_lc t := by
  unfold tx_w
  split
  · rename_i h
    rw [h]
  · unfold tx_lc
    rw [List.countP_cons_of_neg (by simp), List.countP_append, List.countP_cons_of_neg (by simp)]
    rfl
theorem tx_w_len (t : List Nat) : (tx_w t).length ≤ t.length + 2 := by
  unfold tx_w
  split
  · simp
  · simp
theorem tx_bd (hL : td_LP P l) : ∀ k a v, v ≤ k → 1 ≤ a → v ≤ 8 → (∀ w, a ≤ w → w ≤ v → P w = true → a ≤ l w) → tx_lc (tx P l pc a v) ≤ v + 1 - a ∧ (tx P l pc a v).length ≤ 3 * (v + 1 - a) := by
  intro k
  induction k with
  | zero =>
    intro a v h1 h2 h3 h4
    rw [tx_lt (by omega)]
    exact ⟨Nat.zero_le _, Nat.zero_le _⟩
  | succ k ih =>
    intro a v h1 h2 h3 h4
    rcases Nat.lt_or_ge v a with z | z
    · rw [tx_lt z]
      exact ⟨Nat.zero_le _, Nat.zero_le _⟩
    · by_cases c2 : P v = true
      · have Lv := hL v (by omega) h3 c2
        have q := h4 v z (Nat.le_refl _) c2
        have i1 := ih a (l v - 1) (by omega) h2 (by omega) (fun w w1 w2 w3 => h4 w w1 (by omega) w3)
        have i2 := ih (l v) (v - 1) (by omega) Lv.1 (by omega) (fun w w1 w2 w3 => (hL w (by omega) (by omega) w3).2.2 v (by omega) h3 c2 w1)
        have w1 := tx_w_lc (tx P l pc (l v) (v - 1))
        have w2 := tx_w_len (tx P l pc (l v) (v - 1))
        rw [tx_y hL h2 h3 z c2, tx_lc_a, List.length_append]
        have e1 : tx_lc (tx_T P l pc v) ≤ 1 + tx_lc (tx_w (tx P l pc (l v) (v - 1))) := by
          unfold tx_T tx_lc
          rw [List.countP_cons]
          split <;> omega
        have e2 : (tx_T P l pc v).length = 1 + (tx_w (tx P l pc (l v) (v - 1))).length := by
          unfold tx_T
          rw [List.length_cons]
          omega
        omega
      · have i1 := ih a (v - 1) (by omega) h2 (by omega) (fun w w1 w2 w3 => h4 w w1 (by omega) w3)
        rw [tx_n hL h2 h3 c2]
        omega
end
end
section
/-! the component's texts: print, climb, render -/
section
variable {P : Nat → Bool} {l pc : Nat → Nat} {a v c q w : Nat} {A R : List Nat}
theorem tx_KKq (hL : td_LP P l) (hv1 : 1 ≤ v) (h : v < q) : tx_K P l pc 7 q = tx_K P l pc 8 q ∨ 8 < q := tx_K_f hL 7 8 q (by omega) (by omega)
theorem tx_KK_dn (hL : td_LP P l) (hv1 : 1 ≤ v) (hv8 : v ≤ 8) (hv : P v = true) (hc : lk_ch P (td_up P l) v 1 8 = c :: R) : tx_T P l pc v ++ tx_K P l pc 8 v = pc v :: 40 :: (tx_T P l pc c ++ tx_K P l pc 8 c) := by
  have oc := lk_chl (w := c) (P := P) (l := l) (q := v) (by rw [hc]; simp)
  have uc := tx_up_ok oc.2.2.2 (by omega)
  have e : tx_K P l pc (7 + 1) c = if td_up P l c = 0 then tx P l pc (c + 1) 8 else tx P l pc (c + 1) (td_up P l c - 1) ++ 41 :: tx_K P l pc 7 (td_up P l c) := rfl
  rw [oc.2.2.2, if_neg (by omega)] at e
  have e2 : tx_K P l pc 7 v = tx_K P l pc 8 v := by
    rcases tx_KKq (pc := pc) hL oc.1 uc.1 with z | z
    · exact z
    · omega
  rw [e2] at e
  have e3 : tx_T P l pc v = pc v :: tx_w (tx_T P l pc c ++ tx P l pc (c + 1) (v - 1)) := by
    conv => lhs; unfold tx_T
    rw [tx_dn hL hv1 hv8 hv hc]
  have e4 : tx_w (tx_T P l pc c ++ tx P l pc (c + 1) (v - 1)) = 40 :: ((tx_T P l pc c ++ tx P l pc (c + 1) (v - 1)) ++ [41]) := if_neg (by unfold tx_T; simp)
  rw [e3, e4, show tx_K P l pc 8 c = _ from e]
  simp
theorem tx_KK_lf (hL : td_LP P l) (hv1 : 1 ≤ v) (hv8 : v ≤ 8) (hv : P v = true) (hc : lk_ch P (td_up P l) v 1 8 = []) : tx_T P l pc v ++ tx_K P l pc 8 v = pc v :: tx_K P l pc 8 v := by
  have e3 : tx_T P l pc v = [pc v] := by
    unfold tx_T
    rw [tx_dn0 hL hv1 hv8 hv hc]
    rfl
  rw [e3]
  rfl
end
section
variable {b N j q t i c v w x p : Nat} {P : Nat → Bool} {l pc pr sl lbv : Nat → Nat} {A B C D E R tx0 Tt : List Nat} {xcap xrel xdel xins xdif xtsk xscl xopc xpos xpad xpgl : Int32} {xfst xnxt xup xlab xusd xrts xlft xfor xtre xmat xm1 xm2 xtI xtJ xc1 xc2 xscr xopA xpag : Nat → Int32}
theorem xw_print {post : SX → Prop} {c : Nat} {p0 : Int32} (hp : p0 = nI c) (hl : tx0.length < 64) (hc : c < 65536) (hs : ls_h xpag 0 tx0) (h : ∀ pag, ls_h pag 0 (tx0 ++ [c]) → post (xcap, xrel, xdel, xins, xdif, xtsk, xscl, xopc, xpos, xpad, nI (tx0 ++ [c]).length, xfst, xnxt, xup, xlab, xusd, xrts, xlft, xfor, xtre, xmat, xm1, xm2, xtI, xtJ, xc1, xc2, xscr, xopA, pag)) : wpX_print post (xcap, xrel, xdel, xins, xdif, xtsk, xscl, xopc, xpos, xpad, nI tx0.length, xfst, xnxt, xup, xlab, xusd, xrts, xlft, xfor, xtre, xmat, xm1, xm2, xtI, xtJ, xc1, xc2, xscr, xopA, xpag) p0 := by
  subst hp
  unfold wpX_print
  dsimp only
  rw [td_chr hc, nI_clamp (by omega)]
  refine ⟨vp_in_nI hl (by omega), nm_e (nm_r (e' := nI (tx0 ++ [c]).length) (by rw [nI_1, td_l1]) (h _ ?_))⟩
  have := ls_snoc (x := c) hs
  rw [Nat.zero_add] at this
  exact this
theorem xw_cl5 {post : Int32 → SX → Prop} {L0 : Nat} (hb : b ≤ 34) (hN : N ≤ 16) (hL : td_LP P l) (hS : lk_S P sl N) (hK : lk_K b P (td_up P l) sl xfst xnxt xup) (hT : Tt.length ≤ 24)
    (h0 : ∀ pag, ls_h pag 0 Tt → post 0 (xcap, xrel, xdel, xins, xdif, xtsk, xscl, xopc, xpos, xpad, nI Tt.length, xfst, xnxt, xup, xlab, xusd, xrts, xlft, xfor, xtre, xmat, xm1, xm2, xtI, xtJ, xc1, xc2, xscr, xopA, pag))
    (h1 : ∀ w tx1 pag, 1 ≤ w → w ≤ 8 → P w = true → tx_lc tx1 = L0 → tx1 ++ (tx_T P l pc w ++ tx_K P l pc 8 w) = Tt → ls_h pag 0 tx1 → post (nI (sl w)) (xcap, xrel, xdel, xins, xdif, xtsk, xscl, xopc, xpos, xpad, nI tx1.length, xfst, xnxt, xup, xlab, xusd, xrts, xlft, xfor, xtre, xmat, xm1, xm2, xtI, xtJ, xc1, xc2, xscr, xopA, pag)) :
    ∀ k v s tx0 pag, 8 < v + k → 1 ≤ v → v ≤ 8 → P v = true → s < v → tx_lc tx0 = L0 → tx0 ++ tx_K P l pc 8 v = Tt → ls_h pag 0 tx0 → wX_climb_5 post (nI b) (k + 1) (nI (sl v)) (nI s) xcap xrel xdel xins xdif xtsk xscl xopc xpos xpad (nI tx0.length) xfst xnxt xup xlab xusd xrts xlft xfor xtre xmat xm1 xm2 xtI xtJ xc1 xc2 xscr xopA pag := by
  intro k
  induction k with
  | zero =>
    intro v s tx0 pag h1 h2
    omega
  | succ k ih =>
    intro v s tx0 pag g1 g2 g3 g4 g5 gL g6 g7
    have sv := hS.2.1 v g2 g3 g4
    have hup := hK.2 v g2 g3 g4
    have hq : td_up P l v = 0 ∨ (1 ≤ td_up P l v ∧ td_up P l v ≤ 8 ∧ P (td_up P l v) = true) := by
      rcases td_up_s P l v with ⟨a1, a2⟩ | ⟨a1, a2, a3, a4, a5⟩
      · exact Or.inl a1
      · exact Or.inr ⟨by omega, a2, a3⟩
    have mv := lk_chr (P := P) (l := l) (w := v) g2 g3 g4 rfl
    obtain ⟨A, R, hA⟩ := List.append_of_mem mv
    have K := (hK.1 _ hq).2
    rw [hA] at K
    have nv : xnxt (b + sl v) = nI (sl (R.headD 0)) := (lk_p_a.mp K).2.1
    unfold wX_climb_5
    rw [nI_add, nI_clamp (n := b + sl v) (by omega), nv, hup]
    refine br_f (nI_ge (b := 17) (by omega) (by decide)) (br_f (nI_ne0 (by omega) (by omega)) ⟨vp_in_nI (by omega) (by omega), ?_⟩)
    cases R with
    | nil =>
      have e0 : sl (List.headD [] 0) = 0 := hS.1
      rw [e0]
      have kp := tx_K_p (pc := pc) hL (k := 7) hA
      refine br_t rfl ⟨vp_in_nI (by omega) (by omega), nm_e ?_⟩
      by_cases c0 : td_up P l v = 0
      · rw [c0, if_pos rfl] at kp
        rw [show tx_K P l pc 8 v = [] from kp, List.append_nil] at g6
        subst g6
        rw [c0, hS.1]
        refine br_t rfl (nm_r (nI_1 s) ?_)
        unfold wX_climb_5
        refine br_f (nI_ge (b := 17) (by omega) (by decide)) (br_t rfl ?_)
        unfold wX_climb_52
        exact br_t rfl (h0 pag g7)
      · have u := tx_up_ok (P := P) (l := l) (v := v) rfl c0
        have su := hS.2.1 _ (by omega) u.2.1 u.2.2.1
        rw [if_neg c0] at kp
        have e2 : tx_K P l pc 7 (td_up P l v) = tx_K P l pc 8 (td_up P l v) := by
          rcases tx_KKq (pc := pc) hL g2 u.1 with z | z
          · exact z
          · omega
        rw [e2] at kp
        rw [show tx_K P l pc 8 v = _ from kp] at g6
        have tl : tx0.length < 24 := by
          have : (tx0 ++ 41 :: tx_K P l pc 8 (td_up P l v)).length = Tt.length := by rw [g6]
          rw [List.length_append, List.length_cons] at this
          omega
        refine br_f (nI_ne0 (by omega) (by omega)) (xw_print (c := 41) rfl (by omega) (by omega) g7 fun pag2 hp2 => nm_r (nI_1 s) ?_)
        refine ih (td_up P l v) (s + 1) (tx0 ++ [41]) pag2 (by omega) (by omega) u.2.1 u.2.2.1 (by omega) ?_ ?_ hp2
        · rw [tx_lc_a, gL]
          rfl
        · rw [← g6]
          simp
    | cons w R =>
      have ow := lk_chl (w := w) (P := P) (l := l) (q := td_up P l v) (by rw [hA]; simp)
      have sw := hS.2.1 w ow.1 ow.2.1 ow.2.2.1
      have e0 : sl (List.headD (w :: R) 0) = sl w := rfl
      rw [e0]
      have ks := tx_K_s (pc := pc) hL (k := 7) hA (by omega)
      refine br_f (nI_ne0 (by omega) (by omega)) ?_
      unfold wX_climb_52
      rw [nI_add, nI_clamp (n := b + sl v) (by omega), nv, e0]
      refine br_f (nI_ne0 (by omega) (by omega)) ⟨vp_in_nI (by omega) (by omega), h1 w tx0 pag ow.1 ow.2.1 ow.2.2.1 gL ?_ g7⟩
      rw [← g6]
      rw [show tx_K P l pc 8 v = _ from ks]
theorem xw_rn0 {post : SX → Prop} {s k : Nat} (hs : s ≤ 16) (h : post (xcap, xrel, xdel, xins, xdif, xtsk, xscl, xopc, xpos, xpad, xpgl, xfst, xnxt, xup, xlab, xusd, xrts, xlft, xfor, xtre, xmat, xm1, xm2, xtI, xtJ, xc1, xc2, xscr, xopA, xpag)) : wX_render_14 post (nI b) (k + 1) 0 (nI s) xcap xrel xdel xins xdif xtsk xscl xopc xpos xpad xpgl xfst xnxt xup xlab xusd xrts xlft xfor xtre xmat xm1 xm2 xtI xtJ xc1 xc2 xscr xopA xpag := by
  unfold wX_render_14
  exact br_f (nI_ge (b := 17) (by omega) (by decide)) (br_t rfl h)
theorem xw_rn14 {post : SX → Prop} (hb : b ≤ 34) (hN : N ≤ 16) (hL : td_LP P l) (hS : lk_S P sl N) (hK : lk_K b P (td_up P l) sl xfst xnxt xup) (hlab : ∀ v, 1 ≤ v → v ≤ 8 → P v = true → xlab (b + sl v) = nI (lbv v) ∧ lbv v ≤ 25 ∧ pc v = 97 + lbv v) (hT : Tt.length ≤ 24)
    (h : ∀ pag, ls_h pag 0 Tt → post (xcap, xrel, xdel, xins, xdif, xtsk, xscl, xopc, xpos, xpad, nI Tt.length, xfst, xnxt, xup, xlab, xusd, xrts, xlft, xfor, xtre, xmat, xm1, xm2, xtI, xtJ, xc1, xc2, xscr, xopA, pag)) :
    ∀ k v s tx0 pag, tx_lc (tx_T P l pc v ++ tx_K P l pc 8 v) ≤ k → s + tx_lc (tx_T P l pc v ++ tx_K P l pc 8 v) ≤ 8 → 1 ≤ v → v ≤ 8 → P v = true → tx0 ++ (tx_T P l pc v ++ tx_K P l pc 8 v) = Tt → ls_h pag 0 tx0 → wX_render_14 post (nI b) (k + 1) (nI (sl v)) (nI s) xcap xrel xdel xins xdif xtsk xscl xopc xpos xpad (nI tx0.length) xfst xnxt xup xlab xusd xrts xlft xfor xtre xmat xm1 xm2 xtI xtJ xc1 xc2 xscr xopA pag := by
  intro k
  induction k with
  | zero =>
    intro v s tx0 pag g1 g2 g3 g4 g5
    have lb := hlab v g3 g4 g5
    rw [tx_lc_a] at g1
    unfold tx_T tx_lc at g1
    rw [List.countP_cons_of_pos (by rw [lb.2.2]; simp)] at g1
    omega
  | succ k ih =>
    intro v s tx0 pag g1 g2 g3 g4 g5 g6 g7
    have sv := hS.2.1 v g3 g4 g5
    have lb := hlab v g3 g4 g5
    have Kf := (hK.1 v (Or.inr ⟨g3, g4, g5⟩)).1
    have tl : tx0.length + (tx_T P l pc v ++ tx_K P l pc 8 v).length = Tt.length := by rw [← g6, List.length_append (as := tx0)]
    unfold wX_render_14
    rw [nI_add, nI_clamp (n := b + sl v) (by omega), lb.1]
    refine br_f (nI_ge (b := 17) (by omega) (by decide)) (br_f (nI_ne0 (by omega) (by omega)) ⟨vp_in_nI (by omega) (by omega), ?_⟩)
    rcases z : lk_ch P (td_up P l) v 1 8 with _ | ⟨c, R⟩
    · have e1 := tx_KK_lf (pc := pc) hL g3 g4 g5 z
      rw [e1] at g1 g2 g6 tl
      rw [List.length_cons] at tl
      have lc1 : tx_lc (pc v :: tx_K P l pc 8 v) = tx_lc (tx_K P l pc 8 v) + 1 := List.countP_cons_of_pos (by rw [lb.2.2]; simp)
      refine xw_print (c := pc v) (by rw [lb.2.2]; exact nI_add 97 _) (by omega) (by omega) g7 fun pag2 hp2 => ⟨vp_in_nI (by omega) (by omega), ?_⟩
      rw [Kf, z]
      have e0 : sl (List.headD [] 0) = 0 := hS.1
      rw [e0]
      refine br_t rfl ?_
      unfold wpX_climb
      have lc2 : tx_lc (tx0 ++ [pc v]) = tx_lc tx0 + 1 := by
        rw [tx_lc_a]
        have : tx_lc [pc v] = 1 := List.countP_cons_of_pos (by rw [lb.2.2]; simp)
        omega
      refine ⟨8 + 1, xw_cl5 (pc := pc) (Tt := Tt) (L0 := tx_lc (tx0 ++ [pc v])) hb hN hL hS hK hT (fun pag3 hp3 => nm_r (nI_1 s) ?_) (fun w tx1 pag3 w1 w2 w3 wL w4 w5 => nm_r (nI_1 s) ?_) 8 v 0 (tx0 ++ [pc v]) pag2 (by omega) g3 g4 g5 (by omega) rfl (by rw [← g6]; simp) hp2⟩
      · exact xw_rn0 (by omega) (h pag3 hp3)
      · have e5 : tx_lc tx1 + tx_lc (tx_T P l pc w ++ tx_K P l pc 8 w) = tx_lc tx0 + tx_lc (pc v :: tx_K P l pc 8 v) := by
          rw [← tx_lc_a, ← tx_lc_a, w4, g6]
        exact ih w (s + 1) tx1 pag3 (by omega) (by omega) w1 w2 w3 w4 w5
    · have e1 := tx_KK_dn (pc := pc) hL g3 g4 g5 z
      rw [e1] at g1 g2 g6 tl
      rw [List.length_cons, List.length_cons] at tl
      have lc1 : tx_lc (pc v :: 40 :: (tx_T P l pc c ++ tx_K P l pc 8 c)) = tx_lc (tx_T P l pc c ++ tx_K P l pc 8 c) + 1 := by
        have e3 : tx_lc (40 :: (tx_T P l pc c ++ tx_K P l pc 8 c)) = tx_lc (tx_T P l pc c ++ tx_K P l pc 8 c) := List.countP_cons_of_neg (by simp)
        have e4 : tx_lc (pc v :: 40 :: (tx_T P l pc c ++ tx_K P l pc 8 c)) = tx_lc (40 :: (tx_T P l pc c ++ tx_K P l pc 8 c)) + 1 := List.countP_cons_of_pos (by rw [lb.2.2]; simp)
        omega
      have oc := lk_chl (w := c) (P := P) (l := l) (q := v) (by rw [z]; simp)
      have sc := hS.2.1 c oc.1 oc.2.1 oc.2.2.1
      refine xw_print (c := pc v) (by rw [lb.2.2]; exact nI_add 97 _) (by omega) (by omega) g7 fun pag2 hp2 => ⟨vp_in_nI (by omega) (by omega), ?_⟩
      rw [Kf, z]
      have e0 : sl (List.headD (c :: R) 0) = sl c := rfl
      rw [e0]
      refine br_f (nI_ne0 (by omega) (by omega)) (xw_print (c := 40) rfl (by rw [td_l1]; omega) (by omega) hp2 fun pag3 hp3 => ?_)
      dsimp only
      rw [Kf, z, e0]
      refine ⟨vp_in_nI (by omega) (by omega), nm_e (nm_r (nI_1 s) (ih c (s + 1) (tx0 ++ [pc v] ++ [40]) pag3 (by omega) (by omega) oc.1 oc.2.1 oc.2.2.1 ?_ hp3))⟩
      rw [← g6]
      simp
/-- render: the page holds the forest's text -/
theorem xw_render {post : SX → Prop} (hb : b ≤ 34) (hN : N ≤ 16) (hL : td_LP P l) (hS : lk_S P sl N) (hK : lk_K b P (td_up P l) sl xfst xnxt xup) (hlab : ∀ v, 1 ≤ v → v ≤ 8 → P v = true → xlab (b + sl v) = nI (lbv v) ∧ lbv v ≤ 25 ∧ pc v = 97 + lbv v)
    (h : ∀ pag, ls_h pag 0 (tx P l pc 1 8) → post (xcap, xrel, xdel, xins, xdif, xtsk, xscl, xopc, xpos, xpad, nI (tx P l pc 1 8).length, xfst, xnxt, xup, xlab, xusd, xrts, xlft, xfor, xtre, xmat, xm1, xm2, xtI, xtJ, xc1, xc2, xscr, xopA, pag)) : wpX_render post (xcap, xrel, xdel, xins, xdif, xtsk, xscl, xopc, xpos, xpad, xpgl, xfst, xnxt, xup, xlab, xusd, xrts, xlft, xfor, xtre, xmat, xm1, xm2, xtI, xtJ, xc1, xc2, xscr, xopA, xpag) (nI b) := by
  have bd := tx_bd (pc := pc) hL 8 1 8 (by omega) (by omega) (by omega) (fun w w1 w2 w3 => (hL w w1 w2 w3).1)
  have Kf := (hK.1 0 (Or.inl rfl)).1
  rw [hS.1, Nat.add_zero] at Kf
  unfold wpX_render
  dsimp only
  rw [nI_clamp (n := b) (by omega), Kf]
  refine ⟨vp_in_nI (by omega) (by omega), nm_e ⟨8 + 1, ?_⟩⟩
  rcases z : lk_ch P (td_up P l) 0 1 8 with _ | ⟨c, R⟩
  · rw [tx_rt0 hL z] at h
    have e0 : sl (List.headD [] 0) = 0 := hS.1
    rw [e0]
    exact xw_rn0 (s := 0) (by omega) (h xpag trivial)
  · have oc := lk_chl (w := c) (P := P) (l := l) (q := 0) (by rw [z]; simp)
    have e1 := tx_rt (pc := pc) hL z
    have e2 : tx_K P l pc (7 + 1) c = tx P l pc (c + 1) 8 := if_pos oc.2.2.2
    rw [← e2] at e1
    have e3 : tx P l pc 1 8 = tx_T P l pc c ++ tx_K P l pc 8 c := e1
    rw [e3] at bd
    exact xw_rn14 (pc := pc) hb hN hL hS hK hlab (by rw [e3]; omega) h 8 c 0 [] xpag (by omega) (by omega) oc.1 oc.2.1 oc.2.2.1 e3.symm trivial
end
end
section
/-! the reference's draw -/
theorem ls_shift {a a' : Nat → Int32} : ∀ {L : List Nat} {o : Nat}, (∀ j, o ≤ j → j < o + L.length → a' (j + 2) = a j) → ls_h a o L → ls_h a' (o + 2) L
  | [], _, _, _ => trivial
  | y :: L, o, h, hl => by
    refine ⟨(h o (Nat.le_refl _) (by rw [List.length_cons]; omega)).trans hl.1, ?_⟩
    have := ls_shift (a := a) (a' := a') (L := L) (o := o + 1) (fun j h1 h2 => h j (by omega) (by rw [List.length_cons]; omega)) hl.2
    rw [show o + 2 + 1 = o + 1 + 2 by omega]
    exact this
theorem td_nar {c : Nat} (h : c < 65536) : vp_nar .char (nI c) = nI c := by
  unfold vp_nar
  rw [(pk_charN h).1]
theorem tx_ch {P : Nat → Bool} {l pc : Nat → Nat} (hL : td_LP P l) (hpc : ∀ v, P v = true → pc v < 65536) : ∀ k a v, v ≤ k → 1 ≤ a → v ≤ 8 → ∀ x, x ∈ tx P l pc a v → x < 65536 := by
  intro k
  induction k with
  | zero =>
    intro a v h1 h2 h3 x hx
    rw [tx_lt (by omega)] at hx
    exact absurd hx (List.not_mem_nil)
  | succ k ih =>
    intro a v h1 h2 h3 x hx
    rcases Nat.lt_or_ge v a with z | z
    · rw [tx_lt z] at hx
      exact absurd hx (List.not_mem_nil)
    · by_cases c2 : P v = true
      · have Lv := hL v (by omega) h3 c2
        rw [tx_y hL h2 h3 z c2] at hx
        rcases List.mem_append.mp hx with q | q
        · exact ih a (l v - 1) (by omega) h2 (by omega) x q
        · unfold tx_T at q
          rcases List.mem_cons.mp q with q | q
          · rw [q]
            exact hpc v c2
          · unfold tx_w at q
            split at q
            · exact absurd q (List.not_mem_nil)
            · rcases List.mem_cons.mp q with q | q
              · omega
              · rcases List.mem_append.mp q with q | q
                · exact ih (l v) (v - 1) (by omega) Lv.1 (by omega) x q
                · have : x = 41 := by simpa using q
                  omega
      · rw [tx_n hL h2 h3 c2] at hx
        exact ih a (v - 1) (by omega) h2 (by omega) x hx
section
variable {n m : Nat} {l1 l2 lb1 lb2 lb A : Nat → Nat} {r d e a b i j x y N sd fr w v at' ln : Nat} {P : Nat → Bool} {l pc : Nat → Nat} {pre body : List Nat} {ycap yrel ydel yins ydif ytot ypos ylen : Int32} {ycnt yrts ylow ylab ymap yop ypic yend yout : Nat → Int32}
/-- the shift of the text of the descendants -/
theorem yw_d226 {post : SY → Prop} {J : Int32 → Int32 → (Nat → Int32) → (Nat → Int32) → (Nat → Int32) → (Nat → Int32) → (Nat → Int32) → (Nat → Int32) → (Nat → Int32) → (Nat → Int32) → (Nat → Int32) → Prop} {x3 x5 : Int32} (h100 : ln + 2 < 100) (hal : at' ≤ ln)
    (hc : ∀ k, at' ≤ k → k < ln → ∃ c, c < 65536 ∧ yout k = nI c)
    (h : ∀ out, (∀ k, k < at' → out k = yout k) → (∀ k, at' ≤ k → k < ln → out (k + 2) = yout k) → wY_draw_261 post J x3 x5 (nI at') 3 ycap yrel ydel yins ydif ytot ypos (nI ln) ycnt yrts ylow ylab ymap yop ypic yend out) :
    ∀ g k out, k = at' + g → k ≤ ln → (∀ j, j < k → out j = yout j) → (∀ j, k ≤ j → j < ln → out (j + 2) = yout j) →
      wY_draw_226 post J x3 x5 (nI at') 3 ycap yrel ydel yins ydif ytot ypos (nI ln) (g + 1) (nI k - 1) ycnt yrts ylow ylab ymap yop ypic yend out := by
  intro g
  induction g with
  | zero =>
    intro k out hk hkl h1 h2
    unfold wY_draw_226
    refine br_t rfl (br_t ?_ (h out (fun j hj => h1 j (by omega)) (fun j j1 j2 => h2 j (by omega) j2)))
    rw [Int32.lt_iff_toInt_lt, show nI k - 1 = nI k - nI 1 from rfl, pk_sub_toInt (by omega) (by omega), nI_toInt (by omega)]
    omega
  | succ g ih =>
    intro k out hk hkl h1 h2
    obtain ⟨c, c1, c2⟩ := hc (k - 1) (by omega) (by omega)
    unfold wY_draw_226
    rw [xw_s1 (by omega : 1 ≤ k), show nI (k - 1) + 2 = nI (k - 1 + 2) from nI_add (k - 1) 2, nI_clamp (n := k - 1 + 2) (by omega), nI_clamp (n := k - 1) (by omega), h1 (k - 1) (by omega), c2, td_nar c1]
    refine br_t rfl (br_f (nI_nlt (by omega) (by omega)) ⟨vp_in_nI (by omega) (by omega), vp_in_nI (by omega) (by omega), nm_e (nm_r (e' := nI (k - 1) - 1) ?_ (ih (k - 1) _ (by omega) (by omega) (fun j hj => ?_) (fun j j1 j2 => ?_)))⟩)
    · rw [Int32.sub_eq_add_neg]
    · rw [pk_un (by omega)]
      exact h1 j (by omega)
    · by_cases ej : j = k - 1
      · rw [ej, pk_us, c2]
      · rw [pk_un (by omega)]
        exact h2 j (by omega) j2
/-- one node of the draw loop -/
theorem yw_d156s {post : SY → Prop} {J : Int32 → Int32 → (Nat → Int32) → (Nat → Int32) → (Nat → Int32) → (Nat → Int32) → (Nat → Int32) → (Nat → Int32) → (Nat → Int32) → (Nat → Int32) → (Nat → Int32) → Prop} {x3 : Int32} {c0 : Nat}
    (hv1 : 1 ≤ v) (hv8 : v ≤ 8) (hpic : ypic v = nI c0) (hc1 : 1 ≤ c0) (hc0 : c0 < 65536) (h100 : (pre ++ body).length + 3 < 100) (hch : ∀ x, x ∈ pre ++ body → x < 65536) (hs : ls_h yout 0 (pre ++ body))
    (h : ∀ out, ls_h out 0 (pre ++ (c0 :: tx_w body)) → J (nI (v + 1)) (nI (pre ++ (c0 :: tx_w body)).length) ycnt yrts ylow ylab ymap yop ypic (upd yend v (nI (pre ++ (c0 :: tx_w body)).length)) out) :
    (nI (pre ++ body).length = nI pre.length → ∀ x8 : Int32, x8 = nI (pre ++ body).length - 1 → ∃ n226, wY_draw_226 post J x3 (nI v) (nI pre.length) 1 ycap yrel ydel yins ydif ytot ypos (nI (pre ++ body).length) n226 x8 ycnt yrts ylow ylab ymap yop ypic yend yout) ∧
    (¬ nI (pre ++ body).length = nI pre.length → ∀ x8 : Int32, x8 = nI (pre ++ body).length - 1 → ∃ n226, wY_draw_226 post J x3 (nI v) (nI pre.length) 3 ycap yrel ydel yins ydif ytot ypos (nI (pre ++ body).length) n226 x8 ycnt yrts ylow ylab ymap yop ypic yend yout) := by
  have eL : (pre ++ body).length = pre.length + body.length := List.length_append
  have hpre := (ls_app hs).1
  have hbody := (ls_app hs).2
  rw [Nat.zero_add] at hbody
  refine pk_eq (pre ++ body).length pre.length (fun c => ?_) (fun c => ?_)
  · have eb : body = [] := List.length_eq_zero_iff.mp (by omega)
    subst eb
    have ew : pre ++ (c0 :: tx_w []) = pre ++ [c0] := rfl
    rw [ew] at h
    rw [List.append_nil] at hs h100 ⊢
    refine nm_e ⟨1, ?_⟩
    unfold wY_draw_226
    refine br_f (by decide) ?_
    unfold wY_draw_261
    rw [nI_clamp (n := v) (by omega), nI_clamp (n := pre.length) (by omega), hpic, td_chr hc0]
    refine nm_r (e' := nI (pre ++ [c0]).length) (by rw [td_l1]; exact nI_1 _) ⟨vp_in_nI (by omega) (by omega), nm_e (br_f (by decide) ⟨vp_in_nI (by omega) (by omega), vp_in_nI (by omega) (by omega), nm_e ?_⟩)⟩
    unfold wY_draw_303
    refine br_f (by decide) (nm_r (nI_1 v) (h _ ?_))
    have := ls_snoc (x := c0) hs
    rw [Nat.zero_add] at this
    exact this
  · have ew : tx_w body = 40 :: (body ++ [41]) := if_neg (fun z => c (by rw [eL, z]; rfl))
    have eW : pre ++ (c0 :: tx_w body) = (pre ++ [c0, 40]) ++ (body ++ [41]) := by rw [ew]; simp
    have lW : (pre ++ (c0 :: tx_w body)).length = (pre ++ body).length + 3 := by
      rw [eW, List.length_append, td_l2, td_l1, eL]
      omega
    refine nm_e ⟨body.length + 1, yw_d226 (at' := pre.length) (ln := (pre ++ body).length) (by omega) (by omega) (fun k k1 k2 => ?_) ?_ body.length (pre ++ body).length yout eL (Nat.le_refl _) (fun _ _ => rfl) (fun j j1 j2 => by omega)⟩
    · have g := ls_get (k := k) hs k2
      rw [Nat.zero_add] at g
      refine ⟨_, hch _ ?_, g⟩
      rw [List.getD_eq_getElem?_getD, List.getElem?_eq_getElem k2]
      exact List.getElem_mem k2
    · intro out g1 g2
      unfold wY_draw_261
      rw [nI_clamp (n := v) (by omega), nI_clamp (n := pre.length) (by omega), hpic, td_chr hc0]
      refine nm_r (e' := nI (pre ++ (c0 :: tx_w body)).length) (by rw [lW]; exact nI_add _ 3) ⟨vp_in_nI (by omega) (by omega), nm_e (br_f (by decide) ⟨vp_in_nI (by omega) (by omega), vp_in_nI (by omega) (by omega), nm_e ?_⟩)⟩
      unfold wY_draw_303
      rw [nI_1, xw_s1 (by omega), nI_clamp (n := pre.length + 1) (by omega), show (pre ++ (c0 :: tx_w body)).length - 1 = pre.length + body.length + 2 by omega, nI_clamp (n := pre.length + body.length + 2) (by omega), show vp_nar .char 40 = nI 40 from td_nar (c := 40) (by omega), show vp_nar .char 41 = nI 41 from td_nar (c := 41) (by omega)]
      refine br_t rfl ⟨vp_in_nI (by omega) (by omega), nm_e ⟨vp_in_nI (by omega) (by omega), nm_e (nm_r (nI_1 v) (h _ ?_))⟩⟩
      rw [eW]
      refine ls_join (ls_join ?_ ⟨?_, ?_, trivial⟩) (ls_join ?_ ⟨?_, trivial⟩)
      · refine ls_keep (fun k k1 k2 => ?_) hpre
        rw [pk_un (by omega), pk_un (by omega), pk_un (by omega)]
        exact g1 k (by omega)
      · rw [Nat.zero_add, pk_un (by omega), pk_un (by omega), pk_us]
      · rw [Nat.zero_add, pk_un (by omega), pk_us]
      · rw [td_l2, Nat.zero_add]
        refine ls_shift (a := yout) (fun k k1 k2 => ?_) hbody
        rw [pk_un (by omega), pk_un (by omega), pk_un (by omega)]
        exact g2 k k1 (by omega)
      · rw [td_l2, Nat.zero_add, show pre.length + 2 + body.length = pre.length + body.length + 2 by omega, pk_us]
end
end
section
/-! the reference's draw: the loop over the nodes; the cases -/
def td_Pd (n : Nat) (L : List Nat) (w : Nat) : Bool := decide (1 ≤ w) && decide (w ≤ n) && !(decide ((10 + w) ∈ L))
def td_ld (A lb1 lb2 : Nat → Nat) (L : List Nat) (w : Nat) : Nat := if w ∈ L then lb2 (A w) else lb1 w
theorem td_Pd_i {n : Nat} {L : List Nat} {w : Nat} : td_Pd n L w = true ↔ 1 ≤ w ∧ w ≤ n ∧ ¬ (10 + w) ∈ L := by
  unfold td_Pd
  simp only [Bool.and_eq_true, decide_eq_true_eq, Bool.not_eq_true', decide_eq_false_iff_not, and_assoc]
section
variable {n m : Nat} {l1 l2 lb1 lb2 lb A : Nat → Nat} {r d e a b i j x y N sd fr w v : Nat} {P : Nat → Bool} {l pc : Nat → Nat} {pre body L R S : List Nat} {ycap yrel ydel yins ydif ytot ypos ylen : Int32} {ycnt yrts ylow ylab ymap yop ypic yend yout : Nat → Int32}
theorem yw_d156 {post : SY → Prop} (hsd : sd ≤ 2) (hN : N ≤ 8) (hcnt : ycnt sd = nI N) (hlow : ∀ v, 1 ≤ v → v ≤ N → ylow (sd * 10 + v) = nI (l v)) (hLN : td_L N l) (hL : td_LP P l)
    (hpic : ∀ v, 1 ≤ v → v ≤ 8 → (P v = true → ypic v = nI (pc v)) ∧ (¬ P v = true → ypic v = 0)) (hpc : ∀ v, P v = true → 1 ≤ pc v ∧ pc v < 65536)
    (h : ∀ en out, en 0 = 0 → ls_h out 0 (tx P l pc 1 N) → post (ycap, yrel, ydel, yins, ydif, ytot, ypos, nI (tx P l pc 1 N).length, ycnt, yrts, ylow, ylab, ymap, yop, ypic, en, out)) :
    ∀ k u en out, u + k = N → ls_h out 0 (tx P l pc 1 u) → (∀ w, w ≤ u → en w = nI (tx P l pc 1 w).length) →
      wY_draw_156 post (nI sd) ycap yrel ydel yins ydif ytot ypos (k + 1) (nI (u + 1)) (nI (tx P l pc 1 u).length) ycnt yrts ylow ylab ymap yop ypic en out := by
  intro k
  induction k with
  | zero =>
    intro u en out hu h1 h2
    have eu : u = N := by omega
    subst eu
    unfold wY_draw_156
    rw [nI_clamp (n := sd) (by omega), hcnt]
    refine ⟨vp_in_nI (by omega) (by omega), br_t (nI_lt (by omega) (by omega)) (h en out ?_ h1)⟩
    rw [h2 0 (by omega), tx_lt (by omega)]
    rfl
  | succ k ih =>
    intro u en out hu h1 h2
    have Lv := hLN (u + 1) (by omega) (by omega)
    have bd := tx_bd (pc := pc) hL 8 1 u (by omega) (by omega) (by omega) (fun w w1 w2 w3 => (hL w w1 (by omega) w3).1)
    have hp := hpic (u + 1) (by omega) (by omega)
    have cut := tx_cut (pc := pc) hL (a := 1) (c := l (u + 1)) (by omega) Lv.1 u u (Nat.le_refl _) (by omega) (by omega) (fun w w1 w2 w3 => (hLN w (by omega) (by omega)).2.2 (u + 1) (by omega) (by omega) w1)
    unfold wY_draw_156
    rw [nI_clamp (n := sd) (by omega), hcnt, show nI sd * 10 + nI (u + 1) = nI (sd * 10 + (u + 1)) by rw [show (10 : Int32) = nI 10 from rfl, pk_mul, nI_add], nI_clamp (n := sd * 10 + (u + 1)) (by omega), hlow (u + 1) (by omega) (by omega), xw_s1 Lv.1, nI_clamp (n := l (u + 1) - 1) (by omega), nI_clamp (n := u + 1) (by omega), h2 (l (u + 1) - 1) (by omega)]
    refine ⟨vp_in_nI (by omega) (by omega), br_f (nI_nlt (by omega) (by omega)) ⟨vp_in_nI (by omega) (by omega), vp_in_nI (by omega) (by omega), nm_e ⟨vp_in_nI (by omega) (by omega), ?_⟩⟩⟩
    have en2 : ∀ z, tx P l pc 1 (u + 1) = z → ∀ w, w ≤ u + 1 → upd en (u + 1) (nI z.length) w = nI (tx P l pc 1 w).length := fun z hz w hw => by
      by_cases ew : w = u + 1
      · rw [ew, pk_us, hz]
      · rw [pk_un ew]
        exact h2 w (by omega)
    by_cases c : P (u + 1) = true
    · have hpc' := hpc (u + 1) c
      have ty := tx_y (pc := pc) hL (a := 1) (by omega) (by omega : u + 1 ≤ 8) (by omega) c
      have tT : tx_T P l pc (u + 1) = pc (u + 1) :: tx_w (tx P l pc (l (u + 1)) u) := rfl
      rw [tT] at ty
      rw [hp.1 c]
      refine br_f (nI_ne0 (by omega) (by omega)) ?_
      have k2 := yw_d156s (post := post) (J := wY_draw_156 post (nI sd) ycap yrel ydel yins ydif ytot ypos (k + 1)) (x3 := nI sd) (v := u + 1) (c0 := pc (u + 1)) (pre := tx P l pc 1 (l (u + 1) - 1)) (body := tx P l pc (l (u + 1)) u) (ycap := ycap) (yrel := yrel) (ydel := ydel) (yins := yins) (ydif := ydif) (ytot := ytot) (ypos := ypos) (ycnt := ycnt) (yrts := yrts) (ylow := ylow) (ylab := ylab) (ymap := ymap) (yop := yop) (yend := en) (yout := out) (by omega) (by omega) (hp.1 c) hpc'.1 hpc'.2 (by rw [← cut]; omega) (by rw [← cut]; exact tx_ch hL (fun v hv => (hpc v hv).2) 8 1 u (by omega) (by omega) (by omega)) (by rw [← cut]; exact h1)
        (fun out2 ho2 => by
          rw [← ty] at ho2 ⊢
          exact ih (u + 1) _ out2 (by omega) ho2 (en2 _ rfl))
      rw [← cut] at k2
      exact k2
    · have tn := tx_n (pc := pc) hL (a := 1) (by omega) (by omega : u + 1 ≤ 8) c
      rw [show u + 1 - 1 = u by omega] at tn
      rw [hp.2 c]
      refine br_t rfl (nm_e ⟨1, ?_⟩)
      unfold wY_draw_226
      refine br_f (by decide) ?_
      unfold wY_draw_261
      rw [nI_clamp (n := u + 1) (by omega)]
      refine nm_r (e' := nI (tx P l pc 1 u).length) (Int32.add_zero _) ⟨vp_in_nI (by omega) (by omega), nm_e (br_t (by decide) ?_)⟩
      unfold wY_draw_303
      refine br_f (by decide) (nm_r (nI_1 _) ?_)
      have k2 := ih (u + 1) (upd en (u + 1) (nI (tx P l pc 1 u).length)) out (by omega)
      rw [tn] at k2
      exact k2 h1 (en2 _ tn)
theorem yw_dr {post : SY → Prop} (hsd : sd ≤ 2) (hN : N ≤ 8) (hcnt : ycnt sd = nI N) (hlow : ∀ v, 1 ≤ v → v ≤ N → ylow (sd * 10 + v) = nI (l v)) (hLN : td_L N l) (hL : td_LP P l) (he : yend 0 = 0)
    (hpic : ∀ v, 1 ≤ v → v ≤ 8 → (P v = true → ypic v = nI (pc v)) ∧ (¬ P v = true → ypic v = 0)) (hpc : ∀ v, P v = true → 1 ≤ pc v ∧ pc v < 65536)
    (h : ∀ en out, en 0 = 0 → ls_h out 0 (tx P l pc 1 N) → post (ycap, yrel, ydel, yins, ydif, ytot, ypos, nI (tx P l pc 1 N).length, ycnt, yrts, ylow, ylab, ymap, yop, ypic, en, out)) :
    ∃ n156, wY_draw_156 post (nI sd) ycap yrel ydel yins ydif ytot ypos n156 1 0 ycnt yrts ylow ylab ymap yop ypic yend yout := by
  have k := yw_d156 (ycap := ycap) (yrel := yrel) (ydel := ydel) (yins := yins) (ydif := ydif) (ytot := ytot) (ypos := ypos) (yrts := yrts) (ylab := ylab) (ymap := ymap) (yop := yop) hsd hN hcnt hlow hLN hL hpic hpc h N 0 yend yout (by omega) (by rw [tx_lt (by omega)]; trivial) (fun w hw => by
    have e1 : w = 0 := by omega
    rw [e1, he, tx_lt (by omega)]
    rfl)
  rw [tx_lt (by omega)] at k
  exact ⟨_, k⟩
/-- the ops that have been done to side 1 -/
theorem yw_d71 {post : SY → Prop} {OL : List Nat} (hm : m ≤ 8) (hn : n ≤ 8) (hA : ∀ v, 1 ≤ v → v ≤ 8 → ymap (10 + v) = nI (A v)) (hlab : ∀ w, 1 ≤ w → w ≤ m → ylab (20 + w) = nI (lb2 w)) (ho : ls_h yop 0 OL) (hO : OL.length ≤ 16)
    (cs : ∀ o, o ∈ L ++ R → (1 ≤ o ∧ o ≤ n ∧ 1 ≤ A o ∧ A o ≤ m) ∨ (11 ≤ o ∧ o ≤ 10 + n ∧ A (o - 10) = 0))
    (h : ∀ pic, (∀ w, 1 ≤ w → w ≤ 8 → pic w = nI (td_pc (td_Pd n (L ++ R)) (td_ld A lb1 lb2 (L ++ R)) w)) → ∃ n156, wY_draw_156 post 1 ycap yrel ydel yins ydif ytot (nI (L ++ R).length) n156 1 ylen ycnt yrts ylow ylab ymap yop pic yend yout) :
    ∀ R1 L1 pic, L1 ++ R1 = L ++ R → OL = L1 ++ (R1 ++ S) → (∀ w, 1 ≤ w → w ≤ 8 → pic w = nI (td_pc (td_Pd n L1) (td_ld A lb1 lb2 L1) w)) →
      wY_draw_71 post 3 1 ycap yrel ydel yins ydif ytot (nI (L ++ R).length) ylen (R1.length + 1) (nI L1.length) ycnt yrts ylow ylab ymap yop pic yend yout := by
  intro R1
  induction R1 with
  | nil =>
    intro L1 pic he hOL hp
    rw [List.append_nil] at he
    subst he
    unfold wY_draw_71
    refine br_t rfl (br_t rfl (br_t (nI_le (Nat.le_refl _) ?_) (h pic hp)))
    rw [hOL, List.length_append] at hO
    omega
  | cons o R1 ih =>
    intro L1 pic he hOL hp
    have eL : (L ++ R).length = L1.length + (R1.length + 1) := by rw [← he, List.length_append, List.length_cons]
    have hO2 : OL.length = L1.length + (R1.length + 1 + S.length) := by rw [hOL, List.length_append, List.length_append, List.length_cons]
    have hop : yop L1.length = nI o := by
      rw [hOL] at ho
      have := (ls_app ho).2.1
      rw [Nat.zero_add] at this
      exact this
    have hcs := cs o (by rw [← he]; simp)
    have nx : ∀ w x, 1 ≤ w → w ≤ 8 → x = nI (td_pc (td_Pd n (L1 ++ [o])) (td_ld A lb1 lb2 (L1 ++ [o])) w) → (∀ w', 1 ≤ w' → w' ≤ 8 → w' ≠ w → td_pc (td_Pd n (L1 ++ [o])) (td_ld A lb1 lb2 (L1 ++ [o])) w' = td_pc (td_Pd n L1) (td_ld A lb1 lb2 L1) w') →
        wY_draw_71 post 3 1 ycap yrel ydel yins ydif ytot (nI (L ++ R).length) ylen (R1.length + 1) (nI (L1.length + 1)) ycnt yrts ylow ylab ymap yop (upd pic w x) yend yout := fun w x w1 w2 hx hw => by
      have k := ih (L1 ++ [o]) (upd pic w x) (by rw [← he]; simp) (by rw [hOL]; simp) (fun w' w1' w2' => by
        by_cases e : w' = w
        · rw [e, pk_us, hx]
        · rw [pk_un e, hp w' w1' w2', hw w' w1' w2' e])
      rw [td_l1] at k
      exact k
    rw [List.length_cons]
    unfold wY_draw_71
    rw [nI_clamp (n := L1.length) (by omega), hop, show nI o - nI o / 10 * 10 = nI (o % 10) from pk_rem (d := 10) (by omega) (by omega) (by omega)]
    refine br_t rfl (br_t rfl (br_f (nI_ge (by omega) (by omega)) ⟨vp_in_nI (by omega) (by omega), by decide, vp_in_nI (by omega) (by omega), ?_⟩))
    rcases hcs with ⟨d1, d2, d3, d4⟩ | ⟨d1, d2, d3⟩
    · have n0 : ¬ (10 + o) ∈ L1 ++ [o] := fun z => by
        have z2 : (10 + o) ∈ L ++ R := by
          rw [← he]
          rcases List.mem_append.mp z with q | q
          · exact List.mem_append_left _ q
          · have : 10 + o = o := by simpa using q
            omega
        rcases cs _ z2 with q | q
        · omega
        · rw [show 10 + o - 10 = o by omega] at q
          omega
      refine br_t (nI_le (b := 10) (by omega) (by decide)) ?_
      rw [show o % 10 = o by omega, yw_a10, nI_clamp (n := 10 + o) (by omega), hA o d1 (by omega), yw_a20, nI_clamp (n := 20 + A o) (by omega), hlab (A o) d3 d4, nI_clamp (n := o) (by omega)]
      refine ⟨vp_in_nI (by omega) (by omega), vp_in_nI (by omega) (by omega), vp_in_nI (by omega) (by omega), vp_in_nI (by omega) (by omega), nm_e (nm_r (nI_1 _) (nx o _ d1 (by omega) ?_ (fun w' w1 w2 w3 => ?_)))⟩
      · rw [td_pc_t (td_Pd_i.mpr ⟨d1, d2, n0⟩)]
        have e1 : td_ld A lb1 lb2 (L1 ++ [o]) o = lb2 (A o) := if_pos (by simp)
        rw [e1]
        exact nI_add 97 _
      · have e1 : td_Pd n (L1 ++ [o]) w' = td_Pd n L1 w' := by
          apply Bool.eq_iff_iff.mpr
          rw [td_Pd_i, td_Pd_i]
          have : (10 + w') ∈ L1 ++ [o] ↔ (10 + w') ∈ L1 := by
            rw [List.mem_append]
            refine ⟨fun q => q.elim id (fun q => ?_), Or.inl⟩
            have : 10 + w' = o := by simpa using q
            omega
          rw [this]
        have e2 : td_ld A lb1 lb2 (L1 ++ [o]) w' = td_ld A lb1 lb2 L1 w' := by
          unfold td_ld
          have : w' ∈ L1 ++ [o] ↔ w' ∈ L1 := by
            rw [List.mem_append]
            refine ⟨fun q => q.elim id (fun q => ?_), Or.inl⟩
            have : w' = o := by simpa using q
            omega
          by_cases q : w' ∈ L1
          · rw [if_pos q, if_pos (this.mpr q)]
          · rw [if_neg q, if_neg (fun z => q (this.mp z))]
        unfold td_pc
        rw [e1, e2]
    · refine br_f (nI_ge (a := 10) (by omega) (by omega)) ?_
      rw [show o % 10 = o - 10 by omega, nI_clamp (n := o - 10) (by omega)]
      refine ⟨vp_in_nI (by omega) (by omega), nm_e (nm_r (nI_1 _) (nx (o - 10) _ (by omega) (by omega) ?_ (fun w' w1 w2 w3 => ?_)))⟩
      · rw [td_pc_f (fun z => (td_Pd_i.mp z).2.2 (by rw [show 10 + (o - 10) = o by omega]; simp))]
        rfl
      · have e1 : td_Pd n (L1 ++ [o]) w' = td_Pd n L1 w' := by
          apply Bool.eq_iff_iff.mpr
          rw [td_Pd_i, td_Pd_i]
          have : (10 + w') ∈ L1 ++ [o] ↔ (10 + w') ∈ L1 := by
            rw [List.mem_append]
            refine ⟨fun q => q.elim id (fun q => ?_), Or.inl⟩
            have : 10 + w' = o := by simpa using q
            omega
          rw [this]
        have e2 : td_ld A lb1 lb2 (L1 ++ [o]) w' = td_ld A lb1 lb2 L1 w' := by
          unfold td_ld
          have : w' ∈ L1 ++ [o] ↔ w' ∈ L1 := by
            rw [List.mem_append]
            refine ⟨fun q => q.elim id (fun q => ?_), Or.inl⟩
            have : w' = o := by simpa using q
            omega
          by_cases q : w' ∈ L1
          · rw [if_pos q, if_pos (this.mpr q)]
          · rw [if_neg q, if_neg (fun z => q (this.mp z))]
        unfold td_pc
        rw [e1, e2]
end
end
section
/-! the ops in order; the paired nodes of both sides are one forest -/
theorem ls_spl : ∀ {X Y L S : List Nat} {o : Nat}, X ++ Y = L ++ o :: S → (∃ S0, X = L ++ o :: S0 ∧ S = S0 ++ Y) ∨ (∃ D0, L = X ++ D0 ∧ Y = D0 ++ o :: S)
  | [], Y, L, S, o, h => Or.inr ⟨L, rfl, h⟩
  | x :: X, Y, [], S, o, h => by
    have h2 : x :: (X ++ Y) = o :: S := h
    injection h2 with e1 e2
    exact Or.inl ⟨X, by rw [e1]; rfl, e2.symm⟩
  | x :: X, Y, z :: L, S, o, h => by
    have h2 : x :: (X ++ Y) = z :: (L ++ o :: S) := h
    injection h2 with e1 e2
    rcases ls_spl e2 with ⟨S0, q1, q2⟩ | ⟨D0, q1, q2⟩
    · exact Or.inl ⟨S0, by rw [e1, q1]; rfl, q2⟩
    · exact Or.inr ⟨D0, by rw [e1, q1]; rfl, q2⟩
theorem td_oD_pw {A : Nat → Nat} : ∀ n, List.Pairwise (fun a b => b < a) (td_oD A n)
  | 0 => List.Pairwise.nil
  | k + 1 => by
    have h := td_oD_pw (A := A) k
    unfold td_oD
    split
    · refine List.Pairwise.cons (fun w hw => ?_) h
      have := td_oD_m.mp hw
      omega
    · exact h
theorem td_oI_pw {A : Nat → Nat} : ∀ n, List.Pairwise (fun a b => b < a) (td_oI A n)
  | 0 => List.Pairwise.nil
  | k + 1 => by
    have h := td_oI_pw (A := A) k
    unfold td_oI
    split
    · refine List.Pairwise.cons (fun w hw => ?_) h
      have := td_oI_m.mp hw
      omega
    · exact h
theorem ls_ext : ∀ {l k : List Nat}, List.Pairwise (fun a b => a < b) l → List.Pairwise (fun a b => a < b) k → (∀ x, x ∈ l ↔ x ∈ k) → l = k
  | [], [], _, _, _ => rfl
  | [], y :: k, _, _, h => absurd ((h y).mpr List.mem_cons_self) (List.not_mem_nil)
  | x :: l, [], _, _, h => absurd ((h x).mp List.mem_cons_self) (List.not_mem_nil)
  | x :: l, y :: k, h1, h2, h => by
    have e : x = y := by
      rcases List.mem_cons.mp ((h x).mp List.mem_cons_self) with z | z
      · exact z
      · rcases List.mem_cons.mp ((h y).mpr List.mem_cons_self) with z2 | z2
        · exact z2.symm
        · have q1 := List.rel_of_pairwise_cons h2 z
          have q2 := List.rel_of_pairwise_cons h1 z2
          omega
    subst e
    have t : l = k := by
      refine ls_ext (List.Pairwise.of_cons h1) (List.Pairwise.of_cons h2) fun z => ⟨fun q => ?_, fun q => ?_⟩
      · rcases List.mem_cons.mp ((h z).mp (List.mem_cons_of_mem _ q)) with y | y
        · have := List.rel_of_pairwise_cons h1 q
          omega
        · exact y
      · rcases List.mem_cons.mp ((h z).mpr (List.mem_cons_of_mem _ q)) with y | y
        · have := List.rel_of_pairwise_cons h2 q
          omega
        · exact y
    rw [t]
section
variable {n m b N j : Nat} {l1 l2 lb1 lb2 A sl : Nat → Nat} {P1 P2 : Nat → Bool} {fs nx up : Nat → Int32} {L : List Nat}
/-- parents go with the mapping -/
theorem td_iso_up (hV : td_V l1 l2 1 n 1 m A) (hn : n ≤ 8) (hm : m ≤ 8) (h1 : ∀ w, P1 w = true ↔ A w ≠ 0) (h2 : ∀ w, 1 ≤ w → (P2 w = true ↔ ∃ v, A v = w)) {v : Nat} (hv : A v ≠ 0) : td_up P2 l2 (A v) = A (td_up P1 l1 v) := by
  have A0 : A 0 = 0 := td_V_out hV (Or.inl (by omega))
  have rv := hV.1 v hv
  rcases td_up_s P1 l1 v with ⟨a1, a2⟩ | ⟨a1, a2, a3, a4, a5⟩
  · rw [a1, A0]
    refine td_up_0 fun w w1 w2 w3 => ?_
    obtain ⟨x, hx⟩ := (h2 w (by omega)).mp w3
    have x0 : A x ≠ 0 := by omega
    have rx := hV.1 x x0
    have vx : v < x := by
      rcases Nat.lt_trichotomy v x with z | z | z
      · exact z
      · rw [z] at w1
        omega
      · have := (hV.2 x v z x0 hv).1
        omega
    have t1 := a2 x vx (by omega) ((h1 x).mpr x0)
    have t2 := (hV.2 v x vx hv x0).2
    rw [hx] at t2
    omega
  · have x0 := (h1 _).mp a3
    have rx := hV.1 _ x0
    have t := hV.2 v _ a1 hv x0
    refine td_up_u t.1 (by omega) ((h2 _ (by omega)).mpr ⟨_, rfl⟩) (t.2.mp a4) fun w w1 w2 w3 => ?_
    obtain ⟨y, hy⟩ := (h2 w (by omega)).mp w3
    have y0 : A y ≠ 0 := by omega
    have vy : v < y := by
      rcases Nat.lt_trichotomy v y with z | z | z
      · exact z
      · rw [z] at w1
        omega
      · have := (hV.2 y v z y0 hv).1
        omega
    have yx : y < td_up P1 l1 v := by
      rcases Nat.lt_trichotomy y (td_up P1 l1 v) with z | z | z
      · exact z
      · rw [z] at hy
        omega
      · have := (hV.2 _ y z x0 y0).1
        omega
    have t1 := a5 y vy yx ((h1 y).mpr y0)
    have t2 := (hV.2 v y vy hv y0).2
    rw [hy] at t2
    omega
theorem td_src_A (hV : td_V l1 l2 1 n 1 m A) (hn : n ≤ 8) {v : Nat} (hv : A v ≠ 0) : td_src A (A v) = v := by
  have rv := hV.1 v hv
  have h0 : td_src A (A v) ≠ 0 := fun z => (td_src_0.mp z) v (by omega) (by omega) rfl
  have s := td_src_s h0
  rcases Nat.lt_trichotomy (td_src A (A v)) v with z | z | z
  · have := (hV.2 _ v z (by rw [s.2.2]; exact hv) hv).1
    omega
  · exact z
  · have := (hV.2 v _ z hv (by rw [s.2.2]; exact hv)).1
    omega
theorem ls_mapA (hV : td_V l1 l2 1 n 1 m A) : ∀ {l : List Nat}, (∀ x, x ∈ l → A x ≠ 0) → List.Pairwise (fun a b => a < b) l → List.Pairwise (fun a b => a < b) (l.map A)
  | [], _, _ => List.Pairwise.nil
  | x :: l, h, hp => by
    refine List.Pairwise.cons (fun y hy => ?_) (ls_mapA hV (fun z hz => h z (List.mem_cons_of_mem _ hz)) (List.Pairwise.of_cons hp))
    obtain ⟨z, z1, z2⟩ := List.mem_map.mp hy
    rw [← z2]
    exact (hV.2 x z (List.rel_of_pairwise_cons hp z1) (h x List.mem_cons_self) (h z (List.mem_cons_of_mem _ z1))).1
theorem lk_p_map {sl2 : Nat → Nat} : ∀ {l : List Nat}, (∀ x, x ∈ l → sl2 (A x) = sl x) → sl2 0 = sl 0 → lk_p b sl nx l 0 → lk_p b sl2 nx (l.map A) 0
  | [], _, _, _ => trivial
  | x :: l, h, h0, hp => by
    refine ⟨?_, lk_p_map (fun z hz => h z (List.mem_cons_of_mem _ hz)) h0 hp.2⟩
    rw [h x List.mem_cons_self, hp.1]
    cases l with
    | nil => exact congrArg nI h0.symm
    | cons y l => exact congrArg nI (h y (by simp)).symm
/-- the paired nodes of side 1 are, under their partners' names, the paired nodes of side 2 -/
theorem lk_iso (hV : td_V l1 l2 1 n 1 m A) (hn : n ≤ 8) (hm : m ≤ 8) (h1 : ∀ w, P1 w = true ↔ A w ≠ 0) (h2 : ∀ w, 1 ≤ w → (P2 w = true ↔ ∃ v, A v = w)) (hS : lk_S P1 sl N) (hK : lk_K b P1 (td_up P1 l1) sl fs nx up) :
    lk_K b P2 (td_up P2 l2) (fun w => if w = 0 then 0 else sl (td_src A w)) fs nx up ∧ lk_S P2 (fun w => if w = 0 then 0 else sl (td_src A w)) N := by
  have A0 : A 0 = 0 := td_V_out hV (Or.inl (by omega))
  have sA : ∀ v, A v ≠ 0 → (fun w => if w = 0 then 0 else sl (td_src A w)) (A v) = sl v := fun v hv => by
    show (if A v = 0 then 0 else sl (td_src A (A v))) = sl v
    rw [if_neg hv, td_src_A hV hn hv]
  have ch : ∀ q, (q = 0 ∨ A q ≠ 0) → lk_ch P2 (td_up P2 l2) (A q) 1 8 = (lk_ch P1 (td_up P1 l1) q 1 8).map A := fun q hq => by
    refine ls_ext lk_pw (ls_mapA hV (fun x hx => (h1 x).mp (lk_ch_m.mp hx).2.2.1) lk_pw) fun x => ?_
    rw [lk_ch_m, List.mem_map]
    constructor
    · rintro ⟨x1, x2, x3, x4⟩
      obtain ⟨v, hv⟩ := (h2 x x1).mp x3
      have v0 : A v ≠ 0 := by omega
      have rv := hV.1 v v0
      refine ⟨v, lk_ch_m.mpr ⟨by omega, by omega, (h1 v).mpr v0, ?_⟩, hv⟩
      rw [← hv, td_iso_up hV hn hm h1 h2 v0] at x4
      rcases hq with z | z
      · rw [z, A0] at x4
        rw [z]
        rcases td_up_s P1 l1 v with ⟨a1, a2⟩ | ⟨a1, a2, a3, a4, a5⟩
        · exact a1
        · exact absurd x4 ((h1 _).mp a3)
      · have u0 : A (td_up P1 l1 v) ≠ 0 := by rw [x4]; exact z
        rw [← td_src_A hV hn u0, x4, td_src_A hV hn z]
    · rintro ⟨v, v1, v2⟩
      have o := lk_ch_m.mp v1
      have v0 := (h1 v).mp o.2.2.1
      have rv := hV.1 v v0
      rw [← v2]
      refine ⟨by omega, by omega, (h2 _ (by omega)).mpr ⟨v, rfl⟩, ?_⟩
      rw [td_iso_up hV hn hm h1 h2 v0, o.2.2.2]
  have hd : ∀ l : List Nat, (∀ x, x ∈ l → A x ≠ 0) → (fun w => if w = 0 then 0 else sl (td_src A w)) ((l.map A).headD 0) = sl (l.headD 0) := fun l hl => by
    cases l with
    | nil =>
      show (if (0 : Nat) = 0 then 0 else _) = sl 0
      rw [if_pos rfl, hS.1]
    | cons x l => exact sA x (hl x List.mem_cons_self)
  refine ⟨⟨fun q hq => ?_, fun w w1 w8 wP => ?_⟩, ?_, fun w w1 w8 wP => ?_, fun v w v1 v8 vP w1 w8 wP e => ?_⟩
  · have hq' : ∃ q0, (q0 = 0 ∨ A q0 ≠ 0) ∧ A q0 = q := by
      rcases hq with z | ⟨z1, z2, z3⟩
      · exact ⟨0, Or.inl rfl, by rw [A0, z]⟩
      · obtain ⟨v, hv⟩ := (h2 q z1).mp z3
        exact ⟨v, Or.inr (by omega), hv⟩
    obtain ⟨q0, q1, q2⟩ := hq'
    have ok0 : q0 = 0 ∨ (1 ≤ q0 ∧ q0 ≤ 8 ∧ P1 q0 = true) := by
      rcases q1 with z | z
      · exact Or.inl z
      · have := hV.1 q0 z
        exact Or.inr ⟨by omega, by omega, (h1 q0).mpr z⟩
    have K := hK.1 q0 ok0
    have mem : ∀ x, x ∈ lk_ch P1 (td_up P1 l1) q0 1 8 → A x ≠ 0 := fun x hx => (h1 x).mp (lk_ch_m.mp hx).2.2.1
    rw [← q2, ch q0 q1, hd _ mem]
    refine ⟨?_, lk_p_map (fun x hx => sA x (mem x hx)) ?_ K.2⟩
    · rcases q1 with z | z
      · rw [z] at K ⊢
        rw [A0]
        show fs (b + (if (0 : Nat) = 0 then 0 else _)) = _
        have K1 := K.1
        rw [hS.1] at K1
        rw [if_pos rfl]
        exact K1
      · rw [sA q0 z]
        exact K.1
    · show (if (0 : Nat) = 0 then 0 else _) = sl 0
      rw [if_pos rfl, hS.1]
  · obtain ⟨v, hv⟩ := (h2 w w1).mp wP
    have v0 : A v ≠ 0 := by omega
    have rv := hV.1 v v0
    rw [← hv, td_iso_up hV hn hm h1 h2 v0, sA v v0, hK.2 v (by omega) (by omega) ((h1 v).mpr v0)]
    rcases td_up_s P1 l1 v with ⟨a1, a2⟩ | ⟨a1, a2, a3, a4, a5⟩
    · rw [a1, A0]
      show nI (sl 0) = nI (if (0 : Nat) = 0 then 0 else _)
      rw [if_pos rfl, hS.1]
    · rw [sA _ ((h1 _).mp a3)]
  · show (if (0 : Nat) = 0 then 0 else _) = 0
    rw [if_pos rfl]
  · obtain ⟨v, hv⟩ := (h2 w w1).mp wP
    have v0 : A v ≠ 0 := by omega
    have rv := hV.1 v v0
    rw [← hv, sA v v0]
    exact hS.2.1 v (by omega) (by omega) ((h1 v).mpr v0)
  · obtain ⟨x, hx⟩ := (h2 v v1).mp vP
    obtain ⟨y, hy⟩ := (h2 w w1).mp wP
    have x0 : A x ≠ 0 := by omega
    have y0 : A y ≠ 0 := by omega
    have rx := hV.1 x x0
    have ry := hV.1 y y0
    rw [← hx, ← hy, sA x x0, sA y y0] at e
    have := hS.2.2 x y (by omega) (by omega) ((h1 x).mpr x0) (by omega) (by omega) ((h1 y).mpr y0) e
    rw [← hx, ← hy, this]
end
end
section
/-! the machine: one op -/
def rl_W (A l1 l2 lb1 lb2 : Nat → Nat) (n m : Nat) (L : List Nat) (xusd xlab xfst xnxt xup : Nat → Int32) : Prop :=
  ((∀ o, o ∈ L → o ≤ 20) ∧ xusd 2 = nI n ∧ lk_S (td_Pd n L) (fun v => v) n ∧ lk_K 34 (td_Pd n L) (td_up (td_Pd n L) l1) (fun v => v) xfst xnxt xup ∧ (∀ v, 1 ≤ v → v ≤ 8 → td_Pd n L v = true → xlab (34 + v) = nI (td_ld A lb1 lb2 L v)))
  ∨ (∃ I0 j sl N, L = (td_oR A lb1 lb2 n ++ td_oD A n) ++ (I0 ++ [20 + j]) ∧ 1 ≤ j ∧ j ≤ m ∧ xusd 2 = nI N ∧ N ≤ n + (I0.length + 1) ∧ lk_S (td_Ps A m (j - 1)) sl N ∧ lk_K 34 (td_Ps A m (j - 1)) (td_up (td_Ps A m (j - 1)) l2) sl xfst xnxt xup ∧ (∀ v, 1 ≤ v → v ≤ 8 → td_Ps A m (j - 1) v = true → xlab (34 + sl v) = nI (lb2 v)))
def td_oc (r d e o : Nat) : Nat := if o < 10 then r else if o < 20 then d else e
theorem td_LP_d {n : Nat} {l : Nat → Nat} {P : Nat → Bool} (h : td_L n l) (hn : n ≤ 8) (hP : ∀ w, P w = true → w ≤ n) : td_LP P l := fun v v1 v8 vP => by
  have L := h v v1 (hP v vP)
  exact ⟨L.1, L.2.1, fun w w1 w2 w3 w4 => L.2.2 w w1 (hP w w3) w4⟩
theorem td_one_id {P : Nat → Bool} {i : Nat} (h : ∀ w, 1 ≤ w → w ≤ i → P w = true) : td_S (td_one P) 1 i = i := by
  have e : td_S (td_one P) 1 i = td_S (fun _ => 1) 1 i := td_S_c fun w w1 w2 => td_one_t (h w w1 w2)
  rw [e]
  rcases td_S_k (a := 1) (c := 1) (i := i) with z | z
  · rw [z]
    omega
  · omega
theorem lk_len {P : Nat → Bool} {pr : Nat → Nat} {q : Nat} : ∀ {k lo : Nat}, 1 ≤ lo → (lk_ch P pr q lo k).length = td_S (td_one (fun w => P w && (pr w == q))) lo (lo + k - 1) := by
  intro k
  induction k with
  | zero =>
    intro lo h
    rw [td_S_lt (by omega)]
    rfl
  | succ k ih =>
    intro lo h
    have i1 := ih (lo := lo + 1) (by omega)
    have eC : lk_ch P pr q lo (k + 1) = if P lo = true ∧ pr lo = q then lo :: lk_ch P pr q (lo + 1) k else lk_ch P pr q (lo + 1) k := rfl
    rw [eC, show lo + (k + 1) - 1 = lo + 1 + k - 1 by omega, td_S_split (a := lo) (c := lo + 1) h (by omega) (by omega), ← i1, show lo + 1 - 1 = lo by omega, td_S_p (a := lo) (i := lo) (Nat.le_refl _) h, td_S_lt (by omega)]
    by_cases c : P lo = true ∧ pr lo = q
    · rw [if_pos c, td_one_t (by simp [c.1, c.2]), List.length_cons]
      omega
    · rw [if_neg c, td_one_f (fun z => c (by simpa using z))]
      omega
section
variable {n m : Nat} {l1 l2 lb1 lb2 A sl : Nat → Nat} {r d e i j p pd N off : Nat} {L S tl : List Nat} {xcap xrel xdel xins xdif xtsk xscl xopc xpos xpad xpgl : Int32} {xfst xnxt xup xlab xusd xrts xlft xfor xtre xmat xm1 xm2 xtI xtJ xc1 xc2 xscr xopA xpag : Nat → Int32}
theorem xw_stR {post : SX → Prop} (hn : n ≤ 8) (hL1 : td_L n l1) (hi1 : 1 ≤ i) (hi : i ≤ n) (hp : p < 17) (hop : xopA p = nI off) (ho : off + 6 < 128) (hs : ls_h xscr off ([82, 48 + i, 97 + lb2 (A i), 59] ++ tl)) (hlb : lb2 (A i) ≤ 25) (hr : r ≤ 9) (hpd : pd < 1000)
    (hD : ∀ w, 1 ≤ w → w ≤ n → ¬ (10 + w) ∈ L) (hS : lk_S (td_Pd n L) (fun v => v) n) (hK : lk_K 34 (td_Pd n L) (td_up (td_Pd n L) l1) (fun v => v) xfst xnxt xup)
    (h : post (xcap, nI r, xdel, xins, xdif, xtsk, xscl, xopc, nI (p + 1), nI (pd + r), xpgl, xfst, xnxt, xup, upd xlab (34 + i) (nI (lb2 (A i))), xusd, xrts, xlft, xfor, xtre, xmat, xm1, xm2, xtI, xtJ, xc1, xc2, xscr, xopA, xpag)) : wpX_step post (xcap, nI r, xdel, xins, xdif, xtsk, xscl, xopc, nI p, nI pd, xpgl, xfst, xnxt, xup, xlab, xusd, xrts, xlft, xfor, xtre, xmat, xm1, xm2, xtI, xtJ, xc1, xc2, xscr, xopA, xpag) := by
  have s0 : xscr off = nI 82 := hs.1
  have s1 : xscr (off + 1) = nI (48 + i) := hs.2.1
  have s2 : xscr (off + 2) = nI (97 + lb2 (A i)) := hs.2.2.1
  have hLP : td_LP (td_Pd n L) l1 := td_LP_d hL1 hn fun w z => (td_Pd_i.mp z).2.1
  unfold wpX_step
  dsimp only
  rw [nI_clamp (n := p) (by omega), hop]
  refine ⟨vp_in_nI (by omega) (by omega), nm_e ?_⟩
  rw [nI_1, nI_clamp (n := off + 1) (by omega), s1, show nI (48 + i) - 48 = nI i by rw [show (48 : Int32) = nI 48 from rfl, pk_sub (by omega)]; exact congrArg nI (by omega)]
  refine ⟨vp_in_nI (by omega) (by omega), ?_⟩
  refine xw_nodeAt (b := 34) (by omega) (by omega) hLP hS hK hi1 (by omega) (td_Pd_i.mpr ⟨hi1, hi, hD i hi1 hi⟩) (td_one_id fun w w1 w2 => td_Pd_i.mpr ⟨w1, by omega, hD w w1 (by omega)⟩).symm ?_
  rw [nI_clamp (n := off) (by omega), s0]
  refine ⟨vp_in_nI (by omega) (by omega), br_t rfl ?_⟩
  rw [show nI off + 2 = nI (off + 2) from nI_add off 2, nI_clamp (n := off + 2) (by omega), s2, show (34 : Int32) + nI i = nI (34 + i) from nI_add 34 i, nI_clamp (n := 34 + i) (by omega), show nI (97 + lb2 (A i)) - 97 = nI (lb2 (A i)) by rw [show (97 : Int32) = nI 97 from rfl, pk_sub (by omega)]; exact congrArg nI (by omega)]
  exact ⟨vp_in_nI (by omega) (by omega), vp_in_nI (by omega) (by omega), nm_e (nm_r (nI_add _ _) (nm_r (nI_1 _) h))⟩
theorem xw_stD {post : SX → Prop} (hn : n ≤ 8) (hL1 : td_L n l1) (hi1 : 1 ≤ i) (hi : i ≤ n) (hp : p < 17) (hop : xopA p = nI off) (ho : off + 6 < 128) (hs : ls_h xscr off ([68, 48 + i, 59] ++ tl)) (hd : d ≤ 9) (hpd : pd < 1000)
    (hD : ∀ w, 1 ≤ w → w ≤ i → ¬ (10 + w) ∈ L) (hS : lk_S (td_Pd n L) (fun v => v) n) (hK : lk_K 34 (td_Pd n L) (td_up (td_Pd n L) l1) (fun v => v) xfst xnxt xup)
    (h : ∀ fs nx up, lk_K 34 (td_Pd n (L ++ [10 + i])) (td_up (td_Pd n (L ++ [10 + i])) l1) (fun v => v) fs nx up → lk_S (td_Pd n (L ++ [10 + i])) (fun v => v) n → (∀ k, k < 34 → fs k = xfst k ∧ nx k = xnxt k ∧ up k = xup k) → post (xcap, xrel, nI d, xins, xdif, xtsk, xscl, xopc, nI (p + 1), nI (pd + d), xpgl, fs, nx, up, xlab, xusd, xrts, xlft, xfor, xtre, xmat, xm1, xm2, xtI, xtJ, xc1, xc2, xscr, xopA, xpag)) : wpX_step post (xcap, xrel, nI d, xins, xdif, xtsk, xscl, xopc, nI p, nI pd, xpgl, xfst, xnxt, xup, xlab, xusd, xrts, xlft, xfor, xtre, xmat, xm1, xm2, xtI, xtJ, xc1, xc2, xscr, xopA, xpag) := by
  have s0 : xscr off = nI 68 := hs.1
  have s1 : xscr (off + 1) = nI (48 + i) := hs.2.1
  have hLP : td_LP (td_Pd n L) l1 := td_LP_d hL1 hn fun w z => (td_Pd_i.mp z).2.1
  have hPi : td_Pd n L i = true := td_Pd_i.mpr ⟨hi1, hi, hD i hi1 (Nat.le_refl _)⟩
  have Li := hL1 i hi1 hi
  have eP : td_rm (td_Pd n L) i = td_Pd n (L ++ [10 + i]) := by
    funext w
    apply Bool.eq_iff_iff.mpr
    rw [td_Pd_i]
    by_cases c : w = i
    · rw [c, td_rm_j]
      exact ⟨fun z => absurd z (by decide), fun z => absurd (by simp) z.2.2⟩
    · rw [td_rm_n c, td_Pd_i]
      have : (10 + w) ∈ L ++ [10 + i] ↔ (10 + w) ∈ L := by
        rw [List.mem_append]
        refine ⟨fun q => q.elim id (fun q => ?_), Or.inl⟩
        have : 10 + w = 10 + i := by simpa using q
        omega
      rw [this]
  unfold wpX_step
  dsimp only
  rw [nI_clamp (n := p) (by omega), hop]
  refine ⟨vp_in_nI (by omega) (by omega), nm_e ?_⟩
  rw [nI_1, nI_clamp (n := off + 1) (by omega), s1, show nI (48 + i) - 48 = nI i by rw [show (48 : Int32) = nI 48 from rfl, pk_sub (by omega)]; exact congrArg nI (by omega)]
  refine ⟨vp_in_nI (by omega) (by omega), ?_⟩
  refine xw_nodeAt (b := 34) (by omega) (by omega) hLP hS hK hi1 (by omega) hPi (td_one_id fun w w1 w2 => td_Pd_i.mpr ⟨w1, by omega, hD w w1 w2⟩).symm ?_
  rw [nI_clamp (n := off) (by omega), s0]
  refine ⟨vp_in_nI (by omega) (by omega), br_f (by decide) ⟨vp_in_nI (by omega) (by omega), br_t rfl ?_⟩⟩
  have uq : td_up (td_Pd n L) l1 i = 0 ∨ (1 ≤ td_up (td_Pd n L) l1 i ∧ td_up (td_Pd n L) l1 i ≤ 8 ∧ td_Pd n L (td_up (td_Pd n L) l1 i) = true) := by
    rcases td_up_s (td_Pd n L) l1 i with ⟨a1, a2⟩ | ⟨a1, a2, a3, a4, a5⟩
    · exact Or.inl a1
    · exact Or.inr ⟨by omega, a2, a3⟩
  refine xw_remove (b := 34) (N := n) (sl := fun v => v) (t := l1 i) (q := td_up (td_Pd n L) l1 i) (pr' := td_up (td_Pd n (L ++ [10 + i])) l1) (by omega) (by omega) hS hK hi1 (by omega) hPi Li.1 Li.2.1 rfl ?_ uq ?_ ?_ ?_ ?_ ?_
  · rcases td_up_s (td_Pd n L) l1 i with ⟨a1, a2⟩ | ⟨a1, a2, a3, a4, a5⟩ <;> omega
  · intro w w1 w2 w3 w4
    have := tx_up_ok w4 (by omega)
    omega
  · intro w w1 w2 w3 w4
    by_cases c : td_up (td_Pd n L) l1 i = 0
    · have := tx_up_0 (w4.trans c) i w2 (by omega) hPi
      omega
    · have t1 := tx_up_ok w4 c
      have t2 := tx_up_ok (P := td_Pd n L) (l := l1) (v := i) rfl c
      have := t1.2.2.2.2 i w2 t2.1 hPi
      omega
  · intro w w1 w2 w3 w4
    have := tx_up_ok w4 (by omega)
    omega
  · intro v v1 v8 vP vi
    rw [← eP]
    exact td_up_rm (by omega) hLP hi1 hPi v
  · intro fs nx up h1 h2 h3
    rw [eP] at h1 h2
    exact nm_r (nI_add _ _) (nm_r (nI_1 _) (h fs nx up h1 h2 fun k hk => h3 k (Or.inl hk)))
theorem xw_stI {post : SX → Prop} (hm : m ≤ 8) (hL2 : td_L m l2) (hj1 : 1 ≤ j) (hj : j ≤ m) (h0 : td_src A j = 0) (hp : p < 17) (hop : xopA p = nI off) (ho : off + 6 < 128) (hs : ls_h xscr off (td_tx A l2 lb2 m (20 + j) ++ tl)) (hlb : lb2 j ≤ 25) (he : e ≤ 9) (hpd : pd < 1000)
    (hu : xusd 2 = nI N) (hN : N + 1 ≤ 16) (hS : lk_S (td_Ps A m j) sl N) (hK : lk_K 34 (td_Ps A m j) (td_up (td_Ps A m j) l2) sl xfst xnxt xup)
    (h : ∀ fs nx up, lk_K 34 (td_Ps A m (j - 1)) (td_up (td_Ps A m (j - 1)) l2) (td_set sl j (N + 1)) fs nx up → lk_S (td_Ps A m (j - 1)) (td_set sl j (N + 1)) (N + 1) → (∀ k, k < 34 → fs k = xfst k ∧ nx k = xnxt k ∧ up k = xup k) → post (xcap, xrel, xdel, nI e, xdif, xtsk, xscl, xopc, nI (p + 1), nI (pd + e), xpgl, fs, nx, up, upd xlab (34 + (N + 1)) (nI (lb2 j)), upd xusd 2 (nI (N + 1)), xrts, xlft, xfor, xtre, xmat, xm1, xm2, xtI, xtJ, xc1, xc2, xscr, xopA, xpag)) : wpX_step post (xcap, xrel, xdel, nI e, xdif, xtsk, xscl, xopc, nI p, nI pd, xpgl, xfst, xnxt, xup, xlab, xusd, xrts, xlft, xfor, xtre, xmat, xm1, xm2, xtI, xtJ, xc1, xc2, xscr, xopA, xpag) := by
  have et : td_tx A l2 lb2 m (20 + j) = [73, 48 + td_S (td_one (td_iq A m j (td_up (td_Ps A m j) l2 j))) 1 8, 48 + (1 + td_S (td_one (td_if A l2 m j (td_up (td_Ps A m j) l2 j))) 1 8), 48 + td_S (td_one (td_ic A l2 m j (td_up (td_Ps A m j) l2 j))) 1 8, 97 + lb2 j, 59] := by
    unfold td_tx
    rw [if_neg (by omega), if_neg (by omega), show 20 + j - 20 = j by omega]
  rw [et] at hs
  have q8 := td_one8 (td_iq A m j (td_up (td_Ps A m j) l2 j))
  have f8 := td_one8 (td_if A l2 m j (td_up (td_Ps A m j) l2 j))
  have c8 := td_one8 (td_ic A l2 m j (td_up (td_Ps A m j) l2 j))
  have s0 : xscr off = nI 73 := hs.1
  have s1 : xscr (off + 1) = _ := hs.2.1
  have s2 : xscr (off + 2) = _ := hs.2.2.1
  have s3 : xscr (off + 3) = _ := hs.2.2.2.1
  have s4 : xscr (off + 4) = _ := hs.2.2.2.2.1
  have hPm : ∀ w, td_Ps A m j w = true → w ≤ m := fun w z => (td_Ps_i.mp z).1
  have hLP : td_LP (td_Ps A m j) l2 := td_LP_d hL2 hm hPm
  have hPj : td_Ps A m j j = false := by
    cases z : td_Ps A m j j with
    | false => rfl
    | true =>
      have := (td_Ps_i.mp z).2
      omega
  have Lj := hL2 j hj1 hj
  have eP : td_ad (td_Ps A m j) j = td_Ps A m (j - 1) := by
    funext w
    apply Bool.eq_iff_iff.mpr
    rw [td_Ps_i]
    by_cases c : w = j
    · rw [c, td_ad_j]
      exact ⟨fun _ => ⟨hj, Or.inl (by omega)⟩, fun _ => rfl⟩
    · rw [td_ad_n c, td_Ps_i]
      constructor
      · rintro ⟨z1, z2⟩
        exact ⟨z1, by omega⟩
      · rintro ⟨z1, z2⟩
        exact ⟨z1, by omega⟩
  have hLP2 : td_LP (td_ad (td_Ps A m j) j) l2 := td_LP_d hL2 hm fun w z => by
    rw [eP] at z
    exact (td_Ps_i.mp z).1
  have uq : td_up (td_Ps A m j) l2 j = 0 ∨ (1 ≤ td_up (td_Ps A m j) l2 j ∧ td_up (td_Ps A m j) l2 j ≤ 8 ∧ td_Ps A m j (td_up (td_Ps A m j) l2 j) = true) := by
    rcases td_up_s (td_Ps A m j) l2 j with ⟨a1, a2⟩ | ⟨a1, a2, a3, a4, a5⟩
    · exact Or.inl a1
    · exact Or.inr ⟨by omega, a2, a3⟩
  have eF : td_S (td_one (td_if A l2 m j (td_up (td_Ps A m j) l2 j))) 1 8 = (lk_ch (td_Ps A m j) (td_up (td_Ps A m j) l2) (td_up (td_Ps A m j) l2 j) 1 (l2 j - 1)).length := by
    rw [lk_len (by omega), td_S_split (c := l2 j) (by omega) Lj.1 (i := 8) (by omega), show 1 + (l2 j - 1) - 1 = l2 j - 1 by omega, td_S_0 (a := l2 j) (i := 8) (fun w w1 w2 => td_one_f fun z => by have := td_if_i.mp z; omega), Nat.add_zero]
    refine td_S_c fun w w1 w2 => ?_
    by_cases c : td_Ps A m j w = true ∧ td_up (td_Ps A m j) l2 w = td_up (td_Ps A m j) l2 j
    · rw [td_one_t (td_if_i.mpr ⟨c.1, c.2, by omega⟩), td_one_t (by simp [c.1, c.2])]
    · rw [td_one_f (fun z => c ⟨(td_if_i.mp z).1, (td_if_i.mp z).2.1⟩), td_one_f (fun z => c (by simpa using z))]
  have eC : td_S (td_one (td_ic A l2 m j (td_up (td_Ps A m j) l2 j))) 1 8 = (lk_ch (td_Ps A m j) (td_up (td_Ps A m j) l2) (td_up (td_Ps A m j) l2 j) (l2 j) (j - l2 j)).length := by
    rw [lk_len Lj.1, td_S_split (c := l2 j) (by omega) Lj.1 (i := 8) (by omega), td_S_0 (a := 1) (i := l2 j - 1) (fun w w1 w2 => td_one_f fun z => by have := td_ic_i.mp z; omega), Nat.zero_add, td_S_split (a := l2 j) (c := j) Lj.1 Lj.2.1 (i := 8) (by omega), td_S_0 (a := j) (i := 8) (fun w w1 w2 => td_one_f fun z => by have := td_ic_i.mp z; omega), Nat.add_zero, show l2 j + (j - l2 j) - 1 = j - 1 by omega]
    refine td_S_c fun w w1 w2 => ?_
    by_cases c : td_Ps A m j w = true ∧ td_up (td_Ps A m j) l2 w = td_up (td_Ps A m j) l2 j
    · rw [td_one_t (td_ic_i.mpr ⟨c.1, c.2, by omega, by omega⟩), td_one_t (by simp [c.1, c.2])]
    · rw [td_one_f (fun z => c ⟨(td_ic_i.mp z).1, (td_ic_i.mp z).2.1⟩), td_one_f (fun z => c (by simpa using z))]
  have nd : ∀ Q : Int32 → Prop, Q (nI (sl (td_up (td_Ps A m j) l2 j))) → wpX_nodeAt Q (xcap, xrel, xdel, nI e, xdif, xtsk, xscl, xopc, nI p, nI pd, xpgl, xfst, xnxt, xup, xlab, xusd, xrts, xlft, xfor, xtre, xmat, xm1, xm2, xtI, xtJ, xc1, xc2, xscr, xopA, xpag) 34 (nI (td_S (td_one (td_iq A m j (td_up (td_Ps A m j) l2 j))) 1 8)) := by
    intro Q hQ
    rcases uq with z | z
    · have e0 : td_S (td_one (td_iq A m j (td_up (td_Ps A m j) l2 j))) 1 8 = 0 := by
        refine td_S_0 fun w w1 w2 => td_one_f fun y => ?_
        unfold td_iq at y
        simp only [Bool.and_eq_true, decide_eq_true_eq] at y
        omega
      rw [e0]
      rw [z, hS.1] at hQ
      unfold wpX_nodeAt
      exact br_t rfl hQ
    · refine xw_nodeAt (b := 34) (x := td_up (td_Ps A m j) l2 j) (by omega) (by omega) hLP hS hK z.1 z.2.1 z.2.2 ?_ hQ
      rw [td_S_split (c := td_up (td_Ps A m j) l2 j + 1) (by omega) (by omega) (i := 8) (by omega), td_S_0 (a := td_up (td_Ps A m j) l2 j + 1) (i := 8) (fun w w1 w2 => td_one_f fun y => by
        unfold td_iq at y
        simp only [Bool.and_eq_true, decide_eq_true_eq] at y
        omega), Nat.add_zero]
      refine td_S_c fun w w1 w2 => ?_
      by_cases c : td_Ps A m j w = true
      · rw [td_one_t c, td_one_t (by unfold td_iq; simp only [Bool.and_eq_true, decide_eq_true_eq]; exact ⟨c, by omega⟩)]
      · rw [td_one_f c, td_one_f (fun y => c (by unfold td_iq at y; simp only [Bool.and_eq_true, decide_eq_true_eq] at y; exact y.1))]
  unfold wpX_step
  dsimp only
  rw [nI_clamp (n := p) (by omega), hop]
  refine ⟨vp_in_nI (by omega) (by omega), nm_e ?_⟩
  rw [nI_1, nI_clamp (n := off + 1) (by omega), s1, show nI (48 + td_S (td_one (td_iq A m j (td_up (td_Ps A m j) l2 j))) 1 8) - 48 = nI (td_S (td_one (td_iq A m j (td_up (td_Ps A m j) l2 j))) 1 8) by rw [show (48 : Int32) = nI 48 from rfl, pk_sub (by omega)]; exact congrArg nI (by omega)]
  refine ⟨vp_in_nI (by omega) (by omega), nd _ ?_⟩
  rw [nI_clamp (n := off) (by omega), s0]
  refine ⟨vp_in_nI (by omega) (by omega), br_f (by decide) ⟨vp_in_nI (by omega) (by omega), br_f (by decide) ?_⟩⟩
  rw [show nI off + 2 = nI (off + 2) from nI_add off 2, nI_clamp (n := off + 2) (by omega), s2, show nI off + 3 = nI (off + 3) from nI_add off 3, nI_clamp (n := off + 3) (by omega), s3, show nI off + 4 = nI (off + 4) from nI_add off 4, nI_clamp (n := off + 4) (by omega), s4, show nI (97 + lb2 j) - 97 = nI (lb2 j) by rw [show (97 : Int32) = nI 97 from rfl, pk_sub (by omega)]; exact congrArg nI (by omega)]
  refine ⟨vp_in_nI (by omega) (by omega), vp_in_nI (by omega) (by omega), vp_in_nI (by omega) (by omega), ?_⟩
  refine xw_insert (rg := 2) (b := 34) (t := l2 j) (j := j) (q := td_up (td_Ps A m j) l2 j) (pr' := td_up (td_Ps A m (j - 1)) l2) (by omega) rfl hu hN hS hK hj1 (by omega) hPj Lj.1 Lj.2.1 uq ?_ ?_ ?_ ?_ ?_ ?_
  · rw [← eP, td_up_ad (by omega) hLP2 hj1, if_neg (fun z => z.1 rfl)]
  · intro v v1 v8 vP z
    have := tx_up_ok z (by omega)
    rw [hPj] at this
    exact absurd this.2.2.1 (by decide)
  · intro v v1 v8 vP
    rw [← eP, td_up_ad (by omega) hLP2 hj1]
    have vj : v ≠ j := fun z => by
      rw [z, hPj] at vP
      exact absurd vP (by decide)
    by_cases c : td_up (td_Ps A m j) l2 v = td_up (td_Ps A m j) l2 j ∧ l2 j ≤ v ∧ v < j
    · rw [if_pos c, if_pos ⟨vj, c.2.1, c.2.2, c.1⟩]
    · rw [if_neg c, if_neg (fun z => c ⟨z.2.2.2, z.2.1, z.2.2.1⟩)]
  · rw [show (48 : Int32) = nI 48 from rfl, pk_sub (by omega), xw_s1 (by omega), ← eF]
    exact congrArg nI (by omega)
  · rw [show (48 : Int32) = nI 48 from rfl, pk_sub (by omega), ← eC]
    exact congrArg nI (by omega)
  · intro fs nx up h1 h2 h3
    rw [eP] at h1 h2
    exact nm_r (nI_add _ _) (nm_r (nI_1 _) (h fs nx up h1 h2 fun k hk => h3 k (Or.inl hk)))
end
end
section
/-! the machine: every op keeps the work forest; apply -/
def td_pd (r d e : Nat) : List Nat → Nat
  | [] => 0
  | o :: l => td_oc r d e o + td_pd r d e l
theorem td_pd_s {r d e o : Nat} : ∀ {l : List Nat}, td_pd r d e (l ++ [o]) = td_pd r d e l + td_oc r d e o
  | [] => by
    show td_oc r d e o + 0 = 0 + td_oc r d e o
    omega
  | x :: l => by
    show td_oc r d e x + td_pd r d e (l ++ [o]) = td_oc r d e x + td_pd r d e l + td_oc r d e o
    rw [td_pd_s (l := l)]
    omega
theorem td_oc_le {r d e o : Nat} (hr : r ≤ 9) (hd : d ≤ 9) (he : e ≤ 9) : td_oc r d e o ≤ 9 := by
  unfold td_oc
  split
  · exact hr
  · split <;> omega
theorem td_pd_le {r d e : Nat} (hr : r ≤ 9) (hd : d ≤ 9) (he : e ≤ 9) : ∀ l : List Nat, td_pd r d e l ≤ 9 * l.length
  | [] => Nat.le_refl _
  | x :: l => by
    have h1 := td_pd_le hr hd he l
    have h2 := td_oc_le (o := x) hr hd he
    show td_oc r d e x + td_pd r d e l ≤ 9 * (l.length + 1)
    omega
section
variable {n m : Nat} {l1 l2 lb1 lb2 A sl : Nat → Nat} {r d e i j o p pd N off c : Nat} {L S tl : List Nat} {xusd xlab xfst xnxt xup : Nat → Int32}
theorem td_oI_gap {I0 S0 : List Nat} {j' : Nat} (h : td_oI A m = I0 ++ (20 + j') :: (20 + j) :: S0) {w : Nat} (w1 : j < w) (w2 : w < j') (wm : w ≤ m) : td_src A w ≠ 0 := fun z => by
  have mem : (20 + w) ∈ td_oI A m := td_oI_m.mpr ⟨by omega, by omega, by rw [show 20 + w - 20 = w by omega]; exact z⟩
  have p := td_oI_pw (A := A) m
  rw [h] at mem p
  have p2 := List.pairwise_append.mp p
  rcases List.mem_append.mp mem with q | q
  · have := p2.2.2 _ q (20 + j') List.mem_cons_self
    omega
  · rcases List.mem_cons.mp q with q | q
    · omega
    · rcases List.mem_cons.mp q with q | q
      · omega
      · have := List.rel_of_pairwise_cons (List.Pairwise.of_cons p2.2.1) q
        omega
theorem td_oI_first {S0 : List Nat} (h : td_oI A m = (20 + j) :: S0) {w : Nat} (w1 : j < w) (wm : w ≤ m) : td_src A w ≠ 0 := fun z => by
  have mem : (20 + w) ∈ td_oI A m := td_oI_m.mpr ⟨by omega, by omega, by rw [show 20 + w - 20 = w by omega]; exact z⟩
  have p := td_oI_pw (A := A) m
  rw [h] at mem p
  rcases List.mem_cons.mp mem with q | q
  · omega
  · have := List.rel_of_pairwise_cons p q
    omega
/-- before the op for j: the partners and all nodes above j -/
theorem rl_before (hV : td_V l1 l2 1 n 1 m A) (hn : n ≤ 8) (hm : m ≤ 8) {I0 S0 : List Nat} (hI : td_oI A m = I0 ++ (20 + j) :: S0) (hL : L = (td_oR A lb1 lb2 n ++ td_oD A n) ++ I0) (hW : rl_W A l1 l2 lb1 lb2 n m L xusd xlab xfst xnxt xup) :
    ∃ sl N, xusd 2 = nI N ∧ N ≤ n + I0.length ∧ lk_S (td_Ps A m j) sl N ∧ lk_K 34 (td_Ps A m j) (td_up (td_Ps A m j) l2) sl xfst xnxt xup ∧ (∀ v, 1 ≤ v → v ≤ 8 → td_Ps A m j v = true → xlab (34 + sl v) = nI (lb2 v)) := by
  rcases hW with ⟨w1, w2, w3, w4, w5⟩ | ⟨I1, j', sl, N, w1, w2, w3, w4, w5, w6, w7, w8⟩
  · have e0 : I0 = [] := by
      cases I0 with
      | nil => rfl
      | cons x I0 =>
        have q1 := w1 x (by rw [hL]; simp)
        have q2 : x ∈ td_oI A m := by rw [hI]; simp
        have := td_oI_m.mp q2
        omega
    subst e0
    rw [List.append_nil] at hL
    subst hL
    have memRD : ∀ v, 1 ≤ v → v ≤ n → ((10 + v) ∈ td_oR A lb1 lb2 n ++ td_oD A n ↔ A v = 0) := fun v v1 v2 => by
      rw [List.mem_append]
      constructor
      · rintro (q | q)
        · have := td_oR_m.mp q
          omega
        · have := td_oD_m.mp q
          rw [show 10 + v - 10 = v by omega] at this
          exact this.2.2
      · intro q
        exact Or.inr (td_oD_m.mpr ⟨by omega, by omega, by rw [show 10 + v - 10 = v by omega]; exact q⟩)
    have h1 : ∀ w, td_Pd n (td_oR A lb1 lb2 n ++ td_oD A n) w = true ↔ A w ≠ 0 := fun w => by
      rw [td_Pd_i]
      constructor
      · rintro ⟨z1, z2, z3⟩ z4
        exact z3 ((memRD w z1 z2).mpr z4)
      · intro z
        have := hV.1 w z
        exact ⟨by omega, by omega, fun y => z ((memRD w (by omega) (by omega)).mp y)⟩
    have h2 : ∀ w, 1 ≤ w → (td_Ps A m j w = true ↔ ∃ v, A v = w) := fun w z1 => by
      rw [td_Ps_i]
      constructor
      · rintro ⟨z2, z3⟩
        have z4 : td_src A w ≠ 0 := by
          rcases z3 with z3 | z3
          · exact td_oI_first hI z3 z2
          · exact z3
        exact ⟨_, (td_src_s z4).2.2⟩
      · rintro ⟨v, hv⟩
        have := hV.1 v (by omega)
        exact ⟨by omega, Or.inr fun z => td_src_0.mp z v (by omega) (by omega) hv⟩
    have iso := lk_iso hV hn hm h1 h2 w3 w4
    refine ⟨_, n, w2, by omega, iso.2, iso.1, fun v v1 v8 vP => ?_⟩
    obtain ⟨x, hx⟩ := (h2 v v1).mp vP
    have x0 : A x ≠ 0 := by omega
    have rx := hV.1 x x0
    have s1 : (if v = 0 then 0 else td_src A v) = x := by
      rw [if_neg (by omega), ← hx]
      exact td_src_A hV hn x0
    rw [s1, w5 x (by omega) (by omega) ((h1 x).mpr x0)]
    unfold td_ld
    by_cases q : x ∈ td_oR A lb1 lb2 n ++ td_oD A n
    · rw [if_pos q, hx]
    · rw [if_neg q]
      have : ¬ lb1 x ≠ lb2 (A x) := fun y => q (List.mem_append_left _ (td_oR_m.mpr ⟨by omega, by omega, x0, y⟩))
      have : lb1 x = lb2 (A x) := Classical.byContradiction this
      rw [this, hx]
  · have e0 : I0 = I1 ++ [20 + j'] := by
      rw [hL] at w1
      exact List.append_cancel_left w1
    subst e0
    have hI2 : td_oI A m = I1 ++ (20 + j') :: (20 + j) :: S0 := by
      rw [hI]
      simp
    have jj : j < j' := by
      have p := td_oI_pw (A := A) m
      rw [hI2] at p
      have := List.rel_of_pairwise_cons (List.pairwise_append.mp p).2.1 (List.mem_cons_self (a := 20 + j))
      omega
    have eP : td_Ps A m (j' - 1) = td_Ps A m j := by
      funext w
      apply Bool.eq_iff_iff.mpr
      rw [td_Ps_i, td_Ps_i]
      constructor
      · rintro ⟨z1, z2⟩
        exact ⟨z1, by omega⟩
      · rintro ⟨z1, z2⟩
        refine ⟨z1, ?_⟩
        rcases z2 with z2 | z2
        · rcases Nat.lt_or_ge w j' with y | y
          · exact Or.inr (td_oI_gap hI2 z2 y z1)
          · exact Or.inl (by omega)
        · exact Or.inr z2
    rw [eP] at w6 w7 w8
    refine ⟨sl, N, w4, ?_, w6, w7, w8⟩
    rw [td_l1]
    omega
end
section
variable {n m : Nat} {l1 l2 lb1 lb2 A sl : Nat → Nat} {r d e i j o p pd N off c : Nat} {L S tl : List Nat} {xcap xrel xdel xins xdif xtsk xscl xopc xpos xpad xpgl : Int32} {xfst xnxt xup xlab xusd xrts xlft xfor xtre xmat xm1 xm2 xtI xtJ xc1 xc2 xscr xopA xpag : Nat → Int32}
theorem xw_step {post : SX → Prop} (E : (xw_E n m l1 l2 lb1 lb2 xlft xlab)) (hr : r ≤ 9) (hd : d ≤ 9) (he : e ≤ 9) (hV : td_V l1 l2 1 n 1 m A) (hOL : td_OL A lb1 lb2 n m = L ++ o :: S) (hs : ls_h xscr 0 ((td_OL A lb1 lb2 n m).flatMap (td_tx A l2 lb2 m))) (hoa : td_OA (td_tx A l2 lb2 m) xopA (td_OL A lb1 lb2 n m))
    (hpd : pd = td_pd r d e L) (hW : rl_W A l1 l2 lb1 lb2 n m L xusd xlab xfst xnxt xup)
    (h : ∀ usd lab fs nx up, rl_W A l1 l2 lb1 lb2 n m (L ++ [o]) usd lab fs nx up → (∀ k, k < 34 → fs k = xfst k ∧ nx k = xnxt k ∧ up k = xup k ∧ lab k = xlab k) → usd 0 = xusd 0 → usd 1 = xusd 1 → post (xcap, nI r, nI d, nI e, xdif, xtsk, xscl, xopc, nI (L.length + 1), nI (td_pd r d e (L ++ [o])), xpgl, fs, nx, up, lab, usd, xrts, xlft, xfor, xtre, xmat, xm1, xm2, xtI, xtJ, xc1, xc2, xscr, xopA, xpag)) :
    wpX_step post (xcap, nI r, nI d, nI e, xdif, xtsk, xscl, xopc, nI L.length, nI pd, xpgl, xfst, xnxt, xup, xlab, xusd, xrts, xlft, xfor, xtre, xmat, xm1, xm2, xtI, xtJ, xc1, xc2, xscr, xopA, xpag) := by
  have hn := E.1
  have hm := E.2.1
  have L1 := E.2.2.1
  have L2 := E.2.2.2.1
  have hlen := td_OL_len (A := A) (lb1 := lb1) (lb2 := lb2) n m
  have eL : (td_OL A lb1 lb2 n m).length = L.length + (S.length + 1) := by rw [hOL, List.length_append, List.length_cons]
  have hop : xopA L.length = nI (L.flatMap (td_tx A l2 lb2 m)).length := by
    have := hoa L.length (by omega)
    rw [hOL, List.take_left] at this
    exact this
  have hoff : (L.flatMap (td_tx A l2 lb2 m)).length ≤ 6 * L.length := td_fm_len td_tx_len L
  have hs2 : ls_h xscr (L.flatMap (td_tx A l2 lb2 m)).length (td_tx A l2 lb2 m o ++ S.flatMap (td_tx A l2 lb2 m)) := by
    rw [hOL, List.flatMap_append, List.flatMap_cons] at hs
    have := (ls_app hs).2
    rw [Nat.zero_add] at this
    exact this
  have hpl := td_pd_le (r := r) (d := d) (e := e) hr hd he L
  have pds := td_pd_s (r := r) (d := d) (e := e) (o := o) (l := L)
  unfold td_OL at hOL
  rcases ls_spl hOL with ⟨S0, q1, q2⟩ | ⟨D0, q1, q2⟩
  · -- a relabelling
    have om := td_oR_m.mp (show o ∈ td_oR A lb1 lb2 n by rw [q1]; simp)
    have rA := hV.1 o om.2.2.1
    have inL : ∀ x, x ∈ L → x ≤ n := fun x hx => (td_oR_m.mp (show x ∈ td_oR A lb1 lb2 n by rw [q1]; exact List.mem_append_left _ hx)).2.1
    have k2 := E.2.2.2.2.2 (A o) (by omega) (by omega)
    have et : td_tx A l2 lb2 m o = [82, 48 + o, 97 + lb2 (A o), 59] := if_pos (by omega)
    rw [et] at hs2
    have eo : td_oc r d e o = r := if_pos (by omega)
    rcases hW with ⟨w1, w2, w3, w4, w5⟩ | ⟨I1, j', sl, N, w1, w2, w3, w4, w5, w6, w7, w8⟩
    · have eP : td_Pd n (L ++ [o]) = td_Pd n L := by
        funext w
        apply Bool.eq_iff_iff.mpr
        rw [td_Pd_i, td_Pd_i]
        have : 1 ≤ w → ((10 + w) ∈ L ++ [o] ↔ (10 + w) ∈ L) := fun _ => by
          rw [List.mem_append]
          refine ⟨fun q => q.elim id (fun q => ?_), Or.inl⟩
          have : 10 + w = o := by simpa using q
          omega
        constructor
        · rintro ⟨z1, z2, z3⟩
          exact ⟨z1, z2, fun y => z3 ((this z1).mpr y)⟩
        · rintro ⟨z1, z2, z3⟩
          exact ⟨z1, z2, fun y => z3 ((this z1).mp y)⟩
      refine xw_stR (lb2 := lb2) (A := A) hn L1 om.1 om.2.1 (by omega) hop (by omega) hs2 k2.2.2 hr (by omega) (fun w v1 v2 v3 => by have := inL _ v3; omega) w3 w4 ?_
      rw [eo] at pds
      rw [hpd, ← pds]
      refine h _ _ _ _ _ (Or.inl ⟨fun x hx => ?_, w2, ?_, ?_, fun v v1 v8 vP => ?_⟩) (fun k hk => ⟨rfl, rfl, rfl, pk_un (by omega)⟩) rfl rfl
      · rcases List.mem_append.mp hx with z | z
        · exact w1 x z
        · have : x = o := by simpa using z
          omega
      · rw [eP]
        exact w3
      · rw [eP]
        exact w4
      · rw [eP] at vP
        unfold td_ld
        by_cases c : v = o
        · rw [c, pk_us, if_pos (by simp)]
        · rw [pk_un (by omega), w5 v v1 v8 vP]
          unfold td_ld
          have : v ∈ L ++ [o] ↔ v ∈ L := by
            rw [List.mem_append]
            refine ⟨fun q => q.elim id (fun q => ?_), Or.inl⟩
            exact absurd (by simpa using q) c
          by_cases q : v ∈ L
          · rw [if_pos q, if_pos (this.mpr q)]
          · rw [if_neg q, if_neg (fun z => q (this.mp z))]
    · have := inL (20 + j') (by rw [w1]; simp)
      omega
  · rcases ls_spl q2 with ⟨S0, p1, p2⟩ | ⟨I0, p1, p2⟩
    · -- a deletion
      have om := td_oD_m.mp (show o ∈ td_oD A n by rw [p1]; simp)
      obtain ⟨i, rfl⟩ : ∃ i, o = 10 + i := ⟨o - 10, by omega⟩
      have inL : ∀ x, x ∈ L → x ≤ 10 + n := fun x hx => by
        rw [q1] at hx
        rcases List.mem_append.mp hx with z | z
        · have := (td_oR_m.mp z).2.1
          omega
        · exact (td_oD_m.mp (show x ∈ td_oD A n by rw [p1]; exact List.mem_append_left _ z)).2.1
      have et : td_tx A l2 lb2 m (10 + i) = [68, 48 + i, 59] := by
        unfold td_tx
        rw [if_neg (by omega), if_pos (by omega), show 10 + i - 10 = i by omega]
      rw [et] at hs2
      have eo : td_oc r d e (10 + i) = d := by
        unfold td_oc
        rw [if_neg (by omega), if_pos (by omega)]
      rcases hW with ⟨w1, w2, w3, w4, w5⟩ | ⟨I1, j', sl, N, w1, w2, w3, w4, w5, w6, w7, w8⟩
      · have hD : ∀ w, 1 ≤ w → w ≤ i → ¬ (10 + w) ∈ L := fun w v1 v2 v3 => by
          rw [q1] at v3
          rcases List.mem_append.mp v3 with z | z
          · have := (td_oR_m.mp z).2.1
            omega
          · have p := td_oD_pw (A := A) n
            rw [p1] at p
            have := (List.pairwise_append.mp p).2.2 _ z (10 + i) List.mem_cons_self
            omega
        refine xw_stD hn L1 (by omega) (by omega) (by omega) hop (by omega) hs2 hd (by omega) hD w3 w4 fun fs nx up h1 h2 h3 => ?_
        rw [eo] at pds
        rw [hpd, ← pds]
        refine h _ _ _ _ _ (Or.inl ⟨fun x hx => ?_, w2, h2, h1, fun v v1 v8 vP => ?_⟩) (fun k hk => ⟨(h3 k hk).1, (h3 k hk).2.1, (h3 k hk).2.2, rfl⟩) rfl rfl
        · rcases List.mem_append.mp hx with z | z
          · exact w1 x z
          · have : x = 10 + i := by simpa using z
            omega
        · have vP2 : td_Pd n L v = true := by
            have := td_Pd_i.mp vP
            exact td_Pd_i.mpr ⟨this.1, this.2.1, fun y => this.2.2 (List.mem_append_left _ y)⟩
          rw [w5 v v1 v8 vP2]
          unfold td_ld
          have : v ∈ L ++ [10 + i] ↔ v ∈ L := by
            rw [List.mem_append]
            refine ⟨fun q => q.elim id (fun q => ?_), Or.inl⟩
            have : v = 10 + i := by simpa using q
            omega
          by_cases q : v ∈ L
          · rw [if_pos q, if_pos (this.mpr q)]
          · rw [if_neg q, if_neg (fun z => q (this.mp z))]
      · have := inL (20 + j') (by rw [w1]; simp)
        omega
    · -- an insertion
      have om := td_oI_m.mp (show o ∈ td_oI A m by rw [p2]; simp)
      obtain ⟨j, rfl⟩ : ∃ j, o = 20 + j := ⟨o - 20, by omega⟩
      rw [show 20 + j - 20 = j by omega] at om
      have eLL : L = (td_oR A lb1 lb2 n ++ td_oD A n) ++ I0 := by rw [q1, p1, List.append_assoc]
      obtain ⟨sl, N, b1, b2, b3, b4, b5⟩ := rl_before hV hn hm p2 eLL hW
      have il := td_oI_len (A := A) m
      have il2 : (td_oI A m).length = I0.length + (S.length + 1) := by rw [p2, List.length_append, List.length_cons]
      have k2 := E.2.2.2.2.2 j (by omega) (by omega)
      have eo : td_oc r d e (20 + j) = e := by
        unfold td_oc
        rw [if_neg (by omega), if_neg (by omega)]
      refine xw_stI hm L2 (by omega) (by omega) om.2.2 (by omega) hop (by omega) hs2 k2.2.2 he (by omega) b1 (by omega) b3 b4 fun fs nx up h1 h2 h3 => ?_
      rw [eo] at pds
      rw [hpd, ← pds]
      refine h _ _ _ _ _ (Or.inr ⟨I0, j, _, N + 1, ?_, by omega, by omega, pk_us, by omega, h2, h1, fun v v1 v8 vP => ?_⟩) (fun k hk => ⟨(h3 k hk).1, (h3 k hk).2.1, (h3 k hk).2.2, pk_un (by omega)⟩) (pk_un (by omega)) (pk_un (by omega))
      · rw [eLL, List.append_assoc]
      · by_cases c : v = j
        · rw [c, td_set_s, pk_us]
        · have vP2 : td_Ps A m j v = true := by
            have := td_Ps_i.mp vP
            exact td_Ps_i.mpr ⟨this.1, by omega⟩
          have sv := b3.2.1 v v1 v8 vP2
          rw [td_set_n c, pk_un (by omega)]
          exact b5 v v1 v8 vP2
/-- apply: the next ops, one by one -/
theorem xw_ap32 {post : Int32 → SX → Prop} {todo : Nat} (hr : r ≤ 9) (hd : d ≤ 9) (he : e ≤ 9) (hV : td_V l1 l2 1 n 1 m A) (hs : ls_h xscr 0 ((td_OL A lb1 lb2 n m).flatMap (td_tx A l2 lb2 m))) (hoa : td_OA (td_tx A l2 lb2 m) xopA (td_OL A lb1 lb2 n m)) (E : (xw_E n m l1 l2 lb1 lb2 xlft xlab)) (ht : todo ≤ 16)
    (h : ∀ L S usd lab fs nx up, td_OL A lb1 lb2 n m = L ++ S → L.length = c + todo → rl_W A l1 l2 lb1 lb2 n m L usd lab fs nx up → (∀ k, k < 34 → fs k = xfst k ∧ nx k = xnxt k ∧ up k = xup k ∧ lab k = xlab k) → usd 0 = xusd 0 → usd 1 = xusd 1 → post (nI todo) (xcap, nI r, nI d, nI e, xdif, xtsk, xscl, xopc, nI L.length, nI (td_pd r d e L), xpgl, fs, nx, up, lab, usd, xrts, xlft, xfor, xtre, xmat, xm1, xm2, xtI, xtJ, xc1, xc2, xscr, xopA, xpag)) :
    ∀ g dn L S usd lab fs nx up, dn + g = todo → L.length = c + dn → td_OL A lb1 lb2 n m = L ++ S → g ≤ S.length → rl_W A l1 l2 lb1 lb2 n m L usd lab fs nx up → (∀ k, k < 34 → fs k = xfst k ∧ nx k = xnxt k ∧ up k = xup k ∧ lab k = xlab k) → usd 0 = xusd 0 → usd 1 = xusd 1 →
      wX_apply_32 post (nI todo) (g + 1) (nI dn) xcap (nI r) (nI d) (nI e) xdif xtsk xscl xopc (nI L.length) (nI (td_pd r d e L)) xpgl fs nx up lab usd xrts xlft xfor xtre xmat xm1 xm2 xtI xtJ xc1 xc2 xscr xopA xpag := by
  have hm := E.2.1
  intro g
  induction g with
  | zero =>
    intro dn L S usd lab fs nx up h1 h2 h3 h4 h5 h6 h7 h8
    have ed : dn = todo := by omega
    subst ed
    unfold wX_apply_32
    exact br_t (nI_le (Nat.le_refl _) (by omega)) (h L S usd lab fs nx up h3 h2 h5 h6 h7 h8)
  | succ g ih =>
    intro dn L S usd lab fs nx up h1 h2 h3 h4 h5 h6 h7 h8
    cases S with
    | nil =>
      rw [List.length_nil] at h4
      omega
    | cons o S =>
      have E' : xw_E n m l1 l2 lb1 lb2 xlft lab := by
        obtain ⟨a1, a2, a3, a4, a5, a6⟩ := E
        exact ⟨a1, a2, a3, a4, fun v v1 v2 => by rw [(h6 v (by omega)).2.2.2]; exact a5 v v1 v2, fun v v1 v2 => by rw [(h6 (17 + v) (by omega)).2.2.2]; exact a6 v v1 v2⟩
      unfold wX_apply_32
      refine br_f (nI_ge (by omega) (by omega)) (xw_step E' hr hd he hV h3 hs hoa rfl h5 fun usd2 lab2 fs2 nx2 up2 g1 g2 g3 g4 => nm_r (nI_1 dn) ?_)
      have k := ih (dn + 1) (L ++ [o]) S usd2 lab2 fs2 nx2 up2 (by omega) (by rw [td_l1]; omega) (by rw [h3]; simp) (by rw [List.length_cons] at h4; omega) g1 (fun k hk => by
        have q1 := h6 k hk
        have q2 := g2 k hk
        exact ⟨q2.1.trans q1.1, q2.2.1.trans q1.2.1, q2.2.2.1.trans q1.2.2.1, q2.2.2.2.trans q1.2.2.2⟩) (g3.trans h7) (g4.trans h8)
      rw [td_l1] at k
      exact k
end
end
section
/-! add: the last roots become the children of a new node -/
def td_bk (l : Nat → Nat) (n : Nat) : Nat → Nat
  | 0 => n + 1
  | k + 1 => l (td_bk l n k - 1)
def td_rt (l : Nat → Nat) (n : Nat) : List Nat := lk_ch (td_all n) (td_up (td_all n) l) 0 1 8
section
variable {n k t v : Nat} {l l' : Nat → Nat}
theorem td_bk_s (hn : n ≤ 8) (hL : td_L n l) : ∀ k, k ≤ (td_rt l n).length → 1 ≤ td_bk l n k ∧ td_bk l n k ≤ n + 1 ∧ (∀ w, td_bk l n k ≤ w → w ≤ n → td_bk l n k ≤ l w) ∧ (lk_ch (td_all n) (td_up (td_all n) l) 0 (td_bk l n k) (9 - td_bk l n k)).length = k := by
  intro k
  induction k with
  | zero =>
    intro _
    have e : td_bk l n 0 = n + 1 := rfl
    rw [e]
    refine ⟨by omega, Nat.le_refl _, fun w w1 w2 => by omega, ?_⟩
    rw [lk_ch_0 fun w w1 w2 z => by have := td_all_i z.1; omega]
    rfl
  | succ k ih =>
    intro hk
    obtain ⟨i1, i2, i3, i4⟩ := ih (by omega)
    generalize ht : td_bk l n k = t at *
    have e : td_bk l n (k + 1) = l (t - 1) := by
      show l (td_bk l n k - 1) = _
      rw [ht]
    have spl : td_rt l n = lk_ch (td_all n) (td_up (td_all n) l) 0 1 (t - 1) ++ lk_ch (td_all n) (td_up (td_all n) l) 0 t (9 - t) := by
      unfold td_rt
      have e8 : 8 = (t - 1) + (9 - t) := by omega
      have e9 : lk_ch (td_all n) (td_up (td_all n) l) 0 1 8 = lk_ch (td_all n) (td_up (td_all n) l) 0 1 ((t - 1) + (9 - t)) := by rw [← e8]
      rw [e9, lk_ch_a, show 1 + (t - 1) = t by omega]
    have t2 : 2 ≤ t := by
      rcases Nat.lt_or_ge t 2 with z | z
      · have e1 : t = 1 := by omega
        rw [spl, List.length_append, i4, e1] at hk
        have : (lk_ch (td_all n) (td_up (td_all n) l) 0 1 (1 - 1)).length = 0 := rfl
        omega
      · exact z
    have Lt := hL (t - 1) (by omega) (by omega)
    have root : td_up (td_all n) l (t - 1) = 0 := td_up_0 fun w w1 w2 w3 => by
      have := i3 w (by omega) (td_all_i w3)
      omega
    rw [e]
    refine ⟨Lt.1, by omega, fun w w1 w2 => ?_, ?_⟩
    · rcases Nat.lt_or_ge w t with z | z
      · exact td_L_in hL (by omega) w1 (by omega) (by omega)
      · have := i3 w z w2
        omega
    · have e8 : 9 - l (t - 1) = (t - 1 - l (t - 1)) + (1 + (9 - t)) := by omega
      rw [e8, lk_ch_a, lk_ch_a, show l (t - 1) + (t - 1 - l (t - 1)) = t - 1 by omega, show t - 1 + 1 = t by omega, lk_ch_1 ⟨td_all_t (by omega), root⟩, lk_ch_0 (lo := l (t - 1)) fun w w1 w2 z => ?_]
      · rw [List.nil_append, List.length_append, i4]
        simp
        omega
      · have := tx_up_0 z.2 (t - 1) (by omega) (by omega) (td_all_t (by omega))
        omega
theorem td_up_c {P : Nat → Bool} (h : ∀ w, w ≤ 8 → P w = true → l w = l' w) (v : Nat) : td_up P l v = td_up P l' v := by
  rcases td_up_s P l v with ⟨a1, a2⟩ | ⟨a1, a2, a3, a4, a5⟩
  · rw [a1]
    exact (td_up_0 fun w w1 w2 w3 => by rw [← h w w2 w3]; exact a2 w w1 w2 w3).symm
  · exact (td_up_u a1 a2 a3 (by rw [← h _ a2 a3]; exact a4) fun w w1 w2 w3 => by rw [← h w (by omega) w3]; exact a5 w w1 w2 w3).symm
theorem td_all_ad : td_ad (td_all n) (n + 1) = td_all (n + 1) := by
  funext w
  apply Bool.eq_iff_iff.mpr
  by_cases c : w = n + 1
  · rw [c, td_ad_j]
    exact ⟨fun _ => td_all_t (Nat.le_refl _), fun _ => rfl⟩
  · rw [td_ad_n c]
    exact ⟨fun z => td_all_t (by have := td_all_i z; omega), fun z => td_all_t (by have := td_all_i z; omega)⟩
theorem td_L_add (hL : td_L n l) (t1 : 1 ≤ t) (t2 : t ≤ n + 1) (ht : ∀ w, t ≤ w → w ≤ n → t ≤ l w) : td_L (n + 1) (td_set l (n + 1) t) := fun v v1 v2 => by
  by_cases c : v = n + 1
  · rw [c, td_set_s]
    exact ⟨t1, t2, fun w w1 w2 => by omega⟩
  · rw [td_set_n c]
    have Lv := hL v v1 (by omega)
    refine ⟨Lv.1, Lv.2.1, fun w w1 w2 w3 => ?_⟩
    by_cases c2 : w = n + 1
    · rw [c2, td_set_s] at w3 ⊢
      exact ht v w3 (by omega)
    · rw [td_set_n c2] at w3 ⊢
      exact Lv.2.2 w w1 (by omega) w3
/-- the first of the last roots starts where they start -/
theorem td_bk_h {h : Nat} {R : List Nat} (hn : n ≤ 8) (hL : td_L n l) (ht1 : 1 ≤ t) (ht : ∀ w, t ≤ w → w ≤ n → t ≤ l w) (hR : lk_ch (td_all n) (td_up (td_all n) l) 0 t (n + 1 - t) = h :: R) : 1 ≤ h ∧ h ≤ n ∧ l h = t := by
  have oh := lk_ch_m.mp (show h ∈ lk_ch (td_all n) (td_up (td_all n) l) 0 t (n + 1 - t) by rw [hR]; simp)
  have hLP : td_LP (td_all n) l := fun v v1 v8 vP => by
    have L := hL v v1 (td_all_i vP)
    exact ⟨L.1, L.2.1, fun w w1 w2 w3 w4 => L.2.2 w w1 (td_all_i w3) w4⟩
  have hn' := td_all_i oh.2.2.1
  obtain ⟨c, c1, c2, c3, c4, c5⟩ := lk_top0 hLP 8 t (by omega) ht1 (by omega) (td_all_t (by omega))
  have cn := td_all_i c1
  have lc := ht c c2 cn
  have mc : c ∈ lk_ch (td_all n) (td_up (td_all n) l) 0 t (n + 1 - t) := lk_ch_m.mpr ⟨c2, by omega, c1, c5⟩
  have p := lk_pw (P := td_all n) (pr := td_up (td_all n) l) (q := 0) (k := n + 1 - t) (lo := t)
  rw [hR] at mc p
  rcases List.mem_cons.mp mc with z | z
  · rw [z] at c4 lc
    exact ⟨by omega, hn', by omega⟩
  · have hc := List.rel_of_pairwise_cons p z
    have := tx_up_0 oh.2.2.2 c hc c3 c1
    omega
end
section
variable {n k rg b lx R cap : Nat} {l : Nat → Nat} {xcap xrel xdel xins xdif xtsk xscl xopc xpos xpad xpgl : Int32} {xfst xnxt xup xlab xusd xrts xlft xfor xtre xmat xm1 xm2 xtI xtJ xc1 xc2 xscr xopA xpag : Nat → Int32}
theorem xw_a138 {post : Int32 → SX → Prop} {v t : Nat} (hrg : rg ≤ 1) (hb : b = rg * 17) (hv : v ≤ 8) (hk : k ≤ R) (hR : xrts rg = nI R) (h : post 0 (xcap, xrel, xdel, xins, xdif, xtsk, xscl, xopc, xpos, xpad, xpgl, xfst, xnxt, xup, xlab, xusd, upd xrts rg (nI (R + 1 - k)), upd xlft (b + v) (nI t), xfor, xtre, xmat, xm1, xm2, xtI, xtJ, xc1, xc2, xscr, xopA, xpag)) : wX_add_138 post (nI k) (nI rg) (nI t) (nI (b + v)) xcap xrel xdel xins xdif xtsk xscl xopc xpos xpad xpgl xfst xnxt xup xlab xusd xrts xlft xfor xtre xmat xm1 xm2 xtI xtJ xc1 xc2 xscr xopA xpag := by
  unfold wX_add_138
  rw [nI_clamp (n := b + v) (by omega), nI_clamp (n := rg) (by omega), hR]
  refine ⟨vp_in_nI (by omega) (by omega), nm_e ⟨vp_in_nI (by omega) (by omega), vp_in_nI (by omega) (by omega), nm_r (e' := upd xrts rg (nI (R + 1 - k))) ?_ h⟩⟩
  rw [Int32.sub_eq_add_neg, ← Int32.add_assoc, ← Int32.sub_eq_add_neg, nI_1, pk_sub (by omega)]
theorem xw_add21 {post : Int32 → SX → Prop} {x2 : Int32} (hrg : rg ≤ 1) (hb : b = rg * 17) (hn : n < cap) (hcap : cap ≤ 8) (hL : td_L n l) (hu : xusd rg = nI n) (hR : xrts rg = nI (td_rt l n).length) (hK : lk_K b (td_all n) (td_up (td_all n) l) (fun v => v) xfst xnxt xup) (hl : ∀ v, 1 ≤ v → v ≤ n → xlft (b + v) = nI (l v))
    (l0 : ¬ x2 < 0) (l25 : x2 ≤ 25) (hk : k ≤ (td_rt l n).length)
    (h : ∀ fs nx up, lk_K b (td_all (n + 1)) (td_up (td_all (n + 1)) (td_set l (n + 1) (td_bk l n k))) (fun v => v) fs nx up → (∀ k, k < b ∨ b + 17 ≤ k → fs k = xfst k ∧ nx k = xnxt k ∧ up k = xup k) → (td_rt (td_set l (n + 1) (td_bk l n k)) (n + 1)).length = (td_rt l n).length + 1 - k →
      post 0 (nI cap, xrel, xdel, xins, xdif, xtsk, xscl, xopc, xpos, xpad, xpgl, fs, nx, up, upd xlab (b + (n + 1)) x2, upd xusd rg (nI (n + 1)), upd xrts rg (nI ((td_rt l n).length + 1 - k)), upd xlft (b + (n + 1)) (nI (td_bk l n k)), xfor, xtre, xmat, xm1, xm2, xtI, xtJ, xc1, xc2, xscr, xopA, xpag)) :
    wX_add_21 post (nI (rg + 1)) x2 (nI k) (nI cap) xrel xdel xins xdif xtsk xscl xopc xpos xpad xpgl xfst xnxt xup xlab xusd xrts xlft xfor xtre xmat xm1 xm2 xtI xtJ xc1 xc2 xscr xopA xpag := by
  have r8 : (td_rt l n).length ≤ 8 := lk_ch_len
  obtain ⟨b1, b2, b3, b4⟩ := td_bk_s (by omega : n ≤ 8) hL k hk
  generalize htt : td_bk l n k = t at *
  have ec : ∀ v, td_up (td_all n) l v = td_up (td_all n) (td_set l (n + 1) t) v := td_up_c fun w _ w2 => (td_set_n (by have := td_all_i w2; omega)).symm
  have ecf : td_up (td_all n) l = td_up (td_all n) (td_set l (n + 1) t) := funext ec
  have hLP2 : td_LP (td_ad (td_all n) (n + 1)) (td_set l (n + 1) t) := by
    rw [td_all_ad]
    exact fun v v1 v8 vP => by
      have L := td_L_add hL b1 b2 b3 v v1 (td_all_i vP)
      exact ⟨L.1, L.2.1, fun w w1 w2 w3 w4 => L.2.2 w w1 (td_all_i w3) w4⟩
  have hS : lk_S (td_all n) (fun v => v) n := ⟨rfl, fun v v1 v8 vP => ⟨v1, td_all_i vP⟩, fun v w _ _ _ _ _ _ e => e⟩
  have hPj : td_all n (n + 1) = false := by
    cases z : td_all n (n + 1) with
    | false => rfl
    | true =>
      have := td_all_i z
      omega
  have spl : (td_rt l n).length = (lk_ch (td_all n) (td_up (td_all n) l) 0 1 (t - 1)).length + k := by
    unfold td_rt
    have e8 : 8 = (t - 1) + (9 - t) := by omega
    have e9 : lk_ch (td_all n) (td_up (td_all n) l) 0 1 8 = lk_ch (td_all n) (td_up (td_all n) l) 0 1 ((t - 1) + (9 - t)) := by rw [← e8]
    rw [e9, lk_ch_a, show 1 + (t - 1) = t by omega, List.length_append, b4]
  have eB : lk_ch (td_all n) (td_up (td_all n) l) 0 t (9 - t) = lk_ch (td_all n) (td_up (td_all n) l) 0 t (n + 1 - t) := by
    rw [show 9 - t = (n + 1 - t) + (8 - n) by omega, lk_ch_a, lk_ch_0 (lo := t + (n + 1 - t)) fun w w1 w2 z => by have := td_all_i z.1; omega, List.append_nil]
  rw [eB] at b4
  have hpj : td_up (td_all (n + 1)) (td_set l (n + 1) t) (n + 1) = 0 := td_up_0 fun w w1 w2 w3 => by
    have := td_all_i w3
    omega
  have hpr : ∀ v, 1 ≤ v → v ≤ 8 → td_all n v = true → td_up (td_all (n + 1)) (td_set l (n + 1) t) v = if td_up (td_all n) l v = 0 ∧ t ≤ v ∧ v < n + 1 then n + 1 else td_up (td_all n) l v := fun v v1 v8 vP => by
    have vn := td_all_i vP
    have q0 : td_up (td_all n) (td_set l (n + 1) t) (n + 1) = 0 := td_up_0 fun w w1 w2 w3 => by
      have := td_all_i w3
      omega
    rw [← td_all_ad, td_up_ad (by omega) hLP2 (by omega), td_set_s, ← ec v, q0]
    by_cases c : td_up (td_all n) l v = 0 ∧ t ≤ v ∧ v < n + 1
    · rw [if_pos c, if_pos ⟨by omega, c.2.1, c.2.2, c.1⟩]
    · rw [if_neg c, if_neg (fun z => c ⟨z.2.2.2, z.2.1, z.2.2.1⟩)]
  have nR : (td_rt (td_set l (n + 1) t) (n + 1)).length = (td_rt l n).length + 1 - k := by
    have e1 := lk_ins_q (P := td_all n) (pr := td_up (td_all n) l) (pr' := td_up (td_all (n + 1)) (td_set l (n + 1) t)) (q := 0) (j := n + 1) (t := t) (by omega) (by omega) hPj b1 b2 (by omega) hpj hpr
    rw [td_all_ad] at e1
    unfold td_rt at spl ⊢
    rw [e1, List.length_append, List.length_cons, lk_ch_0 (lo := n + 1 + 1) fun w w1 w2 z => by have := td_all_i z.1; omega, List.length_nil]
    omega
  unfold wX_add_21
  refine br_f l0 (br_t l25 (br_t (nI_pos' (by omega)) (nm_r (nI_pred rg) ?_)))
  rw [nI_clamp (n := rg) (by omega), hu, hR]
  refine ⟨vp_in_nI (by omega) (by omega), br_t (nI_lt hn (by omega)) ⟨vp_in_nI (by omega) (by omega), br_t (nI_le hk (by omega)) (nm_r (e' := nI b) (by rw [hb]; exact pk_mul rg 17) ⟨vp_in_nI (by omega) (by omega), ?_⟩)⟩⟩
  refine xw_insert (rg := rg) (b := b) (N := n) (sl := fun v => v) (q := 0) (t := t) (j := n + 1) (pr' := td_up (td_all (n + 1)) (td_set l (n + 1) t)) (by omega) hb hu (by omega) hS hK (by omega) (by omega) hPj b1 b2 (Or.inl rfl) hpj ?_ hpr ?_ (by rw [b4]) ?_
  · intro v v1 v8 vP z
    have := td_all_i (tx_up_ok z (by omega)).2.2.1
    omega
  · rw [pk_sub hk, nI_1, nI_pred]
    exact congrArg nI (by omega)
  · intro fs nx up h1 h2 h3
    rw [td_all_ad] at h1 h2
    have es : td_set (fun v => v) (n + 1) (n + 1) = fun v => v := by
      funext w
      by_cases c : w = n + 1
      · rw [c, td_set_s]
      · rw [td_set_n c]
    rw [es] at h1 h2
    have fin : ∀ z, z = nI t → wX_add_138 post (nI k) (nI rg) z (nI (b + (n + 1))) (nI cap) xrel xdel xins xdif xtsk xscl xopc xpos xpad xpgl fs nx up (upd xlab (b + (n + 1)) x2) (upd xusd rg (nI (n + 1))) xrts xlft xfor xtre xmat xm1 xm2 xtI xtJ xc1 xc2 xscr xopA xpag := fun z hz => by
      rw [hz]
      exact xw_a138 hrg hb (by omega) hk hR (h fs nx up h1 h3 nR)
    dsimp only
    rw [nI_add]
    refine pk_eq k 0 (fun c => ?_) (fun c => ?_)
    · refine fin _ ?_
      rw [c] at htt
      rw [← htt]
      rfl
    · have f1 := (h1.1 (n + 1) (Or.inr ⟨by omega, by omega, td_all_t (Nat.le_refl _)⟩)).1
      have ej := lk_ins_j (P := td_all n) (pr := td_up (td_all n) l) (pr' := td_up (td_all (n + 1)) (td_set l (n + 1) t)) (q := 0) (j := n + 1) (t := t) (by omega) (by omega) hPj b1 b2 (by omega) hpj (fun v v1 v8 vP z => by
        have := td_all_i (tx_up_ok z (by omega)).2.2.1
        omega) hpr
      rw [td_all_ad] at ej
      rw [ej] at f1
      rcases zz : lk_ch (td_all n) (td_up (td_all n) l) 0 t (n + 1 - t) with _ | ⟨h0, R0⟩
      · rw [zz] at b4
        exact absurd b4.symm c
      · rw [zz] at f1
        have hh := td_bk_h (by omega) hL b1 b3 zz
        have f2 : fs (b + (n + 1)) = nI h0 := f1
        rw [nI_clamp (n := b + (n + 1)) (by omega), f2, nI_add, nI_clamp (n := b + h0) (by omega)]
        refine ⟨vp_in_nI (by omega) (by omega), vp_in_nI (by omega) (by omega), fin _ ?_⟩
        rw [hl h0 hh.1 hh.2.1, hh.2.2]
end
end
section
/-! the relation -/
def rl_C (cap n m : Nat) (l1 l2 lb1 lb2 : Nat → Nat) (xfst xnxt xup xlab xusd xrts xlft ycnt yrts ylow ylab yend : Nat → Int32) : Prop :=
  1 ≤ cap ∧ cap ≤ 8 ∧ n ≤ cap ∧ m ≤ cap ∧ xw_E n m l1 l2 lb1 lb2 xlft xlab ∧ yw_E n m l1 l2 lb1 lb2 ylow ylab ∧ (xusd 0 = nI n ∧ xusd 1 = nI m ∧ ycnt 1 = nI n ∧ ycnt 2 = nI m) ∧ (xrts 0 = nI (td_rt l1 n).length ∧ xrts 1 = nI (td_rt l2 m).length ∧ yrts 1 = nI (td_rt l1 n).length ∧ yrts 2 = nI (td_rt l2 m).length) ∧
  lk_K 0 (td_all n) (td_up (td_all n) l1) (fun v => v) xfst xnxt xup ∧ lk_K 17 (td_all m) (td_up (td_all m) l2) (fun v => v) xfst xnxt xup ∧ yend 0 = 0
def rl_F (xfst ymap : Nat → Int32) : Prop := xfst 34 = 0 ∧ (∀ k, 10 ≤ k → k < 30 → ymap k = 0)
def rl_D (r d e n m : Nat) (l1 l2 lb1 lb2 A cl : Nat → Nat) (L S : List Nat) (xfst xnxt xup xlab xusd xtre xm1 xc1 xc2 xscr xopA ymap yop : Nat → Int32) : Prop :=
  (1 ≤ n ∧ 1 ≤ m ∧ l1 n = 1 ∧ l2 m = 1 ∧ A = (td_M l1 l2 d e (td_rn r lb1 lb2)) 1 n 1 m) ∧ (∀ i j, 1 ≤ i → i ≤ n → 1 ≤ j → j ≤ m → xtre (i * 9 + j) = nI ((td_D l1 l2 d e (td_rn r lb1 lb2)) (l1 i) i (l2 j) j)) ∧ (∀ v, v ≤ 8 → xm1 v = nI (A v)) ∧ ls_h xscr 0 ((td_OL A lb1 lb2 n m).flatMap (td_tx A l2 lb2 m)) ∧ td_OA (td_tx A l2 lb2 m) xopA (td_OL A lb1 lb2 n m) ∧
  (∀ v, 1 ≤ v → v ≤ 8 → ymap (10 + v) = nI (A v)) ∧ ls_h yop 0 (td_OL A lb1 lb2 n m) ∧ (td_OL A lb1 lb2 n m) = L ++ S ∧ rl_W A l1 l2 lb1 lb2 n m L xusd xlab xfst xnxt xup ∧
  td_V l1 l2 1 n 1 m cl ∧ (∀ v, 1 ≤ v → v ≤ 8 → xc1 v = nI (cl v)) ∧ (∀ w, 1 ≤ w → w ≤ 8 → xc2 w = nI (td_src cl w)) ∧ (∀ v, 1 ≤ v → v ≤ 8 → ymap (20 + v) = nI (cl v))
def rl_B (xcap xrel xdel xins xdif xtsk xscl xopc xpos xpad xpgl : Int32) (xfst xnxt xup xlab xusd xrts xlft xfor xtre xmat xm1 xm2 xtI xtJ xc1 xc2 xscr xopA xpag : Nat → Int32) (ycap yrel ydel yins ydif ytot ypos ylen : Int32) (ycnt yrts ylow ylab ymap yop ypic yend yout : Nat → Int32) : Prop :=
  ∃ (cap r d e n m : Nat) (l1 l2 lb1 lb2 : Nat → Nat), (xcap = nI cap ∧ xrel = nI r ∧ xdel = nI d ∧ xins = nI e ∧ ycap = nI cap ∧ yrel = nI r ∧ ydel = nI d ∧ yins = nI e) ∧ (r ≤ 9 ∧ d ≤ 9 ∧ e ≤ 9) ∧ rl_C cap n m l1 l2 lb1 lb2 xfst xnxt xup xlab xusd xrts xlft ycnt yrts ylow ylab yend ∧
    (((xdif = 0 ∧ ydif = 0 ∧ ytot = 0 ∧ ypos = 0 ∧ xscl = 0 ∧ xopc = 0 ∧ xpos = 0 ∧ xpad = 0) ∧ rl_F xfst ymap) ∨
     (∃ (A cl : Nat → Nat) (L S : List Nat), (xdif = 1 ∧ ydif = 1 ∧ ytot = nI (td_OL A lb1 lb2 n m).length ∧ ypos = nI L.length ∧ xscl = nI ((td_OL A lb1 lb2 n m).flatMap (td_tx A l2 lb2 m)).length ∧ xopc = nI (td_OL A lb1 lb2 n m).length ∧ xpos = nI L.length ∧ xpad = nI (td_pd r d e L)) ∧ rl_D r d e n m l1 l2 lb1 lb2 A cl L S xfst xnxt xup xlab xusd xtre xm1 xc1 xc2 xscr xopA ymap yop))
/-- the relation at the head of a turn -/
def i_Rel (_ : Nat) (u : SX) (v : SY) : Prop := rl_B (u.1) (u.2.1) (u.2.2.1) (u.2.2.2.1) (u.2.2.2.2.1) (u.2.2.2.2.2.1) (u.2.2.2.2.2.2.1) (u.2.2.2.2.2.2.2.1) (u.2.2.2.2.2.2.2.2.1) (u.2.2.2.2.2.2.2.2.2.1) (u.2.2.2.2.2.2.2.2.2.2.1) (u.2.2.2.2.2.2.2.2.2.2.2.1) (u.2.2.2.2.2.2.2.2.2.2.2.2.1) (u.2.2.2.2.2.2.2.2.2.2.2.2.2.1) (u.2.2.2.2.2.2.2.2.2.2.2.2.2.2.1) (u.2.2.2.2.2.2.2.2.2.2.2.2.2.2.2.1) (u.2.2.2.2.2.2.2.2.2.2.2.2.2.2.2.2.1) (u.2.2.2.2.2.2.2.2.2.2.2.2.2.2.2.2.2.1) (u.2.2.2.2.2.2.2.2.2.2.2.2.2.2.2.2.2.2.1) (u.2.2.2.2.2.2.2.2.2.2.2.2.2.2.2.2.2.2.2.1) (u.2.2.2.2.2.2.2.2.2.2.2.2.2.2.2.2.2.2.2.2.1) (u.2.2.2.2.2.2.2.2.2.2.2.2.2.2.2.2.2.2.2.2.2.1) (u.2.2.2.2.2.2.2.2.2.2.2.2.2.2.2.2.2.2.2.2.2.2.1) (u.2.2.2.2.2.2.2.2.2.2.2.2.2.2.2.2.2.2.2.2.2.2.2.1) (u.2.2.2.2.2.2.2.2.2.2.2.2.2.2.2.2.2.2.2.2.2.2.2.2.1) (u.2.2.2.2.2.2.2.2.2.2.2.2.2.2.2.2.2.2.2.2.2.2.2.2.2.1) (u.2.2.2.2.2.2.2.2.2.2.2.2.2.2.2.2.2.2.2.2.2.2.2.2.2.2.1) (u.2.2.2.2.2.2.2.2.2.2.2.2.2.2.2.2.2.2.2.2.2.2.2.2.2.2.2.1) (u.2.2.2.2.2.2.2.2.2.2.2.2.2.2.2.2.2.2.2.2.2.2.2.2.2.2.2.2.1) (u.2.2.2.2.2.2.2.2.2.2.2.2.2.2.2.2.2.2.2.2.2.2.2.2.2.2.2.2.2) (v.1) (v.2.1) (v.2.2.1) (v.2.2.2.1) (v.2.2.2.2.1) (v.2.2.2.2.2.1) (v.2.2.2.2.2.2.1) (v.2.2.2.2.2.2.2.1) (v.2.2.2.2.2.2.2.2.1) (v.2.2.2.2.2.2.2.2.2.1) (v.2.2.2.2.2.2.2.2.2.2.1) (v.2.2.2.2.2.2.2.2.2.2.2.1) (v.2.2.2.2.2.2.2.2.2.2.2.2.1) (v.2.2.2.2.2.2.2.2.2.2.2.2.2.1) (v.2.2.2.2.2.2.2.2.2.2.2.2.2.2.1) (v.2.2.2.2.2.2.2.2.2.2.2.2.2.2.2.1) (v.2.2.2.2.2.2.2.2.2.2.2.2.2.2.2.2)
theorem i_up {k : Nat} {u : SX} {v : SY} (h : i_Rel k u v) : i_Rel (k + 4) u v := h
section
variable {k cap r d e n m : Nat} {l1 l2 lb1 lb2 A cl : Nat → Nat} {L S : List Nat} {xcap xrel xdel xins xdif xtsk xscl xopc xpos xpad xpgl : Int32} {xfst xnxt xup xlab xusd xrts xlft xfor xtre xmat xm1 xm2 xtI xtJ xc1 xc2 xscr xopA xpag : Nat → Int32} {ycap yrel ydel yins ydif ytot ypos ylen : Int32} {ycnt yrts ylow ylab ymap yop ypic yend yout : Nat → Int32}
theorem zz_inF (hc : r ≤ 9 ∧ d ≤ 9 ∧ e ≤ 9) (hC : rl_C cap n m l1 l2 lb1 lb2 xfst xnxt xup xlab xusd xrts xlft ycnt yrts ylow ylab yend) (hF : rl_F xfst ymap) : i_Rel k (nI cap, nI r, nI d, nI e, 0, xtsk, 0, 0, 0, 0, xpgl, xfst, xnxt, xup, xlab, xusd, xrts, xlft, xfor, xtre, xmat, xm1, xm2, xtI, xtJ, xc1, xc2, xscr, xopA, xpag) (nI cap, nI r, nI d, nI e, 0, 0, 0, ylen, ycnt, yrts, ylow, ylab, ymap, yop, ypic, yend, yout) :=
  ⟨cap, r, d, e, n, m, l1, l2, lb1, lb2, ⟨rfl, rfl, rfl, rfl, rfl, rfl, rfl, rfl⟩, hc, hC, Or.inl ⟨⟨rfl, rfl, rfl, rfl, rfl, rfl, rfl, rfl⟩, hF⟩⟩
theorem zz_inD (hc : r ≤ 9 ∧ d ≤ 9 ∧ e ≤ 9) (hC : rl_C cap n m l1 l2 lb1 lb2 xfst xnxt xup xlab xusd xrts xlft ycnt yrts ylow ylab yend) (hD : rl_D r d e n m l1 l2 lb1 lb2 A cl L S xfst xnxt xup xlab xusd xtre xm1 xc1 xc2 xscr xopA ymap yop) : i_Rel k (nI cap, nI r, nI d, nI e, 1, xtsk, nI ((td_OL A lb1 lb2 n m).flatMap (td_tx A l2 lb2 m)).length, nI (td_OL A lb1 lb2 n m).length, nI L.length, nI (td_pd r d e L), xpgl, xfst, xnxt, xup, xlab, xusd, xrts, xlft, xfor, xtre, xmat, xm1, xm2, xtI, xtJ, xc1, xc2, xscr, xopA, xpag) (nI cap, nI r, nI d, nI e, 1, nI (td_OL A lb1 lb2 n m).length, nI L.length, ylen, ycnt, yrts, ylow, ylab, ymap, yop, ypic, yend, yout) :=
  ⟨cap, r, d, e, n, m, l1, l2, lb1, lb2, ⟨rfl, rfl, rfl, rfl, rfl, rfl, rfl, rfl⟩, hc, hC, Or.inr ⟨A, cl, L, S, ⟨rfl, rfl, rfl, rfl, rfl, rfl, rfl, rfl⟩, hD⟩⟩
end
theorem zz_e1 {k : Nat} {u : SX} {v : SY} {P : SX → SY → Prop} (h : ∀ (xcap xrel xdel xins xdif xtsk xscl xopc xpos xpad xpgl : Int32) (xfst xnxt xup xlab xusd xrts xlft xfor xtre xmat xm1 xm2 xtI xtJ xc1 xc2 xscr xopA xpag : Nat → Int32) (ycap yrel ydel yins ydif ytot ypos ylen : Int32) (ycnt yrts ylow ylab ymap yop ypic yend yout : Nat → Int32), rl_B xcap xrel xdel xins xdif xtsk xscl xopc xpos xpad xpgl xfst xnxt xup xlab xusd xrts xlft xfor xtre xmat xm1 xm2 xtI xtJ xc1 xc2 xscr xopA xpag ycap yrel ydel yins ydif ytot ypos ylen ycnt yrts ylow ylab ymap yop ypic yend yout → P (xcap, xrel, xdel, xins, xdif, xtsk, xscl, xopc, xpos, xpad, xpgl, xfst, xnxt, xup, xlab, xusd, xrts, xlft, xfor, xtre, xmat, xm1, xm2, xtI, xtJ, xc1, xc2, xscr, xopA, xpag) (ycap, yrel, ydel, yins, ydif, ytot, ypos, ylen, ycnt, yrts, ylow, ylab, ymap, yop, ypic, yend, yout)) (I : i_Rel k u v) : P u v :=
  h (u.1) (u.2.1) (u.2.2.1) (u.2.2.2.1) (u.2.2.2.2.1) (u.2.2.2.2.2.1) (u.2.2.2.2.2.2.1) (u.2.2.2.2.2.2.2.1) (u.2.2.2.2.2.2.2.2.1) (u.2.2.2.2.2.2.2.2.2.1) (u.2.2.2.2.2.2.2.2.2.2.1) (u.2.2.2.2.2.2.2.2.2.2.2.1) (u.2.2.2.2.2.2.2.2.2.2.2.2.1) (u.2.2.2.2.2.2.2.2.2.2.2.2.2.1) (u.2.2.2.2.2.2.2.2.2.2.2.2.2.2.1) (u.2.2.2.2.2.2.2.2.2.2.2.2.2.2.2.1) (u.2.2.2.2.2.2.2.2.2.2.2.2.2.2.2.2.1) (u.2.2.2.2.2.2.2.2.2.2.2.2.2.2.2.2.2.1) (u.2.2.2.2.2.2.2.2.2.2.2.2.2.2.2.2.2.2.1) (u.2.2.2.2.2.2.2.2.2.2.2.2.2.2.2.2.2.2.2.1) (u.2.2.2.2.2.2.2.2.2.2.2.2.2.2.2.2.2.2.2.2.1) (u.2.2.2.2.2.2.2.2.2.2.2.2.2.2.2.2.2.2.2.2.2.1) (u.2.2.2.2.2.2.2.2.2.2.2.2.2.2.2.2.2.2.2.2.2.2.1) (u.2.2.2.2.2.2.2.2.2.2.2.2.2.2.2.2.2.2.2.2.2.2.2.1) (u.2.2.2.2.2.2.2.2.2.2.2.2.2.2.2.2.2.2.2.2.2.2.2.2.1) (u.2.2.2.2.2.2.2.2.2.2.2.2.2.2.2.2.2.2.2.2.2.2.2.2.2.1) (u.2.2.2.2.2.2.2.2.2.2.2.2.2.2.2.2.2.2.2.2.2.2.2.2.2.2.1) (u.2.2.2.2.2.2.2.2.2.2.2.2.2.2.2.2.2.2.2.2.2.2.2.2.2.2.2.1) (u.2.2.2.2.2.2.2.2.2.2.2.2.2.2.2.2.2.2.2.2.2.2.2.2.2.2.2.2.1) (u.2.2.2.2.2.2.2.2.2.2.2.2.2.2.2.2.2.2.2.2.2.2.2.2.2.2.2.2.2) (v.1) (v.2.1) (v.2.2.1) (v.2.2.2.1) (v.2.2.2.2.1) (v.2.2.2.2.2.1) (v.2.2.2.2.2.2.1) (v.2.2.2.2.2.2.2.1) (v.2.2.2.2.2.2.2.2.1) (v.2.2.2.2.2.2.2.2.2.1) (v.2.2.2.2.2.2.2.2.2.2.1) (v.2.2.2.2.2.2.2.2.2.2.2.1) (v.2.2.2.2.2.2.2.2.2.2.2.2.1) (v.2.2.2.2.2.2.2.2.2.2.2.2.2.1) (v.2.2.2.2.2.2.2.2.2.2.2.2.2.2.1) (v.2.2.2.2.2.2.2.2.2.2.2.2.2.2.2.1) (v.2.2.2.2.2.2.2.2.2.2.2.2.2.2.2.2) I
theorem zz_el {k : Nat} {u : SX} {v : SY} {P : SX → SY → Prop}
    (hF : ∀ (cap r d e n m : Nat) (l1 l2 lb1 lb2 : Nat → Nat) (xtsk xpgl : Int32) (xfst xnxt xup xlab xusd xrts xlft xfor xtre xmat xm1 xm2 xtI xtJ xc1 xc2 xscr xopA xpag : Nat → Int32) (ylen : Int32) (ycnt yrts ylow ylab ymap yop ypic yend yout : Nat → Int32), (r ≤ 9 ∧ d ≤ 9 ∧ e ≤ 9) → rl_C cap n m l1 l2 lb1 lb2 xfst xnxt xup xlab xusd xrts xlft ycnt yrts ylow ylab yend → rl_F xfst ymap → P (nI cap, nI r, nI d, nI e, 0, xtsk, 0, 0, 0, 0, xpgl, xfst, xnxt, xup, xlab, xusd, xrts, xlft, xfor, xtre, xmat, xm1, xm2, xtI, xtJ, xc1, xc2, xscr, xopA, xpag) (nI cap, nI r, nI d, nI e, 0, 0, 0, ylen, ycnt, yrts, ylow, ylab, ymap, yop, ypic, yend, yout))
    (hD : ∀ (cap r d e n m : Nat) (l1 l2 lb1 lb2 A cl : Nat → Nat) (L S : List Nat) (xtsk xpgl : Int32) (xfst xnxt xup xlab xusd xrts xlft xfor xtre xmat xm1 xm2 xtI xtJ xc1 xc2 xscr xopA xpag : Nat → Int32) (ylen : Int32) (ycnt yrts ylow ylab ymap yop ypic yend yout : Nat → Int32), (r ≤ 9 ∧ d ≤ 9 ∧ e ≤ 9) → rl_C cap n m l1 l2 lb1 lb2 xfst xnxt xup xlab xusd xrts xlft ycnt yrts ylow ylab yend → rl_D r d e n m l1 l2 lb1 lb2 A cl L S xfst xnxt xup xlab xusd xtre xm1 xc1 xc2 xscr xopA ymap yop → P (nI cap, nI r, nI d, nI e, 1, xtsk, nI ((td_OL A lb1 lb2 n m).flatMap (td_tx A l2 lb2 m)).length, nI (td_OL A lb1 lb2 n m).length, nI L.length, nI (td_pd r d e L), xpgl, xfst, xnxt, xup, xlab, xusd, xrts, xlft, xfor, xtre, xmat, xm1, xm2, xtI, xtJ, xc1, xc2, xscr, xopA, xpag) (nI cap, nI r, nI d, nI e, 1, nI (td_OL A lb1 lb2 n m).length, nI L.length, ylen, ycnt, yrts, ylow, ylab, ymap, yop, ypic, yend, yout))
    (I : i_Rel k u v) : P u v := by
  refine zz_e1 (P := P) ?_ I
  intro xcap xrel xdel xins xdif xtsk xscl xopc xpos xpad xpgl xfst xnxt xup xlab xusd xrts xlft xfor xtre xmat xm1 xm2 xtI xtJ xc1 xc2 xscr xopA xpag ycap yrel ydel yins ydif ytot ypos ylen ycnt yrts ylow ylab ymap yop ypic yend yout hB
  obtain ⟨cap, r, d, e, n, m, l1, l2, lb1, lb2, ⟨e1, e2, e3, e4, e5, e6, e7, e8⟩, hc, hC, hB⟩ := hB
  rcases hB with ⟨⟨f1, f2, f3, f4, f5, f6, f7, f8⟩, hF'⟩ | ⟨A, cl, L, S, ⟨f1, f2, f3, f4, f5, f6, f7, f8⟩, hD'⟩
  · rw [e1, e2, e3, e4, e5, e6, e7, e8, f1, f2, f3, f4, f5, f6, f7, f8]
    exact hF cap r d e n m l1 l2 lb1 lb2 xtsk xpgl xfst xnxt xup xlab xusd xrts xlft xfor xtre xmat xm1 xm2 xtI xtJ xc1 xc2 xscr xopA xpag ylen ycnt yrts ylow ylab ymap yop ypic yend yout hc hC hF'
  · rw [e1, e2, e3, e4, e5, e6, e7, e8, f1, f2, f3, f4, f5, f6, f7, f8]
    exact hD cap r d e n m l1 l2 lb1 lb2 A cl L S xtsk xpgl xfst xnxt xup xlab xusd xrts xlft xfor xtre xmat xm1 xm2 xtI xtJ xc1 xc2 xscr xopA xpag ylen ycnt yrts ylow ylab ymap yop ypic yend yout hc hC hD'
end
section
/-! the small methods -/
theorem td_OL_le {A lb1 lb2 : Nat → Nat} {n m o : Nat} (hn : n ≤ 8) (hm : m ≤ 8) (h : o ∈ td_OL A lb1 lb2 n m) : o ≤ 28 := by
  unfold td_OL at h
  rcases List.mem_append.mp h with q | q
  · have := td_oR_m.mp q
    omega
  · rcases List.mem_append.mp q with q | q
    · have := td_oD_m.mp q
      omega
    · have := td_oI_m.mp q
      omega
theorem zz_ix (x : Int32) : x < 1 ∨ ∃ i : Nat, 1 ≤ i ∧ i < 2 ^ 31 ∧ x = nI i := by
  by_cases h : x < 1
  · exact Or.inl h
  · refine Or.inr ?_
    have h0 : ¬ x < 0 := fun z => h (Int32.lt_trans z (by decide))
    obtain ⟨i, hi, rfl⟩ := nI_of h0
    refine ⟨i, ?_, hi, rfl⟩
    rcases Nat.eq_zero_or_pos i with z | z
    · rw [z] at h
      exact absurd (by decide) h
    · exact z
theorem i_vc_ops {k : Nat} {u : SX} {v : SY} (I : i_Rel k u v) (hk : k + 4 ≤ 2052) : wpX_ops (fun r => wpY_ops (fun r' => r' = r ∧ i_Rel (k + 4) u v) v) u := by
  refine zz_el (P := fun u v => wpX_ops (fun r => wpY_ops (fun r' => r' = r ∧ i_Rel (k + 4) u v) v) u) ?_ ?_ I
  · intro cap r d e n m l1 l2 lb1 lb2 xtsk xpgl xfst xnxt xup xlab xusd xrts xlft xfor xtre xmat xm1 xm2 xtI xtJ xc1 xc2 xscr xopA xpag ylen ycnt yrts ylow ylab ymap yop ypic yend yout hc hC hF
    exact br_t rfl (br_t rfl ⟨rfl, zz_inF hc hC hF⟩)
  · intro cap r d e n m l1 l2 lb1 lb2 A cl L S xtsk xpgl xfst xnxt xup xlab xusd xrts xlft xfor xtre xmat xm1 xm2 xtI xtJ xc1 xc2 xscr xopA xpag ylen ycnt yrts ylow ylab ymap yop ypic yend yout hc hC hD
    exact br_f (by decide) (br_f (by decide) ⟨rfl, zz_inD hc hC hD⟩)
theorem i_vc_position {k : Nat} {u : SX} {v : SY} (I : i_Rel k u v) (hk : k + 4 ≤ 2052) : wpX_position (fun r => wpY_position (fun r' => r' = r ∧ i_Rel (k + 4) u v) v) u := by
  refine zz_el (P := fun u v => wpX_position (fun r => wpY_position (fun r' => r' = r ∧ i_Rel (k + 4) u v) v) u) ?_ ?_ I
  · intro cap r d e n m l1 l2 lb1 lb2 xtsk xpgl xfst xnxt xup xlab xusd xrts xlft xfor xtre xmat xm1 xm2 xtI xtJ xc1 xc2 xscr xopA xpag ylen ycnt yrts ylow ylab ymap yop ypic yend yout hc hC hF
    exact br_t rfl (br_t rfl ⟨rfl, zz_inF hc hC hF⟩)
  · intro cap r d e n m l1 l2 lb1 lb2 A cl L S xtsk xpgl xfst xnxt xup xlab xusd xrts xlft xfor xtre xmat xm1 xm2 xtI xtJ xc1 xc2 xscr xopA xpag ylen ycnt yrts ylow ylab ymap yop ypic yend yout hc hC hD
    exact br_f (by decide) (br_f (by decide) ⟨rfl, zz_inD hc hC hD⟩)
theorem i_vc_partner {k : Nat} {u : SX} {v : SY} (I : i_Rel k u v) (hk : k + 4 ≤ 2052) (v1 : Int32) : wpX_partner (fun r => wpY_partner (fun r' => r' = r ∧ i_Rel (k + 4) u v) v v1) u v1 := by
  refine zz_el (P := fun u v => wpX_partner (fun r => wpY_partner (fun r' => r' = r ∧ i_Rel (k + 4) u v) v v1) u v1) ?_ ?_ I
  · intro cap r d e n m l1 l2 lb1 lb2 xtsk xpgl xfst xnxt xup xlab xusd xrts xlft xfor xtre xmat xm1 xm2 xtI xtJ xc1 xc2 xscr xopA xpag ylen ycnt yrts ylow ylab ymap yop ypic yend yout hc hC hF
    exact br_t rfl (br_t rfl ⟨rfl, zz_inF hc hC hF⟩)
  · intro cap r d e n m l1 l2 lb1 lb2 A cl L S xtsk xpgl xfst xnxt xup xlab xusd xrts xlft xfor xtre xmat xm1 xm2 xtI xtJ xc1 xc2 xscr xopA xpag ylen ycnt yrts ylow ylab ymap yop ypic yend yout hc hC hD
    have R := zz_inD (k := k + 4) (xtsk := xtsk) (xpgl := xpgl) (xfor := xfor) (xmat := xmat) (xm2 := xm2) (xtI := xtI) (xtJ := xtJ) (xpag := xpag) (ylen := ylen) (ypic := ypic) (yout := yout) hc hC hD
    have hn := hC.2.2.2.2.1.1
    obtain ⟨u0, u1, c1, c2⟩ := hC.2.2.2.2.2.2.1
    refine br_f (by decide) ?_
    dsimp only
    rw [u0]
    rcases zz_ix v1 with h1 | ⟨i, i1, i2, rfl⟩
    · exact br_t h1 (br_f (by decide) (br_t h1 ⟨rfl, R⟩))
    · have h1 : ¬ nI i < 1 := nI_nlt (b := 1) i1 i2
      refine br_f h1 (pk_le i n (fun q => ?_) (fun q => ?_) rfl rfl i2 (by omega))
      · rw [nI_clamp i2, hD.2.2.1 i (by omega)]
        refine ⟨vp_in_nI (by omega) (by omega), br_f (by decide) (br_f h1 ?_)⟩
        rw [c1, yw_a10, nI_clamp (n := 10 + i) (by omega), hD.2.2.2.2.2.1 i i1 (by omega)]
        exact br_f (nI_nlt q (by omega)) ⟨vp_in_nI (by omega) (by omega), rfl, R⟩
      · refine br_f (by decide) (br_f h1 ?_)
        rw [c1]
        exact br_t (nI_lt q i2) ⟨rfl, R⟩
theorem i_vc_claimed {k : Nat} {u : SX} {v : SY} (I : i_Rel k u v) (hk : k + 4 ≤ 2052) (v1 : Int32) : wpX_claimed (fun r => wpY_claimed (fun r' => r' = r ∧ i_Rel (k + 4) u v) v v1) u v1 := by
  refine zz_el (P := fun u v => wpX_claimed (fun r => wpY_claimed (fun r' => r' = r ∧ i_Rel (k + 4) u v) v v1) u v1) ?_ ?_ I
  · intro cap r d e n m l1 l2 lb1 lb2 xtsk xpgl xfst xnxt xup xlab xusd xrts xlft xfor xtre xmat xm1 xm2 xtI xtJ xc1 xc2 xscr xopA xpag ylen ycnt yrts ylow ylab ymap yop ypic yend yout hc hC hF
    exact br_t rfl (br_t rfl ⟨rfl, zz_inF hc hC hF⟩)
  · intro cap r d e n m l1 l2 lb1 lb2 A cl L S xtsk xpgl xfst xnxt xup xlab xusd xrts xlft xfor xtre xmat xm1 xm2 xtI xtJ xc1 xc2 xscr xopA xpag ylen ycnt yrts ylow ylab ymap yop ypic yend yout hc hC hD
    have R := zz_inD (k := k + 4) (xtsk := xtsk) (xpgl := xpgl) (xfor := xfor) (xmat := xmat) (xm2 := xm2) (xtI := xtI) (xtJ := xtJ) (xpag := xpag) (ylen := ylen) (ypic := ypic) (yout := yout) hc hC hD
    have hn := hC.2.2.2.2.1.1
    obtain ⟨u0, u1, c1, c2⟩ := hC.2.2.2.2.2.2.1
    obtain ⟨d1, d2, d3, d4, d5, d6, d7, d8, d9, d10, d11, d12, d13⟩ := hD
    refine br_f (by decide) ?_
    dsimp only
    rw [u0]
    rcases zz_ix v1 with h1 | ⟨i, i1, i2, rfl⟩
    · exact br_t h1 (br_f (by decide) (br_t h1 ⟨rfl, R⟩))
    · have h1 : ¬ nI i < 1 := nI_nlt (b := 1) i1 i2
      refine br_f h1 (pk_le i n (fun q => ?_) (fun q => ?_) rfl rfl i2 (by omega))
      · rw [nI_clamp i2, d11 i i1 (by omega)]
        refine ⟨vp_in_nI (by omega) (by omega), br_f (by decide) (br_f h1 ?_)⟩
        rw [c1, yw_a20, nI_clamp (n := 20 + i) (by omega), d13 i i1 (by omega)]
        exact br_f (nI_nlt q (by omega)) ⟨vp_in_nI (by omega) (by omega), rfl, R⟩
      · refine br_f (by decide) (br_f h1 ?_)
        rw [c1]
        exact br_t (nI_lt q i2) ⟨rfl, R⟩
theorem i_vc_distance {k : Nat} {u : SX} {v : SY} (I : i_Rel k u v) (hk : k + 4 ≤ 2052) : wpX_distance (fun r => wpY_distance (fun r' => r' = r ∧ i_Rel (k + 4) u v) v) u := by
  refine zz_el (P := fun u v => wpX_distance (fun r => wpY_distance (fun r' => r' = r ∧ i_Rel (k + 4) u v) v) u) ?_ ?_ I
  · intro cap r d e n m l1 l2 lb1 lb2 xtsk xpgl xfst xnxt xup xlab xusd xrts xlft xfor xtre xmat xm1 xm2 xtI xtJ xc1 xc2 xscr xopA xpag ylen ycnt yrts ylow ylab ymap yop ypic yend yout hc hC hF
    exact br_t rfl (br_t rfl ⟨rfl, zz_inF hc hC hF⟩)
  · intro cap r d e n m l1 l2 lb1 lb2 A cl L S xtsk xpgl xfst xnxt xup xlab xusd xrts xlft xfor xtre xmat xm1 xm2 xtI xtJ xc1 xc2 xscr xopA xpag ylen ycnt yrts ylow ylab ymap yop ypic yend yout hc hC hD
    have R := zz_inD (k := k + 4) (xtsk := xtsk) (xpgl := xpgl) (xfor := xfor) (xmat := xmat) (xm2 := xm2) (xtI := xtI) (xtJ := xtJ) (xpag := xpag) (ylen := ylen) (ypic := ypic) (yout := yout) hc hC hD
    have hn := hC.2.2.2.2.1.1
    have hm := hC.2.2.2.2.1.2.1
    have G := hC.2.2.2.2.2.1
    obtain ⟨u0, u1, c1, c2⟩ := hC.2.2.2.2.2.2.1
    obtain ⟨⟨n1, m1, r1, r2, eA⟩, d2, d3, d4, d5, d6, d7, d8, d9, d10, d11, d12, d13⟩ := hD
    have hV := td_M_V l1 l2 d e (td_rn r lb1 lb2) 1 n 1 m
    rw [← eA] at hV
    refine br_f (by decide) ?_
    dsimp only
    rw [u0, u1, xw_at, nI_clamp (n := n * 9 + m) (by omega), d2 n m n1 (Nat.le_refl _) m1 (Nat.le_refl _)]
    refine ⟨vp_in_nI (by omega) (by omega), br_f (by decide) ?_⟩
    rw [c1, c2]
    refine yw_price (bs := 10) (A := A) G (by omega) d6 n1 (Nat.le_refl _) m1 (Nat.le_refl _) (by rw [r1, r2]; exact hV) ⟨?_, R⟩
    rw [r1, r2, eA]
    rfl
theorem i_vc_between {k : Nat} {u : SX} {v : SY} (I : i_Rel k u v) (hk : k + 4 ≤ 2052) (v1 : Int32) (v2 : Int32) : wpX_between (fun r => wpY_between (fun r' v' => r' = r ∧ i_Rel (k + 4) u v') v v1 v2) u v1 v2 := by
  refine zz_el (P := fun u v => wpX_between (fun r => wpY_between (fun r' v' => r' = r ∧ i_Rel (k + 4) u v') v v1 v2) u v1 v2) ?_ ?_ I
  · intro cap r d e n m l1 l2 lb1 lb2 xtsk xpgl xfst xnxt xup xlab xusd xrts xlft xfor xtre xmat xm1 xm2 xtI xtJ xc1 xc2 xscr xopA xpag ylen ycnt yrts ylow ylab ymap yop ypic yend yout hc hC hF
    exact br_t rfl (br_t rfl ⟨rfl, zz_inF hc hC hF⟩)
  · intro cap r d e n m l1 l2 lb1 lb2 A cl L S xtsk xpgl xfst xnxt xup xlab xusd xrts xlft xfor xtre xmat xm1 xm2 xtI xtJ xc1 xc2 xscr xopA xpag ylen ycnt yrts ylow ylab ymap yop ypic yend yout hc hC hD
    have R := zz_inD (k := k + 4) (xtsk := xtsk) (xpgl := xpgl) (xfor := xfor) (xmat := xmat) (xm2 := xm2) (xtI := xtI) (xtJ := xtJ) (xpag := xpag) (ylen := ylen) (ypic := ypic) (yout := yout) hc hC hD
    have hn := hC.2.2.2.2.1.1
    have hm := hC.2.2.2.2.1.2.1
    have G := hC.2.2.2.2.2.1
    obtain ⟨u0, u1, c1, c2⟩ := hC.2.2.2.2.2.2.1
    refine br_f (by decide) ?_
    dsimp only
    rw [u0, u1]
    rcases zz_ix v1 with h1 | ⟨i, i1, i2, rfl⟩
    · exact br_t h1 (br_f (by decide) (br_t h1 ⟨rfl, R⟩))
    · have h1 : ¬ nI i < 1 := nI_nlt (b := 1) i1 i2
      refine br_f h1 (pk_lt n i (fun q => ?_) (fun q => ?_) rfl rfl (by omega) i2)
      · refine br_f (by decide) (br_f h1 ?_)
        rw [c1]
        exact br_t (nI_lt q i2) ⟨rfl, R⟩
      · rcases zz_ix v2 with g1 | ⟨j, j1, j2, rfl⟩
        · refine br_t g1 (br_f (by decide) (br_f h1 ?_))
          rw [c1]
          exact br_f (nI_nlt q (by omega)) (br_t g1 ⟨rfl, R⟩)
        · have g1 : ¬ nI j < 1 := nI_nlt (b := 1) j1 j2
          refine br_f g1 (pk_le j m (fun q2 => ?_) (fun q2 => ?_) rfl rfl j2 (by omega))
          · rw [xw_at, nI_clamp (n := i * 9 + j) (by omega), hD.2.1 i j i1 q j1 q2]
            refine ⟨vp_in_nI (by omega) (by omega), br_f (by decide) (br_f h1 ?_)⟩
            rw [c1, c2]
            refine br_f (nI_nlt q (by omega)) (br_f g1 (br_t (nI_le q2 (by omega)) (yw_search G hc.1 hc.2.1 hc.2.2 i1 q j1 q2 fun mp hmp => ⟨by decide, ?_, ?_⟩)))
            · have t1 := G.2.2.1 i i1 q
              have t2 := G.2.2.2.1 j j1 q2
              have bD := td_D_bd (l1 := l1) (l2 := l2) (rn := td_rn r lb1 lb2) (a := l1 i) (i := i) (b := l2 j) (j := j) hc.2.1 hc.2.2 t1.1 t2.1 (by omega) (by omega)
              have dl := td_dg_lt (td_V_le (td_M_V l1 l2 d e (td_rn r lb1 lb2) (l1 i) i (l2 j) j) (by omega))
              rw [td_kbD, show lN (100000000 * (td_D l1 l2 d e (td_rn r lb1 lb2)) (l1 i) i (l2 j) j + td_dg ((td_M l1 l2 d e (td_rn r lb1 lb2)) (l1 i) i (l2 j) j)) / 100000000 = lN ((100000000 * (td_D l1 l2 d e (td_rn r lb1 lb2)) (l1 i) i (l2 j) j + td_dg ((td_M l1 l2 d e (td_rn r lb1 lb2)) (l1 i) i (l2 j) j)) / 100000000) from pk_lDiv (b := 100000000) (by omega) (by omega) (by omega), lN_i]
              exact congrArg nI (by omega)
            · obtain ⟨d1, d2, d3, d4, d5, d6, d7, d8, d9, d10, d11, d12, d13⟩ := hD
              exact zz_inD hc hC ⟨d1, d2, d3, d4, d5, fun v a b => by rw [hmp _ (by omega)]; exact d6 v a b, d7, d8, d9, d10, d11, d12, fun v a b => by rw [hmp _ (by omega)]; exact d13 v a b⟩
          · refine br_f (by decide) (br_f h1 ?_)
            rw [c1, c2]
            exact br_f (nI_nlt q (by omega)) (br_f g1 (br_f (nI_ge q2 (by omega)) ⟨rfl, R⟩))
section
variable {r d e n m : Nat} {A l1 l2 lb1 lb2 : Nat → Nat} {L S : List Nat} {ycap yrel ydel yins ydif ytot ypos ylen : Int32} {ycnt yrts ylow ylab ymap yop ypic yend yout : Nat → Int32}
theorem yw_pd4 {post : Int32 → Prop} {OL : List Nat} (hO : OL.length ≤ 16) (h28 : ∀ o, o ∈ OL → o ≤ 28) (ho : ls_h yop 0 OL) (hOL : OL = L ++ S) (h : post (nI (td_pd r d e L))) :
    ∀ R1 L1, L1 ++ R1 = L → wY_paid_4 post ycap (nI r) (nI d) (nI e) 1 ytot (nI L.length) ylen ycnt yrts ylow ylab ymap yop ypic yend yout (R1.length + 1) (nI (td_pd r d e L1)) (nI L1.length) := by
  have eL0 : OL.length = L.length + S.length := by rw [hOL, List.length_append]
  intro R1
  induction R1 with
  | nil =>
    intro L1 he
    rw [List.append_nil] at he
    subst he
    unfold wY_paid_4
    exact br_t (nI_le (Nat.le_refl _) (by omega)) (br_f (by decide) h)
  | cons o R1 ih =>
    intro L1 he
    have eL : L.length = L1.length + (R1.length + 1) := by rw [← he, List.length_append, List.length_cons]
    have o28 := h28 o (by rw [hOL, ← he]; simp)
    have hop : yop L1.length = nI o := by
      have ho2 := ho
      rw [hOL, ← he, List.append_assoc] at ho2
      have := (ls_app ho2).2.1
      rw [Nat.zero_add] at this
      exact this
    have k := ih (L1 ++ [o]) (by rw [← he]; simp)
    rw [td_pd_s, td_l1] at k
    rw [List.length_cons]
    unfold wY_paid_4
    rw [nI_clamp (n := L1.length) (by omega), hop]
    refine br_f (nI_ge (by omega) (by omega)) ⟨vp_in_nI (by omega) (by omega), pk_le 10 o (fun c1 => ⟨vp_in_nI (by omega) (by omega), pk_le 20 o (fun c2 => ?_) (fun c2 => ?_)⟩) (fun c1 => ?_)⟩
    · have eo : td_oc r d e o = e := by
        unfold td_oc
        rw [if_neg (by omega), if_neg (by omega)]
      rw [eo] at k
      exact nm_r (nI_add _ _) (nm_r (nI_1 _) k)
    · have eo : td_oc r d e o = d := by
        unfold td_oc
        rw [if_neg (by omega), if_pos c2]
      rw [eo] at k
      exact nm_r (nI_add _ _) (nm_r (nI_1 _) k)
    · have eo : td_oc r d e o = r := if_pos c1
      rw [eo] at k
      exact nm_r (nI_add _ _) (nm_r (nI_1 _) k)
end
theorem i_vc_paid {k : Nat} {u : SX} {v : SY} (I : i_Rel k u v) (hk : k + 4 ≤ 2052) : wpX_paid (fun r => wpY_paid (fun r' => r' = r ∧ i_Rel (k + 4) u v) v) u := by
  refine zz_el (P := fun u v => wpX_paid (fun r => wpY_paid (fun r' => r' = r ∧ i_Rel (k + 4) u v) v) u) ?_ ?_ I
  · intro cap r d e n m l1 l2 lb1 lb2 xtsk xpgl xfst xnxt xup xlab xusd xrts xlft xfor xtre xmat xm1 xm2 xtI xtJ xc1 xc2 xscr xopA xpag ylen ycnt yrts ylow ylab ymap yop ypic yend yout hc hC hF
    refine br_t rfl ⟨1, ?_⟩
    unfold wY_paid_4
    exact br_t (by decide) (br_t rfl ⟨rfl, zz_inF hc hC hF⟩)
  · intro cap r d e n m l1 l2 lb1 lb2 A cl L S xtsk xpgl xfst xnxt xup xlab xusd xrts xlft xfor xtre xmat xm1 xm2 xtI xtJ xc1 xc2 xscr xopA xpag ylen ycnt yrts ylow ylab ymap yop ypic yend yout hc hC hD
    have R := zz_inD (k := k + 4) (xtsk := xtsk) (xpgl := xpgl) (xfor := xfor) (xmat := xmat) (xm2 := xm2) (xtI := xtI) (xtJ := xtJ) (xpag := xpag) (ylen := ylen) (ypic := ypic) (yout := yout) hc hC hD
    have hn := hC.2.2.2.2.1.1
    have hm := hC.2.2.2.2.1.2.1
    have hOL := td_OL_len (A := A) (lb1 := lb1) (lb2 := lb2) n m
    obtain ⟨d1, d2, d3, d4, d5, d6, d7, d8, d9, d10, d11, d12, d13⟩ := hD
    exact br_f (by decide) ⟨_, yw_pd4 (by omega) (fun o ho => td_OL_le hn hm ho) d7 d8 ⟨rfl, R⟩ L [] rfl⟩
end
section
/-! resetWork, rewind, apply, diff -/
section
variable {b b' N : Nat} {P P' : Nat → Bool} {l pr sl : Nat → Nat} {fs nx up fs' nx' up' : Nat → Int32}
theorem lk_p_b : ∀ {k : List Nat} {z : Nat}, (∀ v, v ∈ k → nx' (b' + sl v) = nx (b + sl v)) → lk_p b sl nx k z → lk_p b' sl nx' k z
  | [], _, _, _ => trivial
  | v :: k, z, h, hp => ⟨(h v List.mem_cons_self).trans hp.1, lk_p_b (fun w hw => h w (List.mem_cons_of_mem _ hw)) hp.2⟩
theorem lk_K_b (hK : lk_K b P pr sl fs nx up) (h : ∀ v, (v = 0 ∨ (1 ≤ v ∧ v ≤ 8 ∧ P v = true)) → fs' (b' + sl v) = fs (b + sl v) ∧ nx' (b' + sl v) = nx (b + sl v) ∧ up' (b' + sl v) = up (b + sl v)) : lk_K b' P pr sl fs' nx' up' := by
  refine ⟨fun q hq => ⟨(h q hq).1.trans (hK.1 q hq).1, lk_p_b (fun v hv => ?_) (hK.1 q hq).2⟩, fun v v1 v8 vP => (h v (Or.inr ⟨v1, v8, vP⟩)).2.2.trans (hK.2 v v1 v8 vP)⟩
  have := lk_ok hv
  exact (h v (Or.inr ⟨this.1, this.2.1, this.2.2.1⟩)).2.1
theorem td_up_P (h : ∀ w, 1 ≤ w → w ≤ 8 → (P w = true ↔ P' w = true)) (v : Nat) : td_up P l v = td_up P' l v := by
  rcases td_up_s P l v with ⟨a1, a2⟩ | ⟨a1, a2, a3, a4, a5⟩
  · rw [a1]
    exact (td_up_0 fun w w1 w2 w3 => a2 w w1 w2 ((h w (by omega) w2).mpr w3)).symm
  · exact (td_up_u a1 a2 ((h _ (by omega) a2).mp a3) a4 fun w w1 w2 w3 => a5 w w1 w2 ((h w (by omega) (by omega)).mpr w3)).symm
theorem lk_K_P (h : ∀ w, 1 ≤ w → w ≤ 8 → (P w = true ↔ P' w = true)) (hK : lk_K b P (td_up P l) sl fs nx up) : lk_K b P' (td_up P' l) sl fs nx up := by
  have e : td_up P l = td_up P' l := funext (td_up_P h)
  have ec : ∀ q, lk_ch P (td_up P l) q 1 8 = lk_ch P' (td_up P' l) q 1 8 := fun q => lk_ch_c fun w w1 w2 => by rw [h w w1 (by omega), e]
  refine ⟨fun q hq => ?_, fun v v1 v8 vP => ?_⟩
  · rw [← ec q]
    refine hK.1 q ?_
    rcases hq with z | z
    · exact Or.inl z
    · exact Or.inr ⟨z.1, z.2.1, (h q z.1 z.2.1).mpr z.2.2⟩
  · rw [← e]
    exact hK.2 v v1 v8 ((h v v1 v8).mpr vP)
theorem td_Pd_all {n : Nat} : ∀ w, 1 ≤ w → w ≤ 8 → (td_all n w = true ↔ td_Pd n [] w = true) := fun w w1 w2 => by
  rw [td_Pd_i]
  exact ⟨fun z => ⟨w1, td_all_i z, List.not_mem_nil⟩, fun z => td_all_t z.2.1⟩
end
section
variable {n m cap r d e : Nat} {l1 l2 lb1 lb2 A cl : Nat → Nat} {L S : List Nat} {xcap xrel xdel xins xdif xtsk xscl xopc xpos xpad xpgl : Int32} {xfst xnxt xup xlab xusd xrts xlft xfor xtre xmat xm1 xm2 xtI xtJ xc1 xc2 xscr xopA xpag : Nat → Int32} {ycap yrel ydel yins ydif ytot ypos ylen : Int32} {ycnt yrts ylow ylab ymap yop ypic yend yout : Nat → Int32}
theorem xw_rs2 {post : SX → Prop} (h : ∀ fs nx up lab, (∀ k, k < 34 → fs k = xfst k ∧ nx k = xnxt k ∧ up k = xup k ∧ lab k = xlab k) → (∀ v, v < 17 → fs (34 + v) = xfst v ∧ nx (34 + v) = xnxt v ∧ up (34 + v) = xup v ∧ lab (34 + v) = xlab v) → post (xcap, xrel, xdel, xins, xdif, xtsk, xscl, xopc, 0, 0, xpgl, fs, nx, up, lab, upd xusd 2 (xusd 0), xrts, xlft, xfor, xtre, xmat, xm1, xm2, xtI, xtJ, xc1, xc2, xscr, xopA, xpag)) :
    ∀ g v fs nx up lab, v + g = 17 → (∀ k, k < 34 → fs k = xfst k ∧ nx k = xnxt k ∧ up k = xup k ∧ lab k = xlab k) → (∀ w, w < v → fs (34 + w) = xfst w ∧ nx (34 + w) = xnxt w ∧ up (34 + w) = xup w ∧ lab (34 + w) = xlab w) →
      wX_resetWork_2 post xcap xrel xdel xins xdif xtsk xscl xopc xpos xpad xpgl (g + 1) (nI v) fs nx up lab xusd xrts xlft xfor xtre xmat xm1 xm2 xtI xtJ xc1 xc2 xscr xopA xpag := by
  intro g
  induction g with
  | zero =>
    intro v fs nx up lab hv h1 h2
    have ev : v = 17 := by omega
    subst ev
    unfold wX_resetWork_2
    exact br_t (nI_le (a := 17) (Nat.le_refl _) (by omega)) (nm_e (h fs nx up lab h1 h2))
  | succ g ih =>
    intro v fs nx up lab hv h1 h2
    have q := h1 v (by omega)
    unfold wX_resetWork_2
    rw [show (34 : Int32) + nI v = nI (34 + v) from nI_add 34 v, nI_clamp (n := 34 + v) (by omega), nI_clamp (n := v) (by omega), q.1, q.2.1, q.2.2.1, q.2.2.2]
    refine br_f (nI_ge (b := 17) (by omega) (by decide)) ⟨vp_in_nI (by omega) (by omega), vp_in_nI (by omega) (by omega), nm_e ⟨vp_in_nI (by omega) (by omega), vp_in_nI (by omega) (by omega), nm_e ⟨vp_in_nI (by omega) (by omega), vp_in_nI (by omega) (by omega), nm_e ⟨vp_in_nI (by omega) (by omega), vp_in_nI (by omega) (by omega), nm_e (nm_r (nI_1 v) (ih (v + 1) _ _ _ _ (by omega) (fun k hk => ?_) (fun w hw => ?_)))⟩⟩⟩⟩
    · rw [pk_un (by omega), pk_un (by omega), pk_un (by omega), pk_un (by omega)]
      exact h1 k hk
    · by_cases c : w = v
      · rw [c, pk_us, pk_us, pk_us, pk_us]
        exact ⟨rfl, rfl, rfl, rfl⟩
      · rw [pk_un (by omega), pk_un (by omega), pk_un (by omega), pk_un (by omega)]
        exact h2 w (by omega)
/-- resetWork: the work forest is side 1 again -/
theorem xw_reset {post : SX → Prop} (hn : n ≤ 8) (hu : xusd 0 = nI n) (hlab : ∀ v, 1 ≤ v → v ≤ n → xlab v = nI (lb1 v)) (hK : lk_K 0 (td_all n) (td_up (td_all n) l1) (fun v => v) xfst xnxt xup)
    (h : ∀ usd fs nx up lab, rl_W A l1 l2 lb1 lb2 n m [] usd lab fs nx up → (∀ k, k < 34 → fs k = xfst k ∧ nx k = xnxt k ∧ up k = xup k ∧ lab k = xlab k) → usd 0 = xusd 0 → usd 1 = xusd 1 → post (xcap, xrel, xdel, xins, xdif, xtsk, xscl, xopc, 0, 0, xpgl, fs, nx, up, lab, usd, xrts, xlft, xfor, xtre, xmat, xm1, xm2, xtI, xtJ, xc1, xc2, xscr, xopA, xpag)) : wpX_resetWork post (xcap, xrel, xdel, xins, xdif, xtsk, xscl, xopc, xpos, xpad, xpgl, xfst, xnxt, xup, xlab, xusd, xrts, xlft, xfor, xtre, xmat, xm1, xm2, xtI, xtJ, xc1, xc2, xscr, xopA, xpag) := by
  unfold wpX_resetWork
  refine ⟨_, xw_rs2 ?_ 17 0 xfst xnxt xup xlab rfl (fun k _ => ⟨rfl, rfl, rfl, rfl⟩) (fun w hw => by omega)⟩
  intro fs nx up lab h1 h2
  refine h _ fs nx up lab (Or.inl ⟨fun o ho => absurd ho List.not_mem_nil, by rw [pk_us, hu], ⟨rfl, fun v v1 v8 vP => ⟨v1, (td_Pd_i.mp vP).2.1⟩, fun v w _ _ _ _ _ _ q => q⟩, ?_, fun v v1 v8 vP => ?_⟩) h1 (pk_un (by omega)) (pk_un (by omega))
  · refine lk_K_P td_Pd_all (lk_K_b hK fun v hv => ?_)
    have q := h2 v (by omega)
    rw [Nat.zero_add]
    exact ⟨q.1, q.2.1, q.2.2.1⟩
  · rw [(h2 v (by omega)).2.2.2, hlab v v1 (td_Pd_i.mp vP).2.1]
    unfold td_ld
    rw [if_neg List.not_mem_nil]
/-- what the sides need stays when only the work forest changes -/
theorem rl_C_k {fs nx up lab usd : Nat → Int32} (hC : rl_C cap n m l1 l2 lb1 lb2 xfst xnxt xup xlab xusd xrts xlft ycnt yrts ylow ylab yend) (h : ∀ k, k < 34 → fs k = xfst k ∧ nx k = xnxt k ∧ up k = xup k ∧ lab k = xlab k) (u0 : usd 0 = xusd 0) (u1 : usd 1 = xusd 1) : rl_C cap n m l1 l2 lb1 lb2 fs nx up lab usd xrts xlft ycnt yrts ylow ylab yend := by
  obtain ⟨c1, c2, c3, c4, ⟨a1, a2, a3, a4, a5, a6⟩, c6, ⟨v0, v1, v2, v3⟩, c8, c9, c10, c11⟩ := hC
  refine ⟨c1, c2, c3, c4, ⟨a1, a2, a3, a4, fun v w1 w2 => ?_, fun v w1 w2 => ?_⟩, c6, ⟨u0.trans v0, u1.trans v1, v2, v3⟩, c8, lk_K_b c9 fun v hv => ?_, lk_K_b c10 fun v hv => ?_, c11⟩
  · rw [(h v (by omega)).2.2.2]
    exact a5 v w1 w2
  · rw [(h (17 + v) (by omega)).2.2.2]
    exact a6 v w1 w2
  · have q := h (0 + v) (by omega)
    exact ⟨q.1, q.2.1, q.2.2.1⟩
  · have q := h (17 + v) (by omega)
    exact ⟨q.1, q.2.1, q.2.2.1⟩
end
theorem i_vc_rewind {k : Nat} {u : SX} {v : SY} (I : i_Rel k u v) (hk : k + 4 ≤ 2052) : wpX_rewind (fun r u' => wpY_rewind (fun r' v' => r' = r ∧ i_Rel (k + 4) u' v') v) u := by
  refine zz_el (P := fun u v => wpX_rewind (fun r u' => wpY_rewind (fun r' v' => r' = r ∧ i_Rel (k + 4) u' v') v) u) ?_ ?_ I
  · intro cap r d e n m l1 l2 lb1 lb2 xtsk xpgl xfst xnxt xup xlab xusd xrts xlft xfor xtre xmat xm1 xm2 xtI xtJ xc1 xc2 xscr xopA xpag ylen ycnt yrts ylow ylab ymap yop ypic yend yout hc hC hF
    refine br_t rfl (br_t rfl ?_)
    unfold wY_rewind_12
    exact br_t rfl ⟨rfl, zz_inF hc hC hF⟩
  · intro cap r d e n m l1 l2 lb1 lb2 A cl L S xtsk xpgl xfst xnxt xup xlab xusd xrts xlft xfor xtre xmat xm1 xm2 xtI xtJ xc1 xc2 xscr xopA xpag ylen ycnt yrts ylow ylab ymap yop ypic yend yout hc hC hD
    have hn := hC.2.2.2.2.1.1
    have H1 := hC.2.2.2.2.1.2.2.2.2.1
    have K0 := hC.2.2.2.2.2.2.2.2.1
    have u0 := hC.2.2.2.2.2.2.1.1
    refine br_f (by decide) (xw_reset (A := A) (l2 := l2) (lb2 := lb2) (m := m) hn u0 (fun v a b => (H1 v a b).2.1) K0 fun usd fs nx up lab w1 w2 w3 w4 => br_f (by decide) ?_)
    unfold wY_rewind_12
    obtain ⟨d1, d2, d3, d4, d5, d6, d7, d8, d9, d10, d11, d12, d13⟩ := hD
    exact br_f (by decide) ⟨rfl, zz_inD (L := []) (S := L ++ S) hc (rl_C_k hC w2 w3 w4) ⟨d1, d2, d3, d4, d5, d6, d7, d8, w1, d10, d11, d12, d13⟩⟩
theorem i_vc_apply {k : Nat} {u : SX} {v : SY} (I : i_Rel k u v) (hk : k + 4 ≤ 2052) (v1 : Int32) : wpX_apply (fun r u' => wpY_apply (fun r' v' => r' = r ∧ i_Rel (k + 4) u' v') v v1) u v1 := by
  refine zz_el (P := fun u v => wpX_apply (fun r u' => wpY_apply (fun r' v' => r' = r ∧ i_Rel (k + 4) u' v') v v1) u v1) ?_ ?_ I
  · intro cap r d e n m l1 l2 lb1 lb2 xtsk xpgl xfst xnxt xup xlab xusd xrts xlft xfor xtre xmat xm1 xm2 xtI xtJ xc1 xc2 xscr xopA xpag ylen ycnt yrts ylow ylab ymap yop ypic yend yout hc hC hF
    exact br_t rfl (br_t rfl ⟨rfl, zz_inF hc hC hF⟩)
  · intro cap r d e n m l1 l2 lb1 lb2 A cl L S xtsk xpgl xfst xnxt xup xlab xusd xrts xlft xfor xtre xmat xm1 xm2 xtI xtJ xc1 xc2 xscr xopA xpag ylen ycnt yrts ylow ylab ymap yop ypic yend yout hc hC hD
    have hn := hC.2.2.2.2.1.1
    have hm := hC.2.2.2.2.1.2.1
    have E := hC.2.2.2.2.1
    have hOL := td_OL_len (A := A) (lb1 := lb1) (lb2 := lb2) n m
    have hD' := hD
    obtain ⟨⟨n1, m1, r1, r2, eA⟩, d2, d3, d4, d5, d6, d7, d8, d9, d10, d11, d12, d13⟩ := hD
    have hV := td_M_V l1 l2 d e (td_rn r lb1 lb2) 1 n 1 m
    rw [← eA] at hV
    have eL : (td_OL A lb1 lb2 n m).length = L.length + S.length := by rw [d8, List.length_append]
    have go : ∀ todo, todo ≤ S.length → ∀ (post : Int32 → SX → Prop), (∀ L' S' usd lab fs nx up, (td_OL A lb1 lb2 n m) = L' ++ S' → L'.length = L.length + todo → rl_W A l1 l2 lb1 lb2 n m L' usd lab fs nx up → (∀ k, k < 34 → fs k = xfst k ∧ nx k = xnxt k ∧ up k = xup k ∧ lab k = xlab k) → usd 0 = xusd 0 → usd 1 = xusd 1 → post (nI todo) (nI cap, nI r, nI d, nI e, 1, xtsk, nI ((td_OL A lb1 lb2 n m).flatMap (td_tx A l2 lb2 m)).length, nI (td_OL A lb1 lb2 n m).length, nI L'.length, nI (td_pd r d e L'), xpgl, fs, nx, up, lab, usd, xrts, xlft, xfor, xtre, xmat, xm1, xm2, xtI, xtJ, xc1, xc2, xscr, xopA, xpag)) → ∃ n32, wX_apply_32 post (nI todo) n32 0 (nI cap) (nI r) (nI d) (nI e) 1 xtsk (nI ((td_OL A lb1 lb2 n m).flatMap (td_tx A l2 lb2 m)).length) (nI (td_OL A lb1 lb2 n m).length) (nI L.length) (nI (td_pd r d e L)) xpgl xfst xnxt xup xlab xusd xrts xlft xfor xtre xmat xm1 xm2 xtI xtJ xc1 xc2 xscr xopA xpag := fun todo ht post hp =>
      ⟨_, xw_ap32 (c := L.length) hc.1 hc.2.1 hc.2.2 hV d4 d5 E (by omega) hp todo 0 L S xusd xlab xfst xnxt xup (by omega) (by omega) d8 ht d9 (fun _ _ => ⟨rfl, rfl, rfl, rfl⟩) rfl rfl⟩
    have fin : ∀ todo L' S' usd lab fs nx up, (td_OL A lb1 lb2 n m) = L' ++ S' → L'.length = L.length + todo → rl_W A l1 l2 lb1 lb2 n m L' usd lab fs nx up → (∀ k, k < 34 → fs k = xfst k ∧ nx k = xnxt k ∧ up k = xup k ∧ lab k = xlab k) → usd 0 = xusd 0 → usd 1 = xusd 1 → wY_apply_39 (fun r' v' => r' = nI todo ∧ i_Rel (k + 4) (nI cap, nI r, nI d, nI e, 1, xtsk, nI ((td_OL A lb1 lb2 n m).flatMap (td_tx A l2 lb2 m)).length, nI (td_OL A lb1 lb2 n m).length, nI L'.length, nI (td_pd r d e L'), xpgl, fs, nx, up, lab, usd, xrts, xlft, xfor, xtre, xmat, xm1, xm2, xtI, xtJ, xc1, xc2, xscr, xopA, xpag) v') (nI todo) (nI cap) (nI r) (nI d) (nI e) 1 (nI (td_OL A lb1 lb2 n m).length) (nI L.length) ylen ycnt yrts ylow ylab ymap yop ypic yend yout := fun todo L' S' usd lab fs nx up h1 h2 h3 h4 h5 h6 => by
      unfold wY_apply_39
      refine nm_r (e' := nI L'.length) (by rw [h2, nI_add]) ⟨rfl, ?_⟩
      exact zz_inD (L := L') (S := S') hc (rl_C_k hC h4 h5 h6) ⟨⟨n1, m1, r1, r2, eA⟩, d2, d3, d4, d5, d6, d7, h1, h3, d10, d11, d12, d13⟩
    have es : nI (td_OL A lb1 lb2 n m).length - nI L.length = nI S.length := by
      rw [pk_sub (by omega)]
      exact congrArg nI (by omega)
    refine br_f (by decide) ?_
    dsimp only
    by_cases h0 : 0 ≤ v1
    · obtain ⟨c, c2, rfl⟩ := nI_of (x := v1) (Int32.not_lt.mpr h0)
      refine br_t h0 (nm_r es (pk_le S.length c (fun q => ?_) (fun q => ?_) rfl rfl (by omega) c2))
      · refine go S.length (Nat.le_refl _) _ fun L' S' usd lab fs nx up g1 g2 g3 g4 g5 g6 => br_f (by decide) (br_t h0 ?_)
        rw [es]
        exact br_t (nI_le q c2) (fin S.length L' S' usd lab fs nx up g1 g2 g3 g4 g5 g6)
      · refine go c (by omega) _ fun L' S' usd lab fs nx up g1 g2 g3 g4 g5 g6 => br_f (by decide) (br_t h0 ?_)
        rw [es]
        exact br_f (nI_ge q (by omega)) (fin c L' S' usd lab fs nx up g1 g2 g3 g4 g5 g6)
    · exact br_f h0 (br_f (by decide) (br_f h0 ⟨rfl, zz_inD hc hC hD'⟩))
end
section
/-! diff, clear, the constructors -/
section
variable {n m cap r d e : Nat} {l l1 l2 lb1 lb2 A cl : Nat → Nat} {L S : List Nat}
theorem td_rt_1 (hn : n ≤ 8) (hL : td_L n l) (h : (td_rt l n).length = 1) : 1 ≤ n ∧ l n = 1 := by
  have n1 : 1 ≤ n := by
    rcases Nat.eq_zero_or_pos n with z | z
    · unfold td_rt at h
      rw [lk_ch_0 fun w w1 w2 y => by have := td_all_i y.1; omega] at h
      exact absurd h (by decide)
    · exact z
  refine ⟨n1, ?_⟩
  obtain ⟨b1, b2, b3, b4⟩ := td_bk_s hn hL 1 (by omega)
  have e : td_bk l n 1 = l n := by
    show l (n + 1 - 1) = l n
    rw [show n + 1 - 1 = n by omega]
  rw [e] at b1 b2 b3 b4
  rcases Nat.lt_or_ge (l n) 2 with z | z
  · omega
  · have root : td_up (td_all n) l (l n - 1) = 0 := td_up_0 fun w w1 w2 w3 => by
      have := b3 w (by omega) (td_all_i w3)
      omega
    have Ln := hL n n1 (Nat.le_refl _)
    have mem : (l n - 1) ∈ lk_ch (td_all n) (td_up (td_all n) l) 0 1 (l n - 1) := lk_ch_m.mpr ⟨by omega, by omega, td_all_t (by omega), root⟩
    have e9 : lk_ch (td_all n) (td_up (td_all n) l) 0 1 8 = lk_ch (td_all n) (td_up (td_all n) l) 0 1 ((l n - 1) + (9 - l n)) := by
      have e8 : 8 = (l n - 1) + (9 - l n) := by omega
      rw [← e8]
    unfold td_rt at h
    rw [e9, lk_ch_a, show 1 + (l n - 1) = l n by omega, List.length_append, b4] at h
    have h0 : lk_ch (td_all n) (td_up (td_all n) l) 0 1 (l n - 1) = [] := List.length_eq_zero_iff.mp (by omega)
    rw [h0] at mem
    exact absurd mem List.not_mem_nil
theorem lk_K_0 {b : Nat} {fs nx up : Nat → Int32} (h : fs b = 0) : lk_K b (td_all 0) (td_up (td_all 0) l) (fun v => v) fs nx up := by
  have e : ∀ q, lk_ch (td_all 0) (td_up (td_all 0) l) q 1 8 = [] := fun q => lk_ch_0 fun w w1 w2 y => by
    have := td_all_i y.1
    omega
  refine ⟨fun q hq => ?_, fun v v1 v8 vP => by have := td_all_i vP; omega⟩
  rw [e q]
  refine ⟨?_, trivial⟩
  rcases hq with z | z
  · rw [z, Nat.add_zero]
    exact h
  · have := td_all_i z.2.2
    omega
theorem td_rt_0 : (td_rt l 0).length = 0 := by
  unfold td_rt
  rw [lk_ch_0 fun w w1 w2 y => by have := td_all_i y.1; omega]
  rfl
theorem td_src_n {w : Nat} (hw : 1 ≤ w) (h0 : ∀ v, v < 1 ∨ 8 < v → A v = 0) : (∀ v, A v ≠ w) ↔ td_src A w = 0 := by
  rw [td_src_0]
  refine ⟨fun h v _ _ => h v, fun h v => ?_⟩
  by_cases c : 1 ≤ v ∧ v ≤ 8
  · exact h v c.1 c.2
  · rw [h0 v (by omega)]
    omega
end
section
variable {n m cap r d e : Nat} {l1 l2 lb1 lb2 A cl : Nat → Nat} {L S : List Nat} {xcap xrel xdel xins xdif xtsk xscl xopc xpos xpad xpgl : Int32} {xfst xnxt xup xlab xusd xrts xlft xfor xtre xmat xm1 xm2 xtI xtJ xc1 xc2 xscr xopA xpag : Nat → Int32} {ycap yrel ydel yins ydif ytot ypos ylen : Int32} {ycnt yrts ylow ylab ymap yop ypic yend yout : Nat → Int32}
theorem xw_df50 {post : Int32 → SX → Prop} (h : ∀ c1 c2, (∀ w, w < 9 → c1 w = 0 ∧ c2 w = 0) → wpX_resetWork (fun u => post 0 u) (xcap, xrel, xdel, xins, xdif, xtsk, xscl, xopc, xpos, xpad, xpgl, xfst, xnxt, xup, xlab, xusd, xrts, xlft, xfor, xtre, xmat, xm1, xm2, xtI, xtJ, c1, c2, xscr, xopA, xpag)) :
    ∀ g v c1 c2, v + g = 9 → (∀ w, w < v → c1 w = 0 ∧ c2 w = 0) → wX_diff_50 post xcap xrel xdel xins xdif xtsk xscl xopc xpos xpad xpgl (g + 1) (nI v) xfst xnxt xup xlab xusd xrts xlft xfor xtre xmat xm1 xm2 xtI xtJ c1 c2 xscr xopA xpag := by
  intro g
  induction g with
  | zero =>
    intro v c1 c2 hv h1
    have ev : v = 9 := by omega
    subst ev
    unfold wX_diff_50
    exact br_t (nI_le (a := 9) (Nat.le_refl _) (by omega)) (h c1 c2 h1)
  | succ g ih =>
    intro v c1 c2 hv h1
    unfold wX_diff_50
    rw [nI_clamp (n := v) (by omega)]
    refine br_f (nI_ge (b := 9) (by omega) (by decide)) ⟨vp_in_nI (by omega) (by omega), nm_e ⟨vp_in_nI (by omega) (by omega), nm_e (nm_r (nI_1 v) (ih (v + 1) _ _ (by omega) fun w hw => ?_))⟩⟩
    by_cases c : w = v
    · rw [c, pk_us, pk_us]
      exact ⟨rfl, rfl⟩
    · rw [pk_un c, pk_un c]
      exact h1 w (by omega)
theorem xw_cr7 {post : SX → Prop} (h : ∀ fs us, (fs 0 = 0 ∧ fs 17 = 0 ∧ fs 34 = 0) → (us 0 = 0 ∧ us 1 = 0) → post (xcap, xrel, xdel, xins, xdif, xtsk, 0, 0, 0, 0, xpgl, fs, xnxt, xup, xlab, us, upd (upd xrts 0 0) 1 0, xlft, xfor, xtre, xmat, xm1, xm2, xtI, xtJ, xc1, xc2, xscr, xopA, xpag)) :
    ∀ g v fs us, v + g = 3 → (∀ w, w < v → fs (w * 17) = 0 ∧ us w = 0) → wX_clear_7 post xcap xrel xdel xins xdif xtsk xscl xopc xpos xpad xpgl (g + 1) (nI v) fs xnxt xup xlab us xrts xlft xfor xtre xmat xm1 xm2 xtI xtJ xc1 xc2 xscr xopA xpag := by
  intro g
  induction g with
  | zero =>
    intro v fs us hv h1
    have ev : v = 3 := by omega
    subst ev
    unfold wX_clear_7
    have a0 := h1 0 (by omega)
    have a1 := h1 1 (by omega)
    have a2 := h1 2 (by omega)
    exact br_t (nI_le (a := 3) (Nat.le_refl _) (by omega)) (nm_e (nm_e (h fs us ⟨a0.1, a1.1, a2.1⟩ ⟨a0.2, a1.2⟩)))
  | succ g ih =>
    intro v fs us hv h1
    unfold wX_clear_7
    rw [show nI v * 17 = nI (v * 17) from pk_mul v 17, nI_clamp (n := v * 17) (by omega), nI_clamp (n := v) (by omega)]
    refine br_f (nI_ge (b := 3) (by omega) (by decide)) ⟨vp_in_nI (by omega) (by omega), nm_e ⟨vp_in_nI (by omega) (by omega), nm_e (nm_r (nI_1 v) (ih (v + 1) _ _ (by omega) fun w hw => ?_))⟩⟩
    by_cases c : w = v
    · rw [c, pk_us, pk_us]
      exact ⟨rfl, rfl⟩
    · rw [pk_un (by omega), pk_un c]
      exact h1 w (by omega)
theorem yw_cr45 {post : SY → Prop} (h : ∀ mp, (∀ k, k < 30 → mp k = 0) → post (ycap, yrel, ydel, yins, ydif, ytot, ypos, ylen, ycnt, yrts, ylow, ylab, mp, yop, ypic, yend, yout)) :
    ∀ g v mp, v + g = 30 → (∀ k, k < v → mp k = 0) → wY_clear_45 post ycap yrel ydel yins ydif ytot ypos ylen (g + 1) (nI v) ycnt yrts ylow ylab mp yop ypic yend yout := by
  intro g
  induction g with
  | zero =>
    intro v mp hv h1
    have ev : v = 30 := by omega
    subst ev
    unfold wY_clear_45
    exact br_t (nI_le (a := 30) (Nat.le_refl _) (by omega)) (h mp h1)
  | succ g ih =>
    intro v mp hv h1
    unfold wY_clear_45
    rw [nI_clamp (n := v) (by omega)]
    refine br_f (nI_ge (b := 30) (by omega) (by decide)) ⟨vp_in_nI (by omega) (by omega), nm_e (nm_r (nI_1 v) (ih (v + 1) _ (by omega) fun w hw => ?_))⟩
    by_cases c : w = v
    · rw [c, pk_us]
    · rw [pk_un c]
      exact h1 w (by omega)
theorem rl_C_0 (h1 : 1 ≤ cap) (h8 : cap ≤ 8) (f0 : xfst 0 = 0) (f1 : xfst 17 = 0) (u0 : xusd 0 = 0) (u1 : xusd 1 = 0) (c1 : ycnt 1 = 0) (c2 : ycnt 2 = 0) (r0 : xrts 0 = 0) (r1 : xrts 1 = 0) (q1 : yrts 1 = 0) (q2 : yrts 2 = 0) (he : yend 0 = 0) : rl_C cap 0 0 l1 l2 lb1 lb2 xfst xnxt xup xlab xusd xrts xlft ycnt yrts ylow ylab yend := by
  have z : ∀ l, nI (td_rt l 0).length = 0 := fun l => by
    rw [td_rt_0]
    rfl
  refine ⟨h1, h8, by omega, by omega, ⟨by omega, by omega, fun v a b => by omega, fun v a b => by omega, fun v a b => by omega, fun v a b => by omega⟩, ⟨by omega, by omega, fun v a b => by omega, fun v a b => by omega, fun v a b => by omega, fun v a b => by omega⟩, ⟨u0, u1, c1, c2⟩, ?_, lk_K_0 f0, lk_K_0 f1, he⟩
  rw [z, z]
  exact ⟨r0, r1, q1, q2⟩
end
theorem i_vc_clear {k : Nat} {u : SX} {v : SY} (I : i_Rel k u v) (hk : k + 4 ≤ 2052) : wpX_clear (fun u' => wpY_clear (fun v' => i_Rel (k + 4) u' v') v) u := by
  have key : ∀ (cap r d e : Nat) (l1 l2 lb1 lb2 : Nat → Nat) (xdif xtsk xscl xopc xpos xpad xpgl : Int32) (xfst xnxt xup xlab xusd xrts xlft xfor xtre xmat xm1 xm2 xtI xtJ xc1 xc2 xscr xopA xpag : Nat → Int32) (ydif ytot ypos ylen : Int32) (ycnt yrts ylow ylab ymap yop ypic yend yout : Nat → Int32), (r ≤ 9 ∧ d ≤ 9 ∧ e ≤ 9) → 1 ≤ cap → cap ≤ 8 → yend 0 = 0 →
      wpX_clear (fun u' => wpY_clear (fun v' => i_Rel (k + 4) u' v') (nI cap, nI r, nI d, nI e, ydif, ytot, ypos, ylen, ycnt, yrts, ylow, ylab, ymap, yop, ypic, yend, yout)) (nI cap, nI r, nI d, nI e, xdif, xtsk, xscl, xopc, xpos, xpad, xpgl, xfst, xnxt, xup, xlab, xusd, xrts, xlft, xfor, xtre, xmat, xm1, xm2, xtI, xtJ, xc1, xc2, xscr, xopA, xpag) := by
    intro cap r d e l1 l2 lb1 lb2 xdif xtsk xscl xopc xpos xpad xpgl xfst xnxt xup xlab xusd xrts xlft xfor xtre xmat xm1 xm2 xtI xtJ xc1 xc2 xscr xopA xpag ydif ytot ypos ylen ycnt yrts ylow ylab ymap yop ypic yend yout hc h1 h8 hy
    refine ⟨_, xw_cr7 ?_ 3 0 xfst xusd rfl (fun w hw => by omega)⟩
    intro fs us hf hu
    refine nm_e (nm_e (nm_e (nm_e ⟨_, yw_cr45 ?_ 30 0 ymap rfl (fun w hw => by omega)⟩)))
    intro mp hmp
    exact zz_inF (n := 0) (m := 0) (l1 := l1) (l2 := l2) (lb1 := lb1) (lb2 := lb2) hc (rl_C_0 h1 h8 hf.1 hf.2.1 hu.1 hu.2 pk_us ((pk_un (by decide)).trans pk_us) ((pk_un (by decide)).trans pk_us) pk_us pk_us ((pk_un (by decide)).trans pk_us) hy) ⟨hf.2.2, fun k a b => hmp k b⟩
  refine zz_el (P := fun u v => wpX_clear (fun u' => wpY_clear (fun v' => i_Rel (k + 4) u' v') v) u) ?_ ?_ I
  · intro cap r d e n m l1 l2 lb1 lb2 xtsk xpgl xfst xnxt xup xlab xusd xrts xlft xfor xtre xmat xm1 xm2 xtI xtJ xc1 xc2 xscr xopA xpag ylen ycnt yrts ylow ylab ymap yop ypic yend yout hc hC hF
    exact key _ _ _ _ l1 l2 lb1 lb2 _ _ _ _ _ _ _ _ _ _ _ _ _ _ _ _ _ _ _ _ _ _ _ _ _ _ _ _ _ _ _ _ _ _ _ _ _ _ _ hc hC.1 hC.2.1 hC.2.2.2.2.2.2.2.2.2.2
  · intro cap r d e n m l1 l2 lb1 lb2 A cl L S xtsk xpgl xfst xnxt xup xlab xusd xrts xlft xfor xtre xmat xm1 xm2 xtI xtJ xc1 xc2 xscr xopA xpag ylen ycnt yrts ylow ylab ymap yop ypic yend yout hc hC hD
    exact key _ _ _ _ l1 l2 lb1 lb2 _ _ _ _ _ _ _ _ _ _ _ _ _ _ _ _ _ _ _ _ _ _ _ _ _ _ _ _ _ _ _ _ _ _ _ _ _ _ _ hc hC.1 hC.2.1 hC.2.2.2.2.2.2.2.2.2.2
def zz_cl (x lo hi : Int32) : Int32 := if lo ≤ x then (if x ≤ hi then x else hi) else lo
theorem zz_cl_n {x lo hi : Int32} {a b : Nat} (hl : lo = nI a) (hh : hi = nI b) (hab : a ≤ b) (hb : b < 2 ^ 31) : ∃ c, a ≤ c ∧ c ≤ b ∧ zz_cl x lo hi = nI c := by
  subst hl hh
  unfold zz_cl
  by_cases h1 : nI a ≤ x
  · rw [if_pos h1]
    by_cases h2 : x ≤ nI b
    · rw [if_pos h2]
      have h0 : ¬ x < 0 := fun z => by
        have q := Int32.le_iff_toInt_le.mp h1
        have q2 := Int32.lt_iff_toInt_lt.mp z
        rw [nI_toInt (by omega)] at q
        have : (0 : Int32).toInt = 0 := by decide
        omega
      obtain ⟨c, c1, rfl⟩ := nI_of h0
      exact ⟨c, (nI_leI (by omega) c1).mp h1, (nI_leI c1 hb).mp h2, rfl⟩
    · rw [if_neg h2]
      exact ⟨b, hab, Nat.le_refl _, rfl⟩
  · rw [if_neg h1]
    exact ⟨a, Nat.le_refl _, hab, rfl⟩
theorem xw_clamp {post : Int32 → Prop} {u : SX} {x lo hi : Int32} (h : post (zz_cl x lo hi)) : wpX_clamp post u x lo hi := by
  unfold wpX_clamp
  unfold zz_cl at h
  refine br_c (fun h1 => br_c (fun h2 => ?_) (fun h2 => ?_)) (fun h1 => ?_)
  · rw [if_pos h1, if_pos h2] at h
    exact h
  · rw [if_pos h1, if_neg h2] at h
    exact h
  · rw [if_neg h1] at h
    exact h
theorem yw_clamp {post : Int32 → Prop} {u : SY} {x lo hi : Int32} (h : post (zz_cl x lo hi)) : wpY_clamp post u x lo hi := by
  unfold wpY_clamp
  unfold zz_cl at h
  refine br_c (fun h1 => br_c (fun h2 => ?_) (fun h2 => ?_)) (fun h1 => ?_)
  · rw [if_pos h1, if_pos h2] at h
    exact h
  · rw [if_pos h1, if_neg h2] at h
    exact h
  · rw [if_neg h1] at h
    exact h
theorem i_vc0 (k0 : Int32) (k1 : Int32) (k2 : Int32) (k3 : Int32) : wpX_init (fun u => wpY_init (fun v => i_Rel 4 u v) k0 k1 k2 k3) k0 k1 k2 k3 := by
  unfold wpX_init
  refine xw_clamp (xw_clamp (xw_clamp (xw_clamp ?_)))
  unfold wpY_init
  refine yw_clamp (yw_clamp (yw_clamp (yw_clamp ?_)))
  obtain ⟨cap, c1, c2, ec⟩ := zz_cl_n (x := k0) (lo := 1) (hi := 8) (a := 1) (b := 8) rfl rfl (by omega) (by omega)
  obtain ⟨r, r1, r2, er⟩ := zz_cl_n (x := k1) (lo := 0) (hi := 9) (a := 0) (b := 9) rfl rfl (by omega) (by omega)
  obtain ⟨d, d1, d2, ed⟩ := zz_cl_n (x := k2) (lo := 0) (hi := 9) (a := 0) (b := 9) rfl rfl (by omega) (by omega)
  obtain ⟨e, e1, e2, ee⟩ := zz_cl_n (x := k3) (lo := 0) (hi := 9) (a := 0) (b := 9) rfl rfl (by omega) (by omega)
  rw [ec, er, ed, ee]
  exact zz_inF (n := 0) (m := 0) (l1 := fun v => v) (l2 := fun v => v) (lb1 := fun _ => 0) (lb2 := fun _ => 0) ⟨r2, d2, e2⟩ (rl_C_0 c1 c2 rfl rfl rfl rfl rfl rfl rfl rfl rfl rfl rfl) ⟨rfl, fun _ _ _ => rfl⟩
end
section
/-! diff -/
theorem i_vc_diff {k : Nat} {u : SX} {v : SY} (I : i_Rel k u v) (hk : k + 4 ≤ 2052) : wpX_diff (fun r u' => wpY_diff (fun r' v' => r' = r ∧ i_Rel (k + 4) u' v') v) u := by
  refine zz_el (P := fun u v => wpX_diff (fun r u' => wpY_diff (fun r' v' => r' = r ∧ i_Rel (k + 4) u' v') v) u) ?_ ?_ I
  · intro cap r d e n m l1 l2 lb1 lb2 xtsk xpgl xfst xnxt xup xlab xusd xrts xlft xfor xtre xmat xm1 xm2 xtI xtJ xc1 xc2 xscr xopA xpag ylen ycnt yrts ylow ylab ymap yop ypic yend yout hc hC hF
    have hn := hC.2.2.2.2.1.1
    have hm := hC.2.2.2.2.1.2.1
    have E := hC.2.2.2.2.1
    have G := hC.2.2.2.2.2.1
    obtain ⟨u0, u1, c1, c2⟩ := hC.2.2.2.2.2.2.1
    obtain ⟨q0, q1, q2, q3⟩ := hC.2.2.2.2.2.2.2.1
    have K0 := hC.2.2.2.2.2.2.2.2.1
    have K1 := hC.2.2.2.2.2.2.2.2.2.1
    have a8 : (td_rt l1 n).length ≤ 8 := lk_ch_len
    have b8 : (td_rt l2 m).length ≤ 8 := lk_ch_len
    have R := zz_inF (k := k + 4) (xtsk := xtsk) (xpgl := xpgl) (xfor := xfor) (xtre := xtre) (xmat := xmat) (xm1 := xm1) (xm2 := xm2) (xtI := xtI) (xtJ := xtJ) (xc1 := xc1) (xc2 := xc2) (xscr := xscr) (xopA := xopA) (xpag := xpag) (ylen := ylen) (yop := yop) (ypic := ypic) (yout := yout) hc hC hF
    refine br_t rfl ?_
    dsimp only
    rw [q0, q1]
    refine pk_eq (td_rt l1 n).length 1 (fun g1 => pk_eq (td_rt l2 m).length 1 (fun g2 => ?_) (fun g2 => ?_)) (fun g1 => ?_)
    · obtain ⟨n1, r1⟩ := td_rt_1 hn E.2.2.1 g1
      obtain ⟨m1, r2⟩ := td_rt_1 hm E.2.2.2.1 g2
      have U1 : ∀ v, 1 ≤ v → v ≤ n → xup v = nI (td_up (td_all n) l1 v) := fun v a b => by
        have := K0.2 v a (by omega) (td_all_t b)
        rw [Nat.zero_add] at this
        exact this
      have U2 : ∀ v, 1 ≤ v → v ≤ m → xup (17 + v) = nI (td_up (td_all m) l2 v) := fun v a b => K1.2 v a (by omega) (td_all_t b)
      have hV := td_M_V l1 l2 d e (td_rn r lb1 lb2) 1 n 1 m
      have mA : ∀ v, (td_M l1 l2 d e (td_rn r lb1 lb2)) 1 n 1 m v ≤ m := fun v => by
        by_cases c : (td_M l1 l2 d e (td_rn r lb1 lb2)) 1 n 1 m v = 0
        · omega
        · exact (hV.1 v c).2.2.2
      have m0 : ∀ v, v < 1 ∨ 8 < v → (td_M l1 l2 d e (td_rn r lb1 lb2)) 1 n 1 m v = 0 := fun v hv => td_V_out hV (by omega)
      refine xw_comp E hc.1 hc.2.1 hc.2.2 U1 U2 u0 u1 fun F1 mat1 tre1 hT1 => ?_
      refine xw_choose n1 m1 E hc.1 hc.2.1 hc.2.2 r1 r2 u0 u1 hT1 fun tsk F2 mat2 tre2 xm1' xm2' xtI' xtJ' hT2 h1 h2 => ?_
      refine xw_wscript (A := (td_M l1 l2 d e (td_rn r lb1 lb2)) 1 n 1 m) E h1 mA (fun w a b => (h2 w a b).trans (td_src_n a m0)) U2 u0 u1 fun scr oa hs ho => ⟨_, xw_df50 ?_ 9 0 xc1 xc2 rfl (fun w hw => by omega)⟩
      intro c1' c2' hcc
      refine xw_reset (A := (td_M l1 l2 d e (td_rn r lb1 lb2)) 1 n 1 m) (l2 := l2) (lb2 := lb2) (m := m) hn u0 (fun v a b => (E.2.2.2.2.1 v a b).2.1) K0 fun usd fs nx up lab w1 w2 w3 w4 => ?_
      refine yw_diff G hc.1 hc.2.1 hc.2.2 n1 m1 r1 r2 c1 c2 (by rw [q2, g1]; rfl) (by rw [q3, g2]; rfl) fun mp op p1 p2 p3 => ⟨rfl, ?_⟩
      exact zz_inD (A := (td_M l1 l2 d e (td_rn r lb1 lb2)) 1 n 1 m) (cl := fun _ => 0) (L := []) (S := td_OL ((td_M l1 l2 d e (td_rn r lb1 lb2)) 1 n 1 m) lb1 lb2 n m) hc (rl_C_k hC w2 w3 w4) ⟨⟨n1, m1, r1, r2, rfl⟩, fun i j a b c d => (hT2 i j a b c d).2, h1, hs, ho, p1, p3, rfl, w1, td_V_0, fun v a b => (hcc v (by omega)).1, fun w a b => by
        rw [(hcc w (by omega)).2, td_src_0.mpr (fun v _ _ => by show (0 : Nat) ≠ w; omega)]
        rfl, fun v a b => by
        rw [p2 _ (by omega), hF.2 _ (by omega) (by omega)]
        rfl⟩
    · refine br_t rfl ?_
      dsimp only
      rw [q2, q3, g1]
      refine br_t rfl (br_f ?_ ⟨rfl, R⟩)
      rw [show (1 : Int32) = nI 1 from rfl, nI_eq (by omega) (by omega)]
      exact g2
    · refine br_t rfl ?_
      dsimp only
      rw [q2]
      refine br_f ?_ ⟨rfl, R⟩
      rw [show (1 : Int32) = nI 1 from rfl, nI_eq (by omega) (by omega)]
      exact g1
  · intro cap r d e n m l1 l2 lb1 lb2 A cl L S xtsk xpgl xfst xnxt xup xlab xusd xrts xlft xfor xtre xmat xm1 xm2 xtI xtJ xc1 xc2 xscr xopA xpag ylen ycnt yrts ylow ylab ymap yop ypic yend yout hc hC hD
    exact br_f (by decide) (br_f (by decide) ⟨rfl, zz_inD hc hC hD⟩)
end
section
/-! add -/
theorem td_bk_2 {n k : Nat} {l : Nat → Nat} (hn : n ≤ 8) (hL : td_L n l) (h : k < (td_rt l n).length) : 2 ≤ td_bk l n k := by
  obtain ⟨b1, b2, b3, b4⟩ := td_bk_s hn hL k (by omega)
  rcases Nat.lt_or_ge (td_bk l n k) 2 with z | z
  · have e : td_bk l n k = 1 := by omega
    rw [e] at b4
    have : (td_rt l n).length = k := b4
    omega
  · exact z
section
variable {n k rg b sd R cap : Nat} {l : Nat → Nat} {xcap xrel xdel xins xdif xtsk xscl xopc xpos xpad xpgl : Int32} {xfst xnxt xup xlab xusd xrts xlft xfor xtre xmat xm1 xm2 xtI xtJ xc1 xc2 xscr xopA xpag : Nat → Int32} {ycap yrel ydel yins ydif ytot ypos ylen : Int32} {ycnt yrts ylow ylab ymap yop ypic yend yout : Nat → Int32}
theorem xw_addf {post : Int32 → SX → Prop} {x2 x3 : Int32} (hrg : rg ≤ 1) (hb : b = rg * 17) (hn : n ≤ cap) (hcap : cap ≤ 8) (hL : td_L n l) (hu : xusd rg = nI n) (hR : xrts rg = nI (td_rt l n).length) (hK : lk_K b (td_all n) (td_up (td_all n) l) (fun v => v) xfst xnxt xup) (hl : ∀ v, 1 ≤ v → v ≤ n → xlft (b + v) = nI (l v))
    (h1 : (x2 < 0 ∨ ¬ x2 ≤ 25 ∨ ¬ 0 ≤ x3) → post 1 (nI cap, xrel, xdel, xins, xdif, xtsk, xscl, xopc, xpos, xpad, xpgl, xfst, xnxt, xup, xlab, xusd, xrts, xlft, xfor, xtre, xmat, xm1, xm2, xtI, xtJ, xc1, xc2, xscr, xopA, xpag)) (h3 : ¬ x2 < 0 → x2 ≤ 25 → 0 ≤ x3 → cap ≤ n → post 3 (nI cap, xrel, xdel, xins, xdif, xtsk, xscl, xopc, xpos, xpad, xpgl, xfst, xnxt, xup, xlab, xusd, xrts, xlft, xfor, xtre, xmat, xm1, xm2, xtI, xtJ, xc1, xc2, xscr, xopA, xpag)) (h4 : ¬ x2 < 0 → x2 ≤ 25 → 0 ≤ x3 → n < cap → ¬ x3 ≤ nI (td_rt l n).length → post 4 (nI cap, xrel, xdel, xins, xdif, xtsk, xscl, xopc, xpos, xpad, xpgl, xfst, xnxt, xup, xlab, xusd, xrts, xlft, xfor, xtre, xmat, xm1, xm2, xtI, xtJ, xc1, xc2, xscr, xopA, xpag))
    (h : ∀ k, ¬ x2 < 0 → x2 ≤ 25 → x3 = nI k → k ≤ (td_rt l n).length → n < cap → ∀ fs nx up, lk_K b (td_all (n + 1)) (td_up (td_all (n + 1)) (td_set l (n + 1) (td_bk l n k))) (fun v => v) fs nx up → (∀ k, k < b ∨ b + 17 ≤ k → fs k = xfst k ∧ nx k = xnxt k ∧ up k = xup k) → (td_rt (td_set l (n + 1) (td_bk l n k)) (n + 1)).length = (td_rt l n).length + 1 - k →
      post 0 (nI cap, xrel, xdel, xins, xdif, xtsk, xscl, xopc, xpos, xpad, xpgl, fs, nx, up, upd xlab (b + (n + 1)) x2, upd xusd rg (nI (n + 1)), upd xrts rg (nI ((td_rt l n).length + 1 - k)), upd xlft (b + (n + 1)) (nI (td_bk l n k)), xfor, xtre, xmat, xm1, xm2, xtI, xtJ, xc1, xc2, xscr, xopA, xpag)) :
    wX_add_21 post (nI (rg + 1)) x2 x3 (nI cap) xrel xdel xins xdif xtsk xscl xopc xpos xpad xpgl xfst xnxt xup xlab xusd xrts xlft xfor xtre xmat xm1 xm2 xtI xtJ xc1 xc2 xscr xopA xpag := by
  have r8 : (td_rt l n).length ≤ 8 := lk_ch_len
  have pre : ∀ (l0 : ¬ x2 < 0) (l25 : x2 ≤ 25) (k0 : 0 ≤ x3), (¬ n < cap ∨ ¬ x3 ≤ nI (td_rt l n).length) → wX_add_21 post (nI (rg + 1)) x2 x3 (nI cap) xrel xdel xins xdif xtsk xscl xopc xpos xpad xpgl xfst xnxt xup xlab xusd xrts xlft xfor xtre xmat xm1 xm2 xtI xtJ xc1 xc2 xscr xopA xpag := by
    intro l0 l25 k0 hh
    unfold wX_add_21
    refine br_f l0 (br_t l25 (br_t k0 (nm_r (nI_pred rg) ?_)))
    rw [nI_clamp (n := rg) (by omega), hu, hR]
    refine ⟨vp_in_nI (by omega) (by omega), pk_lt n cap (fun c => ⟨vp_in_nI (by omega) (by omega), br_f ?_ (h4 l0 l25 k0 c ?_)⟩) (fun c => h3 l0 l25 k0 c)⟩
    · rcases hh with z | z
      · exact absurd c z
      · exact z
    · rcases hh with z | z
      · exact absurd c z
      · exact z
  by_cases l0 : x2 < 0
  · unfold wX_add_21
    exact br_t l0 (h1 (Or.inl l0))
  · by_cases l25 : x2 ≤ 25
    · by_cases k0 : 0 ≤ x3
      · by_cases c1 : n < cap
        · by_cases c2 : x3 ≤ nI (td_rt l n).length
          · obtain ⟨j, j1, rfl⟩ := nI_of (x := x3) (Int32.not_lt.mpr k0)
            have jR : j ≤ (td_rt l n).length := (nI_leI j1 (by omega)).mp c2
            exact xw_add21 hrg hb c1 hcap hL hu hR hK hl l0 l25 jR (h j l0 l25 rfl jR c1)
          · exact pre l0 l25 k0 (Or.inr c2)
        · exact pre l0 l25 k0 (Or.inl c1)
      · unfold wX_add_21
        exact br_f l0 (br_t l25 (br_f k0 (h1 (Or.inr (Or.inr k0)))))
    · unfold wX_add_21
      exact br_f l0 (br_f l25 (h1 (Or.inr (Or.inl l25))))
theorem yw_a79 {post : Int32 → SY → Prop} {x2 : Int32} (hsd : sd ≤ 2) (hn : n < 8) (hL : td_L n l) (hR : yrts sd = nI (td_rt l n).length) (hl : ∀ v, 1 ≤ v → v ≤ n → ylow (sd * 10 + v) = nI (l v)) (hk : k ≤ (td_rt l n).length)
    (h : post 0 (ycap, yrel, ydel, yins, ydif, ytot, ypos, ylen, upd ycnt sd (nI (n + 1)), upd yrts sd (nI ((td_rt l n).length + 1 - k)), upd ylow (sd * 10 + (n + 1)) (nI (td_bk l n k)), upd ylab (sd * 10 + (n + 1)) x2, ymap, yop, ypic, yend, yout)) :
    ∀ g j, j + g = k → wY_add_79 post (nI sd) x2 (nI k) (nI (n + 1)) ycap yrel ydel yins ydif ytot ypos ylen ycnt yrts ylow ylab ymap yop ypic yend yout (g + 1) (nI (td_bk l n j)) (nI j) := by
  have r8 : (td_rt l n).length ≤ 8 := lk_ch_len
  have ix : ∀ w, nI sd * 10 + nI w = nI (sd * 10 + w) := fun w => by rw [show (10 : Int32) = nI 10 from rfl, pk_mul, nI_add]
  intro g
  induction g with
  | zero =>
    intro j hj
    have ej : j = k := by omega
    subst ej
    unfold wY_add_79
    rw [ix, nI_clamp (n := sd * 10 + (n + 1)) (by omega), nI_clamp (n := sd) (by omega), hR]
    refine br_t (nI_le (Nat.le_refl _) (by omega)) ⟨vp_in_nI (by omega) (by omega), nm_e ⟨vp_in_nI (by omega) (by omega), nm_e ⟨vp_in_nI (by omega) (by omega), nm_e ⟨vp_in_nI (by omega) (by omega), vp_in_nI (by omega) (by omega), nm_r (e' := upd yrts sd (nI ((td_rt l n).length + 1 - j))) ?_ h⟩⟩⟩⟩
    rw [Int32.sub_eq_add_neg, ← Int32.add_assoc, ← Int32.sub_eq_add_neg, nI_1, pk_sub (by omega)]
  | succ g ih =>
    intro j hj
    have t2 := td_bk_2 (l := l) (k := j) (by omega) hL (by omega)
    obtain ⟨b1, b2, b3, b4⟩ := td_bk_s (by omega : n ≤ 8) hL j (by omega)
    have e : td_bk l n (j + 1) = l (td_bk l n j - 1) := rfl
    unfold wY_add_79
    rw [ix (td_bk l n j), xw_s1 (by omega), nI_clamp (n := sd * 10 + td_bk l n j - 1) (by omega), show sd * 10 + td_bk l n j - 1 = sd * 10 + (td_bk l n j - 1) by omega, hl (td_bk l n j - 1) (by omega) (by omega), ← e]
    exact br_f (nI_ge (by omega) (by omega)) ⟨vp_in_nI (by omega) (by omega), nm_e (nm_r (nI_1 j) (ih (j + 1) (by omega)))⟩
theorem yw_addp {post : Int32 → SY → Prop} {x2 x3 : Int32} (hsd1 : 1 ≤ sd) (hsd : sd ≤ 2) (hn : n ≤ cap) (hcap : cap ≤ 8) (hc : ycnt sd = nI n) (hR : yrts sd = nI (td_rt l n).length)
    (h1 : (x2 < 0 ∨ ¬ x2 ≤ 25 ∨ ¬ 0 ≤ x3) → post 1 (nI cap, yrel, ydel, yins, 0, ytot, ypos, ylen, ycnt, yrts, ylow, ylab, ymap, yop, ypic, yend, yout)) (h3 : ¬ x2 < 0 → x2 ≤ 25 → 0 ≤ x3 → cap ≤ n → post 3 (nI cap, yrel, ydel, yins, 0, ytot, ypos, ylen, ycnt, yrts, ylow, ylab, ymap, yop, ypic, yend, yout)) (h4 : ¬ x2 < 0 → x2 ≤ 25 → 0 ≤ x3 → n < cap → ¬ x3 ≤ nI (td_rt l n).length → post 4 (nI cap, yrel, ydel, yins, 0, ytot, ypos, ylen, ycnt, yrts, ylow, ylab, ymap, yop, ypic, yend, yout))
    (h : ¬ x2 < 0 → x2 ≤ 25 → 0 ≤ x3 → n < cap → x3 ≤ nI (td_rt l n).length → ∃ n79, wY_add_79 post (nI sd) x2 x3 (nI (n + 1)) (nI cap) yrel ydel yins 0 ytot ypos ylen ycnt yrts ylow ylab ymap yop ypic yend yout n79 (nI (n + 1)) 0) :
    wpY_add post (nI cap, yrel, ydel, yins, 0, ytot, ypos, ylen, ycnt, yrts, ylow, ylab, ymap, yop, ypic, yend, yout) (nI sd) x2 x3 := by
  have r8 : (td_rt l n).length ≤ 8 := lk_ch_len
  unfold wpY_add
  refine br_t rfl (br_f (nI_nlt (b := 1) hsd1 (by omega)) (br_f (nI_nlt (a := 2) hsd (by omega)) ?_))
  by_cases l0 : x2 < 0
  · exact br_t l0 (h1 (Or.inl l0))
  · refine br_f l0 ?_
    by_cases l25 : x2 ≤ 25
    · refine br_f (Int32.not_lt.mpr l25) ?_
      by_cases k0 : 0 ≤ x3
      · refine br_t k0 ?_
        rw [nI_clamp (n := sd) (by omega), hc, hR]
        refine ⟨vp_in_nI (by omega) (by omega), pk_lt n cap (fun c => ⟨vp_in_nI (by omega) (by omega), br_c (fun c2 => ⟨vp_in_nI (by omega) (by omega), nm_r (nI_1 n) (h l0 l25 k0 c c2)⟩) (fun c2 => h4 l0 l25 k0 c c2)⟩) (fun c => h3 l0 l25 k0 c)⟩
      · exact br_f k0 (h1 (Or.inr (Or.inr k0)))
    · exact br_t (Int32.not_le.mp l25) (h1 (Or.inr (Or.inl l25)))
end
theorem i_vc_add {k : Nat} {u : SX} {v : SY} (I : i_Rel k u v) (hk : k + 4 ≤ 2052) (v1 : Int32) (v2 : Int32) (v3 : Int32) : wpX_add (fun r u' => wpY_add (fun r' v' => r' = r ∧ i_Rel (k + 4) u' v') v v1 v2 v3) u v1 v2 v3 := by
  refine zz_el (P := fun u v => wpX_add (fun r u' => wpY_add (fun r' v' => r' = r ∧ i_Rel (k + 4) u' v') v v1 v2 v3) u v1 v2 v3) ?_ ?_ I
  · intro cap r d e n m l1 l2 lb1 lb2 xtsk xpgl xfst xnxt xup xlab xusd xrts xlft xfor xtre xmat xm1 xm2 xtI xtJ xc1 xc2 xscr xopA xpag ylen ycnt yrts ylow ylab ymap yop ypic yend yout hc hC hF
    have R := zz_inF (k := k + 4) (xtsk := xtsk) (xpgl := xpgl) (xfor := xfor) (xtre := xtre) (xmat := xmat) (xm1 := xm1) (xm2 := xm2) (xtI := xtI) (xtJ := xtJ) (xc1 := xc1) (xc2 := xc2) (xscr := xscr) (xopA := xopA) (xpag := xpag) (ylen := ylen) (yop := yop) (ypic := ypic) (yout := yout) hc hC hF
    obtain ⟨cap1, cap8, ncap, mcap, ⟨a1, a2, a3, a4, a5, a6⟩, ⟨b1, b2, b3, b4, b5, b6⟩, ⟨u0, u1, c1, c2⟩, ⟨q0, q1, q2, q3⟩, K0, K1, ye⟩ := hC
    refine br_t rfl ?_
    dsimp only
    by_cases s1 : v1 = 1
    · refine br_t s1 ?_
      rw [s1]
      refine xw_addf (rg := 0) (b := 0) (n := n) (l := l1) (by omega) rfl ncap cap8 a3 u0 q0 K0 (fun v e1 e2 => by rw [Nat.zero_add]; exact (a5 v e1 e2).1) ?_ ?_ ?_ ?_
      · exact fun g => yw_addp (sd := 1) (n := n) (l := l1) (by omega) (by omega) ncap cap8 c1 q2 (fun _ => ⟨rfl, R⟩) (fun g1 g2 g3 _ => by rcases g with g | g | g <;> contradiction) (fun g1 g2 g3 _ _ => by rcases g with g | g | g <;> contradiction) (fun g1 g2 g3 _ _ => by rcases g with g | g | g <;> contradiction)
      · exact fun l0 l25 k0 g => yw_addp (sd := 1) (n := n) (l := l1) (by omega) (by omega) ncap cap8 c1 q2 (fun g => by rcases g with g | g | g <;> contradiction) (fun _ _ _ _ => ⟨rfl, R⟩) (fun _ _ _ g2 => by omega) (fun _ _ _ g2 => by omega)
      · exact fun l0 l25 k0 g g4 => yw_addp (sd := 1) (n := n) (l := l1) (by omega) (by omega) ncap cap8 c1 q2 (fun g => by rcases g with g | g | g <;> contradiction) (fun _ _ _ g2 => by omega) (fun _ _ _ _ _ => ⟨rfl, R⟩) (fun _ _ _ _ g5 => absurd g5 g4)
      · intro j l0 l25 ej jR nc fs nx up h1 h2 h3
        subst ej
        obtain ⟨t1, t2, t3, t4⟩ := td_bk_s a1 a3 j jR
        have k0 : (0 : Int32) ≤ nI j := nI_pos' (by have : (td_rt l1 n).length ≤ 8 := lk_ch_len; omega)
        obtain ⟨lb, lb25, rfl⟩ := nI_of2 (x := v2) (M := 25) (n := 25) (by decide) l0 l25
        refine yw_addp (sd := 1) (n := n) (l := l1) (by omega) (by omega) ncap cap8 c1 q2 (fun g => by rcases g with g | g | g <;> contradiction) (fun _ _ _ g2 => by omega) (fun _ _ _ _ g5 => absurd (nI_le jR (by have : (td_rt l1 n).length ≤ 8 := lk_ch_len; omega)) g5) (fun _ _ _ _ _ => ⟨_, yw_a79 (l := l1) (sd := 1) (by omega) (by omega) a3 q2 (fun v e1 e2 => (b5 v e1 e2).1) jR ⟨rfl, ?_⟩ j 0 (by omega)⟩)
        refine zz_inF (n := n + 1) (m := m) (l1 := td_set l1 (n + 1) (td_bk l1 n j)) (l2 := l2) (lb1 := td_set lb1 (n + 1) lb) (lb2 := lb2) hc ⟨cap1, cap8, by omega, mcap, ⟨by omega, a2, td_L_add a3 t1 t2 t3, a4, fun v e1 e2 => ?_, fun v e1 e2 => ?_⟩, ⟨by omega, a2, td_L_add a3 t1 t2 t3, a4, fun v e1 e2 => ?_, fun v e1 e2 => ?_⟩, ⟨pk_us, (pk_un (by omega)).trans u1, pk_us, (pk_un (by omega)).trans c2⟩, ⟨?_, (pk_un (by omega)).trans q1, ?_, (pk_un (by omega)).trans q3⟩, h1, ?_, ye⟩ ⟨(h2 34 (by omega)).1.trans hF.1, hF.2⟩
        · by_cases c : v = n + 1
          · rw [c, Nat.zero_add, pk_us, pk_us, td_set_s, td_set_s]
            exact ⟨rfl, rfl, lb25⟩
          · rw [pk_un (by omega), pk_un (by omega), td_set_n c, td_set_n c]
            exact a5 v e1 (by omega)
        · rw [pk_un (by omega), pk_un (by omega)]
          exact a6 v e1 e2
        · by_cases c : v = n + 1
          · rw [c, pk_us, pk_us, td_set_s, td_set_s]
            exact ⟨rfl, rfl, lb25⟩
          · rw [pk_un (by omega), pk_un (by omega), td_set_n c, td_set_n c]
            exact b5 v e1 (by omega)
        · rw [pk_un (by omega), pk_un (by omega)]
          exact b6 v e1 e2
        · rw [pk_us, h3]
        · rw [pk_us, h3]
        · exact lk_K_b K1 fun v hv => h2 _ (by omega)
    · by_cases s2 : v1 = 2
      · refine br_f s1 (br_t s2 ?_)
        rw [s2]
        refine xw_addf (rg := 1) (b := 17) (n := m) (l := l2) (by omega) rfl mcap cap8 a4 u1 q1 K1 (fun v e1 e2 => (a6 v e1 e2).1) ?_ ?_ ?_ ?_
        · exact fun g => yw_addp (sd := 2) (n := m) (l := l2) (by omega) (by omega) mcap cap8 c2 q3 (fun _ => ⟨rfl, R⟩) (fun g1 g2 g3 _ => by rcases g with g | g | g <;> contradiction) (fun g1 g2 g3 _ _ => by rcases g with g | g | g <;> contradiction) (fun g1 g2 g3 _ _ => by rcases g with g | g | g <;> contradiction)
        · exact fun l0 l25 k0 g => yw_addp (sd := 2) (n := m) (l := l2) (by omega) (by omega) mcap cap8 c2 q3 (fun g => by rcases g with g | g | g <;> contradiction) (fun _ _ _ _ => ⟨rfl, R⟩) (fun _ _ _ g2 => by omega) (fun _ _ _ g2 => by omega)
        · exact fun l0 l25 k0 g g4 => yw_addp (sd := 2) (n := m) (l := l2) (by omega) (by omega) mcap cap8 c2 q3 (fun g => by rcases g with g | g | g <;> contradiction) (fun _ _ _ g2 => by omega) (fun _ _ _ _ _ => ⟨rfl, R⟩) (fun _ _ _ _ g5 => absurd g5 g4)
        · intro j l0 l25 ej jR nc fs nx up h1 h2 h3
          subst ej
          obtain ⟨t1, t2, t3, t4⟩ := td_bk_s a2 a4 j jR
          have k0 : (0 : Int32) ≤ nI j := nI_pos' (by have : (td_rt l2 m).length ≤ 8 := lk_ch_len; omega)
          obtain ⟨lb, lb25, rfl⟩ := nI_of2 (x := v2) (M := 25) (n := 25) (by decide) l0 l25
          refine yw_addp (sd := 2) (n := m) (l := l2) (by omega) (by omega) mcap cap8 c2 q3 (fun g => by rcases g with g | g | g <;> contradiction) (fun _ _ _ g2 => by omega) (fun _ _ _ _ g5 => absurd (nI_le jR (by have : (td_rt l2 m).length ≤ 8 := lk_ch_len; omega)) g5) (fun _ _ _ _ _ => ⟨_, yw_a79 (l := l2) (sd := 2) (by omega) (by omega) a4 q3 (fun v e1 e2 => (b6 v e1 e2).1) jR ⟨rfl, ?_⟩ j 0 (by omega)⟩)
          refine zz_inF (n := n) (m := m + 1) (l1 := l1) (l2 := td_set l2 (m + 1) (td_bk l2 m j)) (lb1 := lb1) (lb2 := td_set lb2 (m + 1) lb) hc ⟨cap1, cap8, ncap, by omega, ⟨a1, by omega, a3, td_L_add a4 t1 t2 t3, fun v e1 e2 => ?_, fun v e1 e2 => ?_⟩, ⟨a1, by omega, a3, td_L_add a4 t1 t2 t3, fun v e1 e2 => ?_, fun v e1 e2 => ?_⟩, ⟨(pk_un (by omega)).trans u0, pk_us, (pk_un (by omega)).trans c1, pk_us⟩, ⟨(pk_un (by omega)).trans q0, ?_, (pk_un (by omega)).trans q2, ?_⟩, ?_, h1, ye⟩ ⟨(h2 34 (by omega)).1.trans hF.1, hF.2⟩
          · rw [pk_un (by omega), pk_un (by omega)]
            exact a5 v e1 e2
          · by_cases c : v = m + 1
            · rw [c, pk_us, pk_us, td_set_s, td_set_s]
              exact ⟨rfl, rfl, lb25⟩
            · rw [pk_un (by omega), pk_un (by omega), td_set_n c, td_set_n c]
              exact a6 v e1 (by omega)
          · rw [pk_un (by omega), pk_un (by omega)]
            exact b5 v e1 e2
          · by_cases c : v = m + 1
            · rw [c, pk_us, pk_us, td_set_s, td_set_s]
              exact ⟨rfl, rfl, lb25⟩
            · rw [pk_un (by omega), pk_un (by omega), td_set_n c, td_set_n c]
              exact b6 v e1 (by omega)
          · rw [pk_us, h3]
          · rw [pk_us, h3]
          · exact lk_K_b K0 fun v hv => h2 _ (by omega)
      · refine br_f s1 (br_f s2 ?_)
        refine br_t rfl ?_
        rcases zz_ix v1 with g | ⟨i, i1, i2, rfl⟩
        · exact br_t g ⟨rfl, R⟩
        · refine br_f (nI_nlt (b := 1) i1 i2) (br_t (nI_lt (a := 2) ?_ i2) ⟨rfl, R⟩)
          have e1 : i ≠ 1 := fun z => s1 (by rw [z]; rfl)
          have e2 : i ≠ 2 := fun z => s2 (by rw [z]; rfl)
          omega
  · intro cap r d e n m l1 l2 lb1 lb2 A cl L S xtsk xpgl xfst xnxt xup xlab xusd xrts xlft xfor xtre xmat xm1 xm2 xtI xtJ xc1 xc2 xscr xopA xpag ylen ycnt yrts ylow ylab ymap yop ypic yend yout hc hC hD
    exact br_f (by decide) (br_f (by decide) ⟨rfl, zz_inD hc hC hD⟩)
end
section
/-! claim, claimCost -/
def td_okk (l1 l2 : Nat → Nat) (i j x y : Nat) : Prop := (i < x ↔ j < y) ∧ ((l1 i ≤ x ∧ x < i) ↔ (l2 j ≤ y ∧ y < j)) ∧ ((l1 x ≤ i ∧ i < x) ↔ (l2 y ≤ j ∧ j < y))
theorem td_fd_c {f g : Nat → Bool} : ∀ {k lo : Nat}, (∀ x, lo ≤ x → x < lo + k → f x = g x) → td_fd f lo k = td_fd g lo k := by
  intro k
  induction k with
  | zero => exact fun _ => rfl
  | succ k ih =>
    intro lo h
    have e1 : td_fd f lo (k + 1) = if f lo = true then lo else td_fd f (lo + 1) k := rfl
    have e2 : td_fd g lo (k + 1) = if g lo = true then lo else td_fd g (lo + 1) k := rfl
    rw [e1, e2, h lo (Nat.le_refl _) (by omega), ih fun x x1 x2 => h x (by omega) (by omega)]
theorem td_src_c {A B : Nat → Nat} {w : Nat} (h : ∀ v, 1 ≤ v → v ≤ 8 → (A v = w ↔ B v = w)) : td_src A w = td_src B w := by
  unfold td_src
  refine td_fd_c fun x x1 x2 => ?_
  apply Bool.eq_iff_iff.mpr
  rw [beq_iff_eq, beq_iff_eq]
  exact h x x1 (by omega)
section
variable {n m i j x y : Nat} {l1 l2 cl : Nat → Nat}
theorem td_set_V (hV : td_V l1 l2 1 n 1 m cl) (hn : n ≤ 8) (hi1 : 1 ≤ i) (hi : i ≤ n) (hj1 : 1 ≤ j) (hj : j ≤ m) (h0 : cl i = 0) (hs : td_src cl j = 0) : (∀ v w, 1 ≤ v → v ≤ 8 → 1 ≤ w → w ≤ 8 → td_ok l1 l2 (td_set cl i j) v w) ↔ (∀ x, 1 ≤ x → x ≤ n → cl x ≠ 0 → td_okk l1 l2 i j x (cl x)) := by
  have nj : ∀ v, 1 ≤ v → v ≤ 8 → cl v ≠ j := td_src_0.mp hs
  constructor
  · intro h x x1 x2 x3
    have xi : x ≠ i := fun z => x3 (z ▸ h0)
    have o1 := h i x hi1 (by omega) x1 (by omega)
    have o2 := h x i x1 (by omega) hi1 (by omega)
    unfold td_ok at o1 o2
    rw [td_set_s, td_set_n xi] at o1 o2
    have p1 := o1 (Ne.symm xi) (by omega) x3
    have p2 := o2 xi x3 (by omega)
    exact ⟨p1.2.1, p1.2.2, p2.2.2⟩
  · intro h v w v1 v8 w1 w8 hne hv hw
    by_cases cv : v = i
    · have cw : w ≠ i := fun z => hne (cv.trans z.symm)
      rw [cv] at hne ⊢
      rw [td_set_n cw] at hw
      rw [td_set_s, td_set_n cw]
      have rw' := hV.1 w hw
      have o := h w w1 (by omega) hw
      exact ⟨fun z => nj w w1 w8 z.symm, o.1, o.2.1⟩
    · rw [td_set_n cv] at hv
      by_cases cw : w = i
      · rw [cw] at hne ⊢
        rw [td_set_s, td_set_n cv]
        have rv := hV.1 v hv
        have o := h v v1 (by omega) hv
        have nv := nj v v1 v8
        refine ⟨nv, ?_, o.2.2⟩
        have := o.1
        omega
      · rw [td_set_n cw] at hw
        rw [td_set_n cv, td_set_n cw]
        exact td_V_ok hV v w hne hv hw
theorem td_set_V2 (hV : td_V l1 l2 1 n 1 m cl) (hn : n ≤ 8) (hi1 : 1 ≤ i) (hi : i ≤ n) (hj1 : 1 ≤ j) (hj : j ≤ m) (h : ∀ v w, 1 ≤ v → v ≤ 8 → 1 ≤ w → w ≤ 8 → td_ok l1 l2 (td_set cl i j) v w) : td_V l1 l2 1 n 1 m (td_set cl i j) := by
  refine td_ok_V hn (by omega) (fun v hv => ?_) h
  by_cases c : v = i
  · rw [c, td_set_s]
    omega
  · rw [td_set_n c] at hv ⊢
    exact hV.1 v hv
theorem td_set_V0 (hV : td_V l1 l2 1 n 1 m cl) : td_V l1 l2 1 n 1 m (td_set cl i 0) := by
  have k : ∀ v, td_set cl i 0 v ≠ 0 → td_set cl i 0 v = cl v ∧ cl v ≠ 0 := fun v hv => by
    by_cases c : v = i
    · rw [c, td_set_s] at hv
      exact absurd rfl hv
    · rw [td_set_n c] at hv ⊢
      exact ⟨rfl, hv⟩
  refine ⟨fun v hv => ?_, fun v w hvw hv hw => ?_⟩
  · rw [(k v hv).1]
    exact hV.1 v (k v hv).2
  · rw [(k v hv).1, (k w hw).1]
    exact hV.2 v w hvw (k v hv).2 (k w hw).2
end
section
variable {n m i j x y v w : Nat} {r d e : Nat} {l1 l2 lb1 lb2 cl : Nat → Nat} {xcap xrel xdel xins xdif xtsk xscl xopc xpos xpad xpgl : Int32} {xfst xnxt xup xlab xusd xrts xlft xfor xtre xmat xm1 xm2 xtI xtJ xc1 xc2 xscr xopA xpag : Nat → Int32}
theorem xw_anc0 {post : Int32 → Prop} (E : (xw_E n m l1 l2 lb1 lb2 xlft xlab)) (hv1 : 1 ≤ v) (hv : v ≤ n) (hw : w ≤ 100) (h : post (td_b (l1 v ≤ w ∧ w < v))) : wpX_isAncestor post (xcap, xrel, xdel, xins, xdif, xtsk, xscl, xopc, xpos, xpad, xpgl, xfst, xnxt, xup, xlab, xusd, xrts, xlft, xfor, xtre, xmat, xm1, xm2, xtI, xtJ, xc1, xc2, xscr, xopA, xpag) 0 (nI v) (nI w) := by
  obtain ⟨hn, hm, L1, L2, H1, H2⟩ := E
  have k := (H1 v hv1 hv).1
  have t := L1 v hv1 hv
  unfold wpX_isAncestor
  simp only [Int32.zero_add, nI_clamp (show v < 2 ^ 31 by omega), k]
  refine ⟨vp_in_nI (by omega) (by omega), pk_lt w (l1 v) (fun c => ?_) (fun c => pk_le v w (fun c2 => ?_) (fun c2 => ?_))⟩
  · rw [td_b_0.mpr (by omega)] at h
    exact h
  · rw [td_b_0.mpr (by omega)] at h
    exact h
  · unfold td_b at h
    rw [if_pos ⟨c, c2⟩] at h
    exact h
theorem xw_anc17 {post : Int32 → Prop} (E : (xw_E n m l1 l2 lb1 lb2 xlft xlab)) (hv1 : 1 ≤ v) (hv : v ≤ m) (hw : w ≤ 100) (h : post (td_b (l2 v ≤ w ∧ w < v))) : wpX_isAncestor post (xcap, xrel, xdel, xins, xdif, xtsk, xscl, xopc, xpos, xpad, xpgl, xfst, xnxt, xup, xlab, xusd, xrts, xlft, xfor, xtre, xmat, xm1, xm2, xtI, xtJ, xc1, xc2, xscr, xopA, xpag) 17 (nI v) (nI w) := by
  obtain ⟨hn, hm, L1, L2, H1, H2⟩ := E
  have k := (H2 v hv1 hv).1
  have t := L2 v hv1 hv
  unfold wpX_isAncestor
  simp only [xw_17, nI_clamp (show 17 + v < 2 ^ 31 by omega), k]
  refine ⟨vp_in_nI (by omega) (by omega), pk_lt w (l2 v) (fun c => ?_) (fun c => pk_le v w (fun c2 => ?_) (fun c2 => ?_))⟩
  · rw [td_b_0.mpr (by omega)] at h
    exact h
  · rw [td_b_0.mpr (by omega)] at h
    exact h
  · unfold td_b at h
    rw [if_pos ⟨c, c2⟩] at h
    exact h
theorem xw_c21 {post : Int32 → Prop} {z0 z1 : Int32} (E : (xw_E n m l1 l2 lb1 lb2 xlft xlab)) (hi1 : 1 ≤ i) (hi : i ≤ n) (hj1 : 1 ≤ j) (hj : j ≤ m) (hx1 : 1 ≤ x) (hx : x ≤ n) (hy1 : 1 ≤ y) (hy : y ≤ m) (hz : z1 = z0 ↔ (i < x ↔ j < y)) (h1 : td_okk l1 l2 i j x y → post 1) (h0 : ¬ td_okk l1 l2 i j x y → post 0) :
    wX_compatible_21 post (nI i) (nI j) (nI x) (nI y) z0 z1 xcap xrel xdel xins xdif xtsk xscl xopc xpos xpad xpgl xfst xnxt xup xlab xusd xrts xlft xfor xtre xmat xm1 xm2 xtI xtJ xc1 xc2 xscr xopA xpag := by
  have hn := E.1
  have hm := E.2.1
  unfold wX_compatible_21
  by_cases c : i < x ↔ j < y
  · refine br_t (hz.mpr c) (xw_anc0 E hi1 hi (by omega) (xw_anc17 E hj1 hj (by omega) ?_))
    by_cases c2 : (l1 i ≤ x ∧ x < i) ↔ (l2 j ≤ y ∧ y < j)
    · refine br_t (td_b_i.mpr c2) (xw_anc0 E hx1 hx (by omega) (xw_anc17 E hy1 hy (by omega) ?_))
      by_cases c3 : (l1 x ≤ i ∧ i < x) ↔ (l2 y ≤ j ∧ j < y)
      · exact br_t (td_b_i.mpr c3) (h1 ⟨c, c2, c3⟩)
      · exact br_f (fun q => c3 (td_b_i.mp q)) (h0 fun q => c3 q.2.2)
    · exact br_f (fun q => c2 (td_b_i.mp q)) (h0 fun q => c2 q.2.1)
  · exact br_f (fun q => c (hz.mp q)) (h0 fun q => c q.1)
theorem xw_compat {post : Int32 → Prop} (E : (xw_E n m l1 l2 lb1 lb2 xlft xlab)) (hi1 : 1 ≤ i) (hi : i ≤ n) (hj1 : 1 ≤ j) (hj : j ≤ m) (hx1 : 1 ≤ x) (hx : x ≤ n) (hy1 : 1 ≤ y) (hy : y ≤ m) (h1 : td_okk l1 l2 i j x y → post 1) (h0 : ¬ td_okk l1 l2 i j x y → post 0) :
    wpX_compatible post (xcap, xrel, xdel, xins, xdif, xtsk, xscl, xopc, xpos, xpad, xpgl, xfst, xnxt, xup, xlab, xusd, xrts, xlft, xfor, xtre, xmat, xm1, xm2, xtI, xtJ, xc1, xc2, xscr, xopA, xpag) (nI i) (nI j) (nI x) (nI y) := by
  have hn := E.1
  have hm := E.2.1
  unfold wpX_compatible
  refine pk_le x i (fun c4 => ?_) (fun c4 => ?_)
  · unfold wX_compatible_10
    refine pk_le y j (fun c5 => ?_) (fun c5 => ?_)
    · exact xw_c21 E hi1 hi hj1 hj hx1 hx hy1 hy ⟨fun _ => by omega, fun _ => rfl⟩ h1 h0
    · exact xw_c21 E hi1 hi hj1 hj hx1 hx hy1 hy ⟨fun q => absurd q (by decide), fun _ => by omega⟩ h1 h0
  · unfold wX_compatible_10
    refine pk_le y j (fun c5 => ?_) (fun c5 => ?_)
    · exact xw_c21 E hi1 hi hj1 hj hx1 hx hy1 hy ⟨fun q => absurd q (by decide), fun _ => by omega⟩ h1 h0
    · exact xw_c21 E hi1 hi hj1 hj hx1 hx hy1 hy ⟨fun _ => by omega, fun _ => rfl⟩ h1 h0
theorem xw_cl90 {post : Int32 → SX → Prop} (E : (xw_E n m l1 l2 lb1 lb2 xlft xlab)) (u0 : xusd 0 = nI n) (hi1 : 1 ≤ i) (hi : i ≤ n) (hj1 : 1 ≤ j) (hj : j ≤ m) (hV : td_V l1 l2 1 n 1 m cl) (hc : ∀ v, 1 ≤ v → v ≤ 8 → xc1 v = nI (cl v))
    (h1 : (∀ x, 1 ≤ x → x ≤ n → cl x ≠ 0 → td_okk l1 l2 i j x (cl x)) → post 0 (xcap, xrel, xdel, xins, xdif, xtsk, xscl, xopc, xpos, xpad, xpgl, xfst, xnxt, xup, xlab, xusd, xrts, xlft, xfor, xtre, xmat, xm1, xm2, xtI, xtJ, upd xc1 i (nI j), upd xc2 j (nI i), xscr, xopA, xpag)) (h0 : ¬ (∀ x, 1 ≤ x → x ≤ n → cl x ≠ 0 → td_okk l1 l2 i j x (cl x)) → post 6 (xcap, xrel, xdel, xins, xdif, xtsk, xscl, xopc, xpos, xpad, xpgl, xfst, xnxt, xup, xlab, xusd, xrts, xlft, xfor, xtre, xmat, xm1, xm2, xtI, xtJ, xc1, xc2, xscr, xopA, xpag)) :
    ∀ g x, x + g = n + 1 → 1 ≤ x → (∀ x', 1 ≤ x' → x' < x → cl x' ≠ 0 → td_okk l1 l2 i j x' (cl x')) → wX_claim_90 post (nI i) (nI j) xcap xrel xdel xins xdif xtsk xscl xopc xpos xpad xpgl xfst xnxt xup xlab xusd xrts xlft xfor xtre xmat xm1 xm2 xtI xtJ xc1 xc2 xscr xopA xpag (g + 1) (nI x) := by
  have hn := E.1
  have hm := E.2.1
  intro g
  induction g with
  | zero =>
    intro x hx hx1 ho
    have ex : x = n + 1 := by omega
    subst ex
    unfold wX_claim_90
    rw [u0, nI_clamp (n := i) (by omega), nI_clamp (n := j) (by omega)]
    exact br_t (nI_lt (by omega) (by omega)) ⟨vp_in_nI (by omega) (by omega), nm_e ⟨vp_in_nI (by omega) (by omega), nm_e (h1 fun x' a b c => ho x' a (by omega) c)⟩⟩
  | succ g ih =>
    intro x hx hx1 ho
    have c8 := td_V_le hV hm x
    have go : (cl x ≠ 0 → td_okk l1 l2 i j x (cl x)) → wX_claim_90 post (nI i) (nI j) xcap xrel xdel xins xdif xtsk xscl xopc xpos xpad xpgl xfst xnxt xup xlab xusd xrts xlft xfor xtre xmat xm1 xm2 xtI xtJ xc1 xc2 xscr xopA xpag (g + 1) (nI (x + 1)) := fun q => ih (x + 1) (by omega) (by omega) fun x' a b c => by
      rcases Nat.lt_or_ge x' x with z | z
      · exact ho x' a z c
      · have e1 : x' = x := by omega
        rw [e1] at c ⊢
        exact q c
    unfold wX_claim_90
    rw [u0, nI_clamp (n := x) (by omega), hc x hx1 (by omega)]
    refine br_f (nI_nlt (by omega) (by omega)) ⟨vp_in_nI (by omega) (by omega), pk_eq (cl x) 0 (fun c => nm_r (nI_1 x) (go fun q => absurd c q)) (fun c => ⟨vp_in_nI (by omega) (by omega), ?_⟩)⟩
    have rx := hV.1 x c
    refine xw_compat E hi1 hi hj1 hj hx1 (by omega) (by omega) (by omega) (fun ok => br_f (by decide) (nm_r (nI_1 x) (go fun _ => ok))) (fun no => br_t rfl (h0 fun q => no (q x hx1 (by omega) c)))
/-- the sum of a claim's costs -/
theorem xw_cc15 {post : Int32 → Prop} {p q : Nat} (E : (xw_E n m l1 l2 lb1 lb2 xlft xlab)) (u0 : xusd 0 = nI n) (u1 : xusd 1 = nI m) (hr : r ≤ 9) (hd : d ≤ 9) (he : e ≤ 9) (hV : td_V l1 l2 1 n 1 m cl) (hc : ∀ v, 1 ≤ v → v ≤ 8 → xc1 v = nI (cl v))
    (h : post (nI (td_S (fun v => if cl v = 0 then 0 else td_rn r lb1 lb2 v (cl v)) 1 n + (n - td_S (td_nz cl) 1 n) * d + (m - td_S (td_nz cl) 1 n) * e))) (hpn : td_S (td_nz cl) 1 n ≤ n) (hpm : td_S (td_nz cl) 1 n ≤ m) :
    ∀ g x p q, x + g = n → p = td_S (td_nz cl) 1 x → q = td_S (fun v => if cl v = 0 then 0 else td_rn r lb1 lb2 v (cl v)) 1 x → wX_claimCost_15 post xcap (nI r) (nI d) (nI e) xdif xtsk xscl xopc xpos xpad xpgl xfst xnxt xup xlab xusd xrts xlft xfor xtre xmat xm1 xm2 xtI xtJ xc1 xc2 xscr xopA xpag (g + 1) (nI p) (nI q) (nI (x + 1)) := by
  have hn := E.1
  have hm := E.2.1
  intro g
  induction g with
  | zero =>
    intro x p q hx hp hq
    have ex : x = n := by omega
    subst ex
    subst hp hq
    unfold wX_claimCost_15
    rw [u0, u1, pk_sub hpn, pk_sub hpm, pk_mul, pk_mul, nI_add, nI_add]
    exact br_t (nI_lt (by omega) (by omega)) h
  | succ g ih =>
    intro x p q hx hp hq
    have c8 := td_V_le hV hm (x + 1)
    have s1 := td_S_s (f := td_nz cl) (a := 1) (i := x) (by omega)
    have s2 := td_S_s (f := fun v => if cl v = 0 then 0 else td_rn r lb1 lb2 v (cl v)) (a := 1) (i := x) (by omega)
    unfold wX_claimCost_15
    rw [u0, nI_clamp (n := x + 1) (by omega), hc (x + 1) (by omega) (by omega)]
    refine br_f (nI_nlt (by omega) (by omega)) ⟨vp_in_nI (by omega) (by omega), pk_eq (cl (x + 1)) 0 (fun c => ?_) (fun c => ?_)⟩
    · refine nm_r (nI_1 _) (ih (x + 1) p q (by omega) ?_ ?_)
      · rw [s1, td_nz_f c, hp]
        rfl
      · rw [s2]
        show q = td_S (fun v => if cl v = 0 then 0 else td_rn r lb1 lb2 v (cl v)) 1 x + (if cl (x + 1) = 0 then 0 else td_rn r lb1 lb2 (x + 1) (cl (x + 1)))
        rw [if_pos c, hq]
        rfl
    · have rx := hV.1 (x + 1) c
      refine nm_r (nI_1 p) ⟨vp_in_nI (by omega) (by omega), xw_ren E (by omega) (by omega) (by omega) (by omega) (nm_r (nI_add _ _) (nm_r (nI_1 _) (ih (x + 1) (p + 1) _ (by omega) ?_ ?_)))⟩
      · rw [s1, td_nz_t c, hp]
      · rw [s2]
        show q + td_rn r lb1 lb2 (x + 1) (cl (x + 1)) = td_S (fun v => if cl v = 0 then 0 else td_rn r lb1 lb2 v (cl v)) 1 x + (if cl (x + 1) = 0 then 0 else td_rn r lb1 lb2 (x + 1) (cl (x + 1)))
        rw [if_neg c, hq]
end
theorem td_C_cc {d e n m : Nat} {rn : Nat → Nat → Nat} {cl : Nat → Nat} : td_C d e rn 1 n 1 m cl = td_S (fun v => if cl v = 0 then 0 else rn v (cl v)) 1 n + (n - td_S (td_nz cl) 1 n) * d + (m - td_S (td_nz cl) 1 n) * e := by
  have key : ∀ x, td_S (td_cs d rn cl) 1 x + td_S (td_nz cl) 1 x * d = td_S (fun v => if cl v = 0 then 0 else rn v (cl v)) 1 x + x * d ∧ td_S (td_nz cl) 1 x ≤ x := by
    intro x
    induction x with
    | zero => exact ⟨by show 0 + 0 * d = 0 + 0 * d; rfl, Nat.le_refl _⟩
    | succ x ih =>
      rw [td_S_s (by omega), td_S_s (by omega), td_S_s (f := fun v => if cl v = 0 then 0 else rn v (cl v)) (by omega), Nat.add_mul, Nat.add_mul]
      by_cases c : cl (x + 1) = 0
      · have e1 : td_cs d rn cl (x + 1) = d := if_pos c
        rw [e1, if_pos c, td_nz_f c]
        omega
      · have e1 : td_cs d rn cl (x + 1) = rn (x + 1) (cl (x + 1)) := if_neg c
        rw [e1, if_neg c, td_nz_t c]
        omega
  obtain ⟨k1, k2⟩ := key n
  unfold td_C
  have e3 : (n - td_S (td_nz cl) 1 n) * d + td_S (td_nz cl) 1 n * d = n * d := by
    rw [← Nat.add_mul]
    exact congrArg (fun z => z * d) (by omega)
  rw [Nat.mul_comm e, show m + 1 - 1 = m by omega]
  omega
theorem i_vc_claimCost {k : Nat} {u : SX} {v : SY} (I : i_Rel k u v) (hk : k + 4 ≤ 2052) : wpX_claimCost (fun r => wpY_claimCost (fun r' => r' = r ∧ i_Rel (k + 4) u v) v) u := by
  refine zz_el (P := fun u v => wpX_claimCost (fun r => wpY_claimCost (fun r' => r' = r ∧ i_Rel (k + 4) u v) v) u) ?_ ?_ I
  · intro cap r d e n m l1 l2 lb1 lb2 xtsk xpgl xfst xnxt xup xlab xusd xrts xlft xfor xtre xmat xm1 xm2 xtI xtJ xc1 xc2 xscr xopA xpag ylen ycnt yrts ylow ylab ymap yop ypic yend yout hc hC hF
    exact br_t rfl (br_t rfl ⟨rfl, zz_inF hc hC hF⟩)
  · intro cap r d e n m l1 l2 lb1 lb2 A cl L S xtsk xpgl xfst xnxt xup xlab xusd xrts xlft xfor xtre xmat xm1 xm2 xtI xtJ xc1 xc2 xscr xopA xpag ylen ycnt yrts ylow ylab ymap yop ypic yend yout hc hC hD
    have R := zz_inD (k := k + 4) (xtsk := xtsk) (xpgl := xpgl) (xfor := xfor) (xmat := xmat) (xm2 := xm2) (xtI := xtI) (xtJ := xtJ) (xpag := xpag) (ylen := ylen) (ypic := ypic) (yout := yout) hc hC hD
    have E := hC.2.2.2.2.1
    have G := hC.2.2.2.2.2.1
    obtain ⟨u0, u1, c1, c2⟩ := hC.2.2.2.2.2.2.1
    obtain ⟨⟨n1, m1, r1, r2, eA⟩, d2, d3, d4, d5, d6, d7, d8, d9, d10, d11, d12, d13⟩ := hD
    have p1 := td_cnt (by omega) d10
    have p2 : td_S (td_nz cl) 1 n ≤ n := by
      have q := td_S_le (f := td_nz cl) (g := fun _ => 1) (a := 1) (i := n) (fun v _ _ => td_nz_le cl v)
      rcases td_S_k (a := 1) (c := 1) (i := n) with z | z
      · rw [z] at q
        omega
      · omega
    refine br_f (by decide) ⟨_, xw_cc15 (p := 0) (q := 0) E u0 u1 hc.1 hc.2.1 hc.2.2 d10 d11 (br_f (by decide) ?_) p2 (by omega) n 0 0 0 (by omega) rfl rfl⟩
    dsimp only
    rw [c1, c2]
    refine yw_price (bs := 20) (A := cl) G (by omega) d13 n1 (Nat.le_refl _) m1 (Nat.le_refl _) (by rw [r1, r2]; exact d10) ⟨?_, R⟩
    rw [r1, r2, td_C_cc]
end
section
/-! claim -/
theorem i_vc_claim {k : Nat} {u : SX} {v : SY} (I : i_Rel k u v) (hk : k + 4 ≤ 2052) (v1 : Int32) (v2 : Int32) : wpX_claim (fun r u' => wpY_claim (fun r' v' => r' = r ∧ i_Rel (k + 4) u' v') v v1 v2) u v1 v2 := by
  refine zz_el (P := fun u v => wpX_claim (fun r u' => wpY_claim (fun r' v' => r' = r ∧ i_Rel (k + 4) u' v') v v1 v2) u v1 v2) ?_ ?_ I
  · intro cap r d e n m l1 l2 lb1 lb2 xtsk xpgl xfst xnxt xup xlab xusd xrts xlft xfor xtre xmat xm1 xm2 xtI xtJ xc1 xc2 xscr xopA xpag ylen ycnt yrts ylow ylab ymap yop ypic yend yout hc hC hF
    exact br_t rfl (br_t rfl ⟨rfl, zz_inF hc hC hF⟩)
  · intro cap r d e n m l1 l2 lb1 lb2 A cl L S xtsk xpgl xfst xnxt xup xlab xusd xrts xlft xfor xtre xmat xm1 xm2 xtI xtJ xc1 xc2 xscr xopA xpag ylen ycnt yrts ylow ylab ymap yop ypic yend yout hc hC hD
    have R := zz_inD (k := k + 4) (xtsk := xtsk) (xpgl := xpgl) (xfor := xfor) (xmat := xmat) (xm2 := xm2) (xtI := xtI) (xtJ := xtJ) (xpag := xpag) (ylen := ylen) (ypic := ypic) (yout := yout) hc hC hD
    have hn := hC.2.2.2.2.1.1
    have hm := hC.2.2.2.2.1.2.1
    have E := hC.2.2.2.2.1
    have G := hC.2.2.2.2.2.1
    obtain ⟨u0, u1, c1, c2⟩ := hC.2.2.2.2.2.2.1
    obtain ⟨d1, d2, d3, d4, d5, d6, d7, d8, d9, d10, d11, d12, d13⟩ := hD
    have cl8 := td_V_le d10 hm
    refine br_f (by decide) ?_
    dsimp only
    rw [u0, u1]
    rcases zz_ix v1 with h1 | ⟨i, i1, i2, rfl⟩
    · exact br_t h1 (br_f (by decide) (br_t h1 ⟨rfl, R⟩))
    · have h1 : ¬ nI i < 1 := nI_nlt (b := 1) i1 i2
      refine br_f h1 (pk_le i n (fun q => ?_) (fun q => ?_) rfl rfl i2 (by omega))
      · have h2 : ¬ nI n < nI i := nI_nlt q (by omega)
        by_cases g1 : v2 < 0
        · refine br_t g1 (br_f (by decide) (br_f h1 ?_))
          rw [c1]
          exact br_f h2 (br_t g1 ⟨rfl, R⟩)
        · obtain ⟨j, j2, rfl⟩ := nI_of g1
          refine br_f g1 (pk_le j m (fun q2 => ?_) (fun q2 => ?_) rfl rfl j2 (by omega))
          · have yb : ∀ {post : Int32 → SY → Prop}, ((nI j ≤ 0 → wY_claim_69 post (nI i) (nI j) (nI cap) (nI r) (nI d) (nI e) 1 (nI (td_OL A lb1 lb2 n m).length) (nI L.length) ylen ycnt yrts ylow ylab ymap yop ypic yend yout) ∧ (¬ nI j ≤ 0 → (vp_in (20 + nI i) 30 ∧ ((0 < ymap (20 + nI i).toNatClampNeg → post 6 (nI cap, nI r, nI d, nI e, 1, nI (td_OL A lb1 lb2 n m).length, nI L.length, ylen, ycnt, yrts, ylow, ylab, ymap, yop, ypic, yend, yout)) ∧ (¬ 0 < ymap (20 + nI i).toNatClampNeg → wpY_source (fun r_32 => ((r_32 ≤ 0 → wY_claim_69 post (nI i) (nI j) (nI cap) (nI r) (nI d) (nI e) 1 (nI (td_OL A lb1 lb2 n m).length) (nI L.length) ylen ycnt yrts ylow ylab ymap yop ypic yend yout) ∧ (¬ r_32 ≤ 0 → post 6 (nI cap, nI r, nI d, nI e, 1, nI (td_OL A lb1 lb2 n m).length, nI L.length, ylen, ycnt, yrts, ylow, ylab, ymap, yop, ypic, yend, yout)))) (nI cap, nI r, nI d, nI e, 1, nI (td_OL A lb1 lb2 n m).length, nI L.length, ylen, ycnt, yrts, ylow, ylab, ymap, yop, ypic, yend, yout) 20 (nI j)))))) →
                wpY_claim post (nI cap, nI r, nI d, nI e, 1, nI (td_OL A lb1 lb2 n m).length, nI L.length, ylen, ycnt, yrts, ylow, ylab, ymap, yop, ypic, yend, yout) (nI i) (nI j) := fun h => by
              unfold wpY_claim
              refine br_f (by decide) (br_f h1 ?_)
              rw [c1, c2]
              exact br_f h2 (br_f g1 (br_t (nI_le q2 (by omega)) h))
            have y69 : ∀ {post : Int32 → SY → Prop}, ((∀ v w, 1 ≤ v → v ≤ 8 → 1 ≤ w → w ≤ 8 → td_ok l1 l2 (td_set cl i j) v w) → post 0 (nI cap, nI r, nI d, nI e, 1, nI (td_OL A lb1 lb2 n m).length, nI L.length, ylen, ycnt, yrts, ylow, ylab, upd ymap (20 + i) (nI j), yop, ypic, yend, yout)) → (¬ (∀ v w, 1 ≤ v → v ≤ 8 → 1 ≤ w → w ≤ 8 → td_ok l1 l2 (td_set cl i j) v w) → post 6 (nI cap, nI r, nI d, nI e, 1, nI (td_OL A lb1 lb2 n m).length, nI L.length, ylen, ycnt, yrts, ylow, ylab, upd (upd ymap (20 + i) (nI j)) (20 + i) 0, yop, ypic, yend, yout)) → wY_claim_69 post (nI i) (nI j) (nI cap) (nI r) (nI d) (nI e) 1 (nI (td_OL A lb1 lb2 n m).length) (nI L.length) ylen ycnt yrts ylow ylab ymap yop ypic yend yout := fun a b => by
              unfold wY_claim_69
              rw [yw_a20, nI_clamp (n := 20 + i) (by omega)]
              refine ⟨vp_in_nI (by omega) (by omega), nm_e (yw_valid (bs := 20) (A := td_set cl i j) G (by omega) (fun v v1 v8 => ?_) (fun v v1 v8 v0 => ?_) (fun ok => br_f (by decide) (a ok)) (fun no => br_t rfl ⟨vp_in_nI (by omega) (by omega), nm_e (b no)⟩))⟩
              · by_cases c : v = i
                · rw [c, pk_us, td_set_s]
                · rw [pk_un (by omega), td_set_n c]
                  exact d13 v v1 v8
              · by_cases c : v = i
                · rw [c, td_set_s]
                  omega
                · rw [td_set_n c] at v0 ⊢
                  have := d10.1 v v0
                  omega
            refine pk_eq j 0 (fun e0 => ?_) (fun e0 => ?_)
            · subst e0
              rw [nI_clamp (n := i) (by omega), d11 i i1 (by omega), nI_clamp (n := cl i) (by have := cl8 i; omega)]
              have c8 := cl8 i
              refine ⟨vp_in_nI (by omega) (by omega), vp_in_nI (by omega) (by omega), nm_e ⟨vp_in_nI (by omega) (by omega), nm_e (yb (br_t (nI_le (a := 0) (b := 0) (Nat.le_refl _) (by omega)) (y69 (fun _ => ⟨rfl, ?_⟩) (fun no => absurd (fun v w _ _ _ _ => td_V_ok (td_set_V0 d10) v w) no))))⟩⟩
              refine zz_inD (A := A) (cl := td_set cl i 0) (L := L) (S := S) hc hC ⟨d1, d2, d3, d4, d5, fun v v1 v8 => ?_, d7, d8, d9, td_set_V0 d10, fun v v1 v8 => ?_, fun w w1 w8 => ?_, fun v v1 v8 => ?_⟩
              · rw [pk_un (by omega)]
                exact d6 v v1 v8
              · by_cases c : v = i
                · rw [c, pk_us, td_set_s]
                  rfl
                · rw [pk_un c, td_set_n c]
                  exact d11 v v1 v8
              · by_cases c : w = cl i
                · rw [c, pk_us]
                  have : td_src (td_set cl i 0) (cl i) = 0 := td_src_0.mpr fun v v1 v8 v3 => by
                    by_cases c' : v = i
                    · rw [c', td_set_s] at v3
                      omega
                    · rw [td_set_n c'] at v3
                      have e1 := td_src_A d10 hn (v := v) (by omega)
                      have e2 := td_src_A d10 hn (v := i) (by omega)
                      rw [v3] at e1
                      omega
                  rw [this]
                  rfl
                · rw [pk_un c, d12 w w1 w8]
                  refine congrArg nI (td_src_c fun v v1 v8 => ?_)
                  by_cases c' : v = i
                  · rw [c', td_set_s]
                    omega
                  · rw [td_set_n c']
              · by_cases c : v = i
                · rw [c, pk_us, td_set_s]
                · rw [pk_un (by omega), td_set_n c]
                  exact d13 v v1 v8
            · have s8 : td_src cl j ≤ 8 := by
                by_cases c : td_src cl j = 0
                · omega
                · exact (td_src_s c).2.1
              have c8 := cl8 i
              rw [nI_clamp (n := i) (by omega), d11 i i1 (by omega), nI_clamp (n := j) (by omega), d12 j (by omega) (by omega)]
              have j0 : ¬ nI j ≤ 0 := nI_nle (by omega) (by omega)
              have yc : ∀ {post : Int32 → SY → Prop}, (cl i ≠ 0 → post 6 (nI cap, nI r, nI d, nI e, 1, nI (td_OL A lb1 lb2 n m).length, nI L.length, ylen, ycnt, yrts, ylow, ylab, ymap, yop, ypic, yend, yout)) → (cl i = 0 → td_src cl j ≠ 0 → post 6 (nI cap, nI r, nI d, nI e, 1, nI (td_OL A lb1 lb2 n m).length, nI L.length, ylen, ycnt, yrts, ylow, ylab, ymap, yop, ypic, yend, yout)) → (cl i = 0 → td_src cl j = 0 → wY_claim_69 post (nI i) (nI j) (nI cap) (nI r) (nI d) (nI e) 1 (nI (td_OL A lb1 lb2 n m).length) (nI L.length) ylen ycnt yrts ylow ylab ymap yop ypic yend yout) → wpY_claim post (nI cap, nI r, nI d, nI e, 1, nI (td_OL A lb1 lb2 n m).length, nI L.length, ylen, ycnt, yrts, ylow, ylab, ymap, yop, ypic, yend, yout) (nI i) (nI j) := fun a b c => yb (br_f j0 (by
                rw [yw_a20, nI_clamp (n := 20 + i) (by omega), d13 i i1 (by omega)]
                refine ⟨vp_in_nI (by omega) (by omega), pk_lt 0 (cl i) (fun z => a (by omega)) (fun z => yw_source (bs := 20) (A := cl) (by omega) (by omega) d13 (fun v _ _ => Nat.le_trans (cl8 v) (by omega)) (pk_le (td_src cl j) 0 (fun y => c (by omega) (by omega)) (fun y => b (by omega) (by omega))))⟩))
              refine ⟨vp_in_nI (by omega) (by omega), pk_eq (cl i) 0 (fun z => ⟨vp_in_nI (by omega) (by omega), pk_eq (td_src cl j) 0 (fun y => ?_) (fun y => ?_)⟩) (fun z => ?_)⟩
              · have iff' := td_set_V d10 hn i1 q (by omega) q2 z y
                refine ⟨_, xw_cl90 E u0 i1 q (by omega) q2 d10 d11 (fun ok => yc (fun z' => absurd z z') (fun _ y' => absurd y y') (fun _ _ => y69 (fun okk => ⟨rfl, ?_⟩) (fun no => absurd (iff'.mpr ok) no))) (fun no => yc (fun z' => absurd z z') (fun _ y' => absurd y y') (fun _ _ => y69 (fun okk => absurd (iff'.mp okk) no) (fun _ => ⟨rfl, ?_⟩))) n 1 (by omega) (Nat.le_refl _) (fun x' a b => by omega)⟩
                · have V2 := td_set_V2 d10 hn i1 q (by omega) q2 okk
                  refine zz_inD (A := A) (cl := td_set cl i j) (L := L) (S := S) hc hC ⟨d1, d2, d3, d4, d5, fun v v1 v8 => ?_, d7, d8, d9, V2, fun v v1 v8 => ?_, fun w w1 w8 => ?_, fun v v1 v8 => ?_⟩
                  · rw [pk_un (by omega)]
                    exact d6 v v1 v8
                  · by_cases c : v = i
                    · rw [c, pk_us, td_set_s]
                    · rw [pk_un c, td_set_n c]
                      exact d11 v v1 v8
                  · by_cases c : w = j
                    · rw [c, pk_us]
                      have e1 := td_src_A V2 hn (v := i) (by rw [td_set_s]; omega)
                      rw [td_set_s] at e1
                      rw [e1]
                    · rw [pk_un c, d12 w w1 w8]
                      refine congrArg nI (td_src_c fun v v1 v8 => ?_)
                      by_cases c' : v = i
                      · rw [c', td_set_s, z]
                        omega
                      · rw [td_set_n c']
                  · by_cases c : v = i
                    · rw [c, pk_us, td_set_s]
                    · rw [pk_un (by omega), td_set_n c]
                      exact d13 v v1 v8
                · refine zz_inD (A := A) (cl := cl) (L := L) (S := S) hc hC ⟨d1, d2, d3, d4, d5, fun v v1 v8 => ?_, d7, d8, d9, d10, d11, d12, fun v v1 v8 => ?_⟩
                  · rw [pk_un (by omega), pk_un (by omega)]
                    exact d6 v v1 v8
                  · by_cases c : v = i
                    · rw [c, pk_us, z]
                      rfl
                    · rw [pk_un (by omega), pk_un (by omega)]
                      exact d13 v v1 v8
              · exact yc (fun z' => absurd z z') (fun _ _ => ⟨rfl, R⟩) (fun _ y' => absurd y' y)
              · exact yc (fun _ => ⟨rfl, R⟩) (fun z' => absurd z' z) (fun z' => absurd z' z)
          · refine br_f (by decide) (br_f h1 ?_)
            rw [c1, c2]
            exact br_f h2 (br_f g1 (br_f (nI_ge q2 (by omega)) ⟨rfl, R⟩))
      · refine br_f (by decide) (br_f h1 ?_)
        rw [c1]
        exact br_t (nI_lt q i2) ⟨rfl, R⟩
end
section
/-! length: both sides' texts -/
theorem tx_N {P : Nat → Bool} {l pc : Nat → Nat} {N : Nat} (hL : td_LP P l) (hP : ∀ w, P w = true → w ≤ N) : ∀ v, N ≤ v → v ≤ 8 → tx P l pc 1 v = tx P l pc 1 N := by
  intro v
  induction v with
  | zero =>
    intro h1 h2
    rw [show N = 0 by omega]
  | succ v ih =>
    intro h1 h2
    rcases Nat.eq_or_lt_of_le h1 with z | z
    · rw [z]
    · rw [tx_n hL (by omega) h2 (fun q => by have := hP _ q; omega), show v + 1 - 1 = v by omega]
      exact ih (by omega) (by omega)
theorem tx_cP {P P' : Nat → Bool} {l pc pc' : Nat → Nat} (hL : td_LP P l) (hL' : td_LP P' l) (h : ∀ w, 1 ≤ w → w ≤ 8 → (P' w = true ↔ P w = true)) (hpc : ∀ w, P w = true → pc' w = pc w) : ∀ k a v, v ≤ k → 1 ≤ a → v ≤ 8 → tx P' l pc' a v = tx P l pc a v := by
  intro k
  induction k with
  | zero =>
    intro a v h1 h2 h3
    rw [tx_lt (by omega), tx_lt (by omega)]
  | succ k ih =>
    intro a v h1 h2 h3
    rcases Nat.lt_or_ge v a with z | z
    · rw [tx_lt z, tx_lt z]
    · by_cases c : P v = true
      · have Lv := hL v (by omega) h3 c
        rw [tx_y hL h2 h3 z c, tx_y hL' h2 h3 z ((h v (by omega) h3).mpr c), ih a (l v - 1) (by omega) h2 (by omega)]
        unfold tx_T
        rw [ih (l v) (v - 1) (by omega) Lv.1 (by omega), hpc v c]
      · rw [tx_n hL h2 h3 c, tx_n hL' h2 h3 (fun q => c ((h v (by omega) h3).mp q)), ih a (v - 1) (by omega) h2 (by omega)]
theorem td_LP_a {n : Nat} {l : Nat → Nat} (h : td_L n l) (hn : n ≤ 8) : td_LP (td_all n) l := td_LP_d h hn fun _ z => td_all_i z
section
variable {n m N sd w o p j : Nat} {l l1 l2 lb lb1 lb2 A sl : Nat → Nat} {P : Nat → Bool} {L S : List Nat} {xcap xrel xdel xins xdif xtsk xscl xopc xpos xpad xpgl : Int32} {xfst xnxt xup xlab xusd xrts xlft xfor xtre xmat xm1 xm2 xtI xtJ xc1 xc2 xscr xopA xpag : Nat → Int32} {ycap yrel ydel yins ydif ytot ypos ylen : Int32} {ycnt yrts ylow ylab ymap yop ypic yend yout : Nat → Int32}
/-- render of a side -/
theorem xw_lenS {post : Int32 → SX → Prop} (hsd1 : 1 ≤ sd) (hsd : sd ≤ 2) (hN : N ≤ 8) (hL : td_L N l) (hK : lk_K ((sd - 1) * 17) (td_all N) (td_up (td_all N) l) (fun v => v) xfst xnxt xup) (hlab : ∀ v, 1 ≤ v → v ≤ N → xlab ((sd - 1) * 17 + v) = nI (lb v) ∧ lb v ≤ 25)
    (h : ∀ pag, ls_h pag 0 (tx (td_all N) l (fun v => 97 + lb v) 1 8) → post (nI (tx (td_all N) l (fun v => 97 + lb v) 1 8).length) (xcap, xrel, xdel, xins, xdif, xtsk, xscl, xopc, xpos, xpad, nI (tx (td_all N) l (fun v => 97 + lb v) 1 8).length, xfst, xnxt, xup, xlab, xusd, xrts, xlft, xfor, xtre, xmat, xm1, xm2, xtI, xtJ, xc1, xc2, xscr, xopA, pag)) : wpX_length post (xcap, xrel, xdel, xins, xdif, xtsk, xscl, xopc, xpos, xpad, xpgl, xfst, xnxt, xup, xlab, xusd, xrts, xlft, xfor, xtre, xmat, xm1, xm2, xtI, xtJ, xc1, xc2, xscr, xopA, xpag) (nI sd) := by
  have hS : lk_S (td_all N) (fun v => v) N := ⟨rfl, fun v v1 v8 vP => ⟨v1, td_all_i vP⟩, fun v w _ _ _ _ _ _ e => e⟩
  unfold wpX_length
  refine br_f (nI_nlt (b := 1) hsd1 (by omega)) (br_t (nI_le (b := 4) (by omega) (by omega)) (br_f (fun z => ?_) ?_))
  · have := (nI_eq (a := sd) (b := 4) (by omega) (by omega)).mp z
    omega
  · rw [xw_s1 hsd1, show nI (sd - 1) * 17 = nI ((sd - 1) * 17) from pk_mul (sd - 1) 17]
    exact xw_render (lbv := lb) (pc := fun v => 97 + lb v) (N := N) (by omega) (by omega) (td_LP_a hL hN) hS hK (fun v v1 v8 vP => ⟨(hlab v v1 (td_all_i vP)).1, (hlab v v1 (td_all_i vP)).2, rfl⟩) h
/-- draw of a set of one side, once pic is right -/
theorem yw_59 {post : SY → Prop} {x1 : Int32} {fr : Nat} {R : Nat → Bool} (hx1 : ¬ (x1 = 3 ∧ sd = 1)) (hsd1 : 1 ≤ sd) (hsd : sd ≤ 2) (hN : N ≤ 8) (hfr : fr ≤ 100) (hcnt : ycnt sd = nI N) (hL : td_L N l) (hlow : ∀ v, 1 ≤ v → v ≤ N → ylow (sd * 10 + v) = nI (l v)) (hlab : ∀ v, 1 ≤ v → v ≤ N → ylab (sd * 10 + v) = nI (lb v) ∧ lb v ≤ 25) (hA : ∀ v, 1 ≤ v → v ≤ 8 → ymap (10 + v) = nI (A v)) (mA : ∀ v, A v ≤ 8) (he : yend 0 = 0)
    (hR : ∀ w, 1 ≤ w → w ≤ 8 → (R w = true ↔ td_Ps A N fr w = true)) (hRN : ∀ w, R w = true → w ≤ N) (hR1 : ∀ w, R w = true → 1 ≤ w ∨ w = 0)
    (h : ∀ pic en out, en 0 = 0 → ls_h out 0 (tx R l (fun v => 97 + lb v) 1 8) → post (ycap, yrel, ydel, yins, ydif, ytot, ypos, nI (tx R l (fun v => 97 + lb v) 1 8).length, ycnt, yrts, ylow, ylab, ymap, yop, pic, en, out)) : wY_draw_59 post x1 (nI sd) (nI fr) ycap yrel ydel yins ydif ytot ypos 0 ycnt yrts ylow ylab ymap yop ypic yend yout := by
  have hLP : td_LP R l := td_LP_d hL hN hRN
  have eT := tx_N (pc := fun v => 97 + lb v) hLP hRN 8 hN (Nat.le_refl _)
  unfold wY_draw_59
  refine yw_show (N := N) (lb := lb) (A := A) hsd hN hfr hcnt (fun w w1 w2 => (hlab w w1 w2).1) hA mA fun pic hpic => ⟨1, ?_⟩
  have go : ∃ n156, wY_draw_156 post (nI sd) ycap yrel ydel yins ydif ytot ypos n156 1 0 ycnt yrts ylow ylab ymap yop pic yend yout := by
    refine yw_dr (P := fun w => R w && decide (1 ≤ w)) (pc := fun v => 97 + lb v) hsd hN hcnt hlow hL (td_LP_d hL hN fun w z => hRN w (by simp only [Bool.and_eq_true] at z; exact z.1)) he (fun v v1 v8 => ?_) (fun v vP => ?_) (fun en out e1 e2 => ?_)
    · rw [hpic v v1 v8]
      constructor
      · intro z
        simp only [Bool.and_eq_true] at z
        rw [td_pc_t ((hR v v1 v8).mp z.1)]
      · intro z
        rw [td_pc_f (fun y => z (by simp only [Bool.and_eq_true, decide_eq_true_eq]; exact ⟨(hR v v1 v8).mpr y, v1⟩))]
        rfl
    · simp only [Bool.and_eq_true, decide_eq_true_eq] at vP
      have := (hlab v vP.2 (hRN v vP.1)).2
      show 1 ≤ 97 + lb v ∧ 97 + lb v < 65536
      omega
    · have eP : tx (fun w => R w && decide (1 ≤ w)) l (fun v => 97 + lb v) 1 N = tx R l (fun v => 97 + lb v) 1 N := tx_cP hLP (td_LP_d hL hN fun w z => hRN w (by simp only [Bool.and_eq_true] at z; exact z.1)) (fun w w1 w2 => by simp only [Bool.and_eq_true, decide_eq_true_eq]; exact ⟨fun z => z.1, fun z => ⟨z, w1⟩⟩) (fun _ _ => rfl) 8 1 N hN (by omega) hN
      rw [eP, ← eT] at e2 ⊢
      exact h pic en out e1 e2
  unfold wY_draw_71
  refine br_c (fun g1 => br_f (fun g2 => hx1 ⟨g1, ?_⟩) go) (fun _ => go)
  exact (nI_eq (a := sd) (b := 1) (by omega) (by omega)).mp g2
end
end
section
/-! length of the reference -/
section
variable {n m N sd w o p j : Nat} {l l1 l2 lb lb1 lb2 A sl : Nat → Nat} {P : Nat → Bool} {L S : List Nat} {ycap yrel ydel yins ydif ytot ypos ylen : Int32} {ycnt yrts ylow ylab ymap yop ypic yend yout : Nat → Int32}
theorem yw_41 {post : Int32 → SY → Prop} {x1 : Int32} (h1 : ¬ x1 < 1) (h4 : x1 ≤ 4) (h : post ylen (ycap, yrel, ydel, yins, ydif, ytot, ypos, ylen, ycnt, yrts, ylow, ylab, ymap, yop, ypic, yend, yout)) : wY_length_41 post x1 ycap yrel ydel yins ydif ytot ypos ylen ycnt yrts ylow ylab ymap yop ypic yend yout := by
  unfold wY_length_41
  exact br_f h1 (br_t h4 h)
theorem yw_lenS {post : Int32 → SY → Prop} (hsd1 : 1 ≤ sd) (hsd : sd ≤ 2) (hN : N ≤ 8) (hcnt : ycnt sd = nI N) (hL : td_L N l) (hlow : ∀ v, 1 ≤ v → v ≤ N → ylow (sd * 10 + v) = nI (l v)) (hlab : ∀ v, 1 ≤ v → v ≤ N → ylab (sd * 10 + v) = nI (lb v) ∧ lb v ≤ 25) (hA : ∀ v, 1 ≤ v → v ≤ 8 → ymap (10 + v) = nI (A v)) (mA : ∀ v, A v ≤ 8) (he : yend 0 = 0)
    (h : ∀ pic en out, en 0 = 0 → ls_h out 0 (tx (td_all N) l (fun v => 97 + lb v) 1 8) → post (nI (tx (td_all N) l (fun v => 97 + lb v) 1 8).length) (ycap, yrel, ydel, yins, ydif, ytot, ypos, nI (tx (td_all N) l (fun v => 97 + lb v) 1 8).length, ycnt, yrts, ylow, ylab, ymap, yop, pic, en, out)) : wpY_length post (ycap, yrel, ydel, yins, ydif, ytot, ypos, ylen, ycnt, yrts, ylow, ylab, ymap, yop, ypic, yend, yout) (nI sd) := by
  have n1 : ¬ nI sd < 1 := nI_nlt (b := 1) hsd1 (by omega)
  have n4 : nI sd ≤ 4 := nI_le (b := 4) (by omega) (by omega)
  have e4 : ¬ nI sd = 4 := fun z => by
    have := (nI_eq (a := sd) (b := 4) (by omega) (by omega)).mp z
    omega
  have e3 : ¬ nI sd = 3 := fun z => by
    have := (nI_eq (a := sd) (b := 3) (by omega) (by omega)).mp z
    omega
  have fin : wY_draw_59 (fun u => match u with | (ycap, yrel, ydel, yins, ydif, ytot, ypos, ylen, ycnt, yrts, ylow, ylab, ymap, yop, ypic, yend, yout) => wY_length_41 post (nI sd) ycap yrel ydel yins ydif ytot ypos ylen ycnt yrts ylow ylab ymap yop ypic yend yout) (nI sd) (nI sd) (nI 0) ycap yrel ydel yins ydif ytot ypos 0 ycnt yrts ylow ylab ymap yop ypic yend yout := by
    refine yw_59 (R := td_all N) (A := A) (fun z => e3 z.1) hsd1 hsd hN (by omega) hcnt hL hlow hlab hA mA he (fun w w1 w8 => ?_) (fun w z => td_all_i z) (fun w _ => by omega) (fun pic en out q1 q2 => yw_41 n1 n4 (h pic en out q1 q2))
    rw [td_Ps_i]
    exact ⟨fun z => ⟨td_all_i z, Or.inl w1⟩, fun z => td_all_t z.1⟩
  have d36 : wY_length_36 post (nI sd) ycap yrel ydel yins ydif ytot ypos 0 ycnt yrts ylow ylab ymap yop ypic yend yout := by
    unfold wY_length_36 wpY_draw
    refine br_f e3 ?_
    unfold wY_draw_26 wY_draw_27
    refine br_c (fun z => ?_) (fun z => br_t (by decide) ?_)
    · have e2 : sd = 2 := (nI_eq (a := sd) (b := 2) (by omega) (by omega)).mp z
      unfold wY_draw_39 wY_draw_44
      refine br_t (by decide) ?_
      rw [e2] at fin ⊢
      exact fin
    · have e2 : sd = 1 := by
        have : sd ≠ 2 := fun y => z (by rw [y]; rfl)
        omega
      unfold wY_draw_44
      refine br_t (by decide) ?_
      rw [e2] at fin ⊢
      exact fin
  unfold wpY_length
  refine br_f e4 ?_
  unfold wY_length_14
  refine br_c (fun _ => d36) (fun z => br_t ?_ d36)
  have e2 : sd = 2 := by
    have : sd ≠ 1 := fun y => z (by rw [y]; rfl)
    omega
  rw [e2]
  rfl
/-- the work forest while it is side 1 -/
theorem yw_len3a {post : Int32 → SY → Prop} (G : (yw_E n m l1 l2 lb1 lb2 ylow ylab)) (c1 : ycnt 1 = nI n) (hA : ∀ v, 1 ≤ v → v ≤ 8 → ymap (10 + v) = nI (A v)) (hV : td_V l1 l2 1 n 1 m A) (he : yend 0 = 0) (ho : ls_h yop 0 (td_OL A lb1 lb2 n m)) (hO : (td_OL A lb1 lb2 n m) = L ++ S) (hL20 : ∀ o, o ∈ L → o ≤ 20)
    (h : ∀ pic en out, en 0 = 0 → ls_h out 0 (tx (td_Pd n L) l1 (fun v => 97 + td_ld A lb1 lb2 L v) 1 8) → post (nI (tx (td_Pd n L) l1 (fun v => 97 + td_ld A lb1 lb2 L v) 1 8).length) (ycap, yrel, ydel, yins, 1, ytot, nI L.length, nI (tx (td_Pd n L) l1 (fun v => 97 + td_ld A lb1 lb2 L v) 1 8).length, ycnt, yrts, ylow, ylab, ymap, yop, pic, en, out)) : wpY_length post (ycap, yrel, ydel, yins, 1, ytot, nI L.length, ylen, ycnt, yrts, ylow, ylab, ymap, yop, ypic, yend, yout) 3 := by
  obtain ⟨hn, hm, L1, L2, H1, H2⟩ := G
  have hlen := td_OL_len (A := A) (lb1 := lb1) (lb2 := lb2) n m
  have eL0 : (td_OL A lb1 lb2 n m).length = L.length + S.length := by rw [hO, List.length_append]
  have mA := td_V_le hV hm
  have hLP : td_LP (td_Pd n L) l1 := td_LP_d L1 hn fun w z => (td_Pd_i.mp z).2.1
  have eT := tx_N (pc := fun v => 97 + td_ld A lb1 lb2 L v) hLP (fun w z => (td_Pd_i.mp z).2.1) 8 hn (Nat.le_refl _)
  have cs : ∀ o, o ∈ [] ++ L → (1 ≤ o ∧ o ≤ n ∧ 1 ≤ A o ∧ A o ≤ m) ∨ (11 ≤ o ∧ o ≤ 10 + n ∧ A (o - 10) = 0) := fun o hh => by
    rw [List.nil_append] at hh
    have o20 := hL20 o hh
    have hm' : o ∈ (td_OL A lb1 lb2 n m) := by
      rw [hO]
      exact List.mem_append_left _ hh
    unfold td_OL at hm'
    rcases List.mem_append.mp hm' with q | q
    · have := td_oR_m.mp q
      have r' := hV.1 o this.2.2.1
      exact Or.inl ⟨this.1, this.2.1, r'.2.2.1, r'.2.2.2⟩
    · rcases List.mem_append.mp q with q | q
      · exact Or.inr (td_oD_m.mp q)
      · have := td_oI_m.mp q
        omega
  have fin : wY_draw_59 (fun u => match u with | (ycap, yrel, ydel, yins, ydif, ytot, ypos, ylen, ycnt, yrts, ylow, ylab, ymap, yop, ypic, yend, yout) => wY_length_41 post 3 ycap yrel ydel yins ydif ytot ypos ylen ycnt yrts ylow ylab ymap yop ypic yend yout) 3 (nI 1) (nI 0) ycap yrel ydel yins 1 ytot (nI L.length) 0 ycnt yrts ylow ylab ymap yop ypic yend yout := by
    unfold wY_draw_59
    refine yw_show (sd := 1) (N := n) (lb := lb1) (A := A) (by omega) hn (by omega) c1 (fun w w1 w2 => (H1 w w1 w2).2.1) hA mA fun pic hpic => ⟨L.length + 1, ?_⟩
    refine yw_d71 (n := n) (m := m) (L := []) (R := L) (S := S) (OL := (td_OL A lb1 lb2 n m)) (A := A) (lb1 := lb1) (lb2 := lb2) hm hn hA (fun w w1 w2 => (H2 w w1 w2).2.1) ho (by omega) cs ?_ L [] pic rfl (by rw [hO]; rfl) (fun w w1 w8 => ?_)
    · intro pic2 hpic2
      refine yw_dr (P := td_Pd n L) (pc := fun v => 97 + td_ld A lb1 lb2 L v) (sd := 1) (by omega) hn c1 (fun v v1 v2 => (H1 v v1 v2).1) L1 hLP he (fun v v1 v8 => ?_) (fun v vP => ?_) (fun en out q1 q2 => ?_)
      · rw [hpic2 v v1 v8, List.nil_append]
        exact ⟨fun z => by rw [td_pc_t z], fun z => by rw [td_pc_f z]; rfl⟩
      · have vp := td_Pd_i.mp vP
        have : td_ld A lb1 lb2 L v ≤ 25 := by
          unfold td_ld
          split
          · rename_i z
            rcases cs v (by rw [List.nil_append]; exact z) with q | q
            · exact (H2 (A v) q.2.2.1 q.2.2.2).2.2
            · omega
          · exact (H1 v vp.1 vp.2.1).2.2
        show 1 ≤ 97 + td_ld A lb1 lb2 L v ∧ 97 + td_ld A lb1 lb2 L v < 65536
        omega
      · rw [← eT] at q2 ⊢
        exact yw_41 (by decide) (by decide) (h pic2 en out q1 q2)
    · rw [hpic w w1 w8]
      refine congrArg nI ?_
      by_cases c : w ≤ n
      · rw [td_pc_t (td_Ps_i.mpr ⟨c, Or.inl w1⟩), td_pc_t (td_Pd_i.mpr ⟨w1, c, List.not_mem_nil⟩)]
        unfold td_ld
        rw [if_neg List.not_mem_nil]
      · rw [td_pc_f (fun z => c (td_Ps_i.mp z).1), td_pc_f (fun z => c (td_Pd_i.mp z).2.1)]
  unfold wpY_length
  refine br_f (by decide) ?_
  unfold wY_length_14
  refine br_f (by decide) (br_f (by decide) (br_t rfl (br_f (by decide) ?_)))
  unfold wY_length_36 wpY_draw
  refine br_t rfl ?_
  rcases lk_snoc L with z | ⟨L0, o, z⟩
  · rw [z] at fin ⊢
    refine br_t (by decide) ?_
    unfold wY_draw_26 wY_draw_27
    refine br_f (by decide) (br_t (by decide) ?_)
    unfold wY_draw_44
    exact br_t (by decide) fin
  · have eL : L.length = L0.length + 1 := by rw [z, td_l1]
    have o20 := hL20 o (by rw [z]; simp)
    have hop : yop L0.length = nI o := by
      rw [hO, z, List.append_assoc] at ho
      have := (ls_app ho).2.1
      rw [Nat.zero_add] at this
      exact this
    rw [show nI L.length - 1 = nI L0.length by rw [eL]; exact nI_pred _, nI_clamp (n := L0.length) (by omega), hop]
    refine br_f (nI_nle (by omega) (by omega)) ⟨vp_in_nI (by omega) (by omega), ?_⟩
    unfold wY_draw_27
    refine br_f (by decide) (br_t (nI_le (b := 20) o20 (by omega)) ?_)
    unfold wY_draw_44
    exact br_t (nI_le (b := 20) o20 (by omega)) fin
/-- the work forest while it is part of side 2 -/
theorem yw_len3b {post : Int32 → SY → Prop} {L0 : List Nat} (G : (yw_E n m l1 l2 lb1 lb2 ylow ylab)) (c2 : ycnt 2 = nI m) (hA : ∀ v, 1 ≤ v → v ≤ 8 → ymap (10 + v) = nI (A v)) (hV : td_V l1 l2 1 n 1 m A) (he : yend 0 = 0) (ho : ls_h yop 0 (td_OL A lb1 lb2 n m)) (hO : (td_OL A lb1 lb2 n m) = L ++ S) (hL : L = L0 ++ [20 + j]) (hj1 : 1 ≤ j) (hj : j ≤ m)
    (h : ∀ pic en out, en 0 = 0 → ls_h out 0 (tx (td_Ps A m (j - 1)) l2 (fun v => 97 + lb2 v) 1 8) → post (nI (tx (td_Ps A m (j - 1)) l2 (fun v => 97 + lb2 v) 1 8).length) (ycap, yrel, ydel, yins, 1, ytot, nI L.length, nI (tx (td_Ps A m (j - 1)) l2 (fun v => 97 + lb2 v) 1 8).length, ycnt, yrts, ylow, ylab, ymap, yop, pic, en, out)) : wpY_length post (ycap, yrel, ydel, yins, 1, ytot, nI L.length, ylen, ycnt, yrts, ylow, ylab, ymap, yop, ypic, yend, yout) 3 := by
  obtain ⟨hn, hm, L1, L2, H1, H2⟩ := G
  have hlen := td_OL_len (A := A) (lb1 := lb1) (lb2 := lb2) n m
  have eL0 : (td_OL A lb1 lb2 n m).length = L.length + S.length := by rw [hO, List.length_append]
  have eL : L.length = L0.length + 1 := by rw [hL, td_l1]
  have hop : yop L0.length = nI (20 + j) := by
    rw [hO, hL, List.append_assoc] at ho
    have := (ls_app ho).2.1
    rw [Nat.zero_add] at this
    exact this
  have fin : wY_draw_59 (fun u => match u with | (ycap, yrel, ydel, yins, ydif, ytot, ypos, ylen, ycnt, yrts, ylow, ylab, ymap, yop, ypic, yend, yout) => wY_length_41 post 3 ycap yrel ydel yins ydif ytot ypos ylen ycnt yrts ylow ylab ymap yop ypic yend yout) 3 (nI 2) (nI (j - 1)) ycap yrel ydel yins 1 ytot (nI L.length) 0 ycnt yrts ylow ylab ymap yop ypic yend yout :=
    yw_59 (R := td_Ps A m (j - 1)) (A := A) (by omega) (by omega) (by omega) hm (by omega) c2 L2 (fun v v1 v2 => (H2 v v1 v2).1) (fun v v1 v2 => ⟨(H2 v v1 v2).2.1, (H2 v v1 v2).2.2⟩) hA (td_V_le hV hm) he (fun w _ _ => Iff.rfl) (fun w z => (td_Ps_i.mp z).1) (fun w _ => by omega) (fun pic en out q1 q2 => yw_41 (by decide) (by decide) (h pic en out q1 q2))
  unfold wpY_length
  refine br_f (by decide) ?_
  unfold wY_length_14
  refine br_f (by decide) (br_f (by decide) (br_t rfl (br_f (by decide) ?_)))
  unfold wY_length_36 wpY_draw
  refine br_t rfl ?_
  rw [show nI L.length - 1 = nI L0.length by rw [eL]; exact nI_pred _, nI_clamp (n := L0.length) (by omega), hop]
  refine br_f (nI_nle (by omega) (by omega)) ⟨vp_in_nI (by omega) (by omega), ?_⟩
  unfold wY_draw_27
  refine br_f (by decide) (br_f (nI_ge (a := 20) (by omega) (by omega)) ?_)
  unfold wY_draw_39 wY_draw_44
  refine br_f (nI_ge (a := 20) (by omega) (by omega)) ?_
  rw [show nI (20 + j) - 21 = nI (j - 1) by rw [show (21 : Int32) = nI 21 from rfl, pk_sub (by omega)]; exact congrArg nI (by omega)]
  exact fin
end
end
section
/-! length, text -/
theorem td_tx_ch {A l1 l2 lb1 lb2 : Nat → Nat} {n m o x : Nat} (hn : n ≤ 8) (hm : m ≤ 8) (hV : td_V l1 l2 1 n 1 m A) (hlb : ∀ v, 1 ≤ v → v ≤ m → lb2 v ≤ 25) (ho : o ∈ td_OL A lb1 lb2 n m) (hx : x ∈ td_tx A l2 lb2 m o) : x < 65536 := by
  have o28 := td_OL_le hn hm ho
  unfold td_tx at hx
  unfold td_OL at ho
  rcases List.mem_append.mp ho with q | q
  · have q := td_oR_m.mp q
    have r := hV.1 o q.2.2.1
    have b := hlb (A o) r.2.2.1 r.2.2.2
    rw [if_pos (by omega)] at hx
    simp only [List.mem_cons, List.not_mem_nil, or_false] at hx
    omega
  · rcases List.mem_append.mp q with q | q
    · have q := td_oD_m.mp q
      rw [if_neg (by omega), if_pos (by omega)] at hx
      simp only [List.mem_cons, List.not_mem_nil, or_false] at hx
      omega
    · have q := td_oI_m.mp q
      have b := hlb (o - 20) (by omega) (by omega)
      rw [if_neg (by omega), if_neg (by omega)] at hx
      have q8 := td_one8 (td_iq A m (o - 20) (td_up (td_Ps A m (o - 20)) l2 (o - 20)))
      have f8 := td_one8 (td_if A l2 m (o - 20) (td_up (td_Ps A m (o - 20)) l2 (o - 20)))
      have c8 := td_one8 (td_ic A l2 m (o - 20) (td_up (td_Ps A m (o - 20)) l2 (o - 20)))
      simp only [List.mem_cons, List.not_mem_nil, or_false] at hx
      omega
theorem tx_ch'' {P : Nat → Bool} {l lb : Nat → Nat} {N : Nat} (hL : td_LP P l) (hN : N ≤ 8) (hP : ∀ w, P w = true → w ≤ N) (h : ∀ v, 1 ≤ v → v ≤ N → lb v ≤ 25) : ∀ x, x ∈ tx P l (fun v => 97 + lb v) 1 8 → x < 65536 := by
  have hL2 : td_LP (fun w => P w && decide (1 ≤ w)) l := fun v v1 v8 vP => by
    simp only [Bool.and_eq_true] at vP
    have L := hL v v1 v8 vP.1
    refine ⟨L.1, L.2.1, fun w w1 w2 w3 w4 => ?_⟩
    simp only [Bool.and_eq_true] at w3
    exact L.2.2 w w1 w2 w3.1 w4
  have e : tx (fun w => P w && decide (1 ≤ w)) l (fun v => 97 + lb v) 1 8 = tx P l (fun v => 97 + lb v) 1 8 := tx_cP hL hL2 (fun w w1 w2 => by simp only [Bool.and_eq_true, decide_eq_true_eq]; exact ⟨fun z => z.1, fun z => ⟨z, w1⟩⟩) (fun _ _ => rfl) 8 1 8 (by omega) (by omega) (by omega)
  rw [← e]
  refine tx_ch hL2 (fun v vP => ?_) 8 1 8 (by omega) (by omega) (by omega)
  simp only [Bool.and_eq_true, decide_eq_true_eq] at vP
  have := h v vP.2 (hP v vP.1)
  show 97 + lb v < 65536
  omega
theorem tx_ch' {l lb : Nat → Nat} {N : Nat} (hL : td_LP (td_all N) l) (hN : N ≤ 8) (h : ∀ v, 1 ≤ v → v ≤ N → lb v ≤ 25) : ∀ x, x ∈ tx (td_all N) l (fun v => 97 + lb v) 1 8 → x < 65536 := tx_ch'' hL hN (fun _ z => td_all_i z) h
def zz_G (k : Nat) (v1 : Int32) (u : SX) (v : SY) : Prop := ∀ PX : Int32 → SX → Prop,
  ((v1 < 1 ∨ ¬ v1 ≤ 4) → (∀ PY : Int32 → SY → Prop, (∀ (ycap yrel ydel yins ydif ytot ypos ylen : Int32) (ycnt yrts ylow ylab ymap yop ypic yend yout : Nat → Int32), i_Rel k u (ycap, yrel, ydel, yins, ydif, ytot, ypos, ylen, ycnt, yrts, ylow, ylab, ymap, yop, ypic, yend, yout) → PY (-1) (ycap, yrel, ydel, yins, ydif, ytot, ypos, ylen, ycnt, yrts, ylow, ylab, ymap, yop, ypic, yend, yout)) → wpY_length PY v v1) → PX (-1) u) →
  (v1 = 4 → ∀ (xcap xrel xdel xins xdif xtsk xscl xopc xpos xpad xpgl : Int32) (xfst xnxt xup xlab xusd xrts xlft xfor xtre xmat xm1 xm2 xtI xtJ xc1 xc2 xscr xopA xpag : Nat → Int32) (T : List Nat), ls_h xscr 0 T → T.length ≤ 96 → (∀ x, x ∈ T → x < 65536) → (∀ PY : Int32 → SY → Prop, (∀ (ycap yrel ydel yins ydif ytot ypos ylen : Int32) (ycnt yrts ylow ylab ymap yop ypic yend yout : Nat → Int32), ls_h yout 0 T → i_Rel k (xcap, xrel, xdel, xins, xdif, xtsk, xscl, xopc, xpos, xpad, xpgl, xfst, xnxt, xup, xlab, xusd, xrts, xlft, xfor, xtre, xmat, xm1, xm2, xtI, xtJ, xc1, xc2, xscr, xopA, xpag) (ycap, yrel, ydel, yins, ydif, ytot, ypos, ylen, ycnt, yrts, ylow, ylab, ymap, yop, ypic, yend, yout) → PY (nI T.length) (ycap, yrel, ydel, yins, ydif, ytot, ypos, ylen, ycnt, yrts, ylow, ylab, ymap, yop, ypic, yend, yout)) → wpY_length PY v v1) → PX (nI T.length) (xcap, xrel, xdel, xins, xdif, xtsk, xscl, xopc, xpos, xpad, xpgl, xfst, xnxt, xup, xlab, xusd, xrts, xlft, xfor, xtre, xmat, xm1, xm2, xtI, xtJ, xc1, xc2, xscr, xopA, xpag)) →
  (¬ v1 = 4 → ∀ (xcap xrel xdel xins xdif xtsk xscl xopc xpos xpad xpgl : Int32) (xfst xnxt xup xlab xusd xrts xlft xfor xtre xmat xm1 xm2 xtI xtJ xc1 xc2 xscr xopA xpag : Nat → Int32) (T : List Nat), ls_h xpag 0 T → T.length ≤ 24 → (∀ x, x ∈ T → x < 65536) → (∀ PY : Int32 → SY → Prop, (∀ (ycap yrel ydel yins ydif ytot ypos ylen : Int32) (ycnt yrts ylow ylab ymap yop ypic yend yout : Nat → Int32), ls_h yout 0 T → i_Rel k (xcap, xrel, xdel, xins, xdif, xtsk, xscl, xopc, xpos, xpad, xpgl, xfst, xnxt, xup, xlab, xusd, xrts, xlft, xfor, xtre, xmat, xm1, xm2, xtI, xtJ, xc1, xc2, xscr, xopA, xpag) (ycap, yrel, ydel, yins, ydif, ytot, ypos, ylen, ycnt, yrts, ylow, ylab, ymap, yop, ypic, yend, yout) → PY (nI T.length) (ycap, yrel, ydel, yins, ydif, ytot, ypos, ylen, ycnt, yrts, ylow, ylab, ymap, yop, ypic, yend, yout)) → wpY_length PY v v1) → PX (nI T.length) (xcap, xrel, xdel, xins, xdif, xtsk, xscl, xopc, xpos, xpad, xpgl, xfst, xnxt, xup, xlab, xusd, xrts, xlft, xfor, xtre, xmat, xm1, xm2, xtI, xtJ, xc1, xc2, xscr, xopA, xpag)) →
  wpX_length PX u v1
theorem zz_cases (v1 : Int32) : (v1 < 1 ∨ ¬ v1 ≤ 4) ∨ v1 = 1 ∨ v1 = 2 ∨ v1 = 3 ∨ v1 = 4 := by
  rcases zz_ix v1 with h | ⟨i, i1, i2, rfl⟩
  · exact Or.inl (Or.inl h)
  · rcases Nat.lt_or_ge 4 i with z | z
    · exact Or.inl (Or.inr (nI_ge (a := 4) z i2))
    · refine Or.inr ?_
      have c : i = 1 ∨ i = 2 ∨ i = 3 ∨ i = 4 := by omega
      rcases c with rfl | rfl | rfl | rfl
      · exact Or.inl rfl
      · exact Or.inr (Or.inl rfl)
      · exact Or.inr (Or.inr (Or.inl rfl))
      · exact Or.inr (Or.inr (Or.inr rfl))
section
variable {v1 : Int32} {xcap xrel xdel xins xdif xtsk xscl xopc xpos xpad xpgl : Int32} {xfst xnxt xup xlab xusd xrts xlft xfor xtre xmat xm1 xm2 xtI xtJ xc1 xc2 xscr xopA xpag : Nat → Int32} {ycap yrel ydel yins ydif ytot ypos ylen : Int32} {ycnt yrts ylow ylab ymap yop ypic yend yout : Nat → Int32}
theorem xw_len0 {post : Int32 → SX → Prop} (h : v1 < 1 ∨ ¬ v1 ≤ 4) (hp : post (-1) (xcap, xrel, xdel, xins, xdif, xtsk, xscl, xopc, xpos, xpad, xpgl, xfst, xnxt, xup, xlab, xusd, xrts, xlft, xfor, xtre, xmat, xm1, xm2, xtI, xtJ, xc1, xc2, xscr, xopA, xpag)) : wpX_length post (xcap, xrel, xdel, xins, xdif, xtsk, xscl, xopc, xpos, xpad, xpgl, xfst, xnxt, xup, xlab, xusd, xrts, xlft, xfor, xtre, xmat, xm1, xm2, xtI, xtJ, xc1, xc2, xscr, xopA, xpag) v1 := by
  unfold wpX_length
  by_cases c : v1 < 1
  · exact br_t c hp
  · rcases h with h | h
    · exact absurd h c
    · exact br_f c (br_f h hp)
theorem yw_len0 {post : Int32 → SY → Prop} (h : v1 < 1 ∨ ¬ v1 ≤ 4) (hp : post (-1) (ycap, yrel, ydel, yins, ydif, ytot, ypos, 0, ycnt, yrts, ylow, ylab, ymap, yop, ypic, yend, yout)) : wpY_length post (ycap, yrel, ydel, yins, ydif, ytot, ypos, ylen, ycnt, yrts, ylow, ylab, ymap, yop, ypic, yend, yout) v1 := by
  have n : ∀ z : Int32, ¬ z < 1 → z ≤ 4 → ¬ v1 = z := fun z a b e => by
    rcases h with h | h
    · exact a (e ▸ h)
    · exact h (e ▸ b)
  unfold wpY_length
  refine br_f (n 4 (by decide) (by decide)) ?_
  unfold wY_length_14
  refine br_f (n 1 (by decide) (by decide)) (br_f (n 2 (by decide) (by decide)) (br_f (n 3 (by decide) (by decide)) ?_))
  unfold wY_length_41
  by_cases c : v1 < 1
  · exact br_t c hp
  · rcases h with h | h
    · exact absurd h c
    · exact br_f c (br_f h hp)
end
theorem zz_len {k : Nat} {u : SX} {v : SY} (I : i_Rel k u v) (v1 : Int32) : zz_G k v1 u v := by
  refine zz_el (P := fun u v => zz_G k v1 u v) ?_ ?_ I
  · intro cap r d e n m l1 l2 lb1 lb2 xtsk xpgl xfst xnxt xup xlab xusd xrts xlft xfor xtre xmat xm1 xm2 xtI xtJ xc1 xc2 xscr xopA xpag ylen ycnt yrts ylow ylab ymap yop ypic yend yout hc hC hF
    intro PX h0 h4 h3
    have hC' := hC
    obtain ⟨cap1, cap8, ncap, mcap, ⟨a1, a2, a3, a4, a5, a6⟩, ⟨b1, b2, b3, b4, b5, b6⟩, ⟨u0, u1, c1, c2⟩, ⟨q0, q1, q2, q3⟩, K0, K1, ye⟩ := hC
    have hA : ∀ v, 1 ≤ v → v ≤ 8 → ymap (10 + v) = nI ((fun _ => 0) v) := fun v e1 e2 => hF.2 _ (by omega) (by omega)
    have mA : ∀ v, (fun _ => 0 : Nat → Nat) v ≤ 8 := fun v => Nat.zero_le _
    have kC : ∀ en, en 0 = 0 → rl_C cap n m l1 l2 lb1 lb2 xfst xnxt xup xlab xusd xrts xlft ycnt yrts ylow ylab en := fun en h => ⟨cap1, cap8, ncap, mcap, ⟨a1, a2, a3, a4, a5, a6⟩, ⟨b1, b2, b3, b4, b5, b6⟩, ⟨u0, u1, c1, c2⟩, ⟨q0, q1, q2, q3⟩, K0, K1, h⟩
    rcases zz_cases v1 with h | rfl | rfl | rfl | rfl
    · exact xw_len0 h (h0 h fun PY hP => yw_len0 h (hP _ _ _ _ _ _ _ _ _ _ _ _ _ _ _ _ _ (zz_inF hc hC' hF)))
    · have hLP := td_LP_a a3 a1
      have bd := tx_bd (pc := fun v => 97 + lb1 v) hLP 8 1 8 (by omega) (by omega) (by omega) (fun w w1 w2 w3 => (hLP w w1 w2 w3).1)
      refine xw_lenS (sd := 1) (lb := lb1) (by omega) (by omega) a1 a3 K0 (fun v e1 e2 => by show xlab (0 + v) = _ ∧ _; rw [Nat.zero_add]; exact ⟨(a5 v e1 e2).2.1, (a5 v e1 e2).2.2⟩) fun pag hp => h3 (by decide) _ _ _ _ _ _ _ _ _ _ _ _ _ _ _ _ _ _ _ _ _ _ _ _ _ _ _ _ _ _ _ hp (by omega) (tx_ch' hLP a1 (fun v e1 e2 => (a5 v e1 e2).2.2)) fun PY hP => ?_
      exact yw_lenS (sd := 1) (A := fun _ => 0) (lb := lb1) (by omega) (by omega) a1 c1 a3 (fun v e1 e2 => (b5 v e1 e2).1) (fun v e1 e2 => ⟨(b5 v e1 e2).2.1, (b5 v e1 e2).2.2⟩) hA mA ye fun pic en out z1 z2 => hP _ _ _ _ _ _ _ _ _ _ _ _ _ _ _ _ _ z2 (zz_inF hc (kC en z1) hF)
    · have hLP := td_LP_a a4 a2
      have bd := tx_bd (pc := fun v => 97 + lb2 v) hLP 8 1 8 (by omega) (by omega) (by omega) (fun w w1 w2 w3 => (hLP w w1 w2 w3).1)
      refine xw_lenS (sd := 2) (lb := lb2) (by omega) (by omega) a2 a4 K1 (fun v e1 e2 => ⟨(a6 v e1 e2).2.1, (a6 v e1 e2).2.2⟩) fun pag hp => h3 (by decide) _ _ _ _ _ _ _ _ _ _ _ _ _ _ _ _ _ _ _ _ _ _ _ _ _ _ _ _ _ _ _ hp (by omega) (tx_ch' hLP a2 (fun v e1 e2 => (a6 v e1 e2).2.2)) fun PY hP => ?_
      exact yw_lenS (sd := 2) (A := fun _ => 0) (lb := lb2) (by omega) (by omega) a2 c2 a4 (fun v e1 e2 => (b6 v e1 e2).1) (fun v e1 e2 => ⟨(b6 v e1 e2).2.1, (b6 v e1 e2).2.2⟩) hA mA ye fun pic en out z1 z2 => hP _ _ _ _ _ _ _ _ _ _ _ _ _ _ _ _ _ z2 (zz_inF hc (kC en z1) hF)
    · unfold wpX_length
      refine br_f (by decide) (br_t (by decide) (br_f (by decide) ?_))
      unfold wpX_render
      dsimp only
      rw [show ((3 : Int32) - 1) * 17 = nI 34 from rfl, nI_clamp (n := 34) (by omega), hF.1]
      refine ⟨vp_in_nI (by omega) (by omega), nm_e ⟨1, xw_rn0 (b := 34) (s := 0) (k := 0) (by omega) (h3 (by decide) _ _ _ _ _ _ _ _ _ _ _ _ _ _ _ _ _ _ _ _ _ _ _ _ _ _ _ _ _ _ [] trivial (by decide) (fun x hx => absurd hx List.not_mem_nil) fun PY hP => ?_)⟩⟩
      unfold wpY_length
      refine br_f (by decide) ?_
      unfold wY_length_14
      refine br_f (by decide) (br_f (by decide) (br_t rfl (br_t rfl (yw_41 (by decide) (by decide) (hP _ _ _ _ _ _ _ _ _ _ _ _ _ _ _ _ _ trivial (zz_inF hc hC' hF))))))
    · unfold wpX_length
      refine br_f (by decide) (br_t (by decide) (br_t rfl (h4 rfl _ _ _ _ _ _ _ _ _ _ _ _ _ _ _ _ _ _ _ _ _ _ _ _ _ _ _ _ _ _ [] trivial (by decide) (fun x hx => absurd hx List.not_mem_nil) fun PY hP => ?_)))
      unfold wpY_length
      refine br_t rfl ?_
      unfold wpY_script
      refine ⟨1, ?_⟩
      unfold wY_script_2
      refine br_t (by decide) ?_
      dsimp only
      unfold wY_length_14
      exact br_f (by decide) (br_f (by decide) (br_f (by decide) (yw_41 (by decide) (by decide) (hP _ _ _ _ _ _ _ _ _ _ _ _ _ _ _ _ _ trivial (zz_inF hc hC' hF)))))
  · intro cap r d e n m l1 l2 lb1 lb2 A cl L S xtsk xpgl xfst xnxt xup xlab xusd xrts xlft xfor xtre xmat xm1 xm2 xtI xtJ xc1 xc2 xscr xopA xpag ylen ycnt yrts ylow ylab ymap yop ypic yend yout hc hC hD
    intro PX h0 h4 h3
    have hC' := hC
    have hD' := hD
    obtain ⟨cap1, cap8, ncap, mcap, ⟨a1, a2, a3, a4, a5, a6⟩, ⟨b1, b2, b3, b4, b5, b6⟩, ⟨u0, u1, c1, c2⟩, ⟨q0, q1, q2, q3⟩, K0, K1, ye⟩ := hC
    have G : (yw_E n m l1 l2 lb1 lb2 ylow ylab) := ⟨b1, b2, b3, b4, b5, b6⟩
    obtain ⟨⟨n1, m1, r1, r2, eA⟩, d2, d3, d4, d5, d6, d7, d8, d9, d10, d11, d12, d13⟩ := hD
    have hV := td_M_V l1 l2 d e (td_rn r lb1 lb2) 1 n 1 m
    rw [← eA] at hV
    have mA := td_V_le hV a2
    have mA2 : ∀ v, A v ≤ m := fun v => by
      by_cases c : A v = 0
      · omega
      · exact (hV.1 v c).2.2.2
    have kC : ∀ en, en 0 = 0 → rl_C cap n m l1 l2 lb1 lb2 xfst xnxt xup xlab xusd xrts xlft ycnt yrts ylow ylab en := fun en h => ⟨cap1, cap8, ncap, mcap, ⟨a1, a2, a3, a4, a5, a6⟩, ⟨b1, b2, b3, b4, b5, b6⟩, ⟨u0, u1, c1, c2⟩, ⟨q0, q1, q2, q3⟩, K0, K1, h⟩
    have hlen := td_OL_len (A := A) (lb1 := lb1) (lb2 := lb2) n m
    rcases zz_cases v1 with h | rfl | rfl | rfl | rfl
    · exact xw_len0 h (h0 h fun PY hP => yw_len0 h (hP _ _ _ _ _ _ _ _ _ _ _ _ _ _ _ _ _ (zz_inD hc hC' hD')))
    · have hLP := td_LP_a a3 a1
      have bd := tx_bd (pc := fun v => 97 + lb1 v) hLP 8 1 8 (by omega) (by omega) (by omega) (fun w w1 w2 w3 => (hLP w w1 w2 w3).1)
      refine xw_lenS (sd := 1) (lb := lb1) (by omega) (by omega) a1 a3 K0 (fun v e1 e2 => by show xlab (0 + v) = _ ∧ _; rw [Nat.zero_add]; exact ⟨(a5 v e1 e2).2.1, (a5 v e1 e2).2.2⟩) fun pag hp => h3 (by decide) _ _ _ _ _ _ _ _ _ _ _ _ _ _ _ _ _ _ _ _ _ _ _ _ _ _ _ _ _ _ _ hp (by omega) (tx_ch' hLP a1 (fun v e1 e2 => (a5 v e1 e2).2.2)) fun PY hP => ?_
      exact yw_lenS (sd := 1) (A := A) (lb := lb1) (by omega) (by omega) a1 c1 a3 (fun v e1 e2 => (b5 v e1 e2).1) (fun v e1 e2 => ⟨(b5 v e1 e2).2.1, (b5 v e1 e2).2.2⟩) d6 mA ye fun pic en out z1 z2 => hP _ _ _ _ _ _ _ _ _ _ _ _ _ _ _ _ _ z2 (zz_inD hc (kC en z1) hD')
    · have hLP := td_LP_a a4 a2
      have bd := tx_bd (pc := fun v => 97 + lb2 v) hLP 8 1 8 (by omega) (by omega) (by omega) (fun w w1 w2 w3 => (hLP w w1 w2 w3).1)
      refine xw_lenS (sd := 2) (lb := lb2) (by omega) (by omega) a2 a4 K1 (fun v e1 e2 => ⟨(a6 v e1 e2).2.1, (a6 v e1 e2).2.2⟩) fun pag hp => h3 (by decide) _ _ _ _ _ _ _ _ _ _ _ _ _ _ _ _ _ _ _ _ _ _ _ _ _ _ _ _ _ _ _ hp (by omega) (tx_ch' hLP a2 (fun v e1 e2 => (a6 v e1 e2).2.2)) fun PY hP => ?_
      exact yw_lenS (sd := 2) (A := A) (lb := lb2) (by omega) (by omega) a2 c2 a4 (fun v e1 e2 => (b6 v e1 e2).1) (fun v e1 e2 => ⟨(b6 v e1 e2).2.1, (b6 v e1 e2).2.2⟩) d6 mA ye fun pic en out z1 z2 => hP _ _ _ _ _ _ _ _ _ _ _ _ _ _ _ _ _ z2 (zz_inD hc (kC en z1) hD')
    · have hren : ∀ {post : Int32 → SX → Prop}, wpX_render (fun u => match u with | (xcap, xrel, xdel, xins, xdif, xtsk, xscl, xopc, xpos, xpad, xpgl, xfst, xnxt, xup, xlab, xusd, xrts, xlft, xfor, xtre, xmat, xm1, xm2, xtI, xtJ, xc1, xc2, xscr, xopA, xpag) => post xpgl (xcap, xrel, xdel, xins, xdif, xtsk, xscl, xopc, xpos, xpad, xpgl, xfst, xnxt, xup, xlab, xusd, xrts, xlft, xfor, xtre, xmat, xm1, xm2, xtI, xtJ, xc1, xc2, xscr, xopA, xpag)) (nI cap, nI r, nI d, nI e, 1, xtsk, nI ((td_OL A lb1 lb2 n m).flatMap (td_tx A l2 lb2 m)).length, nI (td_OL A lb1 lb2 n m).length, nI L.length, nI (td_pd r d e L), xpgl, xfst, xnxt, xup, xlab, xusd, xrts, xlft, xfor, xtre, xmat, xm1, xm2, xtI, xtJ, xc1, xc2, xscr, xopA, xpag) (nI 34) → wpX_length post (nI cap, nI r, nI d, nI e, 1, xtsk, nI ((td_OL A lb1 lb2 n m).flatMap (td_tx A l2 lb2 m)).length, nI (td_OL A lb1 lb2 n m).length, nI L.length, nI (td_pd r d e L), xpgl, xfst, xnxt, xup, xlab, xusd, xrts, xlft, xfor, xtre, xmat, xm1, xm2, xtI, xtJ, xc1, xc2, xscr, xopA, xpag) 3 := fun h => by
        unfold wpX_length
        exact br_f (by decide) (br_t (by decide) (br_f (by decide) h))
      refine hren ?_
      rcases d9 with ⟨w1, w2, w3, w4, w5⟩ | ⟨I0, j, sl, N, w1, w2, w3, w4, w5, w6, w7, w8⟩
      · have hLP : td_LP (td_Pd n L) l1 := td_LP_d a3 a1 fun w z => (td_Pd_i.mp z).2.1
        have bd := tx_bd (pc := fun v => 97 + td_ld A lb1 lb2 L v) hLP 8 1 8 (by omega) (by omega) (by omega) (fun w w1 w2 w3 => (hLP w w1 w2 w3).1)
        have hld : ∀ v, td_Pd n L v = true → td_ld A lb1 lb2 L v ≤ 25 := fun v vP => by
          have vp := td_Pd_i.mp vP
          unfold td_ld
          split
          · rename_i z
            have hm' : v ∈ (td_OL A lb1 lb2 n m) := by
              rw [d8]
              exact List.mem_append_left _ z
            unfold td_OL at hm'
            rcases List.mem_append.mp hm' with q | q
            · have q := td_oR_m.mp q
              have r' := hV.1 v q.2.2.1
              exact (a6 (A v) r'.2.2.1 r'.2.2.2).2.2
            · rcases List.mem_append.mp q with q | q
              · have q := td_oD_m.mp q
                omega
              · have q := td_oI_m.mp q
                omega
          · exact (a5 v vp.1 vp.2.1).2.2
        refine xw_render (N := n) (lbv := td_ld A lb1 lb2 L) (pc := fun v => 97 + td_ld A lb1 lb2 L v) (by omega) (by omega) hLP w3 w4 (fun v e1 e2 vP => ⟨w5 v e1 e2 vP, hld v vP, rfl⟩) fun pag hp => h3 (by decide) _ _ _ _ _ _ _ _ _ _ _ _ _ _ _ _ _ _ _ _ _ _ _ _ _ _ _ _ _ _ _ hp (by omega) (tx_ch hLP (fun v vP => by have := hld v vP; show 97 + td_ld A lb1 lb2 L v < 65536; omega) 8 1 8 (by omega) (by omega) (by omega)) fun PY hP => ?_
        exact yw_len3a G c1 d6 hV ye d7 d8 w1 fun pic en out z1 z2 => hP _ _ _ _ _ _ _ _ _ _ _ _ _ _ _ _ _ z2 (zz_inD hc (kC en z1) hD')
      · have hLP : td_LP (td_Ps A m (j - 1)) l2 := td_LP_d a4 a2 fun w z => (td_Ps_i.mp z).1
        have bd := tx_bd (pc := fun v => 97 + lb2 v) hLP 8 1 8 (by omega) (by omega) (by omega) (fun w w1 w2 w3 => (hLP w w1 w2 w3).1)
        have il := td_oI_len (A := A) m
        have eL0 : (td_OL A lb1 lb2 n m).length = L.length + S.length := by rw [d8, List.length_append]
        have eL : L.length = (td_oR A lb1 lb2 n ++ td_oD A n).length + (I0.length + 1) := by rw [w1, List.length_append, td_l1]
        have rdl := td_oRD (A := A) (lb1 := lb1) (lb2 := lb2) n
        have eOL : (td_OL A lb1 lb2 n m).length = (td_oR A lb1 lb2 n ++ td_oD A n).length + (td_oI A m).length := by
          unfold td_OL
          rw [List.length_append, List.length_append, List.length_append]
          omega
        refine xw_render (N := N) (lbv := lb2) (pc := fun v => 97 + lb2 v) (by omega) (by omega) hLP w6 w7 (fun v e1 e2 vP => ⟨w8 v e1 e2 vP, (a6 v e1 (td_Ps_i.mp vP).1).2.2, rfl⟩) fun pag hp => h3 (by decide) _ _ _ _ _ _ _ _ _ _ _ _ _ _ _ _ _ _ _ _ _ _ _ _ _ _ _ _ _ _ _ hp (by omega) (tx_ch'' hLP a2 (fun w z => (td_Ps_i.mp z).1) (fun v e1 e2 => (a6 v e1 e2).2.2)) fun PY hP => ?_
        exact yw_len3b (L0 := (td_oR A lb1 lb2 n ++ td_oD A n) ++ I0) G c2 d6 hV ye d7 d8 (by rw [w1]; simp only [List.append_assoc]) w2 w3 fun pic en out z1 z2 => hP _ _ _ _ _ _ _ _ _ _ _ _ _ _ _ _ _ z2 (zz_inD hc (kC en z1) hD')
    · have fm := td_fm_len (f := (td_tx A l2 lb2 m)) (c := 6) td_tx_len (td_OL A lb1 lb2 n m)
      unfold wpX_length
      refine br_f (by decide) (br_t (by decide) (br_t rfl (h4 rfl _ _ _ _ _ _ _ _ _ _ _ _ _ _ _ _ _ _ _ _ _ _ _ _ _ _ _ _ _ _ _ d4 (by omega) (fun x hx => ?_) fun PY hP => ?_)))
      · obtain ⟨o, o1, o2⟩ := List.mem_flatMap.mp hx
        exact td_tx_ch a1 a2 hV (fun v e1 e2 => (a6 v e1 e2).2.2) o1 o2
      · unfold wpY_length
        refine br_t rfl (yw_script G c2 d6 mA2 d7 fun pic out z => ?_)
        dsimp only
        unfold wY_length_14
        exact br_f (by decide) (br_f (by decide) (br_f (by decide) (yw_41 (by decide) (by decide) (hP _ _ _ _ _ _ _ _ _ _ _ _ _ _ _ _ _ z (zz_inD hc hC' hD')))))
end
section
/-! length and text, as owed -/
theorem i_vc_length {k : Nat} {u : SX} {v : SY} (I : i_Rel k u v) (hk : k + 4 ≤ 2052) (v1 : Int32) : wpX_length (fun r u' => wpY_length (fun r' v' => r' = r ∧ i_Rel (k + 4) u' v') v v1) u v1 := by
  refine zz_len (i_up I) v1 _ ?_ ?_ ?_
  · intro _ hY
    refine hY _ ?_
    intro ycap yrel ydel yins ydif ytot ypos ylen ycnt yrts ylow ylab ymap yop ypic yend yout R
    exact ⟨rfl, R⟩
  · intro _ xcap xrel xdel xins xdif xtsk xscl xopc xpos xpad xpgl xfst xnxt xup xlab xusd xrts xlft xfor xtre xmat xm1 xm2 xtI xtJ xc1 xc2 xscr xopA xpag T _ _ _ hY
    refine hY _ ?_
    intro ycap yrel ydel yins ydif ytot ypos ylen ycnt yrts ylow ylab ymap yop ypic yend yout _ R
    exact ⟨rfl, R⟩
  · intro _ xcap xrel xdel xins xdif xtsk xscl xopc xpos xpad xpgl xfst xnxt xup xlab xusd xrts xlft xfor xtre xmat xm1 xm2 xtI xtJ xc1 xc2 xscr xopA xpag T _ _ _ hY
    refine hY _ ?_
    intro ycap yrel ydel yins ydif ytot ypos ylen ycnt yrts ylow ylab ymap yop ypic yend yout _ R
    exact ⟨rfl, R⟩
theorem zz_ch {T : List Nat} {a : Nat → Int32} {i : Nat} (h : ls_h a 0 T) (hi : i < T.length) (hc : ∀ x, x ∈ T → x < 65536) : ∃ c, c < 65536 ∧ a i = nI c ∧ c = T.getD i 0 := by
  have g := ls_get (k := i) h hi
  rw [Nat.zero_add] at g
  refine ⟨_, hc _ ?_, g, rfl⟩
  rw [List.getD_eq_getElem?_getD, List.getElem?_eq_getElem hi]
  exact List.getElem_mem hi
theorem i_vc_text {k : Nat} {u : SX} {v : SY} (I : i_Rel k u v) (hk : k + 4 ≤ 2052) (v1 : Int32) (v2 : Int32) : wpX_text (fun r u' => wpY_text (fun r' v' => r' = r ∧ i_Rel (k + 4) u' v') v v1 v2) u v1 v2 := by
  refine zz_e1 (P := fun u v => wpX_text (fun r u' => wpY_text (fun r' v' => r' = r ∧ i_Rel (k + 4) u' v') v v1 v2) u v1 v2) ?_ I
  intro xcap xrel xdel xins xdif xtsk xscl xopc xpos xpad xpgl xfst xnxt xup xlab xusd xrts xlft xfor xtre xmat xm1 xm2 xtI xtJ xc1 xc2 xscr xopA xpag ycap yrel ydel yins ydif ytot ypos ylen ycnt yrts ylow ylab ymap yop ypic yend yout hB
  have I' : i_Rel (k + 4) (xcap, xrel, xdel, xins, xdif, xtsk, xscl, xopc, xpos, xpad, xpgl, xfst, xnxt, xup, xlab, xusd, xrts, xlft, xfor, xtre, xmat, xm1, xm2, xtI, xtJ, xc1, xc2, xscr, xopA, xpag) (ycap, yrel, ydel, yins, ydif, ytot, ypos, ylen, ycnt, yrts, ylow, ylab, ymap, yop, ypic, yend, yout) := hB
  have G := zz_len I' v1
  unfold wpX_text wpY_text
  refine G _ ?_ ?_ ?_
  · intro h hY
    refine br_c (fun c => hY _ ?_) (fun c => br_f ?_ (hY _ ?_))
    · intro ycap yrel ydel yins ydif ytot ypos ylen ycnt yrts ylow ylab ymap yop ypic yend yout R
      exact br_t c ⟨rfl, R⟩
    · obtain ⟨i, i1, rfl⟩ := nI_of c
      intro z
      have := Int32.lt_iff_toInt_lt.mp z
      rw [nI_toInt i1] at this
      have e : (-1 : Int32).toInt = -1 := by decide
      omega
    · intro ycap yrel ydel yins ydif ytot ypos ylen ycnt yrts ylow ylab ymap yop ypic yend yout R
      refine br_f c (br_t ?_ ⟨rfl, R⟩)
      obtain ⟨i, i1, rfl⟩ := nI_of c
      exact Int32.le_trans (by decide) (nI_pos' i1)
  · intro h4 xcap xrel xdel xins xdif xtsk xscl xopc xpos xpad xpgl xfst xnxt xup xlab xusd xrts xlft xfor xtre xmat xm1 xm2 xtI xtJ xc1 xc2 xscr xopA xpag T hx hl hc hY
    subst h4
    by_cases c : v2 < 0
    · refine br_t c (hY _ ?_)
      intro ycap yrel ydel yins ydif ytot ypos ylen ycnt yrts ylow ylab ymap yop ypic yend yout _ R
      exact br_t c ⟨rfl, R⟩
    · obtain ⟨i, i1, rfl⟩ := nI_of c
      refine br_f c (pk_lt i T.length (fun q => br_t rfl ?_) (fun q => hY _ ?_) rfl rfl i1 (by omega))
      · obtain ⟨x, x1, x2, x3⟩ := zz_ch hx q hc
        dsimp only
        rw [nI_clamp i1, x2]
        refine ⟨vp_in_nI (by omega) (by omega), (pk_charN x1).1, hY _ ?_⟩
        intro ycap yrel ydel yins ydif ytot ypos ylen ycnt yrts ylow ylab ymap yop ypic yend yout hy R
        obtain ⟨y, y1, y2, y3⟩ := zz_ch hy q hc
        dsimp only
        rw [y2]
        exact br_f c (br_f (nI_ge q (by omega)) ⟨vp_in_nI (by omega) (by omega), (pk_charN y1).1, by rw [x3, y3], R⟩)
      · intro ycap yrel ydel yins ydif ytot ypos ylen ycnt yrts ylow ylab ymap yop ypic yend yout _ R
        exact br_f c (br_t (nI_le q i1) ⟨rfl, R⟩)
  · intro h4 xcap xrel xdel xins xdif xtsk xscl xopc xpos xpad xpgl xfst xnxt xup xlab xusd xrts xlft xfor xtre xmat xm1 xm2 xtI xtJ xc1 xc2 xscr xopA xpag T hx hl hc hY
    by_cases c : v2 < 0
    · refine br_t c (hY _ ?_)
      intro ycap yrel ydel yins ydif ytot ypos ylen ycnt yrts ylow ylab ymap yop ypic yend yout _ R
      exact br_t c ⟨rfl, R⟩
    · obtain ⟨i, i1, rfl⟩ := nI_of c
      refine br_f c (pk_lt i T.length (fun q => br_f h4 ?_) (fun q => hY _ ?_) rfl rfl i1 (by omega))
      · obtain ⟨x, x1, x2, x3⟩ := zz_ch hx q hc
        dsimp only
        rw [nI_clamp i1, x2]
        refine ⟨vp_in_nI (by omega) (by omega), (pk_charN x1).1, hY _ ?_⟩
        intro ycap yrel ydel yins ydif ytot ypos ylen ycnt yrts ylow ylab ymap yop ypic yend yout hy R
        obtain ⟨y, y1, y2, y3⟩ := zz_ch hy q hc
        dsimp only
        rw [y2]
        exact br_f c (br_f (nI_ge q (by omega)) ⟨vp_in_nI (by omega) (by omega), (pk_charN y1).1, by rw [x3, y3], R⟩)
      · intro ycap yrel ydel yins ydif ytot ypos ylen ycnt yrts ylow ylab ymap yop ypic yend yout _ R
        exact br_f c (br_t (nI_le q i1) ⟨rfl, R⟩)
end
