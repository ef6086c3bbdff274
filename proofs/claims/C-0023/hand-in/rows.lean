section
/-! pure rows to paste: stores, nI and lN arithmetic, masks, shifts, narrowing, branches by naturals (pk_le, pk_lt, pk_eq), loops (lp1 .. lp16: the measure of the state; rp1 ..: recursion), negatives. Take what you need -/
theorem pk_us {f : Nat → Int32} {k : Nat} {x : Int32} : upd f k x k = x := if_pos rfl
theorem pk_un {f : Nat → Int32} {k j : Nat} {x : Int32} (h : j ≠ k) : upd f k x j = f j := if_neg h
theorem pk_uLs {f : Nat → Int64} {k : Nat} {x : Int64} : vp_updL f k x k = x := if_pos rfl
theorem pk_uLn {f : Nat → Int64} {k j : Nat} {x : Int64} (h : j ≠ k) : vp_updL f k x j = f j := if_neg h
theorem pk_sub {a b : Nat} (h : b ≤ a) : nI a - nI b = nI (a - b) := by
  obtain ⟨c, rfl⟩ : ∃ c, a = c + b := ⟨a - b, by omega⟩
  rw [← nI_add, Int32.add_sub_cancel, Nat.add_sub_cancel]
theorem pk_m1 (n : Nat) : nI (n + 1) + (-1) = nI n := by
  rw [← nI_1, Int32.add_assoc, show (1 : Int32) + (-1) = 0 from rfl, Int32.add_zero]
theorem pk_mul (a b : Nat) : nI a * nI b = nI (a * b) := (Int32.ofNat_mul a b).symm
theorem pk_div {a d : Nat} (ha : a < 2 ^ 31) (h0 : 0 < d) (hd : d < 2 ^ 31) : nI a / nI d = nI (a / d) := by
  apply Int32.toInt_inj.mp
  rw [lg_idiv_nonneg (by rw [nI_toInt ha]; omega) (by rw [nI_toInt hd]; omega), nI_toInt ha, nI_toInt hd, nI_toInt (Nat.lt_of_le_of_lt (Nat.div_le_self a d) ha)]
  first | rfl | exact (Int.natCast_ediv _ _).symm
theorem pk_rem {a d : Nat} (ha : a < 2 ^ 31) (h0 : 0 < d) (hd : d < 2 ^ 31) : nI a - nI a / nI d * nI d = nI (a % d) := by
  rw [pk_div ha h0 hd, pk_mul, pk_sub (Nat.div_mul_le_self a d)]
  exact congrArg nI (by have := Nat.div_add_mod' a d; omega)
theorem pk_sub_toInt {a b : Nat} (ha : a < 2 ^ 30) (hb : b < 2 ^ 30) : (nI a - nI b).toInt = (a : Int) - b := by
  rw [Int32.toInt_sub, nI_toInt (by omega), nI_toInt (by omega)]
  exact Int.bmod_eq_of_le (by omega) (by omega)
theorem pk_sneg {a b : Nat} (hb : b < 2 ^ 30) (h : a < b) : nI a - nI b < 0 := by
  rw [Int32.lt_iff_toInt_lt, pk_sub_toInt (by omega) hb, show (0 : Int32).toInt = 0 from by decide]
  omega
theorem pk_ix (x : Int32) {n : Nat} (hn : n < 2 ^ 31) : x < 0 ∨ nI n ≤ x ∨ ∃ j : Nat, j < n ∧ x = nI j := by
  by_cases h : x < 0
  · exact Or.inl h
  · obtain ⟨j, hj, rfl⟩ := nI_of h
    by_cases h2 : j < n
    · exact Or.inr (Or.inr ⟨j, h2, rfl⟩)
    · exact Or.inr (Or.inl (nI_le (by omega) hj))
theorem pk_le {x y : Int32} {A B : Prop} (a b : Nat) (f : a ≤ b → A) (g : b < a → B) (hx : x = nI a := by rfl) (hy : y = nI b := by rfl) (ha : a < 2 ^ 31 := by omega) (hb : b < 2 ^ 31 := by omega) : (x ≤ y → A) ∧ (¬ x ≤ y → B) := by
  subst hx hy
  rw [nI_leI ha hb]
  exact ⟨f, fun z => g (by omega)⟩
theorem pk_lt {x y : Int32} {A B : Prop} (a b : Nat) (f : a < b → A) (g : b ≤ a → B) (hx : x = nI a := by rfl) (hy : y = nI b := by rfl) (ha : a < 2 ^ 31 := by omega) (hb : b < 2 ^ 31 := by omega) : (x < y → A) ∧ (¬ x < y → B) := by
  subst hx hy
  rw [nI_ltI ha hb]
  exact ⟨f, fun z => g (by omega)⟩
theorem pk_eq {x y : Int32} {A B : Prop} (a b : Nat) (f : a = b → A) (g : a ≠ b → B) (hx : x = nI a := by rfl) (hy : y = nI b := by rfl) (ha : a < 2 ^ 31 := by omega) (hb : b < 2 ^ 31 := by omega) : (x = y → A) ∧ (¬ x = y → B) := by
  subst hx hy
  rw [nI_eq ha hb]
  exact ⟨f, g⟩
theorem pk_in {x : Int32} (n N : Nat) (h : n < N) (hx : x = nI n := by rfl) (hN : N < 2 ^ 31 := by omega) : vp_in x N := by
  subst hx
  exact vp_in_nI h hN
theorem pk_cl {x : Int32} (n : Nat) (hx : x = nI n := by rfl) (h : n < 2 ^ 31 := by omega) : x.toNatClampNeg = n := by
  subst hx
  exact nI_clamp h
theorem pk_tn {n : Nat} (h : n < 2 ^ 32) : (nI n).toBitVec.toNat = n := Nat.mod_eq_of_lt h
theorem pk_and (x : Int32) {m : Int32} (k : Nat) (hm : m.toBitVec.toNat = 2 ^ k - 1) : x &&& m = nI (x.toBitVec.toNat % 2 ^ k) := by
  apply Int32.toBitVec_inj.mp
  apply BitVec.eq_of_toNat_eq
  rw [Int32.toBitVec_and, BitVec.toNat_and, hm, Nat.and_two_pow_sub_one_eq_mod]
  show _ = (BitVec.ofNat 32 _).toNat
  rw [BitVec.toNat_ofNat]
  exact (Nat.mod_eq_of_lt (Nat.lt_of_le_of_lt (Nat.mod_le _ _) x.toBitVec.isLt)).symm
theorem pk_andN {n : Nat} (h : n < 2 ^ 32) {m : Int32} (k : Nat) (hm : m.toBitVec.toNat = 2 ^ k - 1) : nI n &&& m = nI (n % 2 ^ k) := by
  rw [pk_and _ k hm, pk_tn h]
theorem pk_andE (x : Int32) {m : Int32} (k : Nat) (hm : m.toBitVec.toNat = 2 ^ k - 1) : ∃ j : Nat, j < 2 ^ k ∧ x &&& m = nI j := ⟨_, Nat.mod_lt _ (Nat.two_pow_pos k), pk_and x k hm⟩
theorem pk_andIn (x : Int32) {m : Int32} (k : Nat) (hm : m.toBitVec.toNat = 2 ^ k - 1) (hk : k ≤ 30) : vp_in (x &&& m) (2 ^ k) := by
  obtain ⟨j, hj, e⟩ := pk_andE x k hm
  rw [e]
  exact vp_in_nI hj (Nat.lt_of_le_of_lt (Nat.pow_le_pow_right (by decide) hk) (by decide))
theorem pk_shl (a s : Int32) (k : Nat) (hs : (s.toBitVec.smod 32).toNat = k) : (a <<< s).toBitVec.toNat = a.toBitVec.toNat * 2 ^ k % 2 ^ 32 := by
  show (a.toBitVec <<< (s.toBitVec.smod 32).toNat).toNat = _
  rw [hs, BitVec.toNat_shiftLeft, Nat.shiftLeft_eq]
theorem pk_shlN {n : Nat} (s : Int32) (k : Nat) (hs : (s.toBitVec.smod 32).toNat = k) (h : n * 2 ^ k < 2 ^ 32) : nI n <<< s = nI (n * 2 ^ k) := by
  apply Int32.toBitVec_inj.mp
  apply BitVec.eq_of_toNat_eq
  have hn : n < 2 ^ 32 := Nat.lt_of_le_of_lt (Nat.le_mul_of_pos_right n (Nat.two_pow_pos k)) h
  rw [pk_shl _ _ k hs, pk_tn hn, pk_tn h, Nat.mod_eq_of_lt h]
theorem pk_shr (a s : Int32) (k : Nat) (hs : (s.toBitVec.smod 32).toNat = k) : (a >>> s).toInt = a.toInt >>> k := by
  show (a.toBitVec.sshiftRight (s.toBitVec.smod 32).toNat).toInt = _
  rw [hs, BitVec.toInt_sshiftRight]
  rfl
theorem pk_shrN {n : Nat} (h : n < 2 ^ 31) (s : Int32) (k : Nat) (hs : (s.toBitVec.smod 32).toNat = k) : nI n >>> s = nI (n / 2 ^ k) := by
  apply Int32.toInt_inj.mp
  have h2 : n / 2 ^ k ≤ n := Nat.div_le_self _ _
  rw [pk_shr _ _ k hs, nI_toInt h, nI_toInt (by omega), Int.shiftRight_eq_div_pow]
  rfl
theorem pk_ushr (x s : Int32) (k : Nat) (hs : ((s.toUInt32 &&& Int32.toUInt32 31).toBitVec % 32).toNat = k) : (x.toUInt32 >>> (s.toUInt32 &&& Int32.toUInt32 31)).toInt32.toBitVec.toNat = x.toBitVec.toNat / 2 ^ k := by
  have e : (x.toUInt32 >>> (s.toUInt32 &&& Int32.toUInt32 31)).toInt32.toBitVec = x.toBitVec >>> k := by
    rw [← hs]
    exact UInt32.toBitVec_shiftRight _ _
  rw [e, BitVec.toNat_ushiftRight, Nat.shiftRight_eq_div_pow]
theorem pk_ushrN {n : Nat} (hn : n < 2 ^ 32) (s : Int32) (k : Nat) (hs : ((s.toUInt32 &&& Int32.toUInt32 31).toBitVec % 32).toNat = k) : ((nI n).toUInt32 >>> (s.toUInt32 &&& Int32.toUInt32 31)).toInt32 = nI (n / 2 ^ k) := by
  apply Int32.toBitVec_inj.mp
  apply BitVec.eq_of_toNat_eq
  rw [pk_ushr _ s k hs, pk_tn hn, pk_tn (Nat.lt_of_le_of_lt (Nat.div_le_self _ _) hn)]
theorem pk_nb (z : Int32) : narrow .byte (.int z.toInt8.toInt32) = .int z.toInt8.toInt32 := congrArg Value.int (by simp)
theorem pk_ns (z : Int32) : narrow .short (.int z.toInt16.toInt32) = .int z.toInt16.toInt32 := congrArg Value.int (by simp)
theorem pk_fb (r : Int32) : fits .byte (.int r.toInt8.toInt32) = true := by
  have ⟨a, b⟩ := lg_i2b_range r
  have h1 : (-128 : Int32).toInt = -128 := by decide
  have h2 : (127 : Int32).toInt = 127 := by decide
  simp only [fits, Bool.and_eq_true, decide_eq_true_eq, Int32.le_iff_toInt_le, h1, h2]
  omega
theorem pk_fs (r : Int32) : fits .short (.int r.toInt16.toInt32) = true := by
  have ⟨a, b⟩ := lg_i2s_range r
  have h1 : (-32768 : Int32).toInt = -32768 := by decide
  have h2 : (32767 : Int32).toInt = 32767 := by decide
  simp only [fits, Bool.and_eq_true, decide_eq_true_eq, Int32.le_iff_toInt_le, h1, h2]
  omega
theorem pk_charN {q : Nat} (hq : q < 65536) : narrow .char (.int (nI q)) = .int (nI q) ∧ fits .char (.int (nI q)) = true := by
  constructor
  · have e : (nI q).toUInt32.toUInt16.toUInt32.toInt32 = nI q := by
      apply Int32.toBitVec_inj.mp
      apply BitVec.eq_of_toNat_eq
      show (nI q).toUInt32.toUInt16.toUInt32.toNat = q % 2 ^ 32
      rw [UInt16.toNat_toUInt32, UInt32.toNat_toUInt16, show (nI q).toUInt32.toNat = q % 2 ^ 32 from rfl]
      omega
    exact congrArg Value.int e
  · have a : (0 : Int32) ≤ nI q := nI_pos' (by omega)
    have b : nI q ≤ 65535 := nI_le (b := 65535) (by omega) (by decide)
    show (decide ((0 : Int32) ≤ nI q) && decide (nI q ≤ 65535)) = true
    rw [decide_eq_true a, decide_eq_true b]
    rfl
theorem pk_char (x : Int32) : (x.toUInt32 % 65536).toInt32 = nI (x.toBitVec.toNat % 65536) := by
  apply Int32.toBitVec_inj.mp
  apply BitVec.eq_of_toNat_eq
  rw [pk_tn (by omega)]
  show (x.toUInt32 % 65536).toNat = _
  rw [UInt32.toNat_mod]
  rfl
theorem pk_nc (x : Int32) : narrow .char (.int (x.toUInt32 % 65536).toInt32) = .int (x.toUInt32 % 65536).toInt32 := by
  rw [pk_char]
  exact (pk_charN (Nat.mod_lt _ (by decide))).1
theorem pk_fc (x : Int32) : fits .char (.int (x.toUInt32 % 65536).toInt32) = true := by
  rw [pk_char]
  exact (pk_charN (Nat.mod_lt _ (by decide))).2
theorem pk_vb (z : Int32) : vp_nar .byte z.toInt8.toInt32 = z.toInt8.toInt32 := by rw [vp_nar_byte]; simp
theorem pk_vs (z : Int32) : vp_nar .short z.toInt16.toInt32 = z.toInt16.toInt32 := by rw [vp_nar_short]; simp
theorem pk_vc (z : Int32) : vp_nar .char (z.toUInt32 % 65536).toInt32 = (z.toUInt32 % 65536).toInt32 := Value.int.inj (pk_nc z)
theorem pk_lT {n : Nat} (h : n < 2 ^ 63) : (lN n).toInt = (n : Int) := lg_ofNat_toInt h
theorem pk_lLT {a b : Nat} (ha : a < 2 ^ 63) (hb : b < 2 ^ 63) : lN a < lN b ↔ a < b := by
  rw [Int64.lt_iff_toInt_lt, pk_lT ha, pk_lT hb]; omega
theorem pk_lLE {a b : Nat} (ha : a < 2 ^ 63) (hb : b < 2 ^ 63) : lN a ≤ lN b ↔ a ≤ b := by
  rw [Int64.le_iff_toInt_le, pk_lT ha, pk_lT hb]; omega
theorem pk_lEQ {a b : Nat} (ha : a < 2 ^ 63) (hb : b < 2 ^ 63) : lN a = lN b ↔ a = b := by
  rw [← Int64.toInt_inj, pk_lT ha, pk_lT hb]; omega
theorem pk_lOf {x : Int64} (h : ¬ x < 0) : ∃ k : Nat, k < 2 ^ 63 ∧ x = lN k := by
  rw [Int64.lt_iff_toInt_lt] at h
  have h0 : (0 : Int64).toInt = 0 := by decide
  have hx := Int64.toInt_lt x
  refine ⟨x.toInt.toNat, by omega, Int64.toInt_inj.mp ?_⟩
  rw [pk_lT (by omega)]
  omega
theorem pk_lDiv {a b : Nat} (ha : a < 2 ^ 63) (h0 : 0 < b) (hb : b < 2 ^ 63) : lN a / lN b = lN (a / b) := by
  apply Int64.toInt_inj.mp
  rw [lg_ldiv_nonneg (by rw [pk_lT ha]; omega) (by rw [pk_lT hb]; omega), pk_lT ha, pk_lT hb, pk_lT (Nat.lt_of_le_of_lt (Nat.div_le_self a b) ha)]
  rfl
theorem pk_lRem {a b : Nat} (ha : a < 2 ^ 63) (h0 : 0 < b) (hb : b < 2 ^ 63) : lN a - lN a / lN b * lN b = lN (a % b) := by
  rw [pk_lDiv ha h0 hb, lN_mul, lN_sub (Nat.div_mul_le_self a b)]
  exact congrArg lN (by have := Nat.div_add_mod' a b; omega)
theorem pk_loop {σ : Type} (W : Nat → Nat → σ → Prop) (I : Nat → σ → Prop) (e i0 : Nat) (s : σ) (hi : i0 ≤ e) (h0 : I i0 s) (hx : ∀ n s, I e s → W (n + 1) e s)
    (hs : ∀ n i s, i < e → I i s → (∀ s', I (i + 1) s' → W n (i + 1) s') → W (n + 1) i s) : ∃ n, W n i0 s :=
  ⟨e + 1, loop_i W I e hx hs (e + 1) i0 s hi (by omega) h0⟩
theorem pk_loopD {σ : Type} (W : Nat → Nat → σ → Prop) (I : Nat → σ → Prop) (hx : ∀ n s, I 0 s → W (n + 1) 0 s)
    (hs : ∀ n i s, I (i + 1) s → (∀ s', I i s' → W n i s') → W (n + 1) (i + 1) s) : ∀ (e : Nat) (s : σ), I e s → W (e + 1) e s := by
  intro e
  induction e with
  | zero => exact fun s h => hx 0 s h
  | succ e ih => exact fun s h => hs (e + 1) e s h (fun s' h' => ih s' h')
theorem lp1 {A1 : Type} (W : Nat → A1 → Prop) (I : A1 → Prop) (μ : A1 → Nat) (hs : ∀ (n : Nat) (a1 : A1), I a1 → (∀ (b1 : A1), I b1 → μ b1 < μ a1 → W n b1) → W (n + 1) a1) (a1 : A1) (h : I a1) : ∃ n, W n a1 :=
  loop_m (σ := A1) (fun n s => W n s) (fun s => I s) (fun s => μ s) (fun n s hI hk => hs n s hI (fun b1 h9 hm => hk b1 h9 hm)) a1 h
theorem lp2 {A1 A2 : Type} (W : Nat → A1 → A2 → Prop) (I : A1 → A2 → Prop) (μ : A1 → A2 → Nat) (hs : ∀ (n : Nat) (a1 : A1) (a2 : A2), I a1 a2 → (∀ (b1 : A1) (b2 : A2), I b1 b2 → μ b1 b2 < μ a1 a2 → W n b1 b2) → W (n + 1) a1 a2) (a1 : A1) (a2 : A2) (h : I a1 a2) : ∃ n, W n a1 a2 :=
  loop_m (σ := A1 × A2) (fun n s => W n s.1 s.2) (fun s => I s.1 s.2) (fun s => μ s.1 s.2) (fun n s hI hk => hs n s.1 s.2 hI (fun b1 b2 h9 hm => hk (b1, b2) h9 hm)) (a1, a2) h
theorem lp3 {A1 A2 A3 : Type} (W : Nat → A1 → A2 → A3 → Prop) (I : A1 → A2 → A3 → Prop) (μ : A1 → A2 → A3 → Nat) (hs : ∀ (n : Nat) (a1 : A1) (a2 : A2) (a3 : A3), I a1 a2 a3 → (∀ (b1 : A1) (b2 : A2) (b3 : A3), I b1 b2 b3 → μ b1 b2 b3 < μ a1 a2 a3 → W n b1 b2 b3) → W (n + 1) a1 a2 a3) (a1 : A1) (a2 : A2) (a3 : A3) (h : I a1 a2 a3) : ∃ n, W n a1 a2 a3 :=
  loop_m (σ := A1 × A2 × A3) (fun n s => W n s.1 s.2.1 s.2.2) (fun s => I s.1 s.2.1 s.2.2) (fun s => μ s.1 s.2.1 s.2.2) (fun n s hI hk => hs n s.1 s.2.1 s.2.2 hI (fun b1 b2 b3 h9 hm => hk (b1, b2, b3) h9 hm)) (a1, a2, a3) h
theorem lp4 {A1 A2 A3 A4 : Type} (W : Nat → A1 → A2 → A3 → A4 → Prop) (I : A1 → A2 → A3 → A4 → Prop) (μ : A1 → A2 → A3 → A4 → Nat) (hs : ∀ (n : Nat) (a1 : A1) (a2 : A2) (a3 : A3) (a4 : A4), I a1 a2 a3 a4 → (∀ (b1 : A1) (b2 : A2) (b3 : A3) (b4 : A4), I b1 b2 b3 b4 → μ b1 b2 b3 b4 < μ a1 a2 a3 a4 → W n b1 b2 b3 b4) → W (n + 1) a1 a2 a3 a4) (a1 : A1) (a2 : A2) (a3 : A3) (a4 : A4) (h : I a1 a2 a3 a4) : ∃ n, W n a1 a2 a3 a4 :=
  loop_m (σ := A1 × A2 × A3 × A4) (fun n s => W n s.1 s.2.1 s.2.2.1 s.2.2.2) (fun s => I s.1 s.2.1 s.2.2.1 s.2.2.2) (fun s => μ s.1 s.2.1 s.2.2.1 s.2.2.2) (fun n s hI hk => hs n s.1 s.2.1 s.2.2.1 s.2.2.2 hI (fun b1 b2 b3 b4 h9 hm => hk (b1, b2, b3, b4) h9 hm)) (a1, a2, a3, a4) h
theorem lp5 {A1 A2 A3 A4 A5 : Type} (W : Nat → A1 → A2 → A3 → A4 → A5 → Prop) (I : A1 → A2 → A3 → A4 → A5 → Prop) (μ : A1 → A2 → A3 → A4 → A5 → Nat) (hs : ∀ (n : Nat) (a1 : A1) (a2 : A2) (a3 : A3) (a4 : A4) (a5 : A5), I a1 a2 a3 a4 a5 → (∀ (b1 : A1) (b2 : A2) (b3 : A3) (b4 : A4) (b5 : A5), I b1 b2 b3 b4 b5 → μ b1 b2 b3 b4 b5 < μ a1 a2 a3 a4 a5 → W n b1 b2 b3 b4 b5) → W (n + 1) a1 a2 a3 a4 a5) (a1 : A1) (a2 : A2) (a3 : A3) (a4 : A4) (a5 : A5) (h : I a1 a2 a3 a4 a5) : ∃ n, W n a1 a2 a3 a4 a5 :=
  loop_m (σ := A1 × A2 × A3 × A4 × A5) (fun n s => W n s.1 s.2.1 s.2.2.1 s.2.2.2.1 s.2.2.2.2) (fun s => I s.1 s.2.1 s.2.2.1 s.2.2.2.1 s.2.2.2.2) (fun s => μ s.1 s.2.1 s.2.2.1 s.2.2.2.1 s.2.2.2.2) (fun n s hI hk => hs n s.1 s.2.1 s.2.2.1 s.2.2.2.1 s.2.2.2.2 hI (fun b1 b2 b3 b4 b5 h9 hm => hk (b1, b2, b3, b4, b5) h9 hm)) (a1, a2, a3, a4, a5) h
theorem lp6 {A1 A2 A3 A4 A5 A6 : Type} (W : Nat → A1 → A2 → A3 → A4 → A5 → A6 → Prop) (I : A1 → A2 → A3 → A4 → A5 → A6 → Prop) (μ : A1 → A2 → A3 → A4 → A5 → A6 → Nat) (hs : ∀ (n : Nat) (a1 : A1) (a2 : A2) (a3 : A3) (a4 : A4) (a5 : A5) (a6 : A6), I a1 a2 a3 a4 a5 a6 → (∀ (b1 : A1) (b2 : A2) (b3 : A3) (b4 : A4) (b5 : A5) (b6 : A6), I b1 b2 b3 b4 b5 b6 → μ b1 b2 b3 b4 b5 b6 < μ a1 a2 a3 a4 a5 a6 → W n b1 b2 b3 b4 b5 b6) → W (n + 1) a1 a2 a3 a4 a5 a6) (a1 : A1) (a2 : A2) (a3 : A3) (a4 : A4) (a5 : A5) (a6 : A6) (h : I a1 a2 a3 a4 a5 a6) : ∃ n, W n a1 a2 a3 a4 a5 a6 :=
  loop_m (σ := A1 × A2 × A3 × A4 × A5 × A6) (fun n s => W n s.1 s.2.1 s.2.2.1 s.2.2.2.1 s.2.2.2.2.1 s.2.2.2.2.2) (fun s => I s.1 s.2.1 s.2.2.1 s.2.2.2.1 s.2.2.2.2.1 s.2.2.2.2.2) (fun s => μ s.1 s.2.1 s.2.2.1 s.2.2.2.1 s.2.2.2.2.1 s.2.2.2.2.2) (fun n s hI hk => hs n s.1 s.2.1 s.2.2.1 s.2.2.2.1 s.2.2.2.2.1 s.2.2.2.2.2 hI (fun b1 b2 b3 b4 b5 b6 h9 hm => hk (b1, b2, b3, b4, b5, b6) h9 hm)) (a1, a2, a3, a4, a5, a6) h
theorem lp7 {A1 A2 A3 A4 A5 A6 A7 : Type} (W : Nat → A1 → A2 → A3 → A4 → A5 → A6 → A7 → Prop) (I : A1 → A2 → A3 → A4 → A5 → A6 → A7 → Prop) (μ : A1 → A2 → A3 → A4 → A5 → A6 → A7 → Nat) (hs : ∀ (n : Nat) (a1 : A1) (a2 : A2) (a3 : A3) (a4 : A4) (a5 : A5) (a6 : A6) (a7 : A7), I a1 a2 a3 a4 a5 a6 a7 → (∀ (b1 : A1) (b2 : A2) (b3 : A3) (b4 : A4) (b5 : A5) (b6 : A6) (b7 : A7), I b1 b2 b3 b4 b5 b6 b7 → μ b1 b2 b3 b4 b5 b6 b7 < μ a1 a2 a3 a4 a5 a6 a7 → W n b1 b2 b3 b4 b5 b6 b7) → W (n + 1) a1 a2 a3 a4 a5 a6 a7) (a1 : A1) (a2 : A2) (a3 : A3) (a4 : A4) (a5 : A5) (a6 : A6) (a7 : A7) (h : I a1 a2 a3 a4 a5 a6 a7) : ∃ n, W n a1 a2 a3 a4 a5 a6 a7 :=
  loop_m (σ := A1 × A2 × A3 × A4 × A5 × A6 × A7) (fun n s => W n s.1 s.2.1 s.2.2.1 s.2.2.2.1 s.2.2.2.2.1 s.2.2.2.2.2.1 s.2.2.2.2.2.2) (fun s => I s.1 s.2.1 s.2.2.1 s.2.2.2.1 s.2.2.2.2.1 s.2.2.2.2.2.1 s.2.2.2.2.2.2) (fun s => μ s.1 s.2.1 s.2.2.1 s.2.2.2.1 s.2.2.2.2.1 s.2.2.2.2.2.1 s.2.2.2.2.2.2) (fun n s hI hk => hs n s.1 s.2.1 s.2.2.1 s.2.2.2.1 s.2.2.2.2.1 s.2.2.2.2.2.1 s.2.2.2.2.2.2 hI (fun b1 b2 b3 b4 b5 b6 b7 h9 hm => hk (b1, b2, b3, b4, b5, b6, b7) h9 hm)) (a1, a2, a3, a4, a5, a6, a7) h
theorem lp8 {A1 A2 A3 A4 A5 A6 A7 A8 : Type} (W : Nat → A1 → A2 → A3 → A4 → A5 → A6 → A7 → A8 → Prop) (I : A1 → A2 → A3 → A4 → A5 → A6 → A7 → A8 → Prop) (μ : A1 → A2 → A3 → A4 → A5 → A6 → A7 → A8 → Nat) (hs : ∀ (n : Nat) (a1 : A1) (a2 : A2) (a3 : A3) (a4 : A4) (a5 : A5) (a6 : A6) (a7 : A7) (a8 : A8), I a1 a2 a3 a4 a5 a6 a7 a8 → (∀ (b1 : A1) (b2 : A2) (b3 : A3) (b4 : A4) (b5 : A5) (b6 : A6) (b7 : A7) (b8 : A8), I b1 b2 b3 b4 b5 b6 b7 b8 → μ b1 b2 b3 b4 b5 b6 b7 b8 < μ a1 a2 a3 a4 a5 a6 a7 a8 → W n b1 b2 b3 b4 b5 b6 b7 b8) → W (n + 1) a1 a2 a3 a4 a5 a6 a7 a8) (a1 : A1) (a2 : A2) (a3 : A3) (a4 : A4) (a5 : A5) (a6 : A6) (a7 : A7) (a8 : A8) (h : I a1 a2 a3 a4 a5 a6 a7 a8) : ∃ n, W n a1 a2 a3 a4 a5 a6 a7 a8 :=
  loop_m (σ := A1 × A2 × A3 × A4 × A5 × A6 × A7 × A8) (fun n s => W n s.1 s.2.1 s.2.2.1 s.2.2.2.1 s.2.2.2.2.1 s.2.2.2.2.2.1 s.2.2.2.2.2.2.1 s.2.2.2.2.2.2.2) (fun s => I s.1 s.2.1 s.2.2.1 s.2.2.2.1 s.2.2.2.2.1 s.2.2.2.2.2.1 s.2.2.2.2.2.2.1 s.2.2.2.2.2.2.2) (fun s => μ s.1 s.2.1 s.2.2.1 s.2.2.2.1 s.2.2.2.2.1 s.2.2.2.2.2.1 s.2.2.2.2.2.2.1 s.2.2.2.2.2.2.2) (fun n s hI hk => hs n s.1 s.2.1 s.2.2.1 s.2.2.2.1 s.2.2.2.2.1 s.2.2.2.2.2.1 s.2.2.2.2.2.2.1 s.2.2.2.2.2.2.2 hI (fun b1 b2 b3 b4 b5 b6 b7 b8 h9 hm => hk (b1, b2, b3, b4, b5, b6, b7, b8) h9 hm)) (a1, a2, a3, a4, a5, a6, a7, a8) h
theorem lp9 {A1 A2 A3 A4 A5 A6 A7 A8 A9 : Type} (W : Nat → A1 → A2 → A3 → A4 → A5 → A6 → A7 → A8 → A9 → Prop) (I : A1 → A2 → A3 → A4 → A5 → A6 → A7 → A8 → A9 → Prop) (μ : A1 → A2 → A3 → A4 → A5 → A6 → A7 → A8 → A9 → Nat) (hs : ∀ (n : Nat) (a1 : A1) (a2 : A2) (a3 : A3) (a4 : A4) (a5 : A5) (a6 : A6) (a7 : A7) (a8 : A8) (a9 : A9), I a1 a2 a3 a4 a5 a6 a7 a8 a9 → (∀ (b1 : A1) (b2 : A2) (b3 : A3) (b4 : A4) (b5 : A5) (b6 : A6) (b7 : A7) (b8 : A8) (b9 : A9), I b1 b2 b3 b4 b5 b6 b7 b8 b9 → μ b1 b2 b3 b4 b5 b6 b7 b8 b9 < μ a1 a2 a3 a4 a5 a6 a7 a8 a9 → W n b1 b2 b3 b4 b5 b6 b7 b8 b9) → W (n + 1) a1 a2 a3 a4 a5 a6 a7 a8 a9) (a1 : A1) (a2 : A2) (a3 : A3) (a4 : A4) (a5 : A5) (a6 : A6) (a7 : A7) (a8 : A8) (a9 : A9) (h : I a1 a2 a3 a4 a5 a6 a7 a8 a9) : ∃ n, W n a1 a2 a3 a4 a5 a6 a7 a8 a9 :=
  loop_m (σ := A1 × A2 × A3 × A4 × A5 × A6 × A7 × A8 × A9) (fun n s => W n s.1 s.2.1 s.2.2.1 s.2.2.2.1 s.2.2.2.2.1 s.2.2.2.2.2.1 s.2.2.2.2.2.2.1 s.2.2.2.2.2.2.2.1 s.2.2.2.2.2.2.2.2) (fun s => I s.1 s.2.1 s.2.2.1 s.2.2.2.1 s.2.2.2.2.1 s.2.2.2.2.2.1 s.2.2.2.2.2.2.1 s.2.2.2.2.2.2.2.1 s.2.2.2.2.2.2.2.2) (fun s => μ s.1 s.2.1 s.2.2.1 s.2.2.2.1 s.2.2.2.2.1 s.2.2.2.2.2.1 s.2.2.2.2.2.2.1 s.2.2.2.2.2.2.2.1 s.2.2.2.2.2.2.2.2) (fun n s hI hk => hs n s.1 s.2.1 s.2.2.1 s.2.2.2.1 s.2.2.2.2.1 s.2.2.2.2.2.1 s.2.2.2.2.2.2.1 s.2.2.2.2.2.2.2.1 s.2.2.2.2.2.2.2.2 hI (fun b1 b2 b3 b4 b5 b6 b7 b8 b9 h9 hm => hk (b1, b2, b3, b4, b5, b6, b7, b8, b9) h9 hm)) (a1, a2, a3, a4, a5, a6, a7, a8, a9) h
theorem lp10 {A1 A2 A3 A4 A5 A6 A7 A8 A9 A10 : Type} (W : Nat → A1 → A2 → A3 → A4 → A5 → A6 → A7 → A8 → A9 → A10 → Prop) (I : A1 → A2 → A3 → A4 → A5 → A6 → A7 → A8 → A9 → A10 → Prop) (μ : A1 → A2 → A3 → A4 → A5 → A6 → A7 → A8 → A9 → A10 → Nat) (hs : ∀ (n : Nat) (a1 : A1) (a2 : A2) (a3 : A3) (a4 : A4) (a5 : A5) (a6 : A6) (a7 : A7) (a8 : A8) (a9 : A9) (a10 : A10), I a1 a2 a3 a4 a5 a6 a7 a8 a9 a10 → (∀ (b1 : A1) (b2 : A2) (b3 : A3) (b4 : A4) (b5 : A5) (b6 : A6) (b7 : A7) (b8 : A8) (b9 : A9) (b10 : A10), I b1 b2 b3 b4 b5 b6 b7 b8 b9 b10 → μ b1 b2 b3 b4 b5 b6 b7 b8 b9 b10 < μ a1 a2 a3 a4 a5 a6 a7 a8 a9 a10 → W n b1 b2 b3 b4 b5 b6 b7 b8 b9 b10) → W (n + 1) a1 a2 a3 a4 a5 a6 a7 a8 a9 a10) (a1 : A1) (a2 : A2) (a3 : A3) (a4 : A4) (a5 : A5) (a6 : A6) (a7 : A7) (a8 : A8) (a9 : A9) (a10 : A10) (h : I a1 a2 a3 a4 a5 a6 a7 a8 a9 a10) : ∃ n, W n a1 a2 a3 a4 a5 a6 a7 a8 a9 a10 :=
  loop_m (σ := A1 × A2 × A3 × A4 × A5 × A6 × A7 × A8 × A9 × A10) (fun n s => W n s.1 s.2.1 s.2.2.1 s.2.2.2.1 s.2.2.2.2.1 s.2.2.2.2.2.1 s.2.2.2.2.2.2.1 s.2.2.2.2.2.2.2.1 s.2.2.2.2.2.2.2.2.1 s.2.2.2.2.2.2.2.2.2) (fun s => I s.1 s.2.1 s.2.2.1 s.2.2.2.1 s.2.2.2.2.1 s.2.2.2.2.2.1 s.2.2.2.2.2.2.1 s.2.2.2.2.2.2.2.1 s.2.2.2.2.2.2.2.2.1 s.2.2.2.2.2.2.2.2.2) (fun s => μ s.1 s.2.1 s.2.2.1 s.2.2.2.1 s.2.2.2.2.1 s.2.2.2.2.2.1 s.2.2.2.2.2.2.1 s.2.2.2.2.2.2.2.1 s.2.2.2.2.2.2.2.2.1 s.2.2.2.2.2.2.2.2.2) (fun n s hI hk => hs n s.1 s.2.1 s.2.2.1 s.2.2.2.1 s.2.2.2.2.1 s.2.2.2.2.2.1 s.2.2.2.2.2.2.1 s.2.2.2.2.2.2.2.1 s.2.2.2.2.2.2.2.2.1 s.2.2.2.2.2.2.2.2.2 hI (fun b1 b2 b3 b4 b5 b6 b7 b8 b9 b10 h9 hm => hk (b1, b2, b3, b4, b5, b6, b7, b8, b9, b10) h9 hm)) (a1, a2, a3, a4, a5, a6, a7, a8, a9, a10) h
theorem lp11 {A1 A2 A3 A4 A5 A6 A7 A8 A9 A10 A11 : Type} (W : Nat → A1 → A2 → A3 → A4 → A5 → A6 → A7 → A8 → A9 → A10 → A11 → Prop) (I : A1 → A2 → A3 → A4 → A5 → A6 → A7 → A8 → A9 → A10 → A11 → Prop) (μ : A1 → A2 → A3 → A4 → A5 → A6 → A7 → A8 → A9 → A10 → A11 → Nat) (hs : ∀ (n : Nat) (a1 : A1) (a2 : A2) (a3 : A3) (a4 : A4) (a5 : A5) (a6 : A6) (a7 : A7) (a8 : A8) (a9 : A9) (a10 : A10) (a11 : A11), I a1 a2 a3 a4 a5 a6 a7 a8 a9 a10 a11 → (∀ (b1 : A1) (b2 : A2) (b3 : A3) (b4 : A4) (b5 : A5) (b6 : A6) (b7 : A7) (b8 : A8) (b9 : A9) (b10 : A10) (b11 : A11), I b1 b2 b3 b4 b5 b6 b7 b8 b9 b10 b11 → μ b1 b2 b3 b4 b5 b6 b7 b8 b9 b10 b11 < μ a1 a2 a3 a4 a5 a6 a7 a8 a9 a10 a11 → W n b1 b2 b3 b4 b5 b6 b7 b8 b9 b10 b11) → W (n + 1) a1 a2 a3 a4 a5 a6 a7 a8 a9 a10 a11) (a1 : A1) (a2 : A2) (a3 : A3) (a4 : A4) (a5 : A5) (a6 : A6) (a7 : A7) (a8 : A8) (a9 : A9) (a10 : A10) (a11 : A11) (h : I a1 a2 a3 a4 a5 a6 a7 a8 a9 a10 a11) : ∃ n, W n a1 a2 a3 a4 a5 a6 a7 a8 a9 a10 a11 :=
  loop_m (σ := A1 × A2 × A3 × A4 × A5 × A6 × A7 × A8 × A9 × A10 × A11) (fun n s => W n s.1 s.2.1 s.2.2.1 s.2.2.2.1 s.2.2.2.2.1 s.2.2.2.2.2.1 s.2.2.2.2.2.2.1 s.2.2.2.2.2.2.2.1 s.2.2.2.2.2.2.2.2.1 s.2.2.2.2.2.2.2.2.2.1 s.2.2.2.2.2.2.2.2.2.2) (fun s => I s.1 s.2.1 s.2.2.1 s.2.2.2.1 s.2.2.2.2.1 s.2.2.2.2.2.1 s.2.2.2.2.2.2.1 s.2.2.2.2.2.2.2.1 s.2.2.2.2.2.2.2.2.1 s.2.2.2.2.2.2.2.2.2.1 s.2.2.2.2.2.2.2.2.2.2) (fun s => μ s.1 s.2.1 s.2.2.1 s.2.2.2.1 s.2.2.2.2.1 s.2.2.2.2.2.1 s.2.2.2.2.2.2.1 s.2.2.2.2.2.2.2.1 s.2.2.2.2.2.2.2.2.1 s.2.2.2.2.2.2.2.2.2.1 s.2.2.2.2.2.2.2.2.2.2) (fun n s hI hk => hs n s.1 s.2.1 s.2.2.1 s.2.2.2.1 s.2.2.2.2.1 s.2.2.2.2.2.1 s.2.2.2.2.2.2.1 s.2.2.2.2.2.2.2.1 s.2.2.2.2.2.2.2.2.1 s.2.2.2.2.2.2.2.2.2.1 s.2.2.2.2.2.2.2.2.2.2 hI (fun b1 b2 b3 b4 b5 b6 b7 b8 b9 b10 b11 h9 hm => hk (b1, b2, b3, b4, b5, b6, b7, b8, b9, b10, b11) h9 hm)) (a1, a2, a3, a4, a5, a6, a7, a8, a9, a10, a11) h
theorem lp12 {A1 A2 A3 A4 A5 A6 A7 A8 A9 A10 A11 A12 : Type} (W : Nat → A1 → A2 → A3 → A4 → A5 → A6 → A7 → A8 → A9 → A10 → A11 → A12 → Prop) (I : A1 → A2 → A3 → A4 → A5 → A6 → A7 → A8 → A9 → A10 → A11 → A12 → Prop) (μ : A1 → A2 → A3 → A4 → A5 → A6 → A7 → A8 → A9 → A10 → A11 → A12 → Nat) (hs : ∀ (n : Nat) (a1 : A1) (a2 : A2) (a3 : A3) (a4 : A4) (a5 : A5) (a6 : A6) (a7 : A7) (a8 : A8) (a9 : A9) (a10 : A10) (a11 : A11) (a12 : A12), I a1 a2 a3 a4 a5 a6 a7 a8 a9 a10 a11 a12 → (∀ (b1 : A1) (b2 : A2) (b3 : A3) (b4 : A4) (b5 : A5) (b6 : A6) (b7 : A7) (b8 : A8) (b9 : A9) (b10 : A10) (b11 : A11) (b12 : A12), I b1 b2 b3 b4 b5 b6 b7 b8 b9 b10 b11 b12 → μ b1 b2 b3 b4 b5 b6 b7 b8 b9 b10 b11 b12 < μ a1 a2 a3 a4 a5 a6 a7 a8 a9 a10 a11 a12 → W n b1 b2 b3 b4 b5 b6 b7 b8 b9 b10 b11 b12) → W (n + 1) a1 a2 a3 a4 a5 a6 a7 a8 a9 a10 a11 a12) (a1 : A1) (a2 : A2) (a3 : A3) (a4 : A4) (a5 : A5) (a6 : A6) (a7 : A7) (a8 : A8) (a9 : A9) (a10 : A10) (a11 : A11) (a12 : A12) (h : I a1 a2 a3 a4 a5 a6 a7 a8 a9 a10 a11 a12) : ∃ n, W n a1 a2 a3 a4 a5 a6 a7 a8 a9 a10 a11 a12 :=
  loop_m (σ := A1 × A2 × A3 × A4 × A5 × A6 × A7 × A8 × A9 × A10 × A11 × A12) (fun n s => W n s.1 s.2.1 s.2.2.1 s.2.2.2.1 s.2.2.2.2.1 s.2.2.2.2.2.1 s.2.2.2.2.2.2.1 s.2.2.2.2.2.2.2.1 s.2.2.2.2.2.2.2.2.1 s.2.2.2.2.2.2.2.2.2.1 s.2.2.2.2.2.2.2.2.2.2.1 s.2.2.2.2.2.2.2.2.2.2.2) (fun s => I s.1 s.2.1 s.2.2.1 s.2.2.2.1 s.2.2.2.2.1 s.2.2.2.2.2.1 s.2.2.2.2.2.2.1 s.2.2.2.2.2.2.2.1 s.2.2.2.2.2.2.2.2.1 s.2.2.2.2.2.2.2.2.2.1 s.2.2.2.2.2.2.2.2.2.2.1 s.2.2.2.2.2.2.2.2.2.2.2) (fun s => μ s.1 s.2.1 s.2.2.1 s.2.2.2.1 s.2.2.2.2.1 s.2.2.2.2.2.1 s.2.2.2.2.2.2.1 s.2.2.2.2.2.2.2.1 s.2.2.2.2.2.2.2.2.1 s.2.2.2.2.2.2.2.2.2.1 s.2.2.2.2.2.2.2.2.2.2.1 s.2.2.2.2.2.2.2.2.2.2.2) (fun n s hI hk => hs n s.1 s.2.1 s.2.2.1 s.2.2.2.1 s.2.2.2.2.1 s.2.2.2.2.2.1 s.2.2.2.2.2.2.1 s.2.2.2.2.2.2.2.1 s.2.2.2.2.2.2.2.2.1 s.2.2.2.2.2.2.2.2.2.1 s.2.2.2.2.2.2.2.2.2.2.1 s.2.2.2.2.2.2.2.2.2.2.2 hI (fun b1 b2 b3 b4 b5 b6 b7 b8 b9 b10 b11 b12 h9 hm => hk (b1, b2, b3, b4, b5, b6, b7, b8, b9, b10, b11, b12) h9 hm)) (a1, a2, a3, a4, a5, a6, a7, a8, a9, a10, a11, a12) h
theorem lp13 {A1 A2 A3 A4 A5 A6 A7 A8 A9 A10 A11 A12 A13 : Type} (W : Nat → A1 → A2 → A3 → A4 → A5 → A6 → A7 → A8 → A9 → A10 → A11 → A12 → A13 → Prop) (I : A1 → A2 → A3 → A4 → A5 → A6 → A7 → A8 → A9 → A10 → A11 → A12 → A13 → Prop) (μ : A1 → A2 → A3 → A4 → A5 → A6 → A7 → A8 → A9 → A10 → A11 → A12 → A13 → Nat) (hs : ∀ (n : Nat) (a1 : A1) (a2 : A2) (a3 : A3) (a4 : A4) (a5 : A5) (a6 : A6) (a7 : A7) (a8 : A8) (a9 : A9) (a10 : A10) (a11 : A11) (a12 : A12) (a13 : A13), I a1 a2 a3 a4 a5 a6 a7 a8 a9 a10 a11 a12 a13 → (∀ (b1 : A1) (b2 : A2) (b3 : A3) (b4 : A4) (b5 : A5) (b6 : A6) (b7 : A7) (b8 : A8) (b9 : A9) (b10 : A10) (b11 : A11) (b12 : A12) (b13 : A13), I b1 b2 b3 b4 b5 b6 b7 b8 b9 b10 b11 b12 b13 → μ b1 b2 b3 b4 b5 b6 b7 b8 b9 b10 b11 b12 b13 < μ a1 a2 a3 a4 a5 a6 a7 a8 a9 a10 a11 a12 a13 → W n b1 b2 b3 b4 b5 b6 b7 b8 b9 b10 b11 b12 b13) → W (n + 1) a1 a2 a3 a4 a5 a6 a7 a8 a9 a10 a11 a12 a13) (a1 : A1) (a2 : A2) (a3 : A3) (a4 : A4) (a5 : A5) (a6 : A6) (a7 : A7) (a8 : A8) (a9 : A9) (a10 : A10) (a11 : A11) (a12 : A12) (a13 : A13) (h : I a1 a2 a3 a4 a5 a6 a7 a8 a9 a10 a11 a12 a13) : ∃ n, W n a1 a2 a3 a4 a5 a6 a7 a8 a9 a10 a11 a12 a13 :=
  loop_m (σ := A1 × A2 × A3 × A4 × A5 × A6 × A7 × A8 × A9 × A10 × A11 × A12 × A13) (fun n s => W n s.1 s.2.1 s.2.2.1 s.2.2.2.1 s.2.2.2.2.1 s.2.2.2.2.2.1 s.2.2.2.2.2.2.1 s.2.2.2.2.2.2.2.1 s.2.2.2.2.2.2.2.2.1 s.2.2.2.2.2.2.2.2.2.1 s.2.2.2.2.2.2.2.2.2.2.1 s.2.2.2.2.2.2.2.2.2.2.2.1 s.2.2.2.2.2.2.2.2.2.2.2.2) (fun s => I s.1 s.2.1 s.2.2.1 s.2.2.2.1 s.2.2.2.2.1 s.2.2.2.2.2.1 s.2.2.2.2.2.2.1 s.2.2.2.2.2.2.2.1 s.2.2.2.2.2.2.2.2.1 s.2.2.2.2.2.2.2.2.2.1 s.2.2.2.2.2.2.2.2.2.2.1 s.2.2.2.2.2.2.2.2.2.2.2.1 s.2.2.2.2.2.2.2.2.2.2.2.2) (fun s => μ s.1 s.2.1 s.2.2.1 s.2.2.2.1 s.2.2.2.2.1 s.2.2.2.2.2.1 s.2.2.2.2.2.2.1 s.2.2.2.2.2.2.2.1 s.2.2.2.2.2.2.2.2.1 s.2.2.2.2.2.2.2.2.2.1 s.2.2.2.2.2.2.2.2.2.2.1 s.2.2.2.2.2.2.2.2.2.2.2.1 s.2.2.2.2.2.2.2.2.2.2.2.2) (fun n s hI hk => hs n s.1 s.2.1 s.2.2.1 s.2.2.2.1 s.2.2.2.2.1 s.2.2.2.2.2.1 s.2.2.2.2.2.2.1 s.2.2.2.2.2.2.2.1 s.2.2.2.2.2.2.2.2.1 s.2.2.2.2.2.2.2.2.2.1 s.2.2.2.2.2.2.2.2.2.2.1 s.2.2.2.2.2.2.2.2.2.2.2.1 s.2.2.2.2.2.2.2.2.2.2.2.2 hI (fun b1 b2 b3 b4 b5 b6 b7 b8 b9 b10 b11 b12 b13 h9 hm => hk (b1, b2, b3, b4, b5, b6, b7, b8, b9, b10, b11, b12, b13) h9 hm)) (a1, a2, a3, a4, a5, a6, a7, a8, a9, a10, a11, a12, a13) h
theorem lp14 {A1 A2 A3 A4 A5 A6 A7 A8 A9 A10 A11 A12 A13 A14 : Type} (W : Nat → A1 → A2 → A3 → A4 → A5 → A6 → A7 → A8 → A9 → A10 → A11 → A12 → A13 → A14 → Prop) (I : A1 → A2 → A3 → A4 → A5 → A6 → A7 → A8 → A9 → A10 → A11 → A12 → A13 → A14 → Prop) (μ : A1 → A2 → A3 → A4 → A5 → A6 → A7 → A8 → A9 → A10 → A11 → A12 → A13 → A14 → Nat) (hs : ∀ (n : Nat) (a1 : A1) (a2 : A2) (a3 : A3) (a4 : A4) (a5 : A5) (a6 : A6) (a7 : A7) (a8 : A8) (a9 : A9) (a10 : A10) (a11 : A11) (a12 : A12) (a13 : A13) (a14 : A14), I a1 a2 a3 a4 a5 a6 a7 a8 a9 a10 a11 a12 a13 a14 → (∀ (b1 : A1) (b2 : A2) (b3 : A3) (b4 : A4) (b5 : A5) (b6 : A6) (b7 : A7) (b8 : A8) (b9 : A9) (b10 : A10) (b11 : A11) (b12 : A12) (b13 : A13) (b14 : A14), I b1 b2 b3 b4 b5 b6 b7 b8 b9 b10 b11 b12 b13 b14 → μ b1 b2 b3 b4 b5 b6 b7 b8 b9 b10 b11 b12 b13 b14 < μ a1 a2 a3 a4 a5 a6 a7 a8 a9 a10 a11 a12 a13 a14 → W n b1 b2 b3 b4 b5 b6 b7 b8 b9 b10 b11 b12 b13 b14) → W (n + 1) a1 a2 a3 a4 a5 a6 a7 a8 a9 a10 a11 a12 a13 a14) (a1 : A1) (a2 : A2) (a3 : A3) (a4 : A4) (a5 : A5) (a6 : A6) (a7 : A7) (a8 : A8) (a9 : A9) (a10 : A10) (a11 : A11) (a12 : A12) (a13 : A13) (a14 : A14) (h : I a1 a2 a3 a4 a5 a6 a7 a8 a9 a10 a11 a12 a13 a14) : ∃ n, W n a1 a2 a3 a4 a5 a6 a7 a8 a9 a10 a11 a12 a13 a14 :=
  loop_m (σ := A1 × A2 × A3 × A4 × A5 × A6 × A7 × A8 × A9 × A10 × A11 × A12 × A13 × A14) (fun n s => W n s.1 s.2.1 s.2.2.1 s.2.2.2.1 s.2.2.2.2.1 s.2.2.2.2.2.1 s.2.2.2.2.2.2.1 s.2.2.2.2.2.2.2.1 s.2.2.2.2.2.2.2.2.1 s.2.2.2.2.2.2.2.2.2.1 s.2.2.2.2.2.2.2.2.2.2.1 s.2.2.2.2.2.2.2.2.2.2.2.1 s.2.2.2.2.2.2.2.2.2.2.2.2.1 s.2.2.2.2.2.2.2.2.2.2.2.2.2) (fun s => I s.1 s.2.1 s.2.2.1 s.2.2.2.1 s.2.2.2.2.1 s.2.2.2.2.2.1 s.2.2.2.2.2.2.1 s.2.2.2.2.2.2.2.1 s.2.2.2.2.2.2.2.2.1 s.2.2.2.2.2.2.2.2.2.1 s.2.2.2.2.2.2.2.2.2.2.1 s.2.2.2.2.2.2.2.2.2.2.2.1 s.2.2.2.2.2.2.2.2.2.2.2.2.1 s.2.2.2.2.2.2.2.2.2.2.2.2.2) (fun s => μ s.1 s.2.1 s.2.2.1 s.2.2.2.1 s.2.2.2.2.1 s.2.2.2.2.2.1 s.2.2.2.2.2.2.1 s.2.2.2.2.2.2.2.1 s.2.2.2.2.2.2.2.2.1 s.2.2.2.2.2.2.2.2.2.1 s.2.2.2.2.2.2.2.2.2.2.1 s.2.2.2.2.2.2.2.2.2.2.2.1 s.2.2.2.2.2.2.2.2.2.2.2.2.1 s.2.2.2.2.2.2.2.2.2.2.2.2.2) (fun n s hI hk => hs n s.1 s.2.1 s.2.2.1 s.2.2.2.1 s.2.2.2.2.1 s.2.2.2.2.2.1 s.2.2.2.2.2.2.1 s.2.2.2.2.2.2.2.1 s.2.2.2.2.2.2.2.2.1 s.2.2.2.2.2.2.2.2.2.1 s.2.2.2.2.2.2.2.2.2.2.1 s.2.2.2.2.2.2.2.2.2.2.2.1 s.2.2.2.2.2.2.2.2.2.2.2.2.1 s.2.2.2.2.2.2.2.2.2.2.2.2.2 hI (fun b1 b2 b3 b4 b5 b6 b7 b8 b9 b10 b11 b12 b13 b14 h9 hm => hk (b1, b2, b3, b4, b5, b6, b7, b8, b9, b10, b11, b12, b13, b14) h9 hm)) (a1, a2, a3, a4, a5, a6, a7, a8, a9, a10, a11, a12, a13, a14) h
theorem lp15 {A1 A2 A3 A4 A5 A6 A7 A8 A9 A10 A11 A12 A13 A14 A15 : Type} (W : Nat → A1 → A2 → A3 → A4 → A5 → A6 → A7 → A8 → A9 → A10 → A11 → A12 → A13 → A14 → A15 → Prop) (I : A1 → A2 → A3 → A4 → A5 → A6 → A7 → A8 → A9 → A10 → A11 → A12 → A13 → A14 → A15 → Prop) (μ : A1 → A2 → A3 → A4 → A5 → A6 → A7 → A8 → A9 → A10 → A11 → A12 → A13 → A14 → A15 → Nat) (hs : ∀ (n : Nat) (a1 : A1) (a2 : A2) (a3 : A3) (a4 : A4) (a5 : A5) (a6 : A6) (a7 : A7) (a8 : A8) (a9 : A9) (a10 : A10) (a11 : A11) (a12 : A12) (a13 : A13) (a14 : A14) (a15 : A15), I a1 a2 a3 a4 a5 a6 a7 a8 a9 a10 a11 a12 a13 a14 a15 → (∀ (b1 : A1) (b2 : A2) (b3 : A3) (b4 : A4) (b5 : A5) (b6 : A6) (b7 : A7) (b8 : A8) (b9 : A9) (b10 : A10) (b11 : A11) (b12 : A12) (b13 : A13) (b14 : A14) (b15 : A15), I b1 b2 b3 b4 b5 b6 b7 b8 b9 b10 b11 b12 b13 b14 b15 → μ b1 b2 b3 b4 b5 b6 b7 b8 b9 b10 b11 b12 b13 b14 b15 < μ a1 a2 a3 a4 a5 a6 a7 a8 a9 a10 a11 a12 a13 a14 a15 → W n b1 b2 b3 b4 b5 b6 b7 b8 b9 b10 b11 b12 b13 b14 b15) → W (n + 1) a1 a2 a3 a4 a5 a6 a7 a8 a9 a10 a11 a12 a13 a14 a15) (a1 : A1) (a2 : A2) (a3 : A3) (a4 : A4) (a5 : A5) (a6 : A6) (a7 : A7) (a8 : A8) (a9 : A9) (a10 : A10) (a11 : A11) (a12 : A12) (a13 : A13) (a14 : A14) (a15 : A15) (h : I a1 a2 a3 a4 a5 a6 a7 a8 a9 a10 a11 a12 a13 a14 a15) : ∃ n, W n a1 a2 a3 a4 a5 a6 a7 a8 a9 a10 a11 a12 a13 a14 a15 :=
  loop_m (σ := A1 × A2 × A3 × A4 × A5 × A6 × A7 × A8 × A9 × A10 × A11 × A12 × A13 × A14 × A15) (fun n s => W n s.1 s.2.1 s.2.2.1 s.2.2.2.1 s.2.2.2.2.1 s.2.2.2.2.2.1 s.2.2.2.2.2.2.1 s.2.2.2.2.2.2.2.1 s.2.2.2.2.2.2.2.2.1 s.2.2.2.2.2.2.2.2.2.1 s.2.2.2.2.2.2.2.2.2.2.1 s.2.2.2.2.2.2.2.2.2.2.2.1 s.2.2.2.2.2.2.2.2.2.2.2.2.1 s.2.2.2.2.2.2.2.2.2.2.2.2.2.1 s.2.2.2.2.2.2.2.2.2.2.2.2.2.2) (fun s => I s.1 s.2.1 s.2.2.1 s.2.2.2.1 s.2.2.2.2.1 s.2.2.2.2.2.1 s.2.2.2.2.2.2.1 s.2.2.2.2.2.2.2.1 s.2.2.2.2.2.2.2.2.1 s.2.2.2.2.2.2.2.2.2.1 s.2.2.2.2.2.2.2.2.2.2.1 s.2.2.2.2.2.2.2.2.2.2.2.1 s.2.2.2.2.2.2.2.2.2.2.2.2.1 s.2.2.2.2.2.2.2.2.2.2.2.2.2.1 s.2.2.2.2.2.2.2.2.2.2.2.2.2.2) (fun s => μ s.1 s.2.1 s.2.2.1 s.2.2.2.1 s.2.2.2.2.1 s.2.2.2.2.2.1 s.2.2.2.2.2.2.1 s.2.2.2.2.2.2.2.1 s.2.2.2.2.2.2.2.2.1 s.2.2.2.2.2.2.2.2.2.1 s.2.2.2.2.2.2.2.2.2.2.1 s.2.2.2.2.2.2.2.2.2.2.2.1 s.2.2.2.2.2.2.2.2.2.2.2.2.1 s.2.2.2.2.2.2.2.2.2.2.2.2.2.1 s.2.2.2.2.2.2.2.2.2.2.2.2.2.2) (fun n s hI hk => hs n s.1 s.2.1 s.2.2.1 s.2.2.2.1 s.2.2.2.2.1 s.2.2.2.2.2.1 s.2.2.2.2.2.2.1 s.2.2.2.2.2.2.2.1 s.2.2.2.2.2.2.2.2.1 s.2.2.2.2.2.2.2.2.2.1 s.2.2.2.2.2.2.2.2.2.2.1 s.2.2.2.2.2.2.2.2.2.2.2.1 s.2.2.2.2.2.2.2.2.2.2.2.2.1 s.2.2.2.2.2.2.2.2.2.2.2.2.2.1 s.2.2.2.2.2.2.2.2.2.2.2.2.2.2 hI (fun b1 b2 b3 b4 b5 b6 b7 b8 b9 b10 b11 b12 b13 b14 b15 h9 hm => hk (b1, b2, b3, b4, b5, b6, b7, b8, b9, b10, b11, b12, b13, b14, b15) h9 hm)) (a1, a2, a3, a4, a5, a6, a7, a8, a9, a10, a11, a12, a13, a14, a15) h
theorem lp16 {A1 A2 A3 A4 A5 A6 A7 A8 A9 A10 A11 A12 A13 A14 A15 A16 : Type} (W : Nat → A1 → A2 → A3 → A4 → A5 → A6 → A7 → A8 → A9 → A10 → A11 → A12 → A13 → A14 → A15 → A16 → Prop) (I : A1 → A2 → A3 → A4 → A5 → A6 → A7 → A8 → A9 → A10 → A11 → A12 → A13 → A14 → A15 → A16 → Prop) (μ : A1 → A2 → A3 → A4 → A5 → A6 → A7 → A8 → A9 → A10 → A11 → A12 → A13 → A14 → A15 → A16 → Nat) (hs : ∀ (n : Nat) (a1 : A1) (a2 : A2) (a3 : A3) (a4 : A4) (a5 : A5) (a6 : A6) (a7 : A7) (a8 : A8) (a9 : A9) (a10 : A10) (a11 : A11) (a12 : A12) (a13 : A13) (a14 : A14) (a15 : A15) (a16 : A16), I a1 a2 a3 a4 a5 a6 a7 a8 a9 a10 a11 a12 a13 a14 a15 a16 → (∀ (b1 : A1) (b2 : A2) (b3 : A3) (b4 : A4) (b5 : A5) (b6 : A6) (b7 : A7) (b8 : A8) (b9 : A9) (b10 : A10) (b11 : A11) (b12 : A12) (b13 : A13) (b14 : A14) (b15 : A15) (b16 : A16), I b1 b2 b3 b4 b5 b6 b7 b8 b9 b10 b11 b12 b13 b14 b15 b16 → μ b1 b2 b3 b4 b5 b6 b7 b8 b9 b10 b11 b12 b13 b14 b15 b16 < μ a1 a2 a3 a4 a5 a6 a7 a8 a9 a10 a11 a12 a13 a14 a15 a16 → W n b1 b2 b3 b4 b5 b6 b7 b8 b9 b10 b11 b12 b13 b14 b15 b16) → W (n + 1) a1 a2 a3 a4 a5 a6 a7 a8 a9 a10 a11 a12 a13 a14 a15 a16) (a1 : A1) (a2 : A2) (a3 : A3) (a4 : A4) (a5 : A5) (a6 : A6) (a7 : A7) (a8 : A8) (a9 : A9) (a10 : A10) (a11 : A11) (a12 : A12) (a13 : A13) (a14 : A14) (a15 : A15) (a16 : A16) (h : I a1 a2 a3 a4 a5 a6 a7 a8 a9 a10 a11 a12 a13 a14 a15 a16) : ∃ n, W n a1 a2 a3 a4 a5 a6 a7 a8 a9 a10 a11 a12 a13 a14 a15 a16 :=
  loop_m (σ := A1 × A2 × A3 × A4 × A5 × A6 × A7 × A8 × A9 × A10 × A11 × A12 × A13 × A14 × A15 × A16) (fun n s => W n s.1 s.2.1 s.2.2.1 s.2.2.2.1 s.2.2.2.2.1 s.2.2.2.2.2.1 s.2.2.2.2.2.2.1 s.2.2.2.2.2.2.2.1 s.2.2.2.2.2.2.2.2.1 s.2.2.2.2.2.2.2.2.2.1 s.2.2.2.2.2.2.2.2.2.2.1 s.2.2.2.2.2.2.2.2.2.2.2.1 s.2.2.2.2.2.2.2.2.2.2.2.2.1 s.2.2.2.2.2.2.2.2.2.2.2.2.2.1 s.2.2.2.2.2.2.2.2.2.2.2.2.2.2.1 s.2.2.2.2.2.2.2.2.2.2.2.2.2.2.2) (fun s => I s.1 s.2.1 s.2.2.1 s.2.2.2.1 s.2.2.2.2.1 s.2.2.2.2.2.1 s.2.2.2.2.2.2.1 s.2.2.2.2.2.2.2.1 s.2.2.2.2.2.2.2.2.1 s.2.2.2.2.2.2.2.2.2.1 s.2.2.2.2.2.2.2.2.2.2.1 s.2.2.2.2.2.2.2.2.2.2.2.1 s.2.2.2.2.2.2.2.2.2.2.2.2.1 s.2.2.2.2.2.2.2.2.2.2.2.2.2.1 s.2.2.2.2.2.2.2.2.2.2.2.2.2.2.1 s.2.2.2.2.2.2.2.2.2.2.2.2.2.2.2) (fun s => μ s.1 s.2.1 s.2.2.1 s.2.2.2.1 s.2.2.2.2.1 s.2.2.2.2.2.1 s.2.2.2.2.2.2.1 s.2.2.2.2.2.2.2.1 s.2.2.2.2.2.2.2.2.1 s.2.2.2.2.2.2.2.2.2.1 s.2.2.2.2.2.2.2.2.2.2.1 s.2.2.2.2.2.2.2.2.2.2.2.1 s.2.2.2.2.2.2.2.2.2.2.2.2.1 s.2.2.2.2.2.2.2.2.2.2.2.2.2.1 s.2.2.2.2.2.2.2.2.2.2.2.2.2.2.1 s.2.2.2.2.2.2.2.2.2.2.2.2.2.2.2) (fun n s hI hk => hs n s.1 s.2.1 s.2.2.1 s.2.2.2.1 s.2.2.2.2.1 s.2.2.2.2.2.1 s.2.2.2.2.2.2.1 s.2.2.2.2.2.2.2.1 s.2.2.2.2.2.2.2.2.1 s.2.2.2.2.2.2.2.2.2.1 s.2.2.2.2.2.2.2.2.2.2.1 s.2.2.2.2.2.2.2.2.2.2.2.1 s.2.2.2.2.2.2.2.2.2.2.2.2.1 s.2.2.2.2.2.2.2.2.2.2.2.2.2.1 s.2.2.2.2.2.2.2.2.2.2.2.2.2.2.1 s.2.2.2.2.2.2.2.2.2.2.2.2.2.2.2 hI (fun b1 b2 b3 b4 b5 b6 b7 b8 b9 b10 b11 b12 b13 b14 b15 b16 h9 hm => hk (b1, b2, b3, b4, b5, b6, b7, b8, b9, b10, b11, b12, b13, b14, b15, b16) h9 hm)) (a1, a2, a3, a4, a5, a6, a7, a8, a9, a10, a11, a12, a13, a14, a15, a16) h
theorem pk_least (P : Nat → Prop) (h : ∃ k, P k) : ∃ k, P k ∧ ∀ j, j < k → ¬ P j := by
  obtain ⟨k, hk⟩ := h
  induction k using Nat.strongRecOn with
  | ind k ih =>
    by_cases e : ∃ j, j < k ∧ P j
    · obtain ⟨j, hj, pj⟩ := e
      exact ih j hj pj
    · exact ⟨k, hk, fun j hj pj => e ⟨j, hj, pj⟩⟩
theorem rp1 {ρ A1 : Type} (W : Nat → (ρ → Prop) → A1 → Prop) (ok : A1 → Prop) (μ : A1 → Nat) (val : A1 → ρ)
    (hs : ∀ (d : Nat) (post : ρ → Prop) (a1 : A1), ok a1 → post (val a1) → (∀ (post' : ρ → Prop) (b1 : A1), ok b1 → μ b1 < μ a1 → post' (val b1) → W d post' b1) → W (d + 1) post a1) :
    ∀ (d : Nat) (post : ρ → Prop) (a1 : A1), ok a1 → μ a1 < d → post (val a1) → W d post a1 := by
  intro d
  induction d with
  | zero => intro post a1 _ h; omega
  | succ d ih =>
    intro post a1 ho hm hp
    exact hs d post a1 ho hp (fun post' b1 ho' hm' hp' => ih post' b1 ho' (by omega) hp')
theorem rp2 {ρ A1 A2 : Type} (W : Nat → (ρ → Prop) → A1 → A2 → Prop) (ok : A1 → A2 → Prop) (μ : A1 → A2 → Nat) (val : A1 → A2 → ρ)
    (hs : ∀ (d : Nat) (post : ρ → Prop) (a1 : A1) (a2 : A2), ok a1 a2 → post (val a1 a2) → (∀ (post' : ρ → Prop) (b1 : A1) (b2 : A2), ok b1 b2 → μ b1 b2 < μ a1 a2 → post' (val b1 b2) → W d post' b1 b2) → W (d + 1) post a1 a2) :
    ∀ (d : Nat) (post : ρ → Prop) (a1 : A1) (a2 : A2), ok a1 a2 → μ a1 a2 < d → post (val a1 a2) → W d post a1 a2 := by
  intro d
  induction d with
  | zero => intro post a1 a2 _ h; omega
  | succ d ih =>
    intro post a1 a2 ho hm hp
    exact hs d post a1 a2 ho hp (fun post' b1 b2 ho' hm' hp' => ih post' b1 b2 ho' (by omega) hp')
theorem rp3 {ρ A1 A2 A3 : Type} (W : Nat → (ρ → Prop) → A1 → A2 → A3 → Prop) (ok : A1 → A2 → A3 → Prop) (μ : A1 → A2 → A3 → Nat) (val : A1 → A2 → A3 → ρ)
    (hs : ∀ (d : Nat) (post : ρ → Prop) (a1 : A1) (a2 : A2) (a3 : A3), ok a1 a2 a3 → post (val a1 a2 a3) → (∀ (post' : ρ → Prop) (b1 : A1) (b2 : A2) (b3 : A3), ok b1 b2 b3 → μ b1 b2 b3 < μ a1 a2 a3 → post' (val b1 b2 b3) → W d post' b1 b2 b3) → W (d + 1) post a1 a2 a3) :
    ∀ (d : Nat) (post : ρ → Prop) (a1 : A1) (a2 : A2) (a3 : A3), ok a1 a2 a3 → μ a1 a2 a3 < d → post (val a1 a2 a3) → W d post a1 a2 a3 := by
  intro d
  induction d with
  | zero => intro post a1 a2 a3 _ h; omega
  | succ d ih =>
    intro post a1 a2 a3 ho hm hp
    exact hs d post a1 a2 a3 ho hp (fun post' b1 b2 b3 ho' hm' hp' => ih post' b1 b2 b3 ho' (by omega) hp')
theorem rp4 {ρ A1 A2 A3 A4 : Type} (W : Nat → (ρ → Prop) → A1 → A2 → A3 → A4 → Prop) (ok : A1 → A2 → A3 → A4 → Prop) (μ : A1 → A2 → A3 → A4 → Nat) (val : A1 → A2 → A3 → A4 → ρ)
    (hs : ∀ (d : Nat) (post : ρ → Prop) (a1 : A1) (a2 : A2) (a3 : A3) (a4 : A4), ok a1 a2 a3 a4 → post (val a1 a2 a3 a4) → (∀ (post' : ρ → Prop) (b1 : A1) (b2 : A2) (b3 : A3) (b4 : A4), ok b1 b2 b3 b4 → μ b1 b2 b3 b4 < μ a1 a2 a3 a4 → post' (val b1 b2 b3 b4) → W d post' b1 b2 b3 b4) → W (d + 1) post a1 a2 a3 a4) :
    ∀ (d : Nat) (post : ρ → Prop) (a1 : A1) (a2 : A2) (a3 : A3) (a4 : A4), ok a1 a2 a3 a4 → μ a1 a2 a3 a4 < d → post (val a1 a2 a3 a4) → W d post a1 a2 a3 a4 := by
  intro d
  induction d with
  | zero => intro post a1 a2 a3 a4 _ h; omega
  | succ d ih =>
    intro post a1 a2 a3 a4 ho hm hp
    exact hs d post a1 a2 a3 a4 ho hp (fun post' b1 b2 b3 b4 ho' hm' hp' => ih post' b1 b2 b3 b4 ho' (by omega) hp')
theorem rp5 {ρ A1 A2 A3 A4 A5 : Type} (W : Nat → (ρ → Prop) → A1 → A2 → A3 → A4 → A5 → Prop) (ok : A1 → A2 → A3 → A4 → A5 → Prop) (μ : A1 → A2 → A3 → A4 → A5 → Nat) (val : A1 → A2 → A3 → A4 → A5 → ρ)
    (hs : ∀ (d : Nat) (post : ρ → Prop) (a1 : A1) (a2 : A2) (a3 : A3) (a4 : A4) (a5 : A5), ok a1 a2 a3 a4 a5 → post (val a1 a2 a3 a4 a5) → (∀ (post' : ρ → Prop) (b1 : A1) (b2 : A2) (b3 : A3) (b4 : A4) (b5 : A5), ok b1 b2 b3 b4 b5 → μ b1 b2 b3 b4 b5 < μ a1 a2 a3 a4 a5 → post' (val b1 b2 b3 b4 b5) → W d post' b1 b2 b3 b4 b5) → W (d + 1) post a1 a2 a3 a4 a5) :
    ∀ (d : Nat) (post : ρ → Prop) (a1 : A1) (a2 : A2) (a3 : A3) (a4 : A4) (a5 : A5), ok a1 a2 a3 a4 a5 → μ a1 a2 a3 a4 a5 < d → post (val a1 a2 a3 a4 a5) → W d post a1 a2 a3 a4 a5 := by
  intro d
  induction d with
  | zero => intro post a1 a2 a3 a4 a5 _ h; omega
  | succ d ih =>
    intro post a1 a2 a3 a4 a5 ho hm hp
    exact hs d post a1 a2 a3 a4 a5 ho hp (fun post' b1 b2 b3 b4 b5 ho' hm' hp' => ih post' b1 b2 b3 b4 b5 ho' (by omega) hp')
theorem rp6 {ρ A1 A2 A3 A4 A5 A6 : Type} (W : Nat → (ρ → Prop) → A1 → A2 → A3 → A4 → A5 → A6 → Prop) (ok : A1 → A2 → A3 → A4 → A5 → A6 → Prop) (μ : A1 → A2 → A3 → A4 → A5 → A6 → Nat) (val : A1 → A2 → A3 → A4 → A5 → A6 → ρ)
    (hs : ∀ (d : Nat) (post : ρ → Prop) (a1 : A1) (a2 : A2) (a3 : A3) (a4 : A4) (a5 : A5) (a6 : A6), ok a1 a2 a3 a4 a5 a6 → post (val a1 a2 a3 a4 a5 a6) → (∀ (post' : ρ → Prop) (b1 : A1) (b2 : A2) (b3 : A3) (b4 : A4) (b5 : A5) (b6 : A6), ok b1 b2 b3 b4 b5 b6 → μ b1 b2 b3 b4 b5 b6 < μ a1 a2 a3 a4 a5 a6 → post' (val b1 b2 b3 b4 b5 b6) → W d post' b1 b2 b3 b4 b5 b6) → W (d + 1) post a1 a2 a3 a4 a5 a6) :
    ∀ (d : Nat) (post : ρ → Prop) (a1 : A1) (a2 : A2) (a3 : A3) (a4 : A4) (a5 : A5) (a6 : A6), ok a1 a2 a3 a4 a5 a6 → μ a1 a2 a3 a4 a5 a6 < d → post (val a1 a2 a3 a4 a5 a6) → W d post a1 a2 a3 a4 a5 a6 := by
  intro d
  induction d with
  | zero => intro post a1 a2 a3 a4 a5 a6 _ h; omega
  | succ d ih =>
    intro post a1 a2 a3 a4 a5 a6 ho hm hp
    exact hs d post a1 a2 a3 a4 a5 a6 ho hp (fun post' b1 b2 b3 b4 b5 b6 ho' hm' hp' => ih post' b1 b2 b3 b4 b5 b6 ho' (by omega) hp')
theorem rec_p {σ ρ : Type} (W : Nat → (ρ → Prop) → σ → Prop) (ok : σ → Prop) (μ : σ → Nat) (val : σ → ρ)
    (hs : ∀ d s post, ok s → post (val s) → (∀ s' post', ok s' → μ s' < μ s → post' (val s') → W d post' s') → W (d + 1) post s) :
    ∀ d s post, ok s → μ s < d → post (val s) → W d post s := by
  intro d
  induction d with
  | zero => intro s post _ h; omega
  | succ d ih =>
    intro s post ho hm hp
    exact hs d s post ho hp (fun s' post' ho' hm' hp' => ih s' post' ho' (by omega) hp')
theorem rec_q {σ ρ : Type} (W : Nat → (ρ → Prop) → σ → Prop) (ok : σ → Prop) (μ : σ → Nat) (Q : σ → ρ → Prop)
    (hs : ∀ d s post, ok s → (∀ r, Q s r → post r) → (∀ s' post', ok s' → μ s' < μ s → (∀ r, Q s' r → post' r) → W d post' s') → W (d + 1) post s) :
    ∀ d s post, ok s → μ s < d → (∀ r, Q s r → post r) → W d post s := by
  intro d
  induction d with
  | zero => intro s post _ h; omega
  | succ d ih =>
    intro s post ho hm hp
    exact hs d s post ho hp (fun s' post' ho' hm' hp' => ih s' post' ho' (by omega) hp')
def bx_sum (f : Nat → Int32) : Nat → Int32
  | 0 => 0
  | n + 1 => bx_sum f n + f n
theorem ek_u {A : Prop} {B : Nat → Prop} {k N : Nat} (hk : k < N) (h : B k) : (some k = none → A) ∧ (∀ y : Nat, some k = some y → (y < N ∧ B y)) :=
  ⟨fun z => absurd z (Option.some_ne_none k), fun _ e => (by cases e; exact ⟨hk, h⟩)⟩
theorem ek_nu {A : Prop} {B : Nat → Prop} (h : A) : ((none : Option Nat) = none → A) ∧ (∀ y : Nat, (none : Option Nat) = some y → B y) :=
  ⟨fun _ => h, fun _ e => (by cases e)⟩
theorem ek_if {c d A B : Prop} (e : c ↔ d) (f : d → A) (g : ¬ d → B) : (c → A) ∧ (¬ c → B) :=
  ⟨fun z => f (e.mp z), fun z => g (fun y => z (e.mpr y))⟩
theorem ek_v {α : Sort _} {P : α → Prop} {a b : α} (e : a = b) (h : P b) : P a := e ▸ h
theorem co_some {x : Option Nat} {A : Prop} {B : Nat → Prop} (i : Nat) (h : B i) (hx : x = some i := by rfl) : (x = none → A) ∧ (∀ y : Nat, x = some y → B y) := by
  subst hx
  exact ⟨fun e => (nomatch e), fun y e => Option.some.inj e ▸ h⟩
theorem co_none {x : Option Nat} {A : Prop} {B : Nat → Prop} (h : A) (hx : x = none := by rfl) : (x = none → A) ∧ (∀ y : Nat, x = some y → B y) := by
  subst hx
  exact ⟨fun _ => h, fun y e => (nomatch e)⟩
theorem co_any {x : Option Nat} {A : Prop} {B : Nat → Prop} (hn : x = none → A) (hs : ∀ i : Nat, x = some i → B i) : (x = none → A) ∧ (∀ y : Nat, x = some y → B y) := ⟨hn, hs⟩
theorem co_2 {P : Nat → Prop} (h0 : P 0) (h1 : P 1) {i : Nat} (hi : i < 2) : P i :=
  match i, hi with
  | 0, _ => h0
  | 1, _ => h1
theorem co_3 {P : Nat → Prop} (h0 : P 0) (h1 : P 1) (h2 : P 2) {i : Nat} (hi : i < 3) : P i :=
  match i, hi with
  | 0, _ => h0
  | 1, _ => h1
  | 2, _ => h2
theorem co_4 {P : Nat → Prop} (h0 : P 0) (h1 : P 1) (h2 : P 2) (h3 : P 3) {i : Nat} (hi : i < 4) : P i :=
  match i, hi with
  | 0, _ => h0
  | 1, _ => h1
  | 2, _ => h2
  | 3, _ => h3
theorem co_dec {N : Nat} {P : Nat → Prop} [DecidablePred P] (h : (List.range N).all (fun i => decide (P i)) = true) {i : Nat} (hi : i < N) : P i := by
  have := List.all_eq_true.mp h i (List.mem_range.mpr hi)
  exact of_decide_eq_true this
theorem co_tab {α : Type} {l : List α} {d : α} {P : α → Prop} (h : ∀ a, a ∈ l → P a) {i : Nat} (hi : i < l.length) : P (l.getD i d) := by
  rw [List.getD_eq_getElem?_getD, List.getElem?_eq_getElem hi]
  exact h _ (List.getElem_mem hi)
theorem pk_mu {x : Int32} {L : Nat} (h0 : ¬ x < 0) (h : ¬ nI L ≤ x) (hL : L < 2 ^ 31) : ∃ j : Nat, j < L ∧ x = nI j ∧ x + 1 = nI (j + 1) ∧ x.toNatClampNeg = j ∧ L - (x + 1).toNatClampNeg < L - x.toNatClampNeg := by
  obtain ⟨j, hj, rfl⟩ := nI_of h0
  have hl : j < L := Nat.not_le.mp fun q => h (nI_le q hj)
  refine ⟨j, hl, rfl, nI_1 j, nI_clamp hj, ?_⟩
  rw [nI_1, nI_clamp (by omega), nI_clamp hj]
  omega
theorem op_s {α : Type} {r : Option α} {A : Prop} {B : α → Prop} {y : α} (h : r = some y) (b : B y) : (r = none → A) ∧ ∀ z, r = some z → B z :=
  ⟨fun e => (by rw [h] at e; cases e), fun z e => (by rw [h] at e; cases e; exact b)⟩
def l_holds {α : Type} (a : Nat → Option Nat) (LP : List Nat) (p : Nat → α) (c : Nat) (b : Nat → α) : Prop :=
  ∀ j, j < c → ∃ y, a j = some y ∧ y ∈ LP ∧ p y = b j
theorem l_holds_0 {α : Type} {a : Nat → Option Nat} {LP : List Nat} {p b : Nat → α} : l_holds a LP p 0 b := fun j h => absurd h (Nat.not_lt_zero j)
theorem l_in_new (LP : List Nat) (q : Nat) : q ∈ LP ++ [q] := List.mem_append.mpr (Or.inr (List.mem_singleton.mpr rfl))
def l_sum (b : Nat → Int32) : Nat → Int32
  | 0 => 0
  | k + 1 => l_sum b k + b k
theorem sb_shr0 (x : Int32) : x >>> ((0 : Int32) &&& 31) = x := by
  rw [show ((0 : Int32) &&& 31) = 0 by decide]
  simp
theorem sb_shl0 (x : Int32) : x <<< ((0 : Int32) &&& 31) = x := by
  rw [show ((0 : Int32) &&& 31) = 0 by decide]
  simp
theorem sb_cl0 : (0 : Int32).toNatClampNeg = 0 := by decide
theorem sb_m1 {p : Nat} (h : 0 < p) : nI p + (-1) = nI (p - 1) := by
  obtain ⟨q, rfl⟩ : ∃ q, p = q + 1 := ⟨p - 1, by omega⟩
  exact pk_m1 q
def sb_b (c : Nat) : Int32 := (nI c).toInt8.toInt32
theorem sb_byte : ∀ c, c < 256 → sb_b c &&& 255 = nI c ∧ ((nI c).toUInt32 % 65536).toInt32 = nI c ∧ nI c ≤ 255 := by decide +kernel
def sb_Fit (a : Nat → Int32) : Prop := ∀ j, fits .byte (.int (a j)) = true
def sb_Lat (t : Nat → Nat) (n : Nat) (a : Nat → Int32) : Prop := ∀ j, j < n → t j < 256 ∧ a j = sb_b (t j)
theorem sb_fitB (c : Nat) : fits .byte (.int (sb_b c)) = true := pk_fb _
theorem sb_fit0 : sb_Fit (fun _ => 0) := fun _ => by
  show fits .byte (.int 0) = true
  decide
theorem sb_fitU {a : Nat → Int32} {k : Nat} {x : Int32} (h : sb_Fit a) (hx : fits .byte (.int x) = true) : sb_Fit (upd a k x) := by
  intro j
  by_cases e : j = k
  · subst e
    rw [pk_us]
    exact hx
  · rw [pk_un e]
    exact h j
def sb_cat (t : Nat → Nat) (n : Nat) (s : Nat → Nat) : Nat → Nat := fun j => if j < n then t j else s (j - n)
theorem sb_cat_lo {t s : Nat → Nat} {n j : Nat} (h : j < n) : sb_cat t n s j = t j := if_pos h
theorem sb_cat_hi {t s : Nat → Nat} {n j : Nat} : sb_cat t n s (n + j) = s j := by
  show (if n + j < n then t (n + j) else s (n + j - n)) = s j
  rw [if_neg (by omega), Nat.add_sub_cancel_left]
theorem sb_latPut {t s : Nat → Nat} {n w : Nat} {a a' : Nat → Int32} (h : sb_Lat t n a) (hk : ∀ j, j < n → a' j = a j) (hs : ∀ i, i < w → s i < 256 ∧ a' (n + i) = sb_b (s i)) : sb_Lat (sb_cat t n s) (n + w) a' := by
  intro j hj
  by_cases e : j < n
  · rw [sb_cat_lo e, hk j e]
    exact h j e
  · obtain ⟨i, rfl⟩ : ∃ i, j = n + i := ⟨j - n, by omega⟩
    rw [sb_cat_hi]
    exact hs i (by omega)
theorem sb_latKeep {t : Nat → Nat} {n : Nat} {a a' : Nat → Int32} (h : sb_Lat t n a) (hk : ∀ j, j < n → a' j = a j) : sb_Lat t n a' := fun j hj => by
  rw [hk j hj]
  exact h j hj
def sb_cap (q m : Nat) : Nat := if q ≤ m then m else if 2 * m + 2 < q then q else 2 * m + 2
def sb_Room (q m mc ms : Nat) : Prop := q ≤ m ∨ (1 ≤ mc ∧ sb_cap q m ≤ ms ∧ sb_cap q m ≤ 65536)
theorem sb_cap_ge (q m : Nat) : q ≤ sb_cap q m := by
  unfold sb_cap
  split
  · omega
  · split <;> omega
theorem sb_cap_gem (q m : Nat) : m ≤ sb_cap q m := by
  unfold sb_cap
  split
  · omega
  · split <;> omega
theorem sb_cap_le {q m mc ms : Nat} (hm : m ≤ 65536) (hr : sb_Room q m mc ms) : sb_cap q m ≤ 65536 := by
  rcases hr with h | h
  · rw [sb_cap, if_pos h]
    exact hm
  · exact h.2.2
theorem sb_at {P : Int32 → Prop} {x y : Int32} (e : x = y) (h : P y) : P x := e ▸ h
def sb_dg (w : Nat) : Nat := if w < 10 then 1 else if w < 100 then 2 else if w < 1000 then 3 else if w < 10000 then 4 else if w < 100000 then 5 else if w < 1000000 then 6 else if w < 10000000 then 7 else if w < 100000000 then 8 else if w < 1000000000 then 9 else 10
def sb_dec (v : Nat) : Nat → Nat := fun i => 48 + v / 10 ^ (sb_dg v - 1 - i) % 10
theorem sb_dg_in (w : Nat) : 1 ≤ sb_dg w ∧ sb_dg w ≤ 10 := by
  unfold sb_dg
  constructor <;> (repeat' split) <;> omega
theorem sb_dg100 {w : Nat} (h : 100 ≤ w) (hw : w < 2 ^ 31) : sb_dg w = sb_dg (w / 100) + 2 := by
  rw [sb_dg, sb_dg, if_neg (show ¬ w < 10 by omega), if_neg (show ¬ w < 100 by omega)]
  by_cases h3 : w < 1000
  · rw [if_pos h3, if_pos (show w / 100 < 10 by omega)]
  rw [if_neg h3, if_neg (show ¬ w / 100 < 10 by omega)]
  by_cases h4 : w < 10000
  · rw [if_pos h4, if_pos (show w / 100 < 100 by omega)]
  rw [if_neg h4, if_neg (show ¬ w / 100 < 100 by omega)]
  by_cases h5 : w < 100000
  · rw [if_pos h5, if_pos (show w / 100 < 1000 by omega)]
  rw [if_neg h5, if_neg (show ¬ w / 100 < 1000 by omega)]
  by_cases h6 : w < 1000000
  · rw [if_pos h6, if_pos (show w / 100 < 10000 by omega)]
  rw [if_neg h6, if_neg (show ¬ w / 100 < 10000 by omega)]
  by_cases h7 : w < 10000000
  · rw [if_pos h7, if_pos (show w / 100 < 100000 by omega)]
  rw [if_neg h7, if_neg (show ¬ w / 100 < 100000 by omega)]
  by_cases h8 : w < 100000000
  · rw [if_pos h8, if_pos (show w / 100 < 1000000 by omega)]
  rw [if_neg h8, if_neg (show ¬ w / 100 < 1000000 by omega)]
  by_cases h9 : w < 1000000000
  · rw [if_pos h9, if_pos (show w / 100 < 10000000 by omega)]
  rw [if_neg h9, if_neg (show ¬ w / 100 < 10000000 by omega)]
  rw [if_pos (show w / 100 < 100000000 by omega)]
theorem sb_negT {w : Nat} (h : w < 2 ^ 31) : (-nI w).toInt = -(w : Int) := by
  rw [Int32.toInt_neg, nI_toInt h]
  exact Int.bmod_eq_of_le (by omega) (by omega)
theorem sb_nle {a b : Nat} (ha : a < 2 ^ 31) (hb : b < 2 ^ 31) : -nI a ≤ -nI b ↔ b ≤ a := by
  rw [Int32.le_iff_toInt_le, sb_negT ha, sb_negT hb]
  omega
theorem sb_nlt {a b : Nat} (ha : a < 2 ^ 31) (hb : b < 2 ^ 31) : -nI a < -nI b ↔ b < a := by
  rw [Int32.lt_iff_toInt_lt, sb_negT ha, sb_negT hb]
  omega
theorem sb_cmp {A B : Prop} {x : Int32} (v c : Nat) (f : c ≤ v → A) (g : v < c → B) (hv : v < 2 ^ 31) (hx : x = -nI c := by rfl) (hc : c < 2 ^ 31 := by omega) : (-nI v ≤ x → A) ∧ (¬ -nI v ≤ x → B) := by
  subst hx
  rw [sb_nle hv hc]
  exact ⟨f, fun z => g (by omega)⟩
theorem sb_ndiv {w : Nat} (hw : w < 2 ^ 31) : (-nI w) / 100 = -nI (w / 100) := by
  apply Int32.toInt_inj.mp
  have h100 : (100 : Int32).toInt = 100 := by decide
  rw [Int32.toInt_div, sb_negT hw, h100, sb_negT (by omega), Int.neg_tdiv, Int.tdiv_eq_ediv_of_nonneg (by omega), Int.bmod_eq_of_le (by omega) (by omega)]
  omega
theorem sb_nrem {w : Nat} (hw : w < 2 ^ 31) : (-nI (w / 100)) * 100 - (-nI w) = nI (w % 100) := by
  have h := pk_rem (a := w) (d := 100) hw (by decide) (by decide)
  rw [pk_div hw (by decide) (by decide)] at h
  rw [← h]
  show (-nI (w / 100)) * nI 100 - (-nI w) = nI w - nI (w / 100) * nI 100
  rw [Int32.neg_mul, Int32.sub_neg, Int32.add_comm, ← Int32.sub_eq_add_neg]
end
section
/-! strings as lists of numbers, read by index -/
def rj_g (w : List Nat) (x : Nat) : Nat := w.getD x 0
theorem rj_gE (w : List Nat) (x : Nat) : rj_g w x = (w[x]?).getD 0 := List.getD_eq_getElem?_getD
theorem rj_g_lo {a b : List Nat} {x : Nat} (h : x < a.length) : rj_g (a ++ b) x = rj_g a x := by
  rw [rj_gE, rj_gE, List.getElem?_append_left h]
theorem rj_g_hi {a b : List Nat} {x : Nat} (h : a.length ≤ x) : rj_g (a ++ b) x = rj_g b (x - a.length) := by
  rw [rj_gE, rj_gE, List.getElem?_append_right h]
theorem rj_g_at {a b : List Nat} (x : Nat) : rj_g (a ++ b) (a.length + x) = rj_g b x := by
  rw [rj_g_hi (Nat.le_add_right _ _), Nat.add_sub_cancel_left]
theorem rj_g_drop (w : List Nat) (k x : Nat) : rj_g (w.drop k) x = rj_g w (k + x) := by
  rw [rj_gE, rj_gE, List.getElem?_drop]
theorem rj_g_take {w : List Nat} {k x : Nat} (h : x < k) : rj_g (w.take k) x = rj_g w x := by
  rw [rj_gE, rj_gE, List.getElem?_take, if_pos h]
theorem rj_g_0 (v : Nat) (w : List Nat) : rj_g (v :: w) 0 = v := rfl
theorem rj_g_s (v : Nat) (w : List Nat) (x : Nat) : rj_g (v :: w) (x + 1) = rj_g w x := rfl
theorem rj_g_end (w : List Nat) (v : Nat) : rj_g (w ++ [v]) w.length = v := by
  have := rj_g_at (a := w) (b := [v]) 0
  exact this
theorem rj_g_mem {w : List Nat} {x : Nat} (h : x < w.length) : rj_g w x ∈ w := by
  rw [rj_gE, List.getElem?_eq_getElem h]
  exact List.getElem_mem h
theorem rj_g_of {w : List Nat} {v : Nat} (h : v ∈ w) : ∃ x, x < w.length ∧ rj_g w x = v := by
  obtain ⟨x, hx, e⟩ := List.getElem_of_mem h
  refine ⟨x, hx, ?_⟩
  rw [rj_gE, List.getElem?_eq_getElem hx]
  exact e
theorem rj_ext {a b : List Nat} (hl : a.length = b.length) (h : ∀ x, x < a.length → rj_g a x = rj_g b x) : a = b := by
  apply List.ext_getElem hl
  intro i h1 h2
  have e := h i h1
  rw [rj_gE, rj_gE, List.getElem?_eq_getElem h1, List.getElem?_eq_getElem h2] at e
  exact e
theorem rj_len0 {a : List Nat} (h : a.length = 0) : a = [] := List.length_eq_zero_iff.mp h
/-! occurrences -/
def rj_occ (r w : List Nat) (p : Nat) : Prop := p + r.length ≤ w.length ∧ ∀ x, x < r.length → rj_g w (p + x) = rj_g r x
def rj_inf (r w : List Nat) : Prop := ∃ p, rj_occ r w p
theorem rj_inf_nil (w : List Nat) : rj_inf [] w := ⟨0, Nat.zero_le _, fun x h => absurd h (Nat.not_lt_zero _)⟩
theorem rj_inf_trans {a b w : List Nat} (h1 : rj_inf a b) (h2 : rj_inf b w) : rj_inf a w := by
  obtain ⟨p, hp, ep⟩ := h1
  obtain ⟨r, hr, er⟩ := h2
  refine ⟨r + p, by omega, fun x hx => ?_⟩
  rw [Nat.add_assoc, er (p + x) (by omega), ep x hx]
theorem rj_inf_refl (a : List Nat) : rj_inf a a := ⟨0, by omega, fun x _ => by rw [Nat.zero_add]⟩
theorem rj_inf_app {a w : List Nat} (v : List Nat) (h : rj_inf a w) : rj_inf a (w ++ v) := by
  obtain ⟨p, hp, ep⟩ := h
  refine ⟨p, by rw [List.length_append]; omega, fun x hx => ?_⟩
  rw [rj_g_lo (by omega), ep x hx]
theorem rj_inf_len {a w : List Nat} (h : rj_inf a w) : a.length ≤ w.length := by
  obtain ⟨p, hp, _⟩ := h
  omega
theorem rj_inf_eq {a w : List Nat} (h : rj_inf a w) (hl : a.length = w.length) : a = w := by
  obtain ⟨p, hp, ep⟩ := h
  have : p = 0 := by omega
  subst this
  refine rj_ext hl fun x hx => ?_
  have := ep x hx
  rw [Nat.zero_add] at this
  exact this.symm
/-! overlaps: the last k of a are the first k of b -/
def rj_OV (a b : List Nat) (k : Nat) : Prop := k ≤ a.length ∧ k ≤ b.length ∧ ∀ x, x < k → rj_g a (a.length - k + x) = rj_g b x
theorem rj_OV0 (a b : List Nat) : rj_OV a b 0 := ⟨Nat.zero_le _, Nat.zero_le _, fun x h => absurd h (Nat.not_lt_zero _)⟩
theorem rj_max (P : Nat → Prop) (h0 : P 0) : ∀ N, (∀ k, P k → k ≤ N) → ∃ k, P k ∧ ∀ j, P j → j ≤ k := by
  intro N
  induction N with
  | zero => exact fun h => ⟨0, h0, h⟩
  | succ N ih =>
    intro h
    by_cases hp : P (N + 1)
    · exact ⟨N + 1, hp, h⟩
    · refine ih fun k hk => ?_
      have h1 := h k hk
      have h2 : k ≠ N + 1 := fun e => hp (e ▸ hk)
      omega
theorem rj_lapE (a b : List Nat) : ∃ k, rj_OV a b k ∧ ∀ j, rj_OV a b j → j ≤ k :=
  rj_max _ (rj_OV0 a b) a.length fun _ h => h.1
noncomputable def rj_lap (a b : List Nat) : Nat := (rj_lapE a b).choose
theorem rj_lap_ov (a b : List Nat) : rj_OV a b (rj_lap a b) := (rj_lapE a b).choose_spec.1
theorem rj_lap_max {a b : List Nat} {j : Nat} (h : rj_OV a b j) : j ≤ rj_lap a b := (rj_lapE a b).choose_spec.2 j h
theorem rj_lap_eq {a b : List Nat} {k : Nat} (h : rj_OV a b k) (hm : ∀ j, rj_OV a b j → j ≤ k) : rj_lap a b = k :=
  Nat.le_antisymm (hm _ (rj_lap_ov a b)) (rj_lap_max h)
/-! the strict order by length, then by dictionary -/
def rj_LL (a b : List Nat) : Prop := ∃ i, i < a.length ∧ (∀ x, x < i → rj_g a x = rj_g b x) ∧ rj_g a i < rj_g b i
def rj_sl (a b : List Nat) : Prop := a.length < b.length ∨ (a.length = b.length ∧ rj_LL a b)
theorem rj_firstdiff (a b : List Nat) : ∀ n, (∀ x, x < n → rj_g a x = rj_g b x) ∨ ∃ i, i < n ∧ (∀ x, x < i → rj_g a x = rj_g b x) ∧ rj_g a i ≠ rj_g b i := by
  intro n
  induction n with
  | zero => exact Or.inl fun x h => absurd h (Nat.not_lt_zero _)
  | succ n ih =>
    rcases ih with h | ⟨i, hi, h1, h2⟩
    · by_cases e : rj_g a n = rj_g b n
      · refine Or.inl fun x hx => ?_
        by_cases hxn : x = n
        · rw [hxn]; exact e
        · exact h x (by omega)
      · exact Or.inr ⟨n, by omega, h, e⟩
    · exact Or.inr ⟨i, by omega, h1, h2⟩
theorem rj_sl_tri (a b : List Nat) : rj_sl a b ∨ a = b ∨ rj_sl b a := by
  rcases Nat.lt_trichotomy a.length b.length with h | h | h
  · exact Or.inl (Or.inl h)
  · rcases rj_firstdiff a b a.length with e | ⟨i, hi, h1, h2⟩
    · exact Or.inr (Or.inl (rj_ext h e))
    · by_cases hl : rj_g a i < rj_g b i
      · exact Or.inl (Or.inr ⟨h, i, hi, h1, hl⟩)
      · exact Or.inr (Or.inr (Or.inr ⟨h.symm, i, by omega, fun x hx => (h1 x hx).symm, by omega⟩))
  · exact Or.inr (Or.inr (Or.inl h))
theorem rj_LL_trans {a b c : List Nat} (hl : a.length = b.length) (h1 : rj_LL a b) (h2 : rj_LL b c) : rj_LL a c := by
  obtain ⟨i, hi, e1, l1⟩ := h1
  obtain ⟨j, hj, e2, l2⟩ := h2
  rcases Nat.lt_trichotomy i j with h | h | h
  · exact ⟨i, hi, fun x hx => (e1 x hx).trans (e2 x (by omega)), by rw [← e2 i h]; exact l1⟩
  · subst h
    exact ⟨i, hi, fun x hx => (e1 x hx).trans (e2 x hx), Nat.lt_trans l1 l2⟩
  · exact ⟨j, by omega, fun x hx => (e1 x (by omega)).trans (e2 x hx), by rw [e1 j h]; exact l2⟩
theorem rj_LL_irr (a : List Nat) : ¬ rj_LL a a := fun ⟨_, _, _, h⟩ => Nat.lt_irrefl _ h
theorem rj_sl_trans {a b c : List Nat} (h1 : rj_sl a b) (h2 : rj_sl b c) : rj_sl a c := by
  rcases h1 with h1 | ⟨e1, h1⟩ <;> rcases h2 with h2 | ⟨e2, h2⟩
  · exact Or.inl (by omega)
  · exact Or.inl (by omega)
  · exact Or.inl (by omega)
  · exact Or.inr ⟨by omega, rj_LL_trans e1 h1 h2⟩
theorem rj_sl_irr (a : List Nat) : ¬ rj_sl a a := by
  rintro (h | ⟨_, h⟩)
  · exact Nat.lt_irrefl _ h
  · exact rj_LL_irr a h
/-- a is at most b -/
def rj_le (a b : List Nat) : Prop := ¬ rj_sl b a
theorem rj_le_refl (a : List Nat) : rj_le a a := rj_sl_irr a
theorem rj_le_sl {a b : List Nat} (h : rj_sl a b) : rj_le a b := fun h2 => rj_sl_irr a (rj_sl_trans h h2)
theorem rj_le_trans {a b c : List Nat} (h1 : rj_le a b) (h2 : rj_le b c) : rj_le a c := by
  intro h
  rcases rj_sl_tri a b with k | k | k
  · exact h2 (rj_sl_trans h k)
  · exact h2 (k ▸ h)
  · exact h1 k
theorem rj_le_anti {a b : List Nat} (h1 : rj_le a b) (h2 : rj_le b a) : a = b := by
  rcases rj_sl_tri a b with k | k | k
  · exact absurd k h2
  · exact k
  · exact absurd k h1
theorem rj_le_len {a b : List Nat} (h : rj_le a b) : a.length ≤ b.length := by
  apply Nat.le_of_not_lt
  exact fun k => h (Or.inl k)
theorem rj_sl_app {a b : List Nat} (u : List Nat) (h : rj_sl (u ++ a) (u ++ b)) : rj_sl a b := by
  unfold rj_sl at h ⊢
  rw [List.length_append, List.length_append] at h
  rcases h with h | ⟨h, i, hi, e, l⟩
  · exact Or.inl (by omega)
  · have hui : u.length ≤ i := by
      apply Nat.le_of_not_lt
      intro k
      rw [rj_g_lo k, rj_g_lo k] at l
      exact Nat.lt_irrefl _ l
    rw [List.length_append] at hi
    refine Or.inr ⟨by omega, i - u.length, by omega, fun x hx => ?_, ?_⟩
    · have := e (u.length + x) (by omega)
      rw [rj_g_at, rj_g_at] at this
      exact this
    · rw [rj_g_hi hui, rj_g_hi hui] at l
      exact l
theorem rj_le_app {a b : List Nat} (u : List Nat) (h : rj_le a b) : rj_le (u ++ a) (u ++ b) := fun k => h (rj_sl_app u k)
/-! the reads -/
def rj_R (s q : Nat → Nat) (i : Nat) : List Nat := (List.range (s i)).map fun x => q (6 * i + x)
theorem rj_R_len (s q : Nat → Nat) (i : Nat) : (rj_R s q i).length = s i := by
  rw [rj_R, List.length_map, List.length_range]
theorem rj_R_g {s q : Nat → Nat} {i x : Nat} (h : x < s i) : rj_g (rj_R s q i) x = q (6 * i + x) := by
  rw [rj_gE, rj_R, List.getElem?_map, List.getElem?_range h]
  rfl
/-- count, sizes, symbols as they may be -/
def rj_Gd (c : Nat) (s q : Nat → Nat) : Prop := c ≤ 5 ∧ (∀ i, s i ≤ 6) ∧ ∀ i, q i ≤ 3
def rj_ok (w : List Nat) : Prop := ∀ x, x < w.length → rj_g w x ≤ 3
theorem rj_R_ok {c : Nat} {s q : Nat → Nat} (h : rj_Gd c s q) (i : Nat) : rj_ok (rj_R s q i) := by
  intro x hx
  rw [rj_R_len] at hx
  rw [rj_R_g hx]
  exact h.2.2 _
theorem rj_ok_nil : rj_ok [] := fun x h => absurd h (Nat.not_lt_zero _)
theorem rj_ok_app {a b : List Nat} (ha : rj_ok a) (hb : rj_ok b) : rj_ok (a ++ b) := by
  intro x hx
  rw [List.length_append] at hx
  by_cases h : x < a.length
  · rw [rj_g_lo h]; exact ha x h
  · rw [rj_g_hi (by omega)]; exact hb _ (by omega)
theorem rj_ok_drop {a : List Nat} (ha : rj_ok a) (k : Nat) : rj_ok (a.drop k) := by
  intro x hx
  rw [List.length_drop] at hx
  rw [rj_g_drop]
  exact ha _ (by omega)
/-- w holds every read of the mask -/
def rj_Sup (c : Nat) (s q : Nat → Nat) (m : Nat) (w : List Nat) : Prop := ∀ i, i < c → m.testBit i = true → rj_inf (rj_R s q i) w
/-- w is the answer for the mask -/
def rj_AN (c : Nat) (s q : Nat → Nat) (m : Nat) (w : List Nat) : Prop := rj_ok w ∧ rj_Sup c s q m w ∧ ∀ x, rj_ok x → rj_Sup c s q m x → rj_le w x
theorem rj_AN_uniq {c : Nat} {s q : Nat → Nat} {m : Nat} {w x : List Nat} (h1 : rj_AN c s q m w) (h2 : rj_AN c s q m x) : w = x :=
  rj_le_anti (h1.2.2 x h2.1 h2.2.1) (h2.2.2 w h1.1 h1.2.1)
end
section
/-! borders of prefixes: b symbols, of the text up to place k -/
def rj_BD (T : List Nat) (k b : Nat) : Prop := b ≤ k ∧ ∀ x, x < b → rj_g T x = rj_g T (k + 1 - b + x)
def rj_MB (T : List Nat) (k b : Nat) : Prop := rj_BD T k b ∧ ∀ j, rj_BD T k j → j ≤ b
theorem rj_BD0 (T : List Nat) (k : Nat) : rj_BD T k 0 := ⟨Nat.zero_le _, fun x h => absurd h (Nat.not_lt_zero _)⟩
theorem rj_MB0 (T : List Nat) : rj_MB T 0 0 := ⟨rj_BD0 T 0, fun _ h => h.1⟩
theorem rj_BD_s (T : List Nat) (k j : Nat) : rj_BD T (k + 1) (j + 1) ↔ rj_BD T k j ∧ rj_g T j = rj_g T (k + 1) := by
  constructor
  · intro ⟨h, e⟩
    refine ⟨⟨by omega, fun x hx => ?_⟩, ?_⟩
    · rw [e x (by omega), show k + 1 + 1 - (j + 1) + x = k + 1 - j + x by omega]
    · rw [e j (by omega), show k + 1 + 1 - (j + 1) + j = k + 1 by omega]
  · intro ⟨⟨h, e⟩, e2⟩
    refine ⟨by omega, fun x hx => ?_⟩
    by_cases hxj : x = j
    · rw [hxj, e2, show k + 1 + 1 - (j + 1) + j = k + 1 by omega]
    · rw [e x (by omega), show k + 1 + 1 - (j + 1) + x = k + 1 - j + x by omega]
/-- b is a candidate for the border at k + 1 -/
def rj_KI (T : List Nat) (k b : Nat) : Prop := rj_BD T k b ∧ ∀ j, rj_BD T (k + 1) (j + 1) → j ≤ b
theorem rj_KI_0 {T : List Nat} {k b : Nat} (h : rj_MB T k b) : rj_KI T k b :=
  ⟨h.1, fun j hj => h.2 j ((rj_BD_s T k j).mp hj).1⟩
theorem rj_KI_s {T : List Nat} {k b c : Nat} (h : rj_KI T k (b + 1)) (hne : rj_g T (b + 1) ≠ rj_g T (k + 1)) (hm : rj_MB T b c) : rj_KI T k c := by
  obtain ⟨⟨hb, eb⟩, hmax⟩ := h
  obtain ⟨⟨hc, ec⟩, hcm⟩ := hm
  refine ⟨⟨by omega, fun x hx => ?_⟩, fun j hj => ?_⟩
  · rw [ec x hx, eb (b + 1 - c + x) (by omega), show k + 1 - (b + 1) + (b + 1 - c + x) = k + 1 - c + x by omega]
  · have h1 := hmax j hj
    obtain ⟨⟨hj1, ej⟩, e2⟩ := (rj_BD_s T k j).mp hj
    have h2 : j ≠ b + 1 := fun e => hne (e ▸ e2)
    refine hcm j ⟨by omega, fun x hx => ?_⟩
    rw [ej x hx, eb (b + 1 - j + x) (by omega), show k + 1 - (b + 1) + (b + 1 - j + x) = k + 1 - j + x by omega]
theorem rj_KI_t {T : List Nat} {k b : Nat} (h : rj_KI T k b) (e : rj_g T b = rj_g T (k + 1)) : rj_MB T (k + 1) (b + 1) := by
  refine ⟨(rj_BD_s T k b).mpr ⟨h.1, e⟩, fun j hj => ?_⟩
  cases j with
  | zero => omega
  | succ j => have := h.2 j hj; omega
theorem rj_KI_f {T : List Nat} {k : Nat} (h : rj_KI T k 0) (e : rj_g T 0 ≠ rj_g T (k + 1)) : rj_MB T (k + 1) 0 := by
  refine ⟨rj_BD0 T _, fun j hj => ?_⟩
  cases j with
  | zero => omega
  | succ j =>
    have h1 := h.2 j hj
    have h2 := ((rj_BD_s T k j).mp hj).2
    have : j = 0 := by omega
    subst this
    exact absurd h2 e
/-! a pattern, a mark, a text -/
theorem rj_T_lo {P W : List Nat} {x : Nat} (h : x < P.length) : rj_g (P ++ 9 :: W) x = rj_g P x := rj_g_lo h
theorem rj_T_mid (P W : List Nat) : rj_g (P ++ 9 :: W) P.length = 9 := by
  have := rj_g_at (a := P) (b := 9 :: W) 0
  exact this
theorem rj_T_hi (P W : List Nat) (y : Nat) : rj_g (P ++ 9 :: W) (P.length + 1 + y) = rj_g W y := by
  rw [Nat.add_assoc, rj_g_at, Nat.add_comm 1 y, rj_g_s]
theorem rj_mark {P W : List Nat} (hP : rj_ok P) (hW : rj_ok W) {e b : Nat} (he : e < W.length) : rj_BD (P ++ 9 :: W) (P.length + 1 + e) b ↔ rj_OV (W.take (e + 1)) P b := by
  have hl : (W.take (e + 1)).length = e + 1 := by rw [List.length_take]; omega
  unfold rj_BD rj_OV
  rw [hl]
  constructor
  · intro ⟨hb, eb⟩
    have h1 : b ≤ P.length := by
      apply Nat.le_of_not_lt
      intro h
      have e1 := eb P.length h
      rw [rj_T_mid, show P.length + 1 + e + 1 - b + P.length = P.length + 1 + (P.length + 1 + e - b) by omega, rj_T_hi] at e1
      have := hW (P.length + 1 + e - b) (by omega)
      omega
    have h2 : b ≤ e + 1 := by
      apply Nat.le_of_not_lt
      intro h
      have e1 := eb (b - e - 2) (by omega)
      rw [show P.length + 1 + e + 1 - b + (b - e - 2) = P.length by omega, rj_T_mid, rj_T_lo (by omega)] at e1
      have := hP (b - e - 2) (by omega)
      omega
    refine ⟨h2, h1, fun x hx => ?_⟩
    have e1 := eb x hx
    rw [rj_T_lo (by omega), show P.length + 1 + e + 1 - b + x = P.length + 1 + (e + 1 - b + x) by omega, rj_T_hi] at e1
    rw [rj_g_take (by omega), e1]
  · intro ⟨h2, h1, eb⟩
    refine ⟨by omega, fun x hx => ?_⟩
    have e1 := eb x hx
    rw [rj_g_take (by omega)] at e1
    rw [rj_T_lo (by omega), show P.length + 1 + e + 1 - b + x = P.length + 1 + (e + 1 - b + x) by omega, rj_T_hi, e1]
theorem rj_mark_MB {P W : List Nat} (hP : rj_ok P) (hW : rj_ok W) {e b : Nat} (he : e < W.length) (h : rj_MB (P ++ 9 :: W) (P.length + 1 + e) b) : b = rj_lap (W.take (e + 1)) P :=
  (rj_lap_eq ((rj_mark hP hW he).mp h.1) fun j hj => h.2 j ((rj_mark hP hW he).mpr hj)).symm
theorem rj_mark_lap {P W : List Nat} (hP : rj_ok P) (hW : rj_ok W) {b : Nat} (h : rj_MB (P ++ 9 :: W) (P.length + W.length) b) : b = rj_lap W P := by
  by_cases h0 : W.length = 0
  · have hw := rj_len0 h0
    subst hw
    have h1 : rj_lap [] P ≤ 0 := (rj_lap_ov [] P).1
    have h2 : b = 0 := by
      apply Nat.eq_zero_of_not_pos
      intro hb
      obtain ⟨⟨h3, e⟩, _⟩ := h
      have e1 := e (b - 1) (by omega)
      rw [show P.length + ([] : List Nat).length + 1 - b + (b - 1) = P.length by simp; omega, rj_T_mid] at e1
      have h4 : b - 1 < P.length := by simp at h3; omega
      rw [rj_T_lo h4] at e1
      have := hP _ h4
      omega
    omega
  · have he : W.length - 1 < W.length := by omega
    have h1 : P.length + W.length = P.length + 1 + (W.length - 1) := by omega
    rw [h1] at h
    have h2 := rj_mark_MB hP hW he h
    rw [show W.length - 1 + 1 = W.length by omega, List.take_length] at h2
    exact h2
/-- the border at e of the text is the whole pattern just if the pattern ends there -/
theorem rj_mark_occ {P W : List Nat} (hP : rj_ok P) (hW : rj_ok W) {e b : Nat} (he : e < W.length) (h : rj_MB (P ++ 9 :: W) (P.length + 1 + e) b) : b = P.length ↔ (P.length ≤ e + 1 ∧ rj_occ P W (e + 1 - P.length)) := by
  have hl : (W.take (e + 1)).length = e + 1 := by rw [List.length_take]; omega
  have hb := (rj_mark hP hW he).mp h.1
  constructor
  · intro hbe
    subst hbe
    obtain ⟨h1, h2, e1⟩ := hb
    rw [hl] at h1 e1
    refine ⟨h1, by omega, fun x hx => ?_⟩
    rw [← e1 x hx, rj_g_take (by omega)]
  · intro ⟨h1, h2, e1⟩
    have : rj_OV (W.take (e + 1)) P P.length := by
      refine ⟨by omega, by omega, fun x hx => ?_⟩
      rw [hl, rj_g_take (by omega), e1 x hx]
    have h3 := h.2 _ ((rj_mark hP hW he).mpr this)
    have h4 := hb.2.1
    omega
/-- the first place at which the pattern stands, as an int -/
def rj_FM (P W : List Nat) (r : Int32) : Prop := (∃ p, r = nI p ∧ rj_occ P W p ∧ ∀ p', p' < p → ¬ rj_occ P W p') ∨ (r = -1 ∧ ∀ p, ¬ rj_occ P W p)
theorem rj_FM_uniq {P W : List Nat} {r r' : Int32} (h : rj_FM P W r) (h' : rj_FM P W r') : r' = r := by
  rcases h with ⟨p, rfl, h1, h2⟩ | ⟨rfl, h1⟩ <;> rcases h' with ⟨p', rfl, h1', h2'⟩ | ⟨rfl, h1'⟩
  · rcases Nat.lt_trichotomy p p' with h | h | h
    · exact absurd h1 (h2' p h)
    · rw [h]
    · exact absurd h1' (h2 p' h)
  · exact absurd h1 (h1' p)
  · exact absurd h1' (h1 p')
  · rfl
end
section
/-! masks of five -/
def rj_clr (m j : Nat) : Nat := m &&& (31 ^^^ 2 ^ j)
def rj_cnt (m : Nat) : Nat := (m.testBit 0).toNat + (m.testBit 1).toNat + (m.testBit 2).toNat + (m.testBit 3).toNat + (m.testBit 4).toNat
theorem rj_bit5 {m i : Nat} (hm : m < 32) (h : m.testBit i = true) : i < 5 := by
  apply Nat.lt_of_not_le
  intro hi
  have h1 : m < 2 ^ i := Nat.lt_of_lt_of_le hm (Nat.pow_le_pow_right (n := 2) (by decide) hi)
  rw [Nat.testBit_lt_two_pow h1] at h
  exact Bool.noConfusion h
theorem rj_clr_tab : ∀ m, m < 32 → ∀ j, j < 5 → rj_clr m j < 32 ∧ (m.testBit j = true → rj_clr m j < m ∧ rj_cnt (rj_clr m j) + 1 = rj_cnt m) ∧ ∀ i, i < 5 → (rj_clr m j).testBit i = (m.testBit i && decide (i ≠ j)) := by decide +kernel
theorem rj_clr32 {m j : Nat} (hm : m < 32) (hj : j < 5) : rj_clr m j < 32 := (rj_clr_tab m hm j hj).1
theorem rj_clr_lt {m j : Nat} (hm : m < 32) (hj : m.testBit j = true) : rj_clr m j < m := ((rj_clr_tab m hm j (rj_bit5 hm hj)).2.1 hj).1
theorem rj_clr_cnt {m j : Nat} (hm : m < 32) (hj : m.testBit j = true) : rj_cnt (rj_clr m j) + 1 = rj_cnt m := ((rj_clr_tab m hm j (rj_bit5 hm hj)).2.1 hj).2
theorem rj_clr_bit {m j i : Nat} (hm : m < 32) (hj : j < 5) : (rj_clr m j).testBit i = true ↔ (m.testBit i = true ∧ i ≠ j) := by
  by_cases hi : i < 5
  · rw [(rj_clr_tab m hm j hj).2.2 i hi, Bool.and_eq_true, decide_eq_true_iff]
  · constructor
    · intro h; exact absurd (rj_bit5 (rj_clr32 hm hj) h) hi
    · intro h; exact absurd (rj_bit5 hm h.1) hi
theorem rj_cnt_tab : ∀ m, m < 32 → rj_cnt m ≤ 5 ∧ (m ≠ 0 → ∃ i, i < 5 ∧ m.testBit i = true) := by decide +kernel
theorem rj_mask0 {m : Nat} (hm : m < 32) (h : ∀ i, m.testBit i ≠ true) : m = 0 := by
  apply Classical.byContradiction
  intro h0
  obtain ⟨i, _, hi⟩ := (rj_cnt_tab m hm).2 h0
  exact h i hi
theorem rj_0bit (i : Nat) : ¬ (0 : Nat).testBit i = true := by rw [Nat.zero_testBit]; exact Bool.noConfusion
theorem rj_maskE {a b : Nat} (h : ∀ i, a.testBit i = true ↔ b.testBit i = true) : a = b := by
  apply Nat.eq_of_testBit_eq
  intro i
  have := h i
  cases ha : a.testBit i <;> cases hb : b.testBit i <;> simp_all
/-! lists of the reads of a mask -/
def rj_PM (p : List Nat) (m : Nat) : Prop := p.Nodup ∧ ∀ i, i ∈ p ↔ m.testBit i = true
theorem rj_PM_nil : rj_PM [] 0 := ⟨List.nodup_nil, fun i => ⟨fun h => absurd h List.not_mem_nil, fun h => absurd h (rj_0bit i)⟩⟩
theorem rj_PM_0 {m : Nat} (hm : m < 32) (h : rj_PM [] m) : m = 0 := rj_mask0 hm fun i hi => absurd ((h.2 i).mpr hi) List.not_mem_nil
theorem rj_PM_z {p : List Nat} (h : rj_PM p 0) : p = [] := by
  cases p with
  | nil => rfl
  | cons j p => exact absurd ((h.2 j).mp List.mem_cons_self) (rj_0bit j)
theorem rj_PM_cons {m j : Nat} {p : List Nat} (hm : m < 32) (hj : m.testBit j = true) (h : rj_PM p (rj_clr m j)) : rj_PM (j :: p) m := by
  have h5 := rj_bit5 hm hj
  refine ⟨List.nodup_cons.mpr ⟨fun hjp => ?_, h.1⟩, fun i => ?_⟩
  · exact ((rj_clr_bit hm h5).mp ((h.2 j).mp hjp)).2 rfl
  · rw [List.mem_cons, h.2 i, rj_clr_bit hm h5]
    constructor
    · rintro (rfl | h)
      · exact hj
      · exact h.1
    · intro hi
      by_cases e : i = j
      · exact Or.inl e
      · exact Or.inr ⟨hi, e⟩
theorem rj_PM_un {m j : Nat} {p : List Nat} (hm : m < 32) (h : rj_PM (j :: p) m) : m.testBit j = true ∧ rj_PM p (rj_clr m j) := by
  have hj := (h.2 j).mp List.mem_cons_self
  have h5 := rj_bit5 hm hj
  obtain ⟨hn, hp⟩ := List.nodup_cons.mp h.1
  refine ⟨hj, hp, fun i => ?_⟩
  rw [rj_clr_bit hm h5, ← h.2 i, List.mem_cons]
  constructor
  · intro hi
    exact ⟨Or.inr hi, fun e => hn (e ▸ hi)⟩
  · rintro ⟨rfl | hi, e⟩
    · exact absurd rfl e
    · exact hi
theorem rj_PM_len : ∀ (p : List Nat) {m : Nat}, m < 32 → rj_PM p m → p.length = rj_cnt m := by
  intro p
  induction p with
  | nil => intro m hm h; rw [rj_PM_0 hm h]; rfl
  | cons j p ih =>
    intro m hm h
    obtain ⟨hj, hp⟩ := rj_PM_un hm h
    rw [List.length_cons, ih (rj_clr32 hm (rj_bit5 hm hj)) hp, rj_clr_cnt hm hj]
/-! the string of a path -/
section
variable {c : Nat} {s q : Nat → Nat}
noncomputable def rj_gl (s q : Nat → Nat) : Nat → List Nat → List Nat
  | _, [] => []
  | l, j :: p => (rj_R s q j).drop (rj_lap (rj_R s q l) (rj_R s q j)) ++ rj_gl s q j p
theorem rj_gl_ok (hG : rj_Gd c s q) : ∀ (p : List Nat) (l : Nat), rj_ok (rj_gl s q l p) := by
  intro p
  induction p with
  | nil => exact fun l => rj_ok_nil
  | cons j p ih => exact fun l => rj_ok_app (rj_ok_drop (rj_R_ok hG j) _) (ih j)
theorem rj_gl_c (l j : Nat) (p : List Nat) : (rj_gl s q l (j :: p)).length = s j - rj_lap (rj_R s q l) (rj_R s q j) + (rj_gl s q j p).length := by
  rw [rj_gl, List.length_append, List.length_drop, rj_R_len]
theorem rj_gl_len (hG : rj_Gd c s q) : ∀ (p : List Nat) (l : Nat), (rj_gl s q l p).length ≤ 6 * p.length := by
  intro p
  induction p with
  | nil => exact fun l => Nat.zero_le _
  | cons j p ih =>
    intro l
    rw [rj_gl_c, List.length_cons]
    have := ih j
    have := hG.2.1 j
    omega
theorem rj_ov_app {a b : List Nat} {k : Nat} (h : rj_OV a b k) : a ++ b.drop k = a.take (a.length - k) ++ b := by
  obtain ⟨h1, h2, e⟩ := h
  have hl : (a.take (a.length - k)).length = a.length - k := by rw [List.length_take]; omega
  apply rj_ext
  · rw [List.length_append, List.length_append, List.length_drop, hl]; omega
  · intro x hx
    rw [List.length_append, List.length_drop] at hx
    by_cases hx1 : x < a.length - k
    · rw [rj_g_lo (by omega), rj_g_lo (by omega), rj_g_take hx1]
    · rw [rj_g_hi (a := a.take _) (by omega), hl]
      by_cases hx2 : x < a.length
      · rw [rj_g_lo hx2, ← e (x - (a.length - k)) (by omega)]
        congr 1
        omega
      · rw [rj_g_hi (by omega), rj_g_drop]
        congr 1
        omega
theorem rj_lawB : ∀ (p : List Nat) (l : Nat) (V : List Nat), rj_inf (rj_R s q l) (V ++ rj_R s q l ++ rj_gl s q l p) ∧ ∀ j, j ∈ p → rj_inf (rj_R s q j) (V ++ rj_R s q l ++ rj_gl s q l p) := by
  intro p
  induction p with
  | nil =>
    intro l V
    refine ⟨rj_inf_app _ ⟨V.length, by rw [List.length_append]; omega, fun x _ => rj_g_at x⟩, fun j hj => absurd hj List.not_mem_nil⟩
  | cons j p ih =>
    intro l V
    refine ⟨rj_inf_app _ ⟨V.length, by rw [List.length_append]; omega, fun x _ => rj_g_at x⟩, ?_⟩
    have e : V ++ rj_R s q l ++ rj_gl s q l (j :: p) = (V ++ (rj_R s q l).take ((rj_R s q l).length - rj_lap (rj_R s q l) (rj_R s q j))) ++ rj_R s q j ++ rj_gl s q j p := by
      rw [rj_gl, ← List.append_assoc, List.append_assoc V, rj_ov_app (rj_lap_ov _ _)]
      simp only [List.append_assoc]
    rw [e]
    obtain ⟨h1, h2⟩ := ih j (V ++ (rj_R s q l).take ((rj_R s q l).length - rj_lap (rj_R s q l) (rj_R s q j)))
    intro i hi
    rcases List.mem_cons.mp hi with rfl | hi
    · exact h1
    · exact h2 i hi
theorem rj_argmin (pos : Nat → Nat) {m : Nat} (h : ∃ i, m.testBit i = true) : ∃ j, m.testBit j = true ∧ ∀ i, m.testBit i = true → pos j ≤ pos i := by
  obtain ⟨i, hi⟩ := h
  obtain ⟨k, ⟨j, hj, e⟩, hk⟩ := pk_least (fun k => ∃ i, m.testBit i = true ∧ pos i = k) ⟨pos i, i, hi, rfl⟩
  refine ⟨j, hj, fun i hi => ?_⟩
  apply Nat.le_of_not_lt
  intro h
  exact hk (pos i) (by omega) ⟨i, hi, rfl⟩
/-- no read of the mask stands in another one -/
def rj_anti (s q : Nat → Nat) (K : Nat) : Prop := ∀ i j, K.testBit i = true → K.testBit j = true → i ≠ j → ¬ rj_inf (rj_R s q i) (rj_R s q j)
theorem rj_pre {w : List Nat} {i j p : Nat} (hi : rj_occ (rj_R s q i) w p) (hj : rj_occ (rj_R s q j) w p) (h : s i ≤ s j) : rj_inf (rj_R s q i) (rj_R s q j) := by
  obtain ⟨_, e1⟩ := hi
  obtain ⟨_, e2⟩ := hj
  rw [rj_R_len] at e1 e2
  refine ⟨0, by rw [rj_R_len, rj_R_len]; omega, fun x hx => ?_⟩
  rw [rj_R_len] at hx
  rw [Nat.zero_add, ← e1 x hx, ← e2 x (by omega)]
theorem rj_step1 {w : List Nat} {l j pl pj : Nat} (hl : rj_occ (rj_R s q l) w pl) (hj : rj_occ (rj_R s q j) w pj) (h : pl < pj) (hn : ¬ rj_inf (rj_R s q j) (rj_R s q l)) : pl + s l ≤ pj + rj_lap (rj_R s q l) (rj_R s q j) := by
  obtain ⟨h1, e1⟩ := hl
  obtain ⟨h2, e2⟩ := hj
  rw [rj_R_len] at h1 e1 h2 e2
  by_cases hov : pj < pl + s l
  · have hin : pl + s l < pj + s j := by
      apply Nat.lt_of_not_le
      intro hc
      apply hn
      refine ⟨pj - pl, by rw [rj_R_len, rj_R_len]; omega, fun x hx => ?_⟩
      rw [rj_R_len] at hx
      rw [← e2 x hx, ← e1 (pj - pl + x) (by omega)]
      congr 1
      omega
    have : rj_OV (rj_R s q l) (rj_R s q j) (pl + s l - pj) := by
      refine ⟨by rw [rj_R_len]; omega, by rw [rj_R_len]; omega, fun x hx => ?_⟩
      rw [rj_R_len, ← e2 x (by omega), ← e1 _ (by omega)]
      congr 1
      omega
    have := rj_lap_max this
    omega
  · omega
theorem rj_lawA {K : Nat} {w : List Nat} {pos : Nat → Nat} (hA : rj_anti s q K) (hp : ∀ i, K.testBit i = true → rj_occ (rj_R s q i) w (pos i)) :
    ∀ (n m l : Nat), rj_cnt m = n → m < 32 → K.testBit l = true → (∀ i, m.testBit i = true → K.testBit i = true ∧ pos l < pos i) →
      ∃ p, rj_PM p m ∧ (rj_gl s q l p).length + (pos l + s l) ≤ w.length ∧ ((rj_gl s q l p).length + (pos l + s l) = w.length → w.drop (pos l + s l) = rj_gl s q l p) := by
  intro n
  induction n with
  | zero =>
    intro m l hc hm hl hi
    have h0 : m = 0 := rj_mask0 hm fun i h => by have := rj_clr_cnt hm h; omega
    subst h0
    refine ⟨[], rj_PM_nil, ?_, fun h => ?_⟩
    · have := (hp l hl).1
      rw [rj_R_len] at this
      show 0 + _ ≤ _
      omega
    · have h : 0 + (pos l + s l) = w.length := h
      show _ = []
      apply List.drop_eq_nil_of_le
      omega
  | succ n ih =>
    intro m l hc hm hl hi
    have hne : ∃ i, m.testBit i = true := by
      apply Classical.byContradiction
      intro hno
      have : m = 0 := rj_mask0 hm fun i h => hno ⟨i, h⟩
      rw [this] at hc
      have h0 : rj_cnt 0 = 0 := by decide
      omega
    obtain ⟨j, hj, hmin⟩ := rj_argmin pos hne
    obtain ⟨hKj, hlj⟩ := hi j hj
    have h5 := rj_bit5 hm hj
    have hjl : j ≠ l := fun e => by rw [e] at hlj; omega
    have hcn := rj_clr_cnt hm hj
    obtain ⟨p, hpm, hlen, heq⟩ := ih (rj_clr m j) j (by omega) (rj_clr32 hm h5) hKj (by
      intro i hib
      obtain ⟨hib, hij⟩ := (rj_clr_bit hm h5).mp hib
      obtain ⟨hKi, _⟩ := hi i hib
      refine ⟨hKi, ?_⟩
      have h1 := hmin i hib
      have h2 : pos i ≠ pos j := by
        intro e
        have o1 := hp i hKi
        have o2 := hp j hKj
        rw [e] at o1
        by_cases hs : s i ≤ s j
        · exact hA i j hKi hKj hij (rj_pre o1 o2 hs)
        · exact hA j i hKj hKi (fun e => hij e.symm) (rj_pre o2 o1 (by omega))
      omega)
    have hst := rj_step1 (hp l hl) (hp j hKj) hlj (hA j l hKj hl hjl)
    have hov := rj_lap_ov (rj_R s q l) (rj_R s q j)
    have hle := hov.2.1
    rw [rj_R_len] at hle
    refine ⟨j :: p, rj_PM_cons hm hj hpm, ?_, fun h => ?_⟩
    · rw [rj_gl_c]; omega
    · rw [rj_gl_c] at h
      have e1 : pos l + s l = pos j + rj_lap (rj_R s q l) (rj_R s q j) := by omega
      have e2 := heq (by omega)
      have oj := hp j hKj
      obtain ⟨oj1, oj2⟩ := oj
      rw [rj_R_len] at oj1 oj2
      have hd : ((rj_R s q j).drop (rj_lap (rj_R s q l) (rj_R s q j))).length = s j - rj_lap (rj_R s q l) (rj_R s q j) := by rw [List.length_drop, rj_R_len]
      rw [rj_gl, e1]
      apply rj_ext
      · rw [List.length_drop, List.length_append, hd]; omega
      · intro x hx
        rw [List.length_drop] at hx
        rw [rj_g_drop]
        by_cases hx1 : x < s j - rj_lap (rj_R s q l) (rj_R s q j)
        · rw [rj_g_lo (by omega), rj_g_drop, ← oj2 _ (by omega), Nat.add_assoc]
        · rw [rj_g_hi (by omega), hd, ← e2, rj_g_drop]
          congr 1
          omega
/-- every string with the reads of K is at least as long as some path's, and is it if it is as long -/
theorem rj_lawT {K : Nat} {w : List Nat} (hK : K < 32) (h0 : K ≠ 0) (hA : rj_anti s q K) (hw : ∀ i, K.testBit i = true → rj_inf (rj_R s q i) w) :
    ∃ j p, K.testBit j = true ∧ rj_PM p (rj_clr K j) ∧ rj_le (rj_R s q j ++ rj_gl s q j p) w := by
  have hw1 : ∀ i, ∃ p, K.testBit i = true → rj_occ (rj_R s q i) w p := by
    intro i
    by_cases h : K.testBit i = true
    · obtain ⟨p, hp⟩ := hw i h
      exact ⟨p, fun _ => hp⟩
    · exact ⟨0, fun h2 => absurd h2 h⟩
  have hw' : ∃ pos : Nat → Nat, ∀ i, K.testBit i = true → rj_occ (rj_R s q i) w (pos i) := Classical.axiomOfChoice hw1
  obtain ⟨pos, hpos⟩ := hw'
  have hne : ∃ i, K.testBit i = true := by
    obtain ⟨i, _, hi⟩ := (rj_cnt_tab K hK).2 h0
    exact ⟨i, hi⟩
  obtain ⟨j, hj, hmin⟩ := rj_argmin pos hne
  have h5 := rj_bit5 hK hj
  obtain ⟨p, hpm, hlen, heq⟩ := rj_lawA hA hpos (rj_cnt (rj_clr K j)) (rj_clr K j) j rfl (rj_clr32 hK h5) hj (by
    intro i hib
    obtain ⟨hib, hij⟩ := (rj_clr_bit hK h5).mp hib
    refine ⟨hib, ?_⟩
    have h1 := hmin i hib
    have h2 : pos i ≠ pos j := by
      intro e
      have o1 := hpos i hib
      have o2 := hpos j hj
      rw [e] at o1
      by_cases hs : s i ≤ s j
      · exact hA i j hib hj hij (rj_pre o1 o2 hs)
      · exact hA j i hj hib (fun e => hij e.symm) (rj_pre o2 o1 (by omega))
    omega)
  refine ⟨j, p, hj, hpm, ?_⟩
  have hl : (rj_R s q j ++ rj_gl s q j p).length = s j + (rj_gl s q j p).length := by rw [List.length_append, rj_R_len]
  by_cases hlt : s j + (rj_gl s q j p).length < w.length
  · exact rj_le_sl (Or.inl (by omega))
  · have hp0 : pos j = 0 := by omega
    have e := heq (by omega)
    have oj := hpos j hj
    rw [hp0] at e oj
    obtain ⟨oj1, oj2⟩ := oj
    rw [rj_R_len] at oj1 oj2
    have : rj_R s q j ++ rj_gl s q j p = w := by
      apply rj_ext
      · omega
      · intro x hx
        rw [hl] at hx
        by_cases hx1 : x < s j
        · rw [rj_g_lo (by rw [rj_R_len]; omega), ← oj2 x hx1, Nat.zero_add]
        · rw [rj_g_hi (by rw [rj_R_len]; omega), rj_R_len, ← e, rj_g_drop]
          congr 1
          omega
    rw [this]
    exact rj_le_refl w
/-! the reads worth keeping -/
def rj_Cov (c : Nat) (s q : Nat → Nat) (set j : Nat) : Prop := ∃ i, i < c ∧ i ≠ j ∧ set.testBit i = true ∧ rj_inf (rj_R s q j) (rj_R s q i) ∧ (s i ≠ s j ∨ i < j)
def rj_Kp (c : Nat) (s q : Nat → Nat) (set K : Nat) : Prop := K < 32 ∧ ∀ j, K.testBit j = true ↔ (j < c ∧ set.testBit j = true ∧ 0 < s j ∧ ¬ rj_Cov c s q set j)
theorem rj_Kp_anti {set K : Nat} (h : rj_Kp c s q set K) : rj_anti s q K := by
  intro i j hi hj hij hin
  obtain ⟨hi1, hi2, hi3, hi4⟩ := (h.2 i).mp hi
  obtain ⟨hj1, hj2, hj3, hj4⟩ := (h.2 j).mp hj
  by_cases hs : s j = s i
  · have e : rj_R s q i = rj_R s q j := rj_inf_eq hin (by rw [rj_R_len, rj_R_len, hs])
    by_cases hl : j < i
    · exact hi4 ⟨j, hj1, fun e => hij e.symm, hj2, hin, Or.inr hl⟩
    · exact hj4 ⟨i, hi1, hij, hi2, by rw [e]; exact rj_inf_refl _, Or.inr (by omega)⟩
  · exact hi4 ⟨j, hj1, fun e => hij e.symm, hj2, hin, Or.inl hs⟩
theorem rj_Kp_dom (hG : rj_Gd c s q) {set K : Nat} (h : rj_Kp c s q set K) : ∀ n j, (6 - s j) * 5 + j ≤ n → j < c → set.testBit j = true → 0 < s j → ∃ i, K.testBit i = true ∧ rj_inf (rj_R s q j) (rj_R s q i) := by
  intro n
  induction n with
  | zero =>
    intro j hn hj hb hs
    refine ⟨j, (h.2 j).mpr ⟨hj, hb, hs, ?_⟩, rj_inf_refl _⟩
    rintro ⟨i, hi, hij, hib, hin, hc⟩
    have h1 := rj_inf_len hin
    rw [rj_R_len, rj_R_len] at h1
    have := hG.2.1 i
    omega
  | succ n ih =>
    intro j hn hj hb hs
    by_cases hc : rj_Cov c s q set j
    · obtain ⟨i, hi, hij, hib, hin, hc⟩ := hc
      have h1 := rj_inf_len hin
      rw [rj_R_len, rj_R_len] at h1
      have h6 := hG.2.1 i
      have h5 := hG.1
      obtain ⟨k, hk, hik⟩ := ih i (by omega) hi hib (by omega)
      exact ⟨k, hk, rj_inf_trans hin hik⟩
    · exact ⟨j, (h.2 j).mpr ⟨hj, hb, hs, hc⟩, rj_inf_refl _⟩
theorem rj_Kp_sup (hG : rj_Gd c s q) {set K : Nat} (h : rj_Kp c s q set K) (w : List Nat) : rj_Sup c s q set w ↔ ∀ i, K.testBit i = true → rj_inf (rj_R s q i) w := by
  constructor
  · intro hs i hi
    obtain ⟨h1, h2, _, _⟩ := (h.2 i).mp hi
    exact hs i h1 h2
  · intro hs j hj hb
    by_cases h0 : s j = 0
    · have : rj_R s q j = [] := rj_len0 (by rw [rj_R_len]; exact h0)
      rw [this]
      exact rj_inf_nil w
    · obtain ⟨i, hi, hin⟩ := rj_Kp_dom hG h _ j (Nat.le_refl _) hj hb (by omega)
      exact rj_inf_trans hin (hs i hi)
theorem rj_AN_0 (hG : rj_Gd c s q) {set : Nat} (h : rj_Kp c s q set 0) : rj_AN c s q set [] := by
  refine ⟨rj_ok_nil, (rj_Kp_sup hG h []).mpr fun i hi => absurd hi (rj_0bit i), fun x _ _ => ?_⟩
  intro hsl
  rcases hsl with hsl | ⟨_, i, hi, e, hl⟩
  · exact absurd hsl (Nat.not_lt_zero _)
  · have : rj_g ([] : List Nat) i = 0 := rfl
    omega
theorem rj_AN_K (hG : rj_Gd c s q) {set K : Nat} (h : rj_Kp c s q set K) (h0 : K ≠ 0) {j : Nat} {p : List Nat} (hj : K.testBit j = true) (hp : rj_PM p (rj_clr K j))
    (hmin : ∀ i, K.testBit i = true → ∀ p', rj_PM p' (rj_clr K i) → rj_le (rj_R s q j ++ rj_gl s q j p) (rj_R s q i ++ rj_gl s q i p')) : rj_AN c s q set (rj_R s q j ++ rj_gl s q j p) := by
  refine ⟨rj_ok_app (rj_R_ok hG j) (rj_gl_ok hG p j), (rj_Kp_sup hG h _).mpr fun i hi => ?_, fun x _ hx => ?_⟩
  · obtain ⟨h1, h2⟩ := rj_lawB (s := s) (q := q) p j []
    by_cases e : i = j
    · rw [e]; exact h1
    · exact h2 i ((hp.2 i).mpr ((rj_clr_bit h.1 (rj_bit5 h.1 hj)).mpr ⟨hi, e⟩))
  · obtain ⟨i, p', hi, hp', hle⟩ := rj_lawT h.1 h0 (rj_Kp_anti h) ((rj_Kp_sup hG h x).mp hx)
    exact rj_le_trans (hmin i hi p' hp') hle
end
end
section
/-! the reference's automaton: ends, sets, the least number of further symbols -/
section
variable {c : Nat} {s q : Nat → Nat} {ne nr nd : Nat → Int32}
def rj_el (e : Nat) : Nat := if e = 0 then 0 else (e - 1) % 6 + 1
def rj_ei (e : Nat) : Nat := (e - 1) / 6
theorem rj_el6 (e : Nat) : rj_el e ≤ 6 := by
  unfold rj_el
  split <;> omega
theorem rj_ei5 {e : Nat} (h : e < 31) : rj_ei e < 5 := by
  unfold rj_ei
  omega
/-- e stands for a beginning of a read -/
def rj_re (c : Nat) (s : Nat → Nat) (e : Nat) : Prop := e < 31 ∧ (e = 0 ∨ (rj_ei e < c ∧ rj_el e ≤ s (rj_ei e)))
def rj_ew (s q : Nat → Nat) (e : Nat) : List Nat := (rj_R s q (rj_ei e)).take (rj_el e)
theorem rj_re_le {e : Nat} (h : rj_re c s e) : rj_el e ≤ s (rj_ei e) := by
  rcases h.2 with h | h
  · rw [h]; exact Nat.zero_le _
  · exact h.2
theorem rj_ew_len {e : Nat} (h : rj_re c s e) : (rj_ew s q e).length = rj_el e := by
  have := rj_re_le h
  rw [rj_ew, List.length_take, rj_R_len]
  omega
theorem rj_ew_g {e x : Nat} (h : rj_re c s e) (hx : x < rj_el e) : rj_g (rj_ew s q e) x = q (6 * rj_ei e + x) := by
  have := rj_re_le h
  rw [rj_ew, rj_g_take hx, rj_R_g (by omega)]
/-- U ends with the first k of read j -/
def rj_SP (s q : Nat → Nat) (U : List Nat) (j k : Nat) : Prop := k ≤ U.length ∧ k ≤ s j ∧ ∀ x, x < k → rj_g U (U.length - k + x) = q (6 * j + x)
theorem rj_SP0 (U : List Nat) (j : Nat) : rj_SP s q U j 0 := ⟨Nat.zero_le _, Nat.zero_le _, fun x h => absurd h (Nat.not_lt_zero _)⟩
/-- e is the longest end of w that begins a read -/
def rj_FE (c : Nat) (s q : Nat → Nat) (w : List Nat) (e : Nat) : Prop := rj_re c s e ∧ rj_SP s q w (rj_ei e) (rj_el e) ∧ ∀ j, j < c → ∀ k, rj_SP s q w j k → k ≤ rj_el e
/-- what one more symbol makes of an end -/
def rj_Fo (c : Nat) (s q : Nat → Nat) (e v e' f : Nat) : Prop := f < 32 ∧ (∀ j, f.testBit j = true ↔ (j < c ∧ 0 < s j ∧ rj_SP s q (rj_ew s q e ++ [v]) j (s j))) ∧ rj_FE c s q (rj_ew s q e ++ [v]) e'
def rj_IV (c : Nat) (s q : Nat → Nat) (w : List Nat) (set e : Nat) : Prop := set < 32 ∧ (∀ j, set.testBit j = true ↔ (j < c ∧ rj_inf (rj_R s q j) w)) ∧ rj_FE c s q w e
theorem rj_suf {w : List Nat} {e : Nat} (h : rj_FE c s q w e) (v : Nat) {y : Nat} (hy : y ≤ rj_el e) : rj_g (rj_ew s q e ++ [v]) y = rj_g (w ++ [v]) (w.length - rj_el e + y) := by
  obtain ⟨hr, ⟨h1, h2, h3⟩, _⟩ := h
  have hl := rj_ew_len (q := q) hr
  by_cases hy2 : y < rj_el e
  · rw [rj_g_lo (by omega), rj_g_lo (by omega), rj_ew_g hr hy2, h3 y hy2]
  · have e1 : y = (rj_ew s q e).length := by omega
    have e2 : w.length - rj_el e + y = w.length := by omega
    rw [e2, e1, rj_g_end, rj_g_end]
theorem rj_SP_up {w : List Nat} {e v j k : Nat} (h : rj_FE c s q w e) (hk : k ≤ rj_el e + 1) : rj_SP s q (rj_ew s q e ++ [v]) j k ↔ rj_SP s q (w ++ [v]) j k := by
  have hl := rj_ew_len (q := q) h.1
  have h1 := h.2.1.1
  have e1 : (rj_ew s q e ++ [v]).length = rj_el e + 1 := by rw [List.length_append, hl]; rfl
  have e2 : (w ++ [v]).length = w.length + 1 := by rw [List.length_append]; rfl
  unfold rj_SP
  rw [e1, e2]
  constructor
  · intro ⟨_, h3, h4⟩
    refine ⟨by omega, h3, fun x hx => ?_⟩
    have h5 := h4 x hx
    rw [rj_suf h v (by omega)] at h5
    rw [← h5]
    congr 1
    omega
  · intro ⟨_, h3, h4⟩
    refine ⟨by omega, h3, fun x hx => ?_⟩
    rw [rj_suf h v (by omega), ← h4 x hx]
    congr 1
    omega
theorem rj_SP_pre {w : List Nat} {v j k : Nat} (h : rj_SP s q (w ++ [v]) j (k + 1)) : rj_SP s q w j k := by
  obtain ⟨h1, h2, h3⟩ := h
  have e2 : (w ++ [v]).length = w.length + 1 := by rw [List.length_append]; rfl
  rw [e2] at h1 h3
  refine ⟨by omega, by omega, fun x hx => ?_⟩
  rw [← h3 x (by omega), rj_g_lo (by omega)]
  congr 1
  omega
theorem rj_SP_ext {w : List Nat} {e v j k : Nat} (h : rj_FE c s q w e) (hj : j < c) : rj_SP s q (rj_ew s q e ++ [v]) j k ↔ rj_SP s q (w ++ [v]) j k := by
  have hl := rj_ew_len (q := q) h.1
  constructor
  · intro h2
    refine (rj_SP_up h ?_).mp h2
    have := h2.1
    rw [List.length_append, hl] at this
    exact this
  · intro h2
    refine (rj_SP_up h ?_).mpr h2
    cases k with
    | zero => omega
    | succ k => have := h.2.2 j hj k (rj_SP_pre h2); omega
theorem rj_inf_s {w : List Nat} {v j : Nat} : rj_inf (rj_R s q j) (w ++ [v]) ↔ (rj_inf (rj_R s q j) w ∨ (0 < s j ∧ rj_SP s q (w ++ [v]) j (s j))) := by
  have e2 : (w ++ [v]).length = w.length + 1 := by rw [List.length_append]; rfl
  constructor
  · rintro ⟨p, hp, ep⟩
    rw [rj_R_len, e2] at hp
    rw [rj_R_len] at ep
    by_cases h0 : s j = 0
    · refine Or.inl ?_
      have : rj_R s q j = [] := rj_len0 (by rw [rj_R_len]; exact h0)
      rw [this]
      exact rj_inf_nil w
    · by_cases hw : p + s j ≤ w.length
      · refine Or.inl ⟨p, by rw [rj_R_len]; exact hw, fun x hx => ?_⟩
        rw [rj_R_len] at hx
        rw [← ep x hx, rj_g_lo (by omega)]
      · refine Or.inr ⟨by omega, by omega, by omega, fun x hx => ?_⟩
        rw [← rj_R_g (q := q) hx, ← ep x hx, e2]
        congr 1
        omega
  · rintro (h | ⟨h0, h1, h2, h3⟩)
    · exact rj_inf_app _ h
    · rw [e2] at h1 h3
      refine ⟨w.length + 1 - s j, by rw [rj_R_len, e2]; omega, fun x hx => ?_⟩
      rw [rj_R_len] at hx
      rw [rj_R_g hx, ← h3 x hx]
theorem rj_IV_s {w : List Nat} {set e v e' f : Nat} (h : rj_IV c s q w set e) (hf : rj_Fo c s q e v e' f) : rj_IV c s q (w ++ [v]) (set ||| f) e' := by
  obtain ⟨h1, h2, h3⟩ := h
  obtain ⟨f1, f2, f3⟩ := hf
  refine ⟨Nat.or_lt_two_pow (n := 5) h1 f1, fun j => ?_, f3.1, ?_, fun j hj k hk => ?_⟩
  · rw [Nat.testBit_or, Bool.or_eq_true, h2 j, f2 j, rj_inf_s]
    constructor
    · rintro (⟨a, b⟩ | ⟨a, b, d⟩)
      · exact ⟨a, Or.inl b⟩
      · exact ⟨a, Or.inr ⟨b, (rj_SP_ext h3 a).mp d⟩⟩
    · rintro ⟨a, b | ⟨b, d⟩⟩
      · exact Or.inl ⟨a, b⟩
      · exact Or.inr ⟨a, b, (rj_SP_ext h3 a).mpr d⟩
  · refine (rj_SP_up h3 ?_).mp f3.2.1
    have := f3.2.1.1
    rw [List.length_append, rj_ew_len h3.1] at this
    exact this
  · exact f3.2.2 j hj k ((rj_SP_ext h3 hj).mpr hk)
theorem rj_IV_0 {set : Nat} (hs : set < 32) (h : ∀ j, set.testBit j = true ↔ (j < c ∧ s j = 0)) : rj_IV c s q [] set 0 := by
  refine ⟨hs, fun j => ?_, ⟨by decide, Or.inl rfl⟩, rj_SP0 _ _, fun j _ k hk => hk.1⟩
  rw [h j]
  constructor
  · rintro ⟨a, b⟩
    refine ⟨a, ?_⟩
    have : rj_R s q j = [] := rj_len0 (by rw [rj_R_len]; exact b)
    rw [this]
    exact rj_inf_nil _
  · rintro ⟨a, b⟩
    refine ⟨a, ?_⟩
    have := rj_inf_len b
    rw [rj_R_len] at this
    exact Nat.le_zero.mp this
/-! states as numbers -/
def rj_F (ne nr : Nat → Int32) (t v : Nat) : Nat := 31 * (t / 31 ||| (nr (4 * (t % 31) + v)).toNatClampNeg) + (ne (4 * (t % 31) + v)).toNatClampNeg
def rj_FA (c : Nat) (s q : Nat → Nat) (ne nr : Nat → Int32) : Prop := ∀ e v, rj_re c s e → v < 4 → ∃ e' f, ne (4 * e + v) = nI e' ∧ nr (4 * e + v) = nI f ∧ rj_Fo c s q e v e' f
def rj_rs (c : Nat) (s : Nat → Nat) (t : Nat) : Prop := t < 992 ∧ rj_re c s (t % 31)
theorem rj_F_s (hF : rj_FA c s q ne nr) {t v : Nat} (ht : rj_rs c s t) (hv : v < 4) : ∃ e' f, ne (4 * (t % 31) + v) = nI e' ∧ nr (4 * (t % 31) + v) = nI f ∧ rj_Fo c s q (t % 31) v e' f ∧ e' < 31 ∧ f < 32 ∧ rj_F ne nr t v = 31 * (t / 31 ||| f) + e' ∧ (t / 31 ||| f) < 32 := by
  obtain ⟨e', f, h1, h2, h3⟩ := hF (t % 31) v ht.2 hv
  have he : e' < 31 := h3.2.2.1.1
  have hf : f < 32 := h3.1
  have ht1 := ht.1
  refine ⟨e', f, h1, h2, h3, he, hf, ?_, Nat.or_lt_two_pow (n := 5) (show t / 31 < 2 ^ 5 by omega) hf⟩
  rw [rj_F, h1, h2, nI_clamp (by omega), nI_clamp (by omega)]
theorem rj_F_rs (hF : rj_FA c s q ne nr) {t v : Nat} (ht : rj_rs c s t) (hv : v < 4) : rj_rs c s (rj_F ne nr t v) := by
  obtain ⟨e', f, _, _, h3, he, hf, h4, h5⟩ := rj_F_s hF ht hv
  rw [h4]
  refine ⟨by omega, ?_⟩
  rw [show (31 * (t / 31 ||| f) + e') % 31 = e' by omega]
  exact h3.2.2.1
theorem rj_F_IV (hF : rj_FA c s q ne nr) {t v : Nat} {w : List Nat} (ht : rj_rs c s t) (hv : v < 4) (h : rj_IV c s q w (t / 31) (t % 31)) : rj_IV c s q (w ++ [v]) (rj_F ne nr t v / 31) (rj_F ne nr t v % 31) := by
  obtain ⟨e', f, _, _, h3, he, hf, h4, h5⟩ := rj_F_s hF ht hv
  rw [h4, show (31 * (t / 31 ||| f) + e') % 31 = e' by omega, show (31 * (t / 31 ||| f) + e') / 31 = (t / 31 ||| f) by omega]
  exact rj_IV_s h h3
/-- in exactly n steps to a state with all that is wanted -/
def rj_Re (ne nr : Nat → Int32) (wt : Nat) : Nat → Nat → Prop
  | 0, t => (t / 31) &&& wt = wt
  | n + 1, t => ∃ v, v < 4 ∧ rj_Re ne nr wt n (rj_F ne nr t v)
theorem rj_sub_iff (a b : Nat) : a &&& b = b ↔ ∀ i, b.testBit i = true → a.testBit i = true := by
  constructor
  · intro h i hi
    rw [← h, Nat.testBit_and, Bool.and_eq_true] at hi
    exact hi.1
  · intro h
    apply rj_maskE
    intro i
    rw [Nat.testBit_and, Bool.and_eq_true]
    exact ⟨fun k => k.2, fun k => ⟨h i k, k⟩⟩
theorem rj_Re_iff (hF : rj_FA c s q ne nr) {wt : Nat} (hwt : ∀ i, wt.testBit i = true → i < c) : ∀ (n t : Nat) (w : List Nat), rj_rs c s t → rj_IV c s q w (t / 31) (t % 31) → (rj_Re ne nr wt n t ↔ ∃ x : List Nat, x.length = n ∧ rj_ok x ∧ rj_Sup c s q wt (w ++ x)) := by
  intro n
  induction n with
  | zero =>
    intro t w ht h
    show (t / 31) &&& wt = wt ↔ _
    rw [rj_sub_iff]
    constructor
    · intro h1
      refine ⟨[], rfl, rj_ok_nil, fun i hi hb => ?_⟩
      rw [List.append_nil]
      exact ((h.2.1 i).mp (h1 i hb)).2
    · rintro ⟨x, hx, _, h1⟩ i hb
      rw [rj_len0 hx, List.append_nil] at h1
      exact (h.2.1 i).mpr ⟨hwt i hb, h1 i (hwt i hb) hb⟩
  | succ n ih =>
    intro t w ht h
    show (∃ v, v < 4 ∧ rj_Re ne nr wt n (rj_F ne nr t v)) ↔ _
    constructor
    · rintro ⟨v, hv, h1⟩
      obtain ⟨x, hx, ho, h2⟩ := (ih _ (w ++ [v]) (rj_F_rs hF ht hv) (rj_F_IV hF ht hv h)).mp h1
      refine ⟨v :: x, by rw [List.length_cons, hx], ?_, ?_⟩
      · intro y hy
        cases y with
        | zero => rw [rj_g_0]; omega
        | succ y => rw [rj_g_s]; exact ho y (by rw [List.length_cons] at hy; omega)
      · rw [List.append_assoc] at h2
        exact h2
    · rintro ⟨x, hx, ho, h2⟩
      cases x with
      | nil => exact absurd hx (by rw [List.length_nil]; omega)
      | cons v x =>
        have hv : v < 4 := by
          have := ho 0 (by rw [List.length_cons]; omega)
          rw [rj_g_0] at this
          omega
        refine ⟨v, hv, (ih _ (w ++ [v]) (rj_F_rs hF ht hv) (rj_F_IV hF ht hv h)).mpr ⟨x, by rw [List.length_cons] at hx; omega, fun y hy => ?_, ?_⟩⟩
        · have := ho (y + 1) (by rw [List.length_cons]; omega)
          rw [rj_g_s] at this
          exact this
        · rw [List.append_assoc]
          exact h2
/-- the least number of steps -/
def rj_D (ne nr : Nat → Int32) (wt n t : Nat) : Prop := rj_Re ne nr wt n t ∧ ∀ m, m < n → ¬ rj_Re ne nr wt m t
theorem rj_D_uniq {wt n m t : Nat} (h : rj_D ne nr wt n t) (h' : rj_D ne nr wt m t) : n = m := by
  rcases Nat.lt_trichotomy n m with k | k | k
  · exact absurd h.1 (h'.2 n k)
  · exact k
  · exact absurd h'.1 (h.2 m k)
theorem rj_D_s {wt r t : Nat} (h : ∀ d, d ≤ r → ¬ rj_Re ne nr wt d t) : rj_D ne nr wt (r + 1) t ↔ ∃ v, v < 4 ∧ rj_D ne nr wt r (rj_F ne nr t v) := by
  constructor
  · rintro ⟨⟨v, hv, h1⟩, h2⟩
    exact ⟨v, hv, h1, fun m hm h3 => h2 (m + 1) (by omega) ⟨v, hv, h3⟩⟩
  · rintro ⟨v, hv, h1, _⟩
    exact ⟨⟨v, hv, h1⟩, fun m hm => h m (by omega)⟩
/-- what the table says of a state after r rounds -/
def rj_val (ne nr : Nat → Int32) (wt r : Nat) (nd : Nat → Int32) (t : Nat) : Prop := (∃ d, d ≤ r ∧ rj_D ne nr wt d t ∧ nd t = nI d) ∨ ((∀ d, d ≤ r → ¬ rj_Re ne nr wt d t) ∧ nd t = -1)
theorem rj_m1 {k : Nat} (h : k < 2 ^ 31) : ¬ (-1 : Int32) = nI k := by
  intro e
  have h1 := nI_pos' h
  rw [← e] at h1
  exact absurd h1 (by decide)
theorem rj_val_eq {wt r k t : Nat} (h : rj_val ne nr wt r nd t) (hr : r < 1000) (hk : k ≤ r) : nd t = nI k ↔ rj_D ne nr wt k t := by
  rcases h with ⟨d, hd, h1, h2⟩ | ⟨h1, h2⟩
  · rw [h2, nI_eq (by omega) (by omega)]
    constructor
    · rintro rfl; exact h1
    · intro h3; exact rj_D_uniq h1 h3
  · rw [h2]
    constructor
    · intro e; exact absurd e (rj_m1 (by omega))
    · intro h3; exact absurd h3.1 (h1 k hk)
/-- all reads one after the other -/
def rj_cat (s q : Nat → Nat) : Nat → List Nat
  | 0 => []
  | n + 1 => rj_cat s q n ++ rj_R s q n
theorem rj_cat_all (hG : rj_Gd c s q) : ∀ n, rj_ok (rj_cat s q n) ∧ (rj_cat s q n).length ≤ 6 * n ∧ ∀ i, i < n → rj_inf (rj_R s q i) (rj_cat s q n) := by
  intro n
  induction n with
  | zero => exact ⟨rj_ok_nil, Nat.le_refl _, fun i h => absurd h (Nat.not_lt_zero _)⟩
  | succ n ih =>
    obtain ⟨h1, h2, h3⟩ := ih
    have := hG.2.1 n
    refine ⟨rj_ok_app h1 (rj_R_ok hG n), ?_, fun i hi => ?_⟩
    · show (rj_cat s q n ++ rj_R s q n).length ≤ _
      rw [List.length_append, rj_R_len]
      omega
    · by_cases e : i = n
      · rw [e]
        exact ⟨(rj_cat s q n).length, by show _ ≤ (rj_cat s q n ++ rj_R s q n).length; rw [List.length_append]; omega, fun x _ => rj_g_at x⟩
      · exact rj_inf_app _ (h3 i (by omega))
/-- within 30 rounds -/
theorem rj_Re30 (hG : rj_Gd c s q) (hF : rj_FA c s q ne nr) {wt t : Nat} (hwt : ∀ i, wt.testBit i = true → i < c) (ht : rj_rs c s t) (h : rj_IV c s q [] (t / 31) (t % 31)) : ∃ n, n ≤ 30 ∧ rj_D ne nr wt n t := by
  obtain ⟨h1, h2, h3⟩ := rj_cat_all hG c
  have hc := hG.1
  have hr := (rj_Re_iff hF hwt (rj_cat s q c).length t [] ht h).mpr ⟨_, rfl, h1, fun i hi _ => h3 i hi⟩
  obtain ⟨n, hn, hm⟩ := pk_least (fun n => rj_Re ne nr wt n t) ⟨_, hr⟩
  refine ⟨n, ?_, hn, hm⟩
  apply Nat.le_of_not_lt
  intro hlt
  exact hm _ (by omega) hr
/-! the join, symbol by symbol -/
def rj_WI (c : Nat) (s q : Nat → Nat) (ne nr : Nat → Int32) (wt n k : Nat) (J : List Nat) (t : Nat) : Prop :=
  J.length = k ∧ rj_rs c s t ∧ rj_IV c s q J (t / 31) (t % 31) ∧ rj_ok J ∧ rj_D ne nr wt (n - k) t ∧
  ∀ x : List Nat, x.length = n → rj_ok x → rj_Sup c s q wt x → (∀ i, i < k → rj_g x i = rj_g J i) ∨ ∃ i, i < k ∧ (∀ y, y < i → rj_g x y = rj_g J y) ∧ rj_g J i < rj_g x i
theorem rj_WI_0 {wt n t : Nat} (ht : rj_rs c s t) (h : rj_IV c s q [] (t / 31) (t % 31)) (hD : rj_D ne nr wt n t) : rj_WI c s q ne nr wt n 0 [] t :=
  ⟨rfl, ht, h, rj_ok_nil, hD, fun _ _ _ _ => Or.inl fun i hi => absurd hi (Nat.not_lt_zero _)⟩
theorem rj_WI_s (hF : rj_FA c s q ne nr) {wt n k t v : Nat} {J : List Nat} (hwt : ∀ i, wt.testBit i = true → i < c) (h : rj_WI c s q ne nr wt n k J t) (hk : k < n) (hv : v < 4) (hD : rj_D ne nr wt (n - 1 - k) (rj_F ne nr t v))
    (hm : ∀ u, u < v → ¬ rj_D ne nr wt (n - 1 - k) (rj_F ne nr t u)) : rj_WI c s q ne nr wt n (k + 1) (J ++ [v]) (rj_F ne nr t v) := by
  obtain ⟨h1, h2, h3, h4, h5, h6⟩ := h
  have hvv : rj_g (J ++ [v]) k = v := by rw [← h1]; exact rj_g_end J v
  have hlo : ∀ y, y < k → rj_g (J ++ [v]) y = rj_g J y := fun y hy => rj_g_lo (by omega)
  refine ⟨by rw [List.length_append, h1]; rfl, rj_F_rs hF h2 hv, rj_F_IV hF h2 hv h3, rj_ok_app h4 ?_, by rw [show n - (k + 1) = n - 1 - k by omega]; exact hD, fun x hx ho hS => ?_⟩
  · intro y hy
    have : y = 0 := by rw [List.length_cons, List.length_nil] at hy; omega
    rw [this, rj_g_0]
    omega
  · rcases h6 x hx ho hS with h7 | ⟨i, hi, h8, h9⟩
    · have e1 : x = (J ++ [rj_g x k]) ++ x.drop (k + 1) := by
        have hl : (J ++ [rj_g x k]).length = k + 1 := by rw [List.length_append, h1]; rfl
        apply rj_ext
        · rw [List.length_append, hl, List.length_drop]; omega
        · intro y hy
          by_cases hy1 : y < k
          · rw [rj_g_lo (by omega), rj_g_lo (by omega)]
            exact h7 y hy1
          · by_cases hy2 : y = k
            · rw [rj_g_lo (by omega), hy2]
              have := rj_g_end J (rj_g x k)
              rw [h1] at this
              exact this.symm
            · rw [rj_g_hi (by omega), hl, rj_g_drop]
              congr 1
              omega
      have hxk : rj_g x k < 4 := by have := ho k (by omega); omega
      have hR : rj_Re ne nr wt (n - 1 - k) (rj_F ne nr t (rj_g x k)) := by
        refine (rj_Re_iff hF hwt _ _ (J ++ [rj_g x k]) (rj_F_rs hF h2 hxk) (rj_F_IV hF h2 hxk h3)).mpr ⟨x.drop (k + 1), by rw [List.length_drop]; omega, rj_ok_drop ho _, ?_⟩
        rw [← e1]
        exact hS
      have hDk : rj_D ne nr wt (n - 1 - k) (rj_F ne nr t (rj_g x k)) :=
        ⟨hR, fun m hm2 hR2 => h5.2 (m + 1) (by omega) ⟨_, hxk, hR2⟩⟩
      have hle : v ≤ rj_g x k := by
        apply Nat.le_of_not_lt
        intro hlt
        exact hm _ hlt hDk
      by_cases he : rj_g x k = v
      · refine Or.inl fun i hi => ?_
        by_cases hik : i = k
        · rw [hik, hvv, he]
        · rw [hlo i (by omega)]
          exact h7 i (by omega)
      · refine Or.inr ⟨k, by omega, fun y hy => ?_, ?_⟩
        · rw [hlo y hy]; exact h7 y hy
        · rw [hvv]; omega
    · refine Or.inr ⟨i, by omega, fun y hy => ?_, ?_⟩
      · rw [hlo y (by omega)]; exact h8 y hy
      · rw [hlo i hi]; exact h9
theorem rj_WI_AN (hF : rj_FA c s q ne nr) {wt n t t0 : Nat} {J : List Nat} (hwt : ∀ i, wt.testBit i = true → i < c) (ht0 : rj_rs c s t0) (h0 : rj_IV c s q [] (t0 / 31) (t0 % 31)) (hD : rj_D ne nr wt n t0)
    (h : rj_WI c s q ne nr wt n n J t) : rj_AN c s q wt J := by
  obtain ⟨h1, h2, h3, h4, h5, h6⟩ := h
  refine ⟨h4, ?_, fun x ho hS hsl => ?_⟩
  · rw [Nat.sub_self] at h5
    obtain ⟨x, hx, _, hS⟩ := (rj_Re_iff hF hwt 0 t J h2 h3).mp h5.1
    rw [rj_len0 hx, List.append_nil] at hS
    exact hS
  · rcases hsl with hl | ⟨hl, i, hi, e, hlt⟩
    · exact hD.2 x.length (by omega) ((rj_Re_iff hF hwt x.length t0 [] ht0 h0).mpr ⟨x, rfl, ho, hS⟩)
    · rcases h6 x (by omega) ho hS with h7 | ⟨k, hk, h8, h9⟩
      · have := h7 i (by omega)
        omega
      · rcases Nat.lt_trichotomy i k with hc | hc | hc
        · have := h8 i hc; omega
        · subst hc; omega
        · have := e k hc; omega
/-- the number found is the answer's length -/
theorem rj_D_AN (hF : rj_FA c s q ne nr) {wt n t0 : Nat} {w : List Nat} (hwt : ∀ i, wt.testBit i = true → i < c) (ht0 : rj_rs c s t0) (h0 : rj_IV c s q [] (t0 / 31) (t0 % 31)) (hD : rj_D ne nr wt n t0) (hw : rj_AN c s q wt w) : n = w.length := by
  obtain ⟨x, hx, ho, hS⟩ := (rj_Re_iff hF hwt n t0 [] ht0 h0).mp hD.1
  have h1 := rj_le_len (hw.2.2 x ho hS)
  have h2 : ¬ w.length < n := fun hlt => hD.2 _ hlt ((rj_Re_iff hF hwt w.length t0 [] ht0 h0).mpr ⟨w, rfl, hw.1, hw.2.1⟩)
  omega
end
end
section
/-! numbers and stores -/
def rj_f (f : Nat → Nat) : Nat → Int32 := fun i => nI (f i)
theorem rj_fa (f : Nat → Nat) {i : Nat} (h : i < 2 ^ 31) : rj_f f (nI i).toNatClampNeg = nI (f i) := by rw [nI_clamp h]; rfl
theorem rj_6 (i k : Nat) : nI i * 6 + nI k = nI (6 * i + k) := by
  show nI i * nI 6 + nI k = _
  rw [pk_mul, nI_add, Nat.mul_comm]
theorem rj_6l (i k : Nat) : 6 * nI i + nI k = nI (6 * i + k) := by
  show nI 6 * nI i + nI k = _
  rw [pk_mul, nI_add]
theorem rj_5 (i k : Nat) : nI i * 5 + nI k = nI (5 * i + k) := by
  show nI i * nI 5 + nI k = _
  rw [pk_mul, nI_add, Nat.mul_comm]
theorem rj_4l (i k : Nat) : 4 * nI i + nI k = nI (4 * i + k) := by
  show nI 4 * nI i + nI k = _
  rw [pk_mul, nI_add]
theorem rj_31l (i k : Nat) : 31 * nI i + nI k = nI (31 * i + k) := by
  show nI 31 * nI i + nI k = _
  rw [pk_mul, nI_add]
theorem rj_i8 : ∀ n, n < 128 → (nI n).toInt8.toInt32 = nI n := by decide +kernel
theorem rj_vb {n : Nat} (h : n < 128) : vp_nar .byte (nI n) = nI n := by rw [vp_nar_byte, rj_i8 n h]
theorem rj_vb8 {n : Nat} (h : n < 128) : vp_nar .byte (nI n).toInt8.toInt32 = nI n := by rw [rj_i8 n h, rj_vb h]
theorem rj_vbm : vp_nar .byte (-1) = -1 := by rw [vp_nar_byte]; decide
theorem rj_vb0 : vp_nar .byte 0 = 0 := by rw [vp_nar_byte]; decide
theorem rj_vb9 : vp_nar .byte 9 = nI 9 := by rw [vp_nar_byte]; decide
def rj_put (f : Nat → Nat) (i v : Nat) : Nat → Nat := fun j => if j = i then v else f j
theorem rj_upd (f : Nat → Nat) (i v : Nat) : upd (rj_f f) i (nI v) = rj_f (rj_put f i v) := by
  funext j
  unfold upd rj_f rj_put
  by_cases h : j = i
  · rw [if_pos h, if_pos h]
  · rw [if_neg h, if_neg h]
/-- masks and shifts, of five -/
theorem rj_bitT : ∀ m, m < 32 → ∀ j, j < 5 → (((nI m >>> (nI j &&& 31)) &&& 1) = 0 ↔ m.testBit j = false) := by decide +kernel
theorem rj_clrT : ∀ m, m < 32 → ∀ j, j < 5 → nI m &&& (((1 : Int32) <<< (nI j &&& 31)) ^^^ (-1)) = nI (rj_clr m j) := by decide +kernel
theorem rj_setT : ∀ m, m < 32 → ∀ j, j < 5 → nI m ||| ((1 : Int32) <<< (nI j &&& 31)) = nI (m ||| 2 ^ j) ∧ (m ||| 2 ^ j) < 32 := by decide +kernel
theorem rj_subT : ∀ m, m < 32 → ∀ k, k < 32 → ((nI m &&& (nI k ^^^ (-1))) = 0 ↔ ∀ i, i < 5 → m.testBit i = true → k.testBit i = true) := by decide +kernel
theorem rj_difT : ∀ m, m < 32 → ∀ k, k < 32 → ∀ j, j < 5 → ((((nI k &&& (nI m ^^^ (-1))) >>> (nI j &&& 31)) &&& 1) = 0 ↔ ¬ (k.testBit j = true ∧ m.testBit j = false)) := by decide +kernel
theorem rj_allT : ∀ c, c ≤ 5 → ((1 : Int32) <<< (nI c &&& 31)) - 1 = nI (2 ^ c - 1) ∧ 2 ^ c - 1 < 32 ∧ ∀ i, i < 5 → ((2 ^ c - 1).testBit i = true ↔ i < c) := by decide +kernel
theorem rj_pairT : ∀ i, i < 5 → ∀ j, j < 5 → ((1 : Int32) <<< (nI i &&& 31)) ||| ((1 : Int32) <<< (nI j &&& 31)) = nI (2 ^ i ||| 2 ^ j) ∧ (2 ^ i ||| 2 ^ j) < 32 ∧ ∀ k, k < 5 → ((2 ^ i ||| 2 ^ j).testBit k = true ↔ (k = i ∨ k = j)) := by decide +kernel
theorem rj_orT : ∀ a, a < 32 → ∀ b, b < 32 → nI a ||| nI b = nI (a ||| b) := by decide +kernel
theorem rj_andT : ∀ a, a < 32 → ∀ b, b < 32 → nI a &&& nI b = nI (a &&& b) := by decide +kernel
theorem rj_set_bit {m j i : Nat} : (m ||| 2 ^ j).testBit i = true ↔ (m.testBit i = true ∨ i = j) := by
  rw [Nat.testBit_or, Bool.or_eq_true, Nat.testBit_two_pow, decide_eq_true_iff]
  exact ⟨fun h => h.elim Or.inl fun e => Or.inr e.symm, fun h => h.elim Or.inl fun e => Or.inr e.symm⟩
theorem rj_tb {b : Bool} (h : ¬ b = false) : b = true := by cases b; exact absurd rfl h; rfl
theorem rj_fb {b : Bool} (h : ¬ b = true) : b = false := by cases b; rfl; exact absurd rfl h
/-! an array that holds a text -/
def rj_Tx (T : List Nat) (tx : Nat → Int32) : Prop := ∀ x, x < T.length → tx x = nI (rj_g T x)
theorem rj_Tx_nil (tx : Nat → Int32) : rj_Tx [] tx := fun x h => absurd h (Nat.not_lt_zero _)
theorem rj_Tx_put {T : List Nat} {tx : Nat → Int32} (h : rj_Tx T tx) (v : Nat) : rj_Tx (T ++ [v]) (upd tx T.length (nI v)) := by
  intro x hx
  rw [List.length_append, List.length_cons, List.length_nil] at hx
  by_cases e : x = T.length
  · rw [e, pk_us, rj_g_end]
  · rw [pk_un e, rj_g_lo (by omega)]
    exact h x (by omega)
theorem rj_snoc_drop {w : List Nat} {k : Nat} (h : k < w.length) (L : List Nat) : (L ++ [rj_g w k]) ++ w.drop (k + 1) = L ++ w.drop k := by
  rw [List.append_assoc]
  congr 1
  rw [List.drop_eq_getElem_cons h, rj_gE, List.getElem?_eq_getElem h]
  rfl
end
section
/-! the component's texts and borders -/
section
variable {c : Nat} {s q : Nat → Nat} {ts js : Int32} {tx bd la ad ch on ot jn : Nat → Int32}
theorem rj_xno {post : Int32 → Prop} {v : Int32} (h : v < 0 ∨ nI c ≤ v) (hp : post 0) : wpX_has post (nI c, ts, js, rj_f s, rj_f q, tx, bd, la, ad, ch, on, ot, jn) v :=
  br_c (fun _ => hp) fun hn => br_t (h.resolve_left hn) hp
theorem rj_xyes {post : Int32 → Prop} {i : Nat} (hc : c ≤ 5) (hi : i < c) (hp : post 1) : wpX_has post (nI c, ts, js, rj_f s, rj_f q, tx, bd, la, ad, ch, on, ot, jn) (nI i) :=
  br_f (nI_pos (by omega)) (br_f (nI_ge hi (by omega)) hp)
theorem rj_addRead2 (hG : rj_Gd c s q) {i : Nat} (hi : i < 5) {post : SX → Prop} : ∀ (d k n : Nat) (L : List Nat) (tx : Nat → Int32), k + d = s i → d < n → L.length + d ≤ 48 → rj_Tx L tx →
    (∀ tx', rj_Tx (L ++ (rj_R s q i).drop k) tx' → post (nI c, nI (L.length + d), js, rj_f s, rj_f q, tx', bd, la, ad, ch, on, ot, jn)) → wX_addRead_2 post (nI i) (nI c) js n (nI k) (nI L.length) (rj_f s) (rj_f q) tx bd la ad ch on ot jn := by
  have h6 := hG.2.1 i
  intro d
  induction d with
  | zero =>
    intro k n L tx hk hn hL hT hp
    obtain ⟨n, rfl⟩ : ∃ m, n = m + 1 := ⟨n - 1, by omega⟩
    refine And.intro (vp_in_nI hi (by decide)) (br_t ?_ (hp tx ?_))
    · rw [rj_fa s (by omega)]
      exact nI_le (by omega) (by omega)
    · rw [List.drop_eq_nil_of_le (by rw [rj_R_len]; omega), List.append_nil]
      exact hT
  | succ d ih =>
    intro k n L tx hk hn hL hT hp
    obtain ⟨n, rfl⟩ : ∃ m, n = m + 1 := ⟨n - 1, by omega⟩
    have hq := hG.2.2 (6 * i + k)
    refine And.intro (vp_in_nI hi (by decide)) (br_f ?_ (And.intro ?_ (And.intro (vp_in_nI (by omega) (by decide)) (nm_r (e' := upd tx L.length (nI (q (6 * i + k)))) ?_ (nm_r (nI_1 _) (nm_r (nI_1 _) ?_))))))
    · rw [rj_fa s (by omega)]
      exact nI_ge (by omega) (by omega)
    · rw [rj_6]
      exact vp_in_nI (by omega) (by decide)
    · rw [rj_6, rj_fa q (by omega), rj_vb (by omega), nI_clamp (by omega)]
    · have hl : (L ++ [q (6 * i + k)]).length = L.length + 1 := by rw [List.length_append]; rfl
      have := ih (k + 1) n (L ++ [q (6 * i + k)]) _ (by omega) (by omega) (by omega) (rj_Tx_put hT _) (by
        intro tx' hT'
        rw [hl, show L.length + 1 + d = L.length + (d + 1) by omega]
        refine hp tx' ?_
        rw [← rj_snoc_drop (by rw [rj_R_len]; omega), rj_R_g (by omega)]
        exact hT')
      rw [hl] at this
      exact this
theorem rj_addRead (hG : rj_Gd c s q) {i : Nat} (hi : i < 5) {post : SX → Prop} {L : List Nat} (hT : rj_Tx L tx) (hL : L.length + s i ≤ 48) (hts : ts = nI L.length)
    (hp : ∀ tx', rj_Tx (L ++ rj_R s q i) tx' → post (nI c, nI (L.length + s i), js, rj_f s, rj_f q, tx', bd, la, ad, ch, on, ot, jn)) : wpX_addRead post (nI c, ts, js, rj_f s, rj_f q, tx, bd, la, ad, ch, on, ot, jn) (nI i) := by
  subst hts
  exact Exists.intro (s i + 1) (rj_addRead2 hG hi (s i) 0 _ L tx (by omega) (by omega) hL hT hp)
theorem rj_pattern (hG : rj_Gd c s q) {j : Nat} (hj : j < 5) {post : SX → Prop} (hp : ∀ tx', rj_Tx (rj_R s q j ++ [9]) tx' → post (nI c, nI (s j + 1), js, rj_f s, rj_f q, tx', bd, la, ad, ch, on, ot, jn)) : wpX_pattern post (nI c, ts, js, rj_f s, rj_f q, tx, bd, la, ad, ch, on, ot, jn) (nI j) := by
  have h6 := hG.2.1 j
  unfold wpX_pattern
  refine rj_addRead (L := []) hG hj (rj_Tx_nil tx) (by rw [List.length_nil]; omega) rfl fun tx' hT => ?_
  rw [List.length_nil, Nat.zero_add]
  refine And.intro (vp_in_nI (by omega) (by decide)) (nm_r (e' := upd tx' (s j) (nI 9)) ?_ (nm_r (nI_1 _) (hp _ ?_)))
  · rw [rj_vb9, nI_clamp (by omega)]
  · have := rj_Tx_put hT 9
    rw [List.nil_append, rj_R_len] at this
    exact this
/-! borders -/
def rj_Bd (T : List Nat) (k : Nat) (bd : Nat → Int32) : Prop := ∀ i, i < k → ∃ b, bd i = nI b ∧ rj_MB T i b
theorem rj_Bd_put {T : List Nat} {k b : Nat} (h : rj_Bd T k bd) (hb : rj_MB T k b) : rj_Bd T (k + 1) (upd bd k (nI b)) := by
  intro i hi
  by_cases e : i = k
  · rw [e, pk_us]; exact ⟨b, rfl, hb⟩
  · rw [pk_un e]; exact h i (by omega)
theorem rj_fb68 {post : SX → Prop} {J : Int32 → (Nat → Int32) → (Nat → Int32) → (Nat → Int32) → (Nat → Int32) → (Nat → Int32) → (Nat → Int32) → (Nat → Int32) → (Nat → Int32) → (Nat → Int32) → (Nat → Int32) → Prop}
    {T : List Nat} {k b : Nat} (hk : k + 1 < T.length) (h48 : T.length ≤ 48) (hT : rj_Tx T tx) (hK : rj_KI T k b) (he : b = 0 ∨ rj_g T b = rj_g T (k + 1)) (h9 : ∀ x, x < T.length → rj_g T x ≤ 9)
    (hJ : ∀ b', rj_MB T (k + 1) b' → J (nI (k + 2)) (rj_f s) (rj_f q) tx (upd bd (k + 1) (nI b')) la ad ch on ot jn) : wX_findBorders_68 post J (nI (k + 1)) (nI b) (nI c) ts js (rj_f s) (rj_f q) tx bd la ad ch on ot jn := by
  have hbk := hK.1.1
  have e1 : tx (nI b).toNatClampNeg = nI (rj_g T b) := by rw [nI_clamp (by omega)]; exact hT b (by omega)
  have e2 : tx (nI (k + 1)).toNatClampNeg = nI (rj_g T (k + 1)) := by rw [nI_clamp (by omega)]; exact hT _ hk
  have b1 := h9 b (by omega)
  have b2 := h9 (k + 1) hk
  refine And.intro (vp_in_nI (by omega) (by decide)) (And.intro (vp_in_nI (by omega) (by decide)) ?_)
  rw [e1, e2, nI_eq (by omega) (by omega)]
  refine ⟨fun h => And.intro (vp_in_nI (by omega) (by decide)) (nm_r (e' := upd bd (k + 1) (nI (b + 1))) ?_ (nm_r (nI_1 _) (hJ _ (rj_KI_t hK h)))), fun h => And.intro (vp_in_nI (by omega) (by decide)) (nm_r (e' := upd bd (k + 1) (nI 0)) ?_ (nm_r (nI_1 _) ?_))⟩
  · rw [nI_1, rj_vb8 (by omega), nI_clamp (by omega)]
  · rw [nI_clamp (by omega)]
    exact congrArg _ (rj_vb8 (n := 0) (by omega))
  · have h0 : b = 0 := he.resolve_right h
    subst h0
    exact hJ 0 (rj_KI_f hK h)
theorem rj_fb28 {post : SX → Prop} {J : Int32 → (Nat → Int32) → (Nat → Int32) → (Nat → Int32) → (Nat → Int32) → (Nat → Int32) → (Nat → Int32) → (Nat → Int32) → (Nat → Int32) → (Nat → Int32) → (Nat → Int32) → Prop}
    {T : List Nat} {k : Nat} (hk : k + 1 < T.length) (h48 : T.length ≤ 48) (hT : rj_Tx T tx) (hB : rj_Bd T (k + 1) bd) (h9 : ∀ x, x < T.length → rj_g T x ≤ 9)
    (hJ : ∀ b', rj_MB T (k + 1) b' → J (nI (k + 2)) (rj_f s) (rj_f q) tx (upd bd (k + 1) (nI b')) la ad ch on ot jn) : ∀ (n b x : Nat), b < n → x + b ≤ 47 → rj_KI T k b → wX_findBorders_28 post J (nI (k + 1)) (nI c) ts js (rj_f s) (rj_f q) tx bd la ad ch on ot jn n (nI b) (nI x) := by
  intro n
  induction n with
  | zero => intro b x h; exact absurd h (Nat.not_lt_zero _)
  | succ n ih =>
    intro b x hn hx hK
    have hbk := hK.1.1
    refine br_f (nI_ge (b := 48) (by omega) (by decide)) ?_
    cases b with
    | zero => exact br_t (nI_le (a := 0) (b := 0) (by omega) (by omega)) (rj_fb68 hk h48 hT hK (Or.inl rfl) h9 hJ)
    | succ b =>
      have e1 : tx (nI (b + 1)).toNatClampNeg = nI (rj_g T (b + 1)) := by rw [nI_clamp (by omega)]; exact hT _ (by omega)
      have e2 : tx (nI (k + 1)).toNatClampNeg = nI (rj_g T (k + 1)) := by rw [nI_clamp (by omega)]; exact hT _ hk
      have b1 := h9 (b + 1) (by omega)
      have b2 := h9 (k + 1) hk
      refine br_f (nI_nle (by omega) (by omega)) (And.intro (vp_in_nI (by omega) (by decide)) (And.intro (vp_in_nI (by omega) (by decide)) ?_))
      rw [e1, e2, nI_eq (by omega) (by omega)]
      refine ⟨fun h => rj_fb68 hk h48 hT hK (Or.inr h) h9 hJ, fun h => ?_⟩
      obtain ⟨d, hd, hm⟩ := hB b (by omega)
      have hdb := hm.1.1
      refine And.intro ?_ (nm_r (e' := nI d) ?_ (nm_r (nI_1 _) (ih d (x + 1) (by omega) (by omega) (rj_KI_s hK h hm))))
      · rw [nI_pred]; exact vp_in_nI (by omega) (by decide)
      · rw [nI_pred, nI_clamp (by omega)]; exact hd
theorem rj_fb9 {post : SX → Prop} {T : List Nat} (h48 : T.length ≤ 48) (hT : rj_Tx T tx) (h9 : ∀ x, x < T.length → rj_g T x ≤ 9)
    (hp : ∀ bd', rj_Bd T T.length bd' → post (nI c, nI T.length, js, rj_f s, rj_f q, tx, bd', la, ad, ch, on, ot, jn)) : ∀ (n k : Nat) (bd : Nat → Int32), k + 1 ≤ T.length → T.length < n + (k + 1) → rj_Bd T (k + 1) bd → wX_findBorders_9 post (nI c) (nI T.length) js n (nI (k + 1)) (rj_f s) (rj_f q) tx bd la ad ch on ot jn := by
  intro n
  induction n with
  | zero => intro k bd h1 h2; omega
  | succ n ih =>
    intro k bd h1 h2 hB
    by_cases he : k + 1 = T.length
    · refine br_t (nI_le (by omega) (by omega)) (hp bd ?_)
      rw [← he]; exact hB
    · refine br_f (nI_ge (by omega) (by omega)) (And.intro ?_ ?_)
      · rw [nI_pred]; exact vp_in_nI (by omega) (by decide)
      · obtain ⟨d, hd, hm⟩ := hB k (by omega)
        have hdk := hm.1.1
        refine nm_r (e' := nI d) ?_ (Exists.intro (d + 1) (rj_fb28 (by omega) h48 hT hB h9 (fun b' hb' => ih (k + 1) _ (by omega) (by omega) (rj_Bd_put hB hb')) (d + 1) d 0 (by omega) (by omega) (rj_KI_0 hm)))
        rw [nI_pred, nI_clamp (by omega)]
        exact hd
theorem rj_findBorders {post : SX → Prop} {T : List Nat} (h0 : 0 < T.length) (h48 : T.length ≤ 48) (hT : rj_Tx T tx) (h9 : ∀ x, x < T.length → rj_g T x ≤ 9) (hts : ts = nI T.length)
    (hp : ∀ bd', rj_Bd T T.length bd' → post (nI c, ts, js, rj_f s, rj_f q, tx, bd', la, ad, ch, on, ot, jn)) : wpX_findBorders post (nI c, ts, js, rj_f s, rj_f q, tx, bd, la, ad, ch, on, ot, jn) := by
  subst hts
  refine nm_r (e' := upd bd 0 (nI 0)) ?_ (Exists.intro (T.length + 1) (rj_fb9 h48 hT h9 hp (T.length + 1) 0 _ (by omega) (by omega) ?_))
  · rw [rj_vb0]; rfl
  · exact rj_Bd_put (k := 0) (fun i h => absurd h (Nat.not_lt_zero _)) (rj_MB0 T)
/-! a marked text -/
theorem rj_mk9 {P W : List Nat} (hP : rj_ok P) (hW : rj_ok W) : ∀ x, x < (P ++ 9 :: W).length → rj_g (P ++ 9 :: W) x ≤ 9 := by
  intro x hx
  rw [List.length_append, List.length_cons] at hx
  by_cases h1 : x < P.length
  · rw [rj_T_lo h1]
    have := hP x h1
    omega
  · by_cases h2 : x = P.length
    · rw [h2, rj_T_mid]; omega
    · rw [show x = P.length + 1 + (x - P.length - 1) by omega, rj_T_hi]
      have := hW (x - P.length - 1) (by omega)
      omega
theorem rj_fm14 {post : Int32 → SX → Prop} {P W : List Nat} (hP : rj_ok P) (hW : rj_ok W) (h0 : 0 < P.length) (h48 : P.length + 1 + W.length ≤ 48) (hB : rj_Bd (P ++ 9 :: W) (P.length + 1 + W.length) bd) (hts : ts = nI (P.length + 1 + W.length))
    (hp : ∀ r, rj_FM P W r → post r (nI c, ts, js, rj_f s, rj_f q, tx, bd, la, ad, ch, on, ot, jn)) : ∀ (n e : Nat), e ≤ W.length → W.length < n + e → (∀ e', e' < e → ¬ (P.length ≤ e' + 1 ∧ rj_occ P W (e' + 1 - P.length))) → wX_firstMatch_14 post (nI P.length) (nI c) ts js (rj_f s) (rj_f q) tx bd la ad ch on ot jn n (nI (P.length + 1 + e)) := by
  subst hts
  intro n
  induction n with
  | zero => intro e h1 h2; omega
  | succ n ih =>
    intro e h1 h2 hno
    by_cases he : e = W.length
    · refine br_t (nI_le (by omega) (by omega)) (hp _ (Or.inr ⟨rfl, fun p ho => ?_⟩))
      have := ho.1
      refine hno (p + P.length - 1) (by omega) ⟨by omega, ?_⟩
      rw [show p + P.length - 1 + 1 - P.length = p by omega]
      exact ho
    · obtain ⟨b, hb, hm⟩ := hB (P.length + 1 + e) (by omega)
      have hbl := hm.1.1
      have hoc := rj_mark_occ hP hW (by omega) hm
      refine br_f (nI_ge (by omega) (by omega)) (And.intro (vp_in_nI (by omega) (by decide)) ?_)
      rw [nI_clamp (by omega), hb, nI_eq (by omega) (by omega)]
      refine ⟨fun h => ?_, fun h => nm_r (nI_1 _) (ih (e + 1) (by omega) (by omega) fun e' he' => ?_)⟩
      · obtain ⟨h3, h4⟩ := hoc.mp h
        refine hp _ (Or.inl ⟨e + 1 - P.length, ?_, h4, fun p' hp' ho => ?_⟩)
        · show nI (P.length + 1 + e) - nI 2 * nI P.length = _
          rw [pk_mul, pk_sub (by omega)]
          exact congrArg nI (by omega)
        · refine hno (p' + P.length - 1) (by omega) ⟨by omega, ?_⟩
          rw [show p' + P.length - 1 + 1 - P.length = p' by omega]
          exact ho
      · by_cases h5 : e' = e
        · rw [h5]; exact fun h6 => h (hoc.mpr h6)
        · exact hno e' (by omega)
theorem rj_firstMatch {post : Int32 → SX → Prop} {P W : List Nat} (hP : rj_ok P) (hW : rj_ok W) (h48 : P.length + 1 + W.length ≤ 48) (hT : rj_Tx (P ++ 9 :: W) tx) (hts : ts = nI (P.length + 1 + W.length)) {l : Int32} (hl : l = nI P.length)
    (hp : ∀ bd' r, rj_FM P W r → post r (nI c, ts, js, rj_f s, rj_f q, tx, bd', la, ad, ch, on, ot, jn)) : wpX_firstMatch post (nI c, ts, js, rj_f s, rj_f q, tx, bd, la, ad, ch, on, ot, jn) l := by
  subst hl
  have hL : (P ++ 9 :: W).length = P.length + 1 + W.length := by rw [List.length_append, List.length_cons]; omega
  unfold wpX_firstMatch
  refine rj_findBorders (T := P ++ 9 :: W) (by omega) (by omega) hT (rj_mk9 hP hW) (by rw [hL]; exact hts) fun bd' hB => ?_
  rw [hL] at hB
  refine pk_eq P.length 0 (fun h => ?_) (fun h => nm_r (nI_1 _) (Exists.intro (W.length + 1) ?_)) rfl rfl
  · refine hp bd' 0 (Or.inl ⟨0, rfl, ⟨by omega, fun x hx => ?_⟩, fun p' h' => absurd h' (Nat.not_lt_zero _)⟩)
    omega
  · exact rj_fm14 hP hW (by omega) h48 hB hts (hp bd') (W.length + 1) 0 (by omega) (by omega) fun e' h' => absurd h' (Nat.not_lt_zero _)
theorem rj_mk {P W : List Nat} : (P ++ [9]) ++ W = P ++ 9 :: W := by rw [List.append_assoc]; rfl
theorem rj_xlap (hG : rj_Gd c s q) {i j : Nat} (hi : i < 5) (hj : j < 5) {post : Int32 → SX → Prop} (hp : ∀ ts' tx' bd', post (nI (rj_lap (rj_R s q i) (rj_R s q j))) (nI c, ts', js, rj_f s, rj_f q, tx', bd', la, ad, ch, on, ot, jn)) : wpX_lap post (nI c, ts, js, rj_f s, rj_f q, tx, bd, la, ad, ch, on, ot, jn) (nI i) (nI j) := by
  have hi6 := hG.2.1 i
  have hj6 := hG.2.1 j
  unfold wpX_lap
  refine rj_pattern hG hj fun tx1 hT1 => ?_
  have hl1 : (rj_R s q j ++ [9]).length = s j + 1 := by rw [List.length_append, rj_R_len]; rfl
  refine rj_addRead (L := rj_R s q j ++ [9]) hG hi hT1 (by omega) (by rw [hl1]) fun tx2 hT2 => ?_
  rw [rj_mk] at hT2
  have hL : (rj_R s q j ++ 9 :: rj_R s q i).length = s j + 1 + s i := by rw [List.length_append, List.length_cons, rj_R_len, rj_R_len]; omega
  refine rj_findBorders (T := rj_R s q j ++ 9 :: rj_R s q i) (by omega) (by omega) hT2 (rj_mk9 (rj_R_ok hG j) (rj_R_ok hG i)) (by rw [hL, hl1]) fun bd' hB => ?_
  obtain ⟨b, hb, hm⟩ := hB (s j + s i) (by omega)
  have hb2 : b = rj_lap (rj_R s q i) (rj_R s q j) := by
    refine rj_mark_lap (rj_R_ok hG j) (rj_R_ok hG i) ?_
    rw [rj_R_len, rj_R_len]
    exact hm
  have e1 : nI ((rj_R s q j ++ [9]).length + s i) - 1 = nI (s j + s i) := by
    rw [hl1, show s j + 1 + s i = s j + s i + 1 by omega, nI_pred]
  refine And.intro ?_ ?_
  · rw [e1]; exact vp_in_nI (by omega) (by decide)
  · rw [e1, nI_clamp (by omega), hb, hb2]
    exact hp _ tx2 bd'
theorem rj_xinside (hG : rj_Gd c s q) {i j : Nat} (hi : i < 5) (hj : j < 5) {post : Int32 → SX → Prop} (h1 : rj_inf (rj_R s q j) (rj_R s q i) → ∀ ts' tx' bd', post 1 (nI c, ts', js, rj_f s, rj_f q, tx', bd', la, ad, ch, on, ot, jn))
    (h0 : ¬ rj_inf (rj_R s q j) (rj_R s q i) → ∀ ts' tx' bd', post 0 (nI c, ts', js, rj_f s, rj_f q, tx', bd', la, ad, ch, on, ot, jn)) : wpX_inside post (nI c, ts, js, rj_f s, rj_f q, tx, bd, la, ad, ch, on, ot, jn) (nI i) (nI j) := by
  have hi6 := hG.2.1 i
  have hj6 := hG.2.1 j
  unfold wpX_inside
  refine rj_pattern hG hj fun tx1 hT1 => ?_
  have hl1 : (rj_R s q j ++ [9]).length = s j + 1 := by rw [List.length_append, rj_R_len]; rfl
  refine rj_addRead (L := rj_R s q j ++ [9]) hG hi hT1 (by omega) (by rw [hl1]) fun tx2 hT2 => ?_
  rw [rj_mk] at hT2
  refine And.intro (vp_in_nI hj (by decide)) (rj_firstMatch (P := rj_R s q j) (W := rj_R s q i) (rj_R_ok hG j) (rj_R_ok hG i) (by rw [rj_R_len, rj_R_len]; omega) hT2 (by rw [hl1, rj_R_len, rj_R_len]) (by rw [rj_fa s (by omega), rj_R_len]) fun bd' r hr => ?_)
  rcases hr with ⟨p, rfl, ho, _⟩ | ⟨rfl, hno⟩
  · have := ho.1
    rw [rj_R_len, rj_R_len] at this
    exact br_f (nI_pos (by omega)) (h1 ⟨p, ho⟩ _ _ _)
  · exact br_t (by decide) (h0 (fun ⟨p, ho⟩ => hno p ho) _ _ _)
end
end
section
/-! the component: the reads worth keeping, and their overlaps -/
section
variable {c : Nat} {s q : Nat → Nat} {ts js : Int32} {tx bd la ad ch on ot jn : Nat → Int32}
def rj_cv (s q : Nat → Nat) (set j i : Nat) : Prop := i ≠ j ∧ set.testBit i = true ∧ rj_inf (rj_R s q j) (rj_R s q i) ∧ (s i ≠ s j ∨ i < j)
theorem rj_cov2 (hG : rj_Gd c s q) {j set : Nat} (hj : j < 5) (hset : set < 32) {post : Int32 → SX → Prop} (h1 : rj_Cov c s q set j → ∀ ts tx bd, post 1 (nI c, ts, js, rj_f s, rj_f q, tx, bd, la, ad, ch, on, ot, jn)) (h0 : ¬ rj_Cov c s q set j → ∀ ts tx bd, post 0 (nI c, ts, js, rj_f s, rj_f q, tx, bd, la, ad, ch, on, ot, jn)) :
    ∀ (n i : Nat) (ts : Int32) (tx bd : Nat → Int32), i ≤ c → c < n + i → (∀ k, k < i → ¬ rj_cv s q set j k) → wX_covered_2 post (nI j) (nI set) n (nI i) (nI c) ts js (rj_f s) (rj_f q) tx bd la ad ch on ot jn := by
  have hc := hG.1
  intro n
  induction n with
  | zero => intro i ts tx bd a b; omega
  | succ n ih =>
    intro i ts tx bd hi hn hno
    have hsx : ∀ k, k < i + 1 → ¬ rj_cv s q set j i → ¬ rj_cv s q set j k := by
      intro k hk hni
      by_cases e : k = i
      · rw [e]; exact hni
      · exact hno k (by omega)
    by_cases hic : i = c
    · refine br_t (nI_le (by omega) (by omega)) (h0 ?_ _ _ _)
      rintro ⟨k, hk, hkj⟩
      exact hno k (by omega) hkj
    · refine br_f (nI_ge (by omega) (by omega)) (pk_eq i j (fun e => nm_r (nI_1 _) (ih (i + 1) _ _ _ (by omega) (by omega) fun k hk => hsx k hk fun h => h.1 e)) (fun hne => ?_))
      by_cases hb : set.testBit i = false
      · exact br_t ((rj_bitT set hset i (by omega)).mpr hb) (nm_r (nI_1 _) (ih (i + 1) _ _ _ (by omega) (by omega) fun k hk => hsx k hk fun h => Bool.noConfusion (hb.symm.trans h.2.1)))
      · refine br_f (fun h => hb ((rj_bitT set hset i (by omega)).mp h)) (rj_xinside hG (by omega) hj (fun hin ts' tx' bd' => ?_) (fun hin ts' tx' bd' => br_t rfl (nm_r (nI_1 _) (ih (i + 1) _ _ _ (by omega) (by omega) fun k hk => hsx k hk fun h => hin h.2.2.1))))
        have h6i := hG.2.1 i
        have h6j := hG.2.1 j
        refine br_f (by decide) (And.intro (vp_in_nI (by omega) (by decide)) (And.intro (vp_in_nI hj (by decide)) ?_))
        rw [rj_fa s (by omega), rj_fa s (by omega), nI_eq (by omega) (by omega)]
        refine ⟨fun e => br_f (by decide) (pk_le j i (fun hle => nm_r (nI_1 _) (ih (i + 1) _ _ _ (by omega) (by omega) fun k hk => hsx k hk fun h => ?_)) (fun hlt => h1 ⟨i, by omega, hne, rj_tb hb, hin, Or.inr hlt⟩ _ _ _)), fun e => br_t rfl (h1 ⟨i, by omega, hne, rj_tb hb, hin, Or.inl e⟩ _ _ _)⟩
        rcases h.2.2.2 with h | h
        · exact h e
        · omega
theorem rj_covered (hG : rj_Gd c s q) {j set : Nat} (hj : j < 5) (hset : set < 32) {post : Int32 → SX → Prop} (h1 : rj_Cov c s q set j → ∀ ts tx bd, post 1 (nI c, ts, js, rj_f s, rj_f q, tx, bd, la, ad, ch, on, ot, jn)) (h0 : ¬ rj_Cov c s q set j → ∀ ts tx bd, post 0 (nI c, ts, js, rj_f s, rj_f q, tx, bd, la, ad, ch, on, ot, jn)) : wpX_covered post (nI c, ts, js, rj_f s, rj_f q, tx, bd, la, ad, ch, on, ot, jn) (nI j) (nI set) :=
  Exists.intro (c + 1) (rj_cov2 hG hj hset h1 h0 (c + 1) 0 ts tx bd (Nat.zero_le _) (by omega) fun k hk => absurd hk (Nat.not_lt_zero _))
theorem rj_wk4 (hG : rj_Gd c s q) {set : Nat} (hset : set < 32) {post : Int32 → SX → Prop} (hp : ∀ K, rj_Kp c s q set K → ∀ ts tx bd, post (nI K) (nI c, ts, js, rj_f s, rj_f q, tx, bd, la, ad, ch, on, ot, jn)) :
    ∀ (n j K : Nat) (ts : Int32) (tx bd : Nat → Int32), j ≤ c → c < n + j → K < 32 → (∀ i, K.testBit i = true ↔ (i < j ∧ set.testBit i = true ∧ 0 < s i ∧ ¬ rj_Cov c s q set i)) → wX_worthKeeping_4 post (nI set) n (nI K) (nI j) (nI c) ts js (rj_f s) (rj_f q) tx bd la ad ch on ot jn := by
  have hc := hG.1
  intro n
  induction n with
  | zero => intro j K ts tx bd a b; omega
  | succ n ih =>
    intro j K ts tx bd hj hn hK hb
    by_cases hjc : j = c
    · subst hjc
      exact br_t (nI_le (by omega) (by omega)) (hp K ⟨hK, hb⟩ _ _ _)
    · have h6 := hG.2.1 j
      have hskip : ¬ (set.testBit j = true ∧ 0 < s j ∧ ¬ rj_Cov c s q set j) → ∀ ts tx bd, wX_worthKeeping_4 post (nI set) n (nI K) (nI (j + 1)) (nI c) ts js (rj_f s) (rj_f q) tx bd la ad ch on ot jn := by
        intro hno ts tx bd
        refine ih (j + 1) K ts tx bd (by omega) (by omega) hK fun i => ?_
        rw [hb i]
        constructor
        · intro h; exact ⟨by omega, h.2⟩
        · intro h
          refine ⟨?_, h.2⟩
          have : i ≠ j := fun e => hno (e ▸ h.2)
          omega
      refine br_f (nI_ge (by omega) (by omega)) ?_
      by_cases hbj : set.testBit j = false
      · exact br_t ((rj_bitT set hset j (by omega)).mpr hbj) (nm_r (nI_1 _) (hskip (fun h => by rw [hbj] at h; exact Bool.noConfusion h.1) _ _ _))
      · refine br_f (fun h => hbj ((rj_bitT set hset j (by omega)).mp h)) (And.intro (vp_in_nI (by omega) (by decide)) ?_)
        rw [rj_fa s (by omega)]
        refine pk_le (s j) 0 (fun h => nm_r (nI_1 _) (hskip (fun k => by omega) _ _ _)) (fun h => ?_)
        refine rj_covered hG (by omega) hset (fun hcov ts' tx' bd' => br_f (by decide) (nm_r (nI_1 _) (hskip (fun k => k.2.2 hcov) _ _ _))) (fun hcov ts' tx' bd' => br_t rfl ?_)
        obtain ⟨e1, e2⟩ := rj_setT K hK j (by omega)
        refine nm_r e1 (nm_r (nI_1 _) (ih (j + 1) (K ||| 2 ^ j) _ _ _ (by omega) (by omega) e2 fun i => ?_))
        rw [rj_set_bit, hb i]
        constructor
        · rintro (h | rfl)
          · exact ⟨by omega, h.2⟩
          · exact ⟨by omega, rj_tb hbj, by omega, hcov⟩
        · intro h
          by_cases e : i = j
          · exact Or.inr e
          · exact Or.inl ⟨by omega, h.2⟩
theorem rj_worthKeeping (hG : rj_Gd c s q) {set : Nat} (hset : set < 32) {post : Int32 → SX → Prop} (hp : ∀ K, rj_Kp c s q set K → ∀ ts tx bd, post (nI K) (nI c, ts, js, rj_f s, rj_f q, tx, bd, la, ad, ch, on, ot, jn)) : wpX_worthKeeping post (nI c, ts, js, rj_f s, rj_f q, tx, bd, la, ad, ch, on, ot, jn) (nI set) :=
  Exists.intro (c + 1) (rj_wk4 hG hset hp (c + 1) 0 0 ts tx bd (Nat.zero_le _) (by omega) (by omega) fun i => ⟨fun h => absurd h (rj_0bit i), fun h => absurd h.1 (Nat.not_lt_zero _)⟩)
/-- the overlaps of the reads kept, in the cells below n -/
def rj_La (s q : Nat → Nat) (K : Nat) (la : Nat → Int32) (n : Nat) : Prop := ∀ i j, i < 5 → j < 5 → 5 * i + j < n → K.testBit i = true → K.testBit j = true → i ≠ j → la (5 * i + j) = nI (rj_lap (rj_R s q i) (rj_R s q j))
theorem rj_La_put {K n : Nat} {v : Int32} (h : rj_La s q K la n) (hv : K.testBit (n / 5) = true → K.testBit (n % 5) = true → n / 5 ≠ n % 5 → v = nI (rj_lap (rj_R s q (n / 5)) (rj_R s q (n % 5)))) : rj_La s q K (upd la n v) (n + 1) := by
  intro i j hi hj hn bi bj hij
  by_cases e : 5 * i + j = n
  · have e1 : n / 5 = i := by omega
    have e2 : n % 5 = j := by omega
    rw [e1, e2] at hv
    rw [e, pk_us]
    exact hv bi bj hij
  · rw [pk_un e]
    exact h i j hi hj (by omega) bi bj hij
theorem rj_lap6 (hG : rj_Gd c s q) (i j : Nat) : rj_lap (rj_R s q i) (rj_R s q j) ≤ s j ∧ s j ≤ 6 := by
  have := (rj_lap_ov (rj_R s q i) (rj_R s q j)).2.1
  rw [rj_R_len] at this
  exact ⟨this, hG.2.1 j⟩
theorem rj_me2 (hG : rj_Gd c s q) {K : Nat} (hK : K < 32) {post : SX → Prop} (hp : ∀ ts tx bd la, rj_La s q K la 25 → post (nI c, ts, js, rj_f s, rj_f q, tx, bd, la, ad, ch, on, ot, jn)) :
    ∀ (n k : Nat) (ts : Int32) (tx bd la : Nat → Int32), k ≤ 25 → 25 < n + k → rj_La s q K la k → wX_measure_2 post (nI K) n (nI k) (nI c) ts js (rj_f s) (rj_f q) tx bd la ad ch on ot jn := by
  intro n
  induction n with
  | zero => intro k ts tx bd la a b; omega
  | succ n ih =>
    intro k ts tx bd la hk hn hL
    by_cases hk25 : k = 25
    · subst hk25
      exact br_t (nI_le (a := 25) (b := 25) (by omega) (by omega)) (hp _ _ _ _ hL)
    · have h0 : ∀ ts tx bd, (¬ (K.testBit (k / 5) = true ∧ K.testBit (k % 5) = true ∧ k / 5 ≠ k % 5)) → wX_measure_2 post (nI K) n (nI (k + 1)) (nI c) ts js (rj_f s) (rj_f q) tx bd (upd la k 0) ad ch on ot jn := by
        intro ts tx bd hno
        exact ih (k + 1) ts tx bd _ (by omega) (by omega) (rj_La_put hL fun a b d => absurd ⟨a, b, d⟩ hno)
      have hz : upd la (nI k).toNatClampNeg (vp_nar .byte 0) = upd la k 0 := by rw [nI_clamp (by omega), rj_vb0]
      have h38 : (¬ (K.testBit (k / 5) = true ∧ K.testBit (k % 5) = true)) → wX_measure_38 post (wX_measure_2 post (nI K) n) (nI K) (nI k) (nI (k / 5)) (nI (k % 5)) (nI c) ts js (rj_f s) (rj_f q) tx bd la ad ch on ot jn := by
        intro hno
        exact br_t rfl (And.intro (vp_in_nI (by omega) (by decide)) (nm_r hz (nm_r (nI_1 _) (h0 _ _ _ fun h => hno ⟨h.1, h.2.1⟩))))
      refine br_f (nI_ge (b := 25) (by omega) (by decide)) (And.intro (by decide) (nm_r (e' := nI (k / 5)) (pk_div (d := 5) (by omega) (by decide) (by decide)) (And.intro (by decide) (nm_r (e' := nI (k % 5)) (pk_rem (d := 5) (by omega) (by decide) (by decide)) ?_))))
      by_cases b1 : K.testBit (k / 5) = false
      · exact br_t ((rj_bitT K hK _ (by omega)).mpr b1) (h38 fun h => by rw [b1] at h; exact Bool.noConfusion h.1)
      · refine br_f (fun h => b1 ((rj_bitT K hK _ (by omega)).mp h)) ?_
        by_cases b2 : K.testBit (k % 5) = false
        · exact br_t ((rj_bitT K hK _ (by omega)).mpr b2) (h38 fun h => by rw [b2] at h; exact Bool.noConfusion h.2)
        · refine br_f (fun h => b2 ((rj_bitT K hK _ (by omega)).mp h)) (br_f (by decide) (pk_eq (k / 5) (k % 5) (fun e => And.intro (vp_in_nI (by omega) (by decide)) (nm_r hz (nm_r (nI_1 _) (h0 _ _ _ fun h => h.2.2 e)))) (fun hne => ?_)))
          obtain ⟨l1, l2⟩ := rj_lap6 hG (k / 5) (k % 5)
          refine rj_xlap hG (by omega) (by omega) fun ts' tx' bd' => And.intro (vp_in_nI (by omega) (by decide)) (nm_r (e' := upd la k (nI (rj_lap (rj_R s q (k / 5)) (rj_R s q (k % 5))))) ?_ (nm_r (nI_1 _) (ih (k + 1) ts' tx' bd' _ (by omega) (by omega) (rj_La_put hL fun _ _ _ => rfl))))
          rw [nI_clamp (by omega), rj_vb8 (by omega)]
theorem rj_measure (hG : rj_Gd c s q) {K : Nat} (hK : K < 32) {post : SX → Prop} (hp : ∀ ts tx bd la, rj_La s q K la 25 → post (nI c, ts, js, rj_f s, rj_f q, tx, bd, la, ad, ch, on, ot, jn)) : wpX_measure post (nI c, ts, js, rj_f s, rj_f q, tx, bd, la, ad, ch, on, ot, jn) (nI K) :=
  Exists.intro 26 (rj_me2 hG hK hp 26 0 ts tx bd la (by omega) (by omega) fun i j _ _ h => absurd h (Nat.not_lt_zero _))
end
end
section
/-! the component: writing a path's string, and comparing two -/
section
variable {c : Nat} {s q : Nat → Nat} {ts js : Int32} {tx bd la ad ch on ot jn : Nat → Int32}
/-- the choices of the table along a path -/
def rj_Ch (ch : Nat → Int32) : Nat → Nat → List Nat → Prop
  | m, l, [] => ch (5 * m + l) = -1
  | m, l, j :: p => ch (5 * m + l) = nI j ∧ rj_Ch ch (rj_clr m j) j p
def rj_NX (ch : Nat → Int32) (m : Nat) : List Nat → Int32 → Prop
  | [], x => x = -1
  | j :: p, x => x = nI j ∧ rj_Ch ch (rj_clr m j) j p
theorem rj_Ch_NX {m l : Nat} : ∀ {p : List Nat}, rj_Ch ch m l p → rj_NX ch m p (ch (5 * m + l))
  | [], h => h
  | _ :: _, h => h
theorem rj_Ch_congr {ch' : Nat → Int32} : ∀ (p : List Nat) (m l : Nat), m < 32 → l < 5 → rj_PM p m → (∀ x, x ≤ 5 * m + l → ch' x = ch x) → rj_Ch ch m l p → rj_Ch ch' m l p := by
  intro p
  induction p with
  | nil =>
    intro m l hm hl hp hM h
    show ch' _ = _
    rw [hM _ (by omega)]
    exact h
  | cons j p ih =>
    intro m l hm hl hp hM h
    obtain ⟨hj, hp'⟩ := rj_PM_un hm hp
    have h5 := rj_bit5 hm hj
    have hlt := rj_clr_lt hm hj
    refine ⟨?_, ih _ _ (rj_clr32 hm h5) h5 hp' (fun x hx => hM x (by omega)) h.2⟩
    rw [hM _ (by omega)]
    exact h.1
theorem rj_cw401 (hG : rj_Gd c s q) {post : Int32 → SX → Prop} {J : Int32 → Int32 → Int32 → Int32 → Int32 → Int32 → Int32 → Int32 → (Nat → Int32) → (Nat → Int32) → (Nat → Int32) → (Nat → Int32) → (Nat → Int32) → (Nat → Int32) → (Nat → Int32) → (Nat → Int32) → (Nat → Int32) → (Nat → Int32) → Prop}
    {r j rd : Nat} (hr : r < 32) (hj : j < 5) : ∀ (d k n : Nat) (L : List Nat) (on : Nat → Int32), k + d = s j → d < n → L.length + d ≤ 48 → rj_Tx L on →
    (∀ on, rj_Tx (L ++ (rj_R s q j).drop k) on → J (nI (L.length + d)) (nI (rj_clr r j)) (nI j) (ch (5 * rj_clr r j + j)) (nI (rd + 1)) (nI c) ts js (rj_f s) (rj_f q) tx bd la ad ch on ot jn) → wX_continueWith_40 post J 1 (nI r) (nI j) (nI rd) n (nI L.length) (nI k) (nI c) ts js (rj_f s) (rj_f q) tx bd la ad ch on ot jn := by
  have h6 := hG.2.1 j
  intro d
  induction d with
  | zero =>
    intro k n L on hk hn hL hT hp
    obtain ⟨n, rfl⟩ : ∃ m, n = m + 1 := ⟨n - 1, by omega⟩
    have hcl := rj_clr32 hr hj
    refine And.intro (vp_in_nI hj (by decide)) (br_t ?_ (nm_r (rj_clrT r hr j hj) (And.intro ?_ (nm_r (e' := ch (5 * rj_clr r j + j)) ?_ (nm_r (nI_1 _) (hp on ?_))))))
    · rw [rj_fa s (by omega)]
      exact nI_le (by omega) (by omega)
    · rw [rj_5]
      exact vp_in_nI (by omega) (by decide)
    · rw [rj_5, nI_clamp (by omega)]
    · rw [List.drop_eq_nil_of_le (by rw [rj_R_len]; omega), List.append_nil]
      exact hT
  | succ d ih =>
    intro k n L on hk hn hL hT hp
    obtain ⟨n, rfl⟩ : ∃ m, n = m + 1 := ⟨n - 1, by omega⟩
    have hq := hG.2.2 (6 * j + k)
    refine And.intro (vp_in_nI hj (by decide)) (br_f ?_ (And.intro ?_ (br_f (by decide) (And.intro (vp_in_nI (by omega) (by decide)) (nm_r (e' := upd on L.length (nI (q (6 * j + k)))) ?_ (nm_r (nI_1 _) (nm_r (nI_1 _) ?_)))))))
    · rw [rj_fa s (by omega)]
      exact nI_ge (by omega) (by omega)
    · rw [rj_6]
      exact vp_in_nI (by omega) (by decide)
    · rw [rj_6, rj_fa q (by omega), rj_vb8 (by omega), nI_clamp (by omega)]
    · have hl : (L ++ [q (6 * j + k)]).length = L.length + 1 := by rw [List.length_append]; rfl
      have := ih (k + 1) n (L ++ [q (6 * j + k)]) _ (by omega) (by omega) (by omega) (rj_Tx_put hT _) (by
        intro z hT'
        rw [hl, show L.length + 1 + d = L.length + (d + 1) by omega]
        refine hp z ?_
        rw [← rj_snoc_drop (by rw [rj_R_len]; omega), rj_R_g (by omega)]
        exact hT')
      rw [hl] at this
      exact this
theorem rj_cw151 (hG : rj_Gd c s q) {K : Nat} (hK : K < 32) (hLa : rj_La s q K la 25) {post : Int32 → SX → Prop} : ∀ (p : List Nat) (l r rd n : Nat) (L : List Nat) (on : Nat → Int32) (nx : Int32), r < 32 → rj_PM p r → (∀ i, r.testBit i = true → K.testBit i = true) → K.testBit l = true → ¬ r.testBit l = true →
    rj_NX ch r p nx → p.length + rd ≤ 5 → p.length < n → L.length + (rj_gl s q l p).length ≤ 48 → rj_Tx L on → (∀ on, rj_Tx (L ++ rj_gl s q l p) on → post (nI (L.length + (rj_gl s q l p).length)) (nI c, ts, js, rj_f s, rj_f q, tx, bd, la, ad, ch, on, ot, jn)) →
    wX_continueWith_15 post 1 n (nI L.length) (nI r) (nI l) nx (nI rd) (nI c) ts js (rj_f s) (rj_f q) tx bd la ad ch on ot jn := by
  intro p
  induction p with
  | nil =>
    intro l r rd n L on nx hr hp hrK hl hrl hnx hrd hn hL hT hpost
    obtain ⟨n, rfl⟩ : ∃ m, n = m + 1 := ⟨n - 1, by rw [List.length_nil] at hn; omega⟩
    have hn1 : nx = -1 := hnx
    subst hn1
    have hpp : post (nI L.length) (nI c, ts, js, rj_f s, rj_f q, tx, bd, la, ad, ch, on, ot, jn) := by
      have := hpost on
      rw [rj_gl, List.append_nil] at this
      exact this hT
    exact br_c (fun _ => hpp) (fun _ => br_t (by decide) hpp)
  | cons j p ih =>
    intro l r rd n L on nx hr hp hrK hl hrl hnx hrd hn hL hT hpost
    rw [List.length_cons] at hrd hn
    obtain ⟨n, rfl⟩ : ∃ m, n = m + 1 := ⟨n - 1, by omega⟩
    obtain ⟨e, hch⟩ := hnx
    subst e
    obtain ⟨hj, hp'⟩ := rj_PM_un hr hp
    have h5 := rj_bit5 hr hj
    have hl5 := rj_bit5 hK hl
    have hcl := rj_clr32 hr h5
    have hlj : l ≠ j := fun e => hrl (e ▸ hj)
    obtain ⟨g1, g2⟩ := rj_lap6 hG l j
    rw [rj_gl_c] at hL
    have hdl : (L ++ (rj_R s q j).drop (rj_lap (rj_R s q l) (rj_R s q j))).length = L.length + (s j - rj_lap (rj_R s q l) (rj_R s q j)) := by rw [List.length_append, List.length_drop, rj_R_len]
    refine br_f (nI_ge (b := 5) (by omega) (by decide)) (br_f (nI_pos (by omega)) (And.intro ?_ (nm_r (e' := nI (rj_lap (rj_R s q l) (rj_R s q j))) ?_ (Exists.intro (s j + 1) (rj_cw401 hG hr h5 (s j - rj_lap (rj_R s q l) (rj_R s q j)) _ _ L on (by omega) (by omega) (by omega) hT fun z hz => ?_)))))
    · rw [rj_5]
      exact vp_in_nI (by omega) (by decide)
    · rw [rj_5, nI_clamp (by omega)]
      exact hLa l j hl5 h5 (by omega) hl (hrK j hj) hlj
    · rw [← hdl]
      refine ih j (rj_clr r j) (rd + 1) n _ z _ hcl hp' (fun i hi => hrK i ((rj_clr_bit hr h5).mp hi).1) (hrK j hj) (fun h => ((rj_clr_bit hr h5).mp h).2 rfl) (rj_Ch_NX hch) (by omega) (by omega) (by omega) hz fun y hy => ?_
      have := hpost y
      rw [rj_gl_c, rj_gl, ← List.append_assoc, ← Nat.add_assoc, ← hdl] at this
      exact this hy
theorem rj_cw1 (hG : rj_Gd c s q) {K : Nat} (hK : K < 32) (hLa : rj_La s q K la 25) {post : Int32 → SX → Prop} {j l m : Nat} {p : List Nat} (hm : m < 32) (hp : rj_PM (j :: p) m) (hmK : ∀ i, m.testBit i = true → K.testBit i = true) (hl : K.testBit l = true) (hml : ¬ m.testBit l = true)
    (hc : rj_Ch ch (rj_clr m j) j p) (hpost : ∀ on, rj_Tx (rj_gl s q l (j :: p)) on → post (nI (rj_gl s q l (j :: p)).length) (nI c, ts, js, rj_f s, rj_f q, tx, bd, la, ad, ch, on, ot, jn)) : wpX_continueWith post (nI c, ts, js, rj_f s, rj_f q, tx, bd, la, ad, ch, on, ot, jn) (nI m) (nI l) (nI j) 1 := by
  have h1 := rj_PM_len _ hm hp
  have h2 := (rj_cnt_tab m hm).1
  have h3 := rj_gl_len hG (j :: p) l
  refine Exists.intro 6 (rj_cw151 hG hK hLa (j :: p) l m 0 6 [] on (nI j) hm hp hmK hl hml ⟨rfl, hc⟩ (by omega) (by omega) ?_ (rj_Tx_nil _) ?_)
  · rw [List.length_nil]; omega
  · rw [List.length_nil, Nat.zero_add]
    exact hpost
theorem rj_wh361 (hG : rj_Gd c s q) {post : Int32 → SX → Prop} {J : Int32 → Int32 → Int32 → Int32 → Int32 → Int32 → Int32 → Int32 → (Nat → Int32) → (Nat → Int32) → (Nat → Int32) → (Nat → Int32) → (Nat → Int32) → (Nat → Int32) → (Nat → Int32) → (Nat → Int32) → (Nat → Int32) → (Nat → Int32) → Prop}
    {r j : Nat} {rd f : Int32} (hr : r < 32) (hj : j < 5) : ∀ (d k n : Nat) (L : List Nat) (on : Nat → Int32), k + d = s j → d < n → L.length + d ≤ 48 → rj_Tx L on →
    (∀ on, rj_Tx (L ++ (rj_R s q j).drop k) on → ∀ x : Int32, x = ch (5 * r + j) → ((x < 0 → ∀ y, y = rd + 1 → J (nI (L.length + d)) (nI r) x f y (nI c) ts js (rj_f s) (rj_f q) tx bd la ad ch on ot jn) ∧ (¬ x < 0 → (vp_in (nI j * 5 + x) 25 ∧ ∀ z, z = la (nI j * 5 + x).toNatClampNeg → ∀ t, t = nI r &&& (((1 : Int32) <<< (x &&& 31)) ^^^ (-1)) → ∀ y, y = rd + 1 → J (nI (L.length + d)) t x z y (nI c) ts js (rj_f s) (rj_f q) tx bd la ad ch on ot jn)))) →
    wX_whole_36 post J 1 (nI r) (nI j) f rd n (nI L.length) (nI k) (nI c) ts js (rj_f s) (rj_f q) tx bd la ad ch on ot jn := by
  have h6 := hG.2.1 j
  intro d
  induction d with
  | zero =>
    intro k n L on hk hn hL hT hp
    obtain ⟨n, rfl⟩ : ∃ m, n = m + 1 := ⟨n - 1, by omega⟩
    refine And.intro (vp_in_nI hj (by decide)) (br_t ?_ (And.intro ?_ (nm_r (e' := ch (5 * r + j)) ?_ (hp on ?_ _ rfl))))
    · rw [rj_fa s (by omega)]
      exact nI_le (by omega) (by omega)
    · rw [rj_5]
      exact vp_in_nI (by omega) (by decide)
    · rw [rj_5, nI_clamp (by omega)]
    · rw [List.drop_eq_nil_of_le (by rw [rj_R_len]; omega), List.append_nil]
      exact hT
  | succ d ih =>
    intro k n L on hk hn hL hT hp
    obtain ⟨n, rfl⟩ : ∃ m, n = m + 1 := ⟨n - 1, by omega⟩
    have hq := hG.2.2 (6 * j + k)
    refine And.intro (vp_in_nI hj (by decide)) (br_f ?_ (And.intro ?_ (br_f (by decide) (And.intro (vp_in_nI (by omega) (by decide)) (nm_r (e' := upd on L.length (nI (q (6 * j + k)))) ?_ (nm_r (nI_1 _) (nm_r (nI_1 _) ?_)))))))
    · rw [rj_fa s (by omega)]
      exact nI_ge (by omega) (by omega)
    · rw [rj_6]
      exact vp_in_nI (by omega) (by decide)
    · rw [rj_6, rj_fa q (by omega), rj_vb8 (by omega), nI_clamp (by omega)]
    · have hl : (L ++ [q (6 * j + k)]).length = L.length + 1 := by rw [List.length_append]; rfl
      have := ih (k + 1) n (L ++ [q (6 * j + k)]) _ (by omega) (by omega) (by omega) (rj_Tx_put hT _) (by
        intro z hT'
        rw [hl, show L.length + 1 + d = L.length + (d + 1) by omega]
        refine hp z ?_
        rw [← rj_snoc_drop (by rw [rj_R_len]; omega), rj_R_g (by omega)]
        exact hT')
      rw [hl] at this
      exact this
theorem rj_wh211 (hG : rj_Gd c s q) {K : Nat} (hK : K < 32) (hLa : rj_La s q K la 25) {post : Int32 → SX → Prop} : ∀ (p : List Nat) (j r f rd n : Nat) (L : List Nat) (on : Nat → Int32), r < 32 → rj_PM p r → (∀ i, r.testBit i = true → K.testBit i = true) → K.testBit j = true → ¬ r.testBit j = true →
    rj_Ch ch r j p → p.length + 1 + rd ≤ 5 → p.length + 1 < n → f ≤ s j → L.length + (s j - f) + (rj_gl s q j p).length ≤ 48 → rj_Tx L on → (∀ on, rj_Tx ((L ++ (rj_R s q j).drop f) ++ rj_gl s q j p) on → post (nI (L.length + (s j - f) + (rj_gl s q j p).length)) (nI c, ts, js, rj_f s, rj_f q, tx, bd, la, ad, ch, on, ot, jn)) →
    wX_whole_21 post 1 n (nI L.length) (nI r) (nI j) (nI f) (nI rd) (nI c) ts js (rj_f s) (rj_f q) tx bd la ad ch on ot jn := by
  intro p
  induction p with
  | nil =>
    intro j r f rd n L on hr hp hrK hj hrj hch hrd hn hf hL hT hpost
    rw [List.length_nil] at hrd hn
    obtain ⟨n, rfl⟩ : ∃ m, n = m + 1 + 1 := ⟨n - 2, by omega⟩
    have h5 := rj_bit5 hK hj
    have h6 := hG.2.1 j
    have hch : ch (5 * r + j) = -1 := hch
    have hgl : (rj_gl s q j []).length = 0 := rfl
    refine br_f (nI_ge (b := 5) (by omega) (by decide)) (br_f (nI_pos (by omega)) (Exists.intro (s j + 1) (rj_wh361 hG hr h5 (s j - f) f _ L on (by omega) (by omega) (by omega) hT fun z hz x hx => ?_)))
    rw [hch] at hx
    subst hx
    have hpp : post (nI (L.length + (s j - f))) (nI c, ts, js, rj_f s, rj_f q, tx, bd, la, ad, ch, z, ot, jn) := by
      have := hpost z
      rw [rj_gl, List.append_nil] at this
      exact this hz
    exact br_t (by decide) (nm_r (nI_1 _) (br_c (fun _ => hpp) (fun _ => br_t (by decide) hpp)))
  | cons i p ih =>
    intro j r f rd n L on hr hp hrK hj hrj hch hrd hn hf hL hT hpost
    rw [List.length_cons] at hrd hn
    obtain ⟨n, rfl⟩ : ∃ m, n = m + 1 := ⟨n - 1, by omega⟩
    have h5 := rj_bit5 hK hj
    have h6 := hG.2.1 j
    obtain ⟨hi, hp'⟩ := rj_PM_un hr hp
    have hi5 := rj_bit5 hr hi
    have hji : j ≠ i := fun e => hrj (e ▸ hi)
    obtain ⟨g1, g2⟩ := rj_lap6 hG j i
    obtain ⟨hch1, hch2⟩ := hch
    rw [rj_gl_c] at hL
    have hdl : (L ++ (rj_R s q j).drop f).length = L.length + (s j - f) := by rw [List.length_append, List.length_drop, rj_R_len]
    refine br_f (nI_ge (b := 5) (by omega) (by decide)) (br_f (nI_pos (by omega)) (Exists.intro (s j + 1) (rj_wh361 hG hr h5 (s j - f) f _ L on (by omega) (by omega) (by omega) hT fun z hz x hx => ?_)))
    rw [hch1] at hx
    subst hx
    refine br_f (nI_pos (by omega)) (And.intro ?_ (nm_r (e' := nI (rj_lap (rj_R s q j) (rj_R s q i))) ?_ (nm_r (rj_clrT r hr i hi5) (nm_r (nI_1 _) ?_))))
    · rw [rj_5]
      exact vp_in_nI (by omega) (by decide)
    · rw [rj_5, nI_clamp (by omega)]
      exact hLa j i h5 hi5 (by omega) hj (hrK i hi) hji
    · rw [← hdl]
      refine ih i (rj_clr r i) _ (rd + 1) n _ z (rj_clr32 hr hi5) hp' (fun k hk => hrK k ((rj_clr_bit hr hi5).mp hk).1) (hrK i hi) (fun h => ((rj_clr_bit hr hi5).mp h).2 rfl) hch2 (by omega) (by omega) g1 (by omega) hz fun y hy => ?_
      have := hpost y
      rw [rj_gl_c, rj_gl, ← List.append_assoc, ← Nat.add_assoc, ← hdl] at this
      exact this hy
theorem rj_wh1 (hG : rj_Gd c s q) {K : Nat} (hK : K < 32) (hLa : rj_La s q K la 25) {post : Int32 → SX → Prop} {j : Nat} {p : List Nat} (hj : K.testBit j = true) (hp : rj_PM p (rj_clr K j)) (hc : rj_Ch ch (rj_clr K j) j p)
    (hpost : ∀ on, rj_Tx (rj_R s q j ++ rj_gl s q j p) on → post (nI (rj_R s q j ++ rj_gl s q j p).length) (nI c, ts, js, rj_f s, rj_f q, tx, bd, la, ad, ch, on, ot, jn)) : wpX_whole post (nI c, ts, js, rj_f s, rj_f q, tx, bd, la, ad, ch, on, ot, jn) (nI K) (nI j) 1 := by
  have h5 := rj_bit5 hK hj
  have hcl := rj_clr32 hK h5
  have h1 := rj_PM_len _ hcl hp
  have h2 := (rj_cnt_tab K hK).1
  have h3 := rj_clr_cnt hK hj
  have h4 := rj_gl_len hG p j
  have h6 := hG.2.1 j
  refine nm_r (rj_clrT K hK j h5) (Exists.intro 7 (rj_wh211 hG hK hLa p j (rj_clr K j) 0 0 7 [] on hcl hp (fun k hk => ((rj_clr_bit hK h5).mp hk).1) hj (fun h => ((rj_clr_bit hK h5).mp h).2 rfl) hc (by omega) (by omega) (by omega) ?_ (rj_Tx_nil _) ?_))
  · rw [List.length_nil]; omega
  · rw [List.length_nil, Nat.zero_add, List.nil_append, List.drop_zero, Nat.sub_zero]
    intro z hz
    have := hpost z hz
    rw [List.length_append, rj_R_len] at this
    exact this
theorem rj_cw400 (hG : rj_Gd c s q) {post : Int32 → SX → Prop} {J : Int32 → Int32 → Int32 → Int32 → Int32 → Int32 → Int32 → Int32 → (Nat → Int32) → (Nat → Int32) → (Nat → Int32) → (Nat → Int32) → (Nat → Int32) → (Nat → Int32) → (Nat → Int32) → (Nat → Int32) → (Nat → Int32) → (Nat → Int32) → Prop}
    {r j rd : Nat} (hr : r < 32) (hj : j < 5) : ∀ (d k n : Nat) (L : List Nat) (ot : Nat → Int32), k + d = s j → d < n → L.length + d ≤ 48 → rj_Tx L ot →
    (∀ ot, rj_Tx (L ++ (rj_R s q j).drop k) ot → J (nI (L.length + d)) (nI (rj_clr r j)) (nI j) (ch (5 * rj_clr r j + j)) (nI (rd + 1)) (nI c) ts js (rj_f s) (rj_f q) tx bd la ad ch on ot jn) → wX_continueWith_40 post J 0 (nI r) (nI j) (nI rd) n (nI L.length) (nI k) (nI c) ts js (rj_f s) (rj_f q) tx bd la ad ch on ot jn := by
  have h6 := hG.2.1 j
  intro d
  induction d with
  | zero =>
    intro k n L ot hk hn hL hT hp
    obtain ⟨n, rfl⟩ : ∃ m, n = m + 1 := ⟨n - 1, by omega⟩
    have hcl := rj_clr32 hr hj
    refine And.intro (vp_in_nI hj (by decide)) (br_t ?_ (nm_r (rj_clrT r hr j hj) (And.intro ?_ (nm_r (e' := ch (5 * rj_clr r j + j)) ?_ (nm_r (nI_1 _) (hp ot ?_))))))
    · rw [rj_fa s (by omega)]
      exact nI_le (by omega) (by omega)
    · rw [rj_5]
      exact vp_in_nI (by omega) (by decide)
    · rw [rj_5, nI_clamp (by omega)]
    · rw [List.drop_eq_nil_of_le (by rw [rj_R_len]; omega), List.append_nil]
      exact hT
  | succ d ih =>
    intro k n L ot hk hn hL hT hp
    obtain ⟨n, rfl⟩ : ∃ m, n = m + 1 := ⟨n - 1, by omega⟩
    have hq := hG.2.2 (6 * j + k)
    refine And.intro (vp_in_nI hj (by decide)) (br_f ?_ (And.intro ?_ (br_t (by decide) (And.intro (vp_in_nI (by omega) (by decide)) (nm_r (e' := upd ot L.length (nI (q (6 * j + k)))) ?_ (nm_r (nI_1 _) (nm_r (nI_1 _) ?_)))))))
    · rw [rj_fa s (by omega)]
      exact nI_ge (by omega) (by omega)
    · rw [rj_6]
      exact vp_in_nI (by omega) (by decide)
    · rw [rj_6, rj_fa q (by omega), rj_vb8 (by omega), nI_clamp (by omega)]
    · have hl : (L ++ [q (6 * j + k)]).length = L.length + 1 := by rw [List.length_append]; rfl
      have := ih (k + 1) n (L ++ [q (6 * j + k)]) _ (by omega) (by omega) (by omega) (rj_Tx_put hT _) (by
        intro z hT'
        rw [hl, show L.length + 1 + d = L.length + (d + 1) by omega]
        refine hp z ?_
        rw [← rj_snoc_drop (by rw [rj_R_len]; omega), rj_R_g (by omega)]
        exact hT')
      rw [hl] at this
      exact this
theorem rj_cw150 (hG : rj_Gd c s q) {K : Nat} (hK : K < 32) (hLa : rj_La s q K la 25) {post : Int32 → SX → Prop} : ∀ (p : List Nat) (l r rd n : Nat) (L : List Nat) (ot : Nat → Int32) (nx : Int32), r < 32 → rj_PM p r → (∀ i, r.testBit i = true → K.testBit i = true) → K.testBit l = true → ¬ r.testBit l = true →
    rj_NX ch r p nx → p.length + rd ≤ 5 → p.length < n → L.length + (rj_gl s q l p).length ≤ 48 → rj_Tx L ot → (∀ ot, rj_Tx (L ++ rj_gl s q l p) ot → post (nI (L.length + (rj_gl s q l p).length)) (nI c, ts, js, rj_f s, rj_f q, tx, bd, la, ad, ch, on, ot, jn)) →
    wX_continueWith_15 post 0 n (nI L.length) (nI r) (nI l) nx (nI rd) (nI c) ts js (rj_f s) (rj_f q) tx bd la ad ch on ot jn := by
  intro p
  induction p with
  | nil =>
    intro l r rd n L ot nx hr hp hrK hl hrl hnx hrd hn hL hT hpost
    obtain ⟨n, rfl⟩ : ∃ m, n = m + 1 := ⟨n - 1, by rw [List.length_nil] at hn; omega⟩
    have hn1 : nx = -1 := hnx
    subst hn1
    have hpp : post (nI L.length) (nI c, ts, js, rj_f s, rj_f q, tx, bd, la, ad, ch, on, ot, jn) := by
      have := hpost ot
      rw [rj_gl, List.append_nil] at this
      exact this hT
    exact br_c (fun _ => hpp) (fun _ => br_t (by decide) hpp)
  | cons j p ih =>
    intro l r rd n L ot nx hr hp hrK hl hrl hnx hrd hn hL hT hpost
    rw [List.length_cons] at hrd hn
    obtain ⟨n, rfl⟩ : ∃ m, n = m + 1 := ⟨n - 1, by omega⟩
    obtain ⟨e, hch⟩ := hnx
    subst e
    obtain ⟨hj, hp'⟩ := rj_PM_un hr hp
    have h5 := rj_bit5 hr hj
    have hl5 := rj_bit5 hK hl
    have hcl := rj_clr32 hr h5
    have hlj : l ≠ j := fun e => hrl (e ▸ hj)
    obtain ⟨g1, g2⟩ := rj_lap6 hG l j
    rw [rj_gl_c] at hL
    have hdl : (L ++ (rj_R s q j).drop (rj_lap (rj_R s q l) (rj_R s q j))).length = L.length + (s j - rj_lap (rj_R s q l) (rj_R s q j)) := by rw [List.length_append, List.length_drop, rj_R_len]
    refine br_f (nI_ge (b := 5) (by omega) (by decide)) (br_f (nI_pos (by omega)) (And.intro ?_ (nm_r (e' := nI (rj_lap (rj_R s q l) (rj_R s q j))) ?_ (Exists.intro (s j + 1) (rj_cw400 hG hr h5 (s j - rj_lap (rj_R s q l) (rj_R s q j)) _ _ L ot (by omega) (by omega) (by omega) hT fun z hz => ?_)))))
    · rw [rj_5]
      exact vp_in_nI (by omega) (by decide)
    · rw [rj_5, nI_clamp (by omega)]
      exact hLa l j hl5 h5 (by omega) hl (hrK j hj) hlj
    · rw [← hdl]
      refine ih j (rj_clr r j) (rd + 1) n _ z _ hcl hp' (fun i hi => hrK i ((rj_clr_bit hr h5).mp hi).1) (hrK j hj) (fun h => ((rj_clr_bit hr h5).mp h).2 rfl) (rj_Ch_NX hch) (by omega) (by omega) (by omega) hz fun y hy => ?_
      have := hpost y
      rw [rj_gl_c, rj_gl, ← List.append_assoc, ← Nat.add_assoc, ← hdl] at this
      exact this hy
theorem rj_cw0 (hG : rj_Gd c s q) {K : Nat} (hK : K < 32) (hLa : rj_La s q K la 25) {post : Int32 → SX → Prop} {j l m : Nat} {p : List Nat} (hm : m < 32) (hp : rj_PM (j :: p) m) (hmK : ∀ i, m.testBit i = true → K.testBit i = true) (hl : K.testBit l = true) (hml : ¬ m.testBit l = true)
    (hc : rj_Ch ch (rj_clr m j) j p) (hpost : ∀ ot, rj_Tx (rj_gl s q l (j :: p)) ot → post (nI (rj_gl s q l (j :: p)).length) (nI c, ts, js, rj_f s, rj_f q, tx, bd, la, ad, ch, on, ot, jn)) : wpX_continueWith post (nI c, ts, js, rj_f s, rj_f q, tx, bd, la, ad, ch, on, ot, jn) (nI m) (nI l) (nI j) 0 := by
  have h1 := rj_PM_len _ hm hp
  have h2 := (rj_cnt_tab m hm).1
  have h3 := rj_gl_len hG (j :: p) l
  refine Exists.intro 6 (rj_cw150 hG hK hLa (j :: p) l m 0 6 [] ot (nI j) hm hp hmK hl hml ⟨rfl, hc⟩ (by omega) (by omega) ?_ (rj_Tx_nil _) ?_)
  · rw [List.length_nil]; omega
  · rw [List.length_nil, Nat.zero_add]
    exact hpost
theorem rj_wh360 (hG : rj_Gd c s q) {post : Int32 → SX → Prop} {J : Int32 → Int32 → Int32 → Int32 → Int32 → Int32 → Int32 → Int32 → (Nat → Int32) → (Nat → Int32) → (Nat → Int32) → (Nat → Int32) → (Nat → Int32) → (Nat → Int32) → (Nat → Int32) → (Nat → Int32) → (Nat → Int32) → (Nat → Int32) → Prop}
    {r j : Nat} {rd f : Int32} (hr : r < 32) (hj : j < 5) : ∀ (d k n : Nat) (L : List Nat) (ot : Nat → Int32), k + d = s j → d < n → L.length + d ≤ 48 → rj_Tx L ot →
    (∀ ot, rj_Tx (L ++ (rj_R s q j).drop k) ot → ∀ x : Int32, x = ch (5 * r + j) → ((x < 0 → ∀ y, y = rd + 1 → J (nI (L.length + d)) (nI r) x f y (nI c) ts js (rj_f s) (rj_f q) tx bd la ad ch on ot jn) ∧ (¬ x < 0 → (vp_in (nI j * 5 + x) 25 ∧ ∀ z, z = la (nI j * 5 + x).toNatClampNeg → ∀ t, t = nI r &&& (((1 : Int32) <<< (x &&& 31)) ^^^ (-1)) → ∀ y, y = rd + 1 → J (nI (L.length + d)) t x z y (nI c) ts js (rj_f s) (rj_f q) tx bd la ad ch on ot jn)))) →
    wX_whole_36 post J 0 (nI r) (nI j) f rd n (nI L.length) (nI k) (nI c) ts js (rj_f s) (rj_f q) tx bd la ad ch on ot jn := by
  have h6 := hG.2.1 j
  intro d
  induction d with
  | zero =>
    intro k n L ot hk hn hL hT hp
    obtain ⟨n, rfl⟩ : ∃ m, n = m + 1 := ⟨n - 1, by omega⟩
    refine And.intro (vp_in_nI hj (by decide)) (br_t ?_ (And.intro ?_ (nm_r (e' := ch (5 * r + j)) ?_ (hp ot ?_ _ rfl))))
    · rw [rj_fa s (by omega)]
      exact nI_le (by omega) (by omega)
    · rw [rj_5]
      exact vp_in_nI (by omega) (by decide)
    · rw [rj_5, nI_clamp (by omega)]
    · rw [List.drop_eq_nil_of_le (by rw [rj_R_len]; omega), List.append_nil]
      exact hT
  | succ d ih =>
    intro k n L ot hk hn hL hT hp
    obtain ⟨n, rfl⟩ : ∃ m, n = m + 1 := ⟨n - 1, by omega⟩
    have hq := hG.2.2 (6 * j + k)
    refine And.intro (vp_in_nI hj (by decide)) (br_f ?_ (And.intro ?_ (br_t (by decide) (And.intro (vp_in_nI (by omega) (by decide)) (nm_r (e' := upd ot L.length (nI (q (6 * j + k)))) ?_ (nm_r (nI_1 _) (nm_r (nI_1 _) ?_)))))))
    · rw [rj_fa s (by omega)]
      exact nI_ge (by omega) (by omega)
    · rw [rj_6]
      exact vp_in_nI (by omega) (by decide)
    · rw [rj_6, rj_fa q (by omega), rj_vb8 (by omega), nI_clamp (by omega)]
    · have hl : (L ++ [q (6 * j + k)]).length = L.length + 1 := by rw [List.length_append]; rfl
      have := ih (k + 1) n (L ++ [q (6 * j + k)]) _ (by omega) (by omega) (by omega) (rj_Tx_put hT _) (by
        intro z hT'
        rw [hl, show L.length + 1 + d = L.length + (d + 1) by omega]
        refine hp z ?_
        rw [← rj_snoc_drop (by rw [rj_R_len]; omega), rj_R_g (by omega)]
        exact hT')
      rw [hl] at this
      exact this
theorem rj_wh210 (hG : rj_Gd c s q) {K : Nat} (hK : K < 32) (hLa : rj_La s q K la 25) {post : Int32 → SX → Prop} : ∀ (p : List Nat) (j r f rd n : Nat) (L : List Nat) (ot : Nat → Int32), r < 32 → rj_PM p r → (∀ i, r.testBit i = true → K.testBit i = true) → K.testBit j = true → ¬ r.testBit j = true →
    rj_Ch ch r j p → p.length + 1 + rd ≤ 5 → p.length + 1 < n → f ≤ s j → L.length + (s j - f) + (rj_gl s q j p).length ≤ 48 → rj_Tx L ot → (∀ ot, rj_Tx ((L ++ (rj_R s q j).drop f) ++ rj_gl s q j p) ot → post (nI (L.length + (s j - f) + (rj_gl s q j p).length)) (nI c, ts, js, rj_f s, rj_f q, tx, bd, la, ad, ch, on, ot, jn)) →
    wX_whole_21 post 0 n (nI L.length) (nI r) (nI j) (nI f) (nI rd) (nI c) ts js (rj_f s) (rj_f q) tx bd la ad ch on ot jn := by
  intro p
  induction p with
  | nil =>
    intro j r f rd n L ot hr hp hrK hj hrj hch hrd hn hf hL hT hpost
    rw [List.length_nil] at hrd hn
    obtain ⟨n, rfl⟩ : ∃ m, n = m + 1 + 1 := ⟨n - 2, by omega⟩
    have h5 := rj_bit5 hK hj
    have h6 := hG.2.1 j
    have hch : ch (5 * r + j) = -1 := hch
    have hgl : (rj_gl s q j []).length = 0 := rfl
    refine br_f (nI_ge (b := 5) (by omega) (by decide)) (br_f (nI_pos (by omega)) (Exists.intro (s j + 1) (rj_wh360 hG hr h5 (s j - f) f _ L ot (by omega) (by omega) (by omega) hT fun z hz x hx => ?_)))
    rw [hch] at hx
    subst hx
    have hpp : post (nI (L.length + (s j - f))) (nI c, ts, js, rj_f s, rj_f q, tx, bd, la, ad, ch, on, z, jn) := by
      have := hpost z
      rw [rj_gl, List.append_nil] at this
      exact this hz
    exact br_t (by decide) (nm_r (nI_1 _) (br_c (fun _ => hpp) (fun _ => br_t (by decide) hpp)))
  | cons i p ih =>
    intro j r f rd n L ot hr hp hrK hj hrj hch hrd hn hf hL hT hpost
    rw [List.length_cons] at hrd hn
    obtain ⟨n, rfl⟩ : ∃ m, n = m + 1 := ⟨n - 1, by omega⟩
    have h5 := rj_bit5 hK hj
    have h6 := hG.2.1 j
    obtain ⟨hi, hp'⟩ := rj_PM_un hr hp
    have hi5 := rj_bit5 hr hi
    have hji : j ≠ i := fun e => hrj (e ▸ hi)
    obtain ⟨g1, g2⟩ := rj_lap6 hG j i
    obtain ⟨hch1, hch2⟩ := hch
    rw [rj_gl_c] at hL
    have hdl : (L ++ (rj_R s q j).drop f).length = L.length + (s j - f) := by rw [List.length_append, List.length_drop, rj_R_len]
    refine br_f (nI_ge (b := 5) (by omega) (by decide)) (br_f (nI_pos (by omega)) (Exists.intro (s j + 1) (rj_wh360 hG hr h5 (s j - f) f _ L ot (by omega) (by omega) (by omega) hT fun z hz x hx => ?_)))
    rw [hch1] at hx
    subst hx
    refine br_f (nI_pos (by omega)) (And.intro ?_ (nm_r (e' := nI (rj_lap (rj_R s q j) (rj_R s q i))) ?_ (nm_r (rj_clrT r hr i hi5) (nm_r (nI_1 _) ?_))))
    · rw [rj_5]
      exact vp_in_nI (by omega) (by decide)
    · rw [rj_5, nI_clamp (by omega)]
      exact hLa j i h5 hi5 (by omega) hj (hrK i hi) hji
    · rw [← hdl]
      refine ih i (rj_clr r i) _ (rd + 1) n _ z (rj_clr32 hr hi5) hp' (fun k hk => hrK k ((rj_clr_bit hr hi5).mp hk).1) (hrK i hi) (fun h => ((rj_clr_bit hr hi5).mp h).2 rfl) hch2 (by omega) (by omega) g1 (by omega) hz fun y hy => ?_
      have := hpost y
      rw [rj_gl_c, rj_gl, ← List.append_assoc, ← Nat.add_assoc, ← hdl] at this
      exact this hy
theorem rj_wh0 (hG : rj_Gd c s q) {K : Nat} (hK : K < 32) (hLa : rj_La s q K la 25) {post : Int32 → SX → Prop} {j : Nat} {p : List Nat} (hj : K.testBit j = true) (hp : rj_PM p (rj_clr K j)) (hc : rj_Ch ch (rj_clr K j) j p)
    (hpost : ∀ ot, rj_Tx (rj_R s q j ++ rj_gl s q j p) ot → post (nI (rj_R s q j ++ rj_gl s q j p).length) (nI c, ts, js, rj_f s, rj_f q, tx, bd, la, ad, ch, on, ot, jn)) : wpX_whole post (nI c, ts, js, rj_f s, rj_f q, tx, bd, la, ad, ch, on, ot, jn) (nI K) (nI j) 0 := by
  have h5 := rj_bit5 hK hj
  have hcl := rj_clr32 hK h5
  have h1 := rj_PM_len _ hcl hp
  have h2 := (rj_cnt_tab K hK).1
  have h3 := rj_clr_cnt hK hj
  have h4 := rj_gl_len hG p j
  have h6 := hG.2.1 j
  refine nm_r (rj_clrT K hK j h5) (Exists.intro 7 (rj_wh210 hG hK hLa p j (rj_clr K j) 0 0 7 [] ot hcl hp (fun k hk => ((rj_clr_bit hK h5).mp hk).1) hj (fun h => ((rj_clr_bit hK h5).mp h).2 rfl) hc (by omega) (by omega) (by omega) ?_ (rj_Tx_nil _) ?_))
  · rw [List.length_nil]; omega
  · rw [List.length_nil, Nat.zero_add, List.nil_append, List.drop_zero, Nat.sub_zero]
    intro z hz
    have := hpost z hz
    rw [List.length_append, rj_R_len] at this
    exact this
theorem rj_les {post : Int32 → SX → Prop} {A B : List Nat} (hA : rj_ok A) (hB : rj_ok B) (hl : A.length = B.length) (h48 : A.length ≤ 48) (hTA : rj_Tx A on) (hTB : rj_Tx B ot) (h1 : rj_LL A B → post 1 (nI c, ts, js, rj_f s, rj_f q, tx, bd, la, ad, ch, on, ot, jn)) (h0 : ¬ rj_LL A B → post 0 (nI c, ts, js, rj_f s, rj_f q, tx, bd, la, ad, ch, on, ot, jn)) :
    ∀ (n i : Nat), i ≤ A.length → A.length < n + i → (∀ x, x < i → rj_g A x = rj_g B x) → wX_lesser_35 post (nI A.length) (nI c) ts js (rj_f s) (rj_f q) tx bd la ad ch on ot jn n (nI i) := by
  intro n
  induction n with
  | zero => intro i a b; omega
  | succ n ih =>
    intro i hi hn he
    by_cases hia : i = A.length
    · refine br_t (nI_le (by omega) (by omega)) (h0 ?_)
      rintro ⟨k, hk, _, hlt⟩
      have := he k (by omega)
      omega
    · have b1 := hA i (by omega)
      have b2 := hB i (by omega)
      refine br_f (nI_ge (by omega) (by omega)) (And.intro (vp_in_nI (by omega) (by decide)) (And.intro (vp_in_nI (by omega) (by decide)) ?_))
      rw [nI_clamp (by omega), hTA i (by omega), hTB i (by omega), nI_eq (by omega) (by omega), nI_leI (by omega) (by omega)]
      refine ⟨fun e => nm_r (nI_1 _) (ih (i + 1) (by omega) (by omega) fun x hx => ?_), fun hne => And.intro (vp_in_nI (by omega) (by decide)) (And.intro (vp_in_nI (by omega) (by decide)) ⟨fun hle => h0 ?_, fun hgt => h1 ⟨i, by omega, he, by omega⟩⟩)⟩
      · by_cases hxi : x = i
        · rw [hxi]; exact e
        · exact he x (by omega)
      · rintro ⟨k, hk, hke, hlt⟩
        rcases Nat.lt_trichotomy k i with h | h | h
        · have := he k h; omega
        · subst h; omega
        · exact hne (hke i h)
theorem rj_bles {post : Int32 → SX → Prop} {A B : List Nat} (hA : rj_ok A) (hB : rj_ok B) (hl : A.length = B.length) (h48 : A.length ≤ 48) (hTA : rj_Tx A on) (hTB : rj_Tx B ot) (h1 : rj_LL A B → post 1 (nI c, ts, js, rj_f s, rj_f q, tx, bd, la, ad, ch, on, ot, jn)) (h0 : ¬ rj_LL A B → post 0 (nI c, ts, js, rj_f s, rj_f q, tx, bd, la, ad, ch, on, ot, jn)) :
    ∀ (n i : Nat), i ≤ A.length → A.length < n + i → (∀ x, x < i → rj_g A x = rj_g B x) → wX_beginsLesser_20 post (nI A.length) (nI c) ts js (rj_f s) (rj_f q) tx bd la ad ch on ot jn n (nI i) := by
  intro n
  induction n with
  | zero => intro i a b; omega
  | succ n ih =>
    intro i hi hn he
    by_cases hia : i = A.length
    · refine br_t (nI_le (by omega) (by omega)) (h0 ?_)
      rintro ⟨k, hk, _, hlt⟩
      have := he k (by omega)
      omega
    · have b1 := hA i (by omega)
      have b2 := hB i (by omega)
      refine br_f (nI_ge (by omega) (by omega)) (And.intro (vp_in_nI (by omega) (by decide)) (And.intro (vp_in_nI (by omega) (by decide)) ?_))
      rw [nI_clamp (by omega), hTA i (by omega), hTB i (by omega), nI_eq (by omega) (by omega), nI_leI (by omega) (by omega)]
      refine ⟨fun e => nm_r (nI_1 _) (ih (i + 1) (by omega) (by omega) fun x hx => ?_), fun hne => And.intro (vp_in_nI (by omega) (by decide)) (And.intro (vp_in_nI (by omega) (by decide)) ⟨fun hle => h0 ?_, fun hgt => h1 ⟨i, by omega, he, by omega⟩⟩)⟩
      · by_cases hxi : x = i
        · rw [hxi]; exact e
        · exact he x (by omega)
      · rintro ⟨k, hk, hke, hlt⟩
        rcases Nat.lt_trichotomy k i with h | h | h
        · have := he k h; omega
        · subst h; omega
        · exact hne (hke i h)
end
end
section
/-! the component: the table of best additions -/
section
variable {c : Nat} {s q : Nat → Nat} {ts js : Int32} {tx bd la ad ch on ot jn : Nat → Int32}
def rj_TB (s q : Nat → Nat) (ad ch : Nat → Int32) (m l : Nat) : Prop := ∃ p, rj_PM p m ∧ rj_Ch ch m l p ∧ ad (5 * m + l) = nI (rj_gl s q l p).length ∧ ∀ p', rj_PM p' m → rj_le (rj_gl s q l p) (rj_gl s q l p')
theorem rj_TB_congr {ad' ch' : Nat → Int32} {m l : Nat} (hm : m < 32) (hl : l < 5) (hM : ∀ x, x ≤ 5 * m + l → ad' x = ad x ∧ ch' x = ch x) (h : rj_TB s q ad ch m l) : rj_TB s q ad' ch' m l := by
  obtain ⟨p, h1, h2, h3, h4⟩ := h
  refine ⟨p, h1, rj_Ch_congr p m l hm hl h1 (fun x hx => (hM x hx).2) h2, ?_, h4⟩
  rw [(hM _ (Nat.le_refl _)).1]
  exact h3
/-- after the reads below J were considered -/
def rj_FI (s q : Nat → Nat) (ad ch : Nat → Int32) (m l J : Nat) : Prop :=
  ((∀ j, j < J → ¬ m.testBit j = true) ∧ ch (5 * m + l) = -1 ∧ ad (5 * m + l) = 0) ∨
  ∃ j0 p0, m.testBit j0 = true ∧ rj_PM p0 (rj_clr m j0) ∧ rj_Ch ch (rj_clr m j0) j0 p0 ∧ ch (5 * m + l) = nI j0 ∧ ad (5 * m + l) = nI (rj_gl s q l (j0 :: p0)).length ∧
    ∀ j, j < J → m.testBit j = true → ∀ p', rj_PM p' (rj_clr m j) → rj_le (rj_gl s q l (j0 :: p0)) (rj_gl s q l (j :: p'))
theorem rj_FI_skip {m l J : Nat} (hJ : ¬ m.testBit J = true) (h : rj_FI s q ad ch m l J) : rj_FI s q ad ch m l (J + 1) := by
  have hx : ∀ j, j < J + 1 → m.testBit j = true → j < J := by
    intro j hj hb
    have : j ≠ J := fun e => hJ (e ▸ hb)
    omega
  rcases h with ⟨h1, h2, h3⟩ | ⟨j0, p0, h1, h2, h3, h4, h5, h6⟩
  · exact Or.inl ⟨fun j hj hb => h1 j (hx j hj hb) hb, h2, h3⟩
  · exact Or.inr ⟨j0, p0, h1, h2, h3, h4, h5, fun j hj hb => h6 j (hx j hj hb) hb⟩
theorem rj_FI_end {m l : Nat} (hm : m < 32) (h : rj_FI s q ad ch m l 5) : rj_TB s q ad ch m l := by
  rcases h with ⟨h1, h2, h3⟩ | ⟨j0, p0, h1, h2, h3, h4, h5, h6⟩
  · have h0 : m = 0 := rj_mask0 hm fun i hi => h1 i (rj_bit5 hm hi) hi
    subst h0
    refine ⟨[], rj_PM_nil, h2, h3, fun p' hp' => ?_⟩
    rw [rj_PM_z hp']
    exact rj_le_refl _
  · refine ⟨j0 :: p0, rj_PM_cons hm h1 h2, ⟨h4, h3⟩, h5, fun p' hp' => ?_⟩
    cases p' with
    | nil =>
      have := rj_PM_0 hm hp'
      rw [this] at h1
      exact absurd h1 (rj_0bit _)
    | cons j p' =>
      obtain ⟨hj, hp''⟩ := rj_PM_un hm hp'
      exact h6 j (rj_bit5 hm hj) hj p' hp''
theorem rj_FI_new {m l j : Nat} {p : List Nat} (hm : m < 32) (hj : m.testBit j = true) (hp : rj_PM p (rj_clr m j)) (hc : rj_Ch ch (rj_clr m j) j p) (hmin : ∀ p', rj_PM p' (rj_clr m j) → rj_le (rj_gl s q j p) (rj_gl s q j p'))
    (hb : ∀ k, k < j → m.testBit k = true → ∀ p', rj_PM p' (rj_clr m k) → rj_le (rj_gl s q l (j :: p)) (rj_gl s q l (k :: p'))) :
    rj_FI s q (upd ad (5 * m + l) (nI (rj_gl s q l (j :: p)).length)) (upd ch (5 * m + l) (nI j)) m l (j + 1) := by
  have h5 := rj_bit5 hm hj
  have hlt := rj_clr_lt hm hj
  refine Or.inr ⟨j, p, hj, hp, rj_Ch_congr p _ _ (rj_clr32 hm h5) h5 hp (fun x hx => pk_un (by omega)) hc, pk_us, pk_us, fun k hk hbk p' hp' => ?_⟩
  by_cases e : k = j
  · subst e
    exact rj_le_app _ (hmin p' hp')
  · exact hb k (by omega) hbk p' hp'
theorem rj_FI_keep {m l j j0 : Nat} {p p0 : List Nat} (hmin : ∀ p', rj_PM p' (rj_clr m j) → rj_le (rj_gl s q j p) (rj_gl s q j p')) (h1 : m.testBit j0 = true) (h2 : rj_PM p0 (rj_clr m j0)) (h3 : rj_Ch ch (rj_clr m j0) j0 p0) (h4 : ch (5 * m + l) = nI j0) (h5 : ad (5 * m + l) = nI (rj_gl s q l (j0 :: p0)).length)
    (h6 : ∀ k, k < j → m.testBit k = true → ∀ p', rj_PM p' (rj_clr m k) → rj_le (rj_gl s q l (j0 :: p0)) (rj_gl s q l (k :: p'))) (hle : rj_le (rj_gl s q l (j0 :: p0)) (rj_gl s q l (j :: p))) : rj_FI s q ad ch m l (j + 1) := by
  refine Or.inr ⟨j0, p0, h1, h2, h3, h4, h5, fun k hk hbk p' hp' => ?_⟩
  by_cases e : k = j
  · subst e
    exact rj_le_trans hle (rj_le_app _ (hmin p' hp'))
  · exact h6 k (by omega) hbk p' hp'
theorem rj_gl30 (hG : rj_Gd c s q) {m l : Nat} {p : List Nat} (hm : m < 32) (hp : rj_PM p m) : (rj_gl s q l p).length ≤ 30 := by
  have h1 := rj_PM_len _ hm hp
  have h2 := (rj_cnt_tab m hm).1
  have h3 := rj_gl_len hG p l
  omega
theorem rj_lesser (hG : rj_Gd c s q) {K : Nat} (hK : K < 32) (hLa : rj_La s q K la 25) {m l j j0 : Nat} {p p0 : List Nat} (hm : m < 32) (hmK : ∀ i, m.testBit i = true → K.testBit i = true) (hl : K.testBit l = true) (hml : ¬ m.testBit l = true)
    (hp : rj_PM (j :: p) m) (hc : rj_Ch ch (rj_clr m j) j p) (hp0 : rj_PM (j0 :: p0) m) (hc0 : rj_Ch ch (rj_clr m j0) j0 p0) (hch : ch (5 * m + l) = nI j0) (hlen : (rj_gl s q l (j :: p)).length = (rj_gl s q l (j0 :: p0)).length) {post : Int32 → SX → Prop}
    (h1 : rj_LL (rj_gl s q l (j :: p)) (rj_gl s q l (j0 :: p0)) → ∀ on ot, post 1 (nI c, ts, js, rj_f s, rj_f q, tx, bd, la, ad, ch, on, ot, jn)) (h0 : ¬ rj_LL (rj_gl s q l (j :: p)) (rj_gl s q l (j0 :: p0)) → ∀ on ot, post 0 (nI c, ts, js, rj_f s, rj_f q, tx, bd, la, ad, ch, on, ot, jn)) : wpX_lesser post (nI c, ts, js, rj_f s, rj_f q, tx, bd, la, ad, ch, on, ot, jn) (nI m) (nI l) (nI j) := by
  have hl5 := rj_bit5 hK hl
  have h30 := rj_gl30 (l := l) hG hm hp
  refine And.intro ?_ (nm_r (e' := nI j0) ?_ (rj_cw1 hG hK hLa hm hp hmK hl hml hc fun on1 hT1 => rj_cw0 hG hK hLa hm hp0 hmK hl hml hc0 fun ot1 hT2 => Exists.intro ((rj_gl s q l (j :: p)).length + 1) (rj_les (rj_gl_ok hG _ _) (rj_gl_ok hG _ _) hlen (by omega) hT1 hT2 (fun h => h1 h _ _) (fun h => h0 h _ _) _ 0 (by omega) (by omega) fun x hx => absurd hx (Nat.not_lt_zero _))))
  · rw [rj_5]
    exact vp_in_nI (by omega) (by decide)
  · rw [rj_5, nI_clamp (by omega)]
    exact hch
theorem rj_consider (hG : rj_Gd c s q) {K : Nat} (hK : K < 32) (hLa : rj_La s q K la 25) {m l j : Nat} (hm : m < 32) (hmK : ∀ i, m.testBit i = true → K.testBit i = true) (hl : K.testBit l = true) (hml : ¬ m.testBit l = true)
    (hj : m.testBit j = true) (hTB : rj_TB s q ad ch (rj_clr m j) j) (hFI : rj_FI s q ad ch m l j) {post : SX → Prop} (hp : ∀ ad' ch' on ot, (∀ x, x ≠ 5 * m + l → ad' x = ad x ∧ ch' x = ch x) → rj_FI s q ad' ch' m l (j + 1) → post (nI c, ts, js, rj_f s, rj_f q, tx, bd, la, ad', ch', on, ot, jn)) : wpX_consider post (nI c, ts, js, rj_f s, rj_f q, tx, bd, la, ad, ch, on, ot, jn) (nI m) (nI l) (nI j) := by
  have h5 := rj_bit5 hm hj
  have hl5 := rj_bit5 hK hl
  have hcl := rj_clr32 hm h5
  have hlj : l ≠ j := fun e => hml (e ▸ hj)
  obtain ⟨p, pp, pc, pa, pmin⟩ := hTB
  have hpm := rj_PM_cons hm hj pp
  have h30 := rj_gl30 (l := l) hG hm hpm
  obtain ⟨g1, g2⟩ := rj_lap6 hG l j
  have hN := rj_gl_c (s := s) (q := q) l j p
  have hset : ∀ on ot, (∀ k, k < j → m.testBit k = true → ∀ p', rj_PM p' (rj_clr m k) → rj_le (rj_gl s q l (j :: p)) (rj_gl s q l (k :: p'))) → wX_consider_102 post (nI j) (nI (5 * m + l)) (nI (rj_gl s q l (j :: p)).length) 1 (nI c) ts js (rj_f s) (rj_f q) tx bd la ad ch on ot jn := by
    intro on ot hb
    refine br_f (by decide) (And.intro (vp_in_nI (by omega) (by decide)) (nm_r (e' := upd ad (5 * m + l) (nI (rj_gl s q l (j :: p)).length)) ?_ (And.intro (vp_in_nI (by omega) (by decide)) (nm_r (e' := upd ch (5 * m + l) (nI j)) ?_ (hp _ _ _ _ (fun x hx => ⟨pk_un hx, pk_un hx⟩) (rj_FI_new hm hj pp pc pmin hb))))))
    · rw [nI_clamp (by omega), rj_vb8 (by omega)]
    · rw [nI_clamp (by omega), rj_vb8 (by omega)]
  refine nm_r (rj_5 m l) (nm_r (rj_clrT m hm j h5) (And.intro (vp_in_nI h5 (by decide)) (And.intro ?_ (And.intro ?_ (nm_r (e' := nI (rj_gl s q l (j :: p)).length) ?_ (And.intro (vp_in_nI (by omega) (by decide)) ?_))))))
  · rw [rj_5]
    exact vp_in_nI (by omega) (by decide)
  · rw [rj_5]
    exact vp_in_nI (by omega) (by decide)
  · rw [rj_fa s (by omega), rj_5, rj_5, nI_clamp (by omega), nI_clamp (by omega), hLa l j hl5 h5 (by omega) hl (hmK j hj) hlj, pa, pk_sub g1, nI_add, hN]
  · rw [nI_clamp (by omega)]
    rcases hFI with ⟨f1, f2, f3⟩ | ⟨j0, p0, f1, f2, f3, f4, f5, f6⟩
    · rw [f2]
      exact br_t (by decide) (br_f (by decide) (hset _ _ fun k hk hb => absurd hb (f1 k hk)))
    · have hpm0 := rj_PM_cons hm f1 f2
      have h30' := rj_gl30 (l := l) hG hm hpm0
      have hj05 := rj_bit5 hm f1
      rw [f4, f5]
      refine br_f (nI_pos (by omega)) (And.intro (vp_in_nI (by omega) (by decide)) (pk_le (rj_gl s q l (j0 :: p0)).length (rj_gl s q l (j :: p)).length (fun hle => ?_) (fun hlt => ?_)))
      · refine br_t rfl (And.intro (vp_in_nI (by omega) (by decide)) ?_)
        rw [nI_clamp (by omega), f5]
        refine pk_eq (rj_gl s q l (j :: p)).length (rj_gl s q l (j0 :: p0)).length (fun he => ?_) (fun hne => br_t rfl (hp ad ch _ _ (fun _ _ => ⟨rfl, rfl⟩) (rj_FI_keep pmin f1 f2 f3 f4 f5 f6 (rj_le_sl (Or.inl (by omega))))))
        refine rj_lesser hG hK hLa hm hmK hl hml hpm pc hpm0 f3 f4 he (fun hL on ot => ?_) (fun hL on ot => br_t rfl (hp ad ch _ _ (fun _ _ => ⟨rfl, rfl⟩) (rj_FI_keep pmin f1 f2 f3 f4 f5 f6 ?_)))
        · exact hset _ _ fun k hk hb p' hp' => rj_le_trans (rj_le_sl (Or.inr ⟨he, hL⟩)) (f6 k hk hb p' hp')
        · rintro (h | ⟨_, h⟩)
          · omega
          · exact hL h
      · exact br_f (by decide) (hset _ _ fun k hk hb p' hp' => rj_le_trans (rj_le_sl (Or.inl hlt)) (f6 k hk hb p' hp'))
/-- all entries of the masks below M -/
def rj_TA (s q : Nat → Nat) (K : Nat) (ad ch : Nat → Int32) (M : Nat) : Prop := ∀ m l, m < M → m < 32 → (∀ i, m.testBit i = true → K.testBit i = true) → K.testBit l = true → ¬ m.testBit l = true → rj_TB s q ad ch m l
theorem rj_TA_congr {K M : Nat} (hK : K < 32) {ad' ch' : Nat → Int32} (hM : ∀ x, x < 5 * M → ad' x = ad x ∧ ch' x = ch x) (h : rj_TA s q K ad ch M) : rj_TA s q K ad' ch' M := by
  intro m l h1 h2 h3 h4 h5
  have hl := rj_bit5 hK h4
  exact rj_TB_congr h2 hl (fun x hx => hM x (by omega)) (h m l h1 h2 h3 h4 h5)
theorem rj_fi45 (hG : rj_Gd c s q) {K : Nat} (hK : K < 32) (hLa : rj_La s q K la 25) {m l : Nat} (hm : m < 32) (hmK : ∀ i, m.testBit i = true → K.testBit i = true) (hl : K.testBit l = true) (hml : ¬ m.testBit l = true) {post : SX → Prop}
    {J : Int32 → Int32 → Int32 → Int32 → (Nat → Int32) → (Nat → Int32) → (Nat → Int32) → (Nat → Int32) → (Nat → Int32) → (Nat → Int32) → (Nat → Int32) → (Nat → Int32) → (Nat → Int32) → (Nat → Int32) → Prop} :
    ∀ (n j : Nat) (ad ch on ot : Nat → Int32), j ≤ 5 → 5 < n + j → rj_TA s q K ad ch m → rj_FI s q ad ch m l j → (∀ ad' ch' on ot, (∀ x, x ≠ 5 * m + l → ad' x = ad x ∧ ch' x = ch x) → rj_TB s q ad' ch' m l → J (nI (l + 1)) (nI c) ts js (rj_f s) (rj_f q) tx bd la ad' ch' on ot jn) → wX_fill_45 post J (nI m) (nI K) (nI l) n (nI j) (nI c) ts js (rj_f s) (rj_f q) tx bd la ad ch on ot jn := by
  intro n
  induction n with
  | zero => intro j ad ch on ot a b; omega
  | succ n ih =>
    intro j ad ch on ot hj hn hTA hFI hJ
    by_cases hj5 : j = 5
    · subst hj5
      exact br_t (nI_le (a := 5) (b := 5) (by omega) (by omega)) (nm_r (nI_1 _) (hJ ad ch on ot (fun _ _ => ⟨rfl, rfl⟩) (rj_FI_end hm hFI)))
    · refine br_f (nI_ge (b := 5) (by omega) (by decide)) ?_
      by_cases hb : m.testBit j = false
      · exact br_t ((rj_bitT m hm j (by omega)).mpr hb) (nm_r (nI_1 _) (ih (j + 1) ad ch on ot (by omega) (by omega) hTA (rj_FI_skip (by rw [hb]; exact Bool.noConfusion) hFI) hJ))
      · have hb1 := rj_tb hb
        have hlt := rj_clr_lt hm hb1
        refine br_f (fun h => hb ((rj_bitT m hm j (by omega)).mp h)) (rj_consider hG hK hLa hm hmK hl hml hb1 (hTA _ j hlt (rj_clr32 hm (by omega)) (fun i hi => hmK i ((rj_clr_bit hm (by omega)).mp hi).1) (hmK j hb1) (fun h => ((rj_clr_bit hm (by omega)).mp h).2 rfl)) hFI fun ad' ch' on' ot' hfr hFI' => nm_r (nI_1 _) (ih (j + 1) ad' ch' on' ot' (by omega) (by omega) (rj_TA_congr hK (fun x hx => hfr x (by omega)) hTA) hFI' fun ad2 ch2 on2 ot2 hfr2 hTB2 => hJ ad2 ch2 on2 ot2 (fun x hx => ⟨(hfr2 x hx).1.trans (hfr x hx).1, (hfr2 x hx).2.trans (hfr x hx).2⟩) hTB2))
theorem rj_fi2 (hG : rj_Gd c s q) {K : Nat} (hK : K < 32) (hLa : rj_La s q K la 25) {m : Nat} (hm : m < 32) (hmK : ∀ i, m.testBit i = true → K.testBit i = true) {post : SX → Prop} (hp : ∀ ad ch on ot, rj_TA s q K ad ch (m + 1) → post (nI c, ts, js, rj_f s, rj_f q, tx, bd, la, ad, ch, on, ot, jn)) :
    ∀ (n l : Nat) (ad ch on ot : Nat → Int32), l ≤ 5 → 5 < n + l → rj_TA s q K ad ch m → (∀ k, k < l → K.testBit k = true → ¬ m.testBit k = true → rj_TB s q ad ch m k) → wX_fill_2 post (nI m) (nI K) n (nI l) (nI c) ts js (rj_f s) (rj_f q) tx bd la ad ch on ot jn := by
  intro n
  induction n with
  | zero => intro l ad ch on ot a b; omega
  | succ n ih =>
    intro l ad ch on ot hl hn hTA hrow
    by_cases hl5 : l = 5
    · subst hl5
      refine br_t (nI_le (a := 5) (b := 5) (by omega) (by omega)) (hp ad ch on ot fun m' l' h1 h2 h3 h4 h5 => ?_)
      by_cases e : m' = m
      · subst e
        exact hrow l' (rj_bit5 hK h4) h4 h5
      · exact hTA m' l' (by omega) h2 h3 h4 h5
    · have hTA1 : rj_TA s q K (upd ad (5 * m + l) 0) (upd ch (5 * m + l) (-1)) m := rj_TA_congr hK (fun x hx => ⟨pk_un (by omega), pk_un (by omega)⟩) hTA
      have hrow1 : ∀ k, k < l → K.testBit k = true → ¬ m.testBit k = true → rj_TB s q (upd ad (5 * m + l) 0) (upd ch (5 * m + l) (-1)) m k := fun k hk h1 h2 => rj_TB_congr hm (by omega) (fun x hx => ⟨pk_un (by omega), pk_un (by omega)⟩) (hrow k hk h1 h2)
      refine br_f (nI_ge (b := 5) (by omega) (by decide)) (nm_r (rj_5 m l) (And.intro (vp_in_nI (by omega) (by decide)) (nm_r (e' := upd ad (5 * m + l) 0) ?_ (And.intro (vp_in_nI (by omega) (by decide)) (nm_r (e' := upd ch (5 * m + l) (-1)) ?_ ?_)))))
      · rw [nI_clamp (by omega), rj_vb0]
      · rw [nI_clamp (by omega), rj_vbm]
      · by_cases hb : K.testBit l = true ∧ m.testBit l = false
        · have hml : ¬ m.testBit l = true := by rw [hb.2]; exact Bool.noConfusion
          refine br_f (fun h => (rj_difT m hm K hK l (by omega)).mp h hb) (Exists.intro 6 (rj_fi45 hG hK hLa hm hmK hb.1 hml 6 0 _ _ on ot (by omega) (by omega) hTA1 (Or.inl ⟨fun j hj => absurd hj (Nat.not_lt_zero _), pk_us, pk_us⟩) fun ad' ch' on' ot' hfr hTB => ih (l + 1) ad' ch' on' ot' (by omega) (by omega) (rj_TA_congr hK (fun x hx => hfr x (by omega)) hTA1) fun k hk h1 h2 => ?_))
          by_cases e : k = l
          · subst e; exact hTB
          · exact rj_TB_congr hm (by omega) (fun x hx => hfr x (by omega)) (hrow1 k (by omega) h1 h2)
        · refine br_t ((rj_difT m hm K hK l (by omega)).mpr hb) (nm_r (nI_1 _) (ih (l + 1) _ _ on ot (by omega) (by omega) hTA1 fun k hk h1 h2 => ?_))
          by_cases e : k = l
          · subst e; exact absurd ⟨h1, rj_fb h2⟩ hb
          · exact hrow1 k (by omega) h1 h2
theorem rj_fill (hG : rj_Gd c s q) {K : Nat} (hK : K < 32) (hLa : rj_La s q K la 25) {m : Nat} (hm : m < 32) (hmK : ∀ i, m.testBit i = true → K.testBit i = true) (hTA : rj_TA s q K ad ch m) {post : SX → Prop} (hp : ∀ ad ch on ot, rj_TA s q K ad ch (m + 1) → post (nI c, ts, js, rj_f s, rj_f q, tx, bd, la, ad, ch, on, ot, jn)) : wpX_fill post (nI c, ts, js, rj_f s, rj_f q, tx, bd, la, ad, ch, on, ot, jn) (nI m) (nI K) :=
  Exists.intro 6 (rj_fi2 hG hK hLa hm hmK hp 6 0 ad ch on ot (by omega) (by omega) hTA fun k hk => absurd hk (Nat.not_lt_zero _))
end
end
section
/-! the component: the read to begin with, and the whole join -/
section
variable {c : Nat} {s q : Nat → Nat} {ts js : Int32} {tx bd la ad ch on ot jn : Nat → Int32}
theorem rj_wlen (s q : Nat → Nat) (j : Nat) (p : List Nat) : (rj_R s q j ++ rj_gl s q j p).length = s j + (rj_gl s q j p).length := by rw [List.length_append, rj_R_len]
theorem rj_w30 (hG : rj_Gd c s q) {K j : Nat} {p : List Nat} (hK : K < 32) (hj : K.testBit j = true) (hp : rj_PM p (rj_clr K j)) : (rj_R s q j ++ rj_gl s q j p).length ≤ 30 := by
  have h5 := rj_bit5 hK hj
  have h1 := rj_PM_len _ (rj_clr32 hK h5) hp
  have h2 := (rj_cnt_tab K hK).1
  have h3 := rj_clr_cnt hK hj
  have h4 := rj_gl_len hG p j
  have h6 := hG.2.1 j
  rw [rj_wlen]
  omega
theorem rj_wok (hG : rj_Gd c s q) (j : Nat) (p : List Nat) : rj_ok (rj_R s q j ++ rj_gl s q j p) := rj_ok_app (rj_R_ok hG j) (rj_gl_ok hG p j)
theorem rj_beginsLesser (hG : rj_Gd c s q) {K : Nat} (hK : K < 32) (hLa : rj_La s q K la 25) {j j0 : Nat} {p p0 : List Nat} (hj : K.testBit j = true) (hp : rj_PM p (rj_clr K j)) (hc : rj_Ch ch (rj_clr K j) j p)
    (hj0 : K.testBit j0 = true) (hp0 : rj_PM p0 (rj_clr K j0)) (hc0 : rj_Ch ch (rj_clr K j0) j0 p0) (hlen : (rj_R s q j ++ rj_gl s q j p).length = (rj_R s q j0 ++ rj_gl s q j0 p0).length) {post : Int32 → SX → Prop}
    (h1 : rj_LL (rj_R s q j ++ rj_gl s q j p) (rj_R s q j0 ++ rj_gl s q j0 p0) → ∀ on ot, post 1 (nI c, ts, js, rj_f s, rj_f q, tx, bd, la, ad, ch, on, ot, jn)) (h0 : ¬ rj_LL (rj_R s q j ++ rj_gl s q j p) (rj_R s q j0 ++ rj_gl s q j0 p0) → ∀ on ot, post 0 (nI c, ts, js, rj_f s, rj_f q, tx, bd, la, ad, ch, on, ot, jn)) : wpX_beginsLesser post (nI c, ts, js, rj_f s, rj_f q, tx, bd, la, ad, ch, on, ot, jn) (nI K) (nI j) (nI j0) := by
  have h30 := rj_w30 hG hK hj hp
  unfold wpX_beginsLesser
  exact rj_wh1 hG hK hLa hj hp hc fun on1 hT1 => rj_wh0 hG hK hLa hj0 hp0 hc0 fun ot1 hT2 => Exists.intro ((rj_R s q j ++ rj_gl s q j p).length + 1) (rj_bles (rj_wok hG _ _) (rj_wok hG _ _) hlen (by omega) hT1 hT2 (fun h => h1 h _ _) (fun h => h0 h _ _) _ 0 (by omega) (by omega) fun x hx => absurd hx (Nat.not_lt_zero _))
/-- after the reads below J were looked at -/
def rj_FR (s q : Nat → Nat) (K : Nat) (ch : Nat → Int32) (J : Nat) (b e : Int32) : Prop :=
  ((∀ j, j < J → ¬ K.testBit j = true) ∧ b = -1) ∨
  ∃ j0 p0, K.testBit j0 = true ∧ rj_PM p0 (rj_clr K j0) ∧ rj_Ch ch (rj_clr K j0) j0 p0 ∧ b = nI j0 ∧ e = nI (rj_R s q j0 ++ rj_gl s q j0 p0).length ∧
    ∀ j, j < J → K.testBit j = true → ∀ p', rj_PM p' (rj_clr K j) → rj_le (rj_R s q j0 ++ rj_gl s q j0 p0) (rj_R s q j ++ rj_gl s q j p')
theorem rj_FR_skip {K J : Nat} {b e : Int32} (hJ : ¬ K.testBit J = true) (h : rj_FR s q K ch J b e) : rj_FR s q K ch (J + 1) b e := by
  have hx : ∀ j, j < J + 1 → K.testBit j = true → j < J := by
    intro j hj hb
    have : j ≠ J := fun e => hJ (e ▸ hb)
    omega
  rcases h with ⟨h1, h2⟩ | ⟨j0, p0, h1, h2, h3, h4, h5, h6⟩
  · exact Or.inl ⟨fun j hj hb => h1 j (hx j hj hb) hb, h2⟩
  · exact Or.inr ⟨j0, p0, h1, h2, h3, h4, h5, fun j hj hb => h6 j (hx j hj hb) hb⟩
theorem rj_FR_new {K j : Nat} {p : List Nat} (hj : K.testBit j = true) (hp : rj_PM p (rj_clr K j)) (hc : rj_Ch ch (rj_clr K j) j p) (hmin : ∀ p', rj_PM p' (rj_clr K j) → rj_le (rj_gl s q j p) (rj_gl s q j p'))
    (hb : ∀ k, k < j → K.testBit k = true → ∀ p', rj_PM p' (rj_clr K k) → rj_le (rj_R s q j ++ rj_gl s q j p) (rj_R s q k ++ rj_gl s q k p')) : rj_FR s q K ch (j + 1) (nI j) (nI (rj_R s q j ++ rj_gl s q j p).length) := by
  refine Or.inr ⟨j, p, hj, hp, hc, rfl, rfl, fun k hk hbk p' hp' => ?_⟩
  by_cases e : k = j
  · subst e
    exact rj_le_app _ (hmin p' hp')
  · exact hb k (by omega) hbk p' hp'
theorem rj_FR_keep {K j j0 : Nat} {p p0 : List Nat} {b e : Int32} (hmin : ∀ p', rj_PM p' (rj_clr K j) → rj_le (rj_gl s q j p) (rj_gl s q j p')) (h1 : K.testBit j0 = true) (h2 : rj_PM p0 (rj_clr K j0)) (h3 : rj_Ch ch (rj_clr K j0) j0 p0) (h4 : b = nI j0) (h5 : e = nI (rj_R s q j0 ++ rj_gl s q j0 p0).length)
    (h6 : ∀ k, k < j → K.testBit k = true → ∀ p', rj_PM p' (rj_clr K k) → rj_le (rj_R s q j0 ++ rj_gl s q j0 p0) (rj_R s q k ++ rj_gl s q k p')) (hle : rj_le (rj_R s q j0 ++ rj_gl s q j0 p0) (rj_R s q j ++ rj_gl s q j p)) : rj_FR s q K ch (j + 1) b e := by
  refine Or.inr ⟨j0, p0, h1, h2, h3, h4, h5, fun k hk hbk p' hp' => ?_⟩
  by_cases e : k = j
  · subst e
    exact rj_le_trans hle (rj_le_app _ (hmin p' hp'))
  · exact h6 k (by omega) hbk p' hp'
theorem rj_fr7 (hG : rj_Gd c s q) {K : Nat} (hK : K < 32) (hLa : rj_La s q K la 25) (hTA : rj_TA s q K ad ch 32) {post : Int32 → SX → Prop} (hp : ∀ b e on ot, rj_FR s q K ch 5 b e → post b (nI c, ts, js, rj_f s, rj_f q, tx, bd, la, ad, ch, on, ot, jn)) :
    ∀ (n j : Nat) (b e : Int32) (on ot : Nat → Int32), j ≤ 5 → 5 < n + j → rj_FR s q K ch j b e → wX_firstRead_7 post (nI K) n b e (nI j) (nI c) ts js (rj_f s) (rj_f q) tx bd la ad ch on ot jn := by
  intro n
  induction n with
  | zero => intro j b e on ot h1 h2; omega
  | succ n ih =>
    intro j b e on ot hj hn hFR
    by_cases hj5 : j = 5
    · subst hj5
      exact br_t (nI_le (a := 5) (b := 5) (by omega) (by omega)) (hp b e on ot hFR)
    · refine br_f (nI_ge (b := 5) (by omega) (by decide)) ?_
      by_cases hb : K.testBit j = false
      · exact br_t ((rj_bitT K hK j (by omega)).mpr hb) (nm_r (nI_1 _) (ih (j + 1) b e on ot (by omega) (by omega) (rj_FR_skip (by rw [hb]; exact Bool.noConfusion) hFR)))
      · have hb1 := rj_tb hb
        have h5 : j < 5 := by omega
        have hcl := rj_clr32 hK h5
        obtain ⟨p, pp, pc, pa, pmin⟩ := hTA _ j hcl hcl (fun i hi => ((rj_clr_bit hK h5).mp hi).1) hb1 (fun h => ((rj_clr_bit hK h5).mp h).2 rfl)
        have h30 := rj_w30 hG hK hb1 pp
        have hw := rj_wlen s q j p
        refine br_f (fun h => hb ((rj_bitT K hK j h5).mp h)) (And.intro (vp_in_nI h5 (by decide)) (And.intro ?_ (nm_r (e' := nI (rj_R s q j ++ rj_gl s q j p).length) ?_ ?_)))
        · rw [rj_clrT K hK j h5, rj_5]
          exact vp_in_nI (by omega) (by decide)
        · rw [rj_fa s (by omega), rj_clrT K hK j h5, rj_5, nI_clamp (by omega), pa, nI_add, hw]
        · have hnew : ∀ on ot, (∀ k, k < j → K.testBit k = true → ∀ p', rj_PM p' (rj_clr K k) → rj_le (rj_R s q j ++ rj_gl s q j p) (rj_R s q k ++ rj_gl s q k p')) → wX_firstRead_77 post (wX_firstRead_7 post (nI K) n) (nI K) b e (nI j) (nI (rj_R s q j ++ rj_gl s q j p).length) (nI c) ts js (rj_f s) (rj_f q) tx bd la ad ch on ot jn := by
            intro on ot hle
            exact br_f (by decide) (nm_r (nI_1 _) (ih (j + 1) _ _ on ot (by omega) (by omega) (rj_FR_new hb1 pp pc pmin hle)))
          rcases hFR with ⟨f1, f2⟩ | ⟨j0, p0, f1, f2, f3, f4, f5, f6⟩
          · subst f2
            exact br_t (by decide) (hnew on ot fun k hk hbk => absurd hbk (f1 k hk))
          · have hkeep : ∀ on ot, rj_le (rj_R s q j0 ++ rj_gl s q j0 p0) (rj_R s q j ++ rj_gl s q j p) → wX_firstRead_81 post (wX_firstRead_7 post (nI K) n) (nI K) b e (nI j) (nI (rj_R s q j ++ rj_gl s q j p).length) (nI c) ts js (rj_f s) (rj_f q) tx bd la ad ch on ot jn := by
              intro on ot hle
              exact br_t rfl (nm_r (nI_1 _) (ih (j + 1) _ _ on ot (by omega) (by omega) (rj_FR_keep pmin f1 f2 f3 f4 f5 f6 hle)))
            have hj05 := rj_bit5 hK f1
            have h30' := rj_w30 hG hK f1 f2
            subst f4 f5
            refine br_f (nI_pos (by omega)) (pk_lt (rj_R s q j ++ rj_gl s q j p).length (rj_R s q j0 ++ rj_gl s q j0 p0).length (fun hlt => hnew on ot fun k hk hbk p' hp' => rj_le_trans (rj_le_sl (Or.inl hlt)) (f6 k hk hbk p' hp')) (fun hge => pk_eq (rj_R s q j ++ rj_gl s q j p).length (rj_R s q j0 ++ rj_gl s q j0 p0).length (fun he => ?_) (fun hne => hkeep on ot (rj_le_sl (Or.inl (by omega))))))
            refine rj_beginsLesser hG hK hLa hb1 pp pc f1 f2 f3 he (fun hL on ot => br_f (by decide) (hnew on ot fun k hk hbk p' hp' => rj_le_trans (rj_le_sl (Or.inr ⟨he, hL⟩)) (f6 k hk hbk p' hp'))) (fun hL on ot => br_t rfl (hkeep on ot ?_))
            rintro (h | ⟨_, h⟩)
            · omega
            · exact hL h
theorem rj_firstRead (hG : rj_Gd c s q) {K : Nat} (hK : K < 32) (h0 : K ≠ 0) (hLa : rj_La s q K la 25) (hTA : rj_TA s q K ad ch 32) {post : Int32 → SX → Prop}
    (hp : ∀ j p, K.testBit j = true → rj_PM p (rj_clr K j) → rj_Ch ch (rj_clr K j) j p → (∀ i, K.testBit i = true → ∀ p', rj_PM p' (rj_clr K i) → rj_le (rj_R s q j ++ rj_gl s q j p) (rj_R s q i ++ rj_gl s q i p')) → ∀ on ot, post (nI j) (nI c, ts, js, rj_f s, rj_f q, tx, bd, la, ad, ch, on, ot, jn)) : wpX_firstRead post (nI c, ts, js, rj_f s, rj_f q, tx, bd, la, ad, ch, on, ot, jn) (nI K) := by
  refine Exists.intro 6 (rj_fr7 hG hK hLa hTA (fun b e on ot h => ?_) 6 0 (-1) 0 on ot (by omega) (by omega) (Or.inl ⟨fun j hj => absurd hj (Nat.not_lt_zero _), rfl⟩))
  rcases h with ⟨h1, h2⟩ | ⟨j, p, h1, h2, h3, h4, h5, h6⟩
  · exact absurd (rj_mask0 hK fun i hi => h1 i (rj_bit5 hK hi) hi) h0
  · subst h4
    exact hp j p h1 h2 h3 (fun i hi => h6 i (rj_bit5 hK hi) hi) on ot
theorem rj_so69 {post : SX → Prop} {w : List Nat} (hw : rj_ok w) (h30 : w.length ≤ 30) (hT : rj_Tx w on) (hp : ∀ jn, rj_Tx w jn → post (nI c, ts, nI w.length, rj_f s, rj_f q, tx, bd, la, ad, ch, on, ot, jn)) : ∀ (n k : Nat) (jn : Nat → Int32), k ≤ w.length → w.length < n + k → (∀ x, x < k → jn x = nI (rj_g w x)) → wX_solve_69 post (nI c) ts (nI w.length) n (nI k) (rj_f s) (rj_f q) tx bd la ad ch on ot jn := by
  intro n
  induction n with
  | zero => intro k jn a b; omega
  | succ n ih =>
    intro k jn hk hn hJ
    by_cases hkw : k = w.length
    · refine br_t (nI_le (by omega) (by omega)) (hp jn ?_)
      subst hkw
      exact hJ
    · have hwk := hw k (by omega)
      refine br_f (nI_ge (by omega) (by omega)) (And.intro (vp_in_nI (by omega) (by decide)) (And.intro (vp_in_nI (by omega) (by decide)) (nm_r (e' := upd jn k (nI (rj_g w k))) ?_ (nm_r (nI_1 _) (ih (k + 1) _ (by omega) (by omega) fun x hx => ?_)))))
      · rw [nI_clamp (by omega), hT k (by omega), rj_vb (by omega)]
      · by_cases e : x = k
        · rw [e, pk_us]
        · rw [pk_un e]; exact hJ x (by omega)
theorem rj_so23 (hG : rj_Gd c s q) {set K : Nat} (hKp : rj_Kp c s q set K) (h0 : K ≠ 0) (hLa : rj_La s q K la 25) {post : SX → Prop} (hp : ∀ w, rj_AN c s q set w → w.length ≤ 30 → ∀ ad ch on ot jn, rj_Tx w jn → post (nI c, ts, nI w.length, rj_f s, rj_f q, tx, bd, la, ad, ch, on, ot, jn)) :
    ∀ (n m : Nat) (ad ch on ot : Nat → Int32), m ≤ 32 → 32 < n + m → rj_TA s q K ad ch m → wX_solve_23 post (nI K) n (nI m) (nI c) ts js (rj_f s) (rj_f q) tx bd la ad ch on ot jn := by
  have hK := hKp.1
  intro n
  induction n with
  | zero => intro m ad ch on ot a b; omega
  | succ n ih =>
    intro m ad ch on ot hm hn hTA
    by_cases hm32 : m = 32
    · subst hm32
      refine br_t (nI_le (a := 32) (b := 32) (by omega) (by omega)) (rj_firstRead hG hK h0 hLa hTA fun j p hj hpp hc hmin on1 ot1 => rj_wh1 hG hK hLa hj hpp hc fun on2 hT => Exists.intro ((rj_R s q j ++ rj_gl s q j p).length + 1) (rj_so69 (rj_wok hG j p) (rj_w30 hG hK hj hpp) hT (fun jn hJ => hp _ (rj_AN_K hG hKp h0 hj hpp hmin) (rj_w30 hG hK hj hpp) _ _ _ _ jn hJ) _ 0 jn (by omega) (by omega) fun x hx => absurd hx (Nat.not_lt_zero _)))
    · refine br_f (nI_ge (b := 32) (by omega) (by decide)) ?_
      by_cases hs : ∀ i, i < 5 → m.testBit i = true → K.testBit i = true
      · exact br_t ((rj_subT m (by omega) K hK).mpr hs) (rj_fill hG hK hLa (by omega) (fun i hi => hs i (rj_bit5 (m := m) (by omega) hi) hi) hTA fun ad' ch' on' ot' hTA' => nm_r (nI_1 _) (ih (m + 1) ad' ch' on' ot' (by omega) (by omega) hTA'))
      · refine br_f (fun h => hs ((rj_subT m (by omega) K hK).mp h)) (nm_r (nI_1 _) (ih (m + 1) ad ch on ot (by omega) (by omega) fun m' l' h1 h2 h3 h4 h5 => ?_))
        by_cases e : m' = m
        · subst e
          exact absurd (fun i _ hi => h3 i hi) hs
        · exact hTA m' l' (by omega) h2 h3 h4 h5
theorem rj_xsolve (hG : rj_Gd c s q) {set : Nat} (hset : set < 32) {post : SX → Prop} (hp : ∀ w, rj_AN c s q set w → w.length ≤ 30 → ∀ ts tx bd la ad ch on ot jn, rj_Tx w jn → post (nI c, ts, nI w.length, rj_f s, rj_f q, tx, bd, la, ad, ch, on, ot, jn)) : wpX_solve post (nI c, ts, js, rj_f s, rj_f q, tx, bd, la, ad, ch, on, ot, jn) (nI set) := by
  unfold wpX_solve
  refine rj_worthKeeping hG hset fun K hKp ts1 tx1 bd1 => ?_
  have hK := hKp.1
  refine pk_eq K 0 (fun e => ?_) (fun h0 => rj_measure hG hK fun ts2 tx2 bd2 la2 hLa => Exists.intro 33 (rj_so23 hG hKp h0 hLa (fun w h1 h2 ad ch on ot jn hT => hp w h1 h2 _ _ _ _ _ _ _ _ _ hT) 33 0 _ _ _ _ (by omega) (by omega) fun m l h => absurd h (Nat.not_lt_zero _)))
  subst e
  exact hp [] (rj_AN_0 hG hKp) (by rw [List.length_nil]; omega) _ _ _ _ _ _ _ _ _ (rj_Tx_nil _)
end
end
section
/-! the reference's small functions -/
section
variable {c : Nat} {s q : Nat → Nat} {ne nr nd jo wd : Nat → Int32}
theorem rj_yno {post : Int32 → Prop} {v : Int32} (h : v < 0 ∨ nI c ≤ v) (hp : post 0) : wpY_is post (nI c, rj_f s, rj_f q, ne, nr, nd, jo, wd) v :=
  br_c (fun _ => hp) fun hn => br_t (h.resolve_left hn) hp
theorem rj_yyes {post : Int32 → Prop} {i : Nat} (hc : c ≤ 5) (hi : i < c) (hp : post 1) : wpY_is post (nI c, rj_f s, rj_f q, ne, nr, nd, jo, wd) (nI i) :=
  br_f (nI_pos (by omega)) (br_f (nI_ge hi (by omega)) hp)
theorem rj_b0 : narrow .boolean (.int 0) = .int 0 := rfl
theorem rj_b1 : narrow .boolean (.int 1) = .int 1 := rfl
theorem rj_same0 {post : Int32 → Prop} {i a j b : Int32} {k : Nat} (hk6 : k ≤ 6) (h0 : post 0) : ∀ n x, x ≤ k → k < n + x → wY_same_6 post i a j b (nI k) (nI c) (rj_f s) (rj_f q) ne nr nd jo wd n 0 (nI x) := by
  intro n
  induction n with
  | zero => intro x a b; omega
  | succ n ih =>
    intro x hx hn
    by_cases e : x = k
    · exact br_t (nI_le (by omega) (by omega)) (And.intro rj_b0 h0)
    · exact br_f (nI_ge (by omega) (by omega)) (br_t rfl (nm_r (nI_1 _) (ih (x + 1) (by omega) (by omega))))
theorem rj_same1 (hG : rj_Gd c s q) {post : Int32 → Prop} {i a j b k : Nat} (hi : i < 5) (hj : j < 5) (ha : a + k ≤ 6) (hb : b + k ≤ 6) (h1 : (∀ x, x < k → q (6 * i + a + x) = q (6 * j + b + x)) → post 1) (h0 : ¬ (∀ x, x < k → q (6 * i + a + x) = q (6 * j + b + x)) → post 0) :
    ∀ n x, x ≤ k → k < n + x → (∀ y, y < x → q (6 * i + a + y) = q (6 * j + b + y)) → wY_same_6 post (nI i) (nI a) (nI j) (nI b) (nI k) (nI c) (rj_f s) (rj_f q) ne nr nd jo wd n 1 (nI x) := by
  intro n
  induction n with
  | zero => intro x a b; omega
  | succ n ih =>
    intro x hx hn he
    by_cases e : x = k
    · subst e
      exact br_t (nI_le (by omega) (by omega)) (And.intro rj_b1 (h1 he))
    · have q1 := hG.2.2 (6 * i + a + x)
      have q2 := hG.2.2 (6 * j + b + x)
      refine br_f (nI_ge (by omega) (by omega)) (br_f (by decide) ?_)
      rw [rj_6l, rj_6l, nI_add, nI_add, rj_fa q (by omega), rj_fa q (by omega), nI_eq (by omega) (by omega)]
      refine And.intro (vp_in_nI (by omega) (by decide)) (And.intro (vp_in_nI (by omega) (by decide)) ⟨fun h => nm_r (nI_1 _) (ih (x + 1) (by omega) (by omega) fun y hy => ?_), fun h => nm_r (nI_1 _) (rj_same0 (by omega) (h0 fun h2 => h (h2 x (by omega))) n (x + 1) (by omega) (by omega))⟩)
      by_cases hyx : y = x
      · rw [hyx]; exact h
      · exact he y (by omega)
theorem rj_same (hG : rj_Gd c s q) {post : Int32 → Prop} {i a j b k : Nat} (hi : i < 5) (hj : j < 5) (ha : a + k ≤ 6) (hb : b + k ≤ 6) (h1 : (∀ x, x < k → q (6 * i + a + x) = q (6 * j + b + x)) → post 1) (h0 : ¬ (∀ x, x < k → q (6 * i + a + x) = q (6 * j + b + x)) → post 0) : wpY_same post (nI c, rj_f s, rj_f q, ne, nr, nd, jo, wd) (nI i) (nI a) (nI j) (nI b) (nI k) :=
  Exists.intro (k + 1) (rj_same1 hG hi hj ha hb h1 h0 (k + 1) 0 (by omega) (by omega) fun y hy => absurd hy (Nat.not_lt_zero _))
theorem rj_OV_R {i j k : Nat} (hi : k ≤ s i) (hj : k ≤ s j) : rj_OV (rj_R s q i) (rj_R s q j) k ↔ ∀ x, x < k → q (6 * i + (s i - k) + x) = q (6 * j + 0 + x) := by
  unfold rj_OV
  rw [rj_R_len, rj_R_len]
  constructor
  · intro ⟨_, _, h⟩ x hx
    have := h x hx
    rw [rj_R_g (by omega), rj_R_g (by omega)] at this
    rw [Nat.add_assoc, this, Nat.add_zero]
  · intro h
    refine ⟨hi, hj, fun x hx => ?_⟩
    rw [rj_R_g (by omega), rj_R_g (by omega), ← Nat.add_assoc, h x hx, Nat.add_zero]
theorem rj_ov49 (hG : rj_Gd c s q) {post : Int32 → Prop} {i j : Nat} (hi : i < 5) (hj : j < 5) (hp : post (nI (rj_lap (rj_R s q i) (rj_R s q j)))) : ∀ k n, k ≤ s i → k ≤ s j → k < n → (∀ k', rj_OV (rj_R s q i) (rj_R s q j) k' → k' ≤ k) → wY_overlap_49 post (nI i) (nI j) (nI c) (rj_f s) (rj_f q) ne nr nd jo wd n (nI k) := by
  have h6i := hG.2.1 i
  have h6j := hG.2.1 j
  intro k
  induction k with
  | zero =>
    intro n h1 h2 hn hm
    obtain ⟨n, rfl⟩ : ∃ m, n = m + 1 := ⟨n - 1, by omega⟩
    rw [rj_lap_eq (rj_OV0 _ _) hm] at hp
    exact br_t (nI_le (a := 0) (b := 0) (by omega) (by omega)) hp
  | succ k ih =>
    intro n h1 h2 hn hm
    obtain ⟨n, rfl⟩ : ∃ m, n = m + 1 := ⟨n - 1, by omega⟩
    refine br_f (nI_nle (by omega) (by omega)) (And.intro (vp_in_nI hi (by decide)) ?_)
    rw [rj_fa s (by omega), pk_sub h1]
    refine rj_same (b := 0) hG hi hj (by omega) (by omega) (fun h => br_f (by decide) ?_) (fun h => br_t rfl (nm_r (pk_m1 k) (ih n (by omega) (by omega) (by omega) fun k' hk' => ?_)))
    · rw [rj_lap_eq ((rj_OV_R h1 h2).mpr h) hm] at hp
      exact hp
    · have h3 := hm k' hk'
      have h4 : k' ≠ k + 1 := fun e => h ((rj_OV_R h1 h2).mp (e ▸ hk'))
      omega
theorem rj_occ_R {i j p : Nat} (h : p + s j ≤ s i) : rj_occ (rj_R s q j) (rj_R s q i) p ↔ ∀ x, x < s j → q (6 * i + p + x) = q (6 * j + 0 + x) := by
  unfold rj_occ
  rw [rj_R_len, rj_R_len]
  constructor
  · intro ⟨_, h2⟩ x hx
    have := h2 x hx
    rw [rj_R_g (by omega), rj_R_g (by omega)] at this
    rw [Nat.add_assoc, this, Nat.add_zero]
  · intro h2
    refine ⟨h, fun x hx => ?_⟩
    rw [rj_R_g (by omega), rj_R_g (by omega), ← Nat.add_assoc, h2 x hx, Nat.add_zero]
theorem rj_co20 (hG : rj_Gd c s q) {post : Int32 → Prop} {i j : Nat} (hi : i < 5) (hj : j < 5) (h1 : rj_inf (rj_R s q j) (rj_R s q i) → post 1) (h0 : ¬ rj_inf (rj_R s q j) (rj_R s q i) → post 0) : ∀ n p, p ≤ s i + 1 → s i + 1 < n + p → (∀ p', p' < p → ¬ rj_occ (rj_R s q j) (rj_R s q i) p') → wY_contains_20 post (nI i) (nI j) (nI c) (rj_f s) (rj_f q) ne nr nd jo wd n (nI p) := by
  have h6i := hG.2.1 i
  have h6j := hG.2.1 j
  intro n
  induction n with
  | zero => intro p a b; omega
  | succ n ih =>
    intro p hp hn hno
    refine And.intro (vp_in_nI hj (by decide)) (And.intro (vp_in_nI hi (by decide)) ?_)
    rw [rj_fa s (by omega), rj_fa s (by omega), nI_add]
    refine pk_lt (s i) (p + s j) (fun hlt => h0 ?_) (fun hge => And.intro (vp_in_nI hj (by decide)) (rj_same (b := 0) hG hi hj (by omega) (by omega) (fun h => br_f (by decide) (h1 ⟨p, (rj_occ_R hge).mpr h⟩)) (fun h => br_t rfl (nm_r (nI_1 _) (ih (p + 1) (by omega) (by omega) fun p' hp' => ?_)))))
    · rintro ⟨p', ho⟩
      have h2 := ho.1
      rw [rj_R_len, rj_R_len] at h2
      exact hno p' (by omega) ho
    · by_cases e : p' = p
      · rw [e]; exact fun ho => h ((rj_occ_R hge).mp ho)
      · exact hno p' (by omega)
/-! ends of a word -/
theorem rj_ew25 (hG : rj_Gd c s q) {post : Int32 → Prop} {U : List Nat} {i k : Nat} (hi : i < 5) (hU : rj_ok U) (h7 : U.length ≤ 7) (hkU : k ≤ U.length) (hks : k ≤ s i) (hT : rj_Tx U wd) (h1 : rj_SP s q U i k → post 1) (h0 : ¬ rj_SP s q U i k → post 0) :
    ∀ n x, x ≤ k → k < n + x → (∀ y, y < x → rj_g U (U.length - k + y) = q (6 * i + y)) → wY_endsWith_25 post (nI U.length) (nI i) (nI k) (nI c) (rj_f s) (rj_f q) ne nr nd jo wd n 1 (nI x) := by
  have h6i := hG.2.1 i
  intro n
  induction n with
  | zero => intro x a b; omega
  | succ n ih =>
    intro x hx hn he
    by_cases e : x = k
    · subst e
      exact br_t (nI_le (by omega) (by omega)) (And.intro rj_b1 (h1 ⟨hkU, hks, he⟩))
    · have q1 := hG.2.2 (6 * i + x)
      have q2 := hU (U.length - k + x) (by omega)
      refine br_f (nI_ge (by omega) (by omega)) (br_f (by decide) ?_)
      rw [pk_sub hkU, nI_add, rj_6l, nI_clamp (by omega), hT _ (by omega), rj_fa q (by omega), nI_eq (by omega) (by omega)]
      refine And.intro (vp_in_nI (by omega) (by decide)) (And.intro (vp_in_nI (by omega) (by decide)) ⟨fun h => nm_r (nI_1 _) (ih (x + 1) (by omega) (by omega) fun y hy => ?_), fun h => nm_r (nI_1 _) ?_⟩)
      · by_cases hyx : y = x
        · rw [hyx]; exact h
        · exact he y (by omega)
      · have hno : post 0 := h0 fun h2 => h (h2.2.2 x (by omega))
        obtain ⟨n, rfl⟩ : ∃ m, n = m + 1 := ⟨n - 1, by omega⟩
        exact br_c (fun _ => And.intro rj_b0 hno) (fun _ => br_t rfl (And.intro rj_b0 hno))
theorem rj_endsWith (hG : rj_Gd c s q) {post : Int32 → Prop} {U : List Nat} {i k : Nat} (hi : i < 5) (hU : rj_ok U) (h7 : U.length ≤ 7) (hk6 : k ≤ 6) (hT : rj_Tx U wd) (h1 : rj_SP s q U i k → post 1) (h0 : ¬ rj_SP s q U i k → post 0) : wpY_endsWith post (nI c, rj_f s, rj_f q, ne, nr, nd, jo, wd) (nI U.length) (nI i) (nI k) := by
  have h6i := hG.2.1 i
  have hz : post 0 → ∃ n, wY_endsWith_25 post (nI U.length) (nI i) (nI k) (nI c) (rj_f s) (rj_f q) ne nr nd jo wd n 0 0 := fun hno => Exists.intro 1 (br_c (fun _ => And.intro rj_b0 hno) (fun _ => br_t rfl (And.intro rj_b0 hno)))
  refine pk_lt U.length k (fun h => hz (h0 fun h2 => ?_)) (fun h => And.intro (vp_in_nI hi (by decide)) ?_)
  · have := h2.1
    omega
  · rw [rj_fa s (by omega)]
    refine pk_lt (s i) k (fun h => hz (h0 fun h2 => ?_)) (fun h3 => Exists.intro (k + 1) (rj_ew25 hG hi hU h7 h h3 hT h1 h0 (k + 1) 0 (by omega) (by omega) fun y hy => absurd hy (Nat.not_lt_zero _)))
    have := h2.2.1
    omega
/-- follow, up to length len and read j -/
def rj_FW (c : Nat) (s q : Nat → Nat) (U : List Nat) (len j fd fu : Nat) : Prop :=
  rj_re c s fd ∧ rj_SP s q U (rj_ei fd) (rj_el fd) ∧ rj_el fd ≤ len ∧ (∀ i, i < c → ∀ k, rj_SP s q U i k → (k < len ∨ (k = len ∧ i < j)) → k ≤ rj_el fd) ∧ fu < 32 ∧
  ∀ i, fu.testBit i = true ↔ (i < c ∧ 0 < s i ∧ rj_SP s q U i (s i) ∧ (s i < len ∨ (s i = len ∧ i < j)))
theorem rj_FW_n {U : List Nat} {len j fd fu : Nat} (h : rj_FW c s q U len j fd fu) (hn : ¬ rj_SP s q U j len) : rj_FW c s q U len (j + 1) fd fu := by
  obtain ⟨h1, h2, h3, h4, h5, h6⟩ := h
  refine ⟨h1, h2, h3, fun i hi k hk hc => h4 i hi k hk ?_, h5, fun i => ?_⟩
  · rcases hc with hc | ⟨rfl, hc⟩
    · exact Or.inl hc
    · refine Or.inr ⟨rfl, ?_⟩
      have : i ≠ j := fun e => hn (e ▸ hk)
      omega
  · rw [h6 i]
    constructor
    · rintro ⟨a, b, d, e⟩
      exact ⟨a, b, d, by omega⟩
    · rintro ⟨a, b, d, e⟩
      refine ⟨a, b, d, ?_⟩
      rcases e with e | ⟨e, f⟩
      · exact Or.inl e
      · refine Or.inr ⟨e, ?_⟩
        have : i ≠ j := fun e2 => hn (by rw [← e, ← e2]; exact d)
        omega
theorem rj_el_c {j len : Nat} (h1 : 1 ≤ len) (h6 : len ≤ 6) : rj_el (6 * j + len) = len ∧ rj_ei (6 * j + len) = j := by
  unfold rj_el rj_ei
  rw [if_neg (by omega)]
  omega
theorem rj_FW_y {U : List Nat} {len j fd fu fu' : Nat} (h1 : 1 ≤ len) (h6 : len ≤ 6) (hj : j < c) (hc : c ≤ 5) (h : rj_FW c s q U len j fd fu) (hy : rj_SP s q U j len) (hf : fu' < 32) (hfu : ∀ i, fu'.testBit i = true ↔ (fu.testBit i = true ∨ (i = j ∧ s j = len))) : rj_FW c s q U len (j + 1) (6 * j + len) fu' := by
  obtain ⟨_, _, g3, g4, g5, g6⟩ := h
  obtain ⟨e1, e2⟩ := rj_el_c (j := j) h1 h6
  refine ⟨⟨by omega, Or.inr ⟨by omega, ?_⟩⟩, ?_, by omega, fun i hi k hk hc2 => by omega, hf, fun i => ?_⟩
  · rw [e1, e2]; exact hy.2.1
  · rw [e1, e2]; exact hy
  · rw [hfu i, g6 i]
    constructor
    · rintro (⟨a, b, d, e⟩ | ⟨rfl, e⟩)
      · exact ⟨a, b, d, by omega⟩
      · exact ⟨hj, by omega, by rw [e]; exact hy, Or.inr ⟨e, by omega⟩⟩
    · rintro ⟨a, b, d, e⟩
      by_cases hij : i = j ∧ s j = len
      · exact Or.inr hij
      · refine Or.inl ⟨a, b, d, ?_⟩
        rcases e with e | ⟨e, f⟩
        · exact Or.inl e
        · refine Or.inr ⟨e, ?_⟩
          have : i ≠ j := fun e2 => hij ⟨e2, by rw [← e2]; exact e⟩
          omega
theorem rj_FW_e {U : List Nat} {len fd fu : Nat} (h : rj_FW c s q U len c fd fu) : rj_FW c s q U (len + 1) 0 fd fu := by
  obtain ⟨h1, h2, h3, h4, h5, h6⟩ := h
  refine ⟨h1, h2, by omega, fun i hi k hk hc => h4 i hi k hk (by omega), h5, fun i => ?_⟩
  rw [h6 i]
  constructor
  · rintro ⟨a, b, d, e⟩
    exact ⟨a, b, d, by omega⟩
  · rintro ⟨a, b, d, e⟩
    exact ⟨a, b, d, by omega⟩
theorem rj_fo94 (hG : rj_Gd c s q) {post : SY → Prop} {J : Int32 → Int32 → Int32 → Prop} {U : List Nat} {e v : Int32} {l len : Nat} (hU : rj_ok U) (h7 : U.length ≤ 7) (hl : U.length = l + 1) (hT : rj_Tx U wd) (hl1 : 1 ≤ len) (hl6 : len ≤ 6)
    (hJ : ∀ fd fu, rj_FW c s q U (len + 1) 0 fd fu → J (nI fd) (nI fu) (nI (len + 1))) : ∀ n j fd fu, j ≤ c → c < n + j → rj_FW c s q U len j fd fu → wY_follow_94 post J e v (nI l) (nI len) (nI c) (rj_f s) (rj_f q) ne nr nd jo wd n (nI fd) (nI fu) (nI j) := by
  have hc := hG.1
  intro n
  induction n with
  | zero => intro j fd fu a b; omega
  | succ n ih =>
    intro j fd fu hj hn hW
    by_cases hjc : j = c
    · subst hjc
      exact br_t (nI_le (by omega) (by omega)) (nm_r (nI_1 _) (hJ fd fu (rj_FW_e hW)))
    · have h6j := hG.2.1 j
      refine br_f (nI_ge (by omega) (by omega)) ?_
      rw [nI_1 l, ← hl]
      refine rj_endsWith hG (by omega) hU h7 hl6 hT (fun hy => br_f (by decide) (nm_r (e' := nI (6 * j + len)) ?_ (And.intro (vp_in_nI (by omega) (by decide)) ?_))) (fun hno => br_t rfl (nm_r (nI_1 _) (ih (j + 1) fd fu (by omega) (by omega) (rj_FW_n hW hno))))
      · show nI 1 + nI 6 * nI j + nI len - 1 = _
        rw [pk_mul, nI_add, nI_add, show 1 + 6 * j + len = 6 * j + len + 1 by omega, nI_pred]
      · rw [rj_fa s (by omega)]
        obtain ⟨f1, f2⟩ := rj_setT fu hW.2.2.2.2.1 j (by omega)
        refine pk_eq (s j) len (fun he => nm_r f1 (nm_r (nI_1 _) (ih (j + 1) _ _ (by omega) (by omega) (rj_FW_y hl1 hl6 (by omega) hc hW hy f2 fun i => ?_)))) (fun hne => nm_r (nI_1 _) (ih (j + 1) _ _ (by omega) (by omega) (rj_FW_y hl1 hl6 (by omega) hc hW hy hW.2.2.2.2.1 fun i => ?_)))
        · rw [rj_set_bit]
          exact ⟨fun h => h.elim Or.inl fun h2 => Or.inr ⟨h2, he⟩, fun h => h.elim Or.inl fun h2 => Or.inr h2.1⟩
        · exact ⟨Or.inl, fun h => h.elim id fun h2 => absurd h2.2 hne⟩
theorem rj_fo84 (hG : rj_Gd c s q) {post : SY → Prop} {U : List Nat} {e v l : Nat} (he : e < 31) (hv : v < 4) (hU : rj_ok U) (h7 : U.length ≤ 7) (hl : U.length = l + 1) (hT : rj_Tx U wd)
    (hp : ∀ fd fu, rj_FW c s q U 7 0 fd fu → post (nI c, rj_f s, rj_f q, upd ne (4 * e + v) (nI fd), upd nr (4 * e + v) (nI fu), nd, jo, wd)) : ∀ n len fd fu, 1 ≤ len → len ≤ 7 → 7 < n + len → rj_FW c s q U len 0 fd fu → wY_follow_84 post (nI e) (nI v) (nI l) (nI c) (rj_f s) (rj_f q) ne nr nd jo wd n (nI fd) (nI fu) (nI len) := by
  intro n
  induction n with
  | zero => intro len fd fu a b d; omega
  | succ n ih =>
    intro len fd fu h1 h2 hn hW
    by_cases h7' : len = 7
    · subst h7'
      refine br_t (nI_lt (a := 6) (b := 7) (by omega) (by omega)) ?_
      rw [rj_4l, nI_clamp (by omega)]
      exact And.intro (vp_in_nI (by omega) (by decide)) (nm_e (And.intro (vp_in_nI (by omega) (by decide)) (nm_e (hp fd fu hW))))
    · exact br_f (nI_nlt (a := 6) (by omega) (by omega)) (Exists.intro (c + 1) (rj_fo94 hG hU h7 hl hT h1 (by omega) (fun fd' fu' hW' => ih (len + 1) fd' fu' (by omega) (by omega) (by omega) hW') (c + 1) 0 fd fu (by omega) (by omega) hW))
theorem rj_fo36 (hG : rj_Gd c s q) {post : SY → Prop} {e v : Nat} (hr : rj_re c s e) (hv : v < 4) (hp : ∀ fd fu wd, rj_FW c s q (rj_ew s q e ++ [v]) 7 0 fd fu → post (nI c, rj_f s, rj_f q, upd ne (4 * e + v) (nI fd), upd nr (4 * e + v) (nI fu), nd, jo, wd)) :
    ∀ n x wd, x ≤ rj_el e → rj_el e < n + x → rj_Tx ((rj_ew s q e).take x) wd → wY_follow_36 post (nI e) (nI v) (nI (rj_el e)) (nI (rj_ei e)) (nI c) n (nI x) (rj_f s) (rj_f q) ne nr nd jo wd := by
  have hel := rj_ew_len (q := q) hr
  have h6 := rj_el6 e
  have h5 := rj_ei5 hr.1
  intro n
  induction n with
  | zero => intro x wd a b; omega
  | succ n ih =>
    intro x wd hx hn hT
    by_cases hxe : x = rj_el e
    · have hU : (rj_ew s q e ++ [v]).length = rj_el e + 1 := by rw [List.length_append, hel]; rfl
      have hok : rj_ok (rj_ew s q e ++ [v]) := by
        intro y hy
        by_cases hy2 : y < rj_el e
        · rw [rj_g_lo (by omega), rj_ew_g hr hy2]
          exact hG.2.2 _
        · rw [show y = (rj_ew s q e).length by omega, rj_g_end]
          omega
      rw [hxe, ← hel, List.take_length] at hT
      refine br_t (nI_le (by omega) (by omega)) (And.intro (vp_in_nI (by omega) (by decide)) (nm_r (e' := upd wd (rj_ew s q e).length (nI v)) ?_ (Exists.intro 8 (rj_fo84 hG hr.1 hv hok (by omega) hU (rj_Tx_put hT v) (fun fd fu hW => hp fd fu _ hW) 8 1 0 0 (by omega) (by omega) (by omega) ?_))))
      · rw [hel, nI_clamp (by omega)]
      · refine ⟨⟨by omega, Or.inl rfl⟩, rj_SP0 _ _, by show 0 ≤ 1; omega, fun i hi k hk hc => ?_, by omega, fun i => ⟨fun h => absurd h (rj_0bit i), fun h => ?_⟩⟩
        · have : k = 0 := by omega
          omega
        · omega
    · have hg := rj_ew_g (q := q) hr (x := x) (by omega)
      have hlx : ((rj_ew s q e).take x).length = x := by rw [List.length_take]; omega
      refine br_f (nI_ge (by omega) (by omega)) ?_
      rw [rj_6l, rj_fa q (by omega), nI_clamp (n := x) (by omega)]
      refine And.intro (vp_in_nI (by omega) (by decide)) (And.intro (vp_in_nI (by omega) (by decide)) (nm_e (nm_r (nI_1 _) (ih (x + 1) _ (by omega) (by omega) ?_))))
      have h2 := rj_Tx_put hT (rj_g (rj_ew s q e) x)
      rw [hlx, hg] at h2
      have h3 : (rj_ew s q e).take (x + 1) = (rj_ew s q e).take x ++ [q (6 * rj_ei e + x)] := by
        rw [← hg]
        apply rj_ext
        · rw [List.length_append, List.length_take, hlx]
          show _ = x + 1
          omega
        · intro y hy
          rw [List.length_take] at hy
          by_cases hyx : y = x
          · rw [hyx, rj_g_take (by omega)]
            have := rj_g_end ((rj_ew s q e).take x) (rj_g (rj_ew s q e) x)
            rw [hlx] at this
            exact this.symm
          · rw [rj_g_take (by omega), rj_g_lo (by omega), rj_g_take (by omega)]
      rw [h3]
      exact h2
theorem rj_follow (hG : rj_Gd c s q) {post : SY → Prop} {e v : Nat} (hr : rj_re c s e) (hv : v < 4) (hp : ∀ e' f wd, rj_Fo c s q e v e' f → post (nI c, rj_f s, rj_f q, upd ne (4 * e + v) (nI e'), upd nr (4 * e + v) (nI f), nd, jo, wd)) : wpY_follow post (nI c, rj_f s, rj_f q, ne, nr, nd, jo, wd) (nI e) (nI v) := by
  have he := hr.1
  have hp2 : ∀ fd fu wd, rj_FW c s q (rj_ew s q e ++ [v]) 7 0 fd fu → post (nI c, rj_f s, rj_f q, upd ne (4 * e + v) (nI fd), upd nr (4 * e + v) (nI fu), nd, jo, wd) := by
    intro fd fu wd hW
    obtain ⟨h1, h2, h3, h4, h5, h6⟩ := hW
    refine hp fd fu wd ⟨h5, fun i => ?_, h1, h2, fun j hj k hk => h4 j hj k hk (Or.inl ?_)⟩
    · rw [h6 i]
      have := hG.2.1 i
      exact ⟨fun h => ⟨h.1, h.2.1, h.2.2.1⟩, fun h => ⟨h.1, h.2.1, h.2.2, Or.inl (by omega)⟩⟩
    · have h7 := hk.2.1
      have h8 := hG.2.1 j
      omega
  have hT0 : rj_Tx ((rj_ew s q e).take 0) wd := by rw [List.take_zero]; exact rj_Tx_nil wd
  by_cases h0 : e = 0
  · subst h0
    exact br_t rfl (br_t rfl (Exists.intro 8 (rj_fo36 hG hr hv hp2 8 0 wd (by omega) (by have := rj_el6 0; omega) hT0)))
  · have hne : ¬ nI e = 0 := nI_ne0 (by omega) (by omega)
    have e1 : nI e - 1 = nI (e - 1) := by
      rw [show e = e - 1 + 1 by omega, nI_pred, Nat.add_sub_cancel]
    have e2 : nI (e - 1) - nI (e - 1) / 6 * 6 = nI ((e - 1) % 6) := pk_rem (d := 6) (by omega) (by decide) (by decide)
    have e3 : nI (e - 1) / 6 = nI ((e - 1) / 6) := pk_div (d := 6) (by omega) (by decide) (by decide)
    have e4 : rj_el e = (e - 1) % 6 + 1 := by unfold rj_el; rw [if_neg h0]
    refine br_f hne (And.intro (by decide) (br_f hne (And.intro (by decide) (nm_r (e' := nI (rj_ei e)) ?_ (Exists.intro 8 ?_)))))
    · rw [e1, e3]; rfl
    · rw [e1, e2, nI_1, ← e4]
      exact rj_fo36 hG hr hv hp2 8 0 wd (by omega) (by have := rj_el6 e; omega) hT0
theorem rj_real (hG : rj_Gd c s q) {post : Int32 → Prop} {e : Nat} (he : e < 31) (h1 : rj_re c s e → post 1) (h0 : ¬ rj_re c s e → post 0) : wpY_real post (nI c, rj_f s, rj_f q, ne, nr, nd, jo, wd) (nI e) := by
  by_cases hz : e = 0
  · subst hz
    exact br_t rfl (h1 ⟨by omega, Or.inl rfl⟩)
  · have hne : ¬ nI e = 0 := nI_ne0 (by omega) (by omega)
    have e1 : nI e - 1 = nI (e - 1) := by
      rw [show e = e - 1 + 1 by omega, nI_pred, Nat.add_sub_cancel]
    have e2 : nI (e - 1) - nI (e - 1) / 6 * 6 = nI ((e - 1) % 6) := pk_rem (d := 6) (by omega) (by decide) (by decide)
    have e3 : nI (e - 1) / 6 = nI ((e - 1) / 6) := pk_div (d := 6) (by omega) (by decide) (by decide)
    have e4 : rj_el e = (e - 1) % 6 + 1 := by unfold rj_el; rw [if_neg hz]
    have e5 : rj_ei e = (e - 1) / 6 := rfl
    have hc := hG.1
    have h6 := hG.2.1 ((e - 1) / 6)
    refine br_f hne (And.intro (by decide) ?_)
    rw [e1, e2, e3]
    by_cases hi : (e - 1) / 6 < c
    · refine rj_yyes hc hi (br_f (by decide) (And.intro (by decide) (And.intro (by decide) (And.intro (vp_in_nI (by omega) (by decide)) ?_))))
      rw [rj_fa s (by omega)]
      refine pk_le (s ((e - 1) / 6)) ((e - 1) % 6) (fun h => h0 ?_) (fun h => h1 ⟨he, Or.inr ⟨by omega, by rw [e4, e5]; omega⟩⟩)
      rintro ⟨_, h2 | ⟨h2, h3⟩⟩
      · exact hz h2
      · rw [e4, e5] at h3; omega
    · refine rj_yno (Or.inr (nI_le (by omega) (by omega))) (br_t rfl (h0 ?_))
      rintro ⟨_, h2 | ⟨h2, h3⟩⟩
      · exact hz h2
      · rw [e5] at h2; exact hi h2
theorem rj_step (hF : rj_FA c s q ne nr) {post : Int32 → Prop} {t v : Nat} (ht : rj_rs c s t) (hv : v < 4) (hp : post (nI (rj_F ne nr t v))) : wpY_step post (nI c, rj_f s, rj_f q, ne, nr, nd, jo, wd) (nI t) (nI v) := by
  obtain ⟨e', f, h1, h2, h3, he, hf, h4, h5⟩ := rj_F_s hF ht hv
  have ht1 := ht.1
  refine And.intro (by decide) (nm_r (e' := nI (t / 31)) (pk_div (d := 31) (by omega) (by decide) (by decide)) (And.intro (by decide) (nm_r (e' := nI (t % 31)) (pk_rem (d := 31) (by omega) (by decide) (by decide)) ?_)))
  rw [rj_4l, nI_clamp (by omega), h1, h2, rj_orT _ (by omega) _ hf, rj_31l, ← h4]
  exact And.intro (vp_in_nI (by omega) (by decide)) (And.intro (vp_in_nI (by omega) (by decide)) hp)
/-- the state before the first symbol -/
def rj_ST (c : Nat) (s : Nat → Nat) (t : Nat) : Prop := t % 31 = 0 ∧ t < 992 ∧ ∀ j, (t / 31).testBit j = true ↔ (j < c ∧ s j = 0)
theorem rj_ST_uniq {t t' : Nat} (h : rj_ST c s t) (h' : rj_ST c s t') : t = t' := by
  obtain ⟨h1, _, h3⟩ := h
  obtain ⟨h1', _, h3'⟩ := h'
  have : t / 31 = t' / 31 := rj_maskE fun i => (h3 i).trans (h3' i).symm
  omega
theorem rj_ST_rs {t : Nat} (h : rj_ST c s t) : rj_rs c s t := ⟨h.2.1, by rw [h.1]; exact ⟨by omega, Or.inl rfl⟩⟩
theorem rj_ST_IV {t : Nat} (h : rj_ST c s t) : rj_IV c s q [] (t / 31) (t % 31) := by
  rw [h.1]
  have := h.2.1
  exact rj_IV_0 (by omega) h.2.2
theorem rj_st4 (hG : rj_Gd c s q) {post : Int32 → Prop} (hp : ∀ t, rj_ST c s t → post (nI t)) : ∀ n j m, j ≤ c → c < n + j → m < 32 → (∀ i, m.testBit i = true ↔ (i < j ∧ s i = 0)) → wY_start_4 post (nI c) (rj_f s) (rj_f q) ne nr nd jo wd n (nI m) (nI j) := by
  have hc := hG.1
  intro n
  induction n with
  | zero => intro j m a b; omega
  | succ n ih =>
    intro j m hj hn hm hb
    by_cases hjc : j = c
    · subst hjc
      refine br_t (nI_le (by omega) (by omega)) ?_
      have := hp (31 * m) ⟨by omega, by omega, by rw [show 31 * m / 31 = m by omega]; exact hb⟩
      have e : 31 * nI m = nI (31 * m) := by
        show nI 31 * nI m = _
        rw [pk_mul]
      rw [e]
      exact this
    · have h6j := hG.2.1 j
      refine br_f (nI_ge (by omega) (by omega)) (And.intro (vp_in_nI (by omega) (by decide)) ?_)
      rw [rj_fa s (by omega)]
      obtain ⟨f1, f2⟩ := rj_setT m hm j (by omega)
      refine pk_eq (s j) 0 (fun he => nm_r f1 (nm_r (nI_1 _) (ih (j + 1) _ (by omega) (by omega) f2 fun i => ?_))) (fun hne => nm_r (nI_1 _) (ih (j + 1) m (by omega) (by omega) hm fun i => ?_))
      · rw [rj_set_bit, hb i]
        constructor
        · rintro (h | rfl)
          · exact ⟨by omega, h.2⟩
          · exact ⟨by omega, he⟩
        · intro h
          by_cases e : i = j
          · exact Or.inr e
          · exact Or.inl ⟨by omega, h.2⟩
      · rw [hb i]
        constructor
        · intro h; exact ⟨by omega, h.2⟩
        · intro h
          have : i ≠ j := fun e => hne (e ▸ h.2)
          exact ⟨by omega, h.2⟩
theorem rj_start (hG : rj_Gd c s q) {post : Int32 → Prop} (hp : ∀ t, rj_ST c s t → post (nI t)) : wpY_start post (nI c, rj_f s, rj_f q, ne, nr, nd, jo, wd) :=
  Exists.intro (c + 1) (rj_st4 hG hp (c + 1) 0 0 (by omega) (by omega) (by omega) fun i => ⟨fun h => absurd h (rj_0bit i), fun h => absurd h.1 (Nat.not_lt_zero _)⟩)
end
end
section
/-! the reference's search and its join -/
section
variable {c : Nat} {s q : Nat → Nat} {ne nr nd jo wd : Nat → Int32}
theorem rj_some1 (hF : rj_FA c s q ne nr) {post : Int32 → Prop} {t : Nat} {k : Int32} (ht : rj_rs c s t) (h1 : post 1) : ∀ n v, v ≤ 4 → 4 < n + v → wY_some_5 post (nI t) k (nI c) (rj_f s) (rj_f q) ne nr nd jo wd n 1 (nI v) := by
  intro n
  induction n with
  | zero => intro v a b; omega
  | succ n ih =>
    intro v hv hn
    by_cases hv4 : v = 4
    · subst hv4
      exact br_t (nI_le (a := 4) (b := 4) (by omega) (by omega)) (And.intro rj_b1 h1)
    · exact br_f (nI_ge (b := 4) (by omega) (by decide)) (rj_step hF ht (by omega) (br_f (by decide) (nm_r (nI_1 _) (ih (v + 1) (by omega) (by omega)))))
theorem rj_some0 (hF : rj_FA c s q ne nr) {post : Int32 → Prop} {t : Nat} {k : Int32} (ht : rj_rs c s t) (h1 : (∃ v, v < 4 ∧ nd (rj_F ne nr t v) = k) → post 1) (h0 : ¬ (∃ v, v < 4 ∧ nd (rj_F ne nr t v) = k) → post 0) :
    ∀ n v, v ≤ 4 → 4 < n + v → (∀ u, u < v → ¬ nd (rj_F ne nr t u) = k) → wY_some_5 post (nI t) k (nI c) (rj_f s) (rj_f q) ne nr nd jo wd n 0 (nI v) := by
  intro n
  induction n with
  | zero => intro v a b; omega
  | succ n ih =>
    intro v hv hn hno
    by_cases hv4 : v = 4
    · subst hv4
      exact br_t (nI_le (a := 4) (b := 4) (by omega) (by omega)) (And.intro rj_b0 (h0 fun ⟨u, hu, he⟩ => hno u hu he))
    · have hs := (rj_F_rs hF ht (v := v) (by omega)).1
      refine br_f (nI_ge (b := 4) (by omega) (by decide)) (rj_step hF ht (by omega) (br_t rfl (And.intro (vp_in_nI hs (by decide)) ?_)))
      rw [nI_clamp (by omega)]
      refine ⟨fun h => nm_r (nI_1 _) (rj_some1 hF ht (h1 ⟨v, by omega, h⟩) n (v + 1) (by omega) (by omega)), fun h => nm_r (nI_1 _) (ih (v + 1) (by omega) (by omega) fun u hu => ?_)⟩
      by_cases e : u = v
      · rw [e]; exact h
      · exact hno u (by omega)
theorem rj_some (hF : rj_FA c s q ne nr) {post : Int32 → Prop} {t : Nat} {k : Int32} (ht : rj_rs c s t) (h1 : (∃ v, v < 4 ∧ nd (rj_F ne nr t v) = k) → post 1) (h0 : ¬ (∃ v, v < 4 ∧ nd (rj_F ne nr t v) = k) → post 0) : wpY_some post (nI c, rj_f s, rj_f q, ne, nr, nd, jo, wd) (nI t) k :=
  Exists.intro 5 (rj_some0 hF ht h1 h0 5 0 (by omega) (by omega) fun u hu => absurd hu (Nat.not_lt_zero _))
theorem rj_val_put {wt r u t : Nat} {x : Int32} (h : u ≠ t) : rj_val ne nr wt r (upd nd t x) u ↔ rj_val ne nr wt r nd u := by
  unfold rj_val
  rw [pk_un h]
theorem rj_so102 (hG : rj_Gd c s q) (hF : rj_FA c s q ne nr) {wt r : Nat} (hr : r ≤ 30) {post : Int32 → SY → Prop} {x2 : Int32} {J : Int32 → (Nat → Int32) → (Nat → Int32) → (Nat → Int32) → (Nat → Int32) → (Nat → Int32) → (Nat → Int32) → (Nat → Int32) → Prop}
    (hJ : ∀ nd, (∀ u, rj_rs c s u → rj_val ne nr wt (r + 1) nd u) → J (nI (r + 2)) (rj_f s) (rj_f q) ne nr nd jo wd) :
    ∀ n t nd, t ≤ 992 → 992 < n + t → (∀ u, rj_rs c s u → u < t → rj_val ne nr wt (r + 1) nd u) → (∀ u, rj_rs c s u → t ≤ u → rj_val ne nr wt r nd u) → wY_solve_102 post J x2 (nI (r + 1)) (nI c) n (nI t) (rj_f s) (rj_f q) ne nr nd jo wd := by
  intro n
  induction n with
  | zero => intro t nd a b; omega
  | succ n ih =>
    intro t nd ht hn hlo hhi
    by_cases ht9 : t = 992
    · subst ht9
      exact br_t (nI_le (a := 992) (b := 992) (by omega) (by omega)) (nm_r (nI_1 _) (hJ nd fun u hu => hlo u hu hu.1))
    · have hskip : (rj_rs c s t → rj_val ne nr wt (r + 1) nd t) → wY_solve_102 post J x2 (nI (r + 1)) (nI c) n (nI (t + 1)) (rj_f s) (rj_f q) ne nr nd jo wd := by
        intro h
        refine ih (t + 1) nd (by omega) (by omega) (fun u hu hut => ?_) (fun u hu hut => hhi u hu (by omega))
        by_cases e : u = t
        · subst e; exact h hu
        · exact hlo u hu (by omega)
      refine br_f (nI_ge (b := 992) (by omega) (by decide)) (And.intro (vp_in_nI (by omega) (by decide)) ?_)
      rw [nI_clamp (by omega)]
      have em : nI t - nI t / 31 * 31 = nI (t % 31) := pk_rem (d := 31) (by omega) (by decide) (by decide)
      by_cases hrs : rj_rs c s t
      · rcases hhi t hrs (by omega) with ⟨d, hd, h1, h2⟩ | ⟨h1, h2⟩
        · refine br_t (by rw [h2]; exact nI_pos' (by omega)) (nm_r (nI_1 _) (hskip fun _ => Or.inl ⟨d, by omega, h1, h2⟩))
        · refine br_f (by rw [h2]; decide) (And.intro (by decide) ?_)
          rw [em, nI_pred]
          have hval : ∀ v, v < 4 → (nd (rj_F ne nr t v) = nI r ↔ rj_D ne nr wt r (rj_F ne nr t v)) := by
            intro v hv
            have hu := rj_F_rs hF hrs hv
            by_cases hlt : rj_F ne nr t v < t
            · exact rj_val_eq (hlo _ hu hlt) (by omega) (by omega)
            · exact rj_val_eq (hhi _ hu (by omega)) (by omega) (by omega)
          refine rj_real hG (by omega) (fun _ => br_f (by decide) (rj_some hF hrs (fun h => br_f (by decide) (And.intro (vp_in_nI (by omega) (by decide)) (nm_e (nm_r (nI_1 _) ?_)))) (fun h => br_t rfl (nm_r (nI_1 _) (hskip fun _ => Or.inr ⟨fun d hd => ?_, h2⟩))))) (fun hno => absurd hrs.2 hno)
          · obtain ⟨v, hv, he⟩ := h
            have hD : rj_D ne nr wt (r + 1) t := (rj_D_s h1).mpr ⟨v, hv, (hval v hv).mp he⟩
            refine ih (t + 1) _ (by omega) (by omega) (fun u hu hut => ?_) (fun u hu hut => (rj_val_put (by omega)).mpr (hhi u hu (by omega)))
            by_cases e : u = t
            · subst e; exact Or.inl ⟨r + 1, by omega, hD, pk_us⟩
            · exact (rj_val_put e).mpr (hlo u hu (by omega))
          · by_cases hdr : d ≤ r
            · exact h1 d hdr
            · have hd1 : d = r + 1 := by omega
              subst hd1
              intro hRe
              obtain ⟨v, hv, hD⟩ := (rj_D_s h1).mp ⟨hRe, fun m hm => h1 m (by omega)⟩
              exact h ⟨v, hv, (hval v hv).mpr hD⟩
      · refine br_c (fun _ => nm_r (nI_1 _) (hskip fun h => absurd h hrs)) (fun _ => And.intro (by decide) ?_)
        rw [em]
        exact rj_real hG (by omega) (fun h => absurd ⟨by omega, h⟩ hrs) (fun _ => br_t rfl (nm_r (nI_1 _) (hskip fun h => absurd h hrs)))
theorem rj_so84 (hG : rj_Gd c s q) (hF : rj_FA c s q ne nr) {wt t0 N : Nat} (ht0 : rj_rs c s t0) (hD : rj_D ne nr wt N t0) (hN : N ≤ 30) {post : Int32 → SY → Prop} (hp : ∀ nd r, N ≤ r → r ≤ 30 → (∀ u, rj_rs c s u → rj_val ne nr wt r nd u) → post (nI N) (nI c, rj_f s, rj_f q, ne, nr, nd, jo, wd)) :
    ∀ n r nd, r ≤ 30 → 30 < n + r → (∀ u, rj_rs c s u → rj_val ne nr wt r nd u) → wY_solve_84 post (nI t0) (nI c) n (nI (r + 1)) (rj_f s) (rj_f q) ne nr nd jo wd := by
  have h992 := ht0.1
  intro n
  induction n with
  | zero => intro r nd a b; omega
  | succ n ih =>
    intro r nd hr hn hv
    have hin : vp_in (nI t0) 992 := vp_in_nI h992 (by decide)
    have hgood : N ≤ r → vp_in (nI t0) 992 ∧ post (nd (nI t0).toNatClampNeg) (nI c, rj_f s, rj_f q, ne, nr, nd, jo, wd) := by
      intro hNr
      refine And.intro hin ?_
      rw [nI_clamp (by omega), (rj_val_eq (hv t0 ht0) (by omega) hNr).mpr hD]
      exact hp nd r hNr hr hv
    by_cases hNr : N ≤ r
    · exact br_c (fun _ => hgood hNr) (fun _ => And.intro hin (br_t (by rw [nI_clamp (by omega), (rj_val_eq (hv t0 ht0) (by omega) hNr).mpr hD]; exact nI_pos' (by omega)) (hgood hNr)))
    · have hm : nd t0 = -1 := by
        rcases hv t0 ht0 with ⟨d, hd, h1, _⟩ | ⟨_, h2⟩
        · have := rj_D_uniq h1 hD
          omega
        · exact h2
      refine br_f (nI_nlt (a := 30) (by omega) (by omega)) (And.intro hin (br_f (by rw [nI_clamp (by omega), hm]; decide) (Exists.intro 993 (rj_so102 hG hF (by omega) (fun nd' hv' => ih (r + 1) nd' (by omega) (by omega) hv') 993 0 nd (by omega) (by omega) (fun u _ h => absurd h (Nat.not_lt_zero _)) fun u hu _ => hv u hu))))
theorem rj_so43 (hG : rj_Gd c s q) (hF : rj_FA c s q ne nr) {wt : Nat} (hwt : wt < 32) (hwc : ∀ i, wt.testBit i = true → i < c) {post : Int32 → SY → Prop} (hp : ∀ nd N t0 r, rj_ST c s t0 → rj_D ne nr wt N t0 → N ≤ r → r ≤ 30 → (∀ u, rj_rs c s u → rj_val ne nr wt r nd u) → post (nI N) (nI c, rj_f s, rj_f q, ne, nr, nd, jo, wd)) :
    ∀ n t nd, t ≤ 992 → 992 < n + t → (∀ u, u < t → rj_val ne nr wt 0 nd u) → wY_solve_43 post (nI wt) (nI c) n (nI t) (rj_f s) (rj_f q) ne nr nd jo wd := by
  intro n
  induction n with
  | zero => intro t nd a b; omega
  | succ n ih =>
    intro t nd ht hn hv
    by_cases ht9 : t = 992
    · subst ht9
      refine br_t (nI_le (a := 992) (b := 992) (by omega) (by omega)) (rj_start hG fun t0 hst => ?_)
      obtain ⟨N, hN, hD⟩ := rj_Re30 hG hF hwc (rj_ST_rs hst) (rj_ST_IV hst)
      exact Exists.intro 31 (rj_so84 hG hF (rj_ST_rs hst) hD hN (fun nd r h1 h2 h3 => hp nd N t0 r hst hD h1 h2 h3) 31 0 nd (by omega) (by omega) fun u hu => hv u hu.1)
    · have hnext : ∀ x, rj_val ne nr wt 0 (upd nd t x) t → ∀ u, u < t + 1 → rj_val ne nr wt 0 (upd nd t x) u := by
        intro x hx u hu
        by_cases e : u = t
        · subst e; exact hx
        · exact (rj_val_put e).mpr (hv u (by omega))
      refine br_f (nI_ge (b := 992) (by omega) (by decide)) (And.intro (by decide) ?_)
      have ha : (t / 31 &&& wt) < 32 := Nat.lt_of_le_of_lt Nat.and_le_right hwt
      have ed : nI t / 31 = nI (t / 31) := pk_div (d := 31) (by omega) (by decide) (by decide)
      rw [ed, rj_andT _ (by omega) _ hwt, nI_eq (by omega) (by omega), nI_clamp (by omega)]
      refine ⟨fun h => And.intro (vp_in_nI (by omega) (by decide)) (nm_e (nm_r (nI_1 _) (ih (t + 1) _ (by omega) (by omega) (hnext _ (Or.inl ⟨0, by omega, ⟨h, fun m hm => absurd hm (Nat.not_lt_zero _)⟩, pk_us⟩))))), fun h => And.intro (vp_in_nI (by omega) (by decide)) (nm_e (nm_r (nI_1 _) (ih (t + 1) _ (by omega) (by omega) (hnext _ (Or.inr ⟨fun d hd => ?_, pk_us⟩)))))⟩
      have : d = 0 := by omega
      subst this
      exact h
/-- the moves of the ends below E, and of E with symbols below V -/
def rj_FP (c : Nat) (s q : Nat → Nat) (ne nr : Nat → Int32) (E V : Nat) : Prop := ∀ e v, rj_re c s e → v < 4 → (e < E ∨ (e = E ∧ v < V)) → ∃ e' f, ne (4 * e + v) = nI e' ∧ nr (4 * e + v) = nI f ∧ rj_Fo c s q e v e' f
theorem rj_FP_put {E V e' f : Nat} (hV : V < 4) (h : rj_FP c s q ne nr E V) (hf : rj_Fo c s q E V e' f) : rj_FP c s q (upd ne (4 * E + V) (nI e')) (upd nr (4 * E + V) (nI f)) E (V + 1) := by
  intro e v he hv hlt
  by_cases h2 : e = E ∧ v = V
  · obtain ⟨rfl, rfl⟩ := h2
    exact ⟨e', f, pk_us, pk_us, hf⟩
  · have hne : 4 * e + v ≠ 4 * E + V := by omega
    rw [pk_un hne, pk_un hne]
    exact h e v he hv (by omega)
theorem rj_so10 (hG : rj_Gd c s q) {post : Int32 → SY → Prop} {x1 : Int32} {E : Nat} (hE : E < 31) {J : Int32 → Int32 → (Nat → Int32) → (Nat → Int32) → (Nat → Int32) → (Nat → Int32) → (Nat → Int32) → (Nat → Int32) → (Nat → Int32) → Prop} (hJ : ∀ ne nr wd, rj_FP c s q ne nr (E + 1) 0 → J (nI (E + 1)) (nI c) (rj_f s) (rj_f q) ne nr nd jo wd) :
    ∀ n v ne nr wd, v ≤ 4 → 4 < n + v → rj_FP c s q ne nr E v → wY_solve_10 post J x1 (nI E) n (nI v) (nI c) (rj_f s) (rj_f q) ne nr nd jo wd := by
  intro n
  induction n with
  | zero => intro v ne nr wd a b; omega
  | succ n ih =>
    intro v ne nr wd hv hn hP
    by_cases hv4 : v = 4
    · subst hv4
      exact br_t (nI_le (a := 4) (b := 4) (by omega) (by omega)) (nm_r (nI_1 _) (hJ ne nr wd fun e v he hv hlt => hP e v he hv (by omega)))
    · refine br_f (nI_ge (b := 4) (by omega) (by decide)) (rj_real hG hE (fun hr => br_f (by decide) (rj_follow hG hr (by omega) fun e' f wd' hf => nm_r (nI_1 _) (ih (v + 1) _ _ wd' (by omega) (by omega) (rj_FP_put (by omega) hP hf)))) (fun hr => br_t rfl (nm_r (nI_1 _) (hJ ne nr wd fun e v he hv hlt => ?_))))
      have : e ≠ E := fun h => hr (h ▸ he)
      exact hP e v he hv (by omega)
theorem rj_so2 (hG : rj_Gd c s q) {wt : Nat} (hwt : wt < 32) (hwc : ∀ i, wt.testBit i = true → i < c) {post : Int32 → SY → Prop} (hp : ∀ ne nr nd wd N t0 r, rj_FA c s q ne nr → rj_ST c s t0 → rj_D ne nr wt N t0 → N ≤ r → r ≤ 30 → (∀ u, rj_rs c s u → rj_val ne nr wt r nd u) → post (nI N) (nI c, rj_f s, rj_f q, ne, nr, nd, jo, wd)) :
    ∀ n E ne nr wd, E ≤ 31 → 31 < n + E → rj_FP c s q ne nr E 0 → wY_solve_2 post (nI wt) n (nI E) (nI c) (rj_f s) (rj_f q) ne nr nd jo wd := by
  intro n
  induction n with
  | zero => intro E ne nr wd a b; omega
  | succ n ih =>
    intro E ne nr wd hE hn hP
    by_cases hE31 : E = 31
    · subst hE31
      have hF : rj_FA c s q ne nr := fun e v he hv => hP e v he hv (Or.inl he.1)
      exact br_t (nI_le (a := 31) (b := 31) (by omega) (by omega)) (Exists.intro 993 (rj_so43 hG hF hwt hwc (fun nd N t0 r => hp ne nr nd wd N t0 r hF) 993 0 nd (by omega) (by omega) fun u hu => absurd hu (Nat.not_lt_zero _)))
    · exact br_f (nI_ge (b := 31) (by omega) (by decide)) (Exists.intro 5 (rj_so10 hG (by omega) (fun ne nr wd hP' => ih (E + 1) ne nr wd (by omega) (by omega) hP') 5 0 ne nr wd (by omega) (by omega) hP))
theorem rj_ysolve (hG : rj_Gd c s q) {wt : Nat} (hwt : wt < 32) (hwc : ∀ i, wt.testBit i = true → i < c) {x : Int32} (hx : x = nI wt) {post : Int32 → SY → Prop} (hp : ∀ ne nr nd wd N t0 r, rj_FA c s q ne nr → rj_ST c s t0 → rj_D ne nr wt N t0 → N ≤ r → r ≤ 30 → (∀ u, rj_rs c s u → rj_val ne nr wt r nd u) → post (nI N) (nI c, rj_f s, rj_f q, ne, nr, nd, jo, wd)) : wpY_solve post (nI c, rj_f s, rj_f q, ne, nr, nd, jo, wd) x := by
  subst hx
  exact Exists.intro 32 (rj_so2 hG hwt hwc hp 32 0 ne nr wd (by omega) (by omega) fun e v he hv h => absurd h (by omega))
/-! the join -/
theorem rj_3T : ∀ v, v < 4 → nI v &&& 3 = nI v := by decide +kernel
theorem rj_wr37 (hF : rj_FA c s q ne nr) {wt N k t r : Nat} (hN : N ≤ r) (hr : r ≤ 30) (hk : k < N) (ht : rj_rs c s t) (hD : rj_D ne nr wt (N - k) t) (hv : ∀ u, rj_rs c s u → rj_val ne nr wt r nd u) {post : Int32 → SY → Prop} {J : Int32 → Int32 → (Nat → Int32) → (Nat → Int32) → (Nat → Int32) → (Nat → Int32) → (Nat → Int32) → (Nat → Int32) → (Nat → Int32) → Prop}
    (hJ : ∀ v, v < 4 → rj_D ne nr wt (N - 1 - k) (rj_F ne nr t v) → (∀ u, u < v → ¬ rj_D ne nr wt (N - 1 - k) (rj_F ne nr t u)) → J (nI (rj_F ne nr t v)) (nI (k + 1)) (rj_f s) (rj_f q) ne nr nd (upd jo k (nI v)) wd) :
    ∀ d n (x4 x5 : Int32), d ≤ 4 → d < n → x5 = nI d + (-1) → ((x4 = 4 ∧ ∀ u, d ≤ u → u < 4 → ¬ rj_D ne nr wt (N - 1 - k) (rj_F ne nr t u)) ∨ ∃ v, x4 = nI v ∧ d ≤ v ∧ v < 4 ∧ rj_D ne nr wt (N - 1 - k) (rj_F ne nr t v) ∧ ∀ u, d ≤ u → u < v → ¬ rj_D ne nr wt (N - 1 - k) (rj_F ne nr t u)) →
      wY_write_37 post J (nI N) (nI t) (nI k) (nI c) (rj_f s) (rj_f q) ne nr nd jo wd n x4 x5 := by
  intro d
  induction d with
  | zero =>
    intro n x4 x5 hd hn hx hl
    obtain ⟨n, rfl⟩ : ∃ m, n = m + 1 := ⟨n - 1, by omega⟩
    have hx5 : x5 < 0 := by rw [hx]; decide
    rcases hl with ⟨_, hno⟩ | ⟨v, rfl, _, hv4, hDv, hmin⟩
    · obtain ⟨e, he⟩ : ∃ e, N - k = e + 1 := ⟨N - k - 1, by omega⟩
      rw [he] at hD
      obtain ⟨v, hv4, hDv⟩ := (rj_D_s (fun m hm => hD.2 m (by omega))).mp hD
      rw [show e = N - 1 - k by omega] at hDv
      exact absurd hDv (hno v (by omega) hv4)
    · refine br_t hx5 (And.intro (vp_in_nI (by omega) (by decide)) (nm_r (e' := upd jo k (nI v)) (by rw [nI_clamp (by omega)]) ?_))
      rw [rj_3T v hv4]
      exact rj_step hF ht hv4 (nm_r (nI_1 _) (hJ v hv4 hDv fun u hu => hmin u (by omega) hu))
  | succ d ih =>
    intro n x4 x5 hd hn hx hl
    obtain ⟨n, rfl⟩ : ∃ m, n = m + 1 := ⟨n - 1, by omega⟩
    rw [pk_m1] at hx
    subst hx
    have hu := rj_F_rs hF ht (v := d) (by omega)
    have h992 := hu.1
    refine br_f (nI_pos (by omega)) (rj_step hF ht (by omega) (And.intro (vp_in_nI h992 (by decide)) ?_))
    have e1 : nI N - 1 - nI k = nI (N - 1 - k) := by
      obtain ⟨N, rfl⟩ : ∃ M, N = M + 1 := ⟨N - 1, by omega⟩
      rw [nI_pred, pk_sub (by omega), Nat.add_sub_cancel]
    rw [nI_clamp (by omega), e1, rj_val_eq (hv _ hu) (by omega) (by omega)]
    refine ⟨fun h => nm_e (ih n _ _ (by omega) (by omega) rfl (Or.inr ⟨d, rfl, by omega, by omega, h, fun u h1 h2 => by omega⟩)), fun h => nm_e (ih n _ _ (by omega) (by omega) rfl ?_)⟩
    rcases hl with ⟨h4, hno⟩ | ⟨v, hv4, h1, h2, h3, hmin⟩
    · refine Or.inl ⟨h4, fun u h1 h2 => ?_⟩
      by_cases e : u = d
      · rw [e]; exact h
      · exact hno u (by omega) h2
    · refine Or.inr ⟨v, hv4, by omega, h2, h3, fun u h5 h6 => ?_⟩
      by_cases e : u = d
      · rw [e]; exact h
      · exact hmin u (by omega) h6
theorem rj_wr20 (hF : rj_FA c s q ne nr) {wt N t0 r : Nat} (hwc : ∀ i, wt.testBit i = true → i < c) (ht0 : rj_ST c s t0) (hD : rj_D ne nr wt N t0) (hN : N ≤ r) (hr : r ≤ 30) (hv : ∀ u, rj_rs c s u → rj_val ne nr wt r nd u) {post : Int32 → SY → Prop}
    (hp : ∀ w jo, rj_AN c s q wt w → w.length = N → rj_Tx w jo → post (nI N) (nI c, rj_f s, rj_f q, ne, nr, nd, jo, wd)) : ∀ n k w t jo, k ≤ N → N < n + k → rj_WI c s q ne nr wt N k w t → rj_Tx w jo → wY_write_20 post (nI N) (nI c) n (nI t) (nI k) (rj_f s) (rj_f q) ne nr nd jo wd := by
  intro n
  induction n with
  | zero => intro k w t jo a b; omega
  | succ n ih =>
    intro k w t jo hk hn hW hT
    by_cases hkN : k = N
    · subst hkN
      exact br_t (nI_le (by omega) (by omega)) (hp w jo (rj_WI_AN hF hwc (rj_ST_rs ht0) (rj_ST_IV ht0) hD hW) hW.1 hT)
    · refine br_f (nI_ge (by omega) (by omega)) (br_f (nI_ge (b := 31) (by omega) (by decide)) (Exists.intro 5 (rj_wr37 hF hN hr (by omega) hW.2.1 hW.2.2.2.2.1 hv (fun v hv4 hDv hmin => ih (k + 1) (w ++ [v]) _ _ (by omega) (by omega) (rj_WI_s hF hwc hW (by omega) hv4 hDv hmin) ?_) 4 5 4 3 (by omega) (by omega) (by decide) (Or.inl ⟨rfl, fun u h1 h2 => by omega⟩))))
      have := rj_Tx_put hT v
      rw [hW.1] at this
      exact this
theorem rj_write (hG : rj_Gd c s q) {post : Int32 → SY → Prop} (hp : ∀ w ne nr nd jo wd, rj_AN c s q (2 ^ c - 1) w → w.length ≤ 30 → rj_Tx w jo → post (nI w.length) (nI c, rj_f s, rj_f q, ne, nr, nd, jo, wd)) : wpY_write post (nI c, rj_f s, rj_f q, ne, nr, nd, jo, wd) := by
  obtain ⟨a1, a2, a3⟩ := rj_allT c hG.1
  have hwc : ∀ i, (2 ^ c - 1).testBit i = true → i < c := fun i hi => (a3 i (rj_bit5 a2 hi)).mp hi
  unfold wpY_write
  refine rj_ysolve hG a2 hwc a1 fun ne nr nd wd N t0 r hF hst hD hN hr hv => rj_start hG fun t1 hst1 => ?_
  have e := rj_ST_uniq hst hst1
  subst e
  refine Exists.intro 31 (rj_wr20 hF hwc hst hD hN hr hv (fun w jo h1 h2 h3 => ?_) 31 0 [] t0 jo (by omega) (by omega) (rj_WI_0 (rj_ST_rs hst) (rj_ST_IV hst) hD) (rj_Tx_nil _))
  subst h2
  exact hp w _ _ _ _ _ h1 (by omega) h3
end
end
section
/-! the component: texts with the join -/
section
variable {c : Nat} {s q : Nat → Nat} {ts js : Int32} {tx bd la ad ch on ot jn : Nat → Int32}
theorem rj_xsolveE (hG : rj_Gd c s q) {set : Nat} (hset : set < 32) {x : Int32} (hx : x = nI set) {post : SX → Prop} (hp : ∀ w, rj_AN c s q set w → w.length ≤ 30 → ∀ ts tx bd la ad ch on ot jn, rj_Tx w jn → post (nI c, ts, nI w.length, rj_f s, rj_f q, tx, bd, la, ad, ch, on, ot, jn)) : wpX_solve post (nI c, ts, js, rj_f s, rj_f q, tx, bd, la, ad, ch, on, ot, jn) x := by
  subst hx
  exact rj_xsolve hG hset hp
theorem rj_xall {post : Int32 → Prop} (h : post (((1 : Int32) <<< (nI c &&& 31)) - 1)) : wpX_all post (nI c, ts, js, rj_f s, rj_f q, tx, bd, la, ad, ch, on, ot, jn) := h
theorem rj_addJoin2 {post : SX → Prop} {w : List Nat} (hw : rj_ok w) (h30 : w.length ≤ 30) (hJ : rj_Tx w jn) : ∀ (d k n : Nat) (L : List Nat) (tx : Nat → Int32), k + d = w.length → d < n → L.length + d ≤ 48 → rj_Tx L tx →
    (∀ tx', rj_Tx (L ++ w.drop k) tx' → post (nI c, nI (L.length + d), nI w.length, rj_f s, rj_f q, tx', bd, la, ad, ch, on, ot, jn)) → wX_addJoin_2 post (nI c) (nI w.length) n (nI k) (nI L.length) (rj_f s) (rj_f q) tx bd la ad ch on ot jn := by
  intro d
  induction d with
  | zero =>
    intro k n L tx hk hn hL hT hp
    obtain ⟨n, rfl⟩ : ∃ m, n = m + 1 := ⟨n - 1, by omega⟩
    refine br_t (nI_le (by omega) (by omega)) (hp tx ?_)
    rw [List.drop_eq_nil_of_le (by omega), List.append_nil]
    exact hT
  | succ d ih =>
    intro k n L tx hk hn hL hT hp
    obtain ⟨n, rfl⟩ : ∃ m, n = m + 1 := ⟨n - 1, by omega⟩
    have hq := hw k (by omega)
    refine br_f (nI_ge (by omega) (by omega)) (And.intro (vp_in_nI (by omega) (by decide)) (And.intro (vp_in_nI (by omega) (by decide)) (nm_r (e' := upd tx L.length (nI (rj_g w k))) ?_ (nm_r (nI_1 _) (nm_r (nI_1 _) ?_)))))
    · rw [nI_clamp (n := k) (by omega), hJ k (by omega), rj_vb (by omega), nI_clamp (by omega)]
    · have hl : (L ++ [rj_g w k]).length = L.length + 1 := by rw [List.length_append]; rfl
      have := ih (k + 1) n (L ++ [rj_g w k]) _ (by omega) (by omega) (by omega) (rj_Tx_put hT _) (by
        intro tx' hT'
        rw [hl, show L.length + 1 + d = L.length + (d + 1) by omega]
        refine hp tx' ?_
        rw [← rj_snoc_drop (by omega)]
        exact hT')
      rw [hl] at this
      exact this
theorem rj_addJoin {post : SX → Prop} {w : List Nat} (hw : rj_ok w) (h30 : w.length ≤ 30) (hJ : rj_Tx w jn) {L : List Nat} (hT : rj_Tx L tx) (hL : L.length + w.length ≤ 48) (hts : ts = nI L.length) (hjs : js = nI w.length)
    (hp : ∀ tx', rj_Tx (L ++ w) tx' → post (nI c, nI (L.length + w.length), js, rj_f s, rj_f q, tx', bd, la, ad, ch, on, ot, jn)) : wpX_addJoin post (nI c, ts, js, rj_f s, rj_f q, tx, bd, la, ad, ch, on, ot, jn) := by
  subst hts hjs
  exact Exists.intro (w.length + 1) (rj_addJoin2 hw h30 hJ w.length 0 _ L tx (by omega) (by omega) hL hT hp)
theorem rj_xplace (hG : rj_Gd c s q) {i : Nat} (hi : i < c) {post : Int32 → SX → Prop} (hp : ∀ w r, rj_AN c s q (2 ^ c - 1) w → w.length ≤ 30 → rj_FM (rj_R s q i) w r → ∀ ts js tx bd la ad ch on ot jn, post r (nI c, ts, js, rj_f s, rj_f q, tx, bd, la, ad, ch, on, ot, jn)) : wpX_place post (nI c, ts, js, rj_f s, rj_f q, tx, bd, la, ad, ch, on, ot, jn) (nI i) := by
  obtain ⟨a1, a2, a3⟩ := rj_allT c hG.1
  have hc := hG.1
  have h6 := hG.2.1 i
  unfold wpX_place
  refine rj_xyes hc hi (br_f (by decide) (rj_xall <| rj_xsolveE hG a2 a1 fun w hw h30 ts1 tx1 bd1 la1 ad1 ch1 on1 ot1 jn1 hJ => rj_pattern hG (by omega) fun tx2 hT2 => rj_addJoin hw.1 h30 hJ hT2 ?_ ?_ rfl fun tx3 hT3 => And.intro (vp_in_nI (by omega) (by decide)) (rj_firstMatch (P := rj_R s q i) (W := w) (rj_R_ok hG i) hw.1 ?_ ?_ ?_ ?_ fun bd4 r hr => hp w r hw h30 hr _ _ _ _ _ _ _ _ _ _)))
  · rw [List.length_append, rj_R_len, List.length_cons, List.length_nil]; omega
  · rw [List.length_append, rj_R_len]; rfl
  · rw [rj_R_len]; omega
  · rw [rj_mk] at hT3
    exact hT3
  · rw [List.length_append, rj_R_len]; rfl
  · rw [rj_fa s (by omega), rj_R_len]
theorem rj_rev_g {w : List Nat} {x : Nat} (h : x < w.length) : rj_g w.reverse x = rj_g w (w.length - 1 - x) := by
  rw [rj_gE, rj_gE, List.getElem?_reverse h]
theorem rj_rev_ok {w : List Nat} (h : rj_ok w) : rj_ok w.reverse := by
  intro x hx
  rw [List.length_reverse] at hx
  rw [rj_rev_g hx]
  exact h _ (by omega)
theorem rj_hr34 (hG : rj_Gd c s q) {i : Nat} (hi : i < 5) {w : List Nat} (hw : rj_ok w) (h30 : w.length ≤ 30) (hJ : rj_Tx w jn) {post : Int32 → SX → Prop} (h1 : rj_inf (rj_R s q i).reverse w → ∀ ts tx bd, post 1 (nI c, ts, nI w.length, rj_f s, rj_f q, tx, bd, la, ad, ch, on, ot, jn)) (h0 : ¬ rj_inf (rj_R s q i).reverse w → ∀ ts tx bd, post 0 (nI c, ts, nI w.length, rj_f s, rj_f q, tx, bd, la, ad, ch, on, ot, jn)) :
    ∀ (d n : Nat) (x : Int32) (tx : Nat → Int32), d ≤ s i → d < n → x = nI d - 1 → rj_Tx ((rj_R s q i).reverse.take (s i - d)) tx → wX_hasReverse_34 post (nI i) (nI c) (nI w.length) n x (nI (s i - d)) (rj_f s) (rj_f q) tx bd la ad ch on ot jn := by
  have h6 := hG.2.1 i
  have hrl : (rj_R s q i).reverse.length = s i := by rw [List.length_reverse, rj_R_len]
  intro d
  induction d with
  | zero =>
    intro n x tx hd hn hx hT
    obtain ⟨n, rfl⟩ : ∃ m, n = m + 1 := ⟨n - 1, by omega⟩
    have hx0 : x < 0 := by rw [hx]; decide
    rw [Nat.sub_zero]
    rw [Nat.sub_zero, ← hrl, List.take_length] at hT
    have hT9 := rj_Tx_put hT 9
    rw [hrl] at hT9
    refine br_t hx0 (And.intro (vp_in_nI (by omega) (by decide)) (nm_r (e' := upd tx (s i) (nI 9)) ?_ (nm_r (nI_1 _) (rj_addJoin hw h30 hJ hT9 ?_ ?_ rfl fun tx3 hT3 => And.intro (vp_in_nI hi (by decide)) (rj_firstMatch (P := (rj_R s q i).reverse) (W := w) (rj_rev_ok (rj_R_ok hG i)) hw ?_ ?_ ?_ ?_ fun bd4 r hr => ?_)))))
    · rw [rj_vb9, nI_clamp (by omega)]
    · rw [List.length_append, hrl, List.length_cons, List.length_nil]; omega
    · rw [List.length_append, hrl]; rfl
    · rw [hrl]; omega
    · rw [rj_mk] at hT3
      exact hT3
    · rw [List.length_append, hrl]; rfl
    · rw [rj_fa s (by omega), hrl]
    · rcases hr with ⟨p, rfl, ho, _⟩ | ⟨rfl, hno⟩
      · have := ho.1
        exact br_f (nI_pos (by omega)) (h1 ⟨p, ho⟩ _ _ _)
      · exact br_t (by decide) (h0 (fun ⟨p, ho⟩ => hno p ho) _ _ _)
  | succ d ih =>
    intro n x tx hd hn hx hT
    obtain ⟨n, rfl⟩ : ∃ m, n = m + 1 := ⟨n - 1, by omega⟩
    rw [nI_pred] at hx
    subst hx
    have hq := hG.2.2 (6 * i + d)
    have hl : ((rj_R s q i).reverse.take (s i - (d + 1))).length = s i - (d + 1) := by rw [List.length_take, hrl]; omega
    have hgd : rj_g (rj_R s q i).reverse (s i - (d + 1)) = q (6 * i + d) := by
      rw [rj_rev_g (by rw [rj_R_len]; omega), rj_R_len, rj_R_g (by omega)]
      congr 2
      omega
    refine br_f (nI_pos (by omega)) (And.intro ?_ (And.intro (vp_in_nI (by omega) (by decide)) (nm_r (e' := upd tx (s i - (d + 1)) (nI (q (6 * i + d)))) ?_ (nm_r (e' := nI (s i - d)) ?_ (nm_r (e' := nI d - 1) ?_ (ih n _ _ (by omega) (by omega) rfl ?_))))))
    · rw [rj_6]
      exact vp_in_nI (by omega) (by decide)
    · rw [rj_6, rj_fa q (by omega), rj_vb (by omega), nI_clamp (by omega)]
    · rw [nI_1, show s i - (d + 1) + 1 = s i - d by omega]
    · exact (Int32.sub_eq_add_neg _ _).symm
    · have h2 := rj_Tx_put hT (q (6 * i + d))
      rw [hl] at h2
      have h3 : (rj_R s q i).reverse.take (s i - d) = (rj_R s q i).reverse.take (s i - (d + 1)) ++ [q (6 * i + d)] := by
        rw [← hgd]
        apply rj_ext
        · rw [List.length_append, List.length_take, hl, hrl, List.length_cons, List.length_nil]
          omega
        · intro y hy
          rw [List.length_take, hrl] at hy
          by_cases hyx : y = s i - (d + 1)
          · rw [hyx, rj_g_take (by omega)]
            have := rj_g_end ((rj_R s q i).reverse.take (s i - (d + 1))) (rj_g (rj_R s q i).reverse (s i - (d + 1)))
            rw [hl] at this
            exact this.symm
          · rw [rj_g_take (by omega), rj_g_lo (by omega), rj_g_take (by omega)]
      rw [h3]
      exact h2
theorem rj_xhasReverse (hG : rj_Gd c s q) {i : Nat} (hi : i < c) {post : Int32 → SX → Prop} (hp : ∀ w, rj_AN c s q (2 ^ c - 1) w → w.length ≤ 30 → (rj_inf (rj_R s q i).reverse w → ∀ ts js tx bd la ad ch on ot jn, post 1 (nI c, ts, js, rj_f s, rj_f q, tx, bd, la, ad, ch, on, ot, jn)) ∧ (¬ rj_inf (rj_R s q i).reverse w → ∀ ts js tx bd la ad ch on ot jn, post 0 (nI c, ts, js, rj_f s, rj_f q, tx, bd, la, ad, ch, on, ot, jn))) : wpX_hasReverse post (nI c, ts, js, rj_f s, rj_f q, tx, bd, la, ad, ch, on, ot, jn) (nI i) := by
  obtain ⟨a1, a2, a3⟩ := rj_allT c hG.1
  have hc := hG.1
  have h6 := hG.2.1 i
  unfold wpX_hasReverse
  refine rj_xyes hc hi (br_f (by decide) (rj_xall <| rj_xsolveE hG a2 a1 fun w hw h30 ts1 tx1 bd1 la1 ad1 ch1 on1 ot1 jn1 hJ => And.intro (vp_in_nI (by omega) (by decide)) (nm_e (Exists.intro (s i + 1) ?_))))
  rw [rj_fa s (by omega)]
  have h3 := rj_hr34 (bd := bd1) (la := la1) (ad := ad1) (ch := ch1) (on := on1) (ot := ot1) hG (i := i) (by omega) hw.1 h30 hJ (fun h ts tx bd => (hp w hw h30).1 h ts (nI w.length) tx bd la1 ad1 ch1 on1 ot1 jn1) (fun h ts tx bd => (hp w hw h30).2 h ts (nI w.length) tx bd la1 ad1 ch1 on1 ot1 jn1) (s i) (s i + 1) (nI (s i) - 1) tx1 (by omega) (by omega) rfl (by rw [Nat.sub_self, List.take_zero]; exact rj_Tx_nil _)
  rw [Nat.sub_self] at h3
  exact h3
end
/-! the reference: places in the join -/
section
variable {c : Nat} {s q : Nat → Nat} {ne nr nd jo wd : Nat → Int32}
theorem rj_sd0 (hG : rj_Gd c s q) {i p : Nat} (hi : i < 5) {w : List Nat} (hw : rj_ok w) (h30 : w.length ≤ 30) (hT : rj_Tx w jo) (hp : p + s i ≤ w.length) {post : Int32 → Prop} (h1 : rj_occ (rj_R s q i) w p → post 1) (h0 : ¬ rj_occ (rj_R s q i) w p → post 0) :
    (∀ n x, x ≤ s i → s i < n + x → post 0 → wY_stands_6 post (nI i) (nI p) 0 (nI c) (rj_f s) (rj_f q) ne nr nd jo wd n 0 (nI x)) ∧ ∀ n x, x ≤ s i → s i < n + x → (∀ y, y < x → rj_g w (p + y) = rj_g (rj_R s q i) y) → wY_stands_6 post (nI i) (nI p) 0 (nI c) (rj_f s) (rj_f q) ne nr nd jo wd n 1 (nI x) := by
  have h6 := hG.2.1 i
  have hPl : (rj_R s q i).length = s i := by rw [rj_R_len]
  have hz : ∀ n x, x ≤ s i → s i < n + x → post 0 → wY_stands_6 post (nI i) (nI p) 0 (nI c) (rj_f s) (rj_f q) ne nr nd jo wd n 0 (nI x) := by
    intro n
    induction n with
    | zero => intro x a b; omega
    | succ n ih =>
      intro x hx hn hno
      refine And.intro (vp_in_nI hi (by decide)) ?_
      rw [rj_fa s (by omega)]
      exact pk_le (s i) x (fun _ => And.intro rj_b0 hno) (fun h => br_t rfl (br_t rfl (nm_r (nI_1 _) (ih (x + 1) (by omega) (by omega) hno))))
  refine ⟨hz, ?_⟩
  intro n
  induction n with
  | zero => intro x a b; omega
  | succ n ih =>
    intro x hx hn he
    refine And.intro (vp_in_nI hi (by decide)) ?_
    rw [rj_fa s (by omega)]
    refine pk_le (s i) x (fun h => And.intro rj_b1 (h1 ⟨by omega, fun y hy => he y (by omega)⟩)) (fun h => br_t rfl (br_f (by decide) ?_))
    have q1 := hG.2.2 (6 * i + x)
    have q2 := hw (p + x) (by omega)
    have hg : rj_g (rj_R s q i) x = q (6 * i + x) := by
      exact rj_R_g (by omega)
    rw [nI_add, rj_6l, nI_clamp (n := p + x) (by omega), hT _ (by omega), rj_fa q (by omega), nI_eq (by omega) (by omega)]
    refine And.intro (vp_in_nI (by omega) (by decide)) (And.intro (vp_in_nI (by omega) (by decide)) ⟨fun h2 => nm_r (nI_1 _) (ih (x + 1) (by omega) (by omega) fun y hy => ?_), fun h2 => nm_r (nI_1 _) (hz n (x + 1) (by omega) (by omega) (h0 fun ho => h2 ?_))⟩)
    · by_cases hyx : y = x
      · rw [hyx, h2, hg]
      · exact he y (by omega)
    · rw [ho.2 x (by omega), hg]
theorem rj_stands0 (hG : rj_Gd c s q) {i p : Nat} (hi : i < 5) {w : List Nat} (hw : rj_ok w) (h30 : w.length ≤ 30) (hT : rj_Tx w jo) (hp : p + s i ≤ w.length) {post : Int32 → Prop} (h1 : rj_occ (rj_R s q i) w p → post 1) (h0 : ¬ rj_occ (rj_R s q i) w p → post 0) : wpY_stands post (nI c, rj_f s, rj_f q, ne, nr, nd, jo, wd) (nI i) (nI p) 0 :=
  Exists.intro (s i + 1) ((rj_sd0 hG hi hw h30 hT hp h1 h0).2 (s i + 1) 0 (by omega) (by omega) fun y hy => absurd hy (Nat.not_lt_zero _))
theorem rj_sd1 (hG : rj_Gd c s q) {i p : Nat} (hi : i < 5) {w : List Nat} (hw : rj_ok w) (h30 : w.length ≤ 30) (hT : rj_Tx w jo) (hp : p + s i ≤ w.length) {post : Int32 → Prop} (h1 : rj_occ (rj_R s q i).reverse w p → post 1) (h0 : ¬ rj_occ (rj_R s q i).reverse w p → post 0) :
    (∀ n x, x ≤ s i → s i < n + x → post 0 → wY_stands_6 post (nI i) (nI p) 1 (nI c) (rj_f s) (rj_f q) ne nr nd jo wd n 0 (nI x)) ∧ ∀ n x, x ≤ s i → s i < n + x → (∀ y, y < x → rj_g w (p + y) = rj_g (rj_R s q i).reverse y) → wY_stands_6 post (nI i) (nI p) 1 (nI c) (rj_f s) (rj_f q) ne nr nd jo wd n 1 (nI x) := by
  have h6 := hG.2.1 i
  have hPl : (rj_R s q i).reverse.length = s i := by rw [List.length_reverse, rj_R_len]
  have hz : ∀ n x, x ≤ s i → s i < n + x → post 0 → wY_stands_6 post (nI i) (nI p) 1 (nI c) (rj_f s) (rj_f q) ne nr nd jo wd n 0 (nI x) := by
    intro n
    induction n with
    | zero => intro x a b; omega
    | succ n ih =>
      intro x hx hn hno
      refine And.intro (vp_in_nI hi (by decide)) ?_
      rw [rj_fa s (by omega)]
      exact pk_le (s i) x (fun _ => And.intro rj_b0 hno) (fun h => br_f (by decide) <| And.intro (vp_in_nI hi (by decide)) <| (br_t rfl (nm_r (nI_1 _) (ih (x + 1) (by omega) (by omega) hno))))
  refine ⟨hz, ?_⟩
  intro n
  induction n with
  | zero => intro x a b; omega
  | succ n ih =>
    intro x hx hn he
    refine And.intro (vp_in_nI hi (by decide)) ?_
    rw [rj_fa s (by omega)]
    refine pk_le (s i) x (fun h => And.intro rj_b1 (h1 ⟨by omega, fun y hy => he y (by omega)⟩)) (fun h => br_f (by decide) <| And.intro (vp_in_nI hi (by decide)) <| (br_f (by decide) ?_))
    have q1 := hG.2.2 (6 * i + (s i - 1 - x))
    have q2 := hw (p + x) (by omega)
    have hg : rj_g (rj_R s q i).reverse x = q (6 * i + (s i - 1 - x)) := by
      rw [rj_rev_g (by rw [rj_R_len]; omega), rj_R_len, rj_R_g (by omega)]
    have e1 : nI (s i) - 1 - nI x = nI (s i - 1 - x) := by
      obtain ⟨N, hN⟩ : ∃ M, s i = M + 1 := ⟨s i - 1, by omega⟩
      rw [hN, nI_pred, pk_sub (by omega), Nat.add_sub_cancel]
    rw [e1]
    rw [nI_add, rj_6l, nI_clamp (n := p + x) (by omega), hT _ (by omega), rj_fa q (by omega), nI_eq (by omega) (by omega)]
    refine And.intro (vp_in_nI (by omega) (by decide)) (And.intro (vp_in_nI (by omega) (by decide)) ⟨fun h2 => nm_r (nI_1 _) (ih (x + 1) (by omega) (by omega) fun y hy => ?_), fun h2 => nm_r (nI_1 _) (hz n (x + 1) (by omega) (by omega) (h0 fun ho => h2 ?_))⟩)
    · by_cases hyx : y = x
      · rw [hyx, h2, hg]
      · exact he y (by omega)
    · rw [ho.2 x (by omega), hg]
theorem rj_stands1 (hG : rj_Gd c s q) {i p : Nat} (hi : i < 5) {w : List Nat} (hw : rj_ok w) (h30 : w.length ≤ 30) (hT : rj_Tx w jo) (hp : p + s i ≤ w.length) {post : Int32 → Prop} (h1 : rj_occ (rj_R s q i).reverse w p → post 1) (h0 : ¬ rj_occ (rj_R s q i).reverse w p → post 0) : wpY_stands post (nI c, rj_f s, rj_f q, ne, nr, nd, jo, wd) (nI i) (nI p) 1 :=
  Exists.intro (s i + 1) ((rj_sd1 hG hi hw h30 hT hp h1 h0).2 (s i + 1) 0 (by omega) (by omega) fun y hy => absurd hy (Nat.not_lt_zero _))
theorem rj_pl7 (hG : rj_Gd c s q) {i : Nat} (hi : i < c) {w : List Nat} (hw : rj_ok w) (h30 : w.length ≤ 30) (hT : rj_Tx w jo) {post : Int32 → SY → Prop} (hp : ∀ r, rj_FM (rj_R s q i) w r → post r (nI c, rj_f s, rj_f q, ne, nr, nd, jo, wd)) :
    ∀ n p, p ≤ w.length + 1 → w.length + 1 < n + p → (∀ p', p' < p → ¬ rj_occ (rj_R s q i) w p') → wY_place_7 post (nI i) (nI w.length) (nI c) (rj_f s) (rj_f q) ne nr nd jo wd n (nI p) := by
  have h6 := hG.2.1 i
  have hc := hG.1
  intro n
  induction n with
  | zero => intro p a b; omega
  | succ n ih =>
    intro p hpw hn hno
    rw [wY_place_7]
    refine rj_yyes hc hi (br_f (by decide) (And.intro (vp_in_nI (by omega) (by decide)) ?_))
    rw [rj_fa s (by omega), nI_add]
    refine pk_lt w.length (p + s i) (fun h => hp _ (Or.inr ⟨rfl, fun p' ho => ?_⟩)) (fun h => rj_stands0 hG (by omega) hw h30 hT h (fun ho => br_f (by decide) (hp _ (Or.inl ⟨p, rfl, ho, hno⟩))) (fun ho => br_t rfl (nm_r (nI_1 _) (ih (p + 1) (by omega) (by omega) fun p' hp' => ?_))))
    · have h2 := ho.1
      rw [rj_R_len] at h2
      exact hno p' (by omega) ho
    · by_cases e : p' = p
      · rw [e]; exact ho
      · exact hno p' (by omega)
theorem rj_yplace (hG : rj_Gd c s q) {i : Nat} (hi : i < c) {post : Int32 → SY → Prop} (hp : ∀ w r, rj_AN c s q (2 ^ c - 1) w → rj_FM (rj_R s q i) w r → ∀ ne nr nd jo wd, post r (nI c, rj_f s, rj_f q, ne, nr, nd, jo, wd)) : wpY_place post (nI c, rj_f s, rj_f q, ne, nr, nd, jo, wd) (nI i) := by
  unfold wpY_place
  exact rj_write hG fun w ne nr nd jo wd hw h30 hT => Exists.intro (w.length + 2) (rj_pl7 hG hi hw.1 h30 hT (fun r hr => hp w r hw hr _ _ _ _ _) (w.length + 2) 0 (by omega) (by omega) fun p' h => absurd h (Nat.not_lt_zero _))
theorem rj_yplace0 (hG : rj_Gd c s q) {v : Int32} (h : v < 0 ∨ nI c ≤ v) {post : Int32 → SY → Prop} (hp : ∀ ne nr nd jo wd, post (-1) (nI c, rj_f s, rj_f q, ne, nr, nd, jo, wd)) : wpY_place post (nI c, rj_f s, rj_f q, ne, nr, nd, jo, wd) v := by
  unfold wpY_place
  exact rj_write hG fun w ne nr nd jo wd hw h30 hT => Exists.intro 1 (by rw [wY_place_7]; exact rj_yno h (br_t rfl (hp _ _ _ _ _)))
theorem rj_hr10 (hG : rj_Gd c s q) {i : Nat} (hi : i < c) {w : List Nat} (hw : rj_ok w) (h30 : w.length ≤ 30) (hT : rj_Tx w jo) {post : Int32 → SY → Prop} (h1 : rj_inf (rj_R s q i).reverse w → post 1 (nI c, rj_f s, rj_f q, ne, nr, nd, jo, wd)) (h0 : ¬ rj_inf (rj_R s q i).reverse w → post 0 (nI c, rj_f s, rj_f q, ne, nr, nd, jo, wd)) :
    (∀ n p, p ≤ w.length + 1 → w.length + 1 < n + p → post 1 (nI c, rj_f s, rj_f q, ne, nr, nd, jo, wd) → wY_hasReverse_10 post (nI i) (nI w.length) (nI c) (rj_f s) (rj_f q) ne nr nd jo wd n 1 (nI p)) ∧
    ∀ n p, p ≤ w.length + 1 → w.length + 1 < n + p → (∀ p', p' < p → ¬ rj_occ (rj_R s q i).reverse w p') → wY_hasReverse_10 post (nI i) (nI w.length) (nI c) (rj_f s) (rj_f q) ne nr nd jo wd n 0 (nI p) := by
  have h6 := hG.2.1 i
  have hc := hG.1
  have hz : ∀ n p, p ≤ w.length + 1 → w.length + 1 < n + p → post 1 (nI c, rj_f s, rj_f q, ne, nr, nd, jo, wd) → wY_hasReverse_10 post (nI i) (nI w.length) (nI c) (rj_f s) (rj_f q) ne nr nd jo wd n 1 (nI p) := by
    intro n
    induction n with
    | zero => intro p a b; omega
    | succ n ih =>
      intro p hpw hn hy
      rw [wY_hasReverse_10]
      refine rj_yyes hc hi (br_f (by decide) (And.intro (vp_in_nI (by omega) (by decide)) ?_))
      rw [rj_fa s (by omega), nI_add]
      exact pk_lt w.length (p + s i) (fun h => And.intro rj_b1 hy) (fun h => br_f (by decide) (nm_r (nI_1 _) (ih (p + 1) (by omega) (by omega) hy)))
  refine ⟨hz, ?_⟩
  intro n
  induction n with
  | zero => intro p a b; omega
  | succ n ih =>
    intro p hpw hn hno
    rw [wY_hasReverse_10]
    refine rj_yyes hc hi (br_f (by decide) (And.intro (vp_in_nI (by omega) (by decide)) ?_))
    rw [rj_fa s (by omega), nI_add]
    refine pk_lt w.length (p + s i) (fun h => And.intro rj_b0 (h0 ?_)) (fun h => br_t rfl (rj_stands1 hG (by omega) hw h30 hT h (fun ho => br_f (by decide) (nm_r (nI_1 _) (hz n (p + 1) (by omega) (by omega) (h1 ⟨p, ho⟩)))) (fun ho => br_t rfl (nm_r (nI_1 _) (ih (p + 1) (by omega) (by omega) fun p' hp' => ?_)))))
    · rintro ⟨p', ho⟩
      have h2 := ho.1
      rw [List.length_reverse, rj_R_len] at h2
      exact hno p' (by omega) ho
    · by_cases e : p' = p
      · rw [e]; exact ho
      · exact hno p' (by omega)
theorem rj_yhasReverse (hG : rj_Gd c s q) {i : Nat} (hi : i < c) {post : Int32 → SY → Prop} (hp : ∀ w, rj_AN c s q (2 ^ c - 1) w → ∀ ne nr nd jo wd, (rj_inf (rj_R s q i).reverse w → post 1 (nI c, rj_f s, rj_f q, ne, nr, nd, jo, wd)) ∧ (¬ rj_inf (rj_R s q i).reverse w → post 0 (nI c, rj_f s, rj_f q, ne, nr, nd, jo, wd))) : wpY_hasReverse post (nI c, rj_f s, rj_f q, ne, nr, nd, jo, wd) (nI i) := by
  unfold wpY_hasReverse
  exact rj_write hG fun w ne nr nd jo wd hw h30 hT => Exists.intro (w.length + 2) ((rj_hr10 hG hi hw.1 h30 hT (hp w hw ne nr nd jo wd).1 (hp w hw ne nr nd jo wd).2).2 (w.length + 2) 0 (by omega) (by omega) fun p' h => absurd h (Nat.not_lt_zero _))
theorem rj_yhasReverse0 (hG : rj_Gd c s q) {v : Int32} (h : v < 0 ∨ nI c ≤ v) {post : Int32 → SY → Prop} (hp : ∀ ne nr nd jo wd, post 0 (nI c, rj_f s, rj_f q, ne, nr, nd, jo, wd)) : wpY_hasReverse post (nI c, rj_f s, rj_f q, ne, nr, nd, jo, wd) v := by
  unfold wpY_hasReverse
  exact rj_write hG fun w ne nr nd jo wd hw h30 hT => Exists.intro 1 (by rw [wY_hasReverse_10]; exact rj_yno h (br_t rfl (And.intro rj_b0 (hp _ _ _ _ _))))
end
end
section
/-! removing a read, on both sides -/
def rj_cp (k : Nat) : Nat → Nat → (Nat → Nat) → Nat → Nat
  | 0, _, q => q
  | d + 1, x, q => rj_cp k d (x + 1) (rj_put q (6 * k + x) (q (6 * (k + 1) + x)))
def rj_rmS : Nat → Nat → (Nat → Nat) → Nat → Nat
  | 0, _, s => s
  | d + 1, k, s => rj_rmS d (k + 1) (rj_put s k (s (k + 1)))
def rj_rmQ : Nat → Nat → (Nat → Nat) → Nat → Nat
  | 0, _, q => q
  | d + 1, k, q => rj_rmQ d (k + 1) (rj_cp k 6 0 q)
theorem rj_put_le {f : Nat → Nat} {B i v : Nat} (h : ∀ j, f j ≤ B) (hv : v ≤ B) : ∀ j, rj_put f i v j ≤ B := by
  intro j
  unfold rj_put
  by_cases e : j = i
  · rw [if_pos e]; exact hv
  · rw [if_neg e]; exact h j
theorem rj_cp_le {B k : Nat} : ∀ (d x : Nat) (q : Nat → Nat), (∀ j, q j ≤ B) → ∀ j, rj_cp k d x q j ≤ B := by
  intro d
  induction d with
  | zero => intro x q h; exact h
  | succ d ih => intro x q h; exact ih (x + 1) _ (rj_put_le h (h _))
theorem rj_rmS_le {B : Nat} : ∀ (d k : Nat) (s : Nat → Nat), (∀ j, s j ≤ B) → ∀ j, rj_rmS d k s j ≤ B := by
  intro d
  induction d with
  | zero => intro k s h; exact h
  | succ d ih => intro k s h; exact ih (k + 1) _ (rj_put_le h (h _))
theorem rj_rmQ_le {B : Nat} : ∀ (d k : Nat) (q : Nat → Nat), (∀ j, q j ≤ B) → ∀ j, rj_rmQ d k q j ≤ B := by
  intro d
  induction d with
  | zero => intro k q h; exact h
  | succ d ih => intro k q h; exact ih (k + 1) _ (rj_cp_le 6 0 q h)
section
variable {c : Nat} {s q : Nat → Nat} {ts js : Int32} {tx bd la ad ch on ot jn : Nat → Int32}
theorem rj_xrm38 {post : Int32 → SX → Prop} {J : Int32 → (Nat → Int32) → (Nat → Int32) → (Nat → Int32) → (Nat → Int32) → (Nat → Int32) → (Nat → Int32) → (Nat → Int32) → (Nat → Int32) → (Nat → Int32) → (Nat → Int32) → Prop} {k : Nat} (hk : k + 1 < 5) :
    ∀ (d x n : Nat) (q : Nat → Nat), x + d = 6 → d < n → (∀ i, q i ≤ 3) → J (nI (k + 1)) (rj_f s) (rj_f (rj_cp k d x q)) tx bd la ad ch on ot jn → wX_remove_38 post J (nI k) (nI c) ts js n (nI x) (rj_f s) (rj_f q) tx bd la ad ch on ot jn := by
  intro d
  induction d with
  | zero =>
    intro x n q hx hn hq hJ
    obtain ⟨n, rfl⟩ : ∃ m, n = m + 1 := ⟨n - 1, by omega⟩
    exact br_t (nI_le (a := 6) (by omega) (by omega)) (nm_r (nI_1 _) hJ)
  | succ d ih =>
    intro x n q hx hn hq hJ
    obtain ⟨n, rfl⟩ : ∃ m, n = m + 1 := ⟨n - 1, by omega⟩
    have h3 := hq (6 * (k + 1) + x)
    refine br_f (nI_ge (b := 6) (by omega) (by decide)) (And.intro ?_ (And.intro ?_ (nm_r (e' := rj_f (rj_put q (6 * k + x) (q (6 * (k + 1) + x)))) ?_ (nm_r (nI_1 _) (ih (x + 1) n _ (by omega) (by omega) (rj_put_le hq h3) hJ)))))
    · rw [nI_1, rj_6]; exact vp_in_nI (by omega) (by decide)
    · rw [rj_6]; exact vp_in_nI (by omega) (by decide)
    · rw [nI_1, rj_6, rj_6, rj_fa q (by omega), rj_vb (by omega), nI_clamp (by omega), rj_upd]
theorem rj_xrm12 {post : Int32 → SX → Prop} : ∀ (d k n : Nat) (s q : Nat → Nat), k + d + 1 = c → d < n → rj_Gd c s q → post 1 (nI (c - 1), ts, js, rj_f (rj_rmS d k s), rj_f (rj_rmQ d k q), tx, bd, la, ad, ch, on, ot, jn) → wX_remove_12 post (nI c) ts js n (nI k) (rj_f s) (rj_f q) tx bd la ad ch on ot jn := by
  intro d
  induction d with
  | zero =>
    intro k n s q hk hn hG hp
    obtain ⟨n, rfl⟩ : ∃ m, n = m + 1 := ⟨n - 1, by omega⟩
    have hc := hG.1
    have e1 : nI c - 1 = nI (c - 1) := by
      obtain ⟨m, rfl⟩ : ∃ m, c = m + 1 := ⟨c - 1, by omega⟩
      rw [nI_pred, Nat.add_sub_cancel]
    refine br_t ?_ (nm_r e1 hp)
    rw [e1]
    exact nI_le (by omega) (by omega)
  | succ d ih =>
    intro k n s q hk hn hG hp
    obtain ⟨n, rfl⟩ : ∃ m, n = m + 1 := ⟨n - 1, by omega⟩
    have hc := hG.1
    have h6 := hG.2.1 (k + 1)
    have e1 : nI c - 1 = nI (c - 1) := by
      obtain ⟨m, rfl⟩ : ∃ m, c = m + 1 := ⟨c - 1, by omega⟩
      rw [nI_pred, Nat.add_sub_cancel]
    refine br_f ?_ (And.intro ?_ (And.intro (vp_in_nI (by omega) (by decide)) (nm_r (e' := rj_f (rj_put s k (s (k + 1)))) ?_ (Exists.intro 7 (rj_xrm38 (by omega) 6 0 7 q (by omega) (by omega) hG.2.2 (ih (k + 1) n _ _ (by omega) (by omega) ⟨hc, rj_put_le hG.2.1 h6, rj_cp_le 6 0 q hG.2.2⟩ hp))))))
    · rw [e1]; exact nI_ge (by omega) (by omega)
    · rw [nI_1]; exact vp_in_nI (by omega) (by decide)
    · rw [nI_1, rj_fa s (by omega), rj_vb (by omega), nI_clamp (by omega), rj_upd]
theorem rj_xremove (hG : rj_Gd c s q) {i : Nat} (hi : i < c) {post : Int32 → SX → Prop} (hp : post 1 (nI (c - 1), ts, js, rj_f (rj_rmS (c - 1 - i) i s), rj_f (rj_rmQ (c - 1 - i) i q), tx, bd, la, ad, ch, on, ot, jn)) : wpX_remove post (nI c, ts, js, rj_f s, rj_f q, tx, bd, la, ad, ch, on, ot, jn) (nI i) := by
  unfold wpX_remove
  exact rj_xyes hG.1 hi (br_f (by decide) (Exists.intro (c + 1) (rj_xrm12 (c - 1 - i) i (c + 1) s q (by omega) (by omega) hG hp)))
end
section
variable {c : Nat} {s q : Nat → Nat} {ne nr nd jo wd : Nat → Int32}
theorem rj_yrm38 {post : Int32 → SY → Prop} {J : Int32 → (Nat → Int32) → (Nat → Int32) → (Nat → Int32) → (Nat → Int32) → (Nat → Int32) → (Nat → Int32) → (Nat → Int32) → Prop} {k : Nat} (hk : k + 1 < 5) :
    ∀ (d x n : Nat) (q : Nat → Nat), x + d = 6 → d < n → J (nI (k + 1)) (rj_f s) (rj_f (rj_cp k d x q)) ne nr nd jo wd → wY_remove_38 post J (nI k) (nI c) n (nI x) (rj_f s) (rj_f q) ne nr nd jo wd := by
  intro d
  induction d with
  | zero =>
    intro x n q hx hn hJ
    obtain ⟨n, rfl⟩ : ∃ m, n = m + 1 := ⟨n - 1, by omega⟩
    exact br_t (nI_le (a := 6) (by omega) (by omega)) (nm_r (nI_1 _) hJ)
  | succ d ih =>
    intro x n q hx hn hJ
    obtain ⟨n, rfl⟩ : ∃ m, n = m + 1 := ⟨n - 1, by omega⟩
    have e6 : 6 * nI k + 6 + nI x = nI (6 * (k + 1) + x) := by
      show 6 * nI k + nI 6 + nI x = _
      rw [rj_6l, nI_add]
      exact congrArg nI (by omega)
    refine br_f (nI_ge (b := 6) (by omega) (by decide)) (And.intro ?_ (And.intro ?_ (nm_r (e' := rj_f (rj_put q (6 * k + x) (q (6 * (k + 1) + x)))) ?_ (nm_r (nI_1 _) (ih (x + 1) n _ (by omega) (by omega) hJ)))))
    · rw [e6]; exact vp_in_nI (by omega) (by decide)
    · rw [rj_6l]; exact vp_in_nI (by omega) (by decide)
    · rw [e6, rj_6l, rj_fa q (by omega), nI_clamp (by omega), rj_upd]
theorem rj_yrm12 (hc : c ≤ 5) {post : Int32 → SY → Prop} : ∀ (d k n : Nat) (s q : Nat → Nat), k + d + 1 = c → d < n → post 1 (nI (c - 1), rj_f (rj_rmS d k s), rj_f (rj_rmQ d k q), ne, nr, nd, jo, wd) → wY_remove_12 post (nI c) n (nI k) (rj_f s) (rj_f q) ne nr nd jo wd := by
  have e1 : 0 < c → nI c - 1 = nI (c - 1) := by
    intro h
    obtain ⟨m, rfl⟩ : ∃ m, c = m + 1 := ⟨c - 1, by omega⟩
    rw [nI_pred, Nat.add_sub_cancel]
  intro d
  induction d with
  | zero =>
    intro k n s q hk hn hp
    obtain ⟨n, rfl⟩ : ∃ m, n = m + 1 := ⟨n - 1, by omega⟩
    refine br_t ?_ (nm_r (e1 (by omega)) hp)
    rw [nI_1]
    exact nI_le (by omega) (by omega)
  | succ d ih =>
    intro k n s q hk hn hp
    obtain ⟨n, rfl⟩ : ∃ m, n = m + 1 := ⟨n - 1, by omega⟩
    refine br_f ?_ (And.intro ?_ (And.intro (vp_in_nI (by omega) (by decide)) (nm_r (e' := rj_f (rj_put s k (s (k + 1)))) ?_ (Exists.intro 7 (rj_yrm38 (by omega) 6 0 7 q (by omega) (by omega) (ih (k + 1) n _ _ (by omega) (by omega) hp))))))
    · rw [nI_1]; exact nI_ge (by omega) (by omega)
    · rw [nI_1]; exact vp_in_nI (by omega) (by decide)
    · rw [nI_1, rj_fa s (by omega), nI_clamp (by omega), rj_upd]
theorem rj_yremove (hG : rj_Gd c s q) {i : Nat} (hi : i < c) {post : Int32 → SY → Prop} (hp : post 1 (nI (c - 1), rj_f (rj_rmS (c - 1 - i) i s), rj_f (rj_rmQ (c - 1 - i) i q), ne, nr, nd, jo, wd)) : wpY_remove post (nI c, rj_f s, rj_f q, ne, nr, nd, jo, wd) (nI i) := by
  unfold wpY_remove
  exact rj_yyes hG.1 hi (br_f (by decide) (Exists.intro (c + 1) (rj_yrm12 hG.1 (c - 1 - i) i (c + 1) s q (by omega) (by omega) hp)))
end
end
section
/-! what is owed -/
/-- the same count, sizes and symbols on both sides; nothing of the rest -/
def i_Rel (k : Nat) (u : SX) (v : SY) : Prop := ∃ c s q, rj_Gd c s q ∧ u.1 = nI c ∧ u.2.2.2.1 = rj_f s ∧ u.2.2.2.2.1 = rj_f q ∧ v.1 = nI c ∧ v.2.1 = rj_f s ∧ v.2.2.1 = rj_f q
theorem rj_rel {c : Nat} {s q : Nat → Nat} {ts js : Int32} {tx bd la ad ch on ot jn ne nr nd jo wd : Nat → Int32} {k : Nat} (hG : rj_Gd c s q) : i_Rel k (nI c, ts, js, rj_f s, rj_f q, tx, bd, la, ad, ch, on, ot, jn) (nI c, rj_f s, rj_f q, ne, nr, nd, jo, wd) := ⟨c, s, q, hG, rfl, rfl, rfl, rfl, rfl, rfl⟩
theorem rj_elim {k : Nat} {u : SX} {v : SY} {P : SX → SY → Prop} (I : i_Rel k u v) (h : ∀ (c : Nat) (s q : Nat → Nat) (ts js : Int32) (tx bd la ad ch on ot jn ne nr nd jo wd : Nat → Int32), rj_Gd c s q → P (nI c, ts, js, rj_f s, rj_f q, tx, bd, la, ad, ch, on, ot, jn) (nI c, rj_f s, rj_f q, ne, nr, nd, jo, wd)) : P u v := by
  obtain ⟨c, s, q, hG, e1, e2, e3, e4, e5, e6⟩ := I
  obtain ⟨a1, a2, a3, a4, a5, a6, a7, a8, a9, a10, a11, a12, a13⟩ := u
  obtain ⟨b1, b2, b3, b4, b5, b6, b7, b8⟩ := v
  dsimp only at e1 e2 e3 e4 e5 e6
  subst e1 e2 e3 e4 e5 e6
  exact h c s q a2 a3 a6 a7 a8 a9 a10 a11 a12 a13 b4 b5 b6 b7 b8 hG
theorem i_up {k : Nat} {u : SX} {v : SY} (h : i_Rel k u v) : i_Rel (k + 3) u v := h
theorem i_vc0 : wpX_init (fun u => wpY_init (fun v => i_Rel 0 u v)) := ⟨0, fun _ => 0, fun _ => 0, ⟨by omega, fun _ => Nat.zero_le _, fun _ => Nat.zero_le _⟩, rfl, rfl, rfl, rfl, rfl, rfl⟩
theorem i_vc_begin {k : Nat} {u : SX} {v : SY} (I : i_Rel k u v) (hk : k + 3 ≤ 1536) : wpX_begin (fun r u' => wpY_begin (fun r' v' => r' = r ∧ i_Rel (k + 3) u' v') v) u := by
  refine rj_elim (P := fun u v => wpX_begin (fun r u' => wpY_begin (fun r' v' => r' = r ∧ i_Rel (k + 3) u' v') v) u) I ?_
  intro c s q ts js tx bd la ad ch on ot jn ne nr nd jo wd hG
  have hc := hG.1
  have hz : upd (rj_f s) (nI c).toNatClampNeg 0 = rj_f (rj_put s c 0) := by
    rw [nI_clamp (by omega)]
    exact rj_upd s c 0
  refine pk_lt c 5 (fun h => And.intro (vp_in_nI h (by decide)) (nm_r (e' := rj_f (rj_put s c 0)) (by rw [rj_vb0, hz]) (nm_r (nI_1 _) ?_))) (fun h => ?_)
  · exact br_t (nI_lt (b := 5) h (by decide)) (And.intro (vp_in_nI h (by decide)) (nm_r hz (nm_r (nI_1 _) ⟨rfl, rj_rel ⟨by omega, rj_put_le hG.2.1 (by omega), hG.2.2⟩⟩)))
  · exact br_f (nI_nlt (b := 5) h (by omega)) ⟨rfl, rj_rel hG⟩
theorem i_vc_append {k : Nat} {u : SX} {v : SY} (I : i_Rel k u v) (hk : k + 3 ≤ 1536) (v1 : Int32) (v2 : Int32) : wpX_append (fun r u' => wpY_append (fun r' v' => r' = r ∧ i_Rel (k + 3) u' v') v v1 v2) u v1 v2 := by
  refine rj_elim (P := fun u v => wpX_append (fun r u' => wpY_append (fun r' v' => r' = r ∧ i_Rel (k + 3) u' v') v v1 v2) u v1 v2) I ?_
  intro c s q ts js tx bd la ad ch on ot jn ne nr nd jo wd hG
  have hc := hG.1
  unfold wpX_append wpY_append
  rcases pk_ix v1 (n := c) (by omega) with h | h | ⟨i, hi, rfl⟩
  · exact rj_xno (Or.inl h) (br_t rfl (rj_yno (Or.inl h) (br_t rfl ⟨rfl, rj_rel hG⟩)))
  · exact rj_xno (Or.inr h) (br_t rfl (rj_yno (Or.inr h) (br_t rfl ⟨rfl, rj_rel hG⟩)))
  · have h6 := hG.2.1 i
    refine rj_xyes hc hi (br_f (by decide) ?_)
    by_cases h2 : v2 < 0
    · exact br_t h2 (rj_yyes hc hi (br_f (by decide) (br_t h2 ⟨rfl, rj_rel hG⟩)))
    · refine br_f h2 ?_
      by_cases h3 : 3 < v2
      · exact br_t h3 (rj_yyes hc hi (br_f (by decide) (br_f h2 (br_t h3 ⟨rfl, rj_rel hG⟩))))
      · obtain ⟨x, hx, rfl⟩ := nI_of2 (M := 3) (n := 3) (by decide) h2 (Int32.not_lt.mp h3)
        refine br_f h3 (And.intro (vp_in_nI (by omega) (by decide)) ?_)
        rw [rj_fa s (by omega)]
        have es : upd (rj_f s) (nI i).toNatClampNeg (nI (s i) + 1) = rj_f (rj_put s i (s i + 1)) := by rw [nI_clamp (by omega), nI_1, rj_upd]
        refine pk_lt (s i) 6 (fun h => And.intro (vp_in_nI (by omega) (by decide)) (And.intro ?_ (nm_r (e' := rj_f (rj_put q (6 * i + s i) x)) ?_ (And.intro (vp_in_nI (by omega) (by decide)) (And.intro (vp_in_nI (by omega) (by decide)) (nm_r (e' := rj_f (rj_put s i (s i + 1))) ?_ ?_)))))) (fun h => ?_)
        · rw [rj_6]; exact vp_in_nI (by omega) (by decide)
        · rw [rj_6, nI_clamp (by omega), rj_vb8 (by omega), rj_upd]
        · rw [← es, nI_1, rj_vb8 (by omega)]
        · refine rj_yyes hc hi (br_f (by decide) (br_f h2 (br_f h3 (And.intro (vp_in_nI (by omega) (by decide)) ?_))))
          rw [rj_fa s (by omega)]
          refine br_t (nI_lt (b := 6) h (by decide)) (And.intro (vp_in_nI (by omega) (by decide)) (And.intro ?_ (nm_r (e' := rj_f (rj_put q (6 * i + s i) x)) ?_ (And.intro (vp_in_nI (by omega) (by decide)) (And.intro (vp_in_nI (by omega) (by decide)) (nm_r es ⟨rfl, rj_rel ⟨hc, rj_put_le hG.2.1 (by omega), rj_put_le hG.2.2 hx⟩⟩))))))
          · rw [rj_6l]; exact vp_in_nI (by omega) (by decide)
          · rw [rj_6l, nI_clamp (by omega), rj_upd]
        · refine rj_yyes hc hi (br_f (by decide) (br_f h2 (br_f h3 (And.intro (vp_in_nI (by omega) (by decide)) ?_))))
          rw [rj_fa s (by omega)]
          exact br_f (nI_nlt (b := 6) h (by omega)) ⟨rfl, rj_rel hG⟩
theorem i_vc_back {k : Nat} {u : SX} {v : SY} (I : i_Rel k u v) (hk : k + 3 ≤ 1536) (v1 : Int32) : wpX_back (fun r u' => wpY_back (fun r' v' => r' = r ∧ i_Rel (k + 3) u' v') v v1) u v1 := by
  refine rj_elim (P := fun u v => wpX_back (fun r u' => wpY_back (fun r' v' => r' = r ∧ i_Rel (k + 3) u' v') v v1) u v1) I ?_
  intro c s q ts js tx bd la ad ch on ot jn ne nr nd jo wd hG
  have hc := hG.1
  unfold wpX_back wpY_back
  rcases pk_ix v1 (n := c) (by omega) with h | h | ⟨i, hi, rfl⟩
  · exact rj_xno (Or.inl h) (br_t rfl (rj_yno (Or.inl h) (br_t rfl ⟨rfl, rj_rel hG⟩)))
  · exact rj_xno (Or.inr h) (br_t rfl (rj_yno (Or.inr h) (br_t rfl ⟨rfl, rj_rel hG⟩)))
  · have h6 := hG.2.1 i
    refine rj_xyes hc hi (br_f (by decide) (And.intro (vp_in_nI (by omega) (by decide)) ?_))
    rw [rj_fa s (by omega)]
    refine pk_eq (s i) 0 (fun h => ?_) (fun h => ?_)
    · refine rj_yyes hc hi (br_f (by decide) (And.intro (vp_in_nI (by omega) (by decide)) ?_))
      rw [rj_fa s (by omega)]
      exact br_t (by rw [h]; rfl) ⟨rfl, rj_rel hG⟩
    · have e1 : nI (s i) - 1 = nI (s i - 1) := by
        obtain ⟨m, hm⟩ : ∃ m, s i = m + 1 := ⟨s i - 1, by omega⟩
        rw [hm, nI_pred, Nat.add_sub_cancel]
      have es : upd (rj_f s) (nI i).toNatClampNeg (nI (s i - 1)) = rj_f (rj_put s i (s i - 1)) := by rw [nI_clamp (by omega), rj_upd]
      have eg : rj_f (rj_put s i (s i - 1)) (nI i).toNatClampNeg = nI (s i - 1) := by
        rw [rj_fa _ (by omega)]
        unfold rj_put
        rw [if_pos rfl]
      refine And.intro (vp_in_nI (by omega) (by decide)) (And.intro (vp_in_nI (by omega) (by decide)) (nm_r (e' := rj_f (rj_put s i (s i - 1))) ?_ (And.intro (vp_in_nI (by omega) (by decide)) ?_)))
      · rw [e1, rj_vb8 (by omega), es]
      · rw [eg, rj_6]
        refine And.intro (vp_in_nI (by omega) (by decide)) (rj_yyes hc hi (br_f (by decide) (And.intro (vp_in_nI (by omega) (by decide)) ?_)))
        rw [rj_fa s (by omega)]
        refine br_f (nI_ne0 (by omega) (by omega)) (And.intro (vp_in_nI (by omega) (by decide)) (And.intro (vp_in_nI (by omega) (by decide)) (nm_r (e' := rj_f (rj_put s i (s i - 1))) ?_ (And.intro (vp_in_nI (by omega) (by decide)) ?_))))
        · rw [e1, es]
        · rw [eg, rj_6l]
          exact And.intro (vp_in_nI (by omega) (by decide)) ⟨rfl, rj_rel ⟨hc, rj_put_le hG.2.1 (by omega), hG.2.2⟩⟩
theorem i_vc_remove {k : Nat} {u : SX} {v : SY} (I : i_Rel k u v) (hk : k + 3 ≤ 1536) (v1 : Int32) : wpX_remove (fun r u' => wpY_remove (fun r' v' => r' = r ∧ i_Rel (k + 3) u' v') v v1) u v1 := by
  refine rj_elim (P := fun u v => wpX_remove (fun r u' => wpY_remove (fun r' v' => r' = r ∧ i_Rel (k + 3) u' v') v v1) u v1) I ?_
  intro c s q ts js tx bd la ad ch on ot jn ne nr nd jo wd hG
  have hc := hG.1
  rcases pk_ix v1 (n := c) (by omega) with h | h | ⟨i, hi, rfl⟩
  · unfold wpX_remove wpY_remove
    exact rj_xno (Or.inl h) (br_t rfl (rj_yno (Or.inl h) (br_t rfl ⟨rfl, rj_rel hG⟩)))
  · unfold wpX_remove wpY_remove
    exact rj_xno (Or.inr h) (br_t rfl (rj_yno (Or.inr h) (br_t rfl ⟨rfl, rj_rel hG⟩)))
  · exact rj_xremove hG hi (rj_yremove hG hi ⟨rfl, rj_rel ⟨by omega, rj_rmS_le _ _ _ hG.2.1, rj_rmQ_le _ _ _ hG.2.2⟩⟩)
theorem i_vc_reads {k : Nat} {u : SX} {v : SY} (I : i_Rel k u v) (hk : k + 3 ≤ 1536) : wpX_reads (fun r => wpY_reads (fun r' => r' = r ∧ i_Rel (k + 3) u v) v) u := by
  refine rj_elim (P := fun u v => wpX_reads (fun r => wpY_reads (fun r' => r' = r ∧ i_Rel (k + 3) u v) v) u) I ?_
  intro c s q ts js tx bd la ad ch on ot jn ne nr nd jo wd hG
  exact ⟨rfl, rj_rel hG⟩
theorem i_vc_length {k : Nat} {u : SX} {v : SY} (I : i_Rel k u v) (hk : k + 3 ≤ 1536) (v1 : Int32) : wpX_length (fun r => wpY_length (fun r' => r' = r ∧ i_Rel (k + 3) u v) v v1) u v1 := by
  refine rj_elim (P := fun u v => wpX_length (fun r => wpY_length (fun r' => r' = r ∧ i_Rel (k + 3) u v) v v1) u v1) I ?_
  intro c s q ts js tx bd la ad ch on ot jn ne nr nd jo wd hG
  have hc := hG.1
  unfold wpX_length wpY_length
  rcases pk_ix v1 (n := c) (by omega) with h | h | ⟨i, hi, rfl⟩
  · exact rj_xno (Or.inl h) (br_t rfl (rj_yno (Or.inl h) (br_t rfl ⟨rfl, rj_rel hG⟩)))
  · exact rj_xno (Or.inr h) (br_t rfl (rj_yno (Or.inr h) (br_t rfl ⟨rfl, rj_rel hG⟩)))
  · exact rj_xyes hc hi (br_f (by decide) (And.intro (vp_in_nI (by omega) (by decide)) (rj_yyes hc hi (br_f (by decide) (And.intro (vp_in_nI (by omega) (by decide)) ⟨rfl, rj_rel hG⟩)))))
theorem i_vc_overlap {k : Nat} {u : SX} {v : SY} (I : i_Rel k u v) (hk : k + 3 ≤ 1536) (v1 : Int32) (v2 : Int32) : wpX_overlap (fun r u' => wpY_overlap (fun r' => r' = r ∧ i_Rel (k + 3) u' v) v v1 v2) u v1 v2 := by
  refine rj_elim (P := fun u v => wpX_overlap (fun r u' => wpY_overlap (fun r' => r' = r ∧ i_Rel (k + 3) u' v) v v1 v2) u v1 v2) I ?_
  intro c s q ts js tx bd la ad ch on ot jn ne nr nd jo wd hG
  have hc := hG.1
  unfold wpX_overlap wpY_overlap
  rcases pk_ix v1 (n := c) (by omega) with h | h | ⟨i, hi, rfl⟩
  · exact rj_xno (Or.inl h) (br_t rfl (rj_yno (Or.inl h) (br_t rfl ⟨rfl, rj_rel hG⟩)))
  · exact rj_xno (Or.inr h) (br_t rfl (rj_yno (Or.inr h) (br_t rfl ⟨rfl, rj_rel hG⟩)))
  · refine rj_xyes hc hi (br_f (by decide) ?_)
    rcases pk_ix v2 (n := c) (by omega) with h | h | ⟨j, hj, rfl⟩
    · exact rj_xno (Or.inl h) (br_t rfl (rj_yyes hc hi (br_f (by decide) (rj_yno (Or.inl h) (br_t rfl ⟨rfl, rj_rel hG⟩)))))
    · exact rj_xno (Or.inr h) (br_t rfl (rj_yyes hc hi (br_f (by decide) (rj_yno (Or.inr h) (br_t rfl ⟨rfl, rj_rel hG⟩)))))
    · have h6i := hG.2.1 i
      have h6j := hG.2.1 j
      have hmi : ∀ k', rj_OV (rj_R s q i) (rj_R s q j) k' → k' ≤ s i := fun k' h => by have := h.1; rw [rj_R_len] at this; exact this
      have hmj : ∀ k', rj_OV (rj_R s q i) (rj_R s q j) k' → k' ≤ s j := fun k' h => by have := h.2.1; rw [rj_R_len] at this; exact this
      refine rj_xyes hc hj (br_f (by decide) (rj_xlap hG (by omega) (by omega) fun ts' tx' bd' => rj_yyes hc hi (br_f (by decide) (rj_yyes hc hj (br_f (by decide) (And.intro (vp_in_nI (by omega) (by decide)) (And.intro (vp_in_nI (by omega) (by decide)) ?_)))))))
      rw [rj_fa s (by omega), rj_fa s (by omega)]
      refine pk_le (s j) (s i) (fun h => And.intro (vp_in_nI (by omega) (by decide)) (nm_e (Exists.intro 7 (rj_ov49 hG (by omega) (by omega) ⟨rfl, rj_rel hG⟩ (s j) 7 h (by omega) (by omega) hmj)))) (fun h => And.intro (vp_in_nI (by omega) (by decide)) (nm_e (Exists.intro 7 (rj_ov49 hG (by omega) (by omega) ⟨rfl, rj_rel hG⟩ (s i) 7 (by omega) (by omega) (by omega) hmi))))
theorem i_vc_contains {k : Nat} {u : SX} {v : SY} (I : i_Rel k u v) (hk : k + 3 ≤ 1536) (v1 : Int32) (v2 : Int32) : wpX_contains (fun r u' => wpY_contains (fun r' => r' = r ∧ i_Rel (k + 3) u' v) v v1 v2) u v1 v2 := by
  refine rj_elim (P := fun u v => wpX_contains (fun r u' => wpY_contains (fun r' => r' = r ∧ i_Rel (k + 3) u' v) v v1 v2) u v1 v2) I ?_
  intro c s q ts js tx bd la ad ch on ot jn ne nr nd jo wd hG
  have hc := hG.1
  unfold wpX_contains wpY_contains
  rcases pk_ix v1 (n := c) (by omega) with h | h | ⟨i, hi, rfl⟩
  · exact rj_xno (Or.inl h) (br_t rfl (rj_yno (Or.inl h) (br_t rfl ⟨rfl, rj_rel hG⟩)))
  · exact rj_xno (Or.inr h) (br_t rfl (rj_yno (Or.inr h) (br_t rfl ⟨rfl, rj_rel hG⟩)))
  · refine rj_xyes hc hi (br_f (by decide) ?_)
    rcases pk_ix v2 (n := c) (by omega) with h | h | ⟨j, hj, rfl⟩
    · exact rj_xno (Or.inl h) (br_t rfl (rj_yyes hc hi (br_f (by decide) (rj_yno (Or.inl h) (br_t rfl ⟨rfl, rj_rel hG⟩)))))
    · exact rj_xno (Or.inr h) (br_t rfl (rj_yyes hc hi (br_f (by decide) (rj_yno (Or.inr h) (br_t rfl ⟨rfl, rj_rel hG⟩)))))
    · have h6i := hG.2.1 i
      refine rj_xyes hc hj (br_f (by decide) (rj_xinside hG (by omega) (by omega) (fun hin ts' tx' bd' => And.intro rj_b1 (rj_yyes hc hi (br_f (by decide) (rj_yyes hc hj (br_f (by decide) (Exists.intro 8 (rj_co20 hG (by omega) (by omega) (fun _ => ⟨rfl, rj_rel hG⟩) (fun h => absurd hin h) 8 0 (by omega) (by omega) fun p' h => absurd h (Nat.not_lt_zero _)))))))) (fun hin ts' tx' bd' => And.intro rj_b0 (rj_yyes hc hi (br_f (by decide) (rj_yyes hc hj (br_f (by decide) (Exists.intro 8 (rj_co20 hG (by omega) (by omega) (fun h => absurd h hin) (fun _ => ⟨rfl, rj_rel hG⟩) 8 0 (by omega) (by omega) fun p' h => absurd h (Nat.not_lt_zero _))))))))))
theorem i_vc_shortest {k : Nat} {u : SX} {v : SY} (I : i_Rel k u v) (hk : k + 3 ≤ 1536) : wpX_shortest (fun r u' => wpY_shortest (fun r' v' => r' = r ∧ i_Rel (k + 3) u' v') v) u := by
  refine rj_elim (P := fun u v => wpX_shortest (fun r u' => wpY_shortest (fun r' v' => r' = r ∧ i_Rel (k + 3) u' v') v) u) I ?_
  intro c s q ts js tx bd la ad ch on ot jn ne nr nd jo wd hG
  obtain ⟨a1, a2, a3⟩ := rj_allT c hG.1
  have hwc : ∀ i, (2 ^ c - 1).testBit i = true → i < c := fun i hi => (a3 i (rj_bit5 a2 hi)).mp hi
  unfold wpX_shortest wpY_shortest
  refine rj_xall (rj_xsolveE hG a2 a1 fun w hw h30 ts1 tx1 bd1 la1 ad1 ch1 on1 ot1 jn1 hJ => rj_ysolve hG a2 hwc a1 fun ne nr nd wd N t0 r hF hst hD hN hr hv => ⟨?_, rj_rel hG⟩)
  rw [rj_D_AN hF hwc (rj_ST_rs hst) (rj_ST_IV hst) hD hw]
theorem i_vc_symbolAt {k : Nat} {u : SX} {v : SY} (I : i_Rel k u v) (hk : k + 3 ≤ 1536) (v1 : Int32) : wpX_symbolAt (fun r u' => wpY_symbolAt (fun r' v' => r' = r ∧ i_Rel (k + 3) u' v') v v1) u v1 := by
  refine rj_elim (P := fun u v => wpX_symbolAt (fun r u' => wpY_symbolAt (fun r' v' => r' = r ∧ i_Rel (k + 3) u' v') v v1) u v1) I ?_
  intro c s q ts js tx bd la ad ch on ot jn ne nr nd jo wd hG
  obtain ⟨a1, a2, a3⟩ := rj_allT c hG.1
  unfold wpX_symbolAt wpX_shortest wpY_symbolAt
  refine rj_xall (rj_xsolveE hG a2 a1 fun w hw h30 ts1 tx1 bd1 la1 ad1 ch1 on1 ot1 jn1 hJ => ?_)
  by_cases h0 : v1 < 0
  · exact br_t h0 (rj_write hG fun w' ne nr nd jo wd hw' h30' hT => br_t h0 ⟨rfl, rj_rel hG⟩)
  · refine br_f h0 ?_
    obtain ⟨x, hx, rfl⟩ := nI_of h0
    refine pk_lt x w.length (fun h => And.intro (vp_in_nI (by omega) (by decide)) ?_) (fun h => ?_)
    · refine rj_write hG fun w' ne nr nd jo wd hw' h30' hT => ?_
      have e := rj_AN_uniq hw hw'
      subst e
      refine br_f h0 (br_t (nI_lt h (by omega)) (And.intro (vp_in_nI (by omega) (by decide)) ⟨?_, rj_rel hG⟩))
      rw [nI_clamp hx, hJ x h, hT x h]
    · refine rj_write hG fun w' ne nr nd jo wd hw' h30' hT => ?_
      have e := rj_AN_uniq hw hw'
      subst e
      exact br_f h0 (br_f (nI_nlt h hx) ⟨rfl, rj_rel hG⟩)
theorem i_vc_place {k : Nat} {u : SX} {v : SY} (I : i_Rel k u v) (hk : k + 3 ≤ 1536) (v1 : Int32) : wpX_place (fun r u' => wpY_place (fun r' v' => r' = r ∧ i_Rel (k + 3) u' v') v v1) u v1 := by
  refine rj_elim (P := fun u v => wpX_place (fun r u' => wpY_place (fun r' v' => r' = r ∧ i_Rel (k + 3) u' v') v v1) u v1) I ?_
  intro c s q ts js tx bd la ad ch on ot jn ne nr nd jo wd hG
  have hc := hG.1
  rcases pk_ix v1 (n := c) (by omega) with h | h | ⟨i, hi, rfl⟩
  · unfold wpX_place
    exact rj_xno (Or.inl h) (br_t rfl (rj_yplace0 hG (Or.inl h) fun _ _ _ _ _ => ⟨rfl, rj_rel hG⟩))
  · unfold wpX_place
    exact rj_xno (Or.inr h) (br_t rfl (rj_yplace0 hG (Or.inr h) fun _ _ _ _ _ => ⟨rfl, rj_rel hG⟩))
  · refine rj_xplace hG hi fun w r hw h30 hr ts js tx bd la ad ch on ot jn => rj_yplace hG hi fun w' r' hw' hr' ne nr nd jo wd => ⟨?_, rj_rel hG⟩
    have e := rj_AN_uniq hw hw'
    subst e
    exact rj_FM_uniq hr hr'
theorem i_vc_shortestWithout {k : Nat} {u : SX} {v : SY} (I : i_Rel k u v) (hk : k + 3 ≤ 1536) (v1 : Int32) : wpX_shortestWithout (fun r u' => wpY_shortestWithout (fun r' v' => r' = r ∧ i_Rel (k + 3) u' v') v v1) u v1 := by
  refine rj_elim (P := fun u v => wpX_shortestWithout (fun r u' => wpY_shortestWithout (fun r' v' => r' = r ∧ i_Rel (k + 3) u' v') v v1) u v1) I ?_
  intro c s q ts js tx bd la ad ch on ot jn ne nr nd jo wd hG
  have hc := hG.1
  obtain ⟨a1, a2, a3⟩ := rj_allT c hG.1
  unfold wpX_shortestWithout wpY_shortestWithout
  rcases pk_ix v1 (n := c) (by omega) with h | h | ⟨i, hi, rfl⟩
  · exact rj_xno (Or.inl h) (br_t rfl (rj_yno (Or.inl h) (br_t rfl ⟨rfl, rj_rel hG⟩)))
  · exact rj_xno (Or.inr h) (br_t rfl (rj_yno (Or.inr h) (br_t rfl ⟨rfl, rj_rel hG⟩)))
  · have hx : (((1 : Int32) <<< (nI c &&& 31)) - 1) &&& (((1 : Int32) <<< (nI i &&& 31)) ^^^ (-1)) = nI (rj_clr (2 ^ c - 1) i) := by rw [a1, rj_clrT _ a2 i (by omega)]
    have hcl := rj_clr32 (j := i) a2 (by omega)
    have hwc : ∀ j, (rj_clr (2 ^ c - 1) i).testBit j = true → j < c := fun j hj => (a3 j (rj_bit5 hcl hj)).mp ((rj_clr_bit a2 (by omega)).mp hj).1
    refine rj_xyes hc hi (br_f (by decide) (rj_xall (nm_e (rj_xsolveE hG hcl hx fun w hw h30 ts1 tx1 bd1 la1 ad1 ch1 on1 ot1 jn1 hJ => rj_yyes hc hi (br_f (by decide) (rj_ysolve hG hcl hwc hx fun ne nr nd wd N t0 r hF hst hD hN hr hv => ⟨?_, rj_rel hG⟩))))))
    rw [rj_D_AN hF hwc (rj_ST_rs hst) (rj_ST_IV hst) hD hw]
theorem i_vc_pair {k : Nat} {u : SX} {v : SY} (I : i_Rel k u v) (hk : k + 3 ≤ 1536) (v1 : Int32) (v2 : Int32) : wpX_pair (fun r u' => wpY_pair (fun r' v' => r' = r ∧ i_Rel (k + 3) u' v') v v1 v2) u v1 v2 := by
  refine rj_elim (P := fun u v => wpX_pair (fun r u' => wpY_pair (fun r' v' => r' = r ∧ i_Rel (k + 3) u' v') v v1 v2) u v1 v2) I ?_
  intro c s q ts js tx bd la ad ch on ot jn ne nr nd jo wd hG
  have hc := hG.1
  unfold wpX_pair wpY_pair
  rcases pk_ix v1 (n := c) (by omega) with h | h | ⟨i, hi, rfl⟩
  · exact rj_xno (Or.inl h) (br_t rfl (rj_yno (Or.inl h) (br_t rfl ⟨rfl, rj_rel hG⟩)))
  · exact rj_xno (Or.inr h) (br_t rfl (rj_yno (Or.inr h) (br_t rfl ⟨rfl, rj_rel hG⟩)))
  · refine rj_xyes hc hi (br_f (by decide) ?_)
    rcases pk_ix v2 (n := c) (by omega) with h | h | ⟨j, hj, rfl⟩
    · exact rj_xno (Or.inl h) (br_t rfl (rj_yyes hc hi (br_f (by decide) (rj_yno (Or.inl h) (br_t rfl ⟨rfl, rj_rel hG⟩)))))
    · exact rj_xno (Or.inr h) (br_t rfl (rj_yyes hc hi (br_f (by decide) (rj_yno (Or.inr h) (br_t rfl ⟨rfl, rj_rel hG⟩)))))
    · obtain ⟨a1, a2, a3⟩ := rj_pairT i (by omega) j (by omega)
      have hwc : ∀ x, (2 ^ i ||| 2 ^ j).testBit x = true → x < c := fun x hx => by
        rcases (a3 x (rj_bit5 a2 hx)).mp hx with e | e <;> omega
      refine rj_xyes hc hj (br_f (by decide) (rj_xsolveE hG a2 a1 fun w hw h30 ts1 tx1 bd1 la1 ad1 ch1 on1 ot1 jn1 hJ => rj_yyes hc hi (br_f (by decide) (rj_yyes hc hj (br_f (by decide) (rj_ysolve hG a2 hwc a1 fun ne nr nd wd N t0 r hF hst hD hN hr hv => ⟨?_, rj_rel hG⟩))))))
      rw [rj_D_AN hF hwc (rj_ST_rs hst) (rj_ST_IV hst) hD hw]
theorem i_vc_hasReverse {k : Nat} {u : SX} {v : SY} (I : i_Rel k u v) (hk : k + 3 ≤ 1536) (v1 : Int32) : wpX_hasReverse (fun r u' => wpY_hasReverse (fun r' v' => r' = r ∧ i_Rel (k + 3) u' v') v v1) u v1 := by
  refine rj_elim (P := fun u v => wpX_hasReverse (fun r u' => wpY_hasReverse (fun r' v' => r' = r ∧ i_Rel (k + 3) u' v') v v1) u v1) I ?_
  intro c s q ts js tx bd la ad ch on ot jn ne nr nd jo wd hG
  have hc := hG.1
  rcases pk_ix v1 (n := c) (by omega) with h | h | ⟨i, hi, rfl⟩
  · unfold wpX_hasReverse
    exact rj_xno (Or.inl h) (br_t rfl (rj_yhasReverse0 hG (Or.inl h) fun _ _ _ _ _ => ⟨rfl, rj_rel hG⟩))
  · unfold wpX_hasReverse
    exact rj_xno (Or.inr h) (br_t rfl (rj_yhasReverse0 hG (Or.inr h) fun _ _ _ _ _ => ⟨rfl, rj_rel hG⟩))
  · refine rj_xhasReverse hG hi fun w hw h30 => ⟨fun hin ts js tx bd la ad ch on ot jn => ?_, fun hin ts js tx bd la ad ch on ot jn => ?_⟩
    · refine rj_yhasReverse hG hi fun w' hw' ne nr nd jo wd => ?_
      have e := rj_AN_uniq hw hw'
      subst e
      exact ⟨fun _ => ⟨rfl, rj_rel hG⟩, fun h => absurd hin h⟩
    · refine rj_yhasReverse hG hi fun w' hw' ne nr nd jo wd => ?_
      have e := rj_AN_uniq hw hw'
      subst e
      exact ⟨fun h => absurd h hin, fun _ => ⟨rfl, rj_rel hG⟩⟩
end
