section
/-! pure rows to paste: stores, nI and lN arithmetic, masks, shifts, narrowing, branches by naturals (pk_le, pk_lt, pk_eq), loops (lp1 .. lp16: the measure of the state; rp1 ..: recursion), negatives. Take what you need -/
theorem pk_us {f : Nat → Int32} {k : Nat} {x : Int32} : upd f k x k = x := if_pos rfl
theorem pk_un {f : Nat → Int32} {k j : Nat} {x : Int32} (h : j ≠ k) : upd f k x j = f j := if_neg h
theorem pk_uLs {f : Nat → Int64} {k : Nat} {x : Int64} : vp_updL f k x k = x := if_pos rfl
theorem pk_uLn {f : Nat → Int64} {k j : Nat} {x : Int64} (h : j ≠ k) : vp_updL f k x j = f j := if_neg h
theorem pk_sub {a b : Nat} (h : b ≤ a) : nI a - nI b = nI (a - b) := by
  obtain ⟨c, rfl⟩ : ∃ c, a = c + b := ⟨a - b, by omega⟩
  rw [← nI_add, Int32.add_sub_cancel, Nat.add_sub_cancel]
theorem pk_m1 (n : Nat) : nI (n + 1) + (-1) = nI n := by
  rw [← nI_1, Int32.add_assoc, show (1 : Int32) + (-1) = 0 from rfl, Int32.add_zero]
theorem pk_mul (a b : Nat) : nI a * nI b = nI (a * b) := (Int32.ofNat_mul a b).symm
theorem pk_div {a d : Nat} (ha : a < 2 ^ 31) (h0 : 0 < d) (hd : d < 2 ^ 31) : nI a / nI d = nI (a / d) := by
  apply Int32.toInt_inj.mp
  rw [lg_idiv_nonneg (by rw [nI_toInt ha]; omega) (by rw [nI_toInt hd]; omega), nI_toInt ha, nI_toInt hd, nI_toInt (Nat.lt_of_le_of_lt (Nat.div_le_self a d) ha)]
  first | rfl | exact (Int.natCast_ediv _ _).symm
theorem pk_rem {a d : Nat} (ha : a < 2 ^ 31) (h0 : 0 < d) (hd : d < 2 ^ 31) : nI a - nI a / nI d * nI d = nI (a % d) := by
  rw [pk_div ha h0 hd, pk_mul, pk_sub (Nat.div_mul_le_self a d)]
  exact congrArg nI (by have := Nat.div_add_mod' a d; omega)
theorem pk_sub_toInt {a b : Nat} (ha : a < 2 ^ 30) (hb : b < 2 ^ 30) : (nI a - nI b).toInt = (a : Int) - b := by
  rw [Int32.toInt_sub, nI_toInt (by omega), nI_toInt (by omega)]
  exact Int.bmod_eq_of_le (by omega) (by omega)
theorem pk_sneg {a b : Nat} (hb : b < 2 ^ 30) (h : a < b) : nI a - nI b < 0 := by
  rw [Int32.lt_iff_toInt_lt, pk_sub_toInt (by omega) hb, show (0 : Int32).toInt = 0 from by decide]
  omega
theorem pk_ix (x : Int32) {n : Nat} (hn : n < 2 ^ 31) : x < 0 ∨ nI n ≤ x ∨ ∃ j : Nat, j < n ∧ x = nI j := by
  by_cases h : x < 0
  · exact Or.inl h
  · obtain ⟨j, hj, rfl⟩ := nI_of h
    by_cases h2 : j < n
    · exact Or.inr (Or.inr ⟨j, h2, rfl⟩)
    · exact Or.inr (Or.inl (nI_le (by omega) hj))
theorem pk_le {x y : Int32} {A B : Prop} (a b : Nat) (f : a ≤ b → A) (g : b < a → B) (hx : x = nI a := by rfl) (hy : y = nI b := by rfl) (ha : a < 2 ^ 31 := by omega) (hb : b < 2 ^ 31 := by omega) : (x ≤ y → A) ∧ (¬ x ≤ y → B) := by
  subst hx hy
  rw [nI_leI ha hb]
  exact ⟨f, fun z => g (by omega)⟩
theorem pk_lt {x y : Int32} {A B : Prop} (a b : Nat) (f : a < b → A) (g : b ≤ a → B) (hx : x = nI a := by rfl) (hy : y = nI b := by rfl) (ha : a < 2 ^ 31 := by omega) (hb : b < 2 ^ 31 := by omega) : (x < y → A) ∧ (¬ x < y → B) := by
  subst hx hy
  rw [nI_ltI ha hb]
  exact ⟨f, fun z => g (by omega)⟩
theorem pk_eq {x y : Int32} {A B : Prop} (a b : Nat) (f : a = b → A) (g : a ≠ b → B) (hx : x = nI a := by rfl) (hy : y = nI b := by rfl) (ha : a < 2 ^ 31 := by omega) (hb : b < 2 ^ 31 := by omega) : (x = y → A) ∧ (¬ x = y → B) := by
  subst hx hy
  rw [nI_eq ha hb]
  exact ⟨f, g⟩
theorem pk_in {x : Int32} (n N : Nat) (h : n < N) (hx : x = nI n := by rfl) (hN : N < 2 ^ 31 := by omega) : vp_in x N := by
  subst hx
  exact vp_in_nI h hN
theorem pk_cl {x : Int32} (n : Nat) (hx : x = nI n := by rfl) (h : n < 2 ^ 31 := by omega) : x.toNatClampNeg = n := by
  subst hx
  exact nI_clamp h
theorem pk_tn {n : Nat} (h : n < 2 ^ 32) : (nI n).toBitVec.toNat = n := Nat.mod_eq_of_lt h
theorem pk_and (x : Int32) {m : Int32} (k : Nat) (hm : m.toBitVec.toNat = 2 ^ k - 1) : x &&& m = nI (x.toBitVec.toNat % 2 ^ k) := by
  apply Int32.toBitVec_inj.mp
  apply BitVec.eq_of_toNat_eq
  rw [Int32.toBitVec_and, BitVec.toNat_and, hm, Nat.and_two_pow_sub_one_eq_mod]
  show _ = (BitVec.ofNat 32 _).toNat
  rw [BitVec.toNat_ofNat]
  exact (Nat.mod_eq_of_lt (Nat.lt_of_le_of_lt (Nat.mod_le _ _) x.toBitVec.isLt)).symm
theorem pk_andN {n : Nat} (h : n < 2 ^ 32) {m : Int32} (k : Nat) (hm : m.toBitVec.toNat = 2 ^ k - 1) : nI n &&& m = nI (n % 2 ^ k) := by
  rw [pk_and _ k hm, pk_tn h]
theorem pk_andE (x : Int32) {m : Int32} (k : Nat) (hm : m.toBitVec.toNat = 2 ^ k - 1) : ∃ j : Nat, j < 2 ^ k ∧ x &&& m = nI j := ⟨_, Nat.mod_lt _ (Nat.two_pow_pos k), pk_and x k hm⟩
theorem pk_andIn (x : Int32) {m : Int32} (k : Nat) (hm : m.toBitVec.toNat = 2 ^ k - 1) (hk : k ≤ 30) : vp_in (x &&& m) (2 ^ k) := by
  obtain ⟨j, hj, e⟩ := pk_andE x k hm
  rw [e]
  exact vp_in_nI hj (Nat.lt_of_le_of_lt (Nat.pow_le_pow_right (by decide) hk) (by decide))
theorem pk_shl (a s : Int32) (k : Nat) (hs : (s.toBitVec.smod 32).toNat = k) : (a <<< s).toBitVec.toNat = a.toBitVec.toNat * 2 ^ k % 2 ^ 32 := by
  show (a.toBitVec <<< (s.toBitVec.smod 32).toNat).toNat = _
  rw [hs, BitVec.toNat_shiftLeft, Nat.shiftLeft_eq]
theorem pk_shlN {n : Nat} (s : Int32) (k : Nat) (hs : (s.toBitVec.smod 32).toNat = k) (h : n * 2 ^ k < 2 ^ 32) : nI n <<< s = nI (n * 2 ^ k) := by
  apply Int32.toBitVec_inj.mp
  apply BitVec.eq_of_toNat_eq
  have hn : n < 2 ^ 32 := Nat.lt_of_le_of_lt (Nat.le_mul_of_pos_right n (Nat.two_pow_pos k)) h
  rw [pk_shl _ _ k hs, pk_tn hn, pk_tn h, Nat.mod_eq_of_lt h]
theorem pk_shr (a s : Int32) (k : Nat) (hs : (s.toBitVec.smod 32).toNat = k) : (a >>> s).toInt = a.toInt >>> k := by
  show (a.toBitVec.sshiftRight (s.toBitVec.smod 32).toNat).toInt = _
  rw [hs, BitVec.toInt_sshiftRight]
  rfl
theorem pk_shrN {n : Nat} (h : n < 2 ^ 31) (s : Int32) (k : Nat) (hs : (s.toBitVec.smod 32).toNat = k) : nI n >>> s = nI (n / 2 ^ k) := by
  apply Int32.toInt_inj.mp
  have h2 : n / 2 ^ k ≤ n := Nat.div_le_self _ _
  rw [pk_shr _ _ k hs, nI_toInt h, nI_toInt (by omega), Int.shiftRight_eq_div_pow]
  rfl
theorem pk_ushr (x s : Int32) (k : Nat) (hs : ((s.toUInt32 &&& Int32.toUInt32 31).toBitVec % 32).toNat = k) : (x.toUInt32 >>> (s.toUInt32 &&& Int32.toUInt32 31)).toInt32.toBitVec.toNat = x.toBitVec.toNat / 2 ^ k := by
  have e : (x.toUInt32 >>> (s.toUInt32 &&& Int32.toUInt32 31)).toInt32.toBitVec = x.toBitVec >>> k := by
    rw [← hs]
    exact UInt32.toBitVec_shiftRight _ _
  rw [e, BitVec.toNat_ushiftRight, Nat.shiftRight_eq_div_pow]
theorem pk_ushrN {n : Nat} (hn : n < 2 ^ 32) (s : Int32) (k : Nat) (hs : ((s.toUInt32 &&& Int32.toUInt32 31).toBitVec % 32).toNat = k) : ((nI n).toUInt32 >>> (s.toUInt32 &&& Int32.toUInt32 31)).toInt32 = nI (n / 2 ^ k) := by
  apply Int32.toBitVec_inj.mp
  apply BitVec.eq_of_toNat_eq
  rw [pk_ushr _ s k hs, pk_tn hn, pk_tn (Nat.lt_of_le_of_lt (Nat.div_le_self _ _) hn)]
theorem pk_nb (z : Int32) : narrow .byte (.int z.toInt8.toInt32) = .int z.toInt8.toInt32 := congrArg Value.int (by simp)
theorem pk_ns (z : Int32) : narrow .short (.int z.toInt16.toInt32) = .int z.toInt16.toInt32 := congrArg Value.int (by simp)
theorem pk_fb (r : Int32) : fits .byte (.int r.toInt8.toInt32) = true := by
  have ⟨a, b⟩ := lg_i2b_range r
  have h1 : (-128 : Int32).toInt = -128 := by decide
  have h2 : (127 : Int32).toInt = 127 := by decide
  simp only [fits, Bool.and_eq_true, decide_eq_true_eq, Int32.le_iff_toInt_le, h1, h2]
  omega
theorem pk_fs (r : Int32) : fits .short (.int r.toInt16.toInt32) = true := by
  have ⟨a, b⟩ := lg_i2s_range r
  have h1 : (-32768 : Int32).toInt = -32768 := by decide
  have h2 : (32767 : Int32).toInt = 32767 := by decide
  simp only [fits, Bool.and_eq_true, decide_eq_true_eq, Int32.le_iff_toInt_le, h1, h2]
  omega
theorem pk_charN {q : Nat} (hq : q < 65536) : narrow .char (.int (nI q)) = .int (nI q) ∧ fits .char (.int (nI q)) = true := by
  constructor
  · have e : (nI q).toUInt32.toUInt16.toUInt32.toInt32 = nI q := by
      apply Int32.toBitVec_inj.mp
      apply BitVec.eq_of_toNat_eq
      show (nI q).toUInt32.toUInt16.toUInt32.toNat = q % 2 ^ 32
      rw [UInt16.toNat_toUInt32, UInt32.toNat_toUInt16, show (nI q).toUInt32.toNat = q % 2 ^ 32 from rfl]
      omega
    exact congrArg Value.int e
  · have a : (0 : Int32) ≤ nI q := nI_pos' (by omega)
    have b : nI q ≤ 65535 := nI_le (b := 65535) (by omega) (by decide)
    show (decide ((0 : Int32) ≤ nI q) && decide (nI q ≤ 65535)) = true
    rw [decide_eq_true a, decide_eq_true b]
    rfl
theorem pk_char (x : Int32) : (x.toUInt32 % 65536).toInt32 = nI (x.toBitVec.toNat % 65536) := by
  apply Int32.toBitVec_inj.mp
  apply BitVec.eq_of_toNat_eq
  rw [pk_tn (by omega)]
  show (x.toUInt32 % 65536).toNat = _
  rw [UInt32.toNat_mod]
  rfl
theorem pk_nc (x : Int32) : narrow .char (.int (x.toUInt32 % 65536).toInt32) = .int (x.toUInt32 % 65536).toInt32 := by
  rw [pk_char]
  exact (pk_charN (Nat.mod_lt _ (by decide))).1
theorem pk_fc (x : Int32) : fits .char (.int (x.toUInt32 % 65536).toInt32) = true := by
  rw [pk_char]
  exact (pk_charN (Nat.mod_lt _ (by decide))).2
theorem pk_vb (z : Int32) : vp_nar .byte z.toInt8.toInt32 = z.toInt8.toInt32 := by rw [vp_nar_byte]; simp
theorem pk_vs (z : Int32) : vp_nar .short z.toInt16.toInt32 = z.toInt16.toInt32 := by rw [vp_nar_short]; simp
theorem pk_vc (z : Int32) : vp_nar .char (z.toUInt32 % 65536).toInt32 = (z.toUInt32 % 65536).toInt32 := Value.int.inj (pk_nc z)
theorem pk_lT {n : Nat} (h : n < 2 ^ 63) : (lN n).toInt = (n : Int) := lg_ofNat_toInt h
theorem pk_lLT {a b : Nat} (ha : a < 2 ^ 63) (hb : b < 2 ^ 63) : lN a < lN b ↔ a < b := by
  rw [Int64.lt_iff_toInt_lt, pk_lT ha, pk_lT hb]; omega
theorem pk_lLE {a b : Nat} (ha : a < 2 ^ 63) (hb : b < 2 ^ 63) : lN a ≤ lN b ↔ a ≤ b := by
  rw [Int64.le_iff_toInt_le, pk_lT ha, pk_lT hb]; omega
theorem pk_lEQ {a b : Nat} (ha : a < 2 ^ 63) (hb : b < 2 ^ 63) : lN a = lN b ↔ a = b := by
  rw [← Int64.toInt_inj, pk_lT ha, pk_lT hb]; omega
theorem pk_lOf {x : Int64} (h : ¬ x < 0) : ∃ k : Nat, k < 2 ^ 63 ∧ x = lN k := by
  rw [Int64.lt_iff_toInt_lt] at h
  have h0 : (0 : Int64).toInt = 0 := by decide
  have hx := Int64.toInt_lt x
  refine ⟨x.toInt.toNat, by omega, Int64.toInt_inj.mp ?_⟩
  rw [pk_lT (by omega)]
  omega
theorem pk_lDiv {a b : Nat} (ha : a < 2 ^ 63) (h0 : 0 < b) (hb : b < 2 ^ 63) : lN a / lN b = lN (a / b) := by
  apply Int64.toInt_inj.mp
  rw [lg_ldiv_nonneg (by rw [pk_lT ha]; omega) (by rw [pk_lT hb]; omega), pk_lT ha, pk_lT hb, pk_lT (Nat.lt_of_le_of_lt (Nat.div_le_self a b) ha)]
  rfl
theorem pk_lRem {a b : Nat} (ha : a < 2 ^ 63) (h0 : 0 < b) (hb : b < 2 ^ 63) : lN a - lN a / lN b * lN b = lN (a % b) := by
  rw [pk_lDiv ha h0 hb, lN_mul, lN_sub (Nat.div_mul_le_self a b)]
  exact congrArg lN (by have := Nat.div_add_mod' a b; omega)
theorem pk_loop {σ : Type} (W : Nat → Nat → σ → Prop) (I : Nat → σ → Prop) (e i0 : Nat) (s : σ) (hi : i0 ≤ e) (h0 : I i0 s) (hx : ∀ n s, I e s → W (n + 1) e s)
    (hs : ∀ n i s, i < e → I i s → (∀ s', I (i + 1) s' → W n (i + 1) s') → W (n + 1) i s) : ∃ n, W n i0 s :=
  ⟨e + 1, loop_i W I e hx hs (e + 1) i0 s hi (by omega) h0⟩
theorem pk_loopD {σ : Type} (W : Nat → Nat → σ → Prop) (I : Nat → σ → Prop) (hx : ∀ n s, I 0 s → W (n + 1) 0 s)
    (hs : ∀ n i s, I (i + 1) s → (∀ s', I i s' → W n i s') → W (n + 1) (i + 1) s) : ∀ (e : Nat) (s : σ), I e s → W (e + 1) e s := by
  intro e
  induction e with
  | zero => exact fun s h => hx 0 s h
  | succ e ih => exact fun s h => hs (e + 1) e s h (fun s' h' => ih s' h')
theorem lp1 {A1 : Type} (W : Nat → A1 → Prop) (I : A1 → Prop) (μ : A1 → Nat) (hs : ∀ (n : Nat) (a1 : A1), I a1 → (∀ (b1 : A1), I b1 → μ b1 < μ a1 → W n b1) → W (n + 1) a1) (a1 : A1) (h : I a1) : ∃ n, W n a1 :=
  loop_m (σ := A1) (fun n s => W n s) (fun s => I s) (fun s => μ s) (fun n s hI hk => hs n s hI (fun b1 h9 hm => hk b1 h9 hm)) a1 h
theorem lp2 {A1 A2 : Type} (W : Nat → A1 → A2 → Prop) (I : A1 → A2 → Prop) (μ : A1 → A2 → Nat) (hs : ∀ (n : Nat) (a1 : A1) (a2 : A2), I a1 a2 → (∀ (b1 : A1) (b2 : A2), I b1 b2 → μ b1 b2 < μ a1 a2 → W n b1 b2) → W (n + 1) a1 a2) (a1 : A1) (a2 : A2) (h : I a1 a2) : ∃ n, W n a1 a2 :=
  loop_m (σ := A1 × A2) (fun n s => W n s.1 s.2) (fun s => I s.1 s.2) (fun s => μ s.1 s.2) (fun n s hI hk => hs n s.1 s.2 hI (fun b1 b2 h9 hm => hk (b1, b2) h9 hm)) (a1, a2) h
theorem lp3 {A1 A2 A3 : Type} (W : Nat → A1 → A2 → A3 → Prop) (I : A1 → A2 → A3 → Prop) (μ : A1 → A2 → A3 → Nat) (hs : ∀ (n : Nat) (a1 : A1) (a2 : A2) (a3 : A3), I a1 a2 a3 → (∀ (b1 : A1) (b2 : A2) (b3 : A3), I b1 b2 b3 → μ b1 b2 b3 < μ a1 a2 a3 → W n b1 b2 b3) → W (n + 1) a1 a2 a3) (a1 : A1) (a2 : A2) (a3 : A3) (h : I a1 a2 a3) : ∃ n, W n a1 a2 a3 :=
  loop_m (σ := A1 × A2 × A3) (fun n s => W n s.1 s.2.1 s.2.2) (fun s => I s.1 s.2.1 s.2.2) (fun s => μ s.1 s.2.1 s.2.2) (fun n s hI hk => hs n s.1 s.2.1 s.2.2 hI (fun b1 b2 b3 h9 hm => hk (b1, b2, b3) h9 hm)) (a1, a2, a3) h
theorem lp4 {A1 A2 A3 A4 : Type} (W : Nat → A1 → A2 → A3 → A4 → Prop) (I : A1 → A2 → A3 → A4 → Prop) (μ : A1 → A2 → A3 → A4 → Nat) (hs : ∀ (n : Nat) (a1 : A1) (a2 : A2) (a3 : A3) (a4 : A4), I a1 a2 a3 a4 → (∀ (b1 : A1) (b2 : A2) (b3 : A3) (b4 : A4), I b1 b2 b3 b4 → μ b1 b2 b3 b4 < μ a1 a2 a3 a4 → W n b1 b2 b3 b4) → W (n + 1) a1 a2 a3 a4) (a1 : A1) (a2 : A2) (a3 : A3) (a4 : A4) (h : I a1 a2 a3 a4) : ∃ n, W n a1 a2 a3 a4 :=
  loop_m (σ := A1 × A2 × A3 × A4) (fun n s => W n s.1 s.2.1 s.2.2.1 s.2.2.2) (fun s => I s.1 s.2.1 s.2.2.1 s.2.2.2) (fun s => μ s.1 s.2.1 s.2.2.1 s.2.2.2) (fun n s hI hk => hs n s.1 s.2.1 s.2.2.1 s.2.2.2 hI (fun b1 b2 b3 b4 h9 hm => hk (b1, b2, b3, b4) h9 hm)) (a1, a2, a3, a4) h
theorem lp5 {A1 A2 A3 A4 A5 : Type} (W : Nat → A1 → A2 → A3 → A4 → A5 → Prop) (I : A1 → A2 → A3 → A4 → A5 → Prop) (μ : A1 → A2 → A3 → A4 → A5 → Nat) (hs : ∀ (n : Nat) (a1 : A1) (a2 : A2) (a3 : A3) (a4 : A4) (a5 : A5), I a1 a2 a3 a4 a5 → (∀ (b1 : A1) (b2 : A2) (b3 : A3) (b4 : A4) (b5 : A5), I b1 b2 b3 b4 b5 → μ b1 b2 b3 b4 b5 < μ a1 a2 a3 a4 a5 → W n b1 b2 b3 b4 b5) → W (n + 1) a1 a2 a3 a4 a5) (a1 : A1) (a2 : A2) (a3 : A3) (a4 : A4) (a5 : A5) (h : I a1 a2 a3 a4 a5) : ∃ n, W n a1 a2 a3 a4 a5 :=
  loop_m (σ := A1 × A2 × A3 × A4 × A5) (fun n s => W n s.1 s.2.1 s.2.2.1 s.2.2.2.1 s.2.2.2.2) (fun s => I s.1 s.2.1 s.2.2.1 s.2.2.2.1 s.2.2.2.2) (fun s => μ s.1 s.2.1 s.2.2.1 s.2.2.2.1 s.2.2.2.2) (fun n s hI hk => hs n s.1 s.2.1 s.2.2.1 s.2.2.2.1 s.2.2.2.2 hI (fun b1 b2 b3 b4 b5 h9 hm => hk (b1, b2, b3, b4, b5) h9 hm)) (a1, a2, a3, a4, a5) h
theorem lp6 {A1 A2 A3 A4 A5 A6 : Type} (W : Nat → A1 → A2 → A3 → A4 → A5 → A6 → Prop) (I : A1 → A2 → A3 → A4 → A5 → A6 → Prop) (μ : A1 → A2 → A3 → A4 → A5 → A6 → Nat) (hs : ∀ (n : Nat) (a1 : A1) (a2 : A2) (a3 : A3) (a4 : A4) (a5 : A5) (a6 : A6), I a1 a2 a3 a4 a5 a6 → (∀ (b1 : A1) (b2 : A2) (b3 : A3) (b4 : A4) (b5 : A5) (b6 : A6), I b1 b2 b3 b4 b5 b6 → μ b1 b2 b3 b4 b5 b6 < μ a1 a2 a3 a4 a5 a6 → W n b1 b2 b3 b4 b5 b6) → W (n + 1) a1 a2 a3 a4 a5 a6) (a1 : A1) (a2 : A2) (a3 : A3) (a4 : A4) (a5 : A5) (a6 : A6) (h : I a1 a2 a3 a4 a5 a6) : ∃ n, W n a1 a2 a3 a4 a5 a6 :=
  loop_m (σ := A1 × A2 × A3 × A4 × A5 × A6) (fun n s => W n s.1 s.2.1 s.2.2.1 s.2.2.2.1 s.2.2.2.2.1 s.2.2.2.2.2) (fun s => I s.1 s.2.1 s.2.2.1 s.2.2.2.1 s.2.2.2.2.1 s.2.2.2.2.2) (fun s => μ s.1 s.2.1 s.2.2.1 s.2.2.2.1 s.2.2.2.2.1 s.2.2.2.2.2) (fun n s hI hk => hs n s.1 s.2.1 s.2.2.1 s.2.2.2.1 s.2.2.2.2.1 s.2.2.2.2.2 hI (fun b1 b2 b3 b4 b5 b6 h9 hm => hk (b1, b2, b3, b4, b5, b6) h9 hm)) (a1, a2, a3, a4, a5, a6) h
theorem lp7 {A1 A2 A3 A4 A5 A6 A7 : Type} (W : Nat → A1 → A2 → A3 → A4 → A5 → A6 → A7 → Prop) (I : A1 → A2 → A3 → A4 → A5 → A6 → A7 → Prop) (μ : A1 → A2 → A3 → A4 → A5 → A6 → A7 → Nat) (hs : ∀ (n : Nat) (a1 : A1) (a2 : A2) (a3 : A3) (a4 : A4) (a5 : A5) (a6 : A6) (a7 : A7), I a1 a2 a3 a4 a5 a6 a7 → (∀ (b1 : A1) (b2 : A2) (b3 : A3) (b4 : A4) (b5 : A5) (b6 : A6) (b7 : A7), I b1 b2 b3 b4 b5 b6 b7 → μ b1 b2 b3 b4 b5 b6 b7 < μ a1 a2 a3 a4 a5 a6 a7 → W n b1 b2 b3 b4 b5 b6 b7) → W (n + 1) a1 a2 a3 a4 a5 a6 a7) (a1 : A1) (a2 : A2) (a3 : A3) (a4 : A4) (a5 : A5) (a6 : A6) (a7 : A7) (h : I a1 a2 a3 a4 a5 a6 a7) : ∃ n, W n a1 a2 a3 a4 a5 a6 a7 :=
  loop_m (σ := A1 × A2 × A3 × A4 × A5 × A6 × A7) (fun n s => W n s.1 s.2.1 s.2.2.1 s.2.2.2.1 s.2.2.2.2.1 s.2.2.2.2.2.1 s.2.2.2.2.2.2) (fun s => I s.1 s.2.1 s.2.2.1 s.2.2.2.1 s.2.2.2.2.1 s.2.2.2.2.2.1 s.2.2.2.2.2.2) (fun s => μ s.1 s.2.1 s.2.2.1 s.2.2.2.1 s.2.2.2.2.1 s.2.2.2.2.2.1 s.2.2.2.2.2.2) (fun n s hI hk => hs n s.1 s.2.1 s.2.2.1 s.2.2.2.1 s.2.2.2.2.1 s.2.2.2.2.2.1 s.2.2.2.2.2.2 hI (fun b1 b2 b3 b4 b5 b6 b7 h9 hm => hk (b1, b2, b3, b4, b5, b6, b7) h9 hm)) (a1, a2, a3, a4, a5, a6, a7) h
theorem lp8 {A1 A2 A3 A4 A5 A6 A7 A8 : Type} (W : Nat → A1 → A2 → A3 → A4 → A5 → A6 → A7 → A8 → Prop) (I : A1 → A2 → A3 → A4 → A5 → A6 → A7 → A8 → Prop) (μ : A1 → A2 → A3 → A4 → A5 → A6 → A7 → A8 → Nat) (hs : ∀ (n : Nat) (a1 : A1) (a2 : A2) (a3 : A3) (a4 : A4) (a5 : A5) (a6 : A6) (a7 : A7) (a8 : A8), I a1 a2 a3 a4 a5 a6 a7 a8 → (∀ (b1 : A1) (b2 : A2) (b3 : A3) (b4 : A4) (b5 : A5) (b6 : A6) (b7 : A7) (b8 : A8), I b1 b2 b3 b4 b5 b6 b7 b8 → μ b1 b2 b3 b4 b5 b6 b7 b8 < μ a1 a2 a3 a4 a5 a6 a7 a8 → W n b1 b2 b3 b4 b5 b6 b7 b8) → W (n + 1) a1 a2 a3 a4 a5 a6 a7 a8) (a1 : A1) (a2 : A2) (a3 : A3) (a4 : A4) (a5 : A5) (a6 : A6) (a7 : A7) (a8 : A8) (h : I a1 a2 a3 a4 a5 a6 a7 a8) : ∃ n, W n a1 a2 a3 a4 a5 a6 a7 a8 :=
  loop_m (σ := A1 × A2 × A3 × A4 × A5 × A6 × A7 × A8) (fun n s => W n s.1 s.2.1 s.2.2.1 s.2.2.2.1 s.2.2.2.2.1 s.2.2.2.2.2.1 s.2.2.2.2.2.2.1 s.2.2.2.2.2.2.2) (fun s => I s.1 s.2.1 s.2.2.1 s.2.2.2.1 s.2.2.2.2.1 s.2.2.2.2.2.1 s.2.2.2.2.2.2.1 s.2.2.2.2.2.2.2) (fun s => μ s.1 s.2.1 s.2.2.1 s.2.2.2.1 s.2.2.2.2.1 s.2.2.2.2.2.1 s.2.2.2.2.2.2.1 s.2.2.2.2.2.2.2) (fun n s hI hk => hs n s.1 s.2.1 s.2.2.1 s.2.2.2.1 s.2.2.2.2.1 s.2.2.2.2.2.1 s.2.2.2.2.2.2.1 s.2.2.2.2.2.2.2 hI (fun b1 b2 b3 b4 b5 b6 b7 b8 h9 hm => hk (b1, b2, b3, b4, b5, b6, b7, b8) h9 hm)) (a1, a2, a3, a4, a5, a6, a7, a8) h
theorem lp9 {A1 A2 A3 A4 A5 A6 A7 A8 A9 : Type} (W : Nat → A1 → A2 → A3 → A4 → A5 → A6 → A7 → A8 → A9 → Prop) (I : A1 → A2 → A3 → A4 → A5 → A6 → A7 → A8 → A9 → Prop) (μ : A1 → A2 → A3 → A4 → A5 → A6 → A7 → A8 → A9 → Nat) (hs : ∀ (n : Nat) (a1 : A1) (a2 : A2) (a3 : A3) (a4 : A4) (a5 : A5) (a6 : A6) (a7 : A7) (a8 : A8) (a9 : A9), I a1 a2 a3 a4 a5 a6 a7 a8 a9 → (∀ (b1 : A1) (b2 : A2) (b3 : A3) (b4 : A4) (b5 : A5) (b6 : A6) (b7 : A7) (b8 : A8) (b9 : A9), I b1 b2 b3 b4 b5 b6 b7 b8 b9 → μ b1 b2 b3 b4 b5 b6 b7 b8 b9 < μ a1 a2 a3 a4 a5 a6 a7 a8 a9 → W n b1 b2 b3 b4 b5 b6 b7 b8 b9) → W (n + 1) a1 a2 a3 a4 a5 a6 a7 a8 a9) (a1 : A1) (a2 : A2) (a3 : A3) (a4 : A4) (a5 : A5) (a6 : A6) (a7 : A7) (a8 : A8) (a9 : A9) (h : I a1 a2 a3 a4 a5 a6 a7 a8 a9) : ∃ n, W n a1 a2 a3 a4 a5 a6 a7 a8 a9 :=
  loop_m (σ := A1 × A2 × A3 × A4 × A5 × A6 × A7 × A8 × A9) (fun n s => W n s.1 s.2.1 s.2.2.1 s.2.2.2.1 s.2.2.2.2.1 s.2.2.2.2.2.1 s.2.2.2.2.2.2.1 s.2.2.2.2.2.2.2.1 s.2.2.2.2.2.2.2.2) (fun s => I s.1 s.2.1 s.2.2.1 s.2.2.2.1 s.2.2.2.2.1 s.2.2.2.2.2.1 s.2.2.2.2.2.2.1 s.2.2.2.2.2.2.2.1 s.2.2.2.2.2.2.2.2) (fun s => μ s.1 s.2.1 s.2.2.1 s.2.2.2.1 s.2.2.2.2.1 s.2.2.2.2.2.1 s.2.2.2.2.2.2.1 s.2.2.2.2.2.2.2.1 s.2.2.2.2.2.2.2.2) (fun n s hI hk => hs n s.1 s.2.1 s.2.2.1 s.2.2.2.1 s.2.2.2.2.1 s.2.2.2.2.2.1 s.2.2.2.2.2.2.1 s.2.2.2.2.2.2.2.1 s.2.2.2.2.2.2.2.2 hI (fun b1 b2 b3 b4 b5 b6 b7 b8 b9 h9 hm => hk (b1, b2, b3, b4, b5, b6, b7, b8, b9) h9 hm)) (a1, a2, a3, a4, a5, a6, a7, a8, a9) h
theorem lp10 {A1 A2 A3 A4 A5 A6 A7 A8 A9 A10 : Type} (W : Nat → A1 → A2 → A3 → A4 → A5 → A6 → A7 → A8 → A9 → A10 → Prop) (I : A1 → A2 → A3 → A4 → A5 → A6 → A7 → A8 → A9 → A10 → Prop) (μ : A1 → A2 → A3 → A4 → A5 → A6 → A7 → A8 → A9 → A10 → Nat) (hs : ∀ (n : Nat) (a1 : A1) (a2 : A2) (a3 : A3) (a4 : A4) (a5 : A5) (a6 : A6) (a7 : A7) (a8 : A8) (a9 : A9) (a10 : A10), I a1 a2 a3 a4 a5 a6 a7 a8 a9 a10 → (∀ (b1 : A1) (b2 : A2) (b3 : A3) (b4 : A4) (b5 : A5) (b6 : A6) (b7 : A7) (b8 : A8) (b9 : A9) (b10 : A10), I b1 b2 b3 b4 b5 b6 b7 b8 b9 b10 → μ b1 b2 b3 b4 b5 b6 b7 b8 b9 b10 < μ a1 a2 a3 a4 a5 a6 a7 a8 a9 a10 → W n b1 b2 b3 b4 b5 b6 b7 b8 b9 b10) → W (n + 1) a1 a2 a3 a4 a5 a6 a7 a8 a9 a10) (a1 : A1) (a2 : A2) (a3 : A3) (a4 : A4) (a5 : A5) (a6 : A6) (a7 : A7) (a8 : A8) (a9 : A9) (a10 : A10) (h : I a1 a2 a3 a4 a5 a6 a7 a8 a9 a10) : ∃ n, W n a1 a2 a3 a4 a5 a6 a7 a8 a9 a10 :=
  loop_m (σ := A1 × A2 × A3 × A4 × A5 × A6 × A7 × A8 × A9 × A10) (fun n s => W n s.1 s.2.1 s.2.2.1 s.2.2.2.1 s.2.2.2.2.1 s.2.2.2.2.2.1 s.2.2.2.2.2.2.1 s.2.2.2.2.2.2.2.1 s.2.2.2.2.2.2.2.2.1 s.2.2.2.2.2.2.2.2.2) (fun s => I s.1 s.2.1 s.2.2.1 s.2.2.2.1 s.2.2.2.2.1 s.2.2.2.2.2.1 s.2.2.2.2.2.2.1 s.2.2.2.2.2.2.2.1 s.2.2.2.2.2.2.2.2.1 s.2.2.2.2.2.2.2.2.2) (fun s => μ s.1 s.2.1 s.2.2.1 s.2.2.2.1 s.2.2.2.2.1 s.2.2.2.2.2.1 s.2.2.2.2.2.2.1 s.2.2.2.2.2.2.2.1 s.2.2.2.2.2.2.2.2.1 s.2.2.2.2.2.2.2.2.2) (fun n s hI hk => hs n s.1 s.2.1 s.2.2.1 s.2.2.2.1 s.2.2.2.2.1 s.2.2.2.2.2.1 s.2.2.2.2.2.2.1 s.2.2.2.2.2.2.2.1 s.2.2.2.2.2.2.2.2.1 s.2.2.2.2.2.2.2.2.2 hI (fun b1 b2 b3 b4 b5 b6 b7 b8 b9 b10 h9 hm => hk (b1, b2, b3, b4, b5, b6, b7, b8, b9, b10) h9 hm)) (a1, a2, a3, a4, a5, a6, a7, a8, a9, a10) h
theorem lp11 {A1 A2 A3 A4 A5 A6 A7 A8 A9 A10 A11 : Type} (W : Nat → A1 → A2 → A3 → A4 → A5 → A6 → A7 → A8 → A9 → A10 → A11 → Prop) (I : A1 → A2 → A3 → A4 → A5 → A6 → A7 → A8 → A9 → A10 → A11 → Prop) (μ : A1 → A2 → A3 → A4 → A5 → A6 → A7 → A8 → A9 → A10 → A11 → Nat) (hs : ∀ (n : Nat) (a1 : A1) (a2 : A2) (a3 : A3) (a4 : A4) (a5 : A5) (a6 : A6) (a7 : A7) (a8 : A8) (a9 : A9) (a10 : A10) (a11 : A11), I a1 a2 a3 a4 a5 a6 a7 a8 a9 a10 a11 → (∀ (b1 : A1) (b2 : A2) (b3 : A3) (b4 : A4) (b5 : A5) (b6 : A6) (b7 : A7) (b8 : A8) (b9 : A9) (b10 : A10) (b11 : A11), I b1 b2 b3 b4 b5 b6 b7 b8 b9 b10 b11 → μ b1 b2 b3 b4 b5 b6 b7 b8 b9 b10 b11 < μ a1 a2 a3 a4 a5 a6 a7 a8 a9 a10 a11 → W n b1 b2 b3 b4 b5 b6 b7 b8 b9 b10 b11) → W (n + 1) a1 a2 a3 a4 a5 a6 a7 a8 a9 a10 a11) (a1 : A1) (a2 : A2) (a3 : A3) (a4 : A4) (a5 : A5) (a6 : A6) (a7 : A7) (a8 : A8) (a9 : A9) (a10 : A10) (a11 : A11) (h : I a1 a2 a3 a4 a5 a6 a7 a8 a9 a10 a11) : ∃ n, W n a1 a2 a3 a4 a5 a6 a7 a8 a9 a10 a11 :=
  loop_m (σ := A1 × A2 × A3 × A4 × A5 × A6 × A7 × A8 × A9 × A10 × A11) (fun n s => W n s.1 s.2.1 s.2.2.1 s.2.2.2.1 s.2.2.2.2.1 s.2.2.2.2.2.1 s.2.2.2.2.2.2.1 s.2.2.2.2.2.2.2.1 s.2.2.2.2.2.2.2.2.1 s.2.2.2.2.2.2.2.2.2.1 s.2.2.2.2.2.2.2.2.2.2) (fun s => I s.1 s.2.1 s.2.2.1 s.2.2.2.1 s.2.2.2.2.1 s.2.2.2.2.2.1 s.2.2.2.2.2.2.1 s.2.2.2.2.2.2.2.1 s.2.2.2.2.2.2.2.2.1 s.2.2.2.2.2.2.2.2.2.1 s.2.2.2.2.2.2.2.2.2.2) (fun s => μ s.1 s.2.1 s.2.2.1 s.2.2.2.1 s.2.2.2.2.1 s.2.2.2.2.2.1 s.2.2.2.2.2.2.1 s.2.2.2.2.2.2.2.1 s.2.2.2.2.2.2.2.2.1 s.2.2.2.2.2.2.2.2.2.1 s.2.2.2.2.2.2.2.2.2.2) (fun n s hI hk => hs n s.1 s.2.1 s.2.2.1 s.2.2.2.1 s.2.2.2.2.1 s.2.2.2.2.2.1 s.2.2.2.2.2.2.1 s.2.2.2.2.2.2.2.1 s.2.2.2.2.2.2.2.2.1 s.2.2.2.2.2.2.2.2.2.1 s.2.2.2.2.2.2.2.2.2.2 hI (fun b1 b2 b3 b4 b5 b6 b7 b8 b9 b10 b11 h9 hm => hk (b1, b2, b3, b4, b5, b6, b7, b8, b9, b10, b11) h9 hm)) (a1, a2, a3, a4, a5, a6, a7, a8, a9, a10, a11) h
theorem lp12 {A1 A2 A3 A4 A5 A6 A7 A8 A9 A10 A11 A12 : Type} (W : Nat → A1 → A2 → A3 → A4 → A5 → A6 → A7 → A8 → A9 → A10 → A11 → A12 → Prop) (I : A1 → A2 → A3 → A4 → A5 → A6 → A7 → A8 → A9 → A10 → A11 → A12 → Prop) (μ : A1 → A2 → A3 → A4 → A5 → A6 → A7 → A8 → A9 → A10 → A11 → A12 → Nat) (hs : ∀ (n : Nat) (a1 : A1) (a2 : A2) (a3 : A3) (a4 : A4) (a5 : A5) (a6 : A6) (a7 : A7) (a8 : A8) (a9 : A9) (a10 : A10) (a11 : A11) (a12 : A12), I a1 a2 a3 a4 a5 a6 a7 a8 a9 a10 a11 a12 → (∀ (b1 : A1) (b2 : A2) (b3 : A3) (b4 : A4) (b5 : A5) (b6 : A6) (b7 : A7) (b8 : A8) (b9 : A9) (b10 : A10) (b11 : A11) (b12 : A12), I b1 b2 b3 b4 b5 b6 b7 b8 b9 b10 b11 b12 → μ b1 b2 b3 b4 b5 b6 b7 b8 b9 b10 b11 b12 < μ a1 a2 a3 a4 a5 a6 a7 a8 a9 a10 a11 a12 → W n b1 b2 b3 b4 b5 b6 b7 b8 b9 b10 b11 b12) → W (n + 1) a1 a2 a3 a4 a5 a6 a7 a8 a9 a10 a11 a12) (a1 : A1) (a2 : A2) (a3 : A3) (a4 : A4) (a5 : A5) (a6 : A6) (a7 : A7) (a8 : A8) (a9 : A9) (a10 : A10) (a11 : A11) (a12 : A12) (h : I a1 a2 a3 a4 a5 a6 a7 a8 a9 a10 a11 a12) : ∃ n, W n a1 a2 a3 a4 a5 a6 a7 a8 a9 a10 a11 a12 :=
  loop_m (σ := A1 × A2 × A3 × A4 × A5 × A6 × A7 × A8 × A9 × A10 × A11 × A12) (fun n s => W n s.1 s.2.1 s.2.2.1 s.2.2.2.1 s.2.2.2.2.1 s.2.2.2.2.2.1 s.2.2.2.2.2.2.1 s.2.2.2.2.2.2.2.1 s.2.2.2.2.2.2.2.2.1 s.2.2.2.2.2.2.2.2.2.1 s.2.2.2.2.2.2.2.2.2.2.1 s.2.2.2.2.2.2.2.2.2.2.2) (fun s => I s.1 s.2.1 s.2.2.1 s.2.2.2.1 s.2.2.2.2.1 s.2.2.2.2.2.1 s.2.2.2.2.2.2.1 s.2.2.2.2.2.2.2.1 s.2.2.2.2.2.2.2.2.1 s.2.2.2.2.2.2.2.2.2.1 s.2.2.2.2.2.2.2.2.2.2.1 s.2.2.2.2.2.2.2.2.2.2.2) (fun s => μ s.1 s.2.1 s.2.2.1 s.2.2.2.1 s.2.2.2.2.1 s.2.2.2.2.2.1 s.2.2.2.2.2.2.1 s.2.2.2.2.2.2.2.1 s.2.2.2.2.2.2.2.2.1 s.2.2.2.2.2.2.2.2.2.1 s.2.2.2.2.2.2.2.2.2.2.1 s.2.2.2.2.2.2.2.2.2.2.2) (fun n s hI hk => hs n s.1 s.2.1 s.2.2.1 s.2.2.2.1 s.2.2.2.2.1 s.2.2.2.2.2.1 s.2.2.2.2.2.2.1 s.2.2.2.2.2.2.2.1 s.2.2.2.2.2.2.2.2.1 s.2.2.2.2.2.2.2.2.2.1 s.2.2.2.2.2.2.2.2.2.2.1 s.2.2.2.2.2.2.2.2.2.2.2 hI (fun b1 b2 b3 b4 b5 b6 b7 b8 b9 b10 b11 b12 h9 hm => hk (b1, b2, b3, b4, b5, b6, b7, b8, b9, b10, b11, b12) h9 hm)) (a1, a2, a3, a4, a5, a6, a7, a8, a9, a10, a11, a12) h
theorem lp13 {A1 A2 A3 A4 A5 A6 A7 A8 A9 A10 A11 A12 A13 : Type} (W : Nat → A1 → A2 → A3 → A4 → A5 → A6 → A7 → A8 → A9 → A10 → A11 → A12 → A13 → Prop) (I : A1 → A2 → A3 → A4 → A5 → A6 → A7 → A8 → A9 → A10 → A11 → A12 → A13 → Prop) (μ : A1 → A2 → A3 → A4 → A5 → A6 → A7 → A8 → A9 → A10 → A11 → A12 → A13 → Nat) (hs : ∀ (n : Nat) (a1 : A1) (a2 : A2) (a3 : A3) (a4 : A4) (a5 : A5) (a6 : A6) (a7 : A7) (a8 : A8) (a9 : A9) (a10 : A10) (a11 : A11) (a12 : A12) (a13 : A13), I a1 a2 a3 a4 a5 a6 a7 a8 a9 a10 a11 a12 a13 → (∀ (b1 : A1) (b2 : A2) (b3 : A3) (b4 : A4) (b5 : A5) (b6 : A6) (b7 : A7) (b8 : A8) (b9 : A9) (b10 : A10) (b11 : A11) (b12 : A12) (b13 : A13), I b1 b2 b3 b4 b5 b6 b7 b8 b9 b10 b11 b12 b13 → μ b1 b2 b3 b4 b5 b6 b7 b8 b9 b10 b11 b12 b13 < μ a1 a2 a3 a4 a5 a6 a7 a8 a9 a10 a11 a12 a13 → W n b1 b2 b3 b4 b5 b6 b7 b8 b9 b10 b11 b12 b13) → W (n + 1) a1 a2 a3 a4 a5 a6 a7 a8 a9 a10 a11 a12 a13) (a1 : A1) (a2 : A2) (a3 : A3) (a4 : A4) (a5 : A5) (a6 : A6) (a7 : A7) (a8 : A8) (a9 : A9) (a10 : A10) (a11 : A11) (a12 : A12) (a13 : A13) (h : I a1 a2 a3 a4 a5 a6 a7 a8 a9 a10 a11 a12 a13) : ∃ n, W n a1 a2 a3 a4 a5 a6 a7 a8 a9 a10 a11 a12 a13 :=
  loop_m (σ := A1 × A2 × A3 × A4 × A5 × A6 × A7 × A8 × A9 × A10 × A11 × A12 × A13) (fun n s => W n s.1 s.2.1 s.2.2.1 s.2.2.2.1 s.2.2.2.2.1 s.2.2.2.2.2.1 s.2.2.2.2.2.2.1 s.2.2.2.2.2.2.2.1 s.2.2.2.2.2.2.2.2.1 s.2.2.2.2.2.2.2.2.2.1 s.2.2.2.2.2.2.2.2.2.2.1 s.2.2.2.2.2.2.2.2.2.2.2.1 s.2.2.2.2.2.2.2.2.2.2.2.2) (fun s => I s.1 s.2.1 s.2.2.1 s.2.2.2.1 s.2.2.2.2.1 s.2.2.2.2.2.1 s.2.2.2.2.2.2.1 s.2.2.2.2.2.2.2.1 s.2.2.2.2.2.2.2.2.1 s.2.2.2.2.2.2.2.2.2.1 s.2.2.2.2.2.2.2.2.2.2.1 s.2.2.2.2.2.2.2.2.2.2.2.1 s.2.2.2.2.2.2.2.2.2.2.2.2) (fun s => μ s.1 s.2.1 s.2.2.1 s.2.2.2.1 s.2.2.2.2.1 s.2.2.2.2.2.1 s.2.2.2.2.2.2.1 s.2.2.2.2.2.2.2.1 s.2.2.2.2.2.2.2.2.1 s.2.2.2.2.2.2.2.2.2.1 s.2.2.2.2.2.2.2.2.2.2.1 s.2.2.2.2.2.2.2.2.2.2.2.1 s.2.2.2.2.2.2.2.2.2.2.2.2) (fun n s hI hk => hs n s.1 s.2.1 s.2.2.1 s.2.2.2.1 s.2.2.2.2.1 s.2.2.2.2.2.1 s.2.2.2.2.2.2.1 s.2.2.2.2.2.2.2.1 s.2.2.2.2.2.2.2.2.1 s.2.2.2.2.2.2.2.2.2.1 s.2.2.2.2.2.2.2.2.2.2.1 s.2.2.2.2.2.2.2.2.2.2.2.1 s.2.2.2.2.2.2.2.2.2.2.2.2 hI (fun b1 b2 b3 b4 b5 b6 b7 b8 b9 b10 b11 b12 b13 h9 hm => hk (b1, b2, b3, b4, b5, b6, b7, b8, b9, b10, b11, b12, b13) h9 hm)) (a1, a2, a3, a4, a5, a6, a7, a8, a9, a10, a11, a12, a13) h
theorem lp14 {A1 A2 A3 A4 A5 A6 A7 A8 A9 A10 A11 A12 A13 A14 : Type} (W : Nat → A1 → A2 → A3 → A4 → A5 → A6 → A7 → A8 → A9 → A10 → A11 → A12 → A13 → A14 → Prop) (I : A1 → A2 → A3 → A4 → A5 → A6 → A7 → A8 → A9 → A10 → A11 → A12 → A13 → A14 → Prop) (μ : A1 → A2 → A3 → A4 → A5 → A6 → A7 → A8 → A9 → A10 → A11 → A12 → A13 → A14 → Nat) (hs : ∀ (n : Nat) (a1 : A1) (a2 : A2) (a3 : A3) (a4 : A4) (a5 : A5) (a6 : A6) (a7 : A7) (a8 : A8) (a9 : A9) (a10 : A10) (a11 : A11) (a12 : A12) (a13 : A13) (a14 : A14), I a1 a2 a3 a4 a5 a6 a7 a8 a9 a10 a11 a12 a13 a14 → (∀ (b1 : A1) (b2 : A2) (b3 : A3) (b4 : A4) (b5 : A5) (b6 : A6) (b7 : A7) (b8 : A8) (b9 : A9) (b10 : A10) (b11 : A11) (b12 : A12) (b13 : A13) (b14 : A14), I b1 b2 b3 b4 b5 b6 b7 b8 b9 b10 b11 b12 b13 b14 → μ b1 b2 b3 b4 b5 b6 b7 b8 b9 b10 b11 b12 b13 b14 < μ a1 a2 a3 a4 a5 a6 a7 a8 a9 a10 a11 a12 a13 a14 → W n b1 b2 b3 b4 b5 b6 b7 b8 b9 b10 b11 b12 b13 b14) → W (n + 1) a1 a2 a3 a4 a5 a6 a7 a8 a9 a10 a11 a12 a13 a14) (a1 : A1) (a2 : A2) (a3 : A3) (a4 : A4) (a5 : A5) (a6 : A6) (a7 : A7) (a8 : A8) (a9 : A9) (a10 : A10) (a11 : A11) (a12 : A12) (a13 : A13) (a14 : A14) (h : I a1 a2 a3 a4 a5 a6 a7 a8 a9 a10 a11 a12 a13 a14) : ∃ n, W n a1 a2 a3 a4 a5 a6 a7 a8 a9 a10 a11 a12 a13 a14 :=
  loop_m (σ := A1 × A2 × A3 × A4 × A5 × A6 × A7 × A8 × A9 × A10 × A11 × A12 × A13 × A14) (fun n s => W n s.1 s.2.1 s.2.2.1 s.2.2.2.1 s.2.2.2.2.1 s.2.2.2.2.2.1 s.2.2.2.2.2.2.1 s.2.2.2.2.2.2.2.1 s.2.2.2.2.2.2.2.2.1 s.2.2.2.2.2.2.2.2.2.1 s.2.2.2.2.2.2.2.2.2.2.1 s.2.2.2.2.2.2.2.2.2.2.2.1 s.2.2.2.2.2.2.2.2.2.2.2.2.1 s.2.2.2.2.2.2.2.2.2.2.2.2.2) (fun s => I s.1 s.2.1 s.2.2.1 s.2.2.2.1 s.2.2.2.2.1 s.2.2.2.2.2.1 s.2.2.2.2.2.2.1 s.2.2.2.2.2.2.2.1 s.2.2.2.2.2.2.2.2.1 s.2.2.2.2.2.2.2.2.2.1 s.2.2.2.2.2.2.2.2.2.2.1 s.2.2.2.2.2.2.2.2.2.2.2.1 s.2.2.2.2.2.2.2.2.2.2.2.2.1 s.2.2.2.2.2.2.2.2.2.2.2.2.2) (fun s => μ s.1 s.2.1 s.2.2.1 s.2.2.2.1 s.2.2.2.2.1 s.2.2.2.2.2.1 s.2.2.2.2.2.2.1 s.2.2.2.2.2.2.2.1 s.2.2.2.2.2.2.2.2.1 s.2.2.2.2.2.2.2.2.2.1 s.2.2.2.2.2.2.2.2.2.2.1 s.2.2.2.2.2.2.2.2.2.2.2.1 s.2.2.2.2.2.2.2.2.2.2.2.2.1 s.2.2.2.2.2.2.2.2.2.2.2.2.2) (fun n s hI hk => hs n s.1 s.2.1 s.2.2.1 s.2.2.2.1 s.2.2.2.2.1 s.2.2.2.2.2.1 s.2.2.2.2.2.2.1 s.2.2.2.2.2.2.2.1 s.2.2.2.2.2.2.2.2.1 s.2.2.2.2.2.2.2.2.2.1 s.2.2.2.2.2.2.2.2.2.2.1 s.2.2.2.2.2.2.2.2.2.2.2.1 s.2.2.2.2.2.2.2.2.2.2.2.2.1 s.2.2.2.2.2.2.2.2.2.2.2.2.2 hI (fun b1 b2 b3 b4 b5 b6 b7 b8 b9 b10 b11 b12 b13 b14 h9 hm => hk (b1, b2, b3, b4, b5, b6, b7, b8, b9, b10, b11, b12, b13, b14) h9 hm)) (a1, a2, a3, a4, a5, a6, a7, a8, a9, a10, a11, a12, a13, a14) h
theorem lp15 {A1 A2 A3 A4 A5 A6 A7 A8 A9 A10 A11 A12 A13 A14 A15 : Type} (W : Nat → A1 → A2 → A3 → A4 → A5 → A6 → A7 → A8 → A9 → A10 → A11 → A12 → A13 → A14 → A15 → Prop) (I : A1 → A2 → A3 → A4 → A5 → A6 → A7 → A8 → A9 → A10 → A11 → A12 → A13 → A14 → A15 → Prop) (μ : A1 → A2 → A3 → A4 → A5 → A6 → A7 → A8 → A9 → A10 → A11 → A12 → A13 → A14 → A15 → Nat) (hs : ∀ (n : Nat) (a1 : A1) (a2 : A2) (a3 : A3) (a4 : A4) (a5 : A5) (a6 : A6) (a7 : A7) (a8 : A8) (a9 : A9) (a10 : A10) (a11 : A11) (a12 : A12) (a13 : A13) (a14 : A14) (a15 : A15), I a1 a2 a3 a4 a5 a6 a7 a8 a9 a10 a11 a12 a13 a14 a15 → (∀ (b1 : A1) (b2 : A2) (b3 : A3) (b4 : A4) (b5 : A5) (b6 : A6) (b7 : A7) (b8 : A8) (b9 : A9) (b10 : A10) (b11 : A11) (b12 : A12) (b13 : A13) (b14 : A14) (b15 : A15), I b1 b2 b3 b4 b5 b6 b7 b8 b9 b10 b11 b12 b13 b14 b15 → μ b1 b2 b3 b4 b5 b6 b7 b8 b9 b10 b11 b12 b13 b14 b15 < μ a1 a2 a3 a4 a5 a6 a7 a8 a9 a10 a11 a12 a13 a14 a15 → W n b1 b2 b3 b4 b5 b6 b7 b8 b9 b10 b11 b12 b13 b14 b15) → W (n + 1) a1 a2 a3 a4 a5 a6 a7 a8 a9 a10 a11 a12 a13 a14 a15) (a1 : A1) (a2 : A2) (a3 : A3) (a4 : A4) (a5 : A5) (a6 : A6) (a7 : A7) (a8 : A8) (a9 : A9) (a10 : A10) (a11 : A11) (a12 : A12) (a13 : A13) (a14 : A14) (a15 : A15) (h : I a1 a2 a3 a4 a5 a6 a7 a8 a9 a10 a11 a12 a13 a14 a15) : ∃ n, W n a1 a2 a3 a4 a5 a6 a7 a8 a9 a10 a11 a12 a13 a14 a15 :=
  loop_m (σ := A1 × A2 × A3 × A4 × A5 × A6 × A7 × A8 × A9 × A10 × A11 × A12 × A13 × A14 × A15) (fun n s => W n s.1 s.2.1 s.2.2.1 s.2.2.2.1 s.2.2.2.2.1 s.2.2.2.2.2.1 s.2.2.2.2.2.2.1 s.2.2.2.2.2.2.2.1 s.2.2.2.2.2.2.2.2.1 s.2.2.2.2.2.2.2.2.2.1 s.2.2.2.2.2.2.2.2.2.2.1 s.2.2.2.2.2.2.2.2.2.2.2.1 s.2.2.2.2.2.2.2.2.2.2.2.2.1 s.2.2.2.2.2.2.2.2.2.2.2.2.2.1 s.2.2.2.2.2.2.2.2.2.2.2.2.2.2) (fun s => I s.1 s.2.1 s.2.2.1 s.2.2.2.1 s.2.2.2.2.1 s.2.2.2.2.2.1 s.2.2.2.2.2.2.1 s.2.2.2.2.2.2.2.1 s.2.2.2.2.2.2.2.2.1 s.2.2.2.2.2.2.2.2.2.1 s.2.2.2.2.2.2.2.2.2.2.1 s.2.2.2.2.2.2.2.2.2.2.2.1 s.2.2.2.2.2.2.2.2.2.2.2.2.1 s.2.2.2.2.2.2.2.2.2.2.2.2.2.1 s.2.2.2.2.2.2.2.2.2.2.2.2.2.2) (fun s => μ s.1 s.2.1 s.2.2.1 s.2.2.2.1 s.2.2.2.2.1 s.2.2.2.2.2.1 s.2.2.2.2.2.2.1 s.2.2.2.2.2.2.2.1 s.2.2.2.2.2.2.2.2.1 s.2.2.2.2.2.2.2.2.2.1 s.2.2.2.2.2.2.2.2.2.2.1 s.2.2.2.2.2.2.2.2.2.2.2.1 s.2.2.2.2.2.2.2.2.2.2.2.2.1 s.2.2.2.2.2.2.2.2.2.2.2.2.2.1 s.2.2.2.2.2.2.2.2.2.2.2.2.2.2) (fun n s hI hk => hs n s.1 s.2.1 s.2.2.1 s.2.2.2.1 s.2.2.2.2.1 s.2.2.2.2.2.1 s.2.2.2.2.2.2.1 s.2.2.2.2.2.2.2.1 s.2.2.2.2.2.2.2.2.1 s.2.2.2.2.2.2.2.2.2.1 s.2.2.2.2.2.2.2.2.2.2.1 s.2.2.2.2.2.2.2.2.2.2.2.1 s.2.2.2.2.2.2.2.2.2.2.2.2.1 s.2.2.2.2.2.2.2.2.2.2.2.2.2.1 s.2.2.2.2.2.2.2.2.2.2.2.2.2.2 hI (fun b1 b2 b3 b4 b5 b6 b7 b8 b9 b10 b11 b12 b13 b14 b15 h9 hm => hk (b1, b2, b3, b4, b5, b6, b7, b8, b9, b10, b11, b12, b13, b14, b15) h9 hm)) (a1, a2, a3, a4, a5, a6, a7, a8, a9, a10, a11, a12, a13, a14, a15) h
theorem lp16 {A1 A2 A3 A4 A5 A6 A7 A8 A9 A10 A11 A12 A13 A14 A15 A16 : Type} (W : Nat → A1 → A2 → A3 → A4 → A5 → A6 → A7 → A8 → A9 → A10 → A11 → A12 → A13 → A14 → A15 → A16 → Prop) (I : A1 → A2 → A3 → A4 → A5 → A6 → A7 → A8 → A9 → A10 → A11 → A12 → A13 → A14 → A15 → A16 → Prop) (μ : A1 → A2 → A3 → A4 → A5 → A6 → A7 → A8 → A9 → A10 → A11 → A12 → A13 → A14 → A15 → A16 → Nat) (hs : ∀ (n : Nat) (a1 : A1) (a2 : A2) (a3 : A3) (a4 : A4) (a5 : A5) (a6 : A6) (a7 : A7) (a8 : A8) (a9 : A9) (a10 : A10) (a11 : A11) (a12 : A12) (a13 : A13) (a14 : A14) (a15 : A15) (a16 : A16), I a1 a2 a3 a4 a5 a6 a7 a8 a9 a10 a11 a12 a13 a14 a15 a16 → (∀ (b1 : A1) (b2 : A2) (b3 : A3) (b4 : A4) (b5 : A5) (b6 : A6) (b7 : A7) (b8 : A8) (b9 : A9) (b10 : A10) (b11 : A11) (b12 : A12) (b13 : A13) (b14 : A14) (b15 : A15) (b16 : A16), I b1 b2 b3 b4 b5 b6 b7 b8 b9 b10 b11 b12 b13 b14 b15 b16 → μ b1 b2 b3 b4 b5 b6 b7 b8 b9 b10 b11 b12 b13 b14 b15 b16 < μ a1 a2 a3 a4 a5 a6 a7 a8 a9 a10 a11 a12 a13 a14 a15 a16 → W n b1 b2 b3 b4 b5 b6 b7 b8 b9 b10 b11 b12 b13 b14 b15 b16) → W (n + 1) a1 a2 a3 a4 a5 a6 a7 a8 a9 a10 a11 a12 a13 a14 a15 a16) (a1 : A1) (a2 : A2) (a3 : A3) (a4 : A4) (a5 : A5) (a6 : A6) (a7 : A7) (a8 : A8) (a9 : A9) (a10 : A10) (a11 : A11) (a12 : A12) (a13 : A13) (a14 : A14) (a15 : A15) (a16 : A16) (h : I a1 a2 a3 a4 a5 a6 a7 a8 a9 a10 a11 a12 a13 a14 a15 a16) : ∃ n, W n a1 a2 a3 a4 a5 a6 a7 a8 a9 a10 a11 a12 a13 a14 a15 a16 :=
  loop_m (σ := A1 × A2 × A3 × A4 × A5 × A6 × A7 × A8 × A9 × A10 × A11 × A12 × A13 × A14 × A15 × A16) (fun n s => W n s.1 s.2.1 s.2.2.1 s.2.2.2.1 s.2.2.2.2.1 s.2.2.2.2.2.1 s.2.2.2.2.2.2.1 s.2.2.2.2.2.2.2.1 s.2.2.2.2.2.2.2.2.1 s.2.2.2.2.2.2.2.2.2.1 s.2.2.2.2.2.2.2.2.2.2.1 s.2.2.2.2.2.2.2.2.2.2.2.1 s.2.2.2.2.2.2.2.2.2.2.2.2.1 s.2.2.2.2.2.2.2.2.2.2.2.2.2.1 s.2.2.2.2.2.2.2.2.2.2.2.2.2.2.1 s.2.2.2.2.2.2.2.2.2.2.2.2.2.2.2) (fun s => I s.1 s.2.1 s.2.2.1 s.2.2.2.1 s.2.2.2.2.1 s.2.2.2.2.2.1 s.2.2.2.2.2.2.1 s.2.2.2.2.2.2.2.1 s.2.2.2.2.2.2.2.2.1 s.2.2.2.2.2.2.2.2.2.1 s.2.2.2.2.2.2.2.2.2.2.1 s.2.2.2.2.2.2.2.2.2.2.2.1 s.2.2.2.2.2.2.2.2.2.2.2.2.1 s.2.2.2.2.2.2.2.2.2.2.2.2.2.1 s.2.2.2.2.2.2.2.2.2.2.2.2.2.2.1 s.2.2.2.2.2.2.2.2.2.2.2.2.2.2.2) (fun s => μ s.1 s.2.1 s.2.2.1 s.2.2.2.1 s.2.2.2.2.1 s.2.2.2.2.2.1 s.2.2.2.2.2.2.1 s.2.2.2.2.2.2.2.1 s.2.2.2.2.2.2.2.2.1 s.2.2.2.2.2.2.2.2.2.1 s.2.2.2.2.2.2.2.2.2.2.1 s.2.2.2.2.2.2.2.2.2.2.2.1 s.2.2.2.2.2.2.2.2.2.2.2.2.1 s.2.2.2.2.2.2.2.2.2.2.2.2.2.1 s.2.2.2.2.2.2.2.2.2.2.2.2.2.2.1 s.2.2.2.2.2.2.2.2.2.2.2.2.2.2.2) (fun n s hI hk => hs n s.1 s.2.1 s.2.2.1 s.2.2.2.1 s.2.2.2.2.1 s.2.2.2.2.2.1 s.2.2.2.2.2.2.1 s.2.2.2.2.2.2.2.1 s.2.2.2.2.2.2.2.2.1 s.2.2.2.2.2.2.2.2.2.1 s.2.2.2.2.2.2.2.2.2.2.1 s.2.2.2.2.2.2.2.2.2.2.2.1 s.2.2.2.2.2.2.2.2.2.2.2.2.1 s.2.2.2.2.2.2.2.2.2.2.2.2.2.1 s.2.2.2.2.2.2.2.2.2.2.2.2.2.2.1 s.2.2.2.2.2.2.2.2.2.2.2.2.2.2.2 hI (fun b1 b2 b3 b4 b5 b6 b7 b8 b9 b10 b11 b12 b13 b14 b15 b16 h9 hm => hk (b1, b2, b3, b4, b5, b6, b7, b8, b9, b10, b11, b12, b13, b14, b15, b16) h9 hm)) (a1, a2, a3, a4, a5, a6, a7, a8, a9, a10, a11, a12, a13, a14, a15, a16) h
theorem pk_least (P : Nat → Prop) (h : ∃ k, P k) : ∃ k, P k ∧ ∀ j, j < k → ¬ P j := by
  obtain ⟨k, hk⟩ := h
  induction k using Nat.strongRecOn with
  | ind k ih =>
    by_cases e : ∃ j, j < k ∧ P j
    · obtain ⟨j, hj, pj⟩ := e
      exact ih j hj pj
    · exact ⟨k, hk, fun j hj pj => e ⟨j, hj, pj⟩⟩
theorem rp1 {ρ A1 : Type} (W : Nat → (ρ → Prop) → A1 → Prop) (ok : A1 → Prop) (μ : A1 → Nat) (val : A1 → ρ)
    (hs : ∀ (d : Nat) (post : ρ → Prop) (a1 : A1), ok a1 → post (val a1) → (∀ (post' : ρ → Prop) (b1 : A1), ok b1 → μ b1 < μ a1 → post' (val b1) → W d post' b1) → W (d + 1) post a1) :
    ∀ (d : Nat) (post : ρ → Prop) (a1 : A1), ok a1 → μ a1 < d → post (val a1) → W d post a1 := by
  intro d
  induction d with
  | zero => intro post a1 _ h; omega
  | succ d ih =>
    intro post a1 ho hm hp
    exact hs d post a1 ho hp (fun post' b1 ho' hm' hp' => ih post' b1 ho' (by omega) hp')
theorem rp2 {ρ A1 A2 : Type} (W : Nat → (ρ → Prop) → A1 → A2 → Prop) (ok : A1 → A2 → Prop) (μ : A1 → A2 → Nat) (val : A1 → A2 → ρ)
    (hs : ∀ (d : Nat) (post : ρ → Prop) (a1 : A1) (a2 : A2), ok a1 a2 → post (val a1 a2) → (∀ (post' : ρ → Prop) (b1 : A1) (b2 : A2), ok b1 b2 → μ b1 b2 < μ a1 a2 → post' (val b1 b2) → W d post' b1 b2) → W (d + 1) post a1 a2) :
    ∀ (d : Nat) (post : ρ → Prop) (a1 : A1) (a2 : A2), ok a1 a2 → μ a1 a2 < d → post (val a1 a2) → W d post a1 a2 := by
  intro d
  induction d with
  | zero => intro post a1 a2 _ h; omega
  | succ d ih =>
    intro post a1 a2 ho hm hp
    exact hs d post a1 a2 ho hp (fun post' b1 b2 ho' hm' hp' => ih post' b1 b2 ho' (by omega) hp')
theorem rp3 {ρ A1 A2 A3 : Type} (W : Nat → (ρ → Prop) → A1 → A2 → A3 → Prop) (ok : A1 → A2 → A3 → Prop) (μ : A1 → A2 → A3 → Nat) (val : A1 → A2 → A3 → ρ)
    (hs : ∀ (d : Nat) (post : ρ → Prop) (a1 : A1) (a2 : A2) (a3 : A3), ok a1 a2 a3 → post (val a1 a2 a3) → (∀ (post' : ρ → Prop) (b1 : A1) (b2 : A2) (b3 : A3), ok b1 b2 b3 → μ b1 b2 b3 < μ a1 a2 a3 → post' (val b1 b2 b3) → W d post' b1 b2 b3) → W (d + 1) post a1 a2 a3) :
    ∀ (d : Nat) (post : ρ → Prop) (a1 : A1) (a2 : A2) (a3 : A3), ok a1 a2 a3 → μ a1 a2 a3 < d → post (val a1 a2 a3) → W d post a1 a2 a3 := by
  intro d
  induction d with
  | zero => intro post a1 a2 a3 _ h; omega
  | succ d ih =>
    intro post a1 a2 a3 ho hm hp
    exact hs d post a1 a2 a3 ho hp (fun post' b1 b2 b3 ho' hm' hp' => ih post' b1 b2 b3 ho' (by omega) hp')
theorem rp4 {ρ A1 A2 A3 A4 : Type} (W : Nat → (ρ → Prop) → A1 → A2 → A3 → A4 → Prop) (ok : A1 → A2 → A3 → A4 → Prop) (μ : A1 → A2 → A3 → A4 → Nat) (val : A1 → A2 → A3 → A4 → ρ)
    (hs : ∀ (d : Nat) (post : ρ → Prop) (a1 : A1) (a2 : A2) (a3 : A3) (a4 : A4), ok a1 a2 a3 a4 → post (val a1 a2 a3 a4) → (∀ (post' : ρ → Prop) (b1 : A1) (b2 : A2) (b3 : A3) (b4 : A4), ok b1 b2 b3 b4 → μ b1 b2 b3 b4 < μ a1 a2 a3 a4 → post' (val b1 b2 b3 b4) → W d post' b1 b2 b3 b4) → W (d + 1) post a1 a2 a3 a4) :
    ∀ (d : Nat) (post : ρ → Prop) (a1 : A1) (a2 : A2) (a3 : A3) (a4 : A4), ok a1 a2 a3 a4 → μ a1 a2 a3 a4 < d → post (val a1 a2 a3 a4) → W d post a1 a2 a3 a4 := by
  intro d
  induction d with
  | zero => intro post a1 a2 a3 a4 _ h; omega
  | succ d ih =>
    intro post a1 a2 a3 a4 ho hm hp
    exact hs d post a1 a2 a3 a4 ho hp (fun post' b1 b2 b3 b4 ho' hm' hp' => ih post' b1 b2 b3 b4 ho' (by omega) hp')
theorem rp5 {ρ A1 A2 A3 A4 A5 : Type} (W : Nat → (ρ → Prop) → A1 → A2 → A3 → A4 → A5 → Prop) (ok : A1 → A2 → A3 → A4 → A5 → Prop) (μ : A1 → A2 → A3 → A4 → A5 → Nat) (val : A1 → A2 → A3 → A4 → A5 → ρ)
    (hs : ∀ (d : Nat) (post : ρ → Prop) (a1 : A1) (a2 : A2) (a3 : A3) (a4 : A4) (a5 : A5), ok a1 a2 a3 a4 a5 → post (val a1 a2 a3 a4 a5) → (∀ (post' : ρ → Prop) (b1 : A1) (b2 : A2) (b3 : A3) (b4 : A4) (b5 : A5), ok b1 b2 b3 b4 b5 → μ b1 b2 b3 b4 b5 < μ a1 a2 a3 a4 a5 → post' (val b1 b2 b3 b4 b5) → W d post' b1 b2 b3 b4 b5) → W (d + 1) post a1 a2 a3 a4 a5) :
    ∀ (d : Nat) (post : ρ → Prop) (a1 : A1) (a2 : A2) (a3 : A3) (a4 : A4) (a5 : A5), ok a1 a2 a3 a4 a5 → μ a1 a2 a3 a4 a5 < d → post (val a1 a2 a3 a4 a5) → W d post a1 a2 a3 a4 a5 := by
  intro d
  induction d with
  | zero => intro post a1 a2 a3 a4 a5 _ h; omega
  | succ d ih =>
    intro post a1 a2 a3 a4 a5 ho hm hp
    exact hs d post a1 a2 a3 a4 a5 ho hp (fun post' b1 b2 b3 b4 b5 ho' hm' hp' => ih post' b1 b2 b3 b4 b5 ho' (by omega) hp')
theorem rp6 {ρ A1 A2 A3 A4 A5 A6 : Type} (W : Nat → (ρ → Prop) → A1 → A2 → A3 → A4 → A5 → A6 → Prop) (ok : A1 → A2 → A3 → A4 → A5 → A6 → Prop) (μ : A1 → A2 → A3 → A4 → A5 → A6 → Nat) (val : A1 → A2 → A3 → A4 → A5 → A6 → ρ)
    (hs : ∀ (d : Nat) (post : ρ → Prop) (a1 : A1) (a2 : A2) (a3 : A3) (a4 : A4) (a5 : A5) (a6 : A6), ok a1 a2 a3 a4 a5 a6 → post (val a1 a2 a3 a4 a5 a6) → (∀ (post' : ρ → Prop) (b1 : A1) (b2 : A2) (b3 : A3) (b4 : A4) (b5 : A5) (b6 : A6), ok b1 b2 b3 b4 b5 b6 → μ b1 b2 b3 b4 b5 b6 < μ a1 a2 a3 a4 a5 a6 → post' (val b1 b2 b3 b4 b5 b6) → W d post' b1 b2 b3 b4 b5 b6) → W (d + 1) post a1 a2 a3 a4 a5 a6) :
    ∀ (d : Nat) (post : ρ → Prop) (a1 : A1) (a2 : A2) (a3 : A3) (a4 : A4) (a5 : A5) (a6 : A6), ok a1 a2 a3 a4 a5 a6 → μ a1 a2 a3 a4 a5 a6 < d → post (val a1 a2 a3 a4 a5 a6) → W d post a1 a2 a3 a4 a5 a6 := by
  intro d
  induction d with
  | zero => intro post a1 a2 a3 a4 a5 a6 _ h; omega
  | succ d ih =>
    intro post a1 a2 a3 a4 a5 a6 ho hm hp
    exact hs d post a1 a2 a3 a4 a5 a6 ho hp (fun post' b1 b2 b3 b4 b5 b6 ho' hm' hp' => ih post' b1 b2 b3 b4 b5 b6 ho' (by omega) hp')
theorem rec_p {σ ρ : Type} (W : Nat → (ρ → Prop) → σ → Prop) (ok : σ → Prop) (μ : σ → Nat) (val : σ → ρ)
    (hs : ∀ d s post, ok s → post (val s) → (∀ s' post', ok s' → μ s' < μ s → post' (val s') → W d post' s') → W (d + 1) post s) :
    ∀ d s post, ok s → μ s < d → post (val s) → W d post s := by
  intro d
  induction d with
  | zero => intro s post _ h; omega
  | succ d ih =>
    intro s post ho hm hp
    exact hs d s post ho hp (fun s' post' ho' hm' hp' => ih s' post' ho' (by omega) hp')
theorem rec_q {σ ρ : Type} (W : Nat → (ρ → Prop) → σ → Prop) (ok : σ → Prop) (μ : σ → Nat) (Q : σ → ρ → Prop)
    (hs : ∀ d s post, ok s → (∀ r, Q s r → post r) → (∀ s' post', ok s' → μ s' < μ s → (∀ r, Q s' r → post' r) → W d post' s') → W (d + 1) post s) :
    ∀ d s post, ok s → μ s < d → (∀ r, Q s r → post r) → W d post s := by
  intro d
  induction d with
  | zero => intro s post _ h; omega
  | succ d ih =>
    intro s post ho hm hp
    exact hs d s post ho hp (fun s' post' ho' hm' hp' => ih s' post' ho' (by omega) hp')
def bx_sum (f : Nat → Int32) : Nat → Int32
  | 0 => 0
  | n + 1 => bx_sum f n + f n
theorem ek_u {A : Prop} {B : Nat → Prop} {k N : Nat} (hk : k < N) (h : B k) : (some k = none → A) ∧ (∀ y : Nat, some k = some y → (y < N ∧ B y)) :=
  ⟨fun z => absurd z (Option.some_ne_none k), fun _ e => (by cases e; exact ⟨hk, h⟩)⟩
theorem ek_nu {A : Prop} {B : Nat → Prop} (h : A) : ((none : Option Nat) = none → A) ∧ (∀ y : Nat, (none : Option Nat) = some y → B y) :=
  ⟨fun _ => h, fun _ e => (by cases e)⟩
theorem ek_if {c d A B : Prop} (e : c ↔ d) (f : d → A) (g : ¬ d → B) : (c → A) ∧ (¬ c → B) :=
  ⟨fun z => f (e.mp z), fun z => g (fun y => z (e.mpr y))⟩
theorem ek_v {α : Sort _} {P : α → Prop} {a b : α} (e : a = b) (h : P b) : P a := e ▸ h
theorem co_some {x : Option Nat} {A : Prop} {B : Nat → Prop} (i : Nat) (h : B i) (hx : x = some i := by rfl) : (x = none → A) ∧ (∀ y : Nat, x = some y → B y) := by
  subst hx
  exact ⟨fun e => (nomatch e), fun y e => Option.some.inj e ▸ h⟩
theorem co_none {x : Option Nat} {A : Prop} {B : Nat → Prop} (h : A) (hx : x = none := by rfl) : (x = none → A) ∧ (∀ y : Nat, x = some y → B y) := by
  subst hx
  exact ⟨fun _ => h, fun y e => (nomatch e)⟩
theorem co_any {x : Option Nat} {A : Prop} {B : Nat → Prop} (hn : x = none → A) (hs : ∀ i : Nat, x = some i → B i) : (x = none → A) ∧ (∀ y : Nat, x = some y → B y) := ⟨hn, hs⟩
theorem co_2 {P : Nat → Prop} (h0 : P 0) (h1 : P 1) {i : Nat} (hi : i < 2) : P i :=
  match i, hi with
  | 0, _ => h0
  | 1, _ => h1
theorem co_3 {P : Nat → Prop} (h0 : P 0) (h1 : P 1) (h2 : P 2) {i : Nat} (hi : i < 3) : P i :=
  match i, hi with
  | 0, _ => h0
  | 1, _ => h1
  | 2, _ => h2
theorem co_4 {P : Nat → Prop} (h0 : P 0) (h1 : P 1) (h2 : P 2) (h3 : P 3) {i : Nat} (hi : i < 4) : P i :=
  match i, hi with
  | 0, _ => h0
  | 1, _ => h1
  | 2, _ => h2
  | 3, _ => h3
theorem co_dec {N : Nat} {P : Nat → Prop} [DecidablePred P] (h : (List.range N).all (fun i => decide (P i)) = true) {i : Nat} (hi : i < N) : P i := by
  have := List.all_eq_true.mp h i (List.mem_range.mpr hi)
  exact of_decide_eq_true this
theorem co_tab {α : Type} {l : List α} {d : α} {P : α → Prop} (h : ∀ a, a ∈ l → P a) {i : Nat} (hi : i < l.length) : P (l.getD i d) := by
  rw [List.getD_eq_getElem?_getD, List.getElem?_eq_getElem hi]
  exact h _ (List.getElem_mem hi)
theorem pk_mu {x : Int32} {L : Nat} (h0 : ¬ x < 0) (h : ¬ nI L ≤ x) (hL : L < 2 ^ 31) : ∃ j : Nat, j < L ∧ x = nI j ∧ x + 1 = nI (j + 1) ∧ x.toNatClampNeg = j ∧ L - (x + 1).toNatClampNeg < L - x.toNatClampNeg := by
  obtain ⟨j, hj, rfl⟩ := nI_of h0
  have hl : j < L := Nat.not_le.mp fun q => h (nI_le q hj)
  refine ⟨j, hl, rfl, nI_1 j, nI_clamp hj, ?_⟩
  rw [nI_1, nI_clamp (by omega), nI_clamp hj]
  omega
theorem op_s {α : Type} {r : Option α} {A : Prop} {B : α → Prop} {y : α} (h : r = some y) (b : B y) : (r = none → A) ∧ ∀ z, r = some z → B z :=
  ⟨fun e => (by rw [h] at e; cases e), fun z e => (by rw [h] at e; cases e; exact b)⟩
def l_holds {α : Type} (a : Nat → Option Nat) (LP : List Nat) (p : Nat → α) (c : Nat) (b : Nat → α) : Prop :=
  ∀ j, j < c → ∃ y, a j = some y ∧ y ∈ LP ∧ p y = b j
theorem l_holds_0 {α : Type} {a : Nat → Option Nat} {LP : List Nat} {p b : Nat → α} : l_holds a LP p 0 b := fun j h => absurd h (Nat.not_lt_zero j)
theorem l_in_new (LP : List Nat) (q : Nat) : q ∈ LP ++ [q] := List.mem_append.mpr (Or.inr (List.mem_singleton.mpr rfl))
def l_sum (b : Nat → Int32) : Nat → Int32
  | 0 => 0
  | k + 1 => l_sum b k + b k
theorem sb_shr0 (x : Int32) : x >>> ((0 : Int32) &&& 31) = x := by
  rw [show ((0 : Int32) &&& 31) = 0 by decide]
  simp
theorem sb_shl0 (x : Int32) : x <<< ((0 : Int32) &&& 31) = x := by
  rw [show ((0 : Int32) &&& 31) = 0 by decide]
  simp
theorem sb_cl0 : (0 : Int32).toNatClampNeg = 0 := by decide
theorem sb_m1 {p : Nat} (h : 0 < p) : nI p + (-1) = nI (p - 1) := by
  obtain ⟨q, rfl⟩ : ∃ q, p = q + 1 := ⟨p - 1, by omega⟩
  exact pk_m1 q
def sb_b (c : Nat) : Int32 := (nI c).toInt8.toInt32
theorem sb_byte : ∀ c, c < 256 → sb_b c &&& 255 = nI c ∧ ((nI c).toUInt32 % 65536).toInt32 = nI c ∧ nI c ≤ 255 := by decide +kernel
def sb_Fit (a : Nat → Int32) : Prop := ∀ j, fits .byte (.int (a j)) = true
def sb_Lat (t : Nat → Nat) (n : Nat) (a : Nat → Int32) : Prop := ∀ j, j < n → t j < 256 ∧ a j = sb_b (t j)
theorem sb_fitB (c : Nat) : fits .byte (.int (sb_b c)) = true := pk_fb _
theorem sb_fit0 : sb_Fit (fun _ => 0) := fun _ => by
  show fits .byte (.int 0) = true
  decide
theorem sb_fitU {a : Nat → Int32} {k : Nat} {x : Int32} (h : sb_Fit a) (hx : fits .byte (.int x) = true) : sb_Fit (upd a k x) := by
  intro j
  by_cases e : j = k
  · subst e
    rw [pk_us]
    exact hx
  · rw [pk_un e]
    exact h j
def sb_cat (t : Nat → Nat) (n : Nat) (s : Nat → Nat) : Nat → Nat := fun j => if j < n then t j else s (j - n)
theorem sb_cat_lo {t s : Nat → Nat} {n j : Nat} (h : j < n) : sb_cat t n s j = t j := if_pos h
theorem sb_cat_hi {t s : Nat → Nat} {n j : Nat} : sb_cat t n s (n + j) = s j := by
  show (if n + j < n then t (n + j) else s (n + j - n)) = s j
  rw [if_neg (by omega), Nat.add_sub_cancel_left]
theorem sb_latPut {t s : Nat → Nat} {n w : Nat} {a a' : Nat → Int32} (h : sb_Lat t n a) (hk : ∀ j, j < n → a' j = a j) (hs : ∀ i, i < w → s i < 256 ∧ a' (n + i) = sb_b (s i)) : sb_Lat (sb_cat t n s) (n + w) a' := by
  intro j hj
  by_cases e : j < n
  · rw [sb_cat_lo e, hk j e]
    exact h j e
  · obtain ⟨i, rfl⟩ : ∃ i, j = n + i := ⟨j - n, by omega⟩
    rw [sb_cat_hi]
    exact hs i (by omega)
theorem sb_latKeep {t : Nat → Nat} {n : Nat} {a a' : Nat → Int32} (h : sb_Lat t n a) (hk : ∀ j, j < n → a' j = a j) : sb_Lat t n a' := fun j hj => by
  rw [hk j hj]
  exact h j hj
def sb_cap (q m : Nat) : Nat := if q ≤ m then m else if 2 * m + 2 < q then q else 2 * m + 2
def sb_Room (q m mc ms : Nat) : Prop := q ≤ m ∨ (1 ≤ mc ∧ sb_cap q m ≤ ms ∧ sb_cap q m ≤ 65536)
theorem sb_cap_ge (q m : Nat) : q ≤ sb_cap q m := by
  unfold sb_cap
  split
  · omega
  · split <;> omega
theorem sb_cap_gem (q m : Nat) : m ≤ sb_cap q m := by
  unfold sb_cap
  split
  · omega
  · split <;> omega
theorem sb_cap_le {q m mc ms : Nat} (hm : m ≤ 65536) (hr : sb_Room q m mc ms) : sb_cap q m ≤ 65536 := by
  rcases hr with h | h
  · rw [sb_cap, if_pos h]
    exact hm
  · exact h.2.2
theorem sb_at {P : Int32 → Prop} {x y : Int32} (e : x = y) (h : P y) : P x := e ▸ h
def sb_dg (w : Nat) : Nat := if w < 10 then 1 else if w < 100 then 2 else if w < 1000 then 3 else if w < 10000 then 4 else if w < 100000 then 5 else if w < 1000000 then 6 else if w < 10000000 then 7 else if w < 100000000 then 8 else if w < 1000000000 then 9 else 10
def sb_dec (v : Nat) : Nat → Nat := fun i => 48 + v / 10 ^ (sb_dg v - 1 - i) % 10
theorem sb_dg_in (w : Nat) : 1 ≤ sb_dg w ∧ sb_dg w ≤ 10 := by
  unfold sb_dg
  constructor <;> (repeat' split) <;> omega
theorem sb_dg100 {w : Nat} (h : 100 ≤ w) (hw : w < 2 ^ 31) : sb_dg w = sb_dg (w / 100) + 2 := by
  rw [sb_dg, sb_dg, if_neg (show ¬ w < 10 by omega), if_neg (show ¬ w < 100 by omega)]
  by_cases h3 : w < 1000
  · rw [if_pos h3, if_pos (show w / 100 < 10 by omega)]
  rw [if_neg h3, if_neg (show ¬ w / 100 < 10 by omega)]
  by_cases h4 : w < 10000
  · rw [if_pos h4, if_pos (show w / 100 < 100 by omega)]
  rw [if_neg h4, if_neg (show ¬ w / 100 < 100 by omega)]
  by_cases h5 : w < 100000
  · rw [if_pos h5, if_pos (show w / 100 < 1000 by omega)]
  rw [if_neg h5, if_neg (show ¬ w / 100 < 1000 by omega)]
  by_cases h6 : w < 1000000
  · rw [if_pos h6, if_pos (show w / 100 < 10000 by omega)]
  rw [if_neg h6, if_neg (show ¬ w / 100 < 10000 by omega)]
  by_cases h7 : w < 10000000
  · rw [if_pos h7, if_pos (show w / 100 < 100000 by omega)]
  rw [if_neg h7, if_neg (show ¬ w / 100 < 100000 by omega)]
  by_cases h8 : w < 100000000
  · rw [if_pos h8, if_pos (show w / 100 < 1000000 by omega)]
  rw [if_neg h8, if_neg (show ¬ w / 100 < 1000000 by omega)]
  by_cases h9 : w < 1000000000
  · rw [if_pos h9, if_pos (show w / 100 < 10000000 by omega)]
  rw [if_neg h9, if_neg (show ¬ w / 100 < 10000000 by omega)]
  rw [if_pos (show w / 100 < 100000000 by omega)]
theorem sb_negT {w : Nat} (h : w < 2 ^ 31) : (-nI w).toInt = -(w : Int) := by
  rw [Int32.toInt_neg, nI_toInt h]
  exact Int.bmod_eq_of_le (by omega) (by omega)
theorem sb_nle {a b : Nat} (ha : a < 2 ^ 31) (hb : b < 2 ^ 31) : -nI a ≤ -nI b ↔ b ≤ a := by
  rw [Int32.le_iff_toInt_le, sb_negT ha, sb_negT hb]
  omega
theorem sb_nlt {a b : Nat} (ha : a < 2 ^ 31) (hb : b < 2 ^ 31) : -nI a < -nI b ↔ b < a := by
  rw [Int32.lt_iff_toInt_lt, sb_negT ha, sb_negT hb]
  omega
theorem sb_cmp {A B : Prop} {x : Int32} (v c : Nat) (f : c ≤ v → A) (g : v < c → B) (hv : v < 2 ^ 31) (hx : x = -nI c := by rfl) (hc : c < 2 ^ 31 := by omega) : (-nI v ≤ x → A) ∧ (¬ -nI v ≤ x → B) := by
  subst hx
  rw [sb_nle hv hc]
  exact ⟨f, fun z => g (by omega)⟩
theorem sb_ndiv {w : Nat} (hw : w < 2 ^ 31) : (-nI w) / 100 = -nI (w / 100) := by
  apply Int32.toInt_inj.mp
  have h100 : (100 : Int32).toInt = 100 := by decide
  rw [Int32.toInt_div, sb_negT hw, h100, sb_negT (by omega), Int.neg_tdiv, Int.tdiv_eq_ediv_of_nonneg (by omega), Int.bmod_eq_of_le (by omega) (by omega)]
  omega
theorem sb_nrem {w : Nat} (hw : w < 2 ^ 31) : (-nI (w / 100)) * 100 - (-nI w) = nI (w % 100) := by
  have h := pk_rem (a := w) (d := 100) hw (by decide) (by decide)
  rw [pk_div hw (by decide) (by decide)] at h
  rw [← h]
  show (-nI (w / 100)) * nI 100 - (-nI w) = nI w - nI (w / 100) * nI 100
  rw [Int32.neg_mul, Int32.sub_neg, Int32.add_comm, ← Int32.sub_eq_add_neg]
/-! rows on bits, shifts and unsigned numbers, to paste: each family out of a closed proof of our own, whole with what it rests on; each by itself clean at Lean in its own claim (generation 39, form 5). Take a family whole -/
/-! ===== Int32 by its bits: bt x i ===== -/
def bt (x : Int32) (i : Nat) : Bool := x.toBitVec.getLsbD i
theorem b_ext {x y : Int32} (h : ∀ i, i < 32 → bt x i = bt y i) : x = y := Int32.toBitVec_inj.mp (BitVec.eq_of_getLsbD_eq (fun i hi => h i hi))
theorem b_or (x y : Int32) (i : Nat) : bt (x ||| y) i = (bt x i || bt y i) := by unfold bt; rw [Int32.toBitVec_or, BitVec.getLsbD_or]
theorem b_and (x y : Int32) (i : Nat) : bt (x &&& y) i = (bt x i && bt y i) := by unfold bt; rw [Int32.toBitVec_and, BitVec.getLsbD_and]
theorem b_xor (x y : Int32) (i : Nat) : bt (x ^^^ y) i = (bt x i ^^ bt y i) := by unfold bt; rw [Int32.toBitVec_xor, BitVec.getLsbD_xor]
theorem b_big {x : Int32} {i : Nat} (h : 32 ≤ i) : bt x i = false := BitVec.getLsbD_of_ge _ _ h
theorem b_255 (i : Nat) : bt 255 i = decide (i < 8) := by
  rcases Nat.lt_or_ge i 32 with h | h
  · exact (by decide +kernel : ∀ i, i < 32 → bt 255 i = decide (i < 8)) i h
  · rw [b_big h, decide_eq_false (by omega)]
theorem b_65535 (i : Nat) : bt 65535 i = decide (i < 16) := by
  rcases Nat.lt_or_ge i 32 with h | h
  · exact (by decide +kernel : ∀ i, i < 32 → bt 65535 i = decide (i < 16)) i h
  · rw [b_big h, decide_eq_false (by omega)]
theorem b_m1 : ∀ i, i < 32 → bt (-1) i = true := by decide +kernel
theorem b_0 (i : Nat) : bt 0 i = false := BitVec.getLsbD_zero
theorem s_l : ∀ n, n < 32 → ((nI n &&& 31).toBitVec.smod 32).toNat = n := by decide +kernel
theorem s_u : ∀ n, n < 32 → (((nI n).toUInt32 &&& Int32.toUInt32 31).toBitVec % 32).toNat = n := by decide +kernel
theorem b_shl (n : Nat) (hn : n < 32) (x : Int32) {i : Nat} (hi : i < 32) : bt (x <<< (nI n &&& 31)) i = (decide (n ≤ i) && bt x (i - n)) := by
  unfold bt
  rw [Int32.toBitVec_shiftLeft]
  show (x.toBitVec <<< ((nI n &&& 31).toBitVec.smod 32).toNat).getLsbD i = _
  rw [s_l n hn, BitVec.getLsbD_shiftLeft]
  rcases Nat.lt_or_ge i n with h | h
  · simp [h, Nat.not_le.mpr h]
  · simp [hi, h, Nat.not_lt.mpr h]
theorem b_ushr (n : Nat) (hn : n < 32) (x : Int32) (i : Nat) : bt ((x.toUInt32 >>> ((nI n).toUInt32 &&& Int32.toUInt32 31)).toInt32) i = bt x (n + i) := by
  show (x.toUInt32 >>> ((nI n).toUInt32 &&& Int32.toUInt32 31)).toBitVec.getLsbD i = x.toUInt32.toBitVec.getLsbD (n + i)
  rw [UInt32.toBitVec_shiftRight]
  show (x.toUInt32.toBitVec >>> (((nI n).toUInt32 &&& Int32.toUInt32 31).toBitVec % 32).toNat).getLsbD i = _
  rw [s_u n hn, BitVec.getLsbD_ushiftRight]
theorem b_sshr (n : Nat) (hn : n < 32) (x : Int32) {i : Nat} (hi : i < 32) : bt (x >>> (nI n &&& 31)) i = if n + i < 32 then bt x (n + i) else bt x 31 := by
  unfold bt
  rw [Int32.toBitVec_shiftRight]
  show (x.toBitVec.sshiftRight ((nI n &&& 31).toBitVec.smod 32).toNat).getLsbD i = _
  rw [s_l n hn, BitVec.getLsbD_sshiftRight, BitVec.msb_eq_getLsbD_last]
  simp [hi]
theorem b_shl8 (x : Int32) {i : Nat} (hi : i < 32) : bt (x <<< ((8 : Int32) &&& 31)) i = (decide (8 ≤ i) && bt x (i - 8)) := b_shl 8 (by omega) x hi
theorem b_shl16 (x : Int32) {i : Nat} (hi : i < 32) : bt (x <<< ((16 : Int32) &&& 31)) i = (decide (16 ≤ i) && bt x (i - 16)) := b_shl 16 (by omega) x hi
theorem b_shl24 (x : Int32) {i : Nat} (hi : i < 32) : bt (x <<< ((24 : Int32) &&& 31)) i = (decide (24 ≤ i) && bt x (i - 24)) := b_shl 24 (by omega) x hi
theorem b_sshr8 (x : Int32) {i : Nat} (hi : i < 32) : bt (x >>> ((8 : Int32) &&& 31)) i = if 8 + i < 32 then bt x (8 + i) else bt x 31 := b_sshr 8 (by omega) x hi
/-! ===== nI under and, xor, >>>, one bit, 65535 ===== -/
theorem nx_and (a b : Nat) : nI a &&& nI b = nI (a &&& b) := by
  apply Int32.toBitVec_inj.1
  show BitVec.ofNat 32 a &&& BitVec.ofNat 32 b = BitVec.ofNat 32 (a &&& b)
  apply BitVec.eq_of_getLsbD_eq
  intro i hi
  simp [hi]
theorem nx_xor (a b : Nat) : nI a ^^^ nI b = nI (a ^^^ b) := by
  apply Int32.toBitVec_inj.1
  show BitVec.ofNat 32 a ^^^ BitVec.ofNat 32 b = BitVec.ofNat 32 (a ^^^ b)
  apply BitVec.eq_of_getLsbD_eq
  intro i hi
  simp [hi]
theorem nx_cnt : ∀ j : Fin 32, (UInt32.ofNat j.val &&& Int32.toUInt32 31).toNat % 32 = j.val := by decide +kernel
theorem nx_ush {k j : Nat} (hk : k < 65536) (hj : j < 32) : ((nI k).toUInt32 >>> ((nI j).toUInt32 &&& Int32.toUInt32 31)).toInt32 = nI (k >>> j) := by
  have hs : k >>> j ≤ k := by
    rw [Nat.shiftRight_eq_div_pow]
    exact Nat.div_le_self _ _
  have e2 : UInt32.ofNat k >>> (UInt32.ofNat j &&& Int32.toUInt32 31) = UInt32.ofNat (k >>> j) := by
    apply UInt32.toNat_inj.1
    have h1 : (UInt32.ofNat k).toNat = k := Nat.mod_eq_of_lt (by omega)
    have h2 : (UInt32.ofNat (k >>> j)).toNat = k >>> j := Nat.mod_eq_of_lt (by omega)
    rw [UInt32.toNat_shiftRight, nx_cnt ⟨j, hj⟩, h1, h2]
  show (UInt32.ofNat k >>> (UInt32.ofNat j &&& Int32.toUInt32 31)).toInt32 = _
  rw [e2]
  rfl
theorem nx_bit {k j : Nat} (hk : k < 65536) (hj : j < 16) : (((nI k).toUInt32 >>> ((nI j).toUInt32 &&& Int32.toUInt32 31)).toInt32 &&& 1) = 0 ↔ k.testBit j = false := by
  rw [nx_ush hk (by omega)]
  show nI (k >>> j) &&& nI 1 = 0 ↔ _
  rw [nx_and, Nat.and_one_is_mod, ← nI_0, nI_eq (by omega) (by omega), Nat.testBit_eq_decide_div_mod_eq, Nat.shiftRight_eq_div_pow, decide_eq_false_iff_not]
  generalize k / 2 ^ j = z
  omega
theorem nx_mod (k : Nat) : nI k &&& 65535 = nI (k % 65536) := by
  show nI k &&& nI 65535 = _
  rw [nx_and, show (65535 : Nat) = 2 ^ 16 - 1 from rfl, Nat.and_two_pow_sub_one_eq_mod]
theorem nx_m16 {k : Nat} (h : k < 65536) : nI k &&& 65535 = nI k := by rw [nx_mod, Nat.mod_eq_of_lt h]
theorem nx_mask (x : Int32) : ∃ k, k < 65536 ∧ x &&& 65535 = nI k := by
  have e : x = nI x.toBitVec.toNat := by
    apply Int32.toBitVec_inj.1
    show x.toBitVec = BitVec.ofNat 32 x.toBitVec.toNat
    simp
  refine ⟨x.toBitVec.toNat % 65536, Nat.mod_lt _ (by omega), ?_⟩
  rw [← nx_mod, ← e]
/-! ===== Int32 as a set of bits: test, set ===== -/
def nf_M (m : Int32) : Nat := 4294967296 - m.toBitVec.toNat
theorem nf_sh : ∀ l, l < 32 → ((1 : Int32) <<< (nI l &&& 31)).toBitVec = BitVec.twoPow 32 l := by decide +kernel
theorem nf_sl : ∀ l, l < 32 → (((nI l).toUInt32 &&& Int32.toUInt32 31).toBitVec % 32).toNat = l := by decide +kernel
theorem nf_tp : ∀ l, l < 32 → BitVec.twoPow 32 l ≠ 0#32 := by decide +kernel
theorem nf_bit (m : Int32) (l : Nat) (hl : l < 32) : ((m.toUInt32 >>> ((nI l).toUInt32 &&& Int32.toUInt32 31)).toInt32 &&& 1) = 0 ↔ (m &&& ((1 : Int32) <<< (nI l &&& 31))) = 0 := by
  have e : ((m.toUInt32 >>> ((nI l).toUInt32 &&& Int32.toUInt32 31)).toInt32).toBitVec = m.toBitVec >>> l := by
    show m.toBitVec >>> (((nI l).toUInt32 &&& Int32.toUInt32 31).toBitVec % 32) = m.toBitVec >>> l
    rw [BitVec.ushiftRight_eq', nf_sl l hl]
  rw [← Int32.toBitVec_inj, ← Int32.toBitVec_inj, Int32.toBitVec_and, Int32.toBitVec_and, nf_sh l hl, e, BitVec.and_twoPow]
  show (m.toBitVec >>> l &&& 1#32) = 0#32 ↔ _ = 0#32
  rw [BitVec.and_one_eq_setWidth_ofBool_getLsbD, BitVec.getLsbD_ushiftRight, Nat.add_zero]
  cases hb : m.toBitVec.getLsbD l
  · exact ⟨fun _ => by simp, fun _ => by decide⟩
  · exact ⟨fun z => absurd z (by decide), fun z => absurd ((if_pos rfl).symm.trans z) (nf_tp l hl)⟩
theorem nf_gr (m k : Int32) (h : m &&& k = 0) (hk : k ≠ 0) : nf_M (m ||| k) < nf_M m := by
  have hm := m.toBitVec.isLt
  have hm' := (m ||| k).toBitVec.isLt
  have h1 : m.toBitVec.toNat ≤ (m ||| k).toBitVec.toNat := by
    rw [Int32.toBitVec_or, BitVec.toNat_or]
    exact Nat.left_le_or
  have h2 : m.toBitVec.toNat ≠ (m ||| k).toBitVec.toNat := by
    intro e
    have e2 : m = m ||| k := Int32.toBitVec_inj.mp (BitVec.eq_of_toNat_eq e)
    apply hk
    apply Int32.toBitVec_inj.mp
    show k.toBitVec = 0#32
    apply BitVec.eq_of_getLsbD_eq
    intro i hi
    have a : m.toBitVec.getLsbD i = (m.toBitVec.getLsbD i || k.toBitVec.getLsbD i) := by rw [← BitVec.getLsbD_or, ← Int32.toBitVec_or, ← e2]
    have b : (m.toBitVec.getLsbD i && k.toBitVec.getLsbD i) = false := by
      rw [← BitVec.getLsbD_and, ← Int32.toBitVec_and, h]
      exact BitVec.getLsbD_zero
    rw [BitVec.getLsbD_zero]
    revert a b
    cases m.toBitVec.getLsbD i <;> cases k.toBitVec.getLsbD i <;> simp
  unfold nf_M
  omega
/-! ===== a byte read unsigned ===== -/
theorem bp_b (x : Int32) : x.toInt8.toInt32 &&& 255 = x &&& 255 := by
  apply Int32.toBitVec_inj.mp
  rw [Int32.toBitVec_and, Int32.toBitVec_and, Int8.toBitVec_toInt32, Int32.toBitVec_toInt8]
  apply BitVec.eq_of_getLsbD_eq
  intro i hi
  rw [BitVec.getLsbD_and, BitVec.getLsbD_and]
  have hm : ∀ i < 32, 8 ≤ i → (255 : Int32).toBitVec.getLsbD i = false := by decide
  rcases Nat.lt_or_ge i 8 with z | z
  · rw [BitVec.getLsbD_signExtend, BitVec.getLsbD_signExtend, if_pos z, if_pos hi]
    simp only [z, hi, decide_true, Bool.true_and]
  · rw [hm i hi z]; simp
/-! ===== the char cast and 65535 ===== -/
theorem em_w (v : Int32) : ∃ w : Nat, w < 65536 ∧ (v.toUInt32 % 65536).toInt32 = nI w ∧ v &&& 65535 = nI w := by
  have hr := lw_u16_r v
  have h0 : (0 : Int32).toInt = 0 := by decide
  obtain ⟨w, h1, h2⟩ := nI_of (x := lw_u16 v) (by rw [Int32.lt_iff_toInt_lt]; omega)
  have h3 : (v.toUInt32 % 65536).toInt32 = nI w := h2
  rw [h2, nI_toInt h1] at hr
  exact ⟨w, by omega, h3, by rw [← lg_i2c_mask, ← lg_i2c_nf, h3]⟩
/-! ===== Int64 as a set of bits: test, set, clear ===== -/
theorem ts_nf {x : Bool} (h : ¬ x = false) : x = true := by cases x <;> first | rfl | exact absurd rfl h
theorem ts_nt {x : Bool} (h : ¬ x = true) : x = false := by cases x <;> first | rfl | exact absurd rfl h
theorem ts_bit {w : Int64} {s : UInt64} {j : Nat} (hj : j < 64) (hs : s.toNat = j) : ((w.toUInt64 >>> s).toInt64 &&& 1) = 0 ↔ w.toBitVec.getLsbD j = false := by
  have e : (w.toUInt64 >>> s).toInt64.toBitVec = w.toBitVec >>> j := by
    apply BitVec.eq_of_toNat_eq
    show (w.toUInt64 >>> s).toNat = _
    rw [UInt64.toNat_shiftRight, hs, Nat.mod_eq_of_lt hj, BitVec.toNat_ushiftRight]
    rfl
  rw [← Int64.toBitVec_inj, Int64.toBitVec_and, e]
  show w.toBitVec >>> j &&& 1#64 = 0#64 ↔ _
  constructor
  · intro h
    have t := congrArg (fun x => x.getLsbD 0) h
    simpa using t
  · intro h
    apply BitVec.eq_of_getLsbD_eq
    intro i hi
    cases i with
    | zero => simp [h]
    | succ i => simp
theorem ts_or {w m : Int64} {j : Nat} (hj : j < 64) (hm : m.toBitVec = BitVec.twoPow 64 j) : (w ||| m) = w ↔ w.toBitVec.getLsbD j = true := by
  rw [← Int64.toBitVec_inj, Int64.toBitVec_or, hm]
  constructor
  · intro h
    have t := congrArg (fun x => x.getLsbD j) h
    simp only [BitVec.getLsbD_or, BitVec.getLsbD_twoPow] at t
    simpa [hj] using t.symm
  · intro h
    apply BitVec.eq_of_getLsbD_eq
    intro i hi
    rw [BitVec.getLsbD_or, BitVec.getLsbD_twoPow]
    by_cases e : j = i
    · subst e; rw [h, Bool.true_or]
    · simp [e]
theorem ts_and {w m : Int64} {j : Nat} (hj : j < 64) (hm : m.toBitVec = BitVec.twoPow 64 j) : (w &&& (m ^^^ (-1))) = w ↔ w.toBitVec.getLsbD j = false := by
  have ha : (-1 : Int64).toBitVec = BitVec.allOnes 64 := by decide
  rw [← Int64.toBitVec_inj, Int64.toBitVec_and, Int64.toBitVec_xor, hm, ha]
  constructor
  · intro h
    have t := congrArg (fun x => x.getLsbD j) h
    simp only [BitVec.getLsbD_and, BitVec.getLsbD_xor, BitVec.getLsbD_twoPow, BitVec.getLsbD_allOnes] at t
    simpa [hj] using t.symm
  · intro h
    apply BitVec.eq_of_getLsbD_eq
    intro i hi
    rw [BitVec.getLsbD_and, BitVec.getLsbD_xor, BitVec.getLsbD_twoPow, BitVec.getLsbD_allOnes]
    by_cases e : j = i
    · subst e; rw [h, Bool.false_and]
    · simp [e, hi]
/-! ===== lN n to 2^64: shifts, and, or, masks, one bit ===== -/
theorem wb_tb (n : Nat) : (lN n).toBitVec = BitVec.ofNat 64 n := rfl
theorem wb_inj {a b : Int64} (h : a.toBitVec = b.toBitVec) : a = b := Int64.toBitVec_inj.mp h
theorem wb_tn {n : Nat} (h : n < 2 ^ 64) : (lN n).toBitVec.toNat = n := by rw [wb_tb, BitVec.toNat_ofNat, Nat.mod_eq_of_lt h]
theorem wb_of (x : Int64) : ∃ n, n < 2 ^ 64 ∧ x = lN n := ⟨x.toBitVec.toNat, x.toBitVec.isLt, wb_inj (by rw [wb_tb]; simp)⟩
theorem wb_of32 (x : Int32) : ∃ n, n < 2 ^ 32 ∧ x = nI n := ⟨x.toBitVec.toNat, x.toBitVec.isLt, Int32.toBitVec_inj.mp (by show _ = BitVec.ofNat 32 _; simp)⟩
theorem wb_c : ∀ k, k < 64 → ((nI k).toInt64 &&& 63) = lN k := by decide +kernel
theorem wb_cu : ∀ k, k < 64 → ((nI k).toInt64.toUInt64 &&& Int64.toUInt64 63) = UInt64.ofNat k := by decide +kernel
theorem wb_sm : ∀ k, k < 64 → (BitVec.ofNat 64 k).smod 64 = BitVec.ofNat 64 k := by decide +kernel
theorem wb_pw {a b : Nat} (h : a ≤ b) : 2 ^ b = 2 ^ a * 2 ^ (b - a) := by rw [← Nat.pow_add]; congr 1; omega
theorem wb_lt2 {a b : Nat} (h : a < b) : 2 ^ a < 2 ^ b := Nat.pow_lt_pow_right (by decide) h
theorem wb_mod (n : Nat) : lN n = lN (n % 2 ^ 64) := wb_inj (by rw [wb_tb, wb_tb]; apply BitVec.eq_of_toNat_eq; rw [BitVec.toNat_ofNat, BitVec.toNat_ofNat, Nat.mod_mod])
theorem wb_shr {n k : Nat} (hn : n < 2 ^ 64) (hk : k < 64) : ((lN n).toUInt64 >>> ((nI k).toInt64.toUInt64 &&& Int64.toUInt64 63)).toInt64 = lN (n / 2 ^ k) := by
  rw [wb_cu k hk]
  apply wb_inj
  apply BitVec.eq_of_toNat_eq
  show ((lN n).toUInt64 >>> UInt64.ofNat k).toNat = (BitVec.ofNat 64 _).toNat
  have h1 : (UInt64.ofNat k).toNat = k := by
    show (BitVec.ofNat 64 k).toNat = k
    rw [BitVec.toNat_ofNat, Nat.mod_eq_of_lt (by omega)]
  have h2 : (lN n).toUInt64.toNat = n := wb_tn hn
  rw [UInt64.toNat_shiftRight, h1, h2, Nat.mod_eq_of_lt hk, Nat.shiftRight_eq_div_pow, BitVec.toNat_ofNat, Nat.mod_eq_of_lt (Nat.lt_of_le_of_lt (Nat.div_le_self _ _) hn)]
theorem wb_shl (n : Nat) {k : Nat} (hk : k < 64) : lN n <<< ((nI k).toInt64 &&& 63) = lN (n * 2 ^ k) := by
  rw [wb_c k hk]
  apply wb_inj
  rw [Int64.toBitVec_shiftLeft, wb_tb, wb_tb, wb_tb, wb_sm k hk]
  apply BitVec.eq_of_toNat_eq
  rw [BitVec.shiftLeft_eq', BitVec.toNat_shiftLeft, BitVec.toNat_ofNat, BitVec.toNat_ofNat, BitVec.toNat_ofNat, Nat.mod_eq_of_lt (show k < 2 ^ 64 by omega), Nat.shiftLeft_eq, Nat.mul_mod, Nat.mod_mod, ← Nat.mul_mod]
theorem wb_and {a b : Nat} (ha : a < 2 ^ 64) (hb : b < 2 ^ 64) : lN a &&& lN b = lN (a &&& b) := by
  apply wb_inj
  rw [Int64.toBitVec_and, wb_tb, wb_tb, wb_tb]
  apply BitVec.eq_of_toNat_eq
  rw [BitVec.toNat_and, BitVec.toNat_ofNat, BitVec.toNat_ofNat, BitVec.toNat_ofNat, Nat.mod_eq_of_lt ha, Nat.mod_eq_of_lt hb, Nat.mod_eq_of_lt (Nat.and_lt_two_pow _ hb)]
theorem wb_or {a b : Nat} (ha : a < 2 ^ 64) (hb : b < 2 ^ 64) : lN a ||| lN b = lN (a ||| b) := by
  apply wb_inj
  rw [Int64.toBitVec_or, wb_tb, wb_tb, wb_tb]
  apply BitVec.eq_of_toNat_eq
  rw [BitVec.toNat_or, BitVec.toNat_ofNat, BitVec.toNat_ofNat, BitVec.toNat_ofNat, Nat.mod_eq_of_lt ha, Nat.mod_eq_of_lt hb, Nat.mod_eq_of_lt (Nat.or_lt_two_pow ha hb)]
theorem wb_mask {n k : Nat} (hn : n < 2 ^ 64) (hk : k < 64) : lN n &&& lN (2 ^ k - 1) = lN (n % 2 ^ k) := by
  rw [wb_and hn (by have := wb_lt2 hk; omega), Nat.and_two_pow_sub_one_eq_mod]
theorem wb_a1 {n : Nat} (hn : n < 2 ^ 64) : lN n &&& 1 = lN (n % 2) := wb_mask (k := 1) hn (by decide)
theorem wb_bit {n k : Nat} (hn : n < 2 ^ 64) (hk : k < 64) : ((lN n).toUInt64 >>> ((nI k).toInt64.toUInt64 &&& Int64.toUInt64 63)).toInt64 &&& 1 = lN (n / 2 ^ k % 2) := by
  rw [wb_shr hn hk, wb_a1 (Nat.lt_of_le_of_lt (Nat.div_le_self _ _) hn)]
theorem wb_xor {q k : Nat} (hk : k < 63) (h : 2 ^ k ≤ q) (h2 : q < 2 ^ (k + 1)) : lN q ^^^ lN (2 ^ k) = lN (q - 2 ^ k) := by
  obtain ⟨r, rfl⟩ : ∃ r, q = 2 ^ k + r := ⟨q - 2 ^ k, by omega⟩
  have hr : r < 2 ^ k := by rw [Nat.pow_succ] at h2; omega
  have hx : (2 ^ k + r) ^^^ 2 ^ k = r := by
    apply Nat.eq_of_testBit_eq
    intro i
    rw [Nat.testBit_xor, Nat.testBit_two_pow]
    rcases Nat.lt_trichotomy i k with h | h | h
    · rw [Nat.testBit_two_pow_add_gt h]
      simp [show ¬ k = i by omega]
    · subst h
      rw [Nat.testBit_two_pow_add_eq]
      simp
    · have a1 : 2 ^ (k + 1) ≤ 2 ^ i := Nat.pow_le_pow_right (by decide) h
      rw [Nat.testBit_lt_two_pow (show 2 ^ k + r < 2 ^ i by omega), Nat.testBit_lt_two_pow (show r < 2 ^ i by omega)]
      simp [show ¬ k = i by omega]
  have b1 := wb_lt2 (show k + 1 < 64 by omega)
  have b2 := wb_lt2 (show k < 64 by omega)
  apply wb_inj
  rw [Int64.toBitVec_xor, wb_tb, wb_tb, wb_tb]
  apply BitVec.eq_of_toNat_eq
  rw [BitVec.toNat_xor, BitVec.toNat_ofNat, BitVec.toNat_ofNat, BitVec.toNat_ofNat, Nat.mod_eq_of_lt (by omega : 2 ^ k + r < 2 ^ 64), Nat.mod_eq_of_lt b2, hx, Nat.add_sub_cancel_left, Nat.mod_eq_of_lt (by omega)]
/-! ===== lN: masks, 'or' of parts that don't overlap is a sum ===== -/
theorem u_tn {n : Nat} (h : n < 2 ^ 64) : (UInt64.ofNat n).toNat = n := Nat.mod_eq_of_lt h
theorem g_and {a b c : Nat} (ha : a < 2 ^ 64) (hb : b < 2 ^ 64) (hc : a &&& b = c) : lN a &&& lN b = lN c := by
  subst hc
  have h : UInt64.ofNat a &&& UInt64.ofNat b = UInt64.ofNat (a &&& b) := UInt64.toNat_inj.mp (by rw [UInt64.toNat_and, u_tn ha, u_tn hb, u_tn (Nat.and_lt_two_pow a hb)])
  have h2 := congrArg UInt64.toInt64 h
  exact h2
theorem g_and1 {a : Nat} (ha : a < 2 ^ 64) : lN a &&& 1 = lN (a % 2) := g_and (b := 1) ha (by decide) (Nat.and_two_pow_sub_one_eq_mod a 1)
theorem g_mask {a s p : Nat} (hp : 2 ^ s = p) (hs : s < 64) (ha : a < 2 ^ 64) : lN a &&& lN (p - 1) = lN (a % p) := by
  subst hp
  have := Nat.pow_lt_pow_right (show 1 < 2 by decide) hs
  exact g_and ha (by omega) (Nat.and_two_pow_sub_one_eq_mod a s)
theorem g_or {k p a b : Nat} (hp : 2 ^ k = p) (ha : a < p) (h : b * p + a < 2 ^ 64) : lN (b * p) ||| lN a = lN (b * p + a) := by
  subst hp
  have h1 : b * 2 ^ k ||| a = b * 2 ^ k + a := by rw [← Nat.shiftLeft_eq, Nat.shiftLeft_add_eq_or_of_lt ha]
  have h3 : UInt64.ofNat (b * 2 ^ k) ||| UInt64.ofNat a = UInt64.ofNat (b * 2 ^ k + a) := UInt64.toNat_inj.mp (by rw [UInt64.toNat_or, u_tn (by omega), u_tn (by omega), u_tn h, h1])
  have h2 := congrArg UInt64.toInt64 h3
  exact h2
theorem g_or' {k p a b : Nat} (hp : 2 ^ k = p) (ha : a < p) (h : a + b * p < 2 ^ 64) : lN a ||| lN (b * p) = lN (a + b * p) := by
  rw [Int64.or_comm, g_or hp ha (by omega), Nat.add_comm]
theorem g_ushr {a k p : Nat} {y : UInt64} (hy : y = UInt64.ofNat k) (hk : k < 64) (hp : 2 ^ k = p) (ha : a < 2 ^ 64) : ((lN a).toUInt64 >>> y).toInt64 = lN (a / p) := by
  subst hy hp
  have h : UInt64.ofNat a >>> UInt64.ofNat k = UInt64.ofNat (a / 2 ^ k) := UInt64.toNat_inj.mp (by rw [UInt64.toNat_shiftRight, u_tn ha, u_tn (by omega), u_tn (Nat.lt_of_le_of_lt (Nat.div_le_self _ _) ha), Nat.mod_eq_of_lt hk, Nat.shiftRight_eq_div_pow])
  have h2 := congrArg UInt64.toInt64 h
  exact h2
theorem g_shl {a k p : Nat} {y : Int64} (hy : y.toBitVec.smod 64 = BitVec.ofNat 64 k) (hk : k < 64) (hp : 2 ^ k = p) (ha : a < 2 ^ 64) : lN a <<< y = lN (a * p) := by
  subst hp
  apply Int64.toBitVec_inj.mp
  rw [Int64.toBitVec_shiftLeft, hy]
  apply BitVec.eq_of_toNat_eq
  have hb : (lN a).toBitVec.toNat = a := Nat.mod_eq_of_lt ha
  have hk' : (BitVec.ofNat 64 k).toNat = k := Nat.mod_eq_of_lt (by omega)
  have h : ((lN a).toBitVec <<< BitVec.ofNat 64 k).toNat = (a * 2 ^ k) % 2 ^ 64 := by simp only [BitVec.shiftLeft_eq', BitVec.toNat_shiftLeft, hb, hk', Nat.shiftLeft_eq]
  exact h
/-! ===== lN to 2^62 under >> and >>> ===== -/
theorem pf_lI {a : Nat} (h : a < 2 ^ 63) : (lN a).toInt = (a : Int) := lg_ofNat_toInt h
theorem pf_shr {a d : Nat} {D : Int64} (hD : (D.toBitVec.smod 64).toNat = d) (h : a < 2 ^ 62) : lN a >>> D = lN (a / 2 ^ d) := by
  have hd : a / 2 ^ d ≤ a := Nat.div_le_self _ _
  apply Int64.toInt_inj.mp
  have e : (lN a >>> D).toInt = (lN a).toInt >>> d := by
    rw [← hD]
    exact BitVec.toInt_sshiftRight ..
  rw [e, Int.shiftRight_eq_div_pow, pf_lI (by omega), pf_lI (by omega)]
  rfl
theorem pf_ushr {a d : Nat} {D : UInt64} (hD : D.toNat % 64 = d) (h : a < 2 ^ 62) : ((lN a).toUInt64 >>> D).toInt64 = lN (a / 2 ^ d) := by
  have hd : a / 2 ^ d ≤ a := Nat.div_le_self _ _
  have e : (lN a).toUInt64 >>> D = UInt64.ofNat (a / 2 ^ d) := UInt64.toNat_inj.mp (by
    rw [UInt64.toNat_shiftRight, hD, Nat.shiftRight_eq_div_pow, UInt64.toNat_ofNat']
    show (UInt64.ofNat a).toNat / 2 ^ d = _
    rw [UInt64.toNat_ofNat', Nat.mod_eq_of_lt (by omega), Nat.mod_eq_of_lt (by omega)])
  rw [e]
  rfl
theorem pf_andw (x : Int64) : ∃ m, m < 2 ^ 32 ∧ x &&& 4294967295 = lN m := ⟨x.toBitVec.toNat % 2 ^ 32, Nat.mod_lt _ (by decide), Int64.toBitVec_inj.mp (BitVec.eq_of_toNat_eq (by
  show (x.toBitVec &&& 4294967295#64).toNat = (BitVec.ofNat 64 (x.toBitVec.toNat % 2 ^ 32)).toNat
  rw [BitVec.toNat_and, show (4294967295#64).toNat = 2 ^ 32 - 1 from by decide, Nat.and_two_pow_sub_one_eq_mod, BitVec.toNat_ofNat]
  omega))⟩
/-! ===== Int64 as an unsigned number: uN x ===== -/
def uN (x : Int64) : Nat := x.toUInt64.toNat
theorem uN_lt (x : Int64) : uN x < 18446744073709551616 := x.toUInt64.toNat_lt
theorem uN_inj {x y : Int64} (h : uN x = uN y) : x = y := congrArg UInt64.toInt64 (UInt64.toNat_inj.mp h)
theorem uN_add (x y : Int64) : uN (x + y) = (uN x + uN y) % 18446744073709551616 := by
  show (x.toUInt64 + y.toUInt64).toNat = _
  exact UInt64.toNat_add _ _
theorem uN_mul (x y : Int64) : uN (x * y) = (uN x * uN y) % 18446744073709551616 := by
  show (x.toUInt64 * y.toUInt64).toNat = _
  exact UInt64.toNat_mul _ _
theorem uN_shl (x : Int64) : uN (x <<< ((1 : Int32).toInt64 &&& 63)) = (2 * uN x) % 18446744073709551616 := by
  have h : (((1 : Int32).toInt64 &&& 63).toBitVec.smod 64).toNat = 1 := by decide
  show (x.toBitVec <<< (((1 : Int32).toInt64 &&& 63).toBitVec.smod 64).toNat).toNat = _
  rw [h, BitVec.toNat_shiftLeft, Nat.shiftLeft_eq, Nat.mul_comm]
  rfl
theorem uN_shr (x : Int64) (s : UInt64) : uN (x.toUInt64 >>> s).toInt64 = uN x / 2 ^ (s.toNat % 64) := by
  show (x.toUInt64 >>> s).toNat = _
  rw [UInt64.toNat_shiftRight, Nat.shiftRight_eq_div_pow]
  rfl
theorem uN_s32 (x : Int64) : uN (x.toUInt64 >>> ((32 : Int32).toInt64.toUInt64 &&& Int64.toUInt64 63)).toInt64 = uN x / 4294967296 := by
  have h : ((32 : Int32).toInt64.toUInt64 &&& Int64.toUInt64 63).toNat % 64 = 32 := by decide
  rw [uN_shr, h]
theorem uN_s63 (x : Int64) : uN (x.toUInt64 >>> ((63 : Int32).toInt64.toUInt64 &&& Int64.toUInt64 63)).toInt64 = uN x / 9223372036854775808 := by
  have h : ((63 : Int32).toInt64.toUInt64 &&& Int64.toUInt64 63).toNat % 64 = 63 := by decide
  rw [uN_shr, h]
theorem uN_lo (x : Int64) : uN (x &&& 4294967295) = uN x % 4294967296 := by
  show (x.toUInt64 &&& Int64.toUInt64 4294967295).toNat = _
  rw [UInt64.toNat_and]
  exact Nat.and_two_pow_sub_one_eq_mod _ 32
theorem uN_bit (x : Int64) : (x &&& 1) = 0 ↔ uN x % 2 = 0 := by
  have h : uN (x &&& 1) = uN x % 2 := by
    show (x.toUInt64 &&& Int64.toUInt64 1).toNat = _
    rw [UInt64.toNat_and]
    exact Nat.and_two_pow_sub_one_eq_mod _ 1
  rw [← h]
  exact ⟨fun z => by rw [z]; rfl, fun z => uN_inj (z.trans rfl)⟩
theorem uN_or {x y : Int64} (hy : uN y < 2) : uN ((x <<< ((1 : Int32).toInt64 &&& 63)) ||| y) = (2 * uN x) % 18446744073709551616 + uN y := by
  have h1 : uN ((x <<< ((1 : Int32).toInt64 &&& 63)) ||| y) = uN (x <<< ((1 : Int32).toInt64 &&& 63)) ||| uN y := UInt64.toNat_or _ _
  have h2 : (2 * uN x) % 18446744073709551616 = 2 ^ 1 * (uN x % 9223372036854775808) := by omega
  rw [h1, uN_shl, h2]
  exact (Nat.two_pow_add_eq_or_of_lt (i := 1) hy _).symm
theorem nat_xor {a : Nat} (h : a < 18446744073709551616) : a ^^^ 2 ^ 63 = (a + 9223372036854775808) % 18446744073709551616 := by
  have h1 : (a ^^^ 2 ^ 63) % 2 ^ 63 = a % 2 ^ 63 := by rw [Nat.xor_mod_two_pow, Nat.mod_self, Nat.xor_zero]
  have h2 : (a ^^^ 2 ^ 63) / 2 ^ 63 = (a / 2 ^ 63) ^^^ 1 := by rw [Nat.xor_div_two_pow, Nat.div_self (Nat.two_pow_pos 63)]
  have h3 : a / 2 ^ 63 = 0 ∨ a / 2 ^ 63 = 1 := by omega
  generalize a ^^^ 2 ^ 63 = t at h1 h2
  rcases h3 with h3 | h3
  · rw [h3] at h2
    have h2 : t / 2 ^ 63 = 1 := h2
    omega
  · rw [h3] at h2
    have h2 : t / 2 ^ 63 = 0 := h2
    omega
theorem uN_xor (x : Int64) : uN (x ^^^ (-9223372036854775808)) = (uN x + 9223372036854775808) % 18446744073709551616 := by
  rw [← nat_xor (uN_lt x)]
  exact UInt64.toNat_xor _ _
theorem uN_int (x : Int64) : x.toInt = if 2 * uN x < 18446744073709551616 then (uN x : Int) else (uN x : Int) - 18446744073709551616 := BitVec.toInt_eq_toNat_cond _
theorem uN_le (x y : Int64) : (x ^^^ (-9223372036854775808)) ≤ (y ^^^ (-9223372036854775808)) ↔ uN x ≤ uN y := by
  have hx := uN_lt x
  have hy := uN_lt y
  rw [Int64.le_iff_toInt_le, uN_int, uN_int, uN_xor, uN_xor]
  omega
theorem uN_sk (x : Int64) {k : Nat} (hk : k < 64) : uN (x.toUInt64 >>> ((nI k).toInt64.toUInt64 &&& Int64.toUInt64 63)).toInt64 = uN x / 2 ^ k := by
  have h : ((nI k).toInt64.toUInt64 &&& Int64.toUInt64 63).toNat % 64 = k := by
    rw [nI_l (by omega), UInt64.toNat_and]
    have e : (lN k).toUInt64.toNat = k % 2 ^ 64 := rfl
    have e2 : (Int64.toUInt64 63).toNat = 2 ^ 6 - 1 := by decide
    rw [e, e2, Nat.and_two_pow_sub_one_eq_mod]
    omega
  rw [uN_shr, h]
/-! ===== unsigned comparison by xor with the least ===== -/
theorem lN_bv (n : Nat) : (lN n).toBitVec = BitVec.ofNat 64 n := rfl
theorem lN_nat {n : Nat} (h : n < 2 ^ 64) : (lN n).toBitVec.toNat = n := by rw [lN_bv, BitVec.toNat_ofNat]; exact Nat.mod_eq_of_lt h
theorem lN_xor (a b : Nat) : lN a ^^^ lN b = lN (a ^^^ b) := by
  apply Int64.toBitVec_inj.mp; rw [Int64.toBitVec_xor, lN_bv, lN_bv, lN_bv]; apply BitVec.eq_of_getLsbD_eq; intro i hi; simp [BitVec.getLsbD_ofNat, Nat.testBit_xor, hi]
theorem lN_ti {m : Nat} (h : m < 2 ^ 64) : (lN m).toInt = if m < 2 ^ 63 then (m : Int) else (m : Int) - 2 ^ 64 := by
  have c := BitVec.toInt_eq_toNat_cond (lN m).toBitVec
  rw [lN_nat h] at c
  show (lN m).toBitVec.toInt = _
  rw [c]
  split <;> split <;> omega
theorem xor63 {x : Nat} (h : x < 2 ^ 63) : x ^^^ 2 ^ 63 = 2 ^ 63 + x := by
  apply Nat.eq_of_testBit_eq
  intro i
  rw [Nat.testBit_xor, Nat.testBit_two_pow]
  rcases Nat.lt_trichotomy i 63 with z | z | z
  · rw [Nat.testBit_two_pow_add_gt z, decide_eq_false (by omega)]; simp
  · subst z; rw [Nat.testBit_two_pow_add_eq]; simp
  · have hp : 2 ^ 64 ≤ 2 ^ i := Nat.pow_le_pow_right (by decide) z
    rw [Nat.testBit_lt_two_pow (show x < 2 ^ i by omega), Nat.testBit_lt_two_pow (show 2 ^ 63 + x < 2 ^ i by omega), decide_eq_false (by omega)]; rfl
theorem xorS {a : Nat} (h : a < 2 ^ 64) : (lN a ^^^ (-9223372036854775808)).toInt = (a : Int) - 2 ^ 63 := by
  rw [show (-9223372036854775808 : Int64) = lN (2 ^ 63) from by decide +kernel, lN_xor]
  rcases Nat.lt_or_ge a (2 ^ 63) with z | z
  · rw [xor63 z, lN_ti (by omega), if_neg (by omega)]; omega
  · obtain ⟨x, rfl⟩ : ∃ x, a = 2 ^ 63 + x := ⟨a - 2 ^ 63, by omega⟩
    rw [← xor63 (by omega), Nat.xor_assoc, Nat.xor_self, Nat.xor_zero, lN_ti (by omega), if_pos (by omega), xor63 (by omega)]; omega
theorem ultL {a b : Nat} (ha : a < 2 ^ 64) (hb : b < 2 ^ 64) : ((lN b ^^^ (-9223372036854775808)) ≤ (lN a ^^^ (-9223372036854775808))) ↔ b ≤ a := by
  rw [Int64.le_iff_toInt_le, xorS ha, xorS hb]; omega
/-! ===== Int64 masks of n low bits ===== -/
theorem cr_bits (W U M : BitVec 64) : ((W &&& U) &&& (U &&& (M ^^^ BitVec.allOnes 64))) = 0#64 ↔ (W &&& U) &&& M = W &&& U := by
  constructor
  · intro h
    apply BitVec.eq_of_getLsbD_eq
    intro i hi
    have e := congrArg (fun x => BitVec.getLsbD x i) h
    simp only [BitVec.getLsbD_and, BitVec.getLsbD_xor, BitVec.getLsbD_allOnes, BitVec.getLsbD_zero, hi, decide_true] at e ⊢
    revert e
    cases W.getLsbD i <;> cases U.getLsbD i <;> cases M.getLsbD i <;> decide
  · intro h
    apply BitVec.eq_of_getLsbD_eq
    intro i hi
    have e := congrArg (fun x => BitVec.getLsbD x i) h
    simp only [BitVec.getLsbD_and, BitVec.getLsbD_xor, BitVec.getLsbD_allOnes, BitVec.getLsbD_zero, hi, decide_true] at e ⊢
    revert e
    cases W.getLsbD i <;> cases U.getLsbD i <;> cases M.getLsbD i <;> decide
theorem cr_mask (w U m : Int64) (n : Nat) (hm : m.toBitVec.toNat = 2 ^ n - 1) : ((w &&& U) &&& (U &&& (m ^^^ (-1)))) = 0 ↔ (w &&& U).toBitVec.toNat < 2 ^ n := by
  have e0 : (-1 : Int64).toBitVec = BitVec.allOnes 64 := by decide
  have z0 : (0 : Int64).toBitVec = 0#64 := by decide
  rw [← Int64.toBitVec_inj, z0, Int64.toBitVec_and, Int64.toBitVec_and, Int64.toBitVec_and, Int64.toBitVec_xor, e0, cr_bits]
  generalize w.toBitVec &&& U.toBitVec = T
  rw [← BitVec.toNat_inj, BitVec.toNat_and, hm, Nat.and_two_pow_sub_one_eq_mod]
  constructor
  · intro h
    have t := Nat.mod_lt T.toNat (Nat.two_pow_pos n)
    rw [h] at t
    exact t
  · exact Nat.mod_eq_of_lt
theorem cr_shr (t : Int64) (x : UInt64) (n : Nat) (hx : x.toNat % 64 = n) : (t.toUInt64 >>> x).toInt64 = 0 ↔ t.toBitVec.toNat < 2 ^ n := by
  rw [← Int64.toBitVec_inj, ← BitVec.toNat_inj]
  show (t.toUInt64 >>> x).toNat = 0 ↔ t.toUInt64.toNat < 2 ^ n
  rw [UInt64.toNat_shiftRight, hx, Nat.shiftRight_eq_div_pow]
  constructor
  · intro h
    have d : t.toUInt64.toNat / 2 ^ n < 1 := by
      rw [h]
      decide
    have e := (Nat.div_lt_iff_lt_mul (Nat.two_pow_pos n)).mp d
    rw [Nat.one_mul] at e
    exact e
  · exact Nat.div_eq_of_lt
theorem cr_amt (s : Int64) : ∃ n, n < 64 ∧ s &&& 63 = lN n ∧ (s.toUInt64 &&& Int64.toUInt64 63).toNat % 64 = n := by
  have e : (s.toUInt64 &&& Int64.toUInt64 63).toNat = s.toUInt64.toNat % 2 ^ 6 := by
    rw [UInt64.toNat_and, show (Int64.toUInt64 63).toNat = 2 ^ 6 - 1 from by decide, Nat.and_two_pow_sub_one_eq_mod]
  refine ⟨s.toUInt64.toNat % 2 ^ 6, by omega, ?_, by omega⟩
  rw [← Int64.toBitVec_inj, ← BitVec.toNat_inj]
  show (s.toUInt64 &&& Int64.toUInt64 63).toNat = (BitVec.ofNat 64 (s.toUInt64.toNat % 2 ^ 6)).toNat
  rw [e, BitVec.toNat_ofNat]
  omega
end
section
/-! runs as lists: permutations of the events below N -/
def wj_P (N : Nat) (l : List Nat) : Prop := l.Perm (List.range N)
def wj_bf (l : List Nat) (a b : Nat) : Prop := l.idxOf a < l.idxOf b
theorem wj_P_mem {N : Nat} {l : List Nat} (h : wj_P N l) {a : Nat} : a ∈ l ↔ a < N := by
  rw [List.Perm.mem_iff h, List.mem_range]
theorem wj_P_nd {N : Nat} {l : List Nat} (h : wj_P N l) : l.Nodup := (List.Perm.nodup_iff h).mpr List.nodup_range
theorem wj_P_len {N : Nat} {l : List Nat} (h : wj_P N l) : l.length = N := by
  rw [List.Perm.length_eq h, List.length_range]
theorem wj_P_of {N : Nat} {l : List Nat} (hd : l.Nodup) (hl : l.length = N) (hm : ∀ a, a ∈ l → a < N) : wj_P N l := by
  have key : ∀ a, a < N → a ∈ l := by
    intro a ha
    refine Classical.byContradiction fun hn => ?_
    have hd' : (a :: l).Nodup := List.nodup_cons.mpr ⟨hn, hd⟩
    have hs : (a :: l) ⊆ List.range N := by
      intro x hx
      rcases List.mem_cons.mp hx with rfl | hx
      · exact List.mem_range.mpr ha
      · exact List.mem_range.mpr (hm x hx)
    have := hd'.length_le_of_subset hs
    rw [List.length_range, List.length_cons] at this
    omega
  refine (List.perm_ext_iff_of_nodup hd List.nodup_range).mpr fun a => ?_
  rw [List.mem_range]
  exact ⟨hm a, key a⟩
theorem wj_ix_inj {l : List Nat} {a b : Nat} (ha : a ∈ l) (hb : b ∈ l) (h : l.idxOf a = l.idxOf b) : a = b := by
  have h1 := List.idxOf_lt_length_of_mem ha
  have h2 := List.idxOf_lt_length_of_mem hb
  have e1 : l[l.idxOf a]'h1 = a := List.getElem_idxOf h1
  have e2 : l[l.idxOf b]'h2 = b := List.getElem_idxOf h2
  have e3 : l[l.idxOf a]'h1 = l[l.idxOf b]'h2 := by simp only [h]
  exact e1.symm.trans (e3.trans e2)
theorem wj_bf_tri {N : Nat} {l : List Nat} (h : wj_P N l) {a b : Nat} (ha : a < N) (hb : b < N) (ne : a ≠ b) : wj_bf l a b ∨ wj_bf l b a := by
  have : l.idxOf a ≠ l.idxOf b := fun e => ne (wj_ix_inj ((wj_P_mem h).mpr ha) ((wj_P_mem h).mpr hb) e)
  unfold wj_bf
  omega
theorem wj_bf_as {l : List Nat} {a b : Nat} (h : wj_bf l a b) : ¬ wj_bf l b a := by
  unfold wj_bf at *; omega
theorem wj_bf_ir {l : List Nat} {a : Nat} : ¬ wj_bf l a a := by unfold wj_bf; omega
theorem wj_bf_tr {l : List Nat} {a b c : Nat} (h : wj_bf l a b) (h' : wj_bf l b c) : wj_bf l a c := by
  unfold wj_bf at *; omega
/-! relations -/
def wj_S (N : Nat) (R : Nat → Nat → Prop) : Prop :=
  (∀ a b, R a b → a < N ∧ b < N) ∧ (∀ a, ¬ R a a) ∧ (∀ a b c, R a b → R b c → R a c)
def wj_E (N : Nat) (R : Nat → Nat → Prop) (l : List Nat) : Prop := wj_P N l ∧ ∀ a b, R a b → wj_bf l a b
def wj_J (R : Nat → Nat → Prop) (a b : Nat) : Nat → Nat → Prop := fun i j => R i j ∨ ((i = a ∨ R i a) ∧ (j = b ∨ R b j))
theorem wj_J_S {N : Nat} {R : Nat → Nat → Prop} {a b : Nat} (S : wj_S N R) (ha : a < N) (hb : b < N) (ne : a ≠ b) (h : ¬ R b a) : wj_S N (wj_J R a b) := by
  obtain ⟨s1, s2, s3⟩ := S
  refine ⟨?_, ?_, ?_⟩
  · rintro i j (hij | ⟨hi, hj⟩)
    · exact s1 i j hij
    · refine ⟨?_, ?_⟩
      · rcases hi with rfl | hi
        · exact ha
        · exact (s1 _ _ hi).1
      · rcases hj with rfl | hj
        · exact hb
        · exact (s1 _ _ hj).2
  · rintro i (hii | ⟨hi, hj⟩)
    · exact s2 i hii
    · rcases hi with rfl | hi
      · rcases hj with rfl | hj
        · exact ne rfl
        · exact h hj
      · rcases hj with rfl | hj
        · exact h hi
        · exact h (s3 _ _ _ hj hi)
  · rintro i j k (hij | ⟨hi, hj⟩) (hjk | ⟨hj', hk⟩)
    · exact Or.inl (s3 _ _ _ hij hjk)
    · refine Or.inr ⟨Or.inr ?_, hk⟩
      rcases hj' with rfl | hj'
      · exact hij
      · exact s3 _ _ _ hij hj'
    · refine Or.inr ⟨hi, Or.inr ?_⟩
      rcases hj with rfl | hj
      · exact hjk
      · exact s3 _ _ _ hj hjk
    · exfalso
      rcases hj with rfl | hj
      · rcases hj' with rfl | hj'
        · exact ne rfl
        · exact h hj'
      · rcases hj' with rfl | hj'
        · exact h hj
        · exact h (s3 _ _ _ hj hj')
theorem wj_E_J {N : Nat} {R : Nat → Nat → Prop} {a b : Nat} {l : List Nat} : wj_E N (wj_J R a b) l ↔ wj_E N R l ∧ wj_bf l a b := by
  constructor
  · rintro ⟨hp, h⟩
    exact ⟨⟨hp, fun i j hij => h i j (Or.inl hij)⟩, h a b (Or.inr ⟨Or.inl rfl, Or.inl rfl⟩)⟩
  · rintro ⟨⟨hp, h⟩, hab⟩
    refine ⟨hp, ?_⟩
    rintro i j (hij | ⟨hi, hj⟩)
    · exact h i j hij
    · have h1 : l.idxOf i ≤ l.idxOf a := by
        rcases hi with rfl | hi
        · exact Nat.le_refl _
        · exact Nat.le_of_lt (h _ _ hi)
      have h2 : l.idxOf b ≤ l.idxOf j := by
        rcases hj with rfl | hj
        · exact Nat.le_refl _
        · exact Nat.le_of_lt (h _ _ hj)
      unfold wj_bf at *
      omega
theorem wj_min {N : Nat} {R : Nat → Nat → Prop} (S : wj_S N R) : ∀ L : List Nat, L ≠ [] → ∃ m, m ∈ L ∧ ∀ x, x ∈ L → ¬ R x m := by
  intro L
  induction L with
  | nil => intro h; exact absurd rfl h
  | cons x t ih =>
    intro _
    by_cases ht : t = []
    · subst ht
      refine ⟨x, List.mem_cons_self, ?_⟩
      intro y hy
      rcases List.mem_cons.mp hy with rfl | hy
      · exact S.2.1 _
      · cases hy
    · obtain ⟨m, hm, hmin⟩ := ih ht
      by_cases hx : R x m
      · refine ⟨x, List.mem_cons_self, ?_⟩
        intro y hy hyx
        rcases List.mem_cons.mp hy with rfl | hy
        · exact S.2.1 _ hyx
        · exact hmin y hy (S.2.2 _ _ _ hyx hx)
      · refine ⟨m, List.mem_cons_of_mem _ hm, ?_⟩
        intro y hy
        rcases List.mem_cons.mp hy with rfl | hy
        · exact hx
        · exact hmin y hy
/-! the code of a run: octal digits -/
def wj_cd (acc : Nat) (l : List Nat) : Nat := l.foldl (fun r d => r * 8 + d) acc
theorem wj_cd_acc (l : List Nat) : ∀ acc, wj_cd acc l = acc * 8 ^ l.length + wj_cd 0 l := by
  induction l with
  | nil => intro acc; simp [wj_cd]
  | cons x t ih =>
    intro acc
    have e1 : wj_cd acc (x :: t) = wj_cd (acc * 8 + x) t := rfl
    have e2 : wj_cd 0 (x :: t) = wj_cd (0 * 8 + x) t := rfl
    rw [e1, e2, ih (acc * 8 + x), ih (0 * 8 + x), List.length_cons, Nat.pow_succ]
    simp only [Nat.add_mul, Nat.zero_mul, Nat.zero_add, Nat.mul_assoc, Nat.add_assoc, Nat.mul_comm 8]
theorem wj_cd_cons (x : Nat) (t : List Nat) : wj_cd 0 (x :: t) = x * 8 ^ t.length + wj_cd 0 t := by
  have e2 : wj_cd 0 (x :: t) = wj_cd (0 * 8 + x) t := rfl
  rw [e2, wj_cd_acc, Nat.zero_mul, Nat.zero_add]
theorem wj_cd_lt (l : List Nat) (h : ∀ x, x ∈ l → x < 8) : wj_cd 0 l < 8 ^ l.length := by
  induction l with
  | nil => simp [wj_cd]
  | cons x t ih =>
    have h1 := ih (fun y hy => h y (List.mem_cons_of_mem _ hy))
    have h2 := h x List.mem_cons_self
    rw [wj_cd_cons, List.length_cons, Nat.pow_succ]
    have h3 : x * 8 ^ t.length + 8 ^ t.length ≤ 8 ^ t.length * 8 := by
      rw [← Nat.succ_mul, Nat.mul_comm]
      exact Nat.mul_le_mul_left _ h2
    omega
/-! the greedy least run -/
def wj_av (R : Nat → Nat → Prop) (u : List Nat) (e : Nat) : Prop := e ∉ u ∧ ∀ x, R x e → x ∈ u
def wj_G (N : Nat) (R : Nat → Nat → Prop) (u : List Nat) : Prop :=
  u.Nodup ∧ (∀ x, x ∈ u → x < N) ∧ ∀ s e t, u = s ++ e :: t → wj_av R s e ∧ ∀ f, f < N → wj_av R s f → e ≤ f
theorem wj_G_nil {N : Nat} {R : Nat → Nat → Prop} : wj_G N R [] :=
  ⟨List.nodup_nil, (fun _ h => nomatch h), fun s e t h => by cases s <;> cases h⟩
theorem wj_G_step {N : Nat} {R : Nat → Nat → Prop} {u : List Nat} {e : Nat} (G : wj_G N R u) (he : e < N) (ha : wj_av R u e) (hl : ∀ f, f < N → wj_av R u f → e ≤ f) : wj_G N R (u ++ [e]) := by
  obtain ⟨g1, g2, g3⟩ := G
  refine ⟨?_, ?_, ?_⟩
  · refine List.pairwise_append.mpr ⟨g1, List.pairwise_singleton _ _, ?_⟩
    intro x hx y hy
    rw [List.mem_singleton] at hy
    subst hy
    intro hxy; subst hxy; exact ha.1 hx
  · intro x hx
    rcases List.mem_append.mp hx with hx | hx
    · exact g2 x hx
    · rw [List.mem_singleton] at hx; subst hx; exact he
  · intro s f t h
    rcases List.eq_nil_or_concat t with rfl | ⟨t', z, rfl⟩
    · have := List.append_inj' h rfl
      obtain ⟨h1, h2⟩ := this
      simp only [List.cons.injEq, and_true] at h2
      subst h1; subst h2
      exact ⟨ha, hl⟩
    · rw [List.concat_eq_append] at h
      have h' : u ++ [e] = (s ++ f :: t') ++ [z] := by rw [h]; simp
      exact g3 s f t' (List.append_inj' h' rfl).1
theorem wj_av_ex {N : Nat} {R : Nat → Nat → Prop} (S : wj_S N R) {u : List Nat} (hu : u.length < N) : ∃ e, e < N ∧ wj_av R u e := by
  have hne : (List.range N).filter (fun x => decide (x ∉ u)) ≠ [] := by
    intro h
    have hs : List.range N ⊆ u := by
      intro x hx
      refine Classical.byContradiction fun hn => ?_
      have : x ∈ (List.range N).filter (fun x => decide (x ∉ u)) := List.mem_filter.mpr ⟨hx, by simpa using hn⟩
      rw [h] at this
      cases this
    have := (List.nodup_range (n := N)).length_le_of_subset hs
    rw [List.length_range] at this
    omega
  obtain ⟨m, hm, hmin⟩ := wj_min S _ hne
  have hm' := List.mem_filter.mp hm
  refine ⟨m, List.mem_range.mp hm'.1, by simpa using hm'.2, ?_⟩
  intro x hx
  refine Classical.byContradiction fun hn => ?_
  exact hmin x (List.mem_filter.mpr ⟨List.mem_range.mpr (S.1 _ _ hx).1, by simpa using hn⟩) hx
theorem wj_G_ex {N : Nat} {R : Nat → Nat → Prop} (S : wj_S N R) : ∀ k, k ≤ N → ∃ u, u.length = k ∧ wj_G N R u := by
  intro k
  induction k with
  | zero => intro _; exact ⟨[], rfl, wj_G_nil⟩
  | succ k ih =>
    intro hk
    obtain ⟨u, hu, G⟩ := ih (by omega)
    obtain ⟨e, ⟨he, ha⟩, hl⟩ := pk_least (fun e => e < N ∧ wj_av R u e) (wj_av_ex S (by omega))
    refine ⟨u ++ [e], by simp [hu], wj_G_step G he ha ?_⟩
    intro f hf haf
    refine Classical.byContradiction fun hn => hl f (by omega) ⟨hf, haf⟩
theorem wj_ix_mid {s t : List Nat} {e : Nat} (h : e ∉ s) : (s ++ e :: t).idxOf e = s.length := by
  rw [List.idxOf_append, if_neg h, List.idxOf_cons_self, Nat.zero_add]
theorem wj_ix_pre {s t : List Nat} {x : Nat} (h : (s ++ t).idxOf x < s.length) : x ∈ s := by
  rw [List.idxOf_append] at h
  by_cases hx : x ∈ s
  · exact hx
  · rw [if_neg hx] at h; omega
theorem wj_ix_pre' {s t : List Nat} {x : Nat} (h : x ∈ s) : (s ++ t).idxOf x < s.length := by
  rw [List.idxOf_append, if_pos h]
  exact List.idxOf_lt_length_of_mem h
theorem wj_nd_mid {s t : List Nat} {e : Nat} (h : (s ++ e :: t).Nodup) : e ∉ s := by
  intro he
  have := (List.pairwise_append.mp h).2.2 e he e List.mem_cons_self
  exact this rfl
theorem wj_G_E {N : Nat} {R : Nat → Nat → Prop} (S : wj_S N R) {u : List Nat} (G : wj_G N R u) (hu : u.length = N) : wj_E N R u := by
  have hp : wj_P N u := wj_P_of G.1 hu G.2.1
  refine ⟨hp, ?_⟩
  intro a b hab
  have hb : b ∈ u := (wj_P_mem hp).mpr (S.1 _ _ hab).2
  obtain ⟨s, t, rfl⟩ := List.append_of_mem hb
  have h1 := (G.2.2 s b t rfl).1
  have h2 := wj_ix_pre' (t := b :: t) (h1.2 a hab)
  unfold wj_bf
  rw [wj_ix_mid h1.1]
  exact h2
theorem wj_E_av {N : Nat} {R : Nat → Nat → Prop} {s t : List Nat} {f : Nat} (E : wj_E N R (s ++ f :: t)) : f < N ∧ wj_av R s f := by
  have hd := wj_P_nd E.1
  have hf := wj_nd_mid hd
  refine ⟨(wj_P_mem E.1).mp (by simp), hf, ?_⟩
  intro x hx
  have := E.2 x f hx
  unfold wj_bf at this
  rw [wj_ix_mid hf] at this
  exact wj_ix_pre this
theorem wj_G_le {N : Nat} {R : Nat → Nat → Prop} (hN : N ≤ 8) : ∀ (u' s l' : List Nat), wj_G N R (s ++ u') → wj_E N R (s ++ l') → u'.length = l'.length → wj_cd 0 u' ≤ wj_cd 0 l' := by
  intro u'
  induction u' with
  | nil =>
    intro s l' G E hl
    have : l' = [] := List.length_eq_zero_iff.mp hl.symm
    subst this
    exact Nat.le_refl _
  | cons e t ih =>
    intro s l' G E hl
    cases l' with
    | nil => simp at hl
    | cons f t' =>
      have hl' : t.length = t'.length := by simpa using hl
      have hf := wj_E_av E
      have hle : e ≤ f := (G.2.2 s e t rfl).2 f hf.1 hf.2
      rw [wj_cd_cons, wj_cd_cons, hl']
      rcases Nat.lt_or_ge e f with hlt | hge
      · have h1 : wj_cd 0 t < 8 ^ t.length := wj_cd_lt t (fun x hx => Nat.lt_of_lt_of_le (G.2.1 x (by simp [hx])) hN)
        rw [hl'] at h1
        have h2 : (e + 1) * 8 ^ t'.length ≤ f * 8 ^ t'.length := Nat.mul_le_mul_right _ hlt
        rw [Nat.succ_mul] at h2
        omega
      · have hef : e = f := Nat.le_antisymm hle hge
        subst hef
        have := ih (s ++ [e]) t' (by simpa using G) (by simpa using E) hl'
        omega
theorem wj_G_least {N : Nat} {R : Nat → Nat → Prop} (hN : N ≤ 8) {u l : List Nat} (G : wj_G N R u) (hu : u.length = N) (E : wj_E N R l) : wj_cd 0 u ≤ wj_cd 0 l :=
  wj_G_le hN u [] l (by simpa using G) (by simpa using E) (by rw [hu, wj_P_len E.1])
theorem wj_E_ex {N : Nat} {R : Nat → Nat → Prop} (S : wj_S N R) : ∃ l, wj_E N R l := by
  obtain ⟨u, hu, G⟩ := wj_G_ex S N (Nat.le_refl _)
  exact ⟨u, wj_G_E S G hu⟩
end
section
/-! carrying out a run: s = (memory, got) -/
def wj_x (ad : Nat → Int32) (e : Nat) : Nat := (ad e).toNatClampNeg
def wj_ex (on g : Nat → Int32) (e : Nat) : Int32 := if on (4 * e + 1) < 0 then 0 else g (on (4 * e + 1)).toNatClampNeg
def wj_wv (ad cn rd on : Nat → Int32) (s : (Nat → Int32) × (Nat → Int32)) (e : Nat) : Int32 :=
  (((if rd e = 0 then 0 else s.1 (wj_x ad e)) + cn e) + wj_ex on s.2 e) &&& 15
def wj_st (ad cn rd wr on : Nat → Int32) (s : (Nat → Int32) × (Nat → Int32)) (e : Nat) : (Nat → Int32) × (Nat → Int32) :=
  (if wr e = 0 then s.1 else upd s.1 (wj_x ad e) (wj_wv ad cn rd on s e), if rd e = 0 then s.2 else upd s.2 e (s.1 (wj_x ad e)))
/-- the source of b's data is a -/
def wj_sr (on : Nat → Int32) (a b : Nat) : Prop := ¬ on (4 * b + 1) < 0 ∧ (on (4 * b + 1)).toNatClampNeg = a
def wj_C (ad wr on : Nat → Int32) (a b : Nat) : Prop :=
  (wj_x ad a = wj_x ad b ∧ (¬ wr a = 0 ∨ ¬ wr b = 0)) ∨ wj_sr on a b ∨ wj_sr on b a
theorem wj_upd_comm {f : Nat → Int32} {i j : Nat} {x y : Int32} (h : i ≠ j) : upd (upd f i x) j y = upd (upd f j y) i x := by
  funext k
  unfold upd
  by_cases h1 : k = i
  · have h2 : ¬ k = j := fun e => h (h1.symm.trans e)
    simp only [if_pos h1, if_neg h2]
  · by_cases h2 : k = j
    · simp only [if_neg h1, if_pos h2]
    · simp only [if_neg h1, if_neg h2]
section
variable {ad cn rd wr on : Nat → Int32}
theorem wj_st_mem {s : (Nat → Int32) × (Nat → Int32)} {a b : Nat} (h : wr b = 0 ∨ wj_x ad a ≠ wj_x ad b) : (wj_st ad cn rd wr on s b).1 (wj_x ad a) = s.1 (wj_x ad a) := by
  unfold wj_st
  by_cases hb : wr b = 0
  · simp only [if_pos hb]
  · simp only [if_neg hb]
    rcases h with h | h
    · exact absurd h hb
    · exact pk_un h
theorem wj_st_ex {s : (Nat → Int32) × (Nat → Int32)} {a b : Nat} (h : ¬ wj_sr on b a) : wj_ex on (wj_st ad cn rd wr on s b).2 a = wj_ex on s.2 a := by
  unfold wj_ex
  by_cases hb : on (4 * a + 1) < 0
  · rw [if_pos hb, if_pos hb]
  · rw [if_neg hb, if_neg hb]
    unfold wj_st
    by_cases hr : rd b = 0
    · simp only [if_pos hr]
    · simp only [if_neg hr]
      exact pk_un (fun e => h ⟨hb, e⟩)
theorem wj_st_wv {s : (Nat → Int32) × (Nat → Int32)} {a b : Nat} (h : wr b = 0 ∨ wj_x ad a ≠ wj_x ad b) (h' : ¬ wj_sr on b a) : wj_wv ad cn rd on (wj_st ad cn rd wr on s b) a = wj_wv ad cn rd on s a := by
  unfold wj_wv
  rw [wj_st_mem h, wj_st_ex h']
theorem wj_st_comm {s : (Nat → Int32) × (Nat → Int32)} {a b : Nat} (ne : a ≠ b) (h : ¬ wj_C ad wr on a b) : wj_st ad cn rd wr on (wj_st ad cn rd wr on s a) b = wj_st ad cn rd wr on (wj_st ad cn rd wr on s b) a := by
  have hx : wj_x ad a ≠ wj_x ad b ∨ (wr a = 0 ∧ wr b = 0) := by
    refine Classical.byContradiction fun hn => h (Or.inl ?_)
    refine ⟨Classical.byContradiction fun e => hn (Or.inl e), ?_⟩
    refine Classical.byContradiction fun e => hn (Or.inr ?_)
    exact ⟨Classical.byContradiction fun z => e (Or.inl z), Classical.byContradiction fun z => e (Or.inr z)⟩
  have s1 : ¬ wj_sr on a b := fun z => h (Or.inr (Or.inl z))
  have s2 : ¬ wj_sr on b a := fun z => h (Or.inr (Or.inr z))
  have ha : wr b = 0 ∨ wj_x ad a ≠ wj_x ad b := by
    rcases hx with hx | hx
    · exact Or.inr hx
    · exact Or.inl hx.2
  have hb : wr a = 0 ∨ wj_x ad b ≠ wj_x ad a := by
    rcases hx with hx | hx
    · exact Or.inr (Ne.symm hx)
    · exact Or.inl hx.1
  have e1 := wj_st_wv (cn := cn) (rd := rd) (s := s) ha s2
  have e2 := wj_st_wv (cn := cn) (rd := rd) (s := s) hb s1
  have e3 := wj_st_mem (cn := cn) (rd := rd) (on := on) (s := s) ha
  have e4 := wj_st_mem (cn := cn) (rd := rd) (on := on) (s := s) hb
  refine Prod.ext ?_ ?_
  · show (if wr b = 0 then (wj_st ad cn rd wr on s a).1 else upd (wj_st ad cn rd wr on s a).1 (wj_x ad b) (wj_wv ad cn rd on (wj_st ad cn rd wr on s a) b)) = (if wr a = 0 then (wj_st ad cn rd wr on s b).1 else upd (wj_st ad cn rd wr on s b).1 (wj_x ad a) (wj_wv ad cn rd on (wj_st ad cn rd wr on s b) a))
    rw [e1, e2]
    show (if wr b = 0 then (if wr a = 0 then s.1 else upd s.1 (wj_x ad a) (wj_wv ad cn rd on s a)) else upd (if wr a = 0 then s.1 else upd s.1 (wj_x ad a) (wj_wv ad cn rd on s a)) (wj_x ad b) (wj_wv ad cn rd on s b)) = (if wr a = 0 then (if wr b = 0 then s.1 else upd s.1 (wj_x ad b) (wj_wv ad cn rd on s b)) else upd (if wr b = 0 then s.1 else upd s.1 (wj_x ad b) (wj_wv ad cn rd on s b)) (wj_x ad a) (wj_wv ad cn rd on s a))
    by_cases ca : wr a = 0
    · by_cases cb : wr b = 0
      · rw [if_pos cb, if_pos ca, if_pos ca, if_pos cb]
      · rw [if_neg cb, if_pos ca, if_pos ca, if_neg cb]
    · by_cases cb : wr b = 0
      · rw [if_pos cb, if_neg ca, if_neg ca, if_pos cb]
      · rw [if_neg cb, if_neg ca, if_neg ca, if_neg cb]
        rcases hx with hx | hx
        · exact wj_upd_comm hx
        · exact absurd hx.1 ca
  · show (if rd b = 0 then (wj_st ad cn rd wr on s a).2 else upd (wj_st ad cn rd wr on s a).2 b ((wj_st ad cn rd wr on s a).1 (wj_x ad b))) = (if rd a = 0 then (wj_st ad cn rd wr on s b).2 else upd (wj_st ad cn rd wr on s b).2 a ((wj_st ad cn rd wr on s b).1 (wj_x ad a)))
    rw [e3, e4]
    show (if rd b = 0 then (if rd a = 0 then s.2 else upd s.2 a (s.1 (wj_x ad a))) else upd (if rd a = 0 then s.2 else upd s.2 a (s.1 (wj_x ad a))) b (s.1 (wj_x ad b))) = (if rd a = 0 then (if rd b = 0 then s.2 else upd s.2 b (s.1 (wj_x ad b))) else upd (if rd b = 0 then s.2 else upd s.2 b (s.1 (wj_x ad b))) a (s.1 (wj_x ad a)))
    by_cases ca : rd a = 0
    · by_cases cb : rd b = 0
      · rw [if_pos cb, if_pos ca, if_pos ca, if_pos cb]
      · rw [if_neg cb, if_pos ca, if_pos ca, if_neg cb]
    · by_cases cb : rd b = 0
      · rw [if_pos cb, if_neg ca, if_neg ca, if_pos cb]
      · rw [if_neg cb, if_neg ca, if_neg ca, if_neg cb]
        exact wj_upd_comm ne
end
/-! two runs with the same order of the conflicting pairs -/
theorem wj_move {σ : Type} {f : σ → Nat → σ} {a : Nat} : ∀ (u : List Nat) (s : σ), (∀ c, c ∈ u → ∀ s, f (f s a) c = f (f s c) a) → u.foldl f (f s a) = f (u.foldl f s) a := by
  intro u
  induction u with
  | nil => intro s _; rfl
  | cons c t ih =>
    intro s h
    show t.foldl f (f (f s a) c) = f (t.foldl f (f s c)) a
    rw [h c List.mem_cons_self s]
    exact ih (f s c) (fun c' hc' => h c' (List.mem_cons_of_mem _ hc'))
theorem wj_bf_cons {a x y : Nat} {t : List Nat} (hx : x ≠ a) (hy : y ≠ a) : wj_bf (a :: t) x y ↔ wj_bf t x y := by
  unfold wj_bf
  have h1 : (a == x) = false := by simpa using fun e : a = x => hx e.symm
  have h2 : (a == y) = false := by simpa using fun e : a = y => hy e.symm
  rw [List.idxOf_cons, List.idxOf_cons, h1, h2]
  simp only [cond_false]
  omega
theorem wj_bf_mid {a x y : Nat} {u v : List Nat} (hx : x ≠ a) (hy : y ≠ a) : wj_bf (u ++ a :: v) x y ↔ wj_bf (u ++ v) x y := by
  unfold wj_bf
  have h1 : (a == x) = false := by simpa using fun e : a = x => hx e.symm
  have h2 : (a == y) = false := by simpa using fun e : a = y => hy e.symm
  rw [List.idxOf_append, List.idxOf_append, List.idxOf_append, List.idxOf_append, List.idxOf_cons, List.idxOf_cons, h1, h2]
  simp only [cond_false]
  have lx : x ∈ u → u.idxOf x < u.length := fun h => List.idxOf_lt_length_of_mem h
  have ly : y ∈ u → u.idxOf y < u.length := fun h => List.idxOf_lt_length_of_mem h
  by_cases cx : x ∈ u
  · have := lx cx
    by_cases cy : y ∈ u
    · simp only [if_pos cx, if_pos cy]
    · simp only [if_pos cx, if_neg cy]; omega
  · by_cases cy : y ∈ u
    · have := ly cy
      simp only [if_neg cx, if_pos cy]; omega
    · simp only [if_neg cx, if_neg cy]; omega
theorem wj_eqv {σ : Type} {f : σ → Nat → σ} {C : Nat → Nat → Prop} (hc : ∀ s a b, a ≠ b → ¬ C a b → f (f s a) b = f (f s b) a) : ∀ (l l' : List Nat) (s : σ), l.Nodup → l.Perm l' → (∀ a b, a ∈ l → b ∈ l → C a b → wj_bf l a b → wj_bf l' a b) → l.foldl f s = l'.foldl f s := by
  intro l
  induction l with
  | nil =>
    intro l' s _ hp _
    rw [hp.symm.eq_nil]
  | cons a t ih =>
    intro l' s hd hp ho
    have hal : a ∈ l' := hp.mem_iff.mp List.mem_cons_self
    obtain ⟨u, v, rfl⟩ := List.append_of_mem hal
    have hd' : (u ++ a :: v).Nodup := hp.nodup_iff.mp hd
    have hau : a ∉ u := wj_nd_mid hd'
    have hat : a ∉ t := (List.nodup_cons.mp hd).1
    have hcu : ∀ c, c ∈ u → ¬ C a c := by
      intro c hcm hC
      have hca : c ≠ a := fun e => hau (e ▸ hcm)
      have hcl : c ∈ a :: t := hp.mem_iff.mpr (by simp [hcm])
      have hb : wj_bf (a :: t) a c := by
        have h1 : (a == c) = false := by simpa using fun e : a = c => hca e.symm
        unfold wj_bf
        rw [List.idxOf_cons_self, List.idxOf_cons, h1]
        simp only [cond_false]
        omega
      have h2 := ho a c List.mem_cons_self hcl hC hb
      unfold wj_bf at h2
      have h3 := wj_ix_pre' (t := a :: v) hcm
      rw [wj_ix_mid hau] at h2
      omega
    have hmv : (u ++ a :: v).foldl f s = (u ++ v).foldl f (f s a) := by
      rw [List.foldl_append, List.foldl_append, List.foldl_cons]
      rw [wj_move u s]
      intro c hcm s'
      exact hc s' a c (fun e => hau (e ▸ hcm)) (hcu c hcm)
    rw [hmv, List.foldl_cons]
    refine ih (u ++ v) (f s a) (List.nodup_cons.mp hd).2 ?_ ?_
    · exact (hp.trans List.perm_middle).cons_inv
    · intro x y hx hy hC hb
      have hxa : x ≠ a := fun e => hat (e ▸ hx)
      have hya : y ≠ a := fun e => hat (e ▸ hy)
      exact (wj_bf_mid hxa hya).mp (ho x y (List.mem_cons_of_mem _ hx) (List.mem_cons_of_mem _ hy) hC ((wj_bf_cons hxa hya).mpr hb))
/-! digits and keys -/
def wj_dg (v : Int32) : Prop := ∃ k : Nat, k < 16 ∧ v = nI k
def wj_ky (f : Nat → Int32) (acc : Nat) : Nat → Nat
  | 0 => acc
  | k + 1 => wj_ky f acc k * 16 + (f k).toNatClampNeg
def wj_key (s : (Nat → Int32) × (Nat → Int32)) : Nat := wj_ky s.1 (wj_ky s.2 0 6) 3
theorem wj_dg_15 (v : Int32) : wj_dg (v &&& 15) := by
  obtain ⟨j, hj, e⟩ := pk_andE v (m := 15) 4 (by decide)
  exact ⟨j, by omega, e⟩
theorem wj_dg_0 : wj_dg 0 := ⟨0, by decide, rfl⟩
theorem wj_dg_c {v : Int32} (h : wj_dg v) : v.toNatClampNeg < 16 := by
  obtain ⟨k, hk, rfl⟩ := h
  rw [nI_clamp (by omega)]; exact hk
theorem wj_ky_lt (f : Nat → Int32) : ∀ k acc b, (∀ i, i < k → wj_dg (f i)) → acc < b → wj_ky f acc k < b * 16 ^ k := by
  intro k
  induction k with
  | zero => intro acc b _ h; simpa [wj_ky] using h
  | succ k ih =>
    intro acc b hd h
    have h1 := ih acc b (fun i hi => hd i (by omega)) h
    have h2 := wj_dg_c (hd k (by omega))
    show wj_ky f acc k * 16 + (f k).toNatClampNeg < b * 16 ^ (k + 1)
    rw [Nat.pow_succ, ← Nat.mul_assoc]
    omega
def wj_ok (s : (Nat → Int32) × (Nat → Int32)) : Prop := (∀ x, x < 3 → wj_dg (s.1 x)) ∧ ∀ e, wj_dg (s.2 e)
theorem wj_key_lt {s : (Nat → Int32) × (Nat → Int32)} (h : wj_ok s) : wj_key s < 2 ^ 36 := by
  have h1 := wj_ky_lt s.2 6 0 1 (fun i _ => h.2 i) (by decide)
  have h2 := wj_ky_lt s.1 3 _ _ (fun i hi => h.1 i hi) h1
  have e : (1 * 16 ^ 6 * 16 ^ 3 : Nat) = 2 ^ 36 := by decide
  rw [e] at h2
  exact h2
theorem wj_st_ok {ad cn rd wr on : Nat → Int32} {s : (Nat → Int32) × (Nat → Int32)} {e : Nat} (h : wj_ok s) (hx : wj_x ad e < 3) : wj_ok (wj_st ad cn rd wr on s e) := by
  refine ⟨?_, ?_⟩
  · intro x hx'
    show wj_dg ((if wr e = 0 then s.1 else upd s.1 (wj_x ad e) (wj_wv ad cn rd on s e)) x)
    by_cases c : wr e = 0
    · rw [if_pos c]; exact h.1 x hx'
    · rw [if_neg c]
      by_cases d : x = wj_x ad e
      · rw [d, pk_us]; exact wj_dg_15 _
      · rw [pk_un d]; exact h.1 x hx'
  · intro x
    show wj_dg ((if rd e = 0 then s.2 else upd s.2 e (s.1 (wj_x ad e))) x)
    by_cases c : rd e = 0
    · rw [if_pos c]; exact h.2 x
    · rw [if_neg c]
      by_cases d : x = e
      · rw [d, pk_us]; exact h.1 _ hx
      · rw [pk_un d]; exact h.2 x
theorem wj_run_ok {ad cn rd wr on : Nat → Int32} : ∀ (l : List Nat) (s : (Nat → Int32) × (Nat → Int32)), wj_ok s → (∀ e, e ∈ l → wj_x ad e < 3) → wj_ok (l.foldl (wj_st ad cn rd wr on) s) := by
  intro l
  induction l with
  | nil => intro s h _; exact h
  | cons a t ih =>
    intro s h hx
    exact ih _ (wj_st_ok h (hx a List.mem_cons_self)) (fun e he => hx e (List.mem_cons_of_mem _ he))
end
section
/-! classes of runs: the order of the conflicting pairs of one address -/
def wj_D (N : Nat) (ad wr : Nat → Int32) (l l' : List Nat) : Prop :=
  ∃ a b, a < N ∧ b < N ∧ wj_x ad a = wj_x ad b ∧ (¬ wr a = 0 ∨ ¬ wr b = 0) ∧ wj_bf l a b ∧ ¬ wj_bf l' a b
theorem wj_D_ne {N : Nat} {ad wr : Nat → Int32} {l l' : List Nat} (h : wj_D N ad wr l l') : l ≠ l' := by
  rintro rfl
  obtain ⟨a, b, _, _, _, _, h1, h2⟩ := h
  exact h2 h1
theorem wj_D_not {N : Nat} {ad wr : Nat → Int32} {l l' : List Nat} (h : ¬ wj_D N ad wr l l') {a b : Nat} (ha : a < N) (hb : b < N) (hx : wj_x ad a = wj_x ad b) (hw : ¬ wr a = 0 ∨ ¬ wr b = 0) (hl : wj_bf l a b) : wj_bf l' a b :=
  Classical.byContradiction fun hn => h ⟨a, b, ha, hb, hx, hw, hl, hn⟩
theorem wj_out_eq {N : Nat} {ad cn rd wr on : Nat → Int32} {M : Nat → Nat → Prop} {l l' : List Nat} (hM : ∀ a b, b < N → wj_sr on a b → M a b) (E : wj_E N M l) (E' : wj_E N M l')
    (hD : ∀ a b, a < N → b < N → wj_x ad a = wj_x ad b → (¬ wr a = 0 ∨ ¬ wr b = 0) → wj_bf l a b → wj_bf l' a b) (s : (Nat → Int32) × (Nat → Int32)) :
    l.foldl (wj_st ad cn rd wr on) s = l'.foldl (wj_st ad cn rd wr on) s := by
  refine wj_eqv (C := wj_C ad wr on) (fun s a b ne h => wj_st_comm ne h) l l' s (wj_P_nd E.1) (E.1.trans E'.1.symm) ?_
  intro a b ha hb hC hl
  have ha' := (wj_P_mem E.1).mp ha
  have hb' := (wj_P_mem E.1).mp hb
  rcases hC with ⟨hx, hw⟩ | hs | hs
  · exact hD a b ha' hb' hx hw hl
  · exact E'.2 _ _ (hM _ _ hb' hs)
  · exact absurd hl (wj_bf_as (E.2 _ _ (hM _ _ ha' hs)))
/-! which write a reading event sees -/
def wj_LW (N : Nat) (ad wr : Nat → Int32) (l : List Nat) (e w : Nat) : Prop :=
  w < N ∧ w ≠ e ∧ ¬ wr w = 0 ∧ ad w = ad e ∧ wj_bf l w e ∧ ∀ v, v < N → v ≠ e → v ≠ w → ¬ wr v = 0 → ad v = ad e → wj_bf l v w ∨ wj_bf l e v
def wj_NW (N : Nat) (ad wr : Nat → Int32) (l : List Nat) (e : Nat) : Prop :=
  ∀ v, v < N → v ≠ e → ¬ wr v = 0 → ad v = ad e → wj_bf l e v
def wj_RF (N : Nat) (ad wr : Nat → Int32) (l : List Nat) (e : Nat) (o : Option Nat) : Prop :=
  match o with
  | none => wj_NW N ad wr l e
  | some w => wj_LW N ad wr l e w
theorem wj_max (f : Nat → Nat) (p : Nat → Prop) : ∀ N : Nat, (∀ v, v < N → ¬ p v) ∨ ∃ w, w < N ∧ p w ∧ ∀ v, v < N → p v → f v ≤ f w := by
  intro N
  induction N with
  | zero => exact Or.inl (fun v h => absurd h (Nat.not_lt_zero _))
  | succ N ih =>
    by_cases hp : p N
    · refine Or.inr ?_
      rcases ih with h | ⟨w, hw, hpw, hm⟩
      · refine ⟨N, by omega, hp, fun v hv hpv => ?_⟩
        by_cases e : v = N
        · rw [e]; exact Nat.le_refl _
        · exact absurd hpv (h v (by omega))
      · by_cases c : f w ≤ f N
        · refine ⟨N, by omega, hp, fun v hv hpv => ?_⟩
          by_cases e : v = N
          · rw [e]; exact Nat.le_refl _
          · have := hm v (by omega) hpv; omega
        · refine ⟨w, by omega, hpw, fun v hv hpv => ?_⟩
          by_cases e : v = N
          · rw [e]; omega
          · exact hm v (by omega) hpv
    · rcases ih with h | ⟨w, hw, hpw, hm⟩
      · refine Or.inl (fun v hv hpv => ?_)
        by_cases e : v = N
        · exact hp (e ▸ hpv)
        · exact h v (by omega) hpv
      · refine Or.inr ⟨w, by omega, hpw, fun v hv hpv => ?_⟩
        by_cases e : v = N
        · exact absurd (e ▸ hpv) hp
        · exact hm v (by omega) hpv
theorem wj_RF_ex {N : Nat} {ad wr : Nat → Int32} {l : List Nat} (h : wj_P N l) {e : Nat} (he : e < N) : ∃ o, wj_RF N ad wr l e o ∧ ∀ w, o = some w → w < N := by
  rcases wj_max (fun v => l.idxOf v) (fun v => v ≠ e ∧ ¬ wr v = 0 ∧ ad v = ad e ∧ wj_bf l v e) N with hn | ⟨w, hw, ⟨h1, h2, h3, h4⟩, hm⟩
  · refine ⟨none, ?_, fun w hw => nomatch hw⟩
    intro v hv ne hwv hav
    rcases wj_bf_tri h he hv (Ne.symm ne) with hb | hb
    · exact hb
    · exact absurd ⟨ne, hwv, hav, hb⟩ (hn v hv)
  · refine ⟨some w, ⟨hw, h1, h2, h3, h4, ?_⟩, fun w' hw' => by cases hw'; exact hw⟩
    intro v hv ne nw hwv hav
    rcases wj_bf_tri h he hv (Ne.symm ne) with hb | hb
    · exact Or.inr hb
    · refine Or.inl ?_
      have h5 := hm v hv ⟨ne, hwv, hav, hb⟩
      rcases wj_bf_tri h hv hw nw with hb' | hb'
      · exact hb'
      · unfold wj_bf at hb'
        have h5' : l.idxOf v ≤ l.idxOf w := h5
        omega
theorem wj_RF_un {N : Nat} {ad wr : Nat → Int32} {l : List Nat} {e : Nat} {o o' : Option Nat} (h : wj_RF N ad wr l e o) (h' : wj_RF N ad wr l e o') : o = o' := by
  cases o with
  | none =>
    cases o' with
    | none => rfl
    | some w => exact absurd (h w h'.1 h'.2.1 h'.2.2.1 h'.2.2.2.1) (wj_bf_as h'.2.2.2.2.1)
  | some w =>
    cases o' with
    | none => exact absurd (h' w h.1 h.2.1 h.2.2.1 h.2.2.2.1) (wj_bf_as h.2.2.2.2.1)
    | some w' =>
      by_cases hw : w = w'
      · rw [hw]
      · exfalso
        obtain ⟨a1, a2, a3, a4, a5, a6⟩ := h
        obtain ⟨b1, b2, b3, b4, b5, b6⟩ := h'
        have c1 := a6 w' b1 b2 (Ne.symm hw) b3 b4
        have c2 := b6 w a1 a2 hw a3 a4
        unfold wj_bf at *
        omega
theorem wj_RF_D {N : Nat} {ad wr : Nat → Int32} {l l' : List Nat} {e : Nat} (he : e < N) {o : Option Nat} (hD : ¬ wj_D N ad wr l l') (h : wj_RF N ad wr l e o) : wj_RF N ad wr l' e o := by
  cases o with
  | none =>
    intro v hv ne hwv hav
    exact wj_D_not hD he hv (by unfold wj_x; rw [hav]) (Or.inr hwv) (h v hv ne hwv hav)
  | some w =>
    obtain ⟨a1, a2, a3, a4, a5, a6⟩ := h
    refine ⟨a1, a2, a3, a4, wj_D_not hD a1 he (by unfold wj_x; rw [a4]) (Or.inl a3) a5, ?_⟩
    intro v hv ne nw hwv hav
    rcases a6 v hv ne nw hwv hav with hb | hb
    · exact Or.inl (wj_D_not hD hv a1 (by unfold wj_x; rw [a4, hav]) (Or.inl hwv) hb)
    · exact Or.inr (wj_D_not hD he hv (by unfold wj_x; rw [hav]) (Or.inr hwv) hb)
/-! the answers of a run at a decision: (a, some b) a pair of writes, (e, none) a reading event -/
def wj_An (N : Nat) (ad wr : Nat → Int32) (l : List Nat) (a : Nat) (b : Option Nat) (c : Nat) : Prop :=
  match b with
  | some b => (c = 0 ∧ wj_bf l a b) ∨ (c = 1 ∧ wj_bf l b a)
  | none => (c = 0 ∧ wj_RF N ad wr l a none) ∨ ∃ w, c = w + 1 ∧ wj_RF N ad wr l a (some w)
def wj_nc (b : Option Nat) : Nat :=
  match b with
  | some _ => 2
  | none => 7
def wj_dec (N : Nat) (ad rd wr : Nat → Int32) (a : Nat) (b : Option Nat) : Prop :=
  match b with
  | some b => a < b ∧ b < N ∧ ¬ wr a = 0 ∧ ¬ wr b = 0 ∧ ad a = ad b
  | none => a < N ∧ ¬ rd a = 0
theorem wj_An_ex {N : Nat} {ad rd wr : Nat → Int32} {l : List Nat} (hN : N ≤ 6) (h : wj_P N l) {a : Nat} {b : Option Nat} (hd : wj_dec N ad rd wr a b) : ∃ c, c < wj_nc b ∧ wj_An N ad wr l a b c := by
  cases b with
  | some b =>
    obtain ⟨h1, h2, _⟩ := hd
    rcases wj_bf_tri h (a := a) (b := b) (by omega) h2 (by omega) with hb | hb
    · exact ⟨0, show 0 < 2 by decide, Or.inl ⟨rfl, hb⟩⟩
    · exact ⟨1, show 1 < 2 by decide, Or.inr ⟨rfl, hb⟩⟩
  | none =>
    obtain ⟨o, ho, hw⟩ := wj_RF_ex (ad := ad) (wr := wr) h hd.1
    cases o with
    | none => exact ⟨0, by decide, Or.inl ⟨rfl, ho⟩⟩
    | some w =>
      have := hw w rfl
      exact ⟨w + 1, by show w + 1 < 7; omega, Or.inr ⟨w, rfl, ho⟩⟩
theorem wj_An_D {N : Nat} {ad rd wr : Nat → Int32} {l l' : List Nat} {a : Nat} {b : Option Nat} (hd : wj_dec N ad rd wr a b) {c c' : Nat} (h : wj_An N ad wr l a b c) (h' : wj_An N ad wr l' a b c') (ne : c ≠ c') : wj_D N ad wr l l' := by
  cases b with
  | some b =>
    obtain ⟨h1, h2, h3, h4, h5⟩ := hd
    have hx : wj_x ad a = wj_x ad b := by unfold wj_x; rw [h5]
    rcases h with ⟨e, hb⟩ | ⟨e, hb⟩
    · rcases h' with ⟨e', hb'⟩ | ⟨e', hb'⟩
      · omega
      · exact ⟨a, b, by omega, h2, hx, Or.inl h3, hb, wj_bf_as hb'⟩
    · rcases h' with ⟨e', hb'⟩ | ⟨e', hb'⟩
      · exact ⟨b, a, h2, by omega, hx.symm, Or.inl h4, hb, wj_bf_as hb'⟩
      · omega
  | none =>
    refine Classical.byContradiction fun hD => ne ?_
    have key : ∀ o o', wj_RF N ad wr l a o → wj_RF N ad wr l' a o' → o = o' := fun o o' ho ho' => wj_RF_un (wj_RF_D hd.1 hD ho) ho'
    rcases h with ⟨e, hb⟩ | ⟨w, e, hb⟩
    · rcases h' with ⟨e', hb'⟩ | ⟨w', e', hb'⟩
      · omega
      · exact nomatch key _ _ hb hb'
    · rcases h' with ⟨e', hb'⟩ | ⟨w', e', hb'⟩
      · exact nomatch key _ _ hb hb'
      · have := key _ _ hb hb'
        cases this
        omega
/-! one reading decision: the others that must follow -/
def wj_Q (N : Nat) (ad wr : Nat → Int32) (R : Nat → Nat → Prop) (e : Nat) (o : Option Nat) (v : Nat) : Prop :=
  v < N ∧ v ≠ e ∧ o ≠ some v ∧ ¬ wr v = 0 ∧ ad v = ad e ∧ ∀ w, o = some w → R w v
/-- all writes of one address are ordered by R -/
def wj_tot (N : Nat) (ad wr : Nat → Int32) (R : Nat → Nat → Prop) : Prop :=
  ∀ a b, a < N → b < N → a ≠ b → ¬ wr a = 0 → ¬ wr b = 0 → ad a = ad b → R a b ∨ R b a
def wj_can (N : Nat) (ad wr : Nat → Int32) (e : Nat) (o : Option Nat) : Prop :=
  ∀ w, o = some w → w < N ∧ w ≠ e ∧ ¬ wr w = 0 ∧ ad w = ad e
theorem wj_RF_iff {N : Nat} {ad wr : Nat → Int32} {R : Nat → Nat → Prop} {l : List Nat} {e : Nat} {o : Option Nat} (E : wj_E N R l) (hT : wj_tot N ad wr R) (hc : wj_can N ad wr e o) :
    wj_RF N ad wr l e o ↔ (∀ w, o = some w → wj_bf l w e) ∧ ∀ v, wj_Q N ad wr R e o v → wj_bf l e v := by
  cases o with
  | none =>
    constructor
    · intro h
      exact ⟨fun w hw => (nomatch hw), fun v hv => h v hv.1 hv.2.1 hv.2.2.2.1 hv.2.2.2.2.1⟩
    · rintro ⟨_, h⟩ v hv ne hwv hav
      exact h v ⟨hv, ne, (fun z => nomatch z), hwv, hav, (fun w hw => nomatch hw)⟩
  | some w =>
    obtain ⟨c1, c2, c3, c4⟩ := hc w rfl
    constructor
    · rintro ⟨a1, a2, a3, a4, a5, a6⟩
      refine ⟨fun w' hw' => by cases hw'; exact a5, ?_⟩
      rintro v ⟨q1, q2, q3, q4, q5, q6⟩
      rcases a6 v q1 q2 (fun z => q3 (by rw [z])) q4 q5 with hb | hb
      · exact absurd hb (wj_bf_as (E.2 _ _ (q6 w rfl)))
      · exact hb
    · rintro ⟨h1, h2⟩
      refine ⟨c1, c2, c3, c4, h1 w rfl, ?_⟩
      intro v hv ne nw hwv hav
      rcases hT v w hv c1 nw hwv c3 (by rw [hav, c4]) with hr | hr
      · exact Or.inl (E.2 _ _ hr)
      · exact Or.inr (h2 v ⟨hv, ne, (fun z => nw (by cases z; rfl)), hwv, hav, (fun w' hw' => by cases hw'; exact hr)⟩)
end
section
/-! all runs, in ascending order -/
def wj_px : Nat → List Nat → List (List Nat)
  | 0, _ => [[]]
  | k + 1, r => r.flatMap (fun x => (wj_px k (r.erase x)).map (fun t => x :: t))
theorem wj_px_mem : ∀ (k : Nat) (r l : List Nat), r.length = k → (l ∈ wj_px k r ↔ l.Perm r) := by
  intro k
  induction k with
  | zero =>
    intro r l hr
    have : r = [] := List.length_eq_zero_iff.mp hr
    subst this
    show l ∈ [[]] ↔ _
    rw [List.mem_singleton, List.perm_nil]
  | succ k ih =>
    intro r l hr
    show l ∈ r.flatMap (fun x => (wj_px k (r.erase x)).map (fun t => x :: t)) ↔ _
    rw [List.mem_flatMap]
    constructor
    · rintro ⟨x, hx, hm⟩
      obtain ⟨t, ht, rfl⟩ := List.mem_map.mp hm
      have hle : (r.erase x).length = k := by rw [List.length_erase_of_mem hx, hr]; rfl
      exact List.cons_perm_iff_perm_erase.mpr ⟨hx, (ih _ _ hle).mp ht⟩
    · intro hp
      cases l with
      | nil => have := hp.length_eq; rw [hr] at this; simp at this
      | cons x t =>
        obtain ⟨hx, ht⟩ := List.cons_perm_iff_perm_erase.mp hp
        have hle : (r.erase x).length = k := by rw [List.length_erase_of_mem hx, hr]; rfl
        exact ⟨x, hx, List.mem_map.mpr ⟨t, (ih _ _ hle).mpr ht, rfl⟩⟩
def wj_all (N : Nat) : List (List Nat) := wj_px N (List.range N)
theorem wj_all_mem {N : Nat} {l : List Nat} : l ∈ wj_all N ↔ wj_P N l := wj_px_mem N _ l List.length_range
/-! at most k of a list -/
def wj_le (p : List Nat → Bool) : Nat → List (List Nat) → Bool
  | _, [] => true
  | 0, x :: t => cond (p x) false (wj_le p 0 t)
  | k + 1, x :: t => cond (p x) (wj_le p k t) (wj_le p (k + 1) t)
theorem wj_le_f (p : List Nat → Bool) : ∀ (T : List (List Nat)) (k : Nat), wj_le p k T = true → (T.filter p).length ≤ k := by
  intro T
  induction T with
  | nil => intro k _; simp
  | cons x t ih =>
    intro k h
    cases hp : p x with
    | true =>
      cases k with
      | zero => simp [wj_le, hp] at h
      | succ k =>
        have h' : wj_le p k t = true := by simpa [wj_le, hp] using h
        have := ih k h'
        rw [List.filter_cons_of_pos hp, List.length_cons]
        omega
    | false =>
      have h' : wj_le p k t = true := by
        cases k with
        | zero => simpa [wj_le, hp] using h
        | succ k => simpa [wj_le, hp] using h
      rw [List.filter_cons_of_neg (by simp [hp])]
      exact ih k h'
theorem wj_le_L {p : List Nat → Bool} {T L : List (List Nat)} {k : Nat} (h : wj_le p k T = true) (hd : L.Nodup) (hs : ∀ l, l ∈ L → l ∈ T ∧ p l = true) : L.length ≤ k :=
  Nat.le_trans (hd.length_le_of_subset (fun l hl => List.mem_filter.mpr (hs l hl))) (wj_le_f p T k h)
def wj_ix : List Nat → Nat → Nat
  | [], _ => 0
  | x :: t, a => cond (Nat.beq x a) 0 (wj_ix t a + 1)
theorem wj_ix_eq (l : List Nat) (a : Nat) : wj_ix l a = l.idxOf a := by
  induction l with
  | nil => rfl
  | cons x t ih =>
    rw [List.idxOf_cons, ← ih]
    show cond (Nat.beq x a) 0 (wj_ix t a + 1) = _
    have : Nat.beq x a = (x == a) := by
      by_cases h : x = a
      · subst h; simp
      · have h1 : (x == a) = false := by simpa using h
        rw [h1]
        cases hb : Nat.beq x a with
        | false => rfl
        | true => exact absurd (Nat.eq_of_beq_eq_true hb) h
    rw [this]
def wj_bb (l : List Nat) (a b : Nat) : Bool := Nat.blt (wj_ix l a) (wj_ix l b)
theorem wj_bb_iff {l : List Nat} {a b : Nat} : wj_bb l a b = true ↔ wj_bf l a b := by
  unfold wj_bb wj_bf
  rw [wj_ix_eq, wj_ix_eq]
  show Nat.ble (l.idxOf a + 1) (l.idxOf b) = true ↔ _
  rw [Nat.ble_eq]
  exact Iff.rfl
/-! two pairs apart, or a chain of three: at most 180 of the 720 -/
def wj_qs : List (Nat × Nat × Nat × Nat) := [(0, 1, 1, 2), (0, 1, 1, 3), (0, 1, 1, 4), (0, 1, 1, 5), (0, 1, 2, 3), (0, 1, 2, 4), (0, 1, 2, 5), (0, 1, 3, 4), (0, 1, 3, 5), (0, 1, 4, 5), (0, 2, 1, 3), (0, 2, 1, 4), (0, 2, 1, 5), (0, 2, 2, 3), (0, 2, 2, 4), (0, 2, 2, 5), (0, 2, 3, 4), (0, 2, 3, 5), (0, 2, 4, 5), (0, 3, 1, 2), (0, 3, 1, 4), (0, 3, 1, 5), (0, 3, 2, 4), (0, 3, 2, 5), (0, 3, 3, 4), (0, 3, 3, 5), (0, 3, 4, 5), (0, 4, 1, 2), (0, 4, 1, 3), (0, 4, 1, 5), (0, 4, 2, 3), (0, 4, 2, 5), (0, 4, 3, 5), (0, 4, 4, 5), (0, 5, 1, 2), (0, 5, 1, 3), (0, 5, 1, 4), (0, 5, 2, 3), (0, 5, 2, 4), (0, 5, 3, 4), (1, 2, 2, 3), (1, 2, 2, 4), (1, 2, 2, 5), (1, 2, 3, 4), (1, 2, 3, 5), (1, 2, 4, 5), (1, 3, 2, 4), (1, 3, 2, 5), (1, 3, 3, 4), (1, 3, 3, 5), (1, 3, 4, 5), (1, 4, 2, 3), (1, 4, 2, 5), (1, 4, 3, 5), (1, 4, 4, 5), (1, 5, 2, 3), (1, 5, 2, 4), (1, 5, 3, 4), (2, 3, 3, 4), (2, 3, 3, 5), (2, 3, 4, 5), (2, 4, 3, 5), (2, 4, 4, 5), (2, 5, 3, 4), (3, 4, 4, 5)]
def wj_q4 (q : Nat × Nat × Nat × Nat) (l : List Nat) : Bool := cond (wj_bb l q.1 q.2.1) (wj_bb l q.2.2.1 q.2.2.2) false
set_option maxRecDepth 100000 in
theorem wj_qs_ck : wj_qs.all (fun q => wj_le (wj_q4 q) 180 (wj_all 6)) = true := by decide +kernel
def wj_tc (c i : Nat) : Nat := c / 4 ^ i % 4
def wj_tq (c : Nat) (q : Nat × Nat × Nat × Nat) : Bool :=
  cond (Nat.blt q.1 q.2.1) (cond (Nat.blt q.2.1 6) (cond (Nat.blt q.2.2.1 q.2.2.2) (cond (Nat.blt q.2.2.2 6) (cond (Nat.beq (wj_tc c q.1) (wj_tc c q.2.1)) (Nat.beq (wj_tc c q.2.2.1) (wj_tc c q.2.2.2)) false) false) false) false) false
set_option maxRecDepth 100000 in
theorem wj_tq_ck : (List.range 4096).all (fun c => wj_qs.any (wj_tq c)) = true := by decide +kernel
theorem wj_cond {a b : Bool} (h : cond a b false = true) : a = true ∧ b = true := by
  cases a <;> simp_all
theorem wj_blt {a b : Nat} (h : Nat.blt a b = true) : a < b := Nat.le_of_ble_eq_true h
theorem wj_tc_eq {t : Nat → Nat} (ht : ∀ i, i < 6 → t i < 4) {i : Nat} (hi : i < 6) : wj_tc (t 0 + 4 * t 1 + 16 * t 2 + 64 * t 3 + 256 * t 4 + 1024 * t 5) i = t i := by
  have h0 := ht 0 (by omega)
  have h1 := ht 1 (by omega)
  have h2 := ht 2 (by omega)
  have h3 := ht 3 (by omega)
  have h4 := ht 4 (by omega)
  have h5 := ht 5 (by omega)
  unfold wj_tc
  rcases (by omega : i = 0 ∨ i = 1 ∨ i = 2 ∨ i = 3 ∨ i = 4 ∨ i = 5) with rfl | rfl | rfl | rfl | rfl | rfl <;> simp only [Nat.reducePow] <;> omega
theorem wj_pig {t : Nat → Nat} (ht : ∀ i, i < 6 → t i < 4) : ∃ q, q ∈ wj_qs ∧ q.1 < q.2.1 ∧ q.2.1 < 6 ∧ q.2.2.1 < q.2.2.2 ∧ q.2.2.2 < 6 ∧ t q.1 = t q.2.1 ∧ t q.2.2.1 = t q.2.2.2 := by
  have h0 := ht 0 (by omega)
  have h1 := ht 1 (by omega)
  have h2 := ht 2 (by omega)
  have h3 := ht 3 (by omega)
  have h4 := ht 4 (by omega)
  have h5 := ht 5 (by omega)
  have hc := List.all_eq_true.mp wj_tq_ck (t 0 + 4 * t 1 + 16 * t 2 + 64 * t 3 + 256 * t 4 + 1024 * t 5) (List.mem_range.mpr (by omega))
  obtain ⟨q, hq, hb⟩ := List.any_eq_true.mp hc
  obtain ⟨b1, hb⟩ := wj_cond hb
  obtain ⟨b2, hb⟩ := wj_cond hb
  obtain ⟨b3, hb⟩ := wj_cond hb
  obtain ⟨b4, hb⟩ := wj_cond hb
  obtain ⟨b5, hb⟩ := wj_cond hb
  have b1 := wj_blt b1
  have b2 := wj_blt b2
  have b3 := wj_blt b3
  have b4 := wj_blt b4
  have b5 := Nat.eq_of_beq_eq_true b5
  have b6 := Nat.eq_of_beq_eq_true hb
  rw [wj_tc_eq ht (by omega), wj_tc_eq ht (by omega)] at b5
  rw [wj_tc_eq ht (by omega), wj_tc_eq ht (by omega)] at b6
  exact ⟨q, hq, b1, b2, b3, b4, b5, b6⟩
/-! a part of the events first: at most 120 -/
def wj_fs (p : Nat → Bool) : List Nat → Bool
  | [] => true
  | x :: t => cond (p x) (wj_fs p t) (t.all (fun y => !p y))
def wj_mk (m i : Nat) : Bool := Nat.beq (m / 2 ^ i % 2) 1
set_option maxRecDepth 100000 in
theorem wj_mk_ck : (List.range 31).all (fun m => wj_le (wj_fs (wj_mk (2 * m + 1))) 180 (wj_all 6)) = true := by decide +kernel
theorem wj_fs_cong {p q : Nat → Bool} : ∀ l : List Nat, (∀ x, x ∈ l → p x = q x) → wj_fs p l = wj_fs q l := by
  intro l
  induction l with
  | nil => intro _; rfl
  | cons x t ih =>
    intro h
    show cond (p x) (wj_fs p t) (t.all (fun y => !p y)) = cond (q x) (wj_fs q t) (t.all (fun y => !q y))
    rw [h x List.mem_cons_self, ih (fun y hy => h y (List.mem_cons_of_mem _ hy))]
    have : t.all (fun y => !p y) = t.all (fun y => !q y) := by
      rw [Bool.eq_iff_iff, List.all_eq_true, List.all_eq_true]
      constructor
      · intro g y hy; rw [← h y (List.mem_cons_of_mem _ hy)]; exact g y hy
      · intro g y hy; rw [h y (List.mem_cons_of_mem _ hy)]; exact g y hy
    rw [this]
def wj_cn (p : Nat → Bool) (l : List Nat) : List Nat := l.filter p ++ l.filter (fun x => !p x)
theorem wj_fs_app {p : Nat → Bool} : ∀ u v : List Nat, (∀ x, x ∈ u → p x = true) → (∀ x, x ∈ v → p x = false) → wj_fs p (u ++ v) = true := by
  intro u
  induction u with
  | nil =>
    intro v _ hv
    cases v with
    | nil => rfl
    | cons x t =>
      show cond (p x) (wj_fs p t) (t.all (fun y => !p y)) = true
      rw [hv x List.mem_cons_self]
      show t.all (fun y => !p y) = true
      rw [List.all_eq_true]
      intro y hy
      rw [hv y (List.mem_cons_of_mem _ hy)]; rfl
  | cons x t ih =>
    intro v hu hv
    show cond (p x) (wj_fs p (t ++ v)) ((t ++ v).all (fun y => !p y)) = true
    rw [hu x List.mem_cons_self]
    exact ih v (fun y hy => hu y (List.mem_cons_of_mem _ hy)) hv
theorem wj_fs_cn (p : Nat → Bool) (l : List Nat) : wj_fs p (wj_cn p l) = true :=
  wj_fs_app _ _ (fun x hx => (List.mem_filter.mp hx).2) (fun x hx => by simpa using (List.mem_filter.mp hx).2)
theorem wj_cn_P {N : Nat} {p : Nat → Bool} {l : List Nat} (h : wj_P N l) : wj_P N (wj_cn p l) := (List.filter_append_perm p l).trans h
theorem wj_bf_filter {q : Nat → Bool} {a b : Nat} (ha : q a = true) (hb : q b = true) : ∀ l : List Nat, wj_bf (l.filter q) a b ↔ wj_bf l a b := by
  intro l
  induction l with
  | nil => exact Iff.rfl
  | cons c t ih =>
    by_cases hca : c = a
    · subst hca
      rw [List.filter_cons_of_pos ha]
      unfold wj_bf
      rw [List.idxOf_cons_self, List.idxOf_cons_self, List.idxOf_cons, List.idxOf_cons]
      cases (c == b)
      · simp
      · simp
    · by_cases hcb : c = b
      · subst hcb
        rw [List.filter_cons_of_pos hb]
        unfold wj_bf
        rw [List.idxOf_cons_self, List.idxOf_cons_self]
        constructor <;> intro h <;> exact absurd h (Nat.not_lt_zero _)
      · rw [wj_bf_cons (Ne.symm hca) (Ne.symm hcb)]
        cases hq : q c with
        | true => rw [List.filter_cons_of_pos hq, wj_bf_cons (Ne.symm hca) (Ne.symm hcb)]; exact ih
        | false => rw [List.filter_cons_of_neg (by simp [hq])]; exact ih
theorem wj_bf_cn {p : Nat → Bool} {a b : Nat} {l : List Nat} (hp : p a = p b) (ha : a ∈ l) (hb : b ∈ l) : wj_bf (wj_cn p l) a b ↔ wj_bf l a b := by
  unfold wj_cn
  cases h : p a with
  | true =>
    have h' : p b = true := by rw [← hp]; exact h
    rw [← wj_bf_filter h h' l]
    have ma : a ∈ l.filter p := List.mem_filter.mpr ⟨ha, h⟩
    have mb : b ∈ l.filter p := List.mem_filter.mpr ⟨hb, h'⟩
    unfold wj_bf
    rw [List.idxOf_append, List.idxOf_append, if_pos ma, if_pos mb]
  | false =>
    have h' : p b = false := by rw [← hp]; exact h
    rw [← wj_bf_filter (q := fun x => !p x) (by simp [h]) (by simp [h']) l]
    have ma : a ∉ l.filter p := fun z => by have := (List.mem_filter.mp z).2; rw [h] at this; cases this
    have mb : b ∉ l.filter p := fun z => by have := (List.mem_filter.mp z).2; rw [h'] at this; cases this
    unfold wj_bf
    rw [List.idxOf_append, List.idxOf_append, if_neg ma, if_neg mb]
    omega
theorem wj_mk_eq {p : Nat → Bool} (h0 : p 0 = true) : ∃ m, m ≤ 31 ∧ (∀ i, i < 6 → p i = wj_mk (2 * m + 1) i) ∧ (m = 31 → ∀ i, i < 6 → p i = true) := by
  have key : ∀ b1 b2 b3 b4 b5 : Bool, ∃ m, m ≤ 31 ∧ (wj_mk (2 * m + 1) 0 = true ∧ wj_mk (2 * m + 1) 1 = b1 ∧ wj_mk (2 * m + 1) 2 = b2 ∧ wj_mk (2 * m + 1) 3 = b3 ∧ wj_mk (2 * m + 1) 4 = b4 ∧ wj_mk (2 * m + 1) 5 = b5) ∧ (m = 31 → b1 = true ∧ b2 = true ∧ b3 = true ∧ b4 = true ∧ b5 = true) := by
    intro b1 b2 b3 b4 b5
    refine ⟨b1.toNat + 2 * b2.toNat + 4 * b3.toNat + 8 * b4.toNat + 16 * b5.toNat, ?_⟩
    revert b1 b2 b3 b4 b5
    decide +kernel
  obtain ⟨m, hm, ⟨e0, e1, e2, e3, e4, e5⟩, h31⟩ := key (p 1) (p 2) (p 3) (p 4) (p 5)
  refine ⟨m, hm, ?_, ?_⟩
  · intro i hi
    rcases (by omega : i = 0 ∨ i = 1 ∨ i = 2 ∨ i = 3 ∨ i = 4 ∨ i = 5) with rfl | rfl | rfl | rfl | rfl | rfl
    · rw [h0, e0]
    · rw [e1]
    · rw [e2]
    · rw [e3]
    · rw [e4]
    · rw [e5]
  · intro e i hi
    obtain ⟨g1, g2, g3, g4, g5⟩ := h31 e
    rcases (by omega : i = 0 ∨ i = 1 ∨ i = 2 ∨ i = 3 ∨ i = 4 ∨ i = 5) with rfl | rfl | rfl | rfl | rfl | rfl
    · exact h0
    · exact g1
    · exact g2
    · exact g3
    · exact g4
    · exact g5
theorem wj_all_len : ∀ N, N ≤ 5 → (wj_all N).length ≤ 180 := by decide +kernel
/-- runs of pairwise different classes are at most 180 -/
theorem wj_180 {N : Nat} (hN : N ≤ 6) {ad wr : Nat → Int32} {t : Nat → Nat} {M : Nat → Nat → Prop} (ht : ∀ i, i < N → t i < 4)
    (hM : ∀ a b, a < b → b < N → t a = t b → wj_x ad a = wj_x ad b → M a b) {L : List (List Nat)} (hL : ∀ l, l ∈ L → wj_E N M l) (hD : L.Pairwise (wj_D N ad wr)) : L.length ≤ 180 := by
  have hnd : L.Nodup := hD.imp (fun h => wj_D_ne h)
  by_cases h5 : N ≤ 5
  · exact Nat.le_trans (hnd.length_le_of_subset (fun l hl => wj_all_mem.mpr (hL l hl).1)) (wj_all_len N h5)
  · have h6 : N = 6 := by omega
    subst h6
    obtain ⟨m, hm, hp, h31⟩ := wj_mk_eq (p := fun i => Nat.beq (wj_x ad i) (wj_x ad 0)) (by simp)
    by_cases hm31 : m = 31
    · have hx : ∀ i, i < 6 → wj_x ad i = wj_x ad 0 := fun i hi => Nat.eq_of_beq_eq_true (h31 hm31 i hi)
      obtain ⟨q, hq, q1, q2, q3, q4, q5, q6⟩ := wj_pig ht
      refine wj_le_L (List.all_eq_true.mp wj_qs_ck q hq) hnd ?_
      intro l hl
      refine ⟨wj_all_mem.mpr (hL l hl).1, ?_⟩
      have b1 : wj_bb l q.1 q.2.1 = true := wj_bb_iff.mpr ((hL l hl).2 _ _ (hM _ _ q1 q2 q5 ((hx _ (by omega)).trans (hx _ (by omega)).symm)))
      have b2 : wj_bb l q.2.2.1 q.2.2.2 = true := wj_bb_iff.mpr ((hL l hl).2 _ _ (hM _ _ q3 q4 q6 ((hx _ (by omega)).trans (hx _ (by omega)).symm)))
      show cond (wj_bb l q.1 q.2.1) (wj_bb l q.2.2.1 q.2.2.2) false = true
      rw [b1, b2]; rfl
    · have hck := List.all_eq_true.mp wj_mk_ck m (List.mem_range.mpr (by omega))
      have hmap : (L.map (wj_cn (wj_mk (2 * m + 1)))).Nodup := by
        refine List.pairwise_map.mpr ?_
        refine List.Pairwise.imp_of_mem ?_ hD
        intro l l' hl hl' hd e
        obtain ⟨a, b, ha, hb, hx, _, h1, h2⟩ := hd
        have hpe : wj_mk (2 * m + 1) a = wj_mk (2 * m + 1) b := by
          rw [← hp a ha, ← hp b hb]
          show Nat.beq (wj_x ad a) (wj_x ad 0) = Nat.beq (wj_x ad b) (wj_x ad 0)
          rw [hx]
        have ma := (wj_P_mem (hL l hl).1).mpr ha
        have mb := (wj_P_mem (hL l hl).1).mpr hb
        have ma' := (wj_P_mem (hL l' hl').1).mpr ha
        have mb' := (wj_P_mem (hL l' hl').1).mpr hb
        have g1 := (wj_bf_cn hpe ma mb).mpr h1
        rw [e] at g1
        exact h2 ((wj_bf_cn hpe ma' mb').mp g1)
      have := wj_le_L hck hmap (by
        intro l' hl'
        obtain ⟨l, hl, rfl⟩ := List.mem_map.mp hl'
        exact ⟨wj_all_mem.mpr (wj_cn_P (hL l hl).1), wj_fs_cn _ _⟩)
      rwa [List.length_map] at this
end
section
/-! relation words: bit 6 a + b of a word below 2^36 -/
def wj_R (m : Nat) : Nat → Nat → Prop := fun a b => a < 6 ∧ b < 6 ∧ m.testBit (6 * a + b) = true
theorem wj_bit_z {m k : Nat} (hm : m < 2 ^ 63) (hk : k < 64) : (((lN m).toUInt64 >>> ((nI k).toInt64.toUInt64 &&& Int64.toUInt64 63)).toInt64 &&& 1) = 0 ↔ m.testBit k = false := by
  rw [wb_bit (by omega) hk, Nat.testBit_eq_decide_div_mod_eq, decide_eq_false_iff_not]
  generalize m / 2 ^ k = q
  show lN (q % 2) = lN 0 ↔ _
  rw [lN_eq (by omega) (by decide)]
  omega
theorem wj_6 (a b : Nat) : (6 * nI a) + nI b = nI (6 * a + b) := by
  show nI 6 * nI a + nI b = _
  rw [pk_mul, nI_add]
theorem wj_before {post : Int32 → Prop} {m a b : Nat} (hm : m < 2 ^ 36) (ha : a < 6) (hb : b < 6) (h1 : wj_R m a b → post 1) (h0 : ¬ wj_R m a b → post 0) : wpX_before post (lN m) (nI a) (nI b) := by
  unfold wpX_before
  rw [wj_6]
  have hz := wj_bit_z (m := m) (k := 6 * a + b) (Nat.lt_trans hm (by decide)) (by omega)
  refine ⟨fun h => h0 ?_, fun h => h1 ?_⟩
  · intro hr
    have h2 := hz.mp h
    rw [hr.2.2] at h2
    cases h2
  · refine ⟨ha, hb, ?_⟩
    cases ht : m.testBit (6 * a + b) with
    | true => rfl
    | false => exact absurd (hz.mpr ht) h
theorem wj_row {A i c j : Nat} (hA : A < 64) (hi : i < 6) (hc : c < 6) (hj : j < 6) : (A * 2 ^ (6 * i)).testBit (6 * c + j) = true ↔ c = i ∧ A.testBit j = true := by
  rw [Nat.testBit_mul_two_pow]
  rcases Nat.lt_trichotomy c i with h | h | h
  · have : ¬ (6 * i ≤ 6 * c + j) := by omega
    simp only [decide_eq_false this, Bool.false_and]
    constructor
    · intro z; cases z
    · intro z; omega
  · subst h
    have : 6 * c ≤ 6 * c + j := by omega
    have e : 6 * c + j - 6 * c = j := by omega
    simp only [decide_eq_true this, Bool.true_and, e, true_and]
  · have : 6 * i ≤ 6 * c + j := by omega
    have hb : A.testBit (6 * c + j - 6 * i) = false := by
      apply Nat.testBit_lt_two_pow
      refine Nat.lt_of_lt_of_le hA ?_
      have : 2 ^ 6 ≤ 2 ^ (6 * c + j - 6 * i) := Nat.pow_le_pow_right (by decide) (by omega)
      exact this
    simp only [decide_eq_true this, Bool.true_and, hb]
    constructor
    · intro z; cases z
    · intro z; omega
theorem wj_af {m b j : Nat} (hb : b < 6) (hj : j < 6) : ((m / 2 ^ (6 * b)) % 64 ||| 2 ^ b).testBit j = true ↔ j = b ∨ wj_R m b j := by
  have e : (64 : Nat) = 2 ^ 6 := by decide
  rw [Nat.testBit_or, e, Nat.testBit_mod_two_pow, Nat.testBit_div_two_pow, Nat.testBit_two_pow, Nat.add_comm j (6 * b)]
  simp only [decide_eq_true hj, Bool.true_and, Bool.or_eq_true, decide_eq_true_eq]
  constructor
  · rintro (h | h)
    · exact Or.inr ⟨hb, hj, h⟩
    · exact Or.inl h.symm
  · rintro (h | h)
    · exact Or.inr h.symm
    · exact Or.inl h.2.2
theorem wj_af_lt {m b : Nat} (hb : b < 6) : (m / 2 ^ (6 * b)) % 64 ||| 2 ^ b < 64 := by
  have e : (64 : Nat) = 2 ^ 6 := by decide
  rw [e]
  exact Nat.or_lt_two_pow (Nat.mod_lt _ (by decide)) (Nat.pow_lt_pow_right (by decide) hb)
theorem wj_sh_lt {A i : Nat} (hA : A < 64) (hi : i < 6) : A * 2 ^ (6 * i) < 2 ^ 36 := by
  have h1 : A * 2 ^ (6 * i) < 2 ^ 6 * 2 ^ (6 * i) := Nat.mul_lt_mul_of_pos_right hA (Nat.two_pow_pos _)
  rw [← Nat.pow_add] at h1
  exact Nat.lt_of_lt_of_le h1 (Nat.pow_le_pow_right (by decide) (by omega))
theorem wj_join_l {post : Int64 → Prop} {m a A : Nat} (hm : m < 2 ^ 36) (ha : a < 6) (hA : A < 64) (B : Nat → Prop) (hB : ∀ j, j < 6 → (A.testBit j = true ↔ B j))
    (h : ∀ m', m' < 2 ^ 36 → (∀ c j, wj_R m' c j ↔ wj_R m c j ∨ (c < 6 ∧ j < 6 ∧ (c = a ∨ wj_R m c a) ∧ B j)) → post (lN m')) :
    ∀ d i o : Nat, i + d = 6 → o < 2 ^ 36 → (∀ c j, wj_R o c j ↔ wj_R m c j ∨ (c < i ∧ j < 6 ∧ (c = a ∨ wj_R m c a) ∧ B j)) → wX_join_33 post (lN m) (nI a) (lN A) (d + 1) (lN o) (nI i) := by
  intro d
  induction d with
  | zero =>
    intro i o hi ho hR
    have : i = 6 := by omega
    subst this
    exact br_t (nI_le (a := 6) (b := 6) (by decide) (by decide)) (h o ho hR)
  | succ d ih =>
    intro i o hi ho hR
    refine br_f (nI_ge (a := i) (b := 6) (by omega) (by decide)) ?_
    have stp : (i = a ∨ wj_R m i a) → wX_join_56 post (wX_join_33 post (lN m) (nI a) (lN A) (d + 1)) (lN m) (nI a) (lN A) (lN o) (nI i) := by
      intro hia
      have he : lN o ||| (lN A <<< ((6 * nI i).toInt64 &&& 63)) = lN (o ||| A * 2 ^ (6 * i)) := by
        have e6 : (6 : Int32) * nI i = nI (6 * i) := pk_mul 6 i
        have hs := wj_sh_lt hA (i := i) (by omega)
        rw [e6, wb_shl A (k := 6 * i) (by omega), wb_or (Nat.lt_trans ho (by decide)) (Nat.lt_trans hs (by decide))]
      refine nm_r he (nm_r (nI_1 i) (ih (i + 1) _ (by omega) (Nat.or_lt_two_pow ho (wj_sh_lt hA (by omega))) ?_))
      intro c j
      by_cases hc : c < 6
      · by_cases hj : j < 6
        · have e1 : wj_R (o ||| A * 2 ^ (6 * i)) c j ↔ wj_R o c j ∨ (c = i ∧ A.testBit j = true) := by
            unfold wj_R
            rw [Nat.testBit_or, Bool.or_eq_true, wj_row hA (by omega) hc hj]
            simp only [hc, hj, true_and]
          rw [e1, hR, hB j hj]
          constructor
          · rintro ((h1 | h1) | ⟨h1, h2⟩)
            · exact Or.inl h1
            · exact Or.inr ⟨by omega, h1.2⟩
            · exact Or.inr ⟨by omega, hj, by rw [h1]; exact hia, h2⟩
          · rintro (h1 | ⟨h1, h2, h3, h4⟩)
            · exact Or.inl (Or.inl h1)
            · by_cases hci : c = i
              · exact Or.inr ⟨hci, h4⟩
              · exact Or.inl (Or.inr ⟨by omega, h2, h3, h4⟩)
        · constructor
          · intro z; exact absurd z.2.1 hj
          · rintro (z | z)
            · exact absurd z.2.1 hj
            · exact absurd z.2.1 hj
      · constructor
        · intro z; exact absurd z.1 hc
        · rintro (z | z)
          · exact absurd z.1 hc
          · omega
    by_cases hia : i = a
    · exact br_t (by rw [hia]) (stp (Or.inl hia))
    · refine br_f (fun z => hia ((nI_eq (by omega) (by omega)).mp z)) (wj_before hm (by omega) ha (fun hr => ?_) (fun hr => ?_))
      · exact br_f (by decide) (stp (Or.inr hr))
      · refine br_t rfl (nm_r (nI_1 i) (ih (i + 1) o (by omega) ho ?_))
        intro c j
        rw [hR]
        constructor
        · rintro (h1 | h1)
          · exact Or.inl h1
          · exact Or.inr ⟨by omega, h1.2⟩
        · rintro (h1 | ⟨h1, h2, h3, h4⟩)
          · exact Or.inl h1
          · by_cases hci : c = i
            · subst hci
              rcases h3 with h3 | h3
              · exact absurd h3 hia
              · exact absurd h3 hr
            · exact Or.inr ⟨by omega, h2, h3, h4⟩
theorem wj_join {post : Int64 → Prop} {N m a b : Nat} (hN : N ≤ 6) (S : wj_S N (wj_R m)) (hm : m < 2 ^ 36) (ha : a < N) (hb : b < N)
    (h : ∀ m', m' < 2 ^ 36 → wj_R m' = wj_J (wj_R m) a b → post (lN m')) : wpX_join post (lN m) (nI a) (nI b) := by
  unfold wpX_join
  refine wj_before hm (by omega) (by omega) (fun hr => ?_) (fun hr => ?_)
  · refine br_f (by decide) (h m hm ?_)
    funext c j
    refine propext ⟨fun z => Or.inl z, ?_⟩
    rintro (z | ⟨z1, z2⟩)
    · exact z
    · have h1 : wj_R m c b := by
        rcases z1 with rfl | z1
        · exact hr
        · exact S.2.2 _ _ _ z1 hr
      rcases z2 with rfl | z2
      · exact h1
      · exact S.2.2 _ _ _ h1 z2
  · have hA : (((lN m).toUInt64 >>> ((6 * nI b).toInt64.toUInt64 &&& Int64.toUInt64 63)).toInt64 &&& 63) ||| ((1 : Int64) <<< ((nI b).toInt64 &&& 63)) = lN ((m / 2 ^ (6 * b)) % 64 ||| 2 ^ b) := by
      have e6 : (6 : Int32) * nI b = nI (6 * b) := pk_mul 6 b
      have hm64 : m < 2 ^ 64 := Nat.lt_trans hm (by decide)
      have hd : m / 2 ^ (6 * b) < 2 ^ 64 := Nat.lt_of_le_of_lt (Nat.div_le_self _ _) hm64
      have e63 : lN (m / 2 ^ (6 * b)) &&& 63 = lN ((m / 2 ^ (6 * b)) % 64) := wb_mask (k := 6) hd (by decide)
      have e1 : (1 : Int64) <<< ((nI b).toInt64 &&& 63) = lN (2 ^ b) := by
        have := wb_shl 1 (k := b) (by omega)
        rw [Nat.one_mul] at this
        exact this
      have h2b : 2 ^ b < 2 ^ 64 := Nat.pow_lt_pow_right (by decide) (by omega)
      rw [e6, wb_shr hm64 (by omega), e63, e1, wb_or (Nat.lt_trans (Nat.mod_lt _ (by decide : 0 < 64)) (by decide)) h2b]
    refine br_t rfl (nm_r hA ⟨7, ?_⟩)
    refine wj_join_l hm (by omega) (wj_af_lt (by omega)) (fun j => j = b ∨ wj_R m b j) (fun j hj => wj_af (by omega) hj) ?_ 6 0 m rfl hm ?_
    · intro m' hm' hR
      refine h m' hm' ?_
      funext c j
      refine propext ?_
      rw [hR]
      constructor
      · rintro (z | ⟨_, _, z1, z2⟩)
        · exact Or.inl z
        · exact Or.inr ⟨z1, z2⟩
      · rintro (z | ⟨z1, z2⟩)
        · exact Or.inl z
        · refine Or.inr ⟨?_, ?_, z1, z2⟩
          · rcases z1 with rfl | z1
            · omega
            · exact z1.1
          · rcases z2 with rfl | z2
            · omega
            · exact z2.2.1
    · intro c j
      constructor
      · intro z; exact Or.inl z
      · rintro (z | z)
        · exact z
        · omega
/-! predecessors, as a set of bits -/
theorem wj_pre_l {post : Int32 → Prop} {m e : Nat} (hm : m < 2 ^ 36) (he : e < 6)
    (h : ∀ p, p < 64 → (∀ x, p.testBit x = true ↔ wj_R m x e) → post (nI p)) :
    ∀ d i p : Nat, i + d = 6 → p < 64 → (∀ x, p.testBit x = true ↔ x < i ∧ wj_R m x e) → wX_predecessors_5 post (lN m) (nI e) (d + 1) (nI p) (nI i) := by
  intro d
  induction d with
  | zero =>
    intro i p hi hp hx
    have : i = 6 := by omega
    subst this
    refine br_t (nI_le (a := 6) (b := 6) (by decide) (by decide)) (h p hp ?_)
    intro x
    rw [hx x]
    exact ⟨fun z => z.2, fun z => ⟨z.1, z⟩⟩
  | succ d ih =>
    intro i p hi hp hx
    refine br_f (nI_ge (a := i) (b := 6) (by omega) (by decide)) (wj_before hm (by omega) he (fun hr => ?_) (fun hr => ?_))
    · have he1 : nI p ||| ((1 : Int32) <<< (nI i &&& 31)) = nI (p ||| 2 ^ i) := by
        have h1 : (1 : Int32) <<< (nI i &&& 31) = nI (2 ^ i) := by
          have := pk_shlN (n := 1) (nI i &&& 31) i (s_l i (by omega)) (by
            have : 2 ^ i < 2 ^ 32 := Nat.pow_lt_pow_right (by decide) (by omega)
            omega)
          rw [Nat.one_mul] at this
          exact this
        rw [h1]
        refine Int32.toBitVec_inj.mp ?_
        rw [Int32.toBitVec_or]
        show BitVec.ofNat 32 p ||| BitVec.ofNat 32 (2 ^ i) = BitVec.ofNat 32 (p ||| 2 ^ i)
        rw [BitVec.ofNat_or]
      refine br_f (by decide) (nm_r he1 (nm_r (nI_1 i) (ih (i + 1) (p ||| 2 ^ i) (by omega) ?_ ?_)))
      · have e : (64 : Nat) = 2 ^ 6 := by decide
        rw [e] at hp ⊢
        exact Nat.or_lt_two_pow hp (Nat.pow_lt_pow_right (by decide) (by omega))
      · intro x
        rw [Nat.testBit_or, Nat.testBit_two_pow, Bool.or_eq_true, hx x, decide_eq_true_eq]
        constructor
        · rintro (z | z)
          · exact ⟨by omega, z.2⟩
          · subst z; exact ⟨by omega, hr⟩
        · rintro ⟨z1, z2⟩
          by_cases hxi : i = x
          · exact Or.inr hxi
          · exact Or.inl ⟨by omega, z2⟩
    · refine br_t rfl (nm_r (nI_1 i) (ih (i + 1) p (by omega) hp ?_))
      intro x
      rw [hx x]
      constructor
      · rintro ⟨z1, z2⟩; exact ⟨by omega, z2⟩
      · rintro ⟨z1, z2⟩
        refine ⟨?_, z2⟩
        by_cases hxi : x = i
        · subst hxi; exact absurd z2 hr
        · omega
theorem wj_pre {post : Int32 → Prop} {m e : Nat} (hm : m < 2 ^ 36) (he : e < 6)
    (h : ∀ p, p < 64 → (∀ x, p.testBit x = true ↔ wj_R m x e) → post (nI p)) : wpX_predecessors post (lN m) (nI e) := by
  refine ⟨7, wj_pre_l hm he h 6 0 0 rfl (by decide) ?_⟩
  intro x
  rw [Nat.zero_testBit]
  constructor
  · intro z; cases z
  · intro z; omega
end
section
/-! Y's next(): the next greater order -/
def wj_nI (o : Nat → Nat) : Nat → Option Nat
  | 0 => none
  | i + 1 => if o (i + 1) < o i then wj_nI o i else some i
def wj_nJ (o : Nat → Nat) (i : Nat) : Nat → Nat
  | 0 => 0
  | j + 1 => if j + 1 ≤ i then j + 1 else if o i ≤ o (j + 1) then j + 1 else wj_nJ o i j
def wj_sw (o : Nat → Nat) (i j : Nat) : Nat → Nat := fun p => if p = j then o i else if p = i then o j else o p
def wj_rv : Nat → (Nat → Nat) → Nat → Nat → (Nat → Nat)
  | 0, o, _, _ => o
  | k + 1, o, lo, hi => if hi ≤ lo then o else wj_rv k (wj_sw o lo hi) (lo + 1) (hi - 1)
def wj_nx (N : Nat) (o : Nat → Nat) : Option (Nat → Nat) :=
  match wj_nI o (N - 1) with
  | none => none
  | some i => some (wj_rv 6 (wj_sw o i (wj_nJ o i (N - 1))) (i + 1) (N - 1))
def wj_o (l : List Nat) : Nat → Nat := fun p => l.getD p 0
theorem wj_oG {l : List Nat} {p : Nat} (h : p < l.length) : wj_o l p = l[p] := by
  unfold wj_o
  rw [List.getD_eq_getElem?_getD, List.getElem?_eq_getElem h]
  rfl
def wj_st2 (N : Nat) (l l' : List Nat) : Bool :=
  match wj_nx N (wj_o l) with
  | none => false
  | some o => cond (Nat.ble (wj_cd 0 l) (wj_cd 0 l')) ((List.range N).all (fun p => Nat.beq (o p) (wj_o l' p))) false
def wj_c2 (N : Nat) (l : List Nat) : List (List Nat) → Bool
  | [] => (wj_nx N (wj_o l)).isNone
  | l' :: t => cond (wj_st2 N l l') (wj_c2 N l' t) false
def wj_c3 (N : Nat) : Bool :=
  match wj_all N with
  | [] => false
  | l :: t => cond ((List.range N).all (fun p => Nat.beq (wj_o l p) p)) (wj_c2 N l t) false
set_option maxRecDepth 100000 in
theorem wj_c3_ck : (List.range 7).all (fun N => cond (wj_c3 N) (Nat.ble (wj_all N).length 720) false) = true := by decide +kernel
theorem wj_c2_suf {N : Nat} : ∀ (u : List (List Nat)) (h l : List Nat) (v t : List (List Nat)), h :: t = u ++ l :: v → wj_c2 N h t = true → wj_c2 N l v = true ∧ (∀ l0, l0 ∈ u → wj_cd 0 l0 ≤ wj_cd 0 l) ∧ wj_cd 0 h ≤ wj_cd 0 l := by
  intro u
  induction u with
  | nil =>
    intro h l v t e c
    simp only [List.nil_append, List.cons.injEq] at e
    obtain ⟨rfl, rfl⟩ := e
    exact ⟨c, (fun _ z => nomatch z), Nat.le_refl _⟩
  | cons a u ih =>
    intro h l v t e c
    simp only [List.cons_append, List.cons.injEq] at e
    obtain ⟨rfl, e⟩ := e
    cases t with
    | nil => simp at e
    | cons h' t' =>
      obtain ⟨c1, c2⟩ := wj_cond (show cond (wj_st2 N h h') (wj_c2 N h' t') false = true from c)
      obtain ⟨r1, r2, r3⟩ := ih h' l v t' e c2
      have hle : wj_cd 0 h ≤ wj_cd 0 h' := by
        unfold wj_st2 at c1
        split at c1
        · cases c1
        · exact Nat.le_of_ble_eq_true (wj_cond c1).1
      refine ⟨r1, ?_, Nat.le_trans hle r3⟩
      intro l0 hl0
      rcases List.mem_cons.mp hl0 with rfl | hl0
      · exact Nat.le_trans hle r3
      · exact r2 l0 hl0
theorem wj_tab {N : Nat} (hN : N ≤ 6) : (wj_all N).length ≤ 720 ∧ ∃ t, wj_all N = List.range N :: t ∧ ∀ (u : List (List Nat)) (l : List Nat) (v : List (List Nat)), wj_all N = u ++ l :: v →
    (∀ l0, l0 ∈ u → wj_cd 0 l0 ≤ wj_cd 0 l) ∧ (v = [] → wj_nx N (wj_o l) = none) ∧ (∀ l' v', v = l' :: v' → ∃ o, wj_nx N (wj_o l) = some o ∧ ∀ p, p < N → o p = wj_o l' p) := by
  obtain ⟨c1, c2⟩ := wj_cond (List.all_eq_true.mp wj_c3_ck N (List.mem_range.mpr (by omega)))
  refine ⟨Nat.le_of_ble_eq_true c2, ?_⟩
  unfold wj_c3 at c1
  cases hA : wj_all N with
  | nil => rw [hA] at c1; cases c1
  | cons h t =>
    rw [hA] at c1
    obtain ⟨c3, c4⟩ := wj_cond c1
    have hP : wj_P N h := wj_all_mem.mp (by rw [hA]; exact List.mem_cons_self)
    have hh : h = List.range N := by
      refine List.ext_getElem (by rw [wj_P_len hP, List.length_range]) ?_
      intro i h1 h2
      rw [List.getElem_range]
      have := Nat.eq_of_beq_eq_true (List.all_eq_true.mp c3 i (List.mem_range.mpr (by rw [List.length_range] at h2; exact h2)))
      rw [wj_oG h1] at this
      exact this
    refine ⟨t, by rw [hh], ?_⟩
    intro u l v e
    obtain ⟨r1, r2, r3⟩ := wj_c2_suf u h l v t e c4
    refine ⟨r2, ?_, ?_⟩
    · rintro rfl
      have : (wj_nx N (wj_o l)).isNone = true := r1
      simpa using this
    · rintro l' v' rfl
      obtain ⟨d1, d2⟩ := wj_cond (show cond (wj_st2 N l l') (wj_c2 N l' v') false = true from r1)
      unfold wj_st2 at d1
      split at d1
      · cases d1
      · rename_i o ho
        refine ⟨o, ho, ?_⟩
        intro p hp
        exact Nat.eq_of_beq_eq_true (List.all_eq_true.mp (wj_cond d1).2 p (List.mem_range.mpr hp))
section
variable {f_threads f_addresses f_n f_fences f_solved f_outcomes : Int32} {a_thread a_address a_constant a_reads a_writes a_acquiring a_releasing a_on a_fenceThread a_fenceKind a_fencePlace a_first a_wishRead a_wishEnd a_least a_shown a_order a_bound a_memory a_got : Nat → Int32} {a_outcome : Nat → Int64}
theorem wj_yrev {post : Int32 → SY → Prop} {N : Nat} (hN : N ≤ 6) : ∀ (k : Nat) (o : Nat → Nat) (lo hi : Nat) (a : Nat → Int32), (∀ p, p < N → a p = nI (o p)) → hi < N → lo ≤ N → hi ≤ lo + k →
    (∀ a', (∀ p, p < N → a' p = nI (wj_rv k o lo hi p)) → post 1 (f_threads, f_addresses, f_n, f_fences, f_solved, f_outcomes, a_thread, a_address, a_constant, a_reads, a_writes, a_acquiring, a_releasing, a_on, a_fenceThread, a_fenceKind, a_fencePlace, a_first, a_wishRead, a_wishEnd, a_outcome, a_least, a_shown, a', a_bound, a_memory, a_got)) → wY_next_112 post f_threads f_addresses f_n f_fences f_solved f_outcomes (k + 1) (nI lo) (nI hi) a_thread a_address a_constant a_reads a_writes a_acquiring a_releasing a_on a_fenceThread a_fenceKind a_fencePlace a_first a_wishRead a_wishEnd a_outcome a_least a_shown a a_bound a_memory a_got := by
  intro k
  induction k with
  | zero =>
    intro o lo hi a hO hhi hlo hk h
    exact pk_le hi lo (fun _ => h a hO) (fun z => by omega)
  | succ k ih =>
    intro o lo hi a hO hhi hlo hk h
    by_cases c : hi ≤ lo
    · refine br_t (nI_le c (by omega)) (h a ?_)
      intro p hp
      show a p = nI ((if hi ≤ lo then o else wj_rv k (wj_sw o lo hi) (lo + 1) (hi - 1)) p)
      rw [if_pos c]
      exact hO p hp
    · have e1 : (nI lo).toNatClampNeg = lo := nI_clamp (by omega)
      have e2 : (nI hi).toNatClampNeg = hi := nI_clamp (by omega)
      refine br_f (nI_ge (by omega) (by omega)) ⟨vp_in_nI (by omega) (by decide), nm_e ⟨vp_in_nI (by omega) (by decide), vp_in_nI (by omega) (by decide), nm_e ⟨vp_in_nI (by omega) (by decide), nm_e (nm_r (nI_1 lo) (nm_r (e' := nI (hi - 1)) (sb_m1 (by omega)) (ih (wj_sw o lo hi) (lo + 1) (hi - 1) _ ?_ (by omega) (by omega) (by omega) ?_)))⟩⟩⟩
      · intro p hp
        rw [e1, e2]
        unfold upd wj_sw
        by_cases c1 : p = hi
        · rw [if_pos c1, if_pos c1]; exact hO lo (by omega)
        · rw [if_neg c1, if_neg c1]
          by_cases c2 : p = lo
          · rw [if_pos c2, if_pos c2]; exact hO hi (by omega)
          · rw [if_neg c2, if_neg c2]; exact hO p hp
      · intro a' ha'
        refine h a' ?_
        intro p hp
        rw [ha' p hp]
        show _ = nI ((if hi ≤ lo then o else wj_rv k (wj_sw o lo hi) (lo + 1) (hi - 1)) p)
        rw [if_neg c]
theorem wj_nJ_le (o : Nat → Nat) (i : Nat) : ∀ j, wj_nJ o i j ≤ j := by
  intro j
  induction j with
  | zero => exact Nat.le_refl _
  | succ j ih =>
    unfold wj_nJ
    by_cases c : j + 1 ≤ i
    · rw [if_pos c]; exact Nat.le_refl _
    · rw [if_neg c]
      by_cases d : o i ≤ o (j + 1)
      · rw [if_pos d]; exact Nat.le_refl _
      · rw [if_neg d]; omega
theorem wj_ynj {post : Int32 → SY → Prop} {N : Nat} (hN : N ≤ 6) {o : Nat → Nat} {i : Nat} (hi : i < N) (hO : ∀ p, p < N → a_order p = nI (o p)) (ho : ∀ p, p < N → o p < 6) : ∀ (j n : Nat), j < n → j < N →
    wY_next_73 post (nI i) (nI (wj_nJ o i j)) f_threads f_addresses f_n f_fences f_solved f_outcomes a_thread a_address a_constant a_reads a_writes a_acquiring a_releasing a_on a_fenceThread a_fenceKind a_fencePlace a_first a_wishRead a_wishEnd a_outcome a_least a_shown a_order a_bound a_memory a_got → wY_next_47 post (nI i) f_threads f_addresses f_n f_fences f_solved f_outcomes a_thread a_address a_constant a_reads a_writes a_acquiring a_releasing a_on a_fenceThread a_fenceKind a_fencePlace a_first a_wishRead a_wishEnd a_outcome a_least a_shown a_order a_bound a_memory a_got n (nI j) := by
  intro j
  induction j with
  | zero =>
    intro n hn hj h
    obtain ⟨n, rfl⟩ : ∃ k, n = k + 1 := ⟨n - 1, by omega⟩
    exact br_t (nI_le (Nat.zero_le _) (by omega)) h
  | succ j ih =>
    intro n hn hj h
    obtain ⟨n, rfl⟩ : ∃ k, n = k + 1 := ⟨n - 1, by omega⟩
    unfold wj_nJ at h
    by_cases c : j + 1 ≤ i
    · rw [if_pos c] at h
      exact br_t (nI_le c (by omega)) h
    · rw [if_neg c] at h
      have e1 : a_order (nI i).toNatClampNeg = nI (o i) := by rw [nI_clamp (by omega)]; exact hO i hi
      have e2 : a_order (nI (j + 1)).toNatClampNeg = nI (o (j + 1)) := by rw [nI_clamp (by omega)]; exact hO _ hj
      have b1 := ho i hi
      have b2 := ho (j + 1) hj
      refine br_f (nI_ge (by omega) (by omega)) ⟨vp_in_nI (by omega) (by decide), vp_in_nI (by omega) (by decide), pk_le (o i) (o (j + 1)) (fun z => ?_) (fun z => ?_) e1 e2⟩
      · rw [if_pos z] at h; exact h
      · rw [if_neg (by omega)] at h
        exact nm_r (pk_m1 j) (ih n (by omega) (by omega) h)
theorem wj_nI_lt (o : Nat → Nat) : ∀ i i', wj_nI o i = some i' → i' < i := by
  intro i
  induction i with
  | zero => intro i' h; cases h
  | succ i ih =>
    intro i' h
    unfold wj_nI at h
    by_cases c : o (i + 1) < o i
    · rw [if_pos c] at h
      have := ih i' h
      omega
    · rw [if_neg c] at h
      cases h; omega
theorem wj_yni {post : Int32 → SY → Prop} {N : Nat} (hN : N ≤ 6) {o : Nat → Nat} (hO : ∀ p, p < N → a_order p = nI (o p)) (ho : ∀ p, p < N → o p < 6) : ∀ (i n : Nat), i + 1 < n → i + 1 < N →
    (wj_nI o (i + 1) = none → post 0 (f_threads, f_addresses, f_n, f_fences, f_solved, f_outcomes, a_thread, a_address, a_constant, a_reads, a_writes, a_acquiring, a_releasing, a_on, a_fenceThread, a_fenceKind, a_fencePlace, a_first, a_wishRead, a_wishEnd, a_outcome, a_least, a_shown, a_order, a_bound, a_memory, a_got)) → (∀ i', wj_nI o (i + 1) = some i' → wY_next_34 post (nI i') f_threads f_addresses f_n f_fences f_solved f_outcomes a_thread a_address a_constant a_reads a_writes a_acquiring a_releasing a_on a_fenceThread a_fenceKind a_fencePlace a_first a_wishRead a_wishEnd a_outcome a_least a_shown a_order a_bound a_memory a_got) → wY_next_7 post f_threads f_addresses f_n f_fences f_solved f_outcomes a_thread a_address a_constant a_reads a_writes a_acquiring a_releasing a_on a_fenceThread a_fenceKind a_fencePlace a_first a_wishRead a_wishEnd a_outcome a_least a_shown a_order a_bound a_memory a_got n (nI i) := by
  intro i
  induction i with
  | zero =>
    intro n hn hj h0 h1
    obtain ⟨n, rfl⟩ : ∃ k, n = k + 2 := ⟨n - 2, by omega⟩
    have e1 : a_order (nI 0).toNatClampNeg = nI (o 0) := by rw [nI_clamp (by decide)]; exact hO 0 (by omega)
    have e2 : a_order (nI 0 + 1).toNatClampNeg = nI (o 1) := by rw [nI_1, nI_clamp (by decide)]; exact hO 1 hj
    have b1 := ho 0 (by omega)
    have b2 := ho 1 (by omega)
    refine br_f (nI_pos (by decide)) ⟨vp_in_nI (by decide) (by decide), (by rw [nI_1]; exact vp_in_nI (by decide) (by decide)), pk_le (o 0) (o 1) (fun z => h1 0 ?_) (fun z => ?_) e1 e2⟩
    · show (if o 1 < o 0 then wj_nI o 0 else some 0) = some 0
      rw [if_neg (by omega)]
    · have hz : wj_nI o (0 + 1) = none := by
        show (if o 1 < o 0 then wj_nI o 0 else some 0) = none
        rw [if_pos z]; rfl
      refine nm_r (e' := -1) (by decide) ?_
      exact br_t (by decide) (br_f (by decide) (h0 hz))
  | succ i ih =>
    intro n hn hj h0 h1
    obtain ⟨n, rfl⟩ : ∃ k, n = k + 1 := ⟨n - 1, by omega⟩
    have e1 : a_order (nI (i + 1)).toNatClampNeg = nI (o (i + 1)) := by rw [nI_clamp (by omega)]; exact hO _ (by omega)
    have e2 : a_order (nI (i + 1) + 1).toNatClampNeg = nI (o (i + 1 + 1)) := by rw [nI_1, nI_clamp (by omega)]; exact hO _ hj
    have b1 := ho (i + 1) (by omega)
    have b2 := ho (i + 1 + 1) (by omega)
    refine br_f (nI_pos (by omega)) ⟨vp_in_nI (by omega) (by decide), (by rw [nI_1]; exact vp_in_nI (by omega) (by decide)), pk_le (o (i + 1)) (o (i + 1 + 1)) (fun z => h1 (i + 1) ?_) (fun z => ?_) e1 e2⟩
    · show (if o (i + 1 + 1) < o (i + 1) then wj_nI o (i + 1) else some (i + 1)) = some (i + 1)
      rw [if_neg (by omega)]
    · have hz : wj_nI o (i + 1 + 1) = wj_nI o (i + 1) := by
        show (if o (i + 1 + 1) < o (i + 1) then wj_nI o (i + 1) else some (i + 1)) = _
        rw [if_pos z]
      rw [hz] at h0 h1
      exact nm_r (pk_m1 i) (ih n (by omega) (by omega) h0 h1)
theorem wj_ynext {post : Int32 → SY → Prop} {N : Nat} (hN : N ≤ 6) {o : Nat → Nat} (hO : ∀ p, p < N → a_order p = nI (o p)) (ho : ∀ p, p < N → o p < 6)
    (h0 : wj_nx N o = none → post 0 (f_threads, f_addresses, nI N, f_fences, f_solved, f_outcomes, a_thread, a_address, a_constant, a_reads, a_writes, a_acquiring, a_releasing, a_on, a_fenceThread, a_fenceKind, a_fencePlace, a_first, a_wishRead, a_wishEnd, a_outcome, a_least, a_shown, a_order, a_bound, a_memory, a_got)) (h1 : ∀ o' a', wj_nx N o = some o' → (∀ p, p < N → a' p = nI (o' p)) → post 1 (f_threads, f_addresses, nI N, f_fences, f_solved, f_outcomes, a_thread, a_address, a_constant, a_reads, a_writes, a_acquiring, a_releasing, a_on, a_fenceThread, a_fenceKind, a_fencePlace, a_first, a_wishRead, a_wishEnd, a_outcome, a_least, a_shown, a', a_bound, a_memory, a_got)) : wpY_next post (f_threads, f_addresses, nI N, f_fences, f_solved, f_outcomes, a_thread, a_address, a_constant, a_reads, a_writes, a_acquiring, a_releasing, a_on, a_fenceThread, a_fenceKind, a_fencePlace, a_first, a_wishRead, a_wishEnd, a_outcome, a_least, a_shown, a_order, a_bound, a_memory, a_got) := by
  unfold wpY_next
  rcases (by omega : N = 0 ∨ N = 1 ∨ 2 ≤ N) with rfl | rfl | h2
  · refine nm_r (e' := -2) (by decide) ⟨1, ?_⟩
    exact br_t (by decide) (br_f (by decide) (h0 rfl))
  · refine nm_r (e' := -1) (by decide) ⟨1, ?_⟩
    exact br_t (by decide) (br_f (by decide) (h0 rfl))
  · obtain ⟨M, rfl⟩ : ∃ k, N = k + 2 := ⟨N - 2, by omega⟩
    refine nm_r (e' := nI M) (pk_sub (b := 2) (by omega)) ⟨M + 2, ?_⟩
    refine wj_yni hN hO ho M (M + 2) (by omega) (by omega) ?_ ?_
    · intro hz
      refine h0 ?_
      unfold wj_nx
      rw [show M + 2 - 1 = M + 1 from rfl, hz]
    · intro i' hi'
      have hlt := wj_nI_lt o _ _ hi'
      have hnx : wj_nx (M + 2) o = some (wj_rv 6 (wj_sw o i' (wj_nJ o i' (M + 1))) (i' + 1) (M + 1)) := by
        unfold wj_nx
        rw [show M + 2 - 1 = M + 1 from rfl, hi']
      have hjl := wj_nJ_le o i' (M + 1)
      refine br_t (nI_pos' (by omega)) (nm_r (e' := nI (M + 1)) (pk_sub (b := 1) (by omega)) ⟨M + 2, ?_⟩)
      refine wj_ynj hN (by omega) hO ho (M + 1) (M + 2) (by omega) (by omega) ?_
      have e1 : (nI i').toNatClampNeg = i' := nI_clamp (by omega)
      have e2 : (nI (wj_nJ o i' (M + 1))).toNatClampNeg = wj_nJ o i' (M + 1) := nI_clamp (by omega)
      refine ⟨vp_in_nI (by omega) (by decide), nm_e ⟨vp_in_nI (by omega) (by decide), vp_in_nI (by omega) (by decide), nm_e ⟨vp_in_nI (by omega) (by decide), nm_e (nm_r (nI_1 i') (nm_r (e' := nI (M + 1)) (pk_sub (b := 1) (by omega)) ⟨7, ?_⟩))⟩⟩⟩
      refine wj_yrev hN 6 (wj_sw o i' (wj_nJ o i' (M + 1))) (i' + 1) (M + 1) _ ?_ (by omega) (by omega) (by omega) (fun a' ha' => h1 _ a' hnx ha')
      intro p hp
      rw [e1, e2]
      unfold upd wj_sw
      by_cases c1 : p = wj_nJ o i' (M + 1)
      · rw [if_pos c1, if_pos c1]; exact hO i' (by omega)
      · rw [if_neg c1, if_neg c1]
        by_cases c2 : p = i'
        · rw [if_pos c2, if_pos c2]; exact hO _ (by omega)
        · rw [if_neg c2, if_neg c2]; exact hO p hp
end
end
section
/-! what holds of a program -/
def wj_pg (N : Nat) (th ad on : Nat → Int32) : Prop :=
  N ≤ 6 ∧ (∀ e, e < N → ∃ k, k < 4 ∧ th e = nI k) ∧ (∀ e, e < N → ∃ k, k < 3 ∧ ad e = nI k) ∧
  ∀ i, i < 24 → on i = -1 ∨ ∃ s, on i = nI s ∧ s < i / 4 ∧ i / 4 < N ∧ th s = th (i / 4)
theorem wj_pg_x {N : Nat} {th ad on : Nat → Int32} (h : wj_pg N th ad on) {e : Nat} (he : e < N) : wj_x ad e < 3 ∧ ad e = nI (wj_x ad e) := by
  obtain ⟨k, hk, e1⟩ := h.2.2.1 e he
  unfold wj_x
  rw [e1, nI_clamp (by omega)]
  exact ⟨hk, rfl⟩
theorem wj_pg_on {N : Nat} {th ad on : Nat → Int32} (h : wj_pg N th ad on) {e k : Nat} (he : e < N) (hk : k < 4) : on (4 * e + k) = -1 ∨ ∃ s, on (4 * e + k) = nI s ∧ s < e ∧ th s = th e := by
  have h6 := h.1
  rcases h.2.2.2 (4 * e + k) (by omega) with h1 | ⟨s, h1, h2, h3, h4⟩
  · exact Or.inl h1
  · have e1 : (4 * e + k) / 4 = e := by omega
    rw [e1] at h2 h4
    exact Or.inr ⟨s, h1, h2, h4⟩
/-! two states that agree where the program looks -/
def wj_ag (s s' : (Nat → Int32) × (Nat → Int32)) : Prop := (∀ x, x < 3 → s.1 x = s'.1 x) ∧ ∀ e, e < 6 → s.2 e = s'.2 e
theorem wj_ky_cong {f g : Nat → Int32} : ∀ k acc, (∀ i, i < k → f i = g i) → wj_ky f acc k = wj_ky g acc k := by
  intro k
  induction k with
  | zero => intro acc _; rfl
  | succ k ih =>
    intro acc h
    show wj_ky f acc k * 16 + (f k).toNatClampNeg = wj_ky g acc k * 16 + (g k).toNatClampNeg
    rw [ih acc (fun i hi => h i (by omega)), h k (by omega)]
theorem wj_ag_key {s s' : (Nat → Int32) × (Nat → Int32)} (h : wj_ag s s') : wj_key s = wj_key s' := by
  unfold wj_key
  rw [wj_ky_cong 6 0 (fun i hi => h.2 i hi), wj_ky_cong 3 _ (fun i hi => h.1 i hi)]
theorem wj_ag_st {N : Nat} {th ad cn rd wr on : Nat → Int32} (hp : wj_pg N th ad on) {s s' : (Nat → Int32) × (Nat → Int32)} (h : wj_ag s s') {e : Nat} (he : e < N) : wj_ag (wj_st ad cn rd wr on s e) (wj_st ad cn rd wr on s' e) := by
  have hx := (wj_pg_x hp he).1
  have h6 := hp.1
  have e1 : s.1 (wj_x ad e) = s'.1 (wj_x ad e) := h.1 _ hx
  have e2 : wj_ex on s.2 e = wj_ex on s'.2 e := by
    unfold wj_ex
    rcases wj_pg_on hp he (k := 1) (by decide) with h1 | ⟨q, h1, h2, h3⟩
    · rw [h1, if_pos (by decide), if_pos (by decide)]
    · rw [h1, if_neg (nI_pos (by omega)), if_neg (nI_pos (by omega)), nI_clamp (by omega)]
      exact h.2 q (by omega)
  have e3 : wj_wv ad cn rd on s e = wj_wv ad cn rd on s' e := by
    unfold wj_wv
    rw [e1, e2]
  refine ⟨?_, ?_⟩
  · intro x hx'
    show (if wr e = 0 then s.1 else upd s.1 (wj_x ad e) (wj_wv ad cn rd on s e)) x = (if wr e = 0 then s'.1 else upd s'.1 (wj_x ad e) (wj_wv ad cn rd on s' e)) x
    by_cases c : wr e = 0
    · rw [if_pos c, if_pos c]; exact h.1 x hx'
    · rw [if_neg c, if_neg c, e3]
      unfold upd
      by_cases d : x = wj_x ad e
      · rw [if_pos d, if_pos d]
      · rw [if_neg d, if_neg d]; exact h.1 x hx'
  · intro x hx'
    show (if rd e = 0 then s.2 else upd s.2 e (s.1 (wj_x ad e))) x = (if rd e = 0 then s'.2 else upd s'.2 e (s'.1 (wj_x ad e))) x
    by_cases c : rd e = 0
    · rw [if_pos c, if_pos c]; exact h.2 x hx'
    · rw [if_neg c, if_neg c, e1]
      unfold upd
      by_cases d : x = e
      · rw [if_pos d, if_pos d]
      · rw [if_neg d, if_neg d]; exact h.2 x hx'
theorem wj_ag_run {N : Nat} {th ad cn rd wr on : Nat → Int32} (hp : wj_pg N th ad on) : ∀ (l : List Nat) (s s' : (Nat → Int32) × (Nat → Int32)), wj_ag s s' → (∀ e, e ∈ l → e < N) → wj_ag (l.foldl (wj_st ad cn rd wr on) s) (l.foldl (wj_st ad cn rd wr on) s') := by
  intro l
  induction l with
  | nil => intro s s' h _; exact h
  | cons a t ih =>
    intro s s' h hl
    exact ih _ _ (wj_ag_st hp h (hl a List.mem_cons_self)) (fun e he => hl e (List.mem_cons_of_mem _ he))
/-- the outcome of a run -/
def wj_out (ad cn rd wr on fi : Nat → Int32) (l : List Nat) : Nat := wj_key (l.foldl (wj_st ad cn rd wr on) (fi, fun _ => 0))
theorem wj_4 (a : Nat) {k : Nat} : (4 * nI a) + nI k = nI (4 * a + k) := by
  show nI 4 * nI a + nI k = _
  rw [pk_mul, nI_add]
theorem wj_41 (a : Nat) : (4 * nI a) + 1 = nI (4 * a + 1) := wj_4 a
theorem wj_42 (a : Nat) : (4 * nI a) + 2 = nI (4 * a + 2) := wj_4 a
theorem wj_43 (a : Nat) : (4 * nI a) + 3 = nI (4 * a + 3) := wj_4 a
theorem wj_dig {v : Int32} (h : wj_dg v) : v.toInt64 = lN v.toNatClampNeg := by
  obtain ⟨k, hk, rfl⟩ := h
  rw [nI_l (by omega), nI_clamp (by omega)]
section
variable {f_threads f_addresses f_n f_fences f_solved f_outcomes : Int32} {a_thread a_address a_constant a_reads a_writes a_acquiring a_releasing a_on a_fenceThread a_fenceKind a_fencePlace a_first a_wishRead a_wishEnd a_least a_shown a_order a_bound a_memory a_got : Nat → Int32} {a_outcome : Nat → Int64}
variable {N : Nat}
theorem wj_yeff {post : SY → Prop} (hp : wj_pg N a_thread a_address a_on) {e : Nat} (he : e < N)
    (h : post (f_threads, f_addresses, f_n, f_fences, f_solved, f_outcomes, a_thread, a_address, a_constant, a_reads, a_writes, a_acquiring, a_releasing, a_on, a_fenceThread, a_fenceKind, a_fencePlace, a_first, a_wishRead, a_wishEnd, a_outcome, a_least, a_shown, a_order, a_bound, (wj_st a_address a_constant a_reads a_writes a_on (a_memory, a_got) e).1, (wj_st a_address a_constant a_reads a_writes a_on (a_memory, a_got) e).2)) : wpY_effect post (f_threads, f_addresses, f_n, f_fences, f_solved, f_outcomes, a_thread, a_address, a_constant, a_reads, a_writes, a_acquiring, a_releasing, a_on, a_fenceThread, a_fenceKind, a_fencePlace, a_first, a_wishRead, a_wishEnd, a_outcome, a_least, a_shown, a_order, a_bound, a_memory, a_got) (nI e) := by
  have h6 := hp.1
  obtain ⟨hx, ex⟩ := wj_pg_x hp he
  have ec : (nI e).toNatClampNeg = e := nI_clamp (by omega)
  have hi : vp_in (nI e) 6 := vp_in_nI (by omega) (by decide)
  have hv : vp_in (a_address e) 3 := by rw [ex]; exact vp_in_nI hx (by decide)
  have rdp : ∀ m : Nat → Int32, post (f_threads, f_addresses, f_n, f_fences, f_solved, f_outcomes, a_thread, a_address, a_constant, a_reads, a_writes, a_acquiring, a_releasing, a_on, a_fenceThread, a_fenceKind, a_fencePlace, a_first, a_wishRead, a_wishEnd, a_outcome, a_least, a_shown, a_order, a_bound, m, (if a_reads e = 0 then a_got else upd a_got e (a_memory (wj_x a_address e)))) → wY_effect_86 post (nI e) (a_memory (wj_x a_address e)) f_threads f_addresses f_n f_fences f_solved f_outcomes a_thread a_address a_constant a_reads a_writes a_acquiring a_releasing a_on a_fenceThread a_fenceKind a_fencePlace a_first a_wishRead a_wishEnd a_outcome a_least a_shown a_order a_bound m a_got := by
    intro m hm
    unfold wY_effect_86
    rw [ec]
    refine ⟨hi, br_c (fun c => ?_) (fun c => ⟨hi, nm_e ?_⟩)⟩
    · rw [if_pos c] at hm; exact hm
    · rw [if_neg c] at hm; exact hm
  unfold wpY_effect
  refine ⟨hi, nm_r (e' := a_address e) (by rw [ec]) ⟨hv, nm_r (e' := a_memory (wj_x a_address e)) rfl ⟨hi, br_c (fun c => ?_) (fun c => ?_)⟩⟩⟩
  · rw [ec] at c
    refine rdp _ ?_
    have e1 : (wj_st a_address a_constant a_reads a_writes a_on (a_memory, a_got) e).1 = a_memory := if_pos c
    rw [e1] at h
    exact h
  · rw [ec] at c
    have e1 : (wj_st a_address a_constant a_reads a_writes a_on (a_memory, a_got) e).1 = upd a_memory (wj_x a_address e) (wj_wv a_address a_constant a_reads a_on (a_memory, a_got) e) := if_neg c
    rw [e1] at h
    have e41 : (4 * nI e) + 1 = nI (4 * e + 1) := wj_41 e
    have fin : ∀ z x5 : Int32, z = (if a_reads e = 0 then 0 else a_memory (wj_x a_address e)) → x5 = wj_ex a_on a_got e → wY_effect_72 post (nI e) (a_memory (wj_x a_address e)) x5 z (a_address e) f_threads f_addresses f_n f_fences f_solved f_outcomes a_thread a_address a_constant a_reads a_writes a_acquiring a_releasing a_on a_fenceThread a_fenceKind a_fencePlace a_first a_wishRead a_wishEnd a_outcome a_least a_shown a_order a_bound a_memory a_got := by
      intro z x5 hz h5
      refine ⟨hi, hv, nm_r (e' := upd a_memory (wj_x a_address e) (wj_wv a_address a_constant a_reads a_on (a_memory, a_got) e)) ?_ (rdp _ h)⟩
      rw [ec, hz, h5]
      rfl
    have fin2 : ∀ x5 : Int32, x5 = wj_ex a_on a_got e → wY_effect_51 post (nI e) (a_address e) (a_memory (wj_x a_address e)) x5 f_threads f_addresses f_n f_fences f_solved f_outcomes a_thread a_address a_constant a_reads a_writes a_acquiring a_releasing a_on a_fenceThread a_fenceKind a_fencePlace a_first a_wishRead a_wishEnd a_outcome a_least a_shown a_order a_bound a_memory a_got := by
      intro x5 h5
      refine ⟨hi, br_c (fun d => ?_) (fun d => ?_)⟩
      · rw [ec] at d
        exact fin 0 x5 (by rw [if_pos d]) h5
      · rw [ec] at d
        exact fin _ x5 (by rw [if_neg d]) h5
    rw [e41]
    refine ⟨vp_in_nI (by omega) (by decide), nm_r (e' := a_on (4 * e + 1)) (by rw [nI_clamp (by omega)]) ?_⟩
    rcases wj_pg_on hp he (k := 1) (by decide) with h1 | ⟨s, h1, h2, h3⟩
    · refine br_t (by rw [h1]; decide) (fin2 0 ?_)
      unfold wj_ex
      rw [h1, if_pos (by decide)]
    · refine br_f (by rw [h1]; exact nI_pos (by omega)) ⟨by rw [h1]; exact vp_in_nI (by omega) (by decide), fin2 _ ?_⟩
      unfold wj_ex
      rw [h1, if_neg (nI_pos (by omega))]
theorem wj_y104 {post : Int64 → SY → Prop} (hd : ∀ x, x < 3 → wj_dg (a_memory x)) {A : Nat} : ∀ d i : Nat, i + d = 3 → post (lN (wj_ky a_memory A 3)) (f_threads, f_addresses, f_n, f_fences, f_solved, f_outcomes, a_thread, a_address, a_constant, a_reads, a_writes, a_acquiring, a_releasing, a_on, a_fenceThread, a_fenceKind, a_fencePlace, a_first, a_wishRead, a_wishEnd, a_outcome, a_least, a_shown, a_order, a_bound, a_memory, a_got) → wY_result_104 post f_threads f_addresses f_n f_fences f_solved f_outcomes a_thread a_address a_constant a_reads a_writes a_acquiring a_releasing a_on a_fenceThread a_fenceKind a_fencePlace a_first a_wishRead a_wishEnd a_outcome a_least a_shown a_order a_bound a_memory a_got (d + 1) (lN (wj_ky a_memory A i)) (nI i) := by
  intro d
  induction d with
  | zero =>
    intro i hi h
    have : i = 3 := by omega
    subst this
    exact br_t (nI_le (a := 3) (b := 3) (by decide) (by decide)) h
  | succ d ih =>
    intro i hi h
    refine br_f (nI_ge (a := i) (b := 3) (by omega) (by decide)) ⟨vp_in_nI (by omega) (by decide), nm_r (e' := lN (wj_ky a_memory A (i + 1))) ?_ (nm_r (nI_1 i) (ih (i + 1) (by omega) h))⟩
    rw [nI_clamp (by omega), wj_dig (hd i (by omega))]
    show lN _ * lN 16 + _ = lN (wj_ky a_memory A i * 16 + (a_memory i).toNatClampNeg)
    rw [lN_mul, lN_add]
theorem wj_y76 {post : Int64 → SY → Prop} (hd : ∀ x, x < 3 → wj_dg (a_memory x)) (hg : ∀ x, x < 6 → wj_dg (a_got x)) : ∀ d i : Nat, i + d = 6 → post (lN (wj_key (a_memory, a_got))) (f_threads, f_addresses, f_n, f_fences, f_solved, f_outcomes, a_thread, a_address, a_constant, a_reads, a_writes, a_acquiring, a_releasing, a_on, a_fenceThread, a_fenceKind, a_fencePlace, a_first, a_wishRead, a_wishEnd, a_outcome, a_least, a_shown, a_order, a_bound, a_memory, a_got) → wY_result_76 post f_threads f_addresses f_n f_fences f_solved f_outcomes a_thread a_address a_constant a_reads a_writes a_acquiring a_releasing a_on a_fenceThread a_fenceKind a_fencePlace a_first a_wishRead a_wishEnd a_outcome a_least a_shown a_order a_bound a_memory a_got (d + 1) (lN (wj_ky a_got 0 i)) (nI i) := by
  intro d
  induction d with
  | zero =>
    intro i hi h
    have : i = 6 := by omega
    subst this
    exact br_t (nI_le (a := 6) (b := 6) (by decide) (by decide)) ⟨4, wj_y104 hd 3 0 rfl h⟩
  | succ d ih =>
    intro i hi h
    refine br_f (nI_ge (a := i) (b := 6) (by omega) (by decide)) ⟨vp_in_nI (by omega) (by decide), nm_r (e' := lN (wj_ky a_got 0 (i + 1))) ?_ (nm_r (nI_1 i) (ih (i + 1) (by omega) h))⟩
    rw [nI_clamp (by omega), wj_dig (hg i (by omega))]
    show lN _ * lN 16 + _ = lN (wj_ky a_got 0 i * 16 + (a_got i).toNatClampNeg)
    rw [lN_mul, lN_add]
theorem wj_y48 {post : Int64 → SY → Prop} (hp : wj_pg N a_thread a_address a_on) {l : List Nat} (hl : wj_P N l) (hO : ∀ p, p < N → a_order p = nI (wj_o l p)) :
    ∀ (d p : Nat) (m g : Nat → Int32), p + d = N → (∀ s, s = (l.drop p).foldl (wj_st a_address a_constant a_reads a_writes a_on) (m, g) → ∃ n76, wY_result_76 post f_threads f_addresses (nI N) f_fences f_solved f_outcomes a_thread a_address a_constant a_reads a_writes a_acquiring a_releasing a_on a_fenceThread a_fenceKind a_fencePlace a_first a_wishRead a_wishEnd a_outcome a_least a_shown a_order a_bound s.1 s.2 n76 0 0) →
    wY_result_48 post (d + 1) (nI p) f_threads f_addresses (nI N) f_fences f_solved f_outcomes a_thread a_address a_constant a_reads a_writes a_acquiring a_releasing a_on a_fenceThread a_fenceKind a_fencePlace a_first a_wishRead a_wishEnd a_outcome a_least a_shown a_order a_bound m g := by
  have h6 := hp.1
  have hlen := wj_P_len hl
  intro d
  induction d with
  | zero =>
    intro p m g hpd h
    have : p = N := by omega
    subst this
    have h' := h (m, g) (by rw [List.drop_of_length_le (by omega)]; rfl)
    exact br_t (nI_le (Nat.le_refl _) (by omega)) h'
  | succ d ih =>
    intro p m g hpd h
    have hpl : p < l.length := by omega
    have e1 : a_order (nI p).toNatClampNeg = nI (l[p]) := by rw [nI_clamp (by omega), hO p (by omega), wj_oG hpl]
    have hm : l[p] < N := (wj_P_mem hl).mp (List.getElem_mem hpl)
    refine br_f (nI_ge (by omega) (by omega)) ⟨vp_in_nI (by omega) (by decide), ?_⟩
    rw [e1]
    refine wj_yeff hp hm ?_
    refine nm_r (nI_1 p) (ih (p + 1) _ _ (by omega) ?_)
    intro s hs
    refine h s ?_
    rw [List.drop_eq_getElem_cons hpl]
    exact hs
theorem wj_y27 {post : Int64 → SY → Prop} : ∀ (d i : Nat) (g : Nat → Int32), i + d = 6 → (∀ e, e < i → g e = 0) → (∀ g', (∀ e, e < 6 → g' e = 0) → ∃ n48, wY_result_48 post n48 0 f_threads f_addresses f_n f_fences f_solved f_outcomes a_thread a_address a_constant a_reads a_writes a_acquiring a_releasing a_on a_fenceThread a_fenceKind a_fencePlace a_first a_wishRead a_wishEnd a_outcome a_least a_shown a_order a_bound a_memory g') →
    wY_result_27 post f_threads f_addresses f_n f_fences f_solved f_outcomes (d + 1) (nI i) a_thread a_address a_constant a_reads a_writes a_acquiring a_releasing a_on a_fenceThread a_fenceKind a_fencePlace a_first a_wishRead a_wishEnd a_outcome a_least a_shown a_order a_bound a_memory g := by
  intro d
  induction d with
  | zero =>
    intro i g hi hg h
    have : i = 6 := by omega
    subst this
    exact br_t (nI_le (a := 6) (b := 6) (by decide) (by decide)) (h g hg)
  | succ d ih =>
    intro i g hi hg h
    refine br_f (nI_ge (a := i) (b := 6) (by omega) (by decide)) ⟨vp_in_nI (by omega) (by decide), nm_e (nm_r (nI_1 i) (ih (i + 1) _ (by omega) ?_ h))⟩
    intro e he
    rw [nI_clamp (by omega)]
    unfold upd
    by_cases c : e = i
    · rw [if_pos c]
    · rw [if_neg c]; exact hg e (by omega)
theorem wj_y2 {post : Int64 → SY → Prop} : ∀ (d i : Nat) (m : Nat → Int32), i + d = 3 → (∀ e, e < i → m e = a_first e) → (∀ m', (∀ e, e < 3 → m' e = a_first e) → ∃ n27, wY_result_27 post f_threads f_addresses f_n f_fences f_solved f_outcomes n27 0 a_thread a_address a_constant a_reads a_writes a_acquiring a_releasing a_on a_fenceThread a_fenceKind a_fencePlace a_first a_wishRead a_wishEnd a_outcome a_least a_shown a_order a_bound m' a_got) →
    wY_result_2 post f_threads f_addresses f_n f_fences f_solved f_outcomes (d + 1) (nI i) a_thread a_address a_constant a_reads a_writes a_acquiring a_releasing a_on a_fenceThread a_fenceKind a_fencePlace a_first a_wishRead a_wishEnd a_outcome a_least a_shown a_order a_bound m a_got := by
  intro d
  induction d with
  | zero =>
    intro i g hi hg h
    have : i = 3 := by omega
    subst this
    exact br_t (nI_le (a := 3) (b := 3) (by decide) (by decide)) (h g hg)
  | succ d ih =>
    intro i g hi hg h
    refine br_f (nI_ge (a := i) (b := 3) (by omega) (by decide)) ⟨vp_in_nI (by omega) (by decide), vp_in_nI (by omega) (by decide), nm_e (nm_r (nI_1 i) (ih (i + 1) _ (by omega) ?_ h))⟩
    intro e he
    rw [nI_clamp (by omega)]
    unfold upd
    by_cases c : e = i
    · rw [if_pos c, c]
    · rw [if_neg c]; exact hg e (by omega)
theorem wj_yres {post : Int64 → SY → Prop} (hp : wj_pg N a_thread a_address a_on) (hf : ∀ x, x < 3 → wj_dg (a_first x)) {l : List Nat} (hl : wj_P N l) (hO : ∀ p, p < N → a_order p = nI (wj_o l p))
    (h : ∀ m g, post (lN (wj_out a_address a_constant a_reads a_writes a_on a_first l)) (f_threads, f_addresses, nI N, f_fences, f_solved, f_outcomes, a_thread, a_address, a_constant, a_reads, a_writes, a_acquiring, a_releasing, a_on, a_fenceThread, a_fenceKind, a_fencePlace, a_first, a_wishRead, a_wishEnd, a_outcome, a_least, a_shown, a_order, a_bound, m, g)) : wpY_result post (f_threads, f_addresses, nI N, f_fences, f_solved, f_outcomes, a_thread, a_address, a_constant, a_reads, a_writes, a_acquiring, a_releasing, a_on, a_fenceThread, a_fenceKind, a_fencePlace, a_first, a_wishRead, a_wishEnd, a_outcome, a_least, a_shown, a_order, a_bound, a_memory, a_got) := by
  unfold wpY_result
  refine ⟨4, wj_y2 3 0 a_memory rfl (fun e he => absurd he (Nat.not_lt_zero _)) ?_⟩
  intro m hm
  refine ⟨7, wj_y27 6 0 a_got rfl (fun e he => absurd he (Nat.not_lt_zero _)) ?_⟩
  intro g hg
  refine ⟨N + 1, wj_y48 hp hl hO N 0 m g (by omega) ?_⟩
  rintro s rfl
  rw [List.drop_zero]
  have hag : wj_ag (m, g) (a_first, fun _ => 0) := ⟨fun x hx => hm x hx, fun e he => hg e he⟩
  have hmem : ∀ e, e ∈ l → e < N := fun e he => (wj_P_mem hl).mp he
  have hag' := wj_ag_run (cn := a_constant) (rd := a_reads) (wr := a_writes) hp l _ _ hag hmem
  have hok : wj_ok (l.foldl (wj_st a_address a_constant a_reads a_writes a_on) (a_first, fun _ => 0)) := wj_run_ok l _ ⟨fun x hx => hf x hx, fun e => wj_dg_0⟩ (fun e he => (wj_pg_x hp (hmem e he)).1)
  refine ⟨7, wj_y76 (fun x hx => by rw [hag'.1 x hx]; exact hok.1 x hx) (fun x hx => by rw [hag'.2 x hx]; exact hok.2 x) 6 0 rfl ?_⟩
  have := h (l.foldl (wj_st a_address a_constant a_reads a_writes a_on) (m, g)).1 (l.foldl (wj_st a_address a_constant a_reads a_writes a_on) (m, g)).2
  unfold wj_out at this
  rw [← wj_ag_key hag'] at this
  exact this
end
end
section
/-! Y: isRun, comesBefore, spelled, find, keep -/
theorem wj_ix_o {N : Nat} {l : List Nat} (h : wj_P N l) {p : Nat} (hp : p < N) : l.idxOf (wj_o l p) = p := by
  have hl : p < l.length := by rw [wj_P_len h]; exact hp
  rw [wj_oG hl]
  exact (wj_P_nd h).idxOf_getElem p hl
theorem wj_o_lt {N : Nat} {l : List Nat} (h : wj_P N l) {p : Nat} (hp : p < N) : wj_o l p < N := by
  have hl : p < l.length := by rw [wj_P_len h]; exact hp
  rw [wj_oG hl]
  exact (wj_P_mem h).mp (List.getElem_mem hl)
theorem wj_o_ix {N : Nat} {l : List Nat} (h : wj_P N l) {a : Nat} (ha : a < N) : l.idxOf a < N ∧ wj_o l (l.idxOf a) = a := by
  have hm := (wj_P_mem h).mpr ha
  have hl := List.idxOf_lt_length_of_mem hm
  refine ⟨by rw [← wj_P_len h]; exact hl, ?_⟩
  rw [wj_oG hl]
  exact List.getElem_idxOf hl
theorem wj_E_run {N : Nat} {M : Nat → Nat → Prop} {l : List Nat} (h : wj_P N l) (hM : ∀ a b, M a b → a < N ∧ b < N ∧ a ≠ b) : wj_E N M l ↔ ∀ p q, p < q → q < N → ¬ M (wj_o l q) (wj_o l p) := by
  constructor
  · intro E p q hpq hq hm
    have := E.2 _ _ hm
    unfold wj_bf at this
    rw [wj_ix_o h hq, wj_ix_o h (by omega)] at this
    omega
  · intro hn
    refine ⟨h, ?_⟩
    intro a b hab
    obtain ⟨ha, hb, ne⟩ := hM a b hab
    rcases wj_bf_tri h ha hb ne with hb' | hb'
    · exact hb'
    · exfalso
      have h1 := wj_o_ix h ha
      have h2 := wj_o_ix h hb
      refine hn _ _ hb' h1.1 ?_
      rw [h1.2, h2.2]
      exact hab
section
variable {f_threads f_addresses f_n f_fences f_solved f_outcomes : Int32} {a_thread a_address a_constant a_reads a_writes a_acquiring a_releasing a_on a_fenceThread a_fenceKind a_fencePlace a_first a_wishRead a_wishEnd a_least a_shown a_order a_bound a_memory a_got : Nat → Int32} {a_outcome : Nat → Int64}
variable {N : Nat} {l : List Nat} {M : Nat → Nat → Prop}
theorem wj_yrun1 {post : Int32 → Prop} {J : Int32 → Prop} (hN : N ≤ 6) (hl : wj_P N l) (hO : ∀ p, p < N → a_order p = nI (wj_o l p)) (hB : ∀ a b, a < N → b < N → (a_bound (6 * a + b) = 0 ↔ ¬ M a b)) {q : Nat} (hq : q < N) :
    ∀ d p : Nat, p + d = q → ((∃ p', p ≤ p' ∧ p' < q ∧ M (wj_o l q) (wj_o l p')) → post 0) → ((∀ p', p ≤ p' → p' < q → ¬ M (wj_o l q) (wj_o l p')) → J (nI (q + 1))) → wY_isRun_12 post J (nI q) f_threads f_addresses f_n f_fences f_solved f_outcomes a_thread a_address a_constant a_reads a_writes a_acquiring a_releasing a_on a_fenceThread a_fenceKind a_fencePlace a_first a_wishRead a_wishEnd a_outcome a_least a_shown a_order a_bound a_memory a_got (d + 1) (nI p) := by
  intro d
  induction d with
  | zero =>
    intro p hp h0 h1
    have : p = q := by omega
    subst this
    exact br_t (nI_le (Nat.le_refl _) (by omega)) (nm_r (nI_1 p) (h1 (fun p' _ _ => by omega)))
  | succ d ih =>
    intro p hp h0 h1
    have b1 := wj_o_lt hl hq
    have b2 := wj_o_lt hl (p := p) (by omega)
    have e1 : (6 * a_order (nI q).toNatClampNeg) + a_order (nI p).toNatClampNeg = nI (6 * wj_o l q + wj_o l p) := by
      rw [nI_clamp (by omega), nI_clamp (by omega), hO q hq, hO p (by omega), wj_6]
    refine br_f (nI_ge (by omega) (by omega)) ⟨vp_in_nI (by omega) (by decide), vp_in_nI (by omega) (by decide), ?_⟩
    rw [e1]
    refine ⟨vp_in_nI (by omega) (by decide), ?_⟩
    rw [nI_clamp (by omega)]
    by_cases c : M (wj_o l q) (wj_o l p)
    · refine br_f (fun z => (hB _ _ b1 b2).mp z c) (h0 ⟨p, Nat.le_refl _, by omega, c⟩)
    · refine br_t ((hB _ _ b1 b2).mpr c) (nm_r (nI_1 p) (ih (p + 1) (by omega) ?_ ?_))
      · rintro ⟨p', z1, z2, z3⟩
        exact h0 ⟨p', by omega, z2, z3⟩
      · intro z
        refine h1 (fun p' z1 z2 => ?_)
        by_cases e : p' = p
        · rw [e]; exact c
        · exact z p' (by omega) z2
theorem wj_yrun2 {post : Int32 → Prop} (hN : N ≤ 6) (hl : wj_P N l) (hO : ∀ p, p < N → a_order p = nI (wj_o l p)) (hB : ∀ a b, a < N → b < N → (a_bound (6 * a + b) = 0 ↔ ¬ M a b)) :
    ∀ d q : Nat, N ≤ q + d → q ≤ 6 → ((∃ p q', q ≤ q' ∧ q' < N ∧ p < q' ∧ M (wj_o l q') (wj_o l p)) → post 0) → ((∀ p q', q ≤ q' → q' < N → p < q' → ¬ M (wj_o l q') (wj_o l p)) → post 1) → wY_isRun_2 post f_threads f_addresses (nI N) f_fences f_solved f_outcomes a_thread a_address a_constant a_reads a_writes a_acquiring a_releasing a_on a_fenceThread a_fenceKind a_fencePlace a_first a_wishRead a_wishEnd a_outcome a_least a_shown a_order a_bound a_memory a_got (d + 1) (nI q) := by
  intro d
  induction d with
  | zero =>
    intro q hq hq6 h0 h1
    exact br_t (nI_le (by omega) (by omega)) (h1 (fun p q' z1 z2 _ => by omega))
  | succ d ih =>
    intro q hq hq6 h0 h1
    by_cases c : N ≤ q
    · exact br_t (nI_le c (by omega)) (h1 (fun p q' z1 z2 _ => by omega))
    · refine br_f (nI_ge (by omega) (by omega)) ⟨q + 1, wj_yrun1 hN hl hO hB (by omega) q 0 (by omega) ?_ ?_⟩
      · rintro ⟨p', _, z2, z3⟩
        exact h0 ⟨p', q, Nat.le_refl _, by omega, z2, z3⟩
      · intro z
        refine ih (q + 1) (by omega) (by omega) ?_ ?_
        · rintro ⟨p, q', z1, z2, z3, z4⟩
          exact h0 ⟨p, q', by omega, z2, z3, z4⟩
        · intro z'
          refine h1 (fun p q' z1 z2 z3 => ?_)
          by_cases e : q' = q
          · subst e; exact z p (Nat.zero_le _) z3
          · exact z' p q' (by omega) z2 z3
theorem wj_yrun {post : Int32 → Prop} (hN : N ≤ 6) (hl : wj_P N l) (hO : ∀ p, p < N → a_order p = nI (wj_o l p)) (hB : ∀ a b, a < N → b < N → (a_bound (6 * a + b) = 0 ↔ ¬ M a b)) (hM : ∀ a b, M a b → a < N ∧ b < N ∧ a ≠ b)
    (h1 : wj_E N M l → post 1) (h0 : ¬ wj_E N M l → post 0) : wpY_isRun post (f_threads, f_addresses, nI N, f_fences, f_solved, f_outcomes, a_thread, a_address, a_constant, a_reads, a_writes, a_acquiring, a_releasing, a_on, a_fenceThread, a_fenceKind, a_fencePlace, a_first, a_wishRead, a_wishEnd, a_outcome, a_least, a_shown, a_order, a_bound, a_memory, a_got) := by
  unfold wpY_isRun
  refine ⟨7, wj_yrun2 hN hl hO hB 6 1 (by omega) (by decide) ?_ ?_⟩
  · rintro ⟨p, q, _, z2, z3, z4⟩
    exact h0 (fun E => (wj_E_run hl hM).mp E p q z3 z2 z4)
  · intro z
    exact h1 ((wj_E_run hl hM).mpr (fun p q z3 z2 => z p q (by omega) z2 z3))
theorem wj_ycb1 {post : Int32 → Prop} (hN : N ≤ 6) (hl : wj_P N l) (hO : ∀ p, p < N → a_order p = nI (wj_o l p)) {a b : Nat} (ha : a < N) (hb : b < N) (h1 : wj_bf l a b → post 1) (h0 : ¬ wj_bf l a b → post 0) :
    ∀ d p : Nat, p + d = N → p ≤ l.idxOf a → p ≤ l.idxOf b → wY_comesBefore_2 post (nI a) (nI b) f_threads f_addresses (nI N) f_fences f_solved f_outcomes a_thread a_address a_constant a_reads a_writes a_acquiring a_releasing a_on a_fenceThread a_fenceKind a_fencePlace a_first a_wishRead a_wishEnd a_outcome a_least a_shown a_order a_bound a_memory a_got (d + 1) (nI p) := by
  have ia := (wj_o_ix hl ha).1
  intro d
  induction d with
  | zero => intro p hp h2 h3; omega
  | succ d ih =>
    intro p hp h2 h3
    have b2 := wj_o_lt hl (p := p) (by omega)
    have e1 : a_order (nI p).toNatClampNeg = nI (wj_o l p) := by rw [nI_clamp (by omega), hO p (by omega)]
    refine br_f (nI_ge (by omega) (by omega)) ⟨vp_in_nI (by omega) (by decide), ?_⟩
    rw [e1]
    by_cases c : wj_o l p = a
    · refine br_t (by rw [c]) ?_
      have hpa : l.idxOf a = p := by rw [← c]; exact wj_ix_o hl (by omega)
      by_cases e : a = b
      · refine br_t (by rw [e]) (h0 ?_)
        rw [e]; exact wj_bf_ir
      · refine br_f (fun z => e ((nI_eq (by omega) (by omega)).mp z)) (h1 ?_)
        unfold wj_bf
        have : l.idxOf a ≠ l.idxOf b := fun z => e (wj_ix_inj ((wj_P_mem hl).mpr ha) ((wj_P_mem hl).mpr hb) z)
        omega
    · have npa : l.idxOf a ≠ p := fun z => c (by rw [← z]; exact (wj_o_ix hl ha).2)
      refine br_f (fun z => c ((nI_eq (by omega) (by omega)).mp z)) ⟨vp_in_nI (by omega) (by decide), ?_⟩
      by_cases e : wj_o l p = b
      · refine br_t (by rw [e]) (h0 ?_)
        have hpb : l.idxOf b = p := by rw [← e]; exact wj_ix_o hl (by omega)
        unfold wj_bf
        omega
      · have npb : l.idxOf b ≠ p := fun z => e (by rw [← z]; exact (wj_o_ix hl hb).2)
        exact br_f (fun z => e ((nI_eq (by omega) (by omega)).mp z)) (nm_r (nI_1 p) (ih (p + 1) (by omega) (by omega) (by omega)))
theorem wj_ycb {post : Int32 → Prop} (hN : N ≤ 6) (hl : wj_P N l) (hO : ∀ p, p < N → a_order p = nI (wj_o l p)) {a b : Nat} (ha : a < N) (hb : b < N) (h1 : wj_bf l a b → post 1) (h0 : ¬ wj_bf l a b → post 0) : wpY_comesBefore post (f_threads, f_addresses, nI N, f_fences, f_solved, f_outcomes, a_thread, a_address, a_constant, a_reads, a_writes, a_acquiring, a_releasing, a_on, a_fenceThread, a_fenceKind, a_fencePlace, a_first, a_wishRead, a_wishEnd, a_outcome, a_least, a_shown, a_order, a_bound, a_memory, a_got) (nI a) (nI b) := by
  unfold wpY_comesBefore
  exact ⟨N + 1, wj_ycb1 hN hl hO ha hb h1 h0 N 0 (by omega) (Nat.zero_le _) (Nat.zero_le _)⟩
theorem wj_ysp1 {post : Int32 → Prop} (hN : N ≤ 6) (hl : wj_P N l) (hO : ∀ p, p < N → a_order p = nI (wj_o l p)) : ∀ d p r : Nat, p + d = N → post (nI (wj_cd r (l.drop p))) → wY_spelled_4 post f_threads f_addresses (nI N) f_fences f_solved f_outcomes a_thread a_address a_constant a_reads a_writes a_acquiring a_releasing a_on a_fenceThread a_fenceKind a_fencePlace a_first a_wishRead a_wishEnd a_outcome a_least a_shown a_order a_bound a_memory a_got (d + 1) (nI r) (nI p) := by
  have hlen := wj_P_len hl
  intro d
  induction d with
  | zero =>
    intro p r hp h
    rw [List.drop_of_length_le (by omega)] at h
    exact br_t (nI_le (by omega) (by omega)) h
  | succ d ih =>
    intro p r hp h
    have hpl : p < l.length := by omega
    refine br_f (nI_ge (by omega) (by omega)) ⟨vp_in_nI (by omega) (by decide), nm_r (e' := nI (r * 8 + l[p])) ?_ (nm_r (nI_1 p) (ih (p + 1) _ (by omega) ?_))⟩
    · rw [nI_clamp (by omega), hO p (by omega), wj_oG hpl]
      show nI r * nI 8 + _ = _
      rw [pk_mul, nI_add]
    · rw [List.drop_eq_getElem_cons hpl] at h
      exact h
theorem wj_ysp {post : Int32 → Prop} (hN : N ≤ 6) (hl : wj_P N l) (hO : ∀ p, p < N → a_order p = nI (wj_o l p)) (h : post (nI (wj_cd 0 l))) : wpY_spelled post (f_threads, f_addresses, nI N, f_fences, f_solved, f_outcomes, a_thread, a_address, a_constant, a_reads, a_writes, a_acquiring, a_releasing, a_on, a_fenceThread, a_fenceKind, a_fencePlace, a_first, a_wishRead, a_wishEnd, a_outcome, a_least, a_shown, a_order, a_bound, a_memory, a_got) := by
  unfold wpY_spelled
  exact ⟨N + 1, wj_ysp1 hN hl hO N 0 0 (by omega) h⟩
theorem wj_yfind1 {post : Int32 → Prop} {F : Nat} (hF : F ≤ 180) {r : Int64} (h1 : ∀ k, k < F → a_outcome k = r → post (nI k)) (h0 : (∀ k, k < F → a_outcome k ≠ r) → post (-1)) :
    ∀ d k : Nat, k + d = F → (∀ i, i < k → a_outcome i ≠ r) → wY_find_2 post r f_threads f_addresses f_n f_fences f_solved (nI F) a_thread a_address a_constant a_reads a_writes a_acquiring a_releasing a_on a_fenceThread a_fenceKind a_fencePlace a_first a_wishRead a_wishEnd a_outcome a_least a_shown a_order a_bound a_memory a_got (d + 1) (nI k) := by
  intro d
  induction d with
  | zero =>
    intro k hk hn
    have : k = F := by omega
    subst this
    exact br_t (nI_le (Nat.le_refl _) (by omega)) (h0 hn)
  | succ d ih =>
    intro k hk hn
    refine br_f (nI_ge (by omega) (by omega)) ⟨vp_in_nI (by omega) (by decide), ?_⟩
    rw [nI_clamp (by omega)]
    by_cases c : a_outcome k = r
    · exact br_t c (h1 k (by omega) c)
    · refine br_f c (nm_r (nI_1 k) (ih (k + 1) (by omega) ?_))
      intro i hi
      by_cases e : i = k
      · rw [e]; exact c
      · exact hn i (by omega)
theorem wj_yfind {post : Int32 → Prop} {F : Nat} (hF : F ≤ 180) {r : Int64} (h1 : ∀ k, k < F → a_outcome k = r → post (nI k)) (h0 : (∀ k, k < F → a_outcome k ≠ r) → post (-1)) : wpY_find post (f_threads, f_addresses, f_n, f_fences, f_solved, nI F, a_thread, a_address, a_constant, a_reads, a_writes, a_acquiring, a_releasing, a_on, a_fenceThread, a_fenceKind, a_fencePlace, a_first, a_wishRead, a_wishEnd, a_outcome, a_least, a_shown, a_order, a_bound, a_memory, a_got) r := by
  unfold wpY_find
  exact ⟨F + 1, wj_yfind1 hF h1 h0 F 0 (by omega) (fun i hi => absurd hi (Nat.not_lt_zero _))⟩
/-- v put in at place k, the rest of the F moved up -/
def wj_ins {α : Type} (F k : Nat) (v : α) (a a' : Nat → α) : Prop := ∀ i, i ≤ F → a' i = if i < k then a i else if i = k then v else a (i - 1)
theorem wj_ykeep1 {post : SY → Prop} {F : Nat} (hF : F < 180) {r : Int64} {run : Int32} {K0 : Nat → Int64} {L0 : Nat → Int32}
    (h : ∀ k K L, k ≤ F → (∀ i, k ≤ i → i < F → r < K0 i) → (k = 0 ∨ K0 (k - 1) ≤ r) → wj_ins F k r K0 K → wj_ins F k run L0 L → post (f_threads, f_addresses, f_n, f_fences, f_solved, nI (F + 1), a_thread, a_address, a_constant, a_reads, a_writes, a_acquiring, a_releasing, a_on, a_fenceThread, a_fenceKind, a_fencePlace, a_first, a_wishRead, a_wishEnd, K, L, a_shown, a_order, a_bound, a_memory, a_got)) :
    ∀ (k : Nat) (K : Nat → Int64) (L : Nat → Int32), k ≤ F → (∀ i, k ≤ i → i < F → r < K0 i) → (∀ i, i ≤ F → K i = if i < k then K0 i else if i = k then K k else K0 (i - 1)) → (∀ i, i ≤ F → L i = if i < k then L0 i else if i = k then L k else L0 (i - 1)) →
    wY_keep_17 post r run f_threads f_addresses f_n f_fences f_solved (nI F) (k + 1) (nI k) a_thread a_address a_constant a_reads a_writes a_acquiring a_releasing a_on a_fenceThread a_fenceKind a_fencePlace a_first a_wishRead a_wishEnd K L a_shown a_order a_bound a_memory a_got := by
  have fin : ∀ (k : Nat) (K : Nat → Int64) (L : Nat → Int32), k ≤ F → (∀ i, k ≤ i → i < F → r < K0 i) → (k = 0 ∨ K0 (k - 1) ≤ r) → (∀ i, i ≤ F → K i = if i < k then K0 i else if i = k then K k else K0 (i - 1)) → (∀ i, i ≤ F → L i = if i < k then L0 i else if i = k then L k else L0 (i - 1)) →
      wY_keep_74 post r run (nI k) f_threads f_addresses f_n f_fences f_solved (nI F) a_thread a_address a_constant a_reads a_writes a_acquiring a_releasing a_on a_fenceThread a_fenceKind a_fencePlace a_first a_wishRead a_wishEnd K L a_shown a_order a_bound a_memory a_got := by
    intro k K L hk hr hz hK hL
    refine ⟨vp_in_nI (by omega) (by decide), nm_e ⟨vp_in_nI (by omega) (by decide), nm_e (nm_r (nI_1 F) (h k _ _ hk hr hz ?_ ?_))⟩⟩
    · intro i hi
      rw [nI_clamp (by omega)]
      by_cases c : i = k
      · subst c
        rw [if_neg (by omega), if_pos rfl, pk_uLs]
      · rw [pk_uLn c, hK i hi, if_neg c, if_neg c]
    · intro i hi
      rw [nI_clamp (by omega)]
      by_cases c : i = k
      · subst c
        rw [if_neg (by omega), if_pos rfl, pk_us]
      · rw [pk_un c, hL i hi, if_neg c, if_neg c]
  intro k
  induction k with
  | zero =>
    intro K L hk hr hK hL
    exact br_t (nI_le (a := 0) (b := 0) (by decide) (by decide)) (fin 0 K L hk hr (Or.inl rfl) hK hL)
  | succ k ih =>
    intro K L hk hr hK hL
    have e1 : nI (k + 1) - 1 = nI k := nI_pred k
    have eK : K k = K0 k := by rw [hK k (by omega), if_pos (by omega)]
    have eL : L k = L0 k := by rw [hL k (by omega), if_pos (by omega)]
    refine br_f (nI_nle (by omega) (by omega)) ?_
    rw [e1]
    refine ⟨vp_in_nI (by omega) (by decide), ?_⟩
    rw [nI_clamp (by omega), eK, eL]
    refine br_c (fun c => fin (k + 1) K L hk hr (Or.inr c) hK hL) (fun c => ⟨vp_in_nI (by omega) (by decide), vp_in_nI (by omega) (by decide), nm_e ⟨vp_in_nI (by omega) (by decide), vp_in_nI (by omega) (by decide), nm_e (nm_r (pk_m1 k) (ih _ _ (by omega) ?_ ?_ ?_))⟩⟩)
    · intro i hi1 hi2
      by_cases d : i = k
      · rw [d]; exact Int64.not_le.mp c
      · exact hr i (by omega) hi2
    · intro i hi
      rw [nI_clamp (by omega)]
      by_cases d : i = k + 1
      · subst d
        rw [pk_uLs, if_neg (by omega), if_neg (by omega)]
        rfl
      · rw [pk_uLn d, hK i hi]
        by_cases d1 : i < k
        · rw [if_pos (by omega), if_pos d1]
        · by_cases d2 : i = k
          · subst d2
            rw [if_pos (by omega), if_neg (by omega), if_pos rfl, pk_uLn (by omega), eK]
          · rw [if_neg (by omega), if_neg d, if_neg d1, if_neg d2]
    · intro i hi
      rw [nI_clamp (by omega)]
      by_cases d : i = k + 1
      · subst d
        rw [pk_us, if_neg (by omega), if_neg (by omega)]
        rfl
      · rw [pk_un d, hL i hi]
        by_cases d1 : i < k
        · rw [if_pos (by omega), if_pos d1]
        · by_cases d2 : i = k
          · subst d2
            rw [if_pos (by omega), if_neg (by omega), if_pos rfl, pk_un (by omega), eL]
          · rw [if_neg (by omega), if_neg d, if_neg d1, if_neg d2]
theorem wj_ykeep {post : SY → Prop} {F : Nat} (hF : F < 180) {r : Int64} {run : Int32}
    (h : ∀ k K L, k ≤ F → (∀ i, k ≤ i → i < F → r < a_outcome i) → (k = 0 ∨ a_outcome (k - 1) ≤ r) → wj_ins F k r a_outcome K → wj_ins F k run a_least L → post (f_threads, f_addresses, f_n, f_fences, f_solved, nI (F + 1), a_thread, a_address, a_constant, a_reads, a_writes, a_acquiring, a_releasing, a_on, a_fenceThread, a_fenceKind, a_fencePlace, a_first, a_wishRead, a_wishEnd, K, L, a_shown, a_order, a_bound, a_memory, a_got)) :
    wpY_keep post (f_threads, f_addresses, f_n, f_fences, f_solved, nI F, a_thread, a_address, a_constant, a_reads, a_writes, a_acquiring, a_releasing, a_on, a_fenceThread, a_fenceKind, a_fencePlace, a_first, a_wishRead, a_wishEnd, a_outcome, a_least, a_shown, a_order, a_bound, a_memory, a_got) r run := by
  unfold wpY_keep
  refine br_t (nI_lt (a := F) (b := 180) hF (by decide)) ⟨F + 1, wj_ykeep1 hF h F a_outcome a_least (Nat.le_refl _) (fun i h1 h2 => by omega) ?_ ?_⟩
  · intro i hi
    by_cases c : i < F
    · rw [if_pos c]
    · have : i = F := by omega
      subst this
      rw [if_neg c, if_pos rfl]
  · intro i hi
    by_cases c : i < F
    · rw [if_pos c]
    · have : i = F := by omega
      subst this
      rw [if_neg c, if_pos rfl]
end
end
section
/-! a table of outcomes that stands for a set S of runs -/
def wj_T (S : List Nat → Prop) (ky cd : List Nat → Nat) (F : Nat) (K : Nat → Int64) (L : Nat → Int32) : Prop :=
  (∀ i j, i < j → j < F → K i < K j) ∧ (∀ i, i < F → ∃ l, S l ∧ K i = lN (ky l) ∧ L i = nI (cd l)) ∧ ∀ l, S l → ∃ i, i < F ∧ K i = lN (ky l) ∧ L i ≤ nI (cd l)
theorem wj_lt_tr {a b c : Int64} (h : a < b) (h' : b < c) : a < c := by
  rw [Int64.lt_iff_toInt_lt] at *; omega
theorem wj_lt_ir {a : Int64} : ¬ a < a := by
  rw [Int64.lt_iff_toInt_lt]; omega
section
variable {S S' : List Nat → Prop} {ky cd : List Nat → Nat} {F : Nat} {K K' : Nat → Int64} {L L' : Nat → Int32}
theorem wj_T_0 (h : ∀ l, ¬ S l) : wj_T S ky cd 0 K L :=
  ⟨fun i j _ hj => absurd hj (Nat.not_lt_zero _), fun i hi => absurd hi (Nat.not_lt_zero _), fun l hl => absurd hl (h l)⟩
theorem wj_T_ins (T : wj_T S ky cd F K L) {κ c k : Nat} (hS : ∀ l, S' l → S l ∨ (ky l = κ ∧ c ≤ cd l)) (hS1 : ∀ l, S l → S' l) (hx : ∃ l, S' l ∧ ky l = κ ∧ cd l = c) (hcd : ∀ l, S' l → cd l < 2 ^ 31)
    (hk : k ≤ F) (h1 : ∀ i, i < k → K i < lN κ) (h2 : ∀ i, k ≤ i → i < F → lN κ < K i) (iK : wj_ins F k (lN κ) K K') (iL : wj_ins F k (nI c) L L') : wj_T S' ky cd (F + 1) K' L' := by
  obtain ⟨t1, t2, t3⟩ := T
  have aK : ∀ i, i < k → K' i = K i := fun i hi => by rw [iK i (by omega), if_pos hi]
  have bK : K' k = lN κ := by rw [iK k hk, if_neg (by omega), if_pos rfl]
  have cK : ∀ i, k < i → i ≤ F → K' i = K (i - 1) := fun i hi hF => by rw [iK i hF, if_neg (by omega), if_neg (by omega)]
  have aL : ∀ i, i < k → L' i = L i := fun i hi => by rw [iL i (by omega), if_pos hi]
  have bL : L' k = nI c := by rw [iL k hk, if_neg (by omega), if_pos rfl]
  have cL : ∀ i, k < i → i ≤ F → L' i = L (i - 1) := fun i hi hF => by rw [iL i hF, if_neg (by omega), if_neg (by omega)]
  refine ⟨?_, ?_, ?_⟩
  · intro i j hij hj
    rcases Nat.lt_trichotomy i k with hi | hi | hi
    · rw [aK i hi]
      rcases Nat.lt_trichotomy j k with hj' | hj' | hj'
      · rw [aK j hj']; exact t1 i j hij (by omega)
      · rw [hj', bK]; exact h1 i hi
      · rw [cK j hj' (by omega)]
        exact wj_lt_tr (h1 i hi) (h2 (j - 1) (by omega) (by omega))
    · rw [hi, bK, cK j (by omega) (by omega)]
      exact h2 (j - 1) (by omega) (by omega)
    · rw [cK i hi (by omega), cK j (by omega) (by omega)]
      exact t1 (i - 1) (j - 1) (by omega) (by omega)
  · intro i hi
    rcases Nat.lt_trichotomy i k with hi' | hi' | hi'
    · rw [aK i hi', aL i hi']
      obtain ⟨l, z1, z2, z3⟩ := t2 i (by omega)
      exact ⟨l, hS1 l z1, z2, z3⟩
    · rw [hi', bK, bL]
      obtain ⟨l, z1, z2, z3⟩ := hx
      exact ⟨l, z1, by rw [z2], by rw [z3]⟩
    · rw [cK i hi' (by omega), cL i hi' (by omega)]
      obtain ⟨l, z1, z2, z3⟩ := t2 (i - 1) (by omega)
      exact ⟨l, hS1 l z1, z2, z3⟩
  · intro l hl
    rcases hS l hl with hl' | ⟨z1, z2⟩
    · obtain ⟨i, z1, z2, z3⟩ := t3 l hl'
      by_cases hi : i < k
      · exact ⟨i, by omega, by rw [aK i hi]; exact z2, by rw [aL i hi]; exact z3⟩
      · refine ⟨i + 1, by omega, ?_, ?_⟩
        · rw [cK (i + 1) (by omega) (by omega)]; exact z2
        · rw [cL (i + 1) (by omega) (by omega)]; exact z3
    · refine ⟨k, by omega, by rw [bK, z1], ?_⟩
      rw [bL]
      exact nI_le z2 (hcd l hl)
theorem wj_T_old (T : wj_T S ky cd F K L) {κ c k : Nat} (hS : ∀ l, S' l → S l ∨ (ky l = κ ∧ c ≤ cd l)) (hS1 : ∀ l, S l → S' l) (hcd : ∀ l, S' l → cd l < 2 ^ 31) (hk : k < F) (hK : K k = lN κ) (hle : L k ≤ nI c) : wj_T S' ky cd F K L := by
  obtain ⟨t1, t2, t3⟩ := T
  refine ⟨t1, ?_, ?_⟩
  · intro i hi
    obtain ⟨l, z1, z2, z3⟩ := t2 i hi
    exact ⟨l, hS1 l z1, z2, z3⟩
  · intro l hl
    rcases hS l hl with hl' | ⟨z1, z2⟩
    · exact t3 l hl'
    · exact ⟨k, hk, by rw [hK, z1], Int32.le_trans hle (nI_le z2 (hcd l hl))⟩
theorem wj_T_low (T : wj_T S ky cd F K L) {κ c k : Nat} (hS : ∀ l, S' l → S l ∨ (ky l = κ ∧ c ≤ cd l)) (hS1 : ∀ l, S l → S' l) (hx : ∃ l, S' l ∧ ky l = κ ∧ cd l = c) (hcd : ∀ l, S' l → cd l < 2 ^ 31) (hk : k < F) (hK : K k = lN κ) (hle : ¬ L k ≤ nI c) : wj_T S' ky cd F K (upd L k (nI c)) := by
  obtain ⟨t1, t2, t3⟩ := T
  refine ⟨t1, ?_, ?_⟩
  · intro i hi
    by_cases e : i = k
    · subst e
      obtain ⟨l, z1, z2, z3⟩ := hx
      exact ⟨l, z1, by rw [hK, z2], by rw [pk_us, z3]⟩
    · obtain ⟨l, z1, z2, z3⟩ := t2 i hi
      exact ⟨l, hS1 l z1, z2, by rw [pk_un e]; exact z3⟩
  · intro l hl
    rcases hS l hl with hl' | ⟨z1, z2⟩
    · obtain ⟨i, z1, z2, z3⟩ := t3 l hl'
      refine ⟨i, z1, z2, ?_⟩
      by_cases e : i = k
      · subst e
        rw [pk_us]
        have h1 : nI c ≤ L i := by
          rw [Int32.le_iff_toInt_le] at hle ⊢; omega
        exact Int32.le_trans h1 z3
      · rw [pk_un e]; exact z3
    · exact ⟨k, hk, by rw [hK, z1], by rw [pk_us]; exact nI_le z2 (hcd l hl)⟩
theorem wj_T_list {D : List Nat → List Nat → Prop} (T : wj_T S ky cd F K L) (hD : ∀ l l', S l → S l' → ky l ≠ ky l' → D l l') : ∀ j, j ≤ F → ∃ Ls : List (List Nat), Ls.length = j ∧ (∀ l, l ∈ Ls → S l ∧ ∃ i, i < j ∧ K i = lN (ky l)) ∧ Ls.Pairwise D := by
  intro j
  induction j with
  | zero => intro _; exact ⟨[], rfl, (fun l hl => nomatch hl), List.Pairwise.nil⟩
  | succ j ih =>
    intro hj
    obtain ⟨Ls, h1, h2, h3⟩ := ih (by omega)
    obtain ⟨l, z1, z2, z3⟩ := T.2.1 j (by omega)
    refine ⟨l :: Ls, by rw [List.length_cons, h1], ?_, ?_⟩
    · intro l' hl'
      rcases List.mem_cons.mp hl' with rfl | hl'
      · exact ⟨z1, j, by omega, z2⟩
      · obtain ⟨w1, i, w2, w3⟩ := h2 l' hl'
        exact ⟨w1, i, by omega, w3⟩
    · refine List.pairwise_cons.mpr ⟨?_, h3⟩
      intro l' hl'
      obtain ⟨w1, i, w2, w3⟩ := h2 l' hl'
      refine hD l l' z1 w1 ?_
      intro e
      have := T.1 i j w2 (by omega)
      rw [z2, w3, e] at this
      exact wj_lt_ir this
/-- room for a new key -/
theorem wj_T_room {D : List Nat → List Nat → Prop} (T : wj_T S ky cd F K L) (hD : ∀ l l', S' l → S' l' → ky l ≠ ky l' → D l l') (hS1 : ∀ l, S l → S' l) {B : Nat} (hB : ∀ Ls : List (List Nat), (∀ l, l ∈ Ls → S' l) → Ls.Pairwise D → Ls.length ≤ B)
    {l0 : List Nat} (hl0 : S' l0) (hn : ∀ i, i < F → K i ≠ lN (ky l0)) : F < B := by
  obtain ⟨Ls, h1, h2, h3⟩ := wj_T_list T (fun l l' h h' => hD l l' (hS1 l h) (hS1 l' h')) F (Nat.le_refl _)
  have := hB (l0 :: Ls) (by
    intro l hl
    rcases List.mem_cons.mp hl with rfl | hl
    · exact hl0
    · exact hS1 l (h2 l hl).1) (by
    refine List.pairwise_cons.mpr ⟨?_, h3⟩
    intro l' hl'
    obtain ⟨w1, i, w2, w3⟩ := h2 l' hl'
    refine hD l0 l' hl0 (hS1 _ w1) ?_
    intro e
    exact hn i w2 (by rw [w3, e]))
  rw [List.length_cons, h1] at this
  omega
theorem wj_T_le {D : List Nat → List Nat → Prop} (T : wj_T S ky cd F K L) (hD : ∀ l l', S l → S l' → ky l ≠ ky l' → D l l') {B : Nat} (hB : ∀ Ls : List (List Nat), (∀ l, l ∈ Ls → S l) → Ls.Pairwise D → Ls.length ≤ B) : F ≤ B := by
  obtain ⟨Ls, h1, h2, h3⟩ := wj_T_list T hD F (Nat.le_refl _)
  rw [← h1]
  exact hB Ls (fun l hl => (h2 l hl).1) h3
end
theorem wj_sorted {FX FY : Nat} {A B : Nat → Int64} (sA : ∀ i j, i < j → j < FX → A i < A j) (sB : ∀ i j, i < j → j < FY → B i < B j) (hA : ∀ i, i < FX → ∃ j, j < FY ∧ A i = B j) (hB : ∀ i, i < FY → ∃ j, j < FX ∧ B i = A j) :
    ∀ k i, i < k → (i < FX → i < FY ∧ A i = B i) ∧ (i < FY → i < FX ∧ A i = B i) := by
  intro k
  induction k with
  | zero => intro i hi; omega
  | succ k ih =>
    intro i hi
    by_cases e : i < k
    · exact ih i e
    · have : i = k := by omega
      subst this
      have leA : ∀ a b, a ≤ b → b < FX → (A a).toInt ≤ (A b).toInt := by
        intro a b hab hb
        rcases Nat.lt_or_ge a b with h | h
        · have := Int64.lt_iff_toInt_lt.mp (sA a b h hb); omega
        · have : a = b := by omega
          subst this; omega
      have leB : ∀ a b, a ≤ b → b < FY → (B a).toInt ≤ (B b).toInt := by
        intro a b hab hb
        rcases Nat.lt_or_ge a b with h | h
        · have := Int64.lt_iff_toInt_lt.mp (sB a b h hb); omega
        · have : a = b := by omega
          subst this; omega
      have gA : ∀ j, i < FX → j < FY → A i = B j → i ≤ j := by
        intro j h1 h2 h3
        rcases Nat.lt_or_ge j i with h | h
        · exfalso
          obtain ⟨z1, z2⟩ := (ih j h).2 h2
          have := sA j i h h1
          rw [h3, z2] at this
          exact wj_lt_ir this
        · exact h
      have gB : ∀ j, i < FY → j < FX → B i = A j → i ≤ j := by
        intro j h1 h2 h3
        rcases Nat.lt_or_ge j i with h | h
        · exfalso
          obtain ⟨z1, z2⟩ := (ih j h).1 h2
          have := sB j i h h1
          rw [h3, z2] at this
          exact wj_lt_ir this
        · exact h
      have both : i < FX → i < FY → A i = B i := by
        intro h1 h2
        obtain ⟨j, z1, z2⟩ := hA i h1
        obtain ⟨j', z1', z2'⟩ := hB i h2
        have g1 := gA j h1 z1 z2
        have g2 := gB j' h2 z1' z2'
        have l1 := leB i j g1 z1
        have l2 := leA i j' g2 z1'
        rw [← z2] at l1
        rw [← z2'] at l2
        exact Int64.toInt_inj.mp (by omega)
      refine ⟨fun h1 => ?_, fun h2 => ?_⟩
      · obtain ⟨j, z1, z2⟩ := hA i h1
        have g1 := gA j h1 z1 z2
        have h2 : i < FY := by omega
        exact ⟨h2, both h1 h2⟩
      · obtain ⟨j', z1', z2'⟩ := hB i h2
        have g2 := gB j' h2 z1' z2'
        have h1 : i < FX := by omega
        exact ⟨h1, both h1 h2⟩
/-- two tables of one set are the same -/
theorem wj_T_eq {S : List Nat → Prop} {ky cX cY : List Nat → Nat} {FX FY q B : Nat} {KX KY : Nat → Int64} {LX LY : Nat → Int32} (TX : wj_T S ky cX FX KX LX) (TY : wj_T S ky cY FY KY LY) (hq : 0 < q) (hc : ∀ l, S l → cX l = cY l * q ∧ cY l < B ∧ cX l < 2 ^ 31 ∧ cY l < 2 ^ 31) :
    FX = FY ∧ ∀ i, i < FX → KX i = KY i ∧ ∃ c, c < B ∧ LY i = nI c ∧ LX i = nI (c * q) := by
  have hA : ∀ i, i < FX → ∃ j, j < FY ∧ KX i = KY j := by
    intro i hi
    obtain ⟨l, z1, z2, z3⟩ := TX.2.1 i hi
    obtain ⟨j, w1, w2, w3⟩ := TY.2.2 l z1
    exact ⟨j, w1, by rw [z2, w2]⟩
  have hB : ∀ i, i < FY → ∃ j, j < FX ∧ KY i = KX j := by
    intro i hi
    obtain ⟨l, z1, z2, z3⟩ := TY.2.1 i hi
    obtain ⟨j, w1, w2, w3⟩ := TX.2.2 l z1
    exact ⟨j, w1, by rw [z2, w2]⟩
  have key := fun i => wj_sorted TX.1 TY.1 hA hB (i + 1) i (by omega)
  have inj : ∀ i j, i < FX → j < FX → KX i = KX j → i = j := by
    intro i j hi hj e
    rcases Nat.lt_trichotomy i j with h | h | h
    · have := TX.1 i j h hj; rw [e] at this; exact absurd this wj_lt_ir
    · exact h
    · have := TX.1 j i h hi; rw [e] at this; exact absurd this wj_lt_ir
  have hF : FX = FY := by
    rcases Nat.lt_trichotomy FX FY with h | h | h
    · have := ((key FX).2 h).1; omega
    · exact h
    · have := ((key FY).1 h).1; omega
  refine ⟨hF, ?_⟩
  intro i hi
  have ke := ((key i).1 hi).2
  refine ⟨ke, ?_⟩
  obtain ⟨l, z1, z2, z3⟩ := TX.2.1 i hi
  obtain ⟨l', z1', z2', z3'⟩ := TY.2.1 i (by omega)
  obtain ⟨a1, a2, a3, a4⟩ := hc l z1
  obtain ⟨b1, b2, b3, b4⟩ := hc l' z1'
  obtain ⟨j, w1, w2, w3⟩ := TX.2.2 l' z1'
  obtain ⟨j', w1', w2', w3'⟩ := TY.2.2 l z1
  have ej : j = i := inj j i w1 hi (by rw [w2, ke, z2'])
  have ej' : j' = i := by
    have e1 : KY j' = KX i := by rw [w2', z2]
    have e2 := ((key j').2 w1')
    exact inj j' i e2.1 hi (by rw [e2.2, e1])
  subst ej
  subst ej'
  rw [z3, nI_leI a3 b3] at w3
  rw [z3', nI_leI b4 a4] at w3'
  rw [a1, b1] at w3
  have w4 : cY l ≤ cY l' := Nat.le_of_mul_le_mul_right w3 hq
  have e : cY l = cY l' := Nat.le_antisymm w4 w3'
  exact ⟨cY l', b2, z3', by rw [z3, a1, e]⟩
end
section
/-! the order within a thread -/
def wj_Fc (th rd wr fT fK fP : Nat → Int32) (a b f : Nat) : Prop :=
  fT f = th a ∧ ¬ fP f ≤ nI a ∧ ¬ nI b < fP f ∧ (fK f = 3 ∨ (fK f = 1 ∧ ¬ rd a = 0) ∨ (fK f = 2 ∧ ¬ wr a = 0 ∧ ¬ wr b = 0))
def wj_Fe (F : Nat) (th rd wr fT fK fP : Nat → Int32) (a b : Nat) : Prop := ∃ f, f < F ∧ wj_Fc th rd wr fT fK fP a b f
def wj_De (wr on : Nat → Int32) (a b : Nat) : Prop :=
  on (4 * b + 1) = nI a ∨ on (4 * b + 2) = nI a ∨ (¬ wr b = 0 ∧ (on (4 * b + 3) = nI a ∨ ∃ c, c < b ∧ on (4 * c + 2) = nI a))
def wj_Mu (N F : Nat) (th ad rd wr ac rl on fT fK fP : Nat → Int32) (a b : Nat) : Prop :=
  a < b ∧ b < N ∧ th a = th b ∧ (ad a = ad b ∨ ¬ ac a = 0 ∨ ¬ rl b = 0 ∨ (¬ rl a = 0 ∧ ¬ ac b = 0) ∨ wj_Fe F th rd wr fT fK fP a b ∨ wj_De wr on a b)
theorem wj_Mu_lt {N F : Nat} {th ad rd wr ac rl on fT fK fP : Nat → Int32} {a b : Nat} (h : wj_Mu N F th ad rd wr ac rl on fT fK fP a b) : a < N ∧ b < N ∧ a ≠ b := by
  have h1 := h.1
  have h2 := h.2.1
  exact ⟨by omega, h2, by omega⟩
section
variable {f_threads f_addresses f_n f_fences f_solved f_outcomes : Int32} {a_thread a_address a_constant a_reads a_writes a_acquiring a_releasing a_on a_fenceThread a_fenceKind a_fencePlace a_first a_wishRead a_wishEnd a_least a_shown a_order a_bound a_memory a_got : Nat → Int32} {a_outcome : Nat → Int64}
variable {N F a b : Nat}
theorem wj_yfen1 {post : Int32 → Prop} (hF : F ≤ 8) (ha : a < 6) (hb : b < 6) (h1 : wj_Fe F a_thread a_reads a_writes a_fenceThread a_fenceKind a_fencePlace a b → post 1) (h0 : ¬ wj_Fe F a_thread a_reads a_writes a_fenceThread a_fenceKind a_fencePlace a b → post 0) :
    ∀ d f : Nat, f + d = F → (∀ f', f' < f → ¬ wj_Fc a_thread a_reads a_writes a_fenceThread a_fenceKind a_fencePlace a b f') → wY_fenced_2 post (nI a) (nI b) f_threads f_addresses f_n (nI F) f_solved f_outcomes a_thread a_address a_constant a_reads a_writes a_acquiring a_releasing a_on a_fenceThread a_fenceKind a_fencePlace a_first a_wishRead a_wishEnd a_outcome a_least a_shown a_order a_bound a_memory a_got (d + 1) (nI f) := by
  have ea : (nI a).toNatClampNeg = a := nI_clamp (by omega)
  have eb : (nI b).toNatClampNeg = b := nI_clamp (by omega)
  have ia : vp_in (nI a) 6 := vp_in_nI ha (by decide)
  have ib : vp_in (nI b) 6 := vp_in_nI hb (by decide)
  intro d
  induction d with
  | zero =>
    intro f hf hn
    have : f = F := by omega
    subst this
    refine br_t (nI_le (Nat.le_refl _) (by omega)) (h0 ?_)
    rintro ⟨f', hf', hc⟩
    exact hn f' hf' hc
  | succ d ih =>
    intro f hf hn
    have ef : (nI f).toNatClampNeg = f := nI_clamp (by omega)
    have jf : vp_in (nI f) 8 := vp_in_nI (by omega) (by decide)
    have nx : ¬ wj_Fc a_thread a_reads a_writes a_fenceThread a_fenceKind a_fencePlace a b f → wY_fenced_2 post (nI a) (nI b) f_threads f_addresses f_n (nI F) f_solved f_outcomes a_thread a_address a_constant a_reads a_writes a_acquiring a_releasing a_on a_fenceThread a_fenceKind a_fencePlace a_first a_wishRead a_wishEnd a_outcome a_least a_shown a_order a_bound a_memory a_got (d + 1) (nI (f + 1)) := by
      intro hc
      refine ih (f + 1) (by omega) ?_
      intro f' hf'
      by_cases e : f' = f
      · rw [e]; exact hc
      · exact hn f' (by omega)
    have yes : wj_Fc a_thread a_reads a_writes a_fenceThread a_fenceKind a_fencePlace a b f → post 1 := fun hc => h1 ⟨f, by omega, hc⟩
    refine br_f (nI_ge (by omega) (by omega)) ⟨jf, ia, ?_⟩
    rw [ef, ea]
    refine br_c (fun c1 => ⟨jf, br_c (fun c2 => nm_r (nI_1 f) (nx (fun z => z.2.1 c2))) (fun c2 => ⟨jf, br_c (fun c3 => nm_r (nI_1 f) (nx (fun z => z.2.2.1 c3))) (fun c3 => ⟨jf, br_c (fun c4 => yes ⟨c1, c2, c3, Or.inl c4⟩) (fun c4 => ⟨jf, ?_⟩)⟩)⟩)⟩) (fun c1 => nm_r (nI_1 f) (nx (fun z => c1 z.1)))
    have g78 : ¬ (a_fenceKind f = 1 ∧ ¬ a_reads a = 0) → wY_fenced_78 post (wY_fenced_2 post (nI a) (nI b) f_threads f_addresses f_n (nI F) f_solved f_outcomes a_thread a_address a_constant a_reads a_writes a_acquiring a_releasing a_on a_fenceThread a_fenceKind a_fencePlace a_first a_wishRead a_wishEnd a_outcome a_least a_shown a_order a_bound a_memory a_got (d + 1)) (nI a) (nI b) (nI f) f_threads f_addresses f_n (nI F) f_solved f_outcomes a_thread a_address a_constant a_reads a_writes a_acquiring a_releasing a_on a_fenceThread a_fenceKind a_fencePlace a_first a_wishRead a_wishEnd a_outcome a_least a_shown a_order a_bound a_memory a_got := by
      intro c5
      have no : ¬ (a_fenceKind f = 2 ∧ ¬ a_writes a = 0 ∧ ¬ a_writes b = 0) → ¬ wj_Fc a_thread a_reads a_writes a_fenceThread a_fenceKind a_fencePlace a b f := by
        rintro c6 ⟨_, _, _, z | z | z⟩
        · exact c4 z
        · exact c5 z
        · exact c6 z
      unfold wY_fenced_78
      rw [ef, ea, eb]
      refine ⟨jf, br_c (fun c6 => ⟨ia, br_c (fun c7 => nm_r (nI_1 f) (nx (no (fun z => z.2.1 c7)))) (fun c7 => ⟨ib, br_c (fun c8 => nm_r (nI_1 f) (nx (no (fun z => z.2.2 c8)))) (fun c8 => yes ⟨c1, c2, c3, Or.inr (Or.inr ⟨c6, c7, c8⟩)⟩)⟩)⟩) (fun c6 => nm_r (nI_1 f) (nx (no (fun z => c6 z.1))))⟩
    exact br_c (fun c5 => ⟨ia, br_c (fun c6 => g78 (fun z => z.2 c6)) (fun c6 => yes ⟨c1, c2, c3, Or.inr (Or.inl ⟨c5, c6⟩)⟩)⟩) (fun c5 => g78 (fun z => c5 z.1))
theorem wj_yfen {post : Int32 → Prop} (hF : F ≤ 8) (ha : a < 6) (hb : b < 6) (h1 : wj_Fe F a_thread a_reads a_writes a_fenceThread a_fenceKind a_fencePlace a b → post 1) (h0 : ¬ wj_Fe F a_thread a_reads a_writes a_fenceThread a_fenceKind a_fencePlace a b → post 0) : wpY_fenced post (f_threads, f_addresses, f_n, nI F, f_solved, f_outcomes, a_thread, a_address, a_constant, a_reads, a_writes, a_acquiring, a_releasing, a_on, a_fenceThread, a_fenceKind, a_fencePlace, a_first, a_wishRead, a_wishEnd, a_outcome, a_least, a_shown, a_order, a_bound, a_memory, a_got) (nI a) (nI b) := by
  unfold wpY_fenced
  exact ⟨F + 1, wj_yfen1 hF ha hb h1 h0 F 0 (by omega) (fun f' hf' => absurd hf' (Nat.not_lt_zero _))⟩
theorem wj_ymu143 {post : Int32 → Prop} (ha : a < 6) (hb : b < 6) (h1 : ¬ a_writes b = 0 → (∃ c, c < b ∧ a_on (4 * c + 2) = nI a) → post 1) (h0 : ¬ (¬ a_writes b = 0 ∧ ∃ c, c < b ∧ a_on (4 * c + 2) = nI a) → post 0) :
    ∀ d c : Nat, c + d = b → (∀ c', c' < c → ¬ (a_on (4 * c' + 2) = nI a ∧ ¬ a_writes b = 0)) → wY_must_143 post (nI a) (nI b) f_threads f_addresses f_n f_fences f_solved f_outcomes a_thread a_address a_constant a_reads a_writes a_acquiring a_releasing a_on a_fenceThread a_fenceKind a_fencePlace a_first a_wishRead a_wishEnd a_outcome a_least a_shown a_order a_bound a_memory a_got (d + 1) (nI c) := by
  have eb : (nI b).toNatClampNeg = b := nI_clamp (by omega)
  have ib : vp_in (nI b) 6 := vp_in_nI hb (by decide)
  intro d
  induction d with
  | zero =>
    intro c hc hn
    have : c = b := by omega
    subst this
    refine br_t (nI_le (Nat.le_refl _) (by omega)) (h0 ?_)
    rintro ⟨z1, c', z2, z3⟩
    exact hn c' z2 ⟨z3, z1⟩
  | succ d ih =>
    intro c hc hn
    have nx : ¬ (a_on (4 * c + 2) = nI a ∧ ¬ a_writes b = 0) → wY_must_143 post (nI a) (nI b) f_threads f_addresses f_n f_fences f_solved f_outcomes a_thread a_address a_constant a_reads a_writes a_acquiring a_releasing a_on a_fenceThread a_fenceKind a_fencePlace a_first a_wishRead a_wishEnd a_outcome a_least a_shown a_order a_bound a_memory a_got (d + 1) (nI (c + 1)) := by
      intro z
      refine ih (c + 1) (by omega) ?_
      intro c' hc'
      by_cases e : c' = c
      · rw [e]; exact z
      · exact hn c' (by omega)
    refine br_f (nI_ge (by omega) (by omega)) ?_
    rw [wj_42, nI_clamp (by omega), eb]
    exact ⟨vp_in_nI (by omega) (by decide), br_c (fun c1 => ⟨ib, br_c (fun c2 => nm_r (nI_1 c) (nx (fun z => z.2 c2))) (fun c2 => h1 c2 ⟨c, by omega, c1⟩)⟩) (fun c1 => nm_r (nI_1 c) (nx (fun z => c1 z.1)))⟩
theorem wj_ymu86 {post : Int32 → Prop} (ha : a < 6) (hb : b < 6) (h1 : wj_De a_writes a_on a b → post 1) (h0 : ¬ wj_De a_writes a_on a b → post 0) : wY_must_86 post (nI a) (nI b) f_threads f_addresses f_n f_fences f_solved f_outcomes a_thread a_address a_constant a_reads a_writes a_acquiring a_releasing a_on a_fenceThread a_fenceKind a_fencePlace a_first a_wishRead a_wishEnd a_outcome a_least a_shown a_order a_bound a_memory a_got := by
  have eb : (nI b).toNatClampNeg = b := nI_clamp (by omega)
  have ib : vp_in (nI b) 6 := vp_in_nI hb (by decide)
  unfold wY_must_86
  rw [wj_41, wj_42, wj_43, nI_clamp (n := 4 * b + 1) (by omega), nI_clamp (n := 4 * b + 2) (by omega), nI_clamp (n := 4 * b + 3) (by omega), eb]
  refine ⟨vp_in_nI (by omega) (by decide), br_c (fun c1 => h1 (Or.inl c1)) (fun c1 => ⟨vp_in_nI (by omega) (by decide), br_c (fun c2 => h1 (Or.inr (Or.inl c2))) (fun c2 => ⟨vp_in_nI (by omega) (by decide), ?_⟩)⟩)⟩
  have lp : ¬ (¬ a_writes b = 0 ∧ a_on (4 * b + 3) = nI a) → ∃ n143, wY_must_143 post (nI a) (nI b) f_threads f_addresses f_n f_fences f_solved f_outcomes a_thread a_address a_constant a_reads a_writes a_acquiring a_releasing a_on a_fenceThread a_fenceKind a_fencePlace a_first a_wishRead a_wishEnd a_outcome a_least a_shown a_order a_bound a_memory a_got n143 0 := by
    intro c3
    refine ⟨b + 1, wj_ymu143 ha hb (fun z1 z2 => h1 (Or.inr (Or.inr ⟨z1, Or.inr z2⟩))) (fun z => h0 ?_) b 0 (by omega) (fun c' hc' => absurd hc' (Nat.not_lt_zero _))⟩
    rintro (w | w | ⟨w1, w | w⟩)
    · exact c1 w
    · exact c2 w
    · exact c3 ⟨w1, w⟩
    · exact z ⟨w1, w⟩
  exact br_c (fun c3 => ⟨ib, br_c (fun c4 => lp (fun z => z.1 c4)) (fun c4 => h1 (Or.inr (Or.inr ⟨c4, Or.inl c3⟩)))⟩) (fun c3 => lp (fun z => c3 z.2))
theorem wj_ymust {post : Int32 → Prop} (hN : N ≤ 6) (hF : F ≤ 8) (ha : a < N) (hb : b < N) (h1 : wj_Mu N F a_thread a_address a_reads a_writes a_acquiring a_releasing a_on a_fenceThread a_fenceKind a_fencePlace a b → post 1)
    (h0 : ¬ wj_Mu N F a_thread a_address a_reads a_writes a_acquiring a_releasing a_on a_fenceThread a_fenceKind a_fencePlace a b → post 0) : wpY_must post (f_threads, f_addresses, nI N, nI F, f_solved, f_outcomes, a_thread, a_address, a_constant, a_reads, a_writes, a_acquiring, a_releasing, a_on, a_fenceThread, a_fenceKind, a_fencePlace, a_first, a_wishRead, a_wishEnd, a_outcome, a_least, a_shown, a_order, a_bound, a_memory, a_got) (nI a) (nI b) := by
  have ea : (nI a).toNatClampNeg = a := nI_clamp (by omega)
  have eb : (nI b).toNatClampNeg = b := nI_clamp (by omega)
  have ia : vp_in (nI a) 6 := vp_in_nI (by omega) (by decide)
  have ib : vp_in (nI b) 6 := vp_in_nI (by omega) (by decide)
  unfold wpY_must
  rw [ea, eb]
  refine pk_le b a (fun c => h0 (fun z => by have := z.1; omega)) (fun c => ⟨ia, ib, br_c (fun c1 => ⟨ia, ib, br_c (fun c2 => h1 ⟨c, hb, c1, Or.inl c2⟩) (fun c2 => ?_)⟩) (fun c1 => h0 (fun z => c1 z.2.2.1))⟩)
  have m86 : ¬ wj_Fe F a_thread a_reads a_writes a_fenceThread a_fenceKind a_fencePlace a b → a_acquiring a = 0 → a_releasing b = 0 → (a_releasing a = 0 ∨ a_acquiring b = 0) → wY_must_86 post (nI a) (nI b) f_threads f_addresses (nI N) (nI F) f_solved f_outcomes a_thread a_address a_constant a_reads a_writes a_acquiring a_releasing a_on a_fenceThread a_fenceKind a_fencePlace a_first a_wishRead a_wishEnd a_outcome a_least a_shown a_order a_bound a_memory a_got := by
    intro c3 c4 c5 c6
    refine wj_ymu86 (by omega) (by omega) (fun z => h1 ⟨c, hb, c1, Or.inr (Or.inr (Or.inr (Or.inr (Or.inr z))))⟩) (fun z => h0 ?_)
    rintro ⟨_, _, _, w | w | w | w | w | w⟩
    · exact c2 w
    · exact w c4
    · exact w c5
    · rcases c6 with c6 | c6
      · exact w.1 c6
      · exact w.2 c6
    · exact c3 w
    · exact z w
  refine wj_yfen hF (by omega) (by omega) (fun c3 => br_f (by decide) (h1 ⟨c, hb, c1, Or.inr (Or.inr (Or.inr (Or.inr (Or.inl c3))))⟩)) (fun c3 => br_t rfl ⟨ia, ?_⟩)
  exact br_c (fun c4 => ⟨ib, br_c (fun c5 => ⟨ia, br_c (fun c6 => m86 c3 c4 c5 (Or.inl c6)) (fun c6 => ⟨ib, br_c (fun c7 => m86 c3 c4 c5 (Or.inr c7)) (fun c7 => h1 ⟨c, hb, c1, Or.inr (Or.inr (Or.inr (Or.inl ⟨c6, c7⟩)))⟩)⟩)⟩) (fun c5 => h1 ⟨c, hb, c1, Or.inr (Or.inr (Or.inl c5))⟩)⟩) (fun c4 => h1 ⟨c, hb, c1, Or.inr (Or.inl c4)⟩)
theorem wj_ystart1 {post : SY → Prop} {J : Int32 → (Nat → Int32) → (Nat → Int32) → (Nat → Int32) → (Nat → Int32) → (Nat → Int32) → (Nat → Int32) → (Nat → Int32) → (Nat → Int32) → (Nat → Int32) → (Nat → Int32) → (Nat → Int32) → (Nat → Int32) → (Nat → Int32) → (Nat → Int32) → (Nat → Int64) → (Nat → Int32) → (Nat → Int32) → (Nat → Int32) → (Nat → Int32) → (Nat → Int32) → (Nat → Int32) → Prop}
    (hN : N ≤ 6) (hF : F ≤ 8) (ha : a < 6)
    (hJ : ∀ B, (∀ i, i < 6 * (a + 1) → (B i = 0 ↔ ¬ wj_Mu N F a_thread a_address a_reads a_writes a_acquiring a_releasing a_on a_fenceThread a_fenceKind a_fencePlace (i / 6) (i % 6))) → J (nI (a + 1)) a_thread a_address a_constant a_reads a_writes a_acquiring a_releasing a_on a_fenceThread a_fenceKind a_fencePlace a_first a_wishRead a_wishEnd a_outcome a_least a_shown a_order B a_memory a_got) :
    ∀ (d b : Nat) (B : Nat → Int32), b + d = 6 → (∀ i, i < 6 * a + b → (B i = 0 ↔ ¬ wj_Mu N F a_thread a_address a_reads a_writes a_acquiring a_releasing a_on a_fenceThread a_fenceKind a_fencePlace (i / 6) (i % 6))) →
    wY_start_17 post J (nI a) f_threads f_addresses (nI N) (nI F) f_solved f_outcomes (d + 1) (nI b) a_thread a_address a_constant a_reads a_writes a_acquiring a_releasing a_on a_fenceThread a_fenceKind a_fencePlace a_first a_wishRead a_wishEnd a_outcome a_least a_shown a_order B a_memory a_got := by
  intro d
  induction d with
  | zero =>
    intro b B hb hB
    have : b = 6 := by omega
    subst this
    exact br_t (nI_le (a := 6) (b := 6) (by decide) (by decide)) (nm_r (nI_1 a) (hJ B hB))
  | succ d ih =>
    intro b B hb hB
    have e1 : (6 * nI a) + nI b = nI (6 * a + b) := wj_6 a b
    have i1 : vp_in (nI (6 * a + b)) 36 := vp_in_nI (by omega) (by decide)
    have nx : ∀ v : Int32, (v = 0 ↔ ¬ wj_Mu N F a_thread a_address a_reads a_writes a_acquiring a_releasing a_on a_fenceThread a_fenceKind a_fencePlace a b) → wY_start_17 post J (nI a) f_threads f_addresses (nI N) (nI F) f_solved f_outcomes (d + 1) (nI (b + 1)) a_thread a_address a_constant a_reads a_writes a_acquiring a_releasing a_on a_fenceThread a_fenceKind a_fencePlace a_first a_wishRead a_wishEnd a_outcome a_least a_shown a_order (upd B (6 * a + b) v) a_memory a_got := by
      intro v hv
      refine ih (b + 1) _ (by omega) ?_
      intro i hi
      by_cases e : i = 6 * a + b
      · subst e
        rw [pk_us, show (6 * a + b) / 6 = a from by omega, show (6 * a + b) % 6 = b from by omega]
        exact hv
      · rw [pk_un e]; exact hB i (by omega)
    have n0 : vp_nar .boolean 0 = 0 := rfl
    have n1 : vp_nar .boolean 1 = 1 := rfl
    have zz : ∀ h : ¬ wj_Mu N F a_thread a_address a_reads a_writes a_acquiring a_releasing a_on a_fenceThread a_fenceKind a_fencePlace a b, ((0 : Int32) = 0 ↔ ¬ wj_Mu N F a_thread a_address a_reads a_writes a_acquiring a_releasing a_on a_fenceThread a_fenceKind a_fencePlace a b) := fun h => ⟨fun _ => h, fun _ => rfl⟩
    refine br_f (nI_ge (a := b) (b := 6) (by omega) (by decide)) ?_
    rw [e1, nI_clamp (n := 6 * a + b) (by omega), n0, n1]
    refine pk_le N a (fun c => ⟨i1, nm_e (nm_r (nI_1 b) (nx 0 (zz (fun z => by have := wj_Mu_lt z; omega))))⟩) (fun c => pk_le N b (fun c' => ⟨i1, nm_e (nm_r (nI_1 b) (nx 0 (zz (fun z => by have := wj_Mu_lt z; omega))))⟩) (fun c' => ?_))
    refine wj_ymust hN hF c c' (fun h => br_f (by decide) ⟨i1, nm_e (nm_r (nI_1 b) (nx 1 ?_))⟩) (fun h => br_t rfl ⟨i1, nm_e (nm_r (nI_1 b) (nx 0 (zz h)))⟩)
    exact ⟨fun z => absurd z (by decide), fun z => absurd h z⟩
theorem wj_ystart2 {post : SY → Prop} (hN : N ≤ 6) (hF : F ≤ 8)
    (h : ∀ O B, (∀ i, i < 6 → O i = nI i) → (∀ i, i < 36 → (B i = 0 ↔ ¬ wj_Mu N F a_thread a_address a_reads a_writes a_acquiring a_releasing a_on a_fenceThread a_fenceKind a_fencePlace (i / 6) (i % 6))) → post (f_threads, f_addresses, nI N, nI F, f_solved, f_outcomes, a_thread, a_address, a_constant, a_reads, a_writes, a_acquiring, a_releasing, a_on, a_fenceThread, a_fenceKind, a_fencePlace, a_first, a_wishRead, a_wishEnd, a_outcome, a_least, a_shown, O, B, a_memory, a_got)) :
    ∀ (d a : Nat) (O B : Nat → Int32), a + d = 6 → (∀ i, i < a → O i = nI i) → (∀ i, i < 6 * a → (B i = 0 ↔ ¬ wj_Mu N F a_thread a_address a_reads a_writes a_acquiring a_releasing a_on a_fenceThread a_fenceKind a_fencePlace (i / 6) (i % 6))) →
    wY_start_2 post f_threads f_addresses (nI N) (nI F) f_solved f_outcomes (d + 1) (nI a) a_thread a_address a_constant a_reads a_writes a_acquiring a_releasing a_on a_fenceThread a_fenceKind a_fencePlace a_first a_wishRead a_wishEnd a_outcome a_least a_shown O B a_memory a_got := by
  intro d
  induction d with
  | zero =>
    intro a O B ha hO hB
    have : a = 6 := by omega
    subst this
    exact br_t (nI_le (a := 6) (b := 6) (by decide) (by decide)) (h O B hO hB)
  | succ d ih =>
    intro a O B ha hO hB
    refine br_f (nI_ge (a := a) (b := 6) (by omega) (by decide)) ⟨vp_in_nI (by omega) (by decide), nm_e ⟨7, ?_⟩⟩
    refine wj_ystart1 hN hF (by omega) ?_ 6 0 B rfl hB
    intro B' hB'
    refine ih (a + 1) _ B' (by omega) ?_ hB'
    intro i hi
    rw [nI_clamp (by omega)]
    by_cases e : i = a
    · rw [e, pk_us]
    · rw [pk_un e]; exact hO i (by omega)
theorem wj_ystart {post : SY → Prop} (hN : N ≤ 6) (hF : F ≤ 8)
    (h : ∀ O B, (∀ i, i < N → O i = nI (wj_o (List.range N) i)) → (∀ a b, a < N → b < N → (B (6 * a + b) = 0 ↔ ¬ wj_Mu N F a_thread a_address a_reads a_writes a_acquiring a_releasing a_on a_fenceThread a_fenceKind a_fencePlace a b)) → post (f_threads, f_addresses, nI N, nI F, f_solved, f_outcomes, a_thread, a_address, a_constant, a_reads, a_writes, a_acquiring, a_releasing, a_on, a_fenceThread, a_fenceKind, a_fencePlace, a_first, a_wishRead, a_wishEnd, a_outcome, a_least, a_shown, O, B, a_memory, a_got)) :
    wpY_start post (f_threads, f_addresses, nI N, nI F, f_solved, f_outcomes, a_thread, a_address, a_constant, a_reads, a_writes, a_acquiring, a_releasing, a_on, a_fenceThread, a_fenceKind, a_fencePlace, a_first, a_wishRead, a_wishEnd, a_outcome, a_least, a_shown, a_order, a_bound, a_memory, a_got) := by
  unfold wpY_start
  refine ⟨7, wj_ystart2 hN hF ?_ 6 0 a_order a_bound rfl (fun i hi => absurd hi (Nat.not_lt_zero _)) (fun i hi => absurd hi (Nat.not_lt_zero _))⟩
  intro O B hO hB
  refine h O B ?_ ?_
  · intro i hi
    rw [hO i (by omega), wj_oG (by rw [List.length_range]; exact hi), List.getElem_range]
  · intro a b ha hb
    have := hB (6 * a + b) (by omega)
    rw [show (6 * a + b) / 6 = a from by omega, show (6 * a + b) % 6 = b from by omega] at this
    exact this
end
section
variable {f_threads f_addresses f_count f_fences f_solved f_found f_decisions : Int32} {a_threadOf a_addressOf a_constantOf a_reads a_writes a_acquiring a_releasing a_dependency a_fenceThread a_fenceKind a_fencePlace a_start a_wishRead a_wishMemory a_leastRun a_seen a_decideFirst a_decideSecond a_tried a_sequence a_memory a_got : Nat → Int32} {a_keys a_relation : Nat → Int64}
variable {N F a b : Nat}
theorem wj_x121 {post J : Int32 → Prop} {x1 x2 x4 x5 z0 : Int32} {f : Nat} (hn : x4 = 0 → x5 = 0 → z0 = 0 → J (nI (f + 1))) (hy : (¬ x4 = 0 ∨ ¬ x5 = 0 ∨ ¬ z0 = 0) → post 1) : wX_fenced_121 post J x1 x2 (nI f) x4 x5 z0 f_threads f_addresses f_count f_fences f_solved f_found f_decisions a_threadOf a_addressOf a_constantOf a_reads a_writes a_acquiring a_releasing a_dependency a_fenceThread a_fenceKind a_fencePlace a_start a_wishRead a_wishMemory a_keys a_leastRun a_seen a_decideFirst a_decideSecond a_tried a_relation a_sequence a_memory a_got :=
  br_c (fun c1 => br_c (fun c2 => br_c (fun c3 => nm_r (nI_1 f) (hn c1 c2 c3)) (fun c3 => hy (Or.inr (Or.inr c3)))) (fun c2 => hy (Or.inr (Or.inl c2)))) (fun c1 => hy (Or.inl c1))
theorem wj_xfen1 {post : Int32 → Prop} (hF : F ≤ 8) (ha : a < 6) (hb : b < 6) (h1 : wj_Fe F a_threadOf a_reads a_writes a_fenceThread a_fenceKind a_fencePlace a b → post 1) (h0 : ¬ wj_Fe F a_threadOf a_reads a_writes a_fenceThread a_fenceKind a_fencePlace a b → post 0) :
    ∀ d f : Nat, f + d = F → (∀ f', f' < f → ¬ wj_Fc a_threadOf a_reads a_writes a_fenceThread a_fenceKind a_fencePlace a b f') → wX_fenced_2 post (nI a) (nI b) f_threads f_addresses f_count (nI F) f_solved f_found f_decisions a_threadOf a_addressOf a_constantOf a_reads a_writes a_acquiring a_releasing a_dependency a_fenceThread a_fenceKind a_fencePlace a_start a_wishRead a_wishMemory a_keys a_leastRun a_seen a_decideFirst a_decideSecond a_tried a_relation a_sequence a_memory a_got (d + 1) (nI f) := by
  have ea : (nI a).toNatClampNeg = a := nI_clamp (by omega)
  have eb : (nI b).toNatClampNeg = b := nI_clamp (by omega)
  have ia : vp_in (nI a) 6 := vp_in_nI ha (by decide)
  have ib : vp_in (nI b) 6 := vp_in_nI hb (by decide)
  intro d
  induction d with
  | zero =>
    intro f hf hn
    have : f = F := by omega
    subst this
    refine br_t (nI_le (Nat.le_refl _) (by omega)) (h0 ?_)
    rintro ⟨f', hf', hc⟩
    exact hn f' hf' hc
  | succ d ih =>
    intro f hf hn
    have ef : (nI f).toNatClampNeg = f := nI_clamp (by omega)
    have jf : vp_in (nI f) 8 := vp_in_nI (by omega) (by decide)
    have nx : ¬ wj_Fc a_threadOf a_reads a_writes a_fenceThread a_fenceKind a_fencePlace a b f → wX_fenced_2 post (nI a) (nI b) f_threads f_addresses f_count (nI F) f_solved f_found f_decisions a_threadOf a_addressOf a_constantOf a_reads a_writes a_acquiring a_releasing a_dependency a_fenceThread a_fenceKind a_fencePlace a_start a_wishRead a_wishMemory a_keys a_leastRun a_seen a_decideFirst a_decideSecond a_tried a_relation a_sequence a_memory a_got (d + 1) (nI (f + 1)) := by
      intro hc
      refine ih (f + 1) (by omega) ?_
      intro f' hf'
      by_cases e : f' = f
      · rw [e]; exact hc
      · exact hn f' (by omega)
    have yes : wj_Fc a_threadOf a_reads a_writes a_fenceThread a_fenceKind a_fencePlace a b f → post 1 := fun hc => h1 ⟨f, by omega, hc⟩
    refine br_f (nI_ge (by omega) (by omega)) ⟨jf, ia, ?_⟩
    rw [ef, ea]
    have g86 : ∀ x4 x5 : Int32, (x4 = 0 ↔ ¬ a_fenceKind f = 3) → (x5 = 0 ↔ ¬ (a_fenceKind f = 1 ∧ ¬ a_reads a = 0)) → a_fenceThread f = a_threadOf a → ¬ a_fencePlace f ≤ nI a → ¬ nI b < a_fencePlace f → wX_fenced_86 post (wX_fenced_2 post (nI a) (nI b) f_threads f_addresses f_count (nI F) f_solved f_found f_decisions a_threadOf a_addressOf a_constantOf a_reads a_writes a_acquiring a_releasing a_dependency a_fenceThread a_fenceKind a_fencePlace a_start a_wishRead a_wishMemory a_keys a_leastRun a_seen a_decideFirst a_decideSecond a_tried a_relation a_sequence a_memory a_got (d + 1)) (nI a) (nI b) (nI f) x4 x5 f_threads f_addresses f_count (nI F) f_solved f_found f_decisions a_threadOf a_addressOf a_constantOf a_reads a_writes a_acquiring a_releasing a_dependency a_fenceThread a_fenceKind a_fencePlace a_start a_wishRead a_wishMemory a_keys a_leastRun a_seen a_decideFirst a_decideSecond a_tried a_relation a_sequence a_memory a_got := by
      intro x4 x5 h4 h5 c1 c2 c3
      have g121 : ∀ z0 : Int32, (z0 = 0 ↔ ¬ (a_fenceKind f = 2 ∧ ¬ a_writes a = 0 ∧ ¬ a_writes b = 0)) → wX_fenced_121 post (wX_fenced_2 post (nI a) (nI b) f_threads f_addresses f_count (nI F) f_solved f_found f_decisions a_threadOf a_addressOf a_constantOf a_reads a_writes a_acquiring a_releasing a_dependency a_fenceThread a_fenceKind a_fencePlace a_start a_wishRead a_wishMemory a_keys a_leastRun a_seen a_decideFirst a_decideSecond a_tried a_relation a_sequence a_memory a_got (d + 1)) (nI a) (nI b) (nI f) x4 x5 z0 f_threads f_addresses f_count (nI F) f_solved f_found f_decisions a_threadOf a_addressOf a_constantOf a_reads a_writes a_acquiring a_releasing a_dependency a_fenceThread a_fenceKind a_fencePlace a_start a_wishRead a_wishMemory a_keys a_leastRun a_seen a_decideFirst a_decideSecond a_tried a_relation a_sequence a_memory a_got := by
        intro z0 hz
        refine wj_x121 (fun w4 w5 wz => nx ?_) (fun w => yes ⟨c1, c2, c3, ?_⟩)
        · rintro ⟨_, _, _, z | z | z⟩
          · exact h4.mp w4 z
          · exact h5.mp w5 z
          · exact hz.mp wz z
        · refine Classical.byContradiction fun hh => ?_
          rcases w with w | w | w
          · exact w (h4.mpr (fun z => hh (Or.inl z)))
          · exact w (h5.mpr (fun z => hh (Or.inr (Or.inl z))))
          · exact w (hz.mpr (fun z => hh (Or.inr (Or.inr z))))
      unfold wX_fenced_86
      rw [ef, ea, eb]
      exact ⟨jf, br_c (fun c6 => ⟨ia, br_c (fun c7 => g121 0 ⟨fun _ z => z.2.1 c7, fun _ => rfl⟩) (fun c7 => ⟨ib, br_c (fun c8 => g121 0 ⟨fun _ z => z.2.2 c8, fun _ => rfl⟩) (fun c8 => g121 1 ⟨fun z => absurd z (by decide), fun z => absurd ⟨c6, c7, c8⟩ z⟩)⟩)⟩) (fun c6 => g121 0 ⟨fun _ z => c6 z.1, fun _ => rfl⟩)⟩
    have g60 : ∀ x4 : Int32, (x4 = 0 ↔ ¬ a_fenceKind f = 3) → a_fenceThread f = a_threadOf a → ¬ a_fencePlace f ≤ nI a → ¬ nI b < a_fencePlace f → wX_fenced_60 post (wX_fenced_2 post (nI a) (nI b) f_threads f_addresses f_count (nI F) f_solved f_found f_decisions a_threadOf a_addressOf a_constantOf a_reads a_writes a_acquiring a_releasing a_dependency a_fenceThread a_fenceKind a_fencePlace a_start a_wishRead a_wishMemory a_keys a_leastRun a_seen a_decideFirst a_decideSecond a_tried a_relation a_sequence a_memory a_got (d + 1)) (nI a) (nI b) (nI f) x4 f_threads f_addresses f_count (nI F) f_solved f_found f_decisions a_threadOf a_addressOf a_constantOf a_reads a_writes a_acquiring a_releasing a_dependency a_fenceThread a_fenceKind a_fencePlace a_start a_wishRead a_wishMemory a_keys a_leastRun a_seen a_decideFirst a_decideSecond a_tried a_relation a_sequence a_memory a_got := by
      intro x4 h4 c1 c2 c3
      unfold wX_fenced_60
      rw [ef, ea]
      exact ⟨jf, br_c (fun c6 => ⟨ia, br_c (fun c7 => g86 x4 0 h4 ⟨fun _ z => z.2 c7, fun _ => rfl⟩ c1 c2 c3) (fun c7 => g86 x4 1 h4 ⟨fun z => absurd z (by decide), fun z => absurd ⟨c6, c7⟩ z⟩ c1 c2 c3)⟩) (fun c6 => g86 x4 0 h4 ⟨fun _ z => c6 z.1, fun _ => rfl⟩ c1 c2 c3)⟩
    exact br_c (fun c1 => ⟨jf, br_c (fun c2 => nm_r (nI_1 f) (nx (fun z => z.2.1 c2))) (fun c2 => ⟨jf, br_c (fun c3 => nm_r (nI_1 f) (nx (fun z => z.2.2.1 c3))) (fun c3 => ⟨jf, br_c (fun c4 => g60 1 ⟨fun z => absurd z (by decide), fun z => absurd c4 z⟩ c1 c2 c3) (fun c4 => g60 0 ⟨fun _ => c4, fun _ => rfl⟩ c1 c2 c3)⟩)⟩)⟩) (fun c1 => nm_r (nI_1 f) (nx (fun z => c1 z.1)))
theorem wj_xfen {post : Int32 → Prop} (hF : F ≤ 8) (ha : a < 6) (hb : b < 6) (h1 : wj_Fe F a_threadOf a_reads a_writes a_fenceThread a_fenceKind a_fencePlace a b → post 1) (h0 : ¬ wj_Fe F a_threadOf a_reads a_writes a_fenceThread a_fenceKind a_fencePlace a b → post 0) : wpX_fenced post (f_threads, f_addresses, f_count, nI F, f_solved, f_found, f_decisions, a_threadOf, a_addressOf, a_constantOf, a_reads, a_writes, a_acquiring, a_releasing, a_dependency, a_fenceThread, a_fenceKind, a_fencePlace, a_start, a_wishRead, a_wishMemory, a_keys, a_leastRun, a_seen, a_decideFirst, a_decideSecond, a_tried, a_relation, a_sequence, a_memory, a_got) (nI a) (nI b) := by
  unfold wpX_fenced
  exact ⟨F + 1, wj_xfen1 hF ha hb h1 h0 F 0 (by omega) (fun f' hf' => absurd hf' (Nat.not_lt_zero _))⟩
/-- X keeps the event before, plus one; Y keeps it, or -1 -/
def wj_dp (dp on : Nat → Int32) : Prop := ∀ i, i < 24 → dp i = on i + 1
theorem wj_dp_eq {dp on : Nat → Int32} (h : wj_dp dp on) {i a : Nat} (hi : i < 24) : dp i = nI a + 1 ↔ on i = nI a := by
  rw [h i hi]
  constructor
  · intro z
    have : on i + 1 - 1 = nI a + 1 - 1 := by rw [z]
    rwa [Int32.add_sub_cancel, Int32.add_sub_cancel] at this
  · intro z; rw [z]
theorem wj_xadr {post : Int32 → Prop} {on : Nat → Int32} (hdp : wj_dp a_dependency on) (ha : a < 6) (hb : b < 6) (h1 : (∃ c, c < b ∧ on (4 * c + 2) = nI a) → post 1) (h0 : ¬ (∃ c, c < b ∧ on (4 * c + 2) = nI a) → post 0) :
    ∀ d c : Nat, c + d = b → (∀ c', c' < c → ¬ on (4 * c' + 2) = nI a) → wX_addressedBefore_2 post (nI a) (nI b) f_threads f_addresses f_count f_fences f_solved f_found f_decisions a_threadOf a_addressOf a_constantOf a_reads a_writes a_acquiring a_releasing a_dependency a_fenceThread a_fenceKind a_fencePlace a_start a_wishRead a_wishMemory a_keys a_leastRun a_seen a_decideFirst a_decideSecond a_tried a_relation a_sequence a_memory a_got (d + 1) (nI c) := by
  intro d
  induction d with
  | zero =>
    intro c hc hn
    have : c = b := by omega
    subst this
    refine br_t (nI_le (Nat.le_refl _) (by omega)) (h0 ?_)
    rintro ⟨c', z2, z3⟩
    exact hn c' z2 z3
  | succ d ih =>
    intro c hc hn
    refine br_f (nI_ge (by omega) (by omega)) ?_
    rw [wj_42, nI_clamp (by omega)]
    refine ⟨vp_in_nI (by omega) (by decide), br_c (fun c1 => h1 ⟨c, by omega, (wj_dp_eq hdp (by omega)).mp c1⟩) (fun c1 => nm_r (nI_1 c) (ih (c + 1) (by omega) ?_))⟩
    intro c' hc'
    by_cases e : c' = c
    · rw [e]; exact fun z => c1 ((wj_dp_eq hdp (by omega)).mpr z)
    · exact hn c' (by omega)
theorem wj_xdep {post : Int32 → Prop} {on : Nat → Int32} (hdp : wj_dp a_dependency on) (ha : a < 6) (hb : b < 6) (h1 : wj_De a_writes on a b → post 1) (h0 : ¬ wj_De a_writes on a b → post 0) : wpX_depends post (f_threads, f_addresses, f_count, f_fences, f_solved, f_found, f_decisions, a_threadOf, a_addressOf, a_constantOf, a_reads, a_writes, a_acquiring, a_releasing, a_dependency, a_fenceThread, a_fenceKind, a_fencePlace, a_start, a_wishRead, a_wishMemory, a_keys, a_leastRun, a_seen, a_decideFirst, a_decideSecond, a_tried, a_relation, a_sequence, a_memory, a_got) (nI a) (nI b) := by
  have eb : (nI b).toNatClampNeg = b := nI_clamp (by omega)
  have ib : vp_in (nI b) 6 := vp_in_nI hb (by decide)
  have d1 := wj_dp_eq hdp (i := 4 * b + 1) (a := a) (by omega)
  have d2 := wj_dp_eq hdp (i := 4 * b + 2) (a := a) (by omega)
  have d3 := wj_dp_eq hdp (i := 4 * b + 3) (a := a) (by omega)
  unfold wpX_depends
  rw [wj_41, wj_42, wj_43, nI_clamp (n := 4 * b + 1) (by omega), nI_clamp (n := 4 * b + 2) (by omega), nI_clamp (n := 4 * b + 3) (by omega), eb]
  refine nm_e ⟨vp_in_nI (by omega) (by decide), br_c (fun c1 => h1 (Or.inl (d1.mp c1))) (fun c1 => ⟨vp_in_nI (by omega) (by decide), br_c (fun c2 => h1 (Or.inr (Or.inl (d2.mp c2)))) (fun c2 => ⟨ib, br_c (fun c3 => h0 ?_) (fun c3 => ⟨vp_in_nI (by omega) (by decide), br_c (fun c4 => h1 (Or.inr (Or.inr ⟨c3, Or.inl (d3.mp c4)⟩))) (fun c4 => ?_)⟩)⟩)⟩)⟩
  · rintro (w | w | ⟨w1, w⟩)
    · exact c1 (d1.mpr w)
    · exact c2 (d2.mpr w)
    · exact w1 c3
  · refine ⟨b + 1, wj_xadr hdp ha hb (fun z => br_f (by decide) (h1 (Or.inr (Or.inr ⟨c3, Or.inr z⟩)))) (fun z => br_t rfl (h0 ?_)) b 0 (by omega) (fun c' hc' => absurd hc' (Nat.not_lt_zero _))⟩
    rintro (w | w | ⟨w1, w | w⟩)
    · exact c1 (d1.mpr w)
    · exact c2 (d2.mpr w)
    · exact c4 (d3.mpr w)
    · exact z w
theorem wj_xmust {post : Int32 → Prop} {on : Nat → Int32} (hdp : wj_dp a_dependency on) (hN : N ≤ 6) (hF : F ≤ 8) (hab : a < b) (hb : b < N) (h1 : wj_Mu N F a_threadOf a_addressOf a_reads a_writes a_acquiring a_releasing on a_fenceThread a_fenceKind a_fencePlace a b → post 1)
    (h0 : ¬ wj_Mu N F a_threadOf a_addressOf a_reads a_writes a_acquiring a_releasing on a_fenceThread a_fenceKind a_fencePlace a b → post 0) : wpX_must post (f_threads, f_addresses, nI N, nI F, f_solved, f_found, f_decisions, a_threadOf, a_addressOf, a_constantOf, a_reads, a_writes, a_acquiring, a_releasing, a_dependency, a_fenceThread, a_fenceKind, a_fencePlace, a_start, a_wishRead, a_wishMemory, a_keys, a_leastRun, a_seen, a_decideFirst, a_decideSecond, a_tried, a_relation, a_sequence, a_memory, a_got) (nI a) (nI b) := by
  have ea : (nI a).toNatClampNeg = a := nI_clamp (by omega)
  have eb : (nI b).toNatClampNeg = b := nI_clamp (by omega)
  have ia : vp_in (nI a) 6 := vp_in_nI (by omega) (by decide)
  have ib : vp_in (nI b) 6 := vp_in_nI (by omega) (by decide)
  unfold wpX_must
  rw [ea, eb]
  refine ⟨ia, ib, br_c (fun c1 => ⟨ia, ib, br_c (fun c2 => h1 ⟨hab, hb, c1, Or.inl c2⟩) (fun c2 => ?_)⟩) (fun c1 => h0 (fun z => c1 z.2.2.1))⟩
  have m72 : a_acquiring a = 0 → a_releasing b = 0 → (a_releasing a = 0 ∨ a_acquiring b = 0) → wX_must_72 post (nI a) (nI b) f_threads f_addresses (nI N) (nI F) f_solved f_found f_decisions a_threadOf a_addressOf a_constantOf a_reads a_writes a_acquiring a_releasing a_dependency a_fenceThread a_fenceKind a_fencePlace a_start a_wishRead a_wishMemory a_keys a_leastRun a_seen a_decideFirst a_decideSecond a_tried a_relation a_sequence a_memory a_got := by
    intro c4 c5 c6
    refine wj_xfen hF (by omega) (by omega) (fun c3 => br_f (by decide) (h1 ⟨hab, hb, c1, Or.inr (Or.inr (Or.inr (Or.inr (Or.inl c3))))⟩)) (fun c3 => br_t rfl ?_)
    refine wj_xdep hdp (by omega) (by omega) (fun z => br_f (by decide) (h1 ⟨hab, hb, c1, Or.inr (Or.inr (Or.inr (Or.inr (Or.inr z))))⟩)) (fun z => br_t rfl (h0 ?_))
    rintro ⟨_, _, _, w | w | w | w | w | w⟩
    · exact c2 w
    · exact w c4
    · exact w c5
    · rcases c6 with c6 | c6
      · exact w.1 c6
      · exact w.2 c6
    · exact c3 w
    · exact z w
  exact ⟨ia, br_c (fun c4 => ⟨ib, br_c (fun c5 => ⟨ia, br_c (fun c6 => m72 c4 c5 (Or.inl c6)) (fun c6 => ⟨ib, br_c (fun c7 => m72 c4 c5 (Or.inr c7)) (fun c7 => h1 ⟨hab, hb, c1, Or.inr (Or.inr (Or.inr (Or.inl ⟨c6, c7⟩)))⟩)⟩)⟩) (fun c5 => h1 ⟨hab, hb, c1, Or.inr (Or.inr (Or.inl c5))⟩)⟩) (fun c4 => h1 ⟨hab, hb, c1, Or.inr (Or.inl c4)⟩)⟩
end
end
section
/-! X: programRelation, leastSequence -/
theorem wj_m1 (x : Int32) : x + (-1) = x - 1 := by rw [Int32.sub_eq_add_neg]
theorem wj_nIor (a b : Nat) : nI a ||| nI b = nI (a ||| b) := by
  refine Int32.toBitVec_inj.mp ?_
  rw [Int32.toBitVec_or]
  show BitVec.ofNat 32 a ||| BitVec.ofNat 32 b = BitVec.ofNat 32 (a ||| b)
  rw [BitVec.ofNat_or]
theorem wj_1sh {i : Nat} (hi : i < 31) : (1 : Int32) <<< (nI i &&& 31) = nI (2 ^ i) := by
  have := pk_shlN (n := 1) (nI i &&& 31) i (s_l i (by omega)) (by
    have : 2 ^ i < 2 ^ 32 := Nat.pow_lt_pow_right (by decide) (by omega)
    omega)
  rw [Nat.one_mul] at this
  exact this
set_option maxRecDepth 100000 in
theorem wj_sub_ck : ∀ p : Fin 64, ∀ q : Fin 64, (decide ((nI p.val &&& (nI q.val ^^^ (-1))) = 0)) = Nat.beq (p.val &&& q.val) p.val := by decide +kernel
theorem wj_sub {p q : Nat} (hp : p < 64) (hq : q < 64) : (nI p &&& (nI q ^^^ (-1))) = 0 ↔ ∀ x, p.testBit x = true → q.testBit x = true := by
  have h := wj_sub_ck ⟨p, hp⟩ ⟨q, hq⟩
  have h1 : (nI p &&& (nI q ^^^ (-1))) = 0 ↔ p &&& q = p := by
    constructor
    · intro z
      rw [decide_eq_true z] at h
      exact Nat.eq_of_beq_eq_true h.symm
    · intro z
      have : Nat.beq (p &&& q) p = true := by rw [z]; exact Nat.beq_refl p
      exact of_decide_eq_true (h.trans this)
  rw [h1]
  constructor
  · intro z x hx
    have : (p &&& q).testBit x = true := by rw [z]; exact hx
    rw [Nat.testBit_and, Bool.and_eq_true] at this
    exact this.2
  · intro z
    refine Nat.eq_of_testBit_eq fun x => ?_
    rw [Nat.testBit_and]
    cases hx : p.testBit x with
    | true => rw [z x hx]; rfl
    | false => rfl
section
variable {f_threads f_addresses f_count f_fences f_solved f_found f_decisions : Int32} {a_threadOf a_addressOf a_constantOf a_reads a_writes a_acquiring a_releasing a_dependency a_fenceThread a_fenceKind a_fencePlace a_start a_wishRead a_wishMemory a_leastRun a_seen a_decideFirst a_decideSecond a_tried a_sequence a_memory a_got : Nat → Int32} {a_keys a_relation : Nat → Int64}
variable {N F : Nat}
/-- what holds of the word m when the pairs up to (b, k) are done -/
def wj_PG (N : Nat) (Mu : Nat → Nat → Prop) (b k m : Nat) : Prop :=
  m < 2 ^ 36 ∧ wj_S N (wj_R m) ∧ (∀ x y, wj_R m x y → x < y) ∧ ∀ l, wj_E N (wj_R m) l ↔ wj_P N l ∧ ∀ x y, Mu x y → (y < b ∨ (y = b ∧ k ≤ x)) → wj_bf l x y
theorem wj_xprog1 {post : Int64 → Prop} {on : Nat → Int32} {J : Int64 → Int32 → Prop} (hdp : wj_dp a_dependency on) (hN : N ≤ 6) (hF : F ≤ 8) {b : Nat} (hb : b < N)
    (hJ : ∀ m, wj_PG N (wj_Mu N F a_threadOf a_addressOf a_reads a_writes a_acquiring a_releasing on a_fenceThread a_fenceKind a_fencePlace) b 0 m → J (lN m) (nI (b + 1))) :
    ∀ k m : Nat, k ≤ b → wj_PG N (wj_Mu N F a_threadOf a_addressOf a_reads a_writes a_acquiring a_releasing on a_fenceThread a_fenceKind a_fencePlace) b k m →
    wX_programRelation_17 post J (nI b) f_threads f_addresses (nI N) (nI F) f_solved f_found f_decisions a_threadOf a_addressOf a_constantOf a_reads a_writes a_acquiring a_releasing a_dependency a_fenceThread a_fenceKind a_fencePlace a_start a_wishRead a_wishMemory a_keys a_leastRun a_seen a_decideFirst a_decideSecond a_tried a_relation a_sequence a_memory a_got (k + 1) (lN m) (nI k - 1) := by
  intro k
  induction k with
  | zero =>
    intro m hk hG
    exact br_t (by decide) (nm_r (nI_1 b) (hJ m hG))
  | succ k ih =>
    intro m hk hG
    obtain ⟨g1, g2, g3, g4⟩ := hG
    rw [nI_pred]
    refine br_f (nI_pos (by omega)) (wj_xmust hdp hN hF (by omega) hb (fun h => br_f (by decide) ?_) (fun h => br_t rfl (nm_r (wj_m1 _) (ih m (by omega) ⟨g1, g2, g3, ?_⟩))))
    · refine wj_join hN g2 g1 (by omega) hb ?_
      intro m' hm' hR
      refine nm_r (wj_m1 _) (ih m' (by omega) ⟨hm', ?_, ?_, ?_⟩)
      · rw [hR]
        exact wj_J_S g2 (by omega) hb (by omega) (fun z => by have := g3 _ _ z; omega)
      · rw [hR]
        rintro x y (z | ⟨z1, z2⟩)
        · exact g3 x y z
        · have h1 : x ≤ k := by
            rcases z1 with z1 | z1
            · omega
            · have := g3 _ _ z1; omega
          have h2 : b ≤ y := by
            rcases z2 with z2 | z2
            · omega
            · have := g3 _ _ z2; omega
          omega
      · intro l
        rw [hR, wj_E_J, g4]
        constructor
        · rintro ⟨⟨w1, w2⟩, w3⟩
          refine ⟨w1, ?_⟩
          intro x y hxy hp
          by_cases e : x = k ∧ y = b
          · rw [e.1, e.2]; exact w3
          · exact w2 x y hxy (by omega)
        · rintro ⟨w1, w2⟩
          exact ⟨⟨w1, fun x y hxy hp => w2 x y hxy (by omega)⟩, w2 k b h (Or.inr ⟨rfl, Nat.le_refl _⟩)⟩
    · intro l
      rw [g4]
      constructor
      · rintro ⟨w1, w2⟩
        refine ⟨w1, ?_⟩
        intro x y hxy hp
        by_cases e : x = k ∧ y = b
        · rw [e.1, e.2] at hxy; exact absurd hxy h
        · exact w2 x y hxy (by omega)
      · rintro ⟨w1, w2⟩
        exact ⟨w1, fun x y hxy hp => w2 x y hxy (by omega)⟩
theorem wj_xprog2 {post : Int64 → Prop} {on : Nat → Int32} (hdp : wj_dp a_dependency on) (hN : N ≤ 6) (hF : F ≤ 8)
    (h : ∀ m, m < 2 ^ 36 → wj_S N (wj_R m) → (∀ l, wj_E N (wj_R m) l ↔ wj_E N (wj_Mu N F a_threadOf a_addressOf a_reads a_writes a_acquiring a_releasing on a_fenceThread a_fenceKind a_fencePlace) l) → post (lN m)) :
    ∀ d b m : Nat, N ≤ b + d → b ≤ 7 → wj_PG N (wj_Mu N F a_threadOf a_addressOf a_reads a_writes a_acquiring a_releasing on a_fenceThread a_fenceKind a_fencePlace) b b m →
    wX_programRelation_4 post f_threads f_addresses (nI N) (nI F) f_solved f_found f_decisions a_threadOf a_addressOf a_constantOf a_reads a_writes a_acquiring a_releasing a_dependency a_fenceThread a_fenceKind a_fencePlace a_start a_wishRead a_wishMemory a_keys a_leastRun a_seen a_decideFirst a_decideSecond a_tried a_relation a_sequence a_memory a_got (d + 1) (lN m) (nI b) := by
  intro d
  have fin : ∀ b m : Nat, N ≤ b → wj_PG N (wj_Mu N F a_threadOf a_addressOf a_reads a_writes a_acquiring a_releasing on a_fenceThread a_fenceKind a_fencePlace) b b m → post (lN m) := by
    rintro b m hb ⟨g1, g2, g3, g4⟩
    refine h m g1 g2 ?_
    intro l
    rw [g4]
    constructor
    · rintro ⟨w1, w2⟩
      exact ⟨w1, fun x y hxy => w2 x y hxy (Or.inl (by have := (wj_Mu_lt hxy).2.1; omega))⟩
    · rintro ⟨w1, w2⟩
      exact ⟨w1, fun x y hxy _ => w2 x y hxy⟩
  induction d with
  | zero =>
    intro b m hb hb7 hG
    exact br_t (nI_le (by omega) (by omega)) (fin b m (by omega) hG)
  | succ d ih =>
    intro b m hb hb7 hG
    by_cases c : N ≤ b
    · exact br_t (nI_le c (by omega)) (fin b m c hG)
    · refine br_f (nI_ge (by omega) (by omega)) (nm_e ⟨b + 1, wj_xprog1 hdp hN hF (by omega) ?_ b m (Nat.le_refl _) hG⟩)
      rintro m' ⟨g1, g2, g3, g4⟩
      refine ih (b + 1) m' (by omega) (by omega) ⟨g1, g2, g3, ?_⟩
      intro l
      rw [g4]
      constructor
      · rintro ⟨w1, w2⟩
        exact ⟨w1, fun x y hxy hp => w2 x y hxy (by have := hxy.1; omega)⟩
      · rintro ⟨w1, w2⟩
        exact ⟨w1, fun x y hxy hp => w2 x y hxy (by omega)⟩
theorem wj_R0 (a b : Nat) : ¬ wj_R 0 a b := by
  rintro ⟨_, _, h⟩
  rw [Nat.zero_testBit] at h
  cases h
theorem wj_xprog {post : Int64 → Prop} {on : Nat → Int32} (hdp : wj_dp a_dependency on) (hN : N ≤ 6) (hF : F ≤ 8)
    (h : ∀ m, m < 2 ^ 36 → wj_S N (wj_R m) → (∀ l, wj_E N (wj_R m) l ↔ wj_E N (wj_Mu N F a_threadOf a_addressOf a_reads a_writes a_acquiring a_releasing on a_fenceThread a_fenceKind a_fencePlace) l) → post (lN m)) :
    wpX_programRelation post (f_threads, f_addresses, nI N, nI F, f_solved, f_found, f_decisions, a_threadOf, a_addressOf, a_constantOf, a_reads, a_writes, a_acquiring, a_releasing, a_dependency, a_fenceThread, a_fenceKind, a_fencePlace, a_start, a_wishRead, a_wishMemory, a_keys, a_leastRun, a_seen, a_decideFirst, a_decideSecond, a_tried, a_relation, a_sequence, a_memory, a_got) := by
  unfold wpX_programRelation
  refine ⟨7, wj_xprog2 hdp hN hF h 6 1 0 (by omega) (by decide) ⟨by decide, ⟨?_, ?_, ?_⟩, ?_, ?_⟩⟩
  · intro a b z; exact absurd z (wj_R0 a b)
  · intro a z; exact absurd z (wj_R0 a a)
  · intro a b c z; exact absurd z (wj_R0 a b)
  · intro a b z; exact absurd z (wj_R0 a b)
  · intro l
    constructor
    · rintro ⟨w1, w2⟩
      exact ⟨w1, fun x y hxy hp => by have := hxy.1; omega⟩
    · rintro ⟨w1, w2⟩
      exact ⟨w1, fun x y z => absurd z (wj_R0 x y)⟩
/-! the least run of a relation -/
theorem wj_xls1 {post : Int32 → SX → Prop} {J : Int32 → Int32 → Int32 → (Nat → Int32) → (Nat → Int32) → (Nat → Int32) → (Nat → Int32) → (Nat → Int32) → (Nat → Int32) → (Nat → Int32) → (Nat → Int32) → (Nat → Int32) → (Nat → Int32) → (Nat → Int32) → (Nat → Int32) → (Nat → Int32) → (Nat → Int32) → (Nat → Int64) → (Nat → Int32) → (Nat → Int32) → (Nat → Int32) → (Nat → Int32) → (Nat → Int32) → (Nat → Int64) → (Nat → Int32) → (Nat → Int32) → (Nat → Int32) → Prop}
    (hN : N ≤ 6) {m : Nat} (hm : m < 2 ^ 36) {u : List Nat} {pl rn p : Nat} (hp : p < N) (hpl : pl < 64) (hu : ∀ x, pl.testBit x = true ↔ x ∈ u) (hex : ∃ e, e < N ∧ wj_av (wj_R m) u e)
    (hJ : ∀ e, e < N → wj_av (wj_R m) u e → (∀ f, f < N → wj_av (wj_R m) u f → e ≤ f) → J (nI (pl ||| 2 ^ e)) (nI rn ||| (nI e <<< ((3 * (5 - nI p)) &&& 31))) (nI (p + 1)) a_threadOf a_addressOf a_constantOf a_reads a_writes a_acquiring a_releasing a_dependency a_fenceThread a_fenceKind a_fencePlace a_start a_wishRead a_wishMemory a_keys a_leastRun a_seen a_decideFirst a_decideSecond a_tried a_relation (upd a_sequence p (nI e)) a_memory a_got) :
    ∀ k pick : Nat, k ≤ N → pick < 6 → (∀ e, k ≤ e → e < N → wj_av (wj_R m) u e → pick ≤ e ∧ k ≤ pick ∧ pick < N ∧ wj_av (wj_R m) u pick) →
    wX_leastSequence_28 post J (lN m) (nI pl) (nI rn) (nI p) f_threads f_addresses (nI N) f_fences f_solved f_found f_decisions a_threadOf a_addressOf a_constantOf a_reads a_writes a_acquiring a_releasing a_dependency a_fenceThread a_fenceKind a_fencePlace a_start a_wishRead a_wishMemory a_keys a_leastRun a_seen a_decideFirst a_decideSecond a_tried a_relation a_sequence a_memory a_got (k + 1) (nI pick) (nI k - 1) := by
  intro k
  induction k with
  | zero =>
    intro pick hk hp6 hpk
    obtain ⟨e0, he0, hav⟩ := hex
    obtain ⟨q1, q2, q3, q4⟩ := hpk e0 (Nat.zero_le _) he0 hav
    refine br_t (by decide) ⟨vp_in_nI (by omega) (by decide), nm_r (e' := upd a_sequence p (nI pick)) (by rw [nI_clamp (by omega)]) (nm_r (e' := nI (pl ||| 2 ^ pick)) (by rw [wj_1sh (by omega), wj_nIor]) (nm_e (nm_r (nI_1 p) (hJ pick q3 q4 ?_))))⟩
    intro f hf haf
    exact (hpk f (Nat.zero_le _) hf haf).1
  | succ k ih =>
    intro pick hk hp6 hpk
    rw [nI_pred]
    have hz := nx_bit (k := pl) (j := k) (by omega) (by omega)
    have nxt : ¬ wj_av (wj_R m) u k → ∀ e, k ≤ e → e < N → wj_av (wj_R m) u e → pick ≤ e ∧ k ≤ pick ∧ pick < N ∧ wj_av (wj_R m) u pick := by
      intro hn e he heN hav
      have : e ≠ k := fun z => hn (z ▸ hav)
      obtain ⟨q1, q2, q3, q4⟩ := hpk e (by omega) heN hav
      exact ⟨q1, by omega, q3, q4⟩
    refine br_f (nI_pos (by omega)) (br_c (fun c => ?_) (fun c => nm_r (wj_m1 _) (ih pick (by omega) hp6 (nxt ?_))))
    · have hk1 : k ∉ u := by
        intro z
        have h1 := (hu k).mpr z
        rw [hz.mp c] at h1
        cases h1
      refine wj_pre hm (by omega) ?_
      intro pr hpr hx
      have hs := wj_sub hpr hpl
      refine br_c (fun c' => nm_r (wj_m1 _) (ih k (by omega) (by omega) ?_)) (fun c' => nm_r (wj_m1 _) (ih pick (by omega) hp6 (nxt ?_)))
      · intro e he heN hav
        refine ⟨he, Nat.le_refl _, by omega, hk1, ?_⟩
        intro x hxk
        exact (hu x).mp (hs.mp c' x ((hx x).mpr hxk))
      · rintro ⟨z1, z2⟩
        refine c' (hs.mpr ?_)
        intro x hxp
        exact (hu x).mpr (z2 x ((hx x).mp hxp))
    · rintro ⟨z1, z2⟩
      refine c (hz.mpr ?_)
      cases hb : pl.testBit k with
      | true => exact absurd ((hu k).mp hb) z1
      | false => rfl
theorem wj_run_step {c e p : Nat} (he : e < 6) (hp : p < 6) (hc : c * 8 ^ (6 - p) < 2 ^ 31) : nI (c * 8 ^ (6 - p)) ||| (nI e <<< ((3 * (5 - nI p)) &&& 31)) = nI ((c * 8 + e) * 8 ^ (6 - (p + 1))) := by
  have e1 : (3 : Int32) * (5 - nI p) = nI (3 * (5 - p)) := by
    have h1 : (5 : Int32) - nI p = nI (5 - p) := pk_sub (a := 5) (b := p) (by omega)
    rw [h1]
    exact pk_mul 3 (5 - p)
  have e8 : 2 ^ (3 * (5 - p)) = 8 ^ (5 - p) := by
    rw [Nat.pow_mul]
  have hb : e * 8 ^ (5 - p) < 8 ^ (6 - p) := by
    have : 6 - p = 5 - p + 1 := by omega
    rw [this, Nat.pow_succ, Nat.mul_comm]
    exact Nat.mul_lt_mul_of_pos_left (by omega) (Nat.pow_pos (by decide))
  have h86 : 8 ^ (6 - p) ≤ 8 ^ 6 := Nat.pow_le_pow_right (by decide) (by omega)
  have e2 : nI e <<< (nI (3 * (5 - p)) &&& 31) = nI (e * 8 ^ (5 - p)) := by
    have := pk_shlN (n := e) (nI (3 * (5 - p)) &&& 31) (3 * (5 - p)) (s_l _ (by omega)) (by rw [e8]; exact Nat.lt_trans (Nat.lt_of_lt_of_le hb h86) (by decide))
    rw [e8] at this
    exact this
  rw [e1, e2, wj_nIor]
  congr 1
  have e3 : (8 : Nat) ^ (6 - p) = 2 ^ (3 * (6 - p)) := by rw [Nat.pow_mul]
  have h4 : c * 8 ^ (6 - p) ||| e * 8 ^ (5 - p) = c * 8 ^ (6 - p) + e * 8 ^ (5 - p) := by
    rw [e3] at hb ⊢
    rw [Nat.mul_comm c]
    exact (Nat.two_pow_add_eq_or_of_lt hb c).symm
  rw [h4]
  have e5 : 6 - (p + 1) = 5 - p := by omega
  have e6 : 6 - p = 5 - p + 1 := by omega
  rw [e5, e6, Nat.pow_succ, Nat.add_mul, Nat.mul_assoc, Nat.mul_comm 8]
theorem wj_cd_snoc (u : List Nat) (e : Nat) : wj_cd 0 (u ++ [e]) = wj_cd 0 u * 8 + e := by
  unfold wj_cd
  rw [List.foldl_append]
  rfl
theorem wj_o_snoc (u : List Nat) (e : Nat) : wj_o (u ++ [e]) u.length = e := by
  rw [wj_oG (by simp)]
  simp
theorem wj_o_pre (u t : List Nat) {i : Nat} (hi : i < u.length) : wj_o (u ++ t) i = wj_o u i := by
  rw [wj_oG (by simp; omega), wj_oG hi]
  exact List.getElem_append_left hi
theorem wj_xls2 {post : Int32 → SX → Prop} (hN : N ≤ 6) {m : Nat} (hm : m < 2 ^ 36) (S : wj_S N (wj_R m))
    (h : ∀ u sq, wj_G N (wj_R m) u → u.length = N → (∀ i, i < N → sq i = nI (wj_o u i)) → post (nI (wj_cd 0 u * 8 ^ (6 - N))) (f_threads, f_addresses, nI N, f_fences, f_solved, f_found, f_decisions, a_threadOf, a_addressOf, a_constantOf, a_reads, a_writes, a_acquiring, a_releasing, a_dependency, a_fenceThread, a_fenceKind, a_fencePlace, a_start, a_wishRead, a_wishMemory, a_keys, a_leastRun, a_seen, a_decideFirst, a_decideSecond, a_tried, a_relation, sq, a_memory, a_got)) :
    ∀ (d p pl : Nat) (u : List Nat) (sq : Nat → Int32), p + d = N → u.length = p → wj_G N (wj_R m) u → pl < 64 → (∀ x, pl.testBit x = true ↔ x ∈ u) → (∀ i, i < p → sq i = nI (wj_o u i)) →
    wX_leastSequence_8 post (lN m) f_threads f_addresses (nI N) f_fences f_solved f_found f_decisions (d + 1) (nI pl) (nI (wj_cd 0 u * 8 ^ (6 - p))) (nI p) a_threadOf a_addressOf a_constantOf a_reads a_writes a_acquiring a_releasing a_dependency a_fenceThread a_fenceKind a_fencePlace a_start a_wishRead a_wishMemory a_keys a_leastRun a_seen a_decideFirst a_decideSecond a_tried a_relation sq a_memory a_got := by
  intro d
  induction d with
  | zero =>
    intro p pl u sq hp hu hG hpl hx hs
    have : p = N := by omega
    subst this
    exact br_t (nI_le (Nat.le_refl _) (by omega)) (h u sq hG hu hs)
  | succ d ih =>
    intro p pl u sq hp hu hG hpl hx hs
    have hcd : wj_cd 0 u * 8 ^ (6 - p) < 2 ^ 31 := by
      have h1 := wj_cd_lt u (fun x hx => Nat.lt_of_lt_of_le (hG.2.1 x hx) (by omega))
      rw [hu] at h1
      have h2 : wj_cd 0 u * 8 ^ (6 - p) < 8 ^ p * 8 ^ (6 - p) := Nat.mul_lt_mul_of_pos_right h1 (Nat.pow_pos (by decide))
      rw [← Nat.pow_add, show p + (6 - p) = 6 from by omega] at h2
      exact Nat.lt_trans h2 (by decide)
    refine br_f (nI_ge (by omega) (by omega)) (nm_e ⟨N + 1, wj_xls1 hN hm (by omega) hpl hx (wj_av_ex S (by omega)) ?_ N 0 (Nat.le_refl _) (by decide) (fun e h1 h2 _ => by omega)⟩)
    intro e he hav hle
    rw [wj_run_step (by omega) (by omega) hcd, ← wj_cd_snoc]
    refine ih (p + 1) _ (u ++ [e]) _ (by omega) (by simp [hu]) (wj_G_step hG he hav hle) ?_ ?_ ?_
    · have e64 : (64 : Nat) = 2 ^ 6 := by decide
      rw [e64] at hpl ⊢
      exact Nat.or_lt_two_pow hpl (Nat.pow_lt_pow_right (by decide) (by omega))
    · intro x
      rw [Nat.testBit_or, Nat.testBit_two_pow, Bool.or_eq_true, hx x, decide_eq_true_eq, List.mem_append, List.mem_singleton]
      constructor
      · rintro (z | z)
        · exact Or.inl z
        · exact Or.inr z.symm
      · rintro (z | z)
        · exact Or.inl z
        · exact Or.inr z.symm
    · intro i hi
      by_cases ei : i = p
      · rw [ei, pk_us, ← hu, wj_o_snoc]
      · rw [pk_un ei, hs i (by omega), wj_o_pre u [e] (by omega)]
theorem wj_xleast {post : Int32 → SX → Prop} (hN : N ≤ 6) {m : Nat} (hm : m < 2 ^ 36) (S : wj_S N (wj_R m))
    (h : ∀ u sq, wj_G N (wj_R m) u → u.length = N → (∀ i, i < N → sq i = nI (wj_o u i)) → post (nI (wj_cd 0 u * 8 ^ (6 - N))) (f_threads, f_addresses, nI N, f_fences, f_solved, f_found, f_decisions, a_threadOf, a_addressOf, a_constantOf, a_reads, a_writes, a_acquiring, a_releasing, a_dependency, a_fenceThread, a_fenceKind, a_fencePlace, a_start, a_wishRead, a_wishMemory, a_keys, a_leastRun, a_seen, a_decideFirst, a_decideSecond, a_tried, a_relation, sq, a_memory, a_got)) : wpX_leastSequence post (f_threads, f_addresses, nI N, f_fences, f_solved, f_found, f_decisions, a_threadOf, a_addressOf, a_constantOf, a_reads, a_writes, a_acquiring, a_releasing, a_dependency, a_fenceThread, a_fenceKind, a_fencePlace, a_start, a_wishRead, a_wishMemory, a_keys, a_leastRun, a_seen, a_decideFirst, a_decideSecond, a_tried, a_relation, a_sequence, a_memory, a_got) (lN m) := by
  unfold wpX_leastSequence
  refine ⟨N + 1, wj_xls2 hN hm S h N 0 0 [] a_sequence (by omega) rfl wj_G_nil (by decide) ?_ (fun i hi => absurd hi (Nat.not_lt_zero _))⟩
  intro x
  rw [Nat.zero_testBit]
  constructor
  · intro z; cases z
  · intro z; cases z
end
end
section
/-! X: execute -/
theorem wj_kyor {A d : Nat} (hA : A < 2 ^ 40) (hd : d < 16) : (lN A <<< ((4 : Int32).toInt64 &&& 63)) ||| lN d = lN (A * 16 + d) := by
  have h1 : lN A <<< ((nI 4).toInt64 &&& 63) = lN (A * 2 ^ 4) := wb_shl A (by decide)
  have h2 : lN A <<< ((4 : Int32).toInt64 &&& 63) = lN (A * 16) := h1
  rw [h2]
  exact g_or (k := 4) (p := 16) (by decide) hd (by omega)
theorem wj_src {th ad on dp : Nat → Int32} {N e : Nat} (hp : wj_pg N th ad on) (hdp : wj_dp dp on) (he : e < N) : (on (4 * e + 1) = -1 ∧ dp (4 * e + 1) = 0) ∨ ∃ s, s < e ∧ on (4 * e + 1) = nI s ∧ ¬ dp (4 * e + 1) = 0 ∧ dp (4 * e + 1) - 1 = nI s := by
  have h6 := hp.1
  rcases wj_pg_on hp he (k := 1) (by decide) with h1 | ⟨s, h1, h2, h3⟩
  · refine Or.inl ⟨h1, ?_⟩
    rw [hdp _ (by omega), h1]; decide
  · have e1 : dp (4 * e + 1) = nI (s + 1) := by rw [hdp _ (by omega), h1, nI_1]
    refine Or.inr ⟨s, h2, h1, ?_, ?_⟩
    · rw [e1]; exact nI_ne0 (by omega) (by omega)
    · rw [e1]; exact nI_pred s
section
variable {f_threads f_addresses f_count f_fences f_solved f_found f_decisions : Int32} {a_threadOf a_addressOf a_constantOf a_reads a_writes a_acquiring a_releasing a_dependency a_fenceThread a_fenceKind a_fencePlace a_start a_wishRead a_wishMemory a_leastRun a_seen a_decideFirst a_decideSecond a_tried a_sequence a_memory a_got : Nat → Int32} {a_keys a_relation : Nat → Int64}
variable {N : Nat} {on : Nat → Int32}
theorem wj_x193 {post : Int64 → SX → Prop} (hd : ∀ x, x < 3 → wj_dg (a_memory x)) {A : Nat} (hA : A < 2 ^ 24) : ∀ d i : Nat, i + d = 3 → post (lN (wj_ky a_memory A 3)) (f_threads, f_addresses, f_count, f_fences, f_solved, f_found, f_decisions, a_threadOf, a_addressOf, a_constantOf, a_reads, a_writes, a_acquiring, a_releasing, a_dependency, a_fenceThread, a_fenceKind, a_fencePlace, a_start, a_wishRead, a_wishMemory, a_keys, a_leastRun, a_seen, a_decideFirst, a_decideSecond, a_tried, a_relation, a_sequence, a_memory, a_got) → wX_execute_193 post f_threads f_addresses f_count f_fences f_solved f_found f_decisions a_threadOf a_addressOf a_constantOf a_reads a_writes a_acquiring a_releasing a_dependency a_fenceThread a_fenceKind a_fencePlace a_start a_wishRead a_wishMemory a_keys a_leastRun a_seen a_decideFirst a_decideSecond a_tried a_relation a_sequence a_memory a_got (d + 1) (lN (wj_ky a_memory A i)) (nI i) := by
  intro d
  induction d with
  | zero =>
    intro i hi h
    have : i = 3 := by omega
    subst this
    exact br_t (nI_le (a := 3) (b := 3) (by decide) (by decide)) h
  | succ d ih =>
    intro i hi h
    refine br_f (nI_ge (a := i) (b := 3) (by omega) (by decide)) ⟨vp_in_nI (by omega) (by decide), nm_r (e' := lN (wj_ky a_memory A (i + 1))) ?_ (nm_r (nI_1 i) (ih (i + 1) (by omega) h))⟩
    have h1 := wj_ky_lt a_memory i A (2 ^ 24) (fun j hj => hd j (by omega)) hA
    have h2 : 2 ^ 24 * 16 ^ i ≤ 2 ^ 40 := Nat.le_trans (Nat.mul_le_mul_left _ (Nat.pow_le_pow_right (by decide) (by omega : i ≤ 2))) (by decide)
    rw [nI_clamp (by omega), wj_dig (hd i (by omega))]
    exact wj_kyor (by omega) (wj_dg_c (hd i (by omega)))
theorem wj_x167 {post : Int64 → SX → Prop} (hd : ∀ x, x < 3 → wj_dg (a_memory x)) (hg : ∀ x, x < 6 → wj_dg (a_got x)) : ∀ d i : Nat, i + d = 6 → post (lN (wj_key (a_memory, a_got))) (f_threads, f_addresses, f_count, f_fences, f_solved, f_found, f_decisions, a_threadOf, a_addressOf, a_constantOf, a_reads, a_writes, a_acquiring, a_releasing, a_dependency, a_fenceThread, a_fenceKind, a_fencePlace, a_start, a_wishRead, a_wishMemory, a_keys, a_leastRun, a_seen, a_decideFirst, a_decideSecond, a_tried, a_relation, a_sequence, a_memory, a_got) → wX_execute_167 post f_threads f_addresses f_count f_fences f_solved f_found f_decisions a_threadOf a_addressOf a_constantOf a_reads a_writes a_acquiring a_releasing a_dependency a_fenceThread a_fenceKind a_fencePlace a_start a_wishRead a_wishMemory a_keys a_leastRun a_seen a_decideFirst a_decideSecond a_tried a_relation a_sequence a_memory a_got (d + 1) (lN (wj_ky a_got 0 i)) (nI i) := by
  intro d
  induction d with
  | zero =>
    intro i hi h
    have : i = 6 := by omega
    subst this
    have h1 := wj_ky_lt a_got 6 0 1 (fun j hj => hg j hj) (by decide)
    exact br_t (nI_le (a := 6) (b := 6) (by decide) (by decide)) ⟨4, wj_x193 hd (Nat.lt_of_lt_of_le h1 (by decide)) 3 0 rfl h⟩
  | succ d ih =>
    intro i hi h
    refine br_f (nI_ge (a := i) (b := 6) (by omega) (by decide)) ⟨vp_in_nI (by omega) (by decide), nm_r (e' := lN (wj_ky a_got 0 (i + 1))) ?_ (nm_r (nI_1 i) (ih (i + 1) (by omega) h))⟩
    have h1 := wj_ky_lt a_got i 0 1 (fun j hj => hg j (by omega)) (by decide)
    have h2 : 1 * 16 ^ i ≤ 2 ^ 40 := Nat.le_trans (Nat.mul_le_mul_left _ (Nat.pow_le_pow_right (by decide) (by omega : i ≤ 5))) (by decide)
    rw [nI_clamp (by omega), wj_dig (hg i (by omega))]
    exact wj_kyor (by omega) (wj_dg_c (hg i (by omega)))
theorem wj_x48 {post : Int64 → SX → Prop} (hp : wj_pg N a_threadOf a_addressOf on) (hdp : wj_dp a_dependency on) {l : List Nat} (hl : wj_P N l) (hO : ∀ p, p < N → a_sequence p = nI (wj_o l p)) :
    ∀ (d p : Nat) (m g : Nat → Int32), p + d = N → (∀ e, e < 6 → a_reads e = 0 → g e = 0) → (∀ s, s = (l.drop p).foldl (wj_st a_addressOf a_constantOf a_reads a_writes on) (m, g) → ∃ n167, wX_execute_167 post f_threads f_addresses (nI N) f_fences f_solved f_found f_decisions a_threadOf a_addressOf a_constantOf a_reads a_writes a_acquiring a_releasing a_dependency a_fenceThread a_fenceKind a_fencePlace a_start a_wishRead a_wishMemory a_keys a_leastRun a_seen a_decideFirst a_decideSecond a_tried a_relation a_sequence s.1 s.2 n167 0 0) →
    wX_execute_48 post f_threads f_addresses (nI N) f_fences f_solved f_found f_decisions (d + 1) (nI p) a_threadOf a_addressOf a_constantOf a_reads a_writes a_acquiring a_releasing a_dependency a_fenceThread a_fenceKind a_fencePlace a_start a_wishRead a_wishMemory a_keys a_leastRun a_seen a_decideFirst a_decideSecond a_tried a_relation a_sequence m g := by
  have h6 := hp.1
  have hlen := wj_P_len hl
  intro d
  induction d with
  | zero =>
    intro p m g hpd hg h
    have : p = N := by omega
    subst this
    have h' := h (m, g) (by rw [List.drop_of_length_le (by omega)]; rfl)
    exact br_t (nI_le (Nat.le_refl _) (by omega)) h'
  | succ d ih =>
    intro p m g hpd hg h
    have hpl : p < l.length := by omega
    have e1 : a_sequence (nI p).toNatClampNeg = nI (l[p]) := by rw [nI_clamp (by omega), hO p (by omega), wj_oG hpl]
    have hm : l[p] < N := (wj_P_mem hl).mp (List.getElem_mem hpl)
    rw [List.drop_eq_getElem_cons hpl] at h
    generalize l[p] = e at e1 hm h
    obtain ⟨hx, ex⟩ := wj_pg_x hp hm
    have ec : (nI e).toNatClampNeg = e := nI_clamp (by omega)
    have hi : vp_in (nI e) 6 := vp_in_nI (by omega) (by decide)
    have hv : vp_in (a_addressOf e) 3 := by rw [ex]; exact vp_in_nI hx (by decide)
    have nxt : wX_execute_48 post f_threads f_addresses (nI N) f_fences f_solved f_found f_decisions (d + 1) (nI (p + 1)) a_threadOf a_addressOf a_constantOf a_reads a_writes a_acquiring a_releasing a_dependency a_fenceThread a_fenceKind a_fencePlace a_start a_wishRead a_wishMemory a_keys a_leastRun a_seen a_decideFirst a_decideSecond a_tried a_relation a_sequence ((wj_st a_addressOf a_constantOf a_reads a_writes on (m, g) e).1) ((wj_st a_addressOf a_constantOf a_reads a_writes on (m, g) e).2) := by
      refine ih (p + 1) _ _ (by omega) ?_ (fun s hs => h s hs)
      intro e' he' hr
      show (if a_reads e = 0 then g else upd g e (m (wj_x a_addressOf e))) e' = 0
      by_cases c : a_reads e = 0
      · rw [if_pos c]; exact hg e' he' hr
      · rw [if_neg c]
        by_cases c' : e' = e
        · rw [c'] at hr; exact absurd hr c
        · rw [pk_un c']; exact hg e' he' hr
    have g91 : wX_execute_91 post (wX_execute_48 post f_threads f_addresses (nI N) f_fences f_solved f_found f_decisions (d + 1)) (nI p) (nI e) (a_addressOf e) f_threads f_addresses (nI N) f_fences f_solved f_found f_decisions a_threadOf a_addressOf a_constantOf a_reads a_writes a_acquiring a_releasing a_dependency a_fenceThread a_fenceKind a_fencePlace a_start a_wishRead a_wishMemory a_keys a_leastRun a_seen a_decideFirst a_decideSecond a_tried a_relation a_sequence m ((wj_st a_addressOf a_constantOf a_reads a_writes on (m, g) e).2) := by
      unfold wX_execute_91
      rw [ec, wj_41, nI_clamp (n := 4 * e + 1) (by omega)]
      refine ⟨hi, br_c (fun c => nm_r (nI_1 p) ?_) (fun c => ⟨vp_in_nI (by omega) (by decide), nm_e ?_⟩)⟩
      · have e2 : (wj_st a_addressOf a_constantOf a_reads a_writes on (m, g) e).1 = m := if_pos c
        rw [e2] at nxt
        exact nxt
      · have e2 : (wj_st a_addressOf a_constantOf a_reads a_writes on (m, g) e).1 = upd m (wj_x a_addressOf e) (wj_wv a_addressOf a_constantOf a_reads on (m, g) e) := if_neg c
        rw [e2] at nxt
        have eg : (wj_st a_addressOf a_constantOf a_reads a_writes on (m, g) e).2 e = (if a_reads e = 0 then 0 else m (wj_x a_addressOf e)) := by
          show (if a_reads e = 0 then g else upd g e (m (wj_x a_addressOf e))) e = _
          by_cases c' : a_reads e = 0
          · rw [if_pos c', if_pos c']; exact hg e (by omega) c'
          · rw [if_neg c', if_neg c', pk_us]
        have g130 : ∀ z0 : Int32, z0 = wj_ex on g e → wX_execute_130 post (wX_execute_48 post f_threads f_addresses (nI N) f_fences f_solved f_found f_decisions (d + 1)) (nI p) (nI e) (a_addressOf e) z0 f_threads f_addresses (nI N) f_fences f_solved f_found f_decisions a_threadOf a_addressOf a_constantOf a_reads a_writes a_acquiring a_releasing a_dependency a_fenceThread a_fenceKind a_fencePlace a_start a_wishRead a_wishMemory a_keys a_leastRun a_seen a_decideFirst a_decideSecond a_tried a_relation a_sequence m ((wj_st a_addressOf a_constantOf a_reads a_writes on (m, g) e).2) := by
          intro z0 hz
          refine ⟨hi, hi, hv, nm_r (e' := upd m (wj_x a_addressOf e) (wj_wv a_addressOf a_constantOf a_reads on (m, g) e)) ?_ (nm_r (nI_1 p) nxt)⟩
          rw [ec, eg, hz]
          rfl
        rcases wj_src hp hdp hm with ⟨s1, s2⟩ | ⟨s, s1, s2, s3, s4⟩
        · refine br_t s2 (g130 0 ?_)
          unfold wj_ex
          rw [s1, if_pos (by decide)]
        · refine br_f s3 ⟨by rw [s4]; exact vp_in_nI (by omega) (by decide), g130 _ ?_⟩
          rw [s4, nI_clamp (by omega)]
          unfold wj_ex
          rw [s2, if_neg (nI_pos (by omega)), nI_clamp (by omega)]
          show (if a_reads e = 0 then g else upd g e (m (wj_x a_addressOf e))) s = g s
          by_cases c' : a_reads e = 0
          · rw [if_pos c']
          · rw [if_neg c', pk_un (by omega)]
    refine br_f (nI_ge (by omega) (by omega)) ⟨vp_in_nI (by omega) (by decide), nm_r e1 ⟨hi, nm_r (e' := a_addressOf e) (by rw [ec]) ⟨hi, br_c (fun c => ?_) (fun c => ⟨hv, hi, nm_r (e' := (wj_st a_addressOf a_constantOf a_reads a_writes on (m, g) e).2) ?_ g91⟩)⟩⟩⟩
    · rw [ec] at c
      have e2 : (wj_st a_addressOf a_constantOf a_reads a_writes on (m, g) e).2 = g := if_pos c
      rw [e2] at g91
      exact g91
    · rw [ec] at c ⊢
      exact (if_neg c).symm
theorem wj_x27 {post : Int64 → SX → Prop} : ∀ (d i : Nat) (g : Nat → Int32), i + d = 6 → (∀ e, e < i → g e = 0) → (∀ g', (∀ e, e < 6 → g' e = 0) → ∃ n48, wX_execute_48 post f_threads f_addresses f_count f_fences f_solved f_found f_decisions n48 0 a_threadOf a_addressOf a_constantOf a_reads a_writes a_acquiring a_releasing a_dependency a_fenceThread a_fenceKind a_fencePlace a_start a_wishRead a_wishMemory a_keys a_leastRun a_seen a_decideFirst a_decideSecond a_tried a_relation a_sequence a_memory g') →
    wX_execute_27 post f_threads f_addresses f_count f_fences f_solved f_found f_decisions (d + 1) (nI i) a_threadOf a_addressOf a_constantOf a_reads a_writes a_acquiring a_releasing a_dependency a_fenceThread a_fenceKind a_fencePlace a_start a_wishRead a_wishMemory a_keys a_leastRun a_seen a_decideFirst a_decideSecond a_tried a_relation a_sequence a_memory g := by
  intro d
  induction d with
  | zero =>
    intro i g hi hg h
    have : i = 6 := by omega
    subst this
    exact br_t (nI_le (a := 6) (b := 6) (by decide) (by decide)) (h g hg)
  | succ d ih =>
    intro i g hi hg h
    refine br_f (nI_ge (a := i) (b := 6) (by omega) (by decide)) ⟨vp_in_nI (by omega) (by decide), nm_e (nm_r (nI_1 i) (ih (i + 1) _ (by omega) ?_ h))⟩
    intro e he
    rw [nI_clamp (by omega)]
    unfold upd
    by_cases c : e = i
    · rw [if_pos c]
    · rw [if_neg c]; exact hg e (by omega)
theorem wj_x2 {post : Int64 → SX → Prop} : ∀ (d i : Nat) (m : Nat → Int32), i + d = 3 → (∀ e, e < i → m e = a_start e) → (∀ m', (∀ e, e < 3 → m' e = a_start e) → ∃ n27, wX_execute_27 post f_threads f_addresses f_count f_fences f_solved f_found f_decisions n27 0 a_threadOf a_addressOf a_constantOf a_reads a_writes a_acquiring a_releasing a_dependency a_fenceThread a_fenceKind a_fencePlace a_start a_wishRead a_wishMemory a_keys a_leastRun a_seen a_decideFirst a_decideSecond a_tried a_relation a_sequence m' a_got) →
    wX_execute_2 post f_threads f_addresses f_count f_fences f_solved f_found f_decisions (d + 1) (nI i) a_threadOf a_addressOf a_constantOf a_reads a_writes a_acquiring a_releasing a_dependency a_fenceThread a_fenceKind a_fencePlace a_start a_wishRead a_wishMemory a_keys a_leastRun a_seen a_decideFirst a_decideSecond a_tried a_relation a_sequence m a_got := by
  intro d
  induction d with
  | zero =>
    intro i g hi hg h
    have : i = 3 := by omega
    subst this
    exact br_t (nI_le (a := 3) (b := 3) (by decide) (by decide)) (h g hg)
  | succ d ih =>
    intro i g hi hg h
    refine br_f (nI_ge (a := i) (b := 3) (by omega) (by decide)) ⟨vp_in_nI (by omega) (by decide), vp_in_nI (by omega) (by decide), nm_e (nm_r (nI_1 i) (ih (i + 1) _ (by omega) ?_ h))⟩
    intro e he
    rw [nI_clamp (by omega)]
    unfold upd
    by_cases c : e = i
    · rw [if_pos c, c]
    · rw [if_neg c]; exact hg e (by omega)
theorem wj_xexec {post : Int64 → SX → Prop} (hp : wj_pg N a_threadOf a_addressOf on) (hdp : wj_dp a_dependency on) (hf : ∀ x, x < 3 → wj_dg (a_start x)) {l : List Nat} (hl : wj_P N l) (hO : ∀ p, p < N → a_sequence p = nI (wj_o l p))
    (h : ∀ m g, post (lN (wj_out a_addressOf a_constantOf a_reads a_writes on a_start l)) (f_threads, f_addresses, nI N, f_fences, f_solved, f_found, f_decisions, a_threadOf, a_addressOf, a_constantOf, a_reads, a_writes, a_acquiring, a_releasing, a_dependency, a_fenceThread, a_fenceKind, a_fencePlace, a_start, a_wishRead, a_wishMemory, a_keys, a_leastRun, a_seen, a_decideFirst, a_decideSecond, a_tried, a_relation, a_sequence, m, g)) : wpX_execute post (f_threads, f_addresses, nI N, f_fences, f_solved, f_found, f_decisions, a_threadOf, a_addressOf, a_constantOf, a_reads, a_writes, a_acquiring, a_releasing, a_dependency, a_fenceThread, a_fenceKind, a_fencePlace, a_start, a_wishRead, a_wishMemory, a_keys, a_leastRun, a_seen, a_decideFirst, a_decideSecond, a_tried, a_relation, a_sequence, a_memory, a_got) := by
  unfold wpX_execute
  refine ⟨4, wj_x2 3 0 a_memory rfl (fun e he => absurd he (Nat.not_lt_zero _)) ?_⟩
  intro m hm
  refine ⟨7, wj_x27 6 0 a_got rfl (fun e he => absurd he (Nat.not_lt_zero _)) ?_⟩
  intro g hg
  refine ⟨N + 1, wj_x48 hp hdp hl hO N 0 m g (by omega) (fun e he _ => hg e he) ?_⟩
  rintro s rfl
  rw [List.drop_zero]
  have hag : wj_ag (m, g) (a_start, fun _ => 0) := ⟨fun x hx => hm x hx, fun e he => hg e he⟩
  have hmem : ∀ e, e ∈ l → e < N := fun e he => (wj_P_mem hl).mp he
  have hag' := wj_ag_run (cn := a_constantOf) (rd := a_reads) (wr := a_writes) hp l _ _ hag hmem
  have hok : wj_ok (l.foldl (wj_st a_addressOf a_constantOf a_reads a_writes on) (a_start, fun _ => 0)) := wj_run_ok l _ ⟨fun x hx => hf x hx, fun e => wj_dg_0⟩ (fun e he => (wj_pg_x hp (hmem e he)).1)
  refine ⟨7, wj_x167 (fun x hx => by rw [hag'.1 x hx]; exact hok.1 x hx) (fun x hx => by rw [hag'.2 x hx]; exact hok.2 x) 6 0 rfl ?_⟩
  have := h (l.foldl (wj_st a_addressOf a_constantOf a_reads a_writes on) (m, g)).1 (l.foldl (wj_st a_addressOf a_constantOf a_reads a_writes on) (m, g)).2
  unfold wj_out at this
  rw [← wj_ag_key hag'] at this
  exact this
end
end
section
/-! X: lowerBound, insert, finish -/
section
variable {f_threads f_addresses f_count f_fences f_solved f_found f_decisions : Int32} {a_threadOf a_addressOf a_constantOf a_reads a_writes a_acquiring a_releasing a_dependency a_fenceThread a_fenceKind a_fencePlace a_start a_wishRead a_wishMemory a_leastRun a_seen a_decideFirst a_decideSecond a_tried a_sequence a_memory a_got : Nat → Int32} {a_keys a_relation : Nat → Int64}
variable {N F : Nat} {on : Nat → Int32}
theorem wj_xlow1 {post : Int32 → Prop} {key : Int64} (hF : F ≤ 180) (hs : ∀ i j, i < j → j < F → a_keys i < a_keys j)
    (h : ∀ k, k ≤ F → (∀ i, i < k → a_keys i < key) → (∀ i, k ≤ i → i < F → key ≤ a_keys i) → post (nI k)) :
    ∀ k low high : Nat, k ≤ 8 → low ≤ high → high ≤ F → high < low + 2 ^ k → (∀ i, i < low → a_keys i < key) → (∀ i, high ≤ i → i < F → key ≤ a_keys i) → wX_lowerBound_11 post key f_threads f_addresses f_count f_fences f_solved (nI F) f_decisions a_threadOf a_addressOf a_constantOf a_reads a_writes a_acquiring a_releasing a_dependency a_fenceThread a_fenceKind a_fencePlace a_start a_wishRead a_wishMemory a_keys a_leastRun a_seen a_decideFirst a_decideSecond a_tried a_relation a_sequence a_memory a_got (k + 1) (nI low) (nI high) (nI (8 - k)) := by
  have fin : ∀ low high : Nat, low ≤ high → high ≤ F → high ≤ low → (∀ i, i < low → a_keys i < key) → (∀ i, high ≤ i → i < F → key ≤ a_keys i) → post (nI low) := by
    intro low high h1 h2 h3 h4 h5
    have : low = high := by omega
    subst this
    exact h low h2 h4 h5
  intro k
  induction k with
  | zero =>
    intro low high hk h1 h2 h3 h4 h5
    refine br_f (nI_ge (a := 8) (b := 9) (by decide) (by decide)) (br_t (nI_le (by omega) (by omega)) (fin low high h1 h2 (by omega) h4 h5))
  | succ k ih =>
    intro low high hk h1 h2 h3 h4 h5
    by_cases c : high ≤ low
    · exact br_f (nI_ge (a := 8 - (k + 1)) (b := 9) (by omega) (by decide)) (br_t (nI_le c (by omega)) (fin low high h1 h2 c h4 h5))
    · rw [Nat.pow_succ] at h3
      have e1 : ((nI low + nI high).toUInt32 >>> ((1 : Int32).toUInt32 &&& Int32.toUInt32 31)).toInt32 = nI ((low + high) / 2) := by
        rw [nI_add]
        exact pk_ushrN (n := low + high) (by omega) 1 1 (by decide)
      have e2 : nI (8 - (k + 1)) + 1 = nI (8 - k) := by rw [nI_1]; congr 1; omega
      refine br_f (nI_ge (a := 8 - (k + 1)) (b := 9) (by omega) (by decide)) (br_f (nI_ge (by omega) (by omega)) (nm_r e1 ⟨vp_in_nI (by omega) (by decide), ?_⟩))
      rw [nI_clamp (n := (low + high) / 2) (by omega)]
      generalize hmid : (low + high) / 2 = mid
      refine br_c (fun d => nm_r e2 (ih low mid (by omega) (by omega) (by omega) (by omega) h4 ?_)) (fun d => nm_r (nI_1 mid) (nm_r e2 (ih (mid + 1) high (by omega) (by omega) h2 (by omega) ?_ h5)))
      · intro i hi1 hi2
        by_cases e : i = mid
        · rw [e]; exact d
        · have := hs mid i (by omega) hi2
          rw [Int64.le_iff_toInt_le] at d ⊢
          rw [Int64.lt_iff_toInt_lt] at this
          omega
      · intro i hi
        have d' := Int64.not_le.mp d
        by_cases e : i = mid
        · rw [e]; exact d'
        · exact wj_lt_tr (hs i mid (by omega) (by omega)) d'
theorem wj_xlow {post : Int32 → Prop} {key : Int64} (hF : F ≤ 180) (hs : ∀ i j, i < j → j < F → a_keys i < a_keys j)
    (h : ∀ k, k ≤ F → (∀ i, i < k → a_keys i < key) → (∀ i, k ≤ i → i < F → key ≤ a_keys i) → post (nI k)) : wpX_lowerBound post (f_threads, f_addresses, f_count, f_fences, f_solved, nI F, f_decisions, a_threadOf, a_addressOf, a_constantOf, a_reads, a_writes, a_acquiring, a_releasing, a_dependency, a_fenceThread, a_fenceKind, a_fencePlace, a_start, a_wishRead, a_wishMemory, a_keys, a_leastRun, a_seen, a_decideFirst, a_decideSecond, a_tried, a_relation, a_sequence, a_memory, a_got) key := by
  unfold wpX_lowerBound
  exact ⟨9, wj_xlow1 hF hs h 8 0 F (by decide) (Nat.zero_le _) (Nat.le_refl _) (by omega) (fun i hi => absurd hi (Nat.not_lt_zero _)) (fun i h1 h2 => by omega)⟩
theorem wj_xins1 {post : SX → Prop} (hF : F < 180) {key : Int64} {run : Int32} {pt : Nat} (hpt : pt ≤ F) {K0 : Nat → Int64} {L0 : Nat → Int32}
    (h : ∀ K L, wj_ins F pt key K0 K → wj_ins F pt run L0 L → post (f_threads, f_addresses, f_count, f_fences, f_solved, nI (F + 1), f_decisions, a_threadOf, a_addressOf, a_constantOf, a_reads, a_writes, a_acquiring, a_releasing, a_dependency, a_fenceThread, a_fenceKind, a_fencePlace, a_start, a_wishRead, a_wishMemory, K, L, a_seen, a_decideFirst, a_decideSecond, a_tried, a_relation, a_sequence, a_memory, a_got)) :
    ∀ (d k : Nat) (K : Nat → Int64) (L : Nat → Int32), k = pt + d → k ≤ F → (∀ i, i ≤ F → K i = if i < k then K0 i else if i = k then K k else K0 (i - 1)) → (∀ i, i ≤ F → L i = if i < k then L0 i else if i = k then L k else L0 (i - 1)) →
    wX_insert_6 post (nI pt) key run f_threads f_addresses f_count f_fences f_solved (nI F) f_decisions (d + 1) (nI k) a_threadOf a_addressOf a_constantOf a_reads a_writes a_acquiring a_releasing a_dependency a_fenceThread a_fenceKind a_fencePlace a_start a_wishRead a_wishMemory K L a_seen a_decideFirst a_decideSecond a_tried a_relation a_sequence a_memory a_got := by
  intro d
  induction d with
  | zero =>
    intro k K L hk hkF hK hL
    have : k = pt := by omega
    subst this
    refine br_t (nI_le (Nat.le_refl _) (by omega)) ⟨vp_in_nI (by omega) (by decide), nm_e ⟨vp_in_nI (by omega) (by decide), nm_e (nm_r (nI_1 F) (h _ _ ?_ ?_))⟩⟩
    · intro i hi
      rw [nI_clamp (by omega)]
      by_cases c : i = k
      · subst c
        rw [if_neg (by omega), if_pos rfl, pk_uLs]
      · rw [pk_uLn c, hK i hi, if_neg c, if_neg c]
    · intro i hi
      rw [nI_clamp (by omega)]
      by_cases c : i = k
      · subst c
        rw [if_neg (by omega), if_pos rfl, pk_us]
      · rw [pk_un c, hL i hi, if_neg c, if_neg c]
  | succ d ih =>
    intro k K L hk hkF hK hL
    obtain ⟨k, rfl⟩ : ∃ k', k = k' + 1 := ⟨k - 1, by omega⟩
    have e1 : nI (k + 1) - 1 = nI k := nI_pred k
    have eK : K k = K0 k := by rw [hK k (by omega), if_pos (by omega)]
    have eL : L k = L0 k := by rw [hL k (by omega), if_pos (by omega)]
    refine br_f (nI_ge (by omega) (by omega)) ?_
    rw [e1, nI_clamp (n := k) (by omega), eK, eL]
    refine ⟨vp_in_nI (by omega) (by decide), vp_in_nI (by omega) (by decide), nm_e ⟨vp_in_nI (by omega) (by decide), vp_in_nI (by omega) (by decide), nm_e (nm_r (pk_m1 k) (ih k _ _ (by omega) (by omega) ?_ ?_))⟩⟩
    · intro i hi
      rw [nI_clamp (by omega)]
      by_cases d : i = k + 1
      · subst d
        rw [pk_uLs, if_neg (by omega), if_neg (by omega)]
        rfl
      · rw [pk_uLn d, hK i hi]
        by_cases d1 : i < k
        · rw [if_pos (by omega), if_pos d1]
        · by_cases d2 : i = k
          · subst d2
            rw [if_pos (by omega), if_neg (by omega), if_pos rfl, pk_uLn (by omega), eK]
          · rw [if_neg (by omega), if_neg d, if_neg d1, if_neg d2]
    · intro i hi
      rw [nI_clamp (by omega)]
      by_cases d : i = k + 1
      · subst d
        rw [pk_us, if_neg (by omega), if_neg (by omega)]
        rfl
      · rw [pk_un d, hL i hi]
        by_cases d1 : i < k
        · rw [if_pos (by omega), if_pos d1]
        · by_cases d2 : i = k
          · subst d2
            rw [if_pos (by omega), if_neg (by omega), if_pos rfl, pk_un (by omega), eL]
          · rw [if_neg (by omega), if_neg d, if_neg d1, if_neg d2]
theorem wj_xins {post : SX → Prop} (hF : F < 180) {key : Int64} {run : Int32} {pt : Nat} (hpt : pt ≤ F)
    (h : ∀ K L, wj_ins F pt key a_keys K → wj_ins F pt run a_leastRun L → post (f_threads, f_addresses, f_count, f_fences, f_solved, nI (F + 1), f_decisions, a_threadOf, a_addressOf, a_constantOf, a_reads, a_writes, a_acquiring, a_releasing, a_dependency, a_fenceThread, a_fenceKind, a_fencePlace, a_start, a_wishRead, a_wishMemory, K, L, a_seen, a_decideFirst, a_decideSecond, a_tried, a_relation, a_sequence, a_memory, a_got)) : wpX_insert post (f_threads, f_addresses, f_count, f_fences, f_solved, nI F, f_decisions, a_threadOf, a_addressOf, a_constantOf, a_reads, a_writes, a_acquiring, a_releasing, a_dependency, a_fenceThread, a_fenceKind, a_fencePlace, a_start, a_wishRead, a_wishMemory, a_keys, a_leastRun, a_seen, a_decideFirst, a_decideSecond, a_tried, a_relation, a_sequence, a_memory, a_got) (nI pt) key run := by
  unfold wpX_insert
  refine ⟨F - pt + 1, wj_xins1 hF hpt h (F - pt) F a_keys a_leastRun (by omega) (Nat.le_refl _) ?_ ?_⟩
  · intro i hi
    by_cases c : i < F
    · rw [if_pos c]
    · have : i = F := by omega
      subst this
      rw [if_neg c, if_pos rfl]
  · intro i hi
    by_cases c : i < F
    · rw [if_pos c]
    · have : i = F := by omega
      subst this
      rw [if_neg c, if_pos rfl]
/-- the code of a run in X's digits -/
def wj_cX (N : Nat) (l : List Nat) : Nat := wj_cd 0 l * 8 ^ (6 - N)
theorem wj_cX_lt {N : Nat} {l : List Nat} (hN : N ≤ 6) (hl : wj_P N l) : wj_cd 0 l < 8 ^ N ∧ wj_cX N l < 2 ^ 31 ∧ wj_cd 0 l < 2 ^ 31 := by
  have h1 := wj_cd_lt l (fun x hx => Nat.lt_of_lt_of_le ((wj_P_mem hl).mp hx) (by omega))
  rw [wj_P_len hl] at h1
  have h2 : wj_cd 0 l * 8 ^ (6 - N) < 8 ^ N * 8 ^ (6 - N) := Nat.mul_lt_mul_of_pos_right h1 (Nat.pow_pos (by decide))
  rw [← Nat.pow_add, show N + (6 - N) = 6 from by omega] at h2
  have h3 : (8 : Nat) ^ N ≤ 8 ^ 6 := Nat.pow_le_pow_right (by decide) hN
  refine ⟨h1, Nat.lt_trans h2 (by decide), Nat.lt_of_lt_of_le h1 (Nat.le_trans h3 (by decide))⟩
theorem wj_xfin1 {post : SX → Prop} {S : List Nat → Prop} {M : Nat → Nat → Prop} (hp : wj_pg N a_threadOf a_addressOf on) (hdp : wj_dp a_dependency on) (hf : ∀ x, x < 3 → wj_dg (a_start x))
    {m : Nat} (hm : m < 2 ^ 36) (hS : wj_S N (wj_R m)) (hF : F ≤ 180)
    (hD : ∀ l l', wj_E N M l → wj_E N M l' → wj_out a_addressOf a_constantOf a_reads a_writes on a_start l ≠ wj_out a_addressOf a_constantOf a_reads a_writes on a_start l' → wj_D N a_addressOf a_writes l l')
    (hB : ∀ Ls : List (List Nat), (∀ l, l ∈ Ls → wj_E N M l) → Ls.Pairwise (wj_D N a_addressOf a_writes) → Ls.length ≤ 180)
    (hSM : ∀ l, S l → wj_E N M l) (hEM : ∀ l, wj_E N (wj_R m) l → wj_E N M l)
    (hleaf : ∀ l l', wj_E N (wj_R m) l → wj_E N (wj_R m) l' → wj_out a_addressOf a_constantOf a_reads a_writes on a_start l = wj_out a_addressOf a_constantOf a_reads a_writes on a_start l')
    (T : wj_T S (wj_out a_addressOf a_constantOf a_reads a_writes on a_start) (wj_cX N) F a_keys a_leastRun)
    (h : ∀ F' K L sq mm g, F' ≤ 180 → wj_T (fun l => S l ∨ wj_E N (wj_R m) l) (wj_out a_addressOf a_constantOf a_reads a_writes on a_start) (wj_cX N) F' K L → post (f_threads, f_addresses, nI N, f_fences, f_solved, nI F', f_decisions, a_threadOf, a_addressOf, a_constantOf, a_reads, a_writes, a_acquiring, a_releasing, a_dependency, a_fenceThread, a_fenceKind, a_fencePlace, a_start, a_wishRead, a_wishMemory, K, L, a_seen, a_decideFirst, a_decideSecond, a_tried, a_relation, sq, mm, g)) :
    wpX_finish post (f_threads, f_addresses, nI N, f_fences, f_solved, nI F, f_decisions, a_threadOf, a_addressOf, a_constantOf, a_reads, a_writes, a_acquiring, a_releasing, a_dependency, a_fenceThread, a_fenceKind, a_fencePlace, a_start, a_wishRead, a_wishMemory, a_keys, a_leastRun, a_seen, a_decideFirst, a_decideSecond, a_tried, a_relation, a_sequence, a_memory, a_got) (lN m) 1 := by
  have h6 := hp.1
  unfold wpX_finish
  refine wj_xleast h6 hm hS ?_
  intro u sq hG hu hsq
  have hE : wj_E N (wj_R m) u := wj_G_E hS hG hu
  refine wj_xexec hp hdp hf hE.1 hsq ?_
  intro mm g
  refine wj_xlow hF T.1 ?_
  intro k hk hlo hhi
  have hS' : ∀ l, (S l ∨ wj_E N (wj_R m) l) → S l ∨ (wj_out a_addressOf a_constantOf a_reads a_writes on a_start l = wj_out a_addressOf a_constantOf a_reads a_writes on a_start u ∧ wj_cX N u ≤ wj_cX N l) := by
    rintro l (z | z)
    · exact Or.inl z
    · exact Or.inr ⟨hleaf l u z hE, Nat.mul_le_mul_right _ (wj_G_least (by omega) hG hu z)⟩
  have hS1 : ∀ l, S l → S l ∨ wj_E N (wj_R m) l := fun l z => Or.inl z
  have hM' : ∀ l, (S l ∨ wj_E N (wj_R m) l) → wj_E N M l := by
    rintro l (z | z)
    · exact hSM l z
    · exact hEM l z
  have hx : ∃ l, (S l ∨ wj_E N (wj_R m) l) ∧ wj_out a_addressOf a_constantOf a_reads a_writes on a_start l = wj_out a_addressOf a_constantOf a_reads a_writes on a_start u ∧ wj_cX N l = wj_cX N u := ⟨u, Or.inr hE, rfl, rfl⟩
  have hcd : ∀ l, (S l ∨ wj_E N (wj_R m) l) → wj_cX N l < 2 ^ 31 := fun l z => (wj_cX_lt h6 (hM' l z).1).2.1
  have new : (∀ i, i < F → a_keys i ≠ lN (wj_out a_addressOf a_constantOf a_reads a_writes on a_start u)) → wX_finish_47 post 1 (nI (wj_cX N u)) (lN (wj_out a_addressOf a_constantOf a_reads a_writes on a_start u)) (nI k) f_threads f_addresses (nI N) f_fences f_solved (nI F) f_decisions a_threadOf a_addressOf a_constantOf a_reads a_writes a_acquiring a_releasing a_dependency a_fenceThread a_fenceKind a_fencePlace a_start a_wishRead a_wishMemory a_keys a_leastRun a_seen a_decideFirst a_decideSecond a_tried a_relation sq mm g := by
    intro hn
    have hlt : F < 180 := wj_T_room (S' := fun l => S l ∨ wj_E N (wj_R m) l) T (fun l l' z z' ne => hD l l' (hM' l z) (hM' l' z') ne) hS1 (fun Ls z1 z2 => hB Ls (fun l hl => hM' l (z1 l hl)) z2) (l0 := u) (Or.inr hE) hn
    refine br_f (by decide) (br_t rfl (br_f (nI_ge (a := F) (b := 180) hlt (by decide)) ?_))
    refine wj_xins hlt hk ?_
    intro K L iK iL
    refine h (F + 1) K L sq mm g (by omega) (wj_T_ins T hS' hS1 hx hcd hk hlo ?_ iK iL)
    intro i h1 h2
    have z1 := hhi i h1 h2
    have z2 := hn i h2
    rw [Int64.le_iff_toInt_le] at z1
    rw [Int64.lt_iff_toInt_lt]
    have z3 : (a_keys i).toInt ≠ (lN (wj_out a_addressOf a_constantOf a_reads a_writes on a_start u)).toInt := fun z => z2 (Int64.toInt_inj.mp z)
    omega
  by_cases c : F ≤ k
  · refine br_t (nI_le c (by omega)) (new ?_)
    intro i hi z
    have := hlo i (by omega)
    rw [z] at this
    exact wj_lt_ir this
  · refine br_f (nI_ge (by omega) (by omega)) ⟨vp_in_nI (by omega) (by decide), ?_⟩
    rw [nI_clamp (by omega)]
    refine br_c (fun d => br_f (by decide) (br_f (by decide) ⟨vp_in_nI (by omega) (by decide), ?_⟩)) (fun d => new ?_)
    · rw [nI_clamp (by omega)]
      refine br_c (fun e => h F a_keys a_leastRun sq mm g hF (wj_T_old T hS' hS1 hcd (by omega) d e)) (fun e => ⟨vp_in_nI (by omega) (by decide), nm_e (h F a_keys _ sq mm g hF (wj_T_low T hS' hS1 hx hcd (by omega) d e))⟩)
    · intro i hi z
      rcases Nat.lt_trichotomy i k with hik | hik | hik
      · have := hlo i hik
        rw [z] at this
        exact wj_lt_ir this
      · subst hik; exact d z
      · have h1 := T.1 k i hik hi
        have h2 := hhi k (Nat.le_refl _) (by omega)
        rw [z] at h1
        rw [Int64.lt_iff_toInt_lt] at h1
        rw [Int64.le_iff_toInt_le] at h2
        omega
/-- the outcomes that were seen -/
def wj_Sn (S : List Nat → Prop) (ky : List Nat → Nat) (F : Nat) (K : Nat → Int64) (sn : Nat → Int32) : Prop := ∀ i, i < F → (¬ sn i = 0 ↔ ∃ l, S l ∧ K i = lN (ky l))
theorem wj_xfin0 {post : SX → Prop} {S S0 : List Nat → Prop} {cd : List Nat → Nat} (hp : wj_pg N a_threadOf a_addressOf on) (hdp : wj_dp a_dependency on) (hf : ∀ x, x < 3 → wj_dg (a_start x))
    {m : Nat} (hm : m < 2 ^ 36) (hS : wj_S N (wj_R m)) (hF : F ≤ 180) (hEM : ∀ l, wj_E N (wj_R m) l → S0 l)
    (hleaf : ∀ l l', wj_E N (wj_R m) l → wj_E N (wj_R m) l' → wj_out a_addressOf a_constantOf a_reads a_writes on a_start l = wj_out a_addressOf a_constantOf a_reads a_writes on a_start l')
    (T : wj_T S0 (wj_out a_addressOf a_constantOf a_reads a_writes on a_start) cd F a_keys a_leastRun)
    (Z : wj_Sn S (wj_out a_addressOf a_constantOf a_reads a_writes on a_start) F a_keys a_seen)
    (h : ∀ sn sq mm g, wj_Sn (fun l => S l ∨ wj_E N (wj_R m) l) (wj_out a_addressOf a_constantOf a_reads a_writes on a_start) F a_keys sn → post (f_threads, f_addresses, nI N, f_fences, f_solved, nI F, f_decisions, a_threadOf, a_addressOf, a_constantOf, a_reads, a_writes, a_acquiring, a_releasing, a_dependency, a_fenceThread, a_fenceKind, a_fencePlace, a_start, a_wishRead, a_wishMemory, a_keys, a_leastRun, sn, a_decideFirst, a_decideSecond, a_tried, a_relation, sq, mm, g)) :
    wpX_finish post (f_threads, f_addresses, nI N, f_fences, f_solved, nI F, f_decisions, a_threadOf, a_addressOf, a_constantOf, a_reads, a_writes, a_acquiring, a_releasing, a_dependency, a_fenceThread, a_fenceKind, a_fencePlace, a_start, a_wishRead, a_wishMemory, a_keys, a_leastRun, a_seen, a_decideFirst, a_decideSecond, a_tried, a_relation, a_sequence, a_memory, a_got) (lN m) 0 := by
  have h6 := hp.1
  unfold wpX_finish
  refine wj_xleast h6 hm hS ?_
  intro u sq hG hu hsq
  have hE : wj_E N (wj_R m) u := wj_G_E hS hG hu
  refine wj_xexec hp hdp hf hE.1 hsq ?_
  intro mm g
  refine wj_xlow hF T.1 ?_
  intro k hk hlo hhi
  obtain ⟨i, hi, hK, _⟩ := T.2.2 u (hEM u hE)
  have hki : k ≤ i := by
    rcases Nat.lt_or_ge i k with z | z
    · have := hlo i z
      rw [hK] at this
      exact absurd this wj_lt_ir
    · exact z
  have hKk : a_keys k = lN (wj_out a_addressOf a_constantOf a_reads a_writes on a_start u) := by
    by_cases e : k = i
    · rw [e]; exact hK
    · have h1 := T.1 k i (by omega) hi
      have h2 := hhi k (Nat.le_refl _) (by omega)
      rw [hK] at h1
      rw [Int64.lt_iff_toInt_lt] at h1
      rw [Int64.le_iff_toInt_le] at h2
      omega
  refine br_f (nI_ge (by omega) (by omega)) ⟨vp_in_nI (by omega) (by decide), ?_⟩
  rw [nI_clamp (by omega)]
  refine br_t hKk (br_t rfl (br_f (by decide) ⟨vp_in_nI (by omega) (by decide), nm_r (e' := upd a_seen k 1) (by rw [nI_clamp (by omega)]; rfl) (h _ sq mm g ?_)⟩))
  intro j hj
  by_cases e : j = k
  · subst e
    rw [pk_us]
    exact ⟨fun _ => ⟨u, Or.inr hE, hKk⟩, fun _ => by decide⟩
  · rw [pk_un e, Z j hj]
    constructor
    · rintro ⟨l, z1, z2⟩
      exact ⟨l, Or.inl z1, z2⟩
    · rintro ⟨l, z1 | z1, z2⟩
      · exact ⟨l, z1, z2⟩
      · exfalso
        rw [hleaf l u z1 hE, ← hKk] at z2
        rcases Nat.lt_trichotomy j k with w | w | w
        · have := T.1 j k w (by omega); rw [z2] at this; exact wj_lt_ir this
        · exact e w
        · have := T.1 k j w hj; rw [z2] at this; exact wj_lt_ir this
end
end
section
/-! X: orderPair, readFrom, advance -/
def wj_dd (N : Nat) (ad wr : Nat → Int32) (R : Nat → Nat → Prop) (a : Nat) (b : Option Nat) : Prop :=
  match b with
  | some b => R a b ∨ R b a
  | none => ∀ v, v < N → v ≠ a → ¬ wr v = 0 → ad v = ad a → R v a ∨ R a v
def wj_oi (o : Option Nat) : Int32 :=
  match o with
  | some w => nI w
  | none => -1
section
variable {f_threads f_addresses f_count f_fences f_solved f_found f_decisions : Int32} {a_threadOf a_addressOf a_constantOf a_reads a_writes a_acquiring a_releasing a_dependency a_fenceThread a_fenceKind a_fencePlace a_start a_wishRead a_wishMemory a_leastRun a_seen a_decideFirst a_decideSecond a_tried a_sequence a_memory a_got : Nat → Int32} {a_keys a_relation : Nat → Int64}
variable {N : Nat}
theorem wj_xop42 {post : Int64 → Prop} {m x y : Nat} (hN : N ≤ 6) (hm : m < 2 ^ 36) (S : wj_S N (wj_R m)) (hx : x < N) (hy : y < N) (ne : x ≠ y)
    (hfail : (∀ l, wj_E N (wj_R m) l → ¬ wj_bf l x y) → post (-1))
    (hok : ∀ m', m' < 2 ^ 36 → wj_S N (wj_R m') → (∀ l, wj_E N (wj_R m') l ↔ wj_E N (wj_R m) l ∧ wj_bf l x y) → (∀ i j, wj_R m i j → wj_R m' i j) → wj_R m' x y → post (lN m')) : wX_orderPair_42 post (lN m) (nI x) (nI y) f_threads f_addresses f_count f_fences f_solved f_found f_decisions a_threadOf a_addressOf a_constantOf a_reads a_writes a_acquiring a_releasing a_dependency a_fenceThread a_fenceKind a_fencePlace a_start a_wishRead a_wishMemory a_keys a_leastRun a_seen a_decideFirst a_decideSecond a_tried a_relation a_sequence a_memory a_got := by
  unfold wX_orderPair_42
  refine wj_before hm (by omega) (by omega) (fun hr => br_f (by decide) (hfail ?_)) (fun hr => br_t rfl ?_)
  · intro l hl
    exact wj_bf_as (hl.2 _ _ hr)
  · refine wj_join hN S hm hx hy ?_
    intro m' hm' hR
    refine hok m' hm' ?_ ?_ ?_ ?_
    · rw [hR]; exact wj_J_S S hx hy ne hr
    · intro l; rw [hR]; exact wj_E_J
    · intro i j hij; rw [hR]; exact Or.inl hij
    · rw [hR]; exact Or.inr ⟨Or.inl rfl, Or.inl rfl⟩
theorem wj_xop {post : Int64 → Prop} {m a b c d : Nat} (hN : N ≤ 6) (hm : m < 2 ^ 36) (S : wj_S N (wj_R m)) (hd : d < 24) (hc : c < 2) (hdec : wj_dec N a_addressOf a_reads a_writes a (some b)) (hF : a_decideFirst d = nI a) (hS : a_decideSecond d = nI b)
    (hfail : (∀ l, wj_E N (wj_R m) l → ¬ wj_An N a_addressOf a_writes l a (some b) c) → post (-1))
    (hok : ∀ m', m' < 2 ^ 36 → wj_S N (wj_R m') → (∀ l, wj_E N (wj_R m') l ↔ wj_E N (wj_R m) l ∧ wj_An N a_addressOf a_writes l a (some b) c) → (∀ i j, wj_R m i j → wj_R m' i j) → wj_dd N a_addressOf a_writes (wj_R m') a (some b) → post (lN m')) : wpX_orderPair post (f_threads, f_addresses, f_count, f_fences, f_solved, f_found, f_decisions, a_threadOf, a_addressOf, a_constantOf, a_reads, a_writes, a_acquiring, a_releasing, a_dependency, a_fenceThread, a_fenceKind, a_fencePlace, a_start, a_wishRead, a_wishMemory, a_keys, a_leastRun, a_seen, a_decideFirst, a_decideSecond, a_tried, a_relation, a_sequence, a_memory, a_got) (lN m) (nI d) (nI c) := by
  obtain ⟨h1, h2, h3, h4, h5⟩ := hdec
  have ed : (nI d).toNatClampNeg = d := nI_clamp (by omega)
  have id : vp_in (nI d) 24 := vp_in_nI hd (by decide)
  unfold wpX_orderPair
  dsimp only
  rw [ed, hF, hS]
  rcases (by omega : c = 0 ∨ c = 1) with rfl | rfl
  · refine br_t rfl ⟨id, ?_⟩
    unfold wX_orderPair_20
    rw [ed, hF, hS]
    refine br_t rfl ⟨id, ?_⟩
    refine wj_xop42 hN hm S (by omega) h2 (by omega) ?_ ?_
    · intro z
      refine hfail ?_
      rintro l hl (⟨_, w⟩ | ⟨w, _⟩)
      · exact z l hl w
      · omega
    · intro m' g1 g2 g3 g4 g5
      refine hok m' g1 g2 ?_ g4 (Or.inl g5)
      intro l
      rw [g3]
      constructor
      · rintro ⟨w1, w2⟩; exact ⟨w1, Or.inl ⟨rfl, w2⟩⟩
      · rintro ⟨w1, ⟨_, w⟩ | ⟨w, _⟩⟩
        · exact ⟨w1, w⟩
        · omega
  · refine br_f (by decide) ⟨id, ?_⟩
    unfold wX_orderPair_20
    rw [ed, hF, hS]
    refine br_f (by decide) ⟨id, ?_⟩
    refine wj_xop42 hN hm S h2 (by omega) (by omega) ?_ ?_
    · intro z
      refine hfail ?_
      rintro l hl (⟨w, _⟩ | ⟨_, w⟩)
      · omega
      · exact z l hl w
    · intro m' g1 g2 g3 g4 g5
      refine hok m' g1 g2 ?_ g4 (Or.inr g5)
      intro l
      rw [g3]
      constructor
      · rintro ⟨w1, w2⟩; exact ⟨w1, Or.inr ⟨rfl, w2⟩⟩
      · rintro ⟨w1, ⟨w, _⟩ | ⟨_, w⟩⟩
        · omega
        · exact ⟨w1, w⟩
/-- after the events below v were looked at -/
def wj_RI (N : Nat) (ad wr : Nat → Int32) (m e : Nat) (o : Option Nat) (v q : Nat) : Prop :=
  q < 2 ^ 36 ∧ wj_S N (wj_R q) ∧ (∀ x y, wj_R m x y → wj_R q x y) ∧ (∀ w, o = some w → wj_R q w e) ∧ (∀ v', v' < v → wj_Q N ad wr (wj_R m) e o v' → wj_R q e v') ∧
  ∀ l, wj_E N (wj_R m) l → (∀ w, o = some w → wj_bf l w e) → (∀ v', v' < v → wj_Q N ad wr (wj_R m) e o v' → wj_bf l e v') → wj_E N (wj_R q) l
theorem wj_RI_skip {ad wr : Nat → Int32} {m e v q : Nat} {o : Option Nat} (I : wj_RI N ad wr m e o v q) (hn : ¬ wj_Q N ad wr (wj_R m) e o v) : wj_RI N ad wr m e o (v + 1) q := by
  obtain ⟨i1, i2, i3, i4, i5, i6⟩ := I
  refine ⟨i1, i2, i3, i4, ?_, ?_⟩
  · intro v' hv' hQ
    by_cases e1 : v' = v
    · rw [e1] at hQ; exact absurd hQ hn
    · exact i5 v' (by omega) hQ
  · intro l h1 h2 h3
    exact i6 l h1 h2 (fun v' hv' => h3 v' (by omega))
theorem wj_xrf1 {post : Int64 → Prop} {m e : Nat} {o : Option Nat} (hN : N ≤ 6) (hm : m < 2 ^ 36) (he : e < N) (hT : wj_tot N a_addressOf a_writes (wj_R m)) (hcan : wj_can N a_addressOf a_writes e o)
    (hfail : (∀ l, wj_E N (wj_R m) l → ¬ wj_RF N a_addressOf a_writes l e o) → post (-1))
    (hok : ∀ m', m' < 2 ^ 36 → wj_S N (wj_R m') → (∀ l, wj_E N (wj_R m') l ↔ wj_E N (wj_R m) l ∧ wj_RF N a_addressOf a_writes l e o) → (∀ i j, wj_R m i j → wj_R m' i j) → wj_dd N a_addressOf a_writes (wj_R m') e none → post (lN m')) :
    ∀ d v q : Nat, v + d = N → wj_RI N a_addressOf a_writes m e o v q → wX_readFrom_75 post (lN m) (nI e) (wj_oi o) f_threads f_addresses (nI N) f_fences f_solved f_found f_decisions a_threadOf a_addressOf a_constantOf a_reads a_writes a_acquiring a_releasing a_dependency a_fenceThread a_fenceKind a_fencePlace a_start a_wishRead a_wishMemory a_keys a_leastRun a_seen a_decideFirst a_decideSecond a_tried a_relation a_sequence a_memory a_got (d + 1) (lN q) (nI v) := by
  intro d
  induction d with
  | zero =>
    intro v q hv I
    have : v = N := by omega
    subst this
    obtain ⟨i1, i2, i3, i4, i5, i6⟩ := I
    refine br_t (nI_le (Nat.le_refl _) (by omega)) (hok q i1 i2 ?_ i3 ?_)
    · intro l
      constructor
      · intro hl
        have hl' : wj_E v (wj_R m) l := ⟨hl.1, fun a b hab => hl.2 a b (i3 a b hab)⟩
        refine ⟨hl', (wj_RF_iff hl' hT hcan).mpr ⟨fun w hw => hl.2 _ _ (i4 w hw), fun v' hQ => hl.2 _ _ (i5 v' hQ.1 hQ)⟩⟩
      · rintro ⟨hl, hrf⟩
        have := (wj_RF_iff hl hT hcan).mp hrf
        exact i6 l hl this.1 (fun v' _ hQ => this.2 v' hQ)
    · intro v' hv' ne hw ha
      by_cases ho : o = some v'
      · exact Or.inl (i4 v' ho)
      · cases o with
        | none => exact Or.inr (i5 v' hv' ⟨hv', ne, ho, hw, ha, (fun w hw => nomatch hw)⟩)
        | some w =>
          obtain ⟨c1, c2, c3, c4⟩ := hcan w rfl
          have nw : v' ≠ w := fun z => ho (by rw [z])
          rcases hT v' w hv' c1 nw hw c3 (by rw [ha, c4]) with z | z
          · exact Or.inl (i2.2.2 _ _ _ (i3 _ _ z) (i4 w rfl))
          · exact Or.inr (i5 v' hv' ⟨hv', ne, ho, hw, ha, (fun w' hw' => by cases hw'; exact z)⟩)
  | succ d ih =>
    intro v q hv I
    have ev : (nI v).toNatClampNeg = v := nI_clamp (by omega)
    have ee : (nI e).toNatClampNeg = e := nI_clamp (by omega)
    have iv : vp_in (nI v) 6 := vp_in_nI (by omega) (by decide)
    have ie : vp_in (nI e) 6 := vp_in_nI (by omega) (by decide)
    have skip : ¬ wj_Q N a_addressOf a_writes (wj_R m) e o v → wX_readFrom_75 post (lN m) (nI e) (wj_oi o) f_threads f_addresses (nI N) f_fences f_solved f_found f_decisions a_threadOf a_addressOf a_constantOf a_reads a_writes a_acquiring a_releasing a_dependency a_fenceThread a_fenceKind a_fencePlace a_start a_wishRead a_wishMemory a_keys a_leastRun a_seen a_decideFirst a_decideSecond a_tried a_relation a_sequence a_memory a_got (d + 1) (lN q) (nI (v + 1)) := fun hn => ih (v + 1) q (by omega) (wj_RI_skip I hn)
    have s127 : ¬ wj_Q N a_addressOf a_writes (wj_R m) e o v → wX_readFrom_127 post (wX_readFrom_75 post (lN m) (nI e) (wj_oi o) f_threads f_addresses (nI N) f_fences f_solved f_found f_decisions a_threadOf a_addressOf a_constantOf a_reads a_writes a_acquiring a_releasing a_dependency a_fenceThread a_fenceKind a_fencePlace a_start a_wishRead a_wishMemory a_keys a_leastRun a_seen a_decideFirst a_decideSecond a_tried a_relation a_sequence a_memory a_got (d + 1)) (lN m) (nI e) (wj_oi o) (lN q) (nI v) f_threads f_addresses (nI N) f_fences f_solved f_found f_decisions a_threadOf a_addressOf a_constantOf a_reads a_writes a_acquiring a_releasing a_dependency a_fenceThread a_fenceKind a_fencePlace a_start a_wishRead a_wishMemory a_keys a_leastRun a_seen a_decideFirst a_decideSecond a_tried a_relation a_sequence a_memory a_got := fun hn => br_t rfl (nm_r (nI_1 v) (skip hn))
    have s151 : wj_Q N a_addressOf a_writes (wj_R m) e o v → wX_readFrom_151 post (wX_readFrom_75 post (lN m) (nI e) (wj_oi o) f_threads f_addresses (nI N) f_fences f_solved f_found f_decisions a_threadOf a_addressOf a_constantOf a_reads a_writes a_acquiring a_releasing a_dependency a_fenceThread a_fenceKind a_fencePlace a_start a_wishRead a_wishMemory a_keys a_leastRun a_seen a_decideFirst a_decideSecond a_tried a_relation a_sequence a_memory a_got (d + 1)) (lN m) (nI e) (wj_oi o) (lN q) (nI v) f_threads f_addresses (nI N) f_fences f_solved f_found f_decisions a_threadOf a_addressOf a_constantOf a_reads a_writes a_acquiring a_releasing a_dependency a_fenceThread a_fenceKind a_fencePlace a_start a_wishRead a_wishMemory a_keys a_leastRun a_seen a_decideFirst a_decideSecond a_tried a_relation a_sequence a_memory a_got := by
      intro hQ
      obtain ⟨i1, i2, i3, i4, i5, i6⟩ := I
      unfold wX_readFrom_151
      refine wj_before i1 (by omega) (by omega) (fun hr => br_f (by decide) (hfail ?_)) (fun hr => br_t rfl ?_)
      · intro l hl hrf
        have h2 := (wj_RF_iff hl hT hcan).mp hrf
        have h3 := i6 l hl h2.1 (fun v' _ hQ' => h2.2 v' hQ')
        exact wj_bf_as (h2.2 v hQ) (h3.2 _ _ hr)
      · refine wj_join hN i2 i1 he (by omega) ?_
        intro m' hm' hR
        refine nm_r (nI_1 v) (ih (v + 1) m' (by omega) ⟨hm', ?_, ?_, ?_, ?_, ?_⟩)
        · rw [hR]; exact wj_J_S i2 he (by omega) (Ne.symm hQ.2.1) hr
        · intro x y hxy; rw [hR]; exact Or.inl (i3 x y hxy)
        · intro w hw; rw [hR]; exact Or.inl (i4 w hw)
        · intro v' hv' hQ'
          rw [hR]
          by_cases e1 : v' = v
          · rw [e1]; exact Or.inr ⟨Or.inl rfl, Or.inl rfl⟩
          · exact Or.inl (i5 v' (by omega) hQ')
        · intro l h1 h2 h3
          rw [hR]
          exact wj_E_J.mpr ⟨i6 l h1 h2 (fun v' hv' => h3 v' (by omega)), h3 v (by omega) hQ⟩
    have owv : nI v = wj_oi o ↔ o = some v := by
      cases o with
      | none =>
        constructor
        · intro z
          exfalso
          have : ¬ nI v < 0 := nI_pos (by omega)
          rw [z] at this
          exact this (by decide)
        · intro z; cases z
      | some w =>
        have hw := (hcan w rfl).1
        constructor
        · intro z
          have : v = w := (nI_eq (by omega) (by omega)).mp z
          rw [this]
        · intro z; cases z; rfl
    refine br_f (nI_ge (by omega) (by omega)) (br_c (fun c => s127 (fun z => z.2.1 ((nI_eq (by omega) (by omega)).mp c))) (fun c => br_c (fun c' => s127 (fun z => z.2.2.1 (owv.mp c'))) (fun c' => ?_)))
    rw [ev, ee]
    refine ⟨iv, br_c (fun c2 => s127 (fun z => z.2.2.2.1 c2)) (fun c2 => ⟨iv, ie, br_c (fun c3 => br_f (by decide) ?_) (fun c3 => s127 (fun z => c3 z.2.2.2.2.1))⟩)⟩
    have ne : v ≠ e := fun z => c (by rw [z])
    have no : o ≠ some v := fun z => c' (owv.mpr z)
    cases o with
    | none => exact br_t (by decide) (s151 ⟨by omega, ne, no, c2, c3, (fun w hw => nomatch hw)⟩)
    | some w =>
      have hw := (hcan w rfl).1
      refine br_f (nI_pos (by omega)) (wj_before hm (by omega) (by omega) (fun hr => br_f (by decide) (s151 ⟨by omega, ne, no, c2, c3, (fun w' hw' => by cases hw'; exact hr)⟩)) (fun hr => br_t rfl (nm_r (nI_1 v) (skip (fun z => hr (z.2.2.2.2.2 w rfl))))))
theorem wj_xrf {post : Int64 → Prop} {m e c : Nat} (hN : N ≤ 6) (hm : m < 2 ^ 36) (S : wj_S N (wj_R m)) (he : e < N) (hc : c < 7) (hT : wj_tot N a_addressOf a_writes (wj_R m))
    (hfail : (∀ l, wj_E N (wj_R m) l → ¬ wj_An N a_addressOf a_writes l e none c) → post (-1))
    (hok : ∀ m', m' < 2 ^ 36 → wj_S N (wj_R m') → (∀ l, wj_E N (wj_R m') l ↔ wj_E N (wj_R m) l ∧ wj_An N a_addressOf a_writes l e none c) → (∀ i j, wj_R m i j → wj_R m' i j) → wj_dd N a_addressOf a_writes (wj_R m') e none → post (lN m')) : wpX_readFrom post (f_threads, f_addresses, nI N, f_fences, f_solved, f_found, f_decisions, a_threadOf, a_addressOf, a_constantOf, a_reads, a_writes, a_acquiring, a_releasing, a_dependency, a_fenceThread, a_fenceKind, a_fencePlace, a_start, a_wishRead, a_wishMemory, a_keys, a_leastRun, a_seen, a_decideFirst, a_decideSecond, a_tried, a_relation, a_sequence, a_memory, a_got) (lN m) (nI e) (nI c - 1) := by
  have ee : (nI e).toNatClampNeg = e := nI_clamp (by omega)
  have ie : vp_in (nI e) 6 := vp_in_nI (by omega) (by decide)
  unfold wpX_readFrom
  cases c with
  | zero =>
    have anr : ∀ l, wj_An N a_addressOf a_writes l e none 0 ↔ wj_RF N a_addressOf a_writes l e none := by
      intro l
      constructor
      · rintro (⟨_, w⟩ | ⟨w', w, _⟩)
        · exact w
        · omega
      · intro z; exact Or.inl ⟨rfl, z⟩
    refine br_t (by decide) ⟨N + 1, ?_⟩
    refine wj_xrf1 (o := none) hN hm he hT (fun w hw => nomatch hw) (fun z => hfail (fun l hl w => z l hl ((anr l).mp w))) ?_ N 0 m (by omega) ⟨hm, S, fun x y z => z, (fun w hw => nomatch hw), (fun v' hv' => absurd hv' (Nat.not_lt_zero _)), fun l h1 _ _ => h1⟩
    intro m' g1 g2 g3 g4 g5
    exact hok m' g1 g2 (fun l => by rw [g3, anr]) g4 g5
  | succ w =>
    have anr : ∀ l, wj_An N a_addressOf a_writes l e none (w + 1) ↔ wj_RF N a_addressOf a_writes l e (some w) := by
      intro l
      constructor
      · rintro (⟨w', _⟩ | ⟨w', z1, z2⟩)
        · omega
        · have : w = w' := by omega
          rw [this]; exact z2
      · intro z; exact Or.inr ⟨w, rfl, z⟩
    rw [nI_pred]
    have ew : (nI w).toNatClampNeg = w := nI_clamp (by omega)
    have iw : vp_in (nI w) 6 := vp_in_nI (by omega) (by decide)
    have fl : (∀ l, wj_E N (wj_R m) l → ¬ wj_RF N a_addressOf a_writes l e (some w)) → post (-1) := fun z => hfail (fun l hl q => z l hl ((anr l).mp q))
    refine br_f (nI_pos (by omega)) ?_
    rw [ew, ee]
    refine pk_le N w (fun c1 => fl (fun l hl z => by have := z.1; omega)) (fun c1 => br_c (fun c2 => fl (fun l hl z => z.2.1 ((nI_eq (by omega) (by omega)).mp c2))) (fun c2 => ⟨iw, br_c (fun c3 => fl (fun l hl z => z.2.2.1 c3)) (fun c3 => ⟨iw, ie, br_c (fun c4 => ?_) (fun c4 => fl (fun l hl z => c4 z.2.2.2.1))⟩)⟩))
    have ne : w ≠ e := fun z => c2 (by rw [z])
    refine wj_before hm (by omega) (by omega) (fun hr => br_f (by decide) (fl (fun l hl z => wj_bf_as z.2.2.2.2.1 (hl.2 _ _ hr)))) (fun hr => br_t rfl ?_)
    refine wj_join hN S hm c1 he ?_
    intro q hq hR
    refine ⟨N + 1, ?_⟩
    refine wj_xrf1 (o := some w) hN hm he hT (fun w' hw' => by cases hw'; exact ⟨c1, ne, c3, c4⟩) fl ?_ N 0 q (by omega) ⟨hq, ?_, ?_, ?_, (fun v' hv' => absurd hv' (Nat.not_lt_zero _)), ?_⟩
    · intro m' g1 g2 g3 g4 g5
      exact hok m' g1 g2 (fun l => by rw [g3, anr]) g4 g5
    · rw [hR]; exact wj_J_S S c1 he ne hr
    · intro x y z; rw [hR]; exact Or.inl z
    · intro w' hw'
      cases hw'
      rw [hR]; exact Or.inr ⟨Or.inl rfl, Or.inl rfl⟩
    · intro l h1 h2 _
      rw [hR]
      exact wj_E_J.mpr ⟨h1, h2 w rfl⟩
/-- the decision d is (a, b) -/
def wj_at (dF dS : Nat → Int32) (d a : Nat) (b : Option Nat) : Prop := dF d = nI a ∧ dS d = wj_oi b
theorem wj_xadv87 {post : Int32 → SX → Prop} {d m' : Nat} (hd : d < 23) (hm : m' < 2 ^ 36) (h : post (nI (d + 1)) (f_threads, f_addresses, f_count, f_fences, f_solved, f_found, f_decisions, a_threadOf, a_addressOf, a_constantOf, a_reads, a_writes, a_acquiring, a_releasing, a_dependency, a_fenceThread, a_fenceKind, a_fencePlace, a_start, a_wishRead, a_wishMemory, a_keys, a_leastRun, a_seen, a_decideFirst, a_decideSecond, upd a_tried (d + 1) 0, vp_updL a_relation (d + 1) (lN m'), a_sequence, a_memory, a_got)) : wX_advance_87 post (nI d) (lN m') f_threads f_addresses f_count f_fences f_solved f_found f_decisions a_threadOf a_addressOf a_constantOf a_reads a_writes a_acquiring a_releasing a_dependency a_fenceThread a_fenceKind a_fencePlace a_start a_wishRead a_wishMemory a_keys a_leastRun a_seen a_decideFirst a_decideSecond a_tried a_relation a_sequence a_memory a_got := by
  unfold wX_advance_87
  rw [nI_1, nI_clamp (by omega)]
  have h0 : (0 : Int64) ≤ lN m' := by
    show lN 0 ≤ lN m'
    exact (pk_lLE (by decide) (Nat.lt_trans hm (by decide))).mpr (Nat.zero_le _)
  exact br_t h0 ⟨vp_in_nI (by omega) (by decide), nm_e (br_f (nI_ge (a := d + 1) (b := 24) (by omega) (by decide)) ⟨vp_in_nI (by omega) (by decide), nm_e h⟩)⟩
theorem wj_xadv87f {post : Int32 → SX → Prop} {d : Nat} (h : post (nI d) (f_threads, f_addresses, f_count, f_fences, f_solved, f_found, f_decisions, a_threadOf, a_addressOf, a_constantOf, a_reads, a_writes, a_acquiring, a_releasing, a_dependency, a_fenceThread, a_fenceKind, a_fencePlace, a_start, a_wishRead, a_wishMemory, a_keys, a_leastRun, a_seen, a_decideFirst, a_decideSecond, a_tried, a_relation, a_sequence, a_memory, a_got)) : wX_advance_87 post (nI d) (-1) f_threads f_addresses f_count f_fences f_solved f_found f_decisions a_threadOf a_addressOf a_constantOf a_reads a_writes a_acquiring a_releasing a_dependency a_fenceThread a_fenceKind a_fencePlace a_start a_wishRead a_wishMemory a_keys a_leastRun a_seen a_decideFirst a_decideSecond a_tried a_relation a_sequence a_memory a_got := by
  unfold wX_advance_87
  exact br_f (by decide) h
theorem wj_xadv {post : Int32 → SX → Prop} {m a c d : Nat} {b : Option Nat} (hN : N ≤ 6) (hm : m < 2 ^ 36) (S : wj_S N (wj_R m)) (hd : d < 23) (hdec : wj_dec N a_addressOf a_reads a_writes a b) (hat : wj_at a_decideFirst a_decideSecond d a b)
    (hr : a_relation d = lN m) (htr : a_tried d = nI c) (hT : b = none → wj_tot N a_addressOf a_writes (wj_R m)) (hc : c ≤ wj_nc b)
    (hend : c = wj_nc b → post (nI d - 1) (f_threads, f_addresses, nI N, f_fences, f_solved, f_found, f_decisions, a_threadOf, a_addressOf, a_constantOf, a_reads, a_writes, a_acquiring, a_releasing, a_dependency, a_fenceThread, a_fenceKind, a_fencePlace, a_start, a_wishRead, a_wishMemory, a_keys, a_leastRun, a_seen, a_decideFirst, a_decideSecond, a_tried, a_relation, a_sequence, a_memory, a_got))
    (hfail : c < wj_nc b → (∀ l, wj_E N (wj_R m) l → ¬ wj_An N a_addressOf a_writes l a b c) → post (nI d) (f_threads, f_addresses, nI N, f_fences, f_solved, f_found, f_decisions, a_threadOf, a_addressOf, a_constantOf, a_reads, a_writes, a_acquiring, a_releasing, a_dependency, a_fenceThread, a_fenceKind, a_fencePlace, a_start, a_wishRead, a_wishMemory, a_keys, a_leastRun, a_seen, a_decideFirst, a_decideSecond, upd a_tried d (nI (c + 1)), a_relation, a_sequence, a_memory, a_got))
    (hok : c < wj_nc b → ∀ m', m' < 2 ^ 36 → wj_S N (wj_R m') → (∀ l, wj_E N (wj_R m') l ↔ wj_E N (wj_R m) l ∧ wj_An N a_addressOf a_writes l a b c) → (∀ i j, wj_R m i j → wj_R m' i j) → wj_dd N a_addressOf a_writes (wj_R m') a b →
      post (nI (d + 1)) (f_threads, f_addresses, nI N, f_fences, f_solved, f_found, f_decisions, a_threadOf, a_addressOf, a_constantOf, a_reads, a_writes, a_acquiring, a_releasing, a_dependency, a_fenceThread, a_fenceKind, a_fencePlace, a_start, a_wishRead, a_wishMemory, a_keys, a_leastRun, a_seen, a_decideFirst, a_decideSecond, upd (upd a_tried d (nI (c + 1))) (d + 1) 0, vp_updL a_relation (d + 1) (lN m'), a_sequence, a_memory, a_got)) : wpX_advance post (f_threads, f_addresses, nI N, f_fences, f_solved, f_found, f_decisions, a_threadOf, a_addressOf, a_constantOf, a_reads, a_writes, a_acquiring, a_releasing, a_dependency, a_fenceThread, a_fenceKind, a_fencePlace, a_start, a_wishRead, a_wishMemory, a_keys, a_leastRun, a_seen, a_decideFirst, a_decideSecond, a_tried, a_relation, a_sequence, a_memory, a_got) (nI d) := by
  have ed : (nI d).toNatClampNeg = d := nI_clamp (by omega)
  have id24 : vp_in (nI d) 24 := vp_in_nI (by omega) (by decide)
  have id25 : vp_in (nI d) 25 := vp_in_nI (by omega) (by decide)
  unfold wpX_advance
  dsimp only
  rw [ed, htr]
  cases b with
  | none =>
    have hc7 : c ≤ 7 := hc
    refine ⟨id24, nm_e ⟨id24, br_t (by rw [hat.2]; decide) (br_t rfl ?_)⟩⟩
    unfold wX_advance_33
    rw [ed, hr, hat.1]
    by_cases e : c = 7
    · refine br_f (nI_nlt (a := c) (b := 7) (by omega) (by omega)) (hend e)
    · refine br_t (nI_lt (a := c) (b := 7) (by omega) (by decide)) ⟨id24, nm_r (e' := upd a_tried d (nI (c + 1))) (by rw [nI_1]) (br_t rfl ⟨id25, id24, ?_⟩)⟩
      refine wj_xrf hN hm S hdec.1 (by omega) (hT rfl) ?_ ?_
      · intro z
        exact wj_xadv87f (hfail (by show c < 7; omega) z)
      · intro m' g1 g2 g3 g4 g5
        exact wj_xadv87 hd g1 (hok (by show c < 7; omega) m' g1 g2 g3 g4 g5)
  | some b =>
    have hc2 : c ≤ 2 := hc
    have hb6 : b < 6 := Nat.lt_of_lt_of_le hdec.2.1 hN
    refine ⟨id24, nm_e ⟨id24, br_f (by rw [hat.2]; exact nI_pos (by omega)) (br_f (by decide) ?_)⟩⟩
    unfold wX_advance_33
    rw [ed, hr]
    by_cases e : c = 2
    · refine br_f (nI_nlt (a := c) (b := 2) (by omega) (by omega)) (hend e)
    · refine br_t (nI_lt (a := c) (b := 2) (by omega) (by decide)) ⟨id24, nm_r (e' := upd a_tried d (nI (c + 1))) (by rw [nI_1]) (br_f (by decide) ⟨id25, ?_⟩)⟩
      refine wj_xop hN hm S (by omega) (by omega) hdec hat.1 hat.2 ?_ ?_
      · intro z
        exact wj_xadv87f (hfail (by show c < 2; omega) z)
      · intro m' g1 g2 g3 g4 g5
        exact wj_xadv87 hd g1 (hok (by show c < 2; omega) m' g1 g2 g3 g4 g5)
end
end
section
/-! X: listDecisions -/
def wj_DL (N : Nat) (ad rd wr : Nat → Int32) (P Dn : Nat) (dF dS : Nat → Int32) : Prop :=
  P ≤ 15 ∧ P ≤ Dn ∧ Dn ≤ P + 6 ∧ (∀ d, d < P → ∃ a b, wj_at dF dS d a (some b) ∧ wj_dec N ad rd wr a (some b)) ∧ (∀ d, P ≤ d → d < Dn → ∃ e, wj_at dF dS d e none ∧ wj_dec N ad rd wr e none) ∧
  (∀ a b, wj_dec N ad rd wr a (some b) → ∃ d, d < P ∧ wj_at dF dS d a (some b)) ∧ ∀ e, wj_dec N ad rd wr e none → ∃ d, P ≤ d ∧ d < Dn ∧ wj_at dF dS d e none
def wj_tri : Nat → Nat
  | 0 => 0
  | b + 1 => wj_tri b + b
theorem wj_tri_le : ∀ b, b ≤ 6 → wj_tri b ≤ 15 := by decide
def wj_IP (N : Nat) (ad rd wr : Nat → Int32) (b a Dn : Nat) (dF dS : Nat → Int32) : Prop :=
  Dn ≤ wj_tri b + a ∧ (∀ d, d < Dn → ∃ x y, wj_at dF dS d x (some y) ∧ wj_dec N ad rd wr x (some y)) ∧ ∀ x y, wj_dec N ad rd wr x (some y) → (y < b ∨ (y = b ∧ x < a)) → ∃ d, d < Dn ∧ wj_at dF dS d x (some y)
theorem wj_IP_skip {N : Nat} {ad rd wr : Nat → Int32} {b a Dn : Nat} {dF dS : Nat → Int32} (I : wj_IP N ad rd wr b a Dn dF dS) (h : ¬ wj_dec N ad rd wr a (some b)) : wj_IP N ad rd wr b (a + 1) Dn dF dS := by
  obtain ⟨i1, i2, i3⟩ := I
  refine ⟨by omega, i2, ?_⟩
  intro x y hd hp
  by_cases e : x = a ∧ y = b
  · rw [e.1, e.2] at hd; exact absurd hd h
  · exact i3 x y hd (by omega)
theorem wj_at_new {dF dS : Nat → Int32} {D a : Nat} {b : Option Nat} {v : Int32} (hv : v = wj_oi b) : wj_at (upd dF D (nI a)) (upd dS D v) D a b := ⟨pk_us, by rw [pk_us, hv]⟩
theorem wj_at_old {dF dS : Nat → Int32} {D d a : Nat} {b : Option Nat} {u v : Int32} (hd : d < D) (h : wj_at dF dS d a b) : wj_at (upd dF D u) (upd dS D v) d a b := ⟨by rw [pk_un (by omega)]; exact h.1, by rw [pk_un (by omega)]; exact h.2⟩
theorem wj_IP_add {N : Nat} {ad rd wr : Nat → Int32} {b a Dn : Nat} {dF dS : Nat → Int32} (I : wj_IP N ad rd wr b a Dn dF dS) (h : wj_dec N ad rd wr a (some b)) : wj_IP N ad rd wr b (a + 1) (Dn + 1) (upd dF Dn (nI a)) (upd dS Dn (nI b)) := by
  obtain ⟨i1, i2, i3⟩ := I
  refine ⟨by omega, ?_, ?_⟩
  · intro d hd
    by_cases e : d = Dn
    · rw [e]; exact ⟨a, b, wj_at_new rfl, h⟩
    · obtain ⟨x, y, z1, z2⟩ := i2 d (by omega)
      exact ⟨x, y, wj_at_old (by omega) z1, z2⟩
  · intro x y hd hp
    by_cases e : x = a ∧ y = b
    · rw [e.1, e.2]; exact ⟨Dn, by omega, wj_at_new rfl⟩
    · obtain ⟨d, z1, z2⟩ := i3 x y hd (by omega)
      exact ⟨d, by omega, wj_at_old z1 z2⟩
section
variable {f_threads f_addresses f_count f_fences f_solved f_found f_decisions : Int32} {a_threadOf a_addressOf a_constantOf a_reads a_writes a_acquiring a_releasing a_dependency a_fenceThread a_fenceKind a_fencePlace a_start a_wishRead a_wishMemory a_leastRun a_seen a_decideFirst a_decideSecond a_tried a_sequence a_memory a_got : Nat → Int32} {a_keys a_relation : Nat → Int64}
variable {N : Nat}
theorem wj_xld99 {post : SX → Prop} (hN : N ≤ 6) {P : Nat} (hP : P ≤ 15)
    (h : ∀ P Dn dF dS, wj_DL N a_addressOf a_reads a_writes P Dn dF dS → post (f_threads, f_addresses, nI N, f_fences, f_solved, f_found, nI Dn, a_threadOf, a_addressOf, a_constantOf, a_reads, a_writes, a_acquiring, a_releasing, a_dependency, a_fenceThread, a_fenceKind, a_fencePlace, a_start, a_wishRead, a_wishMemory, a_keys, a_leastRun, a_seen, dF, dS, a_tried, a_relation, a_sequence, a_memory, a_got)) :
    ∀ (d e Dn : Nat) (dF dS : Nat → Int32), e + d = N → P ≤ Dn → Dn ≤ P + e → (∀ d, d < P → ∃ a b, wj_at dF dS d a (some b) ∧ wj_dec N a_addressOf a_reads a_writes a (some b)) → (∀ d, P ≤ d → d < Dn → ∃ e, wj_at dF dS d e none ∧ wj_dec N a_addressOf a_reads a_writes e none) →
    (∀ a b, wj_dec N a_addressOf a_reads a_writes a (some b) → ∃ d, d < P ∧ wj_at dF dS d a (some b)) → (∀ e', e' < e → wj_dec N a_addressOf a_reads a_writes e' none → ∃ d, P ≤ d ∧ d < Dn ∧ wj_at dF dS d e' none) →
    wX_listDecisions_99 post f_threads f_addresses (nI N) f_fences f_solved f_found (d + 1) (nI e) (nI Dn) a_threadOf a_addressOf a_constantOf a_reads a_writes a_acquiring a_releasing a_dependency a_fenceThread a_fenceKind a_fencePlace a_start a_wishRead a_wishMemory a_keys a_leastRun a_seen dF dS a_tried a_relation a_sequence a_memory a_got := by
  intro d
  induction d with
  | zero =>
    intro e Dn dF dS he h1 h2 h3 h4 h5 h6
    have : e = N := by omega
    subst this
    exact br_t (nI_le (Nat.le_refl _) (by omega)) (h P Dn dF dS ⟨hP, h1, by omega, h3, h4, h5, fun e' he' => h6 e' he'.1 he'⟩)
  | succ d ih =>
    intro e Dn dF dS he h1 h2 h3 h4 h5 h6
    have eD : (nI Dn).toNatClampNeg = Dn := nI_clamp (by omega)
    have iD : vp_in (nI Dn) 24 := vp_in_nI (by omega) (by decide)
    refine br_f (nI_ge (by omega) (by omega)) ⟨vp_in_nI (by omega) (by decide), ?_⟩
    rw [nI_clamp (n := e) (by omega), eD]
    refine br_c (fun c => nm_r (nI_1 e) (ih (e + 1) Dn dF dS (by omega) h1 (by omega) h3 h4 h5 ?_)) (fun c => ⟨iD, nm_e ⟨iD, nm_e (nm_r (nI_1 Dn) (nm_r (nI_1 e) (ih (e + 1) (Dn + 1) _ _ (by omega) (by omega) (by omega) ?_ ?_ ?_ ?_)))⟩⟩)
    · intro e' he' hd
      by_cases z : e' = e
      · rw [z] at hd; exact absurd c hd.2
      · exact h6 e' (by omega) hd
    · intro d' hd'
      obtain ⟨a, b, z1, z2⟩ := h3 d' hd'
      exact ⟨a, b, wj_at_old (by omega) z1, z2⟩
    · intro d' hd1 hd2
      by_cases z : d' = Dn
      · rw [z]; exact ⟨e, wj_at_new rfl, by omega, c⟩
      · obtain ⟨e', z1, z2⟩ := h4 d' hd1 (by omega)
        exact ⟨e', wj_at_old (by omega) z1, z2⟩
    · intro a b hab
      obtain ⟨d', z1, z2⟩ := h5 a b hab
      exact ⟨d', z1, wj_at_old (by omega) z2⟩
    · intro e' he' hd
      by_cases z : e' = e
      · rw [z]; exact ⟨Dn, by omega, by omega, wj_at_new rfl⟩
      · obtain ⟨d', z1, z2, z3⟩ := h6 e' (by omega) hd
        exact ⟨d', z1, by omega, wj_at_old (by omega) z3⟩
theorem wj_xld17 {post : SX → Prop} {J : Int32 → Int32 → (Nat → Int32) → (Nat → Int32) → (Nat → Int32) → (Nat → Int32) → (Nat → Int32) → (Nat → Int32) → (Nat → Int32) → (Nat → Int32) → (Nat → Int32) → (Nat → Int32) → (Nat → Int32) → (Nat → Int32) → (Nat → Int32) → (Nat → Int32) → (Nat → Int64) → (Nat → Int32) → (Nat → Int32) → (Nat → Int32) → (Nat → Int32) → (Nat → Int32) → (Nat → Int64) → (Nat → Int32) → (Nat → Int32) → (Nat → Int32) → Prop}
    (hN : N ≤ 6) {b : Nat} (hb : b < N)
    (hJ : ∀ Dn dF dS, wj_IP N a_addressOf a_reads a_writes (b + 1) 0 Dn dF dS → J (nI (b + 1)) (nI Dn) a_threadOf a_addressOf a_constantOf a_reads a_writes a_acquiring a_releasing a_dependency a_fenceThread a_fenceKind a_fencePlace a_start a_wishRead a_wishMemory a_keys a_leastRun a_seen dF dS a_tried a_relation a_sequence a_memory a_got) :
    ∀ (d a Dn : Nat) (dF dS : Nat → Int32), a + d = b → wj_IP N a_addressOf a_reads a_writes b a Dn dF dS → wX_listDecisions_17 post J (nI b) f_threads f_addresses (nI N) f_fences f_solved f_found (d + 1) (nI a) (nI Dn) a_threadOf a_addressOf a_constantOf a_reads a_writes a_acquiring a_releasing a_dependency a_fenceThread a_fenceKind a_fencePlace a_start a_wishRead a_wishMemory a_keys a_leastRun a_seen dF dS a_tried a_relation a_sequence a_memory a_got := by
  intro d
  induction d with
  | zero =>
    intro a Dn dF dS ha I
    have : a = b := by omega
    subst this
    obtain ⟨i1, i2, i3⟩ := I
    refine br_t (nI_le (Nat.le_refl _) (by omega)) (nm_r (nI_1 a) (hJ Dn dF dS ⟨i1, i2, ?_⟩))
    intro x y hd hp
    have := hd.1
    exact i3 x y hd (by omega)
  | succ d ih =>
    intro a Dn dF dS ha I
    have ht := wj_tri_le b (by omega)
    have hD : Dn < 24 := by have := I.1; omega
    have ea : (nI a).toNatClampNeg = a := nI_clamp (by omega)
    have eb : (nI b).toNatClampNeg = b := nI_clamp (by omega)
    have eD : (nI Dn).toNatClampNeg = Dn := nI_clamp (by omega)
    have ia : vp_in (nI a) 6 := vp_in_nI (by omega) (by decide)
    have ib : vp_in (nI b) 6 := vp_in_nI (by omega) (by decide)
    have iD : vp_in (nI Dn) 24 := vp_in_nI (by omega) (by decide)
    refine br_f (nI_ge (by omega) (by omega)) ⟨ia, ?_⟩
    rw [ea, eb, eD]
    exact br_c (fun c => nm_r (nI_1 a) (ih (a + 1) Dn dF dS (by omega) (wj_IP_skip I (fun z => z.2.2.1 c)))) (fun c => ⟨ib, br_c (fun c' => nm_r (nI_1 a) (ih (a + 1) Dn dF dS (by omega) (wj_IP_skip I (fun z => z.2.2.2.1 c')))) (fun c' => ⟨ia, ib, br_c (fun c2 => ⟨iD, nm_e ⟨iD, nm_e (nm_r (nI_1 Dn) (nm_r (nI_1 a) (ih (a + 1) (Dn + 1) _ _ (by omega) (wj_IP_add I ⟨by omega, hb, c, c', c2⟩))))⟩⟩) (fun c2 => nm_r (nI_1 a) (ih (a + 1) Dn dF dS (by omega) (wj_IP_skip I (fun z => c2 z.2.2.2.2))))⟩)⟩)
theorem wj_xld7 {post : SX → Prop} (hN : N ≤ 6)
    (h : ∀ P Dn dF dS, wj_DL N a_addressOf a_reads a_writes P Dn dF dS → post (f_threads, f_addresses, nI N, f_fences, f_solved, f_found, nI Dn, a_threadOf, a_addressOf, a_constantOf, a_reads, a_writes, a_acquiring, a_releasing, a_dependency, a_fenceThread, a_fenceKind, a_fencePlace, a_start, a_wishRead, a_wishMemory, a_keys, a_leastRun, a_seen, dF, dS, a_tried, a_relation, a_sequence, a_memory, a_got)) :
    ∀ (d b Dn : Nat) (dF dS : Nat → Int32), N ≤ b + d → b ≤ 6 → wj_IP N a_addressOf a_reads a_writes b 0 Dn dF dS → wX_listDecisions_7 post f_threads f_addresses (nI N) f_fences f_solved f_found (d + 1) (nI b) (nI Dn) a_threadOf a_addressOf a_constantOf a_reads a_writes a_acquiring a_releasing a_dependency a_fenceThread a_fenceKind a_fencePlace a_start a_wishRead a_wishMemory a_keys a_leastRun a_seen dF dS a_tried a_relation a_sequence a_memory a_got := by
  have fin : ∀ (b Dn : Nat) (dF dS : Nat → Int32), N ≤ b → b ≤ 6 → wj_IP N a_addressOf a_reads a_writes b 0 Dn dF dS → ∃ n99, wX_listDecisions_99 post f_threads f_addresses (nI N) f_fences f_solved f_found n99 0 (nI Dn) a_threadOf a_addressOf a_constantOf a_reads a_writes a_acquiring a_releasing a_dependency a_fenceThread a_fenceKind a_fencePlace a_start a_wishRead a_wishMemory a_keys a_leastRun a_seen dF dS a_tried a_relation a_sequence a_memory a_got := by
    rintro b Dn dF dS hb hb6 ⟨i1, i2, i3⟩
    have ht := wj_tri_le b hb6
    refine ⟨N + 1, wj_xld99 hN (P := Dn) (by omega) h N 0 Dn dF dS (by omega) (Nat.le_refl _) (by omega) i2 (fun d h1 h2 => by omega) ?_ (fun e he => absurd he (Nat.not_lt_zero _))⟩
    intro x y hd
    have := hd.2.1
    exact i3 x y hd (by omega)
  intro d
  induction d with
  | zero =>
    intro b Dn dF dS hb hb6 I
    exact br_t (nI_le (by omega) (by omega)) (fin b Dn dF dS (by omega) hb6 I)
  | succ d ih =>
    intro b Dn dF dS hb hb6 I
    by_cases c : N ≤ b
    · exact br_t (nI_le c (by omega)) (fin b Dn dF dS c hb6 I)
    · exact br_f (nI_ge (by omega) (by omega)) ⟨b + 1, wj_xld17 hN (by omega) (fun Dn dF dS I' => ih (b + 1) Dn dF dS (by omega) (by omega) I') b 0 Dn dF dS (by omega) I⟩
theorem wj_xld {post : SX → Prop} (hN : N ≤ 6)
    (h : ∀ P Dn dF dS, wj_DL N a_addressOf a_reads a_writes P Dn dF dS → post (f_threads, f_addresses, nI N, f_fences, f_solved, f_found, nI Dn, a_threadOf, a_addressOf, a_constantOf, a_reads, a_writes, a_acquiring, a_releasing, a_dependency, a_fenceThread, a_fenceKind, a_fencePlace, a_start, a_wishRead, a_wishMemory, a_keys, a_leastRun, a_seen, dF, dS, a_tried, a_relation, a_sequence, a_memory, a_got)) : wpX_listDecisions post (f_threads, f_addresses, nI N, f_fences, f_solved, f_found, f_decisions, a_threadOf, a_addressOf, a_constantOf, a_reads, a_writes, a_acquiring, a_releasing, a_dependency, a_fenceThread, a_fenceKind, a_fencePlace, a_start, a_wishRead, a_wishMemory, a_keys, a_leastRun, a_seen, a_decideFirst, a_decideSecond, a_tried, a_relation, a_sequence, a_memory, a_got) := by
  unfold wpX_listDecisions
  refine ⟨7, wj_xld7 hN h 6 1 0 a_decideFirst a_decideSecond (by omega) (by decide) ⟨Nat.zero_le _, fun d hd => absurd hd (Nat.not_lt_zero _), ?_⟩⟩
  intro x y hd hp
  have := hd.1
  omega
end
end
section
/-! X: the search -/
def wj_K (P Dn d : Nat) : Nat := 3 * (P - d) + 8 * (Dn - P - (d - P)) + 1
theorem wj_ar1 {K K' nc a c L s sc : Nat} (hK : K = K' + nc + 1) (h : s + K * (181 - a) ≤ 60000) (hs : sc ≤ s + c + K' * L) (hL : a + L ≤ 180) (hc : c ≤ nc) : sc < 60000 ∧ (sc + 1) + K' * (181 - (a + L)) ≤ 60000 := by
  obtain ⟨t, ht⟩ : ∃ t, 181 - (a + L) = t + 1 := ⟨180 - (a + L), by omega⟩
  have e1 : 181 - a = L + (t + 1) := by omega
  rw [ht]
  rw [e1, hK, Nat.add_mul, Nat.add_mul, Nat.mul_add K'] at h
  have e2 : nc ≤ nc * (L + (t + 1)) := Nat.le_mul_of_pos_right _ (by omega)
  omega
theorem wj_ar2 {K K' nc c L s sc : Nat} (hK : K = K' + nc + 1) (hs : sc ≤ s + c + K' * L) (hc : c ≤ nc) (hL : 1 ≤ L) : sc + 1 ≤ s + K * L := by
  rw [hK, Nat.add_mul, Nat.add_mul]
  have e2 : nc ≤ nc * L := Nat.le_mul_of_pos_right _ hL
  omega
/-- all conflicting pairs are ordered -/
def wj_ord (N : Nat) (ad wr : Nat → Int32) (R : Nat → Nat → Prop) : Prop :=
  ∀ a b, a < N → b < N → a ≠ b → ad a = ad b → (¬ wr a = 0 ∨ ¬ wr b = 0) → R a b ∨ R b a
def wj_NS (N : Nat) (ad rd wr dF dS : Nat → Int32) (M : Nat → Nat → Prop) (d m : Nat) : Prop :=
  m < 2 ^ 36 ∧ wj_S N (wj_R m) ∧ (∀ l, wj_E N (wj_R m) l → wj_E N M l) ∧ ∀ d', d' < d → ∀ a b, wj_dec N ad rd wr a b → wj_at dF dS d' a b → wj_dd N ad wr (wj_R m) a b
theorem wj_NS_tot {N P Dn : Nat} {ad rd wr dF dS : Nat → Int32} {M : Nat → Nat → Prop} {d m : Nat} (hDL : wj_DL N ad rd wr P Dn dF dS) (h : wj_NS N ad rd wr dF dS M d m) (hd : P ≤ d) : wj_tot N ad wr (wj_R m) := by
  intro a b ha hb ne hwa hwb had
  rcases Nat.lt_trichotomy a b with h1 | h1 | h1
  · have hdec : wj_dec N ad rd wr a (some b) := ⟨h1, hb, hwa, hwb, had⟩
    obtain ⟨d', z1, z2⟩ := hDL.2.2.2.2.2.1 a b hdec
    exact h.2.2.2 d' (by omega) a (some b) hdec z2
  · exact absurd h1 ne
  · have hdec : wj_dec N ad rd wr b (some a) := ⟨h1, ha, hwb, hwa, had.symm⟩
    obtain ⟨d', z1, z2⟩ := hDL.2.2.2.2.2.1 b a hdec
    exact (h.2.2.2 d' (by omega) b (some a) hdec z2).symm
theorem wj_NS_ord {N P Dn : Nat} {ad rd wr dF dS : Nat → Int32} {M : Nat → Nat → Prop} {m : Nat} (hDL : wj_DL N ad rd wr P Dn dF dS) (hrw : ∀ e, e < N → ¬ rd e = 0 ∨ ¬ wr e = 0) (h : wj_NS N ad rd wr dF dS M Dn m) : wj_ord N ad wr (wj_R m) := by
  have hP := hDL.2.1
  intro a b ha hb ne had hw
  by_cases ca : wr a = 0
  · have hwb : ¬ wr b = 0 := by
      rcases hw with w | w
      · exact absurd ca w
      · exact w
    have hra : ¬ rd a = 0 := by
      rcases hrw a ha with w | w
      · exact w
      · exact absurd ca w
    have hdec : wj_dec N ad rd wr a none := ⟨ha, hra⟩
    obtain ⟨d', z0, z1, z2⟩ := hDL.2.2.2.2.2.2 a hdec
    exact (h.2.2.2 d' z1 a none hdec z2 b hb (Ne.symm ne) hwb had.symm).symm
  · by_cases cb : wr b = 0
    · have hrb : ¬ rd b = 0 := by
        rcases hrw b hb with w | w
        · exact w
        · exact absurd cb w
      have hdec : wj_dec N ad rd wr b none := ⟨hb, hrb⟩
      obtain ⟨d', z0, z1, z2⟩ := hDL.2.2.2.2.2.2 b hdec
      exact h.2.2.2 d' z1 b none hdec z2 a ha ne ca had
    · exact wj_NS_tot hDL h hP a b ha hb ne ca cb had
theorem wj_dd_mono {N : Nat} {ad wr : Nat → Int32} {R R' : Nat → Nat → Prop} {a : Nat} {b : Option Nat} (hR : ∀ x y, R x y → R' x y) (h : wj_dd N ad wr R a b) : wj_dd N ad wr R' a b := by
  cases b with
  | some b =>
    rcases h with h | h
    · exact Or.inl (hR _ _ h)
    · exact Or.inr (hR _ _ h)
  | none =>
    intro v hv ne hw ha
    rcases h v hv ne hw ha with z | z
    · exact Or.inl (hR _ _ z)
    · exact Or.inr (hR _ _ z)
theorem wj_at_un {N : Nat} (hN : N ≤ 6) {ad rd wr dF dS : Nat → Int32} {d a a' : Nat} {b b' : Option Nat} (hd : wj_dec N ad rd wr a b) (hd' : wj_dec N ad rd wr a' b') (h : wj_at dF dS d a b) (h' : wj_at dF dS d a' b') : a = a' ∧ b = b' := by
  have la : a < N := by
    cases b with
    | some b => have h1 := hd.1; have h2 := hd.2.1; omega
    | none => exact hd.1
  have la' : a' < N := by
    cases b' with
    | some b => have h1 := hd'.1; have h2 := hd'.2.1; omega
    | none => exact hd'.1
  have ea : a = a' := (nI_eq (by omega) (by omega)).mp (h.1.symm.trans h'.1)
  refine ⟨ea, ?_⟩
  have eb : wj_oi b = wj_oi b' := h.2.symm.trans h'.2
  cases b with
  | some b =>
    have lb : b < N := hd.2.1
    cases b' with
    | some b' =>
      have lb' : b' < N := hd'.2.1
      have : b = b' := (nI_eq (by omega) (by omega)).mp eb
      rw [this]
    | none =>
      exfalso
      have h1 : ¬ nI b < 0 := nI_pos (by omega)
      have h2 : nI b = -1 := eb
      rw [h2] at h1
      exact h1 (by decide)
  | none =>
    cases b' with
    | some b' =>
      exfalso
      have lb' : b' < N := hd'.2.1
      have h1 : ¬ nI b' < 0 := nI_pos (by omega)
      have h2 : -1 = nI b' := eb
      rw [← h2] at h1
      exact h1 (by decide)
    | none => rfl
def wj_CT (post : SX → Prop) (x3 : Int32) (N P Dn : Nat) (Q : (List Nat → Prop) → Int32 → (Nat → Int64) → (Nat → Int32) → (Nat → Int32) → Prop) (f_threads : Int32) (f_addresses : Int32) (f_fences : Int32) (f_solved : Int32) (a_threadOf : Nat → Int32) (a_addressOf : Nat → Int32) (a_constantOf : Nat → Int32) (a_reads : Nat → Int32) (a_writes : Nat → Int32) (a_acquiring : Nat → Int32) (a_releasing : Nat → Int32) (a_dependency : Nat → Int32) (a_fenceThread : Nat → Int32) (a_fenceKind : Nat → Int32) (a_fencePlace : Nat → Int32) (a_start : Nat → Int32) (a_wishRead : Nat → Int32) (a_wishMemory : Nat → Int32) (a_decideFirst : Nat → Int32) (a_decideSecond : Nat → Int32) (d m s : Nat) (S : List Nat → Prop) (tr0 : Nat → Int32) (rl0 : Nat → Int64) : Prop :=
  ∀ (s' : Nat) (S' : List Nat → Prop) (L : List (List Nat)) (f_found : Int32) (a_keys : Nat → Int64) (a_leastRun : Nat → Int32) (a_seen : Nat → Int32) (a_tried : Nat → Int32) (a_relation : Nat → Int64) (a_sequence : Nat → Int32) (a_memory : Nat → Int32) (a_got : Nat → Int32), (∀ l, l ∈ L → wj_E N (wj_R m) l) → L.Pairwise (wj_D N a_addressOf a_writes) → 1 ≤ L.length → s' ≤ s + wj_K P Dn d * L.length → (∀ i, i < d → a_tried i = tr0 i ∧ a_relation i = rl0 i) →
  (∀ l, S' l ↔ S l ∨ wj_E N (wj_R m) l) → Q S' f_found a_keys a_leastRun a_seen → wX_search_24 post x3 (60001 - s') (nI d - 1) (nI s') f_threads f_addresses (nI N) f_fences f_solved f_found (nI Dn) a_threadOf a_addressOf a_constantOf a_reads a_writes a_acquiring a_releasing a_dependency a_fenceThread a_fenceKind a_fencePlace a_start a_wishRead a_wishMemory a_keys a_leastRun a_seen a_decideFirst a_decideSecond a_tried a_relation a_sequence a_memory a_got
def wj_ND (post : SX → Prop) (x3 : Int32) (N P Dn : Nat) (Q : (List Nat → Prop) → Int32 → (Nat → Int64) → (Nat → Int32) → (Nat → Int32) → Prop) (f_threads : Int32) (f_addresses : Int32) (f_fences : Int32) (f_solved : Int32) (a_threadOf : Nat → Int32) (a_addressOf : Nat → Int32) (a_constantOf : Nat → Int32) (a_reads : Nat → Int32) (a_writes : Nat → Int32) (a_acquiring : Nat → Int32) (a_releasing : Nat → Int32) (a_dependency : Nat → Int32) (a_fenceThread : Nat → Int32) (a_fenceKind : Nat → Int32) (a_fencePlace : Nat → Int32) (a_start : Nat → Int32) (a_wishRead : Nat → Int32) (a_wishMemory : Nat → Int32) (a_decideFirst : Nat → Int32) (a_decideSecond : Nat → Int32) (M : Nat → Nat → Prop) (d : Nat) : Prop :=
  ∀ (m s : Nat) (A : List (List Nat)) (S : List Nat → Prop) (f_found : Int32) (a_keys : Nat → Int64) (a_leastRun : Nat → Int32) (a_seen : Nat → Int32) (a_tried : Nat → Int32) (a_relation : Nat → Int64) (a_sequence : Nat → Int32) (a_memory : Nat → Int32) (a_got : Nat → Int32), wj_NS N a_addressOf a_reads a_writes a_decideFirst a_decideSecond M d m → a_relation d = lN m → (d < Dn → a_tried d = 0) → A.Pairwise (wj_D N a_addressOf a_writes) → (∀ l, l ∈ A → wj_E N M l) →
  (∀ l l', l ∈ A → wj_E N (wj_R m) l' → wj_D N a_addressOf a_writes l l') → s + wj_K P Dn d * (181 - A.length) ≤ 60000 → Q S f_found a_keys a_leastRun a_seen → wj_CT post x3 N P Dn Q f_threads f_addresses f_fences f_solved a_threadOf a_addressOf a_constantOf a_reads a_writes a_acquiring a_releasing a_dependency a_fenceThread a_fenceKind a_fencePlace a_start a_wishRead a_wishMemory a_decideFirst a_decideSecond d m s S a_tried a_relation → wX_search_24 post x3 (60001 - s) (nI d) (nI s) f_threads f_addresses (nI N) f_fences f_solved f_found (nI Dn) a_threadOf a_addressOf a_constantOf a_reads a_writes a_acquiring a_releasing a_dependency a_fenceThread a_fenceKind a_fencePlace a_start a_wishRead a_wishMemory a_keys a_leastRun a_seen a_decideFirst a_decideSecond a_tried a_relation a_sequence a_memory a_got
def wj_FN (x3 : Int32) (N : Nat) (Q : (List Nat → Prop) → Int32 → (Nat → Int64) → (Nat → Int32) → (Nat → Int32) → Prop) (f_threads : Int32) (f_addresses : Int32) (f_fences : Int32) (f_solved : Int32) (a_threadOf : Nat → Int32) (a_addressOf : Nat → Int32) (a_constantOf : Nat → Int32) (a_reads : Nat → Int32) (a_writes : Nat → Int32) (a_acquiring : Nat → Int32) (a_releasing : Nat → Int32) (a_dependency : Nat → Int32) (a_fenceThread : Nat → Int32) (a_fenceKind : Nat → Int32) (a_fencePlace : Nat → Int32) (a_start : Nat → Int32) (a_wishRead : Nat → Int32) (a_wishMemory : Nat → Int32) (a_decideFirst : Nat → Int32) (a_decideSecond : Nat → Int32) (M : Nat → Nat → Prop) (f_decisions : Int32) : Prop :=
  ∀ (S : List Nat → Prop) (m : Nat) (f_found : Int32) (a_keys : Nat → Int64) (a_leastRun : Nat → Int32) (a_seen : Nat → Int32) (a_tried : Nat → Int32) (a_relation : Nat → Int64) (a_sequence : Nat → Int32) (a_memory : Nat → Int32) (a_got : Nat → Int32) (post' : SX → Prop), Q S f_found a_keys a_leastRun a_seen → m < 2 ^ 36 → wj_S N (wj_R m) → (∀ l, wj_E N (wj_R m) l → wj_E N M l) → wj_ord N a_addressOf a_writes (wj_R m) →
  (∀ (f_found : Int32) (a_keys : Nat → Int64) (a_leastRun : Nat → Int32) (a_seen : Nat → Int32) (a_sequence : Nat → Int32) (a_memory : Nat → Int32) (a_got : Nat → Int32), Q (fun l => S l ∨ wj_E N (wj_R m) l) f_found a_keys a_leastRun a_seen → post' (f_threads, f_addresses, nI N, f_fences, f_solved, f_found, f_decisions, a_threadOf, a_addressOf, a_constantOf, a_reads, a_writes, a_acquiring, a_releasing, a_dependency, a_fenceThread, a_fenceKind, a_fencePlace, a_start, a_wishRead, a_wishMemory, a_keys, a_leastRun, a_seen, a_decideFirst, a_decideSecond, a_tried, a_relation, a_sequence, a_memory, a_got)) → wpX_finish post' (f_threads, f_addresses, nI N, f_fences, f_solved, f_found, f_decisions, a_threadOf, a_addressOf, a_constantOf, a_reads, a_writes, a_acquiring, a_releasing, a_dependency, a_fenceThread, a_fenceKind, a_fencePlace, a_start, a_wishRead, a_wishMemory, a_keys, a_leastRun, a_seen, a_decideFirst, a_decideSecond, a_tried, a_relation, a_sequence, a_memory, a_got) (lN m) x3
section
variable {f_threads f_addresses f_count f_fences f_solved f_found f_decisions : Int32} {a_threadOf a_addressOf a_constantOf a_reads a_writes a_acquiring a_releasing a_dependency a_fenceThread a_fenceKind a_fencePlace a_start a_wishRead a_wishMemory a_leastRun a_seen a_decideFirst a_decideSecond a_tried a_sequence a_memory a_got : Nat → Int32} {a_keys a_relation : Nat → Int64}
variable {post : SX → Prop} {x3 : Int32} {N P Dn : Nat} {Q : (List Nat → Prop) → Int32 → (Nat → Int64) → (Nat → Int32) → (Nat → Int32) → Prop} {M : Nat → Nat → Prop}
theorem wj_nd0 (hN : N ≤ 6) (hDL : wj_DL N a_addressOf a_reads a_writes P Dn a_decideFirst a_decideSecond) (hrw : ∀ e, e < N → ¬ a_reads e = 0 ∨ ¬ a_writes e = 0)
    (hB : ∀ Ls : List (List Nat), (∀ l, l ∈ Ls → wj_E N M l) → Ls.Pairwise (wj_D N a_addressOf a_writes) → Ls.length ≤ 180) (hfin : wj_FN x3 N Q f_threads f_addresses f_fences f_solved a_threadOf a_addressOf a_constantOf a_reads a_writes a_acquiring a_releasing a_dependency a_fenceThread a_fenceKind a_fencePlace a_start a_wishRead a_wishMemory a_decideFirst a_decideSecond M (nI Dn)) : wj_ND post x3 N P Dn Q f_threads f_addresses f_fences f_solved a_threadOf a_addressOf a_constantOf a_reads a_writes a_acquiring a_releasing a_dependency a_fenceThread a_fenceKind a_fencePlace a_start a_wishRead a_wishMemory a_decideFirst a_decideSecond M Dn := by
  intro m s A S f_found a_keys a_leastRun a_seen a_tried a_relation a_sequence a_memory a_got hNS hr ht hA1 hA2 hA3 hs hQ hC
  have hA := hB A hA2 hA1
  have hP := hDL.2.1
  have hP1 := hDL.1
  have hP2 := hDL.2.2.1
  have hK : wj_K P Dn Dn = 1 := by unfold wj_K; omega
  rw [hK] at hs
  have e : 60001 - s = (60000 - s) + 1 := by omega
  rw [e]
  refine br_f (nI_ge (a := s) (b := 60000) (by omega) (by decide)) (br_f (nI_pos (by omega)) (br_t rfl ⟨vp_in_nI (by omega) (by decide), ?_⟩))
  rw [nI_clamp (by omega), hr]
  refine hfin S m f_found a_keys a_leastRun a_seen a_tried a_relation a_sequence a_memory a_got _ hQ hNS.1 hNS.2.1 hNS.2.2.1 (wj_NS_ord hDL hrw hNS) ?_
  intro f_found a_keys a_leastRun a_seen a_sequence a_memory a_got hQ'
  obtain ⟨l0, hl0⟩ := wj_E_ex hNS.2.1
  have e2 : 60000 - s = 60001 - (s + 1) := by omega
  refine nm_r (wj_m1 _) (nm_r (nI_1 s) ?_)
  rw [e2]
  refine hC (s + 1) _ [l0] f_found a_keys a_leastRun a_seen a_tried a_relation a_sequence a_memory a_got ?_ (List.pairwise_singleton _ _) (Nat.le_refl _) ?_ (fun i _ => ⟨rfl, rfl⟩) (fun l => Iff.rfl) hQ'
  · intro l hl
    rw [List.mem_singleton] at hl
    rw [hl]; exact hl0
  · rw [hK]; show s + 1 ≤ s + 1 * 1; omega
theorem wj_ch (hN : N ≤ 6) (hDL : wj_DL N a_addressOf a_reads a_writes P Dn a_decideFirst a_decideSecond)
    (hB : ∀ Ls : List (List Nat), (∀ l, l ∈ Ls → wj_E N M l) → Ls.Pairwise (wj_D N a_addressOf a_writes) → Ls.length ≤ 180) {d a : Nat} {b : Option Nat} (hd : d < Dn) (hdec : wj_dec N a_addressOf a_reads a_writes a b) (hat : wj_at a_decideFirst a_decideSecond d a b)
    (hK : wj_K P Dn d = wj_K P Dn (d + 1) + wj_nc b + 1) (hnone : b = none → P ≤ d) (hnode : wj_ND post x3 N P Dn Q f_threads f_addresses f_fences f_solved a_threadOf a_addressOf a_constantOf a_reads a_writes a_acquiring a_releasing a_dependency a_fenceThread a_fenceKind a_fencePlace a_start a_wishRead a_wishMemory a_decideFirst a_decideSecond M (d + 1))
    {m s : Nat} {A : List (List Nat)} {S : List Nat → Prop} {tr0 : Nat → Int32} {rl0 : Nat → Int64} (hNS : wj_NS N a_addressOf a_reads a_writes a_decideFirst a_decideSecond M d m) (hA1 : A.Pairwise (wj_D N a_addressOf a_writes)) (hA2 : ∀ l, l ∈ A → wj_E N M l)
    (hA3 : ∀ l l', l ∈ A → wj_E N (wj_R m) l' → wj_D N a_addressOf a_writes l l') (hs : s + wj_K P Dn d * (181 - A.length) ≤ 60000) (hC : wj_CT post x3 N P Dn Q f_threads f_addresses f_fences f_solved a_threadOf a_addressOf a_constantOf a_reads a_writes a_acquiring a_releasing a_dependency a_fenceThread a_fenceKind a_fencePlace a_start a_wishRead a_wishMemory a_decideFirst a_decideSecond d m s S tr0 rl0) :
    ∀ (r c sc : Nat) (Sc : List Nat → Prop) (L : List (List Nat)) (f_found : Int32) (a_keys : Nat → Int64) (a_leastRun : Nat → Int32) (a_seen : Nat → Int32) (a_tried : Nat → Int32) (a_relation : Nat → Int64) (a_sequence : Nat → Int32) (a_memory : Nat → Int32) (a_got : Nat → Int32), c + r = wj_nc b → a_tried d = nI c → a_relation d = lN m → (∀ i, i < d → a_tried i = tr0 i ∧ a_relation i = rl0 i) →
    (∀ l, l ∈ L → wj_E N (wj_R m) l ∧ ∃ c', c' < c ∧ wj_An N a_addressOf a_writes l a b c') → L.Pairwise (wj_D N a_addressOf a_writes) → ((∃ l, wj_E N (wj_R m) l ∧ ∃ c', c' < c ∧ wj_An N a_addressOf a_writes l a b c') → 1 ≤ L.length) →
    sc ≤ s + c + wj_K P Dn (d + 1) * L.length → (∀ l, Sc l ↔ S l ∨ (wj_E N (wj_R m) l ∧ ∃ c', c' < c ∧ wj_An N a_addressOf a_writes l a b c')) → Q Sc f_found a_keys a_leastRun a_seen →
    wX_search_24 post x3 (60001 - sc) (nI d) (nI sc) f_threads f_addresses (nI N) f_fences f_solved f_found (nI Dn) a_threadOf a_addressOf a_constantOf a_reads a_writes a_acquiring a_releasing a_dependency a_fenceThread a_fenceKind a_fencePlace a_start a_wishRead a_wishMemory a_keys a_leastRun a_seen a_decideFirst a_decideSecond a_tried a_relation a_sequence a_memory a_got := by
  have hP1 := hDL.1
  have hP2 := hDL.2.2.1
  intro r
  induction r with
  | zero =>
    intro c sc Sc L f_found a_keys a_leastRun a_seen a_tried a_relation a_sequence a_memory a_got hc htr hr hkeep hL1 hL2 hL3 hsc hSc hQ
    have hAL : A.length + L.length ≤ 180 := by
      rw [← List.length_append]
      refine hB (A ++ L) ?_ (List.pairwise_append.mpr ⟨hA1, hL2, fun l hl l' hl' => hA3 l l' hl (hL1 l' hl').1⟩)
      intro l hl
      rcases List.mem_append.mp hl with z | z
      · exact hA2 l z
      · exact hNS.2.2.1 l (hL1 l z).1
    have ar := wj_ar1 hK hs hsc hAL (by omega)
    have e : 60001 - sc = (60000 - sc) + 1 := by omega
    rw [e]
    refine br_f (nI_ge (a := sc) (b := 60000) ar.1 (by decide)) (br_f (nI_pos (by omega)) (br_f (fun z => by have := (nI_eq (by omega) (by omega)).mp z; omega) ?_))
    refine wj_xadv hN hNS.1 hNS.2.1 (by omega) hdec hat hr htr (fun z => wj_NS_tot hDL hNS (hnone z)) (by omega) ?_ (fun z => by omega) (fun z => by omega)
    intro _
    have e2 : 60000 - sc = 60001 - (sc + 1) := by omega
    refine nm_r (nI_1 sc) ?_
    rw [e2]
    have all : ∀ l, wj_E N (wj_R m) l → ∃ c', c' < c ∧ wj_An N a_addressOf a_writes l a b c' := by
      intro l hl
      obtain ⟨c', z1, z2⟩ := wj_An_ex hN hl.1 hdec
      exact ⟨c', by omega, z2⟩
    have h1 : 1 ≤ L.length := by
      obtain ⟨l0, hl0⟩ := wj_E_ex hNS.2.1
      exact hL3 ⟨l0, hl0, all l0 hl0⟩
    refine hC (sc + 1) Sc L f_found a_keys a_leastRun a_seen a_tried a_relation a_sequence a_memory a_got (fun l hl => (hL1 l hl).1) hL2 h1 (wj_ar2 hK hsc (by omega) h1) hkeep ?_ hQ
    intro l
    rw [hSc]
    constructor
    · rintro (z | z)
      · exact Or.inl z
      · exact Or.inr z.1
    · rintro (z | z)
      · exact Or.inl z
      · exact Or.inr ⟨z, all l z⟩
  | succ r ih =>
    intro c sc Sc L f_found a_keys a_leastRun a_seen a_tried a_relation a_sequence a_memory a_got hc htr hr hkeep hL1 hL2 hL3 hsc hSc hQ
    have hAL : A.length + L.length ≤ 180 := by
      rw [← List.length_append]
      refine hB (A ++ L) ?_ (List.pairwise_append.mpr ⟨hA1, hL2, fun l hl l' hl' => hA3 l l' hl (hL1 l' hl').1⟩)
      intro l hl
      rcases List.mem_append.mp hl with z | z
      · exact hA2 l z
      · exact hNS.2.2.1 l (hL1 l z).1
    have ar := wj_ar1 hK hs hsc hAL (by omega)
    have e : 60001 - sc = (60000 - sc) + 1 := by omega
    have e2 : 60000 - sc = 60001 - (sc + 1) := by omega
    rw [e]
    refine br_f (nI_ge (a := sc) (b := 60000) ar.1 (by decide)) (br_f (nI_pos (by omega)) (br_f (fun z => by have := (nI_eq (by omega) (by omega)).mp z; omega) ?_))
    refine wj_xadv hN hNS.1 hNS.2.1 (by omega) hdec hat hr htr (fun z => wj_NS_tot hDL hNS (hnone z)) (by omega) (fun z => by omega) ?_ ?_
    · intro _ hno
      refine nm_r (nI_1 sc) ?_
      rw [e2]
      refine ih (c + 1) (sc + 1) Sc L f_found a_keys a_leastRun a_seen _ a_relation a_sequence a_memory a_got (by omega) pk_us hr ?_ ?_ hL2 ?_ (by omega) ?_ hQ
      · intro i hi
        rw [pk_un (by omega)]
        exact hkeep i hi
      · intro l hl
        obtain ⟨z1, c', z2, z3⟩ := hL1 l hl
        exact ⟨z1, c', by omega, z3⟩
      · rintro ⟨l, z1, c', z2, z3⟩
        refine hL3 ⟨l, z1, c', ?_, z3⟩
        by_cases ec : c' = c
        · rw [ec] at z3; exact absurd z3 (hno l z1)
        · omega
      · intro l
        rw [hSc]
        constructor
        · rintro (z | ⟨z1, c', z2, z3⟩)
          · exact Or.inl z
          · exact Or.inr ⟨z1, c', by omega, z3⟩
        · rintro (z | ⟨z1, c', z2, z3⟩)
          · exact Or.inl z
          · refine Or.inr ⟨z1, c', ?_, z3⟩
            by_cases ec : c' = c
            · rw [ec] at z3; exact absurd z3 (hno l z1)
            · omega
    · intro _ m' g1 g2 g3 g4 g5
      refine nm_r (nI_1 sc) ?_
      rw [e2]
      refine hnode m' (sc + 1) (A ++ L) Sc f_found a_keys a_leastRun a_seen _ _ a_sequence a_memory a_got ⟨g1, g2, ?_, ?_⟩ pk_uLs (fun _ => pk_us) ?_ ?_ ?_ ?_ hQ ?_
      · intro l hl
        exact hNS.2.2.1 l ((g3 l).mp hl).1
      · intro d' hd' a' b' hdec' hat'
        by_cases ed : d' = d
        · subst ed
          obtain ⟨ea, eb⟩ := wj_at_un hN hdec hdec' hat hat'
          rw [← ea, ← eb]
          exact g5
        · exact wj_dd_mono g4 (hNS.2.2.2 d' (by omega) a' b' hdec' hat')
      · exact List.pairwise_append.mpr ⟨hA1, hL2, fun l hl l' hl' => hA3 l l' hl (hL1 l' hl').1⟩
      · intro l hl
        rcases List.mem_append.mp hl with z | z
        · exact hA2 l z
        · exact hNS.2.2.1 l (hL1 l z).1
      · intro l l' hl hl'
        have hl2 := (g3 l').mp hl'
        rcases List.mem_append.mp hl with z | z
        · exact hA3 l l' z hl2.1
        · obtain ⟨z1, c', z2, z3⟩ := hL1 l z
          exact wj_An_D hdec z3 hl2.2 (by omega)
      · rw [List.length_append]
        exact ar.2
      · intro s' S' L' f_found a_keys a_leastRun a_seen a_tried a_relation a_sequence a_memory a_got hM1 hM2 hM3 hs' hk' hS' hQ'
        rw [nI_pred]
        have k1 := hk' d (by omega)
        refine ih (c + 1) s' S' (L ++ L') f_found a_keys a_leastRun a_seen a_tried a_relation a_sequence a_memory a_got (by omega) ?_ ?_ ?_ ?_ ?_ ?_ ?_ ?_ hQ'
        · rw [k1.1, pk_un (by omega), pk_us]
        · rw [k1.2, pk_uLn (by omega)]; exact hr
        · intro i hi
          have k2 := hk' i (by omega)
          rw [k2.1, k2.2, pk_un (by omega), pk_un (by omega), pk_uLn (by omega)]
          exact hkeep i hi
        · intro l hl
          rcases List.mem_append.mp hl with z | z
          · obtain ⟨z1, c', z2, z3⟩ := hL1 l z
            exact ⟨z1, c', by omega, z3⟩
          · have := (g3 l).mp (hM1 l z)
            exact ⟨this.1, c, by omega, this.2⟩
        · refine List.pairwise_append.mpr ⟨hL2, hM2, ?_⟩
          intro l hl l' hl'
          obtain ⟨z1, c', z2, z3⟩ := hL1 l hl
          exact wj_An_D hdec z3 ((g3 l').mp (hM1 l' hl')).2 (by omega)
        · intro _
          rw [List.length_append]; omega
        · rw [List.length_append, Nat.mul_add]; omega
        · intro l
          rw [hS', hSc, g3]
          constructor
          · rintro ((z | ⟨z1, c', z2, z3⟩) | ⟨z1, z2⟩)
            · exact Or.inl z
            · exact Or.inr ⟨z1, c', by omega, z3⟩
            · exact Or.inr ⟨z1, c, by omega, z2⟩
          · rintro (z | ⟨z1, c', z2, z3⟩)
            · exact Or.inl (Or.inl z)
            · by_cases ec : c' = c
              · rw [ec] at z3; exact Or.inr ⟨z1, z3⟩
              · exact Or.inl (Or.inr ⟨z1, c', by omega, z3⟩)
theorem wj_nd (hN : N ≤ 6) (hDL : wj_DL N a_addressOf a_reads a_writes P Dn a_decideFirst a_decideSecond) (hrw : ∀ e, e < N → ¬ a_reads e = 0 ∨ ¬ a_writes e = 0)
    (hB : ∀ Ls : List (List Nat), (∀ l, l ∈ Ls → wj_E N M l) → Ls.Pairwise (wj_D N a_addressOf a_writes) → Ls.length ≤ 180) (hfin : wj_FN x3 N Q f_threads f_addresses f_fences f_solved a_threadOf a_addressOf a_constantOf a_reads a_writes a_acquiring a_releasing a_dependency a_fenceThread a_fenceKind a_fencePlace a_start a_wishRead a_wishMemory a_decideFirst a_decideSecond M (nI Dn)) : ∀ k d, d + k = Dn → wj_ND post x3 N P Dn Q f_threads f_addresses f_fences f_solved a_threadOf a_addressOf a_constantOf a_reads a_writes a_acquiring a_releasing a_dependency a_fenceThread a_fenceKind a_fencePlace a_start a_wishRead a_wishMemory a_decideFirst a_decideSecond M d := by
  intro k
  induction k with
  | zero =>
    intro d hd
    have : d = Dn := by omega
    subst this
    exact wj_nd0 hN hDL hrw hB hfin
  | succ k ih =>
    intro d hd
    have hnode := ih (d + 1) (by omega)
    intro m s A S f_found a_keys a_leastRun a_seen a_tried a_relation a_sequence a_memory a_got hNS hr ht hA1 hA2 hA3 hs hQ hC
    have fin : ∀ (a : Nat) (b : Option Nat), wj_dec N a_addressOf a_reads a_writes a b → wj_at a_decideFirst a_decideSecond d a b → wj_K P Dn d = wj_K P Dn (d + 1) + wj_nc b + 1 → (b = none → P ≤ d) → wX_search_24 post x3 (60001 - s) (nI d) (nI s) f_threads f_addresses (nI N) f_fences f_solved f_found (nI Dn) a_threadOf a_addressOf a_constantOf a_reads a_writes a_acquiring a_releasing a_dependency a_fenceThread a_fenceKind a_fencePlace a_start a_wishRead a_wishMemory a_keys a_leastRun a_seen a_decideFirst a_decideSecond a_tried a_relation a_sequence a_memory a_got := by
      intro a b hdec hat hK hnone
      refine wj_ch hN hDL hB (by omega) hdec hat hK hnone hnode hNS hA1 hA2 hA3 hs hC (wj_nc b) 0 s S [] f_found a_keys a_leastRun a_seen a_tried a_relation a_sequence a_memory a_got (by omega) (ht (by omega)) hr (fun i _ => ⟨rfl, rfl⟩) (fun l hl => nomatch hl) List.Pairwise.nil ?_ (by simp) ?_ hQ
      · rintro ⟨l, _, c', z, _⟩; omega
      · intro l
        constructor
        · intro z; exact Or.inl z
        · rintro (z | ⟨_, c', z, _⟩)
          · exact z
          · omega
    have hP := hDL.2.1
    by_cases c : d < P
    · obtain ⟨a, b, z1, z2⟩ := hDL.2.2.2.1 d c
      refine fin a (some b) z2 z1 ?_ (fun z => nomatch z)
      unfold wj_K
      show _ = _ + 2 + 1
      omega
    · obtain ⟨e, z1, z2⟩ := hDL.2.2.2.2.1 d (by omega) (by omega)
      refine fin e none z2 z1 ?_ (fun _ => by omega)
      unfold wj_K
      show _ = _ + 7 + 1
      omega
end
section
variable {f_threads f_addresses f_count f_fences f_solved f_found f_decisions : Int32} {a_threadOf a_addressOf a_constantOf a_reads a_writes a_acquiring a_releasing a_dependency a_fenceThread a_fenceKind a_fencePlace a_start a_wishRead a_wishMemory a_leastRun a_seen a_decideFirst a_decideSecond a_tried a_sequence a_memory a_got : Nat → Int32} {a_keys a_relation : Nat → Int64}
variable {post : SX → Prop} {x3 : Int32} {N : Nat} {Q : (List Nat → Prop) → Int32 → (Nat → Int64) → (Nat → Int32) → (Nat → Int32) → Prop} {M : Nat → Nat → Prop}
theorem wj_xsearch (hN : N ≤ 6) (hrw : ∀ e, e < N → ¬ a_reads e = 0 ∨ ¬ a_writes e = 0)
    (hB : ∀ Ls : List (List Nat), (∀ l, l ∈ Ls → wj_E N M l) → Ls.Pairwise (wj_D N a_addressOf a_writes) → Ls.length ≤ 180) (hfin : ∀ (f_decisions : Int32) (a_decideFirst : Nat → Int32) (a_decideSecond : Nat → Int32), wj_FN x3 N Q f_threads f_addresses f_fences f_solved a_threadOf a_addressOf a_constantOf a_reads a_writes a_acquiring a_releasing a_dependency a_fenceThread a_fenceKind a_fencePlace a_start a_wishRead a_wishMemory a_decideFirst a_decideSecond M f_decisions)
    {m : Nat} (hm : m < 2 ^ 36) (hS : wj_S N (wj_R m)) (hE : ∀ l, wj_E N (wj_R m) l → wj_E N M l) {S : List Nat → Prop} (hQ : Q S f_found a_keys a_leastRun a_seen)
    (h : ∀ (S' : List Nat → Prop) (f_decisions : Int32) (a_decideFirst : Nat → Int32) (a_decideSecond : Nat → Int32) (f_found : Int32) (a_keys : Nat → Int64) (a_leastRun : Nat → Int32) (a_seen : Nat → Int32) (a_tried : Nat → Int32) (a_relation : Nat → Int64) (a_sequence : Nat → Int32) (a_memory : Nat → Int32) (a_got : Nat → Int32), (∀ l, S' l ↔ S l ∨ wj_E N (wj_R m) l) → Q S' f_found a_keys a_leastRun a_seen → post (f_threads, f_addresses, nI N, f_fences, f_solved, f_found, f_decisions, a_threadOf, a_addressOf, a_constantOf, a_reads, a_writes, a_acquiring, a_releasing, a_dependency, a_fenceThread, a_fenceKind, a_fencePlace, a_start, a_wishRead, a_wishMemory, a_keys, a_leastRun, a_seen, a_decideFirst, a_decideSecond, a_tried, a_relation, a_sequence, a_memory, a_got)) : wpX_search post (f_threads, f_addresses, nI N, f_fences, f_solved, f_found, f_decisions, a_threadOf, a_addressOf, a_constantOf, a_reads, a_writes, a_acquiring, a_releasing, a_dependency, a_fenceThread, a_fenceKind, a_fencePlace, a_start, a_wishRead, a_wishMemory, a_keys, a_leastRun, a_seen, a_decideFirst, a_decideSecond, a_tried, a_relation, a_sequence, a_memory, a_got) (lN m) x3 := by
  unfold wpX_search
  refine wj_xld hN ?_
  intro P Dn dF dS hDL
  have hP := hDL.1
  have hP1 := hDL.2.1
  have hP2 := hDL.2.2.1
  have hK : wj_K P Dn 0 ≤ 94 := by unfold wj_K; omega
  refine nm_e (nm_e ⟨60001, ?_⟩)
  refine wj_nd (P := P) (Dn := Dn) (a_decideFirst := dF) (a_decideSecond := dS) hN hDL hrw hB (hfin (nI Dn) dF dS) Dn 0 (by omega) m 0 [] S f_found a_keys a_leastRun a_seen _ _ a_sequence a_memory a_got ⟨hm, hS, hE, fun d' hd' => absurd hd' (Nat.not_lt_zero _)⟩ pk_uLs (fun _ => pk_us) List.Pairwise.nil (fun l hl => nomatch hl) (fun l l' hl => nomatch hl) ?_ hQ ?_
  · show 0 + wj_K P Dn 0 * 181 ≤ 60000
    have := Nat.mul_le_mul_right 181 hK
    omega
  · intro s' S' L f_found a_keys a_leastRun a_seen a_tried a_relation a_sequence a_memory a_got hM1 hM2 hM3 hs' hk' hS' hQ'
    have hL := hB L (fun l hl => hE l (hM1 l hl)) hM2
    have hs2 : wj_K P Dn 0 * L.length ≤ 94 * 180 := Nat.mul_le_mul hK hL
    have e : 60001 - s' = (60000 - s') + 1 := by omega
    rw [e]
    refine br_f (nI_ge (a := s') (b := 60000) (by omega) (by decide)) (br_t (by decide) ?_)
    exact h S' (nI Dn) dF dS f_found a_keys a_leastRun a_seen a_tried a_relation a_sequence a_memory a_got hS' hQ'
end
end
section
/-! facts of a program -/
section
variable {N F : Nat} {th ad cn rd wr ac rl on fT fK fP fi : Nat → Int32}
theorem wj_pg_ad (hp : wj_pg N th ad on) {a b : Nat} (ha : a < N) (hb : b < N) (h : wj_x ad a = wj_x ad b) : ad a = ad b := by
  rw [(wj_pg_x hp ha).2, (wj_pg_x hp hb).2, h]
theorem wj_hMd (hp : wj_pg N th ad on) : ∀ a b, b < N → wj_sr on a b → wj_Mu N F th ad rd wr ac rl on fT fK fP a b := by
  rintro a b hb ⟨h1, h2⟩
  have h6 := hp.1
  rcases wj_pg_on hp hb (k := 1) (by decide) with z | ⟨s, z1, z2, z3⟩
  · rw [z] at h1; exact absurd (by decide) h1
  · rw [z1, nI_clamp (by omega)] at h2
    subst h2
    exact ⟨z2, hb, z3, Or.inr (Or.inr (Or.inr (Or.inr (Or.inr (Or.inl z1)))))⟩
theorem wj_hB (hp : wj_pg N th ad on) : ∀ Ls : List (List Nat), (∀ l, l ∈ Ls → wj_E N (wj_Mu N F th ad rd wr ac rl on fT fK fP) l) → Ls.Pairwise (wj_D N ad wr) → Ls.length ≤ 180 := by
  intro Ls h1 h2
  refine wj_180 (t := fun i => (th i).toNatClampNeg) hp.1 ?_ ?_ h1 h2
  · intro i hi
    obtain ⟨k, hk, e⟩ := hp.2.1 i hi
    show (th i).toNatClampNeg < 4
    rw [e, nI_clamp (by omega)]
    exact hk
  · intro a b hab hb ht hx
    obtain ⟨k, hk, e⟩ := hp.2.1 a (by omega)
    obtain ⟨k', hk', e'⟩ := hp.2.1 b hb
    have ht' : (th a).toNatClampNeg = (th b).toNatClampNeg := ht
    rw [e, e', nI_clamp (by omega), nI_clamp (by omega)] at ht'
    exact ⟨hab, hb, by rw [e, e', ht'], Or.inl (wj_pg_ad hp (by omega) hb hx)⟩
theorem wj_hD (hp : wj_pg N th ad on) : ∀ l l', wj_E N (wj_Mu N F th ad rd wr ac rl on fT fK fP) l → wj_E N (wj_Mu N F th ad rd wr ac rl on fT fK fP) l' → wj_out ad cn rd wr on fi l ≠ wj_out ad cn rd wr on fi l' → wj_D N ad wr l l' := by
  intro l l' E E' ne
  refine Classical.byContradiction fun hD => ne ?_
  unfold wj_out
  rw [wj_out_eq (wj_hMd hp) E E' (fun a b ha hb hx hw hl => wj_D_not hD ha hb hx hw hl)]
theorem wj_hleaf (hp : wj_pg N th ad on) {R : Nat → Nat → Prop} (hE : ∀ l, wj_E N R l → wj_E N (wj_Mu N F th ad rd wr ac rl on fT fK fP) l) (hord : wj_ord N ad wr R) :
    ∀ l l', wj_E N R l → wj_E N R l' → wj_out ad cn rd wr on fi l = wj_out ad cn rd wr on fi l' := by
  intro l l' E E'
  unfold wj_out
  rw [wj_out_eq (wj_hMd hp) (hE l E) (hE l' E') ?_]
  intro a b ha hb hx hw hl
  have ne : a ≠ b := by
    intro z
    rw [z] at hl
    exact wj_bf_ir hl
  rcases hord a b ha hb ne (wj_pg_ad hp ha hb hx) hw with z | z
  · exact E'.2 _ _ z
  · exact absurd hl (wj_bf_as (E.2 _ _ z))
end
theorem wj_T_cong {S S' : List Nat → Prop} {ky cd : List Nat → Nat} {F : Nat} {K : Nat → Int64} {L : Nat → Int32} (h : ∀ l, S l ↔ S' l) (T : wj_T S ky cd F K L) : wj_T S' ky cd F K L :=
  ⟨T.1, fun i hi => by
    obtain ⟨l, z1, z2⟩ := T.2.1 i hi
    exact ⟨l, (h l).mp z1, z2⟩, fun l hl => T.2.2 l ((h l).mpr hl)⟩
theorem wj_Sn_cong {S S' : List Nat → Prop} {ky : List Nat → Nat} {F : Nat} {K : Nat → Int64} {sn : Nat → Int32} (h : ∀ l, S l ↔ S' l) (Z : wj_Sn S ky F K sn) : wj_Sn S' ky F K sn := by
  intro i hi
  rw [Z i hi]
  constructor
  · rintro ⟨l, z1, z2⟩; exact ⟨l, (h l).mp z1, z2⟩
  · rintro ⟨l, z1, z2⟩; exact ⟨l, (h l).mpr z1, z2⟩
/-! Y: solve, always, lost -/
section
variable {f_threads f_addresses f_n f_fences f_solved f_outcomes : Int32} {a_thread a_address a_constant a_reads a_writes a_acquiring a_releasing a_on a_fenceThread a_fenceKind a_fencePlace a_first a_wishRead a_wishEnd a_least a_shown a_order a_bound a_memory a_got : Nat → Int32} {a_outcome : Nat → Int64}
variable {N Fn : Nat}
theorem wj_ysol0 {post : Int32 → SY → Prop} (hp : wj_pg N a_thread a_address a_on) (hf : ∀ x, x < 3 → wj_dg (a_first x))
    (hBd : ∀ a b, a < N → b < N → (a_bound (6 * a + b) = 0 ↔ ¬ wj_Mu N Fn a_thread a_address a_reads a_writes a_acquiring a_releasing a_on a_fenceThread a_fenceKind a_fencePlace a b))
    {u : List (List Nat)} {l : List Nat} (hu : ∀ l0, l0 ∈ u → wj_cd 0 l0 ≤ wj_cd 0 l) (hP : wj_P N l) (hlen : u.length < 720) {k : Nat} {F : Nat} {K : Nat → Int64} {L O mm g : Nat → Int32} (hO : ∀ p, p < N → O p = nI (wj_o l p)) (hF : F ≤ 180)
    (T : wj_T (fun l0 => l0 ∈ u ∧ wj_E N (wj_Mu N Fn a_thread a_address a_reads a_writes a_acquiring a_releasing a_on a_fenceThread a_fenceKind a_fencePlace) l0) (wj_out a_address a_constant a_reads a_writes a_on a_first) (wj_cd 0) F K L)
    (nxt : ∀ F K L mm g, F ≤ 180 → wj_T (fun l0 => l0 ∈ u ++ [l] ∧ wj_E N (wj_Mu N Fn a_thread a_address a_reads a_writes a_acquiring a_releasing a_on a_fenceThread a_fenceKind a_fencePlace) l0) (wj_out a_address a_constant a_reads a_writes a_on a_first) (wj_cd 0) F K L → wY_solve_57 post (wY_solve_13 post k) (nI u.length) f_threads f_addresses (nI N) (nI Fn) f_solved (nI F) a_thread a_address a_constant a_reads a_writes a_acquiring a_releasing a_on a_fenceThread a_fenceKind a_fencePlace a_first a_wishRead a_wishEnd K L a_shown O a_bound mm g) :
    wY_solve_13 post (k + 1) 1 (nI u.length) f_threads f_addresses (nI N) (nI Fn) f_solved (nI F) a_thread a_address a_constant a_reads a_writes a_acquiring a_releasing a_on a_fenceThread a_fenceKind a_fencePlace a_first a_wishRead a_wishEnd K L a_shown O a_bound mm g := by
  have h6 := hp.1
  refine br_f (nI_ge (a := u.length) (b := 720) hlen (by decide)) (br_f (by decide) ?_)
  refine wj_yrun h6 hP hO hBd (fun a b z => wj_Mu_lt z) (fun hE => br_f (by decide) ?_) (fun hE => br_t rfl (nxt F K L mm g hF (wj_T_cong ?_ T)))
  · refine wj_yres hp hf hP hO ?_
    intro mm g
    have hS' : ∀ l0, (l0 ∈ u ++ [l] ∧ wj_E N (wj_Mu N Fn a_thread a_address a_reads a_writes a_acquiring a_releasing a_on a_fenceThread a_fenceKind a_fencePlace) l0) → (l0 ∈ u ∧ wj_E N (wj_Mu N Fn a_thread a_address a_reads a_writes a_acquiring a_releasing a_on a_fenceThread a_fenceKind a_fencePlace) l0) ∨ (wj_out a_address a_constant a_reads a_writes a_on a_first l0 = wj_out a_address a_constant a_reads a_writes a_on a_first l ∧ wj_cd 0 l ≤ wj_cd 0 l0) := by
      rintro l0 ⟨z1, z2⟩
      rcases List.mem_append.mp z1 with z | z
      · exact Or.inl ⟨z, z2⟩
      · rw [List.mem_singleton] at z
        rw [z]
        exact Or.inr ⟨rfl, Nat.le_refl _⟩
    have hS1 : ∀ l0, (l0 ∈ u ∧ wj_E N (wj_Mu N Fn a_thread a_address a_reads a_writes a_acquiring a_releasing a_on a_fenceThread a_fenceKind a_fencePlace) l0) → (l0 ∈ u ++ [l] ∧ wj_E N (wj_Mu N Fn a_thread a_address a_reads a_writes a_acquiring a_releasing a_on a_fenceThread a_fenceKind a_fencePlace) l0) := fun l0 z => ⟨List.mem_append.mpr (Or.inl z.1), z.2⟩
    have hcd : ∀ l0, (l0 ∈ u ++ [l] ∧ wj_E N (wj_Mu N Fn a_thread a_address a_reads a_writes a_acquiring a_releasing a_on a_fenceThread a_fenceKind a_fencePlace) l0) → wj_cd 0 l0 < 2 ^ 31 := fun l0 z => (wj_cX_lt h6 z.2.1).2.2
    refine wj_yfind hF (fun k hk hK => br_t (nI_pos' (by omega)) (nxt F K L mm g hF (wj_T_old T hS' hS1 hcd hk hK ?_))) (fun hn => br_f (by decide) ?_)
    · obtain ⟨l0, z1, z2, z3⟩ := T.2.1 k hk
      rw [z3]
      exact nI_le (hu l0 z1.1) (wj_cX_lt h6 hP).2.2
    · refine wj_ysp h6 hP hO ?_
      have hlt : F < 180 := wj_T_room (S' := fun l0 => l0 ∈ u ++ [l] ∧ wj_E N (wj_Mu N Fn a_thread a_address a_reads a_writes a_acquiring a_releasing a_on a_fenceThread a_fenceKind a_fencePlace) l0) T (fun l1 l2 z1 z2 ne => wj_hD hp l1 l2 z1.2 z2.2 ne) hS1 (fun Ls z1 z2 => wj_hB hp Ls (fun l1 hl1 => (z1 l1 hl1).2) z2) (l0 := l) ⟨List.mem_append.mpr (Or.inr (List.mem_singleton.mpr rfl)), hE⟩ hn
      refine wj_ykeep hlt ?_
      intro k K' L' hk h1 h2 iK iL
      refine nxt (F + 1) K' L' mm g (by omega) (wj_T_ins T hS' hS1 ⟨l, ⟨List.mem_append.mpr (Or.inr (List.mem_singleton.mpr rfl)), hE⟩, rfl, rfl⟩ hcd hk ?_ h1 iK iL)
      intro i hi
      rcases h2 with z | z
      · omega
      · have n1 := hn (k - 1) (by omega)
        have n2 : K (k - 1) < lN (wj_out a_address a_constant a_reads a_writes a_on a_first l) := by
          rw [Int64.le_iff_toInt_le] at z
          rw [Int64.lt_iff_toInt_lt]
          have n3 : (K (k - 1)).toInt ≠ (lN (wj_out a_address a_constant a_reads a_writes a_on a_first l)).toInt := fun w => n1 (Int64.toInt_inj.mp w)
          omega
        by_cases e : i = k - 1
        · rw [e]; exact n2
        · exact wj_lt_tr (T.1 i (k - 1) (by omega) (by omega)) n2
  · intro l0
    constructor
    · rintro ⟨z1, z2⟩
      exact ⟨List.mem_append.mpr (Or.inl z1), z2⟩
    · rintro ⟨z1, z2⟩
      refine ⟨?_, z2⟩
      rcases List.mem_append.mp z1 with z | z
      · exact z
      · rw [List.mem_singleton] at z
        rw [z] at z2
        exact absurd z2 hE
theorem wj_ysol1 {post : Int32 → SY → Prop} (hp : wj_pg N a_thread a_address a_on) (hf : ∀ x, x < 3 → wj_dg (a_first x))
    (hBd : ∀ a b, a < N → b < N → (a_bound (6 * a + b) = 0 ↔ ¬ wj_Mu N Fn a_thread a_address a_reads a_writes a_acquiring a_releasing a_on a_fenceThread a_fenceKind a_fencePlace a b))
    (h : ∀ F K L O mm g, F ≤ 180 → wj_T (wj_E N (wj_Mu N Fn a_thread a_address a_reads a_writes a_acquiring a_releasing a_on a_fenceThread a_fenceKind a_fencePlace)) (wj_out a_address a_constant a_reads a_writes a_on a_first) (wj_cd 0) F K L → post (nI F) (f_threads, f_addresses, nI N, nI Fn, 1, nI F, a_thread, a_address, a_constant, a_reads, a_writes, a_acquiring, a_releasing, a_on, a_fenceThread, a_fenceKind, a_fencePlace, a_first, a_wishRead, a_wishEnd, K, L, a_shown, O, a_bound, mm, g)) :
    ∀ (v u : List (List Nat)) (l : List Nat) (F : Nat) (K : Nat → Int64) (L O mm g : Nat → Int32), wj_all N = u ++ l :: v → (∀ p, p < N → O p = nI (wj_o l p)) → F ≤ 180 →
    wj_T (fun l0 => l0 ∈ u ∧ wj_E N (wj_Mu N Fn a_thread a_address a_reads a_writes a_acquiring a_releasing a_on a_fenceThread a_fenceKind a_fencePlace) l0) (wj_out a_address a_constant a_reads a_writes a_on a_first) (wj_cd 0) F K L →
    wY_solve_13 post (v.length + 2) 1 (nI u.length) f_threads f_addresses (nI N) (nI Fn) f_solved (nI F) a_thread a_address a_constant a_reads a_writes a_acquiring a_releasing a_on a_fenceThread a_fenceKind a_fencePlace a_first a_wishRead a_wishEnd K L a_shown O a_bound mm g := by
  have h6 := hp.1
  obtain ⟨t1, t0, _, t2⟩ := wj_tab h6
  intro v
  induction v with
  | nil =>
    intro u l F K L O mm g hA hO hF T
    obtain ⟨r1, r2, r3⟩ := t2 u l [] hA
    have hlen : u.length < 720 := by
      have := t1; rw [hA] at this; simp at this; omega
    have hP : wj_P N l := wj_all_mem.mp (by rw [hA]; simp)
    refine wj_ysol0 hp hf hBd r1 hP hlen hO hF T ?_
    intro F K L mm g hF T
    unfold wY_solve_57
    refine wj_ynext h6 hO (fun p hp' => by have := wj_o_lt hP hp'; omega) (fun _ => nm_r (nI_1 _) ?_) (fun o' a' z => by rw [r2 rfl] at z; cases z)
    have fin := h F K L O mm g hF (wj_T_cong (fun l0 => ⟨fun z => z.2, fun z => ⟨by rw [← hA]; exact wj_all_mem.mpr z.1, z⟩⟩) T)
    exact br_c (fun _ => fin) (fun _ => br_t rfl fin)
  | cons l' v ih =>
    intro u l F K L O mm g hA hO hF T
    obtain ⟨r1, r2, r3⟩ := t2 u l (l' :: v) hA
    obtain ⟨o, ho1, ho2⟩ := r3 l' v rfl
    have hlen : u.length < 720 := by
      have := t1; rw [hA] at this; simp at this; omega
    have hP : wj_P N l := wj_all_mem.mp (by rw [hA]; simp)
    refine wj_ysol0 hp hf hBd r1 hP hlen hO hF T ?_
    intro F K L mm g hF T
    unfold wY_solve_57
    refine wj_ynext h6 hO (fun p hp' => by have := wj_o_lt hP hp'; omega) (fun z => by rw [ho1] at z; cases z) (fun o' a' z ha' => nm_r (e' := nI (u ++ [l]).length) (by rw [nI_1]; simp) ?_)
    rw [ho1] at z
    cases z
    exact ih (u ++ [l]) l' F K L a' mm g (by rw [hA]; simp) (fun p hp' => by rw [ha' p hp', ho2 p hp']) hF T
theorem wj_ysolve {post : Int32 → SY → Prop} (hp : wj_pg N a_thread a_address a_on) (hf : ∀ x, x < 3 → wj_dg (a_first x)) (hFn : Fn ≤ 8)
    (h : ∀ F K L O B mm g, F ≤ 180 → wj_T (wj_E N (wj_Mu N Fn a_thread a_address a_reads a_writes a_acquiring a_releasing a_on a_fenceThread a_fenceKind a_fencePlace)) (wj_out a_address a_constant a_reads a_writes a_on a_first) (wj_cd 0) F K L → post (nI F) (f_threads, f_addresses, nI N, nI Fn, 1, nI F, a_thread, a_address, a_constant, a_reads, a_writes, a_acquiring, a_releasing, a_on, a_fenceThread, a_fenceKind, a_fencePlace, a_first, a_wishRead, a_wishEnd, K, L, a_shown, O, B, mm, g)) :
    wpY_solve post (f_threads, f_addresses, nI N, nI Fn, f_solved, f_outcomes, a_thread, a_address, a_constant, a_reads, a_writes, a_acquiring, a_releasing, a_on, a_fenceThread, a_fenceKind, a_fencePlace, a_first, a_wishRead, a_wishEnd, a_outcome, a_least, a_shown, a_order, a_bound, a_memory, a_got) := by
  unfold wpY_solve
  refine wj_ystart hp.1 hFn ?_
  intro O B hO hB
  obtain ⟨t1, t, ht, t2⟩ := wj_tab hp.1
  refine ⟨t.length + 2, wj_ysol1 hp hf hB (fun F K L O' mm g h1 h2 => h F K L O' B mm g h1 h2) t [] (List.range N) 0 a_outcome a_least O a_memory a_got ht hO (by decide) (wj_T_0 ?_)⟩
  rintro l ⟨z, _⟩
  cases z
theorem wj_yalw1 {post : Int32 → SY → Prop} (hp : wj_pg N a_thread a_address a_on) {a b : Nat} (ha : a < N) (hb : b < N)
    (hBd : ∀ a b, a < N → b < N → (a_bound (6 * a + b) = 0 ↔ ¬ wj_Mu N Fn a_thread a_address a_reads a_writes a_acquiring a_releasing a_on a_fenceThread a_fenceKind a_fencePlace a b))
    (h1 : (∀ l, wj_E N (wj_Mu N Fn a_thread a_address a_reads a_writes a_acquiring a_releasing a_on a_fenceThread a_fenceKind a_fencePlace) l → wj_bf l a b) → ∀ O, post 1 (f_threads, f_addresses, nI N, nI Fn, f_solved, f_outcomes, a_thread, a_address, a_constant, a_reads, a_writes, a_acquiring, a_releasing, a_on, a_fenceThread, a_fenceKind, a_fencePlace, a_first, a_wishRead, a_wishEnd, a_outcome, a_least, a_shown, O, a_bound, a_memory, a_got))
    (h0 : ¬ (∀ l, wj_E N (wj_Mu N Fn a_thread a_address a_reads a_writes a_acquiring a_releasing a_on a_fenceThread a_fenceKind a_fencePlace) l → wj_bf l a b) → ∀ O, post 0 (f_threads, f_addresses, nI N, nI Fn, f_solved, f_outcomes, a_thread, a_address, a_constant, a_reads, a_writes, a_acquiring, a_releasing, a_on, a_fenceThread, a_fenceKind, a_fencePlace, a_first, a_wishRead, a_wishEnd, a_outcome, a_least, a_shown, O, a_bound, a_memory, a_got)) :
    ∀ (v u : List (List Nat)) (l : List Nat) (O : Nat → Int32), wj_all N = u ++ l :: v → (∀ p, p < N → O p = nI (wj_o l p)) →
    (∀ l0, l0 ∈ u → wj_E N (wj_Mu N Fn a_thread a_address a_reads a_writes a_acquiring a_releasing a_on a_fenceThread a_fenceKind a_fencePlace) l0 → wj_bf l0 a b) →
    wY_always_28 post (nI a) (nI b) (v.length + 2) 1 (nI u.length) f_threads f_addresses (nI N) (nI Fn) f_solved f_outcomes a_thread a_address a_constant a_reads a_writes a_acquiring a_releasing a_on a_fenceThread a_fenceKind a_fencePlace a_first a_wishRead a_wishEnd a_outcome a_least a_shown O a_bound a_memory a_got := by
  have h6 := hp.1
  obtain ⟨t1, t0, _, t2⟩ := wj_tab h6
  have body : ∀ (k : Nat) (u : List (List Nat)) (l : List Nat) (O : Nat → Int32), u.length < 720 → wj_P N l → (∀ p, p < N → O p = nI (wj_o l p)) →
      ((wj_E N (wj_Mu N Fn a_thread a_address a_reads a_writes a_acquiring a_releasing a_on a_fenceThread a_fenceKind a_fencePlace) l → wj_bf l a b) → wY_always_58 post (wY_always_28 post (nI a) (nI b) k) (nI a) (nI b) (nI u.length) f_threads f_addresses (nI N) (nI Fn) f_solved f_outcomes a_thread a_address a_constant a_reads a_writes a_acquiring a_releasing a_on a_fenceThread a_fenceKind a_fencePlace a_first a_wishRead a_wishEnd a_outcome a_least a_shown O a_bound a_memory a_got) →
      wY_always_28 post (nI a) (nI b) (k + 1) 1 (nI u.length) f_threads f_addresses (nI N) (nI Fn) f_solved f_outcomes a_thread a_address a_constant a_reads a_writes a_acquiring a_releasing a_on a_fenceThread a_fenceKind a_fencePlace a_first a_wishRead a_wishEnd a_outcome a_least a_shown O a_bound a_memory a_got := by
    intro k u l O hlen hP hO nxt
    refine br_f (nI_ge (a := u.length) (b := 720) hlen (by decide)) (br_f (by decide) ?_)
    refine wj_yrun h6 hP hO hBd (fun a b z => wj_Mu_lt z) (fun hE => br_f (by decide) ?_) (fun hE => br_t rfl (nxt (fun z => absurd z hE)))
    exact wj_ycb h6 hP hO ha hb (fun hbf => br_f (by decide) (nxt (fun _ => hbf))) (fun hbf => br_t rfl (h0 (fun z => hbf (z l hE)) O))
  have snoc : ∀ (u : List (List Nat)) (l : List Nat), (∀ l0, l0 ∈ u → wj_E N (wj_Mu N Fn a_thread a_address a_reads a_writes a_acquiring a_releasing a_on a_fenceThread a_fenceKind a_fencePlace) l0 → wj_bf l0 a b) → (wj_E N (wj_Mu N Fn a_thread a_address a_reads a_writes a_acquiring a_releasing a_on a_fenceThread a_fenceKind a_fencePlace) l → wj_bf l a b) →
      ∀ l0, l0 ∈ u ++ [l] → wj_E N (wj_Mu N Fn a_thread a_address a_reads a_writes a_acquiring a_releasing a_on a_fenceThread a_fenceKind a_fencePlace) l0 → wj_bf l0 a b := by
    intro u l z1 z2 l0 hl0 hE
    rcases List.mem_append.mp hl0 with z | z
    · exact z1 l0 z hE
    · rw [List.mem_singleton] at z
      rw [z] at hE ⊢
      exact z2 hE
  intro v
  induction v with
  | nil =>
    intro u l O hA hO hu
    obtain ⟨r1, r2, r3⟩ := t2 u l [] hA
    have hlen : u.length < 720 := by
      have := t1; rw [hA] at this; simp at this; omega
    have hP : wj_P N l := wj_all_mem.mp (by rw [hA]; simp)
    refine body 1 u l O hlen hP hO ?_
    intro hl
    unfold wY_always_58
    refine wj_ynext h6 hO (fun p hp' => by have := wj_o_lt hP hp'; omega) (fun _ => nm_r (nI_1 _) ?_) (fun o' a' z => by rw [r2 rfl] at z; cases z)
    have fin := h1 (fun l0 hE => snoc u l hu hl l0 (by rw [← hA]; exact wj_all_mem.mpr hE.1) hE) O
    exact br_c (fun _ => fin) (fun _ => br_t rfl fin)
  | cons l' v ih =>
    intro u l O hA hO hu
    obtain ⟨r1, r2, r3⟩ := t2 u l (l' :: v) hA
    obtain ⟨o, ho1, ho2⟩ := r3 l' v rfl
    have hlen : u.length < 720 := by
      have := t1; rw [hA] at this; simp at this; omega
    have hP : wj_P N l := wj_all_mem.mp (by rw [hA]; simp)
    refine body (v.length + 2) u l O hlen hP hO ?_
    intro hl
    unfold wY_always_58
    refine wj_ynext h6 hO (fun p hp' => by have := wj_o_lt hP hp'; omega) (fun z => by rw [ho1] at z; cases z) (fun o' a' z ha' => nm_r (e' := nI (u ++ [l]).length) (by rw [nI_1]; simp) ?_)
    rw [ho1] at z
    cases z
    exact ih (u ++ [l]) l' a' (by rw [hA]; simp) (fun p hp' => by rw [ha' p hp', ho2 p hp']) (snoc u l hu hl)
theorem wj_ylost1 {post : Int32 → SY → Prop} (hp : wj_pg N a_thread a_address a_on) (hf : ∀ x, x < 3 → wj_dg (a_first x)) {a b : Nat} (ha : a < N) (hb : b < N) {F : Nat} (hF : F ≤ 180)
    (hinj : ∀ i j, i < F → j < F → a_outcome i = a_outcome j → i = j)
    (hall : ∀ l, wj_E N (wj_Mu N Fn a_thread a_address a_reads a_writes a_acquiring a_releasing a_on a_fenceThread a_fenceKind a_fencePlace) l → ∃ i, i < F ∧ a_outcome i = lN (wj_out a_address a_constant a_reads a_writes a_on a_first l))
    (hBd : ∀ a b, a < N → b < N → (a_bound (6 * a + b) = 0 ↔ ¬ wj_Mu N Fn a_thread a_address a_reads a_writes a_acquiring a_releasing a_on a_fenceThread a_fenceKind a_fencePlace a b))
    (h : ∀ sn O mm g, wj_Sn (fun l => wj_E N (wj_Mu N Fn a_thread a_address a_reads a_writes a_acquiring a_releasing a_on a_fenceThread a_fenceKind a_fencePlace) l ∧ wj_bf l a b) (wj_out a_address a_constant a_reads a_writes a_on a_first) F a_outcome sn → ∃ n141, wY_lost_141 post f_threads f_addresses (nI N) (nI Fn) f_solved (nI F) a_thread a_address a_constant a_reads a_writes a_acquiring a_releasing a_on a_fenceThread a_fenceKind a_fencePlace a_first a_wishRead a_wishEnd a_outcome a_least sn O a_bound mm g n141 0 0) :
    ∀ (v u : List (List Nat)) (l : List Nat) (sn O mm g : Nat → Int32), wj_all N = u ++ l :: v → (∀ p, p < N → O p = nI (wj_o l p)) →
    wj_Sn (fun l0 => l0 ∈ u ∧ wj_E N (wj_Mu N Fn a_thread a_address a_reads a_writes a_acquiring a_releasing a_on a_fenceThread a_fenceKind a_fencePlace) l0 ∧ wj_bf l0 a b) (wj_out a_address a_constant a_reads a_writes a_on a_first) F a_outcome sn →
    wY_lost_69 post (nI a) (nI b) (v.length + 2) 1 (nI u.length) f_threads f_addresses (nI N) (nI Fn) f_solved (nI F) a_thread a_address a_constant a_reads a_writes a_acquiring a_releasing a_on a_fenceThread a_fenceKind a_fencePlace a_first a_wishRead a_wishEnd a_outcome a_least sn O a_bound mm g := by
  have h6 := hp.1
  obtain ⟨t1, t0, _, t2⟩ := wj_tab h6
  have body : ∀ (k : Nat) (u : List (List Nat)) (l : List Nat) (sn O mm g : Nat → Int32), u.length < 720 → wj_P N l → (∀ p, p < N → O p = nI (wj_o l p)) →
      wj_Sn (fun l0 => l0 ∈ u ∧ wj_E N (wj_Mu N Fn a_thread a_address a_reads a_writes a_acquiring a_releasing a_on a_fenceThread a_fenceKind a_fencePlace) l0 ∧ wj_bf l0 a b) (wj_out a_address a_constant a_reads a_writes a_on a_first) F a_outcome sn →
      (∀ sn mm g, wj_Sn (fun l0 => l0 ∈ u ++ [l] ∧ wj_E N (wj_Mu N Fn a_thread a_address a_reads a_writes a_acquiring a_releasing a_on a_fenceThread a_fenceKind a_fencePlace) l0 ∧ wj_bf l0 a b) (wj_out a_address a_constant a_reads a_writes a_on a_first) F a_outcome sn → wY_lost_124 post (wY_lost_69 post (nI a) (nI b) k) (nI a) (nI b) (nI u.length) f_threads f_addresses (nI N) (nI Fn) f_solved (nI F) a_thread a_address a_constant a_reads a_writes a_acquiring a_releasing a_on a_fenceThread a_fenceKind a_fencePlace a_first a_wishRead a_wishEnd a_outcome a_least sn O a_bound mm g) →
      wY_lost_69 post (nI a) (nI b) (k + 1) 1 (nI u.length) f_threads f_addresses (nI N) (nI Fn) f_solved (nI F) a_thread a_address a_constant a_reads a_writes a_acquiring a_releasing a_on a_fenceThread a_fenceKind a_fencePlace a_first a_wishRead a_wishEnd a_outcome a_least sn O a_bound mm g := by
    intro k u l sn O mm g hlen hP hO Z nxt
    have same : ¬ (wj_E N (wj_Mu N Fn a_thread a_address a_reads a_writes a_acquiring a_releasing a_on a_fenceThread a_fenceKind a_fencePlace) l ∧ wj_bf l a b) → wj_Sn (fun l0 => l0 ∈ u ++ [l] ∧ wj_E N (wj_Mu N Fn a_thread a_address a_reads a_writes a_acquiring a_releasing a_on a_fenceThread a_fenceKind a_fencePlace) l0 ∧ wj_bf l0 a b) (wj_out a_address a_constant a_reads a_writes a_on a_first) F a_outcome sn := by
      intro hn
      refine wj_Sn_cong ?_ Z
      intro l0
      constructor
      · rintro ⟨z1, z2⟩
        exact ⟨List.mem_append.mpr (Or.inl z1), z2⟩
      · rintro ⟨z1, z2⟩
        refine ⟨?_, z2⟩
        rcases List.mem_append.mp z1 with z | z
        · exact z
        · rw [List.mem_singleton] at z
          rw [z] at z2
          exact absurd z2 hn
    refine br_f (nI_ge (a := u.length) (b := 720) hlen (by decide)) (br_f (by decide) ?_)
    refine wj_ycb h6 hP hO ha hb (fun hbf => br_f (by decide) ?_) (fun hbf => br_t rfl (nxt sn mm g (same (fun z => hbf z.2))))
    refine wj_yrun h6 hP hO hBd (fun a b z => wj_Mu_lt z) (fun hE => br_f (by decide) ?_) (fun hE => br_t rfl (nxt sn mm g (same (fun z => hE z.1))))
    refine wj_yres hp hf hP hO ?_
    intro mm g
    refine wj_yfind hF (fun i hi hK => br_f (nI_pos (by omega)) ⟨vp_in_nI (by omega) (by decide), nm_r (e' := upd sn i 1) (by rw [nI_clamp (by omega)]; rfl) (nxt _ mm g ?_)⟩) (fun hn => ?_)
    · intro j hj
      by_cases e : j = i
      · subst e
        rw [pk_us]
        exact ⟨fun _ => ⟨l, ⟨List.mem_append.mpr (Or.inr (List.mem_singleton.mpr rfl)), hE, hbf⟩, hK⟩, fun _ => by decide⟩
      · rw [pk_un e, Z j hj]
        constructor
        · rintro ⟨l0, z1, z2⟩
          exact ⟨l0, ⟨List.mem_append.mpr (Or.inl z1.1), z1.2⟩, z2⟩
        · rintro ⟨l0, z1, z2⟩
          rcases List.mem_append.mp z1.1 with z | z
          · exact ⟨l0, ⟨z, z1.2⟩, z2⟩
          · rw [List.mem_singleton] at z
            rw [z, ← hK] at z2
            exact absurd (hinj j i hj hi z2) e
    · obtain ⟨i, z1, z2⟩ := hall l hE
      exact absurd z2 (hn i z1)
  intro v
  induction v with
  | nil =>
    intro u l sn O mm g hA hO Z
    obtain ⟨r1, r2, r3⟩ := t2 u l [] hA
    have hlen : u.length < 720 := by
      have := t1; rw [hA] at this; simp at this; omega
    have hP : wj_P N l := wj_all_mem.mp (by rw [hA]; simp)
    refine body 1 u l sn O mm g hlen hP hO Z ?_
    intro sn mm g Z
    unfold wY_lost_124
    refine wj_ynext h6 hO (fun p hp' => by have := wj_o_lt hP hp'; omega) (fun _ => nm_r (nI_1 _) ?_) (fun o' a' z => by rw [r2 rfl] at z; cases z)
    have fin := h sn O mm g (wj_Sn_cong (fun l0 => ⟨fun z => z.2, fun z => ⟨by rw [← hA]; exact wj_all_mem.mpr z.1.1, z⟩⟩) Z)
    exact br_c (fun _ => fin) (fun _ => br_t rfl fin)
  | cons l' v ih =>
    intro u l sn O mm g hA hO Z
    obtain ⟨r1, r2, r3⟩ := t2 u l (l' :: v) hA
    obtain ⟨o, ho1, ho2⟩ := r3 l' v rfl
    have hlen : u.length < 720 := by
      have := t1; rw [hA] at this; simp at this; omega
    have hP : wj_P N l := wj_all_mem.mp (by rw [hA]; simp)
    refine body (v.length + 2) u l sn O mm g hlen hP hO Z ?_
    intro sn mm g Z
    unfold wY_lost_124
    refine wj_ynext h6 hO (fun p hp' => by have := wj_o_lt hP hp'; omega) (fun z => by rw [ho1] at z; cases z) (fun o' a' z ha' => nm_r (e' := nI (u ++ [l]).length) (by rw [nI_1]; simp) ?_)
    rw [ho1] at z
    cases z
    exact ih (u ++ [l]) l' sn a' mm g (by rw [hA]; simp) (fun p hp' => by rw [ha' p hp', ho2 p hp']) Z
end
end
section
/-! X: solve, always, lost; Y: always, lost -/
theorem wj_always {N : Nat} {R : Nat → Nat → Prop} (S : wj_S N R) {a b : Nat} (ha : a < N) (hb : b < N) : R a b ↔ ∀ l, wj_E N R l → wj_bf l a b := by
  constructor
  · intro h l hl; exact hl.2 _ _ h
  · intro h
    refine Classical.byContradiction fun hn => ?_
    by_cases e : a = b
    · obtain ⟨l, hl⟩ := wj_E_ex S
      have := h l hl
      rw [e] at this
      exact wj_bf_ir this
    · obtain ⟨l, hl⟩ := wj_E_ex (wj_J_S S hb ha (Ne.symm e) hn)
      have := wj_E_J.mp hl
      exact wj_bf_as (h l this.1) this.2
/-- how many zeros -/
def wj_nz (f : Nat → Int32) : Nat → Nat
  | 0 => 0
  | k + 1 => wj_nz f k + (if f k = 0 then 1 else 0)
theorem wj_nz_cong {f g : Nat → Int32} : ∀ k, (∀ i, i < k → (f i = 0 ↔ g i = 0)) → wj_nz f k = wj_nz g k := by
  intro k
  induction k with
  | zero => intro _; rfl
  | succ k ih =>
    intro h
    unfold wj_nz
    rw [ih (fun i hi => h i (by omega))]
    by_cases c : f k = 0
    · rw [if_pos c, if_pos ((h k (by omega)).mp c)]
    · rw [if_neg c, if_neg (fun z => c ((h k (by omega)).mpr z))]
section
variable {f_threads f_addresses f_count f_fences f_solved f_found f_decisions : Int32} {a_threadOf a_addressOf a_constantOf a_reads a_writes a_acquiring a_releasing a_dependency a_fenceThread a_fenceKind a_fencePlace a_start a_wishRead a_wishMemory a_leastRun a_seen a_decideFirst a_decideSecond a_tried a_sequence a_memory a_got : Nat → Int32} {a_keys a_relation : Nat → Int64}
variable {N Fn : Nat} {on : Nat → Int32}
def wj_Q1 (N : Nat) (ky : List Nat → Nat) (S : List Nat → Prop) (f_found : Int32) (K : Nat → Int64) (L _sn : Nat → Int32) : Prop := ∃ F, F ≤ 180 ∧ f_found = nI F ∧ wj_T S ky (wj_cX N) F K L
theorem wj_fn1 (hp : wj_pg N a_threadOf a_addressOf on) (hdp : wj_dp a_dependency on) (hf : ∀ x, x < 3 → wj_dg (a_start x)) (hSM : ∀ S : List Nat → Prop, True) :
    wj_FN 1 N (fun S f K L sn => (∀ l, S l → wj_E N (wj_Mu N Fn a_threadOf a_addressOf a_reads a_writes a_acquiring a_releasing on a_fenceThread a_fenceKind a_fencePlace) l) ∧ wj_Q1 N (wj_out a_addressOf a_constantOf a_reads a_writes on a_start) S f K L sn) f_threads f_addresses f_fences f_solved a_threadOf a_addressOf a_constantOf a_reads a_writes a_acquiring a_releasing a_dependency a_fenceThread a_fenceKind a_fencePlace a_start a_wishRead a_wishMemory a_decideFirst a_decideSecond (wj_Mu N Fn a_threadOf a_addressOf a_reads a_writes a_acquiring a_releasing on a_fenceThread a_fenceKind a_fencePlace) f_decisions := by
  intro S m f_found a_keys a_leastRun a_seen a_tried a_relation a_sequence a_memory a_got post' hQ hm hS hE hord h
  obtain ⟨hSM, F, hF, rfl, T⟩ := hQ
  refine wj_xfin1 (M := wj_Mu N Fn a_threadOf a_addressOf a_reads a_writes a_acquiring a_releasing on a_fenceThread a_fenceKind a_fencePlace) hp hdp hf hm hS hF (wj_hD hp) (wj_hB hp) hSM hE (wj_hleaf hp hE hord) T ?_
  intro F' K L sq mm g hF' T'
  refine h (nI F') K L a_seen sq mm g ⟨?_, F', hF', rfl, T'⟩
  rintro l (z | z)
  · exact hSM l z
  · exact hE l z
theorem wj_xsolve {post : Int32 → SX → Prop} (hp : wj_pg N a_threadOf a_addressOf on) (hdp : wj_dp a_dependency on) (hf : ∀ x, x < 3 → wj_dg (a_start x)) (hFn : Fn ≤ 8) (hrw : ∀ e, e < N → ¬ a_reads e = 0 ∨ ¬ a_writes e = 0)
    (h : ∀ F (f_decisions : Int32) (a_decideFirst : Nat → Int32) (a_decideSecond : Nat → Int32) (f_found : Int32) (a_keys : Nat → Int64) (a_leastRun : Nat → Int32) (a_seen : Nat → Int32) (a_tried : Nat → Int32) (a_relation : Nat → Int64) (a_sequence : Nat → Int32) (a_memory : Nat → Int32) (a_got : Nat → Int32), F ≤ 180 → wj_T (wj_E N (wj_Mu N Fn a_threadOf a_addressOf a_reads a_writes a_acquiring a_releasing on a_fenceThread a_fenceKind a_fencePlace)) (wj_out a_addressOf a_constantOf a_reads a_writes on a_start) (wj_cX N) F a_keys a_leastRun → post (nI F) (f_threads, f_addresses, nI N, nI Fn, 1, nI F, f_decisions, a_threadOf, a_addressOf, a_constantOf, a_reads, a_writes, a_acquiring, a_releasing, a_dependency, a_fenceThread, a_fenceKind, a_fencePlace, a_start, a_wishRead, a_wishMemory, a_keys, a_leastRun, a_seen, a_decideFirst, a_decideSecond, a_tried, a_relation, a_sequence, a_memory, a_got)) :
    wpX_solve post (f_threads, f_addresses, nI N, nI Fn, f_solved, f_found, f_decisions, a_threadOf, a_addressOf, a_constantOf, a_reads, a_writes, a_acquiring, a_releasing, a_dependency, a_fenceThread, a_fenceKind, a_fencePlace, a_start, a_wishRead, a_wishMemory, a_keys, a_leastRun, a_seen, a_decideFirst, a_decideSecond, a_tried, a_relation, a_sequence, a_memory, a_got) := by
  unfold wpX_solve
  refine wj_xprog hdp hp.1 hFn ?_
  intro m hm hS hE
  refine wj_xsearch (M := wj_Mu N Fn a_threadOf a_addressOf a_reads a_writes a_acquiring a_releasing on a_fenceThread a_fenceKind a_fencePlace) (S := fun _ => False) hp.1 hrw (wj_hB hp) (fun _ _ _ => wj_fn1 hp hdp hf (fun _ => trivial)) hm hS (fun l hl => (hE l).mp hl) ⟨fun l z => absurd z (fun w => w), 0, by decide, rfl, wj_T_0 (fun l z => z)⟩ ?_
  intro S' f_decisions a_decideFirst a_decideSecond f_found a_keys a_leastRun a_seen a_tried a_relation a_sequence a_memory a_got hS' hQ
  obtain ⟨_, F, hF, rfl, T⟩ := hQ
  refine h F f_decisions a_decideFirst a_decideSecond 0 a_keys a_leastRun a_seen a_tried a_relation a_sequence a_memory a_got hF (wj_T_cong ?_ T)
  intro l
  rw [hS', hE]
  exact ⟨fun z => z.elim (fun w => w.elim) (fun w => w), fun z => Or.inr z⟩
theorem wj_xevt {post : Int32 → Prop} {x : Int32} (h1 : ∀ a, a < N → x = nI a → post 1) (h0 : (x < 0 ∨ nI N ≤ x) → post 0) (hN : N ≤ 6) : wpX_isEvent post (f_threads, f_addresses, nI N, f_fences, f_solved, f_found, f_decisions, a_threadOf, a_addressOf, a_constantOf, a_reads, a_writes, a_acquiring, a_releasing, a_dependency, a_fenceThread, a_fenceKind, a_fencePlace, a_start, a_wishRead, a_wishMemory, a_keys, a_leastRun, a_seen, a_decideFirst, a_decideSecond, a_tried, a_relation, a_sequence, a_memory, a_got) x := by
  unfold wpX_isEvent
  refine br_c (fun c => h0 (Or.inl c)) (fun c => br_c (fun c' => h0 (Or.inr c')) (fun c' => ?_))
  obtain ⟨j, hj, rfl⟩ := nI_of c
  exact h1 j (by rw [nI_leI (by omega) hj] at c'; omega) rfl
theorem wj_xalw {post : Int32 → Prop} (hp : wj_pg N a_threadOf a_addressOf on) (hdp : wj_dp a_dependency on) (hFn : Fn ≤ 8) {a b : Nat} (ha : a < N) (hb : b < N)
    (h1 : (∀ l, wj_E N (wj_Mu N Fn a_threadOf a_addressOf a_reads a_writes a_acquiring a_releasing on a_fenceThread a_fenceKind a_fencePlace) l → wj_bf l a b) → post 1)
    (h0 : ¬ (∀ l, wj_E N (wj_Mu N Fn a_threadOf a_addressOf a_reads a_writes a_acquiring a_releasing on a_fenceThread a_fenceKind a_fencePlace) l → wj_bf l a b) → post 0) :
    wpX_programRelation (fun r_67 => wpX_before (fun r_99 => (((r_99 = 0 → (post 0)) ∧ (¬ r_99 = 0 → (post 1))))) r_67 (nI a) (nI b)) (f_threads, f_addresses, nI N, nI Fn, f_solved, f_found, f_decisions, a_threadOf, a_addressOf, a_constantOf, a_reads, a_writes, a_acquiring, a_releasing, a_dependency, a_fenceThread, a_fenceKind, a_fencePlace, a_start, a_wishRead, a_wishMemory, a_keys, a_leastRun, a_seen, a_decideFirst, a_decideSecond, a_tried, a_relation, a_sequence, a_memory, a_got) := by
  have h6 := hp.1
  refine wj_xprog hdp hp.1 hFn ?_
  intro m hm hS hE
  have key := wj_always hS ha hb
  refine wj_before hm (by omega) (by omega) (fun hr => br_f (by decide) (h1 (fun l hl => key.mp hr l ((hE l).mpr hl)))) (fun hr => br_t rfl (h0 (fun z => hr (key.mpr (fun l hl => z l ((hE l).mp hl))))))
theorem wj_xl94 {post : Int32 → SX → Prop} {F : Nat} (hF : F ≤ 180) : ∀ d k : Nat, k + d = F → post (nI (wj_nz a_seen F)) (f_threads, f_addresses, f_count, f_fences, f_solved, nI F, f_decisions, a_threadOf, a_addressOf, a_constantOf, a_reads, a_writes, a_acquiring, a_releasing, a_dependency, a_fenceThread, a_fenceKind, a_fencePlace, a_start, a_wishRead, a_wishMemory, a_keys, a_leastRun, a_seen, a_decideFirst, a_decideSecond, a_tried, a_relation, a_sequence, a_memory, a_got) → wX_lost_94 post f_threads f_addresses f_count f_fences f_solved (nI F) f_decisions a_threadOf a_addressOf a_constantOf a_reads a_writes a_acquiring a_releasing a_dependency a_fenceThread a_fenceKind a_fencePlace a_start a_wishRead a_wishMemory a_keys a_leastRun a_seen a_decideFirst a_decideSecond a_tried a_relation a_sequence a_memory a_got (d + 1) (nI (wj_nz a_seen k)) (nI k) := by
  intro d
  induction d with
  | zero =>
    intro k hk h
    have : k = F := by omega
    subst this
    exact br_t (nI_le (Nat.le_refl _) (by omega)) h
  | succ d ih =>
    intro k hk h
    refine br_f (nI_ge (by omega) (by omega)) ⟨vp_in_nI (by omega) (by decide), ?_⟩
    rw [nI_clamp (by omega)]
    have r := ih (k + 1) (by omega) h
    unfold wj_nz at r
    refine br_c (fun c => nm_r (nI_1 _) (nm_r (nI_1 k) ?_)) (fun c => nm_r (nI_1 k) ?_)
    · rw [if_pos c] at r; exact r
    · rw [if_neg c] at r; exact r
theorem wj_xl39 {post : Int32 → SX → Prop} {x1 x2 : Int32} (h : ∀ sn, (∀ i, i < 180 → sn i = 0) → wX_lost_39 post x1 x2 f_threads f_addresses f_count f_fences f_solved f_found f_decisions 1 180 a_threadOf a_addressOf a_constantOf a_reads a_writes a_acquiring a_releasing a_dependency a_fenceThread a_fenceKind a_fencePlace a_start a_wishRead a_wishMemory a_keys a_leastRun sn a_decideFirst a_decideSecond a_tried a_relation a_sequence a_memory a_got) : ∀ (d k : Nat) (sn : Nat → Int32), k + d = 180 → (∀ i, i < k → sn i = 0) → wX_lost_39 post x1 x2 f_threads f_addresses f_count f_fences f_solved f_found f_decisions (d + 1) (nI k) a_threadOf a_addressOf a_constantOf a_reads a_writes a_acquiring a_releasing a_dependency a_fenceThread a_fenceKind a_fencePlace a_start a_wishRead a_wishMemory a_keys a_leastRun sn a_decideFirst a_decideSecond a_tried a_relation a_sequence a_memory a_got := by
  intro d
  induction d with
  | zero =>
    intro k sn hk hs
    have : k = 180 := by omega
    subst this
    exact h sn hs
  | succ d ih =>
    intro k sn hk hs
    refine br_f (nI_ge (a := k) (b := 180) (by omega) (by decide)) ⟨vp_in_nI (by omega) (by decide), nm_r (e' := upd sn k 0) (by rw [nI_clamp (by omega)]; rfl) (nm_r (nI_1 k) (ih (k + 1) _ (by omega) ?_))⟩
    intro i hi
    by_cases e : i = k
    · rw [e, pk_us]
    · rw [pk_un e]; exact hs i (by omega)
theorem wj_fn0 {S0 : List Nat → Prop} {F : Nat} {K0 : Nat → Int64} {L0 : Nat → Int32} (hp : wj_pg N a_threadOf a_addressOf on) (hdp : wj_dp a_dependency on) (hf : ∀ x, x < 3 → wj_dg (a_start x)) (hF : F ≤ 180)
    (T : wj_T (wj_E N (wj_Mu N Fn a_threadOf a_addressOf a_reads a_writes a_acquiring a_releasing on a_fenceThread a_fenceKind a_fencePlace)) (wj_out a_addressOf a_constantOf a_reads a_writes on a_start) (wj_cX N) F K0 L0) :
    wj_FN 0 N (fun S f K L sn => f = nI F ∧ K = K0 ∧ L = L0 ∧ wj_Sn S (wj_out a_addressOf a_constantOf a_reads a_writes on a_start) F K0 sn) f_threads f_addresses f_fences f_solved a_threadOf a_addressOf a_constantOf a_reads a_writes a_acquiring a_releasing a_dependency a_fenceThread a_fenceKind a_fencePlace a_start a_wishRead a_wishMemory a_decideFirst a_decideSecond (wj_Mu N Fn a_threadOf a_addressOf a_reads a_writes a_acquiring a_releasing on a_fenceThread a_fenceKind a_fencePlace) f_decisions := by
  intro S m f_found a_keys a_leastRun a_seen a_tried a_relation a_sequence a_memory a_got post' hQ hm hS hE hord h
  obtain ⟨rfl, rfl, rfl, Z⟩ := hQ
  refine wj_xfin0 hp hdp hf hm hS hF hE (wj_hleaf hp hE hord) T Z ?_
  intro sn sq mm g Z'
  exact h (nI F) a_keys a_leastRun sn sq mm g ⟨rfl, rfl, rfl, Z'⟩
theorem wj_xlost {post : Int32 → SX → Prop} (hp : wj_pg N a_threadOf a_addressOf on) (hdp : wj_dp a_dependency on) (hf : ∀ x, x < 3 → wj_dg (a_start x)) (hFn : Fn ≤ 8) (hrw : ∀ e, e < N → ¬ a_reads e = 0 ∨ ¬ a_writes e = 0) {a b F : Nat} (ha : a < N) (hb : b < N) (ne : a ≠ b) (hF : F ≤ 180)
    (T : wj_T (wj_E N (wj_Mu N Fn a_threadOf a_addressOf a_reads a_writes a_acquiring a_releasing on a_fenceThread a_fenceKind a_fencePlace)) (wj_out a_addressOf a_constantOf a_reads a_writes on a_start) (wj_cX N) F a_keys a_leastRun)
    (h : ∀ sn (f_decisions : Int32) (a_decideFirst : Nat → Int32) (a_decideSecond : Nat → Int32) tr rl sq mm g, wj_Sn (fun l => wj_E N (wj_Mu N Fn a_threadOf a_addressOf a_reads a_writes a_acquiring a_releasing on a_fenceThread a_fenceKind a_fencePlace) l ∧ wj_bf l a b) (wj_out a_addressOf a_constantOf a_reads a_writes on a_start) F a_keys sn → post (nI (wj_nz sn F)) (f_threads, f_addresses, nI N, nI Fn, f_solved, nI F, f_decisions, a_threadOf, a_addressOf, a_constantOf, a_reads, a_writes, a_acquiring, a_releasing, a_dependency, a_fenceThread, a_fenceKind, a_fencePlace, a_start, a_wishRead, a_wishMemory, a_keys, a_leastRun, sn, a_decideFirst, a_decideSecond, tr, rl, sq, mm, g)) :
    ∃ n39, wX_lost_39 post (nI a) (nI b) f_threads f_addresses (nI N) (nI Fn) f_solved (nI F) f_decisions n39 0 a_threadOf a_addressOf a_constantOf a_reads a_writes a_acquiring a_releasing a_dependency a_fenceThread a_fenceKind a_fencePlace a_start a_wishRead a_wishMemory a_keys a_leastRun a_seen a_decideFirst a_decideSecond a_tried a_relation a_sequence a_memory a_got := by
  have h6 := hp.1
  refine ⟨181, wj_xl39 ?_ 180 0 a_seen rfl (fun i hi => absurd hi (Nat.not_lt_zero _))⟩
  intro sn hsn
  refine br_t (nI_le (a := 180) (b := 180) (by decide) (by decide)) ?_
  refine wj_xprog hdp hp.1 hFn ?_
  intro m hm hS hE
  have Z0 : wj_Sn (fun _ => False) (wj_out a_addressOf a_constantOf a_reads a_writes on a_start) F a_keys sn := by
    intro i hi
    rw [hsn i (by omega)]
    constructor
    · intro z; exact absurd rfl z
    · rintro ⟨l, z, _⟩; exact z.elim
  refine wj_before hm (by omega) (by omega) (fun hr => br_f (by decide) ⟨F + 1, ?_⟩) (fun hr => br_t rfl ?_)
  · refine wj_xl94 (a_seen := sn) hF F 0 (by omega) (h sn f_decisions a_decideFirst a_decideSecond a_tried a_relation a_sequence a_memory a_got (wj_Sn_cong ?_ Z0))
    intro l
    constructor
    · intro z; exact z.elim
    · rintro ⟨z1, z2⟩
      exact wj_bf_as z2 (((hE l).mpr z1).2 _ _ hr)
  · refine wj_join h6 hS hm ha hb ?_
    intro m' hm' hR
    refine wj_xsearch (M := wj_Mu N Fn a_threadOf a_addressOf a_reads a_writes a_acquiring a_releasing on a_fenceThread a_fenceKind a_fencePlace) (S := fun _ => False) h6 hrw (wj_hB hp) (fun _ _ _ => wj_fn0 (S0 := fun _ => True) hp hdp hf hF T) hm' (by rw [hR]; exact wj_J_S hS ha hb ne hr) ?_ ⟨rfl, rfl, rfl, Z0⟩ ?_
    · intro l hl
      rw [hR] at hl
      exact (hE l).mp (wj_E_J.mp hl).1
    · intro S' f_decisions a_decideFirst a_decideSecond f_found K L sn tr rl sq mm g hS' hQ
      obtain ⟨rfl, rfl, rfl, Z⟩ := hQ
      refine ⟨F + 1, wj_xl94 (a_seen := sn) hF F 0 (by omega) (h sn f_decisions a_decideFirst a_decideSecond tr rl sq mm g (wj_Sn_cong ?_ Z))⟩
      intro l
      rw [hS', hR, wj_E_J, hE]
      exact ⟨fun z => z.elim (fun w => w.elim) (fun w => w), fun z => Or.inr z⟩
end
section
variable {f_threads f_addresses f_n f_fences f_solved f_outcomes : Int32} {a_thread a_address a_constant a_reads a_writes a_acquiring a_releasing a_on a_fenceThread a_fenceKind a_fencePlace a_first a_wishRead a_wishEnd a_least a_shown a_order a_bound a_memory a_got : Nat → Int32} {a_outcome : Nat → Int64}
variable {N Fn : Nat}
theorem wj_yevt {post : Int32 → Prop} {x : Int32} (h1 : ∀ a, a < N → x = nI a → post 1) (h0 : (x < 0 ∨ nI N ≤ x) → post 0) (hN : N ≤ 6) : wpY_event post (f_threads, f_addresses, nI N, f_fences, f_solved, f_outcomes, a_thread, a_address, a_constant, a_reads, a_writes, a_acquiring, a_releasing, a_on, a_fenceThread, a_fenceKind, a_fencePlace, a_first, a_wishRead, a_wishEnd, a_outcome, a_least, a_shown, a_order, a_bound, a_memory, a_got) x := by
  unfold wpY_event
  refine br_c (fun c => h0 (Or.inl c)) (fun c => br_c (fun c' => h0 (Or.inr c')) (fun c' => ?_))
  obtain ⟨j, hj, rfl⟩ := nI_of c
  exact h1 j (by rw [nI_leI (by omega) hj] at c'; omega) rfl
theorem wj_yev1 {post : Int32 → Prop} {a : Nat} (ha : a < N) (hN : N ≤ 6) (h : post 1) : wpY_event post (f_threads, f_addresses, nI N, f_fences, f_solved, f_outcomes, a_thread, a_address, a_constant, a_reads, a_writes, a_acquiring, a_releasing, a_on, a_fenceThread, a_fenceKind, a_fencePlace, a_first, a_wishRead, a_wishEnd, a_outcome, a_least, a_shown, a_order, a_bound, a_memory, a_got) (nI a) := by
  unfold wpY_event
  exact br_f (nI_pos (by omega)) (br_f (nI_ge ha (by omega)) h)
theorem wj_yev0 {post : Int32 → Prop} {x : Int32} (hx : x < 0 ∨ nI N ≤ x) (h : post 0) : wpY_event post (f_threads, f_addresses, nI N, f_fences, f_solved, f_outcomes, a_thread, a_address, a_constant, a_reads, a_writes, a_acquiring, a_releasing, a_on, a_fenceThread, a_fenceKind, a_fencePlace, a_first, a_wishRead, a_wishEnd, a_outcome, a_least, a_shown, a_order, a_bound, a_memory, a_got) x := by
  unfold wpY_event
  exact br_c (fun _ => h) (fun c => br_c (fun _ => h) (fun c' => absurd hx (fun z => z.elim c c')))
theorem wj_yl141 {post : Int32 → SY → Prop} {F : Nat} (hF : F ≤ 180) : ∀ d k : Nat, k + d = F → post (nI (wj_nz a_shown F)) (f_threads, f_addresses, f_n, f_fences, f_solved, nI F, a_thread, a_address, a_constant, a_reads, a_writes, a_acquiring, a_releasing, a_on, a_fenceThread, a_fenceKind, a_fencePlace, a_first, a_wishRead, a_wishEnd, a_outcome, a_least, a_shown, a_order, a_bound, a_memory, a_got) → wY_lost_141 post f_threads f_addresses f_n f_fences f_solved (nI F) a_thread a_address a_constant a_reads a_writes a_acquiring a_releasing a_on a_fenceThread a_fenceKind a_fencePlace a_first a_wishRead a_wishEnd a_outcome a_least a_shown a_order a_bound a_memory a_got (d + 1) (nI (wj_nz a_shown k)) (nI k) := by
  intro d
  induction d with
  | zero =>
    intro k hk h
    have : k = F := by omega
    subst this
    exact br_t (nI_le (Nat.le_refl _) (by omega)) h
  | succ d ih =>
    intro k hk h
    refine br_f (nI_ge (by omega) (by omega)) ⟨vp_in_nI (by omega) (by decide), ?_⟩
    rw [nI_clamp (by omega)]
    have r := ih (k + 1) (by omega) h
    unfold wj_nz at r
    refine br_c (fun c => nm_r (nI_1 _) (nm_r (nI_1 k) ?_)) (fun c => nm_r (nI_1 k) ?_)
    · rw [if_pos c] at r; exact r
    · rw [if_neg c] at r; exact r
theorem wj_yl39 {post : Int32 → SY → Prop} {x1 x2 : Int32} {F : Nat} (hF : F ≤ 180) (h : ∀ sn, (∀ i, i < F → sn i = 0) → wY_lost_39 post x1 x2 f_threads f_addresses f_n f_fences f_solved (nI F) 1 (nI F) a_thread a_address a_constant a_reads a_writes a_acquiring a_releasing a_on a_fenceThread a_fenceKind a_fencePlace a_first a_wishRead a_wishEnd a_outcome a_least sn a_order a_bound a_memory a_got) : ∀ (d k : Nat) (sn : Nat → Int32), k + d = F → (∀ i, i < k → sn i = 0) → wY_lost_39 post x1 x2 f_threads f_addresses f_n f_fences f_solved (nI F) (d + 1) (nI k) a_thread a_address a_constant a_reads a_writes a_acquiring a_releasing a_on a_fenceThread a_fenceKind a_fencePlace a_first a_wishRead a_wishEnd a_outcome a_least sn a_order a_bound a_memory a_got := by
  intro d
  induction d with
  | zero =>
    intro k sn hk hs
    have : k = F := by omega
    subst this
    exact h sn hs
  | succ d ih =>
    intro k sn hk hs
    refine br_f (nI_ge (by omega) (by omega)) ⟨vp_in_nI (by omega) (by decide), nm_r (e' := upd sn k 0) (by rw [nI_clamp (by omega)]; rfl) (nm_r (nI_1 k) (ih (k + 1) _ (by omega) ?_))⟩
    intro i hi
    by_cases e : i = k
    · rw [e, pk_us]
    · rw [pk_un e]; exact hs i (by omega)
theorem wj_ylost {post : Int32 → SY → Prop} (hp : wj_pg N a_thread a_address a_on) (hf : ∀ x, x < 3 → wj_dg (a_first x)) (hFn : Fn ≤ 8) {a b : Nat} (ha : a < N) (hb : b < N) {F : Nat} (hF : F ≤ 180)
    (hinj : ∀ i j, i < F → j < F → a_outcome i = a_outcome j → i = j)
    (hall : ∀ l, wj_E N (wj_Mu N Fn a_thread a_address a_reads a_writes a_acquiring a_releasing a_on a_fenceThread a_fenceKind a_fencePlace) l → ∃ i, i < F ∧ a_outcome i = lN (wj_out a_address a_constant a_reads a_writes a_on a_first l))
    (h : ∀ sn O B mm g, wj_Sn (fun l => wj_E N (wj_Mu N Fn a_thread a_address a_reads a_writes a_acquiring a_releasing a_on a_fenceThread a_fenceKind a_fencePlace) l ∧ wj_bf l a b) (wj_out a_address a_constant a_reads a_writes a_on a_first) F a_outcome sn → post (nI (wj_nz sn F)) (f_threads, f_addresses, nI N, nI Fn, f_solved, nI F, a_thread, a_address, a_constant, a_reads, a_writes, a_acquiring, a_releasing, a_on, a_fenceThread, a_fenceKind, a_fencePlace, a_first, a_wishRead, a_wishEnd, a_outcome, a_least, sn, O, B, mm, g)) :
    ∃ n39, wY_lost_39 post (nI a) (nI b) f_threads f_addresses (nI N) (nI Fn) f_solved (nI F) n39 0 a_thread a_address a_constant a_reads a_writes a_acquiring a_releasing a_on a_fenceThread a_fenceKind a_fencePlace a_first a_wishRead a_wishEnd a_outcome a_least a_shown a_order a_bound a_memory a_got := by
  refine ⟨F + 1, wj_yl39 hF ?_ F 0 a_shown (by omega) (fun i hi => absurd hi (Nat.not_lt_zero _))⟩
  intro sn hsn
  refine br_t (nI_le (Nat.le_refl _) (by omega)) ?_
  refine wj_ystart hp.1 hFn ?_
  intro O B hO hB
  obtain ⟨t1, t, ht, t2⟩ := wj_tab hp.1
  refine ⟨t.length + 2, wj_ylost1 hp hf ha hb hF hinj hall hB ?_ t [] (List.range N) sn O a_memory a_got ht hO ?_⟩
  · intro sn O mm g Z
    exact ⟨F + 1, wj_yl141 (a_shown := sn) hF F 0 (by omega) (h sn O B mm g Z)⟩
  · intro i hi
    rw [hsn i hi]
    constructor
    · intro z; exact absurd rfl z
    · rintro ⟨l, ⟨z, _⟩, _⟩; cases z
end
end
section
/-! the relation -/
def wj_sol (N Fn : Nat) (f_found f_outcomes : Int32) (a_threadOf a_addressOf a_constantOf a_reads a_writes a_acquiring a_releasing a_fenceThread a_fenceKind a_fencePlace a_start a_leastRun a_on a_least : Nat → Int32) (a_keys a_outcome : Nat → Int64) : Prop :=
  ∃ F, F ≤ 180 ∧ f_found = nI F ∧ f_outcomes = nI F ∧ wj_T (wj_E N (wj_Mu N Fn a_threadOf a_addressOf a_reads a_writes a_acquiring a_releasing a_on a_fenceThread a_fenceKind a_fencePlace)) (wj_out a_addressOf a_constantOf a_reads a_writes a_on a_start) (wj_cX N) F a_keys a_leastRun ∧ ∀ i, i < F → a_outcome i = a_keys i ∧ ∃ c, c < 8 ^ N ∧ a_least i = nI c ∧ a_leastRun i = nI (c * 8 ^ (6 - N))
def wj_inv (N Fn : Nat) (f_threads f_addresses f_solved f_found f_outcomes : Int32) (a_threadOf a_addressOf a_constantOf a_reads a_writes a_acquiring a_releasing a_dependency a_fenceThread a_fenceKind a_fencePlace a_start a_wishRead a_wishMemory a_leastRun a_on a_least : Nat → Int32) (a_keys a_outcome : Nat → Int64) : Prop :=
  wj_pg N a_threadOf a_addressOf a_on ∧ (∀ e, e < N → ¬ a_reads e = 0 ∨ ¬ a_writes e = 0) ∧ Fn ≤ 8 ∧ (∀ x, x < 3 → wj_dg (a_start x)) ∧ wj_dp a_dependency a_on ∧ (∃ T, T ≤ 4 ∧ f_threads = nI T) ∧ (∃ A, A ≤ 3 ∧ f_addresses = nI A ∧ ∀ x, A ≤ x → x < 3 → a_wishMemory x < 0) ∧ (∀ e, N ≤ e → e < 6 → a_wishRead e < 0) ∧
  (¬ f_solved = 0 → wj_sol N Fn f_found f_outcomes a_threadOf a_addressOf a_constantOf a_reads a_writes a_acquiring a_releasing a_fenceThread a_fenceKind a_fencePlace a_start a_leastRun a_on a_least a_keys a_outcome)
/-- the relation at the head of a turn -/
def i_Rel (_ : Nat) (u : SX) (v : SY) : Prop := ∃ (N : Nat) (Fn : Nat) (f_threads : Int32) (f_addresses : Int32) (f_solved : Int32) (f_found : Int32) (f_decisions : Int32) (f_outcomes : Int32) (a_threadOf : Nat → Int32) (a_addressOf : Nat → Int32) (a_constantOf : Nat → Int32) (a_reads : Nat → Int32) (a_writes : Nat → Int32) (a_acquiring : Nat → Int32) (a_releasing : Nat → Int32) (a_dependency : Nat → Int32) (a_fenceThread : Nat → Int32) (a_fenceKind : Nat → Int32) (a_fencePlace : Nat → Int32) (a_start : Nat → Int32) (a_wishRead : Nat → Int32) (a_wishMemory : Nat → Int32) (a_keys : Nat → Int64) (a_leastRun : Nat → Int32) (a_seen : Nat → Int32) (a_decideFirst : Nat → Int32) (a_decideSecond : Nat → Int32) (a_tried : Nat → Int32) (a_relation : Nat → Int64) (a_sequence : Nat → Int32) (a_memory : Nat → Int32) (a_got : Nat → Int32) (a_on : Nat → Int32) (a_outcome : Nat → Int64) (a_least : Nat → Int32) (a_shown : Nat → Int32) (a_order : Nat → Int32) (a_bound : Nat → Int32) (b_memory : Nat → Int32) (b_got : Nat → Int32), u = (f_threads, f_addresses, nI N, nI Fn, f_solved, f_found, f_decisions, a_threadOf, a_addressOf, a_constantOf, a_reads, a_writes, a_acquiring, a_releasing, a_dependency, a_fenceThread, a_fenceKind, a_fencePlace, a_start, a_wishRead, a_wishMemory, a_keys, a_leastRun, a_seen, a_decideFirst, a_decideSecond, a_tried, a_relation, a_sequence, a_memory, a_got) ∧ v = (f_threads, f_addresses, nI N, nI Fn, f_solved, f_outcomes, a_threadOf, a_addressOf, a_constantOf, a_reads, a_writes, a_acquiring, a_releasing, a_on, a_fenceThread, a_fenceKind, a_fencePlace, a_start, a_wishRead, a_wishMemory, a_outcome, a_least, a_shown, a_order, a_bound, b_memory, b_got) ∧ wj_inv N Fn f_threads f_addresses f_solved f_found f_outcomes a_threadOf a_addressOf a_constantOf a_reads a_writes a_acquiring a_releasing a_dependency a_fenceThread a_fenceKind a_fencePlace a_start a_wishRead a_wishMemory a_leastRun a_on a_least a_keys a_outcome
theorem i_up {k : Nat} {u : SX} {v : SY} (h : i_Rel k u v) : i_Rel (k + 5) u v := h
theorem wj_mkR {k : Nat} {N : Nat} {Fn : Nat} {f_threads : Int32} {f_addresses : Int32} {f_solved : Int32} {f_found : Int32} {f_decisions : Int32} {f_outcomes : Int32} {a_threadOf : Nat → Int32} {a_addressOf : Nat → Int32} {a_constantOf : Nat → Int32} {a_reads : Nat → Int32} {a_writes : Nat → Int32} {a_acquiring : Nat → Int32} {a_releasing : Nat → Int32} {a_dependency : Nat → Int32} {a_fenceThread : Nat → Int32} {a_fenceKind : Nat → Int32} {a_fencePlace : Nat → Int32} {a_start : Nat → Int32} {a_wishRead : Nat → Int32} {a_wishMemory : Nat → Int32} {a_keys : Nat → Int64} {a_leastRun : Nat → Int32} {a_seen : Nat → Int32} {a_decideFirst : Nat → Int32} {a_decideSecond : Nat → Int32} {a_tried : Nat → Int32} {a_relation : Nat → Int64} {a_sequence : Nat → Int32} {a_memory : Nat → Int32} {a_got : Nat → Int32} {a_on : Nat → Int32} {a_outcome : Nat → Int64} {a_least : Nat → Int32} {a_shown : Nat → Int32} {a_order : Nat → Int32} {a_bound : Nat → Int32} {b_memory : Nat → Int32} {b_got : Nat → Int32} (h : wj_inv N Fn f_threads f_addresses f_solved f_found f_outcomes a_threadOf a_addressOf a_constantOf a_reads a_writes a_acquiring a_releasing a_dependency a_fenceThread a_fenceKind a_fencePlace a_start a_wishRead a_wishMemory a_leastRun a_on a_least a_keys a_outcome) : i_Rel k (f_threads, f_addresses, nI N, nI Fn, f_solved, f_found, f_decisions, a_threadOf, a_addressOf, a_constantOf, a_reads, a_writes, a_acquiring, a_releasing, a_dependency, a_fenceThread, a_fenceKind, a_fencePlace, a_start, a_wishRead, a_wishMemory, a_keys, a_leastRun, a_seen, a_decideFirst, a_decideSecond, a_tried, a_relation, a_sequence, a_memory, a_got) (f_threads, f_addresses, nI N, nI Fn, f_solved, f_outcomes, a_threadOf, a_addressOf, a_constantOf, a_reads, a_writes, a_acquiring, a_releasing, a_on, a_fenceThread, a_fenceKind, a_fencePlace, a_start, a_wishRead, a_wishMemory, a_outcome, a_least, a_shown, a_order, a_bound, b_memory, b_got) := ⟨N, Fn, f_threads, f_addresses, f_solved, f_found, f_decisions, f_outcomes, a_threadOf, a_addressOf, a_constantOf, a_reads, a_writes, a_acquiring, a_releasing, a_dependency, a_fenceThread, a_fenceKind, a_fencePlace, a_start, a_wishRead, a_wishMemory, a_keys, a_leastRun, a_seen, a_decideFirst, a_decideSecond, a_tried, a_relation, a_sequence, a_memory, a_got, a_on, a_outcome, a_least, a_shown, a_order, a_bound, b_memory, b_got, rfl, rfl, h⟩
theorem wj_el {P : SX → SY → Prop} (h : ∀ (N : Nat) (Fn : Nat) (f_threads : Int32) (f_addresses : Int32) (f_solved : Int32) (f_found : Int32) (f_decisions : Int32) (f_outcomes : Int32) (a_threadOf : Nat → Int32) (a_addressOf : Nat → Int32) (a_constantOf : Nat → Int32) (a_reads : Nat → Int32) (a_writes : Nat → Int32) (a_acquiring : Nat → Int32) (a_releasing : Nat → Int32) (a_dependency : Nat → Int32) (a_fenceThread : Nat → Int32) (a_fenceKind : Nat → Int32) (a_fencePlace : Nat → Int32) (a_start : Nat → Int32) (a_wishRead : Nat → Int32) (a_wishMemory : Nat → Int32) (a_keys : Nat → Int64) (a_leastRun : Nat → Int32) (a_seen : Nat → Int32) (a_decideFirst : Nat → Int32) (a_decideSecond : Nat → Int32) (a_tried : Nat → Int32) (a_relation : Nat → Int64) (a_sequence : Nat → Int32) (a_memory : Nat → Int32) (a_got : Nat → Int32) (a_on : Nat → Int32) (a_outcome : Nat → Int64) (a_least : Nat → Int32) (a_shown : Nat → Int32) (a_order : Nat → Int32) (a_bound : Nat → Int32) (b_memory : Nat → Int32) (b_got : Nat → Int32), wj_inv N Fn f_threads f_addresses f_solved f_found f_outcomes a_threadOf a_addressOf a_constantOf a_reads a_writes a_acquiring a_releasing a_dependency a_fenceThread a_fenceKind a_fencePlace a_start a_wishRead a_wishMemory a_leastRun a_on a_least a_keys a_outcome → P (f_threads, f_addresses, nI N, nI Fn, f_solved, f_found, f_decisions, a_threadOf, a_addressOf, a_constantOf, a_reads, a_writes, a_acquiring, a_releasing, a_dependency, a_fenceThread, a_fenceKind, a_fencePlace, a_start, a_wishRead, a_wishMemory, a_keys, a_leastRun, a_seen, a_decideFirst, a_decideSecond, a_tried, a_relation, a_sequence, a_memory, a_got) (f_threads, f_addresses, nI N, nI Fn, f_solved, f_outcomes, a_threadOf, a_addressOf, a_constantOf, a_reads, a_writes, a_acquiring, a_releasing, a_on, a_fenceThread, a_fenceKind, a_fencePlace, a_start, a_wishRead, a_wishMemory, a_outcome, a_least, a_shown, a_order, a_bound, b_memory, b_got)) {k : Nat} {u : SX} {v : SY} (I : i_Rel k u v) : P u v := I.elim fun N I => I.elim fun Fn I => I.elim fun f_threads I => I.elim fun f_addresses I => I.elim fun f_solved I => I.elim fun f_found I => I.elim fun f_decisions I => I.elim fun f_outcomes I => I.elim fun a_threadOf I => I.elim fun a_addressOf I => I.elim fun a_constantOf I => I.elim fun a_reads I => I.elim fun a_writes I => I.elim fun a_acquiring I => I.elim fun a_releasing I => I.elim fun a_dependency I => I.elim fun a_fenceThread I => I.elim fun a_fenceKind I => I.elim fun a_fencePlace I => I.elim fun a_start I => I.elim fun a_wishRead I => I.elim fun a_wishMemory I => I.elim fun a_keys I => I.elim fun a_leastRun I => I.elim fun a_seen I => I.elim fun a_decideFirst I => I.elim fun a_decideSecond I => I.elim fun a_tried I => I.elim fun a_relation I => I.elim fun a_sequence I => I.elim fun a_memory I => I.elim fun a_got I => I.elim fun a_on I => I.elim fun a_outcome I => I.elim fun a_least I => I.elim fun a_shown I => I.elim fun a_order I => I.elim fun a_bound I => I.elim fun b_memory I => I.elim fun b_got I => by
  obtain ⟨rfl, rfl, hi⟩ := I
  exact h N Fn f_threads f_addresses f_solved f_found f_decisions f_outcomes a_threadOf a_addressOf a_constantOf a_reads a_writes a_acquiring a_releasing a_dependency a_fenceThread a_fenceKind a_fencePlace a_start a_wishRead a_wishMemory a_keys a_leastRun a_seen a_decideFirst a_decideSecond a_tried a_relation a_sequence a_memory a_got a_on a_outcome a_least a_shown a_order a_bound b_memory b_got hi
section
variable {N : Nat} {Fn : Nat} {f_threads : Int32} {f_addresses : Int32} {f_solved : Int32} {f_found : Int32} {f_decisions : Int32} {f_outcomes : Int32} {a_threadOf : Nat → Int32} {a_addressOf : Nat → Int32} {a_constantOf : Nat → Int32} {a_reads : Nat → Int32} {a_writes : Nat → Int32} {a_acquiring : Nat → Int32} {a_releasing : Nat → Int32} {a_dependency : Nat → Int32} {a_fenceThread : Nat → Int32} {a_fenceKind : Nat → Int32} {a_fencePlace : Nat → Int32} {a_start : Nat → Int32} {a_wishRead : Nat → Int32} {a_wishMemory : Nat → Int32} {a_keys : Nat → Int64} {a_leastRun : Nat → Int32} {a_seen : Nat → Int32} {a_decideFirst : Nat → Int32} {a_decideSecond : Nat → Int32} {a_tried : Nat → Int32} {a_relation : Nat → Int64} {a_sequence : Nat → Int32} {a_memory : Nat → Int32} {a_got : Nat → Int32} {a_on : Nat → Int32} {a_outcome : Nat → Int64} {a_least : Nat → Int32} {a_shown : Nat → Int32} {a_order : Nat → Int32} {a_bound : Nat → Int32} {b_memory : Nat → Int32} {b_got : Nat → Int32}
theorem wj_ref {p0 p1 p2 p3 : Int32} (hN : N ≤ 6) : ∃ r : Int32, (∀ post : Int32 → Prop, post r → wpX_refuseEvent post (f_threads, f_addresses, nI N, nI Fn, f_solved, f_found, f_decisions, a_threadOf, a_addressOf, a_constantOf, a_reads, a_writes, a_acquiring, a_releasing, a_dependency, a_fenceThread, a_fenceKind, a_fencePlace, a_start, a_wishRead, a_wishMemory, a_keys, a_leastRun, a_seen, a_decideFirst, a_decideSecond, a_tried, a_relation, a_sequence, a_memory, a_got) p0 p1 p2 p3) ∧ (∀ post : Int32 → Prop, post r → wpY_refuse post (f_threads, f_addresses, nI N, nI Fn, f_solved, f_outcomes, a_threadOf, a_addressOf, a_constantOf, a_reads, a_writes, a_acquiring, a_releasing, a_on, a_fenceThread, a_fenceKind, a_fencePlace, a_start, a_wishRead, a_wishMemory, a_outcome, a_least, a_shown, a_order, a_bound, b_memory, b_got) p0 p1 p2 p3) ∧
    ((r = 0 ∧ ¬ p0 < 0 ∧ p0 < f_threads ∧ ¬ p1 < 0 ∧ ¬ f_addresses ≤ p1 ∧ ¬ p2 < 0 ∧ p2 ≤ p3 ∧ N < 6) ∨ (¬ r = 0 ∧ ¬ 0 ≤ r)) := by
  by_cases c0 : p0 < 0
  · exact ⟨-1, fun _ h => br_t c0 h, fun _ h => br_t c0 h, Or.inr ⟨by decide, by decide⟩⟩
  · by_cases c1 : p0 < f_threads
    · by_cases c2 : p1 < 0
      · exact ⟨-2, fun _ h => br_f c0 (br_t c1 (br_t c2 (br_t rfl h))), fun _ h => br_f c0 (br_t c1 (br_t c2 h)), Or.inr ⟨by decide, by decide⟩⟩
      · by_cases c3 : f_addresses ≤ p1
        · exact ⟨-2, fun _ h => br_f c0 (br_t c1 (br_f c2 (br_t c3 (br_t rfl h)))), fun _ h => br_f c0 (br_t c1 (br_f c2 (br_f (Int32.not_lt.mpr c3) h))), Or.inr ⟨by decide, by decide⟩⟩
        · have c3' : p1 < f_addresses := Int32.not_le.mp c3
          by_cases c4 : p2 < 0
          · exact ⟨-3, fun _ h => br_f c0 (br_t c1 (br_f c2 (br_f c3 (br_f (by decide) (br_t c4 h))))), fun _ h => br_f c0 (br_t c1 (br_f c2 (br_t c3' (br_t c4 h)))), Or.inr ⟨by decide, by decide⟩⟩
          · by_cases c5 : p2 ≤ p3
            · by_cases c6 : N < 6
              · exact ⟨0, fun _ h => br_f c0 (br_t c1 (br_f c2 (br_f c3 (br_f (by decide) (br_f c4 (br_t c5 (br_t (nI_lt (a := N) (b := 6) c6 (by decide)) h))))))), fun _ h => br_f c0 (br_t c1 (br_f c2 (br_t c3' (br_f c4 (br_t c5 (br_f (fun z => by have := (nI_eq (a := N) (b := 6) (by omega) (by decide)).mp z; omega) h)))))), Or.inl ⟨rfl, c0, c1, c2, c3, c4, c5, c6⟩⟩
              · have e6 : nI N = 6 := by
                  have : N = 6 := by omega
                  rw [this]; rfl
                exact ⟨-4, fun _ h => br_f c0 (br_t c1 (br_f c2 (br_f c3 (br_f (by decide) (br_f c4 (br_t c5 (br_f (nI_nlt (a := N) (b := 6) (by omega) (by omega)) h))))))), fun _ h => br_f c0 (br_t c1 (br_f c2 (br_t c3' (br_f c4 (br_t c5 (br_t e6 h)))))), Or.inr ⟨by decide, by decide⟩⟩
            · exact ⟨-3, fun _ h => br_f c0 (br_t c1 (br_f c2 (br_f c3 (br_f (by decide) (br_f c4 (br_f c5 h)))))), fun _ h => br_f c0 (br_t c1 (br_f c2 (br_t c3' (br_f c4 (br_f c5 h))))), Or.inr ⟨by decide, by decide⟩⟩
    · exact ⟨-1, fun _ h => br_f c0 (br_f c1 h), fun _ h => br_f c0 (br_f c1 h), Or.inr ⟨by decide, by decide⟩⟩
theorem wj_xapp {post : Int32 → SX → Prop} {p0 p1 p2 p3 p4 p5 p6 : Int32} (hN : N < 6)
    (h : post (nI N) (f_threads, f_addresses, nI (N + 1), nI Fn, 0, f_found, f_decisions, upd a_threadOf N p0, upd a_addressOf N p1, upd a_constantOf N p2, upd a_reads N (vp_nar .boolean p3), upd a_writes N (vp_nar .boolean p4), upd a_acquiring N (vp_nar .boolean p5), upd a_releasing N (vp_nar .boolean p6), a_dependency, a_fenceThread, a_fenceKind, a_fencePlace, a_start, a_wishRead, a_wishMemory, a_keys, a_leastRun, a_seen, a_decideFirst, a_decideSecond, a_tried, a_relation, a_sequence, a_memory, a_got)) :
    wpX_append post (f_threads, f_addresses, nI N, nI Fn, f_solved, f_found, f_decisions, a_threadOf, a_addressOf, a_constantOf, a_reads, a_writes, a_acquiring, a_releasing, a_dependency, a_fenceThread, a_fenceKind, a_fencePlace, a_start, a_wishRead, a_wishMemory, a_keys, a_leastRun, a_seen, a_decideFirst, a_decideSecond, a_tried, a_relation, a_sequence, a_memory, a_got) p0 p1 p2 p3 p4 p5 p6 := by
  have ec : (nI N).toNatClampNeg = N := nI_clamp (by omega)
  have iv : vp_in (nI N) 6 := vp_in_nI hN (by decide)
  unfold wpX_append
  dsimp only
  rw [ec]
  exact ⟨iv, nm_e ⟨iv, nm_e ⟨iv, nm_e ⟨iv, nm_e ⟨iv, nm_e ⟨iv, nm_e ⟨iv, nm_e (nm_r (nI_1 N) h)⟩⟩⟩⟩⟩⟩⟩
theorem wj_yapp {post : Int32 → SY → Prop} {p0 p1 p2 p3 p4 : Int32} (hN : N < 6)
    (h : post (nI N) (f_threads, f_addresses, nI (N + 1), nI Fn, 0, f_outcomes, upd a_threadOf N p0, upd a_addressOf N p1, upd a_constantOf N (p2 &&& 15), upd a_reads N (vp_nar .boolean p3), upd a_writes N (vp_nar .boolean p4), upd a_acquiring N (vp_nar .boolean 0), upd a_releasing N (vp_nar .boolean 0), a_on, a_fenceThread, a_fenceKind, a_fencePlace, a_start, a_wishRead, a_wishMemory, a_outcome, a_least, a_shown, a_order, a_bound, b_memory, b_got)) :
    wpY_append post (f_threads, f_addresses, nI N, nI Fn, f_solved, f_outcomes, a_threadOf, a_addressOf, a_constantOf, a_reads, a_writes, a_acquiring, a_releasing, a_on, a_fenceThread, a_fenceKind, a_fencePlace, a_start, a_wishRead, a_wishMemory, a_outcome, a_least, a_shown, a_order, a_bound, b_memory, b_got) p0 p1 p2 p3 p4 := by
  have ec : (nI N).toNatClampNeg = N := nI_clamp (by omega)
  have iv : vp_in (nI N) 6 := vp_in_nI hN (by decide)
  unfold wpY_append
  dsimp only
  rw [ec]
  exact ⟨iv, nm_e ⟨iv, nm_e ⟨iv, nm_e ⟨iv, nm_e ⟨iv, nm_e ⟨iv, nm_e ⟨iv, nm_e (nm_r (nI_1 N) (by rw [nI_pred]; exact h))⟩⟩⟩⟩⟩⟩⟩
theorem wj_upd2 {f : Nat → Int32} {i : Nat} {x y : Int32} : upd (upd f i x) i y = upd f i y := by
  funext j
  unfold upd
  by_cases c : j = i
  · simp only [if_pos c]
  · simp only [if_neg c]
theorem wj_inv_app {p0 p1 p2 p3 p4 p5 p6 : Int32} (h : wj_inv N Fn f_threads f_addresses f_solved f_found f_outcomes a_threadOf a_addressOf a_constantOf a_reads a_writes a_acquiring a_releasing a_dependency a_fenceThread a_fenceKind a_fencePlace a_start a_wishRead a_wishMemory a_leastRun a_on a_least a_keys a_outcome) (hN : N < 6) (h0 : ¬ p0 < 0) (h0' : p0 < f_threads) (h1 : ¬ p1 < 0) (h1' : ¬ f_addresses ≤ p1) (hrw : ¬ p3 = 0 ∨ ¬ p4 = 0) :
    wj_inv (N + 1) Fn f_threads f_addresses 0 f_found f_outcomes (upd a_threadOf N p0) (upd a_addressOf N p1) (upd a_constantOf N p2) (upd a_reads N p3) (upd a_writes N p4) (upd a_acquiring N p5) (upd a_releasing N p6) a_dependency a_fenceThread a_fenceKind a_fencePlace a_start a_wishRead a_wishMemory a_leastRun a_on a_least a_keys a_outcome := by
  obtain ⟨⟨i1, i2, i3, i4⟩, j2, j3, j4, j5, ⟨T, t1, t2⟩, ⟨A, a1, a2, a3⟩, j8, j9⟩ := h
  obtain ⟨q0, hq0, rfl⟩ := nI_of h0
  obtain ⟨q1, hq1, rfl⟩ := nI_of h1
  rw [t2, nI_ltI hq0 (by omega)] at h0'
  rw [a2, nI_leI (by omega) hq1] at h1'
  refine ⟨⟨by omega, ?_, ?_, ?_⟩, ?_, j3, j4, j5, ⟨T, t1, t2⟩, ⟨A, a1, a2, a3⟩, fun e h1 h2 => j8 e (by omega) h2, fun z => absurd rfl z⟩
  · intro e he
    by_cases c : e = N
    · rw [c, pk_us]; exact ⟨q0, by omega, rfl⟩
    · rw [pk_un c]; exact i2 e (by omega)
  · intro e he
    by_cases c : e = N
    · rw [c, pk_us]; exact ⟨q1, by omega, rfl⟩
    · rw [pk_un c]; exact i3 e (by omega)
  · intro i hi
    rcases i4 i hi with z | ⟨s, z1, z2, z3, z4⟩
    · exact Or.inl z
    · refine Or.inr ⟨s, z1, z2, by omega, ?_⟩
      rw [pk_un (by omega), pk_un (by omega)]
      exact z4
  · intro e he
    by_cases c : e = N
    · rw [c, pk_us, pk_us]; exact hrw
    · rw [pk_un c, pk_un c]; exact j2 e (by omega)
end
end
section
/-! load, store, add, fence, depend, initial -/
theorem wj_nar0 : vp_nar .boolean 0 = 0 := rfl
theorem wj_nar1 : vp_nar .boolean 1 = 1 := rfl
theorem i_vc_load {k : Nat} {u : SX} {v : SY} (I : i_Rel k u v) (hk : k + 5 ≤ 2562) (v1 : Int32) (v2 : Int32) (v3 : Int32) : wpX_load (fun r u' => wpY_load (fun r' v' => r' = r ∧ i_Rel (k + 5) u' v') v v1 v2 v3) u v1 v2 v3 := by
  refine wj_el (P := fun u v => wpX_load (fun r u' => wpY_load (fun r' v' => r' = r ∧ i_Rel (k + 5) u' v') v v1 v2 v3) u v1 v2 v3) ?_ I
  intro N Fn f_threads f_addresses f_solved f_found f_decisions f_outcomes a_threadOf a_addressOf a_constantOf a_reads a_writes a_acquiring a_releasing a_dependency a_fenceThread a_fenceKind a_fencePlace a_start a_wishRead a_wishMemory a_keys a_leastRun a_seen a_decideFirst a_decideSecond a_tried a_relation a_sequence a_memory a_got a_on a_outcome a_least a_shown a_order a_bound b_memory b_got h
  obtain ⟨r, hX, hY, hr⟩ := wj_ref (N := N) (Fn := Fn) (f_threads := f_threads) (f_addresses := f_addresses) (f_solved := f_solved) (f_found := f_found) (f_decisions := f_decisions) (f_outcomes := f_outcomes) (a_threadOf := a_threadOf) (a_addressOf := a_addressOf) (a_constantOf := a_constantOf) (a_reads := a_reads) (a_writes := a_writes) (a_acquiring := a_acquiring) (a_releasing := a_releasing) (a_dependency := a_dependency) (a_fenceThread := a_fenceThread) (a_fenceKind := a_fenceKind) (a_fencePlace := a_fencePlace) (a_start := a_start) (a_wishRead := a_wishRead) (a_wishMemory := a_wishMemory) (a_keys := a_keys) (a_leastRun := a_leastRun) (a_seen := a_seen) (a_decideFirst := a_decideFirst) (a_decideSecond := a_decideSecond) (a_tried := a_tried) (a_relation := a_relation) (a_sequence := a_sequence) (a_memory := a_memory) (a_got := a_got) (a_on := a_on) (a_outcome := a_outcome) (a_least := a_least) (a_shown := a_shown) (a_order := a_order) (a_bound := a_bound) (b_memory := b_memory) (b_got := b_got) (p0 := v1) (p1 := v2) (p2 := v3) (p3 := 1) h.1.1
  unfold wpX_load
  refine hX _ ?_
  rcases hr with ⟨rfl, c0, c1, c2, c3, c4, c5, c6⟩ | ⟨c0, c1⟩
  · have ec : (nI N).toNatClampNeg = N := nI_clamp (by omega)
    have iv : vp_in (nI N) 6 := vp_in_nI c6 (by decide)
    have fin : ∀ q : Int32, wj_inv (N + 1) Fn f_threads f_addresses 0 f_found f_outcomes (upd a_threadOf N v1) (upd a_addressOf N v2) (upd a_constantOf N 0) (upd a_reads N 1) (upd a_writes N 0) (upd a_acquiring N q) (upd a_releasing N 0) a_dependency a_fenceThread a_fenceKind a_fencePlace a_start a_wishRead a_wishMemory a_leastRun a_on a_least a_keys a_outcome := fun q => wj_inv_app h c6 c0 c1 c2 c3 (Or.inl (by decide))
    have e0 : (0 : Int32) &&& 15 = 0 := by decide
    refine br_t rfl (br_c (fun d => ?_) (fun d => ?_))
    · unfold wX_load_34
      refine wj_xapp c6 ?_
      unfold wpY_load
      refine hY _ (br_t (by decide) ?_)
      refine wj_yapp c6 ?_
      refine br_t d ?_
      rw [ec]
      refine ⟨iv, nm_e ⟨rfl, ?_⟩⟩
      rw [wj_upd2, wj_nar0, wj_nar1, e0]
      exact wj_mkR (fin 1)
    · unfold wX_load_34
      refine wj_xapp c6 ?_
      unfold wpY_load
      refine hY _ (br_t (by decide) ?_)
      refine wj_yapp c6 ?_
      refine br_f d ?_
      rw [ec]
      refine ⟨iv, nm_e ⟨rfl, ?_⟩⟩
      rw [wj_upd2, wj_nar0, wj_nar1, e0]
      exact wj_mkR (fin 0)
  · refine br_f c0 ?_
    unfold wpY_load
    exact hY _ (br_f c1 ⟨rfl, wj_mkR h⟩)
theorem i_vc_store {k : Nat} {u : SX} {v : SY} (I : i_Rel k u v) (hk : k + 5 ≤ 2562) (v1 : Int32) (v2 : Int32) (v3 : Int32) (v4 : Int32) : wpX_store (fun r u' => wpY_store (fun r' v' => r' = r ∧ i_Rel (k + 5) u' v') v v1 v2 v3 v4) u v1 v2 v3 v4 := by
  refine wj_el (P := fun u v => wpX_store (fun r u' => wpY_store (fun r' v' => r' = r ∧ i_Rel (k + 5) u' v') v v1 v2 v3 v4) u v1 v2 v3 v4) ?_ I
  intro N Fn f_threads f_addresses f_solved f_found f_decisions f_outcomes a_threadOf a_addressOf a_constantOf a_reads a_writes a_acquiring a_releasing a_dependency a_fenceThread a_fenceKind a_fencePlace a_start a_wishRead a_wishMemory a_keys a_leastRun a_seen a_decideFirst a_decideSecond a_tried a_relation a_sequence a_memory a_got a_on a_outcome a_least a_shown a_order a_bound b_memory b_got h
  obtain ⟨r, hX, hY, hr⟩ := wj_ref (N := N) (Fn := Fn) (f_threads := f_threads) (f_addresses := f_addresses) (f_solved := f_solved) (f_found := f_found) (f_decisions := f_decisions) (f_outcomes := f_outcomes) (a_threadOf := a_threadOf) (a_addressOf := a_addressOf) (a_constantOf := a_constantOf) (a_reads := a_reads) (a_writes := a_writes) (a_acquiring := a_acquiring) (a_releasing := a_releasing) (a_dependency := a_dependency) (a_fenceThread := a_fenceThread) (a_fenceKind := a_fenceKind) (a_fencePlace := a_fencePlace) (a_start := a_start) (a_wishRead := a_wishRead) (a_wishMemory := a_wishMemory) (a_keys := a_keys) (a_leastRun := a_leastRun) (a_seen := a_seen) (a_decideFirst := a_decideFirst) (a_decideSecond := a_decideSecond) (a_tried := a_tried) (a_relation := a_relation) (a_sequence := a_sequence) (a_memory := a_memory) (a_got := a_got) (a_on := a_on) (a_outcome := a_outcome) (a_least := a_least) (a_shown := a_shown) (a_order := a_order) (a_bound := a_bound) (b_memory := b_memory) (b_got := b_got) (p0 := v1) (p1 := v2) (p2 := v4) (p3 := 1) h.1.1
  unfold wpX_store
  refine hX _ ?_
  rcases hr with ⟨rfl, c0, c1, c2, c3, c4, c5, c6⟩ | ⟨c0, c1⟩
  · have ec : (nI N).toNatClampNeg = N := nI_clamp (by omega)
    have iv : vp_in (nI N) 6 := vp_in_nI c6 (by decide)
    have fin : ∀ q : Int32, wj_inv (N + 1) Fn f_threads f_addresses 0 f_found f_outcomes (upd a_threadOf N v1) (upd a_addressOf N v2) (upd a_constantOf N (v3 &&& 15)) (upd a_reads N 0) (upd a_writes N 1) (upd a_acquiring N 0) (upd a_releasing N q) a_dependency a_fenceThread a_fenceKind a_fencePlace a_start a_wishRead a_wishMemory a_leastRun a_on a_least a_keys a_outcome := fun q => wj_inv_app h c6 c0 c1 c2 c3 (Or.inr (by decide))
    refine br_t rfl (br_c (fun d => ?_) (fun d => ?_))
    · unfold wX_store_40
      refine wj_xapp c6 ?_
      unfold wpY_store
      refine hY _ (br_t (by decide) ?_)
      refine wj_yapp c6 ?_
      refine br_t d ?_
      rw [ec]
      refine ⟨iv, nm_e ⟨rfl, ?_⟩⟩
      rw [wj_upd2, wj_nar0, wj_nar1]
      exact wj_mkR (fin 1)
    · unfold wX_store_40
      refine wj_xapp c6 ?_
      unfold wpY_store
      refine hY _ (br_t (by decide) ?_)
      refine wj_yapp c6 ?_
      refine br_f d ?_
      rw [ec]
      refine ⟨iv, nm_e ⟨rfl, ?_⟩⟩
      rw [wj_upd2, wj_nar0, wj_nar1]
      exact wj_mkR (fin 0)
  · refine br_f c0 ?_
    unfold wpY_store
    exact hY _ (br_f c1 ⟨rfl, wj_mkR h⟩)
theorem i_vc_add {k : Nat} {u : SX} {v : SY} (I : i_Rel k u v) (hk : k + 5 ≤ 2562) (v1 : Int32) (v2 : Int32) (v3 : Int32) (v4 : Int32) : wpX_add (fun r u' => wpY_add (fun r' v' => r' = r ∧ i_Rel (k + 5) u' v') v v1 v2 v3 v4) u v1 v2 v3 v4 := by
  refine wj_el (P := fun u v => wpX_add (fun r u' => wpY_add (fun r' v' => r' = r ∧ i_Rel (k + 5) u' v') v v1 v2 v3 v4) u v1 v2 v3 v4) ?_ I
  intro N Fn f_threads f_addresses f_solved f_found f_decisions f_outcomes a_threadOf a_addressOf a_constantOf a_reads a_writes a_acquiring a_releasing a_dependency a_fenceThread a_fenceKind a_fencePlace a_start a_wishRead a_wishMemory a_keys a_leastRun a_seen a_decideFirst a_decideSecond a_tried a_relation a_sequence a_memory a_got a_on a_outcome a_least a_shown a_order a_bound b_memory b_got h
  obtain ⟨r, hX, hY, hr⟩ := wj_ref (N := N) (Fn := Fn) (f_threads := f_threads) (f_addresses := f_addresses) (f_solved := f_solved) (f_found := f_found) (f_decisions := f_decisions) (f_outcomes := f_outcomes) (a_threadOf := a_threadOf) (a_addressOf := a_addressOf) (a_constantOf := a_constantOf) (a_reads := a_reads) (a_writes := a_writes) (a_acquiring := a_acquiring) (a_releasing := a_releasing) (a_dependency := a_dependency) (a_fenceThread := a_fenceThread) (a_fenceKind := a_fenceKind) (a_fencePlace := a_fencePlace) (a_start := a_start) (a_wishRead := a_wishRead) (a_wishMemory := a_wishMemory) (a_keys := a_keys) (a_leastRun := a_leastRun) (a_seen := a_seen) (a_decideFirst := a_decideFirst) (a_decideSecond := a_decideSecond) (a_tried := a_tried) (a_relation := a_relation) (a_sequence := a_sequence) (a_memory := a_memory) (a_got := a_got) (a_on := a_on) (a_outcome := a_outcome) (a_least := a_least) (a_shown := a_shown) (a_order := a_order) (a_bound := a_bound) (b_memory := b_memory) (b_got := b_got) (p0 := v1) (p1 := v2) (p2 := v4) (p3 := 3) h.1.1
  unfold wpX_add
  refine hX _ ?_
  rcases hr with ⟨rfl, c0, c1, c2, c3, c4, c5, c6⟩ | ⟨c0, c1⟩
  · have ec : (nI N).toNatClampNeg = N := nI_clamp (by omega)
    have iv : vp_in (nI N) 6 := vp_in_nI c6 (by decide)
    have fin : ∀ q q' : Int32, wj_inv (N + 1) Fn f_threads f_addresses 0 f_found f_outcomes (upd a_threadOf N v1) (upd a_addressOf N v2) (upd a_constantOf N (v3 &&& 15)) (upd a_reads N 1) (upd a_writes N 1) (upd a_acquiring N q) (upd a_releasing N q') a_dependency a_fenceThread a_fenceKind a_fencePlace a_start a_wishRead a_wishMemory a_leastRun a_on a_least a_keys a_outcome := fun q q' => wj_inv_app h c6 c0 c1 c2 c3 (Or.inr (by decide))
    obtain ⟨j, hj, rfl⟩ := nI_of2 (M := 3) (n := 3) (by decide) c4 c5
    refine br_t rfl ?_
    rcases (by omega : j = 0 ∨ j = 1 ∨ j = 2 ∨ j = 3) with rfl | rfl | rfl | rfl
    · refine br_t (by decide) ?_
      unfold wX_add_40
      refine br_t (by decide) ?_
      unfold wX_add_52
      refine wj_xapp c6 ?_
      unfold wpY_add
      refine hY _ (br_t (by decide) ?_)
      refine wj_yapp c6 ?_
      refine br_f (by decide) (br_f (by decide) ?_)
      unfold wY_add_53
      rw [ec]
      refine ⟨iv, nm_e (br_f (by decide) (br_f (by decide) ⟨iv, nm_e ⟨rfl, ?_⟩⟩))⟩
      rw [wj_upd2, wj_upd2, wj_nar0, wj_nar1]
      exact wj_mkR (fin 0 0)
    · refine br_f (by decide) ?_
      unfold wX_add_40
      refine br_t (by decide) ?_
      unfold wX_add_52
      refine wj_xapp c6 ?_
      unfold wpY_add
      refine hY _ (br_t (by decide) ?_)
      refine wj_yapp c6 ?_
      refine br_t (by decide) ?_
      unfold wY_add_48 wY_add_53
      rw [ec]
      refine ⟨iv, nm_e (br_f (by decide) (br_f (by decide) ⟨iv, nm_e ⟨rfl, ?_⟩⟩))⟩
      rw [wj_upd2, wj_upd2, wj_nar0, wj_nar1]
      exact wj_mkR (fin 1 0)
    · refine br_t (by decide) ?_
      unfold wX_add_40
      refine br_f (by decide) ?_
      unfold wX_add_52
      refine wj_xapp c6 ?_
      unfold wpY_add
      refine hY _ (br_t (by decide) ?_)
      refine wj_yapp c6 ?_
      refine br_f (by decide) (br_f (by decide) ?_)
      unfold wY_add_53
      rw [ec]
      refine ⟨iv, nm_e (br_t (by decide) ⟨iv, nm_e ⟨rfl, ?_⟩⟩)⟩
      rw [wj_upd2, wj_upd2, wj_nar0, wj_nar1]
      exact wj_mkR (fin 0 1)
    · refine br_f (by decide) ?_
      unfold wX_add_40
      refine br_f (by decide) ?_
      unfold wX_add_52
      refine wj_xapp c6 ?_
      unfold wpY_add
      refine hY _ (br_t (by decide) ?_)
      refine wj_yapp c6 ?_
      refine br_f (by decide) (br_t (by decide) ?_)
      unfold wY_add_48 wY_add_53
      rw [ec]
      refine ⟨iv, nm_e (br_f (by decide) (br_t (by decide) ⟨iv, nm_e ⟨rfl, ?_⟩⟩))⟩
      rw [wj_upd2, wj_upd2, wj_nar1]
      exact wj_mkR (fin 1 1)
  · refine br_f c0 ?_
    unfold wpY_add
    exact hY _ (br_f c1 ⟨rfl, wj_mkR h⟩)
theorem i_vc_fence {k : Nat} {u : SX} {v : SY} (I : i_Rel k u v) (hk : k + 5 ≤ 2562) (v1 : Int32) (v2 : Int32) : wpX_fence (fun r u' => wpY_fence (fun r' v' => r' = r ∧ i_Rel (k + 5) u' v') v v1 v2) u v1 v2 := by
  refine wj_el (P := fun u v => wpX_fence (fun r u' => wpY_fence (fun r' v' => r' = r ∧ i_Rel (k + 5) u' v') v v1 v2) u v1 v2) ?_ I
  intro N Fn f_threads f_addresses f_solved f_found f_decisions f_outcomes a_threadOf a_addressOf a_constantOf a_reads a_writes a_acquiring a_releasing a_dependency a_fenceThread a_fenceKind a_fencePlace a_start a_wishRead a_wishMemory a_keys a_leastRun a_seen a_decideFirst a_decideSecond a_tried a_relation a_sequence a_memory a_got a_on a_outcome a_least a_shown a_order a_bound b_memory b_got h
  have J := wj_mkR (N := N) (Fn := Fn) (f_threads := f_threads) (f_addresses := f_addresses) (f_solved := f_solved) (f_found := f_found) (f_decisions := f_decisions) (f_outcomes := f_outcomes) (a_threadOf := a_threadOf) (a_addressOf := a_addressOf) (a_constantOf := a_constantOf) (a_reads := a_reads) (a_writes := a_writes) (a_acquiring := a_acquiring) (a_releasing := a_releasing) (a_dependency := a_dependency) (a_fenceThread := a_fenceThread) (a_fenceKind := a_fenceKind) (a_fencePlace := a_fencePlace) (a_start := a_start) (a_wishRead := a_wishRead) (a_wishMemory := a_wishMemory) (a_keys := a_keys) (a_leastRun := a_leastRun) (a_seen := a_seen) (a_decideFirst := a_decideFirst) (a_decideSecond := a_decideSecond) (a_tried := a_tried) (a_relation := a_relation) (a_sequence := a_sequence) (a_memory := a_memory) (a_got := a_got) (a_on := a_on) (a_outcome := a_outcome) (a_least := a_least) (a_shown := a_shown) (a_order := a_order) (a_bound := a_bound) (b_memory := b_memory) (b_got := b_got) (k := k + 5) h
  obtain ⟨i1, i2, i3, i4, i5, i6, i7, i8, i9⟩ := h
  refine br_c (fun c0 => br_t c0 ⟨rfl, J⟩) (fun c0 => br_c (fun c1 => br_c (fun c2 => br_f c0 (br_t c1 (br_t c2 ⟨rfl, J⟩))) (fun c2 => br_c (fun c3 => ?_) (fun c3 => br_f c0 (br_t c1 (br_f c2 (br_f c3 ⟨rfl, J⟩)))))) (fun c1 => br_f c0 (br_f c1 ⟨rfl, J⟩)))
  have ec : (nI Fn).toNatClampNeg = Fn := nI_clamp (by omega)
  by_cases c4 : Fn < 8
  · have iv : vp_in (nI Fn) 8 := vp_in_nI c4 (by decide)
    refine br_t (nI_lt (a := Fn) (b := 8) c4 (by decide)) ⟨iv, nm_e ⟨iv, nm_e ⟨iv, nm_e (nm_r (nI_1 Fn) ?_)⟩⟩⟩
    refine br_f c0 (br_t c1 (br_f c2 (br_t c3 (br_f (fun z => by have := (nI_eq (a := Fn) (b := 8) (by omega) (by decide)).mp z; omega) ⟨iv, nm_e ⟨iv, nm_e ⟨iv, nm_e (nm_r (nI_1 Fn) ⟨rfl, ?_⟩)⟩⟩⟩))))
    exact wj_mkR ⟨i1, i2, by omega, i4, i5, i6, i7, i8, fun z => absurd rfl z⟩
  · have e8 : nI Fn = 8 := by
      have : Fn = 8 := by omega
      rw [this]; rfl
    exact br_f (nI_nlt (a := Fn) (b := 8) (by omega) (by omega)) (br_f c0 (br_t c1 (br_f c2 (br_t c3 (br_t e8 ⟨rfl, J⟩)))))
end
section
/-! depend, initial, clear, the constructors, events, wantRead, wantMemory -/
theorem i_vc_depend {k : Nat} {u : SX} {v : SY} (I : i_Rel k u v) (hk : k + 5 ≤ 2562) (v1 : Int32) (v2 : Int32) (v3 : Int32) : wpX_depend (fun r u' => wpY_depend (fun r' v' => r' = r ∧ i_Rel (k + 5) u' v') v v1 v2 v3) u v1 v2 v3 := by
  refine wj_el (P := fun u v => wpX_depend (fun r u' => wpY_depend (fun r' v' => r' = r ∧ i_Rel (k + 5) u' v') v v1 v2 v3) u v1 v2 v3) ?_ I
  intro N Fn f_threads f_addresses f_solved f_found f_decisions f_outcomes a_threadOf a_addressOf a_constantOf a_reads a_writes a_acquiring a_releasing a_dependency a_fenceThread a_fenceKind a_fencePlace a_start a_wishRead a_wishMemory a_keys a_leastRun a_seen a_decideFirst a_decideSecond a_tried a_relation a_sequence a_memory a_got a_on a_outcome a_least a_shown a_order a_bound b_memory b_got h
  have J := wj_mkR (N := N) (Fn := Fn) (f_threads := f_threads) (f_addresses := f_addresses) (f_solved := f_solved) (f_found := f_found) (f_decisions := f_decisions) (f_outcomes := f_outcomes) (a_threadOf := a_threadOf) (a_addressOf := a_addressOf) (a_constantOf := a_constantOf) (a_reads := a_reads) (a_writes := a_writes) (a_acquiring := a_acquiring) (a_releasing := a_releasing) (a_dependency := a_dependency) (a_fenceThread := a_fenceThread) (a_fenceKind := a_fenceKind) (a_fencePlace := a_fencePlace) (a_start := a_start) (a_wishRead := a_wishRead) (a_wishMemory := a_wishMemory) (a_keys := a_keys) (a_leastRun := a_leastRun) (a_seen := a_seen) (a_decideFirst := a_decideFirst) (a_decideSecond := a_decideSecond) (a_tried := a_tried) (a_relation := a_relation) (a_sequence := a_sequence) (a_memory := a_memory) (a_got := a_got) (a_on := a_on) (a_outcome := a_outcome) (a_least := a_least) (a_shown := a_shown) (a_order := a_order) (a_bound := a_bound) (b_memory := b_memory) (b_got := b_got) (k := k + 5) h
  obtain ⟨i1, i2, i3, i4, i5, i6, i7, i8, i9⟩ := h
  have h6 := i1.1
  unfold wpX_depend
  refine wj_xevt (fun a ha e1 => br_f (by decide) ?_) (fun c => br_t rfl ?_) h6
  · subst e1
    refine wj_xevt (fun b hb e2 => br_f (by decide) ?_) (fun c => br_t rfl ?_) h6
    · subst e2
      have ea : (nI a).toNatClampNeg = a := nI_clamp (by omega)
      have eb : (nI b).toNatClampNeg = b := nI_clamp (by omega)
      have ia : vp_in (nI a) 6 := vp_in_nI (by omega) (by decide)
      have ib : vp_in (nI b) 6 := vp_in_nI (by omega) (by decide)
      rw [ea, eb]
      refine ⟨ia, ib, ?_⟩
      by_cases c1 : a_threadOf a = a_threadOf b
      · by_cases c2 : nI a ≤ nI b
        · refine br_t c1 (br_t c2 ?_)
          unfold wpY_depend
          refine wj_yev1 ha h6 (br_f (by decide) (wj_yev1 hb h6 (br_f (by decide) ?_)))
          rw [ea, eb]
          exact ⟨ia, ib, br_t c1 (br_t c2 ⟨rfl, J⟩)⟩
        · by_cases c3 : a_reads b = 0
          · refine br_t c1 (br_f c2 ⟨ib, br_t c3 ?_⟩)
            unfold wpY_depend
            refine wj_yev1 ha h6 (br_f (by decide) (wj_yev1 hb h6 (br_f (by decide) ?_)))
            rw [ea, eb]
            exact ⟨ia, ib, br_t c1 (br_f c2 ⟨ib, br_t c3 ⟨rfl, J⟩⟩)⟩
          · by_cases c4 : v3 < 1
            · refine br_t c1 (br_f c2 ⟨ib, br_f c3 (br_t c4 ?_)⟩)
              unfold wpY_depend
              refine wj_yev1 ha h6 (br_f (by decide) (wj_yev1 hb h6 (br_f (by decide) ?_)))
              rw [ea, eb]
              exact ⟨ia, ib, br_t c1 (br_f c2 ⟨ib, br_f c3 (br_t c4 ⟨rfl, J⟩)⟩)⟩
            · by_cases c5 : v3 ≤ 3
              · have hba : b < a := by
                  rw [nI_leI (by omega) (by omega)] at c2; omega
                obtain ⟨q, ⟨hq1, hq3⟩, hv⟩ : ∃ q : Nat, (1 ≤ q ∧ q ≤ 3) ∧ v3 = nI q := by
                  have g1 : ¬ v3 < 0 := by
                    intro z
                    apply c4
                    rw [Int32.lt_iff_toInt_lt] at z ⊢
                    have g2 : (0 : Int32).toInt = 0 := by decide
                    have g3 : (1 : Int32).toInt = 1 := by decide
                    omega
                  obtain ⟨q, hq, e⟩ := nI_of2 (M := 3) (n := 3) (by decide) g1 c5
                  refine ⟨q, ⟨?_, hq⟩, e⟩
                  rcases Nat.eq_zero_or_pos q with z | z
                  · exfalso; apply c4; rw [e, z]; decide
                  · exact z
                have ei : (4 * nI a) + v3 = nI (4 * a + q) := by rw [hv]; exact wj_4 a
                have ii : vp_in (nI (4 * a + q)) 24 := vp_in_nI (by omega) (by decide)
                have ec : (nI (4 * a + q)).toNatClampNeg = 4 * a + q := nI_clamp (by omega)
                have hd := i5 (4 * a + q) (by omega)
                have dz : a_dependency (4 * a + q) = 0 ↔ a_on (4 * a + q) < 0 := by
                  rw [hd]
                  rcases i1.2.2.2 (4 * a + q) (by omega) with z | ⟨s, z1, z2, z3, z4⟩
                  · rw [z]; decide
                  · rw [z1, nI_1]
                    constructor
                    · intro w; exact absurd w (nI_ne0 (by omega) (by omega))
                    · intro w; exact absurd w (nI_pos (by omega))
                have y81 : ∀ (r : Int32) (u' : SX), (a_on (4 * a + q) < 0 → r = 0 ∧ u' = (f_threads, f_addresses, nI N, nI Fn, 0, f_found, f_decisions, a_threadOf, a_addressOf, a_constantOf, a_reads, a_writes, a_acquiring, a_releasing, upd a_dependency (4 * a + q) (nI b + 1), a_fenceThread, a_fenceKind, a_fencePlace, a_start, a_wishRead, a_wishMemory, a_keys, a_leastRun, a_seen, a_decideFirst, a_decideSecond, a_tried, a_relation, a_sequence, a_memory, a_got)) → (¬ a_on (4 * a + q) < 0 → r = -7 ∧ u' = (f_threads, f_addresses, nI N, nI Fn, f_solved, f_found, f_decisions, a_threadOf, a_addressOf, a_constantOf, a_reads, a_writes, a_acquiring, a_releasing, a_dependency, a_fenceThread, a_fenceKind, a_fencePlace, a_start, a_wishRead, a_wishMemory, a_keys, a_leastRun, a_seen, a_decideFirst, a_decideSecond, a_tried, a_relation, a_sequence, a_memory, a_got)) → wY_depend_81 (fun r' v' => r' = r ∧ i_Rel (k + 5) u' v') (nI a) (nI b) v3 f_threads f_addresses (nI N) (nI Fn) f_solved f_outcomes a_threadOf a_addressOf a_constantOf a_reads a_writes a_acquiring a_releasing a_on a_fenceThread a_fenceKind a_fencePlace a_start a_wishRead a_wishMemory a_outcome a_least a_shown a_order a_bound b_memory b_got := by
                  intro r u' g1 g2
                  unfold wY_depend_81
                  rw [ei, ec]
                  refine ⟨ii, br_c (fun c => ⟨ii, nm_e ?_⟩) (fun c => ?_)⟩
                  · obtain ⟨rfl, rfl⟩ := g1 c
                    refine ⟨rfl, wj_mkR ⟨⟨h6, i1.2.1, i1.2.2.1, ?_⟩, i2, i3, i4, ?_, i6, i7, i8, fun z => absurd rfl z⟩⟩
                    · intro i hi
                      by_cases e : i = 4 * a + q
                      · rw [e, pk_us]
                        refine Or.inr ⟨b, rfl, ?_, ?_, ?_⟩
                        · rw [show (4 * a + q) / 4 = a from by omega]; exact hba
                        · rw [show (4 * a + q) / 4 = a from by omega]; exact ha
                        · rw [show (4 * a + q) / 4 = a from by omega]; exact c1.symm
                      · rw [pk_un e]; exact i1.2.2.2 i hi
                    · intro i hi
                      by_cases e : i = 4 * a + q
                      · rw [e, pk_us, pk_us]
                      · rw [pk_un e, pk_un e]; exact i5 i hi
                  · obtain ⟨rfl, rfl⟩ := g2 c
                    exact ⟨rfl, J⟩
                by_cases c6 : v3 = 1
                · by_cases c7 : a_writes a = 0
                  · refine br_t c1 (br_f c2 ⟨ib, br_f c3 (br_f c4 (br_t c5 (br_t c6 ⟨ia, br_t c7 ?_⟩)))⟩)
                    unfold wpY_depend
                    refine wj_yev1 ha h6 (br_f (by decide) (wj_yev1 hb h6 (br_f (by decide) ?_)))
                    rw [ea, eb]
                    exact ⟨ia, ib, br_t c1 (br_f c2 ⟨ib, br_f c3 (br_f c4 (br_t c5 (br_t c6 ⟨ia, br_t c7 ⟨rfl, J⟩⟩)))⟩)⟩
                  · refine br_t c1 (br_f c2 ⟨ib, br_f c3 (br_f c4 (br_t c5 (br_t c6 ⟨ia, br_f c7 ?_⟩)))⟩)
                    unfold wX_depend_81
                    rw [ei, ec]
                    refine ⟨ii, br_c (fun c => ⟨ii, nm_e ?_⟩) (fun c => ?_)⟩
                    · unfold wpY_depend
                      refine wj_yev1 ha h6 (br_f (by decide) (wj_yev1 hb h6 (br_f (by decide) ?_)))
                      rw [ea, eb]
                      exact ⟨ia, ib, br_t c1 (br_f c2 ⟨ib, br_f c3 (br_f c4 (br_t c5 (br_t c6 ⟨ia, br_f c7 (y81 _ _ (fun _ => ⟨rfl, rfl⟩) (fun z => absurd (dz.mp c) z))⟩)))⟩)⟩
                    · unfold wpY_depend
                      refine wj_yev1 ha h6 (br_f (by decide) (wj_yev1 hb h6 (br_f (by decide) ?_)))
                      rw [ea, eb]
                      exact ⟨ia, ib, br_t c1 (br_f c2 ⟨ib, br_f c3 (br_f c4 (br_t c5 (br_t c6 ⟨ia, br_f c7 (y81 _ _ (fun z => absurd (dz.mpr z) c) (fun _ => ⟨rfl, rfl⟩))⟩)))⟩)⟩
                · refine br_t c1 (br_f c2 ⟨ib, br_f c3 (br_f c4 (br_t c5 (br_f c6 ?_)))⟩)
                  unfold wX_depend_81
                  rw [ei, ec]
                  refine ⟨ii, br_c (fun c => ⟨ii, nm_e ?_⟩) (fun c => ?_)⟩
                  · unfold wpY_depend
                    refine wj_yev1 ha h6 (br_f (by decide) (wj_yev1 hb h6 (br_f (by decide) ?_)))
                    rw [ea, eb]
                    exact ⟨ia, ib, br_t c1 (br_f c2 ⟨ib, br_f c3 (br_f c4 (br_t c5 (br_f c6 (y81 _ _ (fun _ => ⟨rfl, rfl⟩) (fun z => absurd (dz.mp c) z)))))⟩)⟩
                  · unfold wpY_depend
                    refine wj_yev1 ha h6 (br_f (by decide) (wj_yev1 hb h6 (br_f (by decide) ?_)))
                    rw [ea, eb]
                    exact ⟨ia, ib, br_t c1 (br_f c2 ⟨ib, br_f c3 (br_f c4 (br_t c5 (br_f c6 (y81 _ _ (fun z => absurd (dz.mpr z) c) (fun _ => ⟨rfl, rfl⟩)))))⟩)⟩
              · refine br_t c1 (br_f c2 ⟨ib, br_f c3 (br_f c4 (br_f c5 ?_))⟩)
                unfold wpY_depend
                refine wj_yev1 ha h6 (br_f (by decide) (wj_yev1 hb h6 (br_f (by decide) ?_)))
                rw [ea, eb]
                exact ⟨ia, ib, br_t c1 (br_f c2 ⟨ib, br_f c3 (br_f c4 (br_f c5 ⟨rfl, J⟩))⟩)⟩
      · refine br_f c1 ?_
        unfold wpY_depend
        refine wj_yev1 ha h6 (br_f (by decide) (wj_yev1 hb h6 (br_f (by decide) ?_)))
        rw [ea, eb]
        exact ⟨ia, ib, br_f c1 ⟨rfl, J⟩⟩
    · unfold wpY_depend
      exact wj_yev1 ha h6 (br_f (by decide) (wj_yev0 c (br_t rfl ⟨rfl, J⟩)))
  · unfold wpY_depend
    exact wj_yev0 c (br_t rfl ⟨rfl, J⟩)
theorem i_vc_initial {k : Nat} {u : SX} {v : SY} (I : i_Rel k u v) (hk : k + 5 ≤ 2562) (v1 : Int32) (v2 : Int32) : wpX_initial (fun r u' => wpY_initial (fun r' v' => r' = r ∧ i_Rel (k + 5) u' v') v v1 v2) u v1 v2 := by
  refine wj_el (P := fun u v => wpX_initial (fun r u' => wpY_initial (fun r' v' => r' = r ∧ i_Rel (k + 5) u' v') v v1 v2) u v1 v2) ?_ I
  intro N Fn f_threads f_addresses f_solved f_found f_decisions f_outcomes a_threadOf a_addressOf a_constantOf a_reads a_writes a_acquiring a_releasing a_dependency a_fenceThread a_fenceKind a_fencePlace a_start a_wishRead a_wishMemory a_keys a_leastRun a_seen a_decideFirst a_decideSecond a_tried a_relation a_sequence a_memory a_got a_on a_outcome a_least a_shown a_order a_bound b_memory b_got h
  have J := wj_mkR (N := N) (Fn := Fn) (f_threads := f_threads) (f_addresses := f_addresses) (f_solved := f_solved) (f_found := f_found) (f_decisions := f_decisions) (f_outcomes := f_outcomes) (a_threadOf := a_threadOf) (a_addressOf := a_addressOf) (a_constantOf := a_constantOf) (a_reads := a_reads) (a_writes := a_writes) (a_acquiring := a_acquiring) (a_releasing := a_releasing) (a_dependency := a_dependency) (a_fenceThread := a_fenceThread) (a_fenceKind := a_fenceKind) (a_fencePlace := a_fencePlace) (a_start := a_start) (a_wishRead := a_wishRead) (a_wishMemory := a_wishMemory) (a_keys := a_keys) (a_leastRun := a_leastRun) (a_seen := a_seen) (a_decideFirst := a_decideFirst) (a_decideSecond := a_decideSecond) (a_tried := a_tried) (a_relation := a_relation) (a_sequence := a_sequence) (a_memory := a_memory) (a_got := a_got) (a_on := a_on) (a_outcome := a_outcome) (a_least := a_least) (a_shown := a_shown) (a_order := a_order) (a_bound := a_bound) (b_memory := b_memory) (b_got := b_got) (k := k + 5) h
  obtain ⟨i1, i2, i3, i4, i5, i6, ⟨A, a1, a2, a3⟩, i8, i9⟩ := h
  unfold wpX_initial
  by_cases c0 : v1 < 0
  · exact br_t c0 (br_t rfl (br_t c0 ⟨rfl, J⟩))
  · by_cases c1 : f_addresses ≤ v1
    · exact br_f c0 (br_t c1 (br_t rfl (br_f c0 (br_f (Int32.not_lt.mpr c1) ⟨rfl, J⟩))))
    · obtain ⟨q, hq, rfl⟩ := nI_of c0
      have hqA : q < A := by
        rw [a2, nI_leI (by omega) hq] at c1; omega
      have iv : vp_in (nI q) 3 := vp_in_nI (by omega) (by decide)
      refine br_f c0 (br_f c1 (br_f (by decide) ⟨iv, nm_e (br_f c0 (br_t (Int32.not_le.mp c1) ⟨iv, nm_e ⟨rfl, ?_⟩⟩))⟩))
      refine wj_mkR ⟨i1, i2, i3, ?_, i5, i6, ⟨A, a1, a2, a3⟩, i8, fun z => absurd rfl z⟩
      intro x hx
      rw [nI_clamp hq]
      by_cases e : x = q
      · rw [e, pk_us]; exact wj_dg_15 _
      · rw [pk_un e]; exact i4 x hx
theorem i_vc_events {k : Nat} {u : SX} {v : SY} (I : i_Rel k u v) (hk : k + 5 ≤ 2562) : wpX_events (fun r => wpY_events (fun r' => r' = r ∧ i_Rel (k + 5) u v) v) u := by
  refine wj_el (P := fun u v => wpX_events (fun r => wpY_events (fun r' => r' = r ∧ i_Rel (k + 5) u v) v) u) ?_ I
  intro N Fn f_threads f_addresses f_solved f_found f_decisions f_outcomes a_threadOf a_addressOf a_constantOf a_reads a_writes a_acquiring a_releasing a_dependency a_fenceThread a_fenceKind a_fencePlace a_start a_wishRead a_wishMemory a_keys a_leastRun a_seen a_decideFirst a_decideSecond a_tried a_relation a_sequence a_memory a_got a_on a_outcome a_least a_shown a_order a_bound b_memory b_got h
  exact ⟨rfl, wj_mkR h⟩
theorem i_vc_wantRead {k : Nat} {u : SX} {v : SY} (I : i_Rel k u v) (hk : k + 5 ≤ 2562) (v1 : Int32) (v2 : Int32) : wpX_wantRead (fun r u' => wpY_wantRead (fun r' v' => r' = r ∧ i_Rel (k + 5) u' v') v v1 v2) u v1 v2 := by
  refine wj_el (P := fun u v => wpX_wantRead (fun r u' => wpY_wantRead (fun r' v' => r' = r ∧ i_Rel (k + 5) u' v') v v1 v2) u v1 v2) ?_ I
  intro N Fn f_threads f_addresses f_solved f_found f_decisions f_outcomes a_threadOf a_addressOf a_constantOf a_reads a_writes a_acquiring a_releasing a_dependency a_fenceThread a_fenceKind a_fencePlace a_start a_wishRead a_wishMemory a_keys a_leastRun a_seen a_decideFirst a_decideSecond a_tried a_relation a_sequence a_memory a_got a_on a_outcome a_least a_shown a_order a_bound b_memory b_got h
  have J := wj_mkR (N := N) (Fn := Fn) (f_threads := f_threads) (f_addresses := f_addresses) (f_solved := f_solved) (f_found := f_found) (f_decisions := f_decisions) (f_outcomes := f_outcomes) (a_threadOf := a_threadOf) (a_addressOf := a_addressOf) (a_constantOf := a_constantOf) (a_reads := a_reads) (a_writes := a_writes) (a_acquiring := a_acquiring) (a_releasing := a_releasing) (a_dependency := a_dependency) (a_fenceThread := a_fenceThread) (a_fenceKind := a_fenceKind) (a_fencePlace := a_fencePlace) (a_start := a_start) (a_wishRead := a_wishRead) (a_wishMemory := a_wishMemory) (a_keys := a_keys) (a_leastRun := a_leastRun) (a_seen := a_seen) (a_decideFirst := a_decideFirst) (a_decideSecond := a_decideSecond) (a_tried := a_tried) (a_relation := a_relation) (a_sequence := a_sequence) (a_memory := a_memory) (a_got := a_got) (a_on := a_on) (a_outcome := a_outcome) (a_least := a_least) (a_shown := a_shown) (a_order := a_order) (a_bound := a_bound) (b_memory := b_memory) (b_got := b_got) (k := k + 5) h
  obtain ⟨i1, i2, i3, i4, i5, i6, i7, i8, i9⟩ := h
  have h6 := i1.1
  unfold wpX_wantRead
  refine wj_xevt (fun a ha e1 => br_f (by decide) ?_) (fun c => br_t rfl ?_) h6
  · subst e1
    have ia : vp_in (nI a) 6 := vp_in_nI (by omega) (by decide)
    have nw : ∀ q : Int32, i_Rel (k + 5) (f_threads, f_addresses, nI N, nI Fn, f_solved, f_found, f_decisions, a_threadOf, a_addressOf, a_constantOf, a_reads, a_writes, a_acquiring, a_releasing, a_dependency, a_fenceThread, a_fenceKind, a_fencePlace, a_start, upd a_wishRead (nI a).toNatClampNeg q, a_wishMemory, a_keys, a_leastRun, a_seen, a_decideFirst, a_decideSecond, a_tried, a_relation, a_sequence, a_memory, a_got) (f_threads, f_addresses, nI N, nI Fn, f_solved, f_outcomes, a_threadOf, a_addressOf, a_constantOf, a_reads, a_writes, a_acquiring, a_releasing, a_on, a_fenceThread, a_fenceKind, a_fencePlace, a_start, upd a_wishRead (nI a).toNatClampNeg q, a_wishMemory, a_outcome, a_least, a_shown, a_order, a_bound, b_memory, b_got) := by
      intro q
      refine wj_mkR ⟨i1, i2, i3, i4, i5, i6, i7, ?_, i9⟩
      intro e h1 h2
      rw [nI_clamp (by omega), pk_un (by omega)]
      exact i8 e h1 h2
    refine ⟨ia, br_c (fun c => ?_) (fun c => br_c (fun d => ⟨ia, nm_e ?_⟩) (fun d => ⟨ia, nm_e ?_⟩))⟩
    · unfold wpY_wantRead
      exact wj_yev1 ha h6 (br_f (by decide) ⟨ia, br_t c ⟨rfl, J⟩⟩)
    · unfold wpY_wantRead
      exact wj_yev1 ha h6 (br_f (by decide) ⟨ia, br_f c (br_t d ⟨ia, nm_e ⟨rfl, nw _⟩⟩)⟩)
    · unfold wpY_wantRead
      exact wj_yev1 ha h6 (br_f (by decide) ⟨ia, br_f c (br_f d ⟨ia, nm_e ⟨rfl, nw _⟩⟩)⟩)
  · unfold wpY_wantRead
    exact wj_yev0 c (br_t rfl ⟨rfl, J⟩)
theorem i_vc_wantMemory {k : Nat} {u : SX} {v : SY} (I : i_Rel k u v) (hk : k + 5 ≤ 2562) (v1 : Int32) (v2 : Int32) : wpX_wantMemory (fun r u' => wpY_wantMemory (fun r' v' => r' = r ∧ i_Rel (k + 5) u' v') v v1 v2) u v1 v2 := by
  refine wj_el (P := fun u v => wpX_wantMemory (fun r u' => wpY_wantMemory (fun r' v' => r' = r ∧ i_Rel (k + 5) u' v') v v1 v2) u v1 v2) ?_ I
  intro N Fn f_threads f_addresses f_solved f_found f_decisions f_outcomes a_threadOf a_addressOf a_constantOf a_reads a_writes a_acquiring a_releasing a_dependency a_fenceThread a_fenceKind a_fencePlace a_start a_wishRead a_wishMemory a_keys a_leastRun a_seen a_decideFirst a_decideSecond a_tried a_relation a_sequence a_memory a_got a_on a_outcome a_least a_shown a_order a_bound b_memory b_got h
  have J := wj_mkR (N := N) (Fn := Fn) (f_threads := f_threads) (f_addresses := f_addresses) (f_solved := f_solved) (f_found := f_found) (f_decisions := f_decisions) (f_outcomes := f_outcomes) (a_threadOf := a_threadOf) (a_addressOf := a_addressOf) (a_constantOf := a_constantOf) (a_reads := a_reads) (a_writes := a_writes) (a_acquiring := a_acquiring) (a_releasing := a_releasing) (a_dependency := a_dependency) (a_fenceThread := a_fenceThread) (a_fenceKind := a_fenceKind) (a_fencePlace := a_fencePlace) (a_start := a_start) (a_wishRead := a_wishRead) (a_wishMemory := a_wishMemory) (a_keys := a_keys) (a_leastRun := a_leastRun) (a_seen := a_seen) (a_decideFirst := a_decideFirst) (a_decideSecond := a_decideSecond) (a_tried := a_tried) (a_relation := a_relation) (a_sequence := a_sequence) (a_memory := a_memory) (a_got := a_got) (a_on := a_on) (a_outcome := a_outcome) (a_least := a_least) (a_shown := a_shown) (a_order := a_order) (a_bound := a_bound) (b_memory := b_memory) (b_got := b_got) (k := k + 5) h
  obtain ⟨i1, i2, i3, i4, i5, i6, ⟨A, a1, a2, a3⟩, i8, i9⟩ := h
  unfold wpX_wantMemory
  by_cases c0 : v1 < 0
  · exact br_t c0 (br_t rfl (br_t c0 ⟨rfl, J⟩))
  · by_cases c1 : f_addresses ≤ v1
    · exact br_f c0 (br_t c1 (br_t rfl (br_f c0 (br_f (Int32.not_lt.mpr c1) ⟨rfl, J⟩))))
    · obtain ⟨q, hq, rfl⟩ := nI_of c0
      have hqA : q < A := by
        rw [a2, nI_leI (by omega) hq] at c1; omega
      have iv : vp_in (nI q) 3 := vp_in_nI (by omega) (by decide)
      have nw : ∀ y : Int32, i_Rel (k + 5) (f_threads, f_addresses, nI N, nI Fn, f_solved, f_found, f_decisions, a_threadOf, a_addressOf, a_constantOf, a_reads, a_writes, a_acquiring, a_releasing, a_dependency, a_fenceThread, a_fenceKind, a_fencePlace, a_start, a_wishRead, upd a_wishMemory (nI q).toNatClampNeg y, a_keys, a_leastRun, a_seen, a_decideFirst, a_decideSecond, a_tried, a_relation, a_sequence, a_memory, a_got) (f_threads, f_addresses, nI N, nI Fn, f_solved, f_outcomes, a_threadOf, a_addressOf, a_constantOf, a_reads, a_writes, a_acquiring, a_releasing, a_on, a_fenceThread, a_fenceKind, a_fencePlace, a_start, a_wishRead, upd a_wishMemory (nI q).toNatClampNeg y, a_outcome, a_least, a_shown, a_order, a_bound, b_memory, b_got) := by
        intro y
        refine wj_mkR ⟨i1, i2, i3, i4, i5, i6, ⟨A, a1, a2, ?_⟩, i8, i9⟩
        intro x h1 h2
        rw [nI_clamp hq, pk_un (by omega)]
        exact a3 x h1 h2
      exact br_f c0 (br_f c1 (br_f (by decide) (br_c (fun d => ⟨iv, nm_e (br_f c0 (br_t (Int32.not_le.mp c1) (br_t d ⟨iv, nm_e ⟨rfl, nw _⟩⟩)))⟩) (fun d => ⟨iv, nm_e (br_f c0 (br_t (Int32.not_le.mp c1) (br_f d ⟨iv, nm_e ⟨rfl, nw _⟩⟩)))⟩))))
end
section
/-! clear and the constructors -/
def wj_fl (k : Nat) (v : Int32) (w : Nat → Int32) : Nat → Int32 := fun i => if i < k then v else w i
theorem wj_fl_0 {v : Int32} {w : Nat → Int32} : wj_fl 0 v w = w := by
  funext i
  exact if_neg (Nat.not_lt_zero _)
theorem wj_fl_s {k : Nat} {v : Int32} {w : Nat → Int32} : upd (wj_fl k v w) k v = wj_fl (k + 1) v w := by
  funext i
  unfold upd wj_fl
  by_cases c : i = k
  · rw [if_pos c, if_pos (by omega)]
  · rw [if_neg c]
    by_cases d : i < k
    · rw [if_pos d, if_pos (by omega)]
    · rw [if_neg d, if_neg (by omega)]
theorem wj_fl_i {k i : Nat} {v : Int32} {w : Nat → Int32} (h : i < k) : wj_fl k v w i = v := if_pos h
section
variable {f_threads f_addresses f_count f_fences f_solved f_found f_decisions : Int32} {a_threadOf a_addressOf a_constantOf a_reads a_writes a_acquiring a_releasing a_dependency a_fenceThread a_fenceKind a_fencePlace a_start a_wishRead a_wishMemory a_leastRun a_seen a_decideFirst a_decideSecond a_tried a_sequence a_memory a_got : Nat → Int32} {a_keys a_relation : Nat → Int64}
theorem wj_xc64 {post : SX → Prop} : ∀ d k : Nat, k + d = 3 → post (f_threads, f_addresses, f_count, f_fences, f_solved, f_found, f_decisions, a_threadOf, a_addressOf, a_constantOf, a_reads, a_writes, a_acquiring, a_releasing, a_dependency, a_fenceThread, a_fenceKind, a_fencePlace, wj_fl 3 0 a_start, a_wishRead, wj_fl 3 (-1) a_wishMemory, a_keys, a_leastRun, a_seen, a_decideFirst, a_decideSecond, a_tried, a_relation, a_sequence, a_memory, a_got) → wX_clear_64 post f_threads f_addresses f_count f_fences f_solved f_found f_decisions (d + 1) (nI k) a_threadOf a_addressOf a_constantOf a_reads a_writes a_acquiring a_releasing a_dependency a_fenceThread a_fenceKind a_fencePlace (wj_fl k 0 a_start) a_wishRead (wj_fl k (-1) a_wishMemory) a_keys a_leastRun a_seen a_decideFirst a_decideSecond a_tried a_relation a_sequence a_memory a_got := by
  intro d
  induction d with
  | zero =>
    intro k hk h
    have : k = 3 := by omega
    subst this
    exact br_t (nI_le (a := 3) (b := 3) (by decide) (by decide)) h
  | succ d ih =>
    intro k hk h
    have ec : (nI k).toNatClampNeg = k := nI_clamp (by omega)
    exact br_f (nI_ge (a := k) (b := 3) (by omega) (by decide)) ⟨vp_in_nI (by omega) (by decide), nm_r (e' := wj_fl (k + 1) (-1) a_wishMemory) (by rw [ec, wj_fl_s]) ⟨vp_in_nI (by omega) (by decide), nm_r (e' := wj_fl (k + 1) 0 a_start) (by rw [ec, wj_fl_s]) (nm_r (nI_1 k) (ih (k + 1) (by omega) h))⟩⟩
theorem wj_xc43 {post : SX → Prop} : ∀ d k : Nat, k + d = 6 → post (f_threads, f_addresses, f_count, f_fences, f_solved, f_found, f_decisions, a_threadOf, a_addressOf, a_constantOf, a_reads, a_writes, a_acquiring, a_releasing, a_dependency, a_fenceThread, a_fenceKind, a_fencePlace, wj_fl 3 0 a_start, wj_fl 6 (-1) a_wishRead, wj_fl 3 (-1) a_wishMemory, a_keys, a_leastRun, a_seen, a_decideFirst, a_decideSecond, a_tried, a_relation, a_sequence, a_memory, a_got) → wX_clear_43 post f_threads f_addresses f_count f_fences f_solved f_found f_decisions (d + 1) (nI k) a_threadOf a_addressOf a_constantOf a_reads a_writes a_acquiring a_releasing a_dependency a_fenceThread a_fenceKind a_fencePlace a_start (wj_fl k (-1) a_wishRead) a_wishMemory a_keys a_leastRun a_seen a_decideFirst a_decideSecond a_tried a_relation a_sequence a_memory a_got := by
  intro d
  induction d with
  | zero =>
    intro k hk h
    have : k = 6 := by omega
    subst this
    refine br_t (nI_le (a := 6) (b := 6) (by decide) (by decide)) ⟨4, ?_⟩
    have := wj_xc64 (a_wishRead := wj_fl 6 (-1) a_wishRead) 3 0 rfl h
    rw [wj_fl_0, wj_fl_0] at this
    exact this
  | succ d ih =>
    intro k hk h
    have ec : (nI k).toNatClampNeg = k := nI_clamp (by omega)
    exact br_f (nI_ge (a := k) (b := 6) (by omega) (by decide)) ⟨vp_in_nI (by omega) (by decide), nm_r (e' := wj_fl (k + 1) (-1) a_wishRead) (by rw [ec, wj_fl_s]) (nm_r (nI_1 k) (ih (k + 1) (by omega) h))⟩
theorem wj_xc22 {post : SX → Prop} : ∀ d k : Nat, k + d = 24 → post (f_threads, f_addresses, f_count, f_fences, f_solved, f_found, f_decisions, a_threadOf, a_addressOf, a_constantOf, a_reads, a_writes, a_acquiring, a_releasing, wj_fl 24 0 a_dependency, a_fenceThread, a_fenceKind, a_fencePlace, wj_fl 3 0 a_start, wj_fl 6 (-1) a_wishRead, wj_fl 3 (-1) a_wishMemory, a_keys, a_leastRun, a_seen, a_decideFirst, a_decideSecond, a_tried, a_relation, a_sequence, a_memory, a_got) → wX_clear_22 post f_threads f_addresses f_count f_fences f_solved f_found f_decisions (d + 1) (nI k) a_threadOf a_addressOf a_constantOf a_reads a_writes a_acquiring a_releasing (wj_fl k 0 a_dependency) a_fenceThread a_fenceKind a_fencePlace a_start a_wishRead a_wishMemory a_keys a_leastRun a_seen a_decideFirst a_decideSecond a_tried a_relation a_sequence a_memory a_got := by
  intro d
  induction d with
  | zero =>
    intro k hk h
    have : k = 24 := by omega
    subst this
    refine br_t (nI_le (a := 24) (b := 24) (by decide) (by decide)) ⟨7, ?_⟩
    have := wj_xc43 (a_dependency := wj_fl 24 0 a_dependency) 6 0 rfl h
    rw [wj_fl_0] at this
    exact this
  | succ d ih =>
    intro k hk h
    have ec : (nI k).toNatClampNeg = k := nI_clamp (by omega)
    exact br_f (nI_ge (a := k) (b := 24) (by omega) (by decide)) ⟨vp_in_nI (by omega) (by decide), nm_r (e' := wj_fl (k + 1) 0 a_dependency) (by rw [ec, wj_fl_s]) (nm_r (nI_1 k) (ih (k + 1) (by omega) h))⟩
theorem wj_xclear {post : SX → Prop} (h : post (f_threads, f_addresses, 0, 0, 0, 0, f_decisions, a_threadOf, a_addressOf, a_constantOf, a_reads, a_writes, a_acquiring, a_releasing, wj_fl 24 0 a_dependency, a_fenceThread, a_fenceKind, a_fencePlace, wj_fl 3 0 a_start, wj_fl 6 (-1) a_wishRead, wj_fl 3 (-1) a_wishMemory, a_keys, a_leastRun, a_seen, a_decideFirst, a_decideSecond, a_tried, a_relation, a_sequence, a_memory, a_got)) : wpX_clear post (f_threads, f_addresses, f_count, f_fences, f_solved, f_found, f_decisions, a_threadOf, a_addressOf, a_constantOf, a_reads, a_writes, a_acquiring, a_releasing, a_dependency, a_fenceThread, a_fenceKind, a_fencePlace, a_start, a_wishRead, a_wishMemory, a_keys, a_leastRun, a_seen, a_decideFirst, a_decideSecond, a_tried, a_relation, a_sequence, a_memory, a_got) := by
  unfold wpX_clear
  have := wj_xc22 (f_count := 0) (f_fences := 0) (f_solved := 0) (f_found := 0) 24 0 rfl h
  rw [wj_fl_0] at this
  exact ⟨25, this⟩
end
section
variable {f_threads f_addresses f_n f_fences f_solved f_outcomes : Int32} {a_thread a_address a_constant a_reads a_writes a_acquiring a_releasing a_on a_fenceThread a_fenceKind a_fencePlace a_first a_wishRead a_wishEnd a_least a_shown a_order a_bound a_memory a_got : Nat → Int32} {a_outcome : Nat → Int64}
theorem wj_yc54 {post : SY → Prop} : ∀ d k : Nat, k + d = 3 → post (f_threads, f_addresses, f_n, f_fences, 0, 0, a_thread, a_address, a_constant, a_reads, a_writes, a_acquiring, a_releasing, a_on, a_fenceThread, a_fenceKind, a_fencePlace, wj_fl 3 0 a_first, a_wishRead, wj_fl 3 (-1) a_wishEnd, a_outcome, a_least, a_shown, a_order, a_bound, a_memory, a_got) → wY_clear_54 post f_threads f_addresses f_n f_fences f_solved f_outcomes (d + 1) (nI k) a_thread a_address a_constant a_reads a_writes a_acquiring a_releasing a_on a_fenceThread a_fenceKind a_fencePlace (wj_fl k 0 a_first) a_wishRead (wj_fl k (-1) a_wishEnd) a_outcome a_least a_shown a_order a_bound a_memory a_got := by
  intro d
  induction d with
  | zero =>
    intro k hk h
    have : k = 3 := by omega
    subst this
    exact br_t (nI_le (a := 3) (b := 3) (by decide) (by decide)) h
  | succ d ih =>
    intro k hk h
    have ec : (nI k).toNatClampNeg = k := nI_clamp (by omega)
    exact br_f (nI_ge (a := k) (b := 3) (by omega) (by decide)) ⟨vp_in_nI (by omega) (by decide), nm_r (e' := wj_fl (k + 1) (-1) a_wishEnd) (by rw [ec, wj_fl_s]) ⟨vp_in_nI (by omega) (by decide), nm_r (e' := wj_fl (k + 1) 0 a_first) (by rw [ec, wj_fl_s]) (nm_r (nI_1 k) (ih (k + 1) (by omega) h))⟩⟩
theorem wj_yc33 {post : SY → Prop} : ∀ d k : Nat, k + d = 6 → post (f_threads, f_addresses, f_n, f_fences, 0, 0, a_thread, a_address, a_constant, a_reads, a_writes, a_acquiring, a_releasing, a_on, a_fenceThread, a_fenceKind, a_fencePlace, wj_fl 3 0 a_first, wj_fl 6 (-1) a_wishRead, wj_fl 3 (-1) a_wishEnd, a_outcome, a_least, a_shown, a_order, a_bound, a_memory, a_got) → wY_clear_33 post f_threads f_addresses f_n f_fences f_solved f_outcomes (d + 1) (nI k) a_thread a_address a_constant a_reads a_writes a_acquiring a_releasing a_on a_fenceThread a_fenceKind a_fencePlace a_first (wj_fl k (-1) a_wishRead) a_wishEnd a_outcome a_least a_shown a_order a_bound a_memory a_got := by
  intro d
  induction d with
  | zero =>
    intro k hk h
    have : k = 6 := by omega
    subst this
    refine br_t (nI_le (a := 6) (b := 6) (by decide) (by decide)) ⟨4, ?_⟩
    have := wj_yc54 (f_solved := f_solved) (f_outcomes := f_outcomes) (a_wishRead := wj_fl 6 (-1) a_wishRead) 3 0 rfl h
    rw [wj_fl_0, wj_fl_0] at this
    exact this
  | succ d ih =>
    intro k hk h
    have ec : (nI k).toNatClampNeg = k := nI_clamp (by omega)
    exact br_f (nI_ge (a := k) (b := 6) (by omega) (by decide)) ⟨vp_in_nI (by omega) (by decide), nm_r (e' := wj_fl (k + 1) (-1) a_wishRead) (by rw [ec, wj_fl_s]) (nm_r (nI_1 k) (ih (k + 1) (by omega) h))⟩
theorem wj_yc12 {post : SY → Prop} : ∀ d k : Nat, k + d = 24 → post (f_threads, f_addresses, f_n, f_fences, 0, 0, a_thread, a_address, a_constant, a_reads, a_writes, a_acquiring, a_releasing, wj_fl 24 (-1) a_on, a_fenceThread, a_fenceKind, a_fencePlace, wj_fl 3 0 a_first, wj_fl 6 (-1) a_wishRead, wj_fl 3 (-1) a_wishEnd, a_outcome, a_least, a_shown, a_order, a_bound, a_memory, a_got) → wY_clear_12 post f_threads f_addresses f_n f_fences f_solved f_outcomes (d + 1) (nI k) a_thread a_address a_constant a_reads a_writes a_acquiring a_releasing (wj_fl k (-1) a_on) a_fenceThread a_fenceKind a_fencePlace a_first a_wishRead a_wishEnd a_outcome a_least a_shown a_order a_bound a_memory a_got := by
  intro d
  induction d with
  | zero =>
    intro k hk h
    have : k = 24 := by omega
    subst this
    refine br_t (nI_le (a := 24) (b := 24) (by decide) (by decide)) ⟨7, ?_⟩
    have := wj_yc33 (f_solved := f_solved) (f_outcomes := f_outcomes) (a_on := wj_fl 24 (-1) a_on) 6 0 rfl h
    rw [wj_fl_0] at this
    exact this
  | succ d ih =>
    intro k hk h
    have ec : (nI k).toNatClampNeg = k := nI_clamp (by omega)
    exact br_f (nI_ge (a := k) (b := 24) (by omega) (by decide)) ⟨vp_in_nI (by omega) (by decide), nm_r (e' := wj_fl (k + 1) (-1) a_on) (by rw [ec, wj_fl_s]) (nm_r (nI_1 k) (ih (k + 1) (by omega) h))⟩
theorem wj_yclear {post : SY → Prop} (h : post (f_threads, f_addresses, 0, 0, 0, 0, a_thread, a_address, a_constant, a_reads, a_writes, a_acquiring, a_releasing, wj_fl 24 (-1) a_on, a_fenceThread, a_fenceKind, a_fencePlace, wj_fl 3 0 a_first, wj_fl 6 (-1) a_wishRead, wj_fl 3 (-1) a_wishEnd, a_outcome, a_least, a_shown, a_order, a_bound, a_memory, a_got)) : wpY_clear post (f_threads, f_addresses, f_n, f_fences, f_solved, f_outcomes, a_thread, a_address, a_constant, a_reads, a_writes, a_acquiring, a_releasing, a_on, a_fenceThread, a_fenceKind, a_fencePlace, a_first, a_wishRead, a_wishEnd, a_outcome, a_least, a_shown, a_order, a_bound, a_memory, a_got) := by
  unfold wpY_clear
  have := wj_yc12 (f_n := 0) (f_fences := 0) (f_solved := f_solved) (f_outcomes := f_outcomes) 24 0 rfl h
  rw [wj_fl_0] at this
  exact ⟨25, this⟩
end
theorem wj_inv0 {f_threads f_addresses f_found f_outcomes : Int32} {a_threadOf a_addressOf a_constantOf a_reads a_writes a_acquiring a_releasing a_dependency a_fenceThread a_fenceKind a_fencePlace a_start a_wishRead a_wishMemory a_leastRun a_on a_least : Nat → Int32} {a_keys a_outcome : Nat → Int64} (hT : ∃ T, T ≤ 4 ∧ f_threads = nI T) (hA : ∃ A, A ≤ 3 ∧ f_addresses = nI A) : wj_inv 0 0 f_threads f_addresses 0 f_found f_outcomes a_threadOf a_addressOf a_constantOf a_reads a_writes a_acquiring a_releasing (wj_fl 24 0 a_dependency) a_fenceThread a_fenceKind a_fencePlace (wj_fl 3 0 a_start) (wj_fl 6 (-1) a_wishRead) (wj_fl 3 (-1) a_wishMemory) a_leastRun (wj_fl 24 (-1) a_on) a_least a_keys a_outcome := by
  obtain ⟨A, a1, a2⟩ := hA
  refine ⟨⟨by decide, fun e he => absurd he (Nat.not_lt_zero _), fun e he => absurd he (Nat.not_lt_zero _), fun i hi => Or.inl (wj_fl_i hi)⟩, fun e he => absurd he (Nat.not_lt_zero _), by decide, ?_, ?_, hT, ⟨A, a1, a2, ?_⟩, ?_, fun z => absurd rfl z⟩
  · intro x hx
    rw [wj_fl_i hx]; exact wj_dg_0
  · intro i hi
    rw [wj_fl_i hi, wj_fl_i hi]; decide
  · intro x _ hx
    rw [wj_fl_i hx]; decide
  · intro x _ hx
    rw [wj_fl_i hx]; decide
theorem i_vc_clear {k : Nat} {u : SX} {v : SY} (I : i_Rel k u v) (hk : k + 5 ≤ 2562) : wpX_clear (fun u' => wpY_clear (fun v' => i_Rel (k + 5) u' v') v) u := by
  refine wj_el (P := fun u v => wpX_clear (fun u' => wpY_clear (fun v' => i_Rel (k + 5) u' v') v) u) ?_ I
  intro N Fn f_threads f_addresses f_solved f_found f_decisions f_outcomes a_threadOf a_addressOf a_constantOf a_reads a_writes a_acquiring a_releasing a_dependency a_fenceThread a_fenceKind a_fencePlace a_start a_wishRead a_wishMemory a_keys a_leastRun a_seen a_decideFirst a_decideSecond a_tried a_relation a_sequence a_memory a_got a_on a_outcome a_least a_shown a_order a_bound b_memory b_got h
  obtain ⟨i1, i2, i3, i4, i5, i6, ⟨A, a1, a2, a3⟩, i8, i9⟩ := h
  refine wj_xclear ?_
  refine wj_yclear ?_
  exact wj_mkR (N := 0) (Fn := 0) (wj_inv0 (f_found := 0) (f_outcomes := 0) i6 ⟨A, a1, a2⟩)
theorem wj_clampI (x : Int32) (m : Nat) (M : Int32) (hM : M.toInt = m) (hm : m < 2 ^ 31) (h1 : 1 ≤ x) (h2 : x ≤ M) : ∃ T, T ≤ m ∧ x = nI T := by
  have g1 : ¬ x < 0 := by
    intro z
    rw [Int32.lt_iff_toInt_lt] at z
    rw [Int32.le_iff_toInt_le] at h1
    have g2 : (0 : Int32).toInt = 0 := by decide
    have g3 : (1 : Int32).toInt = 1 := by decide
    omega
  exact nI_of2 hM g1 h2
theorem wj_initv (k0 k1 : Int32) : ∃ t x : Int32, (∃ T, T ≤ 4 ∧ t = nI T) ∧ (∃ A, A ≤ 3 ∧ x = nI A) ∧ (∀ post : SX → Prop, wX_init_47 post x t 0 0 0 0 0 0 → wpX_init post k0 k1) ∧ (∀ post : SY → Prop, wY_init_215 post x t 0 0 0 0 0 (fun _ => 0) (fun _ => 0) (fun _ => 0) (fun _ => 0) (fun _ => 0) (fun _ => 0) (fun _ => 0) (fun _ => 0) (fun _ => 0) (fun _ => 0) (fun _ => 0) (fun _ => 0) (fun _ => 0) (fun _ => 0) (fun _ => 0) (fun _ => 0) (fun _ => 0) (fun _ => 0) (fun _ => 0) (fun _ => 0) (fun _ => 0) → wpY_init post k0 k1) := by
  have ht : ∃ t : Int32, (∃ T, T ≤ 4 ∧ t = nI T) ∧ (∀ post : SX → Prop, wX_init_24 post k1 t 0 0 0 0 0 0 0 → wpX_init post k0 k1) ∧ (∀ post : SY → Prop, wY_init_192 post k1 t 0 0 0 0 0 0 (fun _ => 0) (fun _ => 0) (fun _ => 0) (fun _ => 0) (fun _ => 0) (fun _ => 0) (fun _ => 0) (fun _ => 0) (fun _ => 0) (fun _ => 0) (fun _ => 0) (fun _ => 0) (fun _ => 0) (fun _ => 0) (fun _ => 0) (fun _ => 0) (fun _ => 0) (fun _ => 0) (fun _ => 0) (fun _ => 0) (fun _ => 0) → wpY_init post k0 k1) := by
    by_cases c1 : 1 ≤ k0
    · by_cases c2 : k0 ≤ 4
      · exact ⟨k0, wj_clampI k0 4 4 (by decide) (by decide) c1 c2, fun _ h => br_t c1 (br_t c2 h), fun _ h => br_t c1 (br_t c2 h)⟩
      · exact ⟨4, ⟨4, by decide, rfl⟩, fun _ h => br_t c1 (br_f c2 h), fun _ h => br_t c1 (br_f c2 h)⟩
    · exact ⟨1, ⟨1, by decide, rfl⟩, fun _ h => br_f c1 h, fun _ h => br_f c1 h⟩
  obtain ⟨t, hT, hX, hY⟩ := ht
  by_cases c1 : 1 ≤ k1
  · by_cases c2 : k1 ≤ 3
    · exact ⟨t, k1, hT, wj_clampI k1 3 3 (by decide) (by decide) c1 c2, fun p h => hX p (br_t c1 (br_t c2 h)), fun p h => hY p (br_t c1 (br_t c2 h))⟩
    · exact ⟨t, 3, hT, ⟨3, by decide, rfl⟩, fun p h => hX p (br_t c1 (br_f c2 h)), fun p h => hY p (br_t c1 (br_f c2 h))⟩
  · exact ⟨t, 1, hT, ⟨1, by decide, rfl⟩, fun p h => hX p (br_f c1 h), fun p h => hY p (br_f c1 h)⟩
theorem i_vc0 (k0 : Int32) (k1 : Int32) : wpX_init (fun u => wpY_init (fun v => i_Rel 2 u v) k0 k1) k0 k1 := by
  obtain ⟨t, x, hT, hA, hX, hY⟩ := wj_initv k0 k1
  refine hX _ ?_
  unfold wX_init_47
  refine wj_xclear ?_
  refine hY _ ?_
  unfold wY_init_215
  refine wj_yclear ?_
  exact wj_mkR (N := 0) (Fn := 0) (wj_inv0 (f_found := 0) (f_outcomes := 0) hT hA)
end
section
/-! readIn, memoryIn, runIn, wished -/
def wj_dgt (K : Int64) (s : Nat) : Int32 := (((K.toUInt64 >>> ((nI s).toInt64.toUInt64 &&& Int64.toUInt64 63)).toInt64).toInt32) &&& 15
theorem wj_shr {K s : Nat} (hK : K < 2 ^ 36) (hs : s < 64) : lN K >>> ((nI s).toInt64 &&& 63) = ((lN K).toUInt64 >>> ((nI s).toInt64.toUInt64 &&& Int64.toUInt64 63)).toInt64 := by
  have hD : (((nI s).toInt64 &&& 63).toBitVec.smod 64).toNat = s := by
    rw [wb_c s hs, wb_tb, wb_sm s hs, BitVec.toNat_ofNat]
    exact Nat.mod_eq_of_lt (Nat.lt_trans hs (by decide))
  rw [pf_shr hD (Nat.lt_trans hK (by decide)), wb_shr (Nat.lt_trans hK (by decide)) hs]
theorem wj_s8 {e : Nat} (he : e < 6) : (4 : Int32) * (8 - nI e) = nI (4 * (8 - e)) := by
  have h1 : (8 : Int32) - nI e = nI (8 - e) := pk_sub (a := 8) (b := e) (by omega)
  rw [h1]
  exact pk_mul 4 (8 - e)
theorem wj_s2 {x : Nat} (hx : x < 3) : (4 : Int32) * (2 - nI x) = nI (4 * (2 - x)) := by
  have h1 : (2 : Int32) - nI x = nI (2 - x) := pk_sub (a := 2) (b := x) (by omega)
  rw [h1]
  exact pk_mul 4 (2 - x)
theorem wj_s6 {x : Nat} (hx : x < 3) : (4 : Int32) * (8 - (6 + nI x)) = nI (4 * (2 - x)) := by
  have h0 : (6 : Int32) + nI x = nI (6 + x) := nI_add 6 x
  have h1 : (8 : Int32) - nI (6 + x) = nI (8 - (6 + x)) := pk_sub (a := 8) (b := 6 + x) (by omega)
  rw [h0, h1]
  have h2 : (4 : Int32) * nI (8 - (6 + x)) = nI (4 * (8 - (6 + x))) := pk_mul 4 (8 - (6 + x))
  rw [h2]
  congr 1
  omega
theorem wj_dX8 {K : Int64} {e : Nat} (he : e < 6) : (((K.toUInt64 >>> ((4 * (8 - nI e)).toInt64.toUInt64 &&& Int64.toUInt64 63)).toInt64).toInt32) &&& 15 = wj_dgt K (4 * (8 - e)) := by
  rw [wj_s8 he]; rfl
theorem wj_dX6 {K : Int64} {x : Nat} (hx : x < 3) : (((K.toUInt64 >>> ((4 * (8 - (6 + nI x))).toInt64.toUInt64 &&& Int64.toUInt64 63)).toInt64).toInt32) &&& 15 = wj_dgt K (4 * (2 - x)) := by
  rw [wj_s6 hx]; rfl
theorem wj_dY8 {K e : Nat} (hK : K < 2 ^ 36) (he : e < 6) : ((lN K >>> ((4 * (8 - nI e)).toInt64 &&& 63)).toInt32) &&& 15 = wj_dgt (lN K) (4 * (8 - e)) := by
  rw [wj_s8 he, wj_shr hK (by omega)]; rfl
theorem wj_dY2 {K x : Nat} (hK : K < 2 ^ 36) (hx : x < 3) : ((lN K >>> ((4 * (2 - nI x)).toInt64 &&& 63)).toInt32) &&& 15 = wj_dgt (lN K) (4 * (2 - x)) := by
  rw [wj_s2 hx, wj_shr hK (by omega)]; rfl
theorem wj_out_lt {N : Nat} {th ad cn rd wr on fi : Nat → Int32} (hp : wj_pg N th ad on) (hf : ∀ x, x < 3 → wj_dg (fi x)) {l : List Nat} (hl : wj_P N l) : wj_out ad cn rd wr on fi l < 2 ^ 36 :=
  wj_key_lt (wj_run_ok l _ ⟨fun x hx => hf x hx, fun _ => wj_dg_0⟩ (fun e he => (wj_pg_x hp ((wj_P_mem hl).mp he)).1))
theorem wj_rd1 {c N p : Nat} (hN : N ≤ 6) (hp : p < N) (hc : c < 8 ^ N) : ((nI (c * 8 ^ (6 - N))).toUInt32 >>> ((3 * (5 - nI p)).toUInt32 &&& Int32.toUInt32 31)).toInt32 = nI (c / 8 ^ (N - 1 - p)) := by
  have e1 : (3 : Int32) * (5 - nI p) = nI (3 * (5 - p)) := by
    have h1 : (5 : Int32) - nI p = nI (5 - p) := pk_sub (a := 5) (b := p) (by omega)
    rw [h1]
    exact pk_mul 3 (5 - p)
  have h2 : c * 8 ^ (6 - N) < 8 ^ N * 8 ^ (6 - N) := Nat.mul_lt_mul_of_pos_right hc (Nat.pow_pos (by decide))
  rw [← Nat.pow_add, show N + (6 - N) = 6 from by omega] at h2
  rw [e1, pk_ushrN (Nat.lt_trans h2 (by decide)) (nI (3 * (5 - p))) (3 * (5 - p)) (s_u _ (by omega))]
  congr 1
  have e2 : (2 : Nat) ^ (3 * (5 - p)) = 8 ^ (6 - N) * 8 ^ (N - 1 - p) := by
    rw [Nat.pow_mul, ← Nat.pow_add]
    congr 1
    omega
  rw [e2, Nat.mul_comm c, Nat.mul_div_mul_left _ _ (Nat.pow_pos (by decide))]
theorem wj_rd2 {c N p : Nat} (hN : N ≤ 6) (hp : p < N) (hc : c < 8 ^ N) : nI c >>> ((3 * ((nI N - 1) - nI p)) &&& 31) = nI (c / 8 ^ (N - 1 - p)) := by
  have e0 : nI N - 1 = nI (N - 1) := pk_sub (a := N) (b := 1) (by omega)
  have e1 : (3 : Int32) * ((nI N - 1) - nI p) = nI (3 * (N - 1 - p)) := by
    rw [e0, pk_sub (by omega)]
    exact pk_mul 3 (N - 1 - p)
  have h3 : (8 : Nat) ^ N ≤ 8 ^ 6 := Nat.pow_le_pow_right (by decide) hN
  rw [e1, pk_shrN (Nat.lt_of_lt_of_le hc (Nat.le_trans h3 (by decide))) (nI (3 * (N - 1 - p)) &&& 31) (3 * (N - 1 - p)) (s_l _ (by omega)), Nat.pow_mul]
theorem i_vc_readIn {k : Nat} {u : SX} {v : SY} (I : i_Rel k u v) (hk : k + 5 ≤ 2562) (v1 : Int32) (v2 : Int32) : wpX_readIn (fun r => wpY_readIn (fun r' => r' = r ∧ i_Rel (k + 5) u v) v v1 v2) u v1 v2 := by
  refine wj_el (P := fun u v => wpX_readIn (fun r => wpY_readIn (fun r' => r' = r ∧ i_Rel (k + 5) u v) v v1 v2) u v1 v2) ?_ I
  intro N Fn f_threads f_addresses f_solved f_found f_decisions f_outcomes a_threadOf a_addressOf a_constantOf a_reads a_writes a_acquiring a_releasing a_dependency a_fenceThread a_fenceKind a_fencePlace a_start a_wishRead a_wishMemory a_keys a_leastRun a_seen a_decideFirst a_decideSecond a_tried a_relation a_sequence a_memory a_got a_on a_outcome a_least a_shown a_order a_bound b_memory b_got h
  have J := wj_mkR (N := N) (Fn := Fn) (f_threads := f_threads) (f_addresses := f_addresses) (f_solved := f_solved) (f_found := f_found) (f_decisions := f_decisions) (f_outcomes := f_outcomes) (a_threadOf := a_threadOf) (a_addressOf := a_addressOf) (a_constantOf := a_constantOf) (a_reads := a_reads) (a_writes := a_writes) (a_acquiring := a_acquiring) (a_releasing := a_releasing) (a_dependency := a_dependency) (a_fenceThread := a_fenceThread) (a_fenceKind := a_fenceKind) (a_fencePlace := a_fencePlace) (a_start := a_start) (a_wishRead := a_wishRead) (a_wishMemory := a_wishMemory) (a_keys := a_keys) (a_leastRun := a_leastRun) (a_seen := a_seen) (a_decideFirst := a_decideFirst) (a_decideSecond := a_decideSecond) (a_tried := a_tried) (a_relation := a_relation) (a_sequence := a_sequence) (a_memory := a_memory) (a_got := a_got) (a_on := a_on) (a_outcome := a_outcome) (a_least := a_least) (a_shown := a_shown) (a_order := a_order) (a_bound := a_bound) (b_memory := b_memory) (b_got := b_got) (k := k + 5) h
  obtain ⟨i1, i2, i3, i4, i5, i6, i7, i8, i9⟩ := h
  have h6 := i1.1
  unfold wpX_readIn
  refine br_c (fun c => br_t c ⟨rfl, J⟩) (fun c => ?_)
  obtain ⟨F, hF, rfl, rfl, T, E⟩ := i9 c
  refine br_c (fun c0 => br_f c (br_t c0 ⟨rfl, J⟩)) (fun c0 => br_c (fun c1 => ?_) (fun c1 => br_f c (br_f c0 (br_f c1 ⟨rfl, J⟩))))
  obtain ⟨q, hq, rfl⟩ := nI_of c0
  have hqF : q < F := by rw [nI_ltI hq (by omega)] at c1; exact c1
  refine wj_xevt (fun a ha e1 => br_f (by decide) ?_) (fun d => br_t rfl ?_) h6
  · subst e1
    have ia : vp_in (nI a) 6 := vp_in_nI (by omega) (by decide)
    have iq : vp_in (nI q) 180 := vp_in_nI (by omega) (by decide)
    have eq : (nI q).toNatClampNeg = q := nI_clamp hq
    refine ⟨ia, br_c (fun d => ?_) (fun d => ⟨iq, ?_⟩)⟩
    · unfold wpY_readIn
      exact br_f c (br_f c0 (br_t c1 (wj_yev1 ha h6 (br_f (by decide) ⟨ia, br_t d ⟨rfl, J⟩⟩))))
    · unfold wpX_digit wpY_readIn
      refine br_f c (br_f c0 (br_t c1 (wj_yev1 ha h6 (br_f (by decide) ⟨ia, br_f d ⟨iq, ?_, J⟩⟩))))
      obtain ⟨l, hl, hK, _⟩ := T.2.1 q hqF
      rw [eq, (E q hqF).1, hK, wj_dX8 (by omega), wj_dY8 (wj_out_lt i1 i4 hl.1) (by omega)]
  · unfold wpY_readIn
    exact br_f c (br_f c0 (br_t c1 (wj_yev0 d (br_t rfl ⟨rfl, J⟩))))
theorem i_vc_memoryIn {k : Nat} {u : SX} {v : SY} (I : i_Rel k u v) (hk : k + 5 ≤ 2562) (v1 : Int32) (v2 : Int32) : wpX_memoryIn (fun r => wpY_memoryIn (fun r' => r' = r ∧ i_Rel (k + 5) u v) v v1 v2) u v1 v2 := by
  refine wj_el (P := fun u v => wpX_memoryIn (fun r => wpY_memoryIn (fun r' => r' = r ∧ i_Rel (k + 5) u v) v v1 v2) u v1 v2) ?_ I
  intro N Fn f_threads f_addresses f_solved f_found f_decisions f_outcomes a_threadOf a_addressOf a_constantOf a_reads a_writes a_acquiring a_releasing a_dependency a_fenceThread a_fenceKind a_fencePlace a_start a_wishRead a_wishMemory a_keys a_leastRun a_seen a_decideFirst a_decideSecond a_tried a_relation a_sequence a_memory a_got a_on a_outcome a_least a_shown a_order a_bound b_memory b_got h
  have J := wj_mkR (N := N) (Fn := Fn) (f_threads := f_threads) (f_addresses := f_addresses) (f_solved := f_solved) (f_found := f_found) (f_decisions := f_decisions) (f_outcomes := f_outcomes) (a_threadOf := a_threadOf) (a_addressOf := a_addressOf) (a_constantOf := a_constantOf) (a_reads := a_reads) (a_writes := a_writes) (a_acquiring := a_acquiring) (a_releasing := a_releasing) (a_dependency := a_dependency) (a_fenceThread := a_fenceThread) (a_fenceKind := a_fenceKind) (a_fencePlace := a_fencePlace) (a_start := a_start) (a_wishRead := a_wishRead) (a_wishMemory := a_wishMemory) (a_keys := a_keys) (a_leastRun := a_leastRun) (a_seen := a_seen) (a_decideFirst := a_decideFirst) (a_decideSecond := a_decideSecond) (a_tried := a_tried) (a_relation := a_relation) (a_sequence := a_sequence) (a_memory := a_memory) (a_got := a_got) (a_on := a_on) (a_outcome := a_outcome) (a_least := a_least) (a_shown := a_shown) (a_order := a_order) (a_bound := a_bound) (b_memory := b_memory) (b_got := b_got) (k := k + 5) h
  obtain ⟨i1, i2, i3, i4, i5, i6, ⟨A, a1, a2, a3⟩, i8, i9⟩ := h
  have h6 := i1.1
  unfold wpX_memoryIn
  refine br_c (fun c => br_t c ⟨rfl, J⟩) (fun c => ?_)
  obtain ⟨F, hF, rfl, rfl, T, E⟩ := i9 c
  refine br_c (fun c0 => br_f c (br_t c0 ⟨rfl, J⟩)) (fun c0 => br_c (fun c1 => ?_) (fun c1 => br_f c (br_f c0 (br_f c1 ⟨rfl, J⟩))))
  obtain ⟨q, hq, rfl⟩ := nI_of c0
  have hqF : q < F := by rw [nI_ltI hq (by omega)] at c1; exact c1
  have iq : vp_in (nI q) 180 := vp_in_nI (by omega) (by decide)
  have eq : (nI q).toNatClampNeg = q := nI_clamp hq
  by_cases d0 : v2 < 0
  · exact br_t d0 (br_t rfl (br_f c (br_f c0 (br_t c1 (br_t d0 ⟨rfl, J⟩)))))
  · by_cases d1 : f_addresses ≤ v2
    · exact br_f d0 (br_t d1 (br_t rfl (br_f c (br_f c0 (br_t c1 (br_f d0 (br_f (Int32.not_lt.mpr d1) ⟨rfl, J⟩)))))))
    · obtain ⟨x, hx, rfl⟩ := nI_of d0
      have hxA : x < A := by
        rw [a2, nI_leI (by omega) hx] at d1; omega
      refine br_f d0 (br_f d1 (br_f (by decide) ⟨iq, ?_⟩))
      unfold wpX_digit
      refine br_f c (br_f c0 (br_t c1 (br_f d0 (br_t (Int32.not_le.mp d1) ⟨iq, ?_, J⟩))))
      obtain ⟨l, hl, hK, _⟩ := T.2.1 q hqF
      rw [eq, (E q hqF).1, hK, wj_dX6 (by omega), wj_dY2 (wj_out_lt i1 i4 hl.1) (by omega)]
theorem i_vc_runIn {k : Nat} {u : SX} {v : SY} (I : i_Rel k u v) (hk : k + 5 ≤ 2562) (v1 : Int32) (v2 : Int32) : wpX_runIn (fun r => wpY_runIn (fun r' => r' = r ∧ i_Rel (k + 5) u v) v v1 v2) u v1 v2 := by
  refine wj_el (P := fun u v => wpX_runIn (fun r => wpY_runIn (fun r' => r' = r ∧ i_Rel (k + 5) u v) v v1 v2) u v1 v2) ?_ I
  intro N Fn f_threads f_addresses f_solved f_found f_decisions f_outcomes a_threadOf a_addressOf a_constantOf a_reads a_writes a_acquiring a_releasing a_dependency a_fenceThread a_fenceKind a_fencePlace a_start a_wishRead a_wishMemory a_keys a_leastRun a_seen a_decideFirst a_decideSecond a_tried a_relation a_sequence a_memory a_got a_on a_outcome a_least a_shown a_order a_bound b_memory b_got h
  have J := wj_mkR (N := N) (Fn := Fn) (f_threads := f_threads) (f_addresses := f_addresses) (f_solved := f_solved) (f_found := f_found) (f_decisions := f_decisions) (f_outcomes := f_outcomes) (a_threadOf := a_threadOf) (a_addressOf := a_addressOf) (a_constantOf := a_constantOf) (a_reads := a_reads) (a_writes := a_writes) (a_acquiring := a_acquiring) (a_releasing := a_releasing) (a_dependency := a_dependency) (a_fenceThread := a_fenceThread) (a_fenceKind := a_fenceKind) (a_fencePlace := a_fencePlace) (a_start := a_start) (a_wishRead := a_wishRead) (a_wishMemory := a_wishMemory) (a_keys := a_keys) (a_leastRun := a_leastRun) (a_seen := a_seen) (a_decideFirst := a_decideFirst) (a_decideSecond := a_decideSecond) (a_tried := a_tried) (a_relation := a_relation) (a_sequence := a_sequence) (a_memory := a_memory) (a_got := a_got) (a_on := a_on) (a_outcome := a_outcome) (a_least := a_least) (a_shown := a_shown) (a_order := a_order) (a_bound := a_bound) (b_memory := b_memory) (b_got := b_got) (k := k + 5) h
  obtain ⟨i1, i2, i3, i4, i5, i6, i7, i8, i9⟩ := h
  have h6 := i1.1
  unfold wpX_runIn
  refine br_c (fun c => br_t c ⟨rfl, J⟩) (fun c => ?_)
  obtain ⟨F, hF, rfl, rfl, T, E⟩ := i9 c
  refine br_c (fun c0 => br_f c (br_t c0 ⟨rfl, J⟩)) (fun c0 => br_c (fun c1 => ?_) (fun c1 => br_f c (br_f c0 (br_f c1 ⟨rfl, J⟩))))
  obtain ⟨q, hq, rfl⟩ := nI_of c0
  have hqF : q < F := by rw [nI_ltI hq (by omega)] at c1; exact c1
  have iq : vp_in (nI q) 180 := vp_in_nI (by omega) (by decide)
  have eq : (nI q).toNatClampNeg = q := nI_clamp hq
  by_cases d0 : v2 < 0
  · refine br_t d0 ?_
    unfold wpY_runIn
    exact br_f c (br_f c0 (br_t c1 (wj_yev0 (Or.inl d0) (br_t rfl ⟨rfl, J⟩))))
  · by_cases d1 : v2 < nI N
    · obtain ⟨p, hp, rfl⟩ := nI_of d0
      have hpN : p < N := by rw [nI_ltI hp (by omega)] at d1; exact d1
      refine br_f d0 (br_t d1 ⟨iq, ?_⟩)
      unfold wpY_runIn
      refine br_f c (br_f c0 (br_t c1 (wj_yev1 hpN h6 (br_f (by decide) ⟨iq, ?_, J⟩))))
      obtain ⟨cc, z1, z2, z3⟩ := (E q hqF).2
      rw [eq, z2, z3, wj_rd1 h6 hpN z1, wj_rd2 h6 hpN z1]
    · refine br_f d0 (br_f d1 ?_)
      unfold wpY_runIn
      exact br_f c (br_f c0 (br_t c1 (wj_yev0 (Or.inr (Int32.not_lt.mp d1)) (br_t rfl ⟨rfl, J⟩))))
/-- the outcome K meets the wishes -/
def wj_G1 (wR wM : Nat → Int32) (K : Int64) : Prop := (∀ e, e < 6 → wR e < 0 ∨ wj_dgt K (4 * (8 - e)) = wR e) ∧ ∀ x, x < 3 → wM x < 0 ∨ wj_dgt K (4 * (2 - x)) = wM x
section
variable {f_threads f_addresses f_count f_fences f_solved f_found f_decisions : Int32} {a_threadOf a_addressOf a_constantOf a_reads a_writes a_acquiring a_releasing a_dependency a_fenceThread a_fenceKind a_fencePlace a_start a_wishRead a_wishMemory a_leastRun a_seen a_decideFirst a_decideSecond a_tried a_sequence a_memory a_got : Nat → Int32} {a_keys a_relation : Nat → Int64}
variable {N A : Nat}
theorem wj_xm43 {post : Int32 → Prop} {K : Int64} (hA : A ≤ 3) (hM : ∀ x, A ≤ x → x < 3 → a_wishMemory x < 0) (hR : ∀ e, e < 6 → a_wishRead e < 0 ∨ wj_dgt K (4 * (8 - e)) = a_wishRead e) (h1 : wj_G1 a_wishRead a_wishMemory K → post 1) (h0 : ¬ wj_G1 a_wishRead a_wishMemory K → post 0) :
    ∀ d x : Nat, x + d = A → (∀ y, y < x → a_wishMemory y < 0 ∨ wj_dgt K (4 * (2 - y)) = a_wishMemory y) → wX_meetsWishes_43 post K f_threads (nI A) f_count f_fences f_solved f_found f_decisions a_threadOf a_addressOf a_constantOf a_reads a_writes a_acquiring a_releasing a_dependency a_fenceThread a_fenceKind a_fencePlace a_start a_wishRead a_wishMemory a_keys a_leastRun a_seen a_decideFirst a_decideSecond a_tried a_relation a_sequence a_memory a_got (d + 1) (nI x) := by
  intro d
  induction d with
  | zero =>
    intro x hx hy
    have : x = A := by omega
    subst this
    refine br_t (nI_le (Nat.le_refl _) (by omega)) (h1 ⟨hR, ?_⟩)
    intro y hy3
    by_cases c : y < x
    · exact hy y c
    · exact Or.inl (hM y (by omega) hy3)
  | succ d ih =>
    intro x hx hy
    have ex : (nI x).toNatClampNeg = x := nI_clamp (by omega)
    have ix : vp_in (nI x) 3 := vp_in_nI (by omega) (by decide)
    have nxt : (a_wishMemory x < 0 ∨ wj_dgt K (4 * (2 - x)) = a_wishMemory x) → wX_meetsWishes_43 post K f_threads (nI A) f_count f_fences f_solved f_found f_decisions a_threadOf a_addressOf a_constantOf a_reads a_writes a_acquiring a_releasing a_dependency a_fenceThread a_fenceKind a_fencePlace a_start a_wishRead a_wishMemory a_keys a_leastRun a_seen a_decideFirst a_decideSecond a_tried a_relation a_sequence a_memory a_got (d + 1) (nI (x + 1)) := by
      intro hx'
      refine ih (x + 1) (by omega) ?_
      intro y hy'
      by_cases c : y = x
      · rw [c]; exact hx'
      · exact hy y (by omega)
    refine br_f (nI_ge (by omega) (by omega)) ⟨ix, ?_⟩
    rw [ex]
    refine br_c (fun c => nm_r (nI_1 x) (nxt (Or.inl c))) (fun c => ?_)
    unfold wpX_digit
    rw [wj_dX6 (by omega)]
    refine ⟨ix, br_c (fun d' => nm_r (nI_1 x) (nxt (Or.inr d'))) (fun d' => h0 ?_)⟩
    intro z
    rcases z.2 x (by omega) with w | w
    · exact c w
    · exact d' w
theorem wj_xm2 {post : Int32 → Prop} {K : Int64} (hN : N ≤ 6) (hA : A ≤ 3) (hM : ∀ x, A ≤ x → x < 3 → a_wishMemory x < 0) (hR : ∀ e, N ≤ e → e < 6 → a_wishRead e < 0) (h1 : wj_G1 a_wishRead a_wishMemory K → post 1) (h0 : ¬ wj_G1 a_wishRead a_wishMemory K → post 0) :
    ∀ d e : Nat, e + d = N → (∀ y, y < e → a_wishRead y < 0 ∨ wj_dgt K (4 * (8 - y)) = a_wishRead y) → wX_meetsWishes_2 post K f_threads (nI A) (nI N) f_fences f_solved f_found f_decisions a_threadOf a_addressOf a_constantOf a_reads a_writes a_acquiring a_releasing a_dependency a_fenceThread a_fenceKind a_fencePlace a_start a_wishRead a_wishMemory a_keys a_leastRun a_seen a_decideFirst a_decideSecond a_tried a_relation a_sequence a_memory a_got (d + 1) (nI e) := by
  intro d
  induction d with
  | zero =>
    intro e he hy
    have : e = N := by omega
    subst this
    refine br_t (nI_le (Nat.le_refl _) (by omega)) ⟨A + 1, wj_xm43 hA hM ?_ h1 h0 A 0 (by omega) (fun y hy => absurd hy (Nat.not_lt_zero _))⟩
    intro y hy3
    by_cases c : y < e
    · exact hy y c
    · exact Or.inl (hR y (by omega) hy3)
  | succ d ih =>
    intro e he hy
    have ex : (nI e).toNatClampNeg = e := nI_clamp (by omega)
    have ix : vp_in (nI e) 6 := vp_in_nI (by omega) (by decide)
    have nxt : (a_wishRead e < 0 ∨ wj_dgt K (4 * (8 - e)) = a_wishRead e) → wX_meetsWishes_2 post K f_threads (nI A) (nI N) f_fences f_solved f_found f_decisions a_threadOf a_addressOf a_constantOf a_reads a_writes a_acquiring a_releasing a_dependency a_fenceThread a_fenceKind a_fencePlace a_start a_wishRead a_wishMemory a_keys a_leastRun a_seen a_decideFirst a_decideSecond a_tried a_relation a_sequence a_memory a_got (d + 1) (nI (e + 1)) := by
      intro hx'
      refine ih (e + 1) (by omega) ?_
      intro y hy'
      by_cases c : y = e
      · rw [c]; exact hx'
      · exact hy y (by omega)
    refine br_f (nI_ge (by omega) (by omega)) ⟨ix, ?_⟩
    rw [ex]
    refine br_c (fun c => nm_r (nI_1 e) (nxt (Or.inl c))) (fun c => ?_)
    unfold wpX_digit
    rw [wj_dX8 (by omega)]
    refine ⟨ix, br_c (fun d' => nm_r (nI_1 e) (nxt (Or.inr d'))) (fun d' => h0 ?_)⟩
    intro z
    rcases z.1 e (by omega) with w | w
    · exact c w
    · exact d' w
end
section
variable {f_threads f_addresses f_n f_fences f_solved f_outcomes : Int32} {a_thread a_address a_constant a_reads a_writes a_acquiring a_releasing a_on a_fenceThread a_fenceKind a_fencePlace a_first a_wishRead a_wishEnd a_least a_shown a_order a_bound a_memory a_got : Nat → Int32} {a_outcome : Nat → Int64}
theorem wj_yg55 {post : Int32 → Prop} {q K : Nat} (hq : q < 180) (hK : K < 2 ^ 36) (eK : a_outcome q = lN K) (hR : ∀ e, e < 6 → a_wishRead e < 0 ∨ wj_dgt (lN K) (4 * (8 - e)) = a_wishRead e) (h1 : wj_G1 a_wishRead a_wishEnd (lN K) → post 1) (h0 : ¬ wj_G1 a_wishRead a_wishEnd (lN K) → post 0) :
    ∀ d x : Nat, x + d = 3 → (∀ y, y < x → a_wishEnd y < 0 ∨ wj_dgt (lN K) (4 * (2 - y)) = a_wishEnd y) → wY_granted_55 post (nI q) f_threads f_addresses f_n f_fences f_solved f_outcomes a_thread a_address a_constant a_reads a_writes a_acquiring a_releasing a_on a_fenceThread a_fenceKind a_fencePlace a_first a_wishRead a_wishEnd a_outcome a_least a_shown a_order a_bound a_memory a_got (d + 1) (nI x) := by
  intro d
  induction d with
  | zero =>
    intro x hx hy
    have : x = 3 := by omega
    subst this
    exact br_t (nI_le (a := 3) (b := 3) (by decide) (by decide)) (h1 ⟨hR, hy⟩)
  | succ d ih =>
    intro x hx hy
    have ex : (nI x).toNatClampNeg = x := nI_clamp (by omega)
    have ix : vp_in (nI x) 3 := vp_in_nI (by omega) (by decide)
    have nxt : (a_wishEnd x < 0 ∨ wj_dgt (lN K) (4 * (2 - x)) = a_wishEnd x) → wY_granted_55 post (nI q) f_threads f_addresses f_n f_fences f_solved f_outcomes a_thread a_address a_constant a_reads a_writes a_acquiring a_releasing a_on a_fenceThread a_fenceKind a_fencePlace a_first a_wishRead a_wishEnd a_outcome a_least a_shown a_order a_bound a_memory a_got (d + 1) (nI (x + 1)) := by
      intro hx'
      refine ih (x + 1) (by omega) ?_
      intro y hy'
      by_cases c : y = x
      · rw [c]; exact hx'
      · exact hy y (by omega)
    refine br_f (nI_ge (a := x) (b := 3) (by omega) (by decide)) ⟨vp_in_nI hq (by decide), nm_r (e' := wj_dgt (lN K) (4 * (2 - x))) ?_ ⟨ix, ?_⟩⟩
    · rw [nI_clamp (n := q) (by omega), eK, wj_dY2 hK (by omega)]
    · rw [ex]
      refine br_c (fun c => nm_r (nI_1 x) (nxt (Or.inl c))) (fun c => ⟨ix, br_c (fun d' => nm_r (nI_1 x) (nxt (Or.inr d'.symm))) (fun d' => h0 ?_)⟩)
      intro z
      rcases z.2 x (by omega) with w | w
      · exact c w
      · exact d' w.symm
theorem wj_yg2 {post : Int32 → Prop} {q K : Nat} (hq : q < 180) (hK : K < 2 ^ 36) (eK : a_outcome q = lN K) (h1 : wj_G1 a_wishRead a_wishEnd (lN K) → post 1) (h0 : ¬ wj_G1 a_wishRead a_wishEnd (lN K) → post 0) :
    ∀ d e : Nat, e + d = 6 → (∀ y, y < e → a_wishRead y < 0 ∨ wj_dgt (lN K) (4 * (8 - y)) = a_wishRead y) → wY_granted_2 post (nI q) f_threads f_addresses f_n f_fences f_solved f_outcomes a_thread a_address a_constant a_reads a_writes a_acquiring a_releasing a_on a_fenceThread a_fenceKind a_fencePlace a_first a_wishRead a_wishEnd a_outcome a_least a_shown a_order a_bound a_memory a_got (d + 1) (nI e) := by
  intro d
  induction d with
  | zero =>
    intro e he hy
    have : e = 6 := by omega
    subst this
    exact br_t (nI_le (a := 6) (b := 6) (by decide) (by decide)) ⟨4, wj_yg55 hq hK eK hy h1 h0 3 0 rfl (fun y hy => absurd hy (Nat.not_lt_zero _))⟩
  | succ d ih =>
    intro e he hy
    have ex : (nI e).toNatClampNeg = e := nI_clamp (by omega)
    have ix : vp_in (nI e) 6 := vp_in_nI (by omega) (by decide)
    have nxt : (a_wishRead e < 0 ∨ wj_dgt (lN K) (4 * (8 - e)) = a_wishRead e) → wY_granted_2 post (nI q) f_threads f_addresses f_n f_fences f_solved f_outcomes a_thread a_address a_constant a_reads a_writes a_acquiring a_releasing a_on a_fenceThread a_fenceKind a_fencePlace a_first a_wishRead a_wishEnd a_outcome a_least a_shown a_order a_bound a_memory a_got (d + 1) (nI (e + 1)) := by
      intro hx'
      refine ih (e + 1) (by omega) ?_
      intro y hy'
      by_cases c : y = e
      · rw [c]; exact hx'
      · exact hy y (by omega)
    refine br_f (nI_ge (a := e) (b := 6) (by omega) (by decide)) ⟨vp_in_nI hq (by decide), nm_r (e' := wj_dgt (lN K) (4 * (8 - e))) ?_ ⟨ix, ?_⟩⟩
    · rw [nI_clamp (n := q) (by omega), eK, wj_dY8 hK (by omega)]
    · rw [ex]
      refine br_c (fun c => nm_r (nI_1 e) (nxt (Or.inl c))) (fun c => ⟨ix, br_c (fun d' => nm_r (nI_1 e) (nxt (Or.inr d'.symm))) (fun d' => h0 ?_)⟩)
      intro z
      rcases z.1 e (by omega) with w | w
      · exact c w
      · exact d' w.symm
end
section
variable {N : Nat} {Fn : Nat} {f_threads : Int32} {f_addresses : Int32} {f_solved : Int32} {f_found : Int32} {f_decisions : Int32} {f_outcomes : Int32} {a_threadOf : Nat → Int32} {a_addressOf : Nat → Int32} {a_constantOf : Nat → Int32} {a_reads : Nat → Int32} {a_writes : Nat → Int32} {a_acquiring : Nat → Int32} {a_releasing : Nat → Int32} {a_dependency : Nat → Int32} {a_fenceThread : Nat → Int32} {a_fenceKind : Nat → Int32} {a_fencePlace : Nat → Int32} {a_start : Nat → Int32} {a_wishRead : Nat → Int32} {a_wishMemory : Nat → Int32} {a_keys : Nat → Int64} {a_leastRun : Nat → Int32} {a_seen : Nat → Int32} {a_decideFirst : Nat → Int32} {a_decideSecond : Nat → Int32} {a_tried : Nat → Int32} {a_relation : Nat → Int64} {a_sequence : Nat → Int32} {a_memory : Nat → Int32} {a_got : Nat → Int32} {a_on : Nat → Int32} {a_outcome : Nat → Int64} {a_least : Nat → Int32} {a_shown : Nat → Int32} {a_order : Nat → Int32} {a_bound : Nat → Int32} {b_memory : Nat → Int32} {b_got : Nat → Int32}
theorem wj_wish {F A : Nat} (hF : F ≤ 180) (h6 : N ≤ 6) (hA : A ≤ 3) (hM : ∀ x, A ≤ x → x < 3 → a_wishMemory x < 0) (hR : ∀ e, N ≤ e → e < 6 → a_wishRead e < 0) (hK : ∀ i, i < F → a_outcome i = a_keys i ∧ ∃ K, K < 2 ^ 36 ∧ a_keys i = lN K) :
    ∀ d q c : Nat, q + d = F → ∃ r : Int32, (∀ post : Int32 → Prop, post r → wX_wished_14 post f_threads (nI A) (nI N) (nI Fn) f_solved (nI F) f_decisions a_threadOf a_addressOf a_constantOf a_reads a_writes a_acquiring a_releasing a_dependency a_fenceThread a_fenceKind a_fencePlace a_start a_wishRead a_wishMemory a_keys a_leastRun a_seen a_decideFirst a_decideSecond a_tried a_relation a_sequence a_memory a_got (d + 1) (nI c) (nI q)) ∧ (∀ post : Int32 → Prop, post r → wY_wished_14 post f_threads (nI A) (nI N) (nI Fn) f_solved (nI F) a_threadOf a_addressOf a_constantOf a_reads a_writes a_acquiring a_releasing a_on a_fenceThread a_fenceKind a_fencePlace a_start a_wishRead a_wishMemory a_outcome a_least a_shown a_order a_bound b_memory b_got (d + 1) (nI c) (nI q)) := by
  intro d
  induction d with
  | zero =>
    intro q c hq
    have : q = F := by omega
    subst this
    exact ⟨nI c, fun _ h => br_t (nI_le (Nat.le_refl _) (by omega)) h, fun _ h => br_t (nI_le (Nat.le_refl _) (by omega)) h⟩
  | succ d ih =>
    intro q c hq
    obtain ⟨e1, K, hK1, e2⟩ := hK q (by omega)
    have eq : (nI q).toNatClampNeg = q := nI_clamp (by omega)
    by_cases g : wj_G1 a_wishRead a_wishMemory (lN K)
    · obtain ⟨r, hX, hY⟩ := ih (q + 1) (c + 1) (by omega)
      refine ⟨r, fun post h => ?_, fun post h => ?_⟩
      · refine br_f (nI_ge (by omega) (by omega)) ⟨vp_in_nI (by omega) (by decide), ?_⟩
        rw [eq, e2]
        unfold wpX_meetsWishes
        exact ⟨N + 1, wj_xm2 h6 hA hM hR (fun _ => br_f (by decide) (nm_r (nI_1 c) (nm_r (nI_1 q) (hX post h)))) (fun z => absurd g z) N 0 (by omega) (fun y hy => absurd hy (Nat.not_lt_zero _))⟩
      · refine br_f (nI_ge (by omega) (by omega)) ?_
        unfold wpY_granted
        exact ⟨7, wj_yg2 (by omega) hK1 (e1.trans e2) (fun _ => br_f (by decide) (nm_r (nI_1 c) (nm_r (nI_1 q) (hY post h)))) (fun z => absurd g z) 6 0 rfl (fun y hy => absurd hy (Nat.not_lt_zero _))⟩
    · obtain ⟨r, hX, hY⟩ := ih (q + 1) c (by omega)
      refine ⟨r, fun post h => ?_, fun post h => ?_⟩
      · refine br_f (nI_ge (by omega) (by omega)) ⟨vp_in_nI (by omega) (by decide), ?_⟩
        rw [eq, e2]
        unfold wpX_meetsWishes
        exact ⟨N + 1, wj_xm2 h6 hA hM hR (fun z => absurd z g) (fun _ => br_t rfl (nm_r (nI_1 q) (hX post h))) N 0 (by omega) (fun y hy => absurd hy (Nat.not_lt_zero _))⟩
      · refine br_f (nI_ge (by omega) (by omega)) ?_
        unfold wpY_granted
        exact ⟨7, wj_yg2 (by omega) hK1 (e1.trans e2) (fun z => absurd z g) (fun _ => br_t rfl (nm_r (nI_1 q) (hY post h))) 6 0 rfl (fun y hy => absurd hy (Nat.not_lt_zero _))⟩
end
theorem i_vc_wished {k : Nat} {u : SX} {v : SY} (I : i_Rel k u v) (hk : k + 5 ≤ 2562) : wpX_wished (fun r => wpY_wished (fun r' => r' = r ∧ i_Rel (k + 5) u v) v) u := by
  refine wj_el (P := fun u v => wpX_wished (fun r => wpY_wished (fun r' => r' = r ∧ i_Rel (k + 5) u v) v) u) ?_ I
  intro N Fn f_threads f_addresses f_solved f_found f_decisions f_outcomes a_threadOf a_addressOf a_constantOf a_reads a_writes a_acquiring a_releasing a_dependency a_fenceThread a_fenceKind a_fencePlace a_start a_wishRead a_wishMemory a_keys a_leastRun a_seen a_decideFirst a_decideSecond a_tried a_relation a_sequence a_memory a_got a_on a_outcome a_least a_shown a_order a_bound b_memory b_got h
  have J := wj_mkR (N := N) (Fn := Fn) (f_threads := f_threads) (f_addresses := f_addresses) (f_solved := f_solved) (f_found := f_found) (f_decisions := f_decisions) (f_outcomes := f_outcomes) (a_threadOf := a_threadOf) (a_addressOf := a_addressOf) (a_constantOf := a_constantOf) (a_reads := a_reads) (a_writes := a_writes) (a_acquiring := a_acquiring) (a_releasing := a_releasing) (a_dependency := a_dependency) (a_fenceThread := a_fenceThread) (a_fenceKind := a_fenceKind) (a_fencePlace := a_fencePlace) (a_start := a_start) (a_wishRead := a_wishRead) (a_wishMemory := a_wishMemory) (a_keys := a_keys) (a_leastRun := a_leastRun) (a_seen := a_seen) (a_decideFirst := a_decideFirst) (a_decideSecond := a_decideSecond) (a_tried := a_tried) (a_relation := a_relation) (a_sequence := a_sequence) (a_memory := a_memory) (a_got := a_got) (a_on := a_on) (a_outcome := a_outcome) (a_least := a_least) (a_shown := a_shown) (a_order := a_order) (a_bound := a_bound) (b_memory := b_memory) (b_got := b_got) (k := k + 5) h
  obtain ⟨i1, i2, i3, i4, i5, i6, ⟨A, a1, rfl, a3⟩, i8, i9⟩ := h
  have h6 := i1.1
  unfold wpX_wished
  refine br_c (fun c => br_t c ⟨rfl, J⟩) (fun c => ?_)
  obtain ⟨F, hF, rfl, rfl, T, E⟩ := i9 c
  obtain ⟨r, hX, hY⟩ := wj_wish (N := N) (Fn := Fn) (f_solved := f_solved) (a_keys := a_keys) (a_outcome := a_outcome) (a_wishRead := a_wishRead) (a_wishMemory := a_wishMemory) hF h6 a1 a3 i8 (fun i hi => ⟨(E i hi).1, by
    obtain ⟨l, hl, hK, _⟩ := T.2.1 i hi
    exact ⟨_, wj_out_lt i1 i4 hl.1, hK⟩⟩) F 0 0 (by omega)
  refine ⟨F + 1, hX _ ?_⟩
  unfold wpY_wished
  exact br_f c ⟨F + 1, hY _ ⟨rfl, J⟩⟩
end
section
/-! solve, always, lost -/
theorem i_vc_solve {k : Nat} {u : SX} {v : SY} (I : i_Rel k u v) (hk : k + 5 ≤ 2562) : wpX_solve (fun r u' => wpY_solve (fun r' v' => r' = r ∧ i_Rel (k + 5) u' v') v) u := by
  refine wj_el (P := fun u v => wpX_solve (fun r u' => wpY_solve (fun r' v' => r' = r ∧ i_Rel (k + 5) u' v') v) u) ?_ I
  intro N Fn f_threads f_addresses f_solved f_found f_decisions f_outcomes a_threadOf a_addressOf a_constantOf a_reads a_writes a_acquiring a_releasing a_dependency a_fenceThread a_fenceKind a_fencePlace a_start a_wishRead a_wishMemory a_keys a_leastRun a_seen a_decideFirst a_decideSecond a_tried a_relation a_sequence a_memory a_got a_on a_outcome a_least a_shown a_order a_bound b_memory b_got h
  obtain ⟨i1, i2, i3, i4, i5, i6, i7, i8, i9⟩ := h
  have h6 := i1.1
  refine wj_xsolve i1 i5 i4 i3 i2 ?_
  intro F f_decisions a_decideFirst a_decideSecond f_found a_keys a_leastRun a_seen a_tried a_relation a_sequence a_memory a_got hF TX
  refine wj_ysolve i1 i4 i3 ?_
  intro F' K' L' O B mm g hF' TY
  obtain ⟨eF, E⟩ := wj_T_eq (q := 8 ^ (6 - N)) (B := 8 ^ N) TX TY (Nat.pow_pos (by decide)) (fun l hl => ⟨rfl, (wj_cX_lt h6 hl.1).1, (wj_cX_lt h6 hl.1).2.1, (wj_cX_lt h6 hl.1).2.2⟩)
  subst eF
  exact ⟨rfl, wj_mkR ⟨i1, i2, i3, i4, i5, i6, i7, i8, fun _ => ⟨F, hF, rfl, rfl, TX, fun i hi => ⟨(E i hi).1.symm, (E i hi).2⟩⟩⟩⟩
theorem i_vc_always {k : Nat} {u : SX} {v : SY} (I : i_Rel k u v) (hk : k + 5 ≤ 2562) (v1 : Int32) (v2 : Int32) : wpX_always (fun r => wpY_always (fun r' v' => r' = r ∧ i_Rel (k + 5) u v') v v1 v2) u v1 v2 := by
  refine wj_el (P := fun u v => wpX_always (fun r => wpY_always (fun r' v' => r' = r ∧ i_Rel (k + 5) u v') v v1 v2) u v1 v2) ?_ I
  intro N Fn f_threads f_addresses f_solved f_found f_decisions f_outcomes a_threadOf a_addressOf a_constantOf a_reads a_writes a_acquiring a_releasing a_dependency a_fenceThread a_fenceKind a_fencePlace a_start a_wishRead a_wishMemory a_keys a_leastRun a_seen a_decideFirst a_decideSecond a_tried a_relation a_sequence a_memory a_got a_on a_outcome a_least a_shown a_order a_bound b_memory b_got h
  have J := wj_mkR (N := N) (Fn := Fn) (f_threads := f_threads) (f_addresses := f_addresses) (f_solved := f_solved) (f_found := f_found) (f_decisions := f_decisions) (f_outcomes := f_outcomes) (a_threadOf := a_threadOf) (a_addressOf := a_addressOf) (a_constantOf := a_constantOf) (a_reads := a_reads) (a_writes := a_writes) (a_acquiring := a_acquiring) (a_releasing := a_releasing) (a_dependency := a_dependency) (a_fenceThread := a_fenceThread) (a_fenceKind := a_fenceKind) (a_fencePlace := a_fencePlace) (a_start := a_start) (a_wishRead := a_wishRead) (a_wishMemory := a_wishMemory) (a_keys := a_keys) (a_leastRun := a_leastRun) (a_seen := a_seen) (a_decideFirst := a_decideFirst) (a_decideSecond := a_decideSecond) (a_tried := a_tried) (a_relation := a_relation) (a_sequence := a_sequence) (a_memory := a_memory) (a_got := a_got) (a_on := a_on) (a_outcome := a_outcome) (a_least := a_least) (a_shown := a_shown) (a_order := a_order) (a_bound := a_bound) (b_memory := b_memory) (b_got := b_got) (k := k + 5) h
  have JJ := h
  obtain ⟨i1, i2, i3, i4, i5, i6, i7, i8, i9⟩ := h
  have h6 := i1.1
  unfold wpX_always
  refine wj_xevt (fun a ha e1 => br_f (by decide) ?_) (fun c => br_t rfl ?_) h6
  · subst e1
    refine wj_xevt (fun b hb e2 => br_f (by decide) ?_) (fun c => br_t rfl ?_) h6
    · subst e2
      obtain ⟨t1, t, ht, t2⟩ := wj_tab h6
      refine wj_xalw (post := fun r => wpY_always (fun r' v' => r' = r ∧ i_Rel (k + 5) (f_threads, f_addresses, nI N, nI Fn, f_solved, f_found, f_decisions, a_threadOf, a_addressOf, a_constantOf, a_reads, a_writes, a_acquiring, a_releasing, a_dependency, a_fenceThread, a_fenceKind, a_fencePlace, a_start, a_wishRead, a_wishMemory, a_keys, a_leastRun, a_seen, a_decideFirst, a_decideSecond, a_tried, a_relation, a_sequence, a_memory, a_got) v') (f_threads, f_addresses, nI N, nI Fn, f_solved, f_outcomes, a_threadOf, a_addressOf, a_constantOf, a_reads, a_writes, a_acquiring, a_releasing, a_on, a_fenceThread, a_fenceKind, a_fencePlace, a_start, a_wishRead, a_wishMemory, a_outcome, a_least, a_shown, a_order, a_bound, b_memory, b_got) (nI a) (nI b)) i1 i5 i3 ha hb ?_ ?_
      · intro hall
        unfold wpY_always
        refine wj_yev1 ha h6 (br_f (by decide) (wj_yev1 hb h6 (br_f (by decide) ?_)))
        refine wj_ystart h6 i3 ?_
        intro O B hO hB
        exact ⟨t.length + 2, wj_yalw1 i1 ha hb hB (fun _ O' => ⟨rfl, wj_mkR JJ⟩) (fun z => absurd hall z) t [] (List.range N) O ht hO (fun l0 hl0 => nomatch hl0)⟩
      · intro hall
        unfold wpY_always
        refine wj_yev1 ha h6 (br_f (by decide) (wj_yev1 hb h6 (br_f (by decide) ?_)))
        refine wj_ystart h6 i3 ?_
        intro O B hO hB
        exact ⟨t.length + 2, wj_yalw1 i1 ha hb hB (fun z => absurd z hall) (fun _ O' => ⟨rfl, wj_mkR JJ⟩) t [] (List.range N) O ht hO (fun l0 hl0 => nomatch hl0)⟩
    · unfold wpY_always
      exact wj_yev1 ha h6 (br_f (by decide) (wj_yev0 c (br_t rfl ⟨rfl, J⟩)))
  · unfold wpY_always
    exact wj_yev0 c (br_t rfl ⟨rfl, J⟩)
theorem i_vc_lost {k : Nat} {u : SX} {v : SY} (I : i_Rel k u v) (hk : k + 5 ≤ 2562) (v1 : Int32) (v2 : Int32) : wpX_lost (fun r u' => wpY_lost (fun r' v' => r' = r ∧ i_Rel (k + 5) u' v') v v1 v2) u v1 v2 := by
  refine wj_el (P := fun u v => wpX_lost (fun r u' => wpY_lost (fun r' v' => r' = r ∧ i_Rel (k + 5) u' v') v v1 v2) u v1 v2) ?_ I
  intro N Fn f_threads f_addresses f_solved f_found f_decisions f_outcomes a_threadOf a_addressOf a_constantOf a_reads a_writes a_acquiring a_releasing a_dependency a_fenceThread a_fenceKind a_fencePlace a_start a_wishRead a_wishMemory a_keys a_leastRun a_seen a_decideFirst a_decideSecond a_tried a_relation a_sequence a_memory a_got a_on a_outcome a_least a_shown a_order a_bound b_memory b_got h
  have J := wj_mkR (N := N) (Fn := Fn) (f_threads := f_threads) (f_addresses := f_addresses) (f_solved := f_solved) (f_found := f_found) (f_decisions := f_decisions) (f_outcomes := f_outcomes) (a_threadOf := a_threadOf) (a_addressOf := a_addressOf) (a_constantOf := a_constantOf) (a_reads := a_reads) (a_writes := a_writes) (a_acquiring := a_acquiring) (a_releasing := a_releasing) (a_dependency := a_dependency) (a_fenceThread := a_fenceThread) (a_fenceKind := a_fenceKind) (a_fencePlace := a_fencePlace) (a_start := a_start) (a_wishRead := a_wishRead) (a_wishMemory := a_wishMemory) (a_keys := a_keys) (a_leastRun := a_leastRun) (a_seen := a_seen) (a_decideFirst := a_decideFirst) (a_decideSecond := a_decideSecond) (a_tried := a_tried) (a_relation := a_relation) (a_sequence := a_sequence) (a_memory := a_memory) (a_got := a_got) (a_on := a_on) (a_outcome := a_outcome) (a_least := a_least) (a_shown := a_shown) (a_order := a_order) (a_bound := a_bound) (b_memory := b_memory) (b_got := b_got) (k := k + 5) h
  have JJ := h
  obtain ⟨i1, i2, i3, i4, i5, i6, i7, i8, i9⟩ := h
  have h6 := i1.1
  unfold wpX_lost
  refine br_c (fun c => br_t c ⟨rfl, J⟩) (fun c => ?_)
  obtain ⟨F, hF, rfl, rfl, T, E⟩ := i9 c
  refine wj_xevt (fun a ha e1 => br_f (by decide) ?_) (fun d => br_t rfl ?_) h6
  · subst e1
    refine wj_xevt (fun b hb e2 => br_f (by decide) ?_) (fun d => br_t rfl ?_) h6
    · subst e2
      by_cases e : a = b
      · refine br_t (by rw [e]) ?_
        unfold wpY_lost
        exact br_f c (wj_yev1 ha h6 (br_f (by decide) (wj_yev1 hb h6 (br_f (by decide) (br_t (by rw [e]) ⟨rfl, J⟩)))))
      · have ne : ¬ nI a = nI b := fun z => e ((nI_eq (by omega) (by omega)).mp z)
        refine br_f ne ?_
        refine wj_xlost i1 i5 i4 i3 i2 ha hb e hF T ?_
        intro sn f_decisions a_decideFirst a_decideSecond tr rl sq mm g Z
        unfold wpY_lost
        refine br_f c (wj_yev1 ha h6 (br_f (by decide) (wj_yev1 hb h6 (br_f (by decide) (br_f ne ?_)))))
        refine wj_ylost i1 i4 i3 ha hb hF ?_ ?_ ?_
        · intro i j hi hj hij
          rw [(E i hi).1, (E j hj).1] at hij
          rcases Nat.lt_trichotomy i j with w | w | w
          · have := T.1 i j w hj; rw [hij] at this; exact absurd this wj_lt_ir
          · exact w
          · have := T.1 j i w hi; rw [hij] at this; exact absurd this wj_lt_ir
        · intro l hl
          obtain ⟨i, z1, z2, _⟩ := T.2.2 l hl
          exact ⟨i, z1, (E i z1).1.trans z2⟩
        · intro sn' O B mm' g' Z'
          refine ⟨?_, wj_mkR JJ⟩
          congr 1
          refine wj_nz_cong F ?_
          intro i hi
          have z1 := Z i hi
          have z2 := Z' i hi
          rw [(E i hi).1, ← z1] at z2
          exact Decidable.not_iff_not.mp z2
    · unfold wpY_lost
      exact br_f c (wj_yev1 ha h6 (br_f (by decide) (wj_yev0 d (br_t rfl ⟨rfl, J⟩))))
  · unfold wpY_lost
    exact br_f c (wj_yev0 d (br_t rfl ⟨rfl, J⟩))
end
