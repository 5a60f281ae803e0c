section
theorem pk_us {f : Nat → Int32} {k : Nat} {x : Int32} : upd f k x k = x := if_pos rfl
theorem pk_un {f : Nat → Int32} {k j : Nat} {x : Int32} (h : j ≠ k) : upd f k x j = f j := if_neg h
theorem pk_sub {a b : Nat} (h : b ≤ a) : nI a - nI b = nI (a - b) := by
  obtain ⟨c, rfl⟩ : ∃ c, a = c + b := ⟨a - b, by omega⟩
  rw [← nI_add, Int32.add_sub_cancel, Nat.add_sub_cancel]
theorem pk_m1 (n : Nat) : nI (n + 1) + (-1) = nI n := by
  rw [← nI_1, Int32.add_assoc, show (1 : Int32) + (-1) = 0 from rfl, Int32.add_zero]
theorem pk_mul (a b : Nat) : nI a * nI b = nI (a * b) := (Int32.ofNat_mul a b).symm
theorem pk_div {a d : Nat} (ha : a < 2 ^ 31) (h0 : 0 < d) (hd : d < 2 ^ 31) : nI a / nI d = nI (a / d) := by
  apply Int32.toInt_inj.mp
  rw [lg_idiv_nonneg (by rw [nI_toInt ha]; omega) (by rw [nI_toInt hd]; omega), nI_toInt ha, nI_toInt hd, nI_toInt (Nat.lt_of_le_of_lt (Nat.div_le_self a d) ha)]
  first | rfl | exact (Int.natCast_ediv _ _).symm
theorem pk_rem {a d : Nat} (ha : a < 2 ^ 31) (h0 : 0 < d) (hd : d < 2 ^ 31) : nI a - nI a / nI d * nI d = nI (a % d) := by
  rw [pk_div ha h0 hd, pk_mul, pk_sub (Nat.div_mul_le_self a d)]
  exact congrArg nI (by have := Nat.div_add_mod' a d; omega)
theorem pk_sub_toInt {a b : Nat} (ha : a < 2 ^ 30) (hb : b < 2 ^ 30) : (nI a - nI b).toInt = (a : Int) - b := by
  rw [Int32.toInt_sub, nI_toInt (by omega), nI_toInt (by omega)]
  exact Int.bmod_eq_of_le (by omega) (by omega)
theorem pk_sneg {a b : Nat} (hb : b < 2 ^ 30) (h : a < b) : nI a - nI b < 0 := by
  rw [Int32.lt_iff_toInt_lt, pk_sub_toInt (by omega) hb, show (0 : Int32).toInt = 0 from by decide]
  omega
theorem pk_ix (x : Int32) {n : Nat} (hn : n < 2 ^ 31) : x < 0 ∨ nI n ≤ x ∨ ∃ j : Nat, j < n ∧ x = nI j := by
  by_cases h : x < 0
  · exact Or.inl h
  · obtain ⟨j, hj, rfl⟩ := nI_of h
    by_cases h2 : j < n
    · exact Or.inr (Or.inr ⟨j, h2, rfl⟩)
    · exact Or.inr (Or.inl (nI_le (by omega) hj))
theorem pk_le {x y : Int32} {A B : Prop} (a b : Nat) (f : a ≤ b → A) (g : b < a → B) (hx : x = nI a := by rfl) (hy : y = nI b := by rfl) (ha : a < 2 ^ 31 := by omega) (hb : b < 2 ^ 31 := by omega) : (x ≤ y → A) ∧ (¬ x ≤ y → B) := by
  subst hx hy
  rw [nI_leI ha hb]
  exact ⟨f, fun z => g (by omega)⟩
theorem pk_lt {x y : Int32} {A B : Prop} (a b : Nat) (f : a < b → A) (g : b ≤ a → B) (hx : x = nI a := by rfl) (hy : y = nI b := by rfl) (ha : a < 2 ^ 31 := by omega) (hb : b < 2 ^ 31 := by omega) : (x < y → A) ∧ (¬ x < y → B) := by
  subst hx hy
  rw [nI_ltI ha hb]
  exact ⟨f, fun z => g (by omega)⟩
theorem pk_eq {x y : Int32} {A B : Prop} (a b : Nat) (f : a = b → A) (g : a ≠ b → B) (hx : x = nI a := by rfl) (hy : y = nI b := by rfl) (ha : a < 2 ^ 31 := by omega) (hb : b < 2 ^ 31 := by omega) : (x = y → A) ∧ (¬ x = y → B) := by
  subst hx hy
  rw [nI_eq ha hb]
  exact ⟨f, g⟩
theorem pk_in {x : Int32} (n N : Nat) (h : n < N) (hx : x = nI n := by rfl) (hN : N < 2 ^ 31 := by omega) : vp_in x N := by
  subst hx
  exact vp_in_nI h hN
theorem pk_cl {x : Int32} (n : Nat) (hx : x = nI n := by rfl) (h : n < 2 ^ 31 := by omega) : x.toNatClampNeg = n := by
  subst hx
  exact nI_clamp h
theorem pk_tn {n : Nat} (h : n < 2 ^ 32) : (nI n).toBitVec.toNat = n := Nat.mod_eq_of_lt h
theorem pk_and (x : Int32) {m : Int32} (k : Nat) (hm : m.toBitVec.toNat = 2 ^ k - 1) : x &&& m = nI (x.toBitVec.toNat % 2 ^ k) := by
  apply Int32.toBitVec_inj.mp
  apply BitVec.eq_of_toNat_eq
  rw [Int32.toBitVec_and, BitVec.toNat_and, hm, Nat.and_two_pow_sub_one_eq_mod]
  show _ = (BitVec.ofNat 32 _).toNat
  rw [BitVec.toNat_ofNat]
  exact (Nat.mod_eq_of_lt (Nat.lt_of_le_of_lt (Nat.mod_le _ _) x.toBitVec.isLt)).symm
theorem pk_andN {n : Nat} (h : n < 2 ^ 32) {m : Int32} (k : Nat) (hm : m.toBitVec.toNat = 2 ^ k - 1) : nI n &&& m = nI (n % 2 ^ k) := by
  rw [pk_and _ k hm, pk_tn h]
theorem pk_andE (x : Int32) {m : Int32} (k : Nat) (hm : m.toBitVec.toNat = 2 ^ k - 1) : ∃ j : Nat, j < 2 ^ k ∧ x &&& m = nI j := ⟨_, Nat.mod_lt _ (Nat.two_pow_pos k), pk_and x k hm⟩
theorem pk_andIn (x : Int32) {m : Int32} (k : Nat) (hm : m.toBitVec.toNat = 2 ^ k - 1) (hk : k ≤ 30) : vp_in (x &&& m) (2 ^ k) := by
  obtain ⟨j, hj, e⟩ := pk_andE x k hm
  rw [e]
  exact vp_in_nI hj (Nat.lt_of_le_of_lt (Nat.pow_le_pow_right (by decide) hk) (by decide))
theorem pk_shl (a s : Int32) (k : Nat) (hs : (s.toBitVec.smod 32).toNat = k) : (a <<< s).toBitVec.toNat = a.toBitVec.toNat * 2 ^ k % 2 ^ 32 := by
  show (a.toBitVec <<< (s.toBitVec.smod 32).toNat).toNat = _
  rw [hs, BitVec.toNat_shiftLeft, Nat.shiftLeft_eq]
theorem pk_shlN {n : Nat} (s : Int32) (k : Nat) (hs : (s.toBitVec.smod 32).toNat = k) (h : n * 2 ^ k < 2 ^ 32) : nI n <<< s = nI (n * 2 ^ k) := by
  apply Int32.toBitVec_inj.mp
  apply BitVec.eq_of_toNat_eq
  have hn : n < 2 ^ 32 := Nat.lt_of_le_of_lt (Nat.le_mul_of_pos_right n (Nat.two_pow_pos k)) h
  rw [pk_shl _ _ k hs, pk_tn hn, pk_tn h, Nat.mod_eq_of_lt h]
theorem pk_shr (a s : Int32) (k : Nat) (hs : (s.toBitVec.smod 32).toNat = k) : (a >>> s).toInt = a.toInt >>> k := by
  show (a.toBitVec.sshiftRight (s.toBitVec.smod 32).toNat).toInt = _
  rw [hs, BitVec.toInt_sshiftRight]
  rfl
theorem pk_shrN {n : Nat} (h : n < 2 ^ 31) (s : Int32) (k : Nat) (hs : (s.toBitVec.smod 32).toNat = k) : nI n >>> s = nI (n / 2 ^ k) := by
  apply Int32.toInt_inj.mp
  have h2 : n / 2 ^ k ≤ n := Nat.div_le_self _ _
  rw [pk_shr _ _ k hs, nI_toInt h, nI_toInt (by omega), Int.shiftRight_eq_div_pow]
  rfl
theorem pk_ushr (x s : Int32) (k : Nat) (hs : ((s.toUInt32 &&& Int32.toUInt32 31).toBitVec % 32).toNat = k) : (x.toUInt32 >>> (s.toUInt32 &&& Int32.toUInt32 31)).toInt32.toBitVec.toNat = x.toBitVec.toNat / 2 ^ k := by
  have e : (x.toUInt32 >>> (s.toUInt32 &&& Int32.toUInt32 31)).toInt32.toBitVec = x.toBitVec >>> k := by
    rw [← hs]
    exact UInt32.toBitVec_shiftRight _ _
  rw [e, BitVec.toNat_ushiftRight, Nat.shiftRight_eq_div_pow]
theorem pk_ushrN {n : Nat} (hn : n < 2 ^ 32) (s : Int32) (k : Nat) (hs : ((s.toUInt32 &&& Int32.toUInt32 31).toBitVec % 32).toNat = k) : ((nI n).toUInt32 >>> (s.toUInt32 &&& Int32.toUInt32 31)).toInt32 = nI (n / 2 ^ k) := by
  apply Int32.toBitVec_inj.mp
  apply BitVec.eq_of_toNat_eq
  rw [pk_ushr _ s k hs, pk_tn hn, pk_tn (Nat.lt_of_le_of_lt (Nat.div_le_self _ _) hn)]
def bt (x : Int32) (i : Nat) : Bool := x.toBitVec.getLsbD i
theorem b_ext {x y : Int32} (h : ∀ i, i < 32 → bt x i = bt y i) : x = y := Int32.toBitVec_inj.mp (BitVec.eq_of_getLsbD_eq (fun i hi => h i hi))
theorem b_or (x y : Int32) (i : Nat) : bt (x ||| y) i = (bt x i || bt y i) := by unfold bt; rw [Int32.toBitVec_or, BitVec.getLsbD_or]
theorem b_and (x y : Int32) (i : Nat) : bt (x &&& y) i = (bt x i && bt y i) := by unfold bt; rw [Int32.toBitVec_and, BitVec.getLsbD_and]
theorem b_xor (x y : Int32) (i : Nat) : bt (x ^^^ y) i = (bt x i ^^ bt y i) := by unfold bt; rw [Int32.toBitVec_xor, BitVec.getLsbD_xor]
theorem b_big {x : Int32} {i : Nat} (h : 32 ≤ i) : bt x i = false := BitVec.getLsbD_of_ge _ _ h
theorem b_255 (i : Nat) : bt 255 i = decide (i < 8) := by
  rcases Nat.lt_or_ge i 32 with h | h
  · exact (by decide +kernel : ∀ i, i < 32 → bt 255 i = decide (i < 8)) i h
  · rw [b_big h, decide_eq_false (by omega)]
theorem b_65535 (i : Nat) : bt 65535 i = decide (i < 16) := by
  rcases Nat.lt_or_ge i 32 with h | h
  · exact (by decide +kernel : ∀ i, i < 32 → bt 65535 i = decide (i < 16)) i h
  · rw [b_big h, decide_eq_false (by omega)]
theorem b_m1 : ∀ i, i < 32 → bt (-1) i = true := by decide +kernel
theorem b_0 (i : Nat) : bt 0 i = false := BitVec.getLsbD_zero
theorem s_l : ∀ n, n < 32 → ((nI n &&& 31).toBitVec.smod 32).toNat = n := by decide +kernel
theorem s_u : ∀ n, n < 32 → (((nI n).toUInt32 &&& Int32.toUInt32 31).toBitVec % 32).toNat = n := by decide +kernel
theorem b_shl (n : Nat) (hn : n < 32) (x : Int32) {i : Nat} (hi : i < 32) : bt (x <<< (nI n &&& 31)) i = (decide (n ≤ i) && bt x (i - n)) := by
  unfold bt
  rw [Int32.toBitVec_shiftLeft]
  show (x.toBitVec <<< ((nI n &&& 31).toBitVec.smod 32).toNat).getLsbD i = _
  rw [s_l n hn, BitVec.getLsbD_shiftLeft]
  rcases Nat.lt_or_ge i n with h | h
  · simp [h, Nat.not_le.mpr h]
  · simp [hi, h, Nat.not_lt.mpr h]
theorem b_ushr (n : Nat) (hn : n < 32) (x : Int32) (i : Nat) : bt ((x.toUInt32 >>> ((nI n).toUInt32 &&& Int32.toUInt32 31)).toInt32) i = bt x (n + i) := by
  show (x.toUInt32 >>> ((nI n).toUInt32 &&& Int32.toUInt32 31)).toBitVec.getLsbD i = x.toUInt32.toBitVec.getLsbD (n + i)
  rw [UInt32.toBitVec_shiftRight]
  show (x.toUInt32.toBitVec >>> (((nI n).toUInt32 &&& Int32.toUInt32 31).toBitVec % 32).toNat).getLsbD i = _
  rw [s_u n hn, BitVec.getLsbD_ushiftRight]
theorem b_sshr (n : Nat) (hn : n < 32) (x : Int32) {i : Nat} (hi : i < 32) : bt (x >>> (nI n &&& 31)) i = if n + i < 32 then bt x (n + i) else bt x 31 := by
  unfold bt
  rw [Int32.toBitVec_shiftRight]
  show (x.toBitVec.sshiftRight ((nI n &&& 31).toBitVec.smod 32).toNat).getLsbD i = _
  rw [s_l n hn, BitVec.getLsbD_sshiftRight, BitVec.msb_eq_getLsbD_last]
  simp [hi]
theorem b_shl8 (x : Int32) {i : Nat} (hi : i < 32) : bt (x <<< ((8 : Int32) &&& 31)) i = (decide (8 ≤ i) && bt x (i - 8)) := b_shl 8 (by omega) x hi
theorem b_shl16 (x : Int32) {i : Nat} (hi : i < 32) : bt (x <<< ((16 : Int32) &&& 31)) i = (decide (16 ≤ i) && bt x (i - 16)) := b_shl 16 (by omega) x hi
theorem b_shl24 (x : Int32) {i : Nat} (hi : i < 32) : bt (x <<< ((24 : Int32) &&& 31)) i = (decide (24 ≤ i) && bt x (i - 24)) := b_shl 24 (by omega) x hi
theorem b_sshr8 (x : Int32) {i : Nat} (hi : i < 32) : bt (x >>> ((8 : Int32) &&& 31)) i = if 8 + i < 32 then bt x (8 + i) else bt x 31 := b_sshr 8 (by omega) x hi
/-! ===== nI under and, xor, >>>, one bit, 65535 ===== -/
theorem nx_and (a b : Nat) : nI a &&& nI b = nI (a &&& b) := by
  apply Int32.toBitVec_inj.1
  show BitVec.ofNat 32 a &&& BitVec.ofNat 32 b = BitVec.ofNat 32 (a &&& b)
  apply BitVec.eq_of_getLsbD_eq
  intro i hi
  simp [hi]
theorem nx_xor (a b : Nat) : nI a ^^^ nI b = nI (a ^^^ b) := by
  apply Int32.toBitVec_inj.1
  show BitVec.ofNat 32 a ^^^ BitVec.ofNat 32 b = BitVec.ofNat 32 (a ^^^ b)
  apply BitVec.eq_of_getLsbD_eq
  intro i hi
  simp [hi]
end
section
/-! base: 0 and 1, ranges, folds of steps, glue, index arithmetic -/
def tl_b (b : Bool) : Int32 := if b then 1 else 0
theorem tl_b01 (b : Bool) : tl_b b = nI b.toNat := by cases b <;> rfl
theorem tl_nar (b : Bool) : vp_nar .boolean (tl_b b) = tl_b b := by cases b <;> rfl
theorem tl_b1 {b : Bool} : tl_b b = 1 ↔ b = true := by cases b <;> decide
theorem tl_b0 {b : Bool} : tl_b b = 0 ↔ b = false := by cases b <;> decide
theorem tl_bor (a b : Bool) : tl_b a ||| tl_b b = tl_b (a || b) := by cases a <;> cases b <;> decide
def tl_U (N : Nat) (a : Nat → Int32) : Prop := ∀ i, ∃ n : Nat, n ≤ N ∧ a i = nI n
theorem tl_U0 (N : Nat) : tl_U N (fun _ => 0) := fun _ => ⟨0, Nat.zero_le _, rfl⟩
theorem tl_Uu {N : Nat} {a : Nat → Int32} {k : Nat} {x : Int32} (h : tl_U N a) (e : ∃ n : Nat, n ≤ N ∧ x = nI n) : tl_U N (upd a k x) := by
  intro i
  by_cases hi : i = k
  · rw [hi, pk_us]; exact e
  · rw [pk_un hi]; exact h i
def tl_fo {A : Type} (F : Nat → A → A) : Nat → A → A
  | 0, c => c
  | n + 1, c => F n (tl_fo F n c)
theorem tl_fo_s {A : Type} (F : Nat → A → A) (n : Nat) (c : A) : tl_fo F (n + 1) c = F n (tl_fo F n c) := rfl
theorem tl_fo_add {A : Type} (F : Nat → A → A) (p : Nat) (c : A) : ∀ q, tl_fo F (p + q) c = tl_fo (fun x => F (p + x)) q (tl_fo F p c)
  | 0 => rfl
  | q + 1 => congrArg (F (p + q)) (tl_fo_add F p c q)
theorem tl_fo_nest {A : Type} (F : Nat → A → A) (m : Nat) (c : A) : ∀ n, tl_fo (fun y a => tl_fo (fun x => F (m * y + x)) m a) n c = tl_fo F (m * n) c
  | 0 => rfl
  | n + 1 => by
    show tl_fo (fun x => F (m * n + x)) m (tl_fo (fun y a => tl_fo (fun x => F (m * y + x)) m a) n c) = tl_fo F (m * n + m) c
    rw [tl_fo_nest F m c n, tl_fo_add]
theorem tl_fo_congr {A : Type} {F G : Nat → A → A} {n : Nat} (c : A) (h : ∀ k c, k < n → F k c = G k c) : tl_fo F n c = tl_fo G n c := by
  induction n with
  | zero => rfl
  | succ n ih =>
    show F n (tl_fo F n c) = G n (tl_fo G n c)
    rw [ih (fun k c hk => h k c (by omega)), h n _ (by omega)]
theorem tl_fo_id {A : Type} {F : Nat → A → A} {n : Nat} (c : A) (h : ∀ k c, k < n → F k c = c) : tl_fo F n c = c := by
  induction n with
  | zero => rfl
  | succ n ih =>
    show F n (tl_fo F n c) = c
    rw [ih (fun k c hk => h k c (by omega)), h n _ (by omega)]
theorem tl_fo_inv {A : Type} {F : Nat → A → A} {I : A → Prop} {n : Nat} (c : A) (h0 : I c) (h : ∀ k c, k < n → I c → I (F k c)) : I (tl_fo F n c) := by
  induction n with
  | zero => exact h0
  | succ n ih => exact h n _ (by omega) (ih (fun k c hk => h k c (by omega)))
/-- a counted loop as a fold -/
theorem tl_lp {A : Type} (W : Nat → Nat → A → Prop) (F : Nat → A → A) (N : Nat) (Q : A → Prop) (hx : ∀ n a, Q a → W (n + 1) N a)
    (hs : ∀ n k a, k < N → W n (k + 1) (F k a) → W (n + 1) k a) (a : A) (hQ : Q (tl_fo F N a)) : ∃ n, W n 0 a := by
  have H : ∀ d k, k + d = N → W (d + 1) k (tl_fo F k a) := by
    intro d
    induction d with
    | zero =>
      intro k hk
      have e : k = N := by omega
      rw [e]
      exact hx 0 _ hQ
    | succ d ih =>
      intro k hk
      exact hs (d + 1) k _ (by omega) (ih (k + 1) (by omega))
  exact ⟨N + 1, H N 0 (by omega)⟩
def tl_gl (d n : Nat) (v a : Nat → Int32) : Nat → Int32 := fun i => if d ≤ i ∧ i < d + n then v (i - d) else a i
theorem tl_gl_0 (d : Nat) (v a : Nat → Int32) : tl_gl d 0 v a = a := by
  funext i
  exact if_neg (by omega)
theorem tl_gl_s (d n : Nat) (v a : Nat → Int32) : upd (tl_gl d n v a) (d + n) (v n) = tl_gl d (n + 1) v a := by
  funext i
  by_cases h : i = d + n
  · rw [h, pk_us]
    unfold tl_gl
    rw [if_pos (by omega)]
    exact congrArg v (by omega)
  · rw [pk_un h]
    unfold tl_gl
    by_cases h2 : d ≤ i ∧ i < d + n
    · rw [if_pos h2, if_pos (by omega)]
    · rw [if_neg h2, if_neg (by omega)]
theorem tl_gl_in {d n i : Nat} (v a : Nat → Int32) (h : i < n) : tl_gl d n v a (d + i) = v i := by
  unfold tl_gl
  rw [if_pos (by omega)]
  exact congrArg v (by omega)
theorem tl_gl_out {d n i : Nat} (v a : Nat → Int32) (h : i < d ∨ d + n ≤ i) : tl_gl d n v a i = a i := if_neg (by omega)
theorem tl_glU {N d n : Nat} {v a : Nat → Int32} (hv : tl_U N v) (ha : tl_U N a) : tl_U N (tl_gl d n v a) := by
  intro i
  unfold tl_gl
  by_cases h : d ≤ i ∧ i < d + n
  · rw [if_pos h]; exact hv _
  · rw [if_neg h]; exact ha _
theorem tl_fill (d : Nat) (v a : Nat → Int32) (n : Nat) : tl_fo (fun k a => upd a (d + k) (v k)) n a = tl_gl d n v a := by
  induction n with
  | zero => exact (tl_gl_0 d v a).symm
  | succ n ih =>
    show upd (tl_fo (fun k a => upd a (d + k) (v k)) n a) (d + n) (v n) = _
    rw [ih, tl_gl_s]
theorem tl_selfc (d s n : Nat) (a : Nat → Int32) (hd : d + n ≤ s ∨ s + n ≤ d) : tl_fo (fun k a => upd a (d + k) (a (s + k))) n a = tl_gl d n (fun k => a (s + k)) a := by
  have H : ∀ m, m ≤ n → tl_fo (fun k a => upd a (d + k) (a (s + k))) m a = tl_gl d m (fun k => a (s + k)) a := by
    intro m
    induction m with
    | zero => exact fun _ => (tl_gl_0 d _ a).symm
    | succ m ih =>
      intro hm
      show upd (tl_fo (fun k a => upd a (d + k) (a (s + k))) m a) (d + m) (tl_fo (fun k a => upd a (d + k) (a (s + k))) m a (s + m)) = _
      rw [ih (by omega), tl_gl_out _ _ (by omega)]
      exact tl_gl_s d m (fun k => a (s + k)) a
  exact H n (Nat.le_refl n)
def tl_ga (lo hi : Nat) (v a : Nat → Int32) : Nat → Int32 := fun i => if lo ≤ i ∧ i < hi then v i else a i
theorem tl_ga_in {lo hi i : Nat} (v a : Nat → Int32) (h : lo ≤ i ∧ i < hi) : tl_ga lo hi v a i = v i := if_pos h
theorem tl_ga_out {lo hi i : Nat} (v a : Nat → Int32) (h : ¬ (lo ≤ i ∧ i < hi)) : tl_ga lo hi v a i = a i := if_neg h
theorem tl_ga_s {lo hi : Nat} {v a a' : Nat → Int32} (h : lo < hi) (e : a' lo = v lo) (o : ∀ i, i ≠ lo → a' i = a i) : tl_ga (lo + 1) hi v a' = tl_ga lo hi v a := by
  funext i
  by_cases hn : i = lo
  · rw [hn, tl_ga_out _ _ (by omega), tl_ga_in _ _ (by omega), e]
  · by_cases h2 : lo ≤ i ∧ i < hi
    · rw [tl_ga_in _ _ (by omega), tl_ga_in _ _ h2]
    · rw [tl_ga_out _ _ (by omega), tl_ga_out _ _ h2, o i hn]
theorem tl_ga_e {lo hi : Nat} (v a : Nat → Int32) (h : hi ≤ lo) : tl_ga lo hi v a = a := by
  funext i
  exact tl_ga_out _ _ (by omega)
theorem tl_ga_self {lo hi : Nat} {v a : Nat → Int32} (h : ∀ i, lo ≤ i → i < hi → a i = v i) : tl_ga lo hi v a = a := by
  funext i
  by_cases h2 : lo ≤ i ∧ i < hi
  · rw [tl_ga_in _ _ h2, h i h2.1 h2.2]
  · rw [tl_ga_out _ _ h2]
theorem tl_ga_ga (lo hi : Nat) (v w a : Nat → Int32) : tl_ga lo hi v (tl_ga lo hi w a) = tl_ga lo hi v a := by
  funext i
  by_cases h2 : lo ≤ i ∧ i < hi
  · rw [tl_ga_in _ _ h2, tl_ga_in _ _ h2]
  · rw [tl_ga_out _ _ h2, tl_ga_out _ _ h2, tl_ga_out _ _ h2]
def tl_lim (v : Int32) : Nat := if 0 ≤ v then (if v ≤ 7 then v.toNatClampNeg else 7) else 0
theorem tl_lim_c {v : Int32} (h0 : 0 ≤ v) (h7 : v ≤ 7) : ∃ j : Nat, j ≤ 7 ∧ v = nI j := nI_of2 (M := 7) (n := 7) (by decide) (Int32.not_lt.mpr h0) h7
theorem tl_lim_le (v : Int32) : tl_lim v ≤ 7 := by
  unfold tl_lim
  by_cases h0 : 0 ≤ v
  · rw [if_pos h0]
    by_cases h7 : v ≤ 7
    · rw [if_pos h7]
      obtain ⟨j, hj, rfl⟩ := tl_lim_c h0 h7
      rw [nI_clamp (by omega)]
      exact hj
    · rw [if_neg h7]
      exact Nat.le_refl 7
  · rw [if_neg h0]
    exact Nat.zero_le 7
theorem tl_lim_n {x : Nat} (h : x ≤ 7) : tl_lim (nI x) = x := by
  unfold tl_lim
  have h7 : nI x ≤ 7 := nI_le (b := 7) h (by decide)
  rw [if_pos (nI_pos' (by omega)), if_pos h7, nI_clamp (by omega)]
theorem tl_lim3 {v : Int32} {post : Int32 → Prop} (h : post (nI (tl_lim v))) : (0 ≤ v → ((v ≤ 7 → post v) ∧ (¬ v ≤ 7 → post 7))) ∧ (¬ 0 ≤ v → post 0) := by
  unfold tl_lim at h
  by_cases h0 : 0 ≤ v
  · rw [if_pos h0] at h
    by_cases h7 : v ≤ 7
    · rw [if_pos h7] at h
      obtain ⟨j, hj, rfl⟩ := tl_lim_c h0 h7
      rw [nI_clamp (by omega)] at h
      exact br_t h0 (br_t h7 h)
    · rw [if_neg h7] at h
      exact br_t h0 (br_f h7 h)
  · rw [if_neg h0] at h
    exact br_f h0 h
theorem tl_ix (f y x : Nat) : ((64 * nI f) + (8 * nI y)) + nI x = nI (64 * f + 8 * y + x) := by
  show nI 64 * nI f + nI 8 * nI y + nI x = _
  rw [pk_mul, pk_mul, nI_add, nI_add]
theorem tl_ix2 (f k : Nat) : (64 * nI f) + nI k = nI (64 * f + k) := by
  show nI 64 * nI f + nI k = _
  rw [pk_mul, nI_add]
theorem tl_ix4 (l b : Nat) : (4 * nI l) + nI b = nI (4 * l + b) := by
  show nI 4 * nI l + nI b = _
  rw [pk_mul, nI_add]
theorem tl_and7 (k : Nat) (h : k < 2 ^ 31) : nI k &&& 7 = nI (k % 8) := pk_andN (by omega) 3 (by decide)
theorem tl_shr3 (k : Nat) (h : k < 2 ^ 31) : nI k >>> ((3 : Int32) &&& 31) = nI (k / 8) := pk_shrN h _ 3 (by decide)
theorem tl_and3 (k : Nat) (h : k < 2 ^ 31) : nI k &&& 3 = nI (k % 4) := pk_andN (by omega) 2 (by decide)
theorem tl_shr2 (k : Nat) (h : k < 2 ^ 31) : nI k >>> ((2 : Int32) &&& 31) = nI (k / 4) := pk_shrN h _ 2 (by decide)
theorem tl_and1 (k : Nat) (h : k < 2 ^ 31) : nI k &&& 1 = nI (k % 2) := pk_andN (by omega) 1 (by decide)
theorem tl_shr1 (k : Nat) (h : k < 2 ^ 31) : nI k >>> ((1 : Int32) &&& 31) = nI (k / 2) := pk_shrN h _ 1 (by decide)
theorem tl_div5 {s : Nat} (h : s < 2 ^ 31) : nI s / 5 = nI (s / 5) := pk_div h (by omega) (d := 5) (by omega)
theorem tl_rem5 {s : Nat} (h : s < 2 ^ 31) : nI s - nI s / 5 * 5 = nI (s % 5) := pk_rem h (by omega) (d := 5) (by omega)
theorem tl_rg (x : Int32) {N : Nat} (hN : N + 1 < 2 ^ 31) : (x < 0 ∨ ¬ x < 0 ∧ nI N < x) ∨ ∃ j : Nat, j ≤ N ∧ x = nI j := by
  by_cases h : x < 0
  · exact Or.inl (Or.inl h)
  · obtain ⟨j, hj, rfl⟩ := nI_of h
    by_cases h2 : j ≤ N
    · exact Or.inr ⟨j, h2, rfl⟩
    · exact Or.inl (Or.inr ⟨h, nI_lt (by omega) hj⟩)
/-! the checks of arguments -/
theorem tl_sx_y {A B C : Prop} {N j : Nat} (h : j ≤ N) (hN : N < 2 ^ 31) (c : C) : (nI j < 0 → A) ∧ (¬ nI j < 0 → ((nI N < nI j → B) ∧ (¬ nI N < nI j → C))) := br_f (nI_pos (by omega)) (br_f (nI_nlt h hN) c)
theorem tl_sx_n {A C : Prop} {N : Nat} {x : Int32} (h : x < 0 ∨ ¬ x < 0 ∧ nI N < x) (a : A) : (x < 0 → A) ∧ (¬ x < 0 → ((nI N < x → A) ∧ (¬ nI N < x → C))) := by
  rcases h with h | ⟨h, h2⟩
  · exact br_t h a
  · exact br_f h (br_t h2 a)
theorem tl_sy_y {A C : Prop} {N j : Nat} (h : j ≤ N) (hN : N < 2 ^ 31) (c : C) : (nI j < 0 → A) ∧ (¬ nI j < 0 → ((nI j ≤ nI N → C) ∧ (¬ nI j ≤ nI N → A))) := br_f (nI_pos (by omega)) (br_t (nI_le h hN) c)
theorem tl_sy_n {A C : Prop} {N : Nat} {x : Int32} (h : x < 0 ∨ ¬ x < 0 ∧ nI N < x) (a : A) : (x < 0 → A) ∧ (¬ x < 0 → ((x ≤ nI N → C) ∧ (¬ x ≤ nI N → A))) := by
  rcases h with h | ⟨h, h2⟩
  · exact br_t h a
  · exact br_f h (br_f (Int32.not_le.mpr h2) a)
theorem tx_isFrame_y {post : Int32 → Prop} {j : Nat} (h : j ≤ 3) (hp : post 1) : wpX_isFrame post (nI j) := tl_sx_y (N := 3) h (by decide) hp
theorem tx_isFrame_n {post : Int32 → Prop} {x : Int32} (h : x < 0 ∨ ¬ x < 0 ∧ nI 3 < x) (hp : post 0) : wpX_isFrame post x := tl_sx_n (N := 3) h hp
theorem tx_isLink_y {post : Int32 → Prop} {j : Nat} (h : j ≤ 2) (hp : post 1) : wpX_isLink post (nI j) := tl_sx_y (N := 2) h (by decide) hp
theorem tx_isLink_n {post : Int32 → Prop} {x : Int32} (h : x < 0 ∨ ¬ x < 0 ∧ nI 2 < x) (hp : post 0) : wpX_isLink post x := tl_sx_n (N := 2) h hp
theorem tx_isBlock_y {post : Int32 → Prop} {j : Nat} (h : j ≤ 3) (hp : post 1) : wpX_isBlock post (nI j) := tl_sx_y (N := 3) h (by decide) hp
theorem tx_isBlock_n {post : Int32 → Prop} {x : Int32} (h : x < 0 ∨ ¬ x < 0 ∧ nI 3 < x) (hp : post 0) : wpX_isBlock post x := tl_sx_n (N := 3) h hp
theorem tx_isStep_y {post : Int32 → Prop} {j : Nat} (h : j ≤ 24) (hp : post 1) : wpX_isStep post (nI j) := tl_sx_y (N := 24) h (by decide) hp
theorem tx_isStep_n {post : Int32 → Prop} {x : Int32} (h : x < 0 ∨ ¬ x < 0 ∧ nI 24 < x) (hp : post 0) : wpX_isStep post x := tl_sx_n (N := 24) h hp
theorem ty_badFrame_y {post : Int32 → Prop} {u : SY} {j : Nat} (h : j ≤ 3) (hp : post 0) : wpY_badFrame post u (nI j) := by
  obtain ⟨a1, a2, a3, a4, a5, a6, a7⟩ := u
  exact tl_sy_y (N := 3) h (by decide) hp
theorem ty_badFrame_n {post : Int32 → Prop} {u : SY} {x : Int32} (h : x < 0 ∨ ¬ x < 0 ∧ nI 3 < x) (hp : post 1) : wpY_badFrame post u x := by
  obtain ⟨a1, a2, a3, a4, a5, a6, a7⟩ := u
  exact tl_sy_n (N := 3) h hp
theorem ty_badPlace_y {post : Int32 → Prop} {u : SY} {j : Nat} (h : j ≤ 7) (hp : post 0) : wpY_badPlace post u (nI j) := by
  obtain ⟨a1, a2, a3, a4, a5, a6, a7⟩ := u
  exact tl_sy_y (N := 7) h (by decide) hp
theorem ty_badPlace_n {post : Int32 → Prop} {u : SY} {x : Int32} (h : x < 0 ∨ ¬ x < 0 ∧ nI 7 < x) (hp : post 1) : wpY_badPlace post u x := by
  obtain ⟨a1, a2, a3, a4, a5, a6, a7⟩ := u
  exact tl_sy_n (N := 7) h hp
theorem ty_badSlot_y {post : Int32 → Prop} {u : SY} {j : Nat} (h : j ≤ 1) (hp : post 0) : wpY_badSlot post u (nI j) := by
  obtain ⟨a1, a2, a3, a4, a5, a6, a7⟩ := u
  exact tl_sy_y (N := 1) h (by decide) hp
theorem ty_badSlot_n {post : Int32 → Prop} {u : SY} {x : Int32} (h : x < 0 ∨ ¬ x < 0 ∧ nI 1 < x) (hp : post 1) : wpY_badSlot post u x := by
  obtain ⟨a1, a2, a3, a4, a5, a6, a7⟩ := u
  exact tl_sy_n (N := 1) h hp
theorem ty_badLink_y {post : Int32 → Prop} {u : SY} {j : Nat} (h : j ≤ 2) (hp : post 0) : wpY_badLink post u (nI j) := by
  obtain ⟨a1, a2, a3, a4, a5, a6, a7⟩ := u
  exact tl_sy_y (N := 2) h (by decide) hp
theorem ty_badLink_n {post : Int32 → Prop} {u : SY} {x : Int32} (h : x < 0 ∨ ¬ x < 0 ∧ nI 2 < x) (hp : post 1) : wpY_badLink post u x := by
  obtain ⟨a1, a2, a3, a4, a5, a6, a7⟩ := u
  exact tl_sy_n (N := 2) h hp
theorem ty_badBlock_y {post : Int32 → Prop} {u : SY} {j : Nat} (h : j ≤ 3) (hp : post 0) : wpY_badBlock post u (nI j) := by
  obtain ⟨a1, a2, a3, a4, a5, a6, a7⟩ := u
  exact tl_sy_y (N := 3) h (by decide) hp
theorem ty_badBlock_n {post : Int32 → Prop} {u : SY} {x : Int32} (h : x < 0 ∨ ¬ x < 0 ∧ nI 3 < x) (hp : post 1) : wpY_badBlock post u x := by
  obtain ⟨a1, a2, a3, a4, a5, a6, a7⟩ := u
  exact tl_sy_n (N := 3) h hp
theorem ty_badStep_y {post : Int32 → Prop} {u : SY} {j : Nat} (h : j ≤ 24) (hp : post 0) : wpY_badStep post u (nI j) := by
  obtain ⟨a1, a2, a3, a4, a5, a6, a7⟩ := u
  exact tl_sy_y (N := 24) h (by decide) hp
theorem ty_badStep_n {post : Int32 → Prop} {u : SY} {x : Int32} (h : x < 0 ∨ ¬ x < 0 ∧ nI 24 < x) (hp : post 1) : wpY_badStep post u x := by
  obtain ⟨a1, a2, a3, a4, a5, a6, a7⟩ := u
  exact tl_sy_n (N := 24) h hp
theorem tx_isInside_y {post : Int32 → Prop} {x y : Nat} (hx : x ≤ 7) (hy : y ≤ 7) (hp : post 1) : wpX_isInside post (nI x) (nI y) := tl_sx_y (N := 7) hx (by decide) (tl_sx_y (N := 7) hy (by decide) hp)
theorem tx_isInside_n1 {post : Int32 → Prop} {x y : Int32} (h : x < 0 ∨ ¬ x < 0 ∧ nI 7 < x) (hp : post 0) : wpX_isInside post x y := tl_sx_n (N := 7) h hp
theorem tx_isInside_n2 {post : Int32 → Prop} {x : Nat} {y : Int32} (hx : x ≤ 7) (h : y < 0 ∨ ¬ y < 0 ∧ nI 7 < y) (hp : post 0) : wpX_isInside post (nI x) y := tl_sx_y (N := 7) hx (by decide) (tl_sx_n (N := 7) h hp)
theorem tx_isSlot_y {post : Int32 → Prop} {s : Nat} (h : s ≤ 1) (hp : post 1) : wpX_isSlot post (nI s) := by
  unfold wpX_isSlot
  by_cases h0 : nI s = 0
  · exact br_t h0 hp
  · have h1 : s = 1 := by
      have : s ≠ 0 := fun e => h0 (by rw [e]; rfl)
      omega
    exact br_f h0 (br_t (by rw [h1]; rfl) hp)
theorem tx_isSlot_n {post : Int32 → Prop} {x : Int32} (h : x < 0 ∨ ¬ x < 0 ∧ nI 1 < x) (hp : post 0) : wpX_isSlot post x := by
  have h0 : ¬ x = 0 := by
    intro e
    subst e
    revert h
    decide
  have h1 : ¬ x = 1 := by
    intro e
    subst e
    revert h
    decide
  exact br_f h0 (br_f h1 hp)
theorem tx_limited {post : Int32 → Prop} {v : Int32} (h : post (nI (tl_lim v))) : wpX_limited post v := tl_lim3 h
theorem ty_nearest {post : Int32 → Prop} {u : SY} {v : Int32} (h : post (nI (tl_lim v))) : wpY_nearest post u v := by
  obtain ⟨a1, a2, a3, a4, a5, a6, a7⟩ := u
  exact tl_lim3 h
end
section
/-! in-place steps: the cell P j gets sg times what is read elsewhere; each family is undone by the other sign -/
def tl_sp (P : Nat → Nat) (r : Nat → (Nat → Int32) → Int32) (sg : Int32) (j : Nat) (c : Nat → Int32) : Nat → Int32 := upd c (P j) (c (P j) + sg * r j c)
def tl_Ok (P : Nat → Nat) (r : Nat → (Nat → Int32) → Int32) (N : Nat) : Prop := (∀ i j, i < N → j < N → P i = P j → i = j) ∧ ∀ i j c x, i < N → j < N → r i (upd c (P j) x) = r i c
theorem tl_sp_r {P : Nat → Nat} {r : Nat → (Nat → Int32) → Int32} {N : Nat} (h : tl_Ok P r N) (sg : Int32) {i : Nat} (hi : i < N) (c : Nat → Int32) : ∀ m, m ≤ N → r i (tl_fo (tl_sp P r sg) m c) = r i c := by
  intro m
  induction m with
  | zero => exact fun _ => rfl
  | succ m ih =>
    intro hm
    show r i (upd (tl_fo (tl_sp P r sg) m c) (P m) (tl_fo (tl_sp P r sg) m c (P m) + sg * r m (tl_fo (tl_sp P r sg) m c))) = _
    rw [h.2 i m _ _ hi (by omega), ih (by omega)]
theorem tl_sp_o (P : Nat → Nat) (r : Nat → (Nat → Int32) → Int32) (sg : Int32) (c : Nat → Int32) (i : Nat) : ∀ m, (∀ j, j < m → i ≠ P j) → tl_fo (tl_sp P r sg) m c i = c i := by
  intro m
  induction m with
  | zero => exact fun _ => rfl
  | succ m ih =>
    intro h
    show upd (tl_fo (tl_sp P r sg) m c) (P m) (tl_fo (tl_sp P r sg) m c (P m) + sg * r m (tl_fo (tl_sp P r sg) m c)) i = c i
    rw [pk_un (h m (by omega)), ih (fun j hj => h j (by omega))]
theorem tl_sp_v {P : Nat → Nat} {r : Nat → (Nat → Int32) → Int32} {N : Nat} (h : tl_Ok P r N) (sg : Int32) (c : Nat → Int32) {j : Nat} (hj : j < N) : tl_fo (tl_sp P r sg) N c (P j) = c (P j) + sg * r j c := by
  have H : ∀ m, m ≤ N → j < m → tl_fo (tl_sp P r sg) m c (P j) = c (P j) + sg * r j c := by
    intro m
    induction m with
    | zero => intro _ h0; omega
    | succ m ih =>
      intro hm hj
      show upd (tl_fo (tl_sp P r sg) m c) (P m) (tl_fo (tl_sp P r sg) m c (P m) + sg * r m (tl_fo (tl_sp P r sg) m c)) (P j) = _
      by_cases e : j = m
      · rw [e, pk_us, tl_sp_r h sg (by omega) c m (by omega), tl_sp_o P r sg c (P m) m (fun i hi z => absurd (h.1 m i (by omega) (by omega) z) (by omega))]
      · rw [pk_un (fun z => e (h.1 j m (by omega) (by omega) z)), ih (by omega) (by omega)]
  exact H N (Nat.le_refl N) hj
theorem tl_sp_inv {P : Nat → Nat} {r : Nat → (Nat → Int32) → Int32} {N : Nat} (h : tl_Ok P r N) {sg tg : Int32} (hs : ∀ x y : Int32, x + sg * y + tg * y = x) (c : Nat → Int32) : tl_fo (tl_sp P r tg) N (tl_fo (tl_sp P r sg) N c) = c := by
  funext i
  by_cases hi : ∃ j, j < N ∧ i = P j
  · obtain ⟨j, hj, rfl⟩ := hi
    rw [tl_sp_v h tg _ hj, tl_sp_v h sg _ hj, tl_sp_r h sg hj c N (Nat.le_refl N), hs]
  · have hi' : ∀ j, j < N → i ≠ P j := fun j hj e => hi ⟨j, hj, e⟩
    rw [tl_sp_o _ _ _ _ _ _ hi', tl_sp_o _ _ _ _ _ _ hi']
theorem tl_pm (x y : Int32) : x + 1 * y + (-1) * y = x := by grind
theorem tl_mp (x y : Int32) : x + (-1) * y + 1 * y = x := by grind
theorem tl_m1s (x y : Int32) : x + (-1) * y = x - y := by grind
theorem tl_p1s (x y : Int32) : x + 1 * y = x + y := by grind
/-! operators that stay within a set -/
def tl_Loc (S : Nat → Prop) (F : (Nat → Int32) → Nat → Int32) : Prop := (∀ c i, ¬ S i → F c i = c i) ∧ ∀ c d i, (∀ j, S j → c j = d j) → S i → F c i = F d i
theorem tl_Loc_comp {S : Nat → Prop} {F G : (Nat → Int32) → Nat → Int32} (hF : tl_Loc S F) (hG : tl_Loc S G) : tl_Loc S (fun c => G (F c)) :=
  ⟨fun c i hi => (hG.1 _ _ hi).trans (hF.1 _ _ hi), fun c d i h hi => hG.2 _ _ i (fun j hj => hF.2 c d j h hj) hi⟩
theorem tl_Loc_mono {S T : Nat → Prop} {F : (Nat → Int32) → Nat → Int32} (h : ∀ i, S i → T i) (hF : tl_Loc S F) : tl_Loc T F := by
  refine ⟨fun c i hi => hF.1 c i (fun z => hi (h i z)), fun c d i e hi => ?_⟩
  by_cases z : S i
  · exact hF.2 c d i (fun j hj => e j (h j hj)) z
  · rw [hF.1 c i z, hF.1 d i z, e i hi]
theorem tl_Loc_fo {S : Nat → Prop} {F : Nat → (Nat → Int32) → Nat → Int32} {n : Nat} (h : ∀ k, k < n → tl_Loc S (F k)) : tl_Loc S (tl_fo F n) := by
  induction n with
  | zero => exact ⟨fun _ _ _ => rfl, fun c d i e hi => e i hi⟩
  | succ n ih => exact tl_Loc_comp (F := tl_fo F n) (G := F n) (ih (fun k hk => h k (by omega))) (h n (by omega))
theorem tl_Loc_comm {S T : Nat → Prop} {F G : (Nat → Int32) → Nat → Int32} (hF : tl_Loc S F) (hG : tl_Loc T G) (hd : ∀ i, S i → ¬ T i) (c : Nat → Int32) : G (F c) = F (G c) := by
  funext i
  by_cases hS : S i
  · rw [hG.1 _ i (hd i hS)]
    exact (hF.2 (G c) c i (fun j hj => hG.1 c j (hd j hj)) hS).symm
  · rw [hF.1 (G c) i hS]
    by_cases hT : T i
    · exact hG.2 (F c) c i (fun j hj => hF.1 c j (fun z => hd j z hj)) hT
    · rw [hG.1 _ i hT, hG.1 _ i hT, hF.1 c i hS]
theorem tl_inv_fo {S : Nat → Nat → Prop} {F G : Nat → (Nat → Int32) → Nat → Int32} {n : Nat} (hF : ∀ k, k < n → tl_Loc (S k) (F k)) (hG : ∀ k, k < n → tl_Loc (S k) (G k))
    (hd : ∀ j k i, j < n → k < n → j ≠ k → S j i → ¬ S k i) (hi : ∀ k c, k < n → G k (F k c) = c) (c : Nat → Int32) : tl_fo G n (tl_fo F n c) = c := by
  induction n with
  | zero => rfl
  | succ n ih =>
    show G n (tl_fo G n (F n (tl_fo F n c))) = c
    have e : ∀ d, tl_fo G n (F n d) = F n (tl_fo G n d) := by
      intro d
      exact tl_Loc_comm (S := S n) (T := fun i => ∃ k, k < n ∧ S k i) (hF n (by omega)) (tl_Loc_fo (fun k hk => tl_Loc_mono (fun i z => ⟨k, hk, z⟩) (hG k (by omega)))) (fun i z w => by
        obtain ⟨k, hk, w⟩ := w
        exact hd n k i (by omega) (by omega) (by omega) z w) d
    rw [e, ih (fun k hk => hF k (by omega)) (fun k hk => hG k (by omega)) (fun j k i hj hk => hd j k i (by omega) (by omega)) (fun k c hk => hi k c (by omega)), hi n _ (by omega)]
theorem tl_Loc_sp {S : Nat → Prop} {P : Nat → Nat} {r : Nat → (Nat → Int32) → Int32} {sg : Int32} {j : Nat} (hP : S (P j)) (hr : ∀ c d, (∀ i, S i → c i = d i) → r j c = r j d) : tl_Loc S (tl_sp P r sg j) := by
  refine ⟨fun c i hi => pk_un (fun e => hi (by rw [e]; exact hP)), fun c d i e hi => ?_⟩
  unfold tl_sp
  by_cases h : i = P j
  · rw [h, pk_us, pk_us, hr c d e, e _ hP]
  · rw [pk_un h, pk_un h, e i hi]
/-! one line of 2 * m cells, at p 0, p 1, .. -/
def tl_ro (p : Nat → Nat) (m j : Nat) (c : Nat → Int32) : Int32 := (c (p (2 * j)) + (if j + 1 < m then c (p (2 * j + 2)) else c (p (2 * j)))) >>> ((1 : Int32) &&& 31)
def tl_re (p : Nat → Nat) (j : Nat) (c : Nat → Int32) : Int32 := (((if 0 < j then c (p (2 * j - 1)) else c (p (2 * j + 1))) + c (p (2 * j + 1))) + 2) >>> ((2 : Int32) &&& 31)
def tl_lo (sg : Int32) (p : Nat → Nat) (m : Nat) (c : Nat → Int32) : Nat → Int32 := tl_fo (tl_sp (fun j => p (2 * j + 1)) (tl_ro p m) sg) m c
def tl_le (sg : Int32) (p : Nat → Nat) (m : Nat) (c : Nat → Int32) : Nat → Int32 := tl_fo (tl_sp (fun j => p (2 * j)) (tl_re p) sg) m c
def tl_In (p : Nat → Nat) (n : Nat) : Prop := ∀ i j, i < n → j < n → p i = p j → i = j
theorem tl_ro_ok {p : Nat → Nat} {m : Nat} (hp : tl_In p (2 * m)) : tl_Ok (fun j => p (2 * j + 1)) (tl_ro p m) m := by
  refine ⟨fun i j hi hj e => ?_, fun i j c x hi hj => ?_⟩
  · have := hp (2 * i + 1) (2 * j + 1) (by omega) (by omega) e
    omega
  · show tl_ro p m i (upd c (p (2 * j + 1)) x) = tl_ro p m i c
    unfold tl_ro
    have h1 : upd c (p (2 * j + 1)) x (p (2 * i)) = c (p (2 * i)) := pk_un (fun z => by
      have := hp (2 * i) (2 * j + 1) (by omega) (by omega) z
      omega)
    by_cases h : i + 1 < m
    · have h2 : upd c (p (2 * j + 1)) x (p (2 * i + 2)) = c (p (2 * i + 2)) := pk_un (fun z => by
        have := hp (2 * i + 2) (2 * j + 1) (by omega) (by omega) z
        omega)
      rw [if_pos h, if_pos h, h1, h2]
    · rw [if_neg h, if_neg h, h1]
theorem tl_re_ok {p : Nat → Nat} {m : Nat} (hp : tl_In p (2 * m)) : tl_Ok (fun j => p (2 * j)) (tl_re p) m := by
  refine ⟨fun i j hi hj e => ?_, fun i j c x hi hj => ?_⟩
  · have := hp (2 * i) (2 * j) (by omega) (by omega) e
    omega
  · show tl_re p i (upd c (p (2 * j)) x) = tl_re p i c
    unfold tl_re
    have h1 : upd c (p (2 * j)) x (p (2 * i + 1)) = c (p (2 * i + 1)) := pk_un (fun z => by
      have := hp (2 * i + 1) (2 * j) (by omega) (by omega) z
      omega)
    by_cases h : 0 < i
    · have h2 : upd c (p (2 * j)) x (p (2 * i - 1)) = c (p (2 * i - 1)) := pk_un (fun z => by
        have := hp (2 * i - 1) (2 * j) (by omega) (by omega) z
        omega)
      rw [if_pos h, if_pos h, h1, h2]
    · rw [if_neg h, if_neg h, h1]
def tl_li (p : Nat → Nat) (m : Nat) (c : Nat → Int32) : Nat → Int32 := tl_le 1 p m (tl_lo (-1) p m c)
def tl_ui (p : Nat → Nat) (m : Nat) (c : Nat → Int32) : Nat → Int32 := tl_lo 1 p m (tl_le (-1) p m c)
theorem tl_uli {p : Nat → Nat} {m : Nat} (hp : tl_In p (2 * m)) (c : Nat → Int32) : tl_ui p m (tl_li p m c) = c :=
  (congrArg (tl_lo 1 p m) (tl_sp_inv (tl_re_ok hp) tl_pm (tl_lo (-1) p m c))).trans (tl_sp_inv (tl_ro_ok hp) tl_mp c)
def tl_on (p : Nat → Nat) (n x : Nat) : Prop := ∃ i, i < n ∧ x = p i
theorem tl_lo_Loc (sg : Int32) (p : Nat → Nat) (m : Nat) : tl_Loc (tl_on p (2 * m)) (tl_lo sg p m) := by
  refine tl_Loc_fo (fun k hk => tl_Loc_sp ⟨2 * k + 1, by omega, rfl⟩ (fun c d e => ?_))
  unfold tl_ro
  rw [e _ ⟨2 * k, by omega, rfl⟩]
  by_cases h : k + 1 < m
  · rw [if_pos h, if_pos h, e _ ⟨2 * k + 2, by omega, rfl⟩]
  · rw [if_neg h, if_neg h]
theorem tl_le_Loc (sg : Int32) (p : Nat → Nat) (m : Nat) : tl_Loc (tl_on p (2 * m)) (tl_le sg p m) := by
  refine tl_Loc_fo (fun k hk => tl_Loc_sp ⟨2 * k, by omega, rfl⟩ (fun c d e => ?_))
  unfold tl_re
  rw [e _ ⟨2 * k + 1, by omega, rfl⟩]
  by_cases h : 0 < k
  · rw [if_pos h, if_pos h, e _ ⟨2 * k - 1, by omega, rfl⟩]
  · rw [if_neg h, if_neg h]
theorem tl_li_Loc (p : Nat → Nat) (m : Nat) : tl_Loc (tl_on p (2 * m)) (tl_li p m) := tl_Loc_comp (F := tl_lo (-1) p m) (G := tl_le 1 p m) (tl_lo_Loc (-1) p m) (tl_le_Loc 1 p m)
theorem tl_ui_Loc (p : Nat → Nat) (m : Nat) : tl_Loc (tl_on p (2 * m)) (tl_ui p m) := tl_Loc_comp (F := tl_le (-1) p m) (G := tl_lo 1 p m) (tl_le_Loc (-1) p m) (tl_lo_Loc 1 p m)
/-! a pass: k lines -/
def tl_pa (q : Nat → Nat → Nat) (m k : Nat) (c : Nat → Int32) : Nat → Int32 := tl_fo (fun l => tl_li (q l) m) k c
def tl_pu (q : Nat → Nat → Nat) (m k : Nat) (c : Nat → Int32) : Nat → Int32 := tl_fo (fun l => tl_ui (q l) m) k c
def tl_Di (q : Nat → Nat → Nat) (n k : Nat) : Prop := ∀ l l' i i', l < k → l' < k → i < n → i' < n → q l i = q l' i' → l = l' ∧ i = i'
theorem tl_Di_In {q : Nat → Nat → Nat} {n k : Nat} (h : tl_Di q n k) {l : Nat} (hl : l < k) : tl_In (q l) n := fun i j hi hj e => (h l l i j hl hl hi hj e).2
theorem tl_pua {q : Nat → Nat → Nat} {m k : Nat} (h : tl_Di q (2 * m) k) (c : Nat → Int32) : tl_pu q m k (tl_pa q m k c) = c := by
  refine tl_inv_fo (S := fun l => tl_on (q l) (2 * m)) (fun l _ => tl_li_Loc (q l) m) (fun l _ => tl_ui_Loc (q l) m) (fun j l i hj hl hn a b => ?_) (fun l c hl => tl_uli (tl_Di_In h hl) c) c
  obtain ⟨i1, h1, e1⟩ := a
  obtain ⟨i2, h2, e2⟩ := b
  exact hn (h j l i1 i2 hj hl h1 h2 (e1.symm.trans e2)).1
theorem tl_pa_Loc {q : Nat → Nat → Nat} {m k : Nat} {T : Nat → Prop} (h : ∀ l i, l < k → i < 2 * m → T (q l i)) : tl_Loc T (tl_pa q m k) := by
  refine tl_Loc_fo (fun l hl => tl_Loc_mono (fun x z => ?_) (tl_li_Loc (q l) m))
  obtain ⟨i, hi, e⟩ := z
  rw [e]
  exact h l i hl hi
theorem tl_pu_Loc {q : Nat → Nat → Nat} {m k : Nat} {T : Nat → Prop} (h : ∀ l i, l < k → i < 2 * m → T (q l i)) : tl_Loc T (tl_pu q m k) := by
  refine tl_Loc_fo (fun l hl => tl_Loc_mono (fun x z => ?_) (tl_ui_Loc (q l) m))
  obtain ⟨i, hi, e⟩ := z
  rw [e]
  exact h l i hl hi
end
section
/-! bounds of the lifting passes -/
def tl_B (M : Nat) (T : Nat → Prop) (c : Nat → Int32) : Prop := ∀ i, T i → -(M : Int) ≤ (c i).toInt ∧ (c i).toInt ≤ M
theorem tl_sh1 (x : Int32) : (x >>> ((1 : Int32) &&& 31)).toInt = x.toInt / 2 := Jvm.Kit.i32_shr x _ (k := 1) (by decide)
theorem tl_sh2 (x : Int32) : (x >>> ((2 : Int32) &&& 31)).toInt = x.toInt / 4 := Jvm.Kit.i32_shr x _ (k := 2) (by decide)
theorem tl_i2 : (2 : Int32).toInt = 2 := by decide
theorem tl_bo {M : Nat} (hM : M ≤ 100000) {x a b : Int32} (hx : -(M : Int) ≤ x.toInt ∧ x.toInt ≤ M) (ha : -(M : Int) ≤ a.toInt ∧ a.toInt ≤ M) (hb : -(M : Int) ≤ b.toInt ∧ b.toInt ≤ M) :
    -((2 * M : Nat) : Int) ≤ (x + (-1) * ((a + b) >>> ((1 : Int32) &&& 31))).toInt ∧ (x + (-1) * ((a + b) >>> ((1 : Int32) &&& 31))).toInt ≤ ((2 * M : Nat) : Int) := by
  have e1 : (a + b).toInt = a.toInt + b.toInt := Jvm.Kit.i32_add (by omega) (by omega)
  have e2 := tl_sh1 (a + b)
  rw [e1] at e2
  rw [tl_m1s, Jvm.Kit.i32_sub (by rw [e2]; omega) (by rw [e2]; omega), e2]
  omega
theorem tl_be {M : Nat} (hM : M ≤ 100000) {x a b : Int32} (hx : -(M : Int) ≤ x.toInt ∧ x.toInt ≤ M) (ha : -((2 * M : Nat) : Int) ≤ a.toInt ∧ a.toInt ≤ ((2 * M : Nat) : Int)) (hb : -((2 * M : Nat) : Int) ≤ b.toInt ∧ b.toInt ≤ ((2 * M : Nat) : Int)) :
    -((2 * M : Nat) : Int) ≤ (x + 1 * ((a + b + 2) >>> ((2 : Int32) &&& 31))).toInt ∧ (x + 1 * ((a + b + 2) >>> ((2 : Int32) &&& 31))).toInt ≤ ((2 * M : Nat) : Int) := by
  have e1 : (a + b).toInt = a.toInt + b.toInt := Jvm.Kit.i32_add (by omega) (by omega)
  have e3 : (a + b + 2).toInt = a.toInt + b.toInt + 2 := by
    rw [Jvm.Kit.i32_add (by rw [e1, tl_i2]; omega) (by rw [e1, tl_i2]; omega), e1, tl_i2]
  have e2 := tl_sh2 (a + b + 2)
  rw [e3] at e2
  rw [tl_p1s, Jvm.Kit.i32_add (by rw [e2]; omega) (by rw [e2]; omega), e2]
  omega
theorem tl_lo_B {p : Nat → Nat} {m M : Nat} (hp : tl_In p (2 * m)) (hM : M ≤ 100000) {c : Nat → Int32} (h : tl_B M (tl_on p (2 * m)) c) :
    (∀ j, j < m → tl_lo (-1) p m c (p (2 * j)) = c (p (2 * j))) ∧ ∀ j, j < m → -((2 * M : Nat) : Int) ≤ (tl_lo (-1) p m c (p (2 * j + 1))).toInt ∧ (tl_lo (-1) p m c (p (2 * j + 1))).toInt ≤ ((2 * M : Nat) : Int) := by
  refine ⟨fun j hj => tl_sp_o _ _ _ _ _ _ (fun i hi e => ?_), fun j hj => ?_⟩
  · have := hp (2 * j) (2 * i + 1) (by omega) (by omega) e
    omega
  · have e : tl_lo (-1) p m c (p (2 * j + 1)) = c (p (2 * j + 1)) + (-1) * tl_ro p m j c := tl_sp_v (tl_ro_ok hp) (-1) c hj
    rw [e]
    unfold tl_ro
    by_cases z : j + 1 < m
    · rw [if_pos z]
      exact tl_bo hM (h _ ⟨2 * j + 1, by omega, rfl⟩) (h _ ⟨2 * j, by omega, rfl⟩) (h _ ⟨2 * j + 2, by omega, rfl⟩)
    · rw [if_neg z]
      exact tl_bo hM (h _ ⟨2 * j + 1, by omega, rfl⟩) (h _ ⟨2 * j, by omega, rfl⟩) (h _ ⟨2 * j, by omega, rfl⟩)
theorem tl_li_B {p : Nat → Nat} {m M : Nat} (hp : tl_In p (2 * m)) (hM : M ≤ 100000) {c : Nat → Int32} (h : tl_B M (tl_on p (2 * m)) c) : tl_B (2 * M) (tl_on p (2 * m)) (tl_li p m c) := by
  obtain ⟨h0, h1⟩ := tl_lo_B hp hM h
  intro x hx
  obtain ⟨i, hi, e⟩ := hx
  rw [e]
  obtain ⟨j, z | z⟩ : ∃ j, i = 2 * j ∨ i = 2 * j + 1 := ⟨i / 2, by omega⟩
  · rw [z]
    have e2 : tl_li p m c (p (2 * j)) = tl_lo (-1) p m c (p (2 * j)) + 1 * tl_re p j (tl_lo (-1) p m c) := tl_sp_v (tl_re_ok hp) 1 _ (by omega)
    rw [e2, h0 j (by omega)]
    unfold tl_re
    by_cases y : 0 < j
    · rw [if_pos y]
      have h2 := h1 (j - 1) (by omega)
      rw [show 2 * (j - 1) + 1 = 2 * j - 1 by omega] at h2
      exact tl_be hM (h _ ⟨2 * j, by omega, rfl⟩) h2 (h1 j (by omega))
    · rw [if_neg y]
      exact tl_be hM (h _ ⟨2 * j, by omega, rfl⟩) (h1 j (by omega)) (h1 j (by omega))
  · rw [z]
    have e2 : tl_li p m c (p (2 * j + 1)) = tl_lo (-1) p m c (p (2 * j + 1)) := tl_sp_o _ _ _ _ _ _ (fun k hk y => by
      have := hp (2 * j + 1) (2 * k) (by omega) (by omega) y
      omega)
    rw [e2]
    exact h1 j (by omega)
theorem tl_pa_B {q : Nat → Nat → Nat} {m k M : Nat} {T : Nat → Prop} (hq : tl_Di q (2 * m) k) (hT : ∀ l i, l < k → i < 2 * m → T (q l i)) (hM : M ≤ 100000) {c : Nat → Int32} (h : tl_B M T c) : tl_B (2 * M) T (tl_pa q m k c) := by
  have H : ∀ n, n ≤ k → tl_B (2 * M) T (tl_fo (fun l => tl_li (q l) m) n c) ∧ ∀ x, (∀ l, l < n → ¬ tl_on (q l) (2 * m) x) → tl_fo (fun l => tl_li (q l) m) n c x = c x := by
    intro n
    induction n with
    | zero =>
      intro _
      refine ⟨fun i hi => ?_, fun x _ => rfl⟩
      have h2 := h i hi
      show -((2 * M : Nat) : Int) ≤ (c i).toInt ∧ (c i).toInt ≤ ((2 * M : Nat) : Int)
      omega
    | succ n ih =>
      intro hn
      obtain ⟨h1, h2⟩ := ih (by omega)
      have hL : tl_B M (tl_on (q n) (2 * m)) (tl_fo (fun l => tl_li (q l) m) n c) := by
        intro x hx
        rw [h2 x (fun l hl z => by
          obtain ⟨i1, y1, e1⟩ := hx
          obtain ⟨i2, y2, e2⟩ := z
          have := (hq n l i1 i2 (by omega) (by omega) y1 y2 (e1.symm.trans e2)).1
          omega)]
        obtain ⟨i1, y1, e1⟩ := hx
        rw [e1]
        exact h _ (hT n i1 (by omega) y1)
      have hB := tl_li_B (tl_Di_In hq (by omega)) hM hL
      refine ⟨fun x hx => ?_, fun x hx => ?_⟩
      · show -((2 * M : Nat) : Int) ≤ (tl_li (q n) m (tl_fo (fun l => tl_li (q l) m) n c) x).toInt ∧ (tl_li (q n) m (tl_fo (fun l => tl_li (q l) m) n c) x).toInt ≤ ((2 * M : Nat) : Int)
        by_cases z : tl_on (q n) (2 * m) x
        · exact hB x z
        · rw [(tl_li_Loc (q n) m).1 _ x z]
          exact h1 x hx
      · show tl_li (q n) m (tl_fo (fun l => tl_li (q l) m) n c) x = c x
        rw [(tl_li_Loc (q n) m).1 _ x (hx n (by omega)), h2 x (fun l hl => hx l (by omega))]
  exact (H k (Nat.le_refl k)).1
/-! the frame's four passes -/
def tl_ln (st g i : Nat) : Nat := st + i * g
def tl_q1 (f l : Nat) : Nat → Nat := tl_ln (64 * f + 8 * l) 1
def tl_q2 (f l : Nat) : Nat → Nat := tl_ln (64 * f + l) 8
def tl_q3 (f l : Nat) : Nat → Nat := tl_ln (64 * f + 16 * l) 2
def tl_q4 (f l : Nat) : Nat → Nat := tl_ln (64 * f + 2 * l) 16
def tl_T (f x : Nat) : Prop := 64 * f ≤ x ∧ x < 64 * f + 64
theorem tl_q1_D (f : Nat) : tl_Di (tl_q1 f) (2 * 4) 8 := by
  intro l l' i i' h1 h2 h3 h4 e
  simp only [tl_q1, tl_ln] at e
  omega
theorem tl_q2_D (f : Nat) : tl_Di (tl_q2 f) (2 * 4) 8 := by
  intro l l' i i' h1 h2 h3 h4 e
  simp only [tl_q2, tl_ln] at e
  omega
theorem tl_q3_D (f : Nat) : tl_Di (tl_q3 f) (2 * 2) 4 := by
  intro l l' i i' h1 h2 h3 h4 e
  simp only [tl_q3, tl_ln] at e
  omega
theorem tl_q4_D (f : Nat) : tl_Di (tl_q4 f) (2 * 2) 4 := by
  intro l l' i i' h1 h2 h3 h4 e
  simp only [tl_q4, tl_ln] at e
  omega
theorem tl_q1_T (f l i : Nat) (hl : l < 8) (hi : i < 2 * 4) : tl_T f (tl_q1 f l i) := by
  simp only [tl_q1, tl_ln, tl_T]
  omega
theorem tl_q2_T (f l i : Nat) (hl : l < 8) (hi : i < 2 * 4) : tl_T f (tl_q2 f l i) := by
  simp only [tl_q2, tl_ln, tl_T]
  omega
theorem tl_q3_T (f l i : Nat) (hl : l < 4) (hi : i < 2 * 2) : tl_T f (tl_q3 f l i) := by
  simp only [tl_q3, tl_ln, tl_T]
  omega
theorem tl_q4_T (f l i : Nat) (hl : l < 4) (hi : i < 2 * 2) : tl_T f (tl_q4 f l i) := by
  simp only [tl_q4, tl_ln, tl_T]
  omega
def tl_an (f : Nat) (c : Nat → Int32) : Nat → Int32 := tl_pa (tl_q4 f) 2 4 (tl_pa (tl_q3 f) 2 4 (tl_pa (tl_q2 f) 4 8 (tl_pa (tl_q1 f) 4 8 c)))
def tl_sy (f : Nat) (c : Nat → Int32) : Nat → Int32 := tl_pu (tl_q1 f) 4 8 (tl_pu (tl_q2 f) 4 8 (tl_pu (tl_q3 f) 2 4 (tl_pu (tl_q4 f) 2 4 c)))
theorem tl_syan (f : Nat) (c : Nat → Int32) : tl_sy f (tl_an f c) = c := by
  unfold tl_sy tl_an
  rw [tl_pua (tl_q4_D f), tl_pua (tl_q3_D f), tl_pua (tl_q2_D f), tl_pua (tl_q1_D f)]
theorem tl_an_Loc (f : Nat) : tl_Loc (tl_T f) (tl_an f) :=
  tl_Loc_comp (F := fun c => tl_pa (tl_q3 f) 2 4 (tl_pa (tl_q2 f) 4 8 (tl_pa (tl_q1 f) 4 8 c))) (G := tl_pa (tl_q4 f) 2 4) (tl_Loc_comp (F := fun c => tl_pa (tl_q2 f) 4 8 (tl_pa (tl_q1 f) 4 8 c)) (G := tl_pa (tl_q3 f) 2 4) (tl_Loc_comp (F := tl_pa (tl_q1 f) 4 8) (G := tl_pa (tl_q2 f) 4 8) (tl_pa_Loc (tl_q1_T f)) (tl_pa_Loc (tl_q2_T f))) (tl_pa_Loc (tl_q3_T f))) (tl_pa_Loc (tl_q4_T f))
theorem tl_sy_Loc (f : Nat) : tl_Loc (tl_T f) (tl_sy f) :=
  tl_Loc_comp (F := fun c => tl_pu (tl_q2 f) 4 8 (tl_pu (tl_q3 f) 2 4 (tl_pu (tl_q4 f) 2 4 c))) (G := tl_pu (tl_q1 f) 4 8) (tl_Loc_comp (F := fun c => tl_pu (tl_q3 f) 2 4 (tl_pu (tl_q4 f) 2 4 c)) (G := tl_pu (tl_q2 f) 4 8) (tl_Loc_comp (F := tl_pu (tl_q4 f) 2 4) (G := tl_pu (tl_q3 f) 2 4) (tl_pu_Loc (tl_q4_T f)) (tl_pu_Loc (tl_q3_T f))) (tl_pu_Loc (tl_q2_T f))) (tl_pu_Loc (tl_q1_T f))
theorem tl_an_B {f M : Nat} (hM : M ≤ 10000) {c : Nat → Int32} (h : tl_B M (tl_T f) c) : tl_B (2 * (2 * (2 * (2 * M)))) (tl_T f) (tl_an f c) :=
  tl_pa_B (tl_q4_D f) (tl_q4_T f) (by omega) (tl_pa_B (tl_q3_D f) (tl_q3_T f) (by omega) (tl_pa_B (tl_q2_D f) (tl_q2_T f) (by omega) (tl_pa_B (tl_q1_D f) (tl_q1_T f) (by omega) h)))
theorem tl_SSAA (c : Nat → Int32) : tl_fo tl_sy 4 (tl_fo tl_an 4 c) = c :=
  tl_inv_fo (S := tl_T) (fun k _ => tl_an_Loc k) (fun k _ => tl_sy_Loc k) (fun j k i _ _ hn a b => by
    unfold tl_T at a b
    omega) (fun k c _ => tl_syan k c) c
theorem tl_AA_G {M K : Nat} {an : Nat → (Nat → Int32) → Nat → Int32} (hL : ∀ f, tl_Loc (tl_T f) (an f)) (hA : ∀ f c, tl_B M (tl_T f) c → tl_B K (tl_T f) (an f c)) {c : Nat → Int32} (h : ∀ f, f < 4 → tl_B M (tl_T f) c) (f : Nat) (hf : f < 4) : tl_B K (tl_T f) (tl_fo an 4 c) := by
  have H : ∀ n, n ≤ 4 → (∀ j, j < n → tl_B K (tl_T j) (tl_fo an n c)) ∧ ∀ j, n ≤ j → ∀ x, tl_T j x → tl_fo an n c x = c x := by
    intro n
    induction n with
    | zero => exact fun _ => ⟨fun j hj => absurd hj (by omega), fun j _ x _ => rfl⟩
    | succ n ih =>
      intro hn
      obtain ⟨h1, h2⟩ := ih (by omega)
      have hB : tl_B M (tl_T n) (tl_fo an n c) := fun x hx => by
        rw [h2 n (by omega) x hx]
        exact h n (by omega) x hx
      rw [tl_fo_s]
      refine ⟨fun j hj => ?_, fun j hj x hx => ?_⟩
      · by_cases e : j = n
        · rw [e]
          exact hA n _ hB
        · intro x hx
          rw [(hL n).1 _ x (fun z => by
            unfold tl_T at z hx
            omega)]
          exact h1 j (by omega) x hx
      · rw [(hL n).1 _ x (fun z => by
            unfold tl_T at z hx
            omega), h2 j (by omega) x hx]
  exact (H 4 (by omega)).1 f hf
theorem tl_AA_B {M : Nat} (hM : M ≤ 10000) {c : Nat → Int32} (h : ∀ f, f < 4 → tl_B M (tl_T f) c) (f : Nat) (hf : f < 4) : tl_B (2 * (2 * (2 * (2 * M)))) (tl_T f) (tl_fo tl_an 4 c) :=
  tl_AA_G tl_an_Loc (fun _ _ hB => tl_an_B hM hB) h f hf
theorem tl_AA_hi (c : Nat → Int32) {x : Nat} (hx : 256 ≤ x) : tl_fo tl_an 4 c x = c x := by
  refine (tl_Loc_fo (S := fun i => i < 256) (F := tl_an) (n := 4) (fun k hk => tl_Loc_mono (fun i hi => ?_) (tl_an_Loc k))).1 c x (by omega)
  unfold tl_T at hi
  omega
/-! the temporal steps -/
def tl_ax (pa : Nat → Int32) (f l k : Nat) (sg : Int32) : Nat :=
  64 * f + 8 * tl_lim (nI (k / 8) + sg * ((pa (4 * l + 2 * (k / 8 / 4) + k % 8 / 4) - pa (4 * l + 2 * (k / 8 / 4) + k % 8 / 4) / 5 * 5) - 2))
    + tl_lim (nI (k % 8) + sg * ((pa (4 * l + 2 * (k / 8 / 4) + k % 8 / 4) / 5) - 2))
theorem tl_ax_T (pa : Nat → Int32) (f l k : Nat) (sg : Int32) : 64 * f ≤ tl_ax pa f l k sg ∧ tl_ax pa f l k sg < 64 * f + 64 := by
  unfold tl_ax
  have h1 := tl_lim_le (nI (k / 8) + sg * ((pa (4 * l + 2 * (k / 8 / 4) + k % 8 / 4) - pa (4 * l + 2 * (k / 8 / 4) + k % 8 / 4) / 5 * 5) - 2))
  have h2 := tl_lim_le (nI (k % 8) + sg * ((pa (4 * l + 2 * (k / 8 / 4) + k % 8 / 4) / 5) - 2))
  omega
def tl_Pp (j : Nat) : Nat := if j % 2 = 0 then 64 + j / 2 else 192 + j / 2
def tl_Pa (j : Nat) : Nat := if j % 2 = 0 then j / 2 else 128 + j / 2
def tl_rp (pa : Nat → Int32) (j : Nat) (c : Nat → Int32) : Int32 :=
  if j % 2 = 0 then (c (tl_ax pa 0 0 (j / 2) 1) + c (tl_ax pa 2 1 (j / 2) 1)) >>> ((1 : Int32) &&& 31) else c (tl_ax pa 2 2 (j / 2) 1)
def tl_ra (pa : Nat → Int32) (j : Nat) (c : Nat → Int32) : Int32 :=
  if j % 2 = 0 then c (tl_ax pa 1 0 (j / 2) (-1)) >>> ((1 : Int32) &&& 31) else ((c (tl_ax pa 1 1 (j / 2) (-1)) + c (tl_ax pa 3 2 (j / 2) (-1))) + 2) >>> ((2 : Int32) &&& 31)
theorem tl_Pp_r {j : Nat} (h : j < 128) : (64 ≤ tl_Pp j ∧ tl_Pp j < 128) ∨ (192 ≤ tl_Pp j ∧ tl_Pp j < 256) := by
  unfold tl_Pp
  split <;> omega
theorem tl_Pa_r {j : Nat} (h : j < 128) : tl_Pa j < 64 ∨ (128 ≤ tl_Pa j ∧ tl_Pa j < 192) := by
  unfold tl_Pa
  split <;> omega
theorem tl_rp_ok (pa : Nat → Int32) : tl_Ok tl_Pp (tl_rp pa) 128 := by
  refine ⟨fun i j hi hj e => ?_, fun i j c x hi hj => ?_⟩
  · unfold tl_Pp at e
    split at e <;> split at e <;> omega
  · have hP := tl_Pp_r hj
    have a0 := tl_ax_T pa 0 0 (i / 2) 1
    have a1 := tl_ax_T pa 2 1 (i / 2) 1
    have a2 := tl_ax_T pa 2 2 (i / 2) 1
    unfold tl_rp
    rw [pk_un (k := tl_Pp j) (j := tl_ax pa 0 0 (i / 2) 1) (by omega), pk_un (k := tl_Pp j) (j := tl_ax pa 2 1 (i / 2) 1) (by omega), pk_un (k := tl_Pp j) (j := tl_ax pa 2 2 (i / 2) 1) (by omega)]
theorem tl_ra_ok (pa : Nat → Int32) : tl_Ok tl_Pa (tl_ra pa) 128 := by
  refine ⟨fun i j hi hj e => ?_, fun i j c x hi hj => ?_⟩
  · unfold tl_Pa at e
    split at e <;> split at e <;> omega
  · have hP := tl_Pa_r hj
    have a0 := tl_ax_T pa 1 0 (i / 2) (-1)
    have a1 := tl_ax_T pa 1 1 (i / 2) (-1)
    have a2 := tl_ax_T pa 3 2 (i / 2) (-1)
    unfold tl_ra
    rw [pk_un (k := tl_Pa j) (j := tl_ax pa 1 0 (i / 2) (-1)) (by omega), pk_un (k := tl_Pa j) (j := tl_ax pa 1 1 (i / 2) (-1)) (by omega), pk_un (k := tl_Pa j) (j := tl_ax pa 3 2 (i / 2) (-1)) (by omega)]
def tl_pr (sg : Int32) (pa c : Nat → Int32) : Nat → Int32 := tl_fo (tl_sp tl_Pp (tl_rp pa) sg) 128 c
def tl_ad (sg : Int32) (pa c : Nat → Int32) : Nat → Int32 := tl_fo (tl_sp tl_Pa (tl_ra pa) sg) 128 c
def tl_tr (pa c : Nat → Int32) : Nat → Int32 := tl_fo tl_an 4 (tl_ad 1 pa (tl_pr (-1) pa c))
def tl_it (pa c : Nat → Int32) : Nat → Int32 := tl_pr 1 pa (tl_ad (-1) pa (tl_fo tl_sy 4 c))
theorem tl_ittr (pa c : Nat → Int32) : tl_it pa (tl_tr pa c) = c := by
  unfold tl_it tl_tr
  rw [tl_SSAA]
  exact (congrArg (tl_pr 1 pa) (tl_sp_inv (tl_ra_ok pa) tl_pm (tl_pr (-1) pa c))).trans (tl_sp_inv (tl_rp_ok pa) tl_mp c)
theorem tl_tr_hi (pa c : Nat → Int32) {x : Nat} (hx : 256 ≤ x) : tl_tr pa c x = c x := by
  unfold tl_tr
  rw [tl_AA_hi _ hx]
  have h1 : tl_ad 1 pa (tl_pr (-1) pa c) x = tl_pr (-1) pa c x := tl_sp_o _ _ _ _ _ _ (fun j hj => by
    have := tl_Pa_r hj
    omega)
  have h2 : tl_pr (-1) pa c x = c x := tl_sp_o _ _ _ _ _ _ (fun j hj => by
    have := tl_Pp_r hj
    omega)
  rw [h1, h2]
theorem tl_pr_B {pa c : Nat → Int32} (h : ∀ i, i < 256 → 0 ≤ (c i).toInt ∧ (c i).toInt ≤ 255) :
    (∀ i, i < 256 → (i < 64 ∨ 128 ≤ i ∧ i < 192) → 0 ≤ (tl_pr (-1) pa c i).toInt ∧ (tl_pr (-1) pa c i).toInt ≤ 255) ∧ ∀ i, i < 256 → -255 ≤ (tl_pr (-1) pa c i).toInt ∧ (tl_pr (-1) pa c i).toInt ≤ 255 := by
  have h0 : ∀ i, i < 256 → (i < 64 ∨ 128 ≤ i ∧ i < 192) → tl_pr (-1) pa c i = c i := fun i hi hc => tl_sp_o _ _ _ _ _ _ (fun j hj => by
    have := tl_Pp_r hj
    omega)
  refine ⟨fun i hi hc => by rw [h0 i hi hc]; exact h i hi, fun i hi => ?_⟩
  by_cases hc : i < 64 ∨ 128 ≤ i ∧ i < 192
  · rw [h0 i hi hc]
    have := h i hi
    omega
  · obtain ⟨j, hj, e⟩ : ∃ j, j < 128 ∧ i = tl_Pp j := by
      by_cases z : i < 128
      · exact ⟨2 * (i - 64), by omega, by unfold tl_Pp; rw [if_pos (by omega)]; omega⟩
      · exact ⟨2 * (i - 192) + 1, by omega, by unfold tl_Pp; rw [if_neg (by omega)]; omega⟩
    have e2 : tl_pr (-1) pa c (tl_Pp j) = c (tl_Pp j) + (-1) * tl_rp pa j c := tl_sp_v (tl_rp_ok pa) (-1) c hj
    have hx := h i hi
    rw [e, e2, tl_m1s]
    rw [e] at hx
    have a0 := tl_ax_T pa 0 0 (j / 2) 1
    have a1 := tl_ax_T pa 2 1 (j / 2) 1
    have a2 := tl_ax_T pa 2 2 (j / 2) 1
    have b0 := h _ (show tl_ax pa 0 0 (j / 2) 1 < 256 by omega)
    have b1 := h _ (show tl_ax pa 2 1 (j / 2) 1 < 256 by omega)
    have b2 := h _ (show tl_ax pa 2 2 (j / 2) 1 < 256 by omega)
    unfold tl_rp
    by_cases z : j % 2 = 0
    · rw [if_pos z]
      have e3 : (c (tl_ax pa 0 0 (j / 2) 1) + c (tl_ax pa 2 1 (j / 2) 1)).toInt = (c (tl_ax pa 0 0 (j / 2) 1)).toInt + (c (tl_ax pa 2 1 (j / 2) 1)).toInt := Jvm.Kit.i32_add (by omega) (by omega)
      have e4 := tl_sh1 (c (tl_ax pa 0 0 (j / 2) 1) + c (tl_ax pa 2 1 (j / 2) 1))
      rw [e3] at e4
      rw [Jvm.Kit.i32_sub (by rw [e4]; omega) (by rw [e4]; omega), e4]
      omega
    · rw [if_neg z, Jvm.Kit.i32_sub (by omega) (by omega)]
      omega
theorem tl_ad_B {pa c : Nat → Int32} (h : ∀ i, i < 256 → 0 ≤ (c i).toInt ∧ (c i).toInt ≤ 255) : ∀ i, i < 256 → -384 ≤ (tl_ad 1 pa (tl_pr (-1) pa c) i).toInt ∧ (tl_ad 1 pa (tl_pr (-1) pa c) i).toInt ≤ 384 := by
  intro i hi
  obtain ⟨h0, h1⟩ := tl_pr_B (pa := pa) h
  generalize tl_pr (-1) pa c = d at h0 h1 ⊢
  by_cases hc : i < 64 ∨ 128 ≤ i ∧ i < 192
  · obtain ⟨j, hj, e⟩ : ∃ j, j < 128 ∧ i = tl_Pa j := by
      by_cases z : i < 64
      · exact ⟨2 * i, by omega, by unfold tl_Pa; rw [if_pos (by omega)]; omega⟩
      · exact ⟨2 * (i - 128) + 1, by omega, by unfold tl_Pa; rw [if_neg (by omega)]; omega⟩
    have e2 : tl_ad 1 pa d (tl_Pa j) = d (tl_Pa j) + 1 * tl_ra pa j d := tl_sp_v (tl_ra_ok pa) 1 d hj
    have hx := h0 i hi hc
    rw [e, e2, tl_p1s]
    rw [e] at hx
    have a0 := tl_ax_T pa 1 0 (j / 2) (-1)
    have a1 := tl_ax_T pa 1 1 (j / 2) (-1)
    have a2 := tl_ax_T pa 3 2 (j / 2) (-1)
    have b0 := h1 _ (show tl_ax pa 1 0 (j / 2) (-1) < 256 by omega)
    have b1 := h1 _ (show tl_ax pa 1 1 (j / 2) (-1) < 256 by omega)
    have b2 := h1 _ (show tl_ax pa 3 2 (j / 2) (-1) < 256 by omega)
    unfold tl_ra
    by_cases z : j % 2 = 0
    · rw [if_pos z]
      have e4 := tl_sh1 (d (tl_ax pa 1 0 (j / 2) (-1)))
      rw [Jvm.Kit.i32_add (by rw [e4]; omega) (by rw [e4]; omega), e4]
      omega
    · rw [if_neg z]
      have e3 : (d (tl_ax pa 1 1 (j / 2) (-1)) + d (tl_ax pa 3 2 (j / 2) (-1))).toInt = (d (tl_ax pa 1 1 (j / 2) (-1))).toInt + (d (tl_ax pa 3 2 (j / 2) (-1))).toInt := Jvm.Kit.i32_add (by omega) (by omega)
      have e5 : (d (tl_ax pa 1 1 (j / 2) (-1)) + d (tl_ax pa 3 2 (j / 2) (-1)) + 2).toInt = (d (tl_ax pa 1 1 (j / 2) (-1))).toInt + (d (tl_ax pa 3 2 (j / 2) (-1))).toInt + 2 := by
        rw [Jvm.Kit.i32_add (by rw [e3, tl_i2]; omega) (by rw [e3, tl_i2]; omega), e3, tl_i2]
      have e4 := tl_sh2 (d (tl_ax pa 1 1 (j / 2) (-1)) + d (tl_ax pa 3 2 (j / 2) (-1)) + 2)
      rw [e5] at e4
      rw [Jvm.Kit.i32_add (by rw [e4]; omega) (by rw [e4]; omega), e4]
      omega
  · have e : tl_ad 1 pa d i = d i := tl_sp_o _ _ _ _ _ _ (fun j hj => by
      have := tl_Pa_r hj
      omega)
    rw [e]
    have := h1 i hi
    omega
theorem tl_tr_B {pa c : Nat → Int32} (h : ∀ i, i < 256 → 0 ≤ (c i).toInt ∧ (c i).toInt ≤ 255) (i : Nat) (hi : i < 256) : -6144 ≤ (tl_tr pa c i).toInt ∧ (tl_tr pa c i).toInt ≤ 6144 := by
  have H := tl_AA_B (M := 384) (by omega) (c := tl_ad 1 pa (tl_pr (-1) pa c)) (fun f hf x hx => tl_ad_B h x (by
    unfold tl_T at hx
    omega)) (i / 64) (by omega) i (by unfold tl_T; omega)
  exact H
end
section
/-! numbers in bits, the stream of a slot -/
def tl_bs (v : Nat) : Nat → List Bool
  | 0 => []
  | L + 1 => v.testBit L :: tl_bs v L
theorem tl_bs_len (v : Nat) : ∀ L, (tl_bs v L).length = L
  | 0 => rfl
  | L + 1 => congrArg (· + 1) (tl_bs_len v L)
def tl_val : Nat → List Bool → Nat
  | acc, [] => acc
  | acc, b :: l => tl_val (2 * acc + b.toNat) l
theorem tl_tb (v L : Nat) : (v.testBit L).toNat = v / 2 ^ L % 2 := by
  rw [Nat.testBit_eq_decide_div_mod_eq]
  rcases Nat.mod_two_eq_zero_or_one (v / 2 ^ L) with h | h <;> rw [h] <;> rfl
theorem tl_val_bs (v : Nat) : ∀ L acc, tl_val acc (tl_bs v L) = acc * 2 ^ L + v % 2 ^ L := by
  intro L
  induction L with
  | zero =>
    intro acc
    show acc = acc * 1 + v % 1
    omega
  | succ L ih =>
    intro acc
    show tl_val (2 * acc + (v.testBit L).toNat) (tl_bs v L) = _
    rw [ih, tl_tb, Nat.mod_pow_succ, Nat.pow_succ, Nat.add_mul, Nat.mul_comm (2 ^ L) (v / 2 ^ L % 2), Nat.mul_comm 2 acc, Nat.mul_assoc, Nat.mul_comm 2 (2 ^ L)]
    omega
theorem tl_val_bs0 {v L : Nat} (h : v < 2 ^ L) : tl_val 0 (tl_bs v L) = v := by
  rw [tl_val_bs, Nat.zero_mul, Nat.zero_add, Nat.mod_eq_of_lt h]
def tl_at (st : Nat → Int32) (s q : Nat) : Bool := bt (st (160 * s + q / 32)) (q % 32)
def tl_pt (s q : Nat) (b : Bool) (st : Nat → Int32) : Nat → Int32 := upd st (160 * s + q / 32) (st (160 * s + q / 32) ||| (tl_b b <<< (nI (q % 32) &&& 31)))
def tl_pts (s : Nat) : Nat → List Bool → (Nat → Int32) → Nat → Int32
  | _, [], st => st
  | q, b :: l, st => tl_pts s (q + 1) l (tl_pt s q b st)
theorem tl_pts_app (s : Nat) (l' : List Bool) : ∀ l q st, tl_pts s q (l ++ l') st = tl_pts s (q + l.length) l' (tl_pts s q l st) := by
  intro l
  induction l with
  | nil => exact fun q st => rfl
  | cons b l ih =>
    intro q st
    show tl_pts s (q + 1) (l ++ l') (tl_pt s q b st) = tl_pts s (q + (l.length + 1)) l' (tl_pts s (q + 1) l (tl_pt s q b st))
    rw [ih, show q + 1 + l.length = q + (l.length + 1) by omega]
theorem tl_bt1 : ∀ i, i < 32 → bt 1 i = decide (i = 0) := by decide +kernel
theorem tl_btb (b : Bool) {i : Nat} (hi : i < 32) : bt (tl_b b) i = (decide (i = 0) && b) := by
  cases b
  · rw [Bool.and_false]
    exact b_0 i
  · rw [Bool.and_true]
    exact tl_bt1 i hi
theorem tl_pt_at (s q : Nat) (b : Bool) (st : Nat → Int32) (q' : Nat) : tl_at (tl_pt s q b st) s q' = (tl_at st s q' || (decide (q' = q) && b)) := by
  unfold tl_at tl_pt
  by_cases h : q' / 32 = q / 32
  · rw [h, pk_us, b_or, b_shl (q % 32) (by omega) _ (by omega), tl_btb b (by omega)]
    by_cases e : q' = q
    · rw [e, Nat.sub_self, decide_eq_true (Nat.le_refl _), decide_eq_true rfl, decide_eq_true rfl]
      rfl
    · rw [decide_eq_false e]
      by_cases z : q % 32 ≤ q' % 32
      · rw [decide_eq_false (p := q' % 32 - q % 32 = 0) (by omega), Bool.false_and, Bool.and_false]
      · rw [decide_eq_false z]
        rfl
  · rw [pk_un (by omega), decide_eq_false (p := q' = q) (fun e => h (by rw [e])), Bool.false_and, Bool.or_false]
theorem tl_pts_at (s q' : Nat) : ∀ l q st, tl_at (tl_pts s q l st) s q' = (tl_at st s q' || (decide (q ≤ q') && l.getD (q' - q) false)) := by
  intro l
  induction l with
  | nil =>
    intro q st
    show tl_at st s q' = _
    rw [List.getD_nil, Bool.and_false, Bool.or_false]
  | cons b l ih =>
    intro q st
    show tl_at (tl_pts s (q + 1) l (tl_pt s q b st)) s q' = _
    rw [ih, tl_pt_at]
    by_cases h : q ≤ q'
    · by_cases e : q' = q
      · rw [e, Nat.sub_self, List.getD_cons_zero, decide_eq_true rfl, decide_eq_true (Nat.le_refl q), decide_eq_false (p := q + 1 ≤ q) (by omega), Bool.true_and, Bool.false_and, Bool.or_false]
      · rw [show q' - q = (q' - (q + 1)) + 1 by omega, List.getD_cons_succ, decide_eq_false e, decide_eq_true h, decide_eq_true (p := q + 1 ≤ q') (by omega), Bool.false_and, Bool.or_false]
    · rw [decide_eq_false h, decide_eq_false (p := q' = q) (by omega), decide_eq_false (p := q + 1 ≤ q') (by omega), Bool.false_and, Bool.false_and, Bool.false_and, Bool.or_false]
theorem tl_pts_o (s : Nat) {i : Nat} (hi : i < 160 * s ∨ 160 * s + 160 ≤ i) : ∀ l q st, q + l.length ≤ 5120 → tl_pts s q l st i = st i := by
  intro l
  induction l with
  | nil => exact fun q st _ => rfl
  | cons b l ih =>
    intro q st h
    have h2 : q + (l.length + 1) ≤ 5120 := h
    show tl_pts s (q + 1) l (tl_pt s q b st) i = st i
    rw [ih _ _ (by omega)]
    exact pk_un (by omega)
def tl_RD (s : Nat) (st : Nat → Int32) (q : Nat) (l : List Bool) : Prop := ∀ j, j < l.length → q + j < 5120 ∧ tl_at st s (q + j) = l.getD j false
theorem tl_RD_pts {s : Nat} {st : Nat → Int32} (hz : ∀ i, i < 160 → st (160 * s + i) = 0) {l : List Bool} (hl : l.length ≤ 5120) : tl_RD s (tl_pts s 0 l st) 0 l := by
  intro j hj
  refine ⟨by omega, ?_⟩
  rw [tl_pts_at, Nat.zero_add, Nat.sub_zero, decide_eq_true (Nat.zero_le j), Bool.true_and]
  have e : tl_at st s j = false := by
    unfold tl_at
    rw [hz _ (by omega)]
    exact b_0 _
  rw [e, Bool.false_or]
theorem tl_RD_app {s : Nat} {st : Nat → Int32} {q : Nat} {l l' : List Bool} (h : tl_RD s st q (l ++ l')) : tl_RD s st q l ∧ tl_RD s st (q + l.length) l' := by
  constructor
  · intro j hj
    obtain ⟨h1, h2⟩ := h j (by rw [List.length_append]; omega)
    refine ⟨h1, h2.trans ?_⟩
    rw [List.getD_eq_getElem?_getD, List.getElem?_append_left hj, ← List.getD_eq_getElem?_getD]
  · intro j hj
    obtain ⟨h1, h2⟩ := h (l.length + j) (by rw [List.length_append]; omega)
    refine ⟨by omega, ?_⟩
    rw [Nat.add_assoc, h2, List.getD_eq_getElem?_getD, List.getElem?_append_right (by omega), Nat.add_sub_cancel_left, ← List.getD_eq_getElem?_getD]
theorem tl_RD_cp {s o : Nat} {st st' : Nat → Int32} {l : List Bool} (h : tl_RD s st 0 l) (e : ∀ i, i < 160 → st' (160 * o + i) = st (160 * s + i)) : tl_RD o st' 0 l := by
  intro j hj
  obtain ⟨h1, h2⟩ := h j hj
  refine ⟨h1, ?_⟩
  rw [← h2]
  unfold tl_at
  rw [e _ (by omega)]
/-! the code of sizes M and signs N: planes from high to low, groups of four -/
def tl_bit (M : Nat → Nat) (p i : Nat) : Bool := (M i).testBit p
def tl_S (M : Nat → Nat) (p i : Nat) : Bool := decide (2 ^ p ≤ M i)
theorem tl_S_s (M : Nat → Nat) (p i : Nat) : tl_S M p i = (tl_S M (p + 1) i || tl_bit M p i) := by
  unfold tl_S tl_bit
  have h2 : 2 ^ (p + 1) = 2 * 2 ^ p := by rw [Nat.pow_succ, Nat.mul_comm]
  have h0 : 0 < 2 ^ p := Nat.two_pow_pos p
  by_cases h : 2 ^ (p + 1) ≤ M i
  · rw [decide_eq_true h, decide_eq_true (p := 2 ^ p ≤ M i) (by omega), Bool.true_or]
  · rw [decide_eq_false h, Bool.false_or, Nat.testBit_eq_decide_div_mod_eq]
    by_cases z : 2 ^ p ≤ M i
    · rw [Nat.div_eq_of_lt_le (k := 1) (by omega) (by omega), decide_eq_true z]
      rfl
    · rw [Nat.div_eq_of_lt (by omega), decide_eq_false z]
      rfl
def tl_G (M : Nat → Nat) (p g : Nat) : Bool := tl_S M p (4 * g) || (tl_S M p (4 * g + 1) || (tl_S M p (4 * g + 2) || tl_S M p (4 * g + 3)))
def tl_any (M : Nat → Nat) (p : Nat) : Nat → Nat → Bool
  | 0, _ => false
  | d + 1, i => tl_bit M p i || tl_any M p d (i + 1)
theorem tl_G_f {M : Nat → Nat} {p g : Nat} (h : tl_G M (p + 1) g = false) : tl_G M p g = tl_any M p 4 (4 * g) := by
  unfold tl_G at h ⊢
  rw [Bool.or_eq_false_iff, Bool.or_eq_false_iff, Bool.or_eq_false_iff] at h
  obtain ⟨h0, h1, h2, h3⟩ := h
  rw [tl_S_s M p (4 * g), tl_S_s M p (4 * g + 1), tl_S_s M p (4 * g + 2), tl_S_s M p (4 * g + 3), h0, h1, h2, h3]
  show _ = (tl_bit M p (4 * g) || (tl_bit M p (4 * g + 1) || (tl_bit M p (4 * g + 2) || (tl_bit M p (4 * g + 3) || false))))
  rw [Bool.or_false, Bool.false_or, Bool.false_or, Bool.false_or, Bool.false_or]
theorem tl_G_t {M : Nat → Nat} {p g : Nat} (h : tl_G M (p + 1) g = true) : tl_G M p g = true := by
  unfold tl_G at h ⊢
  rw [tl_S_s M p (4 * g), tl_S_s M p (4 * g + 1), tl_S_s M p (4 * g + 2), tl_S_s M p (4 * g + 3)]
  simp only [Bool.or_eq_true] at h ⊢
  rcases h with h | h | h | h
  · exact Or.inl (Or.inl h)
  · exact Or.inr (Or.inl (Or.inl h))
  · exact Or.inr (Or.inr (Or.inl (Or.inl h)))
  · exact Or.inr (Or.inr (Or.inr (Or.inl h)))
theorem tl_G_in {M : Nat → Nat} {p g : Nat} (h : tl_G M p g = false) {i : Nat} (h1 : 4 * g ≤ i) (h2 : i < 4 * g + 4) : tl_S M p i = false := by
  unfold tl_G at h
  rw [Bool.or_eq_false_iff, Bool.or_eq_false_iff, Bool.or_eq_false_iff] at h
  obtain ⟨a0, a1, a2, a3⟩ := h
  have : i = 4 * g ∨ i = 4 * g + 1 ∨ i = 4 * g + 2 ∨ i = 4 * g + 3 := by omega
  rcases this with e | e | e | e <;> rw [e] <;> assumption
def tl_cc (M : Nat → Nat) (N : Nat → Bool) (p i : Nat) : List Bool := tl_bit M p i :: (if (!tl_S M (p + 1) i && tl_bit M p i) = true then [N i] else [])
def tl_cs (M : Nat → Nat) (N : Nat → Bool) (p : Nat) : Nat → Nat → List Bool
  | 0, _ => []
  | d + 1, i => tl_cc M N p i ++ tl_cs M N p d (i + 1)
def tl_gc (M : Nat → Nat) (N : Nat → Bool) (p g : Nat) : List Bool := (if tl_G M (p + 1) g = true then [] else [tl_G M p g]) ++ (if tl_G M p g = true then tl_cs M N p 4 (4 * g) else [])
def tl_gs (M : Nat → Nat) (N : Nat → Bool) (p : Nat) : Nat → Nat → List Bool
  | 0, _ => []
  | d + 1, g => tl_gc M N p g ++ tl_gs M N p d (g + 1)
def tl_pl (M : Nat → Nat) (N : Nat → Bool) (f : Nat) : Nat → List Bool
  | 0 => []
  | p + 1 => tl_gs M N p 16 (16 * f) ++ tl_pl M N f p
def tl_or (M : Nat → Nat) : Nat → Nat → Nat
  | 0, _ => 0
  | d + 1, i => M i ||| tl_or M d (i + 1)
def tl_np (a : Nat) : Nat → Nat
  | 0 => 0
  | b + 1 => if a / 2 ^ b = 0 then tl_np a b else b + 1
def tl_P (M : Nat → Nat) (f : Nat) : Nat := tl_np (tl_or M 64 (64 * f)) 15
def tl_fc (M : Nat → Nat) (N : Nat → Bool) (f : Nat) : List Bool := tl_bs (tl_P M f) 4 ++ tl_pl M N f (tl_P M f)
def tl_fs (M : Nat → Nat) (N : Nat → Bool) : Nat → Nat → List Bool
  | 0, _ => []
  | d + 1, f => tl_fc M N f ++ tl_fs M N d (f + 1)
def tl_vs (V : Nat → Nat) : Nat → Nat → List Bool
  | 0, _ => []
  | d + 1, k => tl_bs (V k) 5 ++ tl_vs V d (k + 1)
def tl_cd (M : Nat → Nat) (N : Nat → Bool) (V : Nat → Nat) : List Bool := tl_vs V 12 0 ++ tl_fs M N 4 0
def tl_mg (c : Nat → Int32) (i : Nat) : Nat := (c i).toInt.natAbs
def tl_ng (c : Nat → Int32) (i : Nat) : Bool := decide (c i < 0)
def tl_cl (n : Nat) (a : Nat → Int32) : Nat → Int32 := fun i => if i < n then a i else 0
def tl_nt (a : Nat → Int32) (i : Nat) : Nat := (a i).toNatClampNeg
def tl_C (fr ve : Nat → Int32) : Nat → Int32 := tl_tr (tl_cl 12 ve) (tl_cl 256 fr)
def tl_code (fr ve : Nat → Int32) : List Bool := tl_cd (tl_mg (tl_C fr ve)) (tl_ng (tl_C fr ve)) (tl_nt (tl_cl 12 ve))
theorem tl_cl_c {n : Nat} {a b : Nat → Int32} (h : ∀ i, i < n → a i = b i) : tl_cl n a = tl_cl n b := by
  funext i
  unfold tl_cl
  by_cases z : i < n
  · rw [if_pos z, if_pos z, h i z]
  · rw [if_neg z, if_neg z]
theorem tl_code_c {a b v w : Nat → Int32} (h : ∀ i, i < 256 → a i = b i) (h2 : ∀ i, i < 12 → v i = w i) : tl_code a v = tl_code b w := by
  unfold tl_code tl_C
  rw [tl_cl_c h, tl_cl_c h2]
/-! how long it is -/
def tl_s (M : Nat → Nat) (p i : Nat) : Nat := (tl_S M p i).toNat
def tl_sm (f : Nat → Nat) : Nat → Nat → Nat
  | 0, _ => 0
  | d + 1, i => f i + tl_sm f d (i + 1)
theorem tl_sm_add (f : Nat → Nat) (b : Nat) : ∀ a i, tl_sm f (a + b) i = tl_sm f a i + tl_sm f b (i + a) := by
  intro a
  induction a with
  | zero =>
    intro i
    rw [Nat.zero_add]
    show _ = 0 + tl_sm f b i
    omega
  | succ a ih =>
    intro i
    rw [show a + 1 + b = (a + b) + 1 by omega]
    show f i + tl_sm f (a + b) (i + 1) = f i + tl_sm f a (i + 1) + tl_sm f b (i + (a + 1))
    rw [ih, show i + 1 + a = i + (a + 1) by omega]
    omega
theorem tl_sm_le {f g : Nat → Nat} (h : ∀ i, f i ≤ g i) : ∀ d i, tl_sm f d i ≤ tl_sm g d i := by
  intro d
  induction d with
  | zero => exact fun i => Nat.le_refl 0
  | succ d ih => exact fun i => Nat.add_le_add (h i) (ih (i + 1))
theorem tl_sm_1 (M : Nat → Nat) (p : Nat) : ∀ d i, tl_sm (tl_s M p) d i ≤ d := by
  intro d
  induction d with
  | zero => exact fun i => Nat.le_refl 0
  | succ d ih =>
    intro i
    have h1 : tl_s M p i ≤ 1 := by
      unfold tl_s
      cases tl_S M p i <;> decide
    have h2 := ih (i + 1)
    show tl_s M p i + tl_sm (tl_s M p) d (i + 1) ≤ d + 1
    omega
theorem tl_s_le (M : Nat → Nat) (p i : Nat) : tl_s M (p + 1) i ≤ tl_s M p i := by
  unfold tl_s
  rw [tl_S_s M p i]
  cases tl_S M (p + 1) i <;> cases tl_bit M p i <;> decide
theorem tl_cc_len (M : Nat → Nat) (N : Nat → Bool) (p i : Nat) : (tl_cc M N p i).length + tl_s M (p + 1) i = 1 + tl_s M p i := by
  unfold tl_cc tl_s
  rw [tl_S_s M p i]
  cases tl_S M (p + 1) i <;> cases tl_bit M p i <;> rfl
theorem tl_cs_len (M : Nat → Nat) (N : Nat → Bool) (p : Nat) : ∀ d i, (tl_cs M N p d i).length + tl_sm (tl_s M (p + 1)) d i = d + tl_sm (tl_s M p) d i := by
  intro d
  induction d with
  | zero => exact fun i => rfl
  | succ d ih =>
    intro i
    have h1 := tl_cc_len M N p i
    have h2 := ih (i + 1)
    show (tl_cc M N p i ++ tl_cs M N p d (i + 1)).length + (tl_s M (p + 1) i + tl_sm (tl_s M (p + 1)) d (i + 1)) = (d + 1) + (tl_s M p i + tl_sm (tl_s M p) d (i + 1))
    rw [List.length_append]
    omega
theorem tl_gc_len (M : Nat → Nat) (N : Nat → Bool) (p g : Nat) : (tl_gc M N p g).length + tl_sm (tl_s M (p + 1)) 4 (4 * g) ≤ 5 + tl_sm (tl_s M p) 4 (4 * g) := by
  have h1 := tl_cs_len M N p 4 (4 * g)
  have h2 := tl_sm_le (tl_s_le M p) 4 (4 * g)
  have h3 : (if tl_G M (p + 1) g = true then ([] : List Bool) else [tl_G M p g]).length ≤ 1 := by
    split
    · exact Nat.zero_le 1
    · exact Nat.le_refl 1
  unfold tl_gc
  rw [List.length_append]
  by_cases z : tl_G M p g = true
  · rw [if_pos z]
    omega
  · rw [if_neg z]
    show _ + 0 + _ ≤ _
    omega
theorem tl_gs_len (M : Nat → Nat) (N : Nat → Bool) (p : Nat) : ∀ d g, (tl_gs M N p d g).length + tl_sm (tl_s M (p + 1)) (4 * d) (4 * g) ≤ 5 * d + tl_sm (tl_s M p) (4 * d) (4 * g) := by
  intro d
  induction d with
  | zero => exact fun g => Nat.le_refl 0
  | succ d ih =>
    intro g
    have h1 := tl_gc_len M N p g
    have h2 := ih (g + 1)
    rw [show 4 * (d + 1) = 4 + 4 * d by omega, tl_sm_add, tl_sm_add]
    show (tl_gc M N p g ++ tl_gs M N p d (g + 1)).length + _ ≤ _
    rw [List.length_append]
    rw [show 4 * (g + 1) = 4 * g + 4 by omega] at h2
    omega
theorem tl_pl_len (M : Nat → Nat) (N : Nat → Bool) (f : Nat) : ∀ P, (tl_pl M N f P).length + tl_sm (tl_s M P) 64 (64 * f) ≤ 80 * P + tl_sm (tl_s M 0) 64 (64 * f) := by
  intro P
  induction P with
  | zero => 
    show 0 + _ ≤ 0 + _
    exact Nat.le_refl _
  | succ P ih =>
    have h1 := tl_gs_len M N P 16 (16 * f)
    rw [show 4 * 16 = 64 from rfl, show 4 * (16 * f) = 64 * f by omega] at h1
    show (tl_gs M N P 16 (16 * f) ++ tl_pl M N f P).length + _ ≤ _
    rw [List.length_append]
    omega
theorem tl_np_lt {a : Nat} : ∀ b, a < 2 ^ b → a < 2 ^ tl_np a b := by
  intro b
  induction b with
  | zero => exact fun h => h
  | succ b ih =>
    intro h
    unfold tl_np
    by_cases z : a / 2 ^ b = 0
    · rw [if_pos z]
      refine ih ?_
      rcases Nat.div_eq_zero_iff.mp z with e | e
      · exact absurd e (by have := Nat.two_pow_pos b; omega)
      · exact e
    · rw [if_neg z]
      exact h
theorem tl_np_le {a n : Nat} (h : a < 2 ^ n) : ∀ b, tl_np a b ≤ n := by
  intro b
  induction b with
  | zero => exact Nat.zero_le n
  | succ b ih =>
    unfold tl_np
    by_cases z : a / 2 ^ b = 0
    · rw [if_pos z]
      exact ih
    · rw [if_neg z]
      have h1 : 2 ^ b ≤ a := Nat.not_lt.mp (fun y => z (Nat.div_eq_of_lt y))
      exact (Nat.pow_lt_pow_iff_right (a := 2) (by decide)).mp (Nat.lt_of_le_of_lt h1 h)
theorem tl_or_lt {M : Nat → Nat} {n : Nat} : ∀ d i, (∀ j, i ≤ j → j < i + d → M j < 2 ^ n) → tl_or M d i < 2 ^ n := by
  intro d
  induction d with
  | zero => exact fun i _ => Nat.two_pow_pos n
  | succ d ih => exact fun i h => Nat.or_lt_two_pow (h i (Nat.le_refl i) (by omega)) (ih (i + 1) (fun j h1 h2 => h j (by omega) (by omega)))
theorem tl_or_ge {M : Nat → Nat} : ∀ d i j, i ≤ j → j < i + d → M j ≤ tl_or M d i := by
  intro d
  induction d with
  | zero => intro i j h1 h2; omega
  | succ d ih =>
    intro i j h1 h2
    show M j ≤ M i ||| tl_or M d (i + 1)
    by_cases e : j = i
    · rw [e]
      exact Nat.left_le_or
    · exact Nat.le_trans (ih (i + 1) j (by omega) (by omega)) Nat.right_le_or
def tl_sml (M : Nat → Nat) : Prop := ∀ i, i < 256 → M i < 2 ^ 13
theorem tl_P_le {M : Nat → Nat} (h : tl_sml M) {f : Nat} (hf : f < 4) : tl_P M f ≤ 13 := tl_np_le (tl_or_lt 64 (64 * f) (fun j h1 h2 => h j (by omega))) 15
theorem tl_P_lt {M : Nat → Nat} (h : tl_sml M) {f : Nat} (hf : f < 4) {i : Nat} (h1 : 64 * f ≤ i) (h2 : i < 64 * f + 64) : M i < 2 ^ tl_P M f := by
  have h3 : tl_or M 64 (64 * f) < 2 ^ 13 := tl_or_lt 64 (64 * f) (fun j h1 h2 => h j (by omega))
  have h4 : tl_or M 64 (64 * f) < 2 ^ tl_P M f := tl_np_lt 15 (by omega)
  exact Nat.lt_of_le_of_lt (tl_or_ge 64 (64 * f) i h1 h2) h4
theorem tl_fc_len {M : Nat → Nat} (h : tl_sml M) (N : Nat → Bool) {f : Nat} (hf : f < 4) : (tl_fc M N f).length ≤ 1108 := by
  have h1 := tl_pl_len M N f (tl_P M f)
  have h2 := tl_sm_1 M 0 64 (64 * f)
  have h3 := tl_P_le h hf
  unfold tl_fc
  rw [List.length_append, tl_bs_len]
  omega
theorem tl_fs_len {M : Nat → Nat} (h : tl_sml M) (N : Nat → Bool) : ∀ d f, f + d ≤ 4 → (tl_fs M N d f).length ≤ 1108 * d := by
  intro d
  induction d with
  | zero => exact fun f _ => Nat.le_refl 0
  | succ d ih =>
    intro f hf
    have h1 := tl_fc_len h N (f := f) (by omega)
    have h2 := ih (f + 1) (by omega)
    show (tl_fc M N f ++ tl_fs M N d (f + 1)).length ≤ _
    rw [List.length_append]
    omega
theorem tl_vs_len (V : Nat → Nat) : ∀ d k, (tl_vs V d k).length = 5 * d := by
  intro d
  induction d with
  | zero => exact fun k => rfl
  | succ d ih =>
    intro k
    show (tl_bs (V k) 5 ++ tl_vs V d (k + 1)).length = _
    rw [List.length_append, tl_bs_len, ih]
    omega
theorem tl_cd_len {M : Nat → Nat} (h : tl_sml M) (N : Nat → Bool) (V : Nat → Nat) : (tl_cd M N V).length ≤ 5120 := by
  have h1 := tl_fs_len h N 4 0 (by omega)
  unfold tl_cd
  rw [List.length_append, tl_vs_len]
  omega
theorem tl_cl_R {a : Nat → Int32} (h : tl_U 255 a) (i : Nat) (_ : i < 256) : 0 ≤ (tl_cl 256 a i).toInt ∧ (tl_cl 256 a i).toInt ≤ 255 := by
  unfold tl_cl
  by_cases z : i < 256
  · obtain ⟨n, hn, e⟩ := h i
    rw [if_pos z, e, nI_toInt (by omega)]
    omega
  · omega
theorem tl_C_B {fr ve : Nat → Int32} (h : tl_U 255 fr) (i : Nat) (hi : i < 256) : -6144 ≤ (tl_C fr ve i).toInt ∧ (tl_C fr ve i).toInt ≤ 6144 := tl_tr_B (tl_cl_R h) i hi
theorem tl_C_sml {fr ve : Nat → Int32} (h : tl_U 255 fr) : tl_sml (tl_mg (tl_C fr ve)) := by
  intro i hi
  have := tl_C_B (ve := ve) h i hi
  unfold tl_mg
  omega
theorem tl_C_hi {fr ve : Nat → Int32} {i : Nat} (hi : 256 ≤ i) : tl_C fr ve i = 0 := by
  unfold tl_C
  rw [tl_tr_hi _ _ hi]
  exact if_neg (by omega)
theorem tl_mgng {c : Nat → Int32} {i : Nat} (h : (c i).toInt.natAbs < 2 ^ 31) : (if tl_ng c i = true then -nI (tl_mg c i) else nI (tl_mg c i)) = c i := by
  have h0 : (0 : Int32).toInt = 0 := by decide
  unfold tl_ng tl_mg
  by_cases z : c i < 0
  · rw [if_pos (decide_eq_true z)]
    rw [Int32.lt_iff_toInt_lt, h0] at z
    apply Int32.toInt_inj.mp
    rw [Jvm.Kit.i32_neg (by rw [nI_toInt h]; omega), nI_toInt h]
    omega
  · rw [if_neg (by rw [decide_eq_false z]; decide)]
    rw [Int32.lt_iff_toInt_lt, h0] at z
    apply Int32.toInt_inj.mp
    rw [nI_toInt h]
    omega
end
section
/-! the relation -/
def tl_F (fr ou ve ov st fu ce pa ke kv : Nat → Int32) : Prop :=
  tl_U 255 fr ∧ tl_U 255 ou ∧ tl_U 24 ve ∧ tl_U 24 ov ∧ tl_U 1 fu ∧ tl_U 255 ke ∧ tl_U 24 kv ∧ (∀ i, 256 ≤ i → ce i = 0) ∧ (∀ i, 12 ≤ i → pa i = 0) ∧
    ∀ s, s < 2 → fu s = 1 → tl_RD s st 0 (tl_code (fun i => ke (256 * s + i)) (fun i => kv (12 * s + i)))
def i_Rel (_ : Nat) (u : SX) (v : SY) : Prop := match u, v with
  | (_, _, fr, ou, ve, ov, st, fu, ce, pa, _, _, _, _), (wo, sh, ke, vc, sv, kv, fi) => wo = fr ∧ sh = ou ∧ vc = ve ∧ sv = ov ∧ fi = fu ∧ tl_F fr ou ve ov st fu ce pa ke kv
theorem i_up {k : Nat} {u : SX} {v : SY} (h : i_Rel k u v) : i_Rel (k + 5) u v := h
section
variable {base place : Int32} {fr ou ve ov st fu ce pa si ne se gs ke kv : Nat → Int32}
theorem tl_in {k : Nat} (F : tl_F fr ou ve ov st fu ce pa ke kv) : i_Rel k (base, place, fr, ou, ve, ov, st, fu, ce, pa, si, ne, se, gs) (fr, ou, ke, ve, ov, kv, fu) :=
  And.intro rfl (And.intro rfl (And.intro rfl (And.intro rfl (And.intro rfl F))))
theorem tl_el {P : SX → SY → Prop} {k : Nat} {u : SX} {v : SY} (I : i_Rel k u v) (h : ∀ base place fr ou ve ov st fu ce pa si ne se gs ke kv, tl_F fr ou ve ov st fu ce pa ke kv → P (base, place, fr, ou, ve, ov, st, fu, ce, pa, si, ne, se, gs) (fr, ou, ke, ve, ov, kv, fu)) : P u v := by
  obtain ⟨base, place, fr, ou, ve, ov, st, fu, ce, pa, si, ne, se, gs⟩ := u
  obtain ⟨wo, sh, ke, vc, sv, kv, fi⟩ := v
  obtain ⟨e1, e2, e3, e4, e5, F⟩ := I
  subst e1 e2 e3 e4 e5
  exact h _ _ _ _ _ _ _ _ _ _ _ _ _ _ _ _ F
theorem tl_F_fr {fr' : Nat → Int32} (F : tl_F fr ou ve ov st fu ce pa ke kv) (h : tl_U 255 fr') : tl_F fr' ou ve ov st fu ce pa ke kv := And.intro h F.2
theorem tl_F_ve {ve' : Nat → Int32} (F : tl_F fr ou ve ov st fu ce pa ke kv) (h : tl_U 24 ve') : tl_F fr ou ve' ov st fu ce pa ke kv := And.intro F.1 (And.intro F.2.1 (And.intro h F.2.2.2))
theorem tl_F_fu {fu' : Nat → Int32} (F : tl_F fr ou ve ov st fu ce pa ke kv) (h : tl_U 1 fu') (h2 : ∀ s, s < 2 → fu' s = 1 → fu s = 1) : tl_F fr ou ve ov st fu' ce pa ke kv := by
  obtain ⟨a1, a2, a3, a4, a5, a6, a7, a8, a9, a10⟩ := F
  exact And.intro a1 (And.intro a2 (And.intro a3 (And.intro a4 (And.intro h (And.intro a6 (And.intro a7 (And.intro a8 (And.intro a9 (fun s hs e => a10 s hs (h2 s hs e))))))))))
theorem tl_fu01 (F : tl_F fr ou ve ov st fu ce pa ke kv) (s : Nat) : fu s = 0 ∨ fu s = 1 := by
  obtain ⟨n, hn, e⟩ := F.2.2.2.2.1 s
  have : n = 0 ∨ n = 1 := by omega
  rcases this with z | z
  · exact Or.inl (by rw [e, z]; rfl)
  · exact Or.inr (by rw [e, z]; rfl)
theorem tl_a255 (v : Int32) : ∃ n : Nat, n ≤ 255 ∧ v &&& 255 = nI n := by
  obtain ⟨j, hj, e⟩ := pk_andE v (m := 255) 8 (by decide)
  exact ⟨j, by omega, e⟩
/-! put, pixel, out -/
theorem tx_put {post : Int32 → SX → Prop} {f x y : Nat} (hf : f ≤ 3) (hx : x ≤ 7) (hy : y ≤ 7) (v : Int32) (hp : post (fr (64 * f + 8 * y + x)) (base, place, upd fr (64 * f + 8 * y + x) (v &&& 255), ou, ve, ov, st, fu, ce, pa, si, ne, se, gs)) : wpX_put post (base, place, fr, ou, ve, ov, st, fu, ce, pa, si, ne, se, gs) (nI f) (nI x) (nI y) v := by
  unfold wpX_put
  refine tx_isFrame_y hf (br_f (by decide) (tx_isInside_y hx hy (br_f (by decide) ?_)))
  refine nm_r (tl_ix f y x) ?_
  rw [nI_clamp (n := 64 * f + 8 * y + x) (by omega)]
  exact ⟨vp_in_nI (by omega) (by decide), nm_e ⟨vp_in_nI (by omega) (by decide), nm_e hp⟩⟩
theorem ty_put {post : Int32 → SY → Prop} {f x y : Nat} (hf : f ≤ 3) (hx : x ≤ 7) (hy : y ≤ 7) (v : Int32) (hp : post (fr (64 * f + 8 * y + x)) (upd fr (64 * f + 8 * y + x) (v &&& 255), ou, ke, ve, ov, kv, fu)) : wpY_put post (fr, ou, ke, ve, ov, kv, fu) (nI f) (nI x) (nI y) v := by
  unfold wpY_put
  refine ty_badFrame_y hf (br_t rfl (ty_badPlace_y hx (br_t rfl (ty_badPlace_y hy (br_t rfl ?_)))))
  rw [tl_ix, nI_clamp (n := 64 * f + 8 * y + x) (by omega)]
  exact ⟨vp_in_nI (by omega) (by decide), nm_e ⟨vp_in_nI (by omega) (by decide), nm_e hp⟩⟩
theorem i_vc_put {k : Nat} {u : SX} {v : SY} (I : i_Rel k u v) (hk : k + 5 ≤ 2560) (v1 : Int32) (v2 : Int32) (v3 : Int32) (v4 : Int32) : wpX_put (fun r u' => wpY_put (fun r' v' => r' = r ∧ i_Rel (k + 5) u' v') v v1 v2 v3 v4) u v1 v2 v3 v4 := by
  refine tl_el (P := fun u v => wpX_put (fun r u' => wpY_put (fun r' v' => r' = r ∧ i_Rel (k + 5) u' v') v v1 v2 v3 v4) u v1 v2 v3 v4) I ?_
  intro base place fr ou ve ov st fu ce pa si ne se gs ke kv F
  rcases tl_rg v1 (N := 3) (by decide) with hf | ⟨f, hf, rfl⟩
  · unfold wpX_put wpY_put
    exact tx_isFrame_n hf (br_t rfl (ty_badFrame_n hf (br_f (by decide) ⟨rfl, tl_in F⟩)))
  rcases tl_rg v2 (N := 7) (by decide) with hx | ⟨x, hx, rfl⟩
  · unfold wpX_put wpY_put
    exact tx_isFrame_y hf (br_f (by decide) (tx_isInside_n1 hx (br_t rfl (ty_badFrame_y hf (br_t rfl (ty_badPlace_n hx (br_f (by decide) ⟨rfl, tl_in F⟩)))))))
  rcases tl_rg v3 (N := 7) (by decide) with hy | ⟨y, hy, rfl⟩
  · unfold wpX_put wpY_put
    exact tx_isFrame_y hf (br_f (by decide) (tx_isInside_n2 hx hy (br_t rfl (ty_badFrame_y hf (br_t rfl (ty_badPlace_y hx (br_t rfl (ty_badPlace_n hy (br_f (by decide) ⟨rfl, tl_in F⟩)))))))))
  exact tx_put hf hx hy v4 (ty_put hf hx hy v4 ⟨rfl, tl_in (tl_F_fr F (tl_Uu F.1 (tl_a255 v4)))⟩)
theorem i_vc_pixel {k : Nat} {u : SX} {v : SY} (I : i_Rel k u v) (hk : k + 5 ≤ 2560) (v1 : Int32) (v2 : Int32) (v3 : Int32) : wpX_pixel (fun r => wpY_pixel (fun r' => r' = r ∧ i_Rel (k + 5) u v) v v1 v2 v3) u v1 v2 v3 := by
  refine tl_el (P := fun u v => wpX_pixel (fun r => wpY_pixel (fun r' => r' = r ∧ i_Rel (k + 5) u v) v v1 v2 v3) u v1 v2 v3) I ?_
  intro base place fr ou ve ov st fu ce pa si ne se gs ke kv F
  unfold wpX_pixel wpY_pixel
  rcases tl_rg v1 (N := 3) (by decide) with hf | ⟨f, hf, rfl⟩
  · exact tx_isFrame_n hf (br_t rfl (ty_badFrame_n hf (br_f (by decide) ⟨rfl, tl_in F⟩)))
  rcases tl_rg v2 (N := 7) (by decide) with hx | ⟨x, hx, rfl⟩
  · exact tx_isFrame_y hf (br_f (by decide) (tx_isInside_n1 hx (br_t rfl (ty_badFrame_y hf (br_t rfl (ty_badPlace_n hx (br_f (by decide) ⟨rfl, tl_in F⟩)))))))
  rcases tl_rg v3 (N := 7) (by decide) with hy | ⟨y, hy, rfl⟩
  · exact tx_isFrame_y hf (br_f (by decide) (tx_isInside_n2 hx hy (br_t rfl (ty_badFrame_y hf (br_t rfl (ty_badPlace_y hx (br_t rfl (ty_badPlace_n hy (br_f (by decide) ⟨rfl, tl_in F⟩)))))))))
  have hi : vp_in (((64 * nI f) + (8 * nI y)) + nI x) 256 := by
    rw [tl_ix]
    exact vp_in_nI (by omega) (by decide)
  exact tx_isFrame_y hf (br_f (by decide) (tx_isInside_y hx hy (br_f (by decide) ⟨hi, ty_badFrame_y hf (br_t rfl (ty_badPlace_y hx (br_t rfl (ty_badPlace_y hy (br_t rfl ⟨hi, rfl, tl_in F⟩)))))⟩)))
theorem i_vc_out {k : Nat} {u : SX} {v : SY} (I : i_Rel k u v) (hk : k + 5 ≤ 2560) (v1 : Int32) (v2 : Int32) (v3 : Int32) : wpX_out (fun r => wpY_out (fun r' => r' = r ∧ i_Rel (k + 5) u v) v v1 v2 v3) u v1 v2 v3 := by
  refine tl_el (P := fun u v => wpX_out (fun r => wpY_out (fun r' => r' = r ∧ i_Rel (k + 5) u v) v v1 v2 v3) u v1 v2 v3) I ?_
  intro base place fr ou ve ov st fu ce pa si ne se gs ke kv F
  unfold wpX_out wpY_out
  rcases tl_rg v1 (N := 3) (by decide) with hf | ⟨f, hf, rfl⟩
  · exact tx_isFrame_n hf (br_t rfl (ty_badFrame_n hf (br_f (by decide) ⟨rfl, tl_in F⟩)))
  rcases tl_rg v2 (N := 7) (by decide) with hx | ⟨x, hx, rfl⟩
  · exact tx_isFrame_y hf (br_f (by decide) (tx_isInside_n1 hx (br_t rfl (ty_badFrame_y hf (br_t rfl (ty_badPlace_n hx (br_f (by decide) ⟨rfl, tl_in F⟩)))))))
  rcases tl_rg v3 (N := 7) (by decide) with hy | ⟨y, hy, rfl⟩
  · exact tx_isFrame_y hf (br_f (by decide) (tx_isInside_n2 hx hy (br_t rfl (ty_badFrame_y hf (br_t rfl (ty_badPlace_y hx (br_t rfl (ty_badPlace_n hy (br_f (by decide) ⟨rfl, tl_in F⟩)))))))))
  have hi : vp_in (((64 * nI f) + (8 * nI y)) + nI x) 256 := by
    rw [tl_ix]
    exact vp_in_nI (by omega) (by decide)
  exact tx_isFrame_y hf (br_f (by decide) (tx_isInside_y hx hy (br_f (by decide) ⟨hi, ty_badFrame_y hf (br_t rfl (ty_badPlace_y hx (br_t rfl (ty_badPlace_y hy (br_t rfl ⟨hi, rfl, tl_in F⟩)))))⟩)))
/-! vector, outVector, setVector -/
theorem i_vc_vector {k : Nat} {u : SX} {v : SY} (I : i_Rel k u v) (hk : k + 5 ≤ 2560) (v1 : Int32) (v2 : Int32) : wpX_vector (fun r => wpY_vector (fun r' => r' = r ∧ i_Rel (k + 5) u v) v v1 v2) u v1 v2 := by
  refine tl_el (P := fun u v => wpX_vector (fun r => wpY_vector (fun r' => r' = r ∧ i_Rel (k + 5) u v) v v1 v2) u v1 v2) I ?_
  intro base place fr ou ve ov st fu ce pa si ne se gs ke kv F
  unfold wpX_vector wpY_vector
  rcases tl_rg v1 (N := 2) (by decide) with hl | ⟨l, hl, rfl⟩
  · exact tx_isLink_n hl (br_t rfl (ty_badLink_n hl (br_f (by decide) ⟨rfl, tl_in F⟩)))
  rcases tl_rg v2 (N := 3) (by decide) with hb | ⟨b, hb, rfl⟩
  · exact tx_isLink_y hl (br_f (by decide) (tx_isBlock_n hb (br_t rfl (ty_badLink_y hl (br_t rfl (ty_badBlock_n hb (br_f (by decide) ⟨rfl, tl_in F⟩)))))))
  have hi : vp_in ((4 * nI l) + nI b) 12 := by
    rw [tl_ix4]
    exact vp_in_nI (by omega) (by decide)
  exact tx_isLink_y hl (br_f (by decide) (tx_isBlock_y hb (br_f (by decide) ⟨hi, ty_badLink_y hl (br_t rfl (ty_badBlock_y hb (br_t rfl ⟨hi, rfl, tl_in F⟩)))⟩)))
theorem i_vc_outVector {k : Nat} {u : SX} {v : SY} (I : i_Rel k u v) (hk : k + 5 ≤ 2560) (v1 : Int32) (v2 : Int32) : wpX_outVector (fun r => wpY_outVector (fun r' => r' = r ∧ i_Rel (k + 5) u v) v v1 v2) u v1 v2 := by
  refine tl_el (P := fun u v => wpX_outVector (fun r => wpY_outVector (fun r' => r' = r ∧ i_Rel (k + 5) u v) v v1 v2) u v1 v2) I ?_
  intro base place fr ou ve ov st fu ce pa si ne se gs ke kv F
  unfold wpX_outVector wpY_outVector
  rcases tl_rg v1 (N := 2) (by decide) with hl | ⟨l, hl, rfl⟩
  · exact tx_isLink_n hl (br_t rfl (ty_badLink_n hl (br_f (by decide) ⟨rfl, tl_in F⟩)))
  rcases tl_rg v2 (N := 3) (by decide) with hb | ⟨b, hb, rfl⟩
  · exact tx_isLink_y hl (br_f (by decide) (tx_isBlock_n hb (br_t rfl (ty_badLink_y hl (br_t rfl (ty_badBlock_n hb (br_f (by decide) ⟨rfl, tl_in F⟩)))))))
  have hi : vp_in ((4 * nI l) + nI b) 12 := by
    rw [tl_ix4]
    exact vp_in_nI (by omega) (by decide)
  exact tx_isLink_y hl (br_f (by decide) (tx_isBlock_y hb (br_f (by decide) ⟨hi, ty_badLink_y hl (br_t rfl (ty_badBlock_y hb (br_t rfl ⟨hi, rfl, tl_in F⟩)))⟩)))
theorem i_vc_setVector {k : Nat} {u : SX} {v : SY} (I : i_Rel k u v) (hk : k + 5 ≤ 2560) (v1 : Int32) (v2 : Int32) (v3 : Int32) : wpX_setVector (fun r u' => wpY_setVector (fun r' v' => r' = r ∧ i_Rel (k + 5) u' v') v v1 v2 v3) u v1 v2 v3 := by
  refine tl_el (P := fun u v => wpX_setVector (fun r u' => wpY_setVector (fun r' v' => r' = r ∧ i_Rel (k + 5) u' v') v v1 v2 v3) u v1 v2 v3) I ?_
  intro base place fr ou ve ov st fu ce pa si ne se gs ke kv F
  unfold wpX_setVector wpY_setVector
  rcases tl_rg v1 (N := 2) (by decide) with hl | ⟨l, hl, rfl⟩
  · exact tx_isLink_n hl (br_t rfl (ty_badLink_n hl (br_f (by decide) ⟨rfl, tl_in F⟩)))
  rcases tl_rg v2 (N := 3) (by decide) with hb | ⟨b, hb, rfl⟩
  · exact tx_isLink_y hl (br_f (by decide) (tx_isBlock_n hb (br_t rfl (ty_badLink_y hl (br_t rfl (ty_badBlock_n hb (br_f (by decide) ⟨rfl, tl_in F⟩)))))))
  rcases tl_rg v3 (N := 24) (by decide) with hs | ⟨s, hs, rfl⟩
  · exact tx_isLink_y hl (br_f (by decide) (tx_isBlock_y hb (br_f (by decide) (tx_isStep_n hs (br_t rfl (ty_badLink_y hl (br_t rfl (ty_badBlock_y hb (br_t rfl (ty_badStep_n hs (br_f (by decide) ⟨rfl, tl_in F⟩)))))))))))
  have hi : vp_in ((4 * nI l) + nI b) 12 := by
    rw [tl_ix4]
    exact vp_in_nI (by omega) (by decide)
  exact tx_isLink_y hl (br_f (by decide) (tx_isBlock_y hb (br_f (by decide) (tx_isStep_y hs (br_f (by decide) ⟨hi, nm_e ⟨hi, nm_e (ty_badLink_y hl (br_t rfl (ty_badBlock_y hb (br_t rfl (ty_badStep_y hs (br_t rfl
    ⟨hi, nm_e ⟨hi, nm_e ⟨rfl, tl_in (tl_F_ve F (tl_Uu F.2.2.1 ⟨s, hs, rfl⟩))⟩⟩⟩))))))⟩⟩)))))
/-! filled, erase -/
theorem i_vc_filled {k : Nat} {u : SX} {v : SY} (I : i_Rel k u v) (hk : k + 5 ≤ 2560) (v1 : Int32) : wpX_filled (fun r => wpY_filled (fun r' => r' = r ∧ i_Rel (k + 5) u v) v v1) u v1 := by
  refine tl_el (P := fun u v => wpX_filled (fun r => wpY_filled (fun r' => r' = r ∧ i_Rel (k + 5) u v) v v1) u v1) I ?_
  intro base place fr ou ve ov st fu ce pa si ne se gs ke kv F
  unfold wpX_filled wpY_filled
  rcases tl_rg v1 (N := 1) (by decide) with hs | ⟨s, hs, rfl⟩
  · exact tx_isSlot_n hs (br_t rfl (ty_badSlot_n hs (br_f (by decide) ⟨rfl, tl_in F⟩)))
  have hi : vp_in (nI s) 2 := vp_in_nI (by omega) (by decide)
  by_cases z : fu (nI s).toNatClampNeg = 0
  · exact tx_isSlot_y hs (br_f (by decide) ⟨hi, br_t z (ty_badSlot_y hs (br_t rfl ⟨hi, br_t z ⟨rfl, tl_in F⟩⟩))⟩)
  · exact tx_isSlot_y hs (br_f (by decide) ⟨hi, br_f z (ty_badSlot_y hs (br_t rfl ⟨hi, br_f z ⟨rfl, tl_in F⟩⟩))⟩)
theorem tl_n0 : vp_nar .boolean 0 = 0 := rfl
theorem tl_n1 : vp_nar .boolean 1 = 1 := rfl
theorem tl_F_er (F : tl_F fr ou ve ov st fu ce pa ke kv) (s : Nat) : tl_F fr ou ve ov st (upd fu s (vp_nar .boolean 0)) ce pa ke kv := by
  refine tl_F_fu F (tl_Uu F.2.2.2.2.1 ⟨0, by omega, rfl⟩) (fun t _ e => ?_)
  by_cases z : t = s
  · rw [z, pk_us, tl_n0] at e
    exact absurd e (by decide)
  · rw [pk_un z] at e
    exact e
theorem i_vc_erase {k : Nat} {u : SX} {v : SY} (I : i_Rel k u v) (hk : k + 5 ≤ 2560) (v1 : Int32) : wpX_erase (fun r u' => wpY_erase (fun r' v' => r' = r ∧ i_Rel (k + 5) u' v') v v1) u v1 := by
  refine tl_el (P := fun u v => wpX_erase (fun r u' => wpY_erase (fun r' v' => r' = r ∧ i_Rel (k + 5) u' v') v v1) u v1) I ?_
  intro base place fr ou ve ov st fu ce pa si ne se gs ke kv F
  unfold wpX_erase wpY_erase
  rcases tl_rg v1 (N := 1) (by decide) with hs | ⟨s, hs, rfl⟩
  · exact tx_isSlot_n hs (br_t rfl (ty_badSlot_n hs (br_f (by decide) ⟨rfl, tl_in F⟩)))
  have hi : vp_in (nI s) 2 := vp_in_nI (by omega) (by decide)
  have K := tl_F_er F (nI s).toNatClampNeg
  by_cases z : fu (nI s).toNatClampNeg = 0
  · exact tx_isSlot_y hs (br_f (by decide) ⟨hi, br_t z (And.intro hi (nm_e (ty_badSlot_y hs (br_t rfl ⟨hi, br_t z (And.intro hi (nm_e ⟨rfl, tl_in K⟩))⟩))))⟩)
  · exact tx_isSlot_y hs (br_f (by decide) ⟨hi, br_f z (And.intro hi (nm_e (ty_badSlot_y hs (br_t rfl ⟨hi, br_f z (And.intro hi (nm_e ⟨rfl, tl_in K⟩))⟩))))⟩)
end
end
section
/-! the constructors, ramp, drift, roughen, invert, adopt, difference, copySlot -/
section
variable {base place : Int32} {fr ou ve ov st fu ce pa si ne se gs ke kv : Nat → Int32}
def tl_iF (k : Nat) (a : (Nat → Int32) × (Nat → Int32)) : (Nat → Int32) × (Nat → Int32) := (upd a.1 k 12, upd a.2 k 12)
def tl_z : Nat → Int32 := fun _ => 0
theorem tx_init {post : SX → Prop} (hp : post (0, 0, tl_z, tl_z, (tl_fo tl_iF 12 (tl_z, tl_z)).1, (tl_fo tl_iF 12 (tl_z, tl_z)).2, tl_z, tl_z, tl_z, tl_z, tl_z, tl_z, tl_z, tl_z)) : wpX_init post := by
  unfold wpX_init
  refine tl_lp (fun n k a => wX_init_108 post 0 0 n (nI k) tl_z tl_z a.1 a.2 tl_z tl_z tl_z tl_z tl_z tl_z tl_z tl_z) tl_iF 12 (fun a => post (0, 0, tl_z, tl_z, a.1, a.2, tl_z, tl_z, tl_z, tl_z, tl_z, tl_z, tl_z, tl_z)) (fun n a hq => ?_) (fun n k a hk ih => ?_) (tl_z, tl_z) hp
  · exact br_t (nI_le (b := 12) (Nat.le_refl 12) (by decide)) hq
  · refine br_f (nI_ge (b := 12) hk (by decide)) ?_
    rw [nI_clamp (n := k) (by omega)]
    exact ⟨vp_in_nI hk (by decide), nm_e ⟨vp_in_nI hk (by decide), nm_e (nm_r (nI_1 k) ih)⟩⟩
theorem ty_init {post : SY → Prop} (hp : post (tl_z, tl_z, tl_z, (tl_fo tl_iF 12 (tl_z, tl_z)).1, (tl_fo tl_iF 12 (tl_z, tl_z)).2, tl_z, tl_z)) : wpY_init post := by
  unfold wpY_init
  refine tl_lp (fun n k a => wY_init_64 post n (nI k) tl_z tl_z tl_z a.1 a.2 tl_z tl_z) tl_iF 12 (fun a => post (tl_z, tl_z, tl_z, a.1, a.2, tl_z, tl_z)) (fun n a hq => ?_) (fun n k a hk ih => ?_) (tl_z, tl_z) hp
  · exact br_t (nI_le (b := 12) (Nat.le_refl 12) (by decide)) hq
  · refine br_f (nI_ge (b := 12) hk (by decide)) ?_
    rw [nI_clamp (n := k) (by omega)]
    exact ⟨vp_in_nI hk (by decide), nm_e ⟨vp_in_nI hk (by decide), nm_e (nm_r (nI_1 k) ih)⟩⟩
theorem i_vc0 : wpX_init (fun u => wpY_init (fun v => i_Rel 0 u v)) := by
  have H : tl_U 24 (tl_fo tl_iF 12 (tl_z, tl_z)).1 ∧ tl_U 24 (tl_fo tl_iF 12 (tl_z, tl_z)).2 := tl_fo_inv (I := fun a => tl_U 24 a.1 ∧ tl_U 24 a.2) (tl_z, tl_z) ⟨tl_U0 24, tl_U0 24⟩ (fun k c _ h => ⟨tl_Uu h.1 ⟨12, by omega, rfl⟩, tl_Uu h.2 ⟨12, by omega, rfl⟩⟩)
  refine tx_init (ty_init (tl_in ?_))
  exact And.intro (tl_U0 255) (And.intro (tl_U0 255) (And.intro H.1 (And.intro H.2 (And.intro (tl_U0 1) (And.intro (tl_U0 255) (And.intro (tl_U0 24) (And.intro (fun _ _ => rfl) (And.intro (fun _ _ => rfl) (fun s _ e => absurd e (show ¬ (0 : Int32) = 1 by decide))))))))))
/-! ramp -/
def tl_rF (f : Nat) (p1 p2 p3 : Int32) (k : Nat) (a : Nat → Int32) : Nat → Int32 := upd a (64 * f + k) ((((p1 * (nI k &&& 7)) + (p2 * (nI k >>> ((3 : Int32) &&& 31)))) + p3) &&& 255)
theorem tx_ramp {post : Int32 → SX → Prop} {f : Nat} (hf : f ≤ 3) (p1 p2 p3 : Int32) (hp : post (tl_fo (tl_rF f p1 p2 p3) 64 fr (64 * f + 63)) (base, place, tl_fo (tl_rF f p1 p2 p3) 64 fr, ou, ve, ov, st, fu, ce, pa, si, ne, se, gs)) : wpX_ramp post (base, place, fr, ou, ve, ov, st, fu, ce, pa, si, ne, se, gs) (nI f) p1 p2 p3 := by
  unfold wpX_ramp
  refine tx_isFrame_y hf (br_f (by decide) ?_)
  refine tl_lp (fun n k a => wX_ramp_12 post (nI f) p1 p2 p3 base place n (nI k) a ou ve ov st fu ce pa si ne se gs) (tl_rF f p1 p2 p3) 64 (fun a => post (a (64 * f + 63)) (base, place, a, ou, ve, ov, st, fu, ce, pa, si, ne, se, gs)) (fun n a hq => ?_) (fun n k a hk ih => ?_) fr hp
  · have e : (64 * nI f) + 63 = nI (64 * f + 63) := tl_ix2 f 63
    refine br_t (nI_le (b := 64) (Nat.le_refl 64) (by decide)) ?_
    rw [e, nI_clamp (by omega)]
    exact ⟨vp_in_nI (by omega) (by decide), hq⟩
  · refine br_f (nI_ge (b := 64) hk (by decide)) ?_
    rw [tl_ix2, nI_clamp (n := 64 * f + k) (by omega)]
    exact ⟨vp_in_nI (by omega) (by decide), nm_e (nm_r (nI_1 k) ih)⟩
theorem ty_ramp {post : Int32 → SY → Prop} {f : Nat} (hf : f ≤ 3) (p1 p2 p3 : Int32) (hp : post (tl_fo (tl_rF f p1 p2 p3) 64 fr (64 * f + 63)) (tl_fo (tl_rF f p1 p2 p3) 64 fr, ou, ke, ve, ov, kv, fu)) : wpY_ramp post (fr, ou, ke, ve, ov, kv, fu) (nI f) p1 p2 p3 := by
  unfold wpY_ramp
  refine ty_badFrame_y hf (br_t rfl ?_)
  have e8 : tl_fo (fun y a => tl_fo (fun x => tl_rF f p1 p2 p3 (8 * y + x)) 8 a) 8 fr = tl_fo (tl_rF f p1 p2 p3) 64 fr := tl_fo_nest (tl_rF f p1 p2 p3) 8 fr 8
  rw [← e8] at hp
  refine tl_lp (fun n y a => wY_ramp_13 post (nI f) p1 p2 p3 n (nI y) a ou ke ve ov kv fu) (fun y a => tl_fo (fun x => tl_rF f p1 p2 p3 (8 * y + x)) 8 a) 8 (fun a => post (a (64 * f + 63)) (a, ou, ke, ve, ov, kv, fu)) (fun n a hq => ?_) (fun n y a hy ih => ?_) fr hp
  · have e : (64 * nI f) + 63 = nI (64 * f + 63) := tl_ix2 f 63
    refine br_t (nI_le (b := 8) (Nat.le_refl 8) (by decide)) ?_
    rw [e, nI_clamp (by omega)]
    exact ⟨vp_in_nI (by omega) (by decide), hq⟩
  · refine br_f (nI_ge (b := 8) hy (by decide)) ?_
    refine tl_lp (fun m x a => wY_ramp_23 post (wY_ramp_13 post (nI f) p1 p2 p3 n) (nI f) p1 p2 p3 (nI y) m (nI x) a ou ke ve ov kv fu) (fun x => tl_rF f p1 p2 p3 (8 * y + x)) 8 (fun a => wY_ramp_13 post (nI f) p1 p2 p3 n (nI (y + 1)) a ou ke ve ov kv fu) (fun m a hq => ?_) (fun m x a hx ih2 => ?_) a ih
    · exact br_t (nI_le (b := 8) (Nat.le_refl 8) (by decide)) (nm_r (nI_1 y) hq)
    · refine br_f (nI_ge (b := 8) hx (by decide)) ?_
      rw [tl_ix, nI_clamp (n := 64 * f + 8 * y + x) (by omega)]
      refine ⟨vp_in_nI (by omega) (by decide), nm_r (e' := tl_rF f p1 p2 p3 (8 * y + x) a) ?_ (nm_r (nI_1 x) ih2)⟩
      unfold tl_rF
      rw [tl_and7 _ (by omega), tl_shr3 _ (by omega), show (8 * y + x) % 8 = x by omega, show (8 * y + x) / 8 = y by omega, Nat.add_assoc]
theorem i_vc_ramp {k : Nat} {u : SX} {v : SY} (I : i_Rel k u v) (hk : k + 5 ≤ 2560) (v1 : Int32) (v2 : Int32) (v3 : Int32) (v4 : Int32) : wpX_ramp (fun r u' => wpY_ramp (fun r' v' => r' = r ∧ i_Rel (k + 5) u' v') v v1 v2 v3 v4) u v1 v2 v3 v4 := by
  refine tl_el (P := fun u v => wpX_ramp (fun r u' => wpY_ramp (fun r' v' => r' = r ∧ i_Rel (k + 5) u' v') v v1 v2 v3 v4) u v1 v2 v3 v4) I ?_
  intro base place fr ou ve ov st fu ce pa si ne se gs ke kv F
  rcases tl_rg v1 (N := 3) (by decide) with hf | ⟨f, hf, rfl⟩
  · unfold wpX_ramp wpY_ramp
    exact tx_isFrame_n hf (br_t rfl (ty_badFrame_n hf (br_f (by decide) ⟨rfl, tl_in F⟩)))
  exact tx_ramp hf v2 v3 v4 (ty_ramp hf v2 v3 v4 ⟨rfl, tl_in (tl_F_fr F (tl_fo_inv (I := tl_U 255) fr F.1 (fun k c _ h => tl_Uu h (tl_a255 _))))⟩)
/-! drift: the frame f + 1 -/
def tl_dF (f : Nat) (dx dy : Int32) (k : Nat) (a : Nat → Int32) : Nat → Int32 := upd a (64 * (f + 1) + k) (a (64 * f + 8 * tl_lim ((nI k >>> ((3 : Int32) &&& 31)) - dy) + tl_lim ((nI k &&& 7) - dx)))
theorem tl_s64 (f : Nat) : (64 * nI (f + 1)) - 64 = 64 * nI f := by
  show nI 64 * nI (f + 1) - nI 64 = nI 64 * nI f
  rw [pk_mul, pk_mul, pk_sub (by omega)]
  exact congrArg nI (by omega)
theorem tx_drift {post : Int32 → SX → Prop} {f : Nat} (hf : f ≤ 2) (dx dy : Int32) (hp : post (tl_fo (tl_dF f dx dy) 64 fr (64 * (f + 1))) (base, place, tl_fo (tl_dF f dx dy) 64 fr, ou, ve, ov, st, fu, ce, pa, si, ne, se, gs)) : ∃ n, wX_drift_42 post (nI (f + 1)) dx dy base place n 0 fr ou ve ov st fu ce pa si ne se gs := by
  refine tl_lp (fun n k a => wX_drift_42 post (nI (f + 1)) dx dy base place n (nI k) a ou ve ov st fu ce pa si ne se gs) (tl_dF f dx dy) 64 (fun a => post (a (64 * (f + 1))) (base, place, a, ou, ve, ov, st, fu, ce, pa, si, ne, se, gs)) (fun n a hq => ?_) (fun n k a hk ih => ?_) fr hp
  · have e : 64 * nI (f + 1) = nI (64 * (f + 1)) := pk_mul 64 (f + 1)
    refine br_t (nI_le (b := 64) (Nat.le_refl 64) (by decide)) ?_
    rw [e, nI_clamp (by omega)]
    exact ⟨vp_in_nI (by omega) (by decide), hq⟩
  · refine br_f (nI_ge (b := 64) hk (by decide)) (tx_limited (tx_limited ?_))
    have h9 := tl_lim_le ((nI k &&& 7) - dx)
    have h10 := tl_lim_le ((nI k >>> ((3 : Int32) &&& 31)) - dy)
    rw [tl_s64, tl_ix, tl_ix2, nI_clamp (n := 64 * (f + 1) + k) (by omega), nI_clamp (n := 64 * f + 8 * tl_lim ((nI k >>> ((3 : Int32) &&& 31)) - dy) + tl_lim ((nI k &&& 7) - dx)) (by omega)]
    exact ⟨vp_in_nI (by omega) (by decide), vp_in_nI (by omega) (by decide), nm_e (nm_r (nI_1 k) ih)⟩
theorem ty_at {post : Int32 → Prop} {f : Nat} (hf : f ≤ 3) {p q : Int32} (hp : post (fr (64 * f + 8 * tl_lim q + tl_lim p))) : wpY_at post (fr, ou, ke, ve, ov, kv, fu) (nI f) p q := by
  unfold wpY_at
  refine ty_nearest (ty_nearest ?_)
  have h9 := tl_lim_le p
  have h10 := tl_lim_le q
  rw [tl_ix, nI_clamp (by omega)]
  exact ⟨vp_in_nI (by omega) (by decide), hp⟩
theorem ty_drift {post : Int32 → SY → Prop} {f : Nat} (hf : f ≤ 2) (dx dy : Int32) (hp : post (tl_fo (tl_dF f dx dy) 64 fr (64 * (f + 1))) (tl_fo (tl_dF f dx dy) 64 fr, ou, ke, ve, ov, kv, fu)) : ∃ n, wY_drift_42 post (nI (f + 1)) dx dy n 0 fr ou ke ve ov kv fu := by
  have e8 : tl_fo (fun y a => tl_fo (fun x => tl_dF f dx dy (8 * y + x)) 8 a) 8 fr = tl_fo (tl_dF f dx dy) 64 fr := tl_fo_nest (tl_dF f dx dy) 8 fr 8
  rw [← e8] at hp
  refine tl_lp (fun n y a => wY_drift_42 post (nI (f + 1)) dx dy n (nI y) a ou ke ve ov kv fu) (fun y a => tl_fo (fun x => tl_dF f dx dy (8 * y + x)) 8 a) 8 (fun a => post (a (64 * (f + 1))) (a, ou, ke, ve, ov, kv, fu)) (fun n a hq => ?_) (fun n y a hy ih => ?_) fr hp
  · have e : 64 * nI (f + 1) = nI (64 * (f + 1)) := pk_mul 64 (f + 1)
    refine br_t (nI_le (b := 8) (Nat.le_refl 8) (by decide)) ?_
    rw [e, nI_clamp (by omega)]
    exact ⟨vp_in_nI (by omega) (by decide), hq⟩
  · refine br_f (nI_ge (b := 8) hy (by decide)) ?_
    refine tl_lp (fun m x a => wY_drift_52 post (wY_drift_42 post (nI (f + 1)) dx dy n) (nI (f + 1)) dx dy (nI y) m (nI x) a ou ke ve ov kv fu) (fun x => tl_dF f dx dy (8 * y + x)) 8 (fun a => wY_drift_42 post (nI (f + 1)) dx dy n (nI (y + 1)) a ou ke ve ov kv fu) (fun m a hq => ?_) (fun m x a hx ih2 => ?_) a ih
    · exact br_t (nI_le (b := 8) (Nat.le_refl 8) (by decide)) (nm_r (nI_1 y) hq)
    · refine br_f (nI_ge (b := 8) hx (by decide)) ?_
      rw [nI_pred]
      refine ty_at (by omega) ?_
      rw [tl_ix, nI_clamp (n := 64 * (f + 1) + 8 * y + x) (by omega)]
      refine ⟨vp_in_nI (by omega) (by decide), nm_r (e' := tl_dF f dx dy (8 * y + x) a) ?_ (nm_r (nI_1 x) ih2)⟩
      unfold tl_dF
      rw [tl_and7 _ (by omega), tl_shr3 _ (by omega), show (8 * y + x) % 8 = x by omega, show (8 * y + x) / 8 = y by omega, Nat.add_assoc (64 * (f + 1))]
theorem i_vc_drift {k : Nat} {u : SX} {v : SY} (I : i_Rel k u v) (hk : k + 5 ≤ 2560) (v1 : Int32) (v2 : Int32) (v3 : Int32) : wpX_drift (fun r u' => wpY_drift (fun r' v' => r' = r ∧ i_Rel (k + 5) u' v') v v1 v2 v3) u v1 v2 v3 := by
  refine tl_el (P := fun u v => wpX_drift (fun r u' => wpY_drift (fun r' v' => r' = r ∧ i_Rel (k + 5) u' v') v v1 v2 v3) u v1 v2 v3) I ?_
  intro base place fr ou ve ov st fu ce pa si ne se gs ke kv F
  unfold wpX_drift wpY_drift
  by_cases h1 : v1 < 1
  · exact br_t h1 (br_t h1 ⟨rfl, tl_in F⟩)
  by_cases h3 : v1 ≤ 3
  case neg => exact br_f h1 (br_f h3 (br_f h1 (br_f h3 ⟨rfl, tl_in F⟩)))
  by_cases ha : v2 < (-8)
  · exact br_f h1 (br_t h3 (br_t ha (br_f h1 (br_t h3 (br_t ha ⟨rfl, tl_in F⟩)))))
  by_cases hb : 8 < v2
  · exact br_f h1 (br_t h3 (br_f ha (br_t hb (br_f h1 (br_t h3 (br_f ha (br_t hb ⟨rfl, tl_in F⟩)))))))
  by_cases hc : v3 < (-8)
  · exact br_f h1 (br_t h3 (br_f ha (br_f hb (br_t hc (br_f h1 (br_t h3 (br_f ha (br_f hb (br_t hc ⟨rfl, tl_in F⟩)))))))))
  by_cases hd : v3 ≤ 8
  case neg => exact br_f h1 (br_t h3 (br_f ha (br_f hb (br_f hc (br_f hd (br_f h1 (br_t h3 (br_f ha (br_f hb (br_f hc (br_f hd ⟨rfl, tl_in F⟩)))))))))))
  obtain ⟨f, hf, rfl⟩ : ∃ f, f ≤ 2 ∧ v1 = nI (f + 1) := by
    have h0 : ¬ v1 < 0 := fun z => h1 (Int32.lt_trans z (by decide))
    obtain ⟨j, hj, rfl⟩ := nI_of2 (M := 3) (n := 3) (by decide) h0 h3
    have hj0 : j ≠ 0 := fun z => h1 (by rw [z]; decide)
    exact ⟨j - 1, by omega, by rw [show j - 1 + 1 = j by omega]⟩
  exact br_f h1 (br_t h3 (br_f ha (br_f hb (br_f hc (br_t hd (tx_drift hf v2 v3 (br_f h1 (br_t h3 (br_f ha (br_f hb (br_f hc (br_t hd (ty_drift hf v2 v3
    ⟨rfl, tl_in (tl_F_fr F (tl_fo_inv (I := tl_U 255) fr F.1 (fun k c _ h => tl_Uu h (h _))))⟩)))))))))))))
/-! roughen -/
def tl_gF (f : Nat) (p1 : Int32) (k : Nat) (a : Nat → Int32) : Nat → Int32 := upd a (64 * f + k) ((a (64 * f + k) + ((p1 * (nI k + 1)) &&& 15)) &&& 255)
theorem tx_roughen {post : Int32 → SX → Prop} {f : Nat} (hf : f ≤ 3) (p1 : Int32) (hp : post (tl_fo (tl_gF f p1) 64 fr (64 * f + 63)) (base, place, tl_fo (tl_gF f p1) 64 fr, ou, ve, ov, st, fu, ce, pa, si, ne, se, gs)) : wpX_roughen post (base, place, fr, ou, ve, ov, st, fu, ce, pa, si, ne, se, gs) (nI f) p1 := by
  unfold wpX_roughen
  refine tx_isFrame_y hf (br_f (by decide) ?_)
  refine tl_lp (fun n k a => wX_roughen_11 post (nI f) p1 base place n (nI k) a ou ve ov st fu ce pa si ne se gs) (tl_gF f p1) 64 (fun a => post (a (64 * f + 63)) (base, place, a, ou, ve, ov, st, fu, ce, pa, si, ne, se, gs)) (fun n a hq => ?_) (fun n k a hk ih => ?_) fr hp
  · have e : (64 * nI f) + 63 = nI (64 * f + 63) := tl_ix2 f 63
    refine br_t (nI_le (b := 64) (Nat.le_refl 64) (by decide)) ?_
    rw [e, nI_clamp (by omega)]
    exact ⟨vp_in_nI (by omega) (by decide), hq⟩
  · refine br_f (nI_ge (b := 64) hk (by decide)) (nm_e ?_)
    rw [tl_ix2, nI_clamp (n := 64 * f + k) (by omega)]
    exact ⟨vp_in_nI (by omega) (by decide), vp_in_nI (by omega) (by decide), nm_e (nm_r (nI_1 k) ih)⟩
theorem ty_roughen {post : Int32 → SY → Prop} {f : Nat} (hf : f ≤ 3) (p1 : Int32) (hp : post (tl_fo (tl_gF f p1) 64 fr (64 * f + 63)) (tl_fo (tl_gF f p1) 64 fr, ou, ke, ve, ov, kv, fu)) : wpY_roughen post (fr, ou, ke, ve, ov, kv, fu) (nI f) p1 := by
  unfold wpY_roughen
  refine ty_badFrame_y hf (br_t rfl ?_)
  have e8 : tl_fo (fun y a => tl_fo (fun x => tl_gF f p1 (8 * y + x)) 8 a) 8 fr = tl_fo (tl_gF f p1) 64 fr := tl_fo_nest (tl_gF f p1) 8 fr 8
  rw [← e8] at hp
  refine tl_lp (fun n y a => wY_roughen_12 post (nI f) p1 n (nI y) a ou ke ve ov kv fu) (fun y a => tl_fo (fun x => tl_gF f p1 (8 * y + x)) 8 a) 8 (fun a => post (a (64 * f + 63)) (a, ou, ke, ve, ov, kv, fu)) (fun n a hq => ?_) (fun n y a hy ih => ?_) fr hp
  · have e : (64 * nI f) + 63 = nI (64 * f + 63) := tl_ix2 f 63
    refine br_t (nI_le (b := 8) (Nat.le_refl 8) (by decide)) ?_
    rw [e, nI_clamp (by omega)]
    exact ⟨vp_in_nI (by omega) (by decide), hq⟩
  · refine br_f (nI_ge (b := 8) hy (by decide)) ?_
    refine tl_lp (fun m x a => wY_roughen_21 post (wY_roughen_12 post (nI f) p1 n) (nI f) p1 (nI y) m (nI x) a ou ke ve ov kv fu) (fun x => tl_gF f p1 (8 * y + x)) 8 (fun a => wY_roughen_12 post (nI f) p1 n (nI (y + 1)) a ou ke ve ov kv fu) (fun m a hq => ?_) (fun m x a hx ih2 => ?_) a ih
    · exact br_t (nI_le (b := 8) (Nat.le_refl 8) (by decide)) (nm_r (nI_1 y) hq)
    · refine br_f (nI_ge (b := 8) hx (by decide)) (nm_r (tl_ix f y x) ?_)
      have e2 : (8 * nI y) + nI x = nI (8 * y + x) := by
        show nI 8 * nI y + nI x = _
        rw [pk_mul, nI_add]
      rw [nI_clamp (n := 64 * f + 8 * y + x) (by omega), e2, Nat.add_assoc (64 * f)]
      exact ⟨vp_in_nI (by omega) (by decide), vp_in_nI (by omega) (by decide), nm_e (nm_r (nI_1 x) ih2)⟩
theorem i_vc_roughen {k : Nat} {u : SX} {v : SY} (I : i_Rel k u v) (hk : k + 5 ≤ 2560) (v1 : Int32) (v2 : Int32) : wpX_roughen (fun r u' => wpY_roughen (fun r' v' => r' = r ∧ i_Rel (k + 5) u' v') v v1 v2) u v1 v2 := by
  refine tl_el (P := fun u v => wpX_roughen (fun r u' => wpY_roughen (fun r' v' => r' = r ∧ i_Rel (k + 5) u' v') v v1 v2) u v1 v2) I ?_
  intro base place fr ou ve ov st fu ce pa si ne se gs ke kv F
  rcases tl_rg v1 (N := 3) (by decide) with hf | ⟨f, hf, rfl⟩
  · unfold wpX_roughen wpY_roughen
    exact tx_isFrame_n hf (br_t rfl (ty_badFrame_n hf (br_f (by decide) ⟨rfl, tl_in F⟩)))
  exact tx_roughen hf v2 (ty_roughen hf v2 ⟨rfl, tl_in (tl_F_fr F (tl_fo_inv (I := tl_U 255) fr F.1 (fun k c _ h => tl_Uu h (tl_a255 _))))⟩)
end
end
section
/-! invert, adopt, difference, copySlot -/
section
variable {base place : Int32} {fr ou ve ov st fu ce pa si ne se gs ke kv : Nat → Int32}
def tl_vS (f k : Nat) (s : Int32 × (Nat → Int32)) : Int32 × (Nat → Int32) := (s.1 + 1, upd s.2 (64 * f + k) (255 - s.2 (64 * f + k)))
noncomputable def tl_vF (f x0 y0 k : Nat) (s : Int32 × (Nat → Int32)) : Int32 × (Nat → Int32) := if x0 ≤ k % 8 ∧ k % 8 ≤ x0 + 2 ∧ y0 ≤ k / 8 ∧ k / 8 ≤ y0 + 2 then tl_vS f k s else s
theorem tl_vF_y {f x0 y0 k : Nat} (h : x0 ≤ k % 8 ∧ k % 8 ≤ x0 + 2 ∧ y0 ≤ k / 8 ∧ k / 8 ≤ y0 + 2) (s : Int32 × (Nat → Int32)) : tl_vF f x0 y0 k s = tl_vS f k s := if_pos h
theorem tl_vF_n {f x0 y0 k : Nat} (h : ¬ (x0 ≤ k % 8 ∧ k % 8 ≤ x0 + 2 ∧ y0 ≤ k / 8 ∧ k / 8 ≤ y0 + 2)) (s : Int32 × (Nat → Int32)) : tl_vF f x0 y0 k s = s := if_neg h
theorem tl_fo_mid {A : Type} (F : Nat → A → A) {n i m : Nat} (h : i + m ≤ n) (c : A) (h1 : ∀ k c, k < i → F k c = c) (h2 : ∀ k c, i + m ≤ k → k < n → F k c = c) : tl_fo F n c = tl_fo (fun x => F (i + x)) m c := by
  obtain ⟨r, rfl⟩ : ∃ r, n = i + m + r := ⟨n - (i + m), by omega⟩
  rw [tl_fo_add F (i + m) c r, tl_fo_id _ (fun k c hk => h2 (i + m + k) c (by omega) (by omega)), tl_fo_add, tl_fo_id c (fun k c hk => h1 k c hk)]
def tl_ex (a : Nat) : Nat := if a + 3 ≤ 8 then 3 else 8 - a
theorem tl_ex_le {a : Nat} (h : a ≤ 7) : a + tl_ex a ≤ 8 ∧ tl_ex a ≤ 3 ∧ (a + tl_ex a = a + 3 ∨ a + tl_ex a = 8) := by
  unfold tl_ex
  split <;> omega
theorem tl_row {f x0 y0 y : Nat} (hx : x0 ≤ 7) (s : Int32 × (Nat → Int32)) : tl_fo (fun x => tl_vF f x0 y0 (8 * y + x)) 8 s = tl_fo (fun i => tl_vF f x0 y0 (8 * y + (x0 + i))) (tl_ex x0) s := by
  have h := tl_ex_le hx
  exact tl_fo_mid (fun x => tl_vF f x0 y0 (8 * y + x)) h.1 s (fun k c hk => tl_vF_n (by omega) c) (fun k c h1 h2 => tl_vF_n (by omega) c)
theorem tl_sq {f x0 y0 : Nat} (hx : x0 ≤ 7) (hy : y0 ≤ 7) (s : Int32 × (Nat → Int32)) :
    tl_fo (fun j s => tl_fo (fun i => tl_vF f x0 y0 (8 * (y0 + j) + (x0 + i))) (tl_ex x0) s) (tl_ex y0) s = tl_fo (fun y s => tl_fo (fun x => tl_vF f x0 y0 (8 * y + x)) 8 s) 8 s := by
  have h := tl_ex_le hy
  rw [tl_fo_mid (fun y s => tl_fo (fun x => tl_vF f x0 y0 (8 * y + x)) 8 s) h.1 s (fun k c hk => tl_fo_id c (fun x c hx => tl_vF_n (by omega) c)) (fun k c h1 h2 => tl_fo_id c (fun x c hx => tl_vF_n (by omega) c))]
  exact tl_fo_congr s (fun k c _ => (tl_row hx c).symm)
theorem tl_p2 (a : Nat) : nI a + 2 = nI (a + 2) := nI_add a 2
theorem tx_invert {post : Int32 → SX → Prop} {f x0 y0 : Nat} (hf : f ≤ 3) (hx : x0 ≤ 7) (hy : y0 ≤ 7)
    (hp : post (tl_fo (fun y s => tl_fo (fun x => tl_vF f x0 y0 (8 * y + x)) 8 s) 8 (0, fr)).1 (base, place, (tl_fo (fun y s => tl_fo (fun x => tl_vF f x0 y0 (8 * y + x)) 8 s) 8 (0, fr)).2, ou, ve, ov, st, fu, ce, pa, si, ne, se, gs)) : wpX_invert post (base, place, fr, ou, ve, ov, st, fu, ce, pa, si, ne, se, gs) (nI f) (nI x0) (nI y0) := by
  unfold wpX_invert
  refine tx_isFrame_y hf (br_f (by decide) (tx_isInside_y hx hy (br_f (by decide) ?_)))
  rw [← tl_sq hx hy] at hp
  have hX := tl_ex_le hx
  have hY := tl_ex_le hy
  refine tl_lp (fun n j s => wX_invert_26 post (nI f) (nI x0) (nI y0) base place n s.1 (nI (y0 + j)) (s.2) ou ve ov st fu ce pa si ne se gs) (fun j s => tl_fo (fun i => tl_vF f x0 y0 (8 * (y0 + j) + (x0 + i))) (tl_ex x0) s) (tl_ex y0) (fun s => post s.1 (base, place, s.2, ou, ve, ov, st, fu, ce, pa, si, ne, se, gs)) (fun n s hq => ?_) (fun n j s hj ih => ?_) (0, fr) hp
  · rcases hY.2.2 with e | e
    · exact br_t (by rw [tl_p2]; exact nI_lt (by omega) (by omega)) hq
    · by_cases z : nI y0 + 2 < nI (y0 + tl_ex y0)
      · exact br_t z hq
      · exact br_f z (br_t (nI_le (a := 8) (by omega) (by omega)) hq)
  · refine br_f (by rw [tl_p2]; exact nI_nlt (by omega) (by omega)) (br_f (nI_ge (b := 8) (by omega) (by decide)) ?_)
    refine tl_lp (fun m i s => wX_invert_44 post (wX_invert_26 post (nI f) (nI x0) (nI y0) base place n) (nI f) (nI x0) (nI y0) (nI (y0 + j)) base place m s.1 (nI (x0 + i)) (s.2) ou ve ov st fu ce pa si ne se gs) (fun i => tl_vF f x0 y0 (8 * (y0 + j) + (x0 + i))) (tl_ex x0) (fun s => wX_invert_26 post (nI f) (nI x0) (nI y0) base place n s.1 (nI (y0 + (j + 1))) (s.2) ou ve ov st fu ce pa si ne se gs) (fun m s hq => ?_) (fun m i s hi ih2 => ?_) s ih
    · rcases hX.2.2 with e | e
      · exact br_t (by rw [tl_p2]; exact nI_lt (by omega) (by omega)) (nm_r (nI_1 (y0 + j)) hq)
      · by_cases z : nI x0 + 2 < nI (x0 + tl_ex x0)
        · exact br_t z (nm_r (nI_1 (y0 + j)) hq)
        · exact br_f z (br_t (nI_le (a := 8) (by omega) (by omega)) (nm_r (nI_1 (y0 + j)) hq))
    · refine br_f (by rw [tl_p2]; exact nI_nlt (by omega) (by omega)) (br_f (nI_ge (b := 8) (by omega) (by decide)) (nm_r (tl_ix f (y0 + j) (x0 + i)) ?_))
      rw [tl_vF_y (by omega)] at ih2
      unfold tl_vS at ih2
      rw [nI_clamp (n := 64 * f + 8 * (y0 + j) + (x0 + i)) (by omega), Nat.add_assoc (64 * f)]
      exact ⟨vp_in_nI (by omega) (by decide), vp_in_nI (by omega) (by decide), nm_e (nm_e (nm_r (nI_1 (x0 + i)) ih2))⟩
theorem ty_invert {post : Int32 → SY → Prop} {f x0 y0 : Nat} (hf : f ≤ 3) (hx : x0 ≤ 7) (hy : y0 ≤ 7)
    (hp : post (tl_fo (fun y s => tl_fo (fun x => tl_vF f x0 y0 (8 * y + x)) 8 s) 8 (0, fr)).1 ((tl_fo (fun y s => tl_fo (fun x => tl_vF f x0 y0 (8 * y + x)) 8 s) 8 (0, fr)).2, ou, ke, ve, ov, kv, fu)) : wpY_invert post (fr, ou, ke, ve, ov, kv, fu) (nI f) (nI x0) (nI y0) := by
  unfold wpY_invert
  refine ty_badFrame_y hf (br_t rfl (ty_badPlace_y hx (br_t rfl (ty_badPlace_y hy (br_t rfl ?_)))))
  refine tl_lp (fun n y s => wY_invert_35 post (nI f) (nI x0) (nI y0) n s.1 (nI y) (s.2) ou ke ve ov kv fu) (fun y s => tl_fo (fun x => tl_vF f x0 y0 (8 * y + x)) 8 s) 8 (fun s => post s.1 (s.2, ou, ke, ve, ov, kv, fu)) (fun n s hq => ?_) (fun n y s hyy ih => ?_) (0, fr) hp
  · exact br_t (nI_le (b := 8) (Nat.le_refl 8) (by decide)) hq
  · refine br_f (nI_ge (b := 8) hyy (by decide)) ?_
    refine tl_lp (fun m x s => wY_invert_45 post (wY_invert_35 post (nI f) (nI x0) (nI y0) n) (nI f) (nI x0) (nI y0) (nI y) m s.1 (nI x) (s.2) ou ke ve ov kv fu) (fun x => tl_vF f x0 y0 (8 * y + x)) 8 (fun s => wY_invert_35 post (nI f) (nI x0) (nI y0) n s.1 (nI (y + 1)) (s.2) ou ke ve ov kv fu) (fun m s hq => ?_) (fun m x s hxx ih2 => ?_) s ih
    · exact br_t (nI_le (b := 8) (Nat.le_refl 8) (by decide)) (nm_r (nI_1 y) hq)
    · refine br_f (nI_ge (b := 8) hxx (by decide)) (nm_r (tl_ix f y x) ?_)
      rw [tl_p2, tl_p2]
      by_cases c1 : x < x0
      · rw [tl_vF_n (by omega)] at ih2
        exact br_t (nI_lt c1 (by omega)) (nm_r (nI_1 x) ih2)
      refine br_f (nI_nlt (by omega) (by omega)) ?_
      by_cases c2 : x0 + 2 < x
      · rw [tl_vF_n (by omega)] at ih2
        exact br_t (nI_lt c2 (by omega)) (nm_r (nI_1 x) ih2)
      refine br_f (nI_nlt (by omega) (by omega)) ?_
      by_cases c3 : y < y0
      · rw [tl_vF_n (by omega)] at ih2
        exact br_t (nI_lt c3 (by omega)) (nm_r (nI_1 x) ih2)
      refine br_f (nI_nlt (by omega) (by omega)) ?_
      by_cases c4 : y0 + 2 < y
      · rw [tl_vF_n (by omega)] at ih2
        exact br_t (nI_lt c4 (by omega)) (nm_r (nI_1 x) ih2)
      refine br_f (nI_nlt (by omega) (by omega)) ?_
      rw [tl_vF_y (by omega)] at ih2
      unfold tl_vS at ih2
      rw [nI_clamp (n := 64 * f + 8 * y + x) (by omega), Nat.add_assoc (64 * f)]
      exact ⟨vp_in_nI (by omega) (by decide), vp_in_nI (by omega) (by decide), nm_e (nm_e (nm_r (nI_1 x) ih2))⟩
theorem tl_255 {a : Int32} (h : ∃ n : Nat, n ≤ 255 ∧ a = nI n) : ∃ n : Nat, n ≤ 255 ∧ 255 - a = nI n := by
  obtain ⟨n, hn, rfl⟩ := h
  exact ⟨255 - n, by omega, pk_sub hn⟩
theorem i_vc_invert {k : Nat} {u : SX} {v : SY} (I : i_Rel k u v) (hk : k + 5 ≤ 2560) (v1 : Int32) (v2 : Int32) (v3 : Int32) : wpX_invert (fun r u' => wpY_invert (fun r' v' => r' = r ∧ i_Rel (k + 5) u' v') v v1 v2 v3) u v1 v2 v3 := by
  refine tl_el (P := fun u v => wpX_invert (fun r u' => wpY_invert (fun r' v' => r' = r ∧ i_Rel (k + 5) u' v') v v1 v2 v3) u v1 v2 v3) I ?_
  intro base place fr ou ve ov st fu ce pa si ne se gs ke kv F
  rcases tl_rg v1 (N := 3) (by decide) with hf | ⟨f, hf, rfl⟩
  · unfold wpX_invert wpY_invert
    exact tx_isFrame_n hf (br_t rfl (ty_badFrame_n hf (br_f (by decide) ⟨rfl, tl_in F⟩)))
  rcases tl_rg v2 (N := 7) (by decide) with hx | ⟨x, hx, rfl⟩
  · unfold wpX_invert wpY_invert
    exact tx_isFrame_y hf (br_f (by decide) (tx_isInside_n1 hx (br_t rfl (ty_badFrame_y hf (br_t rfl (ty_badPlace_n hx (br_f (by decide) ⟨rfl, tl_in F⟩)))))))
  rcases tl_rg v3 (N := 7) (by decide) with hy | ⟨y, hy, rfl⟩
  · unfold wpX_invert wpY_invert
    exact tx_isFrame_y hf (br_f (by decide) (tx_isInside_n2 hx hy (br_t rfl (ty_badFrame_y hf (br_t rfl (ty_badPlace_y hx (br_t rfl (ty_badPlace_n hy (br_f (by decide) ⟨rfl, tl_in F⟩)))))))))
  refine tx_invert hf hx hy (ty_invert hf hx hy ⟨rfl, tl_in (tl_F_fr F ?_)⟩)
  refine tl_fo_inv (I := fun s : Int32 × (Nat → Int32) => tl_U 255 s.2) (0, fr) F.1 (fun j c _ h => tl_fo_inv (I := fun s : Int32 × (Nat → Int32) => tl_U 255 s.2) c h (fun i c _ h => ?_))
  unfold tl_vF
  split
  · exact tl_Uu h (tl_255 (h _))
  · exact h
/-! adopt -/
theorem tx_adopt {post : SX → Prop} (hp : post (base, place, tl_fo (fun k a => upd a k (ou k)) 256 fr, ou, tl_fo (fun k a => upd a k (ov k)) 12 ve, ov, st, fu, ce, pa, si, ne, se, gs)) : wpX_adopt post (base, place, fr, ou, ve, ov, st, fu, ce, pa, si, ne, se, gs) := by
  unfold wpX_adopt
  refine tl_lp (fun n k a => wX_adopt_2 post base place n (nI k) a ou ve ov st fu ce pa si ne se gs) (fun k a => upd a k (ou k)) 256 (fun a => post (base, place, a, ou, tl_fo (fun k a => upd a k (ov k)) 12 ve, ov, st, fu, ce, pa, si, ne, se, gs)) (fun n a hq => ?_) (fun n k a hk ih => ?_) fr hp
  · refine br_t (nI_le (b := 256) (Nat.le_refl 256) (by decide)) ?_
    refine tl_lp (fun n k b => wX_adopt_29 post base place n (nI k) a ou b ov st fu ce pa si ne se gs) (fun k a => upd a k (ov k)) 12 (fun b => post (base, place, a, ou, b, ov, st, fu, ce, pa, si, ne, se, gs)) (fun n b hq => ?_) (fun n k b hk ih => ?_) ve hq
    · exact br_t (nI_le (b := 12) (Nat.le_refl 12) (by decide)) hq
    · refine br_f (nI_ge (b := 12) hk (by decide)) ?_
      rw [nI_clamp (n := k) (by omega)]
      exact ⟨vp_in_nI hk (by decide), vp_in_nI hk (by decide), nm_e (nm_r (nI_1 k) ih)⟩
  · refine br_f (nI_ge (b := 256) hk (by decide)) ?_
    rw [nI_clamp (n := k) (by omega)]
    exact ⟨vp_in_nI hk (by decide), vp_in_nI hk (by decide), nm_e (nm_r (nI_1 k) ih)⟩
theorem ty_adopt {post : SY → Prop} (hp : post (tl_fo (fun k a => upd a k (ou k)) 256 fr, ou, ke, tl_fo (fun k a => upd a k (ov k)) 12 ve, ov, kv, fu)) : wpY_adopt post (fr, ou, ke, ve, ov, kv, fu) := by
  unfold wpY_adopt
  refine tl_lp (fun n k a => wY_adopt_2 post n (nI k) a ou ke ve ov kv fu) (fun k a => upd a k (ou k)) 256 (fun a => post (a, ou, ke, tl_fo (fun k a => upd a k (ov k)) 12 ve, ov, kv, fu)) (fun n a hq => ?_) (fun n k a hk ih => ?_) fr hp
  · refine br_t (nI_le (b := 256) (Nat.le_refl 256) (by decide)) ?_
    refine tl_lp (fun n k b => wY_adopt_29 post n (nI k) a ou ke b ov kv fu) (fun k a => upd a k (ov k)) 12 (fun b => post (a, ou, ke, b, ov, kv, fu)) (fun n b hq => ?_) (fun n k b hk ih => ?_) ve hq
    · exact br_t (nI_le (b := 12) (Nat.le_refl 12) (by decide)) hq
    · refine br_f (nI_ge (b := 12) hk (by decide)) ?_
      rw [nI_clamp (n := k) (by omega)]
      exact ⟨vp_in_nI hk (by decide), vp_in_nI hk (by decide), nm_e (nm_r (nI_1 k) ih)⟩
  · refine br_f (nI_ge (b := 256) hk (by decide)) ?_
    rw [nI_clamp (n := k) (by omega)]
    exact ⟨vp_in_nI hk (by decide), vp_in_nI hk (by decide), nm_e (nm_r (nI_1 k) ih)⟩
theorem i_vc_adopt {k : Nat} {u : SX} {v : SY} (I : i_Rel k u v) (hk : k + 5 ≤ 2560) : wpX_adopt (fun u' => wpY_adopt (fun v' => i_Rel (k + 5) u' v') v) u := by
  refine tl_el (P := fun u v => wpX_adopt (fun u' => wpY_adopt (fun v' => i_Rel (k + 5) u' v') v) u) I ?_
  intro base place fr ou ve ov st fu ce pa si ne se gs ke kv F
  refine tx_adopt (ty_adopt (tl_in (tl_F_ve (tl_F_fr F ?_) ?_)))
  · exact tl_fo_inv (I := tl_U 255) fr F.1 (fun k c _ h => tl_Uu h (F.2.1 k))
  · exact tl_fo_inv (I := tl_U 24) ve F.2.2.1 (fun k c _ h => tl_Uu h (F.2.2.2.1 k))
/-! difference -/
def tl_ab (d : Int32) : Int32 := if 0 ≤ d then d else -d
theorem tl_ab3 {P : Int32 → Prop} {d : Int32} (h : P (tl_ab d)) : (0 ≤ d → P d) ∧ (¬ 0 ≤ d → P (-d)) := by
  unfold tl_ab at h
  by_cases z : 0 ≤ d
  · rw [if_pos z] at h
    exact br_t z h
  · rw [if_neg z] at h
    exact br_f z h
theorem ty_size {post : Int32 → Prop} {u : SY} {d : Int32} (h : post (tl_ab d)) : wpY_size post u d := by
  obtain ⟨a1, a2, a3, a4, a5, a6, a7⟩ := u
  exact tl_ab3 h
def tl_df (ou fr : Nat → Int32) (f k : Nat) (s : Int32) : Int32 := s + tl_ab (ou (64 * f + k) - fr (64 * f + k))
theorem tx_difference {post : Int32 → Prop} {f : Nat} (hf : f ≤ 3) (hp : post (tl_fo (tl_df ou fr f) 64 0)) : wpX_difference post (base, place, fr, ou, ve, ov, st, fu, ce, pa, si, ne, se, gs) (nI f) := by
  unfold wpX_difference
  refine tx_isFrame_y hf (br_f (by decide) (nm_r (pk_mul 64 f) ?_))
  refine tl_lp (fun n k s => wX_difference_16 post (nI f) base place fr ou ve ov st fu ce pa si ne se gs n s (nI (64 * f + k))) (tl_df ou fr f) 64 (fun s => post s) (fun n s hq => ?_) (fun n k s hk ih => ?_) 0 hp
  · have e : (64 * nI f) + 64 = nI (64 * f + 64) := tl_ix2 f 64
    exact br_t (by rw [e]; exact nI_le (by omega) (by omega)) hq
  · have e : (64 * nI f) + 64 = nI (64 * f + 64) := tl_ix2 f 64
    refine br_f (by rw [e]; exact nI_ge (by omega) (by omega)) ?_
    rw [nI_clamp (n := 64 * f + k) (by omega)]
    exact ⟨vp_in_nI (by omega) (by decide), vp_in_nI (by omega) (by decide), nm_e (tl_ab3 (P := fun d => ∀ y, y = s + d → ∀ z, z = nI (64 * f + k) + 1 → wX_difference_16 post (nI f) base place fr ou ve ov st fu ce pa si ne se gs n y z) (nm_e (nm_r (nI_1 (64 * f + k)) ih)))⟩
theorem ty_difference {post : Int32 → Prop} {f : Nat} (hf : f ≤ 3) (hp : post (tl_fo (tl_df ou fr f) 64 0)) : wpY_difference post (fr, ou, ke, ve, ov, kv, fu) (nI f) := by
  unfold wpY_difference
  refine ty_badFrame_y hf (br_t rfl ?_)
  refine tl_lp (fun n k s => wY_difference_14 post (nI f) fr ou ke ve ov kv fu n s (nI k)) (tl_df ou fr f) 64 (fun s => post s) (fun n s hq => ?_) (fun n k s hk ih => ?_) 0 hp
  · exact br_t (nI_le (b := 64) (Nat.le_refl 64) (by decide)) hq
  · refine br_f (nI_ge (b := 64) hk (by decide)) ?_
    rw [tl_ix2, nI_clamp (n := 64 * f + k) (by omega)]
    exact ⟨vp_in_nI (by omega) (by decide), vp_in_nI (by omega) (by decide), ty_size (nm_e (nm_r (nI_1 k) ih))⟩
theorem i_vc_difference {k : Nat} {u : SX} {v : SY} (I : i_Rel k u v) (hk : k + 5 ≤ 2560) (v1 : Int32) : wpX_difference (fun r => wpY_difference (fun r' => r' = r ∧ i_Rel (k + 5) u v) v v1) u v1 := by
  refine tl_el (P := fun u v => wpX_difference (fun r => wpY_difference (fun r' => r' = r ∧ i_Rel (k + 5) u v) v v1) u v1) I ?_
  intro base place fr ou ve ov st fu ce pa si ne se gs ke kv F
  rcases tl_rg v1 (N := 3) (by decide) with hf | ⟨f, hf, rfl⟩
  · unfold wpX_difference wpY_difference
    exact tx_isFrame_n hf (br_t rfl (ty_badFrame_n hf (br_f (by decide) ⟨rfl, tl_in F⟩)))
  exact tx_difference hf (ty_difference hf ⟨rfl, tl_in F⟩)
/-! copySlot -/
theorem tl_1s {s : Nat} (hs : s ≤ 1) : 1 - nI s = nI (1 - s) := pk_sub (a := 1) hs
theorem tl_160 (a k : Nat) : (nI a * 160) + nI k = nI (160 * a + k) := by
  show nI a * nI 160 + nI k = _
  rw [pk_mul, nI_add, Nat.mul_comm]
theorem tl_256 (a k : Nat) : (256 * nI a) + nI k = nI (256 * a + k) := by
  show nI 256 * nI a + nI k = _
  rw [pk_mul, nI_add]
theorem tl_12 (a k : Nat) : (12 * nI a) + nI k = nI (12 * a + k) := by
  show nI 12 * nI a + nI k = _
  rw [pk_mul, nI_add]
theorem tx_copySlot {post : Int32 → SX → Prop} {s : Nat} (hs : s ≤ 1) (hp : post 0 (base, place, fr, ou, ve, ov, tl_fo (fun k a => upd a (160 * (1 - s) + k) (a (160 * s + k))) 160 st, upd fu (1 - s) (vp_nar .boolean (fu s)), ce, pa, si, ne, se, gs)) : wpX_copySlot post (base, place, fr, ou, ve, ov, st, fu, ce, pa, si, ne, se, gs) (nI s) := by
  unfold wpX_copySlot
  refine tx_isSlot_y hs (br_f (by decide) ?_)
  refine tl_lp (fun n k a => wX_copySlot_11 post (nI s) base place n (nI k) fr ou ve ov a fu ce pa si ne se gs) (fun k a => upd a (160 * (1 - s) + k) (a (160 * s + k))) 160 (fun a => post 0 (base, place, fr, ou, ve, ov, a, upd fu (1 - s) (vp_nar .boolean (fu s)), ce, pa, si, ne, se, gs)) (fun n a hq => ?_) (fun n k a hk ih => ?_) st hp
  · refine br_t (nI_le (b := 160) (Nat.le_refl 160) (by decide)) ?_
    rw [tl_1s hs, nI_clamp (n := s) (by omega), nI_clamp (n := 1 - s) (by omega)]
    exact ⟨vp_in_nI (by omega) (by decide), vp_in_nI (by omega) (by decide), nm_e hq⟩
  · refine br_f (nI_ge (b := 160) hk (by decide)) ?_
    rw [tl_1s hs, tl_160, tl_160, nI_clamp (n := 160 * s + k) (by omega), nI_clamp (n := 160 * (1 - s) + k) (by omega)]
    exact ⟨vp_in_nI (by omega) (by decide), vp_in_nI (by omega) (by decide), nm_e (nm_r (nI_1 k) ih)⟩
theorem ty_copySlot {post : Int32 → SY → Prop} {s : Nat} (hs : s ≤ 1) (hp : post 0 (fr, ou, tl_fo (fun k a => upd a (256 * (1 - s) + k) (a (256 * s + k))) 256 ke, ve, ov, tl_fo (fun k a => upd a (12 * (1 - s) + k) (a (12 * s + k))) 12 kv, upd fu (1 - s) (vp_nar .boolean (fu s)))) : wpY_copySlot post (fr, ou, ke, ve, ov, kv, fu) (nI s) := by
  unfold wpY_copySlot
  refine ty_badSlot_y hs (br_t rfl (nm_r (tl_1s hs) ?_))
  refine tl_lp (fun n k a => wY_copySlot_16 post (nI s) (nI (1 - s)) n (nI k) fr ou a ve ov kv fu) (fun k a => upd a (256 * (1 - s) + k) (a (256 * s + k))) 256 (fun a => post 0 (fr, ou, a, ve, ov, tl_fo (fun k a => upd a (12 * (1 - s) + k) (a (12 * s + k))) 12 kv, upd fu (1 - s) (vp_nar .boolean (fu s)))) (fun n a hq => ?_) (fun n k a hk ih => ?_) ke hp
  · refine br_t (nI_le (b := 256) (Nat.le_refl 256) (by decide)) ?_
    refine tl_lp (fun n k b => wY_copySlot_55 post (nI s) (nI (1 - s)) n (nI k) fr ou a ve ov b fu) (fun k a => upd a (12 * (1 - s) + k) (a (12 * s + k))) 12 (fun b => post 0 (fr, ou, a, ve, ov, b, upd fu (1 - s) (vp_nar .boolean (fu s)))) (fun n b hq => ?_) (fun n k b hk ih => ?_) kv hq
    · refine br_t (nI_le (b := 12) (Nat.le_refl 12) (by decide)) ?_
      rw [nI_clamp (n := s) (by omega), nI_clamp (n := 1 - s) (by omega)]
      exact ⟨vp_in_nI (by omega) (by decide), vp_in_nI (by omega) (by decide), nm_e hq⟩
    · refine br_f (nI_ge (b := 12) hk (by decide)) ?_
      rw [tl_12, tl_12, nI_clamp (n := 12 * s + k) (by omega), nI_clamp (n := 12 * (1 - s) + k) (by omega)]
      exact ⟨vp_in_nI (by omega) (by decide), vp_in_nI (by omega) (by decide), nm_e (nm_r (nI_1 k) ih)⟩
  · refine br_f (nI_ge (b := 256) hk (by decide)) ?_
    rw [tl_256, tl_256, nI_clamp (n := 256 * s + k) (by omega), nI_clamp (n := 256 * (1 - s) + k) (by omega)]
    exact ⟨vp_in_nI (by omega) (by decide), vp_in_nI (by omega) (by decide), nm_e (nm_r (nI_1 k) ih)⟩
theorem tl_F_cp (F : tl_F fr ou ve ov st fu ce pa ke kv) {s : Nat} (hs : s ≤ 1) : tl_F fr ou ve ov (tl_fo (fun k a => upd a (160 * (1 - s) + k) (a (160 * s + k))) 160 st) (upd fu (1 - s) (vp_nar .boolean (fu s))) ce pa
    (tl_fo (fun k a => upd a (256 * (1 - s) + k) (a (256 * s + k))) 256 ke) (tl_fo (fun k a => upd a (12 * (1 - s) + k) (a (12 * s + k))) 12 kv) := by
  have h01 := tl_fu01 F s
  have hnar : vp_nar .boolean (fu s) = fu s := by
    rcases h01 with e | e <;> rw [e] <;> rfl
  rw [tl_selfc _ _ _ _ (by omega), tl_selfc _ _ _ _ (by omega), tl_selfc _ _ _ _ (by omega), hnar]
  obtain ⟨a1, a2, a3, a4, a5, a6, a7, a8, a9, a10⟩ := F
  refine And.intro a1 (And.intro a2 (And.intro a3 (And.intro a4 (And.intro (tl_Uu a5 (a5 s)) (And.intro (tl_glU (fun i => a6 _) a6) (And.intro (tl_glU (fun i => a7 _) a7) (And.intro a8 (And.intro a9 (fun t ht e => ?_)))))))))
  by_cases z : t = 1 - s
  · rw [z, pk_us] at e
    have h := a10 s (by omega) e
    rw [z]
    refine tl_RD_cp ?_ (fun i hi => tl_gl_in _ _ hi)
    have e1 : ∀ i, i < 256 → tl_gl (256 * (1 - s)) 256 (fun k => ke (256 * s + k)) ke (256 * (1 - s) + i) = ke (256 * s + i) := fun i hi => tl_gl_in (fun k => ke (256 * s + k)) ke hi
    have e2 : ∀ i, i < 12 → tl_gl (12 * (1 - s)) 12 (fun k => kv (12 * s + k)) kv (12 * (1 - s) + i) = kv (12 * s + i) := fun i hi => tl_gl_in (fun k => kv (12 * s + k)) kv hi
    rw [tl_code_c e1 e2]
    exact h
  · rw [pk_un z] at e
    have h := a10 t ht e
    refine tl_RD_cp ?_ (fun i hi => tl_gl_out _ _ (by omega))
    have e1 : ∀ i, i < 256 → tl_gl (256 * (1 - s)) 256 (fun k => ke (256 * s + k)) ke (256 * t + i) = ke (256 * t + i) := fun i hi => tl_gl_out (fun k => ke (256 * s + k)) ke (by omega)
    have e2 : ∀ i, i < 12 → tl_gl (12 * (1 - s)) 12 (fun k => kv (12 * s + k)) kv (12 * t + i) = kv (12 * t + i) := fun i hi => tl_gl_out (fun k => kv (12 * s + k)) kv (by omega)
    rw [tl_code_c e1 e2]
    exact h
theorem i_vc_copySlot {k : Nat} {u : SX} {v : SY} (I : i_Rel k u v) (hk : k + 5 ≤ 2560) (v1 : Int32) : wpX_copySlot (fun r u' => wpY_copySlot (fun r' v' => r' = r ∧ i_Rel (k + 5) u' v') v v1) u v1 := by
  refine tl_el (P := fun u v => wpX_copySlot (fun r u' => wpY_copySlot (fun r' v' => r' = r ∧ i_Rel (k + 5) u' v') v v1) u v1) I ?_
  intro base place fr ou ve ov st fu ce pa si ne se gs ke kv F
  rcases tl_rg v1 (N := 1) (by decide) with hs | ⟨s, hs, rfl⟩
  · unfold wpX_copySlot wpY_copySlot
    exact tx_isSlot_n hs (br_t rfl (ty_badSlot_n hs (br_f (by decide) ⟨rfl, tl_in F⟩)))
  exact tx_copySlot hs (ty_copySlot hs ⟨rfl, tl_in (tl_F_cp F hs)⟩)
end
end
section
/-! cost, search -/
section
variable {base place : Int32} {fr ou ve ov st fu ce pa si ne se gs ke kv : Nat → Int32}
def tl_pf (l : Nat) : Nat := if l = 2 then 3 else 1
def tl_sf (l : Nat) : Nat := if l = 0 then 0 else 2
theorem tl_pf_le (l : Nat) : tl_pf l ≤ 3 := by
  unfold tl_pf
  split <;> omega
theorem tl_sf_le (l : Nat) : tl_sf l ≤ 3 := by
  unfold tl_sf
  split <;> omega
def tl_dd (fr : Nat → Int32) (l b : Nat) (dx dy : Int32) (k : Nat) : Int32 :=
  fr (64 * tl_pf l + 8 * (4 * (b / 2) + k / 4) + (4 * (b % 2) + k % 4)) - fr (64 * tl_sf l + 8 * tl_lim (nI (4 * (b / 2) + k / 4) + dy) + tl_lim (nI (4 * (b % 2) + k % 4) + dx))
def tl_cF (fr : Nat → Int32) (l b : Nat) (dx dy : Int32) (k : Nat) (s : Int32) : Int32 := s + tl_ab (tl_dd fr l b dx dy k)
def tl_co (fr : Nat → Int32) (l b s : Nat) : Int32 := tl_fo (tl_cF fr l b (nI (s / 5) - 2) (nI (s % 5) - 2)) 16 0
theorem tl_ix3 (a y x : Nat) : (nI a + (8 * nI y)) + nI x = nI (a + 8 * y + x) := by
  show nI a + nI 8 * nI y + nI x = _
  rw [pk_mul, nI_add, nI_add]
theorem tl_bx (b k : Nat) (hb : b ≤ 3) (hk : k < 16) : (4 * (nI b &&& 1)) + (nI k &&& 3) = nI (4 * (b % 2) + k % 4) := by
  rw [tl_and1 b (by omega), tl_and3 k (by omega)]
  show nI 4 * nI (b % 2) + nI (k % 4) = _
  rw [pk_mul, nI_add]
theorem tl_by (b k : Nat) (hb : b ≤ 3) (hk : k < 16) : (4 * (nI b >>> ((1 : Int32) &&& 31))) + (nI k >>> ((2 : Int32) &&& 31)) = nI (4 * (b / 2) + k / 4) := by
  rw [tl_shr1 b (by omega), tl_shr2 k (by omega)]
  show nI 4 * nI (b / 2) + nI (k / 4) = _
  rw [pk_mul, nI_add]
theorem tx_m48 {post : Int32 → Prop} {l b : Nat} {dx dy : Int32} (hb : b ≤ 3) (hp : post (tl_fo (tl_cF fr l b dx dy) 16 0)) : ∃ n, wX_matching_48 post (nI b) dx dy (nI (64 * tl_pf l)) (nI (64 * tl_sf l)) base place fr ou ve ov st fu ce pa si ne se gs n 0 0 := by
  refine tl_lp (fun n k s => wX_matching_48 post (nI b) dx dy (nI (64 * tl_pf l)) (nI (64 * tl_sf l)) base place fr ou ve ov st fu ce pa si ne se gs n s (nI k)) (tl_cF fr l b dx dy) 16 (fun s => post s) (fun n s hq => ?_) (fun n k s hk ih => ?_) 0 hp
  · exact br_t (nI_le (b := 16) (Nat.le_refl 16) (by decide)) hq
  · refine br_f (nI_ge (b := 16) hk (by decide)) (nm_r (tl_bx b k hb hk) (nm_r (tl_by b k hb hk) (tx_limited (tx_limited ?_))))
    have h1 := tl_lim_le (nI (4 * (b / 2) + k / 4) + dy)
    have h2 := tl_lim_le (nI (4 * (b % 2) + k % 4) + dx)
    have h3 := tl_pf_le l
    have h4 := tl_sf_le l
    rw [tl_ix3, tl_ix3, nI_clamp (n := 64 * tl_pf l + 8 * (4 * (b / 2) + k / 4) + (4 * (b % 2) + k % 4)) (by omega), nI_clamp (n := 64 * tl_sf l + 8 * tl_lim (nI (4 * (b / 2) + k / 4) + dy) + tl_lim (nI (4 * (b % 2) + k % 4) + dx)) (by omega)]
    exact ⟨vp_in_nI (by omega) (by decide), vp_in_nI (by omega) (by decide), nm_e (tl_ab3 (P := fun d => ∀ y, y = s + d → ∀ z, z = nI k + 1 → wX_matching_48 post (nI b) dx dy (nI (64 * tl_pf l)) (nI (64 * tl_sf l)) base place fr ou ve ov st fu ce pa si ne se gs n y z) (nm_e (nm_r (nI_1 k) ih)))⟩
theorem tx_matching {post : Int32 → Prop} {l b s : Nat} (hl : l ≤ 2) (hb : b ≤ 3) (hs : s ≤ 24) (hp : post (tl_co fr l b s)) : wpX_matching post (base, place, fr, ou, ve, ov, st, fu, ce, pa, si, ne, se, gs) (nI l) (nI b) (nI s) := by
  unfold wpX_matching
  refine And.intro (by decide) (nm_r (e' := nI (s / 5) - 2) (by rw [tl_div5 (by omega)]) (And.intro (by decide) (nm_r (e' := nI (s % 5) - 2) (by rw [tl_rem5 (by omega)]) ?_)))
  have H := tx_m48 (base := base) (place := place) (ou := ou) (ve := ve) (ov := ov) (st := st) (fu := fu) (ce := ce) (pa := pa) (si := si) (ne := ne) (se := se) (gs := gs) (post := post) (l := l) hb hp
  have : l = 0 ∨ l = 1 ∨ l = 2 := by omega
  rcases this with rfl | rfl | rfl
  · exact br_f (by decide) (br_t rfl H)
  · exact br_f (by decide) (br_f (by decide) H)
  · exact br_t rfl (br_f (by decide) H)
theorem ty_predicted {post : Int32 → Prop} {u : SY} {l : Nat} (hl : l ≤ 2) (hp : post (nI (tl_pf l))) : wpY_predicted post u (nI l) := by
  obtain ⟨a1, a2, a3, a4, a5, a6, a7⟩ := u
  have : l = 0 ∨ l = 1 ∨ l = 2 := by omega
  rcases this with rfl | rfl | rfl
  · exact br_f (by decide) hp
  · exact br_f (by decide) hp
  · exact br_t rfl hp
theorem ty_source {post : Int32 → Prop} {u : SY} {l : Nat} (hl : l ≤ 2) (hp : post (nI (tl_sf l))) : wpY_source post u (nI l) := by
  obtain ⟨a1, a2, a3, a4, a5, a6, a7⟩ := u
  have : l = 0 ∨ l = 1 ∨ l = 2 := by omega
  rcases this with rfl | rfl | rfl
  · exact br_t rfl hp
  · exact br_f (by decide) hp
  · exact br_f (by decide) hp
theorem tl_p4 (a : Nat) : nI a + 4 = nI (a + 4) := nI_add a 4
theorem ty_costOf {post : Int32 → Prop} {l b : Nat} {dx dy : Int32} (hl : l ≤ 2) (hb : b ≤ 3) (hp : post (tl_fo (tl_cF fr l b dx dy) 16 0)) : wpY_costOf post (fr, ou, ke, ve, ov, kv, fu) (nI l) (nI b) dx dy := by
  have e5 : 4 * (nI b - nI b / 2 * 2) = nI (4 * (b % 2)) := by
    have : nI b - nI b / 2 * 2 = nI (b % 2) := pk_rem (d := 2) (by omega) (by omega) (by omega)
    rw [this]
    exact pk_mul 4 (b % 2)
  have e6 : 4 * (nI b / 2) = nI (4 * (b / 2)) := by
    have : nI b / 2 = nI (b / 2) := pk_div (d := 2) (by omega) (by omega) (by omega)
    rw [this]
    exact pk_mul 4 (b / 2)
  unfold wpY_costOf
  refine And.intro (by decide) (nm_r e5 (And.intro (by decide) (nm_r e6 (ty_predicted hl (ty_source hl ?_)))))
  have e8 : tl_fo (fun j s => tl_fo (fun i => tl_cF fr l b dx dy (4 * j + i)) 4 s) 4 0 = tl_fo (tl_cF fr l b dx dy) 16 0 := tl_fo_nest (tl_cF fr l b dx dy) 4 0 4
  rw [← e8] at hp
  have h3 := tl_pf_le l
  have h4 := tl_sf_le l
  refine tl_lp (fun n j s => wY_costOf_35 post dx dy (nI (4 * (b % 2))) (nI (4 * (b / 2))) (nI (tl_pf l)) (nI (tl_sf l)) fr ou ke ve ov kv fu n s (nI (4 * (b / 2) + j))) (fun j s => tl_fo (fun i => tl_cF fr l b dx dy (4 * j + i)) 4 s) 4 (fun s => post s) (fun n s hq => ?_) (fun n j s hj ih => ?_) 0 hp
  · exact br_t (by rw [tl_p4]; exact nI_le (by omega) (by omega)) hq
  · refine br_f (by rw [tl_p4]; exact nI_ge (by omega) (by omega)) ?_
    refine tl_lp (fun m i s => wY_costOf_48 post (wY_costOf_35 post dx dy (nI (4 * (b % 2))) (nI (4 * (b / 2))) (nI (tl_pf l)) (nI (tl_sf l)) fr ou ke ve ov kv fu n) dx dy (nI (4 * (b % 2))) (nI (4 * (b / 2))) (nI (tl_pf l)) (nI (tl_sf l)) (nI (4 * (b / 2) + j)) fr ou ke ve ov kv fu m s (nI (4 * (b % 2) + i))) (fun i => tl_cF fr l b dx dy (4 * j + i)) 4 (fun s => wY_costOf_35 post dx dy (nI (4 * (b % 2))) (nI (4 * (b / 2))) (nI (tl_pf l)) (nI (tl_sf l)) fr ou ke ve ov kv fu n s (nI (4 * (b / 2) + (j + 1)))) (fun m s hq => ?_) (fun m i s hi ih2 => ?_) s ih
    · exact br_t (by rw [tl_p4]; exact nI_le (by omega) (by omega)) (nm_r (nI_1 (4 * (b / 2) + j)) hq)
    · refine br_f (by rw [tl_p4]; exact nI_ge (by omega) (by omega)) (ty_at (by omega) (ty_at (by omega) (ty_size ?_)))
      unfold tl_cF tl_dd at ih2
      rw [show (4 * j + i) / 4 = j by omega, show (4 * j + i) % 4 = i by omega] at ih2
      rw [tl_lim_n (x := 4 * (b / 2) + j) (by omega), tl_lim_n (x := 4 * (b % 2) + i) (by omega)]
      exact nm_e (nm_r (nI_1 (4 * (b % 2) + i)) ih2)
theorem ty_cost {post : Int32 → Prop} {l b s : Nat} (hl : l ≤ 2) (hb : b ≤ 3) (hs : s ≤ 24) (hp : post (tl_co fr l b s)) : wpY_cost post (fr, ou, ke, ve, ov, kv, fu) (nI l) (nI b) (nI s) := by
  unfold wpY_cost
  refine ty_badLink_y hl (br_t rfl (ty_badBlock_y hb (br_t rfl (ty_badStep_y hs (br_t rfl (And.intro (by decide) (And.intro (by decide) ?_)))))))
  rw [tl_rem5 (by omega), tl_div5 (by omega)]
  exact ty_costOf hl hb hp
theorem i_vc_cost {k : Nat} {u : SX} {v : SY} (I : i_Rel k u v) (hk : k + 5 ≤ 2560) (v1 : Int32) (v2 : Int32) (v3 : Int32) : wpX_cost (fun r => wpY_cost (fun r' => r' = r ∧ i_Rel (k + 5) u v) v v1 v2 v3) u v1 v2 v3 := by
  refine tl_el (P := fun u v => wpX_cost (fun r => wpY_cost (fun r' => r' = r ∧ i_Rel (k + 5) u v) v v1 v2 v3) u v1 v2 v3) I ?_
  intro base place fr ou ve ov st fu ce pa si ne se gs ke kv F
  unfold wpX_cost
  rcases tl_rg v1 (N := 2) (by decide) with hl | ⟨l, hl, rfl⟩
  · unfold wpY_cost
    exact tx_isLink_n hl (br_t rfl (ty_badLink_n hl (br_f (by decide) ⟨rfl, tl_in F⟩)))
  rcases tl_rg v2 (N := 3) (by decide) with hb | ⟨b, hb, rfl⟩
  · unfold wpY_cost
    exact tx_isLink_y hl (br_f (by decide) (tx_isBlock_n hb (br_t rfl (ty_badLink_y hl (br_t rfl (ty_badBlock_n hb (br_f (by decide) ⟨rfl, tl_in F⟩)))))))
  rcases tl_rg v3 (N := 24) (by decide) with hs | ⟨s, hs, rfl⟩
  · unfold wpY_cost
    exact tx_isLink_y hl (br_f (by decide) (tx_isBlock_y hb (br_f (by decide) (tx_isStep_n hs (br_t rfl (ty_badLink_y hl (br_t rfl (ty_badBlock_y hb (br_t rfl (ty_badStep_n hs (br_f (by decide) ⟨rfl, tl_in F⟩)))))))))))
  exact tx_isLink_y hl (br_f (by decide) (tx_isBlock_y hb (br_f (by decide) (tx_isStep_y hs (br_f (by decide) (tx_matching hl hb hs (ty_cost hl hb hs ⟨rfl, tl_in F⟩)))))))
/-! the cost as a natural -/
theorem tl_ab_n {a b : Int32} (ha : ∃ n : Nat, n ≤ 255 ∧ a = nI n) (hb : ∃ n : Nat, n ≤ 255 ∧ b = nI n) : ∃ n : Nat, n ≤ 255 ∧ tl_ab (a - b) = nI n := by
  obtain ⟨x, hx, rfl⟩ := ha
  obtain ⟨y, hy, rfl⟩ := hb
  unfold tl_ab
  by_cases h : y ≤ x
  · rw [pk_sub h, if_pos (nI_pos' (by omega))]
    exact ⟨x - y, by omega, rfl⟩
  · have z : nI x - nI y < 0 := pk_sneg (by omega) (by omega)
    rw [if_neg (Int32.not_le.mpr z), Int32.neg_sub, pk_sub (by omega)]
    exact ⟨y - x, by omega, rfl⟩
theorem tl_fo_invk {A : Type} {F : Nat → A → A} {I : Nat → A → Prop} {n : Nat} (c : A) (h0 : I 0 c) (h : ∀ k c, k < n → I k c → I (k + 1) (F k c)) : I n (tl_fo F n c) := by
  induction n with
  | zero => exact h0
  | succ n ih => exact h n _ (by omega) (ih (fun k c hk => h k c (by omega)))
theorem tl_co_n (h : tl_U 255 fr) (l b s : Nat) : ∃ n : Nat, n ≤ 4080 ∧ tl_co fr l b s = nI n := by
  have H : ∃ n : Nat, n ≤ 255 * 16 ∧ tl_co fr l b s = nI n := by
    refine tl_fo_invk (I := fun k s => ∃ n : Nat, n ≤ 255 * k ∧ s = nI n) 0 ⟨0, by omega, rfl⟩ (fun k c hk hc => ?_)
    obtain ⟨n, hn, rfl⟩ := hc
    obtain ⟨m, hm, e⟩ := tl_ab_n (h (64 * tl_pf l + 8 * (4 * (b / 2) + k / 4) + (4 * (b % 2) + k % 4))) (h (64 * tl_sf l + 8 * tl_lim (nI (4 * (b / 2) + k / 4) + (nI (s % 5) - 2)) + tl_lim (nI (4 * (b % 2) + k % 4) + (nI (s / 5) - 2))))
    refine ⟨n + m, by omega, ?_⟩
    unfold tl_cF tl_dd
    rw [e, nI_add]
  obtain ⟨n, hn, e⟩ := H
  exact ⟨n, by omega, e⟩
def tl_cn (fr : Nat → Int32) (l b s : Nat) : Nat := (tl_co fr l b s).toNatClampNeg
theorem tl_cn_e (h : tl_U 255 fr) (l b s : Nat) : tl_co fr l b s = nI (tl_cn fr l b s) ∧ tl_cn fr l b s ≤ 4080 := by
  obtain ⟨n, hn, e⟩ := tl_co_n h l b s
  unfold tl_cn
  rw [e, nI_clamp (by omega)]
  exact ⟨rfl, hn⟩
/-! the choice -/
def tl_len (s : Nat) : Nat := ((s / 5 - 2) + (2 - s / 5)) + ((s % 5 - 2) + (2 - s % 5))
def tl_kl (s : Nat) : Nat := tl_len s * 100 + s % 5 * 10 + s / 5
def tl_ky (C : Nat → Nat) (s : Nat) : Nat := C s * 1000 + tl_kl s
def tl_bb (C : Nat → Nat) : Nat → Nat
  | 0 => 0
  | t + 1 => if tl_ky C (t + 1) < tl_ky C (tl_bb C t) then t + 1 else tl_bb C t
theorem tl_bb_le (C : Nat → Nat) : ∀ t, tl_bb C t ≤ t := by
  intro t
  induction t with
  | zero => exact Nat.le_refl 0
  | succ t ih =>
    unfold tl_bb
    split <;> omega
theorem tl_len_le {s : Nat} (h : s ≤ 24) : tl_len s ≤ 4 := by
  unfold tl_len
  omega
theorem tl_kl_lt {s : Nat} (h : s ≤ 24) : tl_kl s < 1000 := by
  have := tl_len_le h
  unfold tl_kl
  omega
theorem tl_ky_lt {C : Nat → Nat} (hC : ∀ s, C s ≤ 4080) {s : Nat} (h : s ≤ 24) : tl_ky C s < 2 ^ 31 := by
  have := tl_kl_lt h
  have := hC s
  unfold tl_ky
  omega
theorem tl_ab2 : ∀ a, a < 5 → tl_ab (nI a - 2) = nI ((a - 2) + (2 - a)) := by decide +kernel
theorem tl_m2le : ∀ a, a < 5 → ∀ b, b < 5 → (nI a - 2 ≤ nI b - 2 ↔ a ≤ b) := by decide +kernel
theorem tl_m2eq : ∀ a, a < 5 → ∀ b, b < 5 → (nI a - 2 = nI b - 2 ↔ a = b) := by decide +kernel
theorem tl_len_i {s : Nat} (h : s ≤ 24) : tl_ab (nI (s / 5) - 2) + tl_ab (nI (s % 5) - 2) = nI (tl_len s) := by
  rw [tl_ab2 _ (by omega), tl_ab2 _ (by omega), nI_add]
  rfl
theorem tl_key (c L d e : Nat) : ((((nI c * 1000) + (nI L * 100)) + (((nI d - 2) + 2) * 10)) + (nI e - 2)) + 2 = nI (c * 1000 + (L * 100 + d * 10 + e)) := by
  rw [Int32.add_assoc _ (nI e - 2) 2, Int32.sub_add_cancel, Int32.sub_add_cancel]
  show nI c * nI 1000 + nI L * nI 100 + nI d * nI 10 + nI e = _
  rw [pk_mul, pk_mul, pk_mul, nI_add, nI_add, nI_add]
  exact congrArg nI (by omega)
theorem tl_uu (a : Nat → Int32) (k : Nat) (x y : Int32) : upd (upd a k x) k y = upd a k y := by
  funext i
  by_cases h : i = k
  · rw [h, pk_us, pk_us]
  · rw [pk_un h, pk_un h, pk_un h]
def tl_x3 (C : Nat → Nat) : Nat → Int32
  | 0 => 0
  | t + 1 => nI (tl_ky C (tl_bb C t))
def tl_xv (C : Nat → Nat) (i : Nat) (ve : Nat → Int32) : Nat → Nat → Int32
  | 0 => ve
  | t + 1 => upd ve i (nI (tl_bb C t))
theorem tx_best {post : Int32 → SX → Prop} {l b : Nat} (hl : l ≤ 2) (hb : b ≤ 3) {C : Nat → Nat} (hC : ∀ s, C s ≤ 4080) (hc : ∀ s, tl_co fr l b s = nI (C s))
    (hp : post (nI (C (tl_bb C 24))) (base, place, fr, ou, upd ve (4 * l + b) (nI (tl_bb C 24)), ov, st, fu, ce, pa, si, ne, se, gs)) : wpX_best post (base, place, fr, ou, ve, ov, st, fu, ce, pa, si, ne, se, gs) (nI l) (nI b) := by
  unfold wpX_best
  refine tl_lp (fun n t (_ : Unit) => wX_best_5 post (nI l) (nI b) base place n (tl_x3 C t) (nI t) fr ou (tl_xv C (4 * l + b) ve t) ov st fu ce pa si ne se gs) (fun _ u => u) 25 (fun _ => True) (fun n _ _ => ?_) (fun n t _ ht ih => ?_) () trivial
  · refine br_t (nI_le (b := 25) (Nat.le_refl 25) (by decide)) (And.intro (by decide) ?_)
    have h24 := tl_bb_le C 24
    have e : tl_x3 C 25 / 1000 = nI (C (tl_bb C 24)) := by
      have e1 : tl_x3 C 25 / 1000 = nI (tl_ky C (tl_bb C 24) / 1000) := pk_div (d := 1000) (tl_ky_lt hC h24) (by omega) (by omega)
      rw [e1]
      refine congrArg nI ?_
      have := tl_kl_lt h24
      unfold tl_ky
      omega
    rw [e]
    exact hp
  · refine br_f (nI_ge (b := 25) ht (by decide)) (And.intro (by decide) (nm_r (e' := nI (t / 5) - 2) (by rw [tl_div5 (by omega)]) (And.intro (by decide) (nm_r (e' := nI (t % 5) - 2) (by rw [tl_rem5 (by omega)]) ?_))))
    refine tl_ab3 (P := fun z => wX_best_41 post (wX_best_5 post (nI l) (nI b) base place n) (nI l) (nI b) (tl_x3 C t) (nI t) (nI (t / 5) - 2) (nI (t % 5) - 2) z base place fr ou (tl_xv C (4 * l + b) ve t) ov st fu ce pa si ne se gs) ?_
    refine tl_ab3 (P := fun z => wX_best_54 post (wX_best_5 post (nI l) (nI b) base place n) (nI l) (nI b) (tl_x3 C t) (nI t) (nI (t / 5) - 2) (nI (t % 5) - 2) z (tl_ab (nI (t / 5) - 2)) base place fr ou (tl_xv C (4 * l + b) ve t) ov st fu ce pa si ne se gs) ?_
    refine nm_r (tl_len_i (by omega)) (tx_matching hl hb (by omega) ?_)
    rw [hc]
    refine nm_r (tl_key (C t) (tl_len t) (t % 5) (t / 5)) ?_
    have hi : vp_in ((4 * nI l) + nI b) 12 := by
      rw [tl_ix4]
      exact vp_in_nI (by omega) (by decide)
    have hv : (((4 * nI l) + nI b).toNatClampNeg) = 4 * l + b := by rw [tl_ix4, nI_clamp (by omega)]
    cases t with
    | zero =>
      refine br_t rfl (And.intro hi ?_)
      rw [hv]
      exact nm_e (nm_r (nI_1 0) ih)
    | succ t =>
      refine br_f (nI_ne0 (by omega) (by omega)) ?_
      have hb2 := tl_bb_le C t
      have k1 := tl_ky_lt hC (s := t + 1) (by omega)
      have k2 := tl_ky_lt hC (s := tl_bb C t) (by omega)
      by_cases z : tl_ky C (tl_bb C t) ≤ tl_ky C (t + 1)
      · have e : tl_bb C (t + 1) = tl_bb C t := if_neg (by omega)
        refine br_t (nI_le z k1) (nm_r (nI_1 (t + 1)) ?_)
        have e3 : tl_x3 C (t + 1 + 1) = tl_x3 C (t + 1) := congrArg (fun x => nI (tl_ky C x)) e
        have e4 : tl_xv C (4 * l + b) ve (t + 1 + 1) = tl_xv C (4 * l + b) ve (t + 1) := congrArg (fun x => upd ve (4 * l + b) (nI x)) e
        have ih2 : wX_best_5 post (nI l) (nI b) base place n (tl_x3 C (t + 1 + 1)) (nI (t + 1 + 1)) fr ou (tl_xv C (4 * l + b) ve (t + 1 + 1)) ov st fu ce pa si ne se gs := ih
        rw [e3, e4] at ih2
        exact ih2
      · have e : tl_bb C (t + 1) = t + 1 := if_pos (by omega)
        refine br_f (nI_ge (a := tl_ky C (t + 1)) (b := tl_ky C (tl_bb C t)) (by omega) k2) (And.intro hi ?_)
        rw [hv]
        have e3 : tl_x3 C (t + 1 + 1) = nI (tl_ky C (t + 1)) := congrArg (fun x => nI (tl_ky C x)) e
        have e4 : tl_xv C (4 * l + b) ve (t + 1 + 1) = upd (tl_xv C (4 * l + b) ve (t + 1)) (4 * l + b) (nI (t + 1)) := (congrArg (fun x => upd ve (4 * l + b) (nI x)) e).trans (tl_uu ve (4 * l + b) (nI (tl_bb C t)) (nI (t + 1))).symm
        have ih2 : wX_best_5 post (nI l) (nI b) base place n (tl_x3 C (t + 1 + 1)) (nI (t + 1 + 1)) fr ou (tl_xv C (4 * l + b) ve (t + 1 + 1)) ov st fu ce pa si ne se gs := ih
        rw [e3, e4] at ih2
        exact nm_e (nm_r (nI_1 (t + 1)) ih2)
theorem ty_better {post : Int32 → Prop} {s t c d : Nat} (hs : s ≤ 24) (ht : t ≤ 24) (hc : c ≤ 4080) (hd : d ≤ 4080) (h1 : c * 1000 + tl_kl s < d * 1000 + tl_kl t → post 1) (h0 : ¬ c * 1000 + tl_kl s < d * 1000 + tl_kl t → post 0) : wpY_better post (fr, ou, ke, ve, ov, kv, fu) (nI s) (nI c) (nI t) (nI d) := by
  have ks := tl_kl_lt hs
  have kt := tl_kl_lt ht
  have ls := tl_len_le hs
  have lt := tl_len_le ht
  unfold wpY_better
  by_cases hcd : c = d
  · refine br_t (by rw [hcd]) (And.intro (by decide) (nm_r (e' := nI (s / 5) - 2) (by rw [tl_div5 (by omega)]) (And.intro (by decide) (nm_r (e' := nI (s % 5) - 2) (by rw [tl_rem5 (by omega)]) ?_))))
    refine And.intro (by decide) (nm_r (e' := nI (t / 5) - 2) (by rw [tl_div5 (by omega)]) (And.intro (by decide) (nm_r (e' := nI (t % 5) - 2) (by rw [tl_rem5 (by omega)]) ?_)))
    refine ty_size (ty_size (nm_r (tl_len_i hs) (ty_size (ty_size (nm_r (tl_len_i ht) ?_)))))
    unfold tl_kl at h0 h1
    generalize tl_len s = ls' at *
    generalize tl_len t = lt' at *
    by_cases z : ls' = lt'
    · refine br_t (by rw [z]) ?_
      by_cases y : s % 5 = t % 5
      · refine br_t ((tl_m2eq _ (by omega) _ (by omega)).mpr y) ?_
        by_cases w : t / 5 ≤ s / 5
        · exact br_t ((tl_m2le _ (by omega) _ (by omega)).mpr w) (h0 (by omega))
        · exact br_f (fun x => w ((tl_m2le _ (by omega) _ (by omega)).mp x)) (h1 (by omega))
      · refine br_f (fun x => y ((tl_m2eq _ (by omega) _ (by omega)).mp x)) ?_
        by_cases w : t % 5 ≤ s % 5
        · exact br_t ((tl_m2le _ (by omega) _ (by omega)).mpr w) (h0 (by omega))
        · exact br_f (fun x => w ((tl_m2le _ (by omega) _ (by omega)).mp x)) (h1 (by omega))
    · refine br_f (fun x => z ((nI_eq (by omega) (by omega)).mp x)) ?_
      by_cases w : lt' ≤ ls'
      · exact br_t (nI_le w (by omega)) (h0 (by omega))
      · exact br_f (nI_ge (by omega) (by omega)) (h1 (by omega))
  · refine br_f (fun x => hcd ((nI_eq (by omega) (by omega)).mp x)) ?_
    by_cases w : d ≤ c
    · exact br_t (nI_le w (by omega)) (h0 (by omega))
    · exact br_f (nI_ge (by omega) (by omega)) (h1 (by omega))
theorem ty_bestStep {post : Int32 → Prop} {l b : Nat} (hl : l ≤ 2) (hb : b ≤ 3) {C : Nat → Nat} (hC : ∀ s, C s ≤ 4080) (hc : ∀ s, tl_co fr l b s = nI (C s))
    (hp : post (nI (tl_bb C 24))) : wpY_bestStep post (fr, ou, ke, ve, ov, kv, fu) (nI l) (nI b) := by
  unfold wpY_bestStep
  refine tl_lp (fun n t (_ : Unit) => wY_bestStep_5 post (nI l) (nI b) fr ou ke ve ov kv fu n (nI (tl_bb C t)) (nI (t + 1))) (fun _ u => u) 24 (fun _ => True) (fun n _ _ => ?_) (fun n t _ ht ih => ?_) () trivial
  · exact br_t (nI_le (b := 25) (Nat.le_refl 25) (by decide)) hp
  · have hb2 := tl_bb_le C t
    refine br_f (nI_ge (b := 25) (by omega) (by decide)) (ty_cost hl hb (by omega) (ty_cost hl hb (by omega) ?_))
    rw [hc, hc]
    refine ty_better (by omega) (by omega) (hC _) (hC _) (fun z => ?_) (fun z => ?_)
    · have e : tl_bb C (t + 1) = t + 1 := if_pos z
      have ih2 : wY_bestStep_5 post (nI l) (nI b) fr ou ke ve ov kv fu n (nI (tl_bb C (t + 1))) (nI (t + 1 + 1)) := ih
      rw [e] at ih2
      exact br_f (by decide) (nm_r (nI_1 (t + 1)) ih2)
    · have e : tl_bb C (t + 1) = tl_bb C t := if_neg z
      have ih2 : wY_bestStep_5 post (nI l) (nI b) fr ou ke ve ov kv fu n (nI (tl_bb C (t + 1))) (nI (t + 1 + 1)) := ih
      rw [e] at ih2
      exact br_t rfl (nm_r (nI_1 (t + 1)) ih2)
def tl_bt (fr : Nat → Int32) (l b : Nat) : Nat := tl_bb (tl_cn fr l b) 24
def tl_sF (fr : Nat → Int32) (k : Nat) (a : Int32 × (Nat → Int32)) : Int32 × (Nat → Int32) := (a.1 + nI (tl_cn fr (k / 4) (k % 4) (tl_bt fr (k / 4) (k % 4))), upd a.2 k (nI (tl_bt fr (k / 4) (k % 4))))
theorem tx_search {post : Int32 → SX → Prop} (h : tl_U 255 fr) (hp : post (tl_fo (tl_sF fr) 12 (0, ve)).1 (base, place, fr, ou, (tl_fo (tl_sF fr) 12 (0, ve)).2, ov, st, fu, ce, pa, si, ne, se, gs)) : wpX_search post (base, place, fr, ou, ve, ov, st, fu, ce, pa, si, ne, se, gs) := by
  unfold wpX_search
  refine tl_lp (fun n k a => wX_search_4 post n a.1 (nI k) base place fr ou (a.2) ov st fu ce pa si ne se gs) (tl_sF fr) 12 (fun a => post a.1 (base, place, fr, ou, a.2, ov, st, fu, ce, pa, si, ne, se, gs)) (fun n a hq => ?_) (fun n k a hk ih => ?_) (0, ve) hp
  · exact br_t (nI_le (b := 12) (Nat.le_refl 12) (by decide)) hq
  · refine br_f (nI_ge (b := 12) hk (by decide)) ?_
    rw [tl_shr2 k (by omega), tl_and3 k (by omega)]
    refine tx_best (C := tl_cn fr (k / 4) (k % 4)) (by omega) (by omega) (fun s => (tl_cn_e h _ _ s).2) (fun s => (tl_cn_e h _ _ s).1) ?_
    rw [show 4 * (k / 4) + k % 4 = k by omega]
    exact nm_e (nm_r (nI_1 k) ih)
theorem ty_search {post : Int32 → SY → Prop} (h : tl_U 255 fr) (hp : post (tl_fo (tl_sF fr) 12 (0, ve)).1 (fr, ou, ke, (tl_fo (tl_sF fr) 12 (0, ve)).2, ov, kv, fu)) : wpY_search post (fr, ou, ke, ve, ov, kv, fu) := by
  unfold wpY_search
  have e8 : tl_fo (fun j s => tl_fo (fun i => tl_sF fr (4 * j + i)) 4 s) 3 (0, ve) = tl_fo (tl_sF fr) 12 (0, ve) := tl_fo_nest (tl_sF fr) 4 (0, ve) 3
  rw [← e8] at hp
  refine tl_lp (fun n j a => wY_search_4 post n a.1 (nI j) fr ou ke (a.2) ov kv fu) (fun j s => tl_fo (fun i => tl_sF fr (4 * j + i)) 4 s) 3 (fun a => post a.1 (fr, ou, ke, a.2, ov, kv, fu)) (fun n a hq => ?_) (fun n j a hj ih => ?_) (0, ve) hp
  · exact br_t (nI_le (b := 3) (Nat.le_refl 3) (by decide)) hq
  · refine br_f (nI_ge (b := 3) hj (by decide)) ?_
    refine tl_lp (fun m i a => wY_search_11 post (wY_search_4 post n) (nI j) m a.1 (nI i) fr ou ke (a.2) ov kv fu) (fun i => tl_sF fr (4 * j + i)) 4 (fun a => wY_search_4 post n a.1 (nI (j + 1)) fr ou ke (a.2) ov kv fu) (fun m a hq => ?_) (fun m i a hi ih2 => ?_) a ih
    · exact br_t (nI_le (b := 4) (Nat.le_refl 4) (by decide)) (nm_r (nI_1 j) hq)
    · refine br_f (nI_ge (b := 4) hi (by decide)) ?_
      refine ty_bestStep (C := tl_cn fr j i) (by omega) (by omega) (fun s => (tl_cn_e h _ _ s).2) (fun s => (tl_cn_e h _ _ s).1) ?_
      have hb := tl_bb_le (tl_cn fr j i) 24
      unfold tl_sF tl_bt at ih2
      rw [show (4 * j + i) / 4 = j by omega, show (4 * j + i) % 4 = i by omega] at ih2
      rw [tl_ix4, nI_clamp (n := 4 * j + i) (by omega)]
      refine And.intro (vp_in_nI (by omega) (by decide)) (nm_e (ty_cost (by omega) (by omega) hb ?_))
      rw [(tl_cn_e h j i _).1]
      exact nm_e (nm_r (nI_1 i) ih2)
theorem i_vc_search {k : Nat} {u : SX} {v : SY} (I : i_Rel k u v) (hk : k + 5 ≤ 2560) : wpX_search (fun r u' => wpY_search (fun r' v' => r' = r ∧ i_Rel (k + 5) u' v') v) u := by
  refine tl_el (P := fun u v => wpX_search (fun r u' => wpY_search (fun r' v' => r' = r ∧ i_Rel (k + 5) u' v') v) u) I ?_
  intro base place fr ou ve ov st fu ce pa si ne se gs ke kv F
  refine tx_search F.1 (ty_search F.1 ⟨rfl, tl_in (tl_F_ve F ?_)⟩)
  exact tl_fo_inv (I := fun a : Int32 × (Nat → Int32) => tl_U 24 a.2) (0, ve) F.2.2.1 (fun k c _ h => tl_Uu h ⟨_, tl_bb_le _ 24, rfl⟩)
end
end
section
/-! walks of the transform -/
section
variable {base place : Int32} {fr ou ve ov st fu ce pa si ne se gs ke kv : Nat → Int32}
theorem tx_along {post : Int32 → Prop} {f l k : Nat} (hf : f ≤ 3) (hl : l ≤ 2) (hk : k < 64) (sg : Int32) (hp : post (ce (tl_ax pa f l k sg))) : wpX_along post (base, place, fr, ou, ve, ov, st, fu, ce, pa, si, ne, se, gs) (nI f) (nI l) (nI k) sg := by
  unfold wpX_along
  refine nm_r (tl_and7 k (by omega)) (nm_r (tl_shr3 k (by omega)) ?_)
  have e : ((4 * nI l) + (2 * (nI (k / 8) >>> ((2 : Int32) &&& 31)))) + (nI (k % 8) >>> ((2 : Int32) &&& 31)) = nI (4 * l + 2 * (k / 8 / 4) + k % 8 / 4) := by
    rw [tl_shr2 _ (by omega), tl_shr2 _ (by omega)]
    show nI 4 * nI l + nI 2 * nI (k / 8 / 4) + nI (k % 8 / 4) = _
    rw [pk_mul, pk_mul, nI_add, nI_add]
  rw [e, nI_clamp (n := 4 * l + 2 * (k / 8 / 4) + k % 8 / 4) (by omega)]
  refine And.intro (vp_in_nI (by omega) (by decide)) (nm_e (And.intro (by decide) (tx_limited (And.intro (by decide) (tx_limited ?_)))))
  have hT := tl_ax_T pa f l k sg
  unfold tl_ax at hp hT
  rw [tl_ix, nI_clamp (by omega)]
  exact ⟨vp_in_nI (by omega) (by decide), hp⟩
theorem tl_pr2 (sg : Int32) (pa c : Nat → Int32) {k : Nat} (hk : k < 64) : tl_fo (fun x => tl_sp tl_Pp (tl_rp pa) sg (2 * k + x)) 2 c =
    upd (upd c (64 + k) (c (64 + k) + sg * ((c (tl_ax pa 0 0 k 1) + c (tl_ax pa 2 1 k 1)) >>> ((1 : Int32) &&& 31)))) (192 + k) (upd c (64 + k) (c (64 + k) + sg * ((c (tl_ax pa 0 0 k 1) + c (tl_ax pa 2 1 k 1)) >>> ((1 : Int32) &&& 31))) (192 + k) + sg * c (tl_ax pa 2 2 k 1)) := by
  have a1 : tl_Pp (2 * k + 0) = 64 + k := by
    unfold tl_Pp
    rw [if_pos (by omega)]
    omega
  have a2 : tl_Pp (2 * k + 1) = 192 + k := by
    unfold tl_Pp
    rw [if_neg (by omega)]
    omega
  have b1 : ∀ c, tl_rp pa (2 * k + 0) c = (c (tl_ax pa 0 0 k 1) + c (tl_ax pa 2 1 k 1)) >>> ((1 : Int32) &&& 31) := by
    intro c
    unfold tl_rp
    rw [if_pos (by omega), show (2 * k + 0) / 2 = k by omega]
  have b2 : ∀ c, tl_rp pa (2 * k + 1) c = c (tl_ax pa 2 2 k 1) := by
    intro c
    unfold tl_rp
    rw [if_neg (by omega), show (2 * k + 1) / 2 = k by omega]
  have hT := tl_ax_T pa 2 2 k 1
  show tl_sp tl_Pp (tl_rp pa) sg (2 * k + 1) (tl_sp tl_Pp (tl_rp pa) sg (2 * k + 0) c) = _
  unfold tl_sp
  rw [a1, a2, b1, b2, pk_un (k := 64 + k) (j := tl_ax pa 2 2 k 1) (by omega)]
theorem tl_ad2 (sg : Int32) (pa c : Nat → Int32) {k : Nat} (hk : k < 64) : tl_fo (fun x => tl_sp tl_Pa (tl_ra pa) sg (2 * k + x)) 2 c =
    upd (upd c k (c k + sg * (c (tl_ax pa 1 0 k (-1)) >>> ((1 : Int32) &&& 31)))) (128 + k) (upd c k (c k + sg * (c (tl_ax pa 1 0 k (-1)) >>> ((1 : Int32) &&& 31))) (128 + k) + sg * (((c (tl_ax pa 1 1 k (-1)) + c (tl_ax pa 3 2 k (-1))) + 2) >>> ((2 : Int32) &&& 31))) := by
  have a1 : tl_Pa (2 * k + 0) = k := by
    unfold tl_Pa
    rw [if_pos (by omega)]
    omega
  have a2 : tl_Pa (2 * k + 1) = 128 + k := by
    unfold tl_Pa
    rw [if_neg (by omega)]
    omega
  have b1 : ∀ c, tl_ra pa (2 * k + 0) c = c (tl_ax pa 1 0 k (-1)) >>> ((1 : Int32) &&& 31) := by
    intro c
    unfold tl_ra
    rw [if_pos (by omega), show (2 * k + 0) / 2 = k by omega]
  have b2 : ∀ c, tl_ra pa (2 * k + 1) c = ((c (tl_ax pa 1 1 k (-1)) + c (tl_ax pa 3 2 k (-1))) + 2) >>> ((2 : Int32) &&& 31) := by
    intro c
    unfold tl_ra
    rw [if_neg (by omega), show (2 * k + 1) / 2 = k by omega]
  have hT := tl_ax_T pa 1 1 k (-1)
  have hU := tl_ax_T pa 3 2 k (-1)
  show tl_sp tl_Pa (tl_ra pa) sg (2 * k + 1) (tl_sp tl_Pa (tl_ra pa) sg (2 * k + 0) c) = _
  unfold tl_sp
  rw [a1, a2, b1, b2, pk_un (k := k) (j := tl_ax pa 1 1 k (-1)) (by omega), pk_un (k := k) (j := tl_ax pa 3 2 k (-1)) (by omega)]
theorem tl_add64 (k : Nat) : 64 + nI k = nI (64 + k) := nI_add 64 k
theorem tl_add192 (k : Nat) : 192 + nI k = nI (192 + k) := nI_add 192 k
theorem tl_add128 (k : Nat) : 128 + nI k = nI (128 + k) := nI_add 128 k
theorem tx_predict {post : SX → Prop} (sg : Int32) (hp : post (base, place, fr, ou, ve, ov, st, fu, tl_pr sg pa ce, pa, si, ne, se, gs)) : wpX_predict post (base, place, fr, ou, ve, ov, st, fu, ce, pa, si, ne, se, gs) sg := by
  unfold wpX_predict
  have e8 : tl_fo (fun k c => tl_fo (fun x => tl_sp tl_Pp (tl_rp pa) sg (2 * k + x)) 2 c) 64 ce = tl_pr sg pa ce := tl_fo_nest (tl_sp tl_Pp (tl_rp pa) sg) 2 ce 64
  rw [← e8] at hp
  refine tl_lp (fun n k c => wX_predict_2 post sg base place n (nI k) fr ou ve ov st fu c pa si ne se gs) (fun k c => tl_fo (fun x => tl_sp tl_Pp (tl_rp pa) sg (2 * k + x)) 2 c) 64 (fun c => post (base, place, fr, ou, ve, ov, st, fu, c, pa, si, ne, se, gs)) (fun n c hq => ?_) (fun n k c hk ih => ?_) ce hp
  · exact br_t (nI_le (b := 64) (Nat.le_refl 64) (by decide)) hq
  · refine br_f (nI_ge (b := 64) hk (by decide)) (tx_along (f := 0) (l := 0) (by omega) (by omega) hk 1 (tx_along (f := 2) (l := 1) (by omega) (by omega) hk 1 (tx_along (f := 2) (l := 2) (by omega) (by omega) hk 1 ?_)))
    rw [tl_pr2 sg pa c hk] at ih
    rw [tl_add64, tl_add192, nI_clamp (n := 64 + k) (by omega), nI_clamp (n := 192 + k) (by omega)]
    exact And.intro (vp_in_nI (by omega) (by decide)) (And.intro (vp_in_nI (by omega) (by decide)) (nm_e (And.intro (vp_in_nI (by omega) (by decide)) (And.intro (vp_in_nI (by omega) (by decide)) (nm_e (nm_r (nI_1 k) ih))))))
theorem tx_adjust {post : SX → Prop} (sg : Int32) (hp : post (base, place, fr, ou, ve, ov, st, fu, tl_ad sg pa ce, pa, si, ne, se, gs)) : wpX_adjust post (base, place, fr, ou, ve, ov, st, fu, ce, pa, si, ne, se, gs) sg := by
  unfold wpX_adjust
  have e8 : tl_fo (fun k c => tl_fo (fun x => tl_sp tl_Pa (tl_ra pa) sg (2 * k + x)) 2 c) 64 ce = tl_ad sg pa ce := tl_fo_nest (tl_sp tl_Pa (tl_ra pa) sg) 2 ce 64
  rw [← e8] at hp
  refine tl_lp (fun n k c => wX_adjust_2 post sg base place n (nI k) fr ou ve ov st fu c pa si ne se gs) (fun k c => tl_fo (fun x => tl_sp tl_Pa (tl_ra pa) sg (2 * k + x)) 2 c) 64 (fun c => post (base, place, fr, ou, ve, ov, st, fu, c, pa, si, ne, se, gs)) (fun n c hq => ?_) (fun n k c hk ih => ?_) ce hp
  · exact br_t (nI_le (b := 64) (Nat.le_refl 64) (by decide)) hq
  · refine br_f (nI_ge (b := 64) hk (by decide)) (tx_along (f := 1) (l := 0) (by omega) (by omega) hk (-1) (tx_along (f := 1) (l := 1) (by omega) (by omega) hk (-1) (tx_along (f := 3) (l := 2) (by omega) (by omega) hk (-1) ?_)))
    rw [tl_ad2 sg pa c hk] at ih
    rw [tl_add128, nI_clamp (n := k) (by omega), nI_clamp (n := 128 + k) (by omega)]
    exact And.intro (vp_in_nI (by omega) (by decide)) (And.intro (vp_in_nI (by omega) (by decide)) (nm_e (And.intro (vp_in_nI (by omega) (by decide)) (And.intro (vp_in_nI (by omega) (by decide)) (nm_e (nm_r (nI_1 k) ih))))))
/-! lines -/
theorem tl_ln_s (s g i : Nat) : tl_ln s g (i + 1) = tl_ln s g i + g := by
  unfold tl_ln
  rw [Nat.succ_mul, Nat.add_assoc]
theorem tl_lnI (s g i : Nat) : nI s + nI i * nI g = nI (tl_ln s g i) := by
  rw [pk_mul, nI_add]
  rfl
theorem tl_lnM (s g i : Nat) : nI (tl_ln s g (i + 1)) - nI g = nI (tl_ln s g i) := by
  rw [tl_ln_s, ← nI_add, Int32.add_sub_cancel]
theorem tl_lnP (s g i : Nat) : nI (tl_ln s g i) + nI g = nI (tl_ln s g (i + 1)) := by
  rw [tl_ln_s, nI_add]
theorem tl_sp_m (P : Nat → Nat) (r : Nat → (Nat → Int32) → Int32) (j : Nat) (c : Nat → Int32) : tl_sp P r (-1) j c = upd c (P j) (c (P j) - r j c) := by
  unfold tl_sp
  rw [tl_m1s]
theorem tl_sp_p (P : Nat → Nat) (r : Nat → (Nat → Int32) → Int32) (j : Nat) (c : Nat → Int32) : tl_sp P r 1 j c = upd c (P j) (c (P j) + r j c) := by
  unfold tl_sp
  rw [tl_p1s]
theorem tx_lift_o {post : SX → Prop} {s g m : Nat} (hB : ∀ i, i < 2 * m → tl_ln s g i < 256) (hm : m ≤ 100)
    (Q : (Nat → Int32) → Prop) (hx : ∀ n c, Q c → wX_lift_3 post (nI s) (nI g) (nI (2 * m)) base place (n + 1) (nI (2 * m + 1)) fr ou ve ov st fu c pa si ne se gs) (hp : Q (tl_lo (-1) (tl_ln s g) m ce)) : ∃ n, wX_lift_3 post (nI s) (nI g) (nI (2 * m)) base place n 1 fr ou ve ov st fu ce pa si ne se gs := by
  refine tl_lp (fun n j c => wX_lift_3 post (nI s) (nI g) (nI (2 * m)) base place n (nI (2 * j + 1)) fr ou ve ov st fu c pa si ne se gs) (tl_sp (fun j => tl_ln s g (2 * j + 1)) (tl_ro (tl_ln s g) m) (-1)) m Q (fun n c hq => hx n c hq) (fun n j c hj ih => ?_) ce hp
  rw [tl_sp_m] at ih
  have h0 := hB (2 * j) (by omega)
  have h1 := hB (2 * j + 1) (by omega)
  refine br_f (nI_ge (by omega) (by omega)) (nm_r (tl_lnI s g (2 * j + 1)) ?_)
  rw [tl_lnM s g (2 * j), nI_1 (2 * j + 1)]
  unfold wX_lift_46
  rw [tl_lnM s g (2 * j), nI_clamp (n := tl_ln s g (2 * j)) (by omega), nI_clamp (n := tl_ln s g (2 * j + 1)) (by omega)]
  unfold tl_ro at ih
  by_cases z : j + 1 < m
  · have h2 := hB (2 * j + 1 + 1) (by omega)
    rw [if_pos z] at ih
    rw [tl_lnP s g (2 * j + 1), nI_clamp (n := tl_ln s g (2 * j + 1 + 1)) (by omega)]
    exact br_f (nI_ge (by omega) (by omega)) (And.intro (vp_in_nI h2 (by decide)) (And.intro (vp_in_nI h1 (by decide)) (And.intro (vp_in_nI h0 (by decide)) (And.intro (vp_in_nI h1 (by decide)) (nm_e (nm_r (tl_p2 (2 * j + 1)) ih))))))
  · rw [if_neg z] at ih
    exact br_t (nI_le (by omega) (by omega)) (And.intro (vp_in_nI h0 (by decide)) (And.intro (vp_in_nI h1 (by decide)) (And.intro (vp_in_nI h0 (by decide)) (And.intro (vp_in_nI h1 (by decide)) (nm_e (nm_r (tl_p2 (2 * j + 1)) ih))))))
theorem tx_lift_e {post : SX → Prop} {s g m : Nat} (hB : ∀ i, i < 2 * m → tl_ln s g i < 256) (hm : m ≤ 100)
    (Q : (Nat → Int32) → Prop) (hx : ∀ n c, Q c → wX_lift_81 post (nI s) (nI g) (nI (2 * m)) base place (n + 1) (nI (2 * m)) fr ou ve ov st fu c pa si ne se gs) (hp : Q (tl_le (1) (tl_ln s g) m ce)) : ∃ n, wX_lift_81 post (nI s) (nI g) (nI (2 * m)) base place n 0 fr ou ve ov st fu ce pa si ne se gs := by
  refine tl_lp (fun n j c => wX_lift_81 post (nI s) (nI g) (nI (2 * m)) base place n (nI (2 * j)) fr ou ve ov st fu c pa si ne se gs) (tl_sp (fun j => tl_ln s g (2 * j)) (tl_re (tl_ln s g)) (1)) m Q (fun n c hq => hx n c hq) (fun n j c hj ih => ?_) ce hp
  rw [tl_sp_p] at ih
  have h0 := hB (2 * j) (by omega)
  have h1 := hB (2 * j + 1) (by omega)
  refine br_f (nI_ge (by omega) (by omega)) (nm_r (tl_lnI s g (2 * j)) ?_)
  rw [tl_lnP s g (2 * j)]
  unfold wX_lift_121
  rw [tl_lnP s g (2 * j), nI_clamp (n := tl_ln s g (2 * j)) (by omega), nI_clamp (n := tl_ln s g (2 * j + 1)) (by omega)]
  unfold tl_re at ih
  cases j with
  | zero =>
    rw [if_neg (by omega)] at ih
    exact br_t (nI_le (a := 0) (b := 0) (by omega) (by omega)) (And.intro (vp_in_nI h1 (by decide)) (And.intro (vp_in_nI h0 (by decide)) (And.intro (vp_in_nI h1 (by decide)) (And.intro (vp_in_nI h0 (by decide)) (nm_e (nm_r (tl_p2 (2 * 0)) ih))))))
  | succ j =>
    have h2 := hB (2 * j + 1) (by omega)
    rw [if_pos (by omega), show 2 * (j + 1) - 1 = 2 * j + 1 by omega] at ih
    rw [show nI (tl_ln s g (2 * (j + 1))) - nI g = nI (tl_ln s g (2 * j + 1)) from tl_lnM s g (2 * j + 1), nI_clamp (n := tl_ln s g (2 * j + 1)) (by omega)]
    exact br_f (nI_nle (by omega) (by omega)) (And.intro (vp_in_nI h2 (by decide)) (And.intro (vp_in_nI h0 (by decide)) (And.intro (vp_in_nI h1 (by decide)) (And.intro (vp_in_nI h0 (by decide)) (nm_e (nm_r (tl_p2 (2 * (j + 1))) ih))))))
theorem tx_unlift_o {post : SX → Prop} {s g m : Nat} (hB : ∀ i, i < 2 * m → tl_ln s g i < 256) (hm : m ≤ 100)
    (Q : (Nat → Int32) → Prop) (hx : ∀ n c, Q c → wX_unlift_80 post (nI s) (nI g) (nI (2 * m)) base place (n + 1) (nI (2 * m + 1)) fr ou ve ov st fu c pa si ne se gs) (hp : Q (tl_lo (1) (tl_ln s g) m ce)) : ∃ n, wX_unlift_80 post (nI s) (nI g) (nI (2 * m)) base place n 1 fr ou ve ov st fu ce pa si ne se gs := by
  refine tl_lp (fun n j c => wX_unlift_80 post (nI s) (nI g) (nI (2 * m)) base place n (nI (2 * j + 1)) fr ou ve ov st fu c pa si ne se gs) (tl_sp (fun j => tl_ln s g (2 * j + 1)) (tl_ro (tl_ln s g) m) (1)) m Q (fun n c hq => hx n c hq) (fun n j c hj ih => ?_) ce hp
  rw [tl_sp_p] at ih
  have h0 := hB (2 * j) (by omega)
  have h1 := hB (2 * j + 1) (by omega)
  refine br_f (nI_ge (by omega) (by omega)) (nm_r (tl_lnI s g (2 * j + 1)) ?_)
  rw [tl_lnM s g (2 * j), nI_1 (2 * j + 1)]
  unfold wX_unlift_123
  rw [tl_lnM s g (2 * j), nI_clamp (n := tl_ln s g (2 * j)) (by omega), nI_clamp (n := tl_ln s g (2 * j + 1)) (by omega)]
  unfold tl_ro at ih
  by_cases z : j + 1 < m
  · have h2 := hB (2 * j + 1 + 1) (by omega)
    rw [if_pos z] at ih
    rw [tl_lnP s g (2 * j + 1), nI_clamp (n := tl_ln s g (2 * j + 1 + 1)) (by omega)]
    exact br_f (nI_ge (by omega) (by omega)) (And.intro (vp_in_nI h2 (by decide)) (And.intro (vp_in_nI h1 (by decide)) (And.intro (vp_in_nI h0 (by decide)) (And.intro (vp_in_nI h1 (by decide)) (nm_e (nm_r (tl_p2 (2 * j + 1)) ih))))))
  · rw [if_neg z] at ih
    exact br_t (nI_le (by omega) (by omega)) (And.intro (vp_in_nI h0 (by decide)) (And.intro (vp_in_nI h1 (by decide)) (And.intro (vp_in_nI h0 (by decide)) (And.intro (vp_in_nI h1 (by decide)) (nm_e (nm_r (tl_p2 (2 * j + 1)) ih))))))
theorem tx_unlift_e {post : SX → Prop} {s g m : Nat} (hB : ∀ i, i < 2 * m → tl_ln s g i < 256) (hm : m ≤ 100)
    (Q : (Nat → Int32) → Prop) (hx : ∀ n c, Q c → wX_unlift_3 post (nI s) (nI g) (nI (2 * m)) base place (n + 1) (nI (2 * m)) fr ou ve ov st fu c pa si ne se gs) (hp : Q (tl_le (-1) (tl_ln s g) m ce)) : ∃ n, wX_unlift_3 post (nI s) (nI g) (nI (2 * m)) base place n 0 fr ou ve ov st fu ce pa si ne se gs := by
  refine tl_lp (fun n j c => wX_unlift_3 post (nI s) (nI g) (nI (2 * m)) base place n (nI (2 * j)) fr ou ve ov st fu c pa si ne se gs) (tl_sp (fun j => tl_ln s g (2 * j)) (tl_re (tl_ln s g)) (-1)) m Q (fun n c hq => hx n c hq) (fun n j c hj ih => ?_) ce hp
  rw [tl_sp_m] at ih
  have h0 := hB (2 * j) (by omega)
  have h1 := hB (2 * j + 1) (by omega)
  refine br_f (nI_ge (by omega) (by omega)) (nm_r (tl_lnI s g (2 * j)) ?_)
  rw [tl_lnP s g (2 * j)]
  unfold wX_unlift_43
  rw [tl_lnP s g (2 * j), nI_clamp (n := tl_ln s g (2 * j)) (by omega), nI_clamp (n := tl_ln s g (2 * j + 1)) (by omega)]
  unfold tl_re at ih
  cases j with
  | zero =>
    rw [if_neg (by omega)] at ih
    exact br_t (nI_le (a := 0) (b := 0) (by omega) (by omega)) (And.intro (vp_in_nI h1 (by decide)) (And.intro (vp_in_nI h0 (by decide)) (And.intro (vp_in_nI h1 (by decide)) (And.intro (vp_in_nI h0 (by decide)) (nm_e (nm_r (tl_p2 (2 * 0)) ih))))))
  | succ j =>
    have h2 := hB (2 * j + 1) (by omega)
    rw [if_pos (by omega), show 2 * (j + 1) - 1 = 2 * j + 1 by omega] at ih
    rw [show nI (tl_ln s g (2 * (j + 1))) - nI g = nI (tl_ln s g (2 * j + 1)) from tl_lnM s g (2 * j + 1), nI_clamp (n := tl_ln s g (2 * j + 1)) (by omega)]
    exact br_f (nI_nle (by omega) (by omega)) (And.intro (vp_in_nI h2 (by decide)) (And.intro (vp_in_nI h0 (by decide)) (And.intro (vp_in_nI h1 (by decide)) (And.intro (vp_in_nI h0 (by decide)) (nm_e (nm_r (tl_p2 (2 * (j + 1))) ih))))))
theorem tx_lift {post : SX → Prop} {s g m : Nat} (hB : ∀ i, i < 2 * m → tl_ln s g i < 256) (hm : m ≤ 100) (hp : post (base, place, fr, ou, ve, ov, st, fu, tl_li (tl_ln s g) m ce, pa, si, ne, se, gs)) : wpX_lift post (base, place, fr, ou, ve, ov, st, fu, ce, pa, si, ne, se, gs) (nI s) (nI g) (nI (2 * m)) := by
  unfold wpX_lift
  refine tx_lift_o hB hm (fun c => post (base, place, fr, ou, ve, ov, st, fu, tl_le 1 (tl_ln s g) m c, pa, si, ne, se, gs)) (fun n c hq => ?_) hp
  refine br_t (nI_le (by omega) (by omega)) ?_
  refine tx_lift_e hB hm (fun c => post (base, place, fr, ou, ve, ov, st, fu, c, pa, si, ne, se, gs)) (fun n c hq => ?_) hq
  exact br_t (nI_le (by omega) (by omega)) hq
theorem tx_unlift {post : SX → Prop} {s g m : Nat} (hB : ∀ i, i < 2 * m → tl_ln s g i < 256) (hm : m ≤ 100) (hp : post (base, place, fr, ou, ve, ov, st, fu, tl_ui (tl_ln s g) m ce, pa, si, ne, se, gs)) : wpX_unlift post (base, place, fr, ou, ve, ov, st, fu, ce, pa, si, ne, se, gs) (nI s) (nI g) (nI (2 * m)) := by
  unfold wpX_unlift
  refine tx_unlift_e hB hm (fun c => post (base, place, fr, ou, ve, ov, st, fu, tl_lo 1 (tl_ln s g) m c, pa, si, ne, se, gs)) (fun n c hq => ?_) hp
  refine br_t (nI_le (by omega) (by omega)) ?_
  refine tx_unlift_o hB hm (fun c => post (base, place, fr, ou, ve, ov, st, fu, c, pa, si, ne, se, gs)) (fun n c hq => ?_) hq
  exact br_t (nI_le (by omega) (by omega)) hq
theorem tl_a8 (f l : Nat) : nI (64 * f) + (8 * nI l) = nI (64 * f + 8 * l) := by
  show _ + nI 8 * nI l = _
  rw [pk_mul, nI_add]
theorem tl_a1 (f l : Nat) : nI (64 * f) + nI l = nI (64 * f + l) := nI_add _ _
theorem tl_a16 (f l : Nat) : nI (64 * f) + (16 * nI l) = nI (64 * f + 16 * l) := by
  show _ + nI 16 * nI l = _
  rw [pk_mul, nI_add]
theorem tl_a2 (f l : Nat) : nI (64 * f) + (2 * nI l) = nI (64 * f + 2 * l) := by
  show _ + nI 2 * nI l = _
  rw [pk_mul, nI_add]
theorem tx_analyse_79 {post : SX → Prop} {f : Nat} (hf : f ≤ 3) (Q : (Nat → Int32) → Prop) (hx : ∀ n c, Q c → wX_analyse_79 post (nI (64 * f)) (n + 1) (nI 4) base place fr ou ve ov st fu c pa si ne se gs) (hp : Q (tl_pa (tl_q4 f) 2 4 ce)) : ∃ n, wX_analyse_79 post (nI (64 * f)) n 0 base place fr ou ve ov st fu ce pa si ne se gs := by
  refine tl_lp (fun n l c => wX_analyse_79 post (nI (64 * f)) n (nI l) base place fr ou ve ov st fu c pa si ne se gs) (fun l => tl_li (tl_q4 f l) 2) 4 Q hx (fun n l c hl ih => ?_) ce hp
  refine br_f (nI_ge (b := 4) hl (by decide)) ?_
  rw [tl_a2]
  refine tx_lift (s := 64 * f + 2 * l) (g := 16) (m := 2) (fun i hi => ?_) (by omega) (nm_r (nI_1 l) ih)
  have hT := tl_q4_T f l i hl hi
  unfold tl_T tl_q4 at hT
  omega
theorem tx_analyse_54 {post : SX → Prop} {f : Nat} (hf : f ≤ 3) (Q : (Nat → Int32) → Prop) (hx : ∀ n c, Q c → wX_analyse_54 post (nI (64 * f)) (n + 1) (nI 4) base place fr ou ve ov st fu c pa si ne se gs) (hp : Q (tl_pa (tl_q3 f) 2 4 ce)) : ∃ n, wX_analyse_54 post (nI (64 * f)) n 0 base place fr ou ve ov st fu ce pa si ne se gs := by
  refine tl_lp (fun n l c => wX_analyse_54 post (nI (64 * f)) n (nI l) base place fr ou ve ov st fu c pa si ne se gs) (fun l => tl_li (tl_q3 f l) 2) 4 Q hx (fun n l c hl ih => ?_) ce hp
  refine br_f (nI_ge (b := 4) hl (by decide)) ?_
  rw [tl_a16]
  refine tx_lift (s := 64 * f + 16 * l) (g := 2) (m := 2) (fun i hi => ?_) (by omega) (nm_r (nI_1 l) ih)
  have hT := tl_q3_T f l i hl hi
  unfold tl_T tl_q3 at hT
  omega
theorem tx_analyse_29 {post : SX → Prop} {f : Nat} (hf : f ≤ 3) (Q : (Nat → Int32) → Prop) (hx : ∀ n c, Q c → wX_analyse_29 post (nI (64 * f)) (n + 1) (nI 8) base place fr ou ve ov st fu c pa si ne se gs) (hp : Q (tl_pa (tl_q2 f) 4 8 ce)) : ∃ n, wX_analyse_29 post (nI (64 * f)) n 0 base place fr ou ve ov st fu ce pa si ne se gs := by
  refine tl_lp (fun n l c => wX_analyse_29 post (nI (64 * f)) n (nI l) base place fr ou ve ov st fu c pa si ne se gs) (fun l => tl_li (tl_q2 f l) 4) 8 Q hx (fun n l c hl ih => ?_) ce hp
  refine br_f (nI_ge (b := 8) hl (by decide)) ?_
  rw [tl_a1]
  refine tx_lift (s := 64 * f + l) (g := 8) (m := 4) (fun i hi => ?_) (by omega) (nm_r (nI_1 l) ih)
  have hT := tl_q2_T f l i hl hi
  unfold tl_T tl_q2 at hT
  omega
theorem tx_analyse_2 {post : SX → Prop} {f : Nat} (hf : f ≤ 3) (Q : (Nat → Int32) → Prop) (hx : ∀ n c, Q c → wX_analyse_2 post (nI (64 * f)) (n + 1) (nI 8) base place fr ou ve ov st fu c pa si ne se gs) (hp : Q (tl_pa (tl_q1 f) 4 8 ce)) : ∃ n, wX_analyse_2 post (nI (64 * f)) n 0 base place fr ou ve ov st fu ce pa si ne se gs := by
  refine tl_lp (fun n l c => wX_analyse_2 post (nI (64 * f)) n (nI l) base place fr ou ve ov st fu c pa si ne se gs) (fun l => tl_li (tl_q1 f l) 4) 8 Q hx (fun n l c hl ih => ?_) ce hp
  refine br_f (nI_ge (b := 8) hl (by decide)) ?_
  rw [tl_a8]
  refine tx_lift (s := 64 * f + 8 * l) (g := 1) (m := 4) (fun i hi => ?_) (by omega) (nm_r (nI_1 l) ih)
  have hT := tl_q1_T f l i hl hi
  unfold tl_T tl_q1 at hT
  omega
theorem tx_synthesise_77 {post : SX → Prop} {f : Nat} (hf : f ≤ 3) (Q : (Nat → Int32) → Prop) (hx : ∀ n c, Q c → wX_synthesise_77 post (nI (64 * f)) (n + 1) (nI 8) base place fr ou ve ov st fu c pa si ne se gs) (hp : Q (tl_pu (tl_q1 f) 4 8 ce)) : ∃ n, wX_synthesise_77 post (nI (64 * f)) n 0 base place fr ou ve ov st fu ce pa si ne se gs := by
  refine tl_lp (fun n l c => wX_synthesise_77 post (nI (64 * f)) n (nI l) base place fr ou ve ov st fu c pa si ne se gs) (fun l => tl_ui (tl_q1 f l) 4) 8 Q hx (fun n l c hl ih => ?_) ce hp
  refine br_f (nI_ge (b := 8) hl (by decide)) ?_
  rw [tl_a8]
  refine tx_unlift (s := 64 * f + 8 * l) (g := 1) (m := 4) (fun i hi => ?_) (by omega) (nm_r (nI_1 l) ih)
  have hT := tl_q1_T f l i hl hi
  unfold tl_T tl_q1 at hT
  omega
theorem tx_synthesise_52 {post : SX → Prop} {f : Nat} (hf : f ≤ 3) (Q : (Nat → Int32) → Prop) (hx : ∀ n c, Q c → wX_synthesise_52 post (nI (64 * f)) (n + 1) (nI 8) base place fr ou ve ov st fu c pa si ne se gs) (hp : Q (tl_pu (tl_q2 f) 4 8 ce)) : ∃ n, wX_synthesise_52 post (nI (64 * f)) n 0 base place fr ou ve ov st fu ce pa si ne se gs := by
  refine tl_lp (fun n l c => wX_synthesise_52 post (nI (64 * f)) n (nI l) base place fr ou ve ov st fu c pa si ne se gs) (fun l => tl_ui (tl_q2 f l) 4) 8 Q hx (fun n l c hl ih => ?_) ce hp
  refine br_f (nI_ge (b := 8) hl (by decide)) ?_
  rw [tl_a1]
  refine tx_unlift (s := 64 * f + l) (g := 8) (m := 4) (fun i hi => ?_) (by omega) (nm_r (nI_1 l) ih)
  have hT := tl_q2_T f l i hl hi
  unfold tl_T tl_q2 at hT
  omega
theorem tx_synthesise_27 {post : SX → Prop} {f : Nat} (hf : f ≤ 3) (Q : (Nat → Int32) → Prop) (hx : ∀ n c, Q c → wX_synthesise_27 post (nI (64 * f)) (n + 1) (nI 4) base place fr ou ve ov st fu c pa si ne se gs) (hp : Q (tl_pu (tl_q3 f) 2 4 ce)) : ∃ n, wX_synthesise_27 post (nI (64 * f)) n 0 base place fr ou ve ov st fu ce pa si ne se gs := by
  refine tl_lp (fun n l c => wX_synthesise_27 post (nI (64 * f)) n (nI l) base place fr ou ve ov st fu c pa si ne se gs) (fun l => tl_ui (tl_q3 f l) 2) 4 Q hx (fun n l c hl ih => ?_) ce hp
  refine br_f (nI_ge (b := 4) hl (by decide)) ?_
  rw [tl_a16]
  refine tx_unlift (s := 64 * f + 16 * l) (g := 2) (m := 2) (fun i hi => ?_) (by omega) (nm_r (nI_1 l) ih)
  have hT := tl_q3_T f l i hl hi
  unfold tl_T tl_q3 at hT
  omega
theorem tx_synthesise_2 {post : SX → Prop} {f : Nat} (hf : f ≤ 3) (Q : (Nat → Int32) → Prop) (hx : ∀ n c, Q c → wX_synthesise_2 post (nI (64 * f)) (n + 1) (nI 4) base place fr ou ve ov st fu c pa si ne se gs) (hp : Q (tl_pu (tl_q4 f) 2 4 ce)) : ∃ n, wX_synthesise_2 post (nI (64 * f)) n 0 base place fr ou ve ov st fu ce pa si ne se gs := by
  refine tl_lp (fun n l c => wX_synthesise_2 post (nI (64 * f)) n (nI l) base place fr ou ve ov st fu c pa si ne se gs) (fun l => tl_ui (tl_q4 f l) 2) 4 Q hx (fun n l c hl ih => ?_) ce hp
  refine br_f (nI_ge (b := 4) hl (by decide)) ?_
  rw [tl_a2]
  refine tx_unlift (s := 64 * f + 2 * l) (g := 16) (m := 2) (fun i hi => ?_) (by omega) (nm_r (nI_1 l) ih)
  have hT := tl_q4_T f l i hl hi
  unfold tl_T tl_q4 at hT
  omega
theorem tx_analyse {post : SX → Prop} {f : Nat} (hf : f ≤ 3) (hp : post (base, place, fr, ou, ve, ov, st, fu, tl_an f ce, pa, si, ne, se, gs)) : wpX_analyse post (base, place, fr, ou, ve, ov, st, fu, ce, pa, si, ne, se, gs) (nI (64 * f)) := by
  unfold wpX_analyse
  refine tx_analyse_2 hf (fun c => post (base, place, fr, ou, ve, ov, st, fu, tl_pa (tl_q4 f) 2 4 (tl_pa (tl_q3 f) 2 4 (tl_pa (tl_q2 f) 4 8 c)), pa, si, ne, se, gs)) (fun n c hq => ?_) hp
  refine br_t (nI_le (b := 8) (Nat.le_refl 8) (by decide)) ?_
  refine tx_analyse_29 hf (fun c => post (base, place, fr, ou, ve, ov, st, fu, tl_pa (tl_q4 f) 2 4 (tl_pa (tl_q3 f) 2 4 c), pa, si, ne, se, gs)) (fun n c hq => ?_) hq
  refine br_t (nI_le (b := 8) (Nat.le_refl 8) (by decide)) ?_
  refine tx_analyse_54 hf (fun c => post (base, place, fr, ou, ve, ov, st, fu, tl_pa (tl_q4 f) 2 4 c, pa, si, ne, se, gs)) (fun n c hq => ?_) hq
  refine br_t (nI_le (b := 4) (Nat.le_refl 4) (by decide)) ?_
  refine tx_analyse_79 hf (fun c => post (base, place, fr, ou, ve, ov, st, fu, c, pa, si, ne, se, gs)) (fun n c hq => ?_) hq
  exact br_t (nI_le (b := 4) (Nat.le_refl 4) (by decide)) hq
theorem tx_synthesise {post : SX → Prop} {f : Nat} (hf : f ≤ 3) (hp : post (base, place, fr, ou, ve, ov, st, fu, tl_sy f ce, pa, si, ne, se, gs)) : wpX_synthesise post (base, place, fr, ou, ve, ov, st, fu, ce, pa, si, ne, se, gs) (nI (64 * f)) := by
  unfold wpX_synthesise
  refine tx_synthesise_2 hf (fun c => post (base, place, fr, ou, ve, ov, st, fu, tl_pu (tl_q1 f) 4 8 (tl_pu (tl_q2 f) 4 8 (tl_pu (tl_q3 f) 2 4 c)), pa, si, ne, se, gs)) (fun n c hq => ?_) hp
  refine br_t (nI_le (b := 4) (Nat.le_refl 4) (by decide)) ?_
  refine tx_synthesise_27 hf (fun c => post (base, place, fr, ou, ve, ov, st, fu, tl_pu (tl_q1 f) 4 8 (tl_pu (tl_q2 f) 4 8 c), pa, si, ne, se, gs)) (fun n c hq => ?_) hq
  refine br_t (nI_le (b := 4) (Nat.le_refl 4) (by decide)) ?_
  refine tx_synthesise_52 hf (fun c => post (base, place, fr, ou, ve, ov, st, fu, tl_pu (tl_q1 f) 4 8 c, pa, si, ne, se, gs)) (fun n c hq => ?_) hq
  refine br_t (nI_le (b := 8) (Nat.le_refl 8) (by decide)) ?_
  refine tx_synthesise_77 hf (fun c => post (base, place, fr, ou, ve, ov, st, fu, c, pa, si, ne, se, gs)) (fun n c hq => ?_) hq
  exact br_t (nI_le (b := 8) (Nat.le_refl 8) (by decide)) hq
end
end
section
/-! walks of the writer -/
section
variable {base place : Int32} {fr ou ve ov st fu ce pa si ne se gs ke kv : Nat → Int32}
theorem tl_fc_in (v : Nat → Int32) {n : Nat} (a : Nat → Int32) {i : Nat} (hi : i < n) : tl_fo (fun k a => upd a k (v k)) n a i = v i := by
  have e : tl_fo (fun k a => upd a k (v k)) n a = tl_fo (fun k a => upd a (0 + k) (v k)) n a := tl_fo_congr a (fun k c _ => by rw [Nat.zero_add])
  rw [e, tl_fill]
  have := tl_gl_in (d := 0) v a hi
  rw [Nat.zero_add] at this
  exact this
theorem tl_fc_out (v : Nat → Int32) {n : Nat} (a : Nat → Int32) {i : Nat} (hi : n ≤ i) : tl_fo (fun k a => upd a k (v k)) n a i = a i := by
  have e : tl_fo (fun k a => upd a k (v k)) n a = tl_fo (fun k a => upd a (0 + k) (v k)) n a := tl_fo_congr a (fun k c _ => by rw [Nat.zero_add])
  rw [e, tl_fill]
  exact tl_gl_out v a (by omega)
theorem tl_fc_cl {v : Nat → Int32} {n : Nat} {a : Nat → Int32} (h : ∀ i, n ≤ i → a i = 0) : tl_fo (fun k a => upd a k (v k)) n a = tl_cl n v := by
  funext i
  unfold tl_cl
  by_cases z : i < n
  · rw [if_pos z, tl_fc_in v a z]
  · rw [if_neg z, tl_fc_out v a (by omega), h i (by omega)]
theorem tx_open {post : SX → Prop} {s : Nat} (hp : ∀ se' gs', (∀ i, i < 256 → se' i = 0) → (∀ g, g < 64 → gs' g = 0) → post (nI (160 * s), nI 0, fr, ou, ve, ov, st, fu, ce, pa, si, ne, se', gs')) : wpX_open post (base, place, fr, ou, ve, ov, st, fu, ce, pa, si, ne, se, gs) (nI s) := by
  unfold wpX_open
  have e : nI s * 160 = nI (160 * s) := by
    show nI s * nI 160 = _
    rw [pk_mul, Nat.mul_comm]
  refine nm_r e ?_
  refine tl_lp (fun n k a => wX_open_16 post (nI (160 * s)) 0 n (nI k) fr ou ve ov st fu ce pa si ne a gs) (fun k a => upd a k 0) 256 (fun a => ∀ i, i < 256 → a i = 0) (fun n a hq => ?_) (fun n k a hk ih => ?_) se (fun i hi => tl_fc_in (fun _ => 0) se hi)
  · refine br_t (nI_le (b := 256) (Nat.le_refl 256) (by decide)) ?_
    refine tl_lp (fun n k b => wX_open_38 post (nI (160 * s)) 0 n (nI k) fr ou ve ov st fu ce pa si ne a b) (fun k a => upd a k 0) 64 (fun b => ∀ i, i < 64 → b i = 0) (fun n b hb => ?_) (fun n k b hk ih => ?_) gs (fun i hi => tl_fc_in (fun _ => 0) gs hi)
    · exact br_t (nI_le (b := 64) (Nat.le_refl 64) (by decide)) (hp a b hq hb)
    · refine br_f (nI_ge (b := 64) hk (by decide)) ?_
      rw [nI_clamp (n := k) (by omega)]
      exact And.intro (vp_in_nI hk (by decide)) (nm_e (nm_r (nI_1 k) ih))
  · refine br_f (nI_ge (b := 256) hk (by decide)) ?_
    rw [nI_clamp (n := k) (by omega)]
    exact And.intro (vp_in_nI hk (by decide)) (nm_e (nm_r (nI_1 k) ih))
/-! write -/
theorem tl_wv {v L : Nat} (hv : v < 2 ^ 31) (hL : L < 32) : (nI v >>> (nI L &&& 31)) &&& 1 = tl_b (v.testBit L) := by
  have h : v / 2 ^ L ≤ v := Nat.div_le_self _ _
  rw [pk_shrN hv _ L (s_l L hL), tl_and1 _ (by omega), tl_b01, tl_tb]
theorem tl_and31 (q : Nat) (h : q < 2 ^ 31) : nI q &&& 31 = nI (q % 32) := pk_andN (by omega) 5 (by decide)
theorem tl_shr5 (q : Nat) (h : q < 2 ^ 31) : nI q >>> ((5 : Int32) &&& 31) = nI (q / 32) := pk_shrN h _ 5 (by decide)
theorem tx_write4 {post : SX → Prop} {s v : Nat} (hs : s ≤ 1) (hv : v < 2 ^ 31) : ∀ L q st n, L < n → L ≤ 31 → q + L ≤ 5120 → post (nI (160 * s), nI (q + L), fr, ou, ve, ov, tl_pts s q (tl_bs v L) st, fu, ce, pa, si, ne, se, gs) → wX_write_4 post (nI v) (nI (160 * s)) n (nI L - 1) (nI q) fr ou ve ov st fu ce pa si ne se gs := by
  intro L
  induction L with
  | zero =>
    intro q st n hn _ _ hp
    obtain ⟨n, rfl⟩ : ∃ m, n = m + 1 := ⟨n - 1, by omega⟩
    exact br_t (by decide) hp
  | succ L ih =>
    intro q st n hn hL hq hp
    obtain ⟨n, rfl⟩ : ∃ m, n = m + 1 := ⟨n - 1, by omega⟩
    rw [nI_pred]
    refine br_f (nI_pos (by omega)) (nm_r (tl_shr5 q (by omega)) (br_f (nI_ge (b := 160) (by omega) (by decide)) ?_))
    rw [nI_add, nI_clamp (n := 160 * s + q / 32) (by omega), tl_wv hv (by omega), tl_and31 q (by omega)]
    refine And.intro (vp_in_nI (by omega) (by decide)) (And.intro (vp_in_nI (by omega) (by decide)) (nm_e (nm_r (nI_1 q) (nm_r (e' := nI L - 1) (Int32.sub_eq_add_neg _ _).symm ?_))))
    refine ih (q + 1) (tl_pt s q (v.testBit L) st) n (by omega) (by omega) (by omega) ?_
    rw [show q + 1 + L = q + (L + 1) by omega]
    exact hp
theorem tx_write {post : SX → Prop} {s v q L : Nat} (hs : s ≤ 1) (hv : v < 2 ^ 31) (hL : L ≤ 31) (hq : q + L ≤ 5120) (hp : post (nI (160 * s), nI (q + L), fr, ou, ve, ov, tl_pts s q (tl_bs v L) st, fu, ce, pa, si, ne, se, gs)) : wpX_write post (nI (160 * s), nI q, fr, ou, ve, ov, st, fu, ce, pa, si, ne, se, gs) (nI v) (nI L) := by
  unfold wpX_write
  exact nm_e ⟨L + 1, tx_write4 hs hv L q st (L + 1) (by omega) hL hq hp⟩
theorem tx_write1 {post : SX → Prop} {s q : Nat} {b : Bool} (hs : s ≤ 1) (hq : q + 1 ≤ 5120) (hp : post (nI (160 * s), nI (q + 1), fr, ou, ve, ov, tl_pts s q [b] st, fu, ce, pa, si, ne, se, gs)) : wpX_write post (nI (160 * s), nI q, fr, ou, ve, ov, st, fu, ce, pa, si, ne, se, gs) (tl_b b) 1 := by
  cases b
  · exact tx_write (v := 0) (L := 1) hs (by omega) (by omega) hq hp
  · exact tx_write (v := 1) (L := 1) hs (by omega) (by omega) hq hp
/-! writeGroup -/
theorem tl_g4 (g : Nat) : (4 * nI g) + 4 = nI (4 * g + 4) := tl_ix4 g 4
theorem tl_m4 (g : Nat) : 4 * nI g = nI (4 * g) := pk_mul 4 g
variable {M : Nat → Nat} {N : Nat → Bool}
theorem tx_wg82 {post : SX → Prop} {s g p : Nat} (hs : s ≤ 1) (hg : g < 64) (hpp : p ≤ 30) (hM : ∀ i, i < 256 → M i < 2 ^ 31) (hsi : ∀ i, 4 * g ≤ i → i < 4 * g + 4 → si i = nI (M i)) (hne : ∀ i, 4 * g ≤ i → i < 4 * g + 4 → ne i = tl_b (N i)) :
    ∀ d i q st se n, i + d = 4 * g + 4 → 4 * g ≤ i → d < n → q + (tl_cs M N p d i).length ≤ 5120 → (∀ j, i ≤ j → j < 4 * g + 4 → se j = tl_b (tl_S M (p + 1) j)) →
      post (nI (160 * s), nI (q + (tl_cs M N p d i).length), fr, ou, ve, ov, tl_pts s q (tl_cs M N p d i) st, fu, ce, pa, si, ne, tl_ga i (4 * g + 4) (fun j => tl_b (tl_S M p j)) se, gs) →
      wX_writeGroup_82 post (nI g) (nI p) n (nI i) (nI (160 * s)) (nI q) fr ou ve ov st fu ce pa si ne se gs := by
  intro d
  induction d with
  | zero =>
    intro i q st se n hi _ hn _ _ hp
    obtain ⟨n, rfl⟩ : ∃ m, n = m + 1 := ⟨n - 1, by omega⟩
    refine br_t (by rw [tl_g4]; exact nI_le (by omega) (by omega)) ?_
    rw [tl_ga_e _ _ (by omega)] at hp
    exact hp
  | succ d ih =>
    intro i q st se n hi hgi hn hq hse hp
    obtain ⟨n, rfl⟩ : ∃ m, n = m + 1 := ⟨n - 1, by omega⟩
    have hq' : q + (tl_cc M N p i ++ tl_cs M N p d (i + 1)).length ≤ 5120 := hq
    rw [List.length_append] at hq'
    have K : ∀ cc se1, cc = tl_cc M N p i → se1 i = tl_b (tl_S M p i) → (∀ j, j ≠ i → se1 j = se j) →
        wX_writeGroup_82 post (nI g) (nI p) n (nI (i + 1)) (nI (160 * s)) (nI (q + cc.length)) fr ou ve ov (tl_pts s q cc st) fu ce pa si ne se1 gs := by
      intro cc se1 e1 e2 e3
      refine ih (i + 1) (q + cc.length) (tl_pts s q cc st) se1 n (by omega) (by omega) (by omega) (by rw [e1]; omega) (fun j h1 h2 => ?_) ?_
      · rw [e3 j (by omega)]
        exact hse j (by omega) h2
      · rw [tl_ga_s (a := se) (by omega) e2 e3, ← tl_pts_app, Nat.add_assoc, ← List.length_append, e1]
        exact hp
    refine br_f (by rw [tl_g4]; exact nI_ge (by omega) (by omega)) ?_
    rw [nI_clamp (n := i) (by omega), hsi i hgi (by omega), tl_wv (hM i (by omega)) (by omega)]
    have hl : 1 ≤ (tl_cc M N p i).length := by
      unfold tl_cc
      exact Nat.succ_le_succ (Nat.zero_le _)
    have hv : vp_in (nI i) 256 := vp_in_nI (by omega) (by decide)
    have hs1 := hse i (Nat.le_refl i) (by omega)
    have hS := tl_S_s M p i
    have hcc : tl_cc M N p i = tl_bit M p i :: (if (!tl_S M (p + 1) i && tl_bit M p i) = true then [N i] else []) := rfl
    refine And.intro hv (nm_e (tx_write1 hs (by omega) (And.intro hv ?_)))
    by_cases z : tl_S M (p + 1) i = true
    · rw [z] at hs1 hS hcc
      refine br_f (by rw [hs1]; decide) (nm_r (nI_1 i) (K [tl_bit M p i] se ?_ ?_ (fun _ _ => rfl)))
      · rw [hcc]
        rfl
      · rw [hs1, hS]
        rfl
    · rw [Bool.not_eq_true] at z
      rw [z] at hs1 hS hcc
      refine br_t (by rw [hs1]; rfl) ?_
      by_cases y : tl_bit M p i = true
      · have y2 : (M i).testBit p = true := y
        rw [y] at hS hcc
        rw [y2]
        refine br_t rfl (And.intro hv (nm_e (And.intro hv ?_)))
        have e1 : [true, N i] = tl_cc M N p i := by
          rw [hcc]
          rfl
        have hl2 : (tl_cc M N p i).length = 2 := by
          rw [← e1]
          rfl
        have K2 := K [true, N i] (upd se i (vp_nar .boolean 1)) e1 (by rw [pk_us, hS]; rfl) (fun j hj => pk_un hj)
        have hn1 := hne i hgi (by omega)
        by_cases w : N i = true
        · rw [w] at hn1 K2
          refine br_f (by rw [hn1]; decide) ?_
          exact tx_write1 (b := true) hs (by omega) (nm_r (nI_1 i) K2)
        · rw [Bool.not_eq_true] at w
          rw [w] at hn1 K2
          refine br_t (by rw [hn1]; rfl) ?_
          exact tx_write1 (b := false) hs (by omega) (nm_r (nI_1 i) K2)
      · rw [Bool.not_eq_true] at y
        have y2 : (M i).testBit p = false := y
        rw [y] at hS hcc
        rw [y2]
        refine br_f (by decide) (nm_r (nI_1 i) (K [false] se ?_ ?_ (fun _ _ => rfl)))
        · rw [hcc]
          rfl
        · rw [hs1, hS]
          rfl
end
end
section
/-! walks of the writer: group, frame -/
section
variable {base place : Int32} {fr ou ve ov st fu ce pa si ne se gs ke kv : Nat → Int32} {M : Nat → Nat} {N : Nat → Bool}
theorem tl_ga_j {lo m hi : Nat} (v a : Nat → Int32) (h1 : lo ≤ m) (h2 : m ≤ hi) : tl_ga m hi v (tl_ga lo m v a) = tl_ga lo hi v a := by
  funext i
  by_cases z : m ≤ i ∧ i < hi
  · rw [tl_ga_in _ _ z, tl_ga_in _ _ (by omega)]
  · rw [tl_ga_out _ _ z]
    by_cases y : lo ≤ i ∧ i < m
    · rw [tl_ga_in _ _ y, tl_ga_in _ _ (by omega)]
    · rw [tl_ga_out _ _ y, tl_ga_out _ _ (by omega)]
theorem tl_S_mono {M : Nat → Nat} {p i : Nat} (h : tl_S M p i = false) : tl_S M (p + 1) i = false := by
  rw [tl_S_s] at h
  exact (Bool.or_eq_false_iff.mp h).1
def tl_g2 (M : Nat → Nat) (N : Nat → Bool) (p g : Nat) : List Bool := if tl_G M p g = true then tl_cs M N p 4 (4 * g) else []
theorem tx_wg68 {post : SX → Prop} {s g p q : Nat} (hs : s ≤ 1) (hg : g < 64) (hpp : p ≤ 30) (hM : ∀ i, i < 256 → M i < 2 ^ 31) (hsi : ∀ i, 4 * g ≤ i → i < 4 * g + 4 → si i = nI (M i)) (hne : ∀ i, 4 * g ≤ i → i < 4 * g + 4 → ne i = tl_b (N i))
    (hq : q + (tl_g2 M N p g).length ≤ 5120) (hse : ∀ j, 4 * g ≤ j → j < 4 * g + 4 → se j = tl_b (tl_S M (p + 1) j)) (hgs : gs g = tl_b (tl_G M p g))
    (hp : post (nI (160 * s), nI (q + (tl_g2 M N p g).length), fr, ou, ve, ov, tl_pts s q (tl_g2 M N p g) st, fu, ce, pa, si, ne, tl_ga (4 * g) (4 * g + 4) (fun j => tl_b (tl_S M p j)) se, gs)) :
    wX_writeGroup_68 post (nI g) (nI p) (nI (160 * s)) (nI q) fr ou ve ov st fu ce pa si ne se gs := by
  unfold wX_writeGroup_68
  rw [nI_clamp (n := g) (by omega)]
  refine And.intro (vp_in_nI hg (by decide)) ?_
  by_cases z : tl_G M p g = true
  · rw [z] at hgs
    have e : tl_g2 M N p g = tl_cs M N p 4 (4 * g) := if_pos z
    rw [e] at hq hp
    exact br_f (by rw [hgs]; decide) (nm_r (tl_m4 g) ⟨5, tx_wg82 hs hg hpp hM hsi hne 4 (4 * g) q st se 5 (by omega) (by omega) (by omega) hq hse hp⟩)
  · have e : tl_g2 M N p g = [] := if_neg z
    rw [Bool.not_eq_true] at z
    rw [z] at hgs
    rw [e, tl_ga_self (fun j h1 h2 => by rw [hse j h1 h2, tl_G_in z h1 h2, tl_S_mono (tl_G_in z h1 h2)])] at hp
    exact br_t (by rw [hgs]; rfl) hp
theorem tl_any4 (M : Nat → Nat) (p i : Nat) : tl_fo (fun k acc => acc || tl_bit M p (i + k)) 4 false = tl_any M p 4 i := by
  show ((((false || tl_bit M p (i + 0)) || tl_bit M p (i + 1)) || tl_bit M p (i + 2)) || tl_bit M p (i + 3)) = (tl_bit M p i || (tl_bit M p (i + 1) || (tl_bit M p (i + 1 + 1) || (tl_bit M p (i + 1 + 1 + 1) || false))))
  rw [Bool.false_or, Bool.or_false, Bool.or_assoc, Bool.or_assoc]
  rfl
theorem tx_writeGroup {post : SX → Prop} {s g p q : Nat} (hs : s ≤ 1) (hg : g < 64) (hpp : p ≤ 30) (hM : ∀ i, i < 256 → M i < 2 ^ 31) (hsi : ∀ i, 4 * g ≤ i → i < 4 * g + 4 → si i = nI (M i)) (hne : ∀ i, 4 * g ≤ i → i < 4 * g + 4 → ne i = tl_b (N i))
    (hq : q + (tl_gc M N p g).length ≤ 5120) (hse : ∀ j, 4 * g ≤ j → j < 4 * g + 4 → se j = tl_b (tl_S M (p + 1) j)) (hgs : gs g = tl_b (tl_G M (p + 1) g))
    (hp : post (nI (160 * s), nI (q + (tl_gc M N p g).length), fr, ou, ve, ov, tl_pts s q (tl_gc M N p g) st, fu, ce, pa, si, ne, tl_ga (4 * g) (4 * g + 4) (fun j => tl_b (tl_S M p j)) se, upd gs g (tl_b (tl_G M p g)))) :
    wpX_writeGroup post (nI (160 * s), nI q, fr, ou, ve, ov, st, fu, ce, pa, si, ne, se, gs) (nI g) (nI p) := by
  unfold wpX_writeGroup
  refine And.intro (vp_in_nI hg (by decide)) ?_
  have hcl : (nI g).toNatClampNeg = g := nI_clamp (by omega)
  by_cases z : tl_G M (p + 1) g = true
  · have zt := tl_G_t z
    have e : tl_gc M N p g = tl_g2 M N p g := by
      unfold tl_gc
      rw [if_pos z]
      rfl
    rw [z] at hgs
    have e2 : upd gs g (tl_b (tl_G M p g)) = gs := by
      funext i
      by_cases y : i = g
      · rw [y, pk_us, zt, hgs]
      · rw [pk_un y]
    rw [e] at hq hp
    rw [e2] at hp
    exact br_f (by rw [hcl, hgs]; decide) (tx_wg68 hs hg hpp hM hsi hne hq hse (by rw [hgs, zt]) hp)
  · have e : tl_gc M N p g = [tl_G M p g] ++ tl_g2 M N p g := by
      unfold tl_gc
      rw [if_neg z]
      rfl
    rw [Bool.not_eq_true] at z
    have zf := tl_G_f z
    rw [z] at hgs
    rw [e, List.length_append] at hq
    rw [e, tl_pts_app, List.length_append] at hp
    have hl1 : [tl_G M p g].length = 1 := rfl
    rw [hl1] at hq hp
    refine br_t (by rw [hcl, hgs]; rfl) (nm_r (tl_m4 g) ?_)
    refine tl_lp (fun n k acc => wX_writeGroup_16 post (nI g) (nI p) (nI (160 * s)) (nI q) fr ou ve ov st fu ce pa si ne se gs n (tl_b acc) (nI (4 * g + k))) (fun k acc => acc || tl_bit M p (4 * g + k)) 4 (fun acc => acc = tl_G M p g) (fun n acc ha => ?_) (fun n k acc hk ih => ?_) false (by rw [tl_any4, zf])
    · refine br_t (by rw [tl_g4]; exact nI_le (by omega) (by omega)) ?_
      rw [ha]
      refine tx_write1 hs (by omega) ?_
      have H : wX_writeGroup_67 post (nI g) (nI p) (tl_b (tl_G M p g)) (nI g) (nI (160 * s)) (nI (q + 1)) fr ou ve ov (tl_pts s q [tl_G M p g] st) fu ce pa si ne se gs := by
        unfold wX_writeGroup_67
        rw [hcl, tl_nar]
        refine And.intro (vp_in_nI hg (by decide)) (nm_e (tx_wg68 hs hg hpp hM hsi hne (by omega) hse pk_us ?_))
        rw [Nat.add_assoc]
        exact hp
      by_cases y : tl_G M p g = true
      · rw [y] at H ⊢
        exact br_t rfl H
      · rw [Bool.not_eq_true] at y
        rw [y] at H ⊢
        exact br_f (by decide) H
    · refine br_f (by rw [tl_g4]; exact nI_ge (by omega) (by omega)) ?_
      rw [nI_clamp (n := 4 * g + k) (by omega), hsi _ (by omega) (by omega), tl_wv (hM _ (by omega)) (by omega), tl_bor]
      exact And.intro (vp_in_nI (by omega) (by decide)) (nm_e (nm_r (nI_1 (4 * g + k)) ih))
/-! the groups of a plane, the planes of a frame -/
theorem tl_g16 (f : Nat) : (16 * nI f) + 16 = nI (16 * f + 16) := by
  show nI 16 * nI f + nI 16 = _
  rw [pk_mul, nI_add]
theorem tl_m16 (f : Nat) : 16 * nI f = nI (16 * f) := pk_mul 16 f
theorem tl_m64 (f : Nat) : 64 * nI f = nI (64 * f) := pk_mul 64 f
theorem tl_g64 (f : Nat) : (64 * nI f) + 64 = nI (64 * f + 64) := tl_ix2 f 64
theorem tx_wf136 {post : SX → Prop} {J : Int32 → Int32 → Int32 → (Nat → Int32) → (Nat → Int32) → (Nat → Int32) → (Nat → Int32) → (Nat → Int32) → (Nat → Int32) → (Nat → Int32) → (Nat → Int32) → (Nat → Int32) → (Nat → Int32) → (Nat → Int32) → (Nat → Int32) → Prop}
    {s f p : Nat} (hs : s ≤ 1) (hf : f ≤ 3) (hpp : p ≤ 30) (hM : ∀ i, i < 256 → M i < 2 ^ 31) (hsi : ∀ i, 64 * f ≤ i → i < 64 * f + 64 → si i = nI (M i)) (hne : ∀ i, 64 * f ≤ i → i < 64 * f + 64 → ne i = tl_b (N i)) :
    ∀ d g q st se gs n, g + d = 16 * f + 16 → 16 * f ≤ g → d < n → q + (tl_gs M N p d g).length ≤ 5120 → (∀ j, 4 * g ≤ j → j < 64 * f + 64 → se j = tl_b (tl_S M (p + 1) j)) → (∀ j, g ≤ j → j < 16 * f + 16 → gs j = tl_b (tl_G M (p + 1) j)) →
      J (nI p - 1) (nI (160 * s)) (nI (q + (tl_gs M N p d g).length)) fr ou ve ov (tl_pts s q (tl_gs M N p d g) st) fu ce pa si ne (tl_ga (4 * g) (64 * f + 64) (fun j => tl_b (tl_S M p j)) se) (tl_ga g (16 * f + 16) (fun j => tl_b (tl_G M p j)) gs) →
      wX_writeFrame_136 post J (nI f) (nI p) n (nI g) (nI (160 * s)) (nI q) fr ou ve ov st fu ce pa si ne se gs := by
  intro d
  induction d with
  | zero =>
    intro g q st se gs n hg _ hn _ _ _ hp
    obtain ⟨n, rfl⟩ : ∃ m, n = m + 1 := ⟨n - 1, by omega⟩
    refine br_t (by rw [tl_g16]; exact nI_le (by omega) (by omega)) (nm_r (e' := nI p - 1) (Int32.sub_eq_add_neg _ _).symm ?_)
    rw [tl_ga_e _ _ (by omega), tl_ga_e _ _ (by omega)] at hp
    exact hp
  | succ d ih =>
    intro g q st se gs n hg hg2 hn hq hse hgs hp
    obtain ⟨n, rfl⟩ : ∃ m, n = m + 1 := ⟨n - 1, by omega⟩
    have hq' : q + (tl_gc M N p g ++ tl_gs M N p d (g + 1)).length ≤ 5120 := hq
    rw [List.length_append] at hq'
    refine br_f (by rw [tl_g16]; exact nI_ge (by omega) (by omega)) ?_
    refine tx_writeGroup (M := M) (N := N) hs (by omega) hpp hM (fun i h1 h2 => hsi i (by omega) (by omega)) (fun i h1 h2 => hne i (by omega) (by omega)) (by omega) (fun j h1 h2 => hse j (by omega) (by omega)) (hgs g (by omega) (by omega)) (nm_r (nI_1 g) ?_)
    refine ih (g + 1) (q + (tl_gc M N p g).length) _ _ _ n (by omega) (by omega) (by omega) (by omega) (fun j h1 h2 => ?_) (fun j h1 h2 => ?_) ?_
    · rw [tl_ga_out _ _ (by omega)]
      exact hse j (by omega) h2
    · rw [pk_un (by omega)]
      exact hgs j (by omega) h2
    · rw [show 4 * (g + 1) = 4 * g + 4 by omega, tl_ga_j _ _ (by omega) (by omega), tl_ga_s (a := gs) (by omega) pk_us (fun j hj => pk_un hj), ← tl_pts_app, Nat.add_assoc, ← List.length_append]
      exact hp
theorem tx_wf125 {post : SX → Prop} {s f : Nat} (hs : s ≤ 1) (hf : f ≤ 3) (hM : ∀ i, i < 256 → M i < 2 ^ 31) (hsi : ∀ i, 64 * f ≤ i → i < 64 * f + 64 → si i = nI (M i)) (hne : ∀ i, 64 * f ≤ i → i < 64 * f + 64 → ne i = tl_b (N i)) :
    ∀ P q st se gs n, P ≤ 30 → P < n → q + (tl_pl M N f P).length ≤ 5120 → (∀ j, 64 * f ≤ j → j < 64 * f + 64 → se j = tl_b (tl_S M P j)) → (∀ j, 16 * f ≤ j → j < 16 * f + 16 → gs j = tl_b (tl_G M P j)) →
      post (nI (160 * s), nI (q + (tl_pl M N f P).length), fr, ou, ve, ov, tl_pts s q (tl_pl M N f P) st, fu, ce, pa, si, ne, tl_ga (64 * f) (64 * f + 64) (fun j => tl_b (tl_S M 0 j)) se, tl_ga (16 * f) (16 * f + 16) (fun j => tl_b (tl_G M 0 j)) gs) →
      wX_writeFrame_125 post (nI f) n (nI P - 1) (nI (160 * s)) (nI q) fr ou ve ov st fu ce pa si ne se gs := by
  intro P
  induction P with
  | zero =>
    intro q st se gs n _ hn _ hse hgs hp
    obtain ⟨n, rfl⟩ : ∃ m, n = m + 1 := ⟨n - 1, by omega⟩
    rw [tl_ga_self hse, tl_ga_self hgs] at hp
    exact br_t (by decide) hp
  | succ P ih =>
    intro q st se gs n hP hn hq hse hgs hp
    obtain ⟨n, rfl⟩ : ∃ m, n = m + 1 := ⟨n - 1, by omega⟩
    have hq' : q + (tl_gs M N P 16 (16 * f) ++ tl_pl M N f P).length ≤ 5120 := hq
    rw [List.length_append] at hq'
    rw [nI_pred]
    refine br_f (nI_pos (by omega)) (nm_r (tl_m16 f) ⟨17, ?_⟩)
    refine tx_wf136 (M := M) (N := N) hs hf (by omega) hM hsi hne 16 (16 * f) q st se gs 17 (by omega) (by omega) (by omega) (by omega) (fun j h1 h2 => hse j (by omega) h2) hgs ?_
    rw [show 4 * (16 * f) = 64 * f by omega]
    refine ih (q + (tl_gs M N P 16 (16 * f)).length) _ _ _ n (by omega) (by omega) (by omega) (fun j h1 h2 => tl_ga_in _ _ ⟨h1, h2⟩) (fun j h1 h2 => tl_ga_in _ _ ⟨h1, h2⟩) ?_
    rw [tl_ga_ga, tl_ga_ga, ← tl_pts_app, Nat.add_assoc, ← List.length_append]
    exact hp
/-! writeFrame -/
theorem nx_or (a b : Nat) : nI a ||| nI b = nI (a ||| b) := by
  apply Int32.toBitVec_inj.1
  show BitVec.ofNat 32 a ||| BitVec.ofNat 32 b = BitVec.ofNat 32 (a ||| b)
  apply BitVec.eq_of_getLsbD_eq
  intro i hi
  simp [hi]
theorem tx_wf89 {post : SX → Prop} {s f a q : Nat} (hs : s ≤ 1) (ha : a < 2 ^ 31) (hq : q + 4 ≤ 5120)
    (hp : ∃ n, wX_writeFrame_125 post (nI f) n (nI (tl_np a 15) - 1) (nI (160 * s)) (nI (q + 4)) fr ou ve ov (tl_pts s q (tl_bs (tl_np a 15) 4) st) fu ce pa si ne se gs) : ∃ n, wX_writeFrame_89 post (nI f) (nI a) (nI (160 * s)) (nI q) fr ou ve ov st fu ce pa si ne se gs n 0 0 := by
  have hnp : ∀ b, tl_np a b ≤ b := by
    intro b
    induction b with
    | zero => exact Nat.le_refl 0
    | succ b ih =>
      unfold tl_np
      split <;> omega
  refine tl_lp (fun n b (_ : Unit) => wX_writeFrame_89 post (nI f) (nI a) (nI (160 * s)) (nI q) fr ou ve ov st fu ce pa si ne se gs n (nI (tl_np a b)) (nI b)) (fun _ u => u) 15 (fun _ => True) (fun n _ _ => ?_) (fun n b _ hb ih => ?_) () trivial
  · have h15 := hnp 15
    refine br_t (nI_le (b := 15) (Nat.le_refl 15) (by decide)) ?_
    exact tx_write (L := 4) hs (by omega) (by omega) hq (nm_e hp)
  · refine br_f (nI_ge (b := 15) hb (by decide)) ?_
    rw [pk_shrN ha _ b (s_l b (by omega))]
    have hd : a / 2 ^ b ≤ a := Nat.div_le_self _ _
    by_cases z : a / 2 ^ b = 0
    · have e : tl_np a (b + 1) = tl_np a b := if_pos z
      have ih2 : wX_writeFrame_89 post (nI f) (nI a) (nI (160 * s)) (nI q) fr ou ve ov st fu ce pa si ne se gs n (nI (tl_np a (b + 1))) (nI (b + 1)) := ih
      rw [e] at ih2
      exact br_t (by rw [z]; rfl) (nm_r (nI_1 b) ih2)
    · have e : tl_np a (b + 1) = b + 1 := if_neg z
      have ih2 : wX_writeFrame_89 post (nI f) (nI a) (nI (160 * s)) (nI q) fr ou ve ov st fu ce pa si ne se gs n (nI (tl_np a (b + 1))) (nI (b + 1)) := ih
      rw [e] at ih2
      exact br_f (nI_ne0 (Nat.pos_of_ne_zero z) (Nat.lt_of_le_of_lt hd ha)) (nm_r (nI_1 b) (nm_r (nI_1 b) ih2))
def tl_wF (c : Nat → Int32) (f k : Nat) (a : Nat × (Nat → Int32) × (Nat → Int32)) : Nat × (Nat → Int32) × (Nat → Int32) :=
  (a.1 ||| tl_mg c (64 * f + k), upd a.2.1 (64 * f + k) (nI (tl_mg c (64 * f + k))), upd a.2.2 (64 * f + k) (tl_b (tl_ng c (64 * f + k))))
theorem tl_wF_e (c : Nat → Int32) (f : Nat) (si ne : Nat → Int32) : (tl_fo (tl_wF c f) 64 (0, si, ne)).1 = tl_or (tl_mg c) 64 (64 * f) ∧ (∀ i, 64 * f ≤ i → i < 64 * f + 64 → (tl_fo (tl_wF c f) 64 (0, si, ne)).2.1 i = nI (tl_mg c i)) ∧ ∀ i, 64 * f ≤ i → i < 64 * f + 64 → (tl_fo (tl_wF c f) 64 (0, si, ne)).2.2 i = tl_b (tl_ng c i) := by
  have H := tl_fo_invk (F := tl_wF c f) (n := 64) (I := fun k a => (a.1 ||| tl_or (tl_mg c) (64 - k) (64 * f + k) = tl_or (tl_mg c) 64 (64 * f) ∨ 64 < k) ∧ (∀ i, 64 * f ≤ i → i < 64 * f + k → a.2.1 i = nI (tl_mg c i)) ∧ ∀ i, 64 * f ≤ i → i < 64 * f + k → a.2.2 i = tl_b (tl_ng c i)) (0, si, ne)
    ⟨Or.inl (by show 0 ||| _ = _; rw [Nat.zero_or]; rfl), fun i h1 h2 => absurd h2 (by omega), fun i h1 h2 => absurd h2 (by omega)⟩ (fun k a hk h => ?_)
  · obtain ⟨h1, h2, h3⟩ := H
    refine ⟨?_, h2, h3⟩
    rcases h1 with h1 | h1
    · have h1' : (tl_fo (tl_wF c f) 64 (0, si, ne)).1 ||| 0 = tl_or (tl_mg c) 64 (64 * f) := h1
      rw [Nat.or_zero] at h1'
      exact h1'
    · omega
  · obtain ⟨h1, h2, h3⟩ := h
    refine ⟨Or.inl ?_, fun i g1 g2 => ?_, fun i g1 g2 => ?_⟩
    · rcases h1 with h1 | h1
      · rw [show 64 - k = (64 - (k + 1)) + 1 by omega] at h1
        have h1' : a.1 ||| (tl_mg c (64 * f + k) ||| tl_or (tl_mg c) (64 - (k + 1)) (64 * f + k + 1)) = tl_or (tl_mg c) 64 (64 * f) := h1
        rw [← Nat.or_assoc] at h1'
        exact h1'
      · omega
    · show upd a.2.1 (64 * f + k) (nI (tl_mg c (64 * f + k))) i = _
      by_cases z : i = 64 * f + k
      · rw [z, pk_us]
      · rw [pk_un z]
        exact h2 i g1 (by omega)
    · show upd a.2.2 (64 * f + k) (tl_b (tl_ng c (64 * f + k))) i = _
      by_cases z : i = 64 * f + k
      · rw [z, pk_us]
      · rw [pk_un z]
        exact h3 i g1 (by omega)
theorem tx_wf7 {post : SX → Prop} {f : Nat} (hf : f ≤ 3) (hM : ∀ i, i < 256 → tl_mg ce i < 2 ^ 31) (Q : Nat × (Nat → Int32) × (Nat → Int32) → Prop)
    (hx : ∀ a, Q a → ∃ n, wX_writeFrame_89 post (nI f) (nI a.1) base place fr ou ve ov st fu ce pa (a.2.1) (a.2.2) se gs n 0 0) (hp : Q (tl_fo (tl_wF ce f) 64 (0, si, ne))) : wpX_writeFrame post (base, place, fr, ou, ve, ov, st, fu, ce, pa, si, ne, se, gs) (nI f) := by
  unfold wpX_writeFrame
  refine nm_r (tl_m64 f) ?_
  refine tl_lp (fun n k a => wX_writeFrame_7 post (nI f) base place n (nI a.1) (nI (64 * f + k)) fr ou ve ov st fu ce pa (a.2.1) (a.2.2) se gs) (tl_wF ce f) 64 Q (fun n a hq => ?_) (fun n k a hk ih => ?_) (0, si, ne) hp
  · exact br_t (by rw [tl_g64]; exact nI_le (by omega) (by omega)) (hx a hq)
  · refine br_f (by rw [tl_g64]; exact nI_ge (by omega) (by omega)) ?_
    have hv : vp_in (nI (64 * f + k)) 256 := vp_in_nI (by omega) (by decide)
    have hcl : (nI (64 * f + k)).toNatClampNeg = 64 * f + k := nI_clamp (by omega)
    have hg := tl_mgng (hM (64 * f + k) (by omega))
    refine And.intro hv ?_
    rw [hcl]
    have K : ∀ z, z = nI (tl_mg ce (64 * f + k)) → wX_writeFrame_68 post (wX_writeFrame_7 post (nI f) base place n) (nI f) (nI a.1) (nI (64 * f + k)) z (nI (64 * f + k)) base place fr ou ve ov st fu ce pa (a.2.1) (upd a.2.2 (64 * f + k) (tl_b (tl_ng ce (64 * f + k)))) se gs := by
      intro z hz
      unfold wX_writeFrame_68
      rw [hcl]
      refine And.intro hv (nm_e (And.intro hv ?_))
      rw [pk_us, hz, nx_or]
      exact nm_e (nm_r (nI_1 (64 * f + k)) ih)
    by_cases z : 0 ≤ ce (64 * f + k)
    · have e : tl_ng ce (64 * f + k) = false := decide_eq_false (Int32.not_lt.mpr z)
      rw [e] at hg K
      refine br_t z ?_
      unfold wX_writeFrame_37
      rw [hcl]
      refine And.intro hv (nm_e (And.intro hv ?_))
      rw [pk_us]
      exact br_t rfl (And.intro hv (K _ hg.symm))
    · have e : tl_ng ce (64 * f + k) = true := decide_eq_true (Int32.not_le.mp z)
      rw [e] at hg K
      refine br_f z ?_
      unfold wX_writeFrame_37
      rw [hcl]
      refine And.intro hv (nm_e (And.intro hv ?_))
      rw [pk_us]
      have hg2 : -nI (tl_mg ce (64 * f + k)) = ce (64 * f + k) := hg
      refine br_f (by decide) (And.intro hv (K _ ?_))
      rw [← hg2, Int32.neg_neg]
theorem tx_writeFrame {post : SX → Prop} {s f q : Nat} (hs : s ≤ 1) (hf : f ≤ 3) (hM : tl_sml (tl_mg ce)) (hq : q + (tl_fc (tl_mg ce) (tl_ng ce) f).length ≤ 5120)
    (hse : ∀ i, 64 * f ≤ i → i < 64 * f + 64 → se i = 0) (hgs : ∀ g, 16 * f ≤ g → g < 16 * f + 16 → gs g = 0)
    (hp : ∀ si' ne' se' gs', (∀ i, 64 * f + 64 ≤ i → se' i = se i) → (∀ g, 16 * f + 16 ≤ g → gs' g = gs g) → post (nI (160 * s), nI (q + (tl_fc (tl_mg ce) (tl_ng ce) f).length), fr, ou, ve, ov, tl_pts s q (tl_fc (tl_mg ce) (tl_ng ce) f) st, fu, ce, pa, si', ne', se', gs')) :
    wpX_writeFrame post (nI (160 * s), nI q, fr, ou, ve, ov, st, fu, ce, pa, si, ne, se, gs) (nI f) := by
  have hM2 : ∀ i, i < 256 → tl_mg ce i < 2 ^ 31 := fun i hi => Nat.lt_trans (hM i hi) (by decide)
  have hor : tl_or (tl_mg ce) 64 (64 * f) < 2 ^ 31 := Nat.lt_trans (tl_or_lt (n := 13) 64 (64 * f) (fun j h1 h2 => hM j (by omega))) (by decide)
  have hP := tl_P_le hM (f := f) (by omega)
  have hq' : q + (tl_bs (tl_P (tl_mg ce) f) 4 ++ tl_pl (tl_mg ce) (tl_ng ce) f (tl_P (tl_mg ce) f)).length ≤ 5120 := hq
  rw [List.length_append, tl_bs_len] at hq'
  refine tx_wf7 hf hM2 (fun a => a.1 = tl_or (tl_mg ce) 64 (64 * f) ∧ (∀ i, 64 * f ≤ i → i < 64 * f + 64 → a.2.1 i = nI (tl_mg ce i)) ∧ ∀ i, 64 * f ≤ i → i < 64 * f + 64 → a.2.2 i = tl_b (tl_ng ce i)) (fun a ha => ?_) (tl_wF_e ce f si ne)
  obtain ⟨h1, h2, h3⟩ := ha
  rw [h1]
  have hS : ∀ j, 64 * f ≤ j → j < 64 * f + 64 → tl_S (tl_mg ce) (tl_P (tl_mg ce) f) j = false := fun j g1 g2 => decide_eq_false (Nat.not_le.mpr (tl_P_lt hM (by omega) g1 g2))
  refine tx_wf89 hs hor (by omega) ⟨31, ?_⟩
  refine tx_wf125 (M := tl_mg ce) (N := tl_ng ce) hs hf hM2 h2 h3 (tl_P (tl_mg ce) f) (q + 4) _ se gs 31 (by omega) (by omega) (by omega) (fun j g1 g2 => ?_) (fun j g1 g2 => ?_) ?_
  · rw [hS j g1 g2]
    exact hse j g1 g2
  · have e : tl_G (tl_mg ce) (tl_P (tl_mg ce) f) j = false := by
      unfold tl_G
      rw [hS _ (by omega) (by omega), hS _ (by omega) (by omega), hS _ (by omega) (by omega), hS _ (by omega) (by omega)]
      rfl
    rw [e]
    exact hgs j g1 g2
  · have H := hp a.2.1 a.2.2 (tl_ga (64 * f) (64 * f + 64) (fun j => tl_b (tl_S (tl_mg ce) 0 j)) se) (tl_ga (16 * f) (16 * f + 16) (fun j => tl_b (tl_G (tl_mg ce) 0 j)) gs) (fun i hi => tl_ga_out _ _ (by omega)) (fun g hg => tl_ga_out _ _ (by omega))
    unfold tl_fc at H
    rw [tl_pts_app, List.length_append, tl_bs_len, ← Nat.add_assoc] at H
    exact H
end
end
section
/-! encode -/
section
variable {base place : Int32} {fr ou ve ov st fu ce pa si ne se gs ke kv : Nat → Int32} {M : Nat → Nat} {N : Nat → Bool}
theorem tx_en152 {post : Int32 → SX → Prop} {s : Nat} (hs : s ≤ 1) (hM : tl_sml (tl_mg ce)) :
    ∀ d f q st si ne se gs n, f + d = 4 → d < n → q + (tl_fs (tl_mg ce) (tl_ng ce) d f).length ≤ 5120 → (∀ i, 64 * f ≤ i → i < 256 → se i = 0) → (∀ g, 16 * f ≤ g → g < 64 → gs g = 0) →
      (∀ place si ne se gs, post 0 (nI (160 * s), place, fr, ou, ve, ov, tl_pts s q (tl_fs (tl_mg ce) (tl_ng ce) d f) st, upd fu s (vp_nar .boolean 1), ce, pa, si, ne, se, gs)) →
      wX_encode_152 post (nI s) n (nI f) (nI (160 * s)) (nI q) fr ou ve ov st fu ce pa si ne se gs := by
  intro d
  induction d with
  | zero =>
    intro f q st si ne se gs n hf hn _ _ _ hp
    obtain ⟨n, rfl⟩ : ∃ m, n = m + 1 := ⟨n - 1, by omega⟩
    refine br_t (nI_le (a := 4) (by omega) (by omega)) ?_
    rw [nI_clamp (n := s) (by omega)]
    exact And.intro (vp_in_nI (by omega) (by decide)) (nm_e (hp _ _ _ _ _))
  | succ d ih =>
    intro f q st si ne se gs n hf hn hq hse hgs hp
    obtain ⟨n, rfl⟩ : ∃ m, n = m + 1 := ⟨n - 1, by omega⟩
    have hq' : q + (tl_fc (tl_mg ce) (tl_ng ce) f ++ tl_fs (tl_mg ce) (tl_ng ce) d (f + 1)).length ≤ 5120 := hq
    rw [List.length_append] at hq'
    refine br_f (nI_ge (b := 4) (by omega) (by decide)) ?_
    refine tx_writeFrame hs (by omega) hM (by omega) (fun i h1 h2 => hse i h1 (by omega)) (fun g h1 h2 => hgs g h1 (by omega)) (fun si' ne' se' gs' h1 h2 => nm_r (nI_1 f) ?_)
    refine ih (f + 1) (q + (tl_fc (tl_mg ce) (tl_ng ce) f).length) _ si' ne' se' gs' n (by omega) (by omega) (by omega) (fun i g1 g2 => ?_) (fun g g1 g2 => ?_) (fun place si ne se gs => ?_)
    · rw [h1 i (by omega)]
      exact hse i (by omega) g2
    · rw [h2 g (by omega)]
      exact hgs g (by omega) g2
    · have H := hp place si ne se gs
      unfold tl_fs at H
      rw [tl_pts_app] at H
      exact H
theorem tx_en127 {post : Int32 → SX → Prop} {s : Nat} {V : Nat → Nat} (hs : s ≤ 1) (hV : ∀ k, k < 12 → pa k = nI (V k) ∧ V k < 2 ^ 31) :
    ∀ d k q st n, k + d = 12 → d < n → q + 5 * d ≤ 5120 →
      (∃ n, wX_encode_152 post (nI s) n 0 (nI (160 * s)) (nI (q + 5 * d)) fr ou ve ov (tl_pts s q (tl_vs V d k) st) fu ce pa si ne se gs) →
      wX_encode_127 post (nI s) n (nI k) (nI (160 * s)) (nI q) fr ou ve ov st fu ce pa si ne se gs := by
  intro d
  induction d with
  | zero =>
    intro k q st n hk hn _ hp
    obtain ⟨n, rfl⟩ : ∃ m, n = m + 1 := ⟨n - 1, by omega⟩
    exact br_t (nI_le (a := 12) (by omega) (by omega)) hp
  | succ d ih =>
    intro k q st n hk hn hq hp
    obtain ⟨n, rfl⟩ : ∃ m, n = m + 1 := ⟨n - 1, by omega⟩
    refine br_f (nI_ge (b := 12) (by omega) (by decide)) ?_
    obtain ⟨h1, h2⟩ := hV k (by omega)
    rw [nI_clamp (n := k) (by omega), h1]
    refine And.intro (vp_in_nI (by omega) (by decide)) (tx_write (L := 5) hs h2 (by omega) (by omega) (nm_r (nI_1 k) ?_))
    refine ih (k + 1) (q + 5) _ n (by omega) (by omega) (by omega) ?_
    unfold tl_vs at hp
    rw [tl_pts_app, tl_bs_len, show q + 5 * (d + 1) = q + 5 + 5 * d by omega] at hp
    exact hp
theorem tx_encode {post : Int32 → SX → Prop} {s : Nat} (hs : s ≤ 1) (hfr : tl_U 255 fr) (hve : tl_U 24 ve) (hce : ∀ i, 256 ≤ i → ce i = 0) (hpa : ∀ i, 12 ≤ i → pa i = 0)
    (hp : ∀ base place si ne se gs, post 0 (base, place, fr, ou, ve, ov, tl_pts s 0 (tl_code fr ve) (tl_gl (160 * s) 160 (fun _ => 0) st), upd fu s (vp_nar .boolean 1), tl_C fr ve, tl_cl 12 ve, si, ne, se, gs)) : wpX_encode post (base, place, fr, ou, ve, ov, st, fu, ce, pa, si, ne, se, gs) (nI s) := by
  have hM : tl_sml (tl_mg (tl_C fr ve)) := tl_C_sml hfr
  have hlen := tl_cd_len hM (tl_ng (tl_C fr ve)) (tl_nt (tl_cl 12 ve))
  unfold tl_cd at hlen
  rw [List.length_append, tl_vs_len] at hlen
  unfold wpX_encode
  refine tx_isSlot_y hs (br_f (by decide) ?_)
  refine tl_lp (fun n k c => wX_encode_11 post (nI s) base place n (nI k) fr ou ve ov st fu c pa si ne se gs) (fun k a => upd a k (fr k)) 256 (fun c => c = tl_cl 256 fr) (fun n c hc => ?_) (fun n k c hk ih => ?_) ce (tl_fc_cl hce)
  · refine br_t (nI_le (b := 256) (Nat.le_refl 256) (by decide)) ?_
    rw [hc]
    refine tl_lp (fun n k p => wX_encode_38 post (nI s) base place n (nI k) fr ou ve ov st fu (tl_cl 256 fr) p si ne se gs) (fun k a => upd a k (ve k)) 12 (fun p => p = tl_cl 12 ve) (fun n p hp2 => ?_) (fun n k p hk ih => ?_) pa (tl_fc_cl hpa)
    · refine br_t (nI_le (b := 12) (Nat.le_refl 12) (by decide)) ?_
      rw [hp2]
      refine tx_predict (-1) (tx_adjust 1 ?_)
      refine tl_lp (fun n f c => wX_encode_74 post (nI s) n (nI f) base place fr ou ve ov st fu c (tl_cl 12 ve) si ne se gs) tl_an 4 (fun c => c = tl_C fr ve) (fun n c hc => ?_) (fun n f c hf ih => ?_) (tl_ad 1 (tl_cl 12 ve) (tl_pr (-1) (tl_cl 12 ve) (tl_cl 256 fr))) rfl
      · refine br_t (nI_le (b := 4) (Nat.le_refl 4) (by decide)) ?_
        rw [hc]
        refine tx_open (fun se' gs' hse hgs => ?_)
        refine tl_lp (fun n k a => wX_encode_100 post (nI s) (nI (160 * s)) (nI 0) n (nI k) fr ou ve ov a fu (tl_C fr ve) (tl_cl 12 ve) si ne se' gs') (fun k a => upd a (160 * s + k) 0) 160 (fun a => a = tl_gl (160 * s) 160 (fun _ => 0) st) (fun n a ha => ?_) (fun n k a hk ih => ?_) st (tl_fill (160 * s) (fun _ => 0) st 160)
        · refine br_t (nI_le (b := 160) (Nat.le_refl 160) (by decide)) ?_
          rw [ha]
          refine ⟨13, tx_en127 (V := tl_nt (tl_cl 12 ve)) hs (fun k hk => ?_) 12 0 0 _ 13 (by omega) (by omega) (by omega) ⟨5, ?_⟩⟩
          · obtain ⟨n, hn, e⟩ := hve k
            have e2 : tl_cl 12 ve k = nI n := by
              unfold tl_cl
              rw [if_pos hk, e]
            unfold tl_nt
            rw [e2, nI_clamp (by omega)]
            exact ⟨rfl, by omega⟩
          · refine tx_en152 hs hM 4 0 (0 + 5 * 12) _ si ne se' gs' 5 (by omega) (by omega) (by omega) (fun i _ h => hse i h) (fun g _ h => hgs g h) (fun place si ne se gs => ?_)
            have H := hp (nI (160 * s)) place si ne se gs
            unfold tl_code tl_cd at H
            rw [tl_pts_app, tl_vs_len] at H
            exact H
        · refine br_f (nI_ge (b := 160) hk (by decide)) ?_
          rw [nI_add, nI_clamp (n := 160 * s + k) (by omega)]
          exact And.intro (vp_in_nI (by omega) (by decide)) (nm_e (nm_r (nI_1 k) ih))
      · refine br_f (nI_ge (b := 4) hf (by decide)) ?_
        rw [tl_m64]
        exact tx_analyse (by omega) (nm_r (nI_1 f) ih)
    · refine br_f (nI_ge (b := 12) hk (by decide)) ?_
      rw [nI_clamp (n := k) (by omega)]
      exact And.intro (vp_in_nI hk (by decide)) (And.intro (vp_in_nI hk (by decide)) (nm_e (nm_r (nI_1 k) ih)))
  · refine br_f (nI_ge (b := 256) hk (by decide)) ?_
    rw [nI_clamp (n := k) (by omega)]
    exact And.intro (vp_in_nI hk (by decide)) (And.intro (vp_in_nI hk (by decide)) (nm_e (nm_r (nI_1 k) ih)))
theorem ty_encode {post : Int32 → SY → Prop} {s : Nat} (hs : s ≤ 1) (hp : post 0 (fr, ou, tl_gl (256 * s) 256 fr ke, ve, ov, tl_gl (12 * s) 12 ve kv, upd fu s (vp_nar .boolean 1))) : wpY_encode post (fr, ou, ke, ve, ov, kv, fu) (nI s) := by
  unfold wpY_encode
  refine ty_badSlot_y hs (br_t rfl ?_)
  refine tl_lp (fun n k a => wY_encode_12 post (nI s) n (nI k) fr ou a ve ov kv fu) (fun k a => upd a (256 * s + k) (fr k)) 256 (fun a => a = tl_gl (256 * s) 256 fr ke) (fun n a ha => ?_) (fun n k a hk ih => ?_) ke (tl_fill (256 * s) fr ke 256)
  · refine br_t (nI_le (b := 256) (Nat.le_refl 256) (by decide)) ?_
    rw [ha]
    refine tl_lp (fun n k b => wY_encode_45 post (nI s) n (nI k) fr ou (tl_gl (256 * s) 256 fr ke) ve ov b fu) (fun k a => upd a (12 * s + k) (ve k)) 12 (fun b => b = tl_gl (12 * s) 12 ve kv) (fun n b hb => ?_) (fun n k b hk ih => ?_) kv (tl_fill (12 * s) ve kv 12)
    · refine br_t (nI_le (b := 12) (Nat.le_refl 12) (by decide)) ?_
      rw [hb, nI_clamp (n := s) (by omega)]
      exact And.intro (vp_in_nI (by omega) (by decide)) (nm_e hp)
    · refine br_f (nI_ge (b := 12) hk (by decide)) ?_
      rw [tl_12, nI_clamp (n := k) (by omega), nI_clamp (n := 12 * s + k) (by omega)]
      exact And.intro (vp_in_nI hk (by decide)) (And.intro (vp_in_nI (by omega) (by decide)) (nm_e (nm_r (nI_1 k) ih)))
  · refine br_f (nI_ge (b := 256) hk (by decide)) ?_
    rw [tl_256, nI_clamp (n := k) (by omega), nI_clamp (n := 256 * s + k) (by omega)]
    exact And.intro (vp_in_nI hk (by decide)) (And.intro (vp_in_nI (by omega) (by decide)) (nm_e (nm_r (nI_1 k) ih)))
theorem tl_F_en (F : tl_F fr ou ve ov st fu ce pa ke kv) {s : Nat} (hs : s ≤ 1) : tl_F fr ou ve ov (tl_pts s 0 (tl_code fr ve) (tl_gl (160 * s) 160 (fun _ => 0) st)) (upd fu s (vp_nar .boolean 1)) (tl_C fr ve) (tl_cl 12 ve) (tl_gl (256 * s) 256 fr ke) (tl_gl (12 * s) 12 ve kv) := by
  obtain ⟨a1, a2, a3, a4, a5, a6, a7, a8, a9, a10⟩ := F
  have hlen : (tl_code fr ve).length ≤ 5120 := tl_cd_len (tl_C_sml a1) _ _
  refine And.intro a1 (And.intro a2 (And.intro a3 (And.intro a4 (And.intro (tl_Uu a5 ⟨1, by omega, rfl⟩) (And.intro (tl_glU a1 a6) (And.intro (tl_glU a3 a7) (And.intro (fun i hi => tl_C_hi hi) (And.intro (fun i hi => if_neg (by omega)) (fun t ht e => ?_)))))))))
  by_cases z : t = s
  · rw [z]
    have e1 : ∀ i, i < 256 → tl_gl (256 * s) 256 fr ke (256 * s + i) = fr i := fun i hi => tl_gl_in fr ke hi
    have e2 : ∀ i, i < 12 → tl_gl (12 * s) 12 ve kv (12 * s + i) = ve i := fun i hi => tl_gl_in ve kv hi
    rw [tl_code_c e1 e2]
    exact tl_RD_pts (fun i hi => tl_gl_in (fun _ => 0) st hi) hlen
  · rw [pk_un z] at e
    have h := a10 t ht e
    have e1 : ∀ i, i < 256 → tl_gl (256 * s) 256 fr ke (256 * t + i) = ke (256 * t + i) := fun i hi => tl_gl_out fr ke (by omega)
    have e2 : ∀ i, i < 12 → tl_gl (12 * s) 12 ve kv (12 * t + i) = kv (12 * t + i) := fun i hi => tl_gl_out ve kv (by omega)
    rw [tl_code_c e1 e2]
    refine tl_RD_cp h (fun i hi => ?_)
    rw [tl_pts_o s (by omega) _ _ _ (by omega), tl_gl_out _ _ (by omega)]
theorem i_vc_encode {k : Nat} {u : SX} {v : SY} (I : i_Rel k u v) (hk : k + 5 ≤ 2560) (v1 : Int32) : wpX_encode (fun r u' => wpY_encode (fun r' v' => r' = r ∧ i_Rel (k + 5) u' v') v v1) u v1 := by
  refine tl_el (P := fun u v => wpX_encode (fun r u' => wpY_encode (fun r' v' => r' = r ∧ i_Rel (k + 5) u' v') v v1) u v1) I ?_
  intro base place fr ou ve ov st fu ce pa si ne se gs ke kv F
  rcases tl_rg v1 (N := 1) (by decide) with hs | ⟨s, hs, rfl⟩
  · unfold wpX_encode wpY_encode
    exact tx_isSlot_n hs (br_t rfl (ty_badSlot_n hs (br_f (by decide) ⟨rfl, tl_in F⟩)))
  have K := tl_F_en F hs
  obtain ⟨a1, a2, a3, a4, a5, a6, a7, a8, a9, a10⟩ := F
  exact tx_encode hs a1 a3 a8 a9 (fun base place si ne se gs => ty_encode hs ⟨rfl, tl_in K⟩)
end
end
section
/-! walks of the reader -/
section
variable {base place : Int32} {fr ou ve ov st fu ce pa si ne se gs ke kv : Nat → Int32} {M : Nat → Nat} {N : Nat → Bool}
theorem tl_rv (x : Int32) {k : Nat} (hk : k < 32) : ((x.toUInt32 >>> ((nI k).toUInt32 &&& Int32.toUInt32 31)).toInt32) &&& 1 = tl_b (bt x k) := by
  apply b_ext
  intro i hi
  rw [b_and, b_ushr k hk, tl_btb _ hi, tl_bt1 i hi]
  by_cases z : i = 0
  · rw [z, decide_eq_true rfl, Bool.and_true, Bool.true_and, Nat.add_zero]
  · rw [decide_eq_false z, Bool.and_false, Bool.false_and]
theorem tx_read4 {post : Int32 → SX → Prop} {s L : Nat} (hs : s ≤ 1) (hL : L ≤ 100) : ∀ l acc k q n, l.length < n → k + l.length = L → tl_RD s st q l → post (nI (tl_val acc l)) (nI (160 * s), nI (q + l.length), fr, ou, ve, ov, st, fu, ce, pa, si, ne, se, gs) → wX_read_4 post (nI L) (nI (160 * s)) fr ou ve ov st fu ce pa si ne se gs n (nI acc) (nI k) (nI q) := by
  intro l
  induction l with
  | nil =>
    intro acc k q n hn hk _ hp
    obtain ⟨n, rfl⟩ : ∃ m, n = m + 1 := ⟨n - 1, by omega⟩
    have hk' : k + 0 = L := hk
    exact br_t (nI_le (by omega) (by omega)) hp
  | cons b l ih =>
    intro acc k q n hn hk hR hp
    have hk' : k + (l.length + 1) = L := hk
    have hn' : l.length + 1 < n := hn
    obtain ⟨n, rfl⟩ : ∃ m, n = m + 1 := ⟨n - 1, by omega⟩
    obtain ⟨h1, h2⟩ := hR 0 (Nat.succ_pos _)
    have hR2 : tl_RD s st (q + 1) l := (tl_RD_app (l := [b]) (l' := l) hR).2
    have h2' : tl_at st s q = b := h2
    refine br_f (nI_ge (by omega) (by omega)) (nm_r (tl_shr5 q (by omega)) (br_f (nI_ge (b := 160) (by omega) (by decide)) ?_))
    rw [nI_add, nI_clamp (n := 160 * s + q / 32) (by omega), tl_and31 q (by omega), tl_rv _ (by omega)]
    have e : bt (st (160 * s + q / 32)) (q % 32) = b := h2'
    rw [e]
    have e2 : 2 * nI acc + tl_b b = nI (2 * acc + b.toNat) := by
      show nI 2 * nI acc + _ = _
      rw [tl_b01, pk_mul, nI_add]
    refine And.intro (vp_in_nI (by omega) (by decide)) (nm_r e2 (nm_r (nI_1 q) (nm_r (nI_1 k) ?_)))
    refine ih (2 * acc + b.toNat) (k + 1) (q + 1) n (by omega) (by omega) hR2 ?_
    rw [show q + 1 + l.length = q + (l.length + 1) by omega]
    exact hp
theorem tx_read {post : Int32 → SX → Prop} {s q L : Nat} {l : List Bool} (hs : s ≤ 1) (hL : L ≤ 100) (hl : l.length = L) (hR : tl_RD s st q l) (hp : post (nI (tl_val 0 l)) (nI (160 * s), nI (q + L), fr, ou, ve, ov, st, fu, ce, pa, si, ne, se, gs)) : wpX_read post (nI (160 * s), nI q, fr, ou, ve, ov, st, fu, ce, pa, si, ne, se, gs) (nI L) := by
  unfold wpX_read
  rw [← hl] at hp
  exact ⟨L + 1, tx_read4 hs hL l 0 0 q (L + 1) (by omega) (by omega) hR hp⟩
theorem tx_read1 {post : Int32 → SX → Prop} {s q : Nat} {b : Bool} (hs : s ≤ 1) (hR : tl_RD s st q [b]) (hp : post (tl_b b) (nI (160 * s), nI (q + 1), fr, ou, ve, ov, st, fu, ce, pa, si, ne, se, gs)) : wpX_read post (nI (160 * s), nI q, fr, ou, ve, ov, st, fu, ce, pa, si, ne, se, gs) 1 := by
  cases b
  · exact tx_read (L := 1) hs (by omega) rfl hR hp
  · exact tx_read (L := 1) hs (by omega) rfl hR hp
/-! readGroup -/
def tl_Q (M : Nat → Nat) (p j : Nat) : Nat := M j / 2 ^ p * 2 ^ p
theorem tl_Q_s (M : Nat → Nat) {p : Nat} (j : Nat) (hp : p ≤ 30) : nI (tl_Q M (p + 1) j) ||| (tl_b (tl_bit M p j) <<< (nI p &&& 31)) = nI (tl_Q M p j) := by
  have hb : (tl_bit M p j).toNat ≤ 1 := by cases tl_bit M p j <;> decide
  have h30 : 2 ^ p ≤ 2 ^ 30 := Nat.pow_le_pow_right (by decide) hp
  have hlt : (tl_bit M p j).toNat * 2 ^ p < 2 ^ 32 := by
    have : (tl_bit M p j).toNat * 2 ^ p ≤ 1 * 2 ^ p := Nat.mul_le_mul_right _ hb
    omega
  have h0 := Nat.two_pow_pos p
  have hlt2 : (tl_bit M p j).toNat * 2 ^ p < 2 ^ (p + 1) := by
    have : (tl_bit M p j).toNat * 2 ^ p ≤ 1 * 2 ^ p := Nat.mul_le_mul_right _ hb
    rw [Nat.pow_succ]
    omega
  rw [tl_b01, pk_shlN _ p (s_l p (by omega)) hlt, nx_or]
  refine congrArg nI ?_
  unfold tl_Q
  rw [← Nat.shiftLeft_eq (M j / 2 ^ (p + 1)), ← Nat.shiftLeft_add_eq_or_of_lt hlt2, Nat.shiftLeft_eq]
  unfold tl_bit
  rw [tl_tb, Nat.pow_succ, ← Nat.div_div_eq_div_mul, Nat.mul_comm (2 ^ p) 2, ← Nat.mul_assoc, ← Nat.add_mul]
  congr 1
  omega
theorem tx_rg43 {post : SX → Prop} {s g p : Nat} (hs : s ≤ 1) (hg : g < 64) (hpp : p ≤ 30) :
    ∀ d i q si ne se n, i + d = 4 * g + 4 → 4 * g ≤ i → d < n → tl_RD s st q (tl_cs M N p d i) → (∀ j, i ≤ j → j < 4 * g + 4 → se j = tl_b (tl_S M (p + 1) j)) → (∀ j, i ≤ j → j < 4 * g + 4 → si j = nI (tl_Q M (p + 1) j)) → (∀ j, i ≤ j → j < 4 * g + 4 → ne j = tl_b (N j && tl_S M (p + 1) j)) →
      post (nI (160 * s), nI (q + (tl_cs M N p d i).length), fr, ou, ve, ov, st, fu, ce, pa, tl_ga i (4 * g + 4) (fun j => nI (tl_Q M p j)) si, tl_ga i (4 * g + 4) (fun j => tl_b (N j && tl_S M p j)) ne, tl_ga i (4 * g + 4) (fun j => tl_b (tl_S M p j)) se, gs) →
      wX_readGroup_43 post (nI g) (nI p) n (nI i) (nI (160 * s)) (nI q) fr ou ve ov st fu ce pa si ne se gs := by
  intro d
  induction d with
  | zero =>
    intro i q si ne se n hi _ hn _ _ _ _ hp
    obtain ⟨n, rfl⟩ : ∃ m, n = m + 1 := ⟨n - 1, by omega⟩
    refine br_t (by rw [tl_g4]; exact nI_le (by omega) (by omega)) ?_
    rw [tl_ga_e _ _ (by omega), tl_ga_e _ _ (by omega), tl_ga_e _ _ (by omega)] at hp
    exact hp
  | succ d ih =>
    intro i q si ne se n hi hgi hn hR hse hsi hne hp
    obtain ⟨n, rfl⟩ : ∃ m, n = m + 1 := ⟨n - 1, by omega⟩
    have hR' : tl_RD s st q (tl_cc M N p i ++ tl_cs M N p d (i + 1)) := hR
    obtain ⟨hR1, hR2⟩ := tl_RD_app hR'
    have K : ∀ cc si1 ne1 se1, cc = tl_cc M N p i → si1 i = nI (tl_Q M p i) → ne1 i = tl_b (N i && tl_S M p i) → se1 i = tl_b (tl_S M p i) → (∀ j, j ≠ i → si1 j = si j) → (∀ j, j ≠ i → ne1 j = ne j) → (∀ j, j ≠ i → se1 j = se j) →
        wX_readGroup_43 post (nI g) (nI p) n (nI (i + 1)) (nI (160 * s)) (nI (q + cc.length)) fr ou ve ov st fu ce pa si1 ne1 se1 gs := by
      intro cc si1 ne1 se1 e1 a1 a2 a3 b1 b2 b3
      rw [← e1] at hR2
      refine ih (i + 1) (q + cc.length) si1 ne1 se1 n (by omega) (by omega) (by omega) hR2 (fun j h1 h2 => ?_) (fun j h1 h2 => ?_) (fun j h1 h2 => ?_) ?_
      · rw [b3 j (by omega)]
        exact hse j (by omega) h2
      · rw [b1 j (by omega)]
        exact hsi j (by omega) h2
      · rw [b2 j (by omega)]
        exact hne j (by omega) h2
      · rw [tl_ga_s (a := si) (by omega) a1 b1, tl_ga_s (a := ne) (by omega) a2 b2, tl_ga_s (a := se) (by omega) a3 b3, Nat.add_assoc, ← List.length_append, e1]
        exact hp
    refine br_f (by rw [tl_g4]; exact nI_ge (by omega) (by omega)) ?_
    have hv : vp_in (nI i) 256 := vp_in_nI (by omega) (by decide)
    have hcl : (nI i).toNatClampNeg = i := nI_clamp (by omega)
    have hcc : tl_cc M N p i = tl_bit M p i :: (if (!tl_S M (p + 1) i && tl_bit M p i) = true then [N i] else []) := rfl
    have hRb : tl_RD s st q [tl_bit M p i] := by
      rw [hcc] at hR1
      exact (tl_RD_app (l := [tl_bit M p i]) hR1).1
    have hs1 := hse i (Nat.le_refl i) (by omega)
    have hs2 := hsi i (Nat.le_refl i) (by omega)
    have hs3 := hne i (Nat.le_refl i) (by omega)
    have hS := tl_S_s M p i
    have hQ := tl_Q_s M i hpp
    refine tx_read1 hs hRb (And.intro hv (And.intro hv ?_))
    rw [hcl, hs2, hQ]
    refine nm_e (And.intro hv ?_)
    by_cases z : tl_S M (p + 1) i = true
    · rw [z] at hs1 hS hcc hs3
      refine br_f (by rw [hs1]; decide) (nm_r (nI_1 i) (K [tl_bit M p i] (upd si i (nI (tl_Q M p i))) ne se ?_ pk_us ?_ ?_ (fun j hj => pk_un hj) (fun _ _ => rfl) (fun _ _ => rfl)))
      · rw [hcc]
        rfl
      · rw [hs3, hS]
        rfl
      · rw [hs1, hS]
        rfl
    · rw [Bool.not_eq_true] at z
      rw [z] at hs1 hS hcc hs3
      refine br_t (by rw [hs1]; rfl) ?_
      by_cases y : tl_bit M p i = true
      · rw [y] at hS hcc ⊢
        have e1 : [true, N i] = tl_cc M N p i := by
          rw [hcc]
          rfl
        rw [← e1] at hR1
        have hRn : tl_RD s st (q + 1) [N i] := (tl_RD_app (l := [true]) (l' := [N i]) hR1).2
        refine br_t rfl (And.intro hv (nm_e (tx_read1 hs hRn ?_)))
        have K2 := K [true, N i] (upd si i (nI (tl_Q M p i))) (upd ne i (tl_b (N i))) (upd se i (vp_nar .boolean 1)) e1 pk_us (by rw [pk_us, hS]; cases N i <;> rfl) (by rw [pk_us, hS]; rfl) (fun j hj => pk_un hj) (fun j hj => pk_un hj) (fun j hj => pk_un hj)
        by_cases w : N i = true
        · rw [w] at K2 ⊢
          exact br_t rfl (And.intro hv (nm_e (nm_r (nI_1 i) K2)))
        · rw [Bool.not_eq_true] at w
          rw [w] at K2 ⊢
          exact br_f (by decide) (And.intro hv (nm_e (nm_r (nI_1 i) K2)))
      · rw [Bool.not_eq_true] at y
        rw [y] at hS hcc ⊢
        refine br_f (by decide) (nm_r (nI_1 i) (K [false] (upd si i (nI (tl_Q M p i))) ne se ?_ pk_us ?_ ?_ (fun j hj => pk_un hj) (fun _ _ => rfl) (fun _ _ => rfl)))
        · rw [hcc]
          rfl
        · rw [hs3, hS]
          rfl
        · rw [hs1, hS]
          rfl
theorem tl_Q_0 {M : Nat → Nat} {p j : Nat} (h : tl_S M p j = false) : tl_Q M p j = 0 := by
  have h2 : M j < 2 ^ p := Nat.not_le.mp (of_decide_eq_false h)
  unfold tl_Q
  rw [Nat.div_eq_of_lt h2, Nat.zero_mul]
theorem tx_rg29 {post : SX → Prop} {s g p q : Nat} (hs : s ≤ 1) (hg : g < 64) (hpp : p ≤ 30) (hR : tl_RD s st q (tl_g2 M N p g)) (hse : ∀ j, 4 * g ≤ j → j < 4 * g + 4 → se j = tl_b (tl_S M (p + 1) j)) (hsi : ∀ j, 4 * g ≤ j → j < 4 * g + 4 → si j = nI (tl_Q M (p + 1) j)) (hne : ∀ j, 4 * g ≤ j → j < 4 * g + 4 → ne j = tl_b (N j && tl_S M (p + 1) j)) (hgs : gs g = tl_b (tl_G M p g))
    (hp : post (nI (160 * s), nI (q + (tl_g2 M N p g).length), fr, ou, ve, ov, st, fu, ce, pa, tl_ga (4 * g) (4 * g + 4) (fun j => nI (tl_Q M p j)) si, tl_ga (4 * g) (4 * g + 4) (fun j => tl_b (N j && tl_S M p j)) ne, tl_ga (4 * g) (4 * g + 4) (fun j => tl_b (tl_S M p j)) se, gs)) :
    wX_readGroup_29 post (nI g) (nI p) (nI (160 * s)) (nI q) fr ou ve ov st fu ce pa si ne se gs := by
  unfold wX_readGroup_29
  rw [nI_clamp (n := g) (by omega)]
  refine And.intro (vp_in_nI hg (by decide)) ?_
  by_cases z : tl_G M p g = true
  · rw [z] at hgs
    have e : tl_g2 M N p g = tl_cs M N p 4 (4 * g) := if_pos z
    rw [e] at hR hp
    exact br_f (by rw [hgs]; decide) (nm_r (tl_m4 g) ⟨5, tx_rg43 hs hg hpp 4 (4 * g) q si ne se 5 (by omega) (by omega) (by omega) hR hse hsi hne hp⟩)
  · have e : tl_g2 M N p g = [] := if_neg z
    rw [Bool.not_eq_true] at z
    rw [z] at hgs
    rw [e, tl_ga_self (a := si) (fun j h1 h2 => by rw [hsi j h1 h2, tl_Q_0 (tl_G_in z h1 h2), tl_Q_0 (tl_S_mono (tl_G_in z h1 h2))]), tl_ga_self (a := ne) (fun j h1 h2 => by rw [hne j h1 h2, tl_G_in z h1 h2, tl_S_mono (tl_G_in z h1 h2)]), tl_ga_self (a := se) (fun j h1 h2 => by rw [hse j h1 h2, tl_G_in z h1 h2, tl_S_mono (tl_G_in z h1 h2)])] at hp
    exact br_t (by rw [hgs]; rfl) hp
theorem tx_readGroup {post : SX → Prop} {s g p q : Nat} (hs : s ≤ 1) (hg : g < 64) (hpp : p ≤ 30) (hR : tl_RD s st q (tl_gc M N p g)) (hse : ∀ j, 4 * g ≤ j → j < 4 * g + 4 → se j = tl_b (tl_S M (p + 1) j)) (hsi : ∀ j, 4 * g ≤ j → j < 4 * g + 4 → si j = nI (tl_Q M (p + 1) j)) (hne : ∀ j, 4 * g ≤ j → j < 4 * g + 4 → ne j = tl_b (N j && tl_S M (p + 1) j)) (hgs : gs g = tl_b (tl_G M (p + 1) g))
    (hp : post (nI (160 * s), nI (q + (tl_gc M N p g).length), fr, ou, ve, ov, st, fu, ce, pa, tl_ga (4 * g) (4 * g + 4) (fun j => nI (tl_Q M p j)) si, tl_ga (4 * g) (4 * g + 4) (fun j => tl_b (N j && tl_S M p j)) ne, tl_ga (4 * g) (4 * g + 4) (fun j => tl_b (tl_S M p j)) se, upd gs g (tl_b (tl_G M p g)))) :
    wpX_readGroup post (nI (160 * s), nI q, fr, ou, ve, ov, st, fu, ce, pa, si, ne, se, gs) (nI g) (nI p) := by
  unfold wpX_readGroup
  refine And.intro (vp_in_nI hg (by decide)) ?_
  have hcl : (nI g).toNatClampNeg = g := nI_clamp (by omega)
  by_cases z : tl_G M (p + 1) g = true
  · have zt := tl_G_t z
    have e : tl_gc M N p g = tl_g2 M N p g := by
      unfold tl_gc
      rw [if_pos z]
      rfl
    rw [z] at hgs
    have e2 : upd gs g (tl_b (tl_G M p g)) = gs := by
      funext i
      by_cases y : i = g
      · rw [y, pk_us, zt, hgs]
      · rw [pk_un y]
    rw [e] at hR hp
    rw [e2] at hp
    exact br_f (by rw [hcl, hgs]; decide) (tx_rg29 hs hg hpp hR hse hsi hne (by rw [hgs, zt]) hp)
  · have e : tl_gc M N p g = [tl_G M p g] ++ tl_g2 M N p g := by
      unfold tl_gc
      rw [if_neg z]
      rfl
    rw [Bool.not_eq_true] at z
    rw [z] at hgs
    rw [e] at hR
    rw [e, List.length_append] at hp
    obtain ⟨hR1, hR2⟩ := tl_RD_app hR
    have hl1 : [tl_G M p g].length = 1 := rfl
    rw [hl1] at hR2 hp
    refine br_t (by rw [hcl, hgs]; rfl) (tx_read1 hs hR1 ?_)
    have H : wX_readGroup_28 post (nI g) (nI p) (tl_b (tl_G M p g)) (nI g) (nI (160 * s)) (nI (q + 1)) fr ou ve ov st fu ce pa si ne se gs := by
      unfold wX_readGroup_28
      rw [hcl, tl_nar]
      refine And.intro (vp_in_nI hg (by decide)) (nm_e (tx_rg29 hs hg hpp hR2 hse hsi hne pk_us ?_))
      rw [Nat.add_assoc]
      exact hp
    by_cases y : tl_G M p g = true
    · rw [y] at H ⊢
      exact br_t rfl H
    · rw [Bool.not_eq_true] at y
      rw [y] at H ⊢
      exact br_f (by decide) H
/-! the groups of a plane, the planes of a frame -/
theorem tx_rf56 {post : SX → Prop} {J : Int32 → Int32 → Int32 → (Nat → Int32) → (Nat → Int32) → (Nat → Int32) → (Nat → Int32) → (Nat → Int32) → (Nat → Int32) → (Nat → Int32) → (Nat → Int32) → (Nat → Int32) → (Nat → Int32) → (Nat → Int32) → (Nat → Int32) → Prop}
    {s f p : Nat} (hs : s ≤ 1) (hf : f ≤ 3) (hpp : p ≤ 30) :
    ∀ d g q si ne se gs n, g + d = 16 * f + 16 → 16 * f ≤ g → d < n → tl_RD s st q (tl_gs M N p d g) → (∀ j, 4 * g ≤ j → j < 64 * f + 64 → se j = tl_b (tl_S M (p + 1) j)) → (∀ j, 4 * g ≤ j → j < 64 * f + 64 → si j = nI (tl_Q M (p + 1) j)) → (∀ j, 4 * g ≤ j → j < 64 * f + 64 → ne j = tl_b (N j && tl_S M (p + 1) j)) → (∀ j, g ≤ j → j < 16 * f + 16 → gs j = tl_b (tl_G M (p + 1) j)) →
      J (nI p - 1) (nI (160 * s)) (nI (q + (tl_gs M N p d g).length)) fr ou ve ov st fu ce pa (tl_ga (4 * g) (64 * f + 64) (fun j => nI (tl_Q M p j)) si) (tl_ga (4 * g) (64 * f + 64) (fun j => tl_b (N j && tl_S M p j)) ne) (tl_ga (4 * g) (64 * f + 64) (fun j => tl_b (tl_S M p j)) se) (tl_ga g (16 * f + 16) (fun j => tl_b (tl_G M p j)) gs) →
      wX_readFrame_56 post J (nI f) (nI p) n (nI g) (nI (160 * s)) (nI q) fr ou ve ov st fu ce pa si ne se gs := by
  intro d
  induction d with
  | zero =>
    intro g q si ne se gs n hg _ hn _ _ _ _ _ hp
    obtain ⟨n, rfl⟩ : ∃ m, n = m + 1 := ⟨n - 1, by omega⟩
    refine br_t (by rw [tl_g16]; exact nI_le (by omega) (by omega)) (nm_r (e' := nI p - 1) (Int32.sub_eq_add_neg _ _).symm ?_)
    rw [tl_ga_e _ _ (by omega), tl_ga_e _ _ (by omega), tl_ga_e _ _ (by omega), tl_ga_e _ _ (by omega)] at hp
    exact hp
  | succ d ih =>
    intro g q si ne se gs n hg hg2 hn hR hse hsi hne hgs hp
    obtain ⟨n, rfl⟩ : ∃ m, n = m + 1 := ⟨n - 1, by omega⟩
    have hR' : tl_RD s st q (tl_gc M N p g ++ tl_gs M N p d (g + 1)) := hR
    obtain ⟨hR1, hR2⟩ := tl_RD_app hR'
    refine br_f (by rw [tl_g16]; exact nI_ge (by omega) (by omega)) ?_
    refine tx_readGroup (M := M) (N := N) hs (by omega) hpp hR1 (fun j h1 h2 => hse j (by omega) (by omega)) (fun j h1 h2 => hsi j (by omega) (by omega)) (fun j h1 h2 => hne j (by omega) (by omega)) (hgs g (by omega) (by omega)) (nm_r (nI_1 g) ?_)
    refine ih (g + 1) (q + (tl_gc M N p g).length) _ _ _ _ n (by omega) (by omega) (by omega) hR2 (fun j h1 h2 => ?_) (fun j h1 h2 => ?_) (fun j h1 h2 => ?_) (fun j h1 h2 => ?_) ?_
    · rw [tl_ga_out _ _ (by omega)]
      exact hse j (by omega) h2
    · rw [tl_ga_out _ _ (by omega)]
      exact hsi j (by omega) h2
    · rw [tl_ga_out _ _ (by omega)]
      exact hne j (by omega) h2
    · rw [pk_un (by omega)]
      exact hgs j (by omega) h2
    · rw [show 4 * (g + 1) = 4 * g + 4 by omega, tl_ga_j _ si (by omega) (by omega), tl_ga_j _ ne (by omega) (by omega), tl_ga_j _ se (by omega) (by omega), tl_ga_s (a := gs) (by omega) pk_us (fun j hj => pk_un hj), Nat.add_assoc, ← List.length_append]
      exact hp
theorem tx_rf46 {post : SX → Prop} {s f : Nat} (hs : s ≤ 1) (hf : f ≤ 3) :
    ∀ P q si ne se gs n, P ≤ 30 → P < n → tl_RD s st q (tl_pl M N f P) → (∀ j, 64 * f ≤ j → j < 64 * f + 64 → se j = tl_b (tl_S M P j)) → (∀ j, 64 * f ≤ j → j < 64 * f + 64 → si j = nI (tl_Q M P j)) → (∀ j, 64 * f ≤ j → j < 64 * f + 64 → ne j = tl_b (N j && tl_S M P j)) → (∀ j, 16 * f ≤ j → j < 16 * f + 16 → gs j = tl_b (tl_G M P j)) →
      (∃ n, wX_readFrame_92 post (nI f) (nI (160 * s)) (nI (q + (tl_pl M N f P).length)) n (nI (64 * f)) fr ou ve ov st fu ce pa (tl_ga (64 * f) (64 * f + 64) (fun j => nI (tl_Q M 0 j)) si) (tl_ga (64 * f) (64 * f + 64) (fun j => tl_b (N j && tl_S M 0 j)) ne) (tl_ga (64 * f) (64 * f + 64) (fun j => tl_b (tl_S M 0 j)) se) (tl_ga (16 * f) (16 * f + 16) (fun j => tl_b (tl_G M 0 j)) gs)) →
      wX_readFrame_46 post (nI f) n (nI P - 1) (nI (160 * s)) (nI q) fr ou ve ov st fu ce pa si ne se gs := by
  intro P
  induction P with
  | zero =>
    intro q si ne se gs n _ hn _ hse hsi hne hgs hp
    obtain ⟨n, rfl⟩ : ∃ m, n = m + 1 := ⟨n - 1, by omega⟩
    rw [tl_ga_self hse, tl_ga_self hsi, tl_ga_self hne, tl_ga_self hgs] at hp
    exact br_t (by decide) (nm_r (tl_m64 f) hp)
  | succ P ih =>
    intro q si ne se gs n hP hn hR hse hsi hne hgs hp
    obtain ⟨n, rfl⟩ : ∃ m, n = m + 1 := ⟨n - 1, by omega⟩
    have hR' : tl_RD s st q (tl_gs M N P 16 (16 * f) ++ tl_pl M N f P) := hR
    obtain ⟨hR1, hR2⟩ := tl_RD_app hR'
    rw [nI_pred]
    refine br_f (nI_pos (by omega)) (nm_r (tl_m16 f) ⟨17, ?_⟩)
    refine tx_rf56 (M := M) (N := N) hs hf (by omega) 16 (16 * f) q si ne se gs 17 (by omega) (by omega) (by omega) hR1 (fun j h1 h2 => hse j (by omega) h2) (fun j h1 h2 => hsi j (by omega) h2) (fun j h1 h2 => hne j (by omega) h2) hgs ?_
    rw [show 4 * (16 * f) = 64 * f by omega]
    refine ih (q + (tl_gs M N P 16 (16 * f)).length) _ _ _ _ n (by omega) (by omega) hR2 (fun j h1 h2 => tl_ga_in _ _ ⟨h1, h2⟩) (fun j h1 h2 => tl_ga_in _ _ ⟨h1, h2⟩) (fun j h1 h2 => tl_ga_in _ _ ⟨h1, h2⟩) (fun j h1 h2 => tl_ga_in _ _ ⟨h1, h2⟩) ?_
    rw [tl_ga_ga, tl_ga_ga, tl_ga_ga, tl_ga_ga, Nat.add_assoc, ← List.length_append]
    exact hp
end
end
section
/-! readFrame, decode -/
section
variable {base place : Int32} {fr ou ve ov st fu ce pa si ne se gs ke kv : Nat → Int32} {C : Nat → Int32}
theorem tx_rf92 {post : SX → Prop} {f : Nat} (hf : f ≤ 3) (hC : ∀ i, i < 256 → tl_mg C i < 2 ^ 31) (hsi : ∀ i, 64 * f ≤ i → i < 64 * f + 64 → si i = nI (tl_mg C i)) (hne : ∀ i, 64 * f ≤ i → i < 64 * f + 64 → ne i = tl_b (tl_ng C i))
    (hp : post (base, place, fr, ou, ve, ov, st, fu, tl_gl (64 * f) 64 (fun k => C (64 * f + k)) ce, pa, si, ne, se, gs)) : ∃ n, wX_readFrame_92 post (nI f) base place n (nI (64 * f)) fr ou ve ov st fu ce pa si ne se gs := by
  refine tl_lp (fun n k c => wX_readFrame_92 post (nI f) base place n (nI (64 * f + k)) fr ou ve ov st fu c pa si ne se gs) (fun k a => upd a (64 * f + k) (C (64 * f + k))) 64 (fun c => c = tl_gl (64 * f) 64 (fun k => C (64 * f + k)) ce) (fun n c hc => ?_) (fun n k c hk ih => ?_) ce (tl_fill (64 * f) (fun k => C (64 * f + k)) ce 64)
  · rw [hc]
    exact br_t (by rw [tl_g64]; exact nI_le (by omega) (by omega)) hp
  · refine br_f (by rw [tl_g64]; exact nI_ge (by omega) (by omega)) ?_
    have hv : vp_in (nI (64 * f + k)) 256 := vp_in_nI (by omega) (by decide)
    have hg := tl_mgng (hC (64 * f + k) (by omega))
    rw [nI_clamp (n := 64 * f + k) (by omega), hsi _ (by omega) (by omega), hne _ (by omega) (by omega)]
    refine And.intro hv ?_
    by_cases z : tl_ng C (64 * f + k) = true
    · rw [if_pos z] at hg
      rw [z, hg]
      exact br_f (by decide) (And.intro hv (And.intro hv (nm_e (nm_r (nI_1 (64 * f + k)) ih))))
    · rw [if_neg z] at hg
      rw [Bool.not_eq_true] at z
      rw [z, hg]
      exact br_t rfl (And.intro hv (And.intro hv (nm_e (nm_r (nI_1 (64 * f + k)) ih))))
theorem tx_rf5 {post : SX → Prop} {f : Nat} (hf : f ≤ 3) (hx : ∀ n (si ne : Nat → Int32), (∀ i, 64 * f ≤ i → i < 64 * f + 64 → si i = 0) → (∀ i, 64 * f ≤ i → i < 64 * f + 64 → ne i = 0) → wX_readFrame_5 post (nI f) base place (n + 1) (nI (64 * f + 64)) fr ou ve ov st fu ce pa si ne se gs) : wpX_readFrame post (base, place, fr, ou, ve, ov, st, fu, ce, pa, si, ne, se, gs) (nI f) := by
  unfold wpX_readFrame
  refine nm_r (tl_m64 f) ?_
  have H := tl_fo_invk (F := fun k (a : (Nat → Int32) × (Nat → Int32)) => (upd a.1 (64 * f + k) 0, upd a.2 (64 * f + k) 0)) (n := 64) (I := fun k a => (∀ i, 64 * f ≤ i → i < 64 * f + k → a.1 i = 0) ∧ ∀ i, 64 * f ≤ i → i < 64 * f + k → a.2 i = 0) (si, ne)
    ⟨fun i h1 h2 => absurd h2 (by omega), fun i h1 h2 => absurd h2 (by omega)⟩ (fun k a hk h => by
      refine ⟨fun i h1 h2 => ?_, fun i h1 h2 => ?_⟩
      · show upd a.1 (64 * f + k) 0 i = 0
        by_cases z : i = 64 * f + k
        · rw [z, pk_us]
        · rw [pk_un z]
          exact h.1 i h1 (by omega)
      · show upd a.2 (64 * f + k) 0 i = 0
        by_cases z : i = 64 * f + k
        · rw [z, pk_us]
        · rw [pk_un z]
          exact h.2 i h1 (by omega))
  refine tl_lp (fun n k a => wX_readFrame_5 post (nI f) base place n (nI (64 * f + k)) fr ou ve ov st fu ce pa (a.1) (a.2) se gs) (fun k (a : (Nat → Int32) × (Nat → Int32)) => (upd a.1 (64 * f + k) 0, upd a.2 (64 * f + k) 0)) 64 (fun a => (∀ i, 64 * f ≤ i → i < 64 * f + 64 → a.1 i = 0) ∧ ∀ i, 64 * f ≤ i → i < 64 * f + 64 → a.2 i = 0) (fun n a ha => ?_) (fun n k a hk ih => ?_) (si, ne) H
  · exact hx n a.1 a.2 ha.1 ha.2
  · refine br_f (by rw [tl_g64]; exact nI_ge (by omega) (by omega)) ?_
    have hv : vp_in (nI (64 * f + k)) 256 := vp_in_nI (by omega) (by decide)
    rw [nI_clamp (n := 64 * f + k) (by omega)]
    exact And.intro hv (nm_e (And.intro hv (nm_e (nm_r (nI_1 (64 * f + k)) ih))))
theorem tx_readFrame {post : SX → Prop} {s f q : Nat} (hs : s ≤ 1) (hf : f ≤ 3) (hM : tl_sml (tl_mg C)) (hR : tl_RD s st q (tl_fc (tl_mg C) (tl_ng C) f))
    (hse : ∀ i, 64 * f ≤ i → i < 64 * f + 64 → se i = 0) (hgs : ∀ g, 16 * f ≤ g → g < 16 * f + 16 → gs g = 0)
    (hp : ∀ si' ne' se' gs', (∀ i, 64 * f + 64 ≤ i → se' i = se i) → (∀ g, 16 * f + 16 ≤ g → gs' g = gs g) → post (nI (160 * s), nI (q + (tl_fc (tl_mg C) (tl_ng C) f).length), fr, ou, ve, ov, st, fu, tl_gl (64 * f) 64 (fun k => C (64 * f + k)) ce, pa, si', ne', se', gs')) :
    wpX_readFrame post (nI (160 * s), nI q, fr, ou, ve, ov, st, fu, ce, pa, si, ne, se, gs) (nI f) := by
  have hM2 : ∀ i, i < 256 → tl_mg C i < 2 ^ 31 := fun i hi => Nat.lt_trans (hM i hi) (by decide)
  have hP := tl_P_le hM (f := f) (by omega)
  obtain ⟨hR1, hR2⟩ := tl_RD_app (l := tl_bs (tl_P (tl_mg C) f) 4) (l' := tl_pl (tl_mg C) (tl_ng C) f (tl_P (tl_mg C) f)) hR
  rw [tl_bs_len] at hR2
  have hS : ∀ j, 64 * f ≤ j → j < 64 * f + 64 → tl_S (tl_mg C) (tl_P (tl_mg C) f) j = false := fun j g1 g2 => decide_eq_false (Nat.not_le.mpr (tl_P_lt hM (by omega) g1 g2))
  refine tx_rf5 hf (fun n si ne hsi hne => br_t (by rw [tl_g64]; exact nI_le (by omega) (by omega)) ?_)
  refine tx_read (L := 4) hs (by omega) (tl_bs_len _ 4) hR1 ?_
  rw [tl_val_bs0 (by show tl_P (tl_mg C) f < 16; omega)]
  refine nm_e ⟨31, ?_⟩
  refine tx_rf46 (M := tl_mg C) (N := tl_ng C) hs hf (tl_P (tl_mg C) f) (q + 4) si ne se gs 31 (by omega) (by omega) hR2 (fun j g1 g2 => ?_) (fun j g1 g2 => ?_) (fun j g1 g2 => ?_) (fun j g1 g2 => ?_) ?_
  · rw [hS j g1 g2]
    exact hse j g1 g2
  · rw [tl_Q_0 (hS j g1 g2)]
    exact hsi j g1 g2
  · rw [hS j g1 g2, Bool.and_false]
    exact hne j g1 g2
  · have e : tl_G (tl_mg C) (tl_P (tl_mg C) f) j = false := by
      unfold tl_G
      rw [hS _ (by omega) (by omega), hS _ (by omega) (by omega), hS _ (by omega) (by omega), hS _ (by omega) (by omega)]
      rfl
    rw [e]
    exact hgs j g1 g2
  · refine tx_rf92 hf hM2 (fun i g1 g2 => ?_) (fun i g1 g2 => ?_) ?_
    · rw [tl_ga_in _ _ ⟨g1, g2⟩]
      unfold tl_Q
      rw [Nat.pow_zero, Nat.div_one, Nat.mul_one]
    · rw [tl_ga_in _ _ ⟨g1, g2⟩]
      refine congrArg tl_b ?_
      by_cases z : tl_ng C i = true
      · have hlt : C i < 0 := of_decide_eq_true z
        have h0 : (0 : Int32).toInt = 0 := by decide
        rw [Int32.lt_iff_toInt_lt, h0] at hlt
        have : tl_S (tl_mg C) 0 i = true := decide_eq_true (by
          unfold tl_mg
          rw [Nat.pow_zero]
          omega)
        rw [z, this]
        rfl
      · rw [Bool.not_eq_true] at z
        rw [z]
        rfl
    · have H := hp (tl_ga (64 * f) (64 * f + 64) (fun j => nI (tl_Q (tl_mg C) 0 j)) si) (tl_ga (64 * f) (64 * f + 64) (fun j => tl_b (tl_ng C j && tl_S (tl_mg C) 0 j)) ne) (tl_ga (64 * f) (64 * f + 64) (fun j => tl_b (tl_S (tl_mg C) 0 j)) se) (tl_ga (16 * f) (16 * f + 16) (fun j => tl_b (tl_G (tl_mg C) 0 j)) gs) (fun i hi => tl_ga_out _ _ (by omega)) (fun g hg => tl_ga_out _ _ (by omega))
      unfold tl_fc at H
      rw [List.length_append, tl_bs_len, ← Nat.add_assoc] at H
      exact H
theorem tx_de53 {post : Int32 → SX → Prop} {s : Nat} (hs : s ≤ 1) (hM : tl_sml (tl_mg C)) :
    ∀ d f q ce si ne se gs n, f + d = 4 → d < n → tl_RD s st q (tl_fs (tl_mg C) (tl_ng C) d f) → (∀ i, 64 * f ≤ i → i < 256 → se i = 0) → (∀ g, 16 * f ≤ g → g < 64 → gs g = 0) → (∀ i, i < 64 * f → ce i = C i) → (∀ i, 256 ≤ i → ce i = C i) →
      (∀ place si ne se gs, ∃ n, wX_decode_71 post n 0 (nI (160 * s)) place fr ou ve ov st fu C pa si ne se gs) →
      wX_decode_53 post n (nI f) (nI (160 * s)) (nI q) fr ou ve ov st fu ce pa si ne se gs := by
  intro d
  induction d with
  | zero =>
    intro f q ce si ne se gs n hf hn _ _ _ h1 h2 hp
    obtain ⟨n, rfl⟩ : ∃ m, n = m + 1 := ⟨n - 1, by omega⟩
    have e : ce = C := by
      funext i
      by_cases z : i < 256
      · exact h1 i (by omega)
      · exact h2 i (by omega)
    rw [e]
    exact br_t (nI_le (a := 4) (by omega) (by omega)) (hp _ _ _ _ _)
  | succ d ih =>
    intro f q ce si ne se gs n hf hn hR hse hgs h1 h2 hp
    obtain ⟨n, rfl⟩ : ∃ m, n = m + 1 := ⟨n - 1, by omega⟩
    have hR' : tl_RD s st q (tl_fc (tl_mg C) (tl_ng C) f ++ tl_fs (tl_mg C) (tl_ng C) d (f + 1)) := hR
    obtain ⟨hR1, hR2⟩ := tl_RD_app hR'
    refine br_f (nI_ge (b := 4) (by omega) (by decide)) ?_
    refine tx_readFrame hs (by omega) hM hR1 (fun i g1 g2 => hse i g1 (by omega)) (fun g g1 g2 => hgs g g1 (by omega)) (fun si' ne' se' gs' k1 k2 => nm_r (nI_1 f) ?_)
    refine ih (f + 1) (q + (tl_fc (tl_mg C) (tl_ng C) f).length) _ si' ne' se' gs' n (by omega) (by omega) hR2 (fun i g1 g2 => ?_) (fun g g1 g2 => ?_) (fun i hi => ?_) (fun i hi => ?_) hp
    · rw [k1 i (by omega)]
      exact hse i (by omega) g2
    · rw [k2 g (by omega)]
      exact hgs g (by omega) g2
    · by_cases z : i < 64 * f
      · rw [tl_gl_out _ _ (by omega)]
        exact h1 i z
      · obtain ⟨j, rfl⟩ : ∃ j, i = 64 * f + j := ⟨i - 64 * f, by omega⟩
        exact tl_gl_in (fun k => C (64 * f + k)) ce (by omega)
    · rw [tl_gl_out _ _ (by omega)]
      exact h2 i hi
theorem tx_de28 {post : Int32 → SX → Prop} {s : Nat} {V : Nat → Nat} (hs : s ≤ 1) (hV : ∀ k, k < 12 → V k < 32) :
    ∀ d k q pa n, k + d = 12 → d < n → tl_RD s st q (tl_vs V d k) → (∀ i, i < k → pa i = nI (V i)) → (∀ i, 12 ≤ i → pa i = 0) →
      (∀ pa, (∀ i, i < 12 → pa i = nI (V i)) → (∀ i, 12 ≤ i → pa i = 0) → ∃ n, wX_decode_53 post n 0 (nI (160 * s)) (nI (q + 5 * d)) fr ou ve ov st fu ce pa si ne se gs) →
      wX_decode_28 post n (nI k) (nI (160 * s)) (nI q) fr ou ve ov st fu ce pa si ne se gs := by
  intro d
  induction d with
  | zero =>
    intro k q pa n hk hn _ h1 h2 hp
    obtain ⟨n, rfl⟩ : ∃ m, n = m + 1 := ⟨n - 1, by omega⟩
    exact br_t (nI_le (a := 12) (by omega) (by omega)) (hp pa (fun i hi => h1 i (by omega)) h2)
  | succ d ih =>
    intro k q pa n hk hn hR h1 h2 hp
    obtain ⟨n, rfl⟩ : ∃ m, n = m + 1 := ⟨n - 1, by omega⟩
    have hR' : tl_RD s st q (tl_bs (V k) 5 ++ tl_vs V d (k + 1)) := hR
    obtain ⟨hR1, hR2⟩ := tl_RD_app hR'
    rw [tl_bs_len] at hR2
    refine br_f (nI_ge (b := 12) (by omega) (by decide)) (tx_read (L := 5) hs (by omega) (tl_bs_len _ 5) hR1 ?_)
    rw [tl_val_bs0 (by show V k < 32; exact hV k (by omega)), nI_clamp (n := k) (by omega)]
    refine And.intro (vp_in_nI (by omega) (by decide)) (nm_e (nm_r (nI_1 k) ?_))
    refine ih (k + 1) (q + 5) _ n (by omega) (by omega) hR2 (fun i hi => ?_) (fun i hi => ?_) ?_
    · by_cases z : i = k
      · rw [z, pk_us]
      · rw [pk_un z]
        exact h1 i (by omega)
    · rw [pk_un (by omega)]
      exact h2 i hi
    · rw [show q + 5 * (d + 1) = q + 5 + 5 * d by omega] at hp
      exact hp
def tl_oF (v : Nat → Int32) (k : Nat) (a : Int32 × (Nat → Int32)) : Int32 × (Nat → Int32) := (a.1 + v k, upd a.2 k (v k))
theorem tl_cl_in {n : Nat} {v : Nat → Int32} {k : Nat} (h : k < n) : tl_cl n v k = v k := if_pos h
theorem tx_de71 {post : Int32 → SX → Prop} {v w : Nat → Int32} (hp : post (tl_fo (tl_oF v) 256 (0, ou)).1 (base, place, fr, (tl_fo (tl_oF v) 256 (0, ou)).2, ve, tl_fo (fun k a => upd a k (w k)) 12 ov, st, fu, tl_cl 256 v, tl_cl 12 w, si, ne, se, gs)) : ∃ n, wX_decode_71 post n 0 base place fr ou ve ov st fu (tl_C v w) (tl_cl 12 w) si ne se gs := by
  refine tl_lp (fun n f c => wX_decode_71 post n (nI f) base place fr ou ve ov st fu c (tl_cl 12 w) si ne se gs) tl_sy 4 (fun c => tl_pr 1 (tl_cl 12 w) (tl_ad (-1) (tl_cl 12 w) c) = tl_cl 256 v) (fun n c hc => ?_) (fun n f c hf ih => ?_) (tl_C v w) (tl_ittr (tl_cl 12 w) (tl_cl 256 v))
  · refine br_t (nI_le (b := 4) (Nat.le_refl 4) (by decide)) (tx_adjust (-1) (tx_predict 1 ?_))
    rw [hc]
    have e1 : tl_fo (tl_oF v) 256 (0, ou) = tl_fo (tl_oF (tl_cl 256 v)) 256 (0, ou) := tl_fo_congr _ (fun k a hk => by
      unfold tl_oF
      rw [tl_cl_in hk])
    have e2 : tl_fo (fun k a => upd a k (w k)) 12 ov = tl_fo (fun k a => upd a k (tl_cl 12 w k)) 12 ov := tl_fo_congr _ (fun k a hk => by rw [tl_cl_in hk])
    rw [e1, e2] at hp
    refine tl_lp (fun n k a => wX_decode_104 post base place n a.1 (nI k) fr (a.2) ve ov st fu (tl_cl 256 v) (tl_cl 12 w) si ne se gs) (tl_oF (tl_cl 256 v)) 256 (fun a => post a.1 (base, place, fr, a.2, ve, tl_fo (fun k a => upd a k (tl_cl 12 w k)) 12 ov, st, fu, tl_cl 256 v, tl_cl 12 w, si, ne, se, gs)) (fun n a hq => ?_) (fun n k a hk ih => ?_) (0, ou) hp
    · refine br_t (nI_le (b := 256) (Nat.le_refl 256) (by decide)) ?_
      refine tl_lp (fun n k b => wX_decode_140 post a.1 base place n (nI k) fr (a.2) ve b st fu (tl_cl 256 v) (tl_cl 12 w) si ne se gs) (fun k a => upd a k (tl_cl 12 w k)) 12 (fun b => post a.1 (base, place, fr, a.2, ve, b, st, fu, tl_cl 256 v, tl_cl 12 w, si, ne, se, gs)) (fun n b hq => ?_) (fun n k b hk ih => ?_) ov hq
      · exact br_t (nI_le (b := 12) (Nat.le_refl 12) (by decide)) hq
      · refine br_f (nI_ge (b := 12) hk (by decide)) ?_
        rw [nI_clamp (n := k) (by omega)]
        exact And.intro (vp_in_nI hk (by decide)) (And.intro (vp_in_nI hk (by decide)) (nm_e (nm_r (nI_1 k) ih)))
    · refine br_f (nI_ge (b := 256) hk (by decide)) ?_
      rw [nI_clamp (n := k) (by omega)]
      exact And.intro (vp_in_nI hk (by decide)) (And.intro (vp_in_nI hk (by decide)) (nm_e (And.intro (vp_in_nI hk (by decide)) (nm_e (nm_r (nI_1 k) ih)))))
  · refine br_f (nI_ge (b := 4) hf (by decide)) ?_
    rw [tl_m64]
    exact tx_synthesise (by omega) (nm_r (nI_1 f) ih)
theorem tx_decode {post : Int32 → SX → Prop} {s : Nat} {v w : Nat → Int32} (hs : s ≤ 1) (hfu : fu s = 1) (hv : tl_U 255 v) (hw : tl_U 24 w) (hR : tl_RD s st 0 (tl_code v w)) (hce : ∀ i, 256 ≤ i → ce i = 0) (hpa : ∀ i, 12 ≤ i → pa i = 0)
    (hp : ∀ base place si ne se gs, post (tl_fo (tl_oF v) 256 (0, ou)).1 (base, place, fr, (tl_fo (tl_oF v) 256 (0, ou)).2, ve, tl_fo (fun k a => upd a k (w k)) 12 ov, st, fu, tl_cl 256 v, tl_cl 12 w, si, ne, se, gs)) : wpX_decode post (base, place, fr, ou, ve, ov, st, fu, ce, pa, si, ne, se, gs) (nI s) := by
  have hM : tl_sml (tl_mg (tl_C v w)) := tl_C_sml hv
  obtain ⟨hR1, hR2⟩ := tl_RD_app (l := tl_vs (tl_nt (tl_cl 12 w)) 12 0) (l' := tl_fs (tl_mg (tl_C v w)) (tl_ng (tl_C v w)) 4 0) hR
  rw [tl_vs_len] at hR2
  have hw2 : ∀ k, k < 12 → tl_cl 12 w k = nI (tl_nt (tl_cl 12 w) k) ∧ tl_nt (tl_cl 12 w) k < 32 := fun k hk => by
    obtain ⟨n, hn, e⟩ := hw k
    have e2 : tl_cl 12 w k = nI n := by
      unfold tl_cl
      rw [if_pos hk, e]
    unfold tl_nt
    rw [e2, nI_clamp (by omega)]
    exact ⟨rfl, by omega⟩
  unfold wpX_decode
  refine tx_isSlot_y hs (br_f (by decide) (And.intro (vp_in_nI (by omega) (by decide)) ?_))
  rw [nI_clamp (n := s) (by omega), hfu]
  refine br_f (by decide) (tx_open (fun se' gs' hse hgs => ⟨13, ?_⟩))
  refine tx_de28 (V := tl_nt (tl_cl 12 w)) hs (fun k hk => (hw2 k hk).2) 12 0 0 pa 13 (by omega) (by omega) hR1 (fun i hi => absurd hi (by omega)) hpa (fun pa' h1 h2 => ⟨5, ?_⟩)
  have e : pa' = tl_cl 12 w := by
    funext i
    by_cases z : i < 12
    · rw [h1 i z, (hw2 i z).1]
    · rw [h2 i (by omega)]
      exact (if_neg z).symm
  rw [e]
  refine tx_de53 (C := tl_C v w) hs hM 4 0 (0 + 5 * 12) ce si ne se' gs' 5 (by omega) (by omega) hR2 (fun i _ h => hse i h) (fun g _ h => hgs g h) (fun i hi => absurd hi (by omega)) (fun i hi => by rw [hce i hi, tl_C_hi hi]) (fun place si ne se gs => ?_)
  exact tx_de71 (hp _ place si ne se gs)
theorem ty_decode {post : Int32 → SY → Prop} {s : Nat} (hs : s ≤ 1) (hfu : fu s = 1) (hp : post (tl_fo (tl_oF (fun i => ke (256 * s + i))) 256 (0, ou)).1 (fr, (tl_fo (tl_oF (fun i => ke (256 * s + i))) 256 (0, ou)).2, ke, ve, tl_fo (fun k a => upd a k (kv (12 * s + k))) 12 ov, kv, fu)) : wpY_decode post (fr, ou, ke, ve, ov, kv, fu) (nI s) := by
  unfold wpY_decode
  refine ty_badSlot_y hs (br_t rfl (And.intro (vp_in_nI (by omega) (by decide)) ?_))
  rw [nI_clamp (n := s) (by omega), hfu]
  refine br_f (by decide) ?_
  refine tl_lp (fun n k a => wY_decode_26 post (nI s) n a.1 (nI k) fr (a.2) ke ve ov kv fu) (tl_oF (fun i => ke (256 * s + i))) 256 (fun a => post a.1 (fr, a.2, ke, ve, tl_fo (fun k a => upd a k (kv (12 * s + k))) 12 ov, kv, fu)) (fun n a hq => ?_) (fun n k a hk ih => ?_) (0, ou) hp
  · refine br_t (nI_le (b := 256) (Nat.le_refl 256) (by decide)) ?_
    refine tl_lp (fun n k b => wY_decode_68 post (nI s) a.1 n (nI k) fr (a.2) ke ve b kv fu) (fun k a => upd a k (kv (12 * s + k))) 12 (fun b => post a.1 (fr, a.2, ke, ve, b, kv, fu)) (fun n b hq => ?_) (fun n k b hk ih => ?_) ov hq
    · exact br_t (nI_le (b := 12) (Nat.le_refl 12) (by decide)) hq
    · refine br_f (nI_ge (b := 12) hk (by decide)) ?_
      rw [tl_12, nI_clamp (n := k) (by omega), nI_clamp (n := 12 * s + k) (by omega)]
      exact And.intro (vp_in_nI (by omega) (by decide)) (And.intro (vp_in_nI hk (by decide)) (nm_e (nm_r (nI_1 k) ih)))
  · refine br_f (nI_ge (b := 256) hk (by decide)) ?_
    rw [tl_256, nI_clamp (n := k) (by omega), nI_clamp (n := 256 * s + k) (by omega)]
    refine And.intro (vp_in_nI (by omega) (by decide)) (And.intro (vp_in_nI hk (by decide)) (nm_e (And.intro (vp_in_nI hk (by decide)) ?_)))
    rw [pk_us]
    exact nm_e (nm_r (nI_1 k) ih)
theorem i_vc_decode {k : Nat} {u : SX} {v : SY} (I : i_Rel k u v) (hk : k + 5 ≤ 2560) (v1 : Int32) : wpX_decode (fun r u' => wpY_decode (fun r' v' => r' = r ∧ i_Rel (k + 5) u' v') v v1) u v1 := by
  refine tl_el (P := fun u v => wpX_decode (fun r u' => wpY_decode (fun r' v' => r' = r ∧ i_Rel (k + 5) u' v') v v1) u v1) I ?_
  intro base place fr ou ve ov st fu ce pa si ne se gs ke kv F
  rcases tl_rg v1 (N := 1) (by decide) with hs | ⟨s, hs, rfl⟩
  · unfold wpX_decode wpY_decode
    exact tx_isSlot_n hs (br_t rfl (ty_badSlot_n hs (br_f (by decide) ⟨rfl, tl_in F⟩)))
  rcases tl_fu01 F s with hz | h1
  · unfold wpX_decode wpY_decode
    have hi : vp_in (nI s) 2 := vp_in_nI (by omega) (by decide)
    have hz2 : fu (nI s).toNatClampNeg = 0 := by rw [nI_clamp (by omega), hz]
    exact tx_isSlot_y hs (br_f (by decide) (And.intro hi (br_t hz2 (ty_badSlot_y hs (br_t rfl (And.intro hi (br_t hz2 ⟨rfl, tl_in F⟩)))))))
  · obtain ⟨a1, a2, a3, a4, a5, a6, a7, a8, a9, a10⟩ := F
    refine tx_decode (v := fun i => ke (256 * s + i)) (w := fun i => kv (12 * s + i)) hs h1 (fun i => a6 _) (fun i => a7 _) (a10 s (by omega) h1) a8 a9 (fun base place si ne se gs => ty_decode hs h1 ⟨rfl, tl_in ?_⟩)
    refine And.intro a1 (And.intro ?_ (And.intro a3 (And.intro ?_ (And.intro a5 (And.intro a6 (And.intro a7 (And.intro (fun i hi => if_neg (by omega)) (And.intro (fun i hi => if_neg (by omega)) a10))))))))
    · exact tl_fo_inv (I := fun a : Int32 × (Nat → Int32) => tl_U 255 a.2) (0, ou) a2 (fun k c _ h => tl_Uu h (a6 _))
    · exact tl_fo_inv (I := tl_U 24) ov a4 (fun k c _ h => tl_Uu h (a7 _))
end
end
