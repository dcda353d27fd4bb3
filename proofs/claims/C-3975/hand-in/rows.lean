section
theorem pk_us {f : Nat → Int32} {k : Nat} {x : Int32} : upd f k x k = x := if_pos rfl
theorem pk_un {f : Nat → Int32} {k j : Nat} {x : Int32} (h : j ≠ k) : upd f k x j = f j := if_neg h
theorem pk_sub {a b : Nat} (h : b ≤ a) : nI a - nI b = nI (a - b) := by
  obtain ⟨c, rfl⟩ : ∃ c, a = c + b := ⟨a - b, by omega⟩
  rw [← nI_add, Int32.add_sub_cancel, Nat.add_sub_cancel]
theorem pk_m1 (n : Nat) : nI (n + 1) + (-1) = nI n := by
  rw [← nI_1, Int32.add_assoc, show (1 : Int32) + (-1) = 0 from rfl, Int32.add_zero]
theorem pk_mul (a b : Nat) : nI a * nI b = nI (a * b) := (Int32.ofNat_mul a b).symm
theorem pk_div {a d : Nat} (ha : a < 2 ^ 31) (h0 : 0 < d) (hd : d < 2 ^ 31) : nI a / nI d = nI (a / d) := by
  apply Int32.toInt_inj.mp
  rw [lg_idiv_nonneg (by rw [nI_toInt ha]; omega) (by rw [nI_toInt hd]; omega), nI_toInt ha, nI_toInt hd, nI_toInt (Nat.lt_of_le_of_lt (Nat.div_le_self a d) ha)]
  first | rfl | exact (Int.natCast_ediv _ _).symm
theorem pk_rem {a d : Nat} (ha : a < 2 ^ 31) (h0 : 0 < d) (hd : d < 2 ^ 31) : nI a - nI a / nI d * nI d = nI (a % d) := by
  rw [pk_div ha h0 hd, pk_mul, pk_sub (Nat.div_mul_le_self a d)]
  exact congrArg nI (by have := Nat.div_add_mod' a d; omega)
theorem pk_ix (x : Int32) {n : Nat} (hn : n < 2 ^ 31) : x < 0 ∨ nI n ≤ x ∨ ∃ j : Nat, j < n ∧ x = nI j := by
  by_cases h : x < 0
  · exact Or.inl h
  · obtain ⟨j, hj, rfl⟩ := nI_of h
    by_cases h2 : j < n
    · exact Or.inr (Or.inr ⟨j, h2, rfl⟩)
    · exact Or.inr (Or.inl (nI_le (by omega) hj))
theorem pk_le {x y : Int32} {A B : Prop} (a b : Nat) (f : a ≤ b → A) (g : b < a → B) (hx : x = nI a := by rfl) (hy : y = nI b := by rfl) (ha : a < 2 ^ 31 := by omega) (hb : b < 2 ^ 31 := by omega) : (x ≤ y → A) ∧ (¬ x ≤ y → B) := by
  subst hx hy
  rw [nI_leI ha hb]
  exact ⟨f, fun z => g (by omega)⟩
theorem pk_lt {x y : Int32} {A B : Prop} (a b : Nat) (f : a < b → A) (g : b ≤ a → B) (hx : x = nI a := by rfl) (hy : y = nI b := by rfl) (ha : a < 2 ^ 31 := by omega) (hb : b < 2 ^ 31 := by omega) : (x < y → A) ∧ (¬ x < y → B) := by
  subst hx hy
  rw [nI_ltI ha hb]
  exact ⟨f, fun z => g (by omega)⟩
theorem pk_eq {x y : Int32} {A B : Prop} (a b : Nat) (f : a = b → A) (g : a ≠ b → B) (hx : x = nI a := by rfl) (hy : y = nI b := by rfl) (ha : a < 2 ^ 31 := by omega) (hb : b < 2 ^ 31 := by omega) : (x = y → A) ∧ (¬ x = y → B) := by
  subst hx hy
  rw [nI_eq ha hb]
  exact ⟨f, g⟩
theorem pk_in {x : Int32} (n N : Nat) (h : n < N) (hx : x = nI n := by rfl) (hN : N < 2 ^ 31 := by omega) : vp_in x N := by
  subst hx
  exact vp_in_nI h hN
theorem pk_cl {x : Int32} (n : Nat) (hx : x = nI n := by rfl) (h : n < 2 ^ 31 := by omega) : x.toNatClampNeg = n := by
  subst hx
  exact nI_clamp h
theorem pk_tn {n : Nat} (h : n < 2 ^ 32) : (nI n).toBitVec.toNat = n := Nat.mod_eq_of_lt h
theorem pk_and (x : Int32) {m : Int32} (k : Nat) (hm : m.toBitVec.toNat = 2 ^ k - 1) : x &&& m = nI (x.toBitVec.toNat % 2 ^ k) := by
  apply Int32.toBitVec_inj.mp
  apply BitVec.eq_of_toNat_eq
  rw [Int32.toBitVec_and, BitVec.toNat_and, hm, Nat.and_two_pow_sub_one_eq_mod]
  show _ = (BitVec.ofNat 32 _).toNat
  rw [BitVec.toNat_ofNat]
  exact (Nat.mod_eq_of_lt (Nat.lt_of_le_of_lt (Nat.mod_le _ _) x.toBitVec.isLt)).symm
theorem pk_andN {n : Nat} (h : n < 2 ^ 32) {m : Int32} (k : Nat) (hm : m.toBitVec.toNat = 2 ^ k - 1) : nI n &&& m = nI (n % 2 ^ k) := by
  rw [pk_and _ k hm, pk_tn h]
theorem pk_shl (a s : Int32) (k : Nat) (hs : (s.toBitVec.smod 32).toNat = k) : (a <<< s).toBitVec.toNat = a.toBitVec.toNat * 2 ^ k % 2 ^ 32 := by
  show (a.toBitVec <<< (s.toBitVec.smod 32).toNat).toNat = _
  rw [hs, BitVec.toNat_shiftLeft, Nat.shiftLeft_eq]
theorem pk_shlN {n : Nat} (s : Int32) (k : Nat) (hs : (s.toBitVec.smod 32).toNat = k) (h : n * 2 ^ k < 2 ^ 32) : nI n <<< s = nI (n * 2 ^ k) := by
  apply Int32.toBitVec_inj.mp
  apply BitVec.eq_of_toNat_eq
  have hn : n < 2 ^ 32 := Nat.lt_of_le_of_lt (Nat.le_mul_of_pos_right n (Nat.two_pow_pos k)) h
  rw [pk_shl _ _ k hs, pk_tn hn, pk_tn h, Nat.mod_eq_of_lt h]
theorem pk_shr (a s : Int32) (k : Nat) (hs : (s.toBitVec.smod 32).toNat = k) : (a >>> s).toInt = a.toInt >>> k := by
  show (a.toBitVec.sshiftRight (s.toBitVec.smod 32).toNat).toInt = _
  rw [hs, BitVec.toInt_sshiftRight]
  rfl
theorem pk_shrN {n : Nat} (h : n < 2 ^ 31) (s : Int32) (k : Nat) (hs : (s.toBitVec.smod 32).toNat = k) : nI n >>> s = nI (n / 2 ^ k) := by
  apply Int32.toInt_inj.mp
  have h2 : n / 2 ^ k ≤ n := Nat.div_le_self _ _
  rw [pk_shr _ _ k hs, nI_toInt h, nI_toInt (by omega), Int.shiftRight_eq_div_pow]
  rfl
theorem pk_least (P : Nat → Prop) (h : ∃ k, P k) : ∃ k, P k ∧ ∀ j, j < k → ¬ P j := by
  obtain ⟨k, hk⟩ := h
  induction k using Nat.strongRecOn with
  | ind k ih =>
    by_cases e : ∃ j, j < k ∧ P j
    · obtain ⟨j, hj, pj⟩ := e
      exact ih j hj pj
    · exact ⟨k, hk, fun j hj pj => e ⟨j, hj, pj⟩⟩
def bt (x : Int32) (i : Nat) : Bool := x.toBitVec.getLsbD i
theorem b_ext {x y : Int32} (h : ∀ i, i < 32 → bt x i = bt y i) : x = y := Int32.toBitVec_inj.mp (BitVec.eq_of_getLsbD_eq (fun i hi => h i hi))
theorem b_or (x y : Int32) (i : Nat) : bt (x ||| y) i = (bt x i || bt y i) := by unfold bt; rw [Int32.toBitVec_or, BitVec.getLsbD_or]
theorem b_and (x y : Int32) (i : Nat) : bt (x &&& y) i = (bt x i && bt y i) := by unfold bt; rw [Int32.toBitVec_and, BitVec.getLsbD_and]
theorem b_xor (x y : Int32) (i : Nat) : bt (x ^^^ y) i = (bt x i ^^ bt y i) := by unfold bt; rw [Int32.toBitVec_xor, BitVec.getLsbD_xor]
theorem b_big {x : Int32} {i : Nat} (h : 32 ≤ i) : bt x i = false := BitVec.getLsbD_of_ge _ _ h
theorem b_255 (i : Nat) : bt 255 i = decide (i < 8) := by
  rcases Nat.lt_or_ge i 32 with h | h
  · exact (by decide +kernel : ∀ i, i < 32 → bt 255 i = decide (i < 8)) i h
  · rw [b_big h, decide_eq_false (by omega)]
theorem b_65535 (i : Nat) : bt 65535 i = decide (i < 16) := by
  rcases Nat.lt_or_ge i 32 with h | h
  · exact (by decide +kernel : ∀ i, i < 32 → bt 65535 i = decide (i < 16)) i h
  · rw [b_big h, decide_eq_false (by omega)]
theorem b_m1 : ∀ i, i < 32 → bt (-1) i = true := by decide +kernel
theorem b_0 (i : Nat) : bt 0 i = false := BitVec.getLsbD_zero
theorem s_l : ∀ n, n < 32 → ((nI n &&& 31).toBitVec.smod 32).toNat = n := by decide +kernel
theorem s_u : ∀ n, n < 32 → (((nI n).toUInt32 &&& Int32.toUInt32 31).toBitVec % 32).toNat = n := by decide +kernel
theorem b_shl (n : Nat) (hn : n < 32) (x : Int32) {i : Nat} (hi : i < 32) : bt (x <<< (nI n &&& 31)) i = (decide (n ≤ i) && bt x (i - n)) := by
  unfold bt
  rw [Int32.toBitVec_shiftLeft]
  show (x.toBitVec <<< ((nI n &&& 31).toBitVec.smod 32).toNat).getLsbD i = _
  rw [s_l n hn, BitVec.getLsbD_shiftLeft]
  rcases Nat.lt_or_ge i n with h | h
  · simp [h, Nat.not_le.mpr h]
  · simp [hi, h, Nat.not_lt.mpr h]
theorem b_ushr (n : Nat) (hn : n < 32) (x : Int32) (i : Nat) : bt ((x.toUInt32 >>> ((nI n).toUInt32 &&& Int32.toUInt32 31)).toInt32) i = bt x (n + i) := by
  show (x.toUInt32 >>> ((nI n).toUInt32 &&& Int32.toUInt32 31)).toBitVec.getLsbD i = x.toUInt32.toBitVec.getLsbD (n + i)
  rw [UInt32.toBitVec_shiftRight]
  show (x.toUInt32.toBitVec >>> (((nI n).toUInt32 &&& Int32.toUInt32 31).toBitVec % 32).toNat).getLsbD i = _
  rw [s_u n hn, BitVec.getLsbD_ushiftRight]
theorem b_sshr (n : Nat) (hn : n < 32) (x : Int32) {i : Nat} (hi : i < 32) : bt (x >>> (nI n &&& 31)) i = if n + i < 32 then bt x (n + i) else bt x 31 := by
  unfold bt
  rw [Int32.toBitVec_shiftRight]
  show (x.toBitVec.sshiftRight ((nI n &&& 31).toBitVec.smod 32).toNat).getLsbD i = _
  rw [s_l n hn, BitVec.getLsbD_sshiftRight, BitVec.msb_eq_getLsbD_last]
  simp [hi]
end
section
/-! ===== paths of an automaton over nodes: k moves, cost n ===== -/
def pa_PT (M : Nat → Nat → Nat → Nat → Nat → Prop) : Nat → Nat → Nat → Nat → Nat → Nat → Prop
  | 0 => fun s a n t b => s = t ∧ a = b ∧ n = 0
  | k + 1 => fun s a n t b => ∃ w u c n', M w s a u c ∧ pa_PT M k u c n' t b ∧ n = w + n'
def pa_LG (M : Nat → Nat → Nat → Nat → Nat → Prop) (s a n t b : Nat) : Prop := ∃ k, pa_PT M k s a n t b
/-- the reflexive and transitive closure, k parts -/
def pa_SR (R : Nat → Nat → Nat → Prop) : Nat → Nat → Nat → Nat → Prop
  | 0 => fun a b n => a = b ∧ n = 0
  | k + 1 => fun a b n => ∃ m n1 n2, m < 8 ∧ R a m n1 ∧ pa_SR R k m b n2 ∧ n = n1 + n2
def pa_sr (R : Nat → Nat → Nat → Prop) (a b n : Nat) : Prop := ∃ k, pa_SR R k a b n
def pa_jn (R S : Nat → Nat → Nat → Prop) (a b n : Nat) : Prop := ∃ m n1 n2, m < 8 ∧ R a m n1 ∧ S m b n2 ∧ n = n1 + n2
def pa_un (R S : Nat → Nat → Nat → Prop) (a b n : Nat) : Prop := R a b n ∨ S a b n
theorem pa_sr_0 {R : Nat → Nat → Nat → Prop} (a : Nat) : pa_sr R a a 0 := ⟨0, rfl, rfl⟩
theorem pa_sr_c {R : Nat → Nat → Nat → Prop} {a m b n1 n2 : Nat} (hm : m < 8) (h : R a m n1) (l : pa_sr R m b n2) : pa_sr R a b (n1 + n2) := by
  obtain ⟨k, hk⟩ := l
  exact ⟨k + 1, m, n1, n2, hm, h, hk, rfl⟩
theorem pa_sr_t {R : Nat → Nat → Nat → Prop} {a m b n1 n2 : Nat} (h : pa_sr R a m n1) (l : pa_sr R m b n2) : pa_sr R a b (n1 + n2) := by
  obtain ⟨k, hk⟩ := h
  induction k generalizing a n1 with
  | zero =>
    obtain ⟨rfl, rfl⟩ := hk
    rw [Nat.zero_add]
    exact l
  | succ k ih =>
    obtain ⟨x, i, j, hx, h1, h2, rfl⟩ := hk
    rw [Nat.add_assoc]
    exact pa_sr_c hx h1 (ih h2)
theorem pa_sr_g {R S : Nat → Nat → Nat → Prop} (h : ∀ a b n, a < 8 → b < 8 → R a b n → S a b n) {a b n : Nat} (ha : a < 8) (l : pa_sr R a b n) : pa_sr S a b n := by
  obtain ⟨k, hk⟩ := l
  induction k generalizing a n with
  | zero =>
    obtain ⟨rfl, rfl⟩ := hk
    exact pa_sr_0 _
  | succ k ih =>
    obtain ⟨x, i, j, hx, h1, h2, rfl⟩ := hk
    exact pa_sr_c hx (h _ _ _ ha hx h1) (ih hx h2)
section
variable {M M' : Nat → Nat → Nat → Nat → Nat → Prop}
theorem pa_LG_0 (s a : Nat) : pa_LG M s a 0 s a := ⟨0, rfl, rfl, rfl⟩
theorem pa_LG_c {w s a u c n t b : Nat} (h : M w s a u c) (l : pa_LG M u c n t b) : pa_LG M s a (w + n) t b := by
  obtain ⟨k, hk⟩ := l
  exact ⟨k + 1, w, u, c, n, h, hk, rfl⟩
theorem pa_LG_z {s a u c n t b : Nat} (h : M 0 s a u c) (l : pa_LG M u c n t b) : pa_LG M s a n t b := by
  have := pa_LG_c h l
  rwa [Nat.zero_add] at this
theorem pa_LG_t {s a n u c m t b : Nat} (h : pa_LG M s a n u c) (l : pa_LG M u c m t b) : pa_LG M s a (n + m) t b := by
  obtain ⟨k, hk⟩ := h
  induction k generalizing s a n with
  | zero =>
    obtain ⟨rfl, rfl, rfl⟩ := hk
    rw [Nat.zero_add]
    exact l
  | succ k ih =>
    obtain ⟨w, x, y, n', h1, h2, rfl⟩ := hk
    rw [Nat.add_assoc]
    exact pa_LG_c h1 (ih h2)
theorem pa_LG_1 {w s a t b : Nat} (h : M w s a t b) : pa_LG M s a w t b := pa_LG_c h (pa_LG_0 t b)
theorem pa_LG_n {w s a n u c t b : Nat} (h : pa_LG M s a n u c) (l : M w u c t b) : pa_LG M s a (n + w) t b := pa_LG_t h (pa_LG_1 l)
theorem pa_LG_m (hM : ∀ w s a t b, M w s a t b → M' w s a t b) {s a n t b : Nat} (h : pa_LG M s a n t b) : pa_LG M' s a n t b := by
  obtain ⟨k, hk⟩ := h
  induction k generalizing s a n with
  | zero =>
    obtain ⟨rfl, rfl, rfl⟩ := hk
    exact pa_LG_0 _ _
  | succ k ih =>
    obtain ⟨w, x, y, n', h1, h2, rfl⟩ := hk
    exact pa_LG_c (hM _ _ _ _ _ h1) (ih h2)
theorem pa_LG_8 (hM : ∀ w s a t b, M w s a t b → b < 8) {s a n t b : Nat} (ha : a < 8) (h : pa_LG M s a n t b) : b < 8 := by
  obtain ⟨k, hk⟩ := h
  induction k generalizing s a n with
  | zero =>
    obtain ⟨rfl, rfl, rfl⟩ := hk
    exact ha
  | succ k ih =>
    obtain ⟨w, x, y, n', h1, h2, rfl⟩ := hk
    exact ih (hM _ _ _ _ _ h1) h2
/-- from a closed set of states there are only the old moves -/
theorem pa_LG_o (C : Nat → Prop) (hC : ∀ w s a t b, C s → M' w s a t b → M w s a t b ∧ C t) {s a n t b : Nat} (hs : C s) (h : pa_LG M' s a n t b) : pa_LG M s a n t b := by
  obtain ⟨k, hk⟩ := h
  induction k generalizing s a n with
  | zero =>
    obtain ⟨rfl, rfl, rfl⟩ := hk
    exact pa_LG_0 _ _
  | succ k ih =>
    obtain ⟨w, x, y, n', h1, h2, rfl⟩ := hk
    obtain ⟨g1, g2⟩ := hC _ _ _ _ _ hs h1
    exact pa_LG_c g1 (ih g2 h2)
theorem pa_th {A B : Nat → Prop} {e1 s2 e2 : Nat} (hA : ∀ w s a t b, A s → M w s a t b → A t) (hB : ∀ w s a t b, B s → M w s a t b → B t)
    (dj : ∀ s, A s → ¬ B s) (h1 : A e1) (h2 : B s2) (h3 : B e2) (h8 : ∀ w s a t b, M w s a t b → b < 8)
    (hM : ∀ w s a t b, M' w s a t b ↔ (M w s a t b ∨ (a < 8 ∧ w = 0 ∧ a = b ∧ s = e1 ∧ t = s2)))
    {s1 a n b : Nat} (h0 : A s1) (ha : a < 8) : pa_LG M' s1 a n e2 b ↔ ∃ m n1 n2, m < 8 ∧ pa_LG M s1 a n1 e1 m ∧ pa_LG M s2 m n2 e2 b ∧ n = n1 + n2 := by
  constructor
  · rintro ⟨k, hk⟩
    have key : ∀ k s a n, a < 8 → pa_PT M' k s a n e2 b → (A s → ∃ m n1 n2, m < 8 ∧ pa_LG M s a n1 e1 m ∧ pa_LG M s2 m n2 e2 b ∧ n = n1 + n2) ∧ (B s → pa_LG M s a n e2 b) := by
      intro k
      induction k with
      | zero =>
        intro s a n ha h
        obtain ⟨z1, z2, z3⟩ := h
        rw [z1, z2, z3]
        exact ⟨fun q => absurd h3 (dj _ q), fun _ => pa_LG_0 _ _⟩
      | succ k ih =>
        intro s a n ha h
        obtain ⟨w, u, c, n', g1, g2, g3⟩ := h
        rw [g3]
        rcases (hM _ _ _ _ _).mp g1 with g | ⟨g, z1, z2, z3, z4⟩
        · have I := ih u c n' (h8 _ _ _ _ _ g) g2
          refine ⟨fun q => ?_, fun q => pa_LG_c g (I.2 (hB _ _ _ _ _ q g))⟩
          obtain ⟨m, n1, n2, i1, i2, i3, i4⟩ := I.1 (hA _ _ _ _ _ q g)
          exact ⟨m, w + n1, n2, i1, pa_LG_c g i2, i3, by omega⟩
        · rw [z4, ← z2] at g2
          have I := ih _ _ n' ha g2
          rw [z3, z1, Nat.zero_add]
          exact ⟨fun q => ⟨a, 0, n', ha, pa_LG_0 _ _, I.2 h2, by omega⟩, fun q => absurd q (dj _ h1)⟩
    exact (key k s1 a n ha hk).1 h0
  · rintro ⟨m, n1, n2, i1, i2, i3, i4⟩
    have mono : ∀ w s a t b, M w s a t b → M' w s a t b := fun w s a t b h => (hM _ _ _ _ _).mpr (Or.inl h)
    rw [i4]
    exact pa_LG_t (pa_LG_m mono i2) (pa_LG_z ((hM 0 e1 m s2 m).mpr (Or.inr ⟨i1, rfl, rfl, rfl, rfl⟩)) (pa_LG_m mono i3))
theorem pa_al {A B : Nat → Prop} {s0 e0 s1 e1 s2 e2 : Nat} (hA : ∀ w s a t b, A s → M w s a t b → A t) (hB : ∀ w s a t b, B s → M w s a t b → B t)
    (dj : ∀ s, A s → ¬ B s) (a1 : A s1) (a2 : A e1) (b1 : B s2) (b2 : B e2) (nA0 : ¬ A s0) (nA1 : ¬ A e0) (nB0 : ¬ B s0) (nB1 : ¬ B e0) (ne : s0 ≠ e0)
    (n0 : ∀ w a t b, ¬ M w s0 a t b) (n1 : ∀ w a t b, ¬ M w e0 a t b) (h8 : ∀ w s a t b, M w s a t b → b < 8)
    (hM : ∀ w s a t b, M' w s a t b ↔ (M w s a t b ∨ (a < 8 ∧ w = 0 ∧ a = b ∧ ((s = s0 ∧ t = s1) ∨ (s = s0 ∧ t = s2) ∨ (s = e1 ∧ t = e0) ∨ (s = e2 ∧ t = e0)))))
    {a n b : Nat} (ha : a < 8) : pa_LG M' s0 a n e0 b ↔ (pa_LG M s1 a n e1 b ∨ pa_LG M s2 a n e2 b) := by
  have mono : ∀ w s a t b, M w s a t b → M' w s a t b := fun w s a t b h => (hM _ _ _ _ _).mpr (Or.inl h)
  constructor
  · rintro ⟨k, hk⟩
    have key : ∀ k s a n, pa_PT M' k s a n e0 b → (A s → pa_LG M s a n e1 b) ∧ (B s → pa_LG M s a n e2 b) ∧ (s = s0 → (pa_LG M s1 a n e1 b ∨ pa_LG M s2 a n e2 b)) ∧ (s = e0 → n = 0 ∧ a = b) := by
      intro k
      induction k with
      | zero =>
        intro s a n h
        obtain ⟨z1, z2, z3⟩ := h
        rw [z1, z2, z3]
        exact ⟨fun q => absurd q nA1, fun q => absurd q nB1, fun q => absurd q.symm ne, fun _ => ⟨rfl, rfl⟩⟩
      | succ k ih =>
        intro s a n h
        obtain ⟨w, u, c, n', g1, g2, g3⟩ := h
        have I := ih u c n' g2
        rw [g3]
        rcases (hM _ _ _ _ _).mp g1 with g | ⟨g, z1, z2, z⟩
        · refine ⟨fun q => pa_LG_c g (I.1 (hA _ _ _ _ _ q g)), fun q => pa_LG_c g (I.2.1 (hB _ _ _ _ _ q g)), fun q => ?_, fun q => ?_⟩
          · rw [q] at g
            exact absurd g (n0 _ _ _ _)
          · rw [q] at g
            exact absurd g (n1 _ _ _ _)
        · rw [← z2] at I
          rw [z1, Nat.zero_add]
          rcases z with ⟨z3, z4⟩ | ⟨z3, z4⟩ | ⟨z3, z4⟩ | ⟨z3, z4⟩
          · rw [z4] at I
            rw [z3]
            exact ⟨fun q => absurd q nA0, fun q => absurd q nB0, fun _ => Or.inl (I.1 a1), fun q => absurd q ne⟩
          · rw [z4] at I
            rw [z3]
            exact ⟨fun q => absurd q nA0, fun q => absurd q nB0, fun _ => Or.inr (I.2.1 b1), fun q => absurd q ne⟩
          · obtain ⟨y1, y2⟩ := I.2.2.2 z4
            rw [z3, y1, y2]
            exact ⟨fun _ => pa_LG_0 _ _, fun q => absurd q (dj _ a2), fun q => (nA0 (q ▸ a2)).elim, fun q => (nA1 (q ▸ a2)).elim⟩
          · obtain ⟨y1, y2⟩ := I.2.2.2 z4
            rw [z3, y1, y2]
            exact ⟨fun q => absurd b2 (dj _ q), fun _ => pa_LG_0 _ _, fun q => (nB0 (q ▸ b2)).elim, fun q => (nB1 (q ▸ b2)).elim⟩
    exact (key k s0 a n hk).2.2.1 rfl
  · rintro (h | h)
    · have hb := pa_LG_8 h8 ha h
      have x : pa_LG M' s1 a (n + 0) e0 b := pa_LG_t (pa_LG_m mono h) (pa_LG_1 ((hM 0 e1 b e0 b).mpr (Or.inr ⟨hb, rfl, rfl, Or.inr (Or.inr (Or.inl ⟨rfl, rfl⟩))⟩)))
      exact pa_LG_z ((hM 0 s0 a s1 a).mpr (Or.inr ⟨ha, rfl, rfl, Or.inl ⟨rfl, rfl⟩⟩)) x
    · have hb := pa_LG_8 h8 ha h
      have x : pa_LG M' s2 a (n + 0) e0 b := pa_LG_t (pa_LG_m mono h) (pa_LG_1 ((hM 0 e2 b e0 b).mpr (Or.inr ⟨hb, rfl, rfl, Or.inr (Or.inr (Or.inr ⟨rfl, rfl⟩))⟩)))
      exact pa_LG_z ((hM 0 s0 a s2 a).mpr (Or.inr ⟨ha, rfl, rfl, Or.inr (Or.inl ⟨rfl, rfl⟩)⟩)) x
theorem pa_ks {A : Nat → Prop} {s0 e0 x y : Nat} (hA : ∀ w s a t b, A s → M w s a t b → A t)
    (a1 : A x) (a2 : A y) (nA0 : ¬ A s0) (nA1 : ¬ A e0) (ne : s0 ≠ e0)
    (n0 : ∀ w a t b, ¬ M w s0 a t b) (n1 : ∀ w a t b, ¬ M w e0 a t b) (h8 : ∀ w s a t b, M w s a t b → b < 8)
    (hM : ∀ w s a t b, M' w s a t b ↔ (M w s a t b ∨ (a < 8 ∧ w = 0 ∧ a = b ∧ ((s = s0 ∧ t = x) ∨ (s = y ∧ t = e0) ∨ (s = y ∧ t = x) ∨ (s = s0 ∧ t = e0)))))
    {a n b : Nat} (ha : a < 8) : pa_LG M' s0 a n e0 b ↔ pa_sr (fun a b n => pa_LG M x a n y b) a b n := by
  have mono : ∀ w s a t b, M w s a t b → M' w s a t b := fun w s a t b h => (hM _ _ _ _ _).mpr (Or.inl h)
  constructor
  · rintro ⟨k, hk⟩
    have key : ∀ k s a n, a < 8 → pa_PT M' k s a n e0 b → (A s → ∃ m n1 n2, m < 8 ∧ pa_LG M s a n1 y m ∧ pa_sr (fun a b n => pa_LG M x a n y b) m b n2 ∧ n = n1 + n2) ∧ (s = s0 → pa_sr (fun a b n => pa_LG M x a n y b) a b n) ∧ (s = e0 → n = 0 ∧ a = b) := by
      intro k
      induction k with
      | zero =>
        intro s a n ha h
        obtain ⟨z1, z2, z3⟩ := h
        rw [z1, z2, z3]
        exact ⟨fun q => absurd q nA1, fun q => absurd q.symm ne, fun _ => ⟨rfl, rfl⟩⟩
      | succ k ih =>
        intro s a n ha h
        obtain ⟨w, u, c, n', g1, g2, g3⟩ := h
        rw [g3]
        rcases (hM _ _ _ _ _).mp g1 with g | ⟨g, z1, z2, z⟩
        · have I := ih u c n' (h8 _ _ _ _ _ g) g2
          refine ⟨fun q => ?_, fun q => ?_, fun q => ?_⟩
          · obtain ⟨m, i, j, i1, i2, i3, i4⟩ := I.1 (hA _ _ _ _ _ q g)
            exact ⟨m, w + i, j, i1, pa_LG_c g i2, i3, by omega⟩
          · rw [q] at g
            exact absurd g (n0 _ _ _ _)
          · rw [q] at g
            exact absurd g (n1 _ _ _ _)
        · rw [← z2] at g2
          have I := ih u a n' ha g2
          rw [z1, Nat.zero_add]
          rcases z with ⟨z3, z4⟩ | ⟨z3, z4⟩ | ⟨z3, z4⟩ | ⟨z3, z4⟩
          · rw [z4] at I
            rw [z3]
            refine ⟨fun q => absurd q nA0, fun _ => ?_, fun q => absurd q ne⟩
            obtain ⟨m, i, j, i1, i2, i3, i4⟩ := I.1 a1
            rw [i4]
            exact pa_sr_c i1 i2 i3
          · obtain ⟨y1, y2⟩ := I.2.2 z4
            rw [z3, y1, y2]
            exact ⟨fun _ => ⟨b, 0, 0, y2 ▸ ha, pa_LG_0 _ _, pa_sr_0 _, rfl⟩, fun q => (nA0 (q ▸ a2)).elim, fun q => (nA1 (q ▸ a2)).elim⟩
          · rw [z4] at I
            rw [z3]
            refine ⟨fun _ => ?_, fun q => (nA0 (q ▸ a2)).elim, fun q => (nA1 (q ▸ a2)).elim⟩
            obtain ⟨m, i, j, i1, i2, i3, i4⟩ := I.1 a1
            refine ⟨a, 0, n', ha, pa_LG_0 _ _, ?_, by omega⟩
            rw [i4]
            exact pa_sr_c i1 i2 i3
          · obtain ⟨y1, y2⟩ := I.2.2 z4
            rw [z3, y1, y2]
            exact ⟨fun q => absurd q nA0, fun _ => pa_sr_0 _, fun q => absurd q ne⟩
    exact (key k s0 a n ha hk).2.1 rfl
  · rintro ⟨k, hk⟩
    have key : ∀ k a n, a < 8 → pa_SR (fun a b n => pa_LG M x a n y b) k a b n → pa_LG M' y a n e0 b := by
      intro k
      induction k with
      | zero =>
        intro a n ha h
        obtain ⟨z1, z2⟩ := h
        rw [z2, ← z1]
        exact pa_LG_1 ((hM 0 y a e0 a).mpr (Or.inr ⟨ha, rfl, rfl, Or.inr (Or.inl ⟨rfl, rfl⟩)⟩))
      | succ k ih =>
        intro a n ha h
        obtain ⟨m, i, j, i1, i2, i3, i4⟩ := h
        rw [i4]
        exact pa_LG_z ((hM 0 y a x a).mpr (Or.inr ⟨ha, rfl, rfl, Or.inr (Or.inr (Or.inl ⟨rfl, rfl⟩))⟩)) (pa_LG_t (pa_LG_m mono i2) (ih m j i1 i3))
    cases k with
    | zero =>
      obtain ⟨z1, z2⟩ := hk
      rw [z2, ← z1]
      exact pa_LG_1 ((hM 0 s0 a e0 a).mpr (Or.inr ⟨ha, rfl, rfl, Or.inr (Or.inr (Or.inr ⟨rfl, rfl⟩))⟩))
    | succ k =>
      obtain ⟨m, i, j, i1, i2, i3, i4⟩ := hk
      rw [i4]
      exact pa_LG_z ((hM 0 s0 a x a).mpr (Or.inr ⟨ha, rfl, rfl, Or.inl ⟨rfl, rfl⟩⟩)) (pa_LG_t (pa_LG_m mono i2) (key k m j i1 i3))
theorem pa_ps {s0 e0 : Nat} {Q : Nat → Nat → Nat → Prop} (ne : s0 ≠ e0) (n0 : ∀ w a t b, ¬ M w s0 a t b) (n1 : ∀ w a t b, ¬ M w e0 a t b)
    (hM : ∀ w s a t b, M' w s a t b ↔ (M w s a t b ∨ (s = s0 ∧ t = e0 ∧ Q a b w)))
    {a n b : Nat} : pa_LG M' s0 a n e0 b ↔ Q a b n := by
  constructor
  · rintro ⟨k, hk⟩
    cases k with
    | zero => exact absurd hk.1 ne
    | succ k =>
      obtain ⟨w, u, c, n', g1, g2, g3⟩ := hk
      rcases (hM _ _ _ _ _).mp g1 with g | ⟨z1, z2, z3⟩
      · exact absurd g (n0 _ _ _ _)
      · rw [z2] at g2
        cases k with
        | zero =>
          obtain ⟨y1, y2, y3⟩ := g2
          rw [g3, y3, ← y2]
          exact z3
        | succ k =>
          obtain ⟨w', u', c', n'', h1, h2, h3⟩ := g2
          rcases (hM _ _ _ _ _).mp h1 with g | ⟨x1, x2, x3⟩
          · exact absurd g (n1 _ _ _ _)
          · exact absurd x1.symm ne
  · intro h
    exact pa_LG_1 ((hM n s0 a e0 b).mpr (Or.inr ⟨rfl, rfl, h⟩))
end
end
section
/-! ===== the automaton's moves; each state belongs to a level of the stack; the language of each level ===== -/
def pa_up (f : Nat → Nat) (k x : Nat) : Nat → Nat := fun j => if j = k then x else f j
theorem pa_us {f : Nat → Nat} {k x : Nat} : pa_up f k x k = x := if_pos rfl
theorem pa_ut {f : Nat → Nat} {k j x : Nat} (h : j = k) : pa_up f k x j = x := if_pos h
theorem pa_uf {f : Nat → Nat} {k j x : Nat} (h : j ≠ k) : pa_up f k x j = f j := if_neg h
/-- what one move of kind k does: from node a to node b at cost w -/
def pa_kr (E : Nat → Nat → Nat → Prop) (k a b w : Nat) : Prop := a < 8 ∧ b < 8 ∧ ((w = 0 ∧ a = b ∧ (k = 6 ∨ k = 7 + a)) ∨ (w = 1 ∧ k < 3 ∧ E k a b) ∨ (w = 1 ∧ 3 ≤ k ∧ k < 6 ∧ E (k - 3) b a))
def pa_Mv (E : Nat → Nat → Nat → Prop) (mv : Nat) (K F T : Nat → Nat) (w s a t b : Nat) : Prop := ∃ m, m < mv ∧ F m = s ∧ T m = t ∧ pa_kr E (K m) a b w
def pa_NF (h ns mv : Nat) (K F T st en O : Nat → Nat) : Prop :=
  (∀ m, m < mv → K m < 15 ∧ F m < ns ∧ T m < ns ∧ O (F m) = O (T m)) ∧ (∀ l, l < h → st l < ns ∧ en l < ns ∧ O (st l) = l ∧ O (en l) = l) ∧ (∀ s, s < ns → O s < h)
def pa_FR (E : Nat → Nat → Nat → Prop) (h mv : Nat) (K F T st en : Nat → Nat) (S : Nat → Nat → Nat → Nat → Prop) : Prop :=
  ∀ l a b n, l < h → a < 8 → b < 8 → (pa_LG (pa_Mv E mv K F T) (st l) a n (en l) b ↔ S l a b n)
theorem pa_kr6 {E : Nat → Nat → Nat → Prop} {a b w : Nat} : pa_kr E 6 a b w ↔ (a < 8 ∧ w = 0 ∧ a = b) := by
  unfold pa_kr
  constructor
  · rintro ⟨h1, h2, ⟨h3, h4, h5⟩ | ⟨h3, h4, h5⟩ | ⟨h3, h4, h5, h6⟩⟩
    · exact ⟨h1, h3, h4⟩
    · omega
    · omega
  · rintro ⟨h1, h2, h3⟩
    exact ⟨h1, by omega, Or.inl ⟨h2, h3, Or.inl rfl⟩⟩
theorem pa_Mv_1 {E : Nat → Nat → Nat → Prop} {mv : Nat} {K F T : Nat → Nat} (k x y : Nat) (w s a t b : Nat) :
    pa_Mv E (mv + 1) (pa_up K mv k) (pa_up F mv x) (pa_up T mv y) w s a t b ↔ (pa_Mv E mv K F T w s a t b ∨ (s = x ∧ t = y ∧ pa_kr E k a b w)) := by
  constructor
  · rintro ⟨m, h1, h2, h3, h4⟩
    by_cases e : m = mv
    · rw [pa_ut e] at h2 h3 h4
      exact Or.inr ⟨h2.symm, h3.symm, h4⟩
    · rw [pa_uf e] at h2 h3 h4
      exact Or.inl ⟨m, by omega, h2, h3, h4⟩
  · rintro (⟨m, h1, h2, h3, h4⟩ | ⟨h2, h3, h4⟩)
    · have e : m ≠ mv := by omega
      exact ⟨m, by omega, by rw [pa_uf e]; exact h2, by rw [pa_uf e]; exact h3, by rw [pa_uf e]; exact h4⟩
    · exact ⟨mv, by omega, by rw [pa_us]; exact h2.symm, by rw [pa_us]; exact h3.symm, by rw [pa_us]; exact h4⟩
/-- a silent move more -/
theorem pa_Mv_6 {E : Nat → Nat → Nat → Prop} {mv : Nat} {K F T : Nat → Nat} (x y : Nat) (w s a t b : Nat) :
    pa_Mv E (mv + 1) (pa_up K mv 6) (pa_up F mv x) (pa_up T mv y) w s a t b ↔ (pa_Mv E mv K F T w s a t b ∨ (a < 8 ∧ w = 0 ∧ a = b ∧ s = x ∧ t = y)) := by
  rw [pa_Mv_1, pa_kr6]
  constructor
  · rintro (h | ⟨h1, h2, h3, h4, h5⟩)
    · exact Or.inl h
    · exact Or.inr ⟨h3, h4, h5, h1, h2⟩
  · rintro (h | ⟨h3, h4, h5, h1, h2⟩)
    · exact Or.inl h
    · exact Or.inr ⟨h1, h2, h3, h4, h5⟩
/-- four silent moves more -/
theorem pa_Mv_4 {E : Nat → Nat → Nat → Prop} {mv : Nat} {K F T : Nat → Nat} (x1 y1 x2 y2 x3 y3 x4 y4 : Nat) (w s a t b : Nat) :
    pa_Mv E (mv + 4) (pa_up (pa_up (pa_up (pa_up K mv 6) (mv + 1) 6) (mv + 2) 6) (mv + 3) 6) (pa_up (pa_up (pa_up (pa_up F mv x1) (mv + 1) x2) (mv + 2) x3) (mv + 3) x4)
      (pa_up (pa_up (pa_up (pa_up T mv y1) (mv + 1) y2) (mv + 2) y3) (mv + 3) y4) w s a t b ↔
    (pa_Mv E mv K F T w s a t b ∨ (a < 8 ∧ w = 0 ∧ a = b ∧ ((s = x1 ∧ t = y1) ∨ (s = x2 ∧ t = y2) ∨ (s = x3 ∧ t = y3) ∨ (s = x4 ∧ t = y4)))) := by
  rw [show mv + 4 = mv + 3 + 1 from rfl, pa_Mv_6, show mv + 3 = mv + 2 + 1 from rfl, pa_Mv_6, show mv + 2 = mv + 1 + 1 from rfl, pa_Mv_6, pa_Mv_6]
  constructor
  · rintro ((((h | h) | h) | h) | h)
    · exact Or.inl h
    · exact Or.inr ⟨h.1, h.2.1, h.2.2.1, Or.inl h.2.2.2⟩
    · exact Or.inr ⟨h.1, h.2.1, h.2.2.1, Or.inr (Or.inl h.2.2.2)⟩
    · exact Or.inr ⟨h.1, h.2.1, h.2.2.1, Or.inr (Or.inr (Or.inl h.2.2.2))⟩
    · exact Or.inr ⟨h.1, h.2.1, h.2.2.1, Or.inr (Or.inr (Or.inr h.2.2.2))⟩
  · rintro (h | ⟨h1, h2, h3, h | h | h | h⟩)
    · exact Or.inl (Or.inl (Or.inl (Or.inl h)))
    · exact Or.inl (Or.inl (Or.inl (Or.inr ⟨h1, h2, h3, h⟩)))
    · exact Or.inl (Or.inl (Or.inr ⟨h1, h2, h3, h⟩))
    · exact Or.inl (Or.inr ⟨h1, h2, h3, h⟩)
    · exact Or.inr ⟨h1, h2, h3, h⟩
section
variable {E : Nat → Nat → Nat → Prop} {h ns mv : Nat} {K F T st en O : Nat → Nat} {S : Nat → Nat → Nat → Nat → Prop}
theorem pa_Mv_i (N : pa_NF h ns mv K F T st en O) {w s a t b : Nat} (g : pa_Mv E mv K F T w s a t b) : s < ns ∧ t < ns ∧ O s = O t ∧ b < 8 := by
  obtain ⟨m, h1, h2, h3, h4⟩ := g
  have q := N.1 m h1
  rw [h2, h3] at q
  exact ⟨q.2.1, q.2.2.1, q.2.2.2, h4.2.1⟩
theorem pa_Mv_n (N : pa_NF h ns mv K F T st en O) {x : Nat} (hx : ns ≤ x) (w a t b : Nat) : ¬ pa_Mv E mv K F T w x a t b := by
  intro g
  have := (pa_Mv_i N g).1
  omega
theorem pa_Mv_o (N : pa_NF h ns mv K F T st en O) (l : Nat) (w s a t b : Nat) (q : s < ns ∧ O s = l) (g : pa_Mv E mv K F T w s a t b) : t < ns ∧ O t = l := by
  have := pa_Mv_i N g
  omega
/-- the level l keeps its language when the new moves all begin elsewhere -/
theorem pa_keep {M' : Nat → Nat → Nat → Nat → Nat → Prop} (N : pa_NF h ns mv K F T st en O) {l : Nat} (hl : l < h)
    (hm : ∀ w s a t b, pa_Mv E mv K F T w s a t b → M' w s a t b)
    (hM : ∀ w s a t b, s < ns → O s = l → M' w s a t b → pa_Mv E mv K F T w s a t b) {a n b : Nat} :
    pa_LG M' (st l) a n (en l) b ↔ pa_LG (pa_Mv E mv K F T) (st l) a n (en l) b := by
  have q := N.2.1 l hl
  refine ⟨fun g => ?_, fun g => pa_LG_m hm g⟩
  refine pa_LG_o (M := pa_Mv E mv K F T) (fun s => s < ns ∧ O s = l) (fun w s a t b z g => ?_) ⟨q.1, q.2.2.1⟩ g
  have g' := hM w s a t b z.1 z.2 g
  exact ⟨g', pa_Mv_o N l w s a t b z g'⟩
theorem pa_NF_push (N : pa_NF h ns mv K F T st en O) {c : Nat} (hc : c < 15) :
    pa_NF (h + 1) (ns + 2) (mv + 1) (pa_up K mv c) (pa_up F mv ns) (pa_up T mv (ns + 1)) (pa_up st h ns) (pa_up en h (ns + 1)) (fun s => if s < ns then O s else h) := by
  obtain ⟨N1, N2, N3⟩ := N
  refine ⟨fun m hm => ?_, fun l hl => ?_, fun s hs => ?_⟩
  · by_cases e : m = mv
    · rw [pa_ut e, pa_ut e, pa_ut e]
      dsimp only
      rw [if_neg (by omega), if_neg (by omega)]
      exact ⟨hc, by omega, by omega, rfl⟩
    · rw [pa_uf e, pa_uf e, pa_uf e]
      have q := N1 m (by omega)
      dsimp only
      rw [if_pos q.2.1, if_pos q.2.2.1]
      exact ⟨q.1, by omega, by omega, q.2.2.2⟩
  · by_cases e : l = h
    · rw [pa_ut e, pa_ut e]
      dsimp only
      rw [if_neg (by omega), if_neg (by omega)]
      exact ⟨by omega, by omega, e.symm, e.symm⟩
    · rw [pa_uf e, pa_uf e]
      have q := N2 l (by omega)
      dsimp only
      rw [if_pos q.1, if_pos q.2.1]
      exact ⟨by omega, by omega, q.2.2⟩
  · dsimp only
    by_cases e : s < ns
    · rw [if_pos e]
      have := N3 s e
      omega
    · rw [if_neg e]
      omega
theorem pa_FR_push (N : pa_NF h ns mv K F T st en O) (R : pa_FR E h mv K F T st en S) (c : Nat) :
    pa_FR E (h + 1) (mv + 1) (pa_up K mv c) (pa_up F mv ns) (pa_up T mv (ns + 1)) (pa_up st h ns) (pa_up en h (ns + 1)) (fun l => if l = h then pa_kr E c else S l) := by
  intro l a b n hl ha hb
  by_cases e : l = h
  · rw [pa_ut e, pa_ut e]
    dsimp only
    rw [if_pos e]
    exact pa_ps (by omega) (pa_Mv_n N (Nat.le_refl _)) (pa_Mv_n N (by omega)) (fun w s a t b => pa_Mv_1 c ns (ns + 1) w s a t b)
  · rw [pa_uf e, pa_uf e]
    dsimp only
    rw [if_neg e, ← R l a b n (by omega) ha hb]
    refine pa_keep N (by omega) (fun w s a t b g => (pa_Mv_1 _ _ _ _ _ _ _ _).mpr (Or.inl g)) (fun w s a t b z1 z2 g => ?_)
    rcases (pa_Mv_1 _ _ _ _ _ _ _ _).mp g with g | ⟨g, -⟩
    · exact g
    · omega
theorem pa_NF_then (N : pa_NF (h + 2) ns mv K F T st en O) :
    pa_NF (h + 1) ns (mv + 1) (pa_up K mv 6) (pa_up F mv (en h)) (pa_up T mv (st (h + 1))) st (pa_up en h (en (h + 1))) (fun s => if O s = h + 1 then h else O s) := by
  obtain ⟨N1, N2, N3⟩ := N
  have q1 := N2 h (by omega)
  have q2 := N2 (h + 1) (by omega)
  refine ⟨fun m hm => ?_, fun l hl => ?_, fun s hs => ?_⟩
  · by_cases e : m = mv
    · rw [pa_ut e, pa_ut e, pa_ut e]
      dsimp only
      rw [if_neg (by omega), if_pos (by omega)]
      exact ⟨by omega, by omega, by omega, q1.2.2.2⟩
    · rw [pa_uf e, pa_uf e, pa_uf e]
      have q := N1 m (by omega)
      dsimp only
      rw [q.2.2.2]
      exact ⟨q.1, q.2.1, q.2.2.1, rfl⟩
  · by_cases e : l = h
    · rw [pa_ut e]
      dsimp only
      rw [if_pos q2.2.2.2, e, if_neg (by omega)]
      exact ⟨q1.1, q2.2.1, q1.2.2.1, rfl⟩
    · rw [pa_uf e]
      have q := N2 l (by omega)
      dsimp only
      rw [if_neg (by omega), if_neg (by omega)]
      exact q
  · have := N3 s hs
    dsimp only
    by_cases e : O s = h + 1
    · rw [if_pos e]
      omega
    · rw [if_neg e]
      omega
theorem pa_FR_then (N : pa_NF (h + 2) ns mv K F T st en O) (R : pa_FR E (h + 2) mv K F T st en S) :
    pa_FR E (h + 1) (mv + 1) (pa_up K mv 6) (pa_up F mv (en h)) (pa_up T mv (st (h + 1))) st (pa_up en h (en (h + 1))) (fun l => if l = h then pa_jn (S h) (S (h + 1)) else S l) := by
  intro l a b n hl ha hb
  have q1 := N.2.1 h (by omega)
  have q2 := N.2.1 (h + 1) (by omega)
  by_cases e : l = h
  · rw [pa_ut e, e]
    dsimp only
    rw [if_pos rfl]
    rw [pa_th (M := pa_Mv E mv K F T) (A := fun s => s < ns ∧ O s = h) (B := fun s => s < ns ∧ O s = h + 1) (e1 := en h) (s2 := st (h + 1)) (pa_Mv_o N h) (pa_Mv_o N (h + 1)) (fun s x y => by omega) ⟨q1.2.1, q1.2.2.2⟩ ⟨q2.1, q2.2.2.1⟩ ⟨q2.2.1, q2.2.2.2⟩
      (fun w s a t b g => (pa_Mv_i N g).2.2.2) (fun w s a t b => pa_Mv_6 _ _ w s a t b) ⟨q1.1, q1.2.2.1⟩ ha]
    constructor
    · rintro ⟨m, n1, n2, i1, i2, i3, i4⟩
      exact ⟨m, n1, n2, i1, (R h a m n1 (by omega) ha i1).mp i2, (R (h + 1) m b n2 (by omega) i1 hb).mp i3, i4⟩
    · rintro ⟨m, n1, n2, i1, i2, i3, i4⟩
      exact ⟨m, n1, n2, i1, (R h a m n1 (by omega) ha i1).mpr i2, (R (h + 1) m b n2 (by omega) i1 hb).mpr i3, i4⟩
  · rw [pa_uf e]
    dsimp only
    rw [if_neg e, ← R l a b n (by omega) ha hb]
    refine pa_keep N (by omega) (fun w s a t b g => (pa_Mv_6 _ _ _ _ _ _ _).mpr (Or.inl g)) (fun w s a t b z1 z2 g => ?_)
    rcases (pa_Mv_6 _ _ _ _ _ _ _).mp g with g | ⟨-, -, -, g, -⟩
    · exact g
    · rw [g] at z2
      omega
theorem pa_NF_or (N : pa_NF (h + 2) ns mv K F T st en O) :
    pa_NF (h + 1) (ns + 2) (mv + 4) (pa_up (pa_up (pa_up (pa_up K mv 6) (mv + 1) 6) (mv + 2) 6) (mv + 3) 6) (pa_up (pa_up (pa_up (pa_up F mv ns) (mv + 1) ns) (mv + 2) (en h)) (mv + 3) (en (h + 1)))
      (pa_up (pa_up (pa_up (pa_up T mv (st h)) (mv + 1) (st (h + 1))) (mv + 2) (ns + 1)) (mv + 3) (ns + 1)) (pa_up st h ns) (pa_up en h (ns + 1)) (fun s => if s < ns then (if O s = h + 1 then h else O s) else h) := by
  obtain ⟨N1, N2, N3⟩ := N
  have q1 := N2 h (by omega)
  have q2 := N2 (h + 1) (by omega)
  refine ⟨fun m hm => ?_, fun l hl => ?_, fun s hs => ?_⟩
  · by_cases e3 : m = mv + 3
    · rw [pa_ut e3, pa_ut e3, pa_ut e3]
      dsimp only
      rw [if_pos q2.2.1, if_pos q2.2.2.2, if_neg (by omega)]
      exact ⟨by omega, by omega, by omega, rfl⟩
    · rw [pa_uf e3, pa_uf e3, pa_uf e3]
      by_cases e2 : m = mv + 2
      · rw [pa_ut e2, pa_ut e2, pa_ut e2]
        dsimp only
        rw [if_pos q1.2.1, if_neg (by omega), if_neg (by omega)]
        exact ⟨by omega, by omega, by omega, q1.2.2.2⟩
      · rw [pa_uf e2, pa_uf e2, pa_uf e2]
        by_cases e1 : m = mv + 1
        · rw [pa_ut e1, pa_ut e1, pa_ut e1]
          dsimp only
          rw [if_neg (by omega), if_pos q2.1, if_pos q2.2.2.1]
          exact ⟨by omega, by omega, by omega, rfl⟩
        · rw [pa_uf e1, pa_uf e1, pa_uf e1]
          by_cases e : m = mv
          · rw [pa_ut e, pa_ut e, pa_ut e]
            dsimp only
            rw [if_neg (by omega), if_pos q1.1, if_neg (by omega)]
            exact ⟨by omega, by omega, by omega, q1.2.2.1.symm⟩
          · rw [pa_uf e, pa_uf e, pa_uf e]
            have q := N1 m (by omega)
            dsimp only
            rw [if_pos q.2.1, if_pos q.2.2.1, q.2.2.2]
            exact ⟨q.1, by omega, by omega, rfl⟩
  · by_cases e : l = h
    · rw [pa_ut e, pa_ut e]
      dsimp only
      rw [if_neg (by omega), if_neg (by omega)]
      exact ⟨by omega, by omega, e.symm, e.symm⟩
    · rw [pa_uf e, pa_uf e]
      have q := N2 l (by omega)
      dsimp only
      rw [if_pos q.1, if_pos q.2.1, if_neg (by omega), if_neg (by omega)]
      exact ⟨by omega, by omega, q.2.2⟩
  · dsimp only
    by_cases e : s < ns
    · rw [if_pos e]
      have := N3 s e
      by_cases e' : O s = h + 1
      · rw [if_pos e']
        omega
      · rw [if_neg e']
        omega
    · rw [if_neg e]
      omega
theorem pa_FR_or (N : pa_NF (h + 2) ns mv K F T st en O) (R : pa_FR E (h + 2) mv K F T st en S) :
    pa_FR E (h + 1) (mv + 4) (pa_up (pa_up (pa_up (pa_up K mv 6) (mv + 1) 6) (mv + 2) 6) (mv + 3) 6) (pa_up (pa_up (pa_up (pa_up F mv ns) (mv + 1) ns) (mv + 2) (en h)) (mv + 3) (en (h + 1)))
      (pa_up (pa_up (pa_up (pa_up T mv (st h)) (mv + 1) (st (h + 1))) (mv + 2) (ns + 1)) (mv + 3) (ns + 1)) (pa_up st h ns) (pa_up en h (ns + 1)) (fun l => if l = h then pa_un (S h) (S (h + 1)) else S l) := by
  intro l a b n hl ha hb
  have q1 := N.2.1 h (by omega)
  have q2 := N.2.1 (h + 1) (by omega)
  by_cases e : l = h
  · rw [pa_ut e, pa_ut e]
    dsimp only
    rw [if_pos e]
    rw [pa_al (M := pa_Mv E mv K F T) (A := fun s => s < ns ∧ O s = h) (B := fun s => s < ns ∧ O s = h + 1) (s1 := st h) (e1 := en h) (s2 := st (h + 1)) (e2 := en (h + 1)) (pa_Mv_o N h) (pa_Mv_o N (h + 1)) (fun s x y => by omega)
      ⟨q1.1, q1.2.2.1⟩ ⟨q1.2.1, q1.2.2.2⟩ ⟨q2.1, q2.2.2.1⟩ ⟨q2.2.1, q2.2.2.2⟩ (fun z => by omega) (fun z => by omega) (fun z => by omega) (fun z => by omega) (by omega)
      (pa_Mv_n N (Nat.le_refl _)) (pa_Mv_n N (by omega)) (fun w s a t b g => (pa_Mv_i N g).2.2.2) (fun w s a t b => pa_Mv_4 _ _ _ _ _ _ _ _ w s a t b) ha]
    rw [R h a b n (by omega) ha hb, R (h + 1) a b n (by omega) ha hb]
    exact Iff.rfl
  · rw [pa_uf e, pa_uf e]
    dsimp only
    rw [if_neg e, ← R l a b n (by omega) ha hb]
    refine pa_keep N (by omega) (fun w s a t b g => (pa_Mv_4 _ _ _ _ _ _ _ _ _ _ _ _ _).mpr (Or.inl g)) (fun w s a t b z1 z2 g => ?_)
    rcases (pa_Mv_4 _ _ _ _ _ _ _ _ _ _ _ _ _).mp g with g | ⟨-, -, -, ⟨g, -⟩ | ⟨g, -⟩ | ⟨g, -⟩ | ⟨g, -⟩⟩
    · exact g
    · omega
    · omega
    · rw [g] at z2
      omega
    · rw [g] at z2
      omega
theorem pa_NF_star (N : pa_NF (h + 1) ns mv K F T st en O) :
    pa_NF (h + 1) (ns + 2) (mv + 4) (pa_up (pa_up (pa_up (pa_up K mv 6) (mv + 1) 6) (mv + 2) 6) (mv + 3) 6) (pa_up (pa_up (pa_up (pa_up F mv ns) (mv + 1) (en h)) (mv + 2) (en h)) (mv + 3) ns)
      (pa_up (pa_up (pa_up (pa_up T mv (st h)) (mv + 1) (ns + 1)) (mv + 2) (st h)) (mv + 3) (ns + 1)) (pa_up st h ns) (pa_up en h (ns + 1)) (fun s => if s < ns then O s else h) := by
  obtain ⟨N1, N2, N3⟩ := N
  have q1 := N2 h (by omega)
  refine ⟨fun m hm => ?_, fun l hl => ?_, fun s hs => ?_⟩
  · by_cases e3 : m = mv + 3
    · rw [pa_ut e3, pa_ut e3, pa_ut e3]
      dsimp only
      rw [if_neg (by omega), if_neg (by omega)]
      exact ⟨by omega, by omega, by omega, rfl⟩
    · rw [pa_uf e3, pa_uf e3, pa_uf e3]
      by_cases e2 : m = mv + 2
      · rw [pa_ut e2, pa_ut e2, pa_ut e2]
        dsimp only
        rw [if_pos q1.2.1, if_pos q1.1]
        exact ⟨by omega, by omega, by omega, q1.2.2.2.trans q1.2.2.1.symm⟩
      · rw [pa_uf e2, pa_uf e2, pa_uf e2]
        by_cases e1 : m = mv + 1
        · rw [pa_ut e1, pa_ut e1, pa_ut e1]
          dsimp only
          rw [if_pos q1.2.1, if_neg (by omega)]
          exact ⟨by omega, by omega, by omega, q1.2.2.2⟩
        · rw [pa_uf e1, pa_uf e1, pa_uf e1]
          by_cases e : m = mv
          · rw [pa_ut e, pa_ut e, pa_ut e]
            dsimp only
            rw [if_neg (by omega), if_pos q1.1]
            exact ⟨by omega, by omega, by omega, q1.2.2.1.symm⟩
          · rw [pa_uf e, pa_uf e, pa_uf e]
            have q := N1 m (by omega)
            dsimp only
            rw [if_pos q.2.1, if_pos q.2.2.1]
            exact ⟨q.1, by omega, by omega, q.2.2.2⟩
  · by_cases e : l = h
    · rw [pa_ut e, pa_ut e]
      dsimp only
      rw [if_neg (by omega), if_neg (by omega)]
      exact ⟨by omega, by omega, e.symm, e.symm⟩
    · rw [pa_uf e, pa_uf e]
      have q := N2 l (by omega)
      dsimp only
      rw [if_pos q.1, if_pos q.2.1]
      exact ⟨by omega, by omega, q.2.2⟩
  · dsimp only
    by_cases e : s < ns
    · rw [if_pos e]
      exact N3 s e
    · rw [if_neg e]
      omega
theorem pa_FR_star (N : pa_NF (h + 1) ns mv K F T st en O) (R : pa_FR E (h + 1) mv K F T st en S) :
    pa_FR E (h + 1) (mv + 4) (pa_up (pa_up (pa_up (pa_up K mv 6) (mv + 1) 6) (mv + 2) 6) (mv + 3) 6) (pa_up (pa_up (pa_up (pa_up F mv ns) (mv + 1) (en h)) (mv + 2) (en h)) (mv + 3) ns)
      (pa_up (pa_up (pa_up (pa_up T mv (st h)) (mv + 1) (ns + 1)) (mv + 2) (st h)) (mv + 3) (ns + 1)) (pa_up st h ns) (pa_up en h (ns + 1)) (fun l => if l = h then pa_sr (S h) else S l) := by
  intro l a b n hl ha hb
  have q1 := N.2.1 h (by omega)
  by_cases e : l = h
  · rw [pa_ut e, pa_ut e]
    dsimp only
    rw [if_pos e]
    rw [pa_ks (M := pa_Mv E mv K F T) (A := fun s => s < ns ∧ O s = h) (x := st h) (y := en h) (pa_Mv_o N h)
      ⟨q1.1, q1.2.2.1⟩ ⟨q1.2.1, q1.2.2.2⟩ (fun z => by omega) (fun z => by omega) (by omega)
      (pa_Mv_n N (Nat.le_refl _)) (pa_Mv_n N (by omega)) (fun w s a t b g => (pa_Mv_i N g).2.2.2) (fun w s a t b => pa_Mv_4 _ _ _ _ _ _ _ _ w s a t b) ha]
    exact ⟨fun g => pa_sr_g (fun x y m hx hy z => (R h x y m (by omega) hx hy).mp z) ha g, fun g => pa_sr_g (fun x y m hx hy z => (R h x y m (by omega) hx hy).mpr z) ha g⟩
  · rw [pa_uf e, pa_uf e]
    dsimp only
    rw [if_neg e, ← R l a b n (by omega) ha hb]
    refine pa_keep N (by omega) (fun w s a t b g => (pa_Mv_4 _ _ _ _ _ _ _ _ _ _ _ _ _).mpr (Or.inl g)) (fun w s a t b z1 z2 g => ?_)
    rcases (pa_Mv_4 _ _ _ _ _ _ _ _ _ _ _ _ _).mp g with g | ⟨-, -, -, ⟨g, -⟩ | ⟨g, -⟩ | ⟨g, -⟩ | ⟨g, -⟩⟩
    · exact g
    · omega
    · rw [g] at z2
      omega
    · rw [g] at z2
      omega
    · omega
end
end
section
/-! ===== tables of least lengths: v is the least n with R n, 100000 if there is none below ===== -/
def pa_TB (v : Nat) (R : Nat → Prop) : Prop := v ≤ 100000 ∧ (v < 100000 → R v) ∧ ∀ n, R n → v ≤ n
theorem pa_TB_u {v v' : Nat} {R : Nat → Prop} (h : pa_TB v R) (h' : pa_TB v' R) : v = v' := by
  obtain ⟨a1, a2, a3⟩ := h
  obtain ⟨b1, b2, b3⟩ := h'
  rcases Nat.lt_trichotomy v v' with q | q | q
  · have := b3 v (a2 (by omega))
    omega
  · exact q
  · have := a3 v' (b2 (by omega))
    omega
def pa_tm (D : Nat → Nat) (R : Nat → Nat → Nat → Prop) : Prop := ∀ p, p < 64 → pa_TB (D p) (R (p / 8) (p % 8))
theorem pa_tm_2 {D : Nat → Nat} {R : Nat → Nat → Nat → Prop} (h : pa_tm D R) {a b : Nat} (ha : a < 8) (hb : b < 8) : pa_TB (D (a * 8 + b)) (R a b) := by
  have q := h (a * 8 + b) (by omega)
  rwa [show (a * 8 + b) / 8 = a from by omega, show (a * 8 + b) % 8 = b from by omega] at q
theorem pa_tm_g {D D' : Nat → Nat} {R : Nat → Nat → Nat → Prop} (h : pa_tm D R) (e : ∀ p, p < 64 → D' p = D p) : pa_tm D' R := by
  intro p hp
  rw [e p hp]
  exact h p hp
/-- the printed least -/
def pa_ls (a b : Nat) : Nat := if b ≤ a then b else a
theorem pa_ls_i (a b : Nat) : pa_ls a b ≤ a ∧ pa_ls a b ≤ b ∧ (pa_ls a b = a ∨ pa_ls a b = b) := by
  unfold pa_ls
  by_cases h : b ≤ a
  · rw [if_pos h]
    omega
  · rw [if_neg h]
    omega
def pa_mn (x y : Nat → Nat) : Nat → Nat
  | 0 => 100000
  | m + 1 => pa_ls (pa_mn x y m) (x m + y m)
theorem pa_mn_i (x y : Nat → Nat) : ∀ k, pa_mn x y k ≤ 100000 ∧ (∀ m, m < k → pa_mn x y k ≤ x m + y m) ∧ (pa_mn x y k = 100000 ∨ ∃ m, m < k ∧ pa_mn x y k = x m + y m) := by
  intro k
  induction k with
  | zero => exact ⟨Nat.le_refl _, fun m hm => by omega, Or.inl rfl⟩
  | succ k ih =>
    obtain ⟨i1, i2, i3⟩ := ih
    have q := pa_ls_i (pa_mn x y k) (x k + y k)
    show pa_ls (pa_mn x y k) (x k + y k) ≤ 100000 ∧ (∀ m, m < k + 1 → pa_ls (pa_mn x y k) (x k + y k) ≤ x m + y m) ∧ (pa_ls (pa_mn x y k) (x k + y k) = 100000 ∨ ∃ m, m < k + 1 ∧ pa_ls (pa_mn x y k) (x k + y k) = x m + y m)
    refine ⟨by omega, fun m hm => ?_, ?_⟩
    · by_cases e : m = k
      · rw [e]
        omega
      · have := i2 m (by omega)
        omega
    · rcases q.2.2 with z | z
      · rcases i3 with j | ⟨m, j1, j2⟩
        · exact Or.inl (z.trans j)
        · exact Or.inr ⟨m, by omega, z.trans j2⟩
      · exact Or.inr ⟨k, by omega, z⟩
def pa_jt (D1 D2 : Nat → Nat) (p : Nat) : Nat := pa_mn (fun m => D1 (p / 8 * 8 + m)) (fun m => D2 (m * 8 + p % 8)) 8
theorem pa_jt_ok {D1 D2 : Nat → Nat} {R1 R2 : Nat → Nat → Nat → Prop} (h1 : pa_tm D1 R1) (h2 : pa_tm D2 R2) : pa_tm (pa_jt D1 D2) (pa_jn R1 R2) := by
  intro p hp
  obtain ⟨i1, i2, i3⟩ := pa_mn_i (fun m => D1 (p / 8 * 8 + m)) (fun m => D2 (m * 8 + p % 8)) 8
  refine ⟨i1, fun hv => ?_, fun n hn => ?_⟩
  · rcases i3 with z | ⟨m, z1, z2⟩
    · exact absurd (show pa_jt D1 D2 p = 100000 from z) (Nat.ne_of_lt hv)
    · have z3 : pa_jt D1 D2 p = D1 (p / 8 * 8 + m) + D2 (m * 8 + p % 8) := z2
      have q1 := pa_tm_2 h1 (a := p / 8) (b := m) (by omega) z1
      have q2 := pa_tm_2 h2 (a := m) (b := p % 8) z1 (by omega)
      rw [z3] at hv ⊢
      exact ⟨m, _, _, z1, q1.2.1 (by omega), q2.2.1 (by omega), rfl⟩
  · obtain ⟨m, n1, n2, z1, z2, z3, z4⟩ := hn
    have q1 := (pa_tm_2 h1 (a := p / 8) (b := m) (by omega) z1).2.2 _ z2
    have q2 := (pa_tm_2 h2 (a := m) (b := p % 8) z1 (by omega)).2.2 _ z3
    have z5 : pa_jt D1 D2 p ≤ D1 (p / 8 * 8 + m) + D2 (m * 8 + p % 8) := i2 m z1
    omega
theorem pa_ut_ok {D1 D2 : Nat → Nat} {R1 R2 : Nat → Nat → Nat → Prop} (h1 : pa_tm D1 R1) (h2 : pa_tm D2 R2) : pa_tm (fun p => pa_ls (D1 p) (D2 p)) (pa_un R1 R2) := by
  intro p hp
  obtain ⟨a1, a2, a3⟩ := h1 p hp
  obtain ⟨b1, b2, b3⟩ := h2 p hp
  have q := pa_ls_i (D1 p) (D2 p)
  refine ⟨?_, fun hv => ?_, fun n hn => ?_⟩
  · show pa_ls (D1 p) (D2 p) ≤ 100000
    omega
  · have hv' : pa_ls (D1 p) (D2 p) < 100000 := hv
    show pa_un R1 R2 (p / 8) (p % 8) (pa_ls (D1 p) (D2 p))
    rcases q.2.2 with z | z
    · rw [z] at hv' ⊢
      exact Or.inl (a2 hv')
    · rw [z] at hv' ⊢
      exact Or.inr (b2 hv')
  · show pa_ls (D1 p) (D2 p) ≤ n
    rcases hn with z | z
    · have := a3 n z
      omega
    · have := b3 n z
      omega
/-! the closure: one pass a node -/
def pa_dg (D : Nat → Nat) (p : Nat) : Nat := if p / 8 = p % 8 then 0 else D p
def pa_fs (m : Nat) (D : Nat → Nat) (p : Nat) : Nat := pa_ls (D p) (D (p / 8 * 8 + m) + D (m * 8 + p % 8))
def pa_fw (D : Nat → Nat) : Nat → Nat → Nat
  | 0 => pa_dg D
  | m + 1 => pa_fs m (pa_fw D m)
theorem pa_fs_2 (m : Nat) (D : Nat → Nat) {a b : Nat} (hb : b < 8) : pa_fs m D (a * 8 + b) = pa_ls (D (a * 8 + b)) (D (a * 8 + m) + D (m * 8 + b)) := by
  unfold pa_fs
  rw [show (a * 8 + b) / 8 = a from by omega, show (a * 8 + b) % 8 = b from by omega]
/-- a pass changes neither the row nor the column of its node -/
theorem pa_fs_c (m : Nat) (D : Nat → Nat) (hm : m < 8) (a : Nat) : pa_fs m D (a * 8 + m) = D (a * 8 + m) := by
  rw [pa_fs_2 m D hm]
  unfold pa_ls
  by_cases h : D (a * 8 + m) + D (m * 8 + m) ≤ D (a * 8 + m)
  · rw [if_pos h]
    omega
  · rw [if_neg h]
theorem pa_fs_r (m : Nat) (D : Nat → Nat) {b : Nat} (hb : b < 8) : pa_fs m D (m * 8 + b) = D (m * 8 + b) := by
  rw [pa_fs_2 m D hb]
  unfold pa_ls
  by_cases h : D (m * 8 + m) + D (m * 8 + b) ≤ D (m * 8 + b)
  · rw [if_pos h]
    omega
  · rw [if_neg h]
theorem pa_fw_s {D : Nat → Nat} {R : Nat → Nat → Nat → Prop} (h : pa_tm D R) : ∀ k, k ≤ 8 → ∀ p, p < 64 → pa_fw D k p ≤ 100000 ∧ (pa_fw D k p < 100000 → pa_sr R (p / 8) (p % 8) (pa_fw D k p)) ∧ pa_fw D k p ≤ pa_dg D p := by
  intro k
  induction k with
  | zero =>
    intro _ p hp
    show pa_dg D p ≤ 100000 ∧ (pa_dg D p < 100000 → pa_sr R (p / 8) (p % 8) (pa_dg D p)) ∧ pa_dg D p ≤ pa_dg D p
    unfold pa_dg
    by_cases e : p / 8 = p % 8
    · rw [if_pos e]
      refine ⟨by omega, fun _ => ?_, by omega⟩
      rw [e]
      exact pa_sr_0 _
    · rw [if_neg e]
      obtain ⟨a1, a2, a3⟩ := h p hp
      refine ⟨a1, fun hv => ?_, by omega⟩
      exact pa_sr_c (n2 := 0) (by omega) (a2 hv) (pa_sr_0 _)
  | succ k ih =>
    intro hk p hp
    have I := ih (by omega)
    have q := pa_ls_i (pa_fw D k p) (pa_fw D k (p / 8 * 8 + k) + pa_fw D k (k * 8 + p % 8))
    have e : pa_fw D (k + 1) p = pa_ls (pa_fw D k p) (pa_fw D k (p / 8 * 8 + k) + pa_fw D k (k * 8 + p % 8)) := rfl
    rw [← e] at q
    have I1 := I p hp
    refine ⟨by omega, fun hv => ?_, by omega⟩
    rcases q.2.2 with z | z
    · rw [z] at hv ⊢
      exact I1.2.1 hv
    · rw [z] at hv ⊢
      have I2 := (I (p / 8 * 8 + k) (by omega)).2.1 (by omega)
      have I3 := (I (k * 8 + p % 8) (by omega)).2.1 (by omega)
      rw [show (p / 8 * 8 + k) / 8 = p / 8 from by omega, show (p / 8 * 8 + k) % 8 = k from by omega] at I2
      rw [show (k * 8 + p % 8) / 8 = k from by omega, show (k * 8 + p % 8) % 8 = p % 8 from by omega] at I3
      exact pa_sr_t I2 I3
theorem pa_tri {ab ak kb am mb km mk ab' am' mb' : Nat} (h1 : ab' ≤ ab) (h2 : ab' ≤ ak + kb) (h3 : am' = am ∨ am' = ak + km) (h4 : mb' = mb ∨ mb' = mk + kb)
    (t1 : ab ≤ am + mb) (t2 : ak ≤ am + mk) (t3 : kb ≤ km + mb) : ab' ≤ am' + mb' := by
  omega
theorem pa_fw_t (D : Nat → Nat) : ∀ k, k ≤ 8 → ∀ m a b, m < k → a < 8 → b < 8 → pa_fw D k (a * 8 + b) ≤ pa_fw D k (a * 8 + m) + pa_fw D k (m * 8 + b) := by
  intro k
  induction k with
  | zero =>
    intro _ m a b hm
    omega
  | succ k ih =>
    intro hk m a b hm ha hb
    have I := ih (by omega)
    have e : ∀ x y, y < 8 → pa_fw D (k + 1) (x * 8 + y) = pa_ls (pa_fw D k (x * 8 + y)) (pa_fw D k (x * 8 + k) + pa_fw D k (k * 8 + y)) := fun x y hy => pa_fs_2 k (pa_fw D k) hy
    have q1 := pa_ls_i (pa_fw D k (a * 8 + b)) (pa_fw D k (a * 8 + k) + pa_fw D k (k * 8 + b))
    have q2 := pa_ls_i (pa_fw D k (a * 8 + m)) (pa_fw D k (a * 8 + k) + pa_fw D k (k * 8 + m))
    have q3 := pa_ls_i (pa_fw D k (m * 8 + b)) (pa_fw D k (m * 8 + k) + pa_fw D k (k * 8 + b))
    rw [e a b hb, e a m (by omega), e m b hb]
    by_cases z : m = k
    · rw [z] at q2 q3 ⊢
      omega
    · exact pa_tri q1.1 q1.2.1 q2.2.2 q3.2.2 (I m a b (by omega) ha hb) (I m a k (by omega) ha (by omega)) (I m k b (by omega) (by omega) hb)
theorem pa_fw_ok {D : Nat → Nat} {R : Nat → Nat → Nat → Prop} (h : pa_tm D R) : pa_tm (pa_fw D 8) (pa_sr R) := by
  have S := pa_fw_s h 8 (Nat.le_refl _)
  have key : ∀ k a b n, a < 8 → b < 8 → pa_SR R k a b n → pa_fw D 8 (a * 8 + b) ≤ n := by
    intro k
    induction k with
    | zero =>
      intro a b n ha hb g
      obtain ⟨g1, g2⟩ := g
      have s := (S (a * 8 + b) (by omega)).2.2
      unfold pa_dg at s
      rw [if_pos (by omega)] at s
      omega
    | succ k ih =>
      intro a b n ha hb g
      obtain ⟨m, n1, n2, g1, g2, g3, g4⟩ := g
      have I := ih m b n2 g1 hb g3
      have t := pa_fw_t D 8 (Nat.le_refl _) m a b g1 ha hb
      have s := (S (a * 8 + m) (by omega)).2.2
      have d := (pa_tm_2 h ha g1).2.2 n1 g2
      have d2 : pa_dg D (a * 8 + m) ≤ D (a * 8 + m) := by
        unfold pa_dg
        by_cases z : (a * 8 + m) / 8 = (a * 8 + m) % 8
        · rw [if_pos z]
          omega
        · rw [if_neg z]
          omega
      omega
  intro p hp
  obtain ⟨s1, s2, s3⟩ := S p hp
  refine ⟨s1, s2, fun n hn => ?_⟩
  obtain ⟨k, hk⟩ := hn
  have q := key k (p / 8) (p % 8) n (by omega) (by omega) hk
  rwa [show p / 8 * 8 + p % 8 = p from by omega] at q
/-! ===== what the steps mean: codes 0 .. 14 push a move of that kind, 15 then, 16 or, 17 star ===== -/
def pa_ht (c : Nat → Nat) : Nat → Nat
  | 0 => 0
  | i + 1 => if c i < 15 then pa_ht c i + 1 else if c i = 17 then pa_ht c i else pa_ht c i - 1
def pa_st (E : Nat → Nat → Nat → Prop) (c : Nat → Nat) : Nat → Nat → Nat → Nat → Nat → Prop
  | 0 => fun _ _ _ _ => False
  | i + 1 => if c i < 15 then (fun l => if l = pa_ht c i then pa_kr E (c i) else pa_st E c i l)
    else if c i = 15 then (fun l => if l = pa_ht c i - 2 then pa_jn (pa_st E c i (pa_ht c i - 2)) (pa_st E c i (pa_ht c i - 1)) else pa_st E c i l)
    else if c i = 16 then (fun l => if l = pa_ht c i - 2 then pa_un (pa_st E c i (pa_ht c i - 2)) (pa_st E c i (pa_ht c i - 1)) else pa_st E c i l)
    else (fun l => if l = pa_ht c i - 1 then pa_sr (pa_st E c i (pa_ht c i - 1)) else pa_st E c i l)
theorem pa_ht_g {c c' : Nat → Nat} : ∀ {i : Nat}, (∀ j, j < i → c' j = c j) → pa_ht c' i = pa_ht c i
  | 0, _ => rfl
  | i + 1, h => by
    show (if c' i < 15 then pa_ht c' i + 1 else if c' i = 17 then pa_ht c' i else pa_ht c' i - 1) = (if c i < 15 then pa_ht c i + 1 else if c i = 17 then pa_ht c i else pa_ht c i - 1)
    rw [h i (by omega), pa_ht_g (i := i) (fun j hj => h j (by omega))]
theorem pa_st_g {E : Nat → Nat → Nat → Prop} {c c' : Nat → Nat} : ∀ {i : Nat}, (∀ j, j < i → c' j = c j) → pa_st E c' i = pa_st E c i
  | 0, _ => rfl
  | i + 1, h => by
    have e1 := h i (by omega)
    have e2 := pa_ht_g (i := i) (c := c) (c' := c') (fun j hj => h j (by omega))
    have e3 := pa_st_g (E := E) (i := i) (c := c) (c' := c') (fun j hj => h j (by omega))
    unfold pa_st
    rw [e1, e2, e3]
/-- each step finds what it takes, and no more than six expressions stand -/
def pa_WF (c : Nat → Nat) (made : Nat) : Prop := ∀ i, i < made → c i ≤ 17 ∧ (c i < 15 → pa_ht c i < 6) ∧ (c i = 15 → 2 ≤ pa_ht c i) ∧ (c i = 16 → 2 ≤ pa_ht c i) ∧ (c i = 17 → 1 ≤ pa_ht c i)
theorem pa_ht_p {c : Nat → Nat} {i : Nat} (h : c i < 15) : pa_ht c (i + 1) = pa_ht c i + 1 := by
  show (if c i < 15 then pa_ht c i + 1 else if c i = 17 then pa_ht c i else pa_ht c i - 1) = _
  rw [if_pos h]
theorem pa_ht_m {c : Nat → Nat} {i : Nat} (h : c i = 15 ∨ c i = 16) : pa_ht c (i + 1) = pa_ht c i - 1 := by
  show (if c i < 15 then pa_ht c i + 1 else if c i = 17 then pa_ht c i else pa_ht c i - 1) = _
  rw [if_neg (by omega), if_neg (by omega)]
theorem pa_ht_s {c : Nat → Nat} {i : Nat} (h : c i = 17) : pa_ht c (i + 1) = pa_ht c i := by
  show (if c i < 15 then pa_ht c i + 1 else if c i = 17 then pa_ht c i else pa_ht c i - 1) = _
  rw [if_neg (by omega), if_pos h]
theorem pa_ht_6 {c : Nat → Nat} {made : Nat} (W : pa_WF c made) : ∀ i, i ≤ made → pa_ht c i ≤ 6 := by
  intro i
  induction i with
  | zero =>
    intro _
    exact Nat.zero_le _
  | succ i ih =>
    intro hi
    have I := ih (by omega)
    have w := W i (by omega)
    by_cases z : c i < 15
    · rw [pa_ht_p z]
      have := w.2.1 z
      omega
    · by_cases z2 : c i = 17
      · rw [pa_ht_s z2]
        exact I
      · rw [pa_ht_m (by omega)]
        omega
theorem pa_st_p {E : Nat → Nat → Nat → Prop} {c : Nat → Nat} {i : Nat} (h : c i < 15) : pa_st E c (i + 1) = (fun l => if l = pa_ht c i then pa_kr E (c i) else pa_st E c i l) := by
  rw [pa_st, if_pos h]
theorem pa_st_15 {E : Nat → Nat → Nat → Prop} {c : Nat → Nat} {i : Nat} (h : c i = 15) : pa_st E c (i + 1) = (fun l => if l = pa_ht c i - 2 then pa_jn (pa_st E c i (pa_ht c i - 2)) (pa_st E c i (pa_ht c i - 1)) else pa_st E c i l) := by
  rw [pa_st, if_neg (by omega), if_pos h]
theorem pa_st_16 {E : Nat → Nat → Nat → Prop} {c : Nat → Nat} {i : Nat} (h : c i = 16) : pa_st E c (i + 1) = (fun l => if l = pa_ht c i - 2 then pa_un (pa_st E c i (pa_ht c i - 2)) (pa_st E c i (pa_ht c i - 1)) else pa_st E c i l) := by
  rw [pa_st, if_neg (by omega), if_neg (by omega), if_pos h]
theorem pa_st_17 {E : Nat → Nat → Nat → Prop} {c : Nat → Nat} {i : Nat} (h : c i = 17) : pa_st E c (i + 1) = (fun l => if l = pa_ht c i - 1 then pa_sr (pa_st E c i (pa_ht c i - 1)) else pa_st E c i l) := by
  rw [pa_st, if_neg (by omega), if_neg (by omega), if_neg (by omega)]
end
section
/-! ===== the search, without the program: g p = 0: not reached, g p = d + 1: reached at length d; L the level's list, C the next one's ===== -/
theorem pa_ph : ∀ (m n : Nat) (f : Nat → Nat), (∀ i, i < n → f i < m) → (∀ i j, i < n → j < n → f i = f j → i = j) → n ≤ m := by
  intro m
  induction m with
  | zero =>
    intro n f h1 h2
    rcases Nat.eq_zero_or_pos n with z | z
    · omega
    · have := h1 0 z
      omega
  | succ m ih =>
    intro n f h1 h2
    cases n with
    | zero => omega
    | succ n =>
      have key := ih n (fun i => if f i = m then f n else f i) (fun i hi => ?_) (fun i j hi hj e => ?_)
      · omega
      · show (if f i = m then f n else f i) < m
        have a := h1 i (by omega)
        have b := h1 n (by omega)
        by_cases z : f i = m
        · rw [if_pos z]
          by_cases y : f n = m
          · have := h2 i n (by omega) (by omega) (z.trans y.symm)
            omega
          · omega
        · rw [if_neg z]
          omega
      · replace e : (if f i = m then f n else f i) = (if f j = m then f n else f j) := e
        by_cases z : f i = m
        · by_cases y : f j = m
          · exact h2 i j (by omega) (by omega) (z.trans y.symm)
          · rw [if_pos z, if_neg y] at e
            have := h2 n j (by omega) (by omega) e
            omega
        · by_cases y : f j = m
          · rw [if_neg z, if_pos y] at e
            have := h2 i n (by omega) (by omega) e
            omega
          · rw [if_neg z, if_neg y] at e
            exact h2 i j (by omega) (by omega) e
/-- one more than the listed ones -/
theorem pa_ph_1 {n m p : Nat} {f : Nat → Nat} (h1 : ∀ i, i < n → f i < m) (h2 : ∀ i j, i < n → j < n → f i = f j → i = j) (hp : p < m) (hn : ∀ i, i < n → f i ≠ p) : n + 1 ≤ m := by
  refine pa_ph m (n + 1) (pa_up f n p) (fun i hi => ?_) (fun i j hi hj e => ?_)
  · by_cases z : i = n
    · rw [pa_ut z]
      exact hp
    · rw [pa_uf z]
      exact h1 i (by omega)
  · by_cases z : i = n
    · by_cases y : j = n
      · omega
      · rw [pa_ut z, pa_uf y] at e
        exact absurd e.symm (hn j (by omega))
    · by_cases y : j = n
      · rw [pa_uf z, pa_ut y] at e
        exact absurd e (hn i (by omega))
      · rw [pa_uf z, pa_uf y] at e
        exact h2 i j (by omega) (by omega) e
section
variable {N : Nat → Nat → Nat → Prop} {Rch : Nat → Nat → Prop} {p0 : Nat}
def pa_I1 (N : Nat → Nat → Nat → Prop) (Rch : Nat → Nat → Prop) (p0 D B : Nat) (g : Nat → Nat) : Prop :=
  (∀ p d, p < 224 → g p = d + 1 → d ≤ D ∧ Rch d p) ∧ (∀ p d, p < 224 → g p = d + 1 → d < B → ∀ w q, N w p q → 1 ≤ g q ∧ g q ≤ d + 1 + w) ∧ (∀ d, d < D → ∃ p, p < 224 ∧ g p = d + 1) ∧ g p0 = 1
def pa_I2 (D here : Nat) (g L : Nat → Nat) : Prop :=
  (∀ j, j < here → L j < 224 ∧ g (L j) = D + 1) ∧ (∀ p, p < 224 → g p = D + 1 → ∃ j, j < here ∧ L j = p) ∧ (∀ i j, i < here → j < here → L i = L j → i = j)
def pa_I3 (Rch : Nat → Nat → Prop) (D next : Nat) (C : Nat → Nat) : Prop :=
  (∀ c, c < next → C c < 224 ∧ Rch (D + 1) (C c)) ∧ (∀ i j, i < next → j < next → C i = C j → i = j)
def pa_Dn (g : Nat → Nat) (next : Nat) (C : Nat → Nat) (w q : Nat) : Prop := 1 ≤ g q ∨ (w = 1 ∧ ∃ c, c < next ∧ C c = q)
def pa_Le (here next : Nat) (g L C : Nat → Nat) (here' next' : Nat) (g' L' C' : Nat → Nat) : Prop :=
  here ≤ here' ∧ next ≤ next' ∧ (∀ q, 1 ≤ g q → g' q = g q) ∧ (∀ j, j < here → L' j = L j) ∧ (∀ c, c < next → C' c = C c)
theorem pa_Le_r {here next : Nat} {g L C : Nat → Nat} : pa_Le here next g L C here next g L C := ⟨Nat.le_refl _, Nat.le_refl _, fun _ _ => rfl, fun _ _ => rfl, fun _ _ => rfl⟩
theorem pa_Le_t {h1 n1 h2 n2 h3 n3 : Nat} {g1 L1 C1 g2 L2 C2 g3 L3 C3 : Nat → Nat} (a : pa_Le h1 n1 g1 L1 C1 h2 n2 g2 L2 C2) (b : pa_Le h2 n2 g2 L2 C2 h3 n3 g3 L3 C3) : pa_Le h1 n1 g1 L1 C1 h3 n3 g3 L3 C3 := by
  obtain ⟨a1, a2, a3, a4, a5⟩ := a
  obtain ⟨b1, b2, b3, b4, b5⟩ := b
  refine ⟨by omega, by omega, fun q hq => ?_, fun j hj => ?_, fun c hc => ?_⟩
  · have e := a3 q hq
    rw [b3 q (by omega), e]
  · rw [b4 j (by omega), a4 j hj]
  · rw [b5 c (by omega), a5 c hc]
theorem pa_Dn_m {here next : Nat} {g L C : Nat → Nat} {here' next' : Nat} {g' L' C' : Nat → Nat} (l : pa_Le here next g L C here' next' g' L' C') {w q : Nat} (h : pa_Dn g next C w q) : pa_Dn g' next' C' w q := by
  obtain ⟨a1, a2, a3, a4, a5⟩ := l
  rcases h with h | ⟨h1, c, h2, h3⟩
  · exact Or.inl (by rw [a3 q h]; exact h)
  · exact Or.inr ⟨h1, c, by omega, by rw [a5 c h2]; exact h3⟩
theorem pa_here {D here : Nat} {g L : Nat → Nat} (I2 : pa_I2 D here g L) : here ≤ 224 := pa_ph 224 here L (fun i hi => (I2.1 i hi).1) I2.2.2
/-- a pair is reached on this level -/
theorem pa_visit {D B here p : Nat} {g L : Nat → Nat} (hB : B ≤ D) (I1 : pa_I1 N Rch p0 D B g) (I2 : pa_I2 D here g L) (hp : p < 224) (h0 : g p = 0) (hr : Rch D p) :
    here < 224 ∧ pa_I1 N Rch p0 D B (pa_up g p (D + 1)) ∧ pa_I2 D (here + 1) (pa_up g p (D + 1)) (pa_up L here p) := by
  obtain ⟨a1, a2, a3, a4⟩ := I1
  obtain ⟨b1, b2, b3⟩ := I2
  have nl : ∀ i, i < here → L i ≠ p := by
    intro i hi e
    have := (b1 i hi).2
    rw [e] at this
    omega
  refine ⟨pa_ph_1 (fun i hi => (b1 i hi).1) b3 hp nl, ⟨fun q d hq e => ?_, fun q d hq e hd w x hx => ?_, fun d hd => ?_, ?_⟩, fun j hj => ?_, fun q hq e => ?_, fun i j hi hj e => ?_⟩
  · by_cases z : q = p
    · rw [pa_ut z] at e
      have : d = D := by omega
      rw [this, z]
      exact ⟨Nat.le_refl _, hr⟩
    · rw [pa_uf z] at e
      exact a1 q d hq e
  · by_cases z : q = p
    · rw [pa_ut z] at e
      omega
    · rw [pa_uf z] at e
      have y := a2 q d hq e hd w x hx
      have : x ≠ p := by
        intro e2
        rw [e2] at y
        omega
      rw [pa_uf this]
      exact y
  · obtain ⟨q, hq, e⟩ := a3 d hd
    refine ⟨q, hq, ?_⟩
    have : q ≠ p := by
      intro e2
      rw [e2] at e
      omega
    rw [pa_uf this]
    exact e
  · have : p0 ≠ p := by
      intro e2
      rw [e2] at a4
      omega
    rw [pa_uf this]
    exact a4
  · by_cases z : j = here
    · rw [pa_ut z, pa_us]
      exact ⟨hp, rfl⟩
    · rw [pa_uf z]
      have y := b1 j (by omega)
      rw [pa_uf (nl j (by omega))]
      exact y
  · by_cases z : q = p
    · exact ⟨here, by omega, by rw [pa_us]; exact z.symm⟩
    · rw [pa_uf z] at e
      obtain ⟨j, hj, y⟩ := b2 q hq e
      exact ⟨j, by omega, by rw [pa_uf (by omega)]; exact y⟩
  · by_cases z : i = here
    · by_cases y : j = here
      · omega
      · rw [pa_ut z, pa_uf y] at e
        exact absurd e.symm (nl j (by omega))
    · by_cases y : j = here
      · rw [pa_uf z, pa_ut y] at e
        exact absurd e (nl i (by omega))
      · rw [pa_uf z, pa_uf y] at e
        exact b3 i j (by omega) (by omega) e
theorem pa_visit_le {D here next p : Nat} {g L C : Nat → Nat} (h0 : g p = 0) : pa_Le here next g L C (here + 1) next (pa_up g p (D + 1)) (pa_up L here p) C := by
  refine ⟨by omega, Nat.le_refl _, fun q hq => ?_, fun j hj => ?_, fun _ _ => rfl⟩
  · have : q ≠ p := by
      intro e
      rw [e] at hq
      omega
    exact pa_uf this
  · exact pa_uf (by omega)
/-- a pair is kept for the next level -/
theorem pa_keepC {D next q : Nat} {C : Nat → Nat} (I3 : pa_I3 Rch D next C) (hq : q < 224) (hr : Rch (D + 1) q) (hn : ∀ i, i < next → C i ≠ q) :
    next < 224 ∧ pa_I3 Rch D (next + 1) (pa_up C next q) := by
  obtain ⟨c1, c2⟩ := I3
  refine ⟨pa_ph_1 (fun i hi => (c1 i hi).1) c2 hq hn, fun c hc => ?_, fun i j hi hj e => ?_⟩
  · by_cases z : c = next
    · rw [pa_ut z]
      exact ⟨hq, hr⟩
    · rw [pa_uf z]
      exact c1 c (by omega)
  · by_cases z : i = next
    · by_cases y : j = next
      · omega
      · rw [pa_ut z, pa_uf y] at e
        exact absurd e.symm (hn j (by omega))
    · by_cases y : j = next
      · rw [pa_uf z, pa_ut y] at e
        exact absurd e (hn i (by omega))
      · rw [pa_uf z, pa_uf y] at e
        exact c2 i j (by omega) (by omega) e
theorem pa_keepC_le {here next q : Nat} {g L C : Nat → Nat} : pa_Le here next g L C here (next + 1) g L (pa_up C next q) :=
  ⟨Nat.le_refl _, by omega, fun _ _ => rfl, fun _ _ => rfl, fun c hc => pa_uf (by omega)⟩
/-- a full list holds every pair -/
theorem pa_fullC {D next q : Nat} {C : Nat → Nat} (I3 : pa_I3 Rch D next C) (hq : q < 224) (hf : 224 ≤ next) : ∃ i, i < next ∧ C i = q := by
  obtain ⟨c1, c2⟩ := I3
  refine Classical.byContradiction fun hn => ?_
  have := pa_ph_1 (n := next) (m := 224) (f := C) (p := q) (fun i hi => (c1 i hi).1) c2 hq (fun i hi e => hn ⟨i, hi, e⟩)
  omega
theorem pa_next {D next : Nat} {C : Nat → Nat} (I3 : pa_I3 Rch D next C) : next ≤ 224 := pa_ph 224 next C (fun i hi => (I3.1 i hi).1) I3.2
/-- what the second half of a round keeps: j of the kept pairs are looked at -/
def pa_I5 (N : Nat → Nat → Nat → Prop) (D j next : Nat) (g C : Nat → Nat) : Prop :=
  ∀ p, p < 224 → g p = D + 1 → ∀ w q, N w p q → (1 ≤ g q ∧ g q ≤ D + 1 + w) ∨ (w = 1 ∧ ∃ c, j ≤ c ∧ c < next ∧ C c = q)
theorem pa_turn {D here next : Nat} {g L C : Nat → Nat} (hN : ∀ w p q, N w p q → q < 224) (I1 : pa_I1 N Rch p0 D D g) (I2 : pa_I2 D here g L) (hh : 0 < here)
    (I4 : ∀ j, j < here → ∀ w q, N w (L j) q → pa_Dn g next C w q) : pa_I1 N Rch p0 (D + 1) D g ∧ pa_I2 (D + 1) 0 g L ∧ pa_I5 N D 0 next g C := by
  obtain ⟨a1, a2, a3, a4⟩ := I1
  obtain ⟨b1, b2, b3⟩ := I2
  refine ⟨⟨fun p d hp e => ?_, a2, fun d hd => ?_, a4⟩, ⟨fun j hj => by omega, fun p hp e => ?_, fun i j hi => by omega⟩, fun p hp e w q hw => ?_⟩
  · have := a1 p d hp e
    exact ⟨by omega, this.2⟩
  · by_cases z : d = D
    · rw [z]
      exact ⟨L 0, b1 0 hh⟩
    · exact a3 d (by omega)
  · have := a1 p (D + 1) hp e
    omega
  · obtain ⟨j, hj, y⟩ := b2 p hp e
    rw [← y] at hw
    rcases I4 j hj w q hw with z | ⟨z1, c, z2, z3⟩
    · have x := a1 q (g q - 1) (hN _ _ _ hw) (by omega)
      exact Or.inl ⟨z, by omega⟩
    · exact Or.inr ⟨z1, c, by omega, z2, z3⟩
theorem pa_I5_v {D j next p : Nat} {g C : Nat → Nat} (I5 : pa_I5 N D j next g C) (h0 : g p = 0) (hp : C j = p) : pa_I5 N D (j + 1) next (pa_up g p (D + 2)) C := by
  intro x hx e w q hw
  have zx : x ≠ p := by
    intro z
    rw [pa_ut z] at e
    omega
  rw [pa_uf zx] at e
  by_cases zq : q = p
  · rw [pa_ut zq]
    rcases I5 x hx e w q hw with z | ⟨z1, -⟩
    · rw [zq] at z
      omega
    · exact Or.inl ⟨by omega, by omega⟩
  · rw [pa_uf zq]
    rcases I5 x hx e w q hw with z | ⟨z1, c, z2, z3, z4⟩
    · exact Or.inl z
    · refine Or.inr ⟨z1, c, ?_, z3, z4⟩
      have : c ≠ j := by
        intro y
        rw [y, hp] at z4
        exact zq z4.symm
      omega
theorem pa_I5_n {D j next p : Nat} {g C : Nat → Nat} (I5 : pa_I5 N D j next g C) (h0 : 1 ≤ g p) (h1 : g p ≤ D + 2) (hp : C j = p) : pa_I5 N D (j + 1) next g C := by
  intro x hx e w q hw
  rcases I5 x hx e w q hw with z | ⟨z1, c, z2, z3, z4⟩
  · exact Or.inl z
  · by_cases y : c = j
    · rw [y, hp] at z4
      rw [← z4]
      exact Or.inl ⟨h0, by omega⟩
    · exact Or.inr ⟨z1, c, by omega, z3, z4⟩
theorem pa_I5_e {D next : Nat} {g C : Nat → Nat} (I1 : pa_I1 N Rch p0 (D + 1) D g) (I5 : pa_I5 N D next next g C) : pa_I1 N Rch p0 (D + 1) (D + 1) g := by
  obtain ⟨a1, a2, a3, a4⟩ := I1
  refine ⟨a1, fun p d hp e hd w q hw => ?_, a3, a4⟩
  by_cases z : d = D
  · rw [z] at e ⊢
    rcases I5 p hp e w q hw with y | ⟨-, c, y1, y2, -⟩
    · exact y
    · omega
  · exact a2 p d hp e (by omega) w q hw
/-- no more than 224 levels hold a pair -/
theorem pa_levels {D here : Nat} {g L : Nat → Nat} (I1 : pa_I1 N Rch p0 D D g) (I2 : pa_I2 D here g L) (hh : 0 < here) : D < 224 := by
  have w : ∀ d, ∃ p, d < D + 1 → p < 224 ∧ g p = d + 1 := by
    intro d
    by_cases z : d < D
    · obtain ⟨p, h⟩ := I1.2.2.1 d z
      exact ⟨p, fun _ => h⟩
    · by_cases y : d = D
      · exact ⟨L 0, fun _ => by rw [y]; exact I2.1 0 hh⟩
      · exact ⟨0, fun q => by omega⟩
  have q := pa_ph 224 (D + 1) (fun d => (w d).choose) (fun d hd => ((w d).choose_spec hd).1) (fun i j hi hj e => by
    have a := ((w i).choose_spec hi).2
    have b := ((w j).choose_spec hj).2
    have e' : (w i).choose = (w j).choose := e
    rw [e'] at a
    have c := a.symm.trans b
    exact Nat.succ.inj c)
  exact q
/-- what a search leaves -/
def pa_Fn (N : Nat → Nat → Nat → Prop) (Rch : Nat → Nat → Prop) (p0 : Nat) (g : Nat → Nat) : Prop :=
  (∀ p d, p < 224 → g p = d + 1 → d ≤ 224 ∧ Rch d p) ∧ (∀ p d, p < 224 → g p = d + 1 → ∀ w q, N w p q → 1 ≤ g q ∧ g q ≤ d + 1 + w) ∧ g p0 = 1
theorem pa_end {D : Nat} {g L : Nat → Nat} (hD : D ≤ 225) (I1 : pa_I1 N Rch p0 D D g) (I2 : pa_I2 D 0 g L) : pa_Fn N Rch p0 g := by
  obtain ⟨a1, a2, a3, a4⟩ := I1
  obtain ⟨b1, b2, b3⟩ := I2
  have key : ∀ p d, p < 224 → g p = d + 1 → d < D := by
    intro p d hp e
    have x := (a1 p d hp e).1
    by_cases z : d = D
    · rw [z] at e
      obtain ⟨j, hj, -⟩ := b2 p hp e
      omega
    · omega
  exact ⟨fun p d hp e => ⟨by have := key p d hp e; omega, (a1 p d hp e).2⟩, fun p d hp e w q hw => a2 p d hp e (key p d hp e) w q hw, a4⟩
/-- the start -/
theorem pa_begin {g L : Nat → Nat} (h : ∀ p, p < 224 → g p = 0) (hp : p0 < 224) (hr : Rch 0 p0) : pa_I1 N Rch p0 0 0 (pa_up g p0 1) ∧ pa_I2 0 1 (pa_up g p0 1) (pa_up L 0 p0) := by
  refine ⟨⟨fun p d q e => ?_, fun p d q e z => by omega, fun d z => by omega, pa_us⟩, fun j hj => ?_, fun p q e => ?_, fun i j hi hj e => by omega⟩
  · by_cases z : p = p0
    · rw [pa_ut z] at e
      have : d = 0 := by omega
      rw [this, z]
      exact ⟨Nat.le_refl _, hr⟩
    · rw [pa_uf z, h p q] at e
      omega
  · have : j = 0 := by omega
    rw [this, pa_us, pa_us]
    exact ⟨hp, rfl⟩
  · by_cases z : p = p0
    · exact ⟨0, by omega, by rw [pa_us]; exact z.symm⟩
    · rw [pa_uf z, h p q] at e
      omega
end
end
section
/-! ===== numbers and arrays ===== -/
def pa_nT (f : Nat → Nat) : Nat → Int32 := fun j => nI (f j)
theorem pa_nT_a (f : Nat → Nat) (j : Nat) : pa_nT f j = nI (f j) := rfl
theorem pa_nT_u (f : Nat → Nat) (k v : Nat) : upd (pa_nT f) k (nI v) = pa_nT (pa_up f k v) := by
  funext j
  by_cases h : j = k
  · rw [h, pk_us, pa_nT_a, pa_us]
  · rw [pk_un h, pa_nT_a, pa_nT_a, pa_uf h]
theorem pa_of32 (x : Int32) : x = nI x.toBitVec.toNat := by
  apply Int32.toBitVec_inj.mp
  apply BitVec.eq_of_toNat_eq
  rw [pk_tn x.toBitVec.isLt]
theorem pa_nT_of (a : Nat → Int32) : ∃ f, a = pa_nT f := ⟨fun j => (a j).toBitVec.toNat, funext fun j => pa_of32 (a j)⟩
def pa_en : Nat → Int32
  | 0 => -1
  | d + 1 => nI d
def pa_eG (g : Nat → Nat) : Nat → Int32 := fun p => pa_en (g p)
theorem pa_eG_a (g : Nat → Nat) (j : Nat) : pa_eG g j = pa_en (g j) := rfl
theorem pa_en_n {x : Nat} (h : x ≤ 1000) : pa_en x < 0 ↔ x = 0 := by
  cases x with
  | zero => exact ⟨fun _ => rfl, fun _ => by decide⟩
  | succ d => exact ⟨fun q => absurd q (nI_pos (by omega)), fun q => by omega⟩
theorem pa_en_p {x : Nat} (h : x ≤ 1000) : 0 ≤ pa_en x ↔ ¬ x = 0 := by
  cases x with
  | zero => exact ⟨fun q => absurd q (by decide), fun q => absurd rfl q⟩
  | succ d => exact ⟨fun _ => by omega, fun _ => nI_pos' (by omega)⟩
theorem pa_eG_u (g : Nat → Nat) (p d : Nat) : upd (pa_eG g) p (nI d) = pa_eG (pa_up g p (d + 1)) := by
  funext j
  by_cases h : j = p
  · rw [h, pk_us, pa_eG_a, pa_us]
    rfl
  · rw [pk_un h, pa_eG_a, pa_eG_a, pa_uf h]
theorem pa_eG_0 (g : Nat → Nat) (p : Nat) : upd (pa_eG g) p (-1) = pa_eG (pa_up g p 0) := by
  funext j
  by_cases h : j = p
  · rw [h, pk_us, pa_eG_a, pa_us]
    rfl
  · rw [pk_un h, pa_eG_a, pa_eG_a, pa_uf h]
theorem pa_eG_of (a : Nat → Int32) : ∃ g, a = pa_eG g := ⟨fun j => (a j).toBitVec.toNat + 1, funext fun j => pa_of32 (a j)⟩
theorem pa_m64 (a : Nat) : nI a * 64 = nI (a * 64) := pk_mul a 64
theorem pa_m8 (a : Nat) : nI a * 8 = nI (a * 8) := pk_mul a 8
theorem pa_m9 (a : Nat) : nI a * 9 = nI (a * 9) := pk_mul a 9
theorem pa_8m (a : Nat) : 8 * nI a = nI (8 * a) := pk_mul 8 a
theorem pa_a64 (a : Nat) : nI a + 64 = nI (a + 64) := nI_add a 64
theorem pa_a128 (a : Nat) : nI a + 128 = nI (a + 128) := nI_add a 128
theorem pa_a2 (a : Nat) : nI a + 2 = nI (a + 2) := nI_add a 2
theorem pa_7a (a : Nat) : 7 + nI a = nI (7 + a) := nI_add 7 a
theorem pa_3a (a : Nat) : 3 + nI a = nI (3 + a) := nI_add 3 a
theorem pa_d8 {a : Nat} (h : a < 2 ^ 31) : nI a / 8 = nI (a / 8) := pk_div h (d := 8) (by omega) (by omega)
theorem pa_r8 {a : Nat} (h : a < 2 ^ 31) : nI a - nI a / 8 * 8 = nI (a % 8) := pk_rem h (d := 8) (by omega) (by omega)
theorem pa_80 : ¬ (8 : Int32) = 0 := by decide
theorem pa_sub1 {a : Nat} (h : 0 < a) : nI a - 1 = nI (a - 1) := pk_sub (a := a) (b := 1) h
theorem pa_add1 (a : Nat) : nI a - 1 + 1 = nI a := Int32.sub_add_cancel _ _
theorem pa_ne {a b : Nat} (h : a ≠ b) (ha : a < 2 ^ 31) (hb : b < 2 ^ 31) : ¬ nI a = nI b := fun q => h ((nI_eq ha hb).mp q)
/-! ===== bits ===== -/
theorem pa_b1 : ∀ i, i < 32 → bt 1 i = decide (i = 0) := by decide +kernel
theorem pa_bit (x : Int32) {n : Nat} (hn : n < 32) : (x >>> (nI n &&& 31)) &&& 1 = if bt x n = true then 1 else 0 := by
  apply b_ext
  intro i hi
  rw [b_and, b_sshr n hn x hi, pa_b1 i hi]
  by_cases z : i = 0
  · rw [z, if_pos (by omega), Nat.add_zero]
    by_cases y : bt x n = true
    · rw [if_pos y, y]
      rfl
    · rw [if_neg y, b_0]
      simp at y
      simp [y]
  · rw [decide_eq_false z, Bool.and_false]
    by_cases y : bt x n = true
    · rw [if_pos y, pa_b1 i hi, decide_eq_false z]
    · rw [if_neg y, b_0]
theorem pa_bit1 (x : Int32) {n : Nat} (hn : n < 32) : (x >>> (nI n &&& 31)) &&& 1 = 1 ↔ bt x n = true := by
  rw [pa_bit x hn]
  by_cases y : bt x n = true
  · rw [if_pos y]
    exact ⟨fun _ => y, fun _ => rfl⟩
  · rw [if_neg y]
    exact ⟨fun q => absurd q (by decide), fun q => absurd q y⟩
theorem pa_1s {n : Nat} (hn : n < 32) {i : Nat} (hi : i < 32) : bt ((1 : Int32) <<< (nI n &&& 31)) i = decide (i = n) := by
  rw [b_shl n hn 1 hi]
  by_cases z : n ≤ i
  · rw [pa_b1 (i - n) (by omega), decide_eq_true z, Bool.true_and]
    by_cases y : i = n
    · rw [decide_eq_true y, decide_eq_true (by omega)]
    · rw [decide_eq_false y, decide_eq_false (by omega)]
  · rw [decide_eq_false z, Bool.false_and, decide_eq_false (by omega)]
/-- a bit is taken out -/
theorem pa_clr (x : Int32) {n : Nat} (hn : n < 32) {i : Nat} (hi : i < 32) : bt (x &&& (((1 : Int32) <<< (nI n &&& 31)) ^^^ (-1))) i = (bt x i && !decide (i = n)) := by
  rw [b_and, b_xor, pa_1s hn hi, b_m1 i hi, Bool.xor_true]
theorem pa_set (x : Int32) {n : Nat} (hn : n < 32) {i : Nat} (hi : i < 32) : bt (x ||| ((1 : Int32) <<< (nI n &&& 31))) i = (bt x i || decide (i = n)) := by
  rw [b_or, pa_1s hn hi]
end
section
/-! ===== the reference's walk ===== -/
theorem pa_i1 (l p : Nat) : nI l * 64 + nI p = nI (l * 64 + p) := by rw [pa_m64, nI_add]
theorem pa_i2 (l p : Nat) : nI l * 64 + 128 + nI p = nI (l * 64 + 128 + p) := by rw [pa_m64, pa_a128, nI_add]
theorem pa_i3 (l m : Nat) {p : Nat} (h : p < 2 ^ 31) : nI l * 64 + nI p / 8 * 8 + nI m = nI (l * 64 + (p / 8 * 8 + m)) := by rw [pa_m64, pa_d8 h, pa_m8, nI_add, nI_add, Nat.add_assoc]
theorem pa_i4 (l m : Nat) {p : Nat} (h : p < 2 ^ 31) : nI l * 64 + 64 + nI m * 8 + (nI p - nI p / 8 * 8) = nI (l * 64 + 64 + (m * 8 + p % 8)) := by rw [pa_r8 h, pa_m64, pa_m8, pa_a64, nI_add, nI_add, Nat.add_assoc]
theorem pa_i5 (l m : Nat) {p : Nat} (h : p < 2 ^ 31) : nI l * 64 + nI m * 8 + (nI p - nI p / 8 * 8) = nI (l * 64 + (m * 8 + p % 8)) := by rw [pa_r8 h, pa_m64, pa_m8, nI_add, nI_add, Nat.add_assoc]
theorem pa_i6 (l p : Nat) : nI l * 64 + 64 + nI p = nI (l * 64 + 64 + p) := by rw [pa_m64, pa_a64, nI_add]
theorem pa_i7 (l a : Nat) : nI l * 64 + nI a * 9 = nI (l * 64 + a * 9) := by rw [pa_m64, pa_m9, nI_add]
theorem pa_i8 (l a b : Nat) : nI l * 64 + nI a * 8 + nI b = nI (l * 64 + (a * 8 + b)) := by rw [pa_m64, pa_m8, nI_add, nI_add, Nat.add_assoc]
theorem pa_rd (f : Nat → Nat) {x : Int32} (k : Nat) (hx : x = nI k) (hk : k < 2 ^ 31) : pa_nT f x.toNatClampNeg = nI (f k) := by
  rw [hx, nI_clamp hk]
  rfl
theorem pa_wr (f : Nat → Nat) {x y : Int32} (k v : Nat) (hx : x = nI k) (hk : k < 2 ^ 31) (hy : y = nI v) : upd (pa_nT f) x.toNatClampNeg y = pa_nT (pa_up f k v) := by
  rw [hx, nI_clamp hk, hy, pa_nT_u]
section
variable {fm fh : Int32} {ae ak an tb : Nat → Int32}
theorem pa_yl {post : Int32 → Prop} {a b : Nat} {x y : Int32} (k : post (nI (pa_ls a b))) (hx : x = nI a) (hy : y = nI b) (ha : a < 2 ^ 31) (hb : b < 2 ^ 31) : wpY_least post (fm, fh, ae, ak, an, tb) x y := by
  refine pk_le b a (fun h => ?_) (fun h => ?_) hy hx hb ha
  · have e : pa_ls a b = b := if_pos h
    rw [e] at k
    rw [hy]
    exact k
  · have e : pa_ls a b = a := if_neg (by omega)
    rw [e] at k
    rw [hx]
    exact k
theorem pa_y109 {post : SY → Prop} {l : Nat} (hl : l ≤ 4) (T : Nat → Nat) (k : ∀ T', (∀ j, j < l * 64 → T' j = T j) → (∀ p, p < 64 → T' (l * 64 + p) = T (l * 64 + 128 + p)) → post (fm, fh, ae, ak, an, pa_nT T')) :
    ∀ n i T', 64 < n + i → i ≤ 64 → (∀ j, j < l * 64 → T' j = T j) → (∀ p, p < i → T' (l * 64 + p) = T (l * 64 + 128 + p)) → (∀ p, i ≤ p → p < 64 → T' (l * 64 + 128 + p) = T (l * 64 + 128 + p)) → wY_join_109 post (nI l) fm fh n (nI i) ae ak an (pa_nT T') := by
  intro n
  induction n with
  | zero =>
    intro i T' h1 h2
    omega
  | succ n ih =>
    intro i T' h1 h2 c1 c2 c3
    refine pk_le 64 i (fun z => ?_) (fun z => ?_)
    · exact k T' c1 (fun p hp => c2 p (by omega))
    · refine ⟨pk_in (l * 64 + 128 + i) 448 (by omega) (pa_i2 l i), pk_in (l * 64 + i) 448 (by omega) (pa_i1 l i), ?_⟩
      refine nm_r (pa_wr T' (l * 64 + i) (T' (l * 64 + 128 + i)) (pa_i1 l i) (by omega) (pa_rd T' _ (pa_i2 l i) (by omega))) (nm_r (nI_1 i) ?_)
      refine ih (i + 1) _ (by omega) (by omega) (fun j hj => ?_) (fun p hp => ?_) (fun p hp hp2 => ?_)
      · rw [pa_uf (by omega)]
        exact c1 j hj
      · by_cases e : p = i
        · rw [pa_ut (by omega), e]
          exact c3 i (by omega) (by omega)
        · rw [pa_uf (by omega)]
          exact c2 p (by omega)
      · rw [pa_uf (by omega)]
        exact c3 p (by omega) hp2
theorem pa_y14 {post : SY → Prop} {J2 : Int32 → (Nat → Int32) → (Nat → Int32) → (Nat → Int32) → (Nat → Int32) → Prop} {l p : Nat} (hl : l ≤ 4) (hp : p < 64) (T : Nat → Nat) (hT : ∀ j, l * 64 ≤ j → j < l * 64 + 128 → T j ≤ 100000)
    (k : J2 (nI (p + 1)) ae ak an (pa_nT (pa_up T (l * 64 + 128 + p) (pa_mn (fun m => T (l * 64 + (p / 8 * 8 + m))) (fun m => T (l * 64 + 64 + (m * 8 + p % 8))) 8)))) :
    ∀ n m, 8 < n + m → m ≤ 8 → wY_join_14 post J2 (nI l) (nI p) fm fh ae ak an (pa_nT T) n (nI (pa_mn (fun m => T (l * 64 + (p / 8 * 8 + m))) (fun m => T (l * 64 + 64 + (m * 8 + p % 8))) m)) (nI m) := by
  intro n
  induction n with
  | zero =>
    intro m h1 h2
    omega
  | succ n ih =>
    intro m h1 h2
    refine pk_le 8 m (fun z => ?_) (fun z => ?_)
    · have e : m = 8 := by omega
      rw [e]
      exact ⟨pk_in (l * 64 + 128 + p) 448 (by omega) (pa_i2 l p), nm_r (pa_wr T _ _ (pa_i2 l p) (by omega) rfl) (nm_r (nI_1 p) k)⟩
    · have b1 := hT (l * 64 + (p / 8 * 8 + m)) (by omega) (by omega)
      have b2 := hT (l * 64 + 64 + (m * 8 + p % 8)) (by omega) (by omega)
      have b3 := (pa_mn_i (fun m => T (l * 64 + (p / 8 * 8 + m))) (fun m => T (l * 64 + 64 + (m * 8 + p % 8))) m).1
      refine ⟨pa_80, pk_in (l * 64 + (p / 8 * 8 + m)) 448 (by omega) (pa_i3 l m (by omega)), nm_r (pa_rd T _ (pa_i3 l m (by omega)) (by omega)) ?_⟩
      refine ⟨pa_80, pk_in (l * 64 + 64 + (m * 8 + p % 8)) 448 (by omega) (pa_i4 l m (by omega)), nm_r (pa_rd T _ (pa_i4 l m (by omega)) (by omega)) ?_⟩
      refine pa_yl (a := pa_mn (fun m => T (l * 64 + (p / 8 * 8 + m))) (fun m => T (l * 64 + 64 + (m * 8 + p % 8))) m) (b := T (l * 64 + (p / 8 * 8 + m)) + T (l * 64 + 64 + (m * 8 + p % 8))) ?_ rfl (nI_add _ _) (by omega) (by omega)
      exact nm_r (nI_1 m) (ih (m + 1) (by omega) (by omega))
theorem pa_y2 {post : SY → Prop} {l : Nat} (hl : l ≤ 4) (T : Nat → Nat) (hT : ∀ j, l * 64 ≤ j → j < l * 64 + 128 → T j ≤ 100000)
    (k : ∀ T', (∀ j, j < l * 64 → T' j = T j) → (∀ p, p < 64 → T' (l * 64 + p) = pa_jt (fun q => T (l * 64 + q)) (fun q => T (l * 64 + 64 + q)) p) → post (fm, fh, ae, ak, an, pa_nT T')) :
    ∀ n p T', 64 < n + p → p ≤ 64 → (∀ j, j < l * 64 + 128 → T' j = T j) → (∀ q, q < p → T' (l * 64 + 128 + q) = pa_jt (fun q => T (l * 64 + q)) (fun q => T (l * 64 + 64 + q)) q) → wY_join_2 post (nI l) fm fh n (nI p) ae ak an (pa_nT T') := by
  intro n
  induction n with
  | zero =>
    intro p T' h1 h2
    omega
  | succ n ih =>
    intro p T' h1 h2 c1 c2
    refine pk_le 64 p (fun z => ?_) (fun z => ?_)
    · refine ⟨65, pa_y109 hl T' (fun T'' g1 g2 => ?_) 65 0 T' (by omega) (by omega) (fun _ _ => rfl) (fun q hq => by omega) (fun _ _ _ => rfl)⟩
      refine k T'' (fun j hj => ?_) (fun q hq => ?_)
      · rw [g1 j hj]
        exact c1 j (by omega)
      · rw [g2 q hq]
        exact c2 q (by omega)
    · refine ⟨9, ?_⟩
      have hT' : ∀ j, l * 64 ≤ j → j < l * 64 + 128 → T' j ≤ 100000 := by
        intro j h3 h4
        rw [c1 j h4]
        exact hT j h3 h4
      refine pa_y14 (l := l) (p := p) hl z T' hT' ?_ 9 0 (by omega) (by omega)
      refine ih (p + 1) _ (by omega) (by omega) (fun j hj => ?_) (fun q hq => ?_)
      · rw [pa_uf (by omega)]
        exact c1 j hj
      · by_cases e : q = p
        · rw [e, pa_us]
          unfold pa_jt
          have f1 : ∀ m, m < 8 → T' (l * 64 + (p / 8 * 8 + m)) = T (l * 64 + (p / 8 * 8 + m)) := fun m hm => c1 _ (by omega)
          have f2 : ∀ m, m < 8 → T' (l * 64 + 64 + (m * 8 + p % 8)) = T (l * 64 + 64 + (m * 8 + p % 8)) := fun m hm => c1 _ (by omega)
          have f3 : ∀ m, m ≤ 8 → pa_mn (fun m => T' (l * 64 + (p / 8 * 8 + m))) (fun m => T' (l * 64 + 64 + (m * 8 + p % 8))) m = pa_mn (fun m => T (l * 64 + (p / 8 * 8 + m))) (fun m => T (l * 64 + 64 + (m * 8 + p % 8))) m := by
            intro m
            induction m with
            | zero =>
              intro _
              rfl
            | succ m im =>
              intro hm
              show pa_ls _ _ = pa_ls _ _
              rw [im (by omega)]
              dsimp only
              rw [f1 m (by omega), f2 m (by omega)]
          exact f3 8 (Nat.le_refl _)
        · rw [pa_uf (by omega)]
          exact c2 q (by omega)
theorem pa_yjoin {post : SY → Prop} {l : Nat} (hl : l ≤ 4) (T : Nat → Nat) (hT : ∀ j, l * 64 ≤ j → j < l * 64 + 128 → T j ≤ 100000)
    (k : ∀ T', (∀ j, j < l * 64 → T' j = T j) → (∀ p, p < 64 → T' (l * 64 + p) = pa_jt (fun q => T (l * 64 + q)) (fun q => T (l * 64 + 64 + q)) p) → post (fm, fh, ae, ak, an, pa_nT T')) :
    wpY_join post (fm, fh, ae, ak, an, pa_nT T) (nI l) :=
  ⟨65, pa_y2 hl T hT k 65 0 T (by omega) (by omega) (fun _ _ => rfl) (fun q hq => by omega)⟩
theorem pa_y39 {post : SY → Prop} {J31 : Int32 → (Nat → Int32) → (Nat → Int32) → (Nat → Int32) → (Nat → Int32) → Prop} {l m : Nat} (hl : l ≤ 5) (hm : m < 8) (D T : Nat → Nat) (hD : ∀ q, q < 64 → D q ≤ 100000)
    (k : ∀ T', (∀ j, j < l * 64 → T' j = T j) → (∀ q, q < 64 → T' (l * 64 + q) = pa_fs m D q) → J31 (nI (m + 1)) ae ak an (pa_nT T')) :
    ∀ n i T', 64 < n + i → i ≤ 64 → (∀ j, j < l * 64 → T' j = T j) → (∀ q, q < i → T' (l * 64 + q) = pa_fs m D q) → (∀ q, i ≤ q → q < 64 → T' (l * 64 + q) = D q) → wY_close_39 post J31 (nI l) (nI m) fm fh n (nI i) ae ak an (pa_nT T') := by
  intro n
  induction n with
  | zero =>
    intro i T' h1 h2
    omega
  | succ n ih =>
    intro i T' h1 h2 c1 c2 c3
    refine pk_le 64 i (fun z => ?_) (fun z => ?_)
    · exact nm_r (nI_1 m) (k T' c1 (fun q hq => c2 q (by omega)))
    · have r1 : T' (l * 64 + (i / 8 * 8 + m)) = D (i / 8 * 8 + m) := by
        by_cases y : i / 8 * 8 + m < i
        · rw [c2 _ y]
          exact pa_fs_c m D hm (i / 8)
        · exact c3 _ (by omega) (by omega)
      have r2 : T' (l * 64 + (m * 8 + i % 8)) = D (m * 8 + i % 8) := by
        by_cases y : m * 8 + i % 8 < i
        · rw [c2 _ y]
          exact pa_fs_r m D (by omega)
        · exact c3 _ (by omega) (by omega)
      have r3 : T' (l * 64 + i) = D i := c3 i (by omega) (by omega)
      have b1 := hD (i / 8 * 8 + m) (by omega)
      have b2 := hD (m * 8 + i % 8) (by omega)
      have b3 := hD i (by omega)
      refine ⟨pa_80, pk_in (l * 64 + (i / 8 * 8 + m)) 448 (by omega) (pa_i3 l m (by omega)), nm_r (e' := nI (D (i / 8 * 8 + m))) ((pa_rd T' _ (pa_i3 l m (by omega)) (by omega)).trans (by rw [r1])) ?_⟩
      refine ⟨pa_80, pk_in (l * 64 + (m * 8 + i % 8)) 448 (by omega) (pa_i5 l m (by omega)), nm_r (e' := nI (D (m * 8 + i % 8))) ((pa_rd T' _ (pa_i5 l m (by omega)) (by omega)).trans (by rw [r2])) ?_⟩
      refine ⟨pk_in (l * 64 + i) 448 (by omega) (pa_i1 l i), ?_⟩
      refine pa_yl (a := D i) (b := D (i / 8 * 8 + m) + D (m * 8 + i % 8)) ?_ ((pa_rd T' _ (pa_i1 l i) (by omega)).trans (by rw [r3])) (nI_add _ _) (by omega) (by omega)
      refine ⟨pk_in (l * 64 + i) 448 (by omega) (pa_i1 l i), nm_r (pa_wr T' _ _ (pa_i1 l i) (by omega) rfl) (nm_r (nI_1 i) ?_)⟩
      refine ih (i + 1) _ (by omega) (by omega) (fun j hj => ?_) (fun q hq => ?_) (fun q hq hq2 => ?_)
      · rw [pa_uf (by omega)]
        exact c1 j hj
      · by_cases e : q = i
        · rw [e, pa_us]
          rfl
        · rw [pa_uf (by omega)]
          exact c2 q (by omega)
      · rw [pa_uf (by omega)]
        exact c3 q (by omega) hq2
theorem pa_fw_b {D : Nat → Nat} (hD : ∀ q, q < 64 → D q ≤ 100000) : ∀ k q, q < 64 → pa_fw D k q ≤ 100000 := by
  intro k
  induction k with
  | zero =>
    intro q hq
    show pa_dg D q ≤ 100000
    unfold pa_dg
    by_cases e : q / 8 = q % 8
    · rw [if_pos e]
      omega
    · rw [if_neg e]
      exact hD q hq
  | succ k ih =>
    intro q hq
    have a := (pa_ls_i (pa_fw D k q) (pa_fw D k (q / 8 * 8 + k) + pa_fw D k (k * 8 + q % 8))).1
    have b := ih q hq
    exact Nat.le_trans a b
theorem pa_y31 {post : SY → Prop} {l : Nat} (hl : l ≤ 5) (D T : Nat → Nat) (hD : ∀ q, q < 64 → D q ≤ 100000)
    (k : ∀ T', (∀ j, j < l * 64 → T' j = T j) → (∀ q, q < 64 → T' (l * 64 + q) = pa_fw D 8 q) → post (fm, fh, ae, ak, an, pa_nT T')) :
    ∀ n m T', 8 < n + m → m ≤ 8 → (∀ j, j < l * 64 → T' j = T j) → (∀ q, q < 64 → T' (l * 64 + q) = pa_fw D m q) → wY_close_31 post (nI l) fm fh n (nI m) ae ak an (pa_nT T') := by
  intro n
  induction n with
  | zero =>
    intro m T' h1 h2
    omega
  | succ n ih =>
    intro m T' h1 h2 c1 c2
    refine pk_le 8 m (fun z => ?_) (fun z => ?_)
    · have e : m = 8 := by omega
      rw [e] at c2
      exact k T' c1 c2
    · refine ⟨65, pa_y39 hl z (pa_fw D m) T' (pa_fw_b hD m) (fun T'' g1 g2 => ?_) 65 0 T' (by omega) (by omega) (fun _ _ => rfl) (fun q hq => by omega) (fun q _ hq => c2 q hq)⟩
      exact ih (m + 1) T'' (by omega) (by omega) (fun j hj => (g1 j hj).trans (c1 j hj)) g2
theorem pa_yc2 {post : SY → Prop} {l : Nat} (hl : l ≤ 5) (T : Nat → Nat) (hT : ∀ q, q < 64 → T (l * 64 + q) ≤ 100000)
    (k : ∀ T', (∀ j, j < l * 64 → T' j = T j) → (∀ q, q < 64 → T' (l * 64 + q) = pa_fw (fun q => T (l * 64 + q)) 8 q) → post (fm, fh, ae, ak, an, pa_nT T')) :
    ∀ n a T', 8 < n + a → a ≤ 8 → (∀ j, j < l * 64 → T' j = T j) → (∀ q, q < 64 → q / 8 = q % 8 → q / 8 < a → T' (l * 64 + q) = 0) → (∀ q, q < 64 → (q / 8 = q % 8 → a ≤ q / 8) → T' (l * 64 + q) = T (l * 64 + q)) → wY_close_2 post (nI l) fm fh n (nI a) ae ak an (pa_nT T') := by
  intro n
  induction n with
  | zero =>
    intro a T' h1 h2
    omega
  | succ n ih =>
    intro a T' h1 h2 c1 c2 c3
    refine pk_le 8 a (fun z => ?_) (fun z => ?_)
    · refine ⟨9, pa_y31 hl (fun q => T (l * 64 + q)) T hT k 9 0 T' (by omega) (by omega) c1 (fun q hq => ?_)⟩
      show T' (l * 64 + q) = pa_dg (fun q => T (l * 64 + q)) q
      unfold pa_dg
      by_cases e : q / 8 = q % 8
      · rw [if_pos e]
        exact c2 q hq e (by omega)
      · rw [if_neg e]
        exact c3 q hq (fun y => absurd y e)
    · refine ⟨pk_in (l * 64 + a * 9) 448 (by omega) (pa_i7 l a), nm_r (pa_wr T' (l * 64 + a * 9) 0 (pa_i7 l a) (by omega) rfl) (nm_r (nI_1 a) ?_)⟩
      refine ih (a + 1) _ (by omega) (by omega) (fun j hj => ?_) (fun q hq e1 e2 => ?_) (fun q hq e1 => ?_)
      · rw [pa_uf (by omega)]
        exact c1 j hj
      · by_cases e : q = a * 9
        · rw [e, pa_us]
        · rw [pa_uf (by omega)]
          exact c2 q hq e1 (by omega)
      · rw [pa_uf (by omega)]
        exact c3 q hq (fun y => by have := e1 y; omega)
theorem pa_yclose {post : SY → Prop} {l : Nat} (hl : l ≤ 5) (T : Nat → Nat) (hT : ∀ q, q < 64 → T (l * 64 + q) ≤ 100000)
    (k : ∀ T', (∀ j, j < l * 64 → T' j = T j) → (∀ q, q < 64 → T' (l * 64 + q) = pa_fw (fun q => T (l * 64 + q)) 8 q) → post (fm, fh, ae, ak, an, pa_nT T')) :
    wpY_close post (fm, fh, ae, ak, an, pa_nT T) (nI l) :=
  ⟨9, pa_yc2 hl T hT k 9 0 T (by omega) (by omega) (fun _ _ => rfl) (fun q _ _ hq => by omega) (fun _ _ _ => rfl)⟩
theorem pa_y113 {post : Int32 → SY → Prop} {J4 : Int32 → Int32 → Int32 → Int32 → (Nat → Int32) → (Nat → Int32) → (Nat → Int32) → (Nat → Int32) → Prop} {l i0 : Nat} (hl : l ≤ 4) (T : Nat → Nat) (hT : ∀ j, l * 64 ≤ j → j < l * 64 + 128 → T j ≤ 100000)
    (k : ∀ T', (∀ j, j < l * 64 → T' j = T j) → (∀ q, q < 64 → T' (l * 64 + q) = pa_ls (T (l * 64 + q)) (T (l * 64 + 64 + q))) → J4 (nI l) (nI (i0 + 1)) fm fh ae ak an (pa_nT T')) :
    ∀ n i T', 64 < n + i → i ≤ 64 → (∀ j, j < l * 64 → T' j = T j) → (∀ q, q < i → T' (l * 64 + q) = pa_ls (T (l * 64 + q)) (T (l * 64 + 64 + q))) → (∀ j, l * 64 + i ≤ j → j < l * 64 + 128 → T' j = T j) → wY_workOut_113 post J4 (nI l) (nI i0) fm fh n (nI i) ae ak an (pa_nT T') := by
  intro n
  induction n with
  | zero =>
    intro i T' h1 h2
    omega
  | succ n ih =>
    intro i T' h1 h2 c1 c2 c3
    refine pk_le 64 i (fun z => ?_) (fun z => ?_)
    · exact nm_r (nI_1 i0) (k T' c1 (fun q hq => c2 q (by omega)))
    · have r1 : T' (l * 64 + i) = T (l * 64 + i) := c3 _ (by omega) (by omega)
      have r2 : T' (l * 64 + 64 + i) = T (l * 64 + 64 + i) := c3 _ (by omega) (by omega)
      have b1 := hT (l * 64 + i) (by omega) (by omega)
      have b2 := hT (l * 64 + 64 + i) (by omega) (by omega)
      refine ⟨pk_in (l * 64 + i) 448 (by omega) (pa_i1 l i), pk_in (l * 64 + 64 + i) 448 (by omega) (pa_i6 l i), ?_⟩
      refine pa_yl (a := T (l * 64 + i)) (b := T (l * 64 + 64 + i)) ?_ ((pa_rd T' _ (pa_i1 l i) (by omega)).trans (by rw [r1])) ((pa_rd T' _ (pa_i6 l i) (by omega)).trans (by rw [r2])) (by omega) (by omega)
      refine ⟨pk_in (l * 64 + i) 448 (by omega) (pa_i1 l i), nm_r (pa_wr T' _ _ (pa_i1 l i) (by omega) rfl) (nm_r (nI_1 i) ?_)⟩
      refine ih (i + 1) _ (by omega) (by omega) (fun j hj => ?_) (fun q hq => ?_) (fun j hj hj2 => ?_)
      · rw [pa_uf (by omega)]
        exact c1 j hj
      · by_cases e : q = i
        · rw [e, pa_us]
        · rw [pa_uf (by omega)]
          exact c2 q (by omega)
      · rw [pa_uf (by omega)]
        exact c3 j (by omega) hj2
end
end
section
/-! ===== the reference's steps ===== -/
def pa_yk (c : Nat) : Int32 := if c < 3 then 0 else if c < 6 then 1 else if c < 15 then 2 else if c = 15 then 3 else if c = 16 then 4 else 5
def pa_yn (c : Nat) : Int32 := if c < 3 then nI c else if c < 6 then nI (c - 3) else if c = 6 then -1 else if c < 15 then nI (c - 7) else 0
def pa_E (ae : Nat → Int32) (l a b : Nat) : Prop := ¬ ae (l * 64 + a + 8 * b) = 0
theorem pa_i9 (c a b : Nat) : nI c * 64 + nI a + 8 * nI b = nI (c * 64 + a + 8 * b) := by rw [pa_m64, pa_8m, nI_add, nI_add]
theorem pa_yk_lt {c : Nat} (h : c < 15) : ¬ (3 : Int32) ≤ pa_yk c := by
  unfold pa_yk
  by_cases c1 : c < 3
  · rw [if_pos c1]
    decide
  · rw [if_neg c1]
    by_cases c2 : c < 6
    · rw [if_pos c2]
      decide
    · rw [if_neg c2, if_pos h]
      decide
theorem pa_yk_15 {c : Nat} (h : c = 15) : pa_yk c = 3 := by
  rw [h]
  rfl
theorem pa_yk_16 {c : Nat} (h : c = 16) : pa_yk c = 4 := by
  rw [h]
  rfl
theorem pa_yk_17 {c : Nat} (h : c = 17) : pa_yk c = 5 := by
  rw [h]
  rfl
section
variable {fm fh : Int32} {ae ak an tb : Nat → Int32}
theorem pa_ysg {post : Int32 → Prop} {c a b : Nat} (hc : c < 15) (ha : a < 8) (hb : b < 8) (k : ∀ v, pa_TB v (pa_kr (pa_E ae) c a b) → post (nI v)) : wpY_single post (fm, fh, ae, ak, an, tb) (pa_yk c) (pa_yn c) (nI a) (nI b) := by
  have no : (∀ n, ¬ pa_kr (pa_E ae) c a b n) → post 100000 := fun h => k 100000 ⟨Nat.le_refl _, fun q => absurd q (Nat.lt_irrefl _), fun n hn => absurd hn (h n)⟩
  by_cases c1 : c < 3
  · have ek : pa_yk c = 0 := if_pos c1
    have en : pa_yn c = nI c := if_pos c1
    rw [ek, en]
    have H : ∀ z0, wY_single_21 post 0 (nI c) (nI a) (nI b) z0 fm fh ae ak an tb := by
      intro z0
      refine br_t rfl ⟨pk_in (c * 64 + a + 8 * b) 192 (by omega) (pa_i9 c a b), nm_r (e' := ae (c * 64 + a + 8 * b)) (by rw [pa_i9, nI_clamp (by omega)]) ?_⟩
      refine br_c (fun z => no fun n hn => ?_) (fun z => br_f (by decide) (k 1 ⟨by omega, fun _ => ⟨ha, hb, Or.inr (Or.inl ⟨rfl, c1, z⟩)⟩, fun n hn => ?_⟩))
      · rcases hn.2.2 with q | q | q
        · omega
        · exact q.2.2 z
        · omega
      · rcases hn.2.2 with q | q | q
        · omega
        · omega
        · omega
    exact br_c (fun _ => br_c (fun _ => H 1) (fun _ => br_c (fun _ => H 1) (fun _ => H 0))) (fun _ => H 0)
  · by_cases c2 : c < 6
    · have ek : pa_yk c = 1 := by
        unfold pa_yk
        rw [if_neg c1, if_pos c2]
      have en : pa_yn c = nI (c - 3) := by
        unfold pa_yn
        rw [if_neg c1, if_pos c2]
      rw [ek, en]
      have H : ∀ z0, wY_single_21 post 1 (nI (c - 3)) (nI a) (nI b) z0 fm fh ae ak an tb := by
        intro z0
        refine br_f (by decide) (br_t rfl ⟨pk_in ((c - 3) * 64 + b + 8 * a) 192 (by omega) (pa_i9 (c - 3) b a), nm_r (e' := ae ((c - 3) * 64 + b + 8 * a)) (by rw [pa_i9, nI_clamp (by omega)]) ?_⟩)
        refine br_c (fun z => no fun n hn => ?_) (fun z => br_f (by decide) (k 1 ⟨by omega, fun _ => ⟨ha, hb, Or.inr (Or.inr ⟨rfl, by omega, c2, z⟩)⟩, fun n hn => ?_⟩))
        · rcases hn.2.2 with q | q | q
          · omega
          · omega
          · exact q.2.2.2 z
        · rcases hn.2.2 with q | q | q
          · omega
          · omega
          · omega
      exact br_c (fun _ => br_c (fun _ => H 1) (fun _ => br_c (fun _ => H 1) (fun _ => H 0))) (fun _ => H 0)
    · have ek : pa_yk c = 2 := by
        unfold pa_yk
        rw [if_neg c1, if_neg c2, if_pos hc]
      rw [ek]
      have H1 : (a = b ∧ (c = 6 ∨ c = 7 + a)) → wY_single_16 post 2 (pa_yn c) (nI a) (nI b) fm fh ae ak an tb := by
        intro z
        refine br_f (by decide) (br_f (by decide) (br_f (by decide) (br_t rfl (k 0 ⟨by omega, fun _ => ⟨ha, hb, Or.inl ⟨rfl, z.1, z.2⟩⟩, fun n hn => by omega⟩))))
      have H0 : ¬ (a = b ∧ (c = 6 ∨ c = 7 + a)) → wY_single_20 post 2 (pa_yn c) (nI a) (nI b) fm fh ae ak an tb := by
        intro z
        refine br_f (by decide) (br_f (by decide) (br_t rfl (no fun n hn => ?_)))
        rcases hn.2.2 with q | q | q
        · exact z ⟨q.2.1, q.2.2⟩
        · omega
        · omega
      by_cases e : a = b
      · have e' : nI a = nI b := by rw [e]
        by_cases d : c = 6
        · have en : pa_yn c = -1 := by
            rw [d]
            rfl
          exact br_t e' (br_t en (H1 ⟨e, Or.inl d⟩))
        · have en : pa_yn c = nI (c - 7) := by
            unfold pa_yn
            rw [if_neg c1, if_neg c2, if_neg d, if_pos hc]
          have n1 : ¬ pa_yn c = -1 := by
            rw [en]
            intro q
            exact absurd (show nI (c - 7) < 0 by rw [q]; decide) (nI_pos (by omega))
          by_cases f : c = 7 + a
          · have n2 : pa_yn c = nI a := by
              rw [en, f]
              exact congrArg nI (by omega)
            exact br_t e' (br_f n1 (br_t n2 (H1 ⟨e, Or.inr f⟩)))
          · have n2 : ¬ pa_yn c = nI a := by
              rw [en]
              exact pa_ne (by omega) (by omega) (by omega)
            exact br_t e' (br_f n1 (br_f n2 (H0 (by omega))))
      · exact br_f (pa_ne e (by omega) (by omega)) (H0 (fun q => e q.1))
theorem pa_y27 {post : Int32 → SY → Prop} {J4 : Int32 → Int32 → Int32 → Int32 → (Nat → Int32) → (Nat → Int32) → (Nat → Int32) → (Nat → Int32) → Prop} {l i0 c : Nat} (hl : l ≤ 5) (hi : i0 < 14) (hc : c < 15) (hk : ak i0 = pa_yk c) (hn : an i0 = pa_yn c) (T : Nat → Nat)
    (k : ∀ T', (∀ j, j < l * 64 → T' j = T j) → pa_tm (fun q => T' (l * 64 + q)) (pa_kr (pa_E ae) c) → J4 (nI l) (nI (i0 + 1)) fm fh ae ak an (pa_nT T')) :
    ∀ n i T', 64 < n + i → i ≤ 64 → (∀ j, j < l * 64 → T' j = T j) → (∀ q, q < i → pa_TB (T' (l * 64 + q)) (pa_kr (pa_E ae) c (q / 8) (q % 8))) → wY_workOut_27 post J4 (nI l) (nI i0) fm fh n (nI i) ae ak an (pa_nT T') := by
  intro n
  induction n with
  | zero =>
    intro i T' h1 h2
    omega
  | succ n ih =>
    intro i T' h1 h2 c1 c2
    refine pk_le 64 i (fun z => ?_) (fun z => ?_)
    · exact nm_r (nI_1 i0) (k T' c1 (fun q hq => c2 q (by omega)))
    · have e1 : ak (nI i0).toNatClampNeg = pa_yk c := by
        rw [nI_clamp (by omega)]
        exact hk
      have e2 : an (nI i0).toNatClampNeg = pa_yn c := by
        rw [nI_clamp (by omega)]
        exact hn
      refine ⟨pk_in i0 14 hi, pk_in i0 14 hi, pa_80, pa_80, ?_⟩
      rw [e1, e2, pa_r8 (by omega), pa_d8 (by omega)]
      refine pa_ysg hc (by omega) (by omega) (fun v hv => ?_)
      refine ⟨pk_in (l * 64 + i) 448 (by omega) (pa_i1 l i), nm_r (pa_wr T' _ _ (pa_i1 l i) (by omega) rfl) (nm_r (nI_1 i) ?_)⟩
      refine ih (i + 1) _ (by omega) (by omega) (fun j hj => ?_) (fun q hq => ?_)
      · rw [pa_uf (by omega)]
        exact c1 j hj
      · by_cases e : q = i
        · rw [e, pa_us]
          exact hv
        · rw [pa_uf (by omega)]
          exact c2 q (by omega)
theorem pa_tmk {T T' : Nat → Nat} {l x : Nat} {R : Nat → Nat → Nat → Prop} (h : pa_tm (fun q => T (l * 64 + q)) R) (g : ∀ j, j < x * 64 → T' j = T j) (hl : l < x) : pa_tm (fun q => T' (l * 64 + q)) R :=
  pa_tm_g h (fun p hp => g _ (by omega))
theorem pa_y4 {post : Int32 → SY → Prop} {made : Nat} {c : Nat → Nat} (hm : made ≤ 14) (W : pa_WF c made) (hk : ∀ j, j < made → ak j = pa_yk (c j)) (hn : ∀ j, j < made → an j = pa_yn (c j))
    (k : ∀ T', (∀ l, l < pa_ht c made → pa_tm (fun q => T' (l * 64 + q)) (pa_st (pa_E ae) c made l)) → post (nI (pa_ht c made) - 1) (nI made, fh, ae, ak, an, pa_nT T')) :
    ∀ n i T', made < n + i → i ≤ made → (∀ l, l < pa_ht c i → pa_tm (fun q => T' (l * 64 + q)) (pa_st (pa_E ae) c i l)) → wY_workOut_4 post n (nI (pa_ht c i) - 1) (nI i) (nI made) fh ae ak an (pa_nT T') := by
  intro n
  induction n with
  | zero =>
    intro i T' h1 h2
    omega
  | succ n ih =>
    intro i T' h1 h2 I
    refine pk_le made i (fun z => ?_) (fun z => ?_)
    · have e : i = made := by omega
      rw [e] at I ⊢
      exact k T' I
    · have e1 : ak (nI i).toNatClampNeg = pa_yk (c i) := by
        rw [nI_clamp (by omega)]
        exact hk i z
      have w := W i z
      have h6 := pa_ht_6 W i (by omega)
      refine ⟨pk_in i 14 (by omega), ?_⟩
      rw [e1]
      by_cases c1 : c i < 15
      · refine br_f (pa_yk_lt c1) (nm_r (pa_add1 _) ⟨65, ?_⟩)
        refine pa_y27 (l := pa_ht c i) (c := c i) (by have := w.2.1 c1; omega) (by omega) c1 (hk i z) (hn i z) T' (fun T'' g1 g2 => ?_) 65 0 T' (by omega) (by omega) (fun _ _ => rfl) (fun q hq => by omega)
        have J := ih (i + 1) T'' (by omega) (by omega) (fun l hl => ?_)
        · rw [pa_ht_p c1, nI_pred] at J
          exact J
        · rw [pa_ht_p c1] at hl
          rw [pa_st_p c1]
          dsimp only
          by_cases e : l = pa_ht c i
          · rw [if_pos e, e]
            exact g2
          · rw [if_neg e]
            exact pa_tmk (I l (by omega)) g1 (by omega)
      · have hp : 1 ≤ pa_ht c i := by omega
        rw [pa_sub1 hp]
        by_cases c2 : c i = 15
        · rw [pa_yk_15 c2]
          have h2' := w.2.2.1 c2
          refine br_t (by decide) ⟨pk_in i 14 (by omega), br_t rfl (nm_r (e' := nI (pa_ht c i - 2)) ?_ ?_)⟩
          · have e : pa_ht c i - 1 = pa_ht c i - 2 + 1 := by omega
            rw [e, pk_m1]
          · refine pa_yjoin (l := pa_ht c i - 2) (by omega) T' (fun j j1 j2 => ?_) (fun T'' g1 g2 => nm_r (nI_1 i) ?_)
            · by_cases y : j < (pa_ht c i - 2) * 64 + 64
              · have := (I (pa_ht c i - 2) (by omega) (j - (pa_ht c i - 2) * 64) (by omega)).1
                dsimp only at this
                rwa [show (pa_ht c i - 2) * 64 + (j - (pa_ht c i - 2) * 64) = j from by omega] at this
              · have := (I (pa_ht c i - 1) (by omega) (j - (pa_ht c i - 1) * 64) (by omega)).1
                dsimp only at this
                rwa [show (pa_ht c i - 1) * 64 + (j - (pa_ht c i - 1) * 64) = j from by omega] at this
            · have J := ih (i + 1) T'' (by omega) (by omega) (fun l hl => ?_)
              · rw [pa_ht_m (Or.inl c2), pa_sub1 (by omega)] at J
                exact J
              · rw [pa_ht_m (Or.inl c2)] at hl
                rw [pa_st_15 c2]
                dsimp only
                by_cases e : l = pa_ht c i - 2
                · rw [if_pos e, e]
                  refine pa_tm_g (pa_jt_ok (I (pa_ht c i - 2) (by omega)) (I (pa_ht c i - 1) (by omega))) (fun p hp => ?_)
                  rw [g2 p hp, show (pa_ht c i - 2) * 64 + 64 = (pa_ht c i - 1) * 64 from by omega]
                · rw [if_neg e]
                  exact pa_tmk (I l (by omega)) g1 (by omega)
        · by_cases c3 : c i = 16
          · rw [pa_yk_16 c3]
            have h2' := w.2.2.2.1 c3
            refine br_t (by decide) ⟨pk_in i 14 (by omega), br_f (by decide) ⟨pk_in i 14 (by omega), br_t rfl (nm_r (e' := nI (pa_ht c i - 2)) ?_ ⟨65, ?_⟩)⟩⟩
            · have e : pa_ht c i - 1 = pa_ht c i - 2 + 1 := by omega
              rw [e, pk_m1]
            · refine pa_y113 (l := pa_ht c i - 2) (by omega) T' (fun j j1 j2 => ?_) (fun T'' g1 g2 => ?_) 65 0 T' (by omega) (by omega) (fun _ _ => rfl) (fun q hq => by omega) (fun _ _ _ => rfl)
              · by_cases y : j < (pa_ht c i - 2) * 64 + 64
                · have := (I (pa_ht c i - 2) (by omega) (j - (pa_ht c i - 2) * 64) (by omega)).1
                  dsimp only at this
                  rwa [show (pa_ht c i - 2) * 64 + (j - (pa_ht c i - 2) * 64) = j from by omega] at this
                · have := (I (pa_ht c i - 1) (by omega) (j - (pa_ht c i - 1) * 64) (by omega)).1
                  dsimp only at this
                  rwa [show (pa_ht c i - 1) * 64 + (j - (pa_ht c i - 1) * 64) = j from by omega] at this
              · have J := ih (i + 1) T'' (by omega) (by omega) (fun l hl => ?_)
                · rw [pa_ht_m (Or.inr c3), pa_sub1 (by omega)] at J
                  exact J
                · rw [pa_ht_m (Or.inr c3)] at hl
                  rw [pa_st_16 c3]
                  dsimp only
                  by_cases e : l = pa_ht c i - 2
                  · rw [if_pos e, e]
                    refine pa_tm_g (pa_ut_ok (I (pa_ht c i - 2) (by omega)) (I (pa_ht c i - 1) (by omega))) (fun p hp => ?_)
                    rw [g2 p hp, show (pa_ht c i - 2) * 64 + 64 = (pa_ht c i - 1) * 64 from by omega]
                  · rw [if_neg e]
                    exact pa_tmk (I l (by omega)) g1 (by omega)
          · have c4 : c i = 17 := by omega
            rw [pa_yk_17 c4]
            refine br_t (by decide) ⟨pk_in i 14 (by omega), br_f (by decide) ⟨pk_in i 14 (by omega), br_f (by decide) ?_⟩⟩
            refine pa_yclose (l := pa_ht c i - 1) (by omega) T' (fun q hq => (I (pa_ht c i - 1) (by omega) q hq).1) (fun T'' g1 g2 => nm_r (nI_1 i) ?_)
            have J := ih (i + 1) T'' (by omega) (by omega) (fun l hl => ?_)
            · rw [pa_ht_s c4, pa_sub1 hp] at J
              exact J
            · rw [pa_ht_s c4] at hl
              rw [pa_st_17 c4]
              dsimp only
              by_cases e : l = pa_ht c i - 1
              · rw [if_pos e, e]
                exact pa_tm_g (pa_fw_ok (I (pa_ht c i - 1) (by omega))) g2
              · rw [if_neg e]
                exact pa_tmk (I l (by omega)) g1 (by omega)
/-- the top's relation -/
def pa_TR (E : Nat → Nat → Nat → Prop) (c : Nat → Nat) (made a b n : Nat) : Prop := 0 < pa_ht c made ∧ pa_st E c made (pa_ht c made - 1) a b n
theorem pa_TB_e (R : Nat → Prop) : ∃ v, pa_TB v R := by
  rcases Classical.em (∃ n, R n) with h | h
  · obtain ⟨m, h1, h2⟩ := pk_least R h
    by_cases z : m < 100000
    · exact ⟨m, by omega, fun _ => h1, fun n hn => Nat.le_of_not_lt (fun q => h2 n q hn)⟩
    · refine ⟨100000, Nat.le_refl _, fun q => absurd q (Nat.lt_irrefl _), fun n hn => ?_⟩
      have : ¬ n < m := fun q => h2 n q hn
      omega
  · exact ⟨100000, Nat.le_refl _, fun q => absurd q (Nat.lt_irrefl _), fun n hn => absurd ⟨n, hn⟩ h⟩
noncomputable def pa_vl (R : Nat → Prop) : Nat := (pa_TB_e R).choose
theorem pa_vl_s (R : Nat → Prop) : pa_TB (pa_vl R) R := (pa_TB_e R).choose_spec
theorem pa_m1l : ¬ (0 : Int32) ≤ nI 0 - 1 := by decide
theorem pa_ywork {post : Int32 → SY → Prop} {made : Nat} {c : Nat → Nat} (hm : made ≤ 14) (W : pa_WF c made) (hk : ∀ j, j < made → ak j = pa_yk (c j)) (hn : ∀ j, j < made → an j = pa_yn (c j))
    (k : ∀ T', (∀ (q : Int32 → Prop) (a b : Nat), a < 8 → b < 8 → q (nI (pa_vl (pa_TR (pa_E ae) c made a b))) → wpY_length q (nI made, fh, ae, ak, an, pa_nT T') (nI (pa_ht c made) - 1) (nI a) (nI b)) → post (nI (pa_ht c made) - 1) (nI made, fh, ae, ak, an, pa_nT T')) :
    wpY_workOut post (nI made, fh, ae, ak, an, tb) := by
  obtain ⟨T0, e0⟩ := pa_nT_of tb
  rw [e0]
  refine ⟨15, pa_y4 hm W hk hn (fun T' g => k T' (fun q a b ha hb hq => ?_)) 15 0 T0 (by omega) (by omega) (fun l hl => absurd hl (Nat.not_lt_zero l))⟩
  have h6 := pa_ht_6 W made (Nat.le_refl _)
  have u := pa_vl_s (pa_TR (pa_E ae) c made a b)
  by_cases z : pa_ht c made = 0
  · rw [z]
    refine br_f pa_m1l ?_
    have e : pa_vl (pa_TR (pa_E ae) c made a b) = 100000 := pa_TB_u u ⟨Nat.le_refl _, fun q => absurd q (Nat.lt_irrefl _), fun n hn => by have := hn.1; omega⟩
    rw [e] at hq
    exact hq
  · rw [pa_sub1 (by omega)]
    refine br_t (nI_pos' (by omega)) ⟨pk_in ((pa_ht c made - 1) * 64 + (a * 8 + b)) 448 (by omega) (pa_i8 _ a b), ?_⟩
    have t := pa_tm_2 (g (pa_ht c made - 1) (by omega)) ha hb
    have e : pa_vl (pa_TR (pa_E ae) c made a b) = T' ((pa_ht c made - 1) * 64 + (a * 8 + b)) := pa_TB_u u ⟨t.1, fun y => ⟨by omega, t.2.1 y⟩, fun n hn => t.2.2 n hn.2⟩
    have t1 := t.1
    refine pa_yl (a := 100000) (b := T' ((pa_ht c made - 1) * 64 + (a * 8 + b))) ?_ rfl (pa_rd T' _ (pa_i8 _ a b) (by omega)) (by omega) (by omega)
    have e2 : pa_ls 100000 (T' ((pa_ht c made - 1) * 64 + (a * 8 + b))) = T' ((pa_ht c made - 1) * 64 + (a * 8 + b)) := if_pos t1
    rw [e2, ← e]
    exact hq
end
end
section
/-! ===== the component's search ===== -/
theorem pa_j1 (s n : Nat) : nI s * 8 + nI n = nI (s * 8 + n) := by rw [pa_m8, nI_add]
theorem pa_j2 {p : Nat} (h : p < 2 ^ 31) : nI p / 8 * 8 + (nI p - nI p / 8 * 8) = nI p := by
  rw [pa_r8 h, pa_d8 h, pa_m8, nI_add]
  exact congrArg nI (by omega)
theorem pa_j3 {k : Nat} (h : 3 ≤ k) (a : Nat) : (nI k - 3) * 8 + nI a = nI ((k - 3) * 8 + a) := by
  have e : nI k - 3 = nI (k - 3) := pk_sub (a := k) (b := 3) h
  rw [e, pa_m8, nI_add]
theorem pa_eGr (g : Nat → Nat) {x : Int32} (k : Nat) (hx : x = nI k) (hk : k < 2 ^ 31) : pa_eG g x.toNatClampNeg = pa_en (g k) := by
  rw [hx, nI_clamp hk]
  rfl
/-- one move on pairs -/
def pa_N (E : Nat → Nat → Nat → Prop) (mv : Nat) (K F T : Nat → Nat) (w p q : Nat) : Prop := q < 224 ∧ pa_Mv E mv K F T w (p / 8) (p % 8) (q / 8) (q % 8)
theorem pa_gb {N : Nat → Nat → Nat → Prop} {Rch : Nat → Nat → Prop} {p0 D B : Nat} {g : Nat → Nat} (hD : D ≤ 300) (I1 : pa_I1 N Rch p0 D B g) {p : Nat} (hp : p < 224) : g p ≤ D + 1 := by
  by_cases z : g p = 0
  · omega
  · have := (I1.1 p (g p - 1) hp (by omega)).1
    omega
section
variable {fm fs fh : Int32} {mv : Nat} {af ab ast aen : Nat → Int32} {K F T : Nat → Nat}
theorem pa_xrh {post : SX → Prop} {here next D p : Nat} {g L C : Nat → Nat} {x y d : Int32} (hx : x * 8 + y = nI p) (hp : p < 224) (hg : g p ≤ 1000) (hd : d = nI D)
    (k0 : ¬ g p = 0 → post (fm, fs, nI mv, fh, nI here, nI next, af, ab, pa_nT K, pa_nT F, pa_nT T, ast, aen, pa_eG g, pa_nT L, pa_nT C)) (k1 : g p = 0 → here < 224 ∧ post (fm, fs, nI mv, fh, nI (here + 1), nI next, af, ab, pa_nT K, pa_nT F, pa_nT T, ast, aen, pa_eG (pa_up g p (D + 1)), pa_nT (pa_up L here p), pa_nT C)) : wpX_reachHere post (fm, fs, nI mv, fh, nI here, nI next, af, ab, pa_nT K, pa_nT F, pa_nT T, ast, aen, pa_eG g, pa_nT L, pa_nT C) x y d := by
  refine nm_r hx ⟨pk_in p 224 hp, ?_⟩
  rw [pa_eGr g p rfl (by omega), pa_en_n hg]
  refine br_c (fun z => ?_) (fun z => k0 z)
  obtain ⟨h1, h2⟩ := k1 z
  refine ⟨pk_in p 224 hp, nm_r (e' := pa_eG (pa_up g p (D + 1))) (by rw [nI_clamp (by omega), hd, pa_eG_u]) ⟨pk_in here 224 h1, nm_r (pa_wr L here p rfl (by omega) rfl) (nm_r (nI_1 here) h2)⟩⟩
theorem pa_xic2 {post : Int32 → Prop} {here next q : Nat} {g L C : Nat → Nat} (hn : next ≤ 224) (hC : ∀ i, i < next → C i < 224) (hq : q < 224) (k1 : (∃ i, i < next ∧ C i = q) → post 1) (k0 : (∀ i, i < next → C i ≠ q) → post 0) :
    ∀ f i, next < f + i → i ≤ next → (∀ j, j < i → C j ≠ q) → wX_isComing_2 post (nI q) fm fs (nI mv) fh (nI here) (nI next) af ab (pa_nT K) (pa_nT F) (pa_nT T) ast aen (pa_eG g) (pa_nT L) (pa_nT C) f (nI i) := by
  intro f
  induction f with
  | zero =>
    intro i h1 h2
    omega
  | succ f ih =>
    intro i h1 h2 c1
    refine pk_le next i (fun z => k0 (fun j hj => c1 j (by omega))) (fun z => ⟨pk_in i 224 (by omega), ?_⟩)
    have b := hC i z
    rw [pa_rd C i rfl (by omega), nI_eq (by omega) (by omega)]
    refine br_c (fun y => k1 ⟨i, z, y⟩) (fun y => nm_r (nI_1 i) (ih (i + 1) (by omega) (by omega) (fun j hj => ?_)))
    by_cases e : j = i
    · rw [e]
      exact y
    · exact c1 j (by omega)
theorem pa_xic {post : Int32 → Prop} {here next q : Nat} {g L C : Nat → Nat} (hn : next ≤ 224) (hC : ∀ i, i < next → C i < 224) (hq : q < 224) (k1 : (∃ i, i < next ∧ C i = q) → post 1) (k0 : (∀ i, i < next → C i ≠ q) → post 0) :
    wpX_isComing post (fm, fs, nI mv, fh, nI here, nI next, af, ab, pa_nT K, pa_nT F, pa_nT T, ast, aen, pa_eG g, pa_nT L, pa_nT C) (nI q) :=
  ⟨next + 1, pa_xic2 hn hC hq k1 k0 (next + 1) 0 (by omega) (by omega) (fun j hj => absurd hj (Nat.not_lt_zero j))⟩
theorem pa_xkc2 {post : SX → Prop} {Rch : Nat → Nat → Prop} {D here s next0 : Nat} {x2 : Int32} {g L C0 : Nat → Nat} {B : Nat → Prop} (hs : s < 28) (hB : ∀ n, n < 8 → ((x2 >>> (nI n &&& 31)) &&& 1 = 1 ↔ B n)) (hR : ∀ n, n < 8 → B n → Rch (D + 1) (s * 8 + n)) (hg : ∀ p, p < 224 → g p ≤ 1000)
    (k : ∀ next C, pa_I3 Rch D next C → pa_Le here next0 g L C0 here next g L C → (∀ n, n < 8 → B n → pa_Dn g next C 1 (s * 8 + n)) → post (fm, fs, nI mv, fh, nI here, nI next, af, ab, pa_nT K, pa_nT F, pa_nT T, ast, aen, pa_eG g, pa_nT L, pa_nT C)) :
    ∀ f i next C, 8 < f + i → i ≤ 8 → pa_I3 Rch D next C → pa_Le here next0 g L C0 here next g L C → (∀ n, n < i → B n → pa_Dn g next C 1 (s * 8 + n)) → wX_keepComing_2 post (nI s) x2 fm fs (nI mv) fh (nI here) f (nI i) (nI next) af ab (pa_nT K) (pa_nT F) (pa_nT T) ast aen (pa_eG g) (pa_nT L) (pa_nT C) := by
  intro f
  induction f with
  | zero =>
    intro i next C h1 h2
    omega
  | succ f ih =>
    intro i next C h1 h2 I3 le c1
    refine pk_le 8 i (fun z => k next C I3 le (fun n hn => c1 n (by omega))) (fun z => nm_r (pa_j1 s i) ?_)
    have go : (B i → pa_Dn g next C 1 (s * 8 + i)) → wX_keepComing_2 post (nI s) x2 fm fs (nI mv) fh (nI here) f (nI (i + 1)) (nI next) af ab (pa_nT K) (pa_nT F) (pa_nT T) ast aen (pa_eG g) (pa_nT L) (pa_nT C) := by
      intro b
      refine ih (i + 1) next C (by omega) (by omega) I3 le (fun n hn => ?_)
      by_cases e : n = i
      · rw [e]
        exact b
      · exact c1 n (by omega)
    rw [hB i z]
    by_cases b : B i
    · refine br_t b ⟨pk_in (s * 8 + i) 224 (by omega), ?_⟩
      rw [pa_eGr g (s * 8 + i) rfl (by omega), pa_en_p (hg _ (by omega))]
      refine br_c (fun y => nm_r (nI_1 i) (go (fun _ => Or.inl (by omega)))) (fun y => ?_)
      refine pk_le 224 next (fun y2 => nm_r (nI_1 i) (go (fun _ => Or.inr ⟨rfl, pa_fullC I3 (by omega) y2⟩))) (fun y2 => ?_) rfl rfl (by omega) (by have := pa_next I3; omega)
      refine pa_xic (pa_next I3) (fun j hj => (I3.1 j hj).1) (by omega) (fun ex => br_f (by decide) (nm_r (nI_1 i) (go (fun _ => Or.inr ⟨rfl, ex⟩)))) (fun nx => ?_)
      obtain ⟨v1, v2⟩ := pa_keepC I3 (q := s * 8 + i) (by omega) (hR i z b) nx
      refine br_t rfl ⟨pk_in next 224 y2, nm_r (pa_wr C next (s * 8 + i) rfl (by omega) rfl) (nm_r (nI_1 next) (nm_r (nI_1 i) ?_))⟩
      have le2 : pa_Le here next g L C here (next + 1) g L (pa_up C next (s * 8 + i)) := pa_keepC_le
      refine ih (i + 1) (next + 1) _ (by omega) (by omega) v2 (pa_Le_t le le2) (fun n hn bn => ?_)
      by_cases e : n = i
      · rw [e]
        exact Or.inr ⟨rfl, next, by omega, pa_us⟩
      · exact pa_Dn_m le2 (c1 n (by omega) bn)
    · exact br_f b (nm_r (nI_1 i) (go (fun q => absurd q b)))
theorem pa_xkc {post : SX → Prop} {Rch : Nat → Nat → Prop} {D here s next : Nat} {x2 : Int32} {g L C : Nat → Nat} {B : Nat → Prop} (hs : s < 28) (hB : ∀ n, n < 8 → ((x2 >>> (nI n &&& 31)) &&& 1 = 1 ↔ B n)) (hR : ∀ n, n < 8 → B n → Rch (D + 1) (s * 8 + n)) (hg : ∀ p, p < 224 → g p ≤ 1000) (I3 : pa_I3 Rch D next C)
    (k : ∀ next' C', pa_I3 Rch D next' C' → pa_Le here next g L C here next' g L C' → (∀ n, n < 8 → B n → pa_Dn g next' C' 1 (s * 8 + n)) → post (fm, fs, nI mv, fh, nI here, nI next', af, ab, pa_nT K, pa_nT F, pa_nT T, ast, aen, pa_eG g, pa_nT L, pa_nT C')) :
    wpX_keepComing post (fm, fs, nI mv, fh, nI here, nI next, af, ab, pa_nT K, pa_nT F, pa_nT T, ast, aen, pa_eG g, pa_nT L, pa_nT C) (nI s) x2 :=
  ⟨9, pa_xkc2 hs hB hR hg k 9 0 next C (by omega) (by omega) I3 pa_Le_r (fun n hn => absurd hn (Nat.not_lt_zero n))⟩
end
section
variable {fm fs fh : Int32} {mv : Nat} {af ab ast aen : Nat → Int32} {K F T : Nat → Nat} {E : Nat → Nat → Nat → Prop} {Rch : Nat → Nat → Prop} {p0 : Nat}
/-- what the automaton and the graph give the search -/
def pa_HY (mv : Nat) (af ab : Nat → Int32) (K F T : Nat → Nat) (E : Nat → Nat → Nat → Prop) (Rch : Nat → Nat → Prop) : Prop :=
  mv ≤ 56 ∧ (∀ m, m < mv → K m < 15 ∧ F m < 28 ∧ T m < 28) ∧ (∀ l x y, l < 3 → x < 8 → y < 8 → (bt (af (l * 8 + x)) y = true ↔ E l x y)) ∧ (∀ l x y, l < 3 → x < 8 → y < 8 → (bt (ab (l * 8 + y)) x = true ↔ E l x y)) ∧ (∀ n w p q, Rch n p → pa_N E mv K F T w p q → Rch (n + w) q)
theorem pa_xfo {post : SX → Prop} {D m a here next : Nat} {g L C : Nat → Nat} (HY : pa_HY mv af ab K F T E Rch) (hD : D ≤ 300) (hm : m < mv) (ha : a < 8)
    (I1 : pa_I1 (pa_N E mv K F T) Rch p0 D D g) (I2 : pa_I2 D here g L) (I3 : pa_I3 Rch D next C)
    (hR : ∀ w q, q < 224 → T m = q / 8 → pa_kr E (K m) a (q % 8) w → Rch (D + w) q)
    (k : ∀ here' next' g' L' C', pa_I1 (pa_N E mv K F T) Rch p0 D D g' → pa_I2 D here' g' L' → pa_I3 Rch D next' C' → pa_Le here next g L C here' next' g' L' C' → (∀ w q, q < 224 → T m = q / 8 → pa_kr E (K m) a (q % 8) w → pa_Dn g' next' C' w q) → post (fm, fs, nI mv, fh, nI here', nI next', af, ab, pa_nT K, pa_nT F, pa_nT T, ast, aen, pa_eG g', pa_nT L', pa_nT C')) :
    wpX_follow post (fm, fs, nI mv, fh, nI here, nI next, af, ab, pa_nT K, pa_nT F, pa_nT T, ast, aen, pa_eG g, pa_nT L, pa_nT C) (nI m) (nI a) (nI D) := by
  obtain ⟨hmv, hM, hf, hb, -⟩ := HY
  have hm3 := hM m hm
  have hg : ∀ p, p < 224 → g p ≤ 1000 := fun p hp => by have := pa_gb hD I1 hp; omega
  refine ⟨pk_in m 56 (by omega), nm_r (pa_rd K m rfl (by omega)) ?_⟩
  have F24 : (K m = 6 ∨ K m = 7 + a) → wX_follow_24 post (nI m) (nI a) (nI D) fm fs (nI mv) fh (nI here) (nI next) af ab (pa_nT K) (pa_nT F) (pa_nT T) ast aen (pa_eG g) (pa_nT L) (pa_nT C) := by
    intro z
    have only : ∀ w q, T m = q / 8 → pa_kr E (K m) a (q % 8) w → w = 0 ∧ q = T m * 8 + a := by
      intro w q e hk
      rcases hk.2.2 with y | y | y
      · omega
      · omega
      · omega
    refine ⟨pk_in m 56 (by omega), ?_⟩
    rw [pa_rd T m rfl (by omega)]
    refine pa_xrh (p := T m * 8 + a) (D := D) (pa_j1 _ _) (by omega) (hg _ (by omega)) rfl (fun y => ?_) (fun y => ?_)
    · refine k here next g L C I1 I2 I3 pa_Le_r (fun w q hq e hk => Or.inl ?_)
      rw [(only w q e hk).2]
      omega
    · have hr : Rch (D + 0) (T m * 8 + a) := hR 0 (T m * 8 + a) (by omega) (by omega) ⟨ha, by omega, Or.inl ⟨rfl, by omega, z⟩⟩
      obtain ⟨v1, v2, v3⟩ := pa_visit (Nat.le_refl _) I1 I2 (by omega) y hr
      refine ⟨v1, k _ _ _ _ _ v2 v3 I3 (pa_visit_le y) (fun w q hq e hk => Or.inl ?_)⟩
      rw [(only w q e hk).2, pa_us]
      omega
  refine pk_eq (K m) 6 (fun z => F24 (Or.inl z)) (fun z => ?_)
  refine pk_eq (K m) (7 + a) (fun z2 => F24 (Or.inr z2)) (fun z2 => ?_) rfl (pa_7a a)
  refine pk_le 3 (K m) (fun z3 => ?_) (fun z3 => ?_)
  · refine pk_le 6 (K m) (fun z4 => ?_) (fun z4 => ?_)
    · refine k here next g L C I1 I2 I3 pa_Le_r (fun w q hq e hk => ?_)
      rcases hk.2.2 with y | y | y
      · omega
      · omega
      · omega
    · refine ⟨pk_in m 56 (by omega), pk_in ((K m - 3) * 8 + a) 24 (by omega) (pa_j3 z3 a), ?_⟩
      rw [pa_rd T m rfl (by omega), pa_j3 z3 a, nI_clamp (by omega)]
      refine pa_xkc (Rch := Rch) (D := D) (B := fun n => E (K m - 3) n a) (by omega) (fun n hn => ?_) (fun n hn bn => ?_) hg I3 (fun next' C' v1 v2 v3 => ?_)
      · rw [pa_bit1 _ (by omega)]
        exact hb (K m - 3) n a (by omega) hn ha
      · exact hR 1 (T m * 8 + n) (by omega) (by omega) ⟨ha, by omega, Or.inr (Or.inr ⟨rfl, z3, z4, by rw [show (T m * 8 + n) % 8 = n from by omega]; exact bn⟩)⟩
      · refine k here next' g L C' I1 I2 v1 v2 (fun w q hq e hk => ?_)
        rcases hk.2.2 with y | y | y
        · omega
        · omega
        · have x := v3 (q % 8) (by omega) y.2.2.2
          rw [e, show q / 8 * 8 + q % 8 = q from by omega] at x
          rw [y.1]
          exact x
  · refine ⟨pk_in m 56 (by omega), pk_in (K m * 8 + a) 24 (by omega) (pa_j1 _ _), ?_⟩
    rw [pa_rd T m rfl (by omega), pa_j1, nI_clamp (by omega)]
    refine pa_xkc (Rch := Rch) (D := D) (B := fun n => E (K m) a n) (by omega) (fun n hn => ?_) (fun n hn bn => ?_) hg I3 (fun next' C' v1 v2 v3 => ?_)
    · rw [pa_bit1 _ (by omega)]
      exact hf (K m) a n (by omega) ha hn
    · exact hR 1 (T m * 8 + n) (by omega) (by omega) ⟨ha, by omega, Or.inr (Or.inl ⟨rfl, z3, by rw [show (T m * 8 + n) % 8 = n from by omega]; exact bn⟩)⟩
    · refine k here next' g L C' I1 I2 v1 v2 (fun w q hq e hk => ?_)
      rcases hk.2.2 with y | y | y
      · omega
      · have x := v3 (q % 8) (by omega) y.2.2
        rw [e, show q / 8 * 8 + q % 8 = q from by omega] at x
        rw [y.1]
        exact x
      · omega
theorem pa_x39 {post : SX → Prop} {J7 : Int32 → Int32 → Int32 → Int32 → Int32 → Int32 → Int32 → (Nat → Int32) → (Nat → Int32) → (Nat → Int32) → (Nat → Int32) → (Nat → Int32) → (Nat → Int32) → (Nat → Int32) → (Nat → Int32) → (Nat → Int32) → (Nat → Int32) → Prop} {D i p here0 next0 : Nat} {g0 L0 C0 : Nat → Nat} (HY : pa_HY mv af ab K F T E Rch) (hD : D ≤ 300) (hi : i < here0) (hp : L0 i = p)
    (k : ∀ here next g L C, pa_I1 (pa_N E mv K F T) Rch p0 D D g → pa_I2 D here g L → pa_I3 Rch D next C → pa_Le here0 next0 g0 L0 C0 here next g L C → (∀ w q, pa_N E mv K F T w p q → pa_Dn g next C w q) → J7 (nI (i + 1)) fm fs (nI mv) fh (nI here) (nI next) af ab (pa_nT K) (pa_nT F) (pa_nT T) ast aen (pa_eG g) (pa_nT L) (pa_nT C)) :
    ∀ f m here next g L C, mv < f + m → m ≤ mv → pa_I1 (pa_N E mv K F T) Rch p0 D D g → pa_I2 D here g L → pa_I3 Rch D next C → pa_Le here0 next0 g0 L0 C0 here next g L C →
      (∀ m', m' < m → ∀ w q, q < 224 → F m' = p / 8 → T m' = q / 8 → pa_kr E (K m') (p % 8) (q % 8) w → pa_Dn g next C w q) →
      wX_workLevel_39 post J7 (nI D) (nI i) (nI (p / 8)) (nI (p % 8)) f (nI m) fm fs (nI mv) fh (nI here) (nI next) af ab (pa_nT K) (pa_nT F) (pa_nT T) ast aen (pa_eG g) (pa_nT L) (pa_nT C) := by
  intro f
  induction f with
  | zero =>
    intro m here next g L C h1 h2
    omega
  | succ f ih =>
    intro m here next g L C h1 h2 I1 I2 I3 le c1
    have hmv := HY.1
    refine pk_le mv m (fun z => nm_r (nI_1 i) ?_) (fun z => ⟨pk_in m 56 (by omega), ?_⟩)
    · refine k here next g L C I1 I2 I3 le (fun w q hw => ?_)
      obtain ⟨hq, m', y1, y2, y3, y4⟩ := hw
      exact c1 m' (by omega) w q hq y2 y3 y4
    · have hF := HY.2.1 m z
      have eL : L i = p := (le.2.2.2.1 i hi).trans hp
      have hip := I2.1 i (Nat.lt_of_lt_of_le hi le.1)
      rw [eL] at hip
      rw [pa_rd F m rfl (by omega), nI_eq (by omega) (by omega)]
      refine br_c (fun y => ?_) (fun y => nm_r (nI_1 m) ?_)
      · refine pa_xfo HY hD z (by omega) I1 I2 I3 (fun w q hq e hk => ?_) (fun here' next' g' L' C' i1 i2 i3 le2 dn => nm_r (nI_1 m) ?_)
        · exact HY.2.2.2.2 D w p q (I1.1 p D hip.1 hip.2).2 ⟨hq, m, z, y, e, hk⟩
        · refine ih (m + 1) here' next' g' L' C' (by omega) (by omega) i1 i2 i3 (pa_Le_t le le2) (fun m' hm' w q hq e1 e2 hk => ?_)
          by_cases e : m' = m
          · rw [e] at e2 hk
            exact dn w q hq e2 hk
          · exact pa_Dn_m le2 (c1 m' (by omega) w q hq e1 e2 hk)
      · refine ih (m + 1) here next g L C (by omega) (by omega) I1 I2 I3 le (fun m' hm' w q hq e1 e2 hk => ?_)
        by_cases e : m' = m
        · rw [e] at e1
          exact absurd e1 y
        · exact c1 m' (by omega) w q hq e1 e2 hk
theorem pa_x7 {post : SX → Prop} {D here0 : Nat} (HY : pa_HY mv af ab K F T E Rch) (hD : D ≤ 300)
    (k : ∀ here next g L C, here0 ≤ here → pa_I1 (pa_N E mv K F T) Rch p0 D D g → pa_I2 D here g L → pa_I3 Rch D next C → (∀ j, j < here → ∀ w q, pa_N E mv K F T w (L j) q → pa_Dn g next C w q) → post (fm, fs, nI mv, fh, nI here, nI next, af, ab, pa_nT K, pa_nT F, pa_nT T, ast, aen, pa_eG g, pa_nT L, pa_nT C)) :
    ∀ f i here next g L C, 225 ≤ f + i → i ≤ here → here0 ≤ here → pa_I1 (pa_N E mv K F T) Rch p0 D D g → pa_I2 D here g L → pa_I3 Rch D next C → (∀ j, j < i → ∀ w q, pa_N E mv K F T w (L j) q → pa_Dn g next C w q) →
      wX_workLevel_7 post (nI D) f (nI i) fm fs (nI mv) fh (nI here) (nI next) af ab (pa_nT K) (pa_nT F) (pa_nT T) ast aen (pa_eG g) (pa_nT L) (pa_nT C) := by
  intro f
  induction f with
  | zero =>
    intro i here next g L C h1 h2 h3 I1 I2
    have := pa_here I2
    omega
  | succ f ih =>
    intro i here next g L C h1 h2 h3 I1 I2 I3 c1
    have h224 := pa_here I2
    refine pk_le here i (fun z => ?_) (fun z => ?_)
    · exact k here next g L C h3 I1 I2 I3 (fun j hj => c1 j (by omega))
    · have hL := (I2.1 i z).1
      refine ⟨pk_in i 224 (by omega), pa_80, nm_r (e' := nI (L i / 8)) (by rw [pa_rd L i rfl (by omega), pa_d8 (by omega)]) ⟨pk_in i 224 (by omega), pa_80, nm_r (e' := nI (L i % 8)) (by rw [pa_rd L i rfl (by omega), pa_r8 (by omega)]) ⟨mv + 1, ?_⟩⟩⟩
      refine pa_x39 (here0 := here) (next0 := next) (g0 := g) (L0 := L) (C0 := C) HY hD z rfl (fun here' next' g' L' C' i1 i2 i3 le dn => ?_) (mv + 1) 0 here next g L C (by omega) (by omega) I1 I2 I3 pa_Le_r (fun m' hm' => absurd hm' (Nat.not_lt_zero m'))
      refine ih (i + 1) here' next' g' L' C' (by omega) (by have := le.1; omega) (by have := le.1; omega) i1 i2 i3 (fun j hj w q hw => ?_)
      have hj2 : j < here := by omega
      rw [le.2.2.2.1 j hj2] at hw
      by_cases e : j = i
      · rw [e] at hw
        exact dn w q hw
      · exact pa_Dn_m le (c1 j (by omega) w q hw)
theorem pa_xwl {post : SX → Prop} {D here : Nat} {fn : Int32} {g L C : Nat → Nat} (HY : pa_HY mv af ab K F T E Rch) (hD : D ≤ 300) (I1 : pa_I1 (pa_N E mv K F T) Rch p0 D D g) (I2 : pa_I2 D here g L)
    (k : ∀ here' next g L C, here ≤ here' → pa_I1 (pa_N E mv K F T) Rch p0 D D g → pa_I2 D here' g L → pa_I3 Rch D next C → (∀ j, j < here' → ∀ w q, pa_N E mv K F T w (L j) q → pa_Dn g next C w q) → post (fm, fs, nI mv, fh, nI here', nI next, af, ab, pa_nT K, pa_nT F, pa_nT T, ast, aen, pa_eG g, pa_nT L, pa_nT C)) :
    wpX_workLevel post (fm, fs, nI mv, fh, nI here, fn, af, ab, pa_nT K, pa_nT F, pa_nT T, ast, aen, pa_eG g, pa_nT L, pa_nT C) (nI D) :=
  ⟨225, pa_x7 HY hD k 225 0 here 0 g L C (by omega) (by omega) (Nat.le_refl _) I1 I2 ⟨fun c hc => absurd hc (Nat.not_lt_zero c), fun i j hi => absurd hi (Nat.not_lt_zero i)⟩ (fun j hj => absurd hj (Nat.not_lt_zero j))⟩
theorem pa_x80 {post : SX → Prop} {J54 : Int32 → Int32 → Int32 → Int32 → Int32 → Int32 → Int32 → (Nat → Int32) → (Nat → Int32) → (Nat → Int32) → (Nat → Int32) → (Nat → Int32) → (Nat → Int32) → (Nat → Int32) → (Nat → Int32) → (Nat → Int32) → (Nat → Int32) → Prop} {D next : Nat} {C : Nat → Nat} (hD : D ≤ 300) (I3 : pa_I3 Rch D next C)
    (k : ∀ here g L, pa_I1 (pa_N E mv K F T) Rch p0 (D + 1) (D + 1) g → pa_I2 (D + 1) here g L → J54 (nI (D + 1)) fm fs (nI mv) fh (nI here) (nI next) af ab (pa_nT K) (pa_nT F) (pa_nT T) ast aen (pa_eG g) (pa_nT L) (pa_nT C)) :
    ∀ f j here g L, next < f + j → j ≤ next → pa_I1 (pa_N E mv K F T) Rch p0 (D + 1) D g → pa_I2 (D + 1) here g L → pa_I5 (pa_N E mv K F T) D j next g C →
      wX_search_80 post J54 (nI D) f (nI j) fm fs (nI mv) fh (nI here) (nI next) af ab (pa_nT K) (pa_nT F) (pa_nT T) ast aen (pa_eG g) (pa_nT L) (pa_nT C) := by
  intro f
  induction f with
  | zero =>
    intro j here g L h1 h2
    omega
  | succ f ih =>
    intro j here g L h1 h2 I1 I2 I5
    have h224 := pa_next I3
    refine pk_le next j (fun z => nm_r (nI_1 D) ?_) (fun z => ?_)
    · have e : j = next := by omega
      rw [e] at I5
      exact k here g L (pa_I5_e I1 I5) I2
    · have hC := I3.1 j z
      refine ⟨pk_in j 224 (by omega), pa_80, pk_in j 224 (by omega), pa_80, ?_⟩
      rw [pa_rd C j rfl (by omega)]
      have hb : g (C j) ≤ D + 1 + 1 := by
        by_cases y : g (C j) = 0
        · omega
        · have := (I1.1 (C j) (g (C j) - 1) hC.1 (by omega)).1
          omega
      refine pa_xrh (p := C j) (D := D + 1) (pa_j2 (by omega)) hC.1 (by omega) (nI_1 D) (fun y => nm_r (nI_1 j) ?_) (fun y => ?_)
      · exact ih (j + 1) here g L (by omega) (by omega) I1 I2 (pa_I5_n I5 (by omega) hb rfl)
      · obtain ⟨v1, v2, v3⟩ := pa_visit (by omega) I1 I2 hC.1 y hC.2
        exact ⟨v1, nm_r (nI_1 j) (ih (j + 1) _ _ _ (by omega) (by omega) v2 v3 (pa_I5_v I5 y rfl))⟩
theorem pa_x54 {post : SX → Prop} (HY : pa_HY mv af ab K F T E Rch)
    (k : ∀ here next g L C, pa_Fn (pa_N E mv K F T) Rch p0 g → post (fm, fs, nI mv, fh, nI here, nI next, af, ab, pa_nT K, pa_nT F, pa_nT T, ast, aen, pa_eG g, pa_nT L, pa_nT C)) :
    ∀ f D here next g L C, 225 < f + D → D ≤ 225 → pa_I1 (pa_N E mv K F T) Rch p0 D D g → pa_I2 D here g L → wX_search_54 post f (nI D) fm fs (nI mv) fh (nI here) (nI next) af ab (pa_nT K) (pa_nT F) (pa_nT T) ast aen (pa_eG g) (pa_nT L) (pa_nT C) := by
  intro f
  induction f with
  | zero =>
    intro D here next g L C h1 h2
    omega
  | succ f ih =>
    intro D here next g L C h1 h2 I1 I2
    have h224 := pa_here I2
    have fin : here = 0 → post (fm, fs, nI mv, fh, nI here, nI next, af, ab, pa_nT K, pa_nT F, pa_nT T, ast, aen, pa_eG g, pa_nT L, pa_nT C) := by
      intro e
      rw [e] at I2 ⊢
      exact k 0 next g L C (pa_end h2 I1 I2)
    refine pk_lt 224 D (fun z => ?_) (fun z => ?_)
    · refine fin ?_
      rcases Nat.eq_zero_or_pos here with y | y
      · exact y
      · have := pa_levels I1 I2 y
        omega
    · refine pk_le here 0 (fun y => fin (by omega)) (fun y => ?_)
      have hD := pa_levels I1 I2 y
      refine pa_xwl HY (by omega) I1 I2 (fun here' next' g' L' C' hle i1 i2 i3 i4 => ⟨next' + 1, ?_⟩)
      obtain ⟨t1, t2, t3⟩ := pa_turn (fun w p q hw => hw.1) i1 i2 (by omega) i4
      exact pa_x80 (by omega) i3 (fun here'' g'' L'' j1 j2 => ih (D + 1) here'' next' g'' L'' C' (by omega) (by omega) j1 j2) (next' + 1) 0 0 g' L' (by omega) (by omega) t1 t2 t3
theorem pa_x2 {post : SX → Prop} {h a : Nat} {st : Nat → Nat} {fr fn : Int32} {L C : Nat → Nat} (hh : h ≤ 6) (ha : a < 8) (HY : pa_HY mv af ab K F T E Rch) (hs : 0 < h → st (h - 1) < 28) (hr : 0 < h → Rch 0 (st (h - 1) * 8 + a))
    (k0 : h = 0 → ∀ g, post (fm, fs, nI mv, nI h, fr, fn, af, ab, pa_nT K, pa_nT F, pa_nT T, pa_nT st, aen, pa_eG g, pa_nT L, pa_nT C))
    (k1 : 0 < h → ∀ here next g L C, pa_Fn (pa_N E mv K F T) Rch (st (h - 1) * 8 + a) g → post (fm, fs, nI mv, nI h, nI here, nI next, af, ab, pa_nT K, pa_nT F, pa_nT T, pa_nT st, aen, pa_eG g, pa_nT L, pa_nT C)) :
    ∀ f i g, 224 < f + i → i ≤ 224 → (∀ p, p < i → g p = 0) → wX_search_2 post (nI a) fm fs (nI mv) (nI h) fr fn f (nI i) af ab (pa_nT K) (pa_nT F) (pa_nT T) (pa_nT st) aen (pa_eG g) (pa_nT L) (pa_nT C) := by
  intro f
  induction f with
  | zero =>
    intro i g h1 h2
    omega
  | succ f ih =>
    intro i g h1 h2 c1
    refine pk_le 224 i (fun z => ?_) (fun z => ?_)
    · refine pk_eq h 0 (fun y => k0 y g) (fun y => ?_)
      have hp : 0 < h := by omega
      have hs' := hs hp
      refine ⟨pk_in (h - 1) 6 (by omega) (pa_sub1 hp), ?_⟩
      rw [pa_rd st (h - 1) (pa_sub1 hp) (by omega)]
      obtain ⟨nx, en⟩ : ∃ nx, fn = nI nx := ⟨_, pa_of32 fn⟩
      rw [en]
      have gz : g (st (h - 1) * 8 + a) = 0 := c1 _ (by omega)
      refine pa_xrh (here := 0) (next := nx) (p := st (h - 1) * 8 + a) (D := 0) (pa_j1 _ _) (by omega) (by omega) rfl (fun q => absurd gz q) (fun _ => ⟨by omega, ?_⟩)
      obtain ⟨b1, b2⟩ := pa_begin (N := pa_N E mv K F T) (Rch := Rch) (p0 := st (h - 1) * 8 + a) (g := g) (L := L) (fun p hp => c1 p (by omega)) (by omega) (hr hp)
      exact ⟨226, pa_x54 HY (k1 hp) 226 0 1 nx _ _ C (by omega) (by omega) b1 b2⟩
    · refine ⟨pk_in i 224 z, nm_r (e' := pa_eG (pa_up g i 0)) (by rw [nI_clamp (by omega), pa_eG_0]) (nm_r (nI_1 i) (ih (i + 1) _ (by omega) (by omega) (fun p hp => ?_)))⟩
      by_cases e : p = i
      · rw [pa_ut e]
      · rw [pa_uf e]
        exact c1 p (by omega)
end
end
section
/-! ===== what the search leaves is the least length ===== -/
def pa_xr (v : Nat) : Int32 := if v < 100000 then nI v else -1
theorem pa_xr_t {v : Nat} (h : v < 100000) : pa_xr v = nI v := if_pos h
theorem pa_xr_f {v : Nat} (h : ¬ v < 100000) : pa_xr v = -1 := if_neg h
theorem pa_Mv_N {E : Nat → Nat → Nat → Prop} {mv : Nat} {K F T : Nat → Nat} {w s x t y : Nat} (hx : x < 8) (ht : t < 28) (h : pa_Mv E mv K F T w s x t y) : y < 8 ∧ pa_N E mv K F T w (s * 8 + x) (t * 8 + y) := by
  have hy : y < 8 := by
    obtain ⟨m, -, -, -, h4⟩ := h
    exact h4.2.1
  refine ⟨hy, by omega, ?_⟩
  rw [show (s * 8 + x) / 8 = s from by omega, show (s * 8 + x) % 8 = x from by omega, show (t * 8 + y) / 8 = t from by omega, show (t * 8 + y) % 8 = y from by omega]
  exact h
theorem pa_Fn_c {E : Nat → Nat → Nat → Prop} {mv : Nat} {K F T : Nat → Nat} {Rch : Nat → Nat → Prop} {p0 : Nat} {g : Nat → Nat} (hT : ∀ m, m < mv → T m < 28) (H : pa_Fn (pa_N E mv K F T) Rch p0 g) :
    ∀ k s x n t y, pa_PT (pa_Mv E mv K F T) k s x n t y → s < 28 → x < 8 → ∀ d, g (s * 8 + x) = d + 1 → 1 ≤ g (t * 8 + y) ∧ g (t * 8 + y) ≤ d + 1 + n := by
  intro k
  induction k with
  | zero =>
    intro s x n t y h hs hx d e
    obtain ⟨h1, h2, h3⟩ := h
    rw [← h1, ← h2]
    omega
  | succ k ih =>
    intro s x n t y h hs hx d e
    obtain ⟨w, u, c, n', h1, h2, h3⟩ := h
    have hu : u < 28 := by
      obtain ⟨m, m1, -, m3, -⟩ := h1
      rw [← m3]
      exact hT m m1
    obtain ⟨hc, hN⟩ := pa_Mv_N hx hu h1
    have a := H.2.1 (s * 8 + x) d (by omega) e w (u * 8 + c) hN
    have b := ih u c n' t y h2 hu hc (g (u * 8 + c) - 1) (by omega)
    omega
section
variable {made h ns mv : Nat} {c K F T st en O : Nat → Nat} {af ab ae : Nat → Int32}
/-- the edges by bits and the edges by cells -/
def pa_ED (af ab ae : Nat → Int32) : Prop := ∀ l x y, l < 3 → x < 8 → y < 8 → (bt (af (l * 8 + x)) y = true ↔ pa_E ae l x y) ∧ (bt (ab (l * 8 + y)) x = true ↔ pa_E ae l x y)
theorem pa_HY_i {a : Nat} (hmv : mv ≤ 56) (hns : ns ≤ 28) (N : pa_NF h ns mv K F T st en O) (D : pa_ED af ab ae) :
    pa_HY mv af ab K F T (pa_E ae) (fun n p => pa_LG (pa_Mv (pa_E ae) mv K F T) (st (h - 1)) a n (p / 8) (p % 8)) := by
  refine ⟨hmv, fun m hm => ?_, fun l x y hl hx hy => (D l x y hl hx hy).1, fun l x y hl hx hy => (D l x y hl hx hy).2, fun n w p q h1 h2 => pa_LG_n h1 h2.2⟩
  have q := N.1 m hm
  exact ⟨q.1, by omega, by omega⟩
theorem pa_ans {a b : Nat} {g : Nat → Nat} (ha : a < 8) (hb : b < 8) (hns : ns ≤ 28) (hh : h = pa_ht c made) (h0 : 0 < h) (N : pa_NF h ns mv K F T st en O) (R : pa_FR (pa_E ae) h mv K F T st en (pa_st (pa_E ae) c made))
    (H : pa_Fn (pa_N (pa_E ae) mv K F T) (fun n p => pa_LG (pa_Mv (pa_E ae) mv K F T) (st (h - 1)) a n (p / 8) (p % 8)) (st (h - 1) * 8 + a) g) :
    pa_en (g (en (h - 1) * 8 + b)) = pa_xr (pa_vl (pa_TR (pa_E ae) c made a b)) ∧ (pa_vl (pa_TR (pa_E ae) c made a b) ≤ 224 ∨ pa_vl (pa_TR (pa_E ae) c made a b) = 100000) := by
  have q := N.2.1 (h - 1) (by omega)
  have hR := R (h - 1) a b
  have u := pa_vl_s (pa_TR (pa_E ae) c made a b)
  have hT : ∀ m, m < mv → T m < 28 := fun m hm => by have := (N.1 m hm).2.2.1; omega
  have up : ∀ n, pa_TR (pa_E ae) c made a b n → 1 ≤ g (en (h - 1) * 8 + b) ∧ g (en (h - 1) * 8 + b) ≤ 0 + 1 + n := by
    intro n hn
    have hn2 := hn.2
    rw [← hh] at hn2
    obtain ⟨k, hk⟩ := (hR n (by omega) ha hb).mpr hn2
    exact pa_Fn_c hT H k (st (h - 1)) a n (en (h - 1)) b hk (by omega) ha 0 H.2.2
  by_cases z : g (en (h - 1) * 8 + b) = 0
  · have e : pa_vl (pa_TR (pa_E ae) c made a b) = 100000 := by
      refine pa_TB_u u ⟨Nat.le_refl _, fun y => absurd y (Nat.lt_irrefl _), fun n hn => ?_⟩
      have := up n hn
      omega
    rw [z, e]
    exact ⟨rfl, Or.inr rfl⟩
  · obtain ⟨d, hd⟩ : ∃ d, g (en (h - 1) * 8 + b) = d + 1 := ⟨g (en (h - 1) * 8 + b) - 1, by omega⟩
    have y := H.1 (en (h - 1) * 8 + b) d (by omega) hd
    have y2 : pa_LG (pa_Mv (pa_E ae) mv K F T) (st (h - 1)) a d (en (h - 1)) b := by
      have y2 := y.2
      dsimp only at y2
      rw [show (en (h - 1) * 8 + b) / 8 = en (h - 1) from by omega, show (en (h - 1) * 8 + b) % 8 = b from by omega] at y2
      exact y2
    have e : pa_vl (pa_TR (pa_E ae) c made a b) = d := by
      refine pa_TB_u u ⟨by omega, fun _ => ⟨by omega, ?_⟩, fun n hn => ?_⟩
      · rw [← hh]
        exact (hR d (by omega) ha hb).mp y2
      · have := up n hn
        omega
    rw [hd, e, pa_xr_t (by omega)]
    exact ⟨rfl, Or.inl y.1⟩
theorem pa_xsr {post : SX → Prop} {a : Nat} {fm fs fr fn : Int32} {al alv ac : Nat → Int32} (ha : a < 8) (hmv : mv ≤ 56) (hns : ns ≤ 28) (h6 : h ≤ 6) (hh : h = pa_ht c made) (N : pa_NF h ns mv K F T st en O) (R : pa_FR (pa_E ae) h mv K F T st en (pa_st (pa_E ae) c made)) (D : pa_ED af ab ae)
    (k : ∀ fr fn al alv ac, (∀ (q : Int32 → Prop) (b : Nat), b < 8 → q (pa_xr (pa_vl (pa_TR (pa_E ae) c made a b))) → wpX_lengthTo q (fm, fs, nI mv, nI h, fr, fn, af, ab, pa_nT K, pa_nT F, pa_nT T, pa_nT st, pa_nT en, al, alv, ac) (nI b)) →
      (∀ b, b < 8 → (pa_vl (pa_TR (pa_E ae) c made a b) ≤ 224 ∨ pa_vl (pa_TR (pa_E ae) c made a b) = 100000)) → post (fm, fs, nI mv, nI h, fr, fn, af, ab, pa_nT K, pa_nT F, pa_nT T, pa_nT st, pa_nT en, al, alv, ac)) :
    wpX_search post (fm, fs, nI mv, nI h, fr, fn, af, ab, pa_nT K, pa_nT F, pa_nT T, pa_nT st, pa_nT en, al, alv, ac) (nI a) := by
  obtain ⟨g0, rfl⟩ := pa_eG_of al
  obtain ⟨L0, rfl⟩ := pa_nT_of alv
  obtain ⟨C0, rfl⟩ := pa_nT_of ac
  refine ⟨225, pa_x2 h6 ha (pa_HY_i (a := a) hmv hns N D) (fun z => ?_) (fun z => ?_) (fun z g => ?_) (fun z here next g L C H => ?_) 225 0 g0 (by omega) (by omega) (fun p hp => absurd hp (Nat.not_lt_zero p))⟩
  · have := (N.2.1 (h - 1) (by omega)).1
    omega
  · rw [show (st (h - 1) * 8 + a) / 8 = st (h - 1) from by omega, show (st (h - 1) * 8 + a) % 8 = a from by omega]
    exact pa_LG_0 _ _
  · have e : ∀ b, pa_vl (pa_TR (pa_E ae) c made a b) = 100000 := by
      intro b
      refine pa_TB_u (pa_vl_s (pa_TR (pa_E ae) c made a b)) ⟨Nat.le_refl _, fun y => absurd y (Nat.lt_irrefl _), fun n hn => ?_⟩
      have := hn.1
      omega
    refine k _ _ _ _ _ (fun q b hb hq => ?_) (fun b hb => Or.inr (e b))
    refine br_t (by rw [z]; rfl) ?_
    rw [e b] at hq
    exact hq
  · have hen := (N.2.1 (h - 1) (by omega)).2.1
    refine k _ _ _ _ _ (fun q b hb hq => ?_) (fun b hb => (pa_ans ha hb hns hh z N R H).2)
    have e := (pa_ans ha hb hns hh z N R H).1
    refine br_f (nI_ne0 z (by omega)) ⟨pk_in (h - 1) 6 (by omega) (pa_sub1 z), ?_⟩
    rw [pa_rd en (h - 1) (pa_sub1 z) (by omega), pa_j1]
    refine ⟨pk_in (en (h - 1) * 8 + b) 224 (by omega), ?_⟩
    rw [pa_eGr g (en (h - 1) * 8 + b) rfl (by omega), e]
    exact hq
end
end
section
/-! ===== the relation ===== -/
def pa_RL (made h ns mv : Nat) (c K F T st en O : Nat → Nat) (af ab ae ak an : Nat → Int32) : Prop :=
  made ≤ 14 ∧ h = pa_ht c made ∧ ns ≤ 2 * made ∧ mv ≤ 4 * made ∧ pa_WF c made ∧ pa_NF h ns mv K F T st en O ∧ (∀ E, pa_FR E h mv K F T st en (pa_st E c made)) ∧ (∀ j, j < made → ak j = pa_yk (c j) ∧ an j = pa_yn (c j)) ∧ pa_ED af ab ae
def i_Rel (_ : Nat) (u : SX) (v : SY) : Prop :=
  ∃ (made h ns mv : Nat) (c K F T st en O : Nat → Nat) (af ab ae ak an : Nat → Int32) (fr fn : Int32) (al alv ac tb : Nat → Int32),
    u = (nI made, nI ns, nI mv, nI h, fr, fn, af, ab, pa_nT K, pa_nT F, pa_nT T, pa_nT st, pa_nT en, al, alv, ac) ∧ v = (nI made, nI h, ae, ak, an, tb) ∧ pa_RL made h ns mv c K F T st en O af ab ae ak an
theorem pa_el {P : SX → SY → Prop} (H : ∀ (made h ns mv : Nat) (c K F T st en O : Nat → Nat) (af ab ae ak an : Nat → Int32) (fr fn : Int32) (al alv ac tb : Nat → Int32), pa_RL made h ns mv c K F T st en O af ab ae ak an →
      P (nI made, nI ns, nI mv, nI h, fr, fn, af, ab, pa_nT K, pa_nT F, pa_nT T, pa_nT st, pa_nT en, al, alv, ac) (nI made, nI h, ae, ak, an, tb)) {k : Nat} {u : SX} {v : SY} (I : i_Rel k u v) : P u v := by
  obtain ⟨made, h, ns, mv, c, K, F, T, st, en, O, af, ab, ae, ak, an, fr, fn, al, alv, ac, tb, e1, e2, R⟩ := I
  rw [e1, e2]
  exact H made h ns mv c K F T st en O af ab ae ak an fr fn al alv ac tb R
theorem pa_mk {k made h ns mv : Nat} {c K F T st en O : Nat → Nat} {af ab ae ak an : Nat → Int32} {fr fn : Int32} {al alv ac tb : Nat → Int32} (R : pa_RL made h ns mv c K F T st en O af ab ae ak an) :
    i_Rel k (nI made, nI ns, nI mv, nI h, fr, fn, af, ab, pa_nT K, pa_nT F, pa_nT T, pa_nT st, pa_nT en, al, alv, ac) (nI made, nI h, ae, ak, an, tb) :=
  ⟨made, h, ns, mv, c, K, F, T, st, en, O, af, ab, ae, ak, an, fr, fn, al, alv, ac, tb, rfl, rfl, R⟩
theorem i_up {k : Nat} {u : SX} {v : SY} (h : i_Rel k u v) : i_Rel (k + 4) u v := h
/-- no step yet -/
theorem pa_RL_0 {c K F T st en O : Nat → Nat} {af ab ae ak an : Nat → Int32} (D : pa_ED af ab ae) : pa_RL 0 0 0 0 c K F T st en O af ab ae ak an := by
  refine ⟨by omega, rfl, by omega, by omega, fun i hi => absurd hi (Nat.not_lt_zero i), ⟨fun m hm => absurd hm (Nat.not_lt_zero m), fun l hl => absurd hl (Nat.not_lt_zero l), fun s hs => absurd hs (Nat.not_lt_zero s)⟩, fun E l a b n hl => absurd hl (Nat.not_lt_zero l), fun j hj => absurd hj (Nat.not_lt_zero j), D⟩
theorem i_vc0 : wpX_init (fun u => wpY_init (fun v => i_Rel 0 u v)) := by
  have D : pa_ED (fun _ => 0) (fun _ => 0) (fun _ => 0) := by
    intro l x y hl hx hy
    have z : ∀ i, ¬ bt 0 i = true := fun i q => by rw [b_0] at q; cases q
    exact ⟨⟨fun q => absurd q (z _), fun q => absurd rfl q⟩, ⟨fun q => absurd q (z _), fun q => absurd rfl q⟩⟩
  exact pa_mk (k := 0) (K := fun _ => 0) (F := fun _ => 0) (T := fun _ => 0) (st := fun _ => 0) (en := fun _ => 0) (O := fun _ => 0) (c := fun _ => 0) (pa_RL_0 D)
section
variable {made h ns mv : Nat} {c K F T st en O : Nat → Nat} {af ab ae ak an : Nat → Int32}
theorem pa_WF_up {x : Nat} (W : pa_WF c made) (h1 : x ≤ 17) (h2 : x < 15 → pa_ht c made < 6) (h3 : x = 15 ∨ x = 16 → 2 ≤ pa_ht c made) (h4 : x = 17 → 1 ≤ pa_ht c made) : pa_WF (pa_up c made x) (made + 1) := by
  intro i hi
  have e : pa_ht (pa_up c made x) i = pa_ht c i := pa_ht_g (fun j hj => pa_uf (by omega))
  by_cases z : i = made
  · rw [e, pa_ut z, z]
    exact ⟨h1, h2, fun q => h3 (Or.inl q), fun q => h3 (Or.inr q), h4⟩
  · rw [e, pa_uf z]
    exact W i (by omega)
theorem pa_ht_up {x : Nat} : pa_ht (pa_up c made x) made = pa_ht c made := pa_ht_g (fun j hj => pa_uf (by omega))
theorem pa_st_up {E : Nat → Nat → Nat → Prop} {x : Nat} : pa_st E (pa_up c made x) made = pa_st E c made := pa_st_g (fun j hj => pa_uf (by omega))
theorem pa_kn_up {x : Nat} (H : ∀ j, j < made → ak j = pa_yk (c j) ∧ an j = pa_yn (c j)) : ∀ j, j < made + 1 → upd ak made (pa_yk x) j = pa_yk (pa_up c made x j) ∧ upd an made (pa_yn x) j = pa_yn (pa_up c made x j) := by
  intro j hj
  by_cases z : j = made
  · rw [z, pk_us, pk_us, pa_us]
    exact ⟨rfl, rfl⟩
  · rw [pk_un z, pk_un z, pa_uf z]
    exact H j (by omega)
theorem pa_RL_push (R : pa_RL made h ns mv c K F T st en O af ab ae ak an) (hm : made < 14) (hh : h < 6) {x : Nat} (hx : x < 15) :
    pa_RL (made + 1) (h + 1) (ns + 2) (mv + 1) (pa_up c made x) (pa_up K mv x) (pa_up F mv ns) (pa_up T mv (ns + 1)) (pa_up st h ns) (pa_up en h (ns + 1)) (fun s => if s < ns then O s else h) af ab ae (upd ak made (pa_yk x)) (upd an made (pa_yn x)) := by
  obtain ⟨r1, r2, r3, r4, r5, r6, r7, r8, r9⟩ := R
  have hx' : pa_up c made x made < 15 := by rw [pa_us]; exact hx
  refine ⟨by omega, ?_, by omega, by omega, pa_WF_up r5 (by omega) (fun _ => by omega) (fun _ => by omega) (fun _ => by omega), pa_NF_push r6 hx, fun E => ?_, pa_kn_up r8, r9⟩
  · rw [pa_ht_p hx', pa_ht_up, r2]
  · rw [pa_st_p hx', pa_ht_up, pa_st_up, pa_us, ← r2]
    exact pa_FR_push r6 (r7 E) x
theorem pa_RL_then (R : pa_RL made (h + 2) ns mv c K F T st en O af ab ae ak an) (hm : made < 14) :
    pa_RL (made + 1) (h + 1) ns (mv + 1) (pa_up c made 15) (pa_up K mv 6) (pa_up F mv (en h)) (pa_up T mv (st (h + 1))) st (pa_up en h (en (h + 1))) (fun s => if O s = h + 1 then h else O s) af ab ae (upd ak made 3) (upd an made 0) := by
  obtain ⟨r1, r2, r3, r4, r5, r6, r7, r8, r9⟩ := R
  have hx' : pa_up c made 15 made = 15 := pa_us
  refine ⟨by omega, ?_, by omega, by omega, pa_WF_up r5 (by omega) (fun _ => by omega) (fun _ => by omega) (fun _ => by omega), pa_NF_then r6, fun E => ?_, pa_kn_up (x := 15) r8, r9⟩
  · rw [pa_ht_m (Or.inl hx'), pa_ht_up, ← r2]
    rfl
  · rw [pa_st_15 hx', pa_ht_up, pa_st_up, ← r2]
    exact pa_FR_then r6 (r7 E)
theorem pa_RL_or (R : pa_RL made (h + 2) ns mv c K F T st en O af ab ae ak an) (hm : made < 14) :
    pa_RL (made + 1) (h + 1) (ns + 2) (mv + 4) (pa_up c made 16) (pa_up (pa_up (pa_up (pa_up K mv 6) (mv + 1) 6) (mv + 2) 6) (mv + 3) 6) (pa_up (pa_up (pa_up (pa_up F mv ns) (mv + 1) ns) (mv + 2) (en h)) (mv + 3) (en (h + 1)))
      (pa_up (pa_up (pa_up (pa_up T mv (st h)) (mv + 1) (st (h + 1))) (mv + 2) (ns + 1)) (mv + 3) (ns + 1)) (pa_up st h ns) (pa_up en h (ns + 1)) (fun s => if s < ns then (if O s = h + 1 then h else O s) else h) af ab ae (upd ak made 4) (upd an made 0) := by
  obtain ⟨r1, r2, r3, r4, r5, r6, r7, r8, r9⟩ := R
  have hx' : pa_up c made 16 made = 16 := pa_us
  refine ⟨by omega, ?_, by omega, by omega, pa_WF_up r5 (by omega) (fun _ => by omega) (fun _ => by omega) (fun _ => by omega), pa_NF_or r6, fun E => ?_, pa_kn_up (x := 16) r8, r9⟩
  · rw [pa_ht_m (Or.inr hx'), pa_ht_up, ← r2]
    rfl
  · rw [pa_st_16 hx', pa_ht_up, pa_st_up, ← r2]
    exact pa_FR_or r6 (r7 E)
theorem pa_RL_star (R : pa_RL made (h + 1) ns mv c K F T st en O af ab ae ak an) (hm : made < 14) :
    pa_RL (made + 1) (h + 1) (ns + 2) (mv + 4) (pa_up c made 17) (pa_up (pa_up (pa_up (pa_up K mv 6) (mv + 1) 6) (mv + 2) 6) (mv + 3) 6) (pa_up (pa_up (pa_up (pa_up F mv ns) (mv + 1) (en h)) (mv + 2) (en h)) (mv + 3) ns)
      (pa_up (pa_up (pa_up (pa_up T mv (st h)) (mv + 1) (ns + 1)) (mv + 2) (st h)) (mv + 3) (ns + 1)) (pa_up st h ns) (pa_up en h (ns + 1)) (fun s => if s < ns then O s else h) af ab ae (upd ak made 5) (upd an made 0) := by
  obtain ⟨r1, r2, r3, r4, r5, r6, r7, r8, r9⟩ := R
  have hx' : pa_up c made 17 made = 17 := pa_us
  refine ⟨by omega, ?_, by omega, by omega, pa_WF_up r5 (by omega) (fun _ => by omega) (fun _ => by omega) (fun _ => by omega), pa_NF_star r6, fun E => ?_, pa_kn_up (x := 17) r8, r9⟩
  · rw [pa_ht_s hx', pa_ht_up, ← r2]
  · rw [pa_st_17 hx', pa_ht_up, pa_st_up, ← r2]
    exact pa_FR_star r6 (r7 E)
end
end
section
/-! ===== the steps' walks ===== -/
theorem pa_n0 : ¬ (1 : Int32) = 0 := by decide
theorem pa_n3 : ¬ (-3 : Int32) = 0 := by decide
theorem pa_n4 : ¬ (-4 : Int32) = 0 := by decide
section
variable {made h ns mv : Nat} {K F T st en : Nat → Nat} {af ab ae ak an : Nat → Int32} {fm fs fv fh fr fn : Int32} {al alv ac tb ast aen : Nat → Int32}
theorem pa_xbl {post : Int32 → Prop} (v1 : Int32) (k1 : (v1 < 0 ∨ ¬ v1 ≤ 2) → post 1) (k0 : ∀ l, l < 3 → v1 = nI l → post 0) : wpX_badLabel post v1 := by
  refine br_c (fun z => k1 (Or.inl z)) (fun z => br_c (fun y => ?_) (fun y => k1 (Or.inr y)))
  obtain ⟨l, hl, e⟩ := nI_of2 (n := 2) rfl z y
  exact k0 l (by omega) e
theorem pa_xbn {post : Int32 → Prop} (v1 : Int32) (k1 : (v1 < 0 ∨ ¬ v1 < 8) → post 1) (k0 : ∀ a, a < 8 → v1 = nI a → post 0) : wpX_badNode post v1 := by
  refine br_c (fun z => k1 (Or.inl z)) (fun z => br_c (fun y => ?_) (fun y => k1 (Or.inr y)))
  obtain ⟨j, hj, e⟩ := nI_of z
  rw [e] at y
  have y2 : j < 8 := (nI_ltI (b := 8) hj (by omega)).mp y
  exact k0 j y2 e
theorem pa_xrf {post : Int32 → Prop} {t : Nat} (hm : made ≤ 14) (hh : h ≤ 6) (ht : t ≤ 2) (k3 : (made = 14 ∨ (t = 0 ∧ h = 6)) → post (-3)) (k4 : made < 14 → ¬ (t = 0 ∧ h = 6) → h < t → post (-4)) (k0 : made < 14 → ¬ (t = 0 ∧ h = 6) → t ≤ h → post 0) :
    wpX_refusal post (nI made, fs, fv, nI h, fr, fn, af, ab, pa_nT K, pa_nT F, pa_nT T, ast, aen, al, alv, ac) (nI t) := by
  refine pk_le 14 made (fun z => k3 (Or.inl (by omega))) (fun z => ?_)
  refine pk_eq t 0 (fun y => ?_) (fun y => ?_)
  · refine pk_lt h 6 (fun x => ?_) (fun x => k3 (Or.inr ⟨y, by omega⟩))
    exact pk_le t h (fun w => k0 (by omega) (by omega) w) (fun w => k4 (by omega) (by omega) w)
  · exact pk_le t h (fun w => k0 (by omega) (by omega) w) (fun w => k4 (by omega) (by omega) w)
theorem pa_yst {post : Int32 → SY → Prop} {t : Nat} {x y : Int32} (hm : made ≤ 14) (hh : h ≤ 6) (ht : t ≤ 2) (k3 : (made = 14 ∨ (t = 0 ∧ h = 6)) → post (-3) (nI made, nI h, ae, ak, an, tb)) (k4 : made < 14 → ¬ (t = 0 ∧ h = 6) → h < t → post (-4) (nI made, nI h, ae, ak, an, tb))
    (k0 : made < 14 → ¬ (t = 0 ∧ h = 6) → t ≤ h → post (nI (h - t + 1)) (nI (made + 1), nI (h - t + 1), ae, upd ak made x, upd an made y, tb)) :
    wpY_step post (nI made, nI h, ae, ak, an, tb) x y (nI t) := by
  have K25 : made < 14 → ¬ (t = 0 ∧ h = 6) → wY_step_25 post x y (nI t) (nI made) (nI h) ae ak an tb := by
    intro z1 z2
    refine pk_le t h (fun w => ?_) (fun w => k4 z1 z2 w)
    refine ⟨pk_in made 14 z1, nm_r (e' := upd ak made x) (by rw [nI_clamp (by omega)]) ⟨pk_in made 14 z1, nm_r (e' := upd an made y) (by rw [nI_clamp (by omega)]) (nm_r (nI_1 made) (nm_r (e' := nI (h - t + 1)) ?_ (k0 z1 z2 w)))⟩⟩
    rw [pk_sub w, nI_1]
  refine pk_eq made 14 (fun z => k3 (Or.inl z)) (fun z => ?_)
  refine pk_eq t 0 (fun q => ?_) (fun q => K25 (by omega) (by omega))
  exact pk_eq h 6 (fun w => k3 (Or.inr ⟨q, w⟩)) (fun w => K25 (by omega) (by omega))
theorem pa_xam {post : SX → Prop} {k x y : Nat} {p0 p1 p2 : Int32} (hm : mv < 56) (h0 : p0 = nI k) (h1 : p1 = nI x) (h2 : p2 = nI y)
    (kk : post (fm, fs, nI (mv + 1), fh, fr, fn, af, ab, pa_nT (pa_up K mv k), pa_nT (pa_up F mv x), pa_nT (pa_up T mv y), ast, aen, al, alv, ac)) :
    wpX_addMove post (fm, fs, nI mv, fh, fr, fn, af, ab, pa_nT K, pa_nT F, pa_nT T, ast, aen, al, alv, ac) p0 p1 p2 :=
  ⟨pk_in mv 56 hm, nm_r (pa_wr K mv k rfl (by omega) h0) ⟨pk_in mv 56 hm, nm_r (pa_wr F mv x rfl (by omega) h1) ⟨pk_in mv 56 hm, nm_r (pa_wr T mv y rfl (by omega) h2) (nm_r (nI_1 mv) kk)⟩⟩⟩
theorem pa_xpush {post : Int32 → SX → Prop} {x : Nat} (hm : made ≤ 14) (hh : h ≤ 6) (hv : mv ≤ 4 * made)
    (k3 : (made = 14 ∨ h = 6) → post (-3) (nI made, nI ns, nI mv, nI h, fr, fn, af, ab, pa_nT K, pa_nT F, pa_nT T, pa_nT st, pa_nT en, al, alv, ac))
    (k0 : made < 14 → h < 6 → post (nI (h + 1)) (nI (made + 1), nI (ns + 2), nI (mv + 1), nI (h + 1), fr, fn, af, ab, pa_nT (pa_up K mv x), pa_nT (pa_up F mv ns), pa_nT (pa_up T mv (ns + 1)), pa_nT (pa_up st h ns), pa_nT (pa_up en h (ns + 1)), al, alv, ac)) :
    wpX_pushMove post (nI made, nI ns, nI mv, nI h, fr, fn, af, ab, pa_nT K, pa_nT F, pa_nT T, pa_nT st, pa_nT en, al, alv, ac) (nI x) := by
  unfold wpX_pushMove
  dsimp only
  refine pa_xrf (t := 0) hm hh (by omega) (fun z => ?_) (fun z1 z2 z3 => by omega) (fun z1 z2 z3 => ?_)
  · exact br_f pa_n3 (k3 (by omega))
  refine br_t rfl (nm_r (nI_1 made) ?_)
  refine pa_xam (by omega) rfl rfl (nI_1 ns) ?_
  exact ⟨pk_in h 6 (by omega), nm_r (pa_wr st h ns rfl (by omega) rfl) ⟨pk_in h 6 (by omega), nm_r (pa_wr en h (ns + 1) rfl (by omega) (nI_1 ns)) (nm_r (pa_a2 ns) (nm_r (nI_1 h) (k0 z1 (by omega))))⟩⟩
end
theorem pa_yk_a {l : Nat} (h : l < 3) : pa_yk l = 0 ∧ pa_yn l = nI l := ⟨if_pos h, if_pos h⟩
theorem pa_yk_b {l : Nat} (h : l < 3) : pa_yk (3 + l) = 1 ∧ pa_yn (3 + l) = nI l := by
  unfold pa_yk pa_yn
  rw [if_neg (by omega), if_pos (by omega), if_neg (by omega), if_pos (by omega)]
  exact ⟨rfl, congrArg nI (by omega)⟩
theorem pa_yk_c {a : Nat} (h : a < 8) : pa_yk (7 + a) = 2 ∧ pa_yn (7 + a) = nI a := by
  unfold pa_yk pa_yn
  rw [if_neg (by omega), if_neg (by omega), if_pos (by omega), if_neg (by omega), if_neg (by omega), if_neg (by omega), if_pos (by omega)]
  exact ⟨rfl, congrArg nI (by omega)⟩
theorem i_vc_label {k : Nat} {u : SX} {v : SY} (I : i_Rel k u v) (hk : k + 4 ≤ 2048) (v1 : Int32) : wpX_label (fun r u' => wpY_label (fun r' v' => r' = r ∧ i_Rel (k + 4) u' v') v v1) u v1 := by
  refine pa_el (P := fun u v => wpX_label (fun r u' => wpY_label (fun r' v' => r' = r ∧ i_Rel (k + 4) u' v') v v1) u v1) ?_ I
  intro made h ns mv c K F T st en O af ab ae ak an fr fn al alv ac tb R
  have hm := R.1
  have h6 : h ≤ 6 := by rw [R.2.1]; exact pa_ht_6 R.2.2.2.2.1 made (Nat.le_refl _)
  unfold wpX_label
  dsimp only
  refine pa_xbl v1 (fun z => ?_) (fun l hl e => ?_)
  · refine br_f pa_n0 ?_
    have f := And.intro (rfl : (-1 : Int32) = -1) (pa_mk (k := k + 4) (fr := fr) (fn := fn) (al := al) (alv := alv) (ac := ac) (tb := tb) R)
    rcases z with z | z
    · exact br_t z f
    · exact br_c (fun _ => f) (fun _ => br_f z f)
  · refine br_t rfl ?_
    rw [e]
    have g0 : ¬ nI l < 0 := nI_pos (by omega)
    have g2 : nI l ≤ 2 := nI_le (b := 2) (by omega) (by omega)
    obtain ⟨y1, y2⟩ := pa_yk_a hl
    refine pa_xpush hm h6 R.2.2.2.1 (fun z => br_f g0 (br_t g2 ?_)) (fun z1 z2 => br_f g0 (br_t g2 ?_))
    · refine pa_yst (t := 0) hm h6 (by omega) (fun _ => ⟨rfl, pa_mk R⟩) (fun w1 w2 w3 => by omega) (fun w1 w2 w3 => by omega)
    · refine pa_yst (t := 0) hm h6 (by omega) (fun w => by omega) (fun w1 w2 w3 => by omega) (fun w1 w2 w3 => ⟨rfl, ?_⟩)
      have Q := pa_RL_push R z1 z2 (x := l) (by omega)
      rw [y1, y2] at Q
      exact pa_mk Q
theorem i_vc_back {k : Nat} {u : SX} {v : SY} (I : i_Rel k u v) (hk : k + 4 ≤ 2048) (v1 : Int32) : wpX_back (fun r u' => wpY_back (fun r' v' => r' = r ∧ i_Rel (k + 4) u' v') v v1) u v1 := by
  refine pa_el (P := fun u v => wpX_back (fun r u' => wpY_back (fun r' v' => r' = r ∧ i_Rel (k + 4) u' v') v v1) u v1) ?_ I
  intro made h ns mv c K F T st en O af ab ae ak an fr fn al alv ac tb R
  have hm := R.1
  have h6 : h ≤ 6 := by rw [R.2.1]; exact pa_ht_6 R.2.2.2.2.1 made (Nat.le_refl _)
  unfold wpX_back
  dsimp only
  refine pa_xbl v1 (fun z => ?_) (fun l hl e => ?_)
  · refine br_f pa_n0 ?_
    have f := And.intro (rfl : (-1 : Int32) = -1) (pa_mk (k := k + 4) (fr := fr) (fn := fn) (al := al) (alv := alv) (ac := ac) (tb := tb) R)
    rcases z with z | z
    · exact br_t z f
    · exact br_c (fun _ => f) (fun _ => br_f z f)
  · refine br_t rfl ?_
    rw [e, pa_3a]
    have g0 : ¬ nI l < 0 := nI_pos (by omega)
    have g2 : nI l ≤ 2 := nI_le (b := 2) (by omega) (by omega)
    obtain ⟨y1, y2⟩ := pa_yk_b hl
    refine pa_xpush hm h6 R.2.2.2.1 (fun z => br_f g0 (br_t g2 ?_)) (fun z1 z2 => br_f g0 (br_t g2 ?_))
    · refine pa_yst (t := 0) hm h6 (by omega) (fun _ => ⟨rfl, pa_mk R⟩) (fun w1 w2 w3 => by omega) (fun w1 w2 w3 => by omega)
    · refine pa_yst (t := 0) hm h6 (by omega) (fun w => by omega) (fun w1 w2 w3 => by omega) (fun w1 w2 w3 => ⟨rfl, ?_⟩)
      have Q := pa_RL_push R z1 z2 (x := 3 + l) (by omega)
      rw [y1, y2] at Q
      exact pa_mk Q
end
section
/-! ===== at, then, or, star, clear, steps ===== -/
theorem pa_n2 : ¬ (2 : Int32) = 0 := by decide
theorem pa_m1e {x : Int32} (h1 : ¬ x < -1) (h2 : ¬ 0 ≤ x) : x = -1 := by
  apply Int32.toInt_inj.mp
  rw [Int32.lt_iff_toInt_lt, show (-1 : Int32).toInt = -1 from by decide] at h1
  rw [Int32.le_iff_toInt_le, show (0 : Int32).toInt = 0 from by decide] at h2
  rw [show (-1 : Int32).toInt = -1 from by decide]
  omega
theorem pa_nm1 {j : Nat} (h : j < 2 ^ 31) : ¬ nI j < -1 := by
  rw [Int32.lt_iff_toInt_lt, show (-1 : Int32).toInt = -1 from by decide, nI_toInt h]
  omega
theorem i_vc_at {k : Nat} {u : SX} {v : SY} (I : i_Rel k u v) (hk : k + 4 ≤ 2048) (v1 : Int32) : wpX_at (fun r u' => wpY_at (fun r' v' => r' = r ∧ i_Rel (k + 4) u' v') v v1) u v1 := by
  refine pa_el (P := fun u v => wpX_at (fun r u' => wpY_at (fun r' v' => r' = r ∧ i_Rel (k + 4) u' v') v v1) u v1) ?_ I
  intro made h ns mv c K F T st en O af ab ae ak an fr fn al alv ac tb R
  have hm := R.1
  have h6 : h ≤ 6 := by rw [R.2.1]; exact pa_ht_6 R.2.2.2.2.1 made (Nat.le_refl _)
  have f := And.intro (rfl : (-2 : Int32) = -2) (pa_mk (k := k + 4) (fr := fr) (fn := fn) (al := al) (alv := alv) (ac := ac) (tb := tb) R)
  by_cases z : v1 < -1
  · exact br_t z (br_t z f)
  · refine br_f z ?_
    by_cases y : 0 ≤ v1
    · obtain ⟨j, hj, e⟩ := nI_of (x := v1) (Int32.not_lt.mpr y)
      rw [e] at y z ⊢
      by_cases x : j < 8
      · have g8 : nI j < 8 := nI_lt (b := 8) x (by omega)
        have g7 : nI j ≤ 7 := nI_le (b := 7) (by omega) (by omega)
        obtain ⟨y1, y2⟩ := pa_yk_c x
        refine br_t g8 (br_t y ?_)
        unfold wX_at_28
        rw [pa_7a]
        refine pa_xpush hm h6 R.2.2.2.1 (fun w => ?_) (fun w1 w2 => ?_)
        · refine br_f z (br_t g7 ?_)
          exact pa_yst (t := 0) hm h6 (by omega) (fun _ => ⟨rfl, pa_mk R⟩) (fun w1 w2 w3 => by omega) (fun w1 w2 w3 => by omega)
        · refine br_f z (br_t g7 ?_)
          refine pa_yst (t := 0) hm h6 (by omega) (fun w => by omega) (fun w1 w2 w3 => by omega) (fun w1 w2 w3 => ⟨rfl, ?_⟩)
          have Q := pa_RL_push R w1 (by omega) (x := 7 + j) (by omega)
          rw [y1, y2] at Q
          exact pa_mk Q
      · have g8 : ¬ nI j < 8 := nI_nlt (b := 8) (by omega) hj
        have g7 : ¬ nI j ≤ 7 := nI_ge (a := 7) (by omega) hj
        exact br_f g8 (br_f z (br_f g7 f))
    · have e := pa_m1e z y
      rw [e] at y z ⊢
      refine br_t (by decide) (br_f y ?_)
      unfold wX_at_28
      refine pa_xpush (x := 6) hm h6 R.2.2.2.1 (fun w => ?_) (fun w1 w2 => ?_)
      · refine br_f z (br_t (by decide) ?_)
        exact pa_yst (t := 0) hm h6 (by omega) (fun _ => ⟨rfl, pa_mk R⟩) (fun w1 w2 w3 => by omega) (fun w1 w2 w3 => by omega)
      · refine br_f z (br_t (by decide) ?_)
        refine pa_yst (t := 0) hm h6 (by omega) (fun w => by omega) (fun w1 w2 w3 => by omega) (fun w1 w2 w3 => ⟨rfl, ?_⟩)
        exact pa_mk (pa_RL_push R w1 (by omega) (x := 6) (by omega))
section
variable {made h ns mv : Nat} {K F T st en : Nat → Nat} {af ab : Nat → Int32} {fr fn : Int32} {al alv ac : Nat → Int32}
theorem pa_xthen {post : Int32 → SX → Prop} (hm : made ≤ 14) (hh : h ≤ 6) (hv : mv ≤ 4 * made)
    (k3 : made = 14 → post (-3) (nI made, nI ns, nI mv, nI h, fr, fn, af, ab, pa_nT K, pa_nT F, pa_nT T, pa_nT st, pa_nT en, al, alv, ac))
    (k4 : made < 14 → h < 2 → post (-4) (nI made, nI ns, nI mv, nI h, fr, fn, af, ab, pa_nT K, pa_nT F, pa_nT T, pa_nT st, pa_nT en, al, alv, ac))
    (k0 : made < 14 → ∀ j, h = j + 2 → post (nI (j + 1)) (nI (made + 1), nI ns, nI (mv + 1), nI (j + 1), fr, fn, af, ab, pa_nT (pa_up K mv 6), pa_nT (pa_up F mv (en j)), pa_nT (pa_up T mv (st (j + 1))), pa_nT st, pa_nT (pa_up en j (en (j + 1))), al, alv, ac)) :
    wpX_then post (nI made, nI ns, nI mv, nI h, fr, fn, af, ab, pa_nT K, pa_nT F, pa_nT T, pa_nT st, pa_nT en, al, alv, ac) := by
  unfold wpX_then
  dsimp only
  refine pa_xrf (t := 2) hm hh (by omega) (fun z => ?_) (fun z1 z2 z3 => ?_) (fun z1 z2 z3 => ?_)
  · exact br_f pa_n3 (k3 (by omega))
  · exact br_f pa_n4 (k4 z1 z3)
  obtain ⟨j, e⟩ : ∃ j, h = j + 2 := ⟨h - 2, by omega⟩
  have kk := k0 z1 j e
  rw [e]
  refine br_t rfl (nm_r (nI_1 made) (nm_r (nI_pred (j + 1)) ⟨pk_in j 6 (by omega) (nI_pred j), pk_in (j + 1) 6 (by omega), ?_⟩))
  refine pa_xam (k := 6) (x := en j) (y := st (j + 1)) (by omega) rfl (pa_rd en j (nI_pred j) (by omega)) (pa_rd st (j + 1) rfl (by omega)) ?_
  exact ⟨pk_in (j + 1) 6 (by omega), pk_in j 6 (by omega) (nI_pred j), nm_r (pa_wr en j (en (j + 1)) (nI_pred j) (by omega) (pa_rd en (j + 1) rfl (by omega))) kk⟩
theorem pa_xor {post : Int32 → SX → Prop} (hm : made ≤ 14) (hh : h ≤ 6) (hv : mv ≤ 4 * made)
    (k3 : made = 14 → post (-3) (nI made, nI ns, nI mv, nI h, fr, fn, af, ab, pa_nT K, pa_nT F, pa_nT T, pa_nT st, pa_nT en, al, alv, ac))
    (k4 : made < 14 → h < 2 → post (-4) (nI made, nI ns, nI mv, nI h, fr, fn, af, ab, pa_nT K, pa_nT F, pa_nT T, pa_nT st, pa_nT en, al, alv, ac))
    (k0 : made < 14 → ∀ j, h = j + 2 → post (nI (j + 1)) (nI (made + 1), nI (ns + 2), nI (mv + 4), nI (j + 1), fr, fn, af, ab, pa_nT (pa_up (pa_up (pa_up (pa_up K mv 6) (mv + 1) 6) (mv + 2) 6) (mv + 3) 6), pa_nT (pa_up (pa_up (pa_up (pa_up F mv ns) (mv + 1) ns) (mv + 2) (en j)) (mv + 3) (en (j + 1))),
      pa_nT (pa_up (pa_up (pa_up (pa_up T mv (st j)) (mv + 1) (st (j + 1))) (mv + 2) (ns + 1)) (mv + 3) (ns + 1)), pa_nT (pa_up st j ns), pa_nT (pa_up en j (ns + 1)), al, alv, ac)) :
    wpX_or post (nI made, nI ns, nI mv, nI h, fr, fn, af, ab, pa_nT K, pa_nT F, pa_nT T, pa_nT st, pa_nT en, al, alv, ac) := by
  unfold wpX_or
  dsimp only
  refine pa_xrf (t := 2) hm hh (by omega) (fun z => ?_) (fun z1 z2 z3 => ?_) (fun z1 z2 z3 => ?_)
  · exact br_f pa_n3 (k3 (by omega))
  · exact br_f pa_n4 (k4 z1 z3)
  obtain ⟨j, e⟩ : ∃ j, h = j + 2 := ⟨h - 2, by omega⟩
  have kk := k0 z1 j e
  rw [e]
  refine br_t rfl (nm_r (nI_1 made) (nm_r (nI_pred (j + 1)) ⟨pk_in j 6 (by omega) (nI_pred j), ?_⟩))
  refine pa_xam (k := 6) (x := ns) (y := st j) (by omega) rfl rfl (pa_rd st j (nI_pred j) (by omega)) ?_
  refine ⟨pk_in (j + 1) 6 (by omega), ?_⟩
  refine pa_xam (mv := mv + 1) (k := 6) (x := ns) (y := st (j + 1)) (by omega) rfl rfl (pa_rd st (j + 1) rfl (by omega)) ?_
  refine ⟨pk_in j 6 (by omega) (nI_pred j), ?_⟩
  refine pa_xam (mv := mv + 2) (k := 6) (x := en j) (y := ns + 1) (by omega) rfl (pa_rd en j (nI_pred j) (by omega)) (nI_1 ns) ?_
  refine ⟨pk_in (j + 1) 6 (by omega), ?_⟩
  refine pa_xam (mv := mv + 3) (k := 6) (x := en (j + 1)) (y := ns + 1) (by omega) rfl (pa_rd en (j + 1) rfl (by omega)) (nI_1 ns) ?_
  exact ⟨pk_in j 6 (by omega) (nI_pred j), nm_r (pa_wr st j ns (nI_pred j) (by omega) rfl) ⟨pk_in j 6 (by omega) (nI_pred j), nm_r (pa_wr en j (ns + 1) (nI_pred j) (by omega) (nI_1 ns)) (nm_r (pa_a2 ns) kk)⟩⟩
theorem pa_xstar {post : Int32 → SX → Prop} (hm : made ≤ 14) (hh : h ≤ 6) (hv : mv ≤ 4 * made)
    (k3 : made = 14 → post (-3) (nI made, nI ns, nI mv, nI h, fr, fn, af, ab, pa_nT K, pa_nT F, pa_nT T, pa_nT st, pa_nT en, al, alv, ac))
    (k4 : made < 14 → h < 1 → post (-4) (nI made, nI ns, nI mv, nI h, fr, fn, af, ab, pa_nT K, pa_nT F, pa_nT T, pa_nT st, pa_nT en, al, alv, ac))
    (k0 : made < 14 → ∀ j, h = j + 1 → post (nI (j + 1)) (nI (made + 1), nI (ns + 2), nI (mv + 4), nI (j + 1), fr, fn, af, ab, pa_nT (pa_up (pa_up (pa_up (pa_up K mv 6) (mv + 1) 6) (mv + 2) 6) (mv + 3) 6), pa_nT (pa_up (pa_up (pa_up (pa_up F mv ns) (mv + 1) (en j)) (mv + 2) (en j)) (mv + 3) ns),
      pa_nT (pa_up (pa_up (pa_up (pa_up T mv (st j)) (mv + 1) (ns + 1)) (mv + 2) (st j)) (mv + 3) (ns + 1)), pa_nT (pa_up st j ns), pa_nT (pa_up en j (ns + 1)), al, alv, ac)) :
    wpX_star post (nI made, nI ns, nI mv, nI h, fr, fn, af, ab, pa_nT K, pa_nT F, pa_nT T, pa_nT st, pa_nT en, al, alv, ac) := by
  unfold wpX_star
  dsimp only
  refine pa_xrf (t := 1) hm hh (by omega) (fun z => ?_) (fun z1 z2 z3 => ?_) (fun z1 z2 z3 => ?_)
  · exact br_f pa_n3 (k3 (by omega))
  · exact br_f pa_n4 (k4 z1 z3)
  obtain ⟨j, e⟩ : ∃ j, h = j + 1 := ⟨h - 1, by omega⟩
  have kk := k0 z1 j e
  rw [e]
  refine br_t rfl (nm_r (nI_1 made) ⟨pk_in j 6 (by omega) (nI_pred j), nm_r (pa_rd st j (nI_pred j) (by omega)) ⟨pk_in j 6 (by omega) (nI_pred j), nm_r (pa_rd en j (nI_pred j) (by omega)) ?_⟩⟩)
  refine pa_xam (k := 6) (x := ns) (y := st j) (by omega) rfl rfl rfl ?_
  refine pa_xam (mv := mv + 1) (k := 6) (x := en j) (y := ns + 1) (by omega) rfl rfl (nI_1 ns) ?_
  refine pa_xam (mv := mv + 2) (k := 6) (x := en j) (y := st j) (by omega) rfl rfl rfl ?_
  refine pa_xam (mv := mv + 3) (k := 6) (x := ns) (y := ns + 1) (by omega) rfl rfl (nI_1 ns) ?_
  exact ⟨pk_in j 6 (by omega) (nI_pred j), nm_r (pa_wr st j ns (nI_pred j) (by omega) rfl) ⟨pk_in j 6 (by omega) (nI_pred j), nm_r (pa_wr en j (ns + 1) (nI_pred j) (by omega) (nI_1 ns)) (nm_r (pa_a2 ns) kk)⟩⟩
end
theorem i_vc_then {k : Nat} {u : SX} {v : SY} (I : i_Rel k u v) (hk : k + 4 ≤ 2048) : wpX_then (fun r u' => wpY_then (fun r' v' => r' = r ∧ i_Rel (k + 4) u' v') v) u := by
  refine pa_el (P := fun u v => wpX_then (fun r u' => wpY_then (fun r' v' => r' = r ∧ i_Rel (k + 4) u' v') v) u) ?_ I
  intro made h ns mv c K F T st en O af ab ae ak an fr fn al alv ac tb R
  have hm := R.1
  have h6 : h ≤ 6 := by rw [R.2.1]; exact pa_ht_6 R.2.2.2.2.1 made (Nat.le_refl _)
  refine pa_xthen hm h6 R.2.2.2.1 (fun z => ?_) (fun z1 z2 => ?_) (fun z1 j e => ?_)
  · unfold wpY_then
    exact pa_yst (t := 2) hm h6 (by omega) (fun _ => ⟨rfl, pa_mk R⟩) (fun w1 w2 w3 => by omega) (fun w1 w2 w3 => by omega)
  · unfold wpY_then
    exact pa_yst (t := 2) hm h6 (by omega) (fun w => by omega) (fun w1 w2 w3 => ⟨rfl, pa_mk R⟩) (fun w1 w2 w3 => by omega)
  · unfold wpY_then
    subst e
    exact pa_yst (t := 2) hm h6 (by omega) (fun w => by omega) (fun w1 w2 w3 => by omega) (fun w1 w2 w3 => ⟨rfl, pa_mk (pa_RL_then R z1)⟩)
theorem i_vc_or {k : Nat} {u : SX} {v : SY} (I : i_Rel k u v) (hk : k + 4 ≤ 2048) : wpX_or (fun r u' => wpY_or (fun r' v' => r' = r ∧ i_Rel (k + 4) u' v') v) u := by
  refine pa_el (P := fun u v => wpX_or (fun r u' => wpY_or (fun r' v' => r' = r ∧ i_Rel (k + 4) u' v') v) u) ?_ I
  intro made h ns mv c K F T st en O af ab ae ak an fr fn al alv ac tb R
  have hm := R.1
  have h6 : h ≤ 6 := by rw [R.2.1]; exact pa_ht_6 R.2.2.2.2.1 made (Nat.le_refl _)
  refine pa_xor hm h6 R.2.2.2.1 (fun z => ?_) (fun z1 z2 => ?_) (fun z1 j e => ?_)
  · unfold wpY_or
    exact pa_yst (t := 2) hm h6 (by omega) (fun _ => ⟨rfl, pa_mk R⟩) (fun w1 w2 w3 => by omega) (fun w1 w2 w3 => by omega)
  · unfold wpY_or
    exact pa_yst (t := 2) hm h6 (by omega) (fun w => by omega) (fun w1 w2 w3 => ⟨rfl, pa_mk R⟩) (fun w1 w2 w3 => by omega)
  · unfold wpY_or
    subst e
    exact pa_yst (t := 2) hm h6 (by omega) (fun w => by omega) (fun w1 w2 w3 => by omega) (fun w1 w2 w3 => ⟨rfl, pa_mk (pa_RL_or R z1)⟩)
theorem i_vc_star {k : Nat} {u : SX} {v : SY} (I : i_Rel k u v) (hk : k + 4 ≤ 2048) : wpX_star (fun r u' => wpY_star (fun r' v' => r' = r ∧ i_Rel (k + 4) u' v') v) u := by
  refine pa_el (P := fun u v => wpX_star (fun r u' => wpY_star (fun r' v' => r' = r ∧ i_Rel (k + 4) u' v') v) u) ?_ I
  intro made h ns mv c K F T st en O af ab ae ak an fr fn al alv ac tb R
  have hm := R.1
  have h6 : h ≤ 6 := by rw [R.2.1]; exact pa_ht_6 R.2.2.2.2.1 made (Nat.le_refl _)
  refine pa_xstar hm h6 R.2.2.2.1 (fun z => ?_) (fun z1 z2 => ?_) (fun z1 j e => ?_)
  · unfold wpY_star
    exact pa_yst (t := 1) hm h6 (by omega) (fun _ => ⟨rfl, pa_mk R⟩) (fun w1 w2 w3 => by omega) (fun w1 w2 w3 => by omega)
  · unfold wpY_star
    exact pa_yst (t := 1) hm h6 (by omega) (fun w => by omega) (fun w1 w2 w3 => ⟨rfl, pa_mk R⟩) (fun w1 w2 w3 => by omega)
  · unfold wpY_star
    subst e
    exact pa_yst (t := 1) hm h6 (by omega) (fun w => by omega) (fun w1 w2 w3 => by omega) (fun w1 w2 w3 => ⟨rfl, pa_mk (pa_RL_star R z1)⟩)
theorem i_vc_clear {k : Nat} {u : SX} {v : SY} (I : i_Rel k u v) (hk : k + 4 ≤ 2048) : wpX_clear (fun u' => wpY_clear (fun v' => i_Rel (k + 4) u' v') v) u := by
  refine pa_el (P := fun u v => wpX_clear (fun u' => wpY_clear (fun v' => i_Rel (k + 4) u' v') v) u) ?_ I
  intro made h ns mv c K F T st en O af ab ae ak an fr fn al alv ac tb R
  obtain ⟨r1, r2, r3, r4, r5, r6, r7, r8, r9⟩ := R
  exact pa_mk (k := k + 4) (pa_RL_0 (c := c) (O := O) r9)
theorem i_vc_steps {k : Nat} {u : SX} {v : SY} (I : i_Rel k u v) (hk : k + 4 ≤ 2048) : wpX_steps (fun r => wpY_steps (fun r' => r' = r ∧ i_Rel (k + 4) u v) v) u := by
  refine pa_el (P := fun u v => wpX_steps (fun r => wpY_steps (fun r' => r' = r ∧ i_Rel (k + 4) u v) v) u) ?_ I
  intro made h ns mv c K F T st en O af ab ae ak an fr fn al alv ac tb R
  exact ⟨rfl, pa_mk R⟩
end
section
/-! ===== edge ===== -/
section
variable {af ab ae : Nat → Int32}
theorem pa_ED_clr {l e : Nat} (hl : l < 3) (he : e ≤ 63) (D : pa_ED af ab ae) :
    pa_ED (upd af (l * 8 + e % 8) (af (l * 8 + e % 8) &&& (((1 : Int32) <<< (nI (e / 8) &&& 31)) ^^^ (-1)))) (upd ab (l * 8 + e / 8) (ab (l * 8 + e / 8) &&& (((1 : Int32) <<< (nI (e % 8) &&& 31)) ^^^ (-1)))) (upd ae (l * 64 + e) 0) := by
  intro l' x y hl' hx hy
  obtain ⟨d1, d2⟩ := D l' x y hl' hx hy
  by_cases z : l' = l ∧ x = e % 8 ∧ y = e / 8
  · have nE : ¬ pa_E (upd ae (l * 64 + e) 0) l' x y := by
      intro q
      refine q ?_
      rw [show l' * 64 + x + 8 * y = l * 64 + e from by omega, pk_us]
    refine ⟨⟨fun q => ?_, fun q => absurd q nE⟩, ⟨fun q => ?_, fun q => absurd q nE⟩⟩
    · rw [show l' * 8 + x = l * 8 + e % 8 from by omega, pk_us, pa_clr _ (by omega) (by omega), decide_eq_true z.2.2, Bool.not_true, Bool.and_false] at q
      cases q
    · rw [show l' * 8 + y = l * 8 + e / 8 from by omega, pk_us, pa_clr _ (by omega) (by omega), decide_eq_true z.2.1, Bool.not_true, Bool.and_false] at q
      cases q
  · have eE : pa_E (upd ae (l * 64 + e) 0) l' x y ↔ pa_E ae l' x y := by
      unfold pa_E
      rw [pk_un (by omega)]
    rw [eE]
    refine ⟨?_, ?_⟩
    · by_cases w : l' * 8 + x = l * 8 + e % 8
      · rw [w, pk_us, pa_clr _ (by omega) (by omega), decide_eq_false (by omega), Bool.not_false, Bool.and_true, ← w]
        exact d1
      · rw [pk_un w]
        exact d1
    · by_cases w : l' * 8 + y = l * 8 + e / 8
      · rw [w, pk_us, pa_clr _ (by omega) (by omega), decide_eq_false (by omega), Bool.not_false, Bool.and_true, ← w]
        exact d2
      · rw [pk_un w]
        exact d2
theorem pa_ED_set {l e : Nat} (hl : l < 3) (he : e ≤ 63) (D : pa_ED af ab ae) :
    pa_ED (upd af (l * 8 + e % 8) (af (l * 8 + e % 8) ||| ((1 : Int32) <<< (nI (e / 8) &&& 31)))) (upd ab (l * 8 + e / 8) (ab (l * 8 + e / 8) ||| ((1 : Int32) <<< (nI (e % 8) &&& 31)))) (upd ae (l * 64 + e) 1) := by
  intro l' x y hl' hx hy
  obtain ⟨d1, d2⟩ := D l' x y hl' hx hy
  by_cases z : l' = l ∧ x = e % 8 ∧ y = e / 8
  · have nE : pa_E (upd ae (l * 64 + e) 1) l' x y := by
      unfold pa_E
      rw [show l' * 64 + x + 8 * y = l * 64 + e from by omega, pk_us]
      decide
    refine ⟨⟨fun _ => nE, fun _ => ?_⟩, ⟨fun _ => nE, fun _ => ?_⟩⟩
    · rw [show l' * 8 + x = l * 8 + e % 8 from by omega, pk_us, pa_set _ (by omega) (by omega), decide_eq_true z.2.2, Bool.or_true]
    · rw [show l' * 8 + y = l * 8 + e / 8 from by omega, pk_us, pa_set _ (by omega) (by omega), decide_eq_true z.2.1, Bool.or_true]
  · have eE : pa_E (upd ae (l * 64 + e) 1) l' x y ↔ pa_E ae l' x y := by
      unfold pa_E
      rw [pk_un (by omega)]
    rw [eE]
    refine ⟨?_, ?_⟩
    · by_cases w : l' * 8 + x = l * 8 + e % 8
      · rw [w, pk_us, pa_set _ (by omega) (by omega), decide_eq_false (by omega), Bool.or_false, ← w]
        exact d1
      · rw [pk_un w]
        exact d1
    · by_cases w : l' * 8 + y = l * 8 + e / 8
      · rw [w, pk_us, pa_set _ (by omega) (by omega), decide_eq_false (by omega), Bool.or_false, ← w]
        exact d2
      · rw [pk_un w]
        exact d2
theorem pa_upd2 (f : Nat → Int32) (i : Nat) (x y : Int32) : upd (upd f i x) i y = upd f i y := by
  funext j
  by_cases h : j = i
  · rw [h, pk_us, pk_us]
  · rw [pk_un h, pk_un h, pk_un h]
variable {fm fs fv fh fr fn : Int32} {ak ar at' ast aen al alv ac : Nat → Int32}
theorem pa_xedge {post : Int32 → SX → Prop} {l e : Nat} {p2 : Int32} (hl : l < 3) (he : e ≤ 63)
    (k0 : p2 = 0 → post (if bt (af (l * 8 + e % 8)) (e / 8) = true then 1 else 0) (fm, fs, fv, fh, fr, fn, upd af (l * 8 + e % 8) (af (l * 8 + e % 8) &&& (((1 : Int32) <<< (nI (e / 8) &&& 31)) ^^^ (-1))), upd ab (l * 8 + e / 8) (ab (l * 8 + e / 8) &&& (((1 : Int32) <<< (nI (e % 8) &&& 31)) ^^^ (-1))), ak, ar, at', ast, aen, al, alv, ac))
    (k1 : ¬ p2 = 0 → ∀ af1 ab1, af1 = upd af (l * 8 + e % 8) (af (l * 8 + e % 8) &&& (((1 : Int32) <<< (nI (e / 8) &&& 31)) ^^^ (-1))) → ab1 = upd ab (l * 8 + e / 8) (ab (l * 8 + e / 8) &&& (((1 : Int32) <<< (nI (e % 8) &&& 31)) ^^^ (-1))) →
      post (if bt (af (l * 8 + e % 8)) (e / 8) = true then 1 else 0) (fm, fs, fv, fh, fr, fn, upd af1 (l * 8 + e % 8) (af1 (l * 8 + e % 8) ||| ((1 : Int32) <<< (nI (e / 8) &&& 31))), upd ab1 (l * 8 + e / 8) (ab1 (l * 8 + e / 8) ||| ((1 : Int32) <<< (nI (e % 8) &&& 31))), ak, ar, at', ast, aen, al, alv, ac)) :
    wpX_edge post (fm, fs, fv, fh, fr, fn, af, ab, ak, ar, at', ast, aen, al, alv, ac) (nI l) (nI e) p2 := by
  unfold wpX_edge
  dsimp only
  refine pa_xbl (nI l) (fun z => ?_) (fun l' hl' el => ?_)
  · have g0 : ¬ nI l < 0 := nI_pos (by omega)
    have g2 : nI l ≤ 2 := nI_le (b := 2) (by omega) (by omega)
    rcases z with z | z
    · exact absurd z g0
    · exact absurd g2 z
  · have e1 : nI e &&& 7 = nI (e % 8) := pk_andN (n := e) (by omega) 3 (by decide)
    have e2 : nI e >>> ((3 : Int32) &&& 31) = nI (e / 8) := pk_shrN (n := e) (by omega) ((3 : Int32) &&& 31) 3 (by decide)
    have i1 : nI l * 8 + nI (e % 8) = nI (l * 8 + e % 8) := pa_j1 _ _
    have i2 : nI l * 8 + nI (e / 8) = nI (l * 8 + e / 8) := pa_j1 _ _
    have c1 : (nI l * 8 + nI (e % 8)).toNatClampNeg = l * 8 + e % 8 := by rw [i1, nI_clamp (by omega)]
    have c2 : (nI l * 8 + nI (e / 8)).toNatClampNeg = l * 8 + e / 8 := by rw [i2, nI_clamp (by omega)]
    have v1 : vp_in (nI l * 8 + nI (e % 8)) 24 := pk_in (l * 8 + e % 8) 24 (by omega) i1
    have v2 : vp_in (nI l * 8 + nI (e / 8)) 24 := pk_in (l * 8 + e / 8) 24 (by omega) i2
    refine br_t rfl (br_f (nI_pos (by omega)) (br_t (nI_le (b := 63) he (by omega)) (nm_r e1 (nm_r e2 ⟨v1, ?_⟩))))
    rw [c1, c2]
    refine nm_r (pa_bit _ (by omega)) ⟨v1, v1, nm_e ⟨v2, v2, nm_e (br_c (fun z => k0 z) (fun z => ⟨v1, v1, nm_e ⟨v2, v2, nm_e (k1 z _ _ rfl rfl)⟩⟩))⟩⟩
end
theorem pa_nb0 : vp_nar .boolean 0 = 0 := rfl
theorem pa_nb1 : vp_nar .boolean 1 = 1 := rfl
theorem i_vc_edge {k : Nat} {u : SX} {v : SY} (I : i_Rel k u v) (hk : k + 4 ≤ 2048) (v1 : Int32) (v2 : Int32) (v3 : Int32) : wpX_edge (fun r u' => wpY_edge (fun r' v' => r' = r ∧ i_Rel (k + 4) u' v') v v1 v2 (lw_bz v3)) u v1 v2 (lw_bz v3) := by
  refine pa_el (P := fun u v => wpX_edge (fun r u' => wpY_edge (fun r' v' => r' = r ∧ i_Rel (k + 4) u' v') v v1 v2 (lw_bz v3)) u v1 v2 (lw_bz v3)) ?_ I
  intro made h ns mv c K F T st en O af ab ae ak an fr fn al alv ac tb R
  have f1 := And.intro (rfl : (-1 : Int32) = -1) (pa_mk (k := k + 4) (fr := fr) (fn := fn) (al := al) (alv := alv) (ac := ac) (tb := tb) R)
  have f2 := And.intro (rfl : (-2 : Int32) = -2) (pa_mk (k := k + 4) (fr := fr) (fn := fn) (al := al) (alv := alv) (ac := ac) (tb := tb) R)
  by_cases good : (∃ l, l < 3 ∧ v1 = nI l) ∧ (∃ e, e ≤ 63 ∧ v2 = nI e)
  · obtain ⟨⟨l, hl, el⟩, ⟨e, he, ee⟩⟩ := good
    rw [el, ee]
    obtain ⟨r1, r2, r3, r4, r5, r6, r7, r8, r9⟩ := R
    have g0 : ¬ nI l < 0 := nI_pos (by omega)
    have g2 : nI l ≤ 2 := nI_le (b := 2) (by omega) (by omega)
    have g3 : ¬ nI e < 0 := nI_pos (by omega)
    have g4 : nI e ≤ 63 := nI_le (b := 63) he (by omega)
    have i1 : nI l * 64 + nI e = nI (l * 64 + e) := pa_i1 l e
    have c1 : (nI l * 64 + nI e).toNatClampNeg = l * 64 + e := by rw [i1, nI_clamp (by omega)]
    have w1 : vp_in (nI l * 64 + nI e) 192 := pk_in (l * 64 + e) 192 (by omega) i1
    have old : bt (af (l * 8 + e % 8)) (e / 8) = true ↔ ¬ ae (l * 64 + e) = 0 := by
      have q := (r9 l (e % 8) (e / 8) hl (by omega) (by omega)).1
      unfold pa_E at q
      rwa [show l * 64 + e % 8 + 8 * (e / 8) = l * 64 + e from by omega] at q
    have Y : ∀ (x : Int32) (af' ab' : Nat → Int32), pa_ED af' ab' (upd ae (l * 64 + e) (vp_nar .boolean x)) →
        wpY_edge (fun r' v' => r' = (if bt (af (l * 8 + e % 8)) (e / 8) = true then 1 else 0) ∧ i_Rel (k + 4) (nI made, nI ns, nI mv, nI h, fr, fn, af', ab', pa_nT K, pa_nT F, pa_nT T, pa_nT st, pa_nT en, al, alv, ac) v') (nI made, nI h, ae, ak, an, tb) (nI l) (nI e) x := by
      intro x af' ab' D
      have fin := pa_mk (k := k + 4) (fr := fr) (fn := fn) (al := al) (alv := alv) (ac := ac) (tb := tb) (show pa_RL made h ns mv c K F T st en O af' ab' (upd ae (l * 64 + e) (vp_nar .boolean x)) ak an from ⟨r1, r2, r3, r4, r5, r6, r7, r8, D⟩)
      refine br_f g0 (br_t g2 (br_f g3 (br_t g4 ⟨w1, ?_⟩)))
      rw [c1]
      refine br_c (fun z => ⟨w1, ?_⟩) (fun z => ⟨w1, ?_⟩)
      · rw [c1]
        refine nm_e ⟨?_, fin⟩
        rw [if_neg (fun q => (old.mp q) z)]
      · rw [c1]
        refine nm_e ⟨?_, fin⟩
        rw [if_pos (old.mpr z)]
    refine pa_xedge hl he (fun z => ?_) (fun z af1 ab1 q1 q2 => ?_)
    · rw [z]
      exact Y 0 _ _ (pa_ED_clr hl he r9)
    · have z1 : lw_bz v3 = 1 := by
        rcases lw_bz_01 v3 with q | q
        · exact absurd q z
        · exact q
      rw [z1]
      have D1 := pa_ED_clr hl he r9
      rw [← q1, ← q2] at D1
      have D2 := pa_ED_set hl he D1
      rw [pa_upd2] at D2
      exact Y 1 _ _ D2
  · unfold wpX_edge
    dsimp only
    refine pa_xbl v1 (fun z => ?_) (fun l hl el => ?_)
    · refine br_f pa_n0 ?_
      rcases z with z | z
      · exact br_t z f1
      · exact br_c (fun _ => f1) (fun _ => br_f z f1)
    · have g0 : ¬ v1 < 0 := by rw [el]; exact nI_pos (by omega)
      have g2 : v1 ≤ 2 := by rw [el]; exact nI_le (b := 2) (by omega) (by omega)
      refine br_t rfl (br_c (fun z => br_f g0 (br_t g2 (br_t z f2))) (fun z => br_c (fun y => ?_) (fun y => br_f g0 (br_t g2 (br_f z (br_f y f2))))))
      obtain ⟨e, he, ee⟩ := nI_of2 (n := 63) rfl z y
      exact absurd ⟨⟨l, hl, el⟩, ⟨e, he, ee⟩⟩ good
end
section
/-! ===== the questions ===== -/
section
variable {fm fh : Int32} {ae ak an tb : Nat → Int32}
theorem pa_xbg {post : Int32 → Prop} (v1 : Int32) (k1 : (∀ a, a < 8 → ¬ v1 = nI a) → post 1) (k0 : ∀ a, a < 8 → v1 = nI a → post 0) : wpX_badNode post v1 := by
  refine pa_xbn v1 (fun z => k1 (fun a ha e => ?_)) k0
  rw [e] at z
  rcases z with z | z
  · exact nI_pos (by omega) z
  · exact z (nI_lt (b := 8) ha (by omega))
theorem pa_ybg {post : Int32 → Prop} (v1 : Int32) (k1 : (∀ a, a < 8 → ¬ v1 = nI a) → post 1) (k0 : ∀ a, a < 8 → v1 = nI a → post 0) : wpY_bad post (fm, fh, ae, ak, an, tb) v1 := by
  refine br_c (fun z => k1 (fun a ha e => ?_)) (fun z => br_c (fun y => ?_) (fun y => k1 (fun a ha e => ?_)))
  · rw [e] at z
    exact nI_pos (by omega) z
  · obtain ⟨j, hj, e⟩ := nI_of2 (n := 7) rfl z y
    exact k0 j (by omega) e
  · rw [e] at y
    exact y (nI_le (b := 7) (by omega) (by omega))
end
def pa_ms (W : Nat → Nat) : Nat → Int32
  | 0 => 0
  | b + 1 => if W b < 100000 then pa_ms W b ||| ((1 : Int32) <<< (nI b &&& 31)) else pa_ms W b
theorem pa_ms_b (W : Nat → Nat) : ∀ k, k ≤ 32 → ∀ i, i < 32 → (bt (pa_ms W k) i = true ↔ (i < k ∧ W i < 100000)) := by
  intro k
  induction k with
  | zero =>
    intro _ i hi
    show bt 0 i = true ↔ _
    rw [b_0]
    exact ⟨fun q => (by cases q), fun q => (by omega)⟩
  | succ k ih =>
    intro hk i hi
    have I := ih (by omega) i hi
    show bt (if W k < 100000 then pa_ms W k ||| ((1 : Int32) <<< (nI k &&& 31)) else pa_ms W k) i = true ↔ _
    by_cases z : W k < 100000
    · rw [if_pos z, pa_set _ (by omega) hi, Bool.or_eq_true, I, decide_eq_true_eq]
      constructor
      · rintro (q | q)
        · exact ⟨by omega, q.2⟩
        · exact ⟨by omega, by rw [q]; exact z⟩
      · rintro ⟨q1, q2⟩
        by_cases e : i = k
        · exact Or.inr e
        · exact Or.inl ⟨by omega, q2⟩
    · rw [if_neg z, I]
      constructor
      · rintro ⟨q1, q2⟩
        exact ⟨by omega, q2⟩
      · rintro ⟨q1, q2⟩
        refine ⟨?_, q2⟩
        have : i ≠ k := by
          intro e
          rw [e] at q2
          exact z q2
        omega
theorem pa_ms_1 (W : Nat → Nat) {b : Nat} (hb : b < 8) : (pa_ms W 8 >>> (nI b &&& 31)) &&& 1 = nI (if W b < 100000 then 1 else 0) := by
  rw [pa_bit _ (by omega)]
  have q := pa_ms_b W 8 (by omega) b (by omega)
  by_cases z : W b < 100000
  · rw [if_pos (q.mpr ⟨hb, z⟩), if_pos z]
    rfl
  · rw [if_neg (fun y => z (q.mp y).2), if_neg z]
    rfl
theorem pa_or0 (x : Int32) : x ||| 0 = x := by
  apply b_ext
  intro i hi
  rw [b_or, b_0, Bool.or_false]
theorem pa_ms_2 (W : Nat → Nat) {a : Nat} (ha : a < 8) (x : Int32) : x ||| (pa_ms W 8 &&& ((1 : Int32) <<< (nI a &&& 31))) = if W a < 100000 then x ||| ((1 : Int32) <<< (nI a &&& 31)) else x := by
  have q := pa_ms_b W 8 (by omega) a (by omega)
  have e : pa_ms W 8 &&& ((1 : Int32) <<< (nI a &&& 31)) = if W a < 100000 then ((1 : Int32) <<< (nI a &&& 31)) else 0 := by
    apply b_ext
    intro i hi
    rw [b_and, pa_1s (by omega) hi]
    by_cases z : W a < 100000
    · rw [if_pos z, pa_1s (by omega) hi]
      by_cases y : i = a
      · rw [y, q.mpr ⟨ha, z⟩, decide_eq_true rfl]
        rfl
      · rw [decide_eq_false y, Bool.and_false]
    · rw [if_neg z, b_0]
      by_cases y : i = a
      · have f : bt (pa_ms W 8) a = false := by
          cases g : bt (pa_ms W 8) a with
          | false => rfl
          | true => exact absurd (q.mp g).2 z
        rw [y, f, Bool.false_and]
      · rw [decide_eq_false y, Bool.and_false]
  rw [e]
  by_cases z : W a < 100000
  · rw [if_pos z, if_pos z]
  · rw [if_neg z, if_neg z, pa_or0]
def pa_ct (V : Nat → Nat → Nat) : Nat → Nat
  | 0 => 0
  | p + 1 => pa_ct V p + (if V (p / 8) (p % 8) < 100000 then 1 else 0)
theorem pa_ct_le (V : Nat → Nat → Nat) : ∀ p, pa_ct V p ≤ p := by
  intro p
  induction p with
  | zero => exact Nat.le_refl _
  | succ p ih =>
    show pa_ct V p + (if V (p / 8) (p % 8) < 100000 then 1 else 0) ≤ p + 1
    by_cases z : V (p / 8) (p % 8) < 100000
    · rw [if_pos z]
      omega
    · rw [if_neg z]
      omega
def pa_w5 : Nat → Int32
  | 0 => -5
  | m + 1 => nI m
def pa_wd (V : Nat → Nat → Nat) : Nat → Nat
  | 0 => 0
  | p + 1 => if V (p / 8) (p % 8) < 100000 then (if V (p / 8) (p % 8) + 1 ≤ pa_wd V p then pa_wd V p else V (p / 8) (p % 8) + 1) else pa_wd V p
section
variable {made h ns mv : Nat} {c K F T st en O : Nat → Nat} {af ab ae ak an : Nat → Int32} {fr fn : Int32} {al alv ac tb : Nat → Int32}
/-- the answers' table -/
noncomputable def pa_V (ae : Nat → Int32) (c : Nat → Nat) (made a b : Nat) : Nat := pa_vl (pa_TR (pa_E ae) c made a b)
theorem pa_h6 (R : pa_RL made h ns mv c K F T st en O af ab ae ak an) : h ≤ 6 := by
  rw [R.2.1]
  exact pa_ht_6 R.2.2.2.2.1 made (Nat.le_refl _)
theorem pa_xs {post : SX → Prop} {a : Nat} (R : pa_RL made h ns mv c K F T st en O af ab ae ak an) (ha : a < 8)
    (k : ∀ fr fn al alv ac, (∀ (q : Int32 → Prop) (b : Nat), b < 8 → q (pa_xr (pa_V ae c made a b)) → wpX_lengthTo q (nI made, nI ns, nI mv, nI h, fr, fn, af, ab, pa_nT K, pa_nT F, pa_nT T, pa_nT st, pa_nT en, al, alv, ac) (nI b)) → (∀ b, b < 8 → (pa_V ae c made a b ≤ 224 ∨ pa_V ae c made a b = 100000)) → post (nI made, nI ns, nI mv, nI h, fr, fn, af, ab, pa_nT K, pa_nT F, pa_nT T, pa_nT st, pa_nT en, al, alv, ac)) :
    wpX_search post (nI made, nI ns, nI mv, nI h, fr, fn, af, ab, pa_nT K, pa_nT F, pa_nT T, pa_nT st, pa_nT en, al, alv, ac) (nI a) := by
  have h6 := pa_h6 R
  obtain ⟨r1, r2, r3, r4, r5, r6, r7, r8, r9⟩ := R
  exact pa_xsr ha (by omega) (by omega) h6 r2 r6 (r7 (pa_E ae)) r9 k
theorem pa_yws {post : Int32 → SY → Prop} (R : pa_RL made h ns mv c K F T st en O af ab ae ak an)
    (k : ∀ T', (∀ (q : Int32 → Prop) (a b : Nat), a < 8 → b < 8 → q (nI (pa_V ae c made a b)) → wpY_length q (nI made, nI h, ae, ak, an, pa_nT T') (nI h - 1) (nI a) (nI b)) → post (nI h - 1) (nI made, nI h, ae, ak, an, pa_nT T')) :
    wpY_workOut post (nI made, nI h, ae, ak, an, tb) := by
  obtain ⟨r1, r2, r3, r4, r5, r6, r7, r8, r9⟩ := R
  refine pa_ywork r1 r5 (fun j hj => (r8 j hj).1) (fun j hj => (r8 j hj).2) (fun T' L => ?_)
  rw [← r2] at L ⊢
  exact k T' L
theorem pa_V5 {a b : Nat} : pa_V ae c made a b ≤ 100000 := (pa_vl_s (pa_TR (pa_E ae) c made a b)).1
theorem pa_xr9 {post : Int32 → SX → Prop} {W : Nat → Nat} (LT : ∀ (q : Int32 → Prop) (b : Nat), b < 8 → q (pa_xr (W b)) → wpX_lengthTo q (nI made, nI ns, nI mv, nI h, fr, fn, af, ab, pa_nT K, pa_nT F, pa_nT T, pa_nT st, pa_nT en, al, alv, ac) (nI b)) (k : post (pa_ms W 8) (nI made, nI ns, nI mv, nI h, fr, fn, af, ab, pa_nT K, pa_nT F, pa_nT T, pa_nT st, pa_nT en, al, alv, ac)) :
    ∀ f b, 8 < f + b → b ≤ 8 → wX_reachFrom_9 post (nI made) (nI ns) (nI mv) (nI h) fr fn af ab (pa_nT K) (pa_nT F) (pa_nT T) (pa_nT st) (pa_nT en) al alv ac f (pa_ms W b) (nI b) := by
  intro f
  induction f with
  | zero =>
    intro b h1 h2
    omega
  | succ f ih =>
    intro b h1 h2
    refine pk_le 8 b (fun z => ?_) (fun z => ?_)
    · have e : b = 8 := by omega
      rw [e]
      exact k
    · refine LT _ b z ?_
      have J := ih (b + 1) (by omega) (by omega)
      have e : pa_ms W (b + 1) = if W b < 100000 then pa_ms W b ||| ((1 : Int32) <<< (nI b &&& 31)) else pa_ms W b := rfl
      by_cases y : W b < 100000
      · rw [e, if_pos y] at J
        rw [pa_xr_t y]
        exact br_f (nI_pos (by omega)) (nm_e (nm_r (nI_1 b) J))
      · rw [e, if_neg y] at J
        rw [pa_xr_f y]
        exact br_t (by decide) (nm_r (nI_1 b) J)
theorem pa_xrfr {post : Int32 → SX → Prop} {a : Nat} (R : pa_RL made h ns mv c K F T st en O af ab ae ak an) (ha : a < 8) (k : ∀ fr fn al alv ac, post (pa_ms (pa_V ae c made a) 8) (nI made, nI ns, nI mv, nI h, fr, fn, af, ab, pa_nT K, pa_nT F, pa_nT T, pa_nT st, pa_nT en, al, alv, ac)) :
    wpX_reachFrom post (nI made, nI ns, nI mv, nI h, fr, fn, af, ab, pa_nT K, pa_nT F, pa_nT T, pa_nT st, pa_nT en, al, alv, ac) (nI a) := by
  unfold wpX_reachFrom
  refine pa_xs R ha (fun fr fn al alv ac LT hv => ?_)
  exact ⟨9, pa_xr9 LT (k fr fn al alv ac) 9 0 (by omega) (by omega)⟩
theorem pa_y21 {post : Int32 → SY → Prop} {W : Nat → Nat} {a : Nat} {T' : Nat → Nat} (hW : ∀ b, W b ≤ 100000) (LY : ∀ (q : Int32 → Prop) (b : Nat), b < 8 → q (nI (W b)) → wpY_length q (nI made, nI h, ae, ak, an, pa_nT T') (nI h - 1) (nI a) (nI b)) (k : post (pa_ms W 8) (nI made, nI h, ae, ak, an, pa_nT T')) :
    ∀ f b, 8 < f + b → b ≤ 8 → wY_reach_21 post (nI a) (nI h - 1) (nI made) (nI h) ae ak an (pa_nT T') f (pa_ms W b) (nI b) := by
  intro f
  induction f with
  | zero =>
    intro b h1 h2
    omega
  | succ f ih =>
    intro b h1 h2
    refine pk_le 8 b (fun z => ?_) (fun z => ?_)
    · have e : b = 8 := by omega
      rw [e]
      exact k
    · refine LY _ b z ?_
      have J := ih (b + 1) (by omega) (by omega)
      have e : pa_ms W (b + 1) = if W b < 100000 then pa_ms W b ||| ((1 : Int32) <<< (nI b &&& 31)) else pa_ms W b := rfl
      have hw := hW b
      refine pk_le 100000 (W b) (fun y => ?_) (fun y => ?_)
      · rw [e, if_neg (by omega)] at J
        exact nm_r (nI_1 b) J
      · rw [e, if_pos y] at J
        exact nm_e (nm_r (nI_1 b) J)
theorem pa_yl9 {post : Int32 → SY → Prop} {W : Nat → Nat} {T' : Nat → Nat} (hW : ∀ b, W b ≤ 100000) (LY : ∀ (q : Int32 → Prop) (b : Nat), b < 8 → q (nI (W b)) → wpY_length q (nI made, nI h, ae, ak, an, pa_nT T') (nI h - 1) (nI b) (nI b)) (k : post (pa_ms W 8) (nI made, nI h, ae, ak, an, pa_nT T')) :
    ∀ f b, 8 < f + b → b ≤ 8 → wY_loops_9 post (nI h - 1) (nI made) (nI h) ae ak an (pa_nT T') f (pa_ms W b) (nI b) := by
  intro f
  induction f with
  | zero =>
    intro b h1 h2
    omega
  | succ f ih =>
    intro b h1 h2
    refine pk_le 8 b (fun z => ?_) (fun z => ?_)
    · have e : b = 8 := by omega
      rw [e]
      exact k
    · refine LY _ b z ?_
      have J := ih (b + 1) (by omega) (by omega)
      have e : pa_ms W (b + 1) = if W b < 100000 then pa_ms W b ||| ((1 : Int32) <<< (nI b &&& 31)) else pa_ms W b := rfl
      have hw := hW b
      refine pk_le 100000 (W b) (fun y => ?_) (fun y => ?_)
      · rw [e, if_neg (by omega)] at J
        exact nm_r (nI_1 b) J
      · rw [e, if_pos y] at J
        exact nm_e (nm_r (nI_1 b) J)
theorem pa_yp9 {post : Int32 → SY → Prop} {V : Nat → Nat → Nat} {T' : Nat → Nat} (hV : ∀ a b, V a b ≤ 100000) (LY : ∀ (q : Int32 → Prop) (a b : Nat), a < 8 → b < 8 → q (nI (V a b)) → wpY_length q (nI made, nI h, ae, ak, an, pa_nT T') (nI h - 1) (nI a) (nI b)) (k : post (nI (pa_ct V 64)) (nI made, nI h, ae, ak, an, pa_nT T')) :
    ∀ f p, 64 < f + p → p ≤ 64 → wY_pairs_9 post (nI h - 1) (nI made) (nI h) ae ak an (pa_nT T') f (nI (pa_ct V p)) (nI p) := by
  intro f
  induction f with
  | zero =>
    intro p h1 h2
    omega
  | succ f ih =>
    intro p h1 h2
    refine pk_le 64 p (fun z => ?_) (fun z => ?_)
    · have e : p = 64 := by omega
      rw [e]
      exact k
    · refine ⟨pa_80, pa_80, ?_⟩
      rw [pa_r8 (by omega), pa_d8 (by omega)]
      refine LY _ (p / 8) (p % 8) (by omega) (by omega) ?_
      have J := ih (p + 1) (by omega) (by omega)
      have e : pa_ct V (p + 1) = pa_ct V p + (if V (p / 8) (p % 8) < 100000 then 1 else 0) := rfl
      have hv := hV (p / 8) (p % 8)
      refine pk_le 100000 (V (p / 8) (p % 8)) (fun y => ?_) (fun y => ?_)
      · rw [e, if_neg (by omega)] at J
        exact nm_r (nI_1 p) J
      · rw [e, if_pos y] at J
        exact nm_r (nI_1 _) (nm_r (nI_1 p) J)
theorem pa_yw10 {post : Int32 → SY → Prop} {V : Nat → Nat → Nat} {T' : Nat → Nat} (hV : ∀ a b, V a b ≤ 100000) (LY : ∀ (q : Int32 → Prop) (a b : Nat), a < 8 → b < 8 → q (nI (V a b)) → wpY_length q (nI made, nI h, ae, ak, an, pa_nT T') (nI h - 1) (nI a) (nI b)) (k : post (pa_w5 (pa_wd V 64)) (nI made, nI h, ae, ak, an, pa_nT T')) :
    ∀ f p, 64 < f + p → p ≤ 64 → pa_wd V p ≤ 100001 → wY_widest_10 post (nI h - 1) (nI made) (nI h) ae ak an (pa_nT T') f (pa_w5 (pa_wd V p)) (nI p) := by
  intro f
  induction f with
  | zero =>
    intro p h1 h2
    omega
  | succ f ih =>
    intro p h1 h2 h3
    refine pk_le 64 p (fun z => ?_) (fun z => ?_)
    · have e : p = 64 := by omega
      rw [e]
      exact k
    · refine ⟨pa_80, pa_80, ?_⟩
      rw [pa_r8 (by omega), pa_d8 (by omega)]
      refine LY _ (p / 8) (p % 8) (by omega) (by omega) ?_
      have hv := hV (p / 8) (p % 8)
      have e : pa_wd V (p + 1) = if V (p / 8) (p % 8) < 100000 then (if V (p / 8) (p % 8) + 1 ≤ pa_wd V p then pa_wd V p else V (p / 8) (p % 8) + 1) else pa_wd V p := rfl
      have J := ih (p + 1) (by omega) (by omega)
      refine pk_le 100000 (V (p / 8) (p % 8)) (fun y => ?_) (fun y => ?_)
      · rw [e, if_neg (by omega)] at J
        exact nm_r (nI_1 p) (J h3)
      · rw [e, if_pos y] at J
        generalize pa_wd V p = w at *
        generalize V (p / 8) (p % 8) = x at *
        cases w with
        | zero =>
          rw [if_neg (by omega)] at J
          refine br_f ?_ (nm_r (nI_1 p) (J (by omega)))
          intro q
          exact absurd (Int32.lt_of_le_of_lt q (by decide : (pa_w5 0) < 0)) (nI_pos (by omega))
        | succ m =>
          refine pk_le x m (fun y2 => ?_) (fun y2 => ?_)
          · rw [if_pos (by omega)] at J
            exact nm_r (nI_1 p) (J (by omega))
          · rw [if_neg (by omega)] at J
            exact nm_r (nI_1 p) (J (by omega))
theorem pa_x19 {post : Int32 → SX → Prop} {J4 : Int32 → Int32 → Int32 → Int32 → Int32 → Int32 → Int32 → Int32 → (Nat → Int32) → (Nat → Int32) → (Nat → Int32) → (Nat → Int32) → (Nat → Int32) → (Nat → Int32) → (Nat → Int32) → (Nat → Int32) → (Nat → Int32) → (Nat → Int32) → Prop} {V : Nat → Nat → Nat} {a : Nat} (ha : a < 8) (k : J4 (nI (pa_ct V (a * 8 + 8))) (nI (a + 1)) (nI made) (nI ns) (nI mv) (nI h) fr fn af ab (pa_nT K) (pa_nT F) (pa_nT T) (pa_nT st) (pa_nT en) al alv ac) :
    ∀ f b, 8 < f + b → b ≤ 8 → wX_pairs_19 post J4 (nI a) (pa_ms (V a) 8) (nI made) (nI ns) (nI mv) (nI h) fr fn af ab (pa_nT K) (pa_nT F) (pa_nT T) (pa_nT st) (pa_nT en) al alv ac f (nI (pa_ct V (a * 8 + b))) (nI b) := by
  intro f
  induction f with
  | zero =>
    intro b h1 h2
    omega
  | succ f ih =>
    intro b h1 h2
    refine pk_le 8 b (fun z => ?_) (fun z => ?_)
    · have e : b = 8 := by omega
      rw [e]
      exact nm_r (nI_1 a) k
    · refine nm_r (e' := nI (pa_ct V (a * 8 + (b + 1)))) ?_ (nm_r (nI_1 b) (ih (b + 1) (by omega) (by omega)))
      rw [pa_ms_1 (V a) z, nI_add]
      have e : pa_ct V (a * 8 + (b + 1)) = pa_ct V (a * 8 + b) + (if V ((a * 8 + b) / 8) ((a * 8 + b) % 8) < 100000 then 1 else 0) := rfl
      rw [e, show (a * 8 + b) / 8 = a from by omega, show (a * 8 + b) % 8 = b from by omega]
theorem pa_xp4 {post : Int32 → SX → Prop} (R : pa_RL made h ns mv c K F T st en O af ab ae ak an) (k : ∀ fr fn al alv ac, post (nI (pa_ct (pa_V ae c made) 64)) (nI made, nI ns, nI mv, nI h, fr, fn, af, ab, pa_nT K, pa_nT F, pa_nT T, pa_nT st, pa_nT en, al, alv, ac)) :
    ∀ f a fr fn al alv ac, 8 < f + a → a ≤ 8 → wX_pairs_4 post f (nI (pa_ct (pa_V ae c made) (a * 8))) (nI a) (nI made) (nI ns) (nI mv) (nI h) fr fn af ab (pa_nT K) (pa_nT F) (pa_nT T) (pa_nT st) (pa_nT en) al alv ac := by
  intro f
  induction f with
  | zero =>
    intro a fr fn al alv ac h1 h2
    omega
  | succ f ih =>
    intro a fr fn al alv ac h1 h2
    refine pk_le 8 a (fun z => ?_) (fun z => ?_)
    · have e : a = 8 := by omega
      rw [e]
      exact k fr fn al alv ac
    · refine pa_xrfr R z (fun fr fn al alv ac => ⟨9, ?_⟩)
      have J := ih (a + 1) fr fn al alv ac (by omega) (by omega)
      rw [show (a + 1) * 8 = a * 8 + 8 from by omega] at J
      exact pa_x19 z J 9 0 (by omega) (by omega)
theorem pa_xl4 {post : Int32 → SX → Prop} (R : pa_RL made h ns mv c K F T st en O af ab ae ak an) (k : ∀ fr fn al alv ac, post (pa_ms (fun a => pa_V ae c made a a) 8) (nI made, nI ns, nI mv, nI h, fr, fn, af, ab, pa_nT K, pa_nT F, pa_nT T, pa_nT st, pa_nT en, al, alv, ac)) :
    ∀ f a fr fn al alv ac, 8 < f + a → a ≤ 8 → wX_loops_4 post f (pa_ms (fun a => pa_V ae c made a a) a) (nI a) (nI made) (nI ns) (nI mv) (nI h) fr fn af ab (pa_nT K) (pa_nT F) (pa_nT T) (pa_nT st) (pa_nT en) al alv ac := by
  intro f
  induction f with
  | zero =>
    intro a fr fn al alv ac h1 h2
    omega
  | succ f ih =>
    intro a fr fn al alv ac h1 h2
    refine pk_le 8 a (fun z => ?_) (fun z => ?_)
    · have e : a = 8 := by omega
      rw [e]
      exact k fr fn al alv ac
    · refine pa_xrfr R z (fun fr fn al alv ac => ?_)
      exact nm_r (e' := pa_ms (fun a => pa_V ae c made a a) (a + 1)) (pa_ms_2 (pa_V ae c made a) z _) (nm_r (nI_1 a) (ih (a + 1) fr fn al alv ac (by omega) (by omega)))
/-- the component's running maximum: below 0 while nothing is found -/
def pa_WX (x : Int32) (w : Nat) : Prop := (w = 0 ∧ (x = -5 ∨ x = -1)) ∨ (∃ m, w = m + 1 ∧ m ≤ 224 ∧ x = nI m)
theorem pa_m1le {m : Nat} (h : m < 2 ^ 31) : (-1 : Int32) ≤ nI m := by
  rw [Int32.le_iff_toInt_le, show (-1 : Int32).toInt = -1 from by decide, nI_toInt h]
  omega
theorem pa_x18 {post : Int32 → SX → Prop} {J5 : Int32 → Int32 → Int32 → Int32 → Int32 → Int32 → Int32 → Int32 → (Nat → Int32) → (Nat → Int32) → (Nat → Int32) → (Nat → Int32) → (Nat → Int32) → (Nat → Int32) → (Nat → Int32) → (Nat → Int32) → (Nat → Int32) → (Nat → Int32) → Prop} {V : Nat → Nat → Nat} {a : Nat} (ha : a < 8) (hV : ∀ b, b < 8 → (V a b ≤ 224 ∨ V a b = 100000)) (LT : ∀ (q : Int32 → Prop) (b : Nat), b < 8 → q (pa_xr (V a b)) → wpX_lengthTo q (nI made, nI ns, nI mv, nI h, fr, fn, af, ab, pa_nT K, pa_nT F, pa_nT T, pa_nT st, pa_nT en, al, alv, ac) (nI b))
    (k : ∀ x, pa_WX x (pa_wd V (a * 8 + 8)) → J5 x (nI (a + 1)) (nI made) (nI ns) (nI mv) (nI h) fr fn af ab (pa_nT K) (pa_nT F) (pa_nT T) (pa_nT st) (pa_nT en) al alv ac) :
    ∀ f b x, 8 < f + b → b ≤ 8 → pa_WX x (pa_wd V (a * 8 + b)) → wX_widest_18 post J5 (nI a) (nI made) (nI ns) (nI mv) (nI h) fr fn af ab (pa_nT K) (pa_nT F) (pa_nT T) (pa_nT st) (pa_nT en) al alv ac f x (nI b) := by
  intro f
  induction f with
  | zero =>
    intro b x h1 h2
    omega
  | succ f ih =>
    intro b x h1 h2 X
    refine pk_le 8 b (fun z => ?_) (fun z => ?_)
    · have e : b = 8 := by omega
      rw [e] at X
      exact nm_r (nI_1 a) (k x X)
    · refine LT _ b z ?_
      have J : ∀ x', pa_WX x' (pa_wd V (a * 8 + b + 1)) → wX_widest_18 post J5 (nI a) (nI made) (nI ns) (nI mv) (nI h) fr fn af ab (pa_nT K) (pa_nT F) (pa_nT T) (pa_nT st) (pa_nT en) al alv ac f x' (nI (b + 1)) := fun x' X' => ih (b + 1) x' (by omega) (by omega) X'
      have hv := hV b z
      have e : pa_wd V (a * 8 + b + 1) = if V ((a * 8 + b) / 8) ((a * 8 + b) % 8) < 100000 then (if V ((a * 8 + b) / 8) ((a * 8 + b) % 8) + 1 ≤ pa_wd V (a * 8 + b) then pa_wd V (a * 8 + b) else V ((a * 8 + b) / 8) ((a * 8 + b) % 8) + 1) else pa_wd V (a * 8 + b) := rfl
      rw [show (a * 8 + b) / 8 = a from by omega, show (a * 8 + b) % 8 = b from by omega] at e
      rw [e] at J
      rcases hv with y | y
      · rw [if_pos (by omega)] at J
        rw [pa_xr_t (by omega)]
        rcases X with ⟨w1, w2⟩ | ⟨m, w1, w2, w3⟩
        · rw [w1, if_neg (by omega)] at J
          have nl : ¬ nI (V a b) ≤ x := by
            intro q
            have : x < 0 := by
              rcases w2 with w2 | w2
              · rw [w2]
                decide
              · rw [w2]
                decide
            exact absurd (Int32.lt_of_le_of_lt q this) (nI_pos (by omega))
          exact br_f nl (nm_r (nI_1 b) (J _ (Or.inr ⟨V a b, rfl, y, rfl⟩)))
        · rw [w1] at J
          rw [w3]
          refine pk_le (V a b) m (fun y2 => ?_) (fun y2 => ?_)
          · rw [if_pos (by omega)] at J
            exact nm_r (nI_1 b) (J _ (Or.inr ⟨m, rfl, w2, rfl⟩))
          · rw [if_neg (by omega)] at J
            exact nm_r (nI_1 b) (J _ (Or.inr ⟨V a b, rfl, y, rfl⟩))
      · rw [if_neg (by omega)] at J
        rw [pa_xr_f (by omega)]
        rcases X with ⟨w1, w2⟩ | ⟨m, w1, w2, w3⟩
        · rcases w2 with w2 | w2
          · rw [w2]
            exact br_f (by decide) (nm_r (nI_1 b) (J _ (Or.inl ⟨w1, Or.inr rfl⟩)))
          · rw [w2]
            exact br_t (by decide) (nm_r (nI_1 b) (J _ (Or.inl ⟨w1, Or.inr rfl⟩)))
        · rw [w3]
          exact br_t (pa_m1le (by omega)) (nm_r (nI_1 b) (J _ (Or.inr ⟨m, w1, w2, rfl⟩)))
theorem pa_xw5 {post : Int32 → SX → Prop} (R : pa_RL made h ns mv c K F T st en O af ab ae ak an) (k : ∀ fr fn al alv ac, post (pa_w5 (pa_wd (pa_V ae c made) 64)) (nI made, nI ns, nI mv, nI h, fr, fn, af, ab, pa_nT K, pa_nT F, pa_nT T, pa_nT st, pa_nT en, al, alv, ac)) :
    ∀ f a x fr fn al alv ac, 8 < f + a → a ≤ 8 → pa_WX x (pa_wd (pa_V ae c made) (a * 8)) → wX_widest_5 post f x (nI a) (nI made) (nI ns) (nI mv) (nI h) fr fn af ab (pa_nT K) (pa_nT F) (pa_nT T) (pa_nT st) (pa_nT en) al alv ac := by
  intro f
  induction f with
  | zero =>
    intro a x fr fn al alv ac h1 h2
    omega
  | succ f ih =>
    intro a x fr fn al alv ac h1 h2 X
    refine pk_le 8 a (fun z => ?_) (fun z => ?_)
    · have e : a = 8 := by omega
      have kk := k fr fn al alv ac
      rw [e] at X
      rcases X with ⟨w1, w2⟩ | ⟨m, w1, w2, w3⟩
      · rw [show 8 * 8 = 64 from rfl] at w1
        rw [w1] at kk
        have n : ¬ 0 ≤ x := by
          rcases w2 with w2 | w2
          · rw [w2]
            decide
          · rw [w2]
            decide
        exact br_f n kk
      · rw [show 8 * 8 = 64 from rfl] at w1
        rw [w1] at kk
        rw [w3]
        exact br_t (nI_pos' (by omega)) kk
    · refine pa_xs R z (fun fr fn al alv ac LT hv => ⟨9, ?_⟩)
      refine pa_x18 z hv LT (fun x' X' => ?_) 9 0 x (by omega) (by omega) X
      refine ih (a + 1) x' fr fn al alv ac (by omega) (by omega) ?_
      rw [show (a + 1) * 8 = a * 8 + 8 from by omega]
      exact X'
end
end
section
/-! ===== the questions, as owed ===== -/
theorem i_vc_leads {k : Nat} {u : SX} {v : SY} (I : i_Rel k u v) (hk : k + 4 ≤ 2048) (v1 : Int32) (v2 : Int32) : wpX_leads (fun r u' => wpY_leads (fun r' v' => r' = r ∧ i_Rel (k + 4) u' v') v v1 v2) u v1 v2 := by
  refine pa_el (P := fun u v => wpX_leads (fun r u' => wpY_leads (fun r' v' => r' = r ∧ i_Rel (k + 4) u' v') v v1 v2) u v1 v2) ?_ I
  intro made h ns mv c K F T st en O af ab ae ak an fr fn al alv ac tb R
  unfold wpX_leads
  dsimp only
  refine pa_xbg v1 (fun z => ?_) (fun a ha ea => ?_)
  · refine br_f pa_n0 ?_
    unfold wpY_leads
    dsimp only
    refine pa_ybg v1 (fun _ => ?_) (fun a ha ea => absurd ea (z a ha))
    exact br_f pa_n0 ⟨rfl, pa_mk R⟩
  refine br_t rfl ?_
  refine pa_xbg v2 (fun z => ?_) (fun b hb eb => ?_)
  · refine br_f pa_n0 ?_
    unfold wpY_leads
    dsimp only
    refine pa_ybg v1 (fun z2 => absurd ea (z2 a ha)) (fun _ _ _ => ?_)
    refine br_t rfl ?_
    refine pa_ybg v2 (fun _ => ?_) (fun b hb eb => absurd eb (z b hb))
    exact br_f pa_n0 ⟨rfl, pa_mk R⟩
  refine br_t rfl ?_
  rw [ea, eb]
  refine pa_xs R ha (fun fr fn al alv ac LT hv => ?_)
  refine LT _ b hb ?_
  have Y : ∀ r : Int32, (pa_V ae c made a b < 100000 → r = 1) → (¬ pa_V ae c made a b < 100000 → r = 0) →
      wpY_leads (fun r' v' => r' = r ∧ i_Rel (k + 4) (nI made, nI ns, nI mv, nI h, fr, fn, af, ab, pa_nT K, pa_nT F, pa_nT T, pa_nT st, pa_nT en, al, alv, ac) v') (nI made, nI h, ae, ak, an, tb) (nI a) (nI b) := by
    intro r g1 g0
    unfold wpY_leads
    dsimp only
    refine pa_ybg (nI a) (fun z => absurd rfl (z a ha)) (fun _ _ _ => ?_)
    refine br_t rfl ?_
    refine pa_ybg (nI b) (fun z => absurd rfl (z b hb)) (fun _ _ _ => ?_)
    refine br_t rfl ?_
    refine pa_yws R (fun T' LY => ?_)
    refine LY _ a b ha hb ?_
    have hw := pa_V5 (ae := ae) (c := c) (made := made) (a := a) (b := b)
    exact pk_le 100000 (pa_V ae c made a b) (fun y => ⟨(g0 (by omega)).symm, pa_mk R⟩) (fun y => ⟨(g1 y).symm, pa_mk R⟩)
  by_cases z : pa_V ae c made a b < 100000
  · rw [pa_xr_t z]
    exact br_f (nI_pos (by omega)) (Y 1 (fun _ => rfl) (fun q => absurd z q))
  · rw [pa_xr_f z]
    exact br_t (by decide) (Y 0 (fun q => absurd q z) (fun _ => rfl))
theorem i_vc_shortest {k : Nat} {u : SX} {v : SY} (I : i_Rel k u v) (hk : k + 4 ≤ 2048) (v1 : Int32) (v2 : Int32) : wpX_shortest (fun r u' => wpY_shortest (fun r' v' => r' = r ∧ i_Rel (k + 4) u' v') v v1 v2) u v1 v2 := by
  refine pa_el (P := fun u v => wpX_shortest (fun r u' => wpY_shortest (fun r' v' => r' = r ∧ i_Rel (k + 4) u' v') v v1 v2) u v1 v2) ?_ I
  intro made h ns mv c K F T st en O af ab ae ak an fr fn al alv ac tb R
  unfold wpX_shortest
  dsimp only
  refine pa_xbg v1 (fun z => ?_) (fun a ha ea => ?_)
  · refine br_f pa_n0 ?_
    unfold wpY_shortest
    dsimp only
    refine pa_ybg v1 (fun _ => ?_) (fun a ha ea => absurd ea (z a ha))
    exact br_f pa_n0 ⟨rfl, pa_mk R⟩
  refine br_t rfl ?_
  refine pa_xbg v2 (fun z => ?_) (fun b hb eb => ?_)
  · refine br_f pa_n0 ?_
    unfold wpY_shortest
    dsimp only
    refine pa_ybg v1 (fun z2 => absurd ea (z2 a ha)) (fun _ _ _ => ?_)
    refine br_t rfl ?_
    refine pa_ybg v2 (fun _ => ?_) (fun b hb eb => absurd eb (z b hb))
    exact br_f pa_n0 ⟨rfl, pa_mk R⟩
  refine br_t rfl ?_
  rw [ea, eb]
  refine pa_xs R ha (fun fr fn al alv ac LT hv => ?_)
  refine LT _ b hb ?_
  have Y : ∀ r : Int32, (pa_V ae c made a b < 100000 → r = nI (pa_V ae c made a b)) → (¬ pa_V ae c made a b < 100000 → r = -5) →
      wpY_shortest (fun r' v' => r' = r ∧ i_Rel (k + 4) (nI made, nI ns, nI mv, nI h, fr, fn, af, ab, pa_nT K, pa_nT F, pa_nT T, pa_nT st, pa_nT en, al, alv, ac) v') (nI made, nI h, ae, ak, an, tb) (nI a) (nI b) := by
    intro r g1 g0
    unfold wpY_shortest
    dsimp only
    refine pa_ybg (nI a) (fun z => absurd rfl (z a ha)) (fun _ _ _ => ?_)
    refine br_t rfl ?_
    refine pa_ybg (nI b) (fun z => absurd rfl (z b hb)) (fun _ _ _ => ?_)
    refine br_t rfl ?_
    refine pa_yws R (fun T' LY => ?_)
    refine LY _ a b ha hb ?_
    have hw := pa_V5 (ae := ae) (c := c) (made := made) (a := a) (b := b)
    exact pk_le 100000 (pa_V ae c made a b) (fun y => ⟨(g0 (by omega)).symm, pa_mk R⟩) (fun y => ⟨(g1 y).symm, pa_mk R⟩)
  by_cases z : pa_V ae c made a b < 100000
  · rw [pa_xr_t z]
    exact br_t (nI_pos' (by omega)) (Y _ (fun _ => rfl) (fun q => absurd z q))
  · rw [pa_xr_f z]
    exact br_f (by decide) (Y (-5) (fun q => absurd q z) (fun _ => rfl))
theorem i_vc_reach {k : Nat} {u : SX} {v : SY} (I : i_Rel k u v) (hk : k + 4 ≤ 2048) (v1 : Int32) : wpX_reach (fun r u' => wpY_reach (fun r' v' => r' = r ∧ i_Rel (k + 4) u' v') v v1) u v1 := by
  refine pa_el (P := fun u v => wpX_reach (fun r u' => wpY_reach (fun r' v' => r' = r ∧ i_Rel (k + 4) u' v') v v1) u v1) ?_ I
  intro made h ns mv c K F T st en O af ab ae ak an fr fn al alv ac tb R
  unfold wpX_reach
  dsimp only
  refine pa_xbg v1 (fun z => ?_) (fun a ha ea => ?_)
  · refine br_f pa_n0 ?_
    unfold wpY_reach
    dsimp only
    refine pa_ybg v1 (fun _ => ?_) (fun a ha ea => absurd ea (z a ha))
    exact br_f pa_n0 ⟨rfl, pa_mk R⟩
  refine br_t rfl ?_
  rw [ea]
  refine pa_xrfr R ha (fun fr fn al alv ac => ?_)
  unfold wpY_reach
  dsimp only
  refine pa_ybg (nI a) (fun z => absurd rfl (z a ha)) (fun _ _ _ => ?_)
  refine br_t rfl ?_
  refine pa_yws R (fun T' LY => ⟨9, ?_⟩)
  exact pa_y21 (W := pa_V ae c made a) (fun b => pa_V5) (fun q b hb hq => LY q a b ha hb hq) ⟨rfl, pa_mk R⟩ 9 0 (by omega) (by omega)
theorem i_vc_pairs {k : Nat} {u : SX} {v : SY} (I : i_Rel k u v) (hk : k + 4 ≤ 2048) : wpX_pairs (fun r u' => wpY_pairs (fun r' v' => r' = r ∧ i_Rel (k + 4) u' v') v) u := by
  refine pa_el (P := fun u v => wpX_pairs (fun r u' => wpY_pairs (fun r' v' => r' = r ∧ i_Rel (k + 4) u' v') v) u) ?_ I
  intro made h ns mv c K F T st en O af ab ae ak an fr fn al alv ac tb R
  refine ⟨9, pa_xp4 R (fun fr fn al alv ac => ?_) 9 0 fr fn al alv ac (by omega) (by omega)⟩
  unfold wpY_pairs
  dsimp only
  refine pa_yws R (fun T' LY => ⟨65, ?_⟩)
  exact pa_yp9 (V := pa_V ae c made) (fun a b => pa_V5) LY ⟨rfl, pa_mk R⟩ 65 0 (by omega) (by omega)
theorem i_vc_loops {k : Nat} {u : SX} {v : SY} (I : i_Rel k u v) (hk : k + 4 ≤ 2048) : wpX_loops (fun r u' => wpY_loops (fun r' v' => r' = r ∧ i_Rel (k + 4) u' v') v) u := by
  refine pa_el (P := fun u v => wpX_loops (fun r u' => wpY_loops (fun r' v' => r' = r ∧ i_Rel (k + 4) u' v') v) u) ?_ I
  intro made h ns mv c K F T st en O af ab ae ak an fr fn al alv ac tb R
  refine ⟨9, pa_xl4 R (fun fr fn al alv ac => ?_) 9 0 fr fn al alv ac (by omega) (by omega)⟩
  unfold wpY_loops
  dsimp only
  refine pa_yws R (fun T' LY => ⟨9, ?_⟩)
  exact pa_yl9 (W := fun a => pa_V ae c made a a) (fun b => pa_V5) (fun q b hb hq => LY q b b hb hb hq) ⟨rfl, pa_mk R⟩ 9 0 (by omega) (by omega)
theorem i_vc_widest {k : Nat} {u : SX} {v : SY} (I : i_Rel k u v) (hk : k + 4 ≤ 2048) : wpX_widest (fun r u' => wpY_widest (fun r' v' => r' = r ∧ i_Rel (k + 4) u' v') v) u := by
  refine pa_el (P := fun u v => wpX_widest (fun r u' => wpY_widest (fun r' v' => r' = r ∧ i_Rel (k + 4) u' v') v) u) ?_ I
  intro made h ns mv c K F T st en O af ab ae ak an fr fn al alv ac tb R
  refine ⟨9, pa_xw5 R (fun fr fn al alv ac => ?_) 9 0 (-5) fr fn al alv ac (by omega) (by omega) (Or.inl ⟨rfl, Or.inl rfl⟩)⟩
  unfold wpY_widest
  dsimp only
  refine pa_yws R (fun T' LY => ⟨65, ?_⟩)
  exact pa_yw10 (V := pa_V ae c made) (fun a b => pa_V5) LY ⟨rfl, pa_mk R⟩ 65 0 (by omega) (by omega) (Nat.zero_le _)
end
