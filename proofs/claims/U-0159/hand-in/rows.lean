section
/-! pure rows to paste: stores, nI and lN arithmetic, masks, shifts, narrowing, branches by naturals (pk_le, pk_lt, pk_eq), loops (lp1 .. lp16: the measure of the state; rp1 ..: recursion), negatives. Take what you need -/
theorem pk_us {f : Nat → Int32} {k : Nat} {x : Int32} : upd f k x k = x := if_pos rfl
theorem pk_un {f : Nat → Int32} {k j : Nat} {x : Int32} (h : j ≠ k) : upd f k x j = f j := if_neg h
theorem pk_uLs {f : Nat → Int64} {k : Nat} {x : Int64} : vp_updL f k x k = x := if_pos rfl
theorem pk_uLn {f : Nat → Int64} {k j : Nat} {x : Int64} (h : j ≠ k) : vp_updL f k x j = f j := if_neg h
theorem pk_sub {a b : Nat} (h : b ≤ a) : nI a - nI b = nI (a - b) := by
  obtain ⟨c, rfl⟩ : ∃ c, a = c + b := ⟨a - b, by omega⟩
  rw [← nI_add, Int32.add_sub_cancel, Nat.add_sub_cancel]
theorem pk_m1 (n : Nat) : nI (n + 1) + (-1) = nI n := by
  rw [← nI_1, Int32.add_assoc, show (1 : Int32) + (-1) = 0 from rfl, Int32.add_zero]
theorem pk_mul (a b : Nat) : nI a * nI b = nI (a * b) := (Int32.ofNat_mul a b).symm
theorem pk_div {a d : Nat} (ha : a < 2 ^ 31) (h0 : 0 < d) (hd : d < 2 ^ 31) : nI a / nI d = nI (a / d) := by
  apply Int32.toInt_inj.mp
  rw [lg_idiv_nonneg (by rw [nI_toInt ha]; omega) (by rw [nI_toInt hd]; omega), nI_toInt ha, nI_toInt hd, nI_toInt (Nat.lt_of_le_of_lt (Nat.div_le_self a d) ha)]
  first | rfl | exact (Int.natCast_ediv _ _).symm
theorem pk_rem {a d : Nat} (ha : a < 2 ^ 31) (h0 : 0 < d) (hd : d < 2 ^ 31) : nI a - nI a / nI d * nI d = nI (a % d) := by
  rw [pk_div ha h0 hd, pk_mul, pk_sub (Nat.div_mul_le_self a d)]
  exact congrArg nI (by have := Nat.div_add_mod' a d; omega)
theorem pk_sub_toInt {a b : Nat} (ha : a < 2 ^ 30) (hb : b < 2 ^ 30) : (nI a - nI b).toInt = (a : Int) - b := by
  rw [Int32.toInt_sub, nI_toInt (by omega), nI_toInt (by omega)]
  exact Int.bmod_eq_of_le (by omega) (by omega)
theorem pk_sneg {a b : Nat} (hb : b < 2 ^ 30) (h : a < b) : nI a - nI b < 0 := by
  rw [Int32.lt_iff_toInt_lt, pk_sub_toInt (by omega) hb, show (0 : Int32).toInt = 0 from by decide]
  omega
theorem pk_ix (x : Int32) {n : Nat} (hn : n < 2 ^ 31) : x < 0 ∨ nI n ≤ x ∨ ∃ j : Nat, j < n ∧ x = nI j := by
  by_cases h : x < 0
  · exact Or.inl h
  · obtain ⟨j, hj, rfl⟩ := nI_of h
    by_cases h2 : j < n
    · exact Or.inr (Or.inr ⟨j, h2, rfl⟩)
    · exact Or.inr (Or.inl (nI_le (by omega) hj))
theorem pk_le {x y : Int32} {A B : Prop} (a b : Nat) (f : a ≤ b → A) (g : b < a → B) (hx : x = nI a := by rfl) (hy : y = nI b := by rfl) (ha : a < 2 ^ 31 := by omega) (hb : b < 2 ^ 31 := by omega) : (x ≤ y → A) ∧ (¬ x ≤ y → B) := by
  subst hx hy
  rw [nI_leI ha hb]
  exact ⟨f, fun z => g (by omega)⟩
theorem pk_lt {x y : Int32} {A B : Prop} (a b : Nat) (f : a < b → A) (g : b ≤ a → B) (hx : x = nI a := by rfl) (hy : y = nI b := by rfl) (ha : a < 2 ^ 31 := by omega) (hb : b < 2 ^ 31 := by omega) : (x < y → A) ∧ (¬ x < y → B) := by
  subst hx hy
  rw [nI_ltI ha hb]
  exact ⟨f, fun z => g (by omega)⟩
theorem pk_eq {x y : Int32} {A B : Prop} (a b : Nat) (f : a = b → A) (g : a ≠ b → B) (hx : x = nI a := by rfl) (hy : y = nI b := by rfl) (ha : a < 2 ^ 31 := by omega) (hb : b < 2 ^ 31 := by omega) : (x = y → A) ∧ (¬ x = y → B) := by
  subst hx hy
  rw [nI_eq ha hb]
  exact ⟨f, g⟩
theorem pk_in {x : Int32} (n N : Nat) (h : n < N) (hx : x = nI n := by rfl) (hN : N < 2 ^ 31 := by omega) : vp_in x N := by
  subst hx
  exact vp_in_nI h hN
theorem pk_cl {x : Int32} (n : Nat) (hx : x = nI n := by rfl) (h : n < 2 ^ 31 := by omega) : x.toNatClampNeg = n := by
  subst hx
  exact nI_clamp h
theorem pk_tn {n : Nat} (h : n < 2 ^ 32) : (nI n).toBitVec.toNat = n := Nat.mod_eq_of_lt h
theorem pk_lT {n : Nat} (h : n < 2 ^ 63) : (lN n).toInt = (n : Int) := lg_ofNat_toInt h
theorem pk_lLT {a b : Nat} (ha : a < 2 ^ 63) (hb : b < 2 ^ 63) : lN a < lN b ↔ a < b := by
  rw [Int64.lt_iff_toInt_lt, pk_lT ha, pk_lT hb]; omega
theorem pk_lLE {a b : Nat} (ha : a < 2 ^ 63) (hb : b < 2 ^ 63) : lN a ≤ lN b ↔ a ≤ b := by
  rw [Int64.le_iff_toInt_le, pk_lT ha, pk_lT hb]; omega
theorem pk_lEQ {a b : Nat} (ha : a < 2 ^ 63) (hb : b < 2 ^ 63) : lN a = lN b ↔ a = b := by
  rw [← Int64.toInt_inj, pk_lT ha, pk_lT hb]; omega
theorem pk_loop {σ : Type} (W : Nat → Nat → σ → Prop) (I : Nat → σ → Prop) (e i0 : Nat) (s : σ) (hi : i0 ≤ e) (h0 : I i0 s) (hx : ∀ n s, I e s → W (n + 1) e s)
    (hs : ∀ n i s, i < e → I i s → (∀ s', I (i + 1) s' → W n (i + 1) s') → W (n + 1) i s) : ∃ n, W n i0 s :=
  ⟨e + 1, loop_i W I e hx hs (e + 1) i0 s hi (by omega) h0⟩
theorem pk_loopD {σ : Type} (W : Nat → Nat → σ → Prop) (I : Nat → σ → Prop) (hx : ∀ n s, I 0 s → W (n + 1) 0 s)
    (hs : ∀ n i s, I (i + 1) s → (∀ s', I i s' → W n i s') → W (n + 1) (i + 1) s) : ∀ (e : Nat) (s : σ), I e s → W (e + 1) e s := by
  intro e
  induction e with
  | zero => exact fun s h => hx 0 s h
  | succ e ih => exact fun s h => hs (e + 1) e s h (fun s' h' => ih s' h')
theorem pk_least (P : Nat → Prop) (h : ∃ k, P k) : ∃ k, P k ∧ ∀ j, j < k → ¬ P j := by
  obtain ⟨k, hk⟩ := h
  induction k using Nat.strongRecOn with
  | ind k ih =>
    by_cases e : ∃ j, j < k ∧ P j
    · obtain ⟨j, hj, pj⟩ := e
      exact ih j hj pj
    · exact ⟨k, hk, fun j hj pj => e ⟨j, hj, pj⟩⟩
theorem sb_m1 {p : Nat} (h : 0 < p) : nI p + (-1) = nI (p - 1) := by
  obtain ⟨q, rfl⟩ : ∃ q, p = q + 1 := ⟨p - 1, by omega⟩
  exact pk_m1 q
def bt (x : Int32) (i : Nat) : Bool := x.toBitVec.getLsbD i
theorem b_ext {x y : Int32} (h : ∀ i, i < 32 → bt x i = bt y i) : x = y := Int32.toBitVec_inj.mp (BitVec.eq_of_getLsbD_eq (fun i hi => h i hi))
theorem b_or (x y : Int32) (i : Nat) : bt (x ||| y) i = (bt x i || bt y i) := by unfold bt; rw [Int32.toBitVec_or, BitVec.getLsbD_or]
theorem b_and (x y : Int32) (i : Nat) : bt (x &&& y) i = (bt x i && bt y i) := by unfold bt; rw [Int32.toBitVec_and, BitVec.getLsbD_and]
theorem b_xor (x y : Int32) (i : Nat) : bt (x ^^^ y) i = (bt x i ^^ bt y i) := by unfold bt; rw [Int32.toBitVec_xor, BitVec.getLsbD_xor]
theorem b_big {x : Int32} {i : Nat} (h : 32 ≤ i) : bt x i = false := BitVec.getLsbD_of_ge _ _ h
theorem b_255 (i : Nat) : bt 255 i = decide (i < 8) := by
  rcases Nat.lt_or_ge i 32 with h | h
  · exact (by decide +kernel : ∀ i, i < 32 → bt 255 i = decide (i < 8)) i h
  · rw [b_big h, decide_eq_false (by omega)]
theorem b_65535 (i : Nat) : bt 65535 i = decide (i < 16) := by
  rcases Nat.lt_or_ge i 32 with h | h
  · exact (by decide +kernel : ∀ i, i < 32 → bt 65535 i = decide (i < 16)) i h
  · rw [b_big h, decide_eq_false (by omega)]
theorem b_m1 : ∀ i, i < 32 → bt (-1) i = true := by decide +kernel
theorem b_0 (i : Nat) : bt 0 i = false := BitVec.getLsbD_zero
theorem s_l : ∀ n, n < 32 → ((nI n &&& 31).toBitVec.smod 32).toNat = n := by decide +kernel
theorem s_u : ∀ n, n < 32 → (((nI n).toUInt32 &&& Int32.toUInt32 31).toBitVec % 32).toNat = n := by decide +kernel
theorem b_shl (n : Nat) (hn : n < 32) (x : Int32) {i : Nat} (hi : i < 32) : bt (x <<< (nI n &&& 31)) i = (decide (n ≤ i) && bt x (i - n)) := by
  unfold bt
  rw [Int32.toBitVec_shiftLeft]
  show (x.toBitVec <<< ((nI n &&& 31).toBitVec.smod 32).toNat).getLsbD i = _
  rw [s_l n hn, BitVec.getLsbD_shiftLeft]
  rcases Nat.lt_or_ge i n with h | h
  · simp [h, Nat.not_le.mpr h]
  · simp [hi, h, Nat.not_lt.mpr h]
theorem b_ushr (n : Nat) (hn : n < 32) (x : Int32) (i : Nat) : bt ((x.toUInt32 >>> ((nI n).toUInt32 &&& Int32.toUInt32 31)).toInt32) i = bt x (n + i) := by
  show (x.toUInt32 >>> ((nI n).toUInt32 &&& Int32.toUInt32 31)).toBitVec.getLsbD i = x.toUInt32.toBitVec.getLsbD (n + i)
  rw [UInt32.toBitVec_shiftRight]
  show (x.toUInt32.toBitVec >>> (((nI n).toUInt32 &&& Int32.toUInt32 31).toBitVec % 32).toNat).getLsbD i = _
  rw [s_u n hn, BitVec.getLsbD_ushiftRight]
theorem b_sshr (n : Nat) (hn : n < 32) (x : Int32) {i : Nat} (hi : i < 32) : bt (x >>> (nI n &&& 31)) i = if n + i < 32 then bt x (n + i) else bt x 31 := by
  unfold bt
  rw [Int32.toBitVec_shiftRight]
  show (x.toBitVec.sshiftRight ((nI n &&& 31).toBitVec.smod 32).toNat).getLsbD i = _
  rw [s_l n hn, BitVec.getLsbD_sshiftRight, BitVec.msb_eq_getLsbD_last]
  simp [hi]
theorem nx_and (a b : Nat) : nI a &&& nI b = nI (a &&& b) := by
  apply Int32.toBitVec_inj.1
  show BitVec.ofNat 32 a &&& BitVec.ofNat 32 b = BitVec.ofNat 32 (a &&& b)
  apply BitVec.eq_of_getLsbD_eq
  intro i hi
  simp [hi]
theorem nx_xor (a b : Nat) : nI a ^^^ nI b = nI (a ^^^ b) := by
  apply Int32.toBitVec_inj.1
  show BitVec.ofNat 32 a ^^^ BitVec.ofNat 32 b = BitVec.ofNat 32 (a ^^^ b)
  apply BitVec.eq_of_getLsbD_eq
  intro i hi
  simp [hi]
end
section
/-! letters, paths, counts -/
def cz_iv (x : Nat) : Nat := x ^^^ 1
theorem cz_iv_iv (x : Nat) : cz_iv (cz_iv x) = x := by
  unfold cz_iv
  rw [Nat.xor_assoc, Nat.xor_self, Nat.xor_zero]
theorem cz_iv6 : ∀ x, x < 6 → cz_iv x < 6 ∧ cz_iv x ≠ x ∧ cz_iv x / 2 = x / 2 := by decide
theorem cz_iv_lt {A x : Nat} (hA : A = 2 ∨ A = 4 ∨ A = 6) (h : x < A) : cz_iv x < A := by
  have h6 := cz_iv6 x (by omega)
  omega
theorem cz_ivN (x : Nat) : nI x ^^^ 1 = nI (cz_iv x) := nx_xor x 1
theorem cz_ix (c x : Nat) : nI c * 6 + nI x = nI (c * 6 + x) := by
  rw [show (6 : Int32) = nI 6 from rfl, pk_mul, nI_add]
theorem cz_m1 {d : Nat} (h : d < 2 ^ 31) : nI d ≠ -1 := by
  intro e
  exact nI_pos h (by rw [e]; decide)
theorem cz_m1neg : (-1 : Int32) < 0 := by decide
theorem cz_m1n : ¬ (0 : Int32) ≤ -1 := by decide
/-- a path of k letters g a, g (a + 1), .. from q to p -/
def cz_p (R : Nat → Nat → Nat → Prop) (g : Nat → Nat) : Nat → Nat → Nat → Nat → Prop
  | 0 => fun _ q p => q = p
  | k + 1 => fun a q p => ∃ r, R q (g a) r ∧ cz_p R g k (a + 1) r p
section
variable {R S : Nat → Nat → Nat → Prop} {g h : Nat → Nat}
theorem cz_p_app {m : Nat} : ∀ {k a q r p : Nat}, cz_p R g k a q r → cz_p R g m (a + k) r p → cz_p R g (k + m) a q p := by
  intro k
  induction k with
  | zero =>
    intro a q r p h1 h2
    have e : q = r := h1
    subst e
    rw [Nat.zero_add]
    exact h2
  | succ k ih =>
    intro a q r p h1 h2
    obtain ⟨s, hs, h1⟩ := h1
    rw [Nat.add_right_comm]
    refine ⟨s, hs, ih h1 ?_⟩
    rw [Nat.add_right_comm a 1 k]
    exact h2
theorem cz_p_split {m : Nat} : ∀ {k a q p : Nat}, cz_p R g (k + m) a q p → ∃ r, cz_p R g k a q r ∧ cz_p R g m (a + k) r p := by
  intro k
  induction k with
  | zero =>
    intro a q p h1
    rw [Nat.zero_add] at h1
    exact ⟨q, rfl, h1⟩
  | succ k ih =>
    intro a q p h1
    rw [Nat.add_right_comm] at h1
    obtain ⟨s, hs, h1⟩ := h1
    obtain ⟨r, h2, h3⟩ := ih h1
    rw [Nat.add_right_comm a 1 k] at h3
    exact ⟨r, ⟨s, hs, h2⟩, h3⟩
theorem cz_p_map (f : Nat → Nat) (H : ∀ c x d, R c x d → S (f c) x (f d)) : ∀ {k a q p : Nat}, cz_p R g k a q p → cz_p S g k a (f q) (f p) := by
  intro k
  induction k with
  | zero =>
    intro a q p h1
    exact congrArg f h1
  | succ k ih =>
    intro a q p h1
    obtain ⟨s, hs, h1⟩ := h1
    exact ⟨f s, H _ _ _ hs, ih h1⟩
theorem cz_p_mono (H : ∀ c x d, R c x d → S c x d) {k a q p : Nat} (h1 : cz_p R g k a q p) : cz_p S g k a q p := cz_p_map (fun c => c) H h1
theorem cz_p_cong : ∀ {k a b q p : Nat}, (∀ i, i < k → g (a + i) = h (b + i)) → cz_p R g k a q p → cz_p R h k b q p := by
  intro k
  induction k with
  | zero =>
    intro a b q p _ h1
    exact h1
  | succ k ih =>
    intro a b q p H h1
    obtain ⟨s, hs, h1⟩ := h1
    have e := H 0 (by omega)
    rw [Nat.add_zero, Nat.add_zero] at e
    rw [e] at hs
    refine ⟨s, hs, ih (fun i hi => ?_) h1⟩
    have e2 := H (i + 1) (by omega)
    rw [show a + 1 + i = a + (i + 1) by omega, show b + 1 + i = b + (i + 1) by omega]
    exact e2
theorem cz_p_at {k a b q p : Nat} (e : a = b) (h1 : cz_p R g k a q p) : cz_p R g k b q p := e ▸ h1
theorem cz_p_len {k m a q p : Nat} (e : k = m) (h1 : cz_p R g k a q p) : cz_p R g m a q p := e ▸ h1
def cz_det (R : Nat → Nat → Nat → Prop) : Prop := ∀ c x d d', R c x d → R c x d' → d = d'
def cz_sym (R : Nat → Nat → Nat → Prop) : Prop := ∀ c x d, R c x d → R d (cz_iv x) c
theorem cz_cod (hd : cz_det R) (hs : cz_sym R) {c c' x d : Nat} (h1 : R c x d) (h2 : R c' x d) : c = c' :=
  hd _ _ _ _ (hs _ _ _ h1) (hs _ _ _ h2)
theorem cz_p_det (hd : cz_det R) : ∀ {k a q p p' : Nat}, cz_p R g k a q p → cz_p R g k a q p' → p = p' := by
  intro k
  induction k with
  | zero =>
    intro a q p p' h1 h2
    exact Eq.trans (Eq.symm h1) h2
  | succ k ih =>
    intro a q p p' h1 h2
    obtain ⟨s, hs, h1⟩ := h1
    obtain ⟨s', hs', h2⟩ := h2
    have e := hd _ _ _ _ hs hs'
    subst e
    exact ih h1 h2
theorem cz_p_inj (hd : cz_det R) (hs : cz_sym R) : ∀ {k a q q' p : Nat}, cz_p R g k a q p → cz_p R g k a q' p → q = q' := by
  intro k
  induction k with
  | zero =>
    intro a q q' p h1 h2
    exact Eq.trans h1 (Eq.symm h2)
  | succ k ih =>
    intro a q q' p h1 h2
    obtain ⟨s, hs1, h1⟩ := h1
    obtain ⟨s', hs2, h2⟩ := h2
    have e := ih h1 h2
    subst e
    exact cz_cod hd hs hs1 hs2
/-- the last edge -/
theorem cz_p_last {k a q p : Nat} (h1 : cz_p R g (k + 1) a q p) : ∃ r, cz_p R g k a q r ∧ R r (g (a + k)) p := by
  obtain ⟨r, h2, s, h3, e⟩ := cz_p_split h1
  have e' : s = p := e
  subst e'
  exact ⟨r, h2, h3⟩
theorem cz_p_snoc {k a q r p : Nat} (h1 : cz_p R g k a q r) (h2 : R r (g (a + k)) p) : cz_p R g (k + 1) a q p :=
  cz_p_app h1 ⟨p, h2, rfl⟩
theorem cz_p_dom {P : Nat → Prop} (H : ∀ c x d, R c x d → P c ∧ P d) : ∀ {k a q p : Nat}, cz_p R g k a q p → (P q → P p) ∧ (P p → P q) := by
  intro k
  induction k with
  | zero =>
    intro a q p h1
    have e : q = p := h1
    subst e
    exact ⟨id, id⟩
  | succ k ih =>
    intro a q p h1
    obtain ⟨s, hs, h1⟩ := h1
    have h2 := H _ _ _ hs
    exact ⟨fun _ => (ih h1).1 h2.2, fun _ => h2.1⟩
/-- either every edge of the path has Q, or one has not -/
theorem cz_p_or {Q : Nat → Nat → Nat → Prop} : ∀ {k a q p : Nat}, cz_p R g k a q p →
    cz_p (fun c x d => R c x d ∧ Q c x d) g k a q p ∨ ∃ m c d, m < k ∧ cz_p R g m a q c ∧ R c (g (a + m)) d ∧ ¬ Q c (g (a + m)) d ∧ cz_p R g (k - 1 - m) (a + m + 1) d p := by
  intro k
  induction k with
  | zero =>
    intro a q p h1
    exact Or.inl h1
  | succ k ih =>
    intro a q p h1
    obtain ⟨s, hs, h1⟩ := h1
    by_cases hq : Q q (g a) s
    · rcases ih h1 with h2 | ⟨m, c, d, hm, h2, h3, h4, h5⟩
      · exact Or.inl ⟨s, ⟨hs, hq⟩, h2⟩
      · have e : a + 1 + m = a + (m + 1) := by omega
        rw [e] at h3 h4 h5
        exact Or.inr ⟨m + 1, c, d, by omega, ⟨s, hs, h2⟩, h3, h4, cz_p_len (by omega) h5⟩
    · exact Or.inr ⟨0, q, s, by omega, rfl, hs, hq, cz_p_len (by omega) h1⟩
end
def cz_ct (p : Nat → Bool) : Nat → Nat
  | 0 => 0
  | k + 1 => cz_ct p k + (if p k = true then 1 else 0)
theorem cz_ct_le (p : Nat → Bool) : ∀ k, cz_ct p k ≤ k := by
  intro k
  induction k with
  | zero => exact Nat.le_refl 0
  | succ k ih =>
    show cz_ct p k + (if p k = true then 1 else 0) ≤ k + 1
    split <;> omega
theorem cz_ct_cong {p q : Nat → Bool} : ∀ {k}, (∀ j, j < k → p j = q j) → cz_ct p k = cz_ct q k := by
  intro k
  induction k with
  | zero => exact fun _ => rfl
  | succ k ih =>
    intro h
    show cz_ct p k + (if p k = true then 1 else 0) = cz_ct q k + (if q k = true then 1 else 0)
    rw [ih (fun j hj => h j (by omega)), h k (by omega)]
theorem cz_ct_mono {p q : Nat → Bool} : ∀ {k}, (∀ j, j < k → p j = true → q j = true) → cz_ct p k ≤ cz_ct q k := by
  intro k
  induction k with
  | zero => exact fun _ => Nat.le_refl 0
  | succ k ih =>
    intro h
    show cz_ct p k + (if p k = true then 1 else 0) ≤ cz_ct q k + (if q k = true then 1 else 0)
    have h1 := ih (fun j hj => h j (by omega))
    by_cases hp : p k = true
    · rw [if_pos hp, if_pos (h k (by omega) hp)]
      omega
    · rw [if_neg hp]
      omega
theorem cz_ct_add {p q : Nat → Bool} {i : Nat} (hp : p i = false) (hq : q i = true) : ∀ {k}, i < k → (∀ j, j < k → j ≠ i → q j = p j) → cz_ct q k = cz_ct p k + 1 := by
  intro k
  induction k with
  | zero => exact fun h => absurd h (Nat.not_lt_zero i)
  | succ k ih =>
    intro hi h
    show cz_ct q k + (if q k = true then 1 else 0) = cz_ct p k + (if p k = true then 1 else 0) + 1
    by_cases e : i = k
    · subst e
      rw [hp, hq, cz_ct_cong (fun j hj => h j (by omega) (by omega)), if_pos rfl, if_neg (by decide)]
    · rw [ih (by omega) (fun j hj => h j (by omega)), h k (by omega) (by omega)]
      omega
theorem cz_ct_lt {p : Nat → Bool} (h0 : p 0 = false) : ∀ {k}, 0 < k → cz_ct p k + 1 ≤ k := by
  intro k
  induction k with
  | zero => exact fun h => absurd h (Nat.not_lt_zero 0)
  | succ k ih =>
    intro _
    show cz_ct p k + (if p k = true then 1 else 0) + 1 ≤ k + 1
    by_cases e : k = 0
    · subst e
      rw [h0, if_neg (by decide)]
      exact Nat.le_refl 1
    · have := ih (by omega)
      split <;> omega
/-- k different numbers below n -/
theorem cz_pig : ∀ (n k : Nat) (f : Nat → Nat), (∀ i, i < k → f i < n) → (∀ i j, i < k → j < k → f i = f j → i = j) → k ≤ n := by
  intro n
  induction n with
  | zero =>
    intro k f h _
    rcases Nat.eq_zero_or_pos k with e | e
    · omega
    · exact absurd (h 0 e) (Nat.not_lt_zero _)
  | succ n ih =>
    intro k f h hi
    by_cases hx : ∃ i, i < k ∧ f i = n
    · obtain ⟨i, hik, ei⟩ := hx
      have := ih (k - 1) (fun j => if j < i then f j else f (j + 1)) (by
        intro j hj
        show (if j < i then f j else f (j + 1)) < n
        by_cases hji : j < i
        · rw [if_pos hji]
          have h1 := h j (by omega)
          have h2 : f j ≠ n := fun e => by have := hi j i (by omega) hik (e.trans ei.symm); omega
          omega
        · rw [if_neg hji]
          have h1 := h (j + 1) (by omega)
          have h2 : f (j + 1) ≠ n := fun e => by have := hi (j + 1) i (by omega) hik (e.trans ei.symm); omega
          omega) (by
        intro a b ha hb e
        have e : (if a < i then f a else f (a + 1)) = (if b < i then f b else f (b + 1)) := e
        by_cases h1 : a < i
        · by_cases h2 : b < i
          · rw [if_pos h1, if_pos h2] at e
            exact hi a b (by omega) (by omega) e
          · rw [if_pos h1, if_neg h2] at e
            have := hi a (b + 1) (by omega) (by omega) e
            omega
        · by_cases h2 : b < i
          · rw [if_neg h1, if_pos h2] at e
            have := hi (a + 1) b (by omega) (by omega) e
            omega
          · rw [if_neg h1, if_neg h2] at e
            have := hi (a + 1) (b + 1) (by omega) (by omega) e
            omega)
      omega
    · have := ih k f (fun i hik => by
        have h1 := h i hik
        have h2 : f i ≠ n := fun e => hx ⟨i, hik, e⟩
        omega) hi
      omega
end
section
/-! the table as a relation -/
def cz_e (t : Nat → Int32) (c x d : Nat) : Prop := c < 32 ∧ x < 6 ∧ d < 32 ∧ t (c * 6 + x) = nI d
def cz_tw (A n : Nat) (t : Nat → Int32) : Prop := ∀ c x, c < 32 → x < 6 → t (c * 6 + x) = -1 ∨ (c < n ∧ x < A ∧ ∃ d, d < n ∧ t (c * 6 + x) = nI d ∧ t (d * 6 + cz_iv x) = nI c)
def cz_A (A : Nat) : Prop := A = 2 ∨ A = 4 ∨ A = 6
theorem cz_A6 {A : Nat} (h : cz_A A) : A ≤ 6 := by unfold cz_A at h; omega
theorem cz_e_det (t : Nat → Int32) : cz_det (cz_e t) := by
  intro c x d d' h1 h2
  exact (nI_eq (Nat.lt_trans h1.2.2.1 (by decide)) (Nat.lt_trans h2.2.2.1 (by decide))).mp (h1.2.2.2.symm.trans h2.2.2.2)
section
variable {A n : Nat} {t : Nat → Int32}
theorem cz_e_in (hn : n ≤ 32) (tw : cz_tw A n t) {c x d : Nat} (h : cz_e t c x d) : c < n ∧ x < A ∧ d < n ∧ t (d * 6 + cz_iv x) = nI c := by
  obtain ⟨hc, hx, hd, e⟩ := h
  rcases tw c x hc hx with h1 | ⟨h1, h2, d', h3, h4, h5⟩
  · exact absurd (e.symm.trans h1) (cz_m1 (by omega))
  · have e2 : d = d' := (nI_eq (by omega) (by omega)).mp (e.symm.trans h4)
    subst e2
    exact ⟨h1, h2, h3, h5⟩
theorem cz_e_sym (hn : n ≤ 32) (tw : cz_tw A n t) : cz_sym (cz_e t) := by
  intro c x d h
  have h2 := cz_e_in hn tw h
  exact ⟨h.2.2.1, (cz_iv6 x h.2.1).1, h.1, h2.2.2.2⟩
theorem cz_read (hn : n ≤ 32) (tw : cz_tw A n t) {c x : Nat} (hc : c < 32) (hx : x < 6) : t (c * 6 + x) = -1 ∨ ∃ d, d < n ∧ t (c * 6 + x) = nI d ∧ cz_e t c x d := by
  rcases tw c x hc hx with h1 | ⟨h1, h2, d, h3, h4, h5⟩
  · exact Or.inl h1
  · exact Or.inr ⟨d, h3, h4, hc, hx, by omega, h4⟩
theorem cz_none {c x : Nat} (h : t (c * 6 + x) = -1) (d : Nat) : ¬ cz_e t c x d := by
  intro h2
  exact cz_m1 (Nat.lt_trans h2.2.2.1 (by decide)) (h2.2.2.2.symm.trans h)
/-- a join -/
def cz_jt (t : Nat → Int32) (c x d : Nat) : Nat → Int32 := upd (upd t (c * 6 + x) (nI d)) (d * 6 + cz_iv x) (nI c)
/-- a removal -/
def cz_rt (t : Nat → Int32) (c x d : Nat) : Nat → Int32 := upd (upd t (c * 6 + x) (-1)) (d * 6 + cz_iv x) (-1)
theorem cz_jt_v {c x d : Nat} (hx : x < 6) {c' y : Nat} (hy : y < 6) : cz_jt t c x d (c' * 6 + y) = if c' = d ∧ y = cz_iv x then nI c else if c' = c ∧ y = x then nI d else t (c' * 6 + y) := by
  have h6 := (cz_iv6 x hx).1
  unfold cz_jt upd
  by_cases h1 : c' * 6 + y = d * 6 + cz_iv x
  · have z : c' = d ∧ y = cz_iv x := by omega
    rw [if_pos h1, if_pos z]
  · have z : ¬ (c' = d ∧ y = cz_iv x) := by omega
    rw [if_neg h1, if_neg z]
    by_cases h2 : c' * 6 + y = c * 6 + x
    · have z2 : c' = c ∧ y = x := by omega
      rw [if_pos h2, if_pos z2]
    · have z2 : ¬ (c' = c ∧ y = x) := by omega
      rw [if_neg h2, if_neg z2]
theorem cz_rt_v {c x d : Nat} (hx : x < 6) {c' y : Nat} (hy : y < 6) : cz_rt t c x d (c' * 6 + y) = if c' = d ∧ y = cz_iv x then -1 else if c' = c ∧ y = x then -1 else t (c' * 6 + y) := by
  have h6 := (cz_iv6 x hx).1
  unfold cz_rt upd
  by_cases h1 : c' * 6 + y = d * 6 + cz_iv x
  · have z : c' = d ∧ y = cz_iv x := by omega
    rw [if_pos h1, if_pos z]
  · have z : ¬ (c' = d ∧ y = cz_iv x) := by omega
    rw [if_neg h1, if_neg z]
    by_cases h2 : c' * 6 + y = c * 6 + x
    · have z2 : c' = c ∧ y = x := by omega
      rw [if_pos h2, if_pos z2]
    · have z2 : ¬ (c' = c ∧ y = x) := by omega
      rw [if_neg h2, if_neg z2]
theorem cz_jt_e {c x d : Nat} (hc : c < 32) (hx : x < 6) (hd : d < 32) (h1 : t (c * 6 + x) = -1) (h2 : t (d * 6 + cz_iv x) = -1) {c' y d' : Nat} :
    cz_e (cz_jt t c x d) c' y d' ↔ cz_e t c' y d' ∨ (c' = c ∧ y = x ∧ d' = d) ∨ (c' = d ∧ y = cz_iv x ∧ d' = c) := by
  have h6 := cz_iv6 x hx
  constructor
  · intro h
    obtain ⟨a1, a2, a3, a4⟩ := h
    rw [cz_jt_v hx a2] at a4
    by_cases e1 : c' = d ∧ y = cz_iv x
    · rw [if_pos e1] at a4
      exact Or.inr (Or.inr ⟨e1.1, e1.2, (nI_eq (by omega) (by omega)).mp a4.symm⟩)
    · rw [if_neg e1] at a4
      by_cases e2 : c' = c ∧ y = x
      · rw [if_pos e2] at a4
        exact Or.inr (Or.inl ⟨e2.1, e2.2, (nI_eq (by omega) (by omega)).mp a4.symm⟩)
      · rw [if_neg e2] at a4
        exact Or.inl ⟨a1, a2, a3, a4⟩
  · intro h
    rcases h with h | ⟨rfl, rfl, rfl⟩ | ⟨rfl, rfl, rfl⟩
    · obtain ⟨a1, a2, a3, a4⟩ := h
      refine ⟨a1, a2, a3, ?_⟩
      rw [cz_jt_v hx a2]
      rw [if_neg, if_neg]
      · exact a4
      · rintro ⟨rfl, rfl⟩
        exact cz_m1 (by omega) (a4.symm.trans h1)
      · rintro ⟨rfl, rfl⟩
        exact cz_m1 (by omega) (a4.symm.trans h2)
    · refine ⟨hc, hx, hd, ?_⟩
      rw [cz_jt_v hx hx, if_neg, if_pos ⟨rfl, rfl⟩]
      rintro ⟨_, e⟩
      exact h6.2.1 e.symm
    · refine ⟨hd, h6.1, hc, ?_⟩
      rw [cz_jt_v hx h6.1, if_pos ⟨rfl, rfl⟩]
theorem cz_jt_tw (hA : cz_A A) (hn : n ≤ 32) (tw : cz_tw A n t) {c x d : Nat} (hc : c < n) (hx : x < A) (hd : d < n) (h1 : t (c * 6 + x) = -1) (h2 : t (d * 6 + cz_iv x) = -1) : cz_tw A n (cz_jt t c x d) := by
  have hA6 := cz_A6 hA
  have hx6 : x < 6 := by omega
  have h6 := cz_iv6 x hx6
  intro c' y hc' hy
  rw [cz_jt_v hx6 hy]
  by_cases e1 : c' = d ∧ y = cz_iv x
  · rw [if_pos e1]
    obtain ⟨rfl, rfl⟩ := e1
    refine Or.inr ⟨hd, cz_iv_lt hA hx, c, hc, rfl, ?_⟩
    rw [cz_iv_iv, cz_jt_v hx6 hx6, if_neg, if_pos ⟨rfl, rfl⟩]
    rintro ⟨_, e⟩
    exact h6.2.1 e.symm
  · rw [if_neg e1]
    by_cases e2 : c' = c ∧ y = x
    · rw [if_pos e2]
      obtain ⟨rfl, rfl⟩ := e2
      refine Or.inr ⟨hc, hx, d, hd, rfl, ?_⟩
      rw [cz_jt_v hx6 h6.1, if_pos ⟨rfl, rfl⟩]
    · rw [if_neg e2]
      rcases tw c' y hc' hy with h3 | ⟨h3, h4, d', h5, h7, h8⟩
      · exact Or.inl h3
      · refine Or.inr ⟨h3, h4, d', h5, h7, ?_⟩
        have hy6 := cz_iv6 y hy
        rw [cz_jt_v hx6 hy6.1, if_neg, if_neg]
        · exact h8
        · rintro ⟨rfl, e⟩
          rw [e] at h8
          exact cz_m1 (by omega) (h8.symm.trans h1)
        · rintro ⟨rfl, e⟩
          rw [e] at h8
          exact cz_m1 (by omega) (h8.symm.trans h2)
theorem cz_rt_e {c x d : Nat} (hx : x < 6) {c' y d' : Nat} :
    cz_e (cz_rt t c x d) c' y d' ↔ cz_e t c' y d' ∧ ¬ (c' = c ∧ y = x) ∧ ¬ (c' = d ∧ y = cz_iv x) := by
  constructor
  · intro h
    obtain ⟨a1, a2, a3, a4⟩ := h
    rw [cz_rt_v hx a2] at a4
    by_cases e1 : c' = d ∧ y = cz_iv x
    · rw [if_pos e1] at a4
      exact absurd a4.symm (cz_m1 (by omega))
    · rw [if_neg e1] at a4
      by_cases e2 : c' = c ∧ y = x
      · rw [if_pos e2] at a4
        exact absurd a4.symm (cz_m1 (by omega))
      · rw [if_neg e2] at a4
        exact ⟨⟨a1, a2, a3, a4⟩, e2, e1⟩
  · rintro ⟨⟨a1, a2, a3, a4⟩, e2, e1⟩
    refine ⟨a1, a2, a3, ?_⟩
    rw [cz_rt_v hx a2, if_neg e1, if_neg e2]
    exact a4
theorem cz_rt_tw (hA : cz_A A) (hn : n ≤ 32) (tw : cz_tw A n t) {c x d : Nat} (he : cz_e t c x d) : cz_tw A n (cz_rt t c x d) := by
  have hx6 := he.2.1
  have h6 := cz_iv6 x hx6
  intro c' y hc' hy
  rw [cz_rt_v hx6 hy]
  by_cases e1 : c' = d ∧ y = cz_iv x
  · rw [if_pos e1]
    exact Or.inl rfl
  · rw [if_neg e1]
    by_cases e2 : c' = c ∧ y = x
    · rw [if_pos e2]
      exact Or.inl rfl
    · rw [if_neg e2]
      rcases tw c' y hc' hy with h3 | ⟨h3, h4, d', h5, h7, h8⟩
      · exact Or.inl h3
      · refine Or.inr ⟨h3, h4, d', h5, h7, ?_⟩
        have hy6 := cz_iv6 y hy
        have he' : cz_e t c' y d' := ⟨hc', hy, by omega, h7⟩
        rw [cz_rt_v hx6 hy6.1, if_neg, if_neg]
        · exact h8
        · rintro ⟨rfl, e⟩
          have e3 : y = cz_iv x := by rw [← e, cz_iv_iv]
          subst e3
          exact e1 ⟨cz_cod (cz_e_det t) (cz_e_sym hn tw) he' (cz_e_sym hn tw _ _ _ he), rfl⟩
        · rintro ⟨rfl, e⟩
          have e3 : y = x := by rw [← cz_iv_iv y, e, cz_iv_iv]
          subst e3
          exact e2 ⟨cz_cod (cz_e_det t) (cz_e_sym hn tw) he' he, rfl⟩
/-- the number of entries -/
def cz_tc (t : Nat → Int32) : Nat := cz_ct (fun i => decide (t i ≠ -1)) 192
theorem cz_tc_le (t : Nat → Int32) : cz_tc t ≤ 192 := cz_ct_le _ _
theorem cz_tc_up {i d : Nat} (hi : i < 192) (hd : d < 32) (h : t i = -1) : cz_tc (upd t i (nI d)) = cz_tc t + 1 := by
  refine cz_ct_add (i := i) ?_ ?_ hi ?_
  · exact decide_eq_false (fun h2 => h2 h)
  · refine decide_eq_true ?_
    rw [pk_us]
    exact cz_m1 (by omega)
  · intro j _ hj
    show decide (upd t i (nI d) j ≠ -1) = decide (t j ≠ -1)
    rw [pk_un hj]
theorem cz_tc_dn {i d : Nat} (hi : i < 192) (hd : d < 32) (h : t i = nI d) : cz_tc (upd t i (-1)) + 1 = cz_tc t := by
  refine (cz_ct_add (i := i) ?_ ?_ hi ?_).symm
  · refine decide_eq_false (fun h2 => h2 ?_)
    rw [pk_us]
  · refine decide_eq_true ?_
    rw [h]
    exact cz_m1 (by omega)
  · intro j _ hj
    show decide (t j ≠ -1) = decide (upd t i (-1) j ≠ -1)
    rw [pk_un hj]
theorem cz_jt_tc {c x d : Nat} (hc : c < 32) (hx : x < 6) (hd : d < 32) (h1 : t (c * 6 + x) = -1) (h2 : t (d * 6 + cz_iv x) = -1) : cz_tc (cz_jt t c x d) = cz_tc t + 2 := by
  have h6 := cz_iv6 x hx
  unfold cz_jt
  rw [cz_tc_up (by omega) hc, cz_tc_up (by omega) hd h1]
  rw [pk_un (by omega)]
  exact h2
theorem cz_rt_tc (hn : n ≤ 32) (tw : cz_tw A n t) {c x d : Nat} (he : cz_e t c x d) : cz_tc (cz_rt t c x d) + 2 = cz_tc t := by
  have h6 := cz_iv6 x he.2.1
  have h7 := cz_e_in hn tw he
  have hc := he.1
  have hd := he.2.2.1
  have hx := he.2.1
  have e1 := cz_tc_dn (t := t) (i := c * 6 + x) (d := d) (by omega) hd he.2.2.2
  have e2 := cz_tc_dn (t := upd t (c * 6 + x) (-1)) (i := d * 6 + cz_iv x) (d := c) (by omega) hc (by rw [pk_un (by omega)]; exact h7.2.2.2)
  unfold cz_rt
  omega
end
end
section
/-! closed pairs (E, F) -/
def cz_cl (n nw : Nat) (wl : Nat → Nat) (g : Nat → Nat → Nat) (kd : Nat → Nat) (E : Nat → Nat → Prop) (F : Nat → Nat → Nat → Prop) : Prop :=
  (∀ c, c < n → E c c) ∧ (∀ c d, E c d → E d c) ∧ (∀ a b c, E a b → E b c → E a c) ∧
  (∀ c x d c', F c x d → E c c' → F c' x d) ∧ (∀ c x d d', F c x d → E d d' → F c x d') ∧
  (∀ c x d, F c x d → F d (cz_iv x) c) ∧ (∀ c x d d', F c x d → F c x d' → E d d') ∧
  (∀ c x d, F c x d → c < n ∧ d < n) ∧
  (∀ w, w < nw → ∀ c, c < n → (kd w = 1 ∨ c = 0) → ∀ f q p, f < wl w → cz_p F (g w) (wl w - 1 - f) (f + 1) q c → cz_p F (g w) f 0 c p → F p (g w f) q)
/-- the words: lengths and periodic letters -/
def cz_wd (A nw : Nat) (wl : Nat → Nat) (g : Nat → Nat → Nat) : Prop :=
  ∀ w, w < nw → 0 < wl w ∧ wl w ≤ 24 ∧ (∀ i, g w i < A) ∧ (∀ i j, i % wl w = j % wl w → g w i = g w j)
/-- the rule at a base c and a place a of a word -/
def cz_ru (F : Nat → Nat → Nat → Prop) (g : Nat → Nat) (L a c : Nat) : Prop :=
  ∀ f q p, f < L → cz_p F g (L - 1 - f) (a + f + 1) q c → cz_p F g f a c p → F p (g (a + f)) q
section
variable {A n nw : Nat} {wl : Nat → Nat} {g : Nat → Nat → Nat} {kd : Nat → Nat} {E : Nat → Nat → Prop} {F : Nat → Nat → Nat → Prop}
theorem cz_rot (hcl : cz_cl n nw wl g kd E F) (hwd : cz_wd A nw wl g) {w : Nat} (hw : w < nw) (hk : kd w = 1) {i q p : Nat} (hq : q < n) (h : cz_p F (g w) (wl w - 1) (i + 1) q p) : F p (g w i) q := by
  obtain ⟨hL, _, _, hper⟩ := hwd w hw
  have hi : i % wl w < wl w := Nat.mod_lt _ hL
  have h1 : cz_p F (g w) (wl w - 1) (i % wl w + 1) q p := by
    refine cz_p_cong (fun j _ => hper _ _ ?_) h
    rw [show i % wl w + 1 + j = i % wl w + (1 + j) by omega, Nat.mod_add_mod, show i + 1 + j = i + (1 + j) by omega]
  obtain ⟨c, h2, h3⟩ := cz_p_split (k := wl w - 1 - i % wl w) (m := i % wl w) (cz_p_len (by omega) h1)
  have h4 : cz_p F (g w) (i % wl w) 0 c p := by
    refine cz_p_cong (fun j _ => hper _ _ ?_) h3
    rw [show i % wl w + 1 + (wl w - 1 - i % wl w) + j = wl w + j by omega, Nat.add_mod_left, Nat.zero_add]
  have hc : c < n := (cz_p_dom (P := fun c => c < n) hcl.2.2.2.2.2.2.2.1 h2).1 hq
  have h5 := hcl.2.2.2.2.2.2.2.2 w hw c hc (Or.inl hk) (i % wl w) q p hi h2 h4
  rw [hper i (i % wl w) (by rw [Nat.mod_mod])]
  exact h5
theorem cz_ruR (hcl : cz_cl n nw wl g kd E F) (hwd : cz_wd A nw wl g) {w : Nat} (hw : w < nw) (hk : kd w = 1) (a : Nat) {c : Nat} (hc : c < n) : cz_ru F (g w) (wl w) a c := by
  obtain ⟨hL, _, _, hper⟩ := hwd w hw
  intro f q p hf h1 h2
  have hq : q < n := (cz_p_dom (P := fun c => c < n) hcl.2.2.2.2.2.2.2.1 h1).2 hc
  refine cz_rot hcl hwd hw hk hq ?_
  have h3 : cz_p F (g w) f (a + f + 1 + (wl w - 1 - f)) c p := by
    refine cz_p_cong (fun j _ => hper _ _ ?_) h2
    rw [show a + f + 1 + (wl w - 1 - f) + j = wl w + (a + j) by omega, Nat.add_mod_left]
  exact cz_p_len (by omega) (cz_p_app h1 h3)
theorem cz_ruS (hcl : cz_cl n nw wl g kd E F) (hn : 0 < n) {w : Nat} (hw : w < nw) : cz_ru F (g w) (wl w) 0 0 := by
  intro f q p hf h1 h2
  rw [Nat.zero_add] at h1 ⊢
  exact hcl.2.2.2.2.2.2.2.2 w hw 0 hn (Or.inr rfl) f q p hf h1 h2
/-- both ends of a closed scan are equal -/
theorem cz_ru_id (hcl : cz_cl n nw wl g kd E F) {h : Nat → Nat} {L a c : Nat} (hL : 0 < L) (hr : cz_ru F h L a c) {f p q : Nat} (hf : f ≤ L) (h1 : cz_p F h f a c p) (h2 : cz_p F h (L - f) (a + f) q c) : E p q := by
  obtain ⟨_, hs, _, _, _, hi, hd, _⟩ := hcl
  by_cases e : f < L
  · obtain ⟨r, h3, h4⟩ := cz_p_len (show L - f = L - 1 - f + 1 by omega) h2
    have h5 := hr f r p e h4 h1
    exact hd _ _ _ _ (hi _ _ _ h5) (hi _ _ _ h3)
  · have e2 : f = L - 1 + 1 := by omega
    obtain ⟨r, h3, h4⟩ := cz_p_last (cz_p_len e2 h1)
    have e3 : q = c := cz_p_len (show L - f = 0 by omega) h2
    subst e3
    have h5 := hr (L - 1) q r (by omega) (cz_p_len (show 0 = L - 1 - (L - 1) by omega) rfl) h3
    exact hd _ _ _ _ h4 h5
/-- the least closed pair over a table -/
def cz_Es (n nw : Nat) (wl : Nat → Nat) (g : Nat → Nat → Nat) (kd : Nat → Nat) (t : Nat → Int32) (c d : Nat) : Prop :=
  c < n ∧ d < n ∧ ∀ E F, cz_cl n nw wl g kd E F → (∀ c x d, cz_e t c x d → F c x d) → E c d
def cz_Fs (n nw : Nat) (wl : Nat → Nat) (g : Nat → Nat → Nat) (kd : Nat → Nat) (t : Nat → Int32) (c x d : Nat) : Prop :=
  c < n ∧ d < n ∧ ∀ E F, cz_cl n nw wl g kd E F → (∀ c x d, cz_e t c x d → F c x d) → F c x d
theorem cz_EsFs {t : Nat → Int32} : cz_cl n nw wl g kd (cz_Es n nw wl g kd t) (cz_Fs n nw wl g kd t) := by
  refine ⟨?_, ?_, ?_, ?_, ?_, ?_, ?_, ?_, ?_⟩
  · exact fun c hc => ⟨hc, hc, fun E F h _ => h.1 c hc⟩
  · exact fun c d ⟨h1, h2, h3⟩ => ⟨h2, h1, fun E F h h' => h.2.1 _ _ (h3 E F h h')⟩
  · exact fun a b c ⟨h1, h2, h3⟩ ⟨h4, h5, h6⟩ => ⟨h1, h5, fun E F h h' => h.2.2.1 _ _ _ (h3 E F h h') (h6 E F h h')⟩
  · exact fun c x d c' ⟨h1, h2, h3⟩ ⟨h4, h5, h6⟩ => ⟨h5, h2, fun E F h h' => h.2.2.2.1 _ _ _ _ (h3 E F h h') (h6 E F h h')⟩
  · exact fun c x d d' ⟨h1, h2, h3⟩ ⟨h4, h5, h6⟩ => ⟨h1, h5, fun E F h h' => h.2.2.2.2.1 _ _ _ _ (h3 E F h h') (h6 E F h h')⟩
  · exact fun c x d ⟨h1, h2, h3⟩ => ⟨h2, h1, fun E F h h' => h.2.2.2.2.2.1 _ _ _ (h3 E F h h')⟩
  · exact fun c x d d' ⟨h1, h2, h3⟩ ⟨h4, h5, h6⟩ => ⟨h2, h5, fun E F h h' => h.2.2.2.2.2.2.1 _ _ _ _ (h3 E F h h') (h6 E F h h')⟩
  · exact fun c x d ⟨h1, h2, h3⟩ => ⟨h1, h2⟩
  · intro w hw c hc hk f q p hf h1 h2
    have hd : ∀ c x d, cz_Fs n nw wl g kd t c x d → c < n ∧ d < n := fun c x d h => ⟨h.1, h.2.1⟩
    refine ⟨(cz_p_dom (P := fun c => c < n) hd h2).1 hc, (cz_p_dom (P := fun c => c < n) hd h1).2 hc, fun E F h h' => ?_⟩
    exact h.2.2.2.2.2.2.2.2 w hw c hc hk f q p hf (cz_p_mono (fun c x d k => k.2.2 E F h h') h1) (cz_p_mono (fun c x d k => k.2.2 E F h h') h2)
theorem cz_Fs0 {t : Nat → Int32} (hn : n ≤ 32) (tw : cz_tw A n t) : ∀ c x d, cz_e t c x d → cz_Fs n nw wl g kd t c x d := by
  intro c x d h
  have h1 := cz_e_in hn tw h
  exact ⟨h1.1, h1.2.2.1, fun E F _ h' => h' c x d h⟩
end
end
section
/-! clean edges, transitions, scans: the pure side of the component -/
def cz_ph (n : Nat) (pr : Nat → Int32) (ph : Nat → Nat) : Prop := ∀ c, c < n → (pr c = nI c ∧ ph c = c) ∨ (∃ b, b < c ∧ pr c = nI b ∧ ph c = ph b)
section
variable {n : Nat} {pr : Nat → Int32} {ph : Nat → Nat}
theorem cz_ph_le (h : cz_ph n pr ph) : ∀ c, c < n → ph c ≤ c := by
  intro c
  induction c using Nat.strongRecOn with
  | ind c ih =>
    intro hc
    rcases h c hc with ⟨_, e⟩ | ⟨b, hb, _, e⟩
    · omega
    · have := ih b hb (by omega)
      omega
theorem cz_ph_lt (h : cz_ph n pr ph) {c : Nat} (hc : c < n) : ph c < n := Nat.lt_of_le_of_lt (cz_ph_le h c hc) hc
theorem cz_ph_id (h : cz_ph n pr ph) : ∀ c, c < n → ph (ph c) = ph c := by
  intro c
  induction c using Nat.strongRecOn with
  | ind c ih =>
    intro hc
    rcases h c hc with ⟨_, e⟩ | ⟨b, hb, _, e⟩
    · rw [e, e]
    · rw [e]
      exact ih b hb (by omega)
theorem cz_ph_0 (h : cz_ph n pr ph) (hn : 0 < n) : ph 0 = 0 := by
  have := cz_ph_le h 0 hn
  omega
theorem cz_ph_root (h : cz_ph n pr ph) (hn : n ≤ 32) {c : Nat} (hc : c < n) : pr c = nI c ↔ ph c = c := by
  rcases h c hc with ⟨e1, e⟩ | ⟨b, hb, e1, e⟩
  · exact ⟨fun _ => e, fun _ => e1⟩
  · constructor
    · intro e2
      have := (nI_eq (by omega) (by omega)).mp (e1.symm.trans e2)
      omega
    · intro e2
      have := cz_ph_le h b (by omega)
      omega
/-- one class put under another -/
def cz_un (ph : Nat → Nat) (lo hi : Nat) (c : Nat) : Nat := if ph c = hi then lo else ph c
theorem cz_un_ph (h : cz_ph n pr ph) {lo hi : Nat} (hl : lo < hi) (hh : hi < n) (e1 : ph lo = lo) (e2 : ph hi = hi) : cz_ph n (upd pr hi (nI lo)) (cz_un ph lo hi) := by
  intro c hc
  unfold cz_un
  by_cases e : c = hi
  · subst e
    refine Or.inr ⟨lo, hl, pk_us, ?_⟩
    rw [if_pos e2, e1, if_neg (by omega)]
  · rw [pk_un e]
    rcases h c hc with ⟨h1, h2⟩ | ⟨b, hb, h1, h2⟩
    · refine Or.inl ⟨h1, ?_⟩
      rw [h2, if_neg e]
    · exact Or.inr ⟨b, hb, h1, by rw [h2]⟩
def cz_dc (n : Nat) (ph : Nat → Nat) : Nat := cz_ct (fun c => decide (ph c ≠ c)) n
theorem cz_un_dc {lo hi : Nat} (hl : lo < hi) (hh : hi < n) (e1 : ph lo = lo) (e2 : ph hi = hi) : cz_dc n (cz_un ph lo hi) = cz_dc n ph + 1 := by
  refine cz_ct_add (i := hi) ?_ ?_ hh ?_
  · exact decide_eq_false (fun h => h e2)
  · refine decide_eq_true ?_
    unfold cz_un
    rw [if_pos e2]
    omega
  · intro c _ hc
    show decide (cz_un ph lo hi c ≠ c) = decide (ph c ≠ c)
    unfold cz_un
    by_cases e : ph c = hi
    · rw [if_pos e]
      have h1 : lo ≠ c := fun e3 => by subst e3; omega
      have h2 : ph c ≠ c := by omega
      rw [decide_eq_true h1, decide_eq_true h2]
    · rw [if_neg e]
theorem cz_dc_le (h : cz_ph n pr ph) (hn : 0 < n) : cz_dc n ph + 1 ≤ n :=
  cz_ct_lt (decide_eq_false (fun h2 => h2 (cz_ph_0 h hn))) hn
end
/-- pending, clean -/
def cz_pd (sk : Nat → Int32) (k c x : Nat) : Prop := ∃ i, i < k ∧ sk i = nI (c * 6 + x)
def cz_k (t sk : Nat → Int32) (k c x d : Nat) : Prop := cz_e t c x d ∧ ¬ cz_pd sk k c x ∧ ¬ cz_pd sk k d (cz_iv x)
def cz_tr (n : Nat) (t sk : Nat → Int32) (ph : Nat → Nat) (k : Nat) (t' sk' : Nat → Int32) (ph' : Nat → Nat) (k' : Nat) : Prop :=
  (∀ c x d, cz_e t c x d → cz_e t' (ph' c) x (ph' d)) ∧ (∀ c, c < n → ph' (ph c) = ph' c) ∧ (∀ c, c < n → ph' c = c → ph c = c) ∧
  (∀ c x d, cz_k t' sk' k' c x d → cz_k t sk k c x d) ∧ k ≤ k'
/-- every edge joins living cosets -/
def cz_lv (t : Nat → Int32) (ph : Nat → Nat) : Prop := ∀ c x d, cz_e t c x d → ph c = c ∧ ph d = d
def cz_ok (t sk : Nat → Int32) (ph : Nat → Nat) (k : Nat) (g : Nat → Nat) (L a c : Nat) : Prop :=
  ph c = c → ∀ f q p, f < L → cz_p (cz_k t sk k) g (L - 1 - f) (a + f + 1) q c → cz_p (cz_k t sk k) g f a c p → cz_e t p (g (a + f)) q
def cz_iw (n : Nat) (t sk : Nat → Int32) (ph : Nat → Nat) (k : Nat) (g : Nat → Nat) (L : Nat) : Prop :=
  ∀ i q p, q < n → ph q = q → cz_p (cz_k t sk k) g (L - 1) (i + 1) q p → cz_e t p (g i) q
section
variable {A n : Nat} {t sk t' sk' t2 sk2 pr : Nat → Int32} {ph ph' ph2 : Nat → Nat} {k k' k2 : Nat} {g : Nat → Nat} {L : Nat}
theorem cz_pd_eq {c x c' x' : Nat} (hc : c < 32) (hx : x < 6) (hc' : c' < 32) (hx' : x' < 6) (h : nI (c * 6 + x) = nI (c' * 6 + x')) : c = c' ∧ x = x' := by
  have e := (nI_eq (by omega) (by omega)).mp h
  omega
theorem cz_k_sym (hn : n ≤ 32) (tw : cz_tw A n t) {c x d : Nat} (h : cz_k t sk k c x d) : cz_k t sk k d (cz_iv x) c := by
  refine ⟨cz_e_sym hn tw _ _ _ h.1, h.2.2, ?_⟩
  rw [cz_iv_iv]
  exact h.2.1
theorem cz_tr_refl (lv : cz_lv t ph) (hp : cz_ph n pr ph) : cz_tr n t sk ph k t sk ph k := by
  refine ⟨fun c x d h => ?_, fun c hc => cz_ph_id hp c hc, fun c _ h => h, fun c x d h => h, Nat.le_refl k⟩
  rw [(lv c x d h).1, (lv c x d h).2]
  exact h
theorem cz_tr_trans (hn : n ≤ 32) (tw : cz_tw A n t) (hp : cz_ph n pr ph) (h1 : cz_tr n t sk ph k t' sk' ph' k') (h2 : cz_tr n t' sk' ph' k' t2 sk2 ph2 k2) : cz_tr n t sk ph k t2 sk2 ph2 k2 := by
  obtain ⟨a1, a2, a3, a4, a5⟩ := h1
  obtain ⟨b1, b2, b3, b4, b5⟩ := h2
  refine ⟨fun c x d h => ?_, fun c hc => ?_, fun c hc h => a3 c hc (b3 c hc h), fun c x d h => a4 _ _ _ (b4 _ _ _ h), Nat.le_trans a5 b5⟩
  · have h3 := cz_e_in hn tw h
    have h4 := b1 _ _ _ (a1 _ _ _ h)
    rw [b2 c h3.1, b2 d h3.2.2.1] at h4
    exact h4
  · rw [← b2 (ph c) (cz_ph_lt hp hc), a2 c hc, b2 c hc]
theorem cz_k_lv (lv : cz_lv t ph) : ∀ c x d, cz_k t sk k c x d → ph c = c ∧ ph d = d := fun c x d h => lv c x d h.1
theorem cz_ok_tr (lv' : cz_lv t' ph') (h : cz_tr n t sk ph k t' sk' ph' k') {a c : Nat} (hc : c < n) (ho : cz_ok t sk ph k g L a c) : cz_ok t' sk' ph' k' g L a c := by
  obtain ⟨a1, a2, a3, a4, a5⟩ := h
  intro hl f q p hf h1 h2
  have h3 := ho (a3 c hc hl) f q p hf (cz_p_mono a4 h1) (cz_p_mono a4 h2)
  have h4 := a1 _ _ _ h3
  have e1 : ph' p = p := (cz_p_dom (P := fun c => ph' c = c) (cz_k_lv lv') h2).1 hl
  have e2 : ph' q = q := (cz_p_dom (P := fun c => ph' c = c) (cz_k_lv lv') h1).2 hl
  rw [e1, e2] at h4
  exact h4
theorem cz_iw_tr (lv' : cz_lv t' ph') (h : cz_tr n t sk ph k t' sk' ph' k') (ho : cz_iw n t sk ph k g L) : cz_iw n t' sk' ph' k' g L := by
  obtain ⟨a1, a2, a3, a4, a5⟩ := h
  intro i q p hq hl h1
  have h3 := ho i q p hq (a3 q hq hl) (cz_p_mono a4 h1)
  have h4 := a1 _ _ _ h3
  have e1 : ph' p = p := (cz_p_dom (P := fun c => ph' c = c) (cz_k_lv lv') h1).1 hl
  rw [e1, hl] at h4
  exact h4
/-- all bases at place 0 give the cyclic form -/
theorem cz_ok_iw (hn : n ≤ 32) (tw : cz_tw A n t) (lv : cz_lv t ph) (hL : 0 < L) (hper : ∀ i j, i % L = j % L → g i = g j) (ho : ∀ c, c < n → cz_ok t sk ph k g L 0 c) : cz_iw n t sk ph k g L := by
  intro i q p hq hl h
  have hi : i % L < L := Nat.mod_lt _ hL
  have h1 : cz_p (cz_k t sk k) g (L - 1) (i % L + 1) q p := by
    refine cz_p_cong (fun j _ => hper _ _ ?_) h
    rw [show i % L + 1 + j = i % L + (1 + j) by omega, Nat.mod_add_mod, show i + 1 + j = i + (1 + j) by omega]
  obtain ⟨c, h2, h3⟩ := cz_p_split (k := L - 1 - i % L) (m := i % L) (cz_p_len (by omega) h1)
  have h4 : cz_p (cz_k t sk k) g (i % L) 0 c p := by
    refine cz_p_cong (fun j _ => hper _ _ ?_) h3
    rw [show i % L + 1 + (L - 1 - i % L) + j = L + j by omega, Nat.add_mod_left, Nat.zero_add]
  have hd : ∀ c x d, cz_k t sk k c x d → c < n ∧ d < n := fun c x d h => ⟨(cz_e_in hn tw h.1).1, (cz_e_in hn tw h.1).2.2.1⟩
  have hc : c < n := (cz_p_dom (P := fun c => c < n) hd h2).1 hq
  have hlc : ph c = c := (cz_p_dom (P := fun c => ph c = c) (cz_k_lv lv) h2).1 hl
  have h5 := ho c hc hlc (i % L) q p hi (cz_p_at (by omega) h2) h4
  rw [Nat.zero_add] at h5
  rw [hper i (i % L) (by rw [Nat.mod_mod])]
  exact h5
/-- the popped edge: what follow must give -/
theorem cz_pop (hn : n ≤ 32) (tw : cz_tw A n t) (tw' : cz_tw A n t') (lv' : cz_lv t' ph') (hL : 0 < L) (hper : ∀ i j, i % L = j % L → g i = g j)
    {c0 x0 d0 : Nat} (he : cz_e t c0 x0 d0) (hs : sk k = nI (c0 * 6 + x0))
    (hb : cz_iw n t sk ph (k + 1) g L) (h : cz_tr n t sk ph k t' sk' ph' k')
    (hf : cz_k t' sk' k' c0 x0 d0 → ∀ j, j < L → (g j = x0 → cz_ok t' sk' ph' k' g L j c0) ∧ (g j = cz_iv x0 → cz_ok t' sk' ph' k' g L j d0)) : cz_iw n t' sk' ph' k' g L := by
  obtain ⟨a1, a2, a3, a4, a5⟩ := h
  intro i q p hq hl h1
  have hdl := cz_k_lv (sk := sk') (k := k') lv'
  rcases cz_p_or (Q := fun c x d => cz_k t sk (k + 1) c x d) h1 with h2 | ⟨m, c, d, hm, h2, h3, h4, h5⟩
  · have h6 : cz_p (cz_k t sk (k + 1)) g (L - 1) (i + 1) q p := cz_p_mono (fun c x d h => h.2) h2
    have h7 := a1 _ _ _ (hb i q p hq (a3 q hq hl) h6)
    have e1 : ph' p = p := (cz_p_dom (P := fun c => ph' c = c) hdl h1).1 hl
    rw [e1, hl] at h7
    exact h7
  · have h6 := a4 _ _ _ h3
    have hx6 : g (i + 1 + m) < 6 := h3.1.2.1
    have hx7 := (cz_iv6 _ hx6).1
    have hor : (c = c0 ∧ g (i + 1 + m) = x0 ∧ d = d0) ∨ (c = d0 ∧ g (i + 1 + m) = cz_iv x0 ∧ d = c0) := by
      by_cases z1 : sk k = nI (c * 6 + g (i + 1 + m))
      · have e := cz_pd_eq h6.1.1 hx6 he.1 he.2.1 (z1.symm.trans hs)
        refine Or.inl ⟨e.1, e.2, ?_⟩
        have h7 := h6.1
        rw [e.1, e.2] at h7
        exact cz_e_det t _ _ _ _ h7 he
      · by_cases z2 : sk k = nI (d * 6 + cz_iv (g (i + 1 + m)))
        · have e := cz_pd_eq h6.1.2.2.1 hx7 he.1 he.2.1 (z2.symm.trans hs)
          have e2 : g (i + 1 + m) = cz_iv x0 := by rw [← e.2, cz_iv_iv]
          refine Or.inr ⟨?_, e2, e.1⟩
          have h7 := cz_e_sym hn tw _ _ _ h6.1
          rw [e.1, e.2] at h7
          exact cz_e_det t _ _ _ _ h7 he
        · exfalso
          refine h4 ⟨h6.1, ?_, ?_⟩
          · rintro ⟨s, hs1, hs2⟩
            by_cases e : s = k
            · subst e
              exact z1 hs2
            · exact h6.2.1 ⟨s, by omega, hs2⟩
          · rintro ⟨s, hs1, hs2⟩
            by_cases e : s = k
            · subst e
              exact z2 hs2
            · exact h6.2.2 ⟨s, by omega, hs2⟩
    have hj : (i + 1 + m) % L < L := Nat.mod_lt _ hL
    have ej : g ((i + 1 + m) % L) = g (i + 1 + m) := hper _ _ (Nat.mod_mod _ _)
    have hok : cz_ok t' sk' ph' k' g L ((i + 1 + m) % L) c := by
      rcases hor with ⟨e1, e2, e3⟩ | ⟨e1, e2, e3⟩
      · subst e1 e3
        rw [e2] at h3
        exact (hf h3 _ hj).1 (ej.trans e2)
      · subst e1 e3
        rw [e2] at h3
        have h7 := cz_k_sym hn tw' h3
        rw [cz_iv_iv] at h7
        exact (hf h7 _ hj).2 (ej.trans e2)
    have hlc : ph' c = c := (hdl _ _ _ h3).1
    have p1 : cz_p (cz_k t' sk' k') g (L - 1 - (L - 1 - m)) ((i + 1 + m) % L + (L - 1 - m) + 1) q c := by
      refine cz_p_len (show m = L - 1 - (L - 1 - m) by omega) (cz_p_cong (fun s _ => hper _ _ ?_) h2)
      rw [show (i + 1 + m) % L + (L - 1 - m) + 1 + s = (i + 1 + m) % L + (L - m + s) by omega, Nat.mod_add_mod, show i + 1 + m + (L - m + s) = i + 1 + s + L by omega, Nat.add_mod_right]
    have p2 : cz_p (cz_k t' sk' k') g (L - 1 - m) ((i + 1 + m) % L) c p := by
      refine cz_p_cong (fun s _ => hper _ _ ?_) (cz_p_len (show L - 1 - 1 - m + 1 = L - 1 - m by omega) ⟨d, h3, h5⟩)
      rw [Nat.mod_add_mod]
    have h8 := hok hlc (L - 1 - m) q p (by omega) p1 p2
    rw [hper i ((i + 1 + m) % L + (L - 1 - m)) (by rw [Nat.mod_add_mod, show i + 1 + m + (L - 1 - m) = i + L by omega, Nat.add_mod_right])]
    exact h8
/-- the places that a scan can reach -/
def cz_fr (t : Nat → Int32) (g : Nat → Nat) (L a c f P : Nat) : Prop := f ≤ L ∧ cz_p (cz_e t) g f a c P ∧ (f = L ∨ t (P * 6 + g (a + f)) = -1)
def cz_bk (t : Nat → Int32) (g : Nat → Nat) (L a c f b Q : Nat) : Prop := f ≤ b ∧ b ≤ L ∧ cz_p (cz_e t) g (L - b) (a + b) Q c ∧ (b = f ∨ t (Q * 6 + cz_iv (g (a + b - 1))) = -1)
theorem cz_fr_le {a c f0 P f p : Nat} (hf : cz_fr t g L a c f0 P) (hlt : f < L) (h : cz_p (cz_e t) g f a c p) : f ≤ f0 := by
  obtain ⟨h1, h2, h3⟩ := hf
  by_cases hlt2 : f ≤ f0
  · exact hlt2
  · obtain ⟨r, h4, h5⟩ := cz_p_split (k := f0) (m := f - f0 - 1 + 1) (cz_p_len (by omega) h)
    have e := cz_p_det (cz_e_det t) h4 h2
    subst e
    obtain ⟨s, h6, _⟩ := h5
    rcases h3 with h3 | h3
    · omega
    · exact absurd h6 (cz_none h3 s)
theorem cz_bk_le (hn : n ≤ 32) (tw : cz_tw A n t) {a c f0 b0 Q f q : Nat} (hb : cz_bk t g L a c f0 b0 Q) (hlt : f < L) (h : cz_p (cz_e t) g (L - 1 - f) (a + f + 1) q c) : b0 = f0 ∨ b0 ≤ f + 1 := by
  obtain ⟨h1, h2, h3, h4⟩ := hb
  rcases h4 with h4 | h4
  · exact Or.inl h4
  · by_cases hlt2 : b0 ≤ f + 1
    · exact Or.inr hlt2
    · exfalso
      obtain ⟨r, _, h6⟩ := cz_p_split (k := b0 - 1 - (f + 1)) (m := L - b0 + 1) (cz_p_len (by omega) h)
      have h6 := cz_p_at (show a + f + 1 + (b0 - 1 - (f + 1)) = a + b0 - 1 by omega) h6
      obtain ⟨s, h7, h8⟩ := h6
      have h8 := cz_p_at (show a + b0 - 1 + 1 = a + b0 by omega) h8
      have e := cz_p_inj (cz_e_det t) (cz_e_sym hn tw) h8 h3
      subst e
      exact cz_none h4 r (cz_e_sym hn tw _ _ _ h7)
theorem cz_scan_none (hn : n ≤ 32) (tw : cz_tw A n t) {a c f0 P b0 Q : Nat} (hf : cz_fr t g L a c f0 P) (hb : cz_bk t g L a c f0 b0 Q) (hg : f0 + 2 ≤ b0) : cz_ok t sk ph k g L a c := by
  intro _ f q p hlt h1 h2
  have h3 := cz_fr_le hf hlt (cz_p_mono (fun c x d h => h.1) h2)
  have h4 := cz_bk_le hn tw hb hlt (cz_p_mono (fun c x d h => h.1) h1)
  omega
theorem cz_scan_join (hn : n ≤ 32) (tw : cz_tw A n t) {a c f0 P Q : Nat} (hf : cz_fr t g L a c f0 P) (hb : cz_bk t g L a c f0 (f0 + 1) Q) (h : cz_tr n t sk ph k t' sk' ph' k') (hj : cz_e t' P (g (a + f0)) Q) : cz_ok t' sk' ph' k' g L a c := by
  intro _ f q p hlt h1 h2
  have h1 := cz_p_mono (fun c x d z => (h.2.2.2.1 c x d z).1) h1
  have h2 := cz_p_mono (fun c x d z => (h.2.2.2.1 c x d z).1) h2
  have h3 := cz_fr_le hf hlt h2
  have h4 := cz_bk_le hn tw hb hlt h1
  have e : f = f0 := by omega
  subst e
  have e1 := cz_p_det (cz_e_det t) h2 hf.2.1
  have e2 := cz_p_inj (cz_e_det t) (cz_e_sym hn tw) (cz_p_at (show a + f + 1 = a + (f + 1) by omega) (cz_p_len (show L - 1 - f = L - (f + 1) by omega) h1)) hb.2.2.1
  subst e1 e2
  exact hj
theorem cz_scan_id (hn : n ≤ 32) (tw : cz_tw A n t) (tw' : cz_tw A n t') (lv' : cz_lv t' ph') {a c f0 P Q : Nat} (hf : cz_fr t g L a c f0 P) (hb : cz_bk t g L a c f0 f0 Q) (h : cz_tr n t sk ph k t' sk' ph' k') (hj : ph' P = ph' Q) : cz_ok t' sk' ph' k' g L a c := by
  obtain ⟨a1, a2, a3, a4, a5⟩ := h
  intro hl f q p hlt h1 h2
  have e1 : ph' p = p := (cz_p_dom (P := fun c => ph' c = c) (cz_k_lv lv') h2).1 hl
  have e2 : ph' q = q := (cz_p_dom (P := fun c => ph' c = c) (cz_k_lv lv') h1).2 hl
  have h1 := cz_p_mono (fun c x d z => (a4 c x d z).1) h1
  have h2 := cz_p_mono (fun c x d z => (a4 c x d z).1) h2
  have h3 := cz_fr_le hf hlt h2
  have hfl := hf.1
  rw [← e1, ← e2]
  by_cases e : f = f0
  · subst e
    have e3 := cz_p_det (cz_e_det t) h2 hf.2.1
    obtain ⟨r, h5, h6⟩ := cz_p_len (show L - f = L - 1 - f + 1 by omega) hb.2.2.1
    have e4 := cz_p_inj (cz_e_det t) (cz_e_sym hn tw) h6 h1
    subst e3 e4
    rw [hj]
    exact a1 _ _ _ h5
  · obtain ⟨p', h5, h6⟩ := cz_p_split (k := f) (m := f0 - f - 1 + 1) (cz_p_len (by omega) hf.2.1)
    have e3 := cz_p_det (cz_e_det t) h5 h2
    subst e3
    obtain ⟨p1, h7, h8⟩ := h6
    obtain ⟨q', h9, h10⟩ := cz_p_split (k := f0 - f - 1) (m := L - f0) (cz_p_len (by omega) h1)
    have h10 := cz_p_at (show a + f + 1 + (f0 - f - 1) = a + f0 by omega) h10
    have e4 := cz_p_inj (cz_e_det t) (cz_e_sym hn tw) h10 hb.2.2.1
    subst e4
    have h11 := cz_p_map ph' a1 h8
    have h12 := cz_p_map ph' a1 h9
    rw [hj] at h11
    have e5 := cz_p_inj (cz_e_det t') (cz_e_sym hn tw') h11 h12
    rw [← e5]
    exact a1 _ _ _ h7
end
end
section
/-! find, unify, join -/
section
variable {al mo cl wo nn de to sl : Int32} {cu sr sa kn tb fr pr qu sk sw od lb fm bb dp : Nat → Int32}
variable {n : Nat} {ph : Nat → Nat}
theorem cx_find4 (hp : cz_ph n pr ph) (hn : n ≤ 32) {post : Int32 → Prop} : ∀ N a i, a + i ≤ 31 → a < n → a < N → post (nI (ph a)) → wX_find_4 post al mo cl wo nn de to sl cu sr sa kn tb fr pr qu sk sw od lb fm bb dp N (nI a) (nI i) := by
  intro N
  induction N with
  | zero => exact fun a i _ _ h _ => absurd h (Nat.not_lt_zero a)
  | succ N ih =>
    intro a i h1 h2 h3 h4
    have hin : vp_in (nI a) 32 := vp_in_nI (by omega) (by omega)
    have hcl : (nI a).toNatClampNeg = a := nI_clamp (by omega)
    refine br_f (nI_ge (b := 32) (by omega) (by omega)) (And.intro hin ?_)
    rw [hcl]
    rcases hp a h2 with ⟨e1, e2⟩ | ⟨b, hb, e1, e2⟩
    · rw [e2] at h4
      exact br_t e1 h4
    · have hne : ¬ pr a = nI a := by
        rw [e1, nI_eq (by omega) (by omega)]
        omega
      rw [e2] at h4
      exact br_f hne (And.intro hin (nm_r e1 (nm_r (nI_1 i) (ih b (i + 1) (by omega) (by omega) (by omega) h4))))
theorem cx_find (hp : cz_ph n pr ph) (hn : n ≤ 32) {a : Nat} (ha : a < n) {post : Int32 → Prop} (h : post (nI (ph a))) : wpX_find post (al, mo, cl, wo, nn, de, to, sl, cu, sr, sa, kn, tb, fr, pr, qu, sk, sw, od, lb, fm, bb, dp) (nI a) :=
  ⟨a + 1, cx_find4 hp hn (a + 1) a 0 (by omega) ha (by omega) h⟩
theorem cx_u36 {lo hi d : Nat} (hh : hi < 32) (hd : d < 32) {post : SX → Prop} (h : post (al, mo, cl, wo, nn, nI (d + 1), to, sl, cu, sr, sa, kn, tb, fr, upd pr hi (nI lo), upd qu d (nI hi), sk, sw, od, lb, fm, bb, dp)) : wX_unify_36 post (nI lo) (nI hi) al mo cl wo nn (nI d) to sl cu sr sa kn tb fr pr qu sk sw od lb fm bb dp := by
  have e1 : (nI hi).toNatClampNeg = hi := nI_clamp (by omega)
  have e2 : (nI d).toNatClampNeg = d := nI_clamp (by omega)
  exact And.intro (vp_in_nI hh (by omega)) (nm_r (congrArg (fun z => upd pr z (nI lo)) e1) (br_f (nI_ge (b := 32) hd (by omega)) (And.intro (vp_in_nI hd (by omega)) (nm_r (congrArg (fun z => upd qu z (nI hi)) e2) (nm_r (nI_1 d) h)))))
theorem cx_unify (hp : cz_ph n pr ph) (hn : n ≤ 32) {a b d : Nat} (ha : a < n) (hb : b < n) (hd : d < 32) {post : SX → Prop}
    (h1 : ph a = ph b → post (al, mo, cl, wo, nn, nI d, to, sl, cu, sr, sa, kn, tb, fr, pr, qu, sk, sw, od, lb, fm, bb, dp))
    (h2 : ∀ lo hi, lo < hi → hi < n → ph lo = lo → ph hi = hi → ((lo = ph a ∧ hi = ph b) ∨ (lo = ph b ∧ hi = ph a)) → post (al, mo, cl, wo, nn, nI (d + 1), to, sl, cu, sr, sa, kn, tb, fr, upd pr hi (nI lo), upd qu d (nI hi), sk, sw, od, lb, fm, bb, dp)) :
    wpX_unify post (al, mo, cl, wo, nn, nI d, to, sl, cu, sr, sa, kn, tb, fr, pr, qu, sk, sw, od, lb, fm, bb, dp) (nI a) (nI b) := by
  have la := cz_ph_lt hp ha
  have lb := cz_ph_lt hp hb
  have ia := cz_ph_id hp a ha
  have ib := cz_ph_id hp b hb
  unfold wpX_unify
  refine cx_find hp hn ha ?_
  refine cx_find hp hn hb ?_
  exact pk_eq (ph a) (ph b) h1 (fun ne => pk_le (ph a) (ph b) (fun hle => cx_u36 (by omega) hd (h2 _ _ (by omega) lb ia ib (Or.inl ⟨rfl, rfl⟩))) (fun hlt => cx_u36 (by omega) hd (h2 _ _ hlt la ib ia (Or.inr ⟨rfl, rfl⟩))))
theorem cx_join {c x d k : Nat} (hc : c < 32) (hx : x < 6) (hd : d < 32) (hk : k < 512) {post : SX → Prop}
    (h : post (al, mo, cl, wo, nn, de, nI (k + 1), sl, cu, sr, sa, kn, cz_jt tb c x d, fr, pr, qu, upd sk k (nI (c * 6 + x)), sw, od, lb, fm, bb, dp)) : wpX_join post (al, mo, cl, wo, nn, de, nI k, sl, cu, sr, sa, kn, tb, fr, pr, qu, sk, sw, od, lb, fm, bb, dp) (nI c) (nI x) (nI d) := by
  have h6 := (cz_iv6 x hx).1
  have e1 : (nI c * 6 + nI x).toNatClampNeg = c * 6 + x := by rw [cz_ix, nI_clamp (by omega)]
  have e2 : (nI d * 6 + (nI x ^^^ 1)).toNatClampNeg = d * 6 + cz_iv x := by rw [cz_ivN, cz_ix, nI_clamp (by omega)]
  have i1 : vp_in (nI c * 6 + nI x) 192 := by rw [cz_ix]; exact vp_in_nI (by omega) (by omega)
  have i2 : vp_in (nI d * 6 + (nI x ^^^ 1)) 192 := by rw [cz_ivN, cz_ix]; exact vp_in_nI (by omega) (by omega)
  have e3 : upd sk (nI k).toNatClampNeg (nI c * 6 + nI x) = upd sk k (nI (c * 6 + x)) := by rw [cz_ix, nI_clamp (by omega)]
  unfold wpX_join
  exact And.intro i1 (nm_r (congrArg (fun z => upd tb z (nI d)) e1) (And.intro i2 (nm_r (congrArg (fun z => upd (upd tb (c * 6 + x) (nI d)) z (nI c)) e2) (br_f (nI_ge (b := 512) hk (by omega)) (And.intro (vp_in_nI hk (by omega)) (nm_r e3 (nm_r (nI_1 k) h)))))))
end
end
section
/-! the pure side of identify -/
def cz_xs (A n K : Nat) (E : Nat → Nat → Prop) (F : Nat → Nat → Nat → Prop) (t pr sk : Nat → Int32) (ph : Nat → Nat) (k : Nat) : Prop :=
  cz_tw A n t ∧ cz_ph n pr ph ∧ cz_lv t ph ∧ (∀ c x d, cz_e t c x d → F c x d) ∧ (∀ c, c < n → E c (ph c)) ∧ 2 * (K + k) ≤ cz_tc t + 12 * cz_dc n ph ∧
  (∀ i, i < k → ∃ c x, c < n ∧ x < A ∧ sk i = nI (c * 6 + x))
theorem cz_xs_k {A n K : Nat} {E : Nat → Nat → Prop} {F : Nat → Nat → Nat → Prop} {t pr sk : Nat → Int32} {ph : Nat → Nat} {k : Nat} (hn0 : 0 < n) (hn : n ≤ 32) (h : cz_xs A n K E F t pr sk ph k) : K + k ≤ 282 := by
  have h1 := cz_tc_le t
  have h2 := cz_dc_le h.2.1 hn0
  have h3 := h.2.2.2.2.2.1
  omega
/-- within identify: (t0 sk0 p0 k0) is its start -/
def cz_ic (A n : Nat) (E : Nat → Nat → Prop) (F : Nat → Nat → Nat → Prop) (t0 sk0 : Nat → Int32) (p0 : Nat → Nat) (k0 : Nat) (t pr sk qu : Nat → Int32) (ph : Nat → Nat) (k dd : Nat) : Prop :=
  cz_tw A n t ∧ cz_ph n pr ph ∧ (∀ c x d, cz_e t c x d → F c x d) ∧ (∀ c, c < n → E c (ph c)) ∧
  (∀ c x d, cz_k t sk k c x d → cz_k t0 sk0 k0 c x d) ∧ k0 ≤ k ∧ (∀ c, c < n → ph (p0 c) = ph c) ∧ (∀ c, c < n → ph c = c → p0 c = c) ∧
  (∀ i, i < k → ∃ c x, c < n ∧ x < A ∧ sk i = nI (c * 6 + x)) ∧ (∀ i, i < dd → ∃ c, c < n ∧ qu i = nI c ∧ ph c ≠ c) ∧ dd + cz_dc n p0 = cz_dc n ph
/-- one step at the edge (b, x, d) -/
def cz_st (n x b d : Nat) (t qu : Nat → Int32) (ph : Nat → Nat) (k dd : Nat) (t' qu' : Nat → Int32) (ph' : Nat → Nat) (k' dd' : Nat) : Prop :=
  (∀ c y e, cz_e t c y e → cz_e t' c y e) ∧ (∀ a b, ph a = ph b → ph' a = ph' b) ∧ (∃ c1 d1, cz_e t' c1 x d1 ∧ ph' c1 = ph' b ∧ ph' d1 = ph' d) ∧
  (∀ c y e, cz_e t' c y e → cz_e t c y e ∨ (ph' c = c ∧ ph' e = e)) ∧ dd ≤ dd' ∧ (∀ i, i < dd → qu' i = qu i) ∧
  (∀ c, c < n → ph c = c → ph' c = c ∨ ∃ i, dd ≤ i ∧ i < dd' ∧ qu' i = nI c) ∧ (∀ c, c < n → ph' c = c → ph c = c) ∧
  2 * k' + 12 * dd' + cz_tc t + 12 * cz_dc n ph = 2 * k + 12 * dd + cz_tc t' + 12 * cz_dc n ph'
section
variable {A n nw : Nat} {wl : Nat → Nat} {g : Nat → Nat → Nat} {kd : Nat → Nat} {E : Nat → Nat → Prop} {F : Nat → Nat → Nat → Prop}
variable {u v : Nat} {t0 sk0 : Nat → Int32} {p0 : Nat → Nat} {k0 : Nat} {t pr sk qu : Nat → Int32} {ph : Nat → Nat} {k dd : Nat}
theorem cz_un_id {lo hi c : Nat} (e : ph c = c) (h : c ≠ hi) : cz_un ph lo hi c = c := by
  unfold cz_un
  rw [e, if_neg h]
theorem cz_un_fix {lo hi c : Nat} (hl : lo < hi) (e1 : ph lo = lo) (e : cz_un ph lo hi c = c) : ph c = c := by
  unfold cz_un at e
  by_cases h : ph c = hi
  · rw [if_pos h] at e
    subst e
    omega
  · rw [if_neg h] at e
    exact e
theorem cz_ic_un (hcl : cz_cl n nw wl g kd E F) (h : cz_ic A n E F t0 sk0 p0 k0 t pr sk qu ph k dd) {lo hi : Nat} (hl : lo < hi) (hh : hi < n) (e1 : ph lo = lo) (e2 : ph hi = hi) (hE : E hi lo) :
    cz_ic A n E F t0 sk0 p0 k0 t (upd pr hi (nI lo)) sk (upd qu dd (nI hi)) (cz_un ph lo hi) k (dd + 1) := by
  obtain ⟨i1, i2, i3, i4, i5, i6, i7, i8, i9, i10, i11⟩ := h
  refine ⟨i1, cz_un_ph i2 hl hh e1 e2, i3, ?_, i5, i6, ?_, ?_, i9, ?_, ?_⟩
  · intro c hc
    unfold cz_un
    by_cases e : ph c = hi
    · rw [if_pos e]
      exact hcl.2.2.1 _ _ _ (e ▸ i4 c hc) hE
    · rw [if_neg e]
      exact i4 c hc
  · intro c hc
    unfold cz_un
    rw [i7 c hc]
  · exact fun c hc e => i8 c hc (cz_un_fix hl e1 e)
  · intro i hi'
    by_cases e : i = dd
    · subst e
      refine ⟨hi, hh, pk_us, ?_⟩
      unfold cz_un
      rw [if_pos e2]
      omega
    · obtain ⟨c, hc, h2, h3⟩ := i10 i (by omega)
      exact ⟨c, hc, by rw [pk_un e]; exact h2, fun e4 => h3 (cz_un_fix hl e1 e4)⟩
  · rw [cz_un_dc hl hh e1 e2]
    omega
theorem cz_st_un {x b d lo hi c1 d1 : Nat} (hl : lo < hi) (hh : hi < n) (e1 : ph lo = lo) (e2 : ph hi = hi) (he : cz_e t c1 x d1) (z1 : cz_un ph lo hi c1 = cz_un ph lo hi b) (z2 : cz_un ph lo hi d1 = cz_un ph lo hi d) :
    cz_st n x b d t qu ph k dd t (upd qu dd (nI hi)) (cz_un ph lo hi) k (dd + 1) := by
  refine ⟨fun c y e h => h, fun a b h => ?_, ⟨c1, d1, he, z1, z2⟩, fun c y e h => Or.inl h, by omega, fun i hi' => pk_un (by omega), ?_, fun c _ e => cz_un_fix hl e1 e, ?_⟩
  · unfold cz_un
    rw [h]
  · intro c hc e
    by_cases e4 : c = hi
    · exact Or.inr ⟨dd, by omega, by omega, by rw [pk_us, e4]⟩
    · exact Or.inl (cz_un_id e e4)
  · rw [cz_un_dc hl hh e1 e2]
    omega
theorem cz_st_no {x b d c1 d1 : Nat} (he : cz_e t c1 x d1) (z1 : ph c1 = ph b) (z2 : ph d1 = ph d) : cz_st n x b d t qu ph k dd t qu ph k dd :=
  ⟨fun c y e h => h, fun a b h => h, ⟨c1, d1, he, z1, z2⟩, fun c y e h => Or.inl h, Nat.le_refl dd, fun i _ => rfl, fun c _ h => Or.inl h, fun c _ h => h, rfl⟩
theorem cz_ic_jt (hA : cz_A A) (hn : n ≤ 32) (hcl : cz_cl n nw wl g kd E F) (h : cz_ic A n E F t0 sk0 p0 k0 t pr sk qu ph k dd) {p x q : Nat} (hp : p < n) (hx : x < A) (hq : q < n) (h1 : t (p * 6 + x) = -1) (h2 : t (q * 6 + cz_iv x) = -1) (hF : F p x q) :
    cz_ic A n E F t0 sk0 p0 k0 (cz_jt t p x q) pr (upd sk k (nI (p * 6 + x))) qu ph (k + 1) dd := by
  obtain ⟨i1, i2, i3, i4, i5, i6, i7, i8, i9, i10, i11⟩ := h
  have hA6 := cz_A6 hA
  have hx6 : x < 6 := by omega
  refine ⟨cz_jt_tw hA hn i1 hp hx hq h1 h2, i2, ?_, i4, ?_, by omega, i7, i8, ?_, i10, i11⟩
  · intro c y d he
    rcases (cz_jt_e (by omega) hx6 (by omega) h1 h2).mp he with he | ⟨rfl, rfl, rfl⟩ | ⟨rfl, rfl, rfl⟩
    · exact i3 _ _ _ he
    · exact hF
    · exact hcl.2.2.2.2.2.1 _ _ _ hF
  · intro c y d ⟨he, n1, n2⟩
    have m1 : ¬ cz_pd sk k c y := fun ⟨i, hi, e⟩ => n1 ⟨i, by omega, by rw [pk_un (by omega)]; exact e⟩
    have m2 : ¬ cz_pd sk k d (cz_iv y) := fun ⟨i, hi, e⟩ => n2 ⟨i, by omega, by rw [pk_un (by omega)]; exact e⟩
    rcases (cz_jt_e (by omega) hx6 (by omega) h1 h2).mp he with he | ⟨rfl, rfl, rfl⟩ | ⟨rfl, rfl, rfl⟩
    · exact i5 _ _ _ ⟨he, m1, m2⟩
    · exact absurd ⟨k, by omega, pk_us⟩ n1
    · refine absurd ⟨k, by omega, ?_⟩ n2
      rw [cz_iv_iv]
      exact pk_us
  · intro i hi
    by_cases e : i = k
    · subst e
      exact ⟨p, x, hp, hx, pk_us⟩
    · rw [pk_un e]
      exact i9 i (by omega)
theorem cz_st_jt {b d p x q : Nat} (hp : p < 32) (hx : x < 6) (hq : q < 32) (h1 : t (p * 6 + x) = -1) (h2 : t (q * 6 + cz_iv x) = -1) (e1 : ph p = p) (e2 : ph q = q) (z1 : ph p = ph b) (z2 : ph q = ph d) :
    cz_st n x b d t qu ph k dd (cz_jt t p x q) qu ph (k + 1) dd := by
  refine ⟨fun c y e h => (cz_jt_e hp hx hq h1 h2).mpr (Or.inl h), fun a b h => h, ⟨p, q, (cz_jt_e hp hx hq h1 h2).mpr (Or.inr (Or.inl ⟨rfl, rfl, rfl⟩)), z1, z2⟩, ?_, Nat.le_refl dd, fun i _ => rfl, fun c _ h => Or.inl h, fun c _ h => h, ?_⟩
  · intro c y e h
    rcases (cz_jt_e hp hx hq h1 h2).mp h with h | ⟨rfl, rfl, rfl⟩ | ⟨rfl, rfl, rfl⟩
    · exact Or.inl h
    · exact Or.inr ⟨e1, e2⟩
    · exact Or.inr ⟨e2, e1⟩
  · rw [cz_jt_tc hp hx hq h1 h2]
    omega
/-- an edge taken out -/
theorem cz_ic_rt (hA : cz_A A) (hn : n ≤ 32) (h : cz_ic A n E F t0 sk0 p0 k0 t pr sk qu ph k dd) {b x d : Nat} (he : cz_e t b x d) :
    cz_ic A n E F t0 sk0 p0 k0 (cz_rt t b x d) pr sk qu ph k dd := by
  obtain ⟨i1, i2, i3, i4, i5, i6, i7, i8, i9, i10, i11⟩ := h
  refine ⟨cz_rt_tw hA hn i1 he, i2, ?_, i4, ?_, i6, i7, i8, i9, i10, i11⟩
  · exact fun c y e h => i3 _ _ _ ((cz_rt_e he.2.1).mp h).1
  · exact fun c y e h => i5 _ _ _ ⟨((cz_rt_e he.2.1).mp h.1).1, h.2⟩
/-- ends of edges live, or wait in the queue from h on -/
def cz_ep (t qu : Nat → Int32) (ph : Nat → Nat) (h dd : Nat) : Prop := ∀ c x d, cz_e t c x d → ph c = c ∨ ∃ i, h ≤ i ∧ i < dd ∧ qu i = nI c
/-- every first edge is represented -/
def cz_rp (t0 t : Nat → Int32) (ph : Nat → Nat) (u v : Nat) : Prop := (∀ c x d, cz_e t0 c x d → ∃ c' d', cz_e t c' x d' ∧ ph c' = ph c ∧ ph d' = ph d) ∧ ph u = ph v
/-- within moveRow of b = queue h, at column x -/
def cz_mr (A n K u v : Nat) (E : Nat → Nat → Prop) (F : Nat → Nat → Nat → Prop) (t0 sk0 : Nat → Int32) (p0 : Nat → Nat) (k0 h b x : Nat) (t pr sk qu : Nat → Int32) (ph : Nat → Nat) (k dd : Nat) : Prop :=
  cz_ic A n E F t0 sk0 p0 k0 t pr sk qu ph k dd ∧ cz_ep t qu ph h dd ∧ cz_rp t0 t ph u v ∧ (h < dd ∧ b < n ∧ qu h = nI b) ∧ (∀ y, y < x → t (b * 6 + y) = -1) ∧
  2 * (K + k) + 12 * dd + 2 * (6 - x) ≤ cz_tc t + 12 * cz_dc n ph + 12 * (h + 1)
theorem cz_mr_k {K h b x : Nat} (hn0 : 0 < n) (hn : n ≤ 32) (hm : cz_mr A n K u v E F t0 sk0 p0 k0 h b x t pr sk qu ph k dd) : k < 512 ∧ dd < 32 := by
  obtain ⟨i, _, _, h1, _, h2⟩ := hm
  have h3 := cz_tc_le t
  have h4 := cz_dc_le i.2.1 hn0
  have h5 := i.2.2.2.2.2.2.2.2.2.2
  omega
theorem cz_mr_root {K h b x : Nat} (hn : n ≤ 32) (hm : cz_mr A n K u v E F t0 sk0 p0 k0 h b x t pr sk qu ph k dd) : ph b ≠ b := by
  obtain ⟨i, _, _, ⟨h1, h2, h3⟩, _⟩ := hm
  obtain ⟨c, hc, e, h4⟩ := i.2.2.2.2.2.2.2.2.2.1 h h1
  have e2 : c = b := (nI_eq (by omega) (by omega)).mp (e.symm.trans h3)
  subst e2
  exact h4
theorem cz_mr_skip {K h b x : Nat} (hx : x < 6) (hm : cz_mr A n K u v E F t0 sk0 p0 k0 h b x t pr sk qu ph k dd) (e : t (b * 6 + x) = -1) : cz_mr A n K u v E F t0 sk0 p0 k0 h b (x + 1) t pr sk qu ph k dd := by
  obtain ⟨i, i2, i3, i4, i5, i6⟩ := hm
  refine ⟨i, i2, i3, i4, fun y hy => ?_, by omega⟩
  by_cases e2 : y = x
  · rw [e2]
    exact e
  · exact i5 y (by omega)
theorem cz_mr_step {K h b x d : Nat} {t' pr' sk' qu' : Nat → Int32} {ph' : Nat → Nat} {k' dd' : Nat} (hA : cz_A A) (hn : n ≤ 32) (hx : x < A)
    (hm : cz_mr A n K u v E F t0 sk0 p0 k0 h b x t pr sk qu ph k dd) (he : cz_e t b x d)
    (hi : cz_ic A n E F t0 sk0 p0 k0 t' pr' sk' qu' ph' k' dd') (hs : cz_st n x b d (cz_rt t b x d) qu ph k dd t' qu' ph' k' dd') : cz_mr A n K u v E F t0 sk0 p0 k0 h b (x + 1) t' pr' sk' qu' ph' k' dd' := by
  have hroot := cz_mr_root hn hm
  obtain ⟨i, i2, i3, ⟨i4, i4b, i4c⟩, i5, i6⟩ := hm
  obtain ⟨s1, s2, ⟨c1, d1, s3, s4, s5⟩, s6, s7, s8, s9, s10, s11⟩ := hs
  have hx6 := he.2.1
  have htc := cz_rt_tc hn i.1 he
  refine ⟨hi, ?_, ?_, ⟨by omega, i4b, by rw [s8 h i4]; exact i4c⟩, ?_, by omega⟩
  · intro c y e h1
    rcases s6 _ _ _ h1 with h2 | h2
    · have h3 := ((cz_rt_e hx6).mp h2).1
      have h4 := (cz_e_in hn i.1 h3).1
      rcases i2 _ _ _ h3 with h5 | ⟨j, j1, j2, j3⟩
      · rcases s9 c h4 h5 with h6 | ⟨j, j1, j2, j3⟩
        · exact Or.inl h6
        · exact Or.inr ⟨j, by omega, j2, j3⟩
      · exact Or.inr ⟨j, j1, by omega, by rw [s8 j j2]; exact j3⟩
    · exact Or.inl h2.1
  · refine ⟨?_, s2 _ _ i3.2⟩
    intro c y e h1
    obtain ⟨c', d', h2, h3, h4⟩ := i3.1 _ _ _ h1
    by_cases z1 : c' = b ∧ y = x
    · obtain ⟨rfl, rfl⟩ := z1
      have e1 := cz_e_det t _ _ _ _ h2 he
      subst e1
      exact ⟨c1, d1, s3, s4.trans (s2 _ _ h3), s5.trans (s2 _ _ h4)⟩
    · by_cases z2 : c' = d ∧ y = cz_iv x
      · obtain ⟨rfl, rfl⟩ := z2
        have e1 := cz_e_det t _ _ _ _ h2 (cz_e_sym hn i.1 _ _ _ he)
        subst e1
        exact ⟨d1, c1, cz_e_sym hn hi.1 _ _ _ s3, s5.trans (s2 _ _ h3), s4.trans (s2 _ _ h4)⟩
      · exact ⟨c', d', s1 _ _ _ ((cz_rt_e hx6).mpr ⟨h2, z1, z2⟩), s2 _ _ h3, s2 _ _ h4⟩
  · intro y hy
    have hb32 : b < 32 := by omega
    have hA6 := cz_A6 hA
    rcases cz_read hn hi.1 (c := b) (x := y) hb32 (by omega) with h1 | ⟨d2, _, _, h1⟩
    · exact h1
    · exfalso
      rcases s6 _ _ _ h1 with h2 | h2
      · have h3 := (cz_rt_e hx6).mp h2
        by_cases e : y = x
        · exact h3.2.1 ⟨rfl, e⟩
        · exact cz_none (i5 y (by omega)) d2 h3.1
      · exact hroot (s10 b i4b h2.1)
/-- at the heads of identify's loop -/
def cz_il (A n K u v : Nat) (E : Nat → Nat → Prop) (F : Nat → Nat → Nat → Prop) (t0 sk0 : Nat → Int32) (p0 : Nat → Nat) (k0 h : Nat) (t pr sk qu : Nat → Int32) (ph : Nat → Nat) (k dd : Nat) : Prop :=
  cz_ic A n E F t0 sk0 p0 k0 t pr sk qu ph k dd ∧ cz_ep t qu ph h dd ∧ cz_rp t0 t ph u v ∧ h ≤ dd ∧ 2 * (K + k) + 12 * dd ≤ cz_tc t + 12 * cz_dc n ph + 12 * h
theorem cz_il_mr {K h : Nat} (hm : cz_il A n K u v E F t0 sk0 p0 k0 h t pr sk qu ph k dd) (hd : h < dd) : ∃ b, b < n ∧ qu h = nI b ∧ cz_mr A n K u v E F t0 sk0 p0 k0 h b 0 t pr sk qu ph k dd := by
  obtain ⟨i, i2, i3, i4, i5⟩ := hm
  obtain ⟨b, hb, e, h4⟩ := i.2.2.2.2.2.2.2.2.2.1 h hd
  exact ⟨b, hb, e, i, i2, i3, ⟨hd, hb, e⟩, fun y hy => absurd hy (Nat.not_lt_zero y), by omega⟩
theorem cz_mr_il {K h b : Nat} (hA : cz_A A) (hn : n ≤ 32) (hm : cz_mr A n K u v E F t0 sk0 p0 k0 h b A t pr sk qu ph k dd) : cz_il A n K u v E F t0 sk0 p0 k0 (h + 1) t pr sk qu ph k dd := by
  obtain ⟨i, i2, i3, ⟨i4, i4b, i4c⟩, i5, i6⟩ := hm
  refine ⟨i, ?_, i3, i4, by omega⟩
  intro c x d he
  rcases i2 c x d he with h1 | ⟨j, j1, j2, j3⟩
  · exact Or.inl h1
  · by_cases e : j = h
    · subst e
      have e2 : b = c := (nI_eq (by omega) (by have := he.1; omega)).mp (i4c.symm.trans j3)
      subst e2
      exact absurd he (cz_none (i5 x (cz_e_in hn i.1 he).2.1) d)
    · exact Or.inr ⟨j, by omega, j2, j3⟩
theorem cz_il_end {K h : Nat} (hn : n ≤ 32) (hm : cz_il A n K u v E F t0 sk0 p0 k0 h t pr sk qu ph k dd) (hd : dd ≤ h) : cz_xs A n K E F t pr sk ph k ∧ cz_tr n t0 sk0 p0 k0 t sk ph k ∧ ph u = ph v := by
  obtain ⟨⟨i1, i2, i3, i4, i5, i6, i7, i8, i9, i10, i11⟩, j2, j3, j4, j5⟩ := hm
  have hl : ∀ c x d, cz_e t c x d → ph c = c := by
    intro c x d he
    rcases j2 c x d he with h1 | ⟨j, h1, h2, _⟩
    · exact h1
    · omega
  have lv : cz_lv t ph := fun c x d he => ⟨hl _ _ _ he, hl _ _ _ (cz_e_sym hn i1 _ _ _ he)⟩
  refine ⟨⟨i1, i2, lv, i3, i4, by omega, i9⟩, ⟨?_, i7, i8, i5, i6⟩, j3.2⟩
  intro c x d he
  obtain ⟨c', d', h1, h2, h3⟩ := j3.1 _ _ _ he
  rw [← h2, ← h3, (lv _ _ _ h1).1, (lv _ _ _ h1).2]
  exact h1
theorem cz_il_0 {K : Nat} (hx : cz_xs A n K E F t pr sk ph k) (huv : ph u = ph v) : cz_il A n K u v E F t sk ph k 0 t pr sk qu ph k 0 := by
  obtain ⟨i1, i2, i3, i4, i5, i6, i7⟩ := hx
  refine ⟨⟨i1, i2, i4, i5, fun c x d h => h, Nat.le_refl k, fun c hc => cz_ph_id i2 c hc, fun c _ h => h, i7, fun i hi => absurd hi (Nat.not_lt_zero i), Nat.zero_add _⟩, fun c x d h => Or.inl (i3 c x d h).1, ⟨fun c x d h => ⟨c, d, h, rfl, rfl⟩, huv⟩, Nat.le_refl 0, by omega⟩
theorem cz_il_un {K lo hi : Nat} (hcl : cz_cl n nw wl g kd E F) (hx : cz_xs A n K E F t pr sk ph k) (hl : lo < hi) (hh : hi < n) (e1 : ph lo = lo) (e2 : ph hi = hi) (hE : E hi lo) (huv : cz_un ph lo hi u = cz_un ph lo hi v) :
    cz_il A n K u v E F t sk ph k 0 t (upd pr hi (nI lo)) sk (upd qu 0 (nI hi)) (cz_un ph lo hi) k 1 := by
  obtain ⟨i, i2, i3, i4, i5⟩ := cz_il_0 (u := u) (v := u) (qu := qu) hx rfl
  refine ⟨cz_ic_un hcl i hl hh e1 e2 hE, ?_, ?_, by omega, ?_⟩
  · intro c x d he
    have h1 := (hx.2.2.1 c x d he).1
    by_cases e : c = hi
    · exact Or.inr ⟨0, by omega, by omega, by rw [pk_us, e]⟩
    · exact Or.inl (cz_un_id h1 e)
  · exact ⟨fun c x d h => ⟨c, d, h, rfl, rfl⟩, huv⟩
  · rw [cz_un_dc hl hh e1 e2]
    omega
end
end
section
/-! transfer, moveRow, identify -/
section
variable {al mo cl wo nn de to sl : Int32} {cu sr sa kn tb fr pr qu sk sw od lb fm bb dp : Nat → Int32}
variable {A n nw K : Nat} {wl : Nat → Nat} {g : Nat → Nat → Nat} {kd : Nat → Nat} {E : Nat → Nat → Prop} {F : Nat → Nat → Nat → Prop}
variable {u v : Nat} {t0 sk0 : Nat → Int32} {p0 : Nat → Nat} {k0 : Nat} {ph : Nat → Nat} {k dd : Nat}
theorem cz_un_eq {lo hi a b : Nat} (hl : lo < hi) (h : (lo = ph a ∧ hi = ph b) ∨ (lo = ph b ∧ hi = ph a)) : cz_un ph lo hi a = cz_un ph lo hi b := by
  unfold cz_un
  rcases h with ⟨e1, e2⟩ | ⟨e1, e2⟩
  · rw [if_neg (by omega), if_pos e2.symm, e1]
  · rw [if_pos e2.symm, if_neg (by omega), e1]
theorem cz_un_cg {lo hi a b : Nat} (h : ph a = ph b) : cz_un ph lo hi a = cz_un ph lo hi b := by
  unfold cz_un
  rw [h]
theorem cz_un_E (hcl : cz_cl n nw wl g kd E F) {lo hi a b : Nat} (hE : E a b) (h1 : E a (ph a)) (h2 : E b (ph b)) (h : (lo = ph a ∧ hi = ph b) ∨ (lo = ph b ∧ hi = ph a)) : E hi lo := by
  have h3 : E (ph a) (ph b) := hcl.2.2.1 _ _ _ (hcl.2.1 _ _ h1) (hcl.2.2.1 _ _ _ hE h2)
  rcases h with ⟨e1, e2⟩ | ⟨e1, e2⟩
  · rw [e1, e2]
    exact hcl.2.1 _ _ h3
  · rw [e1, e2]
    exact h3
theorem cx_transfer (hA : cz_A A) (hn : n ≤ 32) (hcl : cz_cl n nw wl g kd E F) (hic : cz_ic A n E F t0 sk0 p0 k0 tb pr sk qu ph k dd) {b x d : Nat} (hb : b < n) (hx : x < A) (hd : d < n) (hF : F b x d) (hk : k < 512) (hdd : dd < 32) {post : SX → Prop}
    (h : ∀ tb' pr' sk' qu' ph' k' dd', cz_ic A n E F t0 sk0 p0 k0 tb' pr' sk' qu' ph' k' dd' → cz_st n x b d tb qu ph k dd tb' qu' ph' k' dd' → post (al, mo, cl, wo, nn, nI dd', nI k', sl, cu, sr, sa, kn, tb', fr, pr', qu', sk', sw, od, lb, fm, bb, dp)) :
    wpX_transfer post (al, mo, cl, wo, nn, nI dd, nI k, sl, cu, sr, sa, kn, tb, fr, pr, qu, sk, sw, od, lb, fm, bb, dp) (nI b) (nI x) (nI d) := by
  have hA6 := cz_A6 hA
  have hx6 : x < 6 := by omega
  have h6 := (cz_iv6 x hx6).1
  have tw := hic.1
  have i2 := hic.2.1
  have i3 := hic.2.2.1
  have i4 := hic.2.2.2.1
  have lp := cz_ph_lt i2 hb
  have lq := cz_ph_lt i2 hd
  have ip := cz_ph_id i2 b hb
  have iq := cz_ph_id i2 d hd
  have hF2 : F (ph b) x (ph d) := hcl.2.2.2.2.1 _ _ _ _ (hcl.2.2.2.1 _ _ _ _ hF (i4 b hb)) (i4 d hd)
  have e1 : (nI (ph b) * 6 + nI x).toNatClampNeg = ph b * 6 + x := by rw [cz_ix, nI_clamp (by omega)]
  have e2 : (nI (ph d) * 6 + (nI x ^^^ 1)).toNatClampNeg = ph d * 6 + cz_iv x := by rw [cz_ivN, cz_ix, nI_clamp (by omega)]
  have v1 : vp_in (nI (ph b) * 6 + nI x) 192 := by rw [cz_ix]; exact vp_in_nI (by omega) (by omega)
  have v2 : vp_in (nI (ph d) * 6 + (nI x ^^^ 1)) 192 := by rw [cz_ivN, cz_ix]; exact vp_in_nI (by omega) (by omega)
  unfold wpX_transfer
  refine cx_find i2 hn hb ?_
  refine cx_find i2 hn hd ?_
  refine And.intro v1 (nm_r (congrArg tb e1) (And.intro v2 (nm_r (congrArg tb e2) ?_)))
  rcases cz_read hn tw (c := ph b) (x := x) (by omega) hx6 with m1 | ⟨ah, hah, r1, e1⟩
  · rw [m1]
    refine br_t cz_m1neg ?_
    rcases cz_read hn tw (c := ph d) (x := cz_iv x) (by omega) h6 with m2 | ⟨be, hbe, r2, e2⟩
    · rw [m2]
      refine br_t cz_m1neg ?_
      exact cx_join (by omega) hx6 (by omega) hk (h _ _ _ _ _ _ _ (cz_ic_jt hA hn hcl hic lp hx lq m1 m2 hF2) (cz_st_jt (by omega) hx6 (by omega) m1 m2 ip iq ip iq))
    · rw [r2]
      refine br_f (nI_pos (by omega)) ?_
      have e3 := cz_e_sym hn tw _ _ _ e2
      rw [cz_iv_iv] at e3
      have hE : E (ph b) be := by
        have h1 := hcl.2.2.2.2.2.1 _ _ _ hF2
        exact hcl.2.2.2.2.2.2.1 _ _ _ _ h1 (i3 _ _ _ e2)
      refine cx_unify i2 hn lp hbe hdd (fun e => ?_) (fun lo hi q1 q2 q3 q4 q5 => ?_)
      · exact h _ _ _ _ _ _ _ hic (cz_st_no e3 (e.symm.trans ip) iq)
      · exact h _ _ _ _ _ _ _ (cz_ic_un hcl hic q1 q2 q3 q4 (cz_un_E hcl hE (i4 _ lp) (i4 _ hbe) q5)) (cz_st_un q1 q2 q3 q4 e3 ((cz_un_eq q1 q5).symm.trans (cz_un_cg ip)) (cz_un_cg iq))
  · rw [r1]
    refine br_f (nI_pos (by omega)) ?_
    have hE : E (ph d) ah := hcl.2.2.2.2.2.2.1 _ _ _ _ hF2 (i3 _ _ _ e1)
    refine cx_unify i2 hn lq hah hdd (fun e => ?_) (fun lo hi q1 q2 q3 q4 q5 => ?_)
    · exact h _ _ _ _ _ _ _ hic (cz_st_no e1 ip (e.symm.trans iq))
    · exact h _ _ _ _ _ _ _ (cz_ic_un hcl hic q1 q2 q3 q4 (cz_un_E hcl hE (i4 _ lq) (i4 _ hah) q5)) (cz_st_un q1 q2 q3 q4 e1 (cz_un_cg ip) ((cz_un_eq q1 q5).symm.trans (cz_un_cg iq)))
theorem cx_moveRow2 (hA : cz_A A) (hn0 : 0 < n) (hn : n ≤ 32) (hcl : cz_cl n nw wl g kd E F) {b h0 : Nat} {post : SX → Prop}
    (hp : ∀ tb' pr' sk' qu' ph' k' dd', cz_mr A n K u v E F t0 sk0 p0 k0 h0 b A tb' pr' sk' qu' ph' k' dd' → post (nI A, mo, cl, wo, nn, nI dd', nI k', sl, cu, sr, sa, kn, tb', fr, pr', qu', sk', sw, od, lb, fm, bb, dp)) :
    ∀ N x tb pr sk qu ph k dd, A - x < N → x ≤ A → cz_mr A n K u v E F t0 sk0 p0 k0 h0 b x tb pr sk qu ph k dd → wX_moveRow_2 post (nI b) N (nI x) (nI A) mo cl wo nn (nI dd) (nI k) sl cu sr sa kn tb fr pr qu sk sw od lb fm bb dp := by
  have hA6 := cz_A6 hA
  intro N
  induction N with
  | zero => exact fun x tb pr sk qu ph k dd h => absurd h (Nat.not_lt_zero _)
  | succ N ih =>
    intro x tb pr sk qu ph k dd h1 h2 hm
    refine pk_le A x (fun hle => ?_) (fun hlt => ?_)
    · have e : x = A := by omega
      subst e
      exact hp _ _ _ _ _ _ _ hm
    · have hic := hm.1
      have tw := hic.1
      have hb : b < n := hm.2.2.2.1.2.1
      have hx6 : x < 6 := by omega
      have h6 := (cz_iv6 x hx6).1
      have e1 : (nI b * 6 + nI x).toNatClampNeg = b * 6 + x := by rw [cz_ix, nI_clamp (by omega)]
      have v1 : vp_in (nI b * 6 + nI x) 192 := by rw [cz_ix]; exact vp_in_nI (by omega) (by omega)
      refine And.intro v1 (nm_r (congrArg tb e1) ?_)
      rcases cz_read hn tw (c := b) (x := x) (by omega) hx6 with m1 | ⟨d, hd, r1, ee⟩
      · rw [m1]
        exact br_t cz_m1neg (nm_r (nI_1 x) (ih (x + 1) _ _ _ _ _ _ _ (by omega) (by omega) (cz_mr_skip hx6 hm m1)))
      · rw [r1]
        have e2 : (nI d * 6 + (nI x ^^^ 1)).toNatClampNeg = d * 6 + cz_iv x := by rw [cz_ivN, cz_ix, nI_clamp (by omega)]
        have v2 : vp_in (nI d * 6 + (nI x ^^^ 1)) 192 := by rw [cz_ivN, cz_ix]; exact vp_in_nI (by omega) (by omega)
        have hk := cz_mr_k hn0 hn hm
        refine br_f (nI_pos (by omega)) (And.intro v1 (nm_r (congrArg (fun z => upd tb z (-1)) e1) (And.intro v2 (nm_r (congrArg (fun z => upd (upd tb (b * 6 + x) (-1)) z (-1)) e2) ?_))))
        refine cx_transfer (tb := cz_rt tb b x d) hA hn hcl (cz_ic_rt hA hn hic ee) hb hlt hd (hic.2.2.1 _ _ _ ee) hk.1 hk.2 ?_
        intro tb' pr' sk' qu' ph' k' dd' hi hs
        exact nm_r (nI_1 x) (ih (x + 1) _ _ _ _ _ _ _ (by omega) (by omega) (cz_mr_step hA hn hlt hm ee hi hs))
theorem cx_moveRow (hA : cz_A A) (hn0 : 0 < n) (hn : n ≤ 32) (hcl : cz_cl n nw wl g kd E F) {b h0 : Nat} {post : SX → Prop}
    (hm : cz_mr A n K u v E F t0 sk0 p0 k0 h0 b 0 tb pr sk qu ph k dd)
    (hp : ∀ tb' pr' sk' qu' ph' k' dd', cz_mr A n K u v E F t0 sk0 p0 k0 h0 b A tb' pr' sk' qu' ph' k' dd' → post (nI A, mo, cl, wo, nn, nI dd', nI k', sl, cu, sr, sa, kn, tb', fr, pr', qu', sk', sw, od, lb, fm, bb, dp)) :
    wpX_moveRow post (nI A, mo, cl, wo, nn, nI dd, nI k, sl, cu, sr, sa, kn, tb, fr, pr, qu, sk, sw, od, lb, fm, bb, dp) (nI b) :=
  ⟨A + 1, cx_moveRow2 hA hn0 hn hcl hp (A + 1) 0 _ _ _ _ _ _ _ (by omega) (by omega) hm⟩
theorem cx_identify13 (hA : cz_A A) (hn0 : 0 < n) (hn : n ≤ 32) (hcl : cz_cl n nw wl g kd E F) {post : SX → Prop}
    (hp : ∀ tb' pr' sk' qu' ph' k' dd', cz_xs A n K E F tb' pr' sk' ph' k' → cz_tr n t0 sk0 p0 k0 tb' sk' ph' k' → ph' u = ph' v → post (nI A, mo, cl, wo, nn, nI dd', nI k', sl, cu, sr, sa, kn, tb', fr, pr', qu', sk', sw, od, lb, fm, bb, dp)) :
    ∀ N h tb pr sk qu ph k dd, 32 - h < N → cz_il A n K u v E F t0 sk0 p0 k0 h tb pr sk qu ph k dd → wX_identify_13 post N (nI h) (nI A) mo cl wo nn (nI dd) (nI k) sl cu sr sa kn tb fr pr qu sk sw od lb fm bb dp := by
  intro N
  induction N with
  | zero => exact fun h tb pr sk qu ph k dd h => absurd h (Nat.not_lt_zero _)
  | succ N ih =>
    intro h tb pr sk qu ph k dd h1 hm
    have hdd : dd ≤ 31 := by
      have h4 := cz_dc_le hm.1.2.1 hn0
      have h5 := hm.1.2.2.2.2.2.2.2.2.2.2
      omega
    have hh := hm.2.2.2.1
    refine pk_le dd h (fun hle => ?_) (fun hlt => ?_)
    · obtain ⟨j1, j2, j3⟩ := cz_il_end hn hm hle
      exact hp _ _ _ _ _ _ _ j1 j2 j3
    · obtain ⟨b, hb, e, hmr⟩ := cz_il_mr hm hlt
      have e1 : qu (nI h).toNatClampNeg = nI b := by rw [nI_clamp (by omega)]; exact e
      refine br_f (nI_ge (b := 32) (by omega) (by omega)) (And.intro (vp_in_nI (by omega) (by omega)) ?_)
      rw [e1]
      refine cx_moveRow hA hn0 hn hcl hmr ?_
      intro tb' pr' sk' qu' ph' k' dd' hmr'
      exact nm_r (nI_1 h) (ih (h + 1) _ _ _ _ _ _ _ (by omega) (cz_mr_il hA hn hmr'))
theorem cx_identify (hA : cz_A A) (hn0 : 0 < n) (hn : n ≤ 32) (hcl : cz_cl n nw wl g kd E F) {a b : Nat} (ha : a < n) (hb : b < n) (hE : E a b) {post : SX → Prop}
    (hx : cz_xs A n K E F tb pr sk ph k)
    (hp : ∀ tb' pr' sk' qu' ph' k' dd', cz_xs A n K E F tb' pr' sk' ph' k' → cz_tr n tb sk ph k tb' sk' ph' k' → ph' a = ph' b → post (nI A, mo, cl, wo, nn, nI dd', nI k', sl, cu, sr, sa, kn, tb', fr, pr', qu', sk', sw, od, lb, fm, bb, dp)) :
    wpX_identify post (nI A, mo, cl, wo, nn, de, nI k, sl, cu, sr, sa, kn, tb, fr, pr, qu, sk, sw, od, lb, fm, bb, dp) (nI a) (nI b) := by
  unfold wpX_identify
  refine cx_unify (d := 0) hx.2.1 hn ha hb (by omega) (fun e => ?_) (fun lo hi q1 q2 q3 q4 q5 => ?_)
  · exact ⟨33, cx_identify13 hA hn0 hn hcl hp 33 0 _ _ _ _ _ _ 0 (by omega) (cz_il_0 hx e)⟩
  · have hE2 := cz_un_E hcl hE (hx.2.2.2.2.1 a ha) (hx.2.2.2.2.1 b hb) q5
    exact ⟨33, cx_identify13 hA hn0 hn hcl hp 33 0 _ _ _ _ _ _ 1 (by omega) (cz_il_un hcl hx q1 q2 q3 q4 hE2 (cz_un_eq q1 q5))⟩
end
end
section
/-! load and scan -/
def cx_ws (nw : Nat) (wl : Nat → Nat) (g : Nat → Nat → Nat) (kd st : Nat → Nat) (sa sr kn : Nat → Int32) : Prop :=
  nw ≤ 10 ∧ ∀ w, w < nw → sa w = nI (st w) ∧ sa (w + 1) = nI (st (w + 1)) ∧ st (w + 1) = st w + wl w ∧ st (w + 1) ≤ 96 ∧ kn w = nI (kd w) ∧ (kd w = 1 ∨ kd w = 2) ∧ ∀ i, i < wl w → sr (st w + i) = nI (g w i)
section
variable {al mo cl wo nn de to sl : Int32} {cu sr sa kn tb fr pr qu sk sw od lb fm bb dp : Nat → Int32}
variable {A n nw K : Nat} {wl : Nat → Nat} {g : Nat → Nat → Nat} {kd st : Nat → Nat} {E : Nat → Nat → Prop} {F : Nat → Nat → Nat → Prop}
variable {ph : Nat → Nat} {k : Nat}
theorem cx_load22 (hws : cx_ws nw wl g kd st sa sr kn) (hwd : cz_wd A nw wl g) {w tn : Nat} (hw : w < nw) {post : SX → Prop}
    (hp : ∀ sw', (∀ j, j < wl w → sw' j = nI (g w (tn + j))) → post (al, mo, cl, wo, nn, de, to, nI (wl w), cu, sr, sa, kn, tb, fr, pr, qu, sk, sw', od, lb, fm, bb, dp)) :
    ∀ N i pl sw, wl w - i < N → i ≤ wl w → pl < wl w → pl % wl w = (tn + i) % wl w → (∀ j, j < i → sw j = nI (g w (tn + j))) → wX_load_22 post (nI w) (nI (wl w)) al mo cl wo nn de to sl N (nI pl) (nI i) cu sr sa kn tb fr pr qu sk sw od lb fm bb dp := by
  obtain ⟨hnw, hws⟩ := hws
  obtain ⟨w1, w2, w3, w4, w5, w6, w7⟩ := hws w hw
  obtain ⟨l1, l2, l3, l4⟩ := hwd w hw
  intro N
  induction N with
  | zero => exact fun i pl sw h => absurd h (Nat.not_lt_zero _)
  | succ N ih =>
    intro i pl sw h1 h2 h3 h4 h5
    refine pk_le (wl w) i (fun hle => ?_) (fun hlt => ?_)
    · exact hp sw (fun j hj => h5 j (by omega))
    · have c1 : (nI w).toNatClampNeg = w := nI_clamp (by omega)
      have e1 : sa (nI w).toNatClampNeg + nI pl = nI (st w + pl) := by rw [c1, w1, nI_add]
      have v2 : vp_in (sa (nI w).toNatClampNeg + nI pl) 96 := by rw [e1]; exact vp_in_nI (by omega) (by omega)
      have e2 : upd sw (nI i).toNatClampNeg (sr (sa (nI w).toNatClampNeg + nI pl).toNatClampNeg) = upd sw i (nI (g w (tn + i))) := by
        rw [e1, nI_clamp (show st w + pl < 2 ^ 31 by omega), nI_clamp (show i < 2 ^ 31 by omega), w7 pl h3, l4 pl (tn + i) h4]
      have h6 : ∀ j, j < i + 1 → upd sw i (nI (g w (tn + i))) j = nI (g w (tn + j)) := by
        intro j hj
        by_cases e : j = i
        · rw [e, pk_us]
        · rw [pk_un e]
          exact h5 j (by omega)
      have h7 : (pl + 1) % wl w = (tn + (i + 1)) % wl w := by
        rw [← Nat.mod_add_mod, h4, Nat.mod_add_mod, Nat.add_assoc]
      refine And.intro (vp_in_nI (by omega) (by omega)) (And.intro v2 (And.intro (vp_in_nI (by omega) (by omega)) (nm_r e2 (nm_r (nI_1 pl) ?_))))
      refine pk_lt (pl + 1) (wl w) (fun hlt2 => ?_) (fun hge => ?_)
      · exact nm_r (nI_1 i) (ih (i + 1) (pl + 1) _ (by omega) (by omega) hlt2 h7 h6)
      · refine nm_r (nI_1 i) (ih (i + 1) 0 _ (by omega) (by omega) l1 ?_ h6)
        rw [← h7, show pl + 1 = wl w by omega, Nat.mod_self, Nat.zero_mod]
theorem cx_load (hws : cx_ws nw wl g kd st sa sr kn) (hwd : cz_wd A nw wl g) {w tn : Nat} (hw : w < nw) (ht : tn < wl w) {post : SX → Prop}
    (hp : ∀ sw', (∀ j, j < wl w → sw' j = nI (g w (tn + j))) → post (al, mo, cl, wo, nn, de, to, nI (wl w), cu, sr, sa, kn, tb, fr, pr, qu, sk, sw', od, lb, fm, bb, dp)) : wpX_load post (al, mo, cl, wo, nn, de, to, sl, cu, sr, sa, kn, tb, fr, pr, qu, sk, sw, od, lb, fm, bb, dp) (nI w) (nI tn) := by
  obtain ⟨hnw, hws'⟩ := hws
  obtain ⟨w1, w2, w3, w4, w5, w6, w7⟩ := hws' w hw
  have c1 : (nI w).toNatClampNeg = w := nI_clamp (by omega)
  have c2 : (nI w + 1).toNatClampNeg = w + 1 := by rw [nI_1, nI_clamp (by omega)]
  have e1 : sa (nI w + 1).toNatClampNeg - sa (nI w).toNatClampNeg = nI (wl w) := by
    rw [c1, c2, w1, w2, pk_sub (by omega), w3, Nat.add_sub_cancel_left]
  have v1 : vp_in (nI w + 1) 11 := by rw [nI_1]; exact vp_in_nI (by omega) (by omega)
  unfold wpX_load
  exact And.intro v1 (And.intro (vp_in_nI (by omega) (by omega)) (nm_r e1 ⟨wl w + 1, cx_load22 ⟨hnw, hws'⟩ hwd hw hp (wl w + 1) 0 tn _ (by omega) (by omega) ht rfl (fun j hj => absurd hj (Nat.not_lt_zero j))⟩))
theorem cz_xs_jt (hA : cz_A A) (hn : n ≤ 32) (hcl : cz_cl n nw wl g kd E F) {t : Nat → Int32} (hx : cz_xs A n K E F t pr sk ph k) {p x q : Nat} (hp : p < n) (hxA : x < A) (hq : q < n) (h1 : t (p * 6 + x) = -1) (h2 : t (q * 6 + cz_iv x) = -1) (hF : F p x q) (e1 : ph p = p) (e2 : ph q = q) :
    cz_xs A n K E F (cz_jt t p x q) pr (upd sk k (nI (p * 6 + x))) ph (k + 1) ∧ cz_tr n t sk ph k (cz_jt t p x q) (upd sk k (nI (p * 6 + x))) ph (k + 1) := by
  have hA6 := cz_A6 hA
  obtain ⟨i, i2, i3, i4, i5⟩ := cz_il_0 (u := p) (v := p) (qu := pr) hx rfl
  have hj := cz_ic_jt hA hn hcl i hp hxA hq h1 h2 hF
  have hst := cz_st_jt (n := n) (qu := pr) (k := k) (dd := 0) (b := p) (d := q) (show p < 32 by omega) (show x < 6 by omega) (show q < 32 by omega) h1 h2 e1 e2 rfl rfl
  have hil : cz_il A n K p p E F t sk ph k 0 (cz_jt t p x q) pr (upd sk k (nI (p * 6 + x))) pr ph (k + 1) 0 := by
    refine ⟨hj, ?_, ⟨fun c y d h => ⟨c, d, hst.1 _ _ _ h, rfl, rfl⟩, rfl⟩, Nat.le_refl 0, ?_⟩
    · intro c y d h
      rcases hst.2.2.2.1 _ _ _ h with h3 | h3
      · exact Or.inl (hx.2.2.1 _ _ _ h3).1
      · exact Or.inl h3.1
    · have h3 := hst.2.2.2.2.2.2.2.2
      omega
  obtain ⟨j1, j2, _⟩ := cz_il_end hn hil (Nat.le_refl 0)
  exact ⟨j1, j2⟩
theorem cx_scan56 (hA : cz_A A) (hn : n ≤ 32) (tw : cz_tw A n tb) {h : Nat → Nat} {L a c f0 P : Nat} (hL : L ≤ 24) (hlet : ∀ i, h i < A) (hsw : ∀ i, i < L → sw i = nI (h (a + i))) {post : SX → Prop}
    (hk : ∀ b0 Q, cz_bk tb h L a c f0 b0 Q → Q < n → wX_scan_104 post (nI P) (nI f0) (nI Q) (nI b0) al mo cl wo nn de to sl cu sr sa kn tb fr pr qu sk sw od lb fm bb dp) :
    ∀ N b q, b - f0 < N → f0 ≤ b → b ≤ L → q < n → cz_p (cz_e tb) h (L - b) (a + b) q c → wX_scan_56 post (nI P) (nI f0) al mo cl wo nn de to sl cu sr sa kn tb fr pr qu sk sw od lb fm bb dp N (nI q) (nI b) := by
  have hA6 := cz_A6 hA
  intro N
  induction N with
  | zero => exact fun b q h => absurd h (Nat.not_lt_zero _)
  | succ N ih =>
    intro b q h1 h2 h3 h4 h5
    refine pk_le b f0 (fun hle => ?_) (fun hlt => ?_)
    · exact hk b q ⟨h2, h3, h5, Or.inl (by omega)⟩ h4
    · have e0 : nI b - 1 = nI (b - 1) := pk_sub (a := b) (b := 1) (by omega)
      have hl := hlet (a + (b - 1))
      have h6 := (cz_iv6 (h (a + (b - 1))) (by omega)).1
      have e1 : sw (nI b - 1).toNatClampNeg ^^^ 1 = nI (cz_iv (h (a + (b - 1)))) := by
        rw [e0, nI_clamp (by omega), hsw (b - 1) (by omega), cz_ivN]
      have e2 : nI q * 6 + (sw (nI b - 1).toNatClampNeg ^^^ 1) = nI (q * 6 + cz_iv (h (a + (b - 1)))) := by rw [e1, cz_ix]
      have e3 : tb (nI q * 6 + (sw (nI b - 1).toNatClampNeg ^^^ 1)).toNatClampNeg = tb (q * 6 + cz_iv (h (a + (b - 1)))) := by
        rw [e2, nI_clamp (by omega)]
      have v1 : vp_in (nI b - 1) 24 := by rw [e0]; exact vp_in_nI (by omega) (by omega)
      have v2 : vp_in (nI q * 6 + (sw (nI b - 1).toNatClampNeg ^^^ 1)) 192 := by rw [e2]; exact vp_in_nI (by omega) (by omega)
      refine And.intro v1 (And.intro v2 (nm_r e3 ?_))
      rcases cz_read hn tw (c := q) (x := cz_iv (h (a + (b - 1)))) (by omega) h6 with m1 | ⟨d, hd, r1, ee⟩
      · rw [m1]
        refine br_f cz_m1n (hk b q ⟨h2, h3, h5, Or.inr ?_⟩ h4)
        rw [show a + b - 1 = a + (b - 1) by omega]
        exact m1
      · rw [r1]
        refine br_t (nI_pos' (by omega)) (nm_r (sb_m1 (by omega)) (ih (b - 1) d (by omega) (by omega) (by omega) hd ?_))
        have e4 := cz_e_sym hn tw _ _ _ ee
        rw [cz_iv_iv] at e4
        refine cz_p_len (show L - b + 1 = L - (b - 1) by omega) ⟨q, e4, cz_p_at (by omega) h5⟩
theorem cx_scan4 (hA : cz_A A) (hn : n ≤ 32) (tw : cz_tw A n tb) {h : Nat → Nat} {L a c : Nat} (hL : L ≤ 24) (hlet : ∀ i, h i < A) (hsw : ∀ i, i < L → sw i = nI (h (a + i))) {post : SX → Prop}
    (hk : ∀ f0 P, cz_fr tb h L a c f0 P → P < n → ∃ n56, wX_scan_56 post (nI P) (nI f0) al mo cl wo nn de to (nI L) cu sr sa kn tb fr pr qu sk sw od lb fm bb dp n56 (nI c) (nI L)) :
    ∀ N f p, L - f < N → f ≤ L → p < n → cz_p (cz_e tb) h f a c p → wX_scan_4 post (nI c) al mo cl wo nn de to (nI L) cu sr sa kn tb fr pr qu sk sw od lb fm bb dp N (nI p) (nI f) := by
  have hA6 := cz_A6 hA
  intro N
  induction N with
  | zero => exact fun b q h => absurd h (Nat.not_lt_zero _)
  | succ N ih =>
    intro f p h1 h2 h3 h4
    refine pk_le L f (fun hle => ?_) (fun hlt => ?_)
    · exact hk f p ⟨h2, h4, Or.inl (by omega)⟩ h3
    · have hl := hlet (a + f)
      have e1 : sw (nI f).toNatClampNeg = nI (h (a + f)) := by rw [nI_clamp (by omega), hsw f hlt]
      have e2 : nI p * 6 + sw (nI f).toNatClampNeg = nI (p * 6 + h (a + f)) := by rw [e1, cz_ix]
      have e3 : tb (nI p * 6 + sw (nI f).toNatClampNeg).toNatClampNeg = tb (p * 6 + h (a + f)) := by rw [e2, nI_clamp (by omega)]
      have v2 : vp_in (nI p * 6 + sw (nI f).toNatClampNeg) 192 := by rw [e2]; exact vp_in_nI (by omega) (by omega)
      refine And.intro (vp_in_nI (by omega) (by omega)) (And.intro v2 (nm_r e3 ?_))
      rcases cz_read hn tw (c := p) (x := h (a + f)) (by omega) (by omega) with m1 | ⟨d, hd, r1, ee⟩
      · rw [m1]
        exact br_f cz_m1n (hk f p ⟨h2, h4, Or.inr m1⟩ h3)
      · rw [r1]
        exact br_t (nI_pos' (by omega)) (nm_r (nI_1 f) (ih (f + 1) d (by omega) (by omega) hd (cz_p_snoc h4 ee)))
theorem cx_scan (hA : cz_A A) (hn0 : 0 < n) (hn : n ≤ 32) (hcl : cz_cl n nw wl g kd E F) {h : Nat → Nat} {L a c : Nat} (hL0 : 0 < L) (hL : L ≤ 24) (hlet : ∀ i, h i < A) (hsw : ∀ i, i < L → sw i = nI (h (a + i)))
    (hc : c < n) (hlc : ph c = c) (hru : cz_ru F h L a c) (hx : cz_xs A n K E F tb pr sk ph k) {post : SX → Prop}
    (hp : ∀ tb' pr' sk' qu' ph' k' de', cz_xs A n K E F tb' pr' sk' ph' k' → cz_tr n tb sk ph k tb' sk' ph' k' → cz_ok tb' sk' ph' k' h L a c → post (nI A, mo, cl, wo, nn, de', nI k', nI L, cu, sr, sa, kn, tb', fr, pr', qu', sk', sw, od, lb, fm, bb, dp)) :
    wpX_scan post (nI A, mo, cl, wo, nn, de, nI k, nI L, cu, sr, sa, kn, tb, fr, pr, qu, sk, sw, od, lb, fm, bb, dp) (nI c) := by
  have tw := hx.1
  have hk := cz_xs_k hn0 hn hx
  have hA6 := cz_A6 hA
  unfold wpX_scan
  refine ⟨L + 1, cx_scan4 hA hn tw hL hlet hsw ?_ (L + 1) 0 c (by omega) (by omega) hc rfl⟩
  intro f0 P hf hP
  have hlP : ph P = P := (cz_p_dom (P := fun c => ph c = c) hx.2.2.1 hf.2.1).1 hlc
  have hf0 := hf.1
  refine ⟨L + 1, cx_scan56 hA hn tw hL hlet hsw ?_ (L + 1) L c (by omega) hf0 (by omega) hc (cz_p_len (show 0 = L - L by omega) rfl)⟩
  intro b0 Q hb hQ
  have hlQ : ph Q = Q := (cz_p_dom (P := fun c => ph c = c) hx.2.2.1 hb.2.2.1).2 hlc
  have hb0 := hb.1
  have hb1 := hb.2.1
  refine pk_eq b0 f0 (fun e => ?_) (fun ne => ?_)
  · subst e
    have hE : E P Q := cz_ru_id hcl hL0 hru hf0 (cz_p_mono hx.2.2.2.1 hf.2.1) (cz_p_mono hx.2.2.2.1 hb.2.2.1)
    refine cx_identify hA hn0 hn hcl hP hQ hE hx ?_
    intro tb' pr' sk' qu' ph' k' dd' j1 j2 j3
    exact hp _ _ _ _ _ _ _ j1 j2 (cz_scan_id hn tw j1.1 j1.2.2.1 hf hb j2 j3)
  · rw [nI_1]
    refine pk_eq b0 (f0 + 1) (fun e => ?_) (fun ne2 => ?_)
    · subst e
      have hl := hlet (a + f0)
      have e1 : sw (nI f0).toNatClampNeg = nI (h (a + f0)) := by rw [nI_clamp (by omega), hsw f0 (by omega)]
      refine And.intro (vp_in_nI (by omega) (by omega)) ?_
      rw [e1]
      have m1 : tb (P * 6 + h (a + f0)) = -1 := by
        rcases hf.2.2 with e | e
        · omega
        · exact e
      have m2 : tb (Q * 6 + cz_iv (h (a + f0))) = -1 := by
        rcases hb.2.2.2 with e | e
        · omega
        · rw [show a + (f0 + 1) - 1 = a + f0 by omega] at e
          exact e
      have hF : F P (h (a + f0)) Q := by
        refine hru f0 Q P (by omega) ?_ (cz_p_mono hx.2.2.2.1 hf.2.1)
        exact cz_p_at (by omega) (cz_p_len (show L - (f0 + 1) = L - 1 - f0 by omega) (cz_p_mono hx.2.2.2.1 hb.2.2.1))
      obtain ⟨j1, j2⟩ := cz_xs_jt hA hn hcl hx hP hl hQ m1 m2 hF hlP hlQ
      refine cx_join (by omega) (by omega) (by omega) (by omega) (hp _ _ _ _ _ _ _ j1 j2 (cz_scan_join hn tw hf hb j2 ?_))
      exact (cz_jt_e (by omega) (by omega) (by omega) m1 m2).mpr (Or.inr (Or.inl ⟨rfl, rfl, rfl⟩))
    · exact hp _ _ _ _ _ _ _ hx (cz_tr_refl hx.2.2.1 hx.2.1) (cz_scan_none hn tw hf hb (by omega))
end
end
section
/-! followWord, follow, scanSubgroups, scanSingles, the relator's loop -/
def cz_fo (t sk : Nat → Int32) (ph : Nat → Nat) (k : Nat) (g : Nat → Nat) (L c0 x0 d0 j : Nat) : Prop :=
  (g j = x0 → cz_ok t sk ph k g L j c0) ∧ (g j = cz_iv x0 → cz_ok t sk ph k g L j d0)
section
variable {al mo cl wo nn de to sl : Int32} {cu sr sa kn tb fr pr qu sk sw od lb fm bb dp : Nat → Int32}
variable {A n nw K : Nat} {wl : Nat → Nat} {g : Nat → Nat → Nat} {kd st : Nat → Nat} {E : Nat → Nat → Prop} {F : Nat → Nat → Nat → Prop}
variable {ph : Nat → Nat} {k : Nat}
theorem cz_fo_tr {t sk t' sk' : Nat → Int32} {ph ph' : Nat → Nat} {k k' : Nat} {h : Nat → Nat} {L c0 x0 d0 j : Nat} (lv' : cz_lv t' ph') (hc : c0 < n) (hd : d0 < n) (htr : cz_tr n t sk ph k t' sk' ph' k') (hf : cz_fo t sk ph k h L c0 x0 d0 j) : cz_fo t' sk' ph' k' h L c0 x0 d0 j :=
  ⟨fun e => cz_ok_tr lv' htr hc (hf.1 e), fun e => cz_ok_tr lv' htr hd (hf.2 e)⟩
theorem cx_fW20 (hA : cz_A A) (hn0 : 0 < n) (hn : n ≤ 32) (hcl : cz_cl n nw wl g kd E F) (hws : cx_ws nw wl g kd st sa sr kn) (hwd : cz_wd A nw wl g) {w c0 x0 d0 : Nat} (hw : w < nw) (hk : kd w = 1) (hc : c0 < n) (hx0 : x0 < A) (hd : d0 < n) {post : SX → Prop} :
    ∀ N j tb pr sk qu ph k de sl sw, wl w - j < N → j ≤ wl w → cz_xs A n K E F tb pr sk ph k → (∀ i, i < j → cz_fo tb sk ph k (g w) (wl w) c0 x0 d0 i) →
    (∀ tb' pr' sk' qu' ph' k' de' sl' sw', cz_xs A n K E F tb' pr' sk' ph' k' → cz_tr n tb sk ph k tb' sk' ph' k' → (cz_k tb' sk' k' c0 x0 d0 → ∀ i, i < wl w → cz_fo tb' sk' ph' k' (g w) (wl w) c0 x0 d0 i) → post (nI A, mo, cl, wo, nn, de', nI k', sl', cu, sr, sa, kn, tb', fr, pr', qu', sk', sw', od, lb, fm, bb, dp)) →
    wX_followWord_20 post (nI w) (nI c0) (nI x0) (nI d0) (nI (wl w)) N (nI j) (nI A) mo cl wo nn de (nI k) sl cu sr sa kn tb fr pr qu sk sw od lb fm bb dp := by
  have hA6 := cz_A6 hA
  obtain ⟨hnw, hws'⟩ := hws
  obtain ⟨w1, w2, w3, w4, w5, w6, w7⟩ := hws' w hw
  obtain ⟨l1, l2, l3, l4⟩ := hwd w hw
  intro N
  induction N with
  | zero => exact fun j tb pr sk qu ph k de sl sw h => absurd h (Nat.not_lt_zero _)
  | succ N ih =>
    intro j tb pr sk qu ph k de sl sw h1 h2 hx hf hp
    have tw := hx.1
    have hrf : cz_tr n tb sk ph k tb sk ph k := cz_tr_refl hx.2.2.1 hx.2.1
    refine pk_le (wl w) j (fun hle => ?_) (fun hlt => ?_)
    · exact hp _ _ _ _ _ _ _ _ _ hx hrf (fun _ i hi => hf i (by omega))
    · have e1 : (nI c0 * 6 + nI x0).toNatClampNeg = c0 * 6 + x0 := by rw [cz_ix, nI_clamp (by omega)]
      have v1 : vp_in (nI c0 * 6 + nI x0) 192 := by rw [cz_ix]; exact vp_in_nI (by omega) (by omega)
      refine And.intro v1 ?_
      rw [e1]
      refine br_c (fun he => ?_) (fun he => ?_)
      · have hee : cz_e tb c0 x0 d0 := ⟨by omega, by omega, by omega, he⟩
        have hlv := hx.2.2.1 _ _ _ hee
        have c1 : (nI w).toNatClampNeg = w := nI_clamp (by omega)
        have e2 : sa (nI w).toNatClampNeg + nI j = nI (st w + j) := by rw [c1, w1, nI_add]
        have v2 : vp_in (sa (nI w).toNatClampNeg + nI j) 96 := by rw [e2]; exact vp_in_nI (by omega) (by omega)
        have e3 : sr (sa (nI w).toNatClampNeg + nI j).toNatClampNeg = nI (g w j) := by rw [e2, nI_clamp (by omega), w7 j hlt]
        have hg := l3 j
        have hgi := (cz_iv6 x0 (by omega))
        refine And.intro (vp_in_nI (by omega) (by omega)) (And.intro v2 (nm_r e3 ?_))
        refine pk_eq (g w j) x0 (fun e => ?_) (fun ne => ?_)
        · refine cx_load ⟨hnw, hws'⟩ hwd hw hlt ?_
          intro sw' hsw
          refine cx_scan hA hn0 hn hcl l1 l2 l3 hsw hc hlv.1 (cz_ruR hcl hwd hw hk j hc) hx ?_
          intro tb' pr' sk' qu' ph' k' de' j1 j2 j3
          refine nm_r (nI_1 j) (ih (j + 1) _ _ _ _ _ _ _ _ _ (by omega) (by omega) j1 ?_ ?_)
          · intro i hi
            by_cases ei : i = j
            · subst ei
              exact ⟨fun _ => j3, fun e' => absurd (e'.symm.trans e) hgi.2.1⟩
            · exact cz_fo_tr j1.2.2.1 hc hd j2 (hf i (by omega))
          · intro tb2 pr2 sk2 qu2 ph2 k2 de2 sl2 sw2 m1 m2 m3
            exact hp _ _ _ _ _ _ _ _ _ m1 (cz_tr_trans hn tw hx.2.1 j2 m2) m3
        · rw [cz_ivN]
          refine pk_eq (g w j) (cz_iv x0) (fun e => ?_) (fun ne2 => ?_)
          · refine cx_load ⟨hnw, hws'⟩ hwd hw hlt ?_
            intro sw' hsw
            refine cx_scan hA hn0 hn hcl l1 l2 l3 hsw hd hlv.2 (cz_ruR hcl hwd hw hk j hd) hx ?_
            intro tb' pr' sk' qu' ph' k' de' j1 j2 j3
            refine nm_r (nI_1 j) (ih (j + 1) _ _ _ _ _ _ _ _ _ (by omega) (by omega) j1 ?_ ?_)
            · intro i hi
              by_cases ei : i = j
              · subst ei
                exact ⟨fun e' => absurd e' ne, fun _ => j3⟩
              · exact cz_fo_tr j1.2.2.1 hc hd j2 (hf i (by omega))
            · intro tb2 pr2 sk2 qu2 ph2 k2 de2 sl2 sw2 m1 m2 m3
              exact hp _ _ _ _ _ _ _ _ _ m1 (cz_tr_trans hn tw hx.2.1 j2 m2) m3
          · refine nm_r (nI_1 j) (ih (j + 1) _ _ _ _ _ _ _ _ _ (by omega) (by omega) hx ?_ hp)
            intro i hi
            by_cases ei : i = j
            · subst ei
              exact ⟨fun e' => absurd e' ne, fun e' => absurd e' ne2⟩
            · exact hf i (by omega)
      · exact hp _ _ _ _ _ _ _ _ _ hx hrf (fun hkk => absurd hkk.1.2.2.2 he)
theorem cx_followWord (hA : cz_A A) (hn0 : 0 < n) (hn : n ≤ 32) (hcl : cz_cl n nw wl g kd E F) (hws : cx_ws nw wl g kd st sa sr kn) (hwd : cz_wd A nw wl g) {w c0 x0 d0 : Nat} (hw : w < nw) (hk : kd w = 1) (hc : c0 < n) (hx0 : x0 < A) (hd : d0 < n) {post : SX → Prop}
    (hx : cz_xs A n K E F tb pr sk ph k)
    (hp : ∀ tb' pr' sk' qu' ph' k' de' sl' sw', cz_xs A n K E F tb' pr' sk' ph' k' → cz_tr n tb sk ph k tb' sk' ph' k' → (cz_k tb' sk' k' c0 x0 d0 → ∀ i, i < wl w → cz_fo tb' sk' ph' k' (g w) (wl w) c0 x0 d0 i) → post (nI A, mo, cl, wo, nn, de', nI k', sl', cu, sr, sa, kn, tb', fr, pr', qu', sk', sw', od, lb, fm, bb, dp)) :
    wpX_followWord post (nI A, mo, cl, wo, nn, de, nI k, sl, cu, sr, sa, kn, tb, fr, pr, qu, sk, sw, od, lb, fm, bb, dp) (nI w) (nI c0) (nI x0) (nI d0) := by
  obtain ⟨hnw, hws'⟩ := hws
  obtain ⟨w1, w2, w3, w4, w5, w6, w7⟩ := hws' w hw
  have c1 : (nI w).toNatClampNeg = w := nI_clamp (by omega)
  have c2 : (nI w + 1).toNatClampNeg = w + 1 := by rw [nI_1, nI_clamp (by omega)]
  have e1 : sa (nI w + 1).toNatClampNeg - sa (nI w).toNatClampNeg = nI (wl w) := by
    rw [c1, c2, w1, w2, pk_sub (by omega), w3, Nat.add_sub_cancel_left]
  have v1 : vp_in (nI w + 1) 11 := by rw [nI_1]; exact vp_in_nI (by omega) (by omega)
  unfold wpX_followWord
  exact And.intro v1 (And.intro (vp_in_nI (by omega) (by omega)) (nm_r e1 ⟨wl w + 1, cx_fW20 hA hn0 hn hcl ⟨hnw, hws'⟩ hwd hw hk hc hx0 hd (wl w + 1) 0 _ _ _ _ _ _ _ _ _ (by omega) (by omega) hx (fun i hi => absurd hi (Nat.not_lt_zero i)) hp⟩))
theorem cx_fl20 (hA : cz_A A) (hn0 : 0 < n) (hn : n ≤ 32) (hcl : cz_cl n nw wl g kd E F) (hws : cx_ws nw wl g kd st sa sr kn) (hwd : cz_wd A nw wl g) {c0 x0 d0 : Nat} (hc : c0 < n) (hx0 : x0 < A) (hd : d0 < n) {post : SX → Prop} :
    ∀ N w tb pr sk qu ph k de sl sw, nw - w < N → w ≤ nw → cz_xs A n K E F tb pr sk ph k → (∀ v, v < w → kd v = 1 → cz_k tb sk k c0 x0 d0 → ∀ i, i < wl v → cz_fo tb sk ph k (g v) (wl v) c0 x0 d0 i) →
    (∀ tb' pr' sk' qu' ph' k' de' sl' sw', cz_xs A n K E F tb' pr' sk' ph' k' → cz_tr n tb sk ph k tb' sk' ph' k' → (∀ v, v < nw → kd v = 1 → cz_k tb' sk' k' c0 x0 d0 → ∀ i, i < wl v → cz_fo tb' sk' ph' k' (g v) (wl v) c0 x0 d0 i) → post (nI A, mo, cl, nI nw, nn, de', nI k', sl', cu, sr, sa, kn, tb', fr, pr', qu', sk', sw', od, lb, fm, bb, dp)) →
    wX_follow_20 post (nI c0) (nI x0) (nI d0) N (nI w) (nI A) mo cl (nI nw) nn de (nI k) sl cu sr sa kn tb fr pr qu sk sw od lb fm bb dp := by
  have hnw := hws.1
  intro N
  induction N with
  | zero => exact fun w tb pr sk qu ph k de sl sw h => absurd h (Nat.not_lt_zero _)
  | succ N ih =>
    intro w tb pr sk qu ph k de sl sw h1 h2 hx hf hp
    have tw := hx.1
    have hrf : cz_tr n tb sk ph k tb sk ph k := cz_tr_refl hx.2.2.1 hx.2.1
    refine pk_le nw w (fun hle => ?_) (fun hlt => ?_)
    · exact hp _ _ _ _ _ _ _ _ _ hx hrf (fun v hv => hf v (by omega))
    · obtain ⟨w1, w2, w3, w4, w5, w6, w7⟩ := hws.2 w hlt
      have e1 : kn (nI w).toNatClampNeg = nI (kd w) := by rw [nI_clamp (by omega), w5]
      refine And.intro (vp_in_nI (by omega) (by omega)) ?_
      rw [e1]
      refine pk_eq (kd w) 1 (fun e => ?_) (fun ne => ?_)
      · refine cx_followWord hA hn0 hn hcl hws hwd hlt e hc hx0 hd hx ?_
        intro tb' pr' sk' qu' ph' k' de' sl' sw' j1 j2 j3
        refine nm_r (nI_1 w) (ih (w + 1) _ _ _ _ _ _ _ _ _ (by omega) (by omega) j1 ?_ ?_)
        · intro v hv hkv hk i hi
          by_cases ev : v = w
          · subst ev
            exact j3 hk i hi
          · exact cz_fo_tr j1.2.2.1 hc hd j2 (hf v (by omega) hkv (j2.2.2.2.1 _ _ _ hk) i hi)
        · intro tb2 pr2 sk2 qu2 ph2 k2 de2 sl2 sw2 m1 m2 m3
          exact hp _ _ _ _ _ _ _ _ _ m1 (cz_tr_trans hn tw hx.2.1 j2 m2) m3
      · refine nm_r (nI_1 w) (ih (w + 1) _ _ _ _ _ _ _ _ _ (by omega) (by omega) hx ?_ hp)
        intro v hv hkv
        by_cases ev : v = w
        · subst ev
          exact absurd hkv ne
        · exact hf v (by omega) hkv
theorem cx_follow (hA : cz_A A) (hn0 : 0 < n) (hn : n ≤ 32) (hcl : cz_cl n nw wl g kd E F) (hws : cx_ws nw wl g kd st sa sr kn) (hwd : cz_wd A nw wl g) {c0 x0 : Nat} (hc : c0 < n) (hx0 : x0 < A) {post : SX → Prop}
    (hx : cz_xs A n K E F tb pr sk ph k)
    (hp : ∀ tb' pr' sk' qu' ph' k' de' sl' sw', cz_xs A n K E F tb' pr' sk' ph' k' → cz_tr n tb sk ph k tb' sk' ph' k' → (∀ d0, cz_e tb c0 x0 d0 → ∀ v, v < nw → kd v = 1 → cz_k tb' sk' k' c0 x0 d0 → ∀ i, i < wl v → cz_fo tb' sk' ph' k' (g v) (wl v) c0 x0 d0 i) → post (nI A, mo, cl, nI nw, nn, de', nI k', sl', cu, sr, sa, kn, tb', fr, pr', qu', sk', sw', od, lb, fm, bb, dp)) :
    wpX_follow post (nI A, mo, cl, nI nw, nn, de, nI k, sl, cu, sr, sa, kn, tb, fr, pr, qu, sk, sw, od, lb, fm, bb, dp) (nI c0) (nI x0) := by
  have hA6 := cz_A6 hA
  have e1 : (nI c0 * 6 + nI x0).toNatClampNeg = c0 * 6 + x0 := by rw [cz_ix, nI_clamp (by omega)]
  have v1 : vp_in (nI c0 * 6 + nI x0) 192 := by rw [cz_ix]; exact vp_in_nI (by omega) (by omega)
  unfold wpX_follow
  refine And.intro v1 (nm_r (congrArg tb e1) ?_)
  rcases cz_read hn hx.1 (c := c0) (x := x0) (by omega) (by omega) with m1 | ⟨d0, hd, r1, ee⟩
  · rw [m1]
    exact br_f cz_m1n (hp _ _ _ _ _ _ _ _ _ hx (cz_tr_refl hx.2.2.1 hx.2.1) (fun d0 he => absurd he (cz_none m1 d0)))
  · rw [r1]
    refine br_t (nI_pos' (by omega)) ⟨nw + 1, cx_fl20 hA hn0 hn hcl hws hwd hc hx0 hd (nw + 1) 0 _ _ _ _ _ _ _ _ _ (by omega) (by omega) hx (fun v hv => absurd hv (Nat.not_lt_zero v)) ?_⟩
    intro tb' pr' sk' qu' ph' k' de' sl' sw' j1 j2 j3
    refine hp _ _ _ _ _ _ _ _ _ j1 j2 ?_
    intro d1 he
    have e := cz_e_det tb _ _ _ _ he ee
    subst e
    exact j3
theorem cx_sS2 (hA : cz_A A) (hn0 : 0 < n) (hn : n ≤ 32) (hcl : cz_cl n nw wl g kd E F) (hws : cx_ws nw wl g kd st sa sr kn) (hwd : cz_wd A nw wl g) {post : SX → Prop} :
    ∀ N w tb pr sk qu ph k de sl sw, nw - w < N → w ≤ nw → cz_xs A n K E F tb pr sk ph k → (∀ v, v < w → kd v = 2 → cz_ok tb sk ph k (g v) (wl v) 0 0) →
    (∀ tb' pr' sk' qu' ph' k' de' sl' sw', cz_xs A n K E F tb' pr' sk' ph' k' → cz_tr n tb sk ph k tb' sk' ph' k' → (∀ v, v < nw → kd v = 2 → cz_ok tb' sk' ph' k' (g v) (wl v) 0 0) → post (nI A, mo, cl, nI nw, nn, de', nI k', sl', cu, sr, sa, kn, tb', fr, pr', qu', sk', sw', od, lb, fm, bb, dp)) →
    wX_scanSubgroups_2 post N (nI w) (nI A) mo cl (nI nw) nn de (nI k) sl cu sr sa kn tb fr pr qu sk sw od lb fm bb dp := by
  have hnw := hws.1
  intro N
  induction N with
  | zero => exact fun w tb pr sk qu ph k de sl sw h => absurd h (Nat.not_lt_zero _)
  | succ N ih =>
    intro w tb pr sk qu ph k de sl sw h1 h2 hx hf hp
    have tw := hx.1
    have hrf : cz_tr n tb sk ph k tb sk ph k := cz_tr_refl hx.2.2.1 hx.2.1
    refine pk_le nw w (fun hle => ?_) (fun hlt => ?_)
    · exact hp _ _ _ _ _ _ _ _ _ hx hrf (fun v hv => hf v (by omega))
    · obtain ⟨w1, w2, w3, w4, w5, w6, w7⟩ := hws.2 w hlt
      obtain ⟨l1, l2, l3, l4⟩ := hwd w hlt
      have e1 : kn (nI w).toNatClampNeg = nI (kd w) := by rw [nI_clamp (by omega), w5]
      refine And.intro (vp_in_nI (by omega) (by omega)) ?_
      rw [e1]
      refine pk_eq (kd w) 2 (fun e => ?_) (fun ne => ?_)
      · refine cx_load (tn := 0) hws hwd hlt l1 ?_
        intro sw' hsw
        refine cx_scan (c := 0) hA hn0 hn hcl l1 l2 l3 hsw hn0 (cz_ph_0 hx.2.1 hn0) (cz_ruS hcl hn0 hlt) hx ?_
        intro tb' pr' sk' qu' ph' k' de' j1 j2 j3
        refine nm_r (nI_1 w) (ih (w + 1) _ _ _ _ _ _ _ _ _ (by omega) (by omega) j1 ?_ ?_)
        · intro v hv hkv
          by_cases ev : v = w
          · subst ev
            exact j3
          · exact cz_ok_tr j1.2.2.1 j2 hn0 (hf v (by omega) hkv)
        · intro tb2 pr2 sk2 qu2 ph2 k2 de2 sl2 sw2 m1 m2 m3
          exact hp _ _ _ _ _ _ _ _ _ m1 (cz_tr_trans hn tw hx.2.1 j2 m2) m3
      · refine nm_r (nI_1 w) (ih (w + 1) _ _ _ _ _ _ _ _ _ (by omega) (by omega) hx ?_ hp)
        intro v hv hkv
        by_cases ev : v = w
        · subst ev
          exact absurd hkv ne
        · exact hf v (by omega) hkv
theorem cx_scanSub (hA : cz_A A) (hn0 : 0 < n) (hn : n ≤ 32) (hcl : cz_cl n nw wl g kd E F) (hws : cx_ws nw wl g kd st sa sr kn) (hwd : cz_wd A nw wl g) {post : SX → Prop}
    (hx : cz_xs A n K E F tb pr sk ph k)
    (hp : ∀ tb' pr' sk' qu' ph' k' de' sl' sw', cz_xs A n K E F tb' pr' sk' ph' k' → cz_tr n tb sk ph k tb' sk' ph' k' → (∀ v, v < nw → kd v = 2 → cz_ok tb' sk' ph' k' (g v) (wl v) 0 0) → post (nI A, mo, cl, nI nw, nn, de', nI k', sl', cu, sr, sa, kn, tb', fr, pr', qu', sk', sw', od, lb, fm, bb, dp)) :
    wpX_scanSubgroups post (nI A, mo, cl, nI nw, nn, de, nI k, sl, cu, sr, sa, kn, tb, fr, pr, qu, sk, sw, od, lb, fm, bb, dp) :=
  ⟨nw + 1, cx_sS2 hA hn0 hn hcl hws hwd (nw + 1) 0 _ _ _ _ _ _ _ _ _ (by omega) (by omega) hx (fun v hv => absurd hv (Nat.not_lt_zero v)) hp⟩
theorem cx_sg2 (hA : cz_A A) (hn0 : 0 < n) (hn : n ≤ 32) (hcl : cz_cl n nw wl g kd E F) (hws : cx_ws nw wl g kd st sa sr kn) (hwd : cz_wd A nw wl g) {c : Nat} (hc : c < n) {post : SX → Prop} :
    ∀ N w tb pr sk qu ph k de sl sw, nw - w < N → w ≤ nw → cz_xs A n K E F tb pr sk ph k → (∀ v, v < w → kd v = 1 → wl v = 1 → cz_ok tb sk ph k (g v) (wl v) 0 c) →
    (∀ tb' pr' sk' qu' ph' k' de' sl' sw', cz_xs A n K E F tb' pr' sk' ph' k' → cz_tr n tb sk ph k tb' sk' ph' k' → (∀ v, v < nw → kd v = 1 → wl v = 1 → cz_ok tb' sk' ph' k' (g v) (wl v) 0 c) → post (nI A, mo, cl, nI nw, nn, de', nI k', sl', cu, sr, sa, kn, tb', fr, pr', qu', sk', sw', od, lb, fm, bb, dp)) →
    wX_scanSingles_2 post (nI c) N (nI w) (nI A) mo cl (nI nw) nn de (nI k) sl cu sr sa kn tb fr pr qu sk sw od lb fm bb dp := by
  have hnw := hws.1
  intro N
  induction N with
  | zero => exact fun w tb pr sk qu ph k de sl sw h => absurd h (Nat.not_lt_zero _)
  | succ N ih =>
    intro w tb pr sk qu ph k de sl sw h1 h2 hx hf hp
    have tw := hx.1
    have hrf : cz_tr n tb sk ph k tb sk ph k := cz_tr_refl hx.2.2.1 hx.2.1
    refine pk_le nw w (fun hle => ?_) (fun hlt => ?_)
    · exact hp _ _ _ _ _ _ _ _ _ hx hrf (fun v hv => hf v (by omega))
    · obtain ⟨w1, w2, w3, w4, w5, w6, w7⟩ := hws.2 w hlt
      obtain ⟨l1, l2, l3, l4⟩ := hwd w hlt
      have e1 : kn (nI w).toNatClampNeg = nI (kd w) := by rw [nI_clamp (by omega), w5]
      have c1 : (nI w).toNatClampNeg = w := nI_clamp (by omega)
      have c2 : (nI w + 1).toNatClampNeg = w + 1 := by rw [nI_1, nI_clamp (by omega)]
      have e2 : sa (nI w + 1).toNatClampNeg - sa (nI w).toNatClampNeg = nI (wl w) := by
        rw [c1, c2, w1, w2, pk_sub (by omega), w3, Nat.add_sub_cancel_left]
      have v1 : vp_in (nI w + 1) 11 := by rw [nI_1]; exact vp_in_nI (by omega) (by omega)
      have hno : (kd w = 1 → wl w = 1 → cz_ok tb sk ph k (g w) (wl w) 0 c) → ∀ v, v < w + 1 → kd v = 1 → wl v = 1 → cz_ok tb sk ph k (g v) (wl v) 0 c := by
        intro hh v hv
        by_cases ev : v = w
        · subst ev
          exact hh
        · exact hf v (by omega)
      refine And.intro (vp_in_nI (by omega) (by omega)) ?_
      rw [e1]
      refine pk_eq (kd w) 1 (fun e => ?_) (fun ne => ?_)
      · refine And.intro v1 (And.intro (vp_in_nI (by omega) (by omega)) ?_)
        rw [e2]
        refine pk_eq (wl w) 1 (fun el => ?_) (fun ne => ?_)
        · have e3 : pr (nI c).toNatClampNeg = pr c := by rw [nI_clamp (by omega)]
          refine And.intro (vp_in_nI (by omega) (by omega)) ?_
          rw [e3]
          refine br_c (fun er => ?_) (fun er => ?_)
          · have hlc : ph c = c := (cz_ph_root hx.2.1 hn hc).mp er
            refine cx_load (tn := 0) hws hwd hlt l1 ?_
            intro sw' hsw
            refine cx_scan hA hn0 hn hcl l1 l2 l3 hsw hc hlc (cz_ruR hcl hwd hlt e 0 hc) hx ?_
            intro tb' pr' sk' qu' ph' k' de' j1 j2 j3
            refine nm_r (nI_1 w) (ih (w + 1) _ _ _ _ _ _ _ _ _ (by omega) (by omega) j1 ?_ ?_)
            · intro v hv hkv hlv
              by_cases ev : v = w
              · subst ev
                exact j3
              · exact cz_ok_tr j1.2.2.1 j2 hc (hf v (by omega) hkv hlv)
            · intro tb2 pr2 sk2 qu2 ph2 k2 de2 sl2 sw2 m1 m2 m3
              exact hp _ _ _ _ _ _ _ _ _ m1 (cz_tr_trans hn tw hx.2.1 j2 m2) m3
          · exact nm_r (nI_1 w) (ih (w + 1) _ _ _ _ _ _ _ _ _ (by omega) (by omega) hx (hno (fun _ _ hh => absurd ((cz_ph_root hx.2.1 hn hc).mpr hh) er)) hp)
        · exact nm_r (nI_1 w) (ih (w + 1) _ _ _ _ _ _ _ _ _ (by omega) (by omega) hx (hno (fun _ hh => absurd hh ne)) hp)
      · exact nm_r (nI_1 w) (ih (w + 1) _ _ _ _ _ _ _ _ _ (by omega) (by omega) hx (hno (fun hh => absurd hh ne)) hp)
theorem cx_scanSin (hA : cz_A A) (hn0 : 0 < n) (hn : n ≤ 32) (hcl : cz_cl n nw wl g kd E F) (hws : cx_ws nw wl g kd st sa sr kn) (hwd : cz_wd A nw wl g) {c : Nat} (hc : c < n) {post : SX → Prop}
    (hx : cz_xs A n K E F tb pr sk ph k)
    (hp : ∀ tb' pr' sk' qu' ph' k' de' sl' sw', cz_xs A n K E F tb' pr' sk' ph' k' → cz_tr n tb sk ph k tb' sk' ph' k' → (∀ v, v < nw → kd v = 1 → wl v = 1 → cz_ok tb' sk' ph' k' (g v) (wl v) 0 c) → post (nI A, mo, cl, nI nw, nn, de', nI k', sl', cu, sr, sa, kn, tb', fr, pr', qu', sk', sw', od, lb, fm, bb, dp)) :
    wpX_scanSingles post (nI A, mo, cl, nI nw, nn, de, nI k, sl, cu, sr, sa, kn, tb, fr, pr, qu, sk, sw, od, lb, fm, bb, dp) (nI c) :=
  ⟨nw + 1, cx_sg2 hA hn0 hn hcl hws hwd hc (nw + 1) 0 _ _ _ _ _ _ _ _ _ (by omega) (by omega) hx (fun v hv => absurd hv (Nat.not_lt_zero v)) hp⟩
theorem cx_rel23 (hA : cz_A A) (hn0 : 0 < n) (hn : n ≤ 32) (hcl : cz_cl n nw wl g kd E F) (hwd : cz_wd A nw wl g) {w : Nat} (hw : w < nw) (hk : kd w = 1) (hsw : ∀ j, j < wl w → sw j = nI (g w (0 + j))) {r : Int32} {post : Int32 → SX → Prop} :
    ∀ N c tb pr sk qu ph k de, n - c < N → c ≤ n → cz_xs A n K E F tb pr sk ph k → (∀ d, d < c → cz_ok tb sk ph k (g w) (wl w) 0 d) →
    (∀ tb' pr' sk' qu' ph' k' de', cz_xs A n K E F tb' pr' sk' ph' k' → cz_tr n tb sk ph k tb' sk' ph' k' → (∀ d, d < n → cz_ok tb' sk' ph' k' (g w) (wl w) 0 d) → wpX_close (fun u => post r u) (nI A, mo, cl, wo, nI n, de', nI k', nI (wl w), cu, sr, sa, kn, tb', fr, pr', qu', sk', sw, od, lb, fm, bb, dp)) →
    wX_relator_23 post r N (nI c) (nI A) mo cl wo (nI n) de (nI k) (nI (wl w)) cu sr sa kn tb fr pr qu sk sw od lb fm bb dp := by
  obtain ⟨l1, l2, l3, l4⟩ := hwd w hw
  intro N
  induction N with
  | zero => exact fun c tb pr sk qu ph k de h => absurd h (Nat.not_lt_zero _)
  | succ N ih =>
    intro c tb pr sk qu ph k de h1 h2 hx hf hp
    have tw := hx.1
    have hrf : cz_tr n tb sk ph k tb sk ph k := cz_tr_refl hx.2.2.1 hx.2.1
    refine pk_le n c (fun hle => ?_) (fun hlt => ?_)
    · exact hp _ _ _ _ _ _ _ hx hrf (fun v hv => hf v (by omega))
    · have e3 : pr (nI c).toNatClampNeg = pr c := by rw [nI_clamp (by omega)]
      refine And.intro (vp_in_nI (by omega) (by omega)) ?_
      rw [e3]
      refine br_c (fun er => ?_) (fun er => ?_)
      · have hlc : ph c = c := (cz_ph_root hx.2.1 hn hlt).mp er
        refine cx_scan hA hn0 hn hcl l1 l2 l3 hsw hlt hlc (cz_ruR hcl hwd hw hk 0 hlt) hx ?_
        intro tb' pr' sk' qu' ph' k' de' j1 j2 j3
        refine nm_r (nI_1 c) (ih (c + 1) _ _ _ _ _ _ _ (by omega) (by omega) j1 ?_ ?_)
        · intro d hd
          by_cases ev : d = c
          · subst ev
            exact j3
          · exact cz_ok_tr j1.2.2.1 j2 (by omega) (hf d (by omega))
        · intro tb2 pr2 sk2 qu2 ph2 k2 de2 m1 m2 m3
          exact hp _ _ _ _ _ _ _ m1 (cz_tr_trans hn tw hx.2.1 j2 m2) m3
      · refine nm_r (nI_1 c) (ih (c + 1) _ _ _ _ _ _ _ (by omega) (by omega) hx ?_ hp)
        intro d hd
        by_cases ev : d = c
        · subst ev
          exact fun hh => absurd ((cz_ph_root hx.2.1 hn hlt).mpr hh) er
        · exact hf d (by omega)
end
end
section
/-! the loop of close -/
def cz_hm (n : Nat) (t : Nat → Int32) (ph : Nat → Nat) (t' : Nat → Int32) (ph' : Nat → Nat) : Prop :=
  (∀ c x d, cz_e t c x d → cz_e t' (ph' c) x (ph' d)) ∧ (∀ c, c < n → ph' (ph c) = ph' c)
section
variable {al mo cl wo nn de to sl : Int32} {cu sr sa kn tb fr pr qu sk sw od lb fm bb dp : Nat → Int32}
variable {A n nw : Nat} {wl : Nat → Nat} {g : Nat → Nat → Nat} {kd st : Nat → Nat} {E : Nat → Nat → Prop} {F : Nat → Nat → Nat → Prop}
variable {ph : Nat → Nat} {k : Nat}
theorem cz_hm_trans {t t' t2 pr : Nat → Int32} {ph ph' ph2 : Nat → Nat} (hn : n ≤ 32) (tw : cz_tw A n t) (hp : cz_ph n pr ph) (h1 : cz_hm n t ph t' ph') (h2 : cz_hm n t' ph' t2 ph2) : cz_hm n t ph t2 ph2 := by
  refine ⟨fun c x d h => ?_, fun c hc => ?_⟩
  · have h3 := cz_e_in hn tw h
    have h4 := h2.1 _ _ _ (h1.1 _ _ _ h)
    rw [h2.2 c h3.1, h2.2 d h3.2.2.1] at h4
    exact h4
  · rw [← h2.2 (ph c) (cz_ph_lt hp hc), h1.2 c hc, h2.2 c hc]
theorem cz_hm_refl {t pr : Nat → Int32} {ph : Nat → Nat} (lv : cz_lv t ph) (hp : cz_ph n pr ph) : cz_hm n t ph t ph := by
  refine ⟨fun c x d h => ?_, fun c hc => cz_ph_id hp c hc⟩
  rw [(lv c x d h).1, (lv c x d h).2]
  exact h
theorem cz_tr_hm {t sk t' sk' : Nat → Int32} {ph ph' : Nat → Nat} {k k' : Nat} (h : cz_tr n t sk ph k t' sk' ph' k') : cz_hm n t ph t' ph' := ⟨h.1, h.2.1⟩
/-- a pop at a place without an entry -/
theorem cz_pop0 {t sk : Nat → Int32} {ph : Nat → Nat} {k : Nat} {h : Nat → Nat} {L c0 x0 : Nat} (hn : n ≤ 32) (tw : cz_tw A n t) (hc : c0 < 32) (hx : x0 < 6) (hs : sk k = nI (c0 * 6 + x0)) (hno : ∀ d, ¬ cz_e t c0 x0 d) (hb : cz_iw n t sk ph (k + 1) h L) : cz_iw n t sk ph k h L := by
  intro i q p hq hl h1
  refine hb i q p hq hl (cz_p_mono ?_ h1)
  intro c x d hk
  refine ⟨hk.1, ?_, ?_⟩
  · rintro ⟨s, hs1, hs2⟩
    by_cases e : s = k
    · subst e
      have e2 := cz_pd_eq hk.1.1 hk.1.2.1 hc hx (hs2.symm.trans hs)
      have h3 := hk.1
      rw [e2.1, e2.2] at h3
      exact hno d h3
    · exact hk.2.1 ⟨s, by omega, hs2⟩
  · rintro ⟨s, hs1, hs2⟩
    by_cases e : s = k
    · subst e
      have e2 := cz_pd_eq hk.1.2.2.1 (cz_iv6 x hk.1.2.1).1 hc hx (hs2.symm.trans hs)
      have h3 := cz_e_sym hn tw _ _ _ hk.1
      rw [e2.1, e2.2] at h3
      exact hno c h3
    · exact hk.2.2 ⟨s, by omega, hs2⟩
theorem cx_close2 (hA : cz_A A) (hn0 : 0 < n) (hn : n ≤ 32) (hcl : cz_cl n nw wl g kd E F) (hws : cx_ws nw wl g kd st sa sr kn) (hwd : cz_wd A nw wl g) {post : SX → Prop} :
    ∀ N r tb pr sk qu ph k de sl sw, 512 - r < N → cz_xs A n r E F tb pr sk ph k → (∀ w, w < nw → kd w = 1 → cz_iw n tb sk ph k (g w) (wl w)) → (k = 0 → ∀ w, w < nw → kd w = 2 → cz_ok tb sk ph k (g w) (wl w) 0 0) →
    (∀ tb' pr' sk' qu' ph' K' de' sl' sw', cz_xs A n K' E F tb' pr' sk' ph' 0 → cz_hm n tb ph tb' ph' → (∀ w, w < nw → kd w = 1 → cz_iw n tb' sk' ph' 0 (g w) (wl w)) → (∀ w, w < nw → kd w = 2 → cz_ok tb' sk' ph' 0 (g w) (wl w) 0 0) → wpX_renumber post (nI A, mo, cl, nI nw, nn, de', 0, sl', cu, sr, sa, kn, tb', fr, pr', qu', sk', sw', od, lb, fm, bb, dp)) →
    wX_close_2 post N (nI r) (nI A) mo cl (nI nw) nn de (nI k) sl cu sr sa kn tb fr pr qu sk sw od lb fm bb dp := by
  have hA6 := cz_A6 hA
  intro N
  induction N with
  | zero => exact fun r tb pr sk qu ph k de sl sw h => absurd h (Nat.not_lt_zero _)
  | succ N ih =>
    intro r tb pr sk qu ph k de sl sw h1 hx hiw hsg hp
    have hb := cz_xs_k hn0 hn hx
    have tw := hx.1
    refine br_f (nI_ge (b := 512) (by omega) (by omega)) ?_
    refine pk_le k 0 (fun hle => ?_) (fun hlt => ?_)
    · have e : k = 0 := by omega
      subst e
      exact hp _ _ _ _ _ _ _ _ _ hx (cz_hm_refl hx.2.2.1 hx.2.1) hiw (hsg rfl)
    · obtain ⟨m, rfl⟩ : ∃ m, k = m + 1 := ⟨k - 1, by omega⟩
      obtain ⟨c0, x0, hc0, hx0, es⟩ := hx.2.2.2.2.2.2 m (by omega)
      have e1 : nI (m + 1) - 1 = nI m := nI_pred m
      have e2 : sk (nI m).toNatClampNeg = nI (c0 * 6 + x0) := by rw [nI_clamp (by omega), es]
      have e3 : nI (c0 * 6 + x0) / 6 = nI c0 := by
        rw [show (6 : Int32) = nI 6 from rfl, pk_div (by omega) (by omega) (by omega)]
        exact congrArg nI (by omega)
      have e4 : nI (c0 * 6 + x0) - nI (c0 * 6 + x0) / 6 * 6 = nI x0 := by
        rw [show (6 : Int32) = nI 6 from rfl, pk_rem (by omega) (by omega) (by omega)]
        exact congrArg nI (by omega)
      have d6 : ¬ (6 : Int32) = 0 := by decide
      have hx1 : cz_xs A n (r + 1) E F tb pr sk ph m := by
        obtain ⟨i1, i2, i3, i4, i5, i6, i7⟩ := hx
        exact ⟨i1, i2, i3, i4, i5, by omega, fun i hi => i7 i (by omega)⟩
      refine nm_r e1 (And.intro (vp_in_nI (by omega) (by omega)) (nm_r e2 (And.intro d6 (And.intro d6 ?_))))
      rw [e3]
      have e5 : nI (c0 * 6 + x0) - nI c0 * 6 = nI x0 := by rw [← e3]; exact e4
      rw [e5]
      refine cx_follow hA hn0 hn hcl hws hwd hc0 hx0 hx1 ?_
      intro tb' pr' sk' qu' ph' k' de' sl' sw' j1 j2 j3
      have hiw' : ∀ w, w < nw → kd w = 1 → cz_iw n tb' sk' ph' k' (g w) (wl w) := by
        intro w hw hkw
        obtain ⟨l1, l2, l3, l4⟩ := hwd w hw
        by_cases hex : ∃ d, cz_e tb c0 x0 d
        · obtain ⟨d0, he⟩ := hex
          exact cz_pop hn tw j1.1 j1.2.2.1 l1 l4 he es (hiw w hw hkw) j2 (fun hkk j hj => j3 d0 he w hw hkw hkk j hj)
        · have h0 := cz_pop0 (k := m) hn tw (by omega) (by omega) es (fun d hd => hex ⟨d, hd⟩) (hiw w hw hkw)
          exact cz_iw_tr j1.2.2.1 j2 h0
      have hb' := cz_xs_k hn0 hn j1
      refine pk_eq k' 0 (fun e => ?_) (fun ne => ?_)
      · refine cx_scanSub hA hn0 hn hcl hws hwd j1 ?_
        intro tb2 pr2 sk2 qu2 ph2 k2 de2 sl2 sw2 m1 m2 m3
        refine nm_r (nI_1 r) (ih (r + 1) _ _ _ _ _ _ _ _ _ (by omega) m1 (fun w hw hkw => cz_iw_tr m1.2.2.1 m2 (hiw' w hw hkw)) (fun _ => m3) ?_)
        intro tb3 pr3 sk3 qu3 ph3 k3 de3 sl3 sw3 q1 q2 q3 q4
        exact hp _ _ _ _ _ _ _ _ _ q1 (cz_hm_trans hn tw hx.2.1 (cz_tr_hm j2) (cz_hm_trans hn j1.1 j1.2.1 (cz_tr_hm m2) q2)) q3 q4
      · refine nm_r (nI_1 r) (ih (r + 1) _ _ _ _ _ _ _ _ _ (by omega) j1 hiw' (fun e => absurd e ne) ?_)
        intro tb3 pr3 sk3 qu3 ph3 k3 de3 sl3 sw3 q1 q2 q3 q4
        exact hp _ _ _ _ _ _ _ _ _ q1 (cz_hm_trans hn tw hx.2.1 (cz_tr_hm j2) q2) q3 q4
/-- close as far as the renumbering -/
theorem cx_close0 (hA : cz_A A) (hn0 : 0 < n) (hn : n ≤ 32) (hcl : cz_cl n nw wl g kd E F) (hws : cx_ws nw wl g kd st sa sr kn) (hwd : cz_wd A nw wl g) {post : SX → Prop}
    (hx : cz_xs A n 0 E F tb pr sk ph k) (hiw : ∀ w, w < nw → kd w = 1 → cz_iw n tb sk ph k (g w) (wl w)) (hsg : k = 0 → ∀ w, w < nw → kd w = 2 → cz_ok tb sk ph k (g w) (wl w) 0 0)
    (hp : ∀ tb' pr' sk' qu' ph' K' de' sl' sw', cz_xs A n K' E F tb' pr' sk' ph' 0 → cz_hm n tb ph tb' ph' → (∀ w, w < nw → kd w = 1 → cz_iw n tb' sk' ph' 0 (g w) (wl w)) → (∀ w, w < nw → kd w = 2 → cz_ok tb' sk' ph' 0 (g w) (wl w) 0 0) → wpX_renumber post (nI A, mo, cl, nI nw, nn, de', 0, sl', cu, sr, sa, kn, tb', fr, pr', qu', sk', sw', od, lb, fm, bb, dp)) :
    wpX_close post (nI A, mo, cl, nI nw, nn, de, nI k, sl, cu, sr, sa, kn, tb, fr, pr, qu, sk, sw, od, lb, fm, bb, dp) :=
  ⟨513, cx_close2 hA hn0 hn hcl hws hwd 513 0 _ _ _ _ _ _ _ _ _ (by omega) hx hiw hsg hp⟩
end
end
section
/-! standard numberings -/
def cz_std (A : Nat) (E : Nat → Nat → Prop) (F : Nat → Nat → Nat → Prop) (m : Nat) (rho fc : Nat → Nat) : Prop :=
  0 < m ∧ m ≤ 32 ∧ rho 0 = 0 ∧ (∀ r s, r < m → s < m → E (rho r) (rho s) → r = s) ∧
  (∀ r x d, r < m → x < A → F (rho r) x d → ∃ s, s < m ∧ E d (rho s)) ∧
  (∀ s, 0 < s → s < m → fc s % 6 < A ∧ fc s / 6 < s ∧ F (rho (fc s / 6)) (fc s % 6) (rho s) ∧ (∀ r x, r < m → x < A → F (rho r) x (rho s) → fc s ≤ r * 6 + x)) ∧
  (∀ s s', 0 < s → s < s' → s' < m → fc s < fc s')
def cz_tt (A : Nat) (F : Nat → Nat → Nat → Prop) (m : Nat) (rho : Nat → Nat) (t : Nat → Int32) : Prop :=
  ∀ r x, r < 32 → x < 6 → (t (r * 6 + x) = -1 ∨ (r < m ∧ x < A ∧ ∃ s, s < m ∧ t (r * 6 + x) = nI s ∧ F (rho r) x (rho s))) ∧ (r < m → x < A → ∀ s, s < m → F (rho r) x (rho s) → t (r * 6 + x) = nI s)
section
variable {A n nw : Nat} {wl : Nat → Nat} {g : Nat → Nat → Nat} {kd : Nat → Nat} {E : Nat → Nat → Prop} {F : Nat → Nat → Nat → Prop}
variable {m m' : Nat} {rho fc rho' fc' : Nat → Nat} {t t' : Nat → Int32}
theorem cz_std_uni (hcl : cz_cl n nw wl g kd E F) (hn0 : 0 < n) (h1 : cz_std A E F m rho fc) (h2 : cz_std A E F m' rho' fc') : ∀ s, s < m → s < m' ∧ E (rho s) (rho' s) := by
  obtain ⟨c1, c2, c3, c4, c5, c6, c7, c8, c9⟩ := hcl
  obtain ⟨a1, a2, a3, a4, a5, a6, a7⟩ := h1
  obtain ⟨b1, b2, b3, b4, b5, b6, b7⟩ := h2
  intro s
  induction s using Nat.strongRecOn with
  | ind s ih =>
    intro hs
    by_cases e0 : s = 0
    · subst e0
      rw [a3, b3]
      exact ⟨b1, c1 0 hn0⟩
    · obtain ⟨x1, x2, x3, x4⟩ := a6 s (by omega) hs
      obtain ⟨i1, i2⟩ := ih (fc s / 6) x2 (by omega)
      have f1 := c4 _ _ _ _ x3 i2
      obtain ⟨s', hs', e1⟩ := b5 _ _ _ i1 x1 f1
      have hge : s ≤ s' := by
        by_cases hl : s ≤ s'
        · exact hl
        · obtain ⟨j1, j2⟩ := ih s' (by omega) (by omega)
          have := a4 s s' hs (by omega) (c3 _ _ _ e1 (c2 _ _ j2))
          omega
      have hsm : s < m' := by omega
      obtain ⟨y1, y2, y3, y4⟩ := b6 s (by omega) hsm
      obtain ⟨k1, k2⟩ := ih (fc' s / 6) y2 (by omega)
      have f2 := c4 _ _ _ _ y3 (c2 _ _ k2)
      obtain ⟨s2, hs2, e2⟩ := a5 _ _ _ (by omega) y1 f2
      have hge2 : s ≤ s2 := by
        by_cases hl : s ≤ s2
        · exact hl
        · obtain ⟨j1, j2⟩ := ih s2 (by omega) (by omega)
          have := b4 s s2 hsm (by omega) (c3 _ _ _ e2 j2)
          omega
      have g1 : fc' s' ≤ fc s / 6 * 6 + fc s % 6 := by
        obtain ⟨_, _, _, z4⟩ := b6 s' (by omega) hs'
        exact z4 _ _ i1 x1 (c5 _ _ _ _ f1 e1)
      have g2 : fc' s ≤ fc' s' := by
        by_cases e : s = s'
        · subst e
          exact Nat.le_refl _
        · exact Nat.le_of_lt (b7 s s' (by omega) (by omega) hs')
      have g3 : fc s2 ≤ fc' s / 6 * 6 + fc' s % 6 := by
        obtain ⟨_, _, _, z4⟩ := a6 s2 (by omega) hs2
        exact z4 _ _ (by omega) y1 (c5 _ _ _ _ f2 e2)
      have g4 : fc s ≤ fc s2 := by
        by_cases e : s = s2
        · subst e
          exact Nat.le_refl _
        · exact Nat.le_of_lt (a7 s s2 (by omega) (by omega) hs2)
      have e : fc s = fc' s := by omega
      refine ⟨hsm, ?_⟩
      rw [← e] at f2
      exact c7 _ _ _ _ x3 f2
theorem cz_std_m (hcl : cz_cl n nw wl g kd E F) (hn0 : 0 < n) (h1 : cz_std A E F m rho fc) (h2 : cz_std A E F m' rho' fc') : m = m' := by
  have e1 : m ≤ m' := by
    have := (cz_std_uni hcl hn0 h1 h2 (m - 1) (by have := h1.1; omega)).1
    omega
  have e2 : m' ≤ m := by
    have := (cz_std_uni hcl hn0 h2 h1 (m' - 1) (by have := h2.1; omega)).1
    omega
  omega
theorem cz_std_t (hcl : cz_cl n nw wl g kd E F) (hn0 : 0 < n) (h1 : cz_std A E F m rho fc) (h2 : cz_std A E F m' rho' fc') (t1 : cz_tt A F m rho t) (t2 : cz_tt A F m' rho' t') : ∀ i, i < 192 → t i = t' i := by
  have em := cz_std_m hcl hn0 h1 h2
  subst em
  have hu := cz_std_uni hcl hn0 h1 h2
  intro i hi
  have ei : i = i / 6 * 6 + i % 6 := by omega
  have hx : i % 6 < 6 := Nat.mod_lt _ (by omega)
  have hr : i / 6 < 32 := by omega
  generalize i / 6 = r at ei hr
  generalize i % 6 = x at ei hx
  subst ei
  obtain ⟨p1, p2⟩ := t1 r x hr hx
  obtain ⟨q1, q2⟩ := t2 r x hr hx
  rcases p1 with p1 | ⟨hm, hA, s, hs, e, hF⟩
  · rcases q1 with q1 | ⟨hm, hA, s, hs, e, hF⟩
    · rw [p1, q1]
    · have f1 := hcl.2.2.2.1 _ _ _ _ hF (hcl.2.1 _ _ (hu r hm).2)
      have f2 := hcl.2.2.2.2.1 _ _ _ _ f1 (hcl.2.1 _ _ (hu s hs).2)
      rw [p2 hm hA s hs f2, e]
  · have f1 := hcl.2.2.2.1 _ _ _ _ hF (hu r hm).2
    have f2 := hcl.2.2.2.2.1 _ _ _ _ f1 (hu s hs).2
    rw [q2 hm hA s hs f2, e]
theorem cz_tt_e (hA : cz_A A) (hm : m ≤ 32) (h : cz_tt A F m rho t) {r x s : Nat} : cz_e t r x s → r < m ∧ x < A ∧ s < m ∧ F (rho r) x (rho s) := by
  intro he
  obtain ⟨h1, h2, h3, h4⟩ := he
  rcases (h r x h1 h2).1 with p1 | ⟨q1, q2, s', q3, q4, q5⟩
  · exact absurd (h4.symm.trans p1) (cz_m1 (by omega))
  · have e : s = s' := (nI_eq (by omega) (by omega)).mp (h4.symm.trans q4)
    subst e
    exact ⟨q1, q2, q3, q5⟩
theorem cz_tt_r (hA : cz_A A) (hm : m ≤ 32) (h : cz_tt A F m rho t) {r x s : Nat} (h1 : r < m) (h2 : x < A) (h3 : s < m) (h4 : F (rho r) x (rho s)) : cz_e t r x s := by
  have hA6 := cz_A6 hA
  exact ⟨by omega, by omega, by omega, (h r x (by omega) (by omega)).2 h1 h2 s h3 h4⟩
theorem cz_tt_tw (hA : cz_A A) (hm : m ≤ 32) (hcl : cz_cl n nw wl g kd E F) (h : cz_tt A F m rho t) : cz_tw A m t := by
  intro r x hr hx
  rcases (h r x hr hx).1 with p1 | ⟨q1, q2, s, q3, q4, q5⟩
  · exact Or.inl p1
  · exact Or.inr ⟨q1, q2, s, q3, q4, (cz_tt_r hA hm h q3 (cz_iv_lt hA q2) q1 (hcl.2.2.2.2.2.1 _ _ _ q5)).2.2.2⟩
/-- the words' rules in the table itself -/
def cz_wc (n nw : Nat) (wl : Nat → Nat) (g : Nat → Nat → Nat) (kd : Nat → Nat) (t : Nat → Int32) : Prop :=
  ∀ w, w < nw → ∀ c, c < n → (kd w = 1 ∨ c = 0) → ∀ f q p, f < wl w → cz_p (cz_e t) (g w) (wl w - 1 - f) (f + 1) q c → cz_p (cz_e t) (g w) f 0 c p → cz_e t p (g w f) q
theorem cz_tt_wc (hA : cz_A A) (hcl : cz_cl n nw wl g kd E F) (hwd : cz_wd A nw wl g) (hs : cz_std A E F m rho fc) (hrho : ∀ s, s < m → rho s < n) (h : cz_tt A F m rho t) : cz_wc m nw wl g kd t := by
  have hm := hs.2.1
  intro w hw c hc hk f q p hf h1 h2
  have hdm : ∀ c x d, cz_e t c x d → c < m ∧ d < m := fun c x d he => ⟨(cz_tt_e hA hm h he).1, (cz_tt_e hA hm h he).2.2.1⟩
  have hq : q < m := (cz_p_dom (P := fun c => c < m) hdm h1).2 hc
  have hp : p < m := (cz_p_dom (P := fun c => c < m) hdm h2).1 hc
  have hF : ∀ c x d, cz_e t c x d → F (rho c) x (rho d) := fun c x d he => (cz_tt_e hA hm h he).2.2.2
  have hr := hcl.2.2.2.2.2.2.2.2 w hw (rho c) (hrho c hc) (hk.imp id (fun e => by rw [e]; exact hs.2.2.1)) f (rho q) (rho p) hf (cz_p_map rho hF h1) (cz_p_map rho hF h2)
  exact cz_tt_r hA hm h hp ((hwd w hw).2.2.1 f) hq hr
/-- the tree of the representatives -/
def cz_bf (A m : Nat) (t : Nat → Int32) (fc : Nat → Nat) : Prop :=
  (∀ s, 0 < s → s < m → fc s % 6 < A ∧ fc s / 6 < s ∧ cz_e t (fc s / 6) (fc s % 6) s ∧ (∀ r x, cz_e t r x s → fc s ≤ r * 6 + x)) ∧ (∀ s s', 0 < s → s < s' → s' < m → fc s < fc s')
theorem cz_tt_bf (hA : cz_A A) (hs : cz_std A E F m rho fc) (h : cz_tt A F m rho t) : cz_bf A m t fc := by
  have hm := hs.2.1
  obtain ⟨a1, a2, a3, a4, a5, a6, a7⟩ := hs
  refine ⟨fun s h0 hsm => ?_, a7⟩
  obtain ⟨x1, x2, x3, x4⟩ := a6 s h0 hsm
  refine ⟨x1, x2, cz_tt_r hA hm h (by omega) x1 hsm x3, fun r x he => ?_⟩
  obtain ⟨y1, y2, y3, y4⟩ := cz_tt_e hA hm h he
  exact x4 r x y1 y2 y4
end
end
section
/-! the end of a closing is the least closed pair; numbering, purely -/
section
variable {A n nw K : Nat} {wl : Nat → Nat} {g : Nat → Nat → Nat} {kd : Nat → Nat} {t0 t pr sk : Nat → Int32} {ph ph0 : Nat → Nat}
theorem cz_k0 (c x d : Nat) (h : cz_e t c x d) : cz_k t sk 0 c x d := ⟨h, fun ⟨i, hi, _⟩ => absurd hi (Nat.not_lt_zero i), fun ⟨i, hi, _⟩ => absurd hi (Nat.not_lt_zero i)⟩
theorem cz_clX (hn0 : 0 < n) (hn : n ≤ 32) (hwd : cz_wd A nw wl g) (hkd : ∀ w, w < nw → kd w = 1 ∨ kd w = 2) (tw : cz_tw A n t) (hp : cz_ph n pr ph)
    (hiw : ∀ w, w < nw → kd w = 1 → cz_iw n t sk ph 0 (g w) (wl w)) (hsg : ∀ w, w < nw → kd w = 2 → cz_ok t sk ph 0 (g w) (wl w) 0 0) :
    cz_cl n nw wl g kd (fun c d => c < n ∧ d < n ∧ ph c = ph d) (fun c x d => c < n ∧ d < n ∧ cz_e t (ph c) x (ph d)) := by
  refine ⟨fun c hc => ⟨hc, hc, rfl⟩, fun c d h => ⟨h.2.1, h.1, h.2.2.symm⟩, fun a b c h1 h2 => ⟨h1.1, h2.2.1, h1.2.2.trans h2.2.2⟩, ?_, ?_, ?_, ?_, fun c x d h => ⟨h.1, h.2.1⟩, ?_⟩
  · intro c x d c' h1 h2
    exact ⟨h2.2.1, h1.2.1, by rw [← h2.2.2]; exact h1.2.2⟩
  · intro c x d d' h1 h2
    exact ⟨h1.1, h2.2.1, by rw [← h2.2.2]; exact h1.2.2⟩
  · exact fun c x d h => ⟨h.2.1, h.1, cz_e_sym hn tw _ _ _ h.2.2⟩
  · exact fun c x d d' h1 h2 => ⟨h1.2.1, h2.2.1, cz_e_det t _ _ _ _ h1.2.2 h2.2.2⟩
  · intro w hw c hc hk f q p hf h1 h2
    obtain ⟨l1, l2, l3, l4⟩ := hwd w hw
    have hd : ∀ c x d, (c < n ∧ d < n ∧ cz_e t (ph c) x (ph d)) → c < n ∧ d < n := fun c x d h => ⟨h.1, h.2.1⟩
    have hq : q < n := (cz_p_dom (P := fun c => c < n) hd h1).2 hc
    have hpn : p < n := (cz_p_dom (P := fun c => c < n) hd h2).1 hc
    have g1 : cz_p (cz_k t sk 0) (g w) (wl w - 1 - f) (f + 1) (ph q) (ph c) := cz_p_map ph (fun c x d h => cz_k0 _ _ _ h.2.2) h1
    have g2 : cz_p (cz_k t sk 0) (g w) f 0 (ph c) (ph p) := cz_p_map ph (fun c x d h => cz_k0 _ _ _ h.2.2) h2
    refine ⟨hpn, hq, ?_⟩
    by_cases hk1 : kd w = 1
    · have g3 : cz_p (cz_k t sk 0) (g w) f (f + 1 + (wl w - 1 - f)) (ph c) (ph p) := by
        refine cz_p_cong (fun j _ => l4 _ _ ?_) g2
        rw [show f + 1 + (wl w - 1 - f) + j = wl w + j by omega, Nat.add_mod_left, Nat.zero_add]
      exact hiw w hw hk1 f (ph q) (ph p) (cz_ph_lt hp hq) (cz_ph_id hp q hq) (cz_p_len (by omega) (cz_p_app g1 g3))
    · have e : c = 0 := by
        rcases hk with h | h
        · exact absurd h hk1
        · exact h
      have hk2 : kd w = 2 := by
        rcases hkd w hw with h | h
        · exact absurd h hk1
        · exact h
      subst e
      have e0 := cz_ph_0 hp hn0
      rw [e0] at g1 g2
      have h3 := hsg w hw hk2 e0 f (ph q) (ph p) hf (cz_p_at (by omega) g1) g2
      rw [Nat.zero_add] at h3
      exact h3
theorem cz_fin (hn0 : 0 < n) (hn : n ≤ 32) (hwd : cz_wd A nw wl g) (hkd : ∀ w, w < nw → kd w = 1 ∨ kd w = 2)
    (hx : cz_xs A n K (cz_Es n nw wl g kd t0) (cz_Fs n nw wl g kd t0) t pr sk ph 0) (tw0 : cz_tw A n t0) (hm : cz_hm n t0 ph0 t ph)
    (hiw : ∀ w, w < nw → kd w = 1 → cz_iw n t sk ph 0 (g w) (wl w)) (hsg : ∀ w, w < nw → kd w = 2 → cz_ok t sk ph 0 (g w) (wl w) 0 0) :
    (∀ c d, cz_Es n nw wl g kd t0 c d ↔ (c < n ∧ d < n ∧ ph c = ph d)) ∧ (∀ c x d, cz_Fs n nw wl g kd t0 c x d ↔ (c < n ∧ d < n ∧ cz_e t (ph c) x (ph d))) := by
  obtain ⟨tw, hp, lv, sF, sE, _, _⟩ := hx
  have hcX := cz_clX hn0 hn hwd hkd tw hp hiw hsg
  have h0 : ∀ c x d, cz_e t0 c x d → (c < n ∧ d < n ∧ cz_e t (ph c) x (ph d)) := fun c x d h => ⟨(cz_e_in hn tw0 h).1, (cz_e_in hn tw0 h).2.2.1, hm.1 _ _ _ h⟩
  have hcl : cz_cl n nw wl g kd (cz_Es n nw wl g kd t0) (cz_Fs n nw wl g kd t0) := cz_EsFs
  refine ⟨fun c d => ⟨fun h => h.2.2 _ _ hcX h0, fun h => ?_⟩, fun c x d => ⟨fun h => h.2.2 _ _ hcX h0, fun h => ?_⟩⟩
  · have h1 := sE c h.1
    have h2 := sE d h.2.1
    rw [h.2.2] at h1
    exact hcl.2.2.1 _ _ _ h1 (hcl.2.1 _ _ h2)
  · have h1 := sF _ _ _ h.2.2
    exact hcl.2.2.2.2.1 _ _ _ _ (hcl.2.2.2.1 _ _ _ _ h1 (hcl.2.1 _ _ (sE c h.1))) (hcl.2.1 _ _ (sE d h.2.1))
end
def cz_nu (f : Nat → Nat) (k v : Nat) : Nat → Nat := fun j => if j = k then v else f j
theorem cz_nu_s {f : Nat → Nat} {k v : Nat} : cz_nu f k v k = v := if_pos rfl
theorem cz_nu_n {f : Nat → Nat} {k v j : Nat} (h : j ≠ k) : cz_nu f k v j = f j := if_neg h
/-- numbering under way: the codes below cur are done, m numbers are given -/
def cz_bi (A n : Nat) (t : Nat → Int32) (cur m : Nat) (rho fc D : Nat → Nat) (od lb fm bb dp : Nat → Int32) : Prop :=
  0 < m ∧ rho 0 = 0 ∧ D 0 = 0 ∧ (∀ s, s < m → rho s < n ∧ od s = nI (rho s) ∧ dp s = nI (D s) ∧ D s ≤ s) ∧ (∀ r s, r < m → s < m → rho r = rho s → r = s) ∧
  (∀ d, d < 32 → (lb d = -1 ∧ ∀ s, s < m → rho s ≠ d) ∨ ∃ s, s < m ∧ lb d = nI s ∧ rho s = d) ∧
  (∀ r y d, r < m → r * 6 + y < cur → cz_e t (rho r) y d → ∃ s, s < m ∧ rho s = d) ∧
  (∀ s, 0 < s → s < m → fm s = nI (fc s / 6) ∧ bb s = nI (fc s % 6) ∧ fc s % 6 < A ∧ fc s / 6 < s ∧ fc s < cur ∧ D s = D (fc s / 6) + 1 ∧ cz_e t (rho (fc s / 6)) (fc s % 6) (rho s) ∧ ∀ r y, r < m → cz_e t (rho r) y (rho s) → fc s ≤ r * 6 + y) ∧
  (∀ s s', 0 < s → s < s' → s' < m → fc s < fc s')
section
variable {A n cur m row x : Nat} {t : Nat → Int32} {rho fc D : Nat → Nat} {od lb fm bb dp : Nat → Int32}
theorem cz_bi_m (hn : n ≤ 32) (h : cz_bi A n t cur m rho fc D od lb fm bb dp) : m ≤ n :=
  cz_pig n m rho (fun i hi => (h.2.2.2.1 i hi).1) (fun i j hi hj e => h.2.2.2.2.1 i j hi hj e)
theorem cz_bi_skip (hx : x < 6) (h : cz_bi A n t (row * 6 + x) m rho fc D od lb fm bb dp) (hs : ∀ d, cz_e t (rho row) x d → ∃ s, s < m ∧ rho s = d) : cz_bi A n t (row * 6 + x + 1) m rho fc D od lb fm bb dp := by
  obtain ⟨a1, a2, a3, a4, a5, a6, a7, a8, a9⟩ := h
  refine ⟨a1, a2, a3, a4, a5, a6, ?_, ?_, a9⟩
  · intro r y d hr hc he
    by_cases e : r * 6 + y < row * 6 + x
    · exact a7 r y d hr e he
    · have hy := he.2.1
      have e1 : r = row := by omega
      have e2 : y = x := by omega
      subst e1 e2
      exact hs d he
  · intro s h0 hsm
    obtain ⟨b1, b2, b3, b4, b5, b6⟩ := a8 s h0 hsm
    exact ⟨b1, b2, b3, b4, by omega, b6⟩
theorem cz_bi_lt (hn : n ≤ 32) (h : cz_bi A n t cur m rho fc D od lb fm bb dp) {d : Nat} (hd : d < n) (hl : ∀ s, s < m → rho s ≠ d) : m + 1 ≤ n := by
  refine cz_pig n (m + 1) (cz_nu rho m d) (fun i hi => ?_) (fun i j hi hj e => ?_)
  · by_cases e : i = m
    · rw [e, cz_nu_s]
      exact hd
    · rw [cz_nu_n e]
      exact (h.2.2.2.1 i (by omega)).1
  · by_cases e1 : i = m
    · by_cases e2 : j = m
      · omega
      · rw [e1, cz_nu_s, cz_nu_n e2] at e
        exact absurd e.symm (hl j (by omega))
    · by_cases e2 : j = m
      · rw [e2, cz_nu_s, cz_nu_n e1] at e
        exact absurd e (hl i (by omega))
      · rw [cz_nu_n e1, cz_nu_n e2] at e
        exact h.2.2.2.2.1 i j (by omega) (by omega) e
theorem cz_bi_add (hn : n ≤ 32) (hxA : x < A) (hA : A ≤ 6) (hrow : row < m) (h : cz_bi A n t (row * 6 + x) m rho fc D od lb fm bb dp) {d : Nat} (hd : d < n) (he : cz_e t (rho row) x d) (hl : ∀ s, s < m → rho s ≠ d) :
    cz_bi A n t (row * 6 + x + 1) (m + 1) (cz_nu rho m d) (cz_nu fc m (row * 6 + x)) (cz_nu D m (D row + 1)) (upd od m (nI d)) (upd lb d (nI m)) (upd fm m (nI row)) (upd bb m (nI x)) (upd dp m (nI (D row + 1))) := by
  obtain ⟨a1, a2, a3, a4, a5, a6, a7, a8, a9⟩ := h
  have e61 : (row * 6 + x) / 6 = row := by omega
  have e62 : (row * 6 + x) % 6 = x := by omega
  refine ⟨by omega, ?_, ?_, ?_, ?_, ?_, ?_, ?_, ?_⟩
  · rw [cz_nu_n (by omega)]
    exact a2
  · rw [cz_nu_n (by omega)]
    exact a3
  · intro s hs
    by_cases e : s = m
    · subst e
      rw [cz_nu_s, cz_nu_s, pk_us, pk_us]
      have := (a4 row hrow).2.2.2
      exact ⟨hd, rfl, rfl, by omega⟩
    · rw [cz_nu_n e, cz_nu_n e, pk_un e, pk_un e]
      exact a4 s (by omega)
  · intro r s hr hs e
    by_cases e1 : r = m
    · by_cases e2 : s = m
      · omega
      · rw [e1, cz_nu_s, cz_nu_n e2] at e
        exact absurd e.symm (hl s (by omega))
    · by_cases e2 : s = m
      · rw [e2, cz_nu_s, cz_nu_n e1] at e
        exact absurd e (hl r (by omega))
      · rw [cz_nu_n e1, cz_nu_n e2] at e
        exact a5 r s (by omega) (by omega) e
  · intro d' hd'
    by_cases e : d' = d
    · subst e
      exact Or.inr ⟨m, by omega, pk_us, cz_nu_s⟩
    · rw [pk_un e]
      rcases a6 d' hd' with ⟨h1, h2⟩ | ⟨s, h1, h2, h3⟩
      · refine Or.inl ⟨h1, fun s hs => ?_⟩
        by_cases e2 : s = m
        · rw [e2, cz_nu_s]
          omega
        · rw [cz_nu_n e2]
          exact h2 s (by omega)
      · exact Or.inr ⟨s, by omega, h2, by rw [cz_nu_n (by omega)]; exact h3⟩
  · intro r y d' hr hc he'
    have hy := he'.2.1
    have hrm : r ≠ m := by omega
    rw [cz_nu_n hrm] at he'
    by_cases e : r * 6 + y < row * 6 + x
    · obtain ⟨s, h1, h2⟩ := a7 r y d' (by omega) e he'
      exact ⟨s, by omega, by rw [cz_nu_n (by omega)]; exact h2⟩
    · have e1 : r = row := by omega
      have e2 : y = x := by omega
      subst e1 e2
      have e3 := cz_e_det t _ _ _ _ he' he
      subst e3
      exact ⟨m, by omega, cz_nu_s⟩
  · intro s h0 hs
    by_cases e : s = m
    · subst e
      rw [cz_nu_s, e61, e62, pk_us, pk_us, cz_nu_s, cz_nu_s, cz_nu_n (by omega), cz_nu_n (by omega)]
      refine ⟨rfl, rfl, hxA, hrow, by omega, rfl, he, ?_⟩
      intro r y hr he'
      by_cases e2 : r = s
      · omega
      · rw [cz_nu_n e2] at he'
        by_cases e3 : r * 6 + y < row * 6 + x
        · obtain ⟨s', h1, h2⟩ := a7 r y d (by omega) e3 he'
          exact absurd h2 (hl s' h1)
        · omega
    · obtain ⟨b1, b2, b3, b4, b5, b6, b7, b8⟩ := a8 s h0 (by omega)
      rw [cz_nu_n e, cz_nu_n e, cz_nu_n e, pk_un e, pk_un e, cz_nu_n (by omega), cz_nu_n (by omega)]
      refine ⟨b1, b2, b3, b4, by omega, b6, b7, ?_⟩
      intro r y hr he'
      by_cases e2 : r = m
      · omega
      · rw [cz_nu_n e2] at he'
        exact b8 r y (by omega) he'
  · intro s s' h0 h1 h2
    by_cases e : s' = m
    · rw [e, cz_nu_s, cz_nu_n (by omega)]
      exact (a8 s h0 (by omega)).2.2.2.2.1
    · rw [cz_nu_n e, cz_nu_n (by omega)]
      exact a9 s s' h0 h1 (by omega)
theorem cz_bi_row (hn : n ≤ 32) (hA : A ≤ 6) (tw : cz_tw A n t) (h : cz_bi A n t (row * 6 + A) m rho fc D od lb fm bb dp) : cz_bi A n t ((row + 1) * 6) m rho fc D od lb fm bb dp := by
  obtain ⟨a1, a2, a3, a4, a5, a6, a7, a8, a9⟩ := h
  refine ⟨a1, a2, a3, a4, a5, a6, ?_, ?_, a9⟩
  · intro r y d hr hc he
    have hy := (cz_e_in hn tw he).2.1
    exact a7 r y d hr (by omega) he
  · intro s h0 hsm
    obtain ⟨b1, b2, b3, b4, b5, b6⟩ := a8 s h0 hsm
    exact ⟨b1, b2, b3, b4, by omega, b6⟩
theorem cz_bi_0 (hn0 : 0 < n) (hlb : ∀ j, j < 32 → lb j = -1) : cz_bi A n t (0 * 6) 1 (fun _ => 0) (fun _ => 0) (fun _ => 0) (upd od 0 0) (upd lb 0 0) fm bb (upd dp 0 0) := by
  refine ⟨by omega, rfl, rfl, ?_, fun r s hr hs _ => by omega, ?_, fun r y d hr hc => by omega, fun s h0 hs => by omega, fun s s' h0 h1 h2 => by omega⟩
  · intro s hs
    have e : s = 0 := by omega
    subst e
    exact ⟨hn0, pk_us, pk_us, Nat.le_refl 0⟩
  · intro d hd
    by_cases e : d = 0
    · subst e
      exact Or.inr ⟨0, by omega, pk_us, rfl⟩
    · rw [pk_un e]
      exact Or.inl ⟨hlb d hd, fun s _ z => e (Eq.symm z)⟩
/-- a finished numbering is standard -/
theorem cz_bi_std {nw : Nat} {wl : Nat → Nat} {g : Nat → Nat → Nat} {kd : Nat → Nat} {E : Nat → Nat → Prop} {F : Nat → Nat → Nat → Prop} {ph : Nat → Nat} (hn : n ≤ 32) (hA : A ≤ 6) (hcl : cz_cl n nw wl g kd E F) (lv : cz_lv t ph) (h0 : ph 0 = 0)
    (hE : ∀ c d, E c d ↔ (c < n ∧ d < n ∧ ph c = ph d)) (hF : ∀ c x d, F c x d ↔ (c < n ∧ d < n ∧ cz_e t (ph c) x (ph d)))
    (hph : ∀ c, c < n → ph c < n ∧ ph (ph c) = ph c)
    (h : cz_bi A n t (m * 6) m rho fc D od lb fm bb dp) : cz_std A E F m rho fc ∧ (∀ s, s < m → ph (rho s) = rho s) := by
  have hmn := cz_bi_m hn h
  obtain ⟨a1, a2, a3, a4, a5, a6, a7, a8, a9⟩ := h
  have hl : ∀ s, s < m → ph (rho s) = rho s := by
    intro s hs
    by_cases e : s = 0
    · rw [e, a2]
      exact h0
    · exact (lv _ _ _ (a8 s (by omega) hs).2.2.2.2.2.2.1).2
  refine ⟨⟨a1, by omega, a2, ?_, ?_, ?_, a9⟩, hl⟩
  · intro r s hr hs he
    have h1 := ((hE _ _).mp he).2.2
    rw [hl r hr, hl s hs] at h1
    exact a5 r s hr hs h1
  · intro r x d hr hx he
    obtain ⟨h1, h2, h3⟩ := (hF _ _ _).mp he
    rw [hl r hr] at h3
    obtain ⟨s, h4, h5⟩ := a7 r x (ph d) hr (by omega) h3
    exact ⟨s, h4, (hE _ _).mpr ⟨h2, (a4 s h4).1, by rw [hl s h4, h5]⟩⟩
  · intro s hs0 hs
    obtain ⟨b1, b2, b3, b4, b5, b6, b7, b8⟩ := a8 s hs0 hs
    refine ⟨b3, b4, (hF _ _ _).mpr ⟨(a4 _ (by omega)).1, (a4 s hs).1, by rw [hl _ (by omega), hl s hs]; exact b7⟩, ?_⟩
    intro r x hr hx he
    obtain ⟨h1, h2, h3⟩ := (hF _ _ _).mp he
    rw [hl r hr, hl s hs] at h3
    exact b8 r x hr h3
end
end
section
/-! the component's renumbering walked -/
def cz_f2 (A m : Nat) (t : Nat → Int32) (rho : Nat → Nat) (lb fr : Nat → Int32) (cur : Nat) : Prop :=
  ∀ r x, r < 32 → x < 6 → fr (r * 6 + x) = if r < m ∧ x < A ∧ r * 6 + x < cur ∧ t (rho r * 6 + x) ≠ -1 then lb (t (rho r * 6 + x)).toNatClampNeg else -1
section
variable {al mo cl wo nn de to sl : Int32} {cu sr sa kn tb fr pr qu sk sw od lb fm bb dp : Nat → Int32}
variable {A n m : Nat} {rho fc D : Nat → Nat}
theorem cx_nR2 (hA : cz_A A) (hn : n ≤ 32) (tw : cz_tw A n tb) {row : Nat} {post : SX → Prop} :
    ∀ N x m rho fc D od lb fm bb dp, A - x < N → x ≤ A → row < m → cz_bi A n tb (row * 6 + x) m rho fc D od lb fm bb dp →
    (∀ m' rho' fc' D' od' lb' fm' bb' dp', row < m' → cz_bi A n tb (row * 6 + A) m' rho' fc' D' od' lb' fm' bb' dp' → post (nI A, mo, cl, wo, nI m', de, to, sl, cu, sr, sa, kn, tb, fr, pr, qu, sk, sw, od', lb', fm', bb', dp')) →
    wX_numberRow_2 post (nI row) (nI A) mo cl wo de to sl N (nI x) (nI m) cu sr sa kn tb fr pr qu sk sw od lb fm bb dp := by
  have hA6 := cz_A6 hA
  intro N
  induction N with
  | zero => exact fun x m rho fc D od lb fm bb dp h => absurd h (Nat.not_lt_zero _)
  | succ N ih =>
    intro x m rho fc D od lb fm bb dp h1 h2 hrow hb hp
    have hm := cz_bi_m hn hb
    refine pk_le A x (fun hle => ?_) (fun hlt => ?_)
    · have e : x = A := by omega
      subst e
      exact hp _ _ _ _ _ _ _ _ _ hrow hb
    · obtain ⟨r1, r2, r3, r4⟩ := hb.2.2.2.1 row hrow
      have c1 : (nI row).toNatClampNeg = row := nI_clamp (by omega)
      have e1 : od (nI row).toNatClampNeg * 6 + nI x = nI (rho row * 6 + x) := by rw [c1, r2, cz_ix]
      have e2 : tb (od (nI row).toNatClampNeg * 6 + nI x).toNatClampNeg = tb (rho row * 6 + x) := by rw [e1, nI_clamp (by omega)]
      have v1 : vp_in (od (nI row).toNatClampNeg * 6 + nI x) 192 := by rw [e1]; exact vp_in_nI (by omega) (by omega)
      have v32 : ∀ j, j < 32 → vp_in (nI j) 32 := fun j hj => vp_in_nI hj (by omega)
      refine And.intro (v32 row (by omega)) (And.intro v1 (nm_r e2 ?_))
      have hsk : (∀ d, cz_e tb (rho row) x d → ∃ s, s < m ∧ rho s = d) → cz_bi A n tb (row * 6 + (x + 1)) m rho fc D od lb fm bb dp := fun hh => cz_bi_skip (by omega) hb hh
      rcases cz_read hn tw (c := rho row) (x := x) (by omega) (by omega) with m1 | ⟨d, hd, r5, ee⟩
      · rw [m1]
        exact br_t cz_m1neg (nm_r (nI_1 x) (ih (x + 1) _ _ _ _ _ _ _ _ _ (by omega) (by omega) hrow (hsk (fun d he => absurd he (cz_none m1 d))) hp))
      · rw [r5]
        have c2 : (nI d).toNatClampNeg = d := nI_clamp (by omega)
        refine br_f (nI_pos (by omega)) (And.intro (v32 d (by omega)) ?_)
        rw [c2]
        rcases hb.2.2.2.2.2.1 d (by omega) with ⟨l1, l2⟩ | ⟨s, l1, l2, l3⟩
        · rw [l1]
          have hm1 := cz_bi_lt hn hb hd l2
          have c3 : (nI m).toNatClampNeg = m := nI_clamp (by omega)
          have e3 : upd dp (nI m).toNatClampNeg (dp (nI row).toNatClampNeg + 1) = upd dp m (nI (D row + 1)) := by rw [c3, c1, r3, nI_1]
          refine br_f cz_m1n (br_f (nI_ge (b := 32) (by omega) (by omega)) (And.intro (v32 d (by omega)) (nm_e ?_)))
          refine And.intro (v32 m (by omega)) (nm_r (congrArg (fun z => upd od z (nI d)) c3) ?_)
          refine And.intro (v32 m (by omega)) (nm_r (congrArg (fun z => upd fm z (nI row)) c3) ?_)
          refine And.intro (v32 m (by omega)) (nm_r (congrArg (fun z => upd bb z (nI x)) c3) ?_)
          refine And.intro (v32 row (by omega)) (And.intro (v32 m (by omega)) (nm_r e3 (nm_r (nI_1 m) (nm_r (nI_1 x) ?_))))
          exact ih (x + 1) _ _ _ _ _ _ _ _ _ (by omega) (by omega) (by omega) (cz_bi_add hn hlt hA6 hrow hb hd ee l2) hp
        · rw [l2]
          refine br_t (nI_pos' (by omega)) (nm_r (nI_1 x) (ih (x + 1) _ _ _ _ _ _ _ _ _ (by omega) (by omega) hrow (hsk (fun d' he => ?_)) hp))
          have e := cz_e_det tb _ _ _ _ he ee
          subst e
          exact ⟨s, l1, l3⟩
theorem cx_reb94 {post : SX → Prop} (hp : ∀ tb', (∀ i, i < 192 → tb' i = fr i) → post (al, mo, cl, wo, nn, de, to, sl, cu, sr, sa, kn, tb', fr, pr, qu, sk, sw, od, lb, fm, bb, dp)) :
    ∀ N i tb, 192 - i < N → i ≤ 192 → (∀ j, j < i → tb j = fr j) → wX_rebuild_94 post al mo cl wo nn de to sl N (nI i) cu sr sa kn tb fr pr qu sk sw od lb fm bb dp := by
  intro N
  induction N with
  | zero => exact fun i tb h => absurd h (Nat.not_lt_zero _)
  | succ N ih =>
    intro i tb h1 h2 h3
    refine pk_le 192 i (fun hle => ?_) (fun hlt => ?_)
    · exact hp tb (fun j hj => h3 j (by omega))
    · have c1 : (nI i).toNatClampNeg = i := nI_clamp (by omega)
      have e1 : upd tb (nI i).toNatClampNeg (fr (nI i).toNatClampNeg) = upd tb i (fr i) := by rw [c1]
      have v1 : vp_in (nI i) 192 := vp_in_nI hlt (by omega)
      refine And.intro v1 (And.intro v1 (nm_r e1 (nm_r (nI_1 i) (ih (i + 1) _ (by omega) (by omega) ?_))))
      intro j hj
      by_cases e : j = i
      · rw [e, pk_us]
      · rw [pk_un e]
        exact h3 j (by omega)
theorem cx_reb34 (hA : cz_A A) (hn : n ≤ 32) (tw : cz_tw A n tb) (hb : cz_bi A n tb (m * 6) m rho fc D od lb fm bb dp) {row : Nat} (hrow : row < m) {post : SX → Prop} {J : Int32 → (Nat → Int32) → (Nat → Int32) → (Nat → Int32) → (Nat → Int32) → (Nat → Int32) → (Nat → Int32) → (Nat → Int32) → (Nat → Int32) → (Nat → Int32) → (Nat → Int32) → (Nat → Int32) → (Nat → Int32) → (Nat → Int32) → (Nat → Int32) → (Nat → Int32) → Prop}
    (hp : ∀ fr, cz_f2 A m tb rho lb fr ((row + 1) * 6) → J (nI (row + 1)) cu sr sa kn tb fr pr qu sk sw od lb fm bb dp) :
    ∀ N x fr, A - x < N → x ≤ A → cz_f2 A m tb rho lb fr (row * 6 + x) → wX_rebuild_34 post J (nI row) (nI A) mo cl wo nn de to sl N (nI x) cu sr sa kn tb fr pr qu sk sw od lb fm bb dp := by
  have hA6 := cz_A6 hA
  have hm := cz_bi_m hn hb
  intro N
  induction N with
  | zero => exact fun x fr h => absurd h (Nat.not_lt_zero _)
  | succ N ih =>
    intro x fr h1 h2 h3
    refine pk_le A x (fun hle => ?_) (fun hlt => ?_)
    · refine nm_r (nI_1 row) (hp fr ?_)
      intro r y hr hy
      rw [h3 r y hr hy]
      by_cases z : r < m ∧ y < A ∧ r * 6 + y < row * 6 + x ∧ tb (rho r * 6 + y) ≠ -1
      · rw [if_pos z, if_pos ⟨z.1, z.2.1, by omega, z.2.2.2⟩]
      · rw [if_neg z, if_neg (fun z2 => z ⟨z2.1, z2.2.1, by omega, z2.2.2.2⟩)]
    · obtain ⟨r1, r2, r3, r4⟩ := hb.2.2.2.1 row hrow
      have c1 : (nI row).toNatClampNeg = row := nI_clamp (by omega)
      have e1 : od (nI row).toNatClampNeg * 6 + nI x = nI (rho row * 6 + x) := by rw [c1, r2, cz_ix]
      have e2 : tb (od (nI row).toNatClampNeg * 6 + nI x).toNatClampNeg = tb (rho row * 6 + x) := by rw [e1, nI_clamp (by omega)]
      have v1 : vp_in (od (nI row).toNatClampNeg * 6 + nI x) 192 := by rw [e1]; exact vp_in_nI (by omega) (by omega)
      refine And.intro (vp_in_nI (by omega) (by omega)) (And.intro v1 (nm_r e2 ?_))
      rcases cz_read hn tw (c := rho row) (x := x) (by omega) (by omega) with m1 | ⟨d, hd, r5, ee⟩
      · rw [m1]
        refine br_t cz_m1neg (nm_r (nI_1 x) (ih (x + 1) _ (by omega) (by omega) ?_))
        intro r y hr hy
        rw [h3 r y hr hy]
        by_cases z : r < m ∧ y < A ∧ r * 6 + y < row * 6 + x ∧ tb (rho r * 6 + y) ≠ -1
        · rw [if_pos z, if_pos ⟨z.1, z.2.1, by omega, z.2.2.2⟩]
        · rw [if_neg z, if_neg]
          intro z2
          by_cases e : r * 6 + y < row * 6 + x
          · exact z ⟨z2.1, z2.2.1, e, z2.2.2.2⟩
          · have e3 : r = row := by omega
            have e4 : y = x := by omega
            subst e3 e4
            exact z2.2.2.2 m1
      · rw [r5]
        have c2 : (nI d).toNatClampNeg = d := nI_clamp (by omega)
        have e3 : (nI row * 6 + nI x).toNatClampNeg = row * 6 + x := by rw [cz_ix, nI_clamp (by omega)]
        have v2 : vp_in (nI row * 6 + nI x) 192 := by rw [cz_ix]; exact vp_in_nI (by omega) (by omega)
        have e4 : upd fr (nI row * 6 + nI x).toNatClampNeg (lb (nI d).toNatClampNeg) = upd fr (row * 6 + x) (lb d) := by rw [e3, c2]
        refine br_f (nI_pos (by omega)) (And.intro (vp_in_nI (by omega) (by omega)) (And.intro v2 (nm_r e4 (nm_r (nI_1 x) (ih (x + 1) _ (by omega) (by omega) ?_)))))
        intro r y hr hy
        by_cases e : r * 6 + y = row * 6 + x
        · have e5 : r = row := by omega
          have e6 : y = x := by omega
          subst e5 e6
          rw [pk_us, if_pos ⟨hrow, hlt, by omega, by rw [r5]; exact cz_m1 (by omega)⟩, r5, c2]
        · rw [pk_un e, h3 r y hr hy]
          by_cases z : r < m ∧ y < A ∧ r * 6 + y < row * 6 + x ∧ tb (rho r * 6 + y) ≠ -1
          · rw [if_pos z, if_pos ⟨z.1, z.2.1, by omega, z.2.2.2⟩]
          · rw [if_neg z, if_neg (fun z2 => z ⟨z2.1, z2.2.1, by omega, z2.2.2.2⟩)]
theorem cx_reb24 (hA : cz_A A) (hn : n ≤ 32) (tw : cz_tw A n tb) (hb : cz_bi A n tb (m * 6) m rho fc D od lb fm bb dp) {post : SX → Prop}
    (hp : ∀ fr tb', cz_f2 A m tb rho lb fr (m * 6) → (∀ i, i < 192 → tb' i = fr i) → post (nI A, mo, cl, wo, nI m, de, to, sl, cu, sr, sa, kn, tb', fr, pr, qu, sk, sw, od, lb, fm, bb, dp)) :
    ∀ N row fr, m - row < N → row ≤ m → cz_f2 A m tb rho lb fr (row * 6) → wX_rebuild_24 post (nI A) mo cl wo (nI m) de to sl N (nI row) cu sr sa kn tb fr pr qu sk sw od lb fm bb dp := by
  have hm := cz_bi_m hn hb
  intro N
  induction N with
  | zero => exact fun row fr h => absurd h (Nat.not_lt_zero _)
  | succ N ih =>
    intro row fr h1 h2 h3
    refine pk_le m row (fun hle => ?_) (fun hlt => ?_)
    · have e : row = m := by omega
      subst e
      exact ⟨193, cx_reb94 (fun tb' h => hp fr tb' h3 h) 193 0 _ (by omega) (by omega) (fun j hj => absurd hj (Nat.not_lt_zero j))⟩
    · exact ⟨A + 1, cx_reb34 hA hn tw hb hlt (fun fr h => ih (row + 1) fr (by omega) (by omega) h) (A + 1) 0 _ (by omega) (by omega) h3⟩
theorem cx_reb2 (hA : cz_A A) (hn : n ≤ 32) (tw : cz_tw A n tb) (hb : cz_bi A n tb (m * 6) m rho fc D od lb fm bb dp) {post : SX → Prop}
    (hp : ∀ fr tb', cz_f2 A m tb rho lb fr (m * 6) → (∀ i, i < 192 → tb' i = fr i) → post (nI A, mo, cl, wo, nI m, de, to, sl, cu, sr, sa, kn, tb', fr, pr, qu, sk, sw, od, lb, fm, bb, dp)) :
    ∀ N i fr, 192 - i < N → i ≤ 192 → (∀ j, j < i → fr j = -1) → wX_rebuild_2 post (nI A) mo cl wo (nI m) de to sl N (nI i) cu sr sa kn tb fr pr qu sk sw od lb fm bb dp := by
  intro N
  induction N with
  | zero => exact fun row fr h => absurd h (Nat.not_lt_zero _)
  | succ N ih =>
    intro i fr h1 h2 h3
    refine pk_le 192 i (fun hle => ?_) (fun hlt => ?_)
    · refine ⟨m + 1, cx_reb24 hA hn tw hb hp (m + 1) 0 _ (by omega) (by omega) ?_⟩
      intro r x hr hx
      rw [h3 _ (by omega), if_neg (fun z => absurd z.2.2.1 (by omega))]
    · have c1 : (nI i).toNatClampNeg = i := nI_clamp (by omega)
      refine And.intro (vp_in_nI hlt (by omega)) (nm_r (congrArg (fun z => upd fr z (-1)) c1) (nm_r (nI_1 i) (ih (i + 1) _ (by omega) (by omega) ?_)))
      intro j hj
      by_cases e : j = i
      · rw [e, pk_us]
      · rw [pk_un e]
        exact h3 j (by omega)
theorem cz_f2_tt (hA : cz_A A) (hn : n ≤ 32) (tw : cz_tw A n tb) (hb : cz_bi A n tb (m * 6) m rho fc D od lb fm bb dp) {fr tb' : Nat → Int32} (hf : cz_f2 A m tb rho lb fr (m * 6)) (ht : ∀ i, i < 192 → tb' i = fr i) : cz_tt A (cz_e tb) m rho tb' := by
  have hA6 := cz_A6 hA
  have hm := cz_bi_m hn hb
  intro r x hr hx
  have e0 := (ht (r * 6 + x) (by omega)).trans (hf r x hr hx)
  constructor
  · by_cases z : r < m ∧ x < A ∧ r * 6 + x < m * 6 ∧ tb (rho r * 6 + x) ≠ -1
    · rw [if_pos z] at e0
      have hrn := (hb.2.2.2.1 r z.1).1
      rcases cz_read hn tw (c := rho r) (x := x) (by omega) hx with m1 | ⟨d, hd, r5, ee⟩
      · exact absurd m1 z.2.2.2
      · rw [r5, nI_clamp (by omega)] at e0
        obtain ⟨s, l1, l2⟩ := hb.2.2.2.2.2.2.1 r x d z.1 z.2.2.1 ee
        rcases hb.2.2.2.2.2.1 d (by omega) with ⟨k1, k2⟩ | ⟨s', k1, k2, k3⟩
        · exact absurd l2 (k2 s l1)
        · refine Or.inr ⟨z.1, z.2.1, s', k1, e0.trans k2, ?_⟩
          rw [k3]
          exact ee
    · rw [if_neg z] at e0
      exact Or.inl e0
  · intro hrm hxA s hs he
    have hrn := (hb.2.2.2.1 r hrm).1
    have hsn := (hb.2.2.2.1 s hs).1
    have e1 := he.2.2.2
    rw [if_pos ⟨hrm, hxA, by omega, by rw [e1]; exact cz_m1 (by omega)⟩, e1, nI_clamp (by omega)] at e0
    rcases hb.2.2.2.2.2.1 (rho s) (by omega) with ⟨k1, k2⟩ | ⟨s', k1, k2, k3⟩
    · exact absurd rfl (k2 s hs)
    · have e2 := hb.2.2.2.2.1 s' s k1 hs k3
      subst e2
      exact e0.trans k2
theorem cx_ren56 (hA : cz_A A) (hn : n ≤ 32) (tw : cz_tw A n tb) {post : SX → Prop}
    (hp : ∀ m rho fc D od lb fm bb dp fr tb', cz_bi A n tb (m * 6) m rho fc D od lb fm bb dp → cz_tt A (cz_e tb) m rho tb' → post (nI A, mo, cl, wo, nI m, de, to, sl, cu, sr, sa, kn, tb', fr, pr, qu, sk, sw, od, lb, fm, bb, dp)) :
    ∀ N row m rho fc D od lb fm bb dp, 32 - row < N → row ≤ m → cz_bi A n tb (row * 6) m rho fc D od lb fm bb dp → wX_renumber_56 post N (nI row) (nI A) mo cl wo (nI m) de to sl cu sr sa kn tb fr pr qu sk sw od lb fm bb dp := by
  have hA6 := cz_A6 hA
  intro N
  induction N with
  | zero => exact fun row m rho fc D od lb fm bb dp h => absurd h (Nat.not_lt_zero _)
  | succ N ih =>
    intro row m rho fc D od lb fm bb dp h1 h2 hb
    have hm := cz_bi_m hn hb
    refine pk_le m row (fun hle => ?_) (fun hlt => ?_)
    · have e : row = m := by omega
      subst e
      exact ⟨193, cx_reb2 hA hn tw hb (fun fr tb' hf ht => hp _ _ _ _ _ _ _ _ _ _ _ hb (cz_f2_tt hA hn tw hb hf ht)) 193 0 _ (by omega) (by omega) (fun j hj => absurd hj (Nat.not_lt_zero j))⟩
    · refine br_f (nI_ge (b := 32) (by omega) (by omega)) ?_
      refine ⟨A + 1, cx_nR2 hA hn tw (A + 1) 0 _ _ _ _ _ _ _ _ _ (by omega) (by omega) hlt hb ?_⟩
      intro m' rho' fc' D' od' lb' fm' bb' dp' q1 q2
      exact nm_r (nI_1 row) (ih (row + 1) _ _ _ _ _ _ _ _ _ (by omega) q1 (cz_bi_row hn hA6 tw q2))
theorem cx_ren2 (hA : cz_A A) (hn0 : 0 < n) (hn : n ≤ 32) (tw : cz_tw A n tb) {post : SX → Prop}
    (hp : ∀ m rho fc D od lb fm bb dp fr pr tb', (∀ c, c < 32 → pr c = nI c) → cz_bi A n tb (m * 6) m rho fc D od lb fm bb dp → cz_tt A (cz_e tb) m rho tb' → post (nI A, mo, cl, wo, nI m, de, to, sl, cu, sr, sa, kn, tb', fr, pr, qu, sk, sw, od, lb, fm, bb, dp)) :
    ∀ N c lb pr, 32 - c < N → c ≤ 32 → (∀ j, j < c → lb j = -1) → (∀ j, j < c → pr j = nI j) → wX_renumber_2 post (nI A) mo cl wo nn de to sl N (nI c) cu sr sa kn tb fr pr qu sk sw od lb fm bb dp := by
  intro N
  induction N with
  | zero => exact fun c lb pr h => absurd h (Nat.not_lt_zero _)
  | succ N ih =>
    intro c lb pr h1 h2 h3 h4
    refine pk_le 32 c (fun hle => ?_) (fun hlt => ?_)
    · refine nm_e (nm_e (nm_e ?_))
      exact ⟨33, cx_ren56 hA hn tw (fun m rho fc D od lb fm bb dp fr tb' q1 q2 => hp _ _ _ _ _ _ _ _ _ _ _ _ (fun c hc => h4 c (by omega)) q1 q2) 33 0 1 _ _ _ _ _ _ _ _ (by omega) (by omega) (cz_bi_0 hn0 (fun j hj => h3 j (by omega)))⟩
    · have c1 : (nI c).toNatClampNeg = c := nI_clamp (by omega)
      have v1 : vp_in (nI c) 32 := vp_in_nI hlt (by omega)
      refine And.intro v1 (nm_r (congrArg (fun z => upd lb z (-1)) c1) (And.intro v1 (nm_r (congrArg (fun z => upd pr z (nI c)) c1) (nm_r (nI_1 c) (ih (c + 1) _ _ (by omega) (by omega) ?_ ?_)))))
      · intro j hj
        by_cases e : j = c
        · rw [e, pk_us]
        · rw [pk_un e]
          exact h3 j (by omega)
      · intro j hj
        by_cases e : j = c
        · rw [e, pk_us]
        · rw [pk_un e]
          exact h4 j (by omega)
theorem cx_renumber (hA : cz_A A) (hn0 : 0 < n) (hn : n ≤ 32) (tw : cz_tw A n tb) {post : SX → Prop}
    (hp : ∀ m rho fc D od lb fm bb dp fr pr tb', (∀ c, c < 32 → pr c = nI c) → cz_bi A n tb (m * 6) m rho fc D od lb fm bb dp → cz_tt A (cz_e tb) m rho tb' → post (nI A, mo, cl, wo, nI m, de, to, sl, cu, sr, sa, kn, tb', fr, pr, qu, sk, sw, od, lb, fm, bb, dp)) :
    wpX_renumber post (nI A, mo, cl, wo, nn, de, to, sl, cu, sr, sa, kn, tb, fr, pr, qu, sk, sw, od, lb, fm, bb, dp) :=
  ⟨33, cx_ren2 hA hn0 hn tw hp 33 0 _ _ (by omega) (by omega) (fun j hj => absurd hj (Nat.not_lt_zero j)) (fun j hj => absurd hj (Nat.not_lt_zero j))⟩
end
end
section
/-! the component's closing, whole -/
def cx_fi (A n nw : Nat) (wl : Nat → Nat) (g : Nat → Nat → Nat) (kd : Nat → Nat) (t0 : Nat → Int32) (m : Nat) (tb pr fm bb dp : Nat → Int32) : Prop :=
  ∃ rho fc D : Nat → Nat, cz_std A (cz_Es n nw wl g kd t0) (cz_Fs n nw wl g kd t0) m rho fc ∧ (∀ s, s < m → rho s < n) ∧ cz_tt A (cz_Fs n nw wl g kd t0) m rho tb ∧ (∀ c, c < 32 → pr c = nI c) ∧
    D 0 = 0 ∧ (∀ s, s < m → dp s = nI (D s) ∧ D s ≤ s) ∧ (∀ s, 0 < s → s < m → fm s = nI (fc s / 6) ∧ bb s = nI (fc s % 6) ∧ D s = D (fc s / 6) + 1) ∧ m ≤ n
section
variable {al mo cl wo nn de to sl : Int32} {cu sr sa kn tb fr pr qu sk sw od lb fm bb dp : Nat → Int32}
variable {A n nw : Nat} {wl : Nat → Nat} {g : Nat → Nat → Nat} {kd st : Nat → Nat} {t0 pr0 : Nat → Int32} {ph0 : Nat → Nat}
variable {ph : Nat → Nat} {k : Nat}
theorem cx_close (hA : cz_A A) (hn0 : 0 < n) (hn : n ≤ 32) (hws : cx_ws nw wl g kd st sa sr kn) (hwd : cz_wd A nw wl g) (tw0 : cz_tw A n t0) (hp0 : cz_ph n pr0 ph0)
    (hx : cz_xs A n 0 (cz_Es n nw wl g kd t0) (cz_Fs n nw wl g kd t0) tb pr sk ph k) (hm : cz_hm n t0 ph0 tb ph)
    (hiw : ∀ w, w < nw → kd w = 1 → cz_iw n tb sk ph k (g w) (wl w)) (hsg : k = 0 → ∀ w, w < nw → kd w = 2 → cz_ok tb sk ph k (g w) (wl w) 0 0) {post : SX → Prop}
    (hp : ∀ m de' sl' tb' fr' pr' qu' sk' sw' od' lb' fm' bb' dp', cx_fi A n nw wl g kd t0 m tb' pr' fm' bb' dp' → post (nI A, mo, cl, nI nw, nI m, de', 0, sl', cu, sr, sa, kn, tb', fr', pr', qu', sk', sw', od', lb', fm', bb', dp')) :
    wpX_close post (nI A, mo, cl, nI nw, nn, de, nI k, sl, cu, sr, sa, kn, tb, fr, pr, qu, sk, sw, od, lb, fm, bb, dp) := by
  have hA6 := cz_A6 hA
  have hcl : cz_cl n nw wl g kd (cz_Es n nw wl g kd t0) (cz_Fs n nw wl g kd t0) := cz_EsFs
  refine cx_close0 hA hn0 hn hcl hws hwd hx hiw hsg ?_
  intro tb' pr' sk' qu' ph' K' de' sl' sw' q1 q2 q3 q4
  have hm' := cz_hm_trans hn tw0 hp0 hm q2
  have hkd : ∀ w, w < nw → kd w = 1 ∨ kd w = 2 := fun w hw => (hws.2 w hw).2.2.2.2.2.1
  obtain ⟨fE, fF⟩ := cz_fin hn0 hn hwd hkd q1 tw0 hm' q3 q4
  refine cx_renumber hA hn0 hn q1.1 ?_
  intro m rho fc D od lb fm bb dp fr pr2 tb2 r1 r2 r3
  have hmn := cz_bi_m hn r2
  obtain ⟨s1, s2⟩ := cz_bi_std hn hA6 hcl q1.2.2.1 (cz_ph_0 q1.2.1 hn0) fE fF (fun c hc => ⟨cz_ph_lt q1.2.1 hc, cz_ph_id q1.2.1 c hc⟩) r2
  obtain ⟨a1, a2, a3, a4, a5, a6, a7, a8, a9⟩ := r2
  have e : ∀ r x s, r < m → s < m → (cz_Fs n nw wl g kd t0 (rho r) x (rho s) ↔ cz_e tb' (rho r) x (rho s)) := by
    intro r x s hr hs
    rw [fF, s2 r hr, s2 s hs]
    exact ⟨fun h => h.2.2, fun h => ⟨(a4 r hr).1, (a4 s hs).1, h⟩⟩
  refine hp _ _ _ _ _ _ _ _ _ _ _ _ _ _ ⟨rho, fc, D, s1, fun s hs => (a4 s hs).1, ?_, r1, a3, fun s hs => (a4 s hs).2.2, fun s h0 hs => ?_, hmn⟩
  · intro r x hr hx
    obtain ⟨h1, h2⟩ := r3 r x hr hx
    refine ⟨?_, fun hr hx s hs hF => h2 hr hx s hs ((e r x s hr hs).mp hF)⟩
    rcases h1 with h1 | ⟨h3, h4, s, h5, h6, h7⟩
    · exact Or.inl h1
    · exact Or.inr ⟨h3, h4, s, h5, h6, (e r x s h3 h5).mpr h7⟩
  · obtain ⟨b1, b2, b3, b4, b5, b6, b7⟩ := a8 s h0 hs
    exact ⟨b1, b2, b6⟩
end
end
section
/-! the reference's bits: addEqual, addFact -/
theorem cy_b1 : ∀ i, i < 32 → bt 1 i = decide (i = 0) := by decide +kernel
theorem cy_and1 (z : Int32) : z &&& 1 = 0 ↔ bt z 0 = false := by
  constructor
  · intro h
    have h1 := b_and z 1 0
    rw [h, b_0, cy_b1 0 (by omega)] at h1
    simpa using h1.symm
  · intro h
    refine b_ext (fun i hi => ?_)
    rw [b_and, b_0, cy_b1 i hi]
    by_cases e : i = 0
    · rw [e, h]
      rfl
    · rw [decide_eq_false e, Bool.and_false]
theorem cy_bit (x : Int32) {d : Nat} (hd : d < 32) : ((x.toUInt32 >>> ((nI d).toUInt32 &&& Int32.toUInt32 31)).toInt32 &&& 1) = 0 ↔ bt x d = false := by
  rw [cy_and1, b_ushr d hd, Nat.add_zero]
theorem cy_sh {c : Nat} (hc : c < 32) (i : Nat) : bt ((1 : Int32) <<< (nI c &&& 31)) i = decide (i = c) := by
  by_cases hi : i < 32
  · rw [b_shl c hc 1 hi]
    by_cases e : c ≤ i
    · rw [decide_eq_true e, Bool.true_and, cy_b1 (i - c) (by omega)]
      by_cases e2 : i = c
      · rw [decide_eq_true e2, decide_eq_true (by omega)]
      · rw [decide_eq_false e2, decide_eq_false (by omega)]
    · rw [decide_eq_false e, Bool.false_and, decide_eq_false (by omega)]
  · rw [b_big (by omega), decide_eq_false (by omega)]
theorem cy_sh_t {c : Nat} (hc : c < 32) {i : Nat} : bt ((1 : Int32) <<< (nI c &&& 31)) i = true ↔ i = c := by
  rw [cy_sh hc i, decide_eq_true_iff]
theorem cy_and0 (x y : Int32) : x &&& y = 0 ↔ ∀ i, ¬ (bt x i = true ∧ bt y i = true) := by
  constructor
  · intro h i ⟨h1, h2⟩
    have h3 := b_and x y i
    rw [h, b_0, h1, h2] at h3
    exact absurd h3 (by decide)
  · intro h
    refine b_ext (fun i hi => ?_)
    rw [b_and, b_0]
    by_cases h1 : bt x i = true
    · by_cases h2 : bt y i = true
      · exact absurd ⟨h1, h2⟩ (h i)
      · rw [Bool.not_eq_true] at h2
        rw [h2, Bool.and_false]
    · rw [Bool.not_eq_true] at h1
      rw [h1, Bool.false_and]
theorem cy_or_t {x y : Int32} {i : Nat} : bt (x ||| y) i = true ↔ bt x i = true ∨ bt y i = true := by
  rw [b_or, Bool.or_eq_true]
def cy_pc (x : Int32) : Nat := cz_ct (bt x) 32
theorem cy_pc_le (x : Int32) : cy_pc x ≤ 32 := cz_ct_le _ _
theorem cy_pc_or (x s : Int32) : cy_pc x ≤ cy_pc (x ||| s) := cz_ct_mono (fun j _ h => cy_or_t.mpr (Or.inl h))
theorem cy_ct_lt {p q : Nat → Bool} : ∀ {k}, (∀ j, j < k → p j = true → q j = true) → (∃ i, i < k ∧ p i = false ∧ q i = true) → cz_ct p k + 1 ≤ cz_ct q k := by
  intro k
  induction k with
  | zero => exact fun _ ⟨i, hi, _⟩ => absurd hi (Nat.not_lt_zero i)
  | succ k ih =>
    intro h ⟨i, hi, h1, h2⟩
    show cz_ct p k + (if p k = true then 1 else 0) + 1 ≤ cz_ct q k + (if q k = true then 1 else 0)
    by_cases e : i = k
    · subst e
      have := cz_ct_mono (k := i) (fun j hj => h j (by omega))
      rw [h1, h2, if_pos rfl, if_neg (by decide)]
      omega
    · have h3 := ih (fun j hj => h j (by omega)) ⟨i, by omega, h1, h2⟩
      by_cases hp : p k = true
      · rw [if_pos hp, if_pos (h k (by omega) hp)]
        omega
      · rw [if_neg hp]
        omega
theorem cy_pc_lt {x s : Int32} (h : ¬ (x ||| s) = x) : cy_pc x + 1 ≤ cy_pc (x ||| s) := by
  refine cy_ct_lt (fun j _ h => cy_or_t.mpr (Or.inl h)) ?_
  by_cases hex : ∃ i, i < 32 ∧ bt x i = false ∧ bt (x ||| s) i = true
  · exact hex
  · refine absurd (b_ext (fun i hi => ?_)) h
    by_cases h1 : bt x i = true
    · rw [h1]
      exact cy_or_t.mpr (Or.inl h1)
    · rw [Bool.not_eq_true] at h1
      rw [h1]
      by_cases h2 : bt (x ||| s) i = true
      · exact absurd ⟨i, hi, h1, h2⟩ hex
      · rw [Bool.not_eq_true] at h2
        exact h2
def cy_sm (f : Nat → Int32) : Nat → Nat
  | 0 => 0
  | k + 1 => cy_sm f k + cy_pc (f k)
theorem cy_sm_le (f : Nat → Int32) : ∀ k, cy_sm f k ≤ 32 * k := by
  intro k
  induction k with
  | zero => exact Nat.le_refl 0
  | succ k ih =>
    have := cy_pc_le (f k)
    show cy_sm f k + cy_pc (f k) ≤ 32 * (k + 1)
    omega
theorem cy_sm_upd {f : Nat → Int32} {i : Nat} {v : Int32} {d : Nat} (hv : cy_pc (f i) + d ≤ cy_pc v) : ∀ k, i < k → cy_sm f k + d ≤ cy_sm (upd f i v) k := by
  intro k
  induction k with
  | zero => exact fun h => absurd h (Nat.not_lt_zero i)
  | succ k ih =>
    intro hi
    show cy_sm f k + cy_pc (f k) + d ≤ cy_sm (upd f i v) k + cy_pc (upd f i v k)
    by_cases e : i = k
    · subst e
      have h1 : ∀ m, m ≤ i → cy_sm (upd f i v) m = cy_sm f m := by
        intro m
        induction m with
        | zero => exact fun _ => rfl
        | succ m ihm =>
          intro hm
          show cy_sm (upd f i v) m + cy_pc (upd f i v m) = cy_sm f m + cy_pc (f m)
          rw [ihm (by omega), pk_un (by omega)]
      rw [h1 i (Nat.le_refl i), pk_us]
      omega
    · have := ih (by omega)
      rw [pk_un (by omega)]
      omega
def cy_M (yf ye : Nat → Int32) : Nat := cy_sm yf 192 + cy_sm ye 32
theorem cy_M_le (yf ye : Nat → Int32) : cy_M yf ye ≤ 7168 := by
  have h1 := cy_sm_le yf 192
  have h2 := cy_sm_le ye 32
  unfold cy_M
  omega
/-- a stretch of a sweep: bits only grow; with changed = 0 behind it nothing has changed -/
def cy_st (yf ye : Nat → Int32) (b : Nat) (yf' ye' : Nat → Int32) (b' : Nat) : Prop :=
  b' ≤ 1 ∧ (∀ i d, bt (yf i) d = true → bt (yf' i) d = true) ∧ (∀ i d, bt (ye i) d = true → bt (ye' i) d = true) ∧ (b' = 0 → b = 0 ∧ yf' = yf ∧ ye' = ye) ∧ cy_M yf ye + b' ≤ cy_M yf' ye' + b
theorem cy_st_refl {yf ye : Nat → Int32} {b : Nat} (h : b ≤ 1) : cy_st yf ye b yf ye b := ⟨h, fun _ _ h => h, fun _ _ h => h, fun h => ⟨h, rfl, rfl⟩, Nat.le_refl _⟩
theorem cy_st_trans {yf ye yf' ye' yf2 ye2 : Nat → Int32} {b b' b2 : Nat} (h1 : cy_st yf ye b yf' ye' b') (h2 : cy_st yf' ye' b' yf2 ye2 b2) : cy_st yf ye b yf2 ye2 b2 := by
  obtain ⟨p1, p2, p3, p4, p5⟩ := h1
  obtain ⟨q1, q2, q3, q4, q5⟩ := h2
  refine ⟨q1, fun i d h => q2 i d (p2 i d h), fun i d h => q3 i d (p3 i d h), fun h => ?_, by omega⟩
  obtain ⟨r1, r2, r3⟩ := q4 h
  obtain ⟨s1, s2, s3⟩ := p4 r1
  exact ⟨s1, r2.trans s2, r3.trans s3⟩
def cy_so (A n : Nat) (E : Nat → Nat → Prop) (F : Nat → Nat → Nat → Prop) (yf ye : Nat → Int32) : Prop :=
  (∀ c d, c < n → bt (ye c) d = true → E c d) ∧ (∀ c x d, c < n → x < A → bt (yf (c * 6 + x)) d = true → F c x d)
theorem cy_updE {ye : Nat → Int32} {c : Nat} {s : Int32} (h : (ye c ||| s) = ye c) : upd ye c (ye c ||| s) = ye := by
  funext j
  by_cases e : j = c
  · rw [e, pk_us, h]
  · rw [pk_un e]
section
variable {yl ym yn yw yc : Int32} {yx yg yk yt yf ye yh yu yb yd : Nat → Int32}
variable {A n b : Nat} {E : Nat → Nat → Prop} {F : Nat → Nat → Nat → Prop}
theorem cy_addE {c : Nat} {s : Int32} (hA : cz_A A) (hn : n ≤ 32) (hc : c < n) (hb : b ≤ 1) (so : cy_so A n E F yf ye) (hs : ∀ d, bt s d = true → E c d) {post : SY → Prop}
    (hp : ∀ ye' b', cy_st yf ye b yf ye' b' → cy_so A n E F yf ye' → (∀ d, bt s d = true → bt (ye' c) d = true) → post (yl, ym, yn, yw, nI b', yx, yg, yk, yt, yf, ye', yh, yu, yb, yd)) :
    wpY_addEqual post (yl, ym, yn, yw, nI b, yx, yg, yk, yt, yf, ye, yh, yu, yb, yd) (nI c) s := by
  have c1 : (nI c).toNatClampNeg = c := nI_clamp (by omega)
  have v1 : vp_in (nI c) 32 := vp_in_nI (by omega) (by omega)
  have h1 : ∀ i d, bt (ye i) d = true → bt (upd ye c (ye c ||| s) i) d = true := by
    intro i d h
    by_cases e : i = c
    · rw [e, pk_us]
      rw [e] at h
      exact cy_or_t.mpr (Or.inl h)
    · rw [pk_un e]
      exact h
  have h2 : cy_so A n E F yf (upd ye c (ye c ||| s)) := by
    refine ⟨fun i d hi h => ?_, so.2⟩
    by_cases e : i = c
    · rw [e, pk_us] at h
      rw [e]
      rcases cy_or_t.mp h with h | h
      · exact so.1 c d hc h
      · exact hs d h
    · rw [pk_un e] at h
      exact so.1 i d hi h
  have h3 : ∀ d, bt s d = true → bt (upd ye c (ye c ||| s) c) d = true := by
    intro d h
    rw [pk_us]
    exact cy_or_t.mpr (Or.inr h)
  unfold wpY_addEqual
  refine And.intro v1 (And.intro v1 ?_)
  rw [c1]
  refine br_c (fun he => ?_) (fun he => ?_)
  · refine And.intro v1 (And.intro v1 (nm_r (e' := upd ye c (ye c ||| s)) (by rw [c1]) ?_))
    refine hp _ b ⟨hb, fun _ _ h => h, h1, fun h => ⟨h, rfl, cy_updE he⟩, ?_⟩ h2 h3
    rw [cy_updE he]
    exact Nat.le_refl _
  · refine And.intro v1 (And.intro v1 (nm_r (e' := upd ye c (ye c ||| s)) (by rw [c1]) ?_))
    refine hp _ 1 ⟨Nat.le_refl 1, fun _ _ h => h, h1, fun h => absurd h (by omega), ?_⟩ h2 h3
    have h4 := cy_sm_upd (f := ye) (i := c) (d := 1) (cy_pc_lt he) 32 (by omega)
    unfold cy_M
    omega
theorem cy_addF {c x : Nat} {s : Int32} (hA : cz_A A) (hn : n ≤ 32) (hc : c < n) (hx : x < A) (hb : b ≤ 1) (so : cy_so A n E F yf ye) (hs : ∀ d, bt s d = true → F c x d) {post : SY → Prop}
    (hp : ∀ yf' b', cy_st yf ye b yf' ye b' → cy_so A n E F yf' ye → (∀ d, bt s d = true → bt (yf' (c * 6 + x)) d = true) → post (yl, ym, yn, yw, nI b', yx, yg, yk, yt, yf', ye, yh, yu, yb, yd)) :
    wpY_addFact post (yl, ym, yn, yw, nI b, yx, yg, yk, yt, yf, ye, yh, yu, yb, yd) (nI c) (nI x) s := by
  have hA6 := cz_A6 hA
  have c1 : (nI c * 6 + nI x).toNatClampNeg = c * 6 + x := by rw [cz_ix, nI_clamp (by omega)]
  have v1 : vp_in (nI c * 6 + nI x) 192 := by rw [cz_ix]; exact vp_in_nI (by omega) (by omega)
  have h1 : ∀ i d, bt (yf i) d = true → bt (upd yf (c * 6 + x) (yf (c * 6 + x) ||| s) i) d = true := by
    intro i d h
    by_cases e : i = c * 6 + x
    · rw [e, pk_us]
      rw [e] at h
      exact cy_or_t.mpr (Or.inl h)
    · rw [pk_un e]
      exact h
  have h2 : cy_so A n E F (upd yf (c * 6 + x) (yf (c * 6 + x) ||| s)) ye := by
    refine ⟨so.1, fun i y d hi hy h => ?_⟩
    by_cases e : i * 6 + y = c * 6 + x
    · rw [e, pk_us] at h
      have e1 : i = c := by omega
      have e2 : y = x := by omega
      rw [e1, e2]
      rcases cy_or_t.mp h with h | h
      · exact so.2 c x d hc hx h
      · exact hs d h
    · rw [pk_un e] at h
      exact so.2 i y d hi hy h
  have h3 : ∀ d, bt s d = true → bt (upd yf (c * 6 + x) (yf (c * 6 + x) ||| s) (c * 6 + x)) d = true := by
    intro d h
    rw [pk_us]
    exact cy_or_t.mpr (Or.inr h)
  unfold wpY_addFact
  refine And.intro v1 (And.intro v1 ?_)
  rw [c1]
  refine br_c (fun he => ?_) (fun he => ?_)
  · refine And.intro v1 (And.intro v1 (nm_r (e' := upd yf (c * 6 + x) (yf (c * 6 + x) ||| s)) (by rw [c1]) ?_))
    refine hp _ b ⟨hb, h1, fun _ _ h => h, fun h => ⟨h, cy_updE he, rfl⟩, ?_⟩ h2 h3
    rw [cy_updE he]
    exact Nat.le_refl _
  · refine And.intro v1 (And.intro v1 (nm_r (e' := upd yf (c * 6 + x) (yf (c * 6 + x) ||| s)) (by rw [c1]) ?_))
    refine hp _ 1 ⟨Nat.le_refl 1, h1, fun _ _ h => h, fun h => absurd h (by omega), ?_⟩ h2 h3
    have h4 := cy_sm_upd (f := yf) (i := c * 6 + x) (d := 1) (cy_pc_lt he) 192 (by omega)
    unfold cy_M
    omega
end
end
section
/-! pair -/
def cy_PX (yf ye : Nat → Int32) (c d x : Nat) : Prop :=
  (bt (ye c) d = true → ∀ e, bt (yf (c * 6 + x)) e = true → bt (yf (d * 6 + x)) e = true) ∧
  (bt (yf (c * 6 + x)) d = true → (∀ e, bt (ye d) e = true → bt (yf (c * 6 + x)) e = true) ∧ bt (yf (d * 6 + cz_iv x)) c = true ∧ ∀ e, bt (yf (c * 6 + x)) e = true → bt (ye d) e = true)
def cy_PE (ye : Nat → Int32) (c d : Nat) : Prop := bt (ye c) d = true → bt (ye d) c = true ∧ ∀ e, bt (ye d) e = true → bt (ye c) e = true
theorem cy_nf {x : Bool} (h : ¬ x = false) : x = true := by
  cases x
  · exact absurd rfl h
  · rfl
section
variable {yl ym yn yw yc : Int32} {yx yg yk yt yf ye yh yu yb yd : Nat → Int32}
variable {A n nw b : Nat} {wl : Nat → Nat} {g : Nat → Nat → Nat} {kd : Nat → Nat} {E : Nat → Nat → Prop} {F : Nat → Nat → Nat → Prop}
theorem cy_p81 (hA : cz_A A) (hn : n ≤ 32) (hcl : cz_cl n nw wl g kd E F) {c d x : Nat} (hc : c < n) (hd : d < n) (hx : x < A) (hb : b ≤ 1) (so : cy_so A n E F yf ye) {f z : Int32} (hf : ∀ e, bt f e = true → F c x e) {post : SY → Prop} {J : Int32 → Int32 → Int32 → Int32 → Int32 → Int32 → (Nat → Int32) → (Nat → Int32) → (Nat → Int32) → (Nat → Int32) → (Nat → Int32) → (Nat → Int32) → (Nat → Int32) → (Nat → Int32) → (Nat → Int32) → (Nat → Int32) → Prop}
    (hJ : ∀ yf' ye' b', cy_st yf ye b yf' ye' b' → cy_so A n E F yf' ye' → (bt f d = true → (∀ e, bt (ye d) e = true → bt (yf' (c * 6 + x)) e = true) ∧ bt (yf' (d * 6 + cz_iv x)) c = true ∧ ∀ e, bt f e = true → bt (ye' d) e = true) → J (nI (x + 1)) yl ym yn yw (nI b') yx yg yk yt yf' ye' yh yu yb yd) :
    wY_pair_81 post J (nI c) (nI d) z (nI x) f yl ym yn yw (nI b) yx yg yk yt yf ye yh yu yb yd := by
  have hA6 := cz_A6 hA
  refine br_c (fun h0 => ?_) (fun h0 => ?_)
  · refine nm_r (nI_1 x) (hJ _ _ b (cy_st_refl hb) so (fun h1 => ?_))
    rw [(cy_bit f (by omega)).mp h0] at h1
    exact absurd h1 (by decide)
  · rw [cy_bit f (by omega)] at h0
    have hfd := cy_nf h0
    have hF := hf d hfd
    have c1 : (nI d).toNatClampNeg = d := nI_clamp (by omega)
    refine And.intro (vp_in_nI (by omega) (by omega)) ?_
    rw [c1, cz_ivN]
    refine cy_addF hA hn hc hx hb so (fun e he => hcl.2.2.2.2.1 _ _ _ _ hF (so.1 d e hd he)) ?_
    intro yf1 b1 s1 so1 g1
    refine cy_addF hA hn hd (cz_iv_lt hA hx) s1.1 so1 (fun e he => ?_) ?_
    · rw [cy_sh_t (by omega)] at he
      rw [he]
      exact hcl.2.2.2.2.2.1 _ _ _ hF
    intro yf2 b2 s2 so2 g2
    refine cy_addE hA hn hd s2.1 so2 (fun e he => hcl.2.2.2.2.2.2.1 _ _ _ _ hF (hf e he)) ?_
    intro ye3 b3 s3 so3 g3
    refine nm_r (nI_1 x) (hJ _ _ b3 (cy_st_trans s1 (cy_st_trans s2 s3)) so3 (fun _ => ⟨fun e he => s2.2.1 _ _ (g1 e he), g2 c ((cy_sh_t (by omega)).mpr rfl), g3⟩))
theorem cy_p45 (hA : cz_A A) (hn : n ≤ 32) (hcl : cz_cl n nw wl g kd E F) {c d z : Nat} (hc : c < n) (hd : d < n) (hz : z ≤ 1) (hzE : z ≠ 0 → E c d) {post : SY → Prop} :
    ∀ N x yf ye b, A - x < N → x ≤ A → b ≤ 1 → cy_so A n E F yf ye → (b = 0 → (bt (ye c) d = true → z ≠ 0) ∧ ∀ y, y < x → cy_PX yf ye c d y) →
    (∀ yf' ye' b', cy_st yf ye b yf' ye' b' → cy_so A n E F yf' ye' → (b' = 0 → ∀ y, y < A → cy_PX yf' ye' c d y) → post (nI A, ym, yn, yw, nI b', yx, yg, yk, yt, yf', ye', yh, yu, yb, yd)) →
    wY_pair_45 post (nI c) (nI d) (nI z) N (nI x) (nI A) ym yn yw (nI b) yx yg yk yt yf ye yh yu yb yd := by
  have hA6 := cz_A6 hA
  intro N
  induction N with
  | zero => exact fun x yf ye b h => absurd h (Nat.not_lt_zero _)
  | succ N ih =>
    intro x yf ye b h1 h2 hb so hq hp
    refine pk_le A x (fun hle => ?_) (fun hlt => ?_)
    · exact hp _ _ b (cy_st_refl hb) so (fun h y hy => (hq h).2 y (by omega))
    · have c1 : (nI c * 6 + nI x).toNatClampNeg = c * 6 + x := by rw [cz_ix, nI_clamp (by omega)]
      have v1 : vp_in (nI c * 6 + nI x) 192 := by rw [cz_ix]; exact vp_in_nI (by omega) (by omega)
      refine And.intro v1 (nm_r (congrArg yf c1) ?_)
      refine pk_eq z 0 (fun e0 => ?_) (fun e0 => ?_)
      · refine cy_p81 hA hn hcl hc hd hlt hb so (fun e he => so.2 c x e hc hlt he) ?_
        intro yf1 ye1 b1 s1 so1 g1
        refine ih (x + 1) yf1 ye1 b1 (by omega) (by omega) s1.1 so1 (fun hb1 => ?_) (fun yf2 ye2 b2 s2 so2 g2 => hp _ _ _ (cy_st_trans s1 s2) so2 g2)
        obtain ⟨k1, k2, k3⟩ := s1.2.2.2.1 hb1
        subst k2 k3
        obtain ⟨q1, q2⟩ := hq k1
        refine ⟨q1, fun y hy => ?_⟩
        by_cases e : y = x
        · subst e
          exact ⟨fun h => absurd e0 (q1 h), g1⟩
        · exact q2 y (by omega)
      · refine cy_addF hA hn hd hlt hb so (fun e he => hcl.2.2.2.1 _ _ _ _ (so.2 c x e hc hlt he) (hzE e0)) ?_
        intro yf0 b0 s0 so0 g0
        refine cy_p81 hA hn hcl hc hd hlt s0.1 so0 (fun e he => so.2 c x e hc hlt he) ?_
        intro yf1 ye1 b1 s1 so1 g1
        have s01 := cy_st_trans s0 s1
        refine ih (x + 1) yf1 ye1 b1 (by omega) (by omega) s1.1 so1 (fun hb1 => ?_) (fun yf2 ye2 b2 s2 so2 g2 => hp _ _ _ (cy_st_trans s01 s2) so2 g2)
        obtain ⟨k4, k5, k6⟩ := s1.2.2.2.1 hb1
        obtain ⟨k1, k2, k3⟩ := s0.2.2.2.1 k4
        subst k2 k5 k6
        obtain ⟨q1, q2⟩ := hq k1
        refine ⟨q1, fun y hy => ?_⟩
        by_cases e : y = x
        · subst e
          exact ⟨fun _ => g0, g1⟩
        · exact q2 y (by omega)
theorem cy_pair (hA : cz_A A) (hn : n ≤ 32) (hcl : cz_cl n nw wl g kd E F) {c d : Nat} (hc : c < n) (hd : d < n) (hb : b ≤ 1) (so : cy_so A n E F yf ye) {post : SY → Prop}
    (hp : ∀ yf' ye' b', cy_st yf ye b yf' ye' b' → cy_so A n E F yf' ye' → (b' = 0 → cy_PE ye' c d ∧ ∀ y, y < A → cy_PX yf' ye' c d y) → post (nI A, ym, yn, yw, nI b', yx, yg, yk, yt, yf', ye', yh, yu, yb, yd)) :
    wpY_pair post (nI A, ym, yn, yw, nI b, yx, yg, yk, yt, yf, ye, yh, yu, yb, yd) (nI c) (nI d) := by
  have c1 : (nI c).toNatClampNeg = c := nI_clamp (by omega)
  have c2 : (nI d).toNatClampNeg = d := nI_clamp (by omega)
  unfold wpY_pair
  refine And.intro (vp_in_nI (by omega) (by omega)) ?_
  rw [c1]
  refine br_c (fun h0 => ?_) (fun h0 => ?_)
  · rw [cy_bit _ (by omega)] at h0
    refine br_t rfl ⟨A + 1, cy_p45 (z := 0) hA hn hcl hc hd (by omega) (fun h => absurd rfl h) (A + 1) 0 _ _ _ (by omega) (by omega) hb so ?_ ?_⟩
    · refine fun _ => ⟨fun h => ?_, fun y hy => absurd hy (Nat.not_lt_zero y)⟩
      rw [h0] at h
      exact absurd h (by decide)
    · intro yf1 ye1 b1 s1 so1 g1
      refine hp _ _ _ s1 so1 (fun hb1 => ⟨fun h => ?_, g1 hb1⟩)
      obtain ⟨k4, k5, k6⟩ := s1.2.2.2.1 hb1
      rw [k6, h0] at h
      exact absurd h (by decide)
  · rw [cy_bit _ (by omega)] at h0
    have hE : E c d := so.1 c d hc (cy_nf h0)
    refine br_f (by decide) ?_
    refine cy_addE hA hn hd hb so (fun e he => ?_) ?_
    · rw [cy_sh_t (by omega)] at he
      rw [he]
      exact hcl.2.1 _ _ hE
    intro ye1 b1 s1 so1 g1
    refine And.intro (vp_in_nI (by omega) (by omega)) ?_
    rw [c2]
    refine cy_addE hA hn hc s1.1 so1 (fun e he => hcl.2.2.1 _ _ _ hE (so1.1 d e hd he)) ?_
    intro ye2 b2 s2 so2 g2
    refine ⟨A + 1, cy_p45 (z := 1) hA hn hcl hc hd (by omega) (fun _ => hE) (A + 1) 0 _ _ _ (by omega) (by omega) s2.1 so2 ?_ ?_⟩
    · exact fun _ => ⟨fun _ => by omega, fun y hy => absurd hy (Nat.not_lt_zero y)⟩
    · intro yf3 ye3 b3 s3 so3 g3
      refine hp _ _ _ (cy_st_trans s1 (cy_st_trans s2 s3)) so3 (fun hb1 => ⟨fun h => ?_, g3 hb1⟩)
      obtain ⟨k4, k5, k6⟩ := s3.2.2.2.1 hb1
      obtain ⟨k7, k8, k9⟩ := s2.2.2.2.1 k4
      subst k6 k9
      exact ⟨g1 c ((cy_sh_t (by omega)).mpr rfl), g2⟩
end
end
section
/-! useWord -/
def cy_F (A n : Nat) (yf : Nat → Int32) (c x d : Nat) : Prop := c < n ∧ x < A ∧ d < n ∧ bt (yf (c * 6 + x)) d = true
def cy_ws (nw : Nat) (wl : Nat → Nat) (g : Nat → Nat → Nat) (kd : Nat → Nat) (yx yg yk : Nat → Int32) : Prop :=
  nw ≤ 10 ∧ ∀ w, w < nw → yg (w + 1) = nI (wl w) ∧ yk (w + 1) = nI (kd w) ∧ ∀ i, i < wl w → yx ((w + 1) * 24 + i) = nI (g w i)
theorem cy_ixw {a i : Nat} (h : 1 ≤ i) : nI a * 24 + nI i - 1 = nI (a * 24 + (i - 1)) := by
  rw [show (24 : Int32) = nI 24 from rfl, pk_mul, nI_add, show (1 : Int32) = nI 1 from rfl, pk_sub (by omega)]
  exact congrArg nI (by omega)
section
variable {yl ym yn yw yc : Int32} {yx yg yk yt yf ye yh yu yb yd : Nat → Int32}
variable {A n nw b : Nat} {wl : Nat → Nat} {g : Nat → Nat → Nat} {kd : Nat → Nat} {E : Nat → Nat → Prop} {F : Nat → Nat → Nat → Prop}
variable {w c : Nat}
theorem cy_u38 (hA : cz_A A) (hn : n ≤ 32) (hws : cy_ws nw wl g kd yx yg yk) (hwd : cz_wd A nw wl g) (hw : w < nw) {i : Nat} (hi : 1 ≤ i) (hiL : i ≤ wl w) {yh0 : Nat → Int32}
    (hh : ∀ q, bt (yh0 i) q = true ↔ (q < n ∧ cz_p (cy_F A n yf) (g w) (wl w - i) i q c)) {post : SY → Prop} {J : Int32 → (Nat → Int32) → (Nat → Int32) → (Nat → Int32) → (Nat → Int32) → (Nat → Int32) → (Nat → Int32) → (Nat → Int32) → (Nat → Int32) → (Nat → Int32) → (Nat → Int32) → Prop}
    (hJ : ∀ yh, (∀ j, j ≠ i - 1 → yh j = yh0 j) → (∀ q, bt (yh (i - 1)) q = true ↔ (q < n ∧ cz_p (cy_F A n yf) (g w) (wl w - (i - 1)) (i - 1) q c)) → J (nI (i - 1)) yx yg yk yt yf ye yh yu yb yd) :
    ∀ N q yh, n - q < N → q ≤ n → (∀ j, j ≠ i - 1 → yh j = yh0 j) → (∀ q', bt (yh (i - 1)) q' = true ↔ (q' < q ∧ cz_p (cy_F A n yf) (g w) (wl w - (i - 1)) (i - 1) q' c)) →
    wY_useWord_38 post J (nI (w + 1)) (nI c) (nI i) yl ym (nI n) yw yc N (nI q) yx yg yk yt yf ye yh yu yb yd := by
  have hA6 := cz_A6 hA
  obtain ⟨hnw, hws'⟩ := hws
  obtain ⟨w1, w2, w3⟩ := hws' w hw
  obtain ⟨l1, l2, l3, l4⟩ := hwd w hw
  have hl := l3 (i - 1)
  have e0 := cy_ixw (a := w + 1) hi
  have e1 : yx (nI (w + 1) * 24 + nI i - 1).toNatClampNeg = nI (g w (i - 1)) := by rw [e0, nI_clamp (by omega), w3 (i - 1) (by omega)]
  have v1 : vp_in (nI (w + 1) * 24 + nI i - 1) 264 := by rw [e0]; exact vp_in_nI (by omega) (by omega)
  have ei : nI i - 1 = nI (i - 1) := pk_sub (a := i) (b := 1) hi
  intro N
  induction N with
  | zero => exact fun q yh h => absurd h (Nat.not_lt_zero _)
  | succ N ih =>
    intro q yh h1 h2 h3 h4
    have hcond : ∀ q', cz_p (cy_F A n yf) (g w) (wl w - (i - 1)) (i - 1) q' c ↔ ∃ r, cy_F A n yf q' (g w (i - 1)) r ∧ cz_p (cy_F A n yf) (g w) (wl w - i) i r c := by
      intro q'
      rw [show wl w - (i - 1) = wl w - i + 1 by omega]
      have e : i - 1 + 1 = i := by omega
      constructor
      · intro ⟨r, p1, p2⟩
        exact ⟨r, p1, cz_p_at e p2⟩
      · intro ⟨r, p1, p2⟩
        exact ⟨r, p1, cz_p_at e.symm p2⟩
    refine pk_le n q (fun hle => ?_) (fun hlt => ?_)
    · refine nm_r (sb_m1 (by omega)) (hJ yh h3 (fun q' => ?_))
      rw [h4 q', show q = n by omega]
    · have e2 : nI q * 6 + yx (nI (w + 1) * 24 + nI i - 1).toNatClampNeg = nI (q * 6 + g w (i - 1)) := by rw [e1, cz_ix]
      have v2 : vp_in (nI q * 6 + yx (nI (w + 1) * 24 + nI i - 1).toNatClampNeg) 192 := by rw [e2]; exact vp_in_nI (by omega) (by omega)
      have c2 : (nI q * 6 + yx (nI (w + 1) * 24 + nI i - 1).toNatClampNeg).toNatClampNeg = q * 6 + g w (i - 1) := by rw [e2, nI_clamp (by omega)]
      have c3 : (nI i).toNatClampNeg = i := nI_clamp (by omega)
      refine And.intro v1 (And.intro v2 (And.intro (vp_in_nI (by omega) (by omega)) ?_))
      rw [c2, c3, h3 i (by omega)]
      refine br_c (fun hz => ?_) (fun hz => ?_)
      · rw [cy_and0] at hz
        refine nm_r (nI_1 q) (ih (q + 1) yh (by omega) (by omega) h3 (fun q' => ?_))
        rw [h4 q']
        refine ⟨fun h => ⟨by omega, h.2⟩, fun h => ⟨?_, h.2⟩⟩
        by_cases e : q' = q
        · exfalso
          obtain ⟨r, p1, p2⟩ := (hcond q').mp h.2
          rw [e] at p1
          exact hz r ⟨p1.2.2.2, (hh r).mpr ⟨p1.2.2.1, p2⟩⟩
        · omega
      · have hex : ∃ r, bt (yf (q * 6 + g w (i - 1))) r = true ∧ bt (yh0 i) r = true := by
          by_cases hx : ∃ r, bt (yf (q * 6 + g w (i - 1))) r = true ∧ bt (yh0 i) r = true
          · exact hx
          · exact absurd ((cy_and0 _ _).mpr (fun r hr => hx ⟨r, hr⟩)) hz
        obtain ⟨r, r1, r2⟩ := hex
        obtain ⟨r3, r4⟩ := (hh r).mp r2
        have hpq : cz_p (cy_F A n yf) (g w) (wl w - (i - 1)) (i - 1) q c := (hcond q).mpr ⟨r, ⟨hlt, hl, r3, r1⟩, r4⟩
        have v3 : vp_in (nI i - 1) 25 := by rw [ei]; exact vp_in_nI (by omega) (by omega)
        have e5 : upd yh (nI i - 1).toNatClampNeg (yh (nI i - 1).toNatClampNeg ||| (1 : Int32) <<< (nI q &&& 31)) = upd yh (i - 1) (yh (i - 1) ||| (1 : Int32) <<< (nI q &&& 31)) := by
          rw [ei, nI_clamp (by omega)]
        refine And.intro v3 (And.intro v3 (nm_r e5 (nm_r (nI_1 q) (ih (q + 1) _ (by omega) (by omega) (fun j hj => ?_) (fun q' => ?_)))))
        · rw [pk_un hj]
          exact h3 j hj
        · rw [pk_us, cy_or_t, h4 q', cy_sh_t (by omega)]
          constructor
          · rintro (h | h)
            · exact ⟨by omega, h.2⟩
            · rw [h]
              exact ⟨by omega, hpq⟩
          · intro h
            by_cases e : q' = q
            · exact Or.inr e
            · exact Or.inl ⟨by omega, h.2⟩
theorem cy_u21 (hA : cz_A A) (hn : n ≤ 32) (hws : cy_ws nw wl g kd yx yg yk) (hwd : cz_wd A nw wl g) (hw : w < nw) (hc : c < n) {post : SY → Prop}
    (hK : ∀ yh, (∀ j, j ≤ wl w → ∀ q, bt (yh j) q = true ↔ (q < n ∧ cz_p (cy_F A n yf) (g w) (wl w - j) j q c)) → ∃ n115, wY_useWord_115 post (nI (w + 1)) n115 ((1 : Int32) <<< (nI c &&& 31)) 1 yl ym (nI n) yw yc yx yg yk yt yf ye yh yu yb yd) :
    ∀ N i yh, i < N → i ≤ wl w → (∀ j, i ≤ j → j ≤ wl w → ∀ q, bt (yh j) q = true ↔ (q < n ∧ cz_p (cy_F A n yf) (g w) (wl w - j) j q c)) →
    wY_useWord_21 post (nI (w + 1)) (nI c) yl ym (nI n) yw yc N (nI i) yx yg yk yt yf ye yh yu yb yd := by
  have hl2 := (hwd w hw).2.1
  intro N
  induction N with
  | zero => exact fun i yh h => absurd h (Nat.not_lt_zero _)
  | succ N ih =>
    intro i yh h1 h2 h3
    refine pk_lt i 1 (fun hlt => ?_) (fun hge => ?_)
    · exact nm_e (hK yh (fun j hj => h3 j (by omega) hj))
    · have ei : nI i - 1 = nI (i - 1) := pk_sub (a := i) (b := 1) hge
      have v3 : vp_in (nI i - 1) 25 := by rw [ei]; exact vp_in_nI (by omega) (by omega)
      have e5 : upd yh (nI i - 1).toNatClampNeg 0 = upd yh (i - 1) 0 := by rw [ei, nI_clamp (by omega)]
      refine And.intro v3 (nm_r e5 ⟨n + 1, cy_u38 hA hn hws hwd hw hge h2 (yh0 := yh) (h3 i (Nat.le_refl i) h2) ?_ (n + 1) 0 _ (by omega) (by omega) (fun j hj => pk_un hj) (fun q' => ?_)⟩)
      · intro yh' k1 k2
        refine ih (i - 1) yh' (by omega) (by omega) (fun j hj1 hj2 => ?_)
        by_cases e : j = i - 1
        · rw [e]
          exact k2
        · rw [k1 j e]
          exact h3 j (by omega) hj2
      · rw [pk_us, b_0]
        exact ⟨fun h => absurd h (by decide), fun h => absurd h.1 (Nat.not_lt_zero _)⟩
theorem cy_u148 (hA : cz_A A) (hn : n ≤ 32) (hcl : cz_cl n nw wl g kd E F) (hwd : cz_wd A nw wl g) (hw : w < nw) (hru : cz_ru F (g w) (wl w) 0 c) {i : Nat} (hi : 1 ≤ i) (hiL : i ≤ wl w) {bf : Int32} {yf0 : Nat → Int32}
    (hbs : ∀ p, bt bf p = true → p < n ∧ cz_p F (g w) (i - 1) 0 c p)
    (hhs : ∀ q, bt (yh i) q = true → cz_p F (g w) (wl w - i) i q c) {post : SY → Prop} {J : Int32 → Int32 → Int32 → Int32 → Int32 → Int32 → Int32 → (Nat → Int32) → (Nat → Int32) → (Nat → Int32) → (Nat → Int32) → (Nat → Int32) → (Nat → Int32) → (Nat → Int32) → (Nat → Int32) → (Nat → Int32) → (Nat → Int32) → Prop} {x1 : Int32}
     :
    ∀ N p af yf ye b, n - p < N → p ≤ n → b ≤ 1 → cy_so A n E F yf ye → (∀ j d, bt (yf0 j) d = true → bt (yf j) d = true) → (∀ e, bt af e = true → e < n ∧ cz_p F (g w) i 0 c e) →
    (∀ p', p' < p → bt bf p' = true → (∀ e, bt (yf0 (p' * 6 + g w (i - 1))) e = true → bt af e = true) ∧ (∀ q, bt (yh i) q = true → bt (yf (p' * 6 + g w (i - 1))) q = true)) →
    (∀ af' yf' ye' b', cy_st yf ye b yf' ye' b' → cy_so A n E F yf' ye' → (∀ e, bt af' e = true → e < n ∧ cz_p F (g w) i 0 c e) → (∀ p', p' < n → bt bf p' = true → (∀ e, bt (yf0 (p' * 6 + g w (i - 1))) e = true → bt af' e = true) ∧ (∀ q, bt (yh i) q = true → bt (yf' (p' * 6 + g w (i - 1))) q = true)) → J af' (nI (i + 1)) yl ym (nI n) yw (nI b') yx yg yk yt yf' ye' yh yu yb yd) →
    wY_useWord_148 post J x1 bf (nI i) (nI (g w (i - 1))) N af (nI p) yl ym (nI n) yw (nI b) yx yg yk yt yf ye yh yu yb yd := by
  have hA6 := cz_A6 hA
  obtain ⟨l1, l2, l3, l4⟩ := hwd w hw
  have hl := l3 (i - 1)
  have ci : (nI i).toNatClampNeg = i := nI_clamp (by omega)
  intro N
  induction N with
  | zero => exact fun p af yf ye b h => absurd h (Nat.not_lt_zero _)
  | succ N ih =>
    intro p af yf ye b h1 h2 hb so hge hafs hdone hJ
    refine pk_le n p (fun hle => ?_) (fun hlt => ?_)
    · exact nm_r (nI_1 i) (hJ af yf ye b (cy_st_refl hb) so hafs (fun p' hp' => hdone p' (by omega)))
    · refine br_c (fun hz => ?_) (fun hz => ?_)
      · rw [cy_bit _ (by omega)] at hz
        refine nm_r (nI_1 p) (ih (p + 1) af yf ye b (by omega) (by omega) hb so hge hafs (fun p' hp' hbp => ?_) hJ)
        by_cases e : p' = p
        · rw [e, hz] at hbp
          exact absurd hbp (by decide)
        · exact hdone p' (by omega) hbp
      · rw [cy_bit _ (by omega)] at hz
        have hbp := cy_nf hz
        obtain ⟨_, hpath⟩ := hbs p hbp
        refine And.intro (vp_in_nI (by omega) (by omega)) ?_
        rw [ci]
        refine cy_addF hA hn hlt hl hb so (fun q hq => ?_) ?_
        · have h5 := hru (i - 1) q p (by omega) (cz_p_at (by omega) (cz_p_len (show wl w - i = wl w - 1 - (i - 1) by omega) (hhs q hq))) hpath
          rw [Nat.zero_add] at h5
          exact h5
        · intro yf1 b1 s1 so1 g1
          have c2 : (nI p * 6 + nI (g w (i - 1))).toNatClampNeg = p * 6 + g w (i - 1) := by rw [cz_ix, nI_clamp (by omega)]
          have v2 : vp_in (nI p * 6 + nI (g w (i - 1))) 192 := by rw [cz_ix]; exact vp_in_nI (by omega) (by omega)
          refine And.intro v2 (nm_r (e' := af ||| yf1 (p * 6 + g w (i - 1))) (by rw [c2]) (nm_r (nI_1 p) (ih (p + 1) _ yf1 ye b1 (by omega) (by omega) s1.1 so1 (fun j d h => s1.2.1 _ _ (hge j d h)) (fun e he => ?_) (fun p' hp' hbp' => ?_) (fun af' yf' ye' b' s2 so2 q1 q2 => hJ af' yf' ye' b' (cy_st_trans s1 s2) so2 q1 q2))))
          · rcases cy_or_t.mp he with he | he
            · exact hafs e he
            · have h6 := so1.2 p _ e hlt hl he
              refine ⟨(hcl.2.2.2.2.2.2.2.1 _ _ _ h6).2, cz_p_len (show i - 1 + 1 = i by omega) (cz_p_snoc hpath ?_)⟩
              rw [Nat.zero_add]
              exact h6
          · by_cases e : p' = p
            · subst e
              exact ⟨fun e he => cy_or_t.mpr (Or.inr (s1.2.1 _ _ (hge _ _ he))), g1⟩
            · obtain ⟨d1, d2⟩ := hdone p' (by omega) hbp'
              exact ⟨fun e he => cy_or_t.mpr (Or.inl (d1 e he)), fun q hq => s1.2.1 _ _ (d2 q hq)⟩
theorem cy_u115 (hA : cz_A A) (hn : n ≤ 32) (hcl : cz_cl n nw wl g kd E F) (hws : cy_ws nw wl g kd yx yg yk) (hwd : cz_wd A nw wl g) (hw : w < nw) (hru : cz_ru F (g w) (wl w) 0 c) {yf0 : Nat → Int32}
    (hh : ∀ j, j ≤ wl w → ∀ q, bt (yh j) q = true ↔ (q < n ∧ cz_p (cy_F A n yf0) (g w) (wl w - j) j q c))
    (hF0 : ∀ c x d, cy_F A n yf0 c x d → F c x d) {post : SY → Prop} :
    ∀ N i bf yf ye b, wl w + 1 - i < N → 1 ≤ i → i ≤ wl w + 1 → b ≤ 1 → cy_so A n E F yf ye → (∀ j d, bt (yf0 j) d = true → bt (yf j) d = true) → (∀ e, bt bf e = true → e < n ∧ cz_p F (g w) (i - 1) 0 c e) → (∀ p, p < n → cz_p (cy_F A n yf0) (g w) (i - 1) 0 c p → bt bf p = true) →
    (∀ f q p, f + 1 < i → p < n → q < n → cz_p (cy_F A n yf0) (g w) (wl w - 1 - f) (f + 1) q c → cz_p (cy_F A n yf0) (g w) f 0 c p → bt (yf (p * 6 + g w f)) q = true) →
    (∀ yf' ye' b', cy_st yf ye b yf' ye' b' → cy_so A n E F yf' ye' → (∀ f q p, f < wl w → p < n → q < n → cz_p (cy_F A n yf0) (g w) (wl w - 1 - f) (f + 1) q c → cz_p (cy_F A n yf0) (g w) f 0 c p → bt (yf' (p * 6 + g w f)) q = true) → post (yl, ym, nI n, yw, nI b', yx, yg, yk, yt, yf', ye', yh, yu, yb, yd)) →
    wY_useWord_115 post (nI (w + 1)) N bf (nI i) yl ym (nI n) yw (nI b) yx yg yk yt yf ye yh yu yb yd := by
  have hA6 := cz_A6 hA
  obtain ⟨hnw, hws'⟩ := hws
  obtain ⟨w1, w2, w3⟩ := hws' w hw
  obtain ⟨l1, l2, l3, l4⟩ := hwd w hw
  have cw : (nI (w + 1)).toNatClampNeg = w + 1 := nI_clamp (by omega)
  intro N
  induction N with
  | zero => exact fun i bf yf ye b h => absurd h (Nat.not_lt_zero _)
  | succ N ih =>
    intro i bf yf ye b h1 h2 h3 hb so hge hbs hbc hrl hp
    refine And.intro (vp_in_nI (by omega) (by omega)) ?_
    rw [cw, w1]
    refine pk_lt (wl w) i (fun hlt => ?_) (fun hle => ?_)
    · exact hp yf ye b (cy_st_refl hb) so (fun f q p hf => hrl f q p (by omega))
    · have e0 := cy_ixw (a := w + 1) h2
      have e1 : yx (nI (w + 1) * 24 + nI i - 1).toNatClampNeg = nI (g w (i - 1)) := by rw [e0, nI_clamp (by omega), w3 (i - 1) (by omega)]
      have v1 : vp_in (nI (w + 1) * 24 + nI i - 1) 264 := by rw [e0]; exact vp_in_nI (by omega) (by omega)
      refine And.intro v1 (nm_r e1 ⟨n + 1, cy_u148 (yf0 := yf0) hA hn hcl hwd hw hru h2 hle hbs (fun q hq => cz_p_mono hF0 ((hh i hle q).mp hq).2) (n + 1) 0 0 yf ye b (by omega) (by omega) hb so hge (fun e he => ?_) (fun p' hp' => absurd hp' (Nat.not_lt_zero p')) ?_⟩)
      · rw [b_0] at he
        exact absurd he (by decide)
      · intro af' yf' ye' b' s1 so1 q1 q2
        refine ih (i + 1) af' yf' ye' b' (by omega) (by omega) (by omega) s1.1 so1 (fun j d h => s1.2.1 _ _ (hge j d h)) q1 (fun p hp hpath => ?_) (fun f q p hf hpn hqn k1 k2 => ?_) (fun yf2 ye2 b2 s2 so2 g2 => hp yf2 ye2 b2 (cy_st_trans s1 s2) so2 g2)
        · obtain ⟨r, k1, k2⟩ := cz_p_last (cz_p_len (show i + 1 - 1 = i - 1 + 1 by omega) hpath)
          rw [Nat.zero_add] at k2
          exact (q2 r k2.1 (hbc r k2.1 k1)).1 p k2.2.2.2
        · by_cases e : f + 1 < i
          · exact s1.2.1 _ _ (hrl f q p e hpn hqn k1 k2)
          · have e2 : f = i - 1 := by omega
            subst e2
            refine (q2 p hpn (hbc p hpn k2)).2 q ((hh i hle q).mpr ⟨hqn, ?_⟩)
            exact cz_p_at (by omega) (cz_p_len (show wl w - 1 - (i - 1) = wl w - i by omega) k1)
theorem cy_useWord (hA : cz_A A) (hn : n ≤ 32) (hcl : cz_cl n nw wl g kd E F) (hws : cy_ws nw wl g kd yx yg yk) (hwd : cz_wd A nw wl g) (hw : w < nw) (hc : c < n) (hru : cz_ru F (g w) (wl w) 0 c) (hb : b ≤ 1) (so : cy_so A n E F yf ye) {post : SY → Prop}
    (hp : ∀ yf' ye' yh' b', cy_st yf ye b yf' ye' b' → cy_so A n E F yf' ye' → (b' = 0 → ∀ f q p, f < wl w → cz_p (cy_F A n yf') (g w) (wl w - 1 - f) (f + 1) q c → cz_p (cy_F A n yf') (g w) f 0 c p → cy_F A n yf' p (g w f) q) → post (yl, ym, nI n, yw, nI b', yx, yg, yk, yt, yf', ye', yh', yu, yb, yd)) :
    wpY_useWord post (yl, ym, nI n, yw, nI b, yx, yg, yk, yt, yf, ye, yh, yu, yb, yd) (nI (w + 1)) (nI c) := by
  obtain ⟨hnw, hws'⟩ := hws
  obtain ⟨w1, w2, w3⟩ := hws' w hw
  obtain ⟨l1, l2, l3, l4⟩ := hwd w hw
  have cw : (nI (w + 1)).toNatClampNeg = w + 1 := nI_clamp (by omega)
  have e1 : yg (nI (w + 1)).toNatClampNeg = nI (wl w) := by rw [cw, w1]
  have v1 : vp_in (yg (nI (w + 1)).toNatClampNeg) 25 := by rw [e1]; exact vp_in_nI (by omega) (by omega)
  have e2 : upd yh (yg (nI (w + 1)).toNatClampNeg).toNatClampNeg ((1 : Int32) <<< (nI c &&& 31)) = upd yh (wl w) ((1 : Int32) <<< (nI c &&& 31)) := by rw [e1, nI_clamp (by omega)]
  have v0 : vp_in (nI (w + 1)) 11 := vp_in_nI (by omega) (by omega)
  unfold wpY_useWord
  refine And.intro v0 (And.intro v1 (nm_r e2 (And.intro v0 (nm_r e1 ⟨wl w + 1, cy_u21 hA hn ⟨hnw, hws'⟩ hwd hw hc ?_ (wl w + 1) (wl w) _ (by omega) (Nat.le_refl _) (fun j hj1 hj2 q => ?_)⟩))))
  · intro yh' hh
    refine ⟨wl w + 1, cy_u115 (yf0 := yf) hA hn hcl ⟨hnw, hws'⟩ hwd hw hru hh (fun c x d h => so.2 c x d h.1 h.2.1 h.2.2.2) (wl w + 1) 1 _ yf ye b (by omega) (by omega) (by omega) hb so (fun _ _ h => h) (fun e he => ?_) (fun p _ hpp => ?_) (fun f q p hf => absurd hf (by omega)) ?_⟩
    · rw [cy_sh_t (by omega)] at he
      rw [he]
      exact ⟨hc, rfl⟩
    · exact (cy_sh_t (by omega)).mpr (Eq.symm hpp)
    · intro yf' ye' b' s1 so1 g1
      refine hp yf' ye' yh' b' s1 so1 (fun hb0 f q p hf k1 k2 => ?_)
      obtain ⟨_, m2, _⟩ := s1.2.2.2.1 hb0
      have hd : ∀ c x d, cy_F A n yf' c x d → c < n ∧ d < n := fun c x d h => ⟨h.1, h.2.2.1⟩
      have hq : q < n := (cz_p_dom (P := fun c => c < n) hd k1).2 hc
      have hpn : p < n := (cz_p_dom (P := fun c => c < n) hd k2).1 hc
      refine ⟨hpn, l3 f, hq, ?_⟩
      rw [m2] at k1 k2
      exact g1 f q p hf hpn hq k1 k2
  · have e : j = wl w := by omega
    subst e
    rw [pk_us, cy_sh_t (by omega), Nat.sub_self]
    exact ⟨fun h => ⟨by omega, h⟩, fun h => h.2⟩
end
end
section
/-! the reference's sweeps -/
def cy_PC (A : Nat) (yf ye : Nat → Int32) (c d : Nat) : Prop := cy_PE ye c d ∧ ∀ y, y < A → cy_PX yf ye c d y
def cy_WR (A n : Nat) (wl : Nat → Nat) (g : Nat → Nat → Nat) (yf : Nat → Int32) (w c : Nat) : Prop :=
  ∀ f q p, f < wl w → cz_p (cy_F A n yf) (g w) (wl w - 1 - f) (f + 1) q c → cz_p (cy_F A n yf) (g w) f 0 c p → cy_F A n yf p (g w f) q
def cy_al (A n nw : Nat) (wl : Nat → Nat) (g : Nat → Nat → Nat) (kd : Nat → Nat) (yf ye : Nat → Int32) : Prop :=
  (∀ c d, c < n → d < n → cy_PC A yf ye c d) ∧ (∀ w c, w < nw → c < n → (kd w = 1 ∨ c = 0) → cy_WR A n wl g yf w c)
section
variable {yl ym yn yw yc : Int32} {yx yg yk yt yf ye yh yu yb yd : Nat → Int32}
variable {A n nw b : Nat} {wl : Nat → Nat} {g : Nat → Nat → Nat} {kd : Nat → Nat} {E : Nat → Nat → Prop} {F : Nat → Nat → Nat → Prop}
theorem cy_c121 (hA : cz_A A) (hn : n ≤ 32) (hcl : cz_cl n nw wl g kd E F) {c : Nat} (hc : c < n) {r : Int32} {post : SY → Prop} {J90 J111 : Int32 → Int32 → Int32 → Int32 → Int32 → Int32 → (Nat → Int32) → (Nat → Int32) → (Nat → Int32) → (Nat → Int32) → (Nat → Int32) → (Nat → Int32) → (Nat → Int32) → (Nat → Int32) → (Nat → Int32) → (Nat → Int32) → Prop} :
    ∀ N d yf ye b, n - d < N → d ≤ n → b ≤ 1 → cy_so A n E F yf ye → (b = 0 → ∀ e, e < d → cy_PC A yf ye c e) →
    (∀ yf' ye' b', cy_st yf ye b yf' ye' b' → cy_so A n E F yf' ye' → (b' = 0 → ∀ e, e < n → cy_PC A yf' ye' c e) → J111 (nI (c + 1)) (nI A) ym (nI n) yw (nI b') yx yg yk yt yf' ye' yh yu yb yd) →
    wY_close_121 post J90 J111 r (nI c) N (nI d) (nI A) ym (nI n) yw (nI b) yx yg yk yt yf ye yh yu yb yd := by
  intro N
  induction N with
  | zero => exact fun d yf ye b h => absurd h (Nat.not_lt_zero _)
  | succ N ih =>
    intro d yf ye b h1 h2 hb so hq hJ
    refine pk_le n d (fun hle => ?_) (fun hlt => ?_)
    · exact nm_r (nI_1 c) (hJ yf ye b (cy_st_refl hb) so (fun h e he => hq h e (by omega)))
    · refine cy_pair hA hn hcl hc hlt hb so ?_
      intro yf1 ye1 b1 s1 so1 g1
      refine nm_r (nI_1 d) (ih (d + 1) yf1 ye1 b1 (by omega) (by omega) s1.1 so1 (fun hb1 e he => ?_) (fun yf2 ye2 b2 s2 so2 g2 => hJ yf2 ye2 b2 (cy_st_trans s1 s2) so2 g2))
      by_cases ee : e = d
      · rw [ee]
        exact g1 hb1
      · obtain ⟨k1, k2, k3⟩ := s1.2.2.2.1 hb1
        rw [k2, k3]
        exact hq k1 e (by omega)
theorem cy_c111 (hA : cz_A A) (hn : n ≤ 32) (hcl : cz_cl n nw wl g kd E F) {r : Int32} {post : SY → Prop} {J90 : Int32 → Int32 → Int32 → Int32 → Int32 → Int32 → (Nat → Int32) → (Nat → Int32) → (Nat → Int32) → (Nat → Int32) → (Nat → Int32) → (Nat → Int32) → (Nat → Int32) → (Nat → Int32) → (Nat → Int32) → (Nat → Int32) → Prop} :
    ∀ N c yf ye b, n - c < N → c ≤ n → b ≤ 1 → cy_so A n E F yf ye → (b = 0 → ∀ a e, a < c → e < n → cy_PC A yf ye a e) →
    (∀ yf' ye' b', cy_st yf ye b yf' ye' b' → cy_so A n E F yf' ye' → (b' = 0 → ∀ a e, a < n → e < n → cy_PC A yf' ye' a e) → ∃ n149, wY_close_149 post J90 r n149 1 (nI A) ym (nI n) yw (nI b') yx yg yk yt yf' ye' yh yu yb yd) →
    wY_close_111 post J90 r N (nI c) (nI A) ym (nI n) yw (nI b) yx yg yk yt yf ye yh yu yb yd := by
  intro N
  induction N with
  | zero => exact fun d yf ye b h => absurd h (Nat.not_lt_zero _)
  | succ N ih =>
    intro c yf ye b h1 h2 hb so hq hJ
    refine pk_le n c (fun hle => ?_) (fun hlt => ?_)
    · exact hJ yf ye b (cy_st_refl hb) so (fun h a e ha he => hq h a e (by omega) he)
    · refine ⟨n + 1, cy_c121 hA hn hcl hlt (n + 1) 0 yf ye b (by omega) (by omega) hb so (fun _ e he => absurd he (Nat.not_lt_zero e)) ?_⟩
      intro yf1 ye1 b1 s1 so1 g1
      refine ih (c + 1) yf1 ye1 b1 (by omega) (by omega) s1.1 so1 (fun hb1 a e ha he => ?_) (fun yf2 ye2 b2 s2 so2 g2 => hJ yf2 ye2 b2 (cy_st_trans s1 s2) so2 g2)
      by_cases ee : a = c
      · rw [ee]
        exact g1 hb1 e he
      · obtain ⟨k1, k2, k3⟩ := s1.2.2.2.1 hb1
        rw [k2, k3]
        exact hq k1 a e (by omega) he
theorem cy_c159 (hA : cz_A A) (hn : n ≤ 32) (hcl : cz_cl n nw wl g kd E F) (hws : cy_ws nw wl g kd yx yg yk) (hkd : ∀ w, w < nw → kd w = 1 ∨ kd w = 2) (hwd : cz_wd A nw wl g) {w : Nat} (hw : w < nw) {r : Int32} {post : SY → Prop} {J90 J149 : Int32 → Int32 → Int32 → Int32 → Int32 → Int32 → (Nat → Int32) → (Nat → Int32) → (Nat → Int32) → (Nat → Int32) → (Nat → Int32) → (Nat → Int32) → (Nat → Int32) → (Nat → Int32) → (Nat → Int32) → (Nat → Int32) → Prop} :
    ∀ N c yf ye yh b, n - c < N → c ≤ n → b ≤ 1 → cy_so A n E F yf ye → (b = 0 → ∀ a, a < c → (kd w = 1 ∨ a = 0) → cy_WR A n wl g yf w a) →
    (∀ yf' ye' yh' b', cy_st yf ye b yf' ye' b' → cy_so A n E F yf' ye' → (b' = 0 → ∀ a, a < n → (kd w = 1 ∨ a = 0) → cy_WR A n wl g yf' w a) → J149 (nI (w + 1 + 1)) (nI A) ym (nI n) yw (nI b') yx yg yk yt yf' ye' yh' yu yb yd) →
    wY_close_159 post J90 J149 r (nI (w + 1)) N (nI c) (nI A) ym (nI n) yw (nI b) yx yg yk yt yf ye yh yu yb yd := by
  have hnw := hws.1
  obtain ⟨w1, w2, w3⟩ := hws.2 w hw
  have cw : yk (nI (w + 1)).toNatClampNeg = nI (kd w) := by rw [nI_clamp (by omega), w2]
  intro N
  induction N with
  | zero => exact fun d yf ye yh b h => absurd h (Nat.not_lt_zero _)
  | succ N ih =>
    intro c yf ye yh b h1 h2 hb so hq hJ
    refine pk_le n c (fun hle => ?_) (fun hlt => ?_)
    · exact nm_r (nI_1 (w + 1)) (hJ yf ye yh b (cy_st_refl hb) so (fun h a ha => hq h a (by omega)))
    · have huse : (kd w = 1 ∨ c = 0) → wY_close_181 post J90 J149 (wY_close_159 post J90 J149 r (nI (w + 1)) N) r (nI (w + 1)) (nI c) (nI A) ym (nI n) yw (nI b) yx yg yk yt yf ye yh yu yb yd := by
        intro hk
        have hru : cz_ru F (g w) (wl w) 0 c := by
          intro f q p hf k1 k2
          rw [Nat.zero_add] at k1 ⊢
          exact hcl.2.2.2.2.2.2.2.2 w hw c hlt hk f q p hf k1 k2
        refine cy_useWord hA hn hcl hws hwd hw hlt hru hb so ?_
        intro yf1 ye1 yh1 b1 s1 so1 g1
        refine nm_r (nI_1 c) (ih (c + 1) yf1 ye1 yh1 b1 (by omega) (by omega) s1.1 so1 (fun hb1 a ha hka => ?_) (fun yf2 ye2 yh2 b2 s2 so2 g2 => hJ yf2 ye2 yh2 b2 (cy_st_trans s1 s2) so2 g2))
        by_cases ee : a = c
        · rw [ee]
          exact g1 hb1
        · obtain ⟨k1, k2, k3⟩ := s1.2.2.2.1 hb1
          rw [k2]
          exact hq k1 a (by omega) hka
      refine And.intro (vp_in_nI (by omega) (by omega)) ?_
      rw [cw]
      have hkw := hkd w hw
      refine pk_eq (kd w) 1 (fun hk1 => huse (Or.inl hk1)) (fun hk1 => ?_)
      refine pk_eq c 0 (fun e => huse (Or.inr e)) (fun ne => ?_)
      refine nm_r (nI_1 c) (ih (c + 1) yf ye yh b (by omega) (by omega) hb so (fun hb1 a ha hka => ?_) hJ)
      by_cases ee : a = c
      · rcases hka with h | h
        · exact absurd h hk1
        · omega
      · exact hq hb1 a (by omega) hka
theorem cy_c149 (hA : cz_A A) (hn : n ≤ 32) (hcl : cz_cl n nw wl g kd E F) (hws : cy_ws nw wl g kd yx yg yk) (hkd : ∀ w, w < nw → kd w = 1 ∨ kd w = 2) (hwd : cz_wd A nw wl g) {r : Nat} {post : SY → Prop} {J90 : Int32 → Int32 → Int32 → Int32 → Int32 → Int32 → (Nat → Int32) → (Nat → Int32) → (Nat → Int32) → (Nat → Int32) → (Nat → Int32) → (Nat → Int32) → (Nat → Int32) → (Nat → Int32) → (Nat → Int32) → (Nat → Int32) → Prop} :
    ∀ N w yf ye yh b, nw - w < N → w ≤ nw → b ≤ 1 → cy_so A n E F yf ye → (b = 0 → ∀ v a, v < w → a < n → (kd v = 1 ∨ a = 0) → cy_WR A n wl g yf v a) →
    (∀ yf' ye' yh' b', cy_st yf ye b yf' ye' b' → cy_so A n E F yf' ye' → (b' = 0 → ∀ v a, v < nw → a < n → (kd v = 1 ∨ a = 0) → cy_WR A n wl g yf' v a) → J90 (nI (r + 1)) (nI A) ym (nI n) (nI nw) (nI b') yx yg yk yt yf' ye' yh' yu yb yd) →
    wY_close_149 post J90 (nI r) N (nI (w + 1)) (nI A) ym (nI n) (nI nw) (nI b) yx yg yk yt yf ye yh yu yb yd := by
  have hnw := hws.1
  intro N
  induction N with
  | zero => exact fun d yf ye yh b h => absurd h (Nat.not_lt_zero _)
  | succ N ih =>
    intro w yf ye yh b h1 h2 hb so hq hJ
    refine pk_lt nw (w + 1) (fun hlt => ?_) (fun hle => ?_)
    · exact nm_r (nI_1 r) (hJ yf ye yh b (cy_st_refl hb) so (fun h v a hv => hq h v a (by omega)))
    · refine ⟨n + 1, cy_c159 hA hn hcl hws hkd hwd (show w < nw by omega) (n + 1) 0 yf ye yh b (by omega) (by omega) hb so (fun _ e he => absurd he (Nat.not_lt_zero e)) ?_⟩
      intro yf1 ye1 yh1 b1 s1 so1 g1
      refine ih (w + 1) yf1 ye1 yh1 b1 (by omega) (by omega) s1.1 so1 (fun hb1 v a hv ha hka => ?_) (fun yf2 ye2 yh2 b2 s2 so2 g2 => hJ yf2 ye2 yh2 b2 (cy_st_trans s1 s2) so2 g2)
      by_cases ee : v = w
      · rw [ee] at hka ⊢
        exact g1 hb1 a ha hka
      · obtain ⟨k1, k2, k3⟩ := s1.2.2.2.1 hb1
        rw [k2]
        exact hq k1 v a (by omega) ha hka
theorem cy_c90 (hA : cz_A A) (hn : n ≤ 32) (hcl : cz_cl n nw wl g kd E F) (hws : cy_ws nw wl g kd yx yg yk) (hkd : ∀ w, w < nw → kd w = 1 ∨ kd w = 2) (hwd : cz_wd A nw wl g) {yf0 ye0 : Nat → Int32} {post : SY → Prop}
    (hp : ∀ yf ye yh, cy_so A n E F yf ye → cy_al A n nw wl g kd yf ye → (∀ i d, bt (yf0 i) d = true → bt (yf i) d = true) → (∀ i d, bt (ye0 i) d = true → bt (ye i) d = true) → wpY_renumber (fun u => post u) (nI A, ym, nI n, nI nw, nI 0, yx, yg, yk, yt, yf, ye, yh, yu, yb, yd)) :
    ∀ N r yf ye yh b, 8000 - r < N → r < 2 ^ 30 → b ≤ 1 → cy_so A n E F yf ye → (b = 0 → cy_al A n nw wl g kd yf ye) → (b ≠ 0 → r ≤ cy_M yf ye) → (∀ i d, bt (yf0 i) d = true → bt (yf i) d = true) → (∀ i d, bt (ye0 i) d = true → bt (ye i) d = true) →
    wY_close_90 post N (nI r) (nI A) ym (nI n) (nI nw) (nI b) yx yg yk yt yf ye yh yu yb yd := by
  intro N
  induction N with
  | zero => exact fun d yf ye yh b h => absurd h (Nat.not_lt_zero _)
  | succ N ih =>
    intro r yf ye yh b h1 h2 hb so hal hM m1 m2
    have hMle := cy_M_le yf ye
    by_cases hb0 : b = 0
    · subst hb0
      refine br_c (fun _ => ?_) (fun _ => br_t rfl ?_)
      · exact hp yf ye yh so (hal rfl) m1 m2
      · exact hp yf ye yh so (hal rfl) m1 m2
    · have hr := hM hb0
      have hb1 : b = 1 := by omega
      subst hb1
      refine br_f (nI_ge (b := 8000) (by omega) (by omega)) (br_f (by decide) ?_)
      refine ⟨n + 1, cy_c111 hA hn hcl (n + 1) 0 yf ye 0 (by omega) (by omega) (by omega) so (fun _ a e ha => absurd ha (Nat.not_lt_zero a)) ?_⟩
      intro yf1 ye1 b1 s1 so1 g1
      refine ⟨nw + 1, cy_c149 hA hn hcl hws hkd hwd (nw + 1) 0 yf1 ye1 yh b1 (by omega) (by omega) s1.1 so1 (fun _ v a hv => absurd hv (Nat.not_lt_zero v)) ?_⟩
      intro yf2 ye2 yh2 b2 s2 so2 g2
      have s := cy_st_trans s1 s2
      refine ih (r + 1) yf2 ye2 yh2 b2 (by omega) (by omega) s2.1 so2 (fun hb2 => ⟨?_, g2 hb2⟩) (fun hb2 => ?_) (fun i d h => s.2.1 _ _ (m1 i d h)) (fun i d h => s.2.2.1 _ _ (m2 i d h))
      · obtain ⟨k1, k2, k3⟩ := s2.2.2.2.1 hb2
        rw [k2, k3]
        exact g1 k1
      · have h5 := s.2.2.2.2
        omega
/-- the rules hold: a closed pair -/
theorem cy_al_cl (hA : cz_A A) (hal : cy_al A n nw wl g kd yf ye) (hr : ∀ c, c < n → bt (ye c) c = true) : cz_cl n nw wl g kd (fun c d => c < n ∧ d < n ∧ bt (ye c) d = true) (cy_F A n yf) := by
  obtain ⟨h1, h2⟩ := hal
  refine ⟨fun c hc => ⟨hc, hc, hr c hc⟩, fun c d h => ⟨h.2.1, h.1, ((h1 c d h.1 h.2.1).1 h.2.2).1⟩, fun a b c p q => ⟨p.1, q.2.1, ((h1 a b p.1 p.2.1).1 p.2.2).2 c q.2.2⟩, ?_, ?_, ?_, ?_, fun c x d h => ⟨h.1, h.2.2.1⟩, ?_⟩
  · exact fun c x d c' p q => ⟨q.2.1, p.2.1, p.2.2.1, ((h1 c c' q.1 q.2.1).2 x p.2.1).1 q.2.2 d p.2.2.2⟩
  · exact fun c x d d' p q => ⟨p.1, p.2.1, q.2.1, (((h1 c d p.1 p.2.2.1).2 x p.2.1).2 p.2.2.2).1 d' q.2.2⟩
  · exact fun c x d p => ⟨p.2.2.1, cz_iv_lt hA p.2.1, p.1, (((h1 c d p.1 p.2.2.1).2 x p.2.1).2 p.2.2.2).2.1⟩
  · exact fun c x d d' p q => ⟨p.2.2.1, q.2.2.1, (((h1 c d p.1 p.2.2.1).2 x p.2.1).2 p.2.2.2).2.2 d' q.2.2.2⟩
  · exact fun w hw c hc hk f q p hf k1 k2 => h2 w c hw hc hk f q p hf k1 k2
theorem cy_c21 (hA : cz_A A) (hn : n ≤ 32) (tw : cz_tw A n yt) {c : Nat} (hc : c < n) {post : SY → Prop} {J : Int32 → (Nat → Int32) → (Nat → Int32) → (Nat → Int32) → (Nat → Int32) → (Nat → Int32) → (Nat → Int32) → (Nat → Int32) → (Nat → Int32) → (Nat → Int32) → (Nat → Int32) → Prop} {yf0 : Nat → Int32}
    (hJ : ∀ yf, (∀ i y, i < c → y < A → yf (i * 6 + y) = yf0 (i * 6 + y)) → (∀ y d, y < A → (bt (yf (c * 6 + y)) d = true ↔ cz_e yt c y d)) → J (nI (c + 1)) yx yg yk yt yf ye yh yu yb yd) :
    ∀ N x yf, A - x < N → x ≤ A → (∀ i y, i < c → y < A → yf (i * 6 + y) = yf0 (i * 6 + y)) → (∀ y d, y < x → (bt (yf (c * 6 + y)) d = true ↔ cz_e yt c y d)) →
    wY_close_21 post J (nI c) (nI A) ym yn yw yc N (nI x) yx yg yk yt yf ye yh yu yb yd := by
  have hA6 := cz_A6 hA
  intro N
  induction N with
  | zero => exact fun x yf h => absurd h (Nat.not_lt_zero _)
  | succ N ih =>
    intro x yf h1 h2 h3 h4
    refine pk_le A x (fun hle => ?_) (fun hlt => ?_)
    · exact nm_r (nI_1 c) (hJ yf h3 (fun y d hy => h4 y d (by omega)))
    · have c1 : (nI c * 6 + nI x).toNatClampNeg = c * 6 + x := by rw [cz_ix, nI_clamp (by omega)]
      have v1 : vp_in (nI c * 6 + nI x) 192 := by rw [cz_ix]; exact vp_in_nI (by omega) (by omega)
      refine And.intro v1 ?_
      rw [c1]
      rcases cz_read hn tw (c := c) (x := x) (by omega) (by omega) with m1 | ⟨d, hd, r5, ee⟩
      · rw [m1]
        refine br_f cz_m1n (And.intro v1 (nm_e (nm_r (nI_1 x) (ih (x + 1) _ (by omega) (by omega) (fun i y hi hy => ?_) (fun y d hy => ?_)))))
        · rw [pk_un (by omega)]
          exact h3 i y hi hy
        · by_cases e : y = x
          · subst e
            rw [pk_us, b_0]
            exact ⟨fun h => absurd h (by decide), fun h => absurd h (cz_none m1 d)⟩
          · rw [pk_un (by omega)]
            exact h4 y d (by omega)
      · rw [r5]
        refine br_t (nI_pos' (by omega)) (And.intro v1 (And.intro v1 (nm_e (nm_r (nI_1 x) (ih (x + 1) _ (by omega) (by omega) (fun i y hi hy => ?_) (fun y d' hy => ?_))))))
        · rw [pk_un (by omega)]
          exact h3 i y hi hy
        · by_cases e : y = x
          · subst e
            rw [pk_us, cy_sh_t (by omega)]
            constructor
            · intro h
              rw [h]
              exact ee
            · intro h
              exact cz_e_det yt _ _ _ _ h ee
          · rw [pk_un (by omega)]
            exact h4 y d' (by omega)
theorem cy_c2 (hA : cz_A A) (hn : n ≤ 32) (tw : cz_tw A n yt) {post : SY → Prop}
    (hp : ∀ yf ye, (∀ c y d, c < n → y < A → (bt (yf (c * 6 + y)) d = true ↔ cz_e yt c y d)) → (∀ c d, c < n → (bt (ye c) d = true ↔ d = c)) → ∃ n90, wY_close_90 post n90 0 (nI A) ym (nI n) yw 1 yx yg yk yt yf ye yh yu yb yd) :
    ∀ N c yf ye, n - c < N → c ≤ n → (∀ i y d, i < c → y < A → (bt (yf (i * 6 + y)) d = true ↔ cz_e yt i y d)) → (∀ i d, i < c → (bt (ye i) d = true ↔ d = i)) →
    wY_close_2 post (nI A) ym (nI n) yw yc N (nI c) yx yg yk yt yf ye yh yu yb yd := by
  have hA6 := cz_A6 hA
  intro N
  induction N with
  | zero => exact fun c yf ye h => absurd h (Nat.not_lt_zero _)
  | succ N ih =>
    intro c yf ye h1 h2 h3 h4
    refine pk_le n c (fun hle => ?_) (fun hlt => ?_)
    · exact hp yf ye (fun i y d hi => h3 i y d (by omega)) (fun i d hi => h4 i d (by omega))
    · have c1 : (nI c).toNatClampNeg = c := nI_clamp (by omega)
      refine And.intro (vp_in_nI (by omega) (by omega)) (nm_r (congrArg (fun z => upd ye z ((1 : Int32) <<< (nI c &&& 31))) c1) ⟨A + 1, cy_c21 hA hn tw hlt (yf0 := yf) ?_ (A + 1) 0 yf (by omega) (by omega) (fun i y _ _ => rfl) (fun y d hy => absurd hy (Nat.not_lt_zero y))⟩)
      intro yf1 k1 k2
      refine ih (c + 1) yf1 _ (by omega) (by omega) (fun i y d hi hy => ?_) (fun i d hi => ?_)
      · by_cases e : i = c
        · rw [e]
          exact k2 y d hy
        · rw [k1 i y (by omega) hy]
          exact h3 i y d (by omega) hy
      · by_cases e : i = c
        · rw [e, pk_us, cy_sh_t (by omega)]
        · rw [pk_un e]
          exact h4 i d (by omega)
theorem cy_close0 (hA : cz_A A) (hn : n ≤ 32) (hws : cy_ws nw wl g kd yx yg yk) (hkd : ∀ w, w < nw → kd w = 1 ∨ kd w = 2) (hwd : cz_wd A nw wl g) (tw : cz_tw A n yt) {post : SY → Prop}
    (hp : ∀ yf ye yh, (∀ c d, c < n → (bt (ye c) d = true ↔ cz_Es n nw wl g kd yt c d)) → (∀ c x d, c < n → x < A → (bt (yf (c * 6 + x)) d = true ↔ cz_Fs n nw wl g kd yt c x d)) → (∀ c x d, cz_Fs n nw wl g kd yt c x d → x < A) → wpY_renumber (fun u => post u) (nI A, ym, nI n, nI nw, nI 0, yx, yg, yk, yt, yf, ye, yh, yu, yb, yd)) :
    wpY_close post (nI A, ym, nI n, nI nw, yc, yx, yg, yk, yt, yf, ye, yh, yu, yb, yd) := by
  have hcl : cz_cl n nw wl g kd (cz_Es n nw wl g kd yt) (cz_Fs n nw wl g kd yt) := cz_EsFs
  refine ⟨n + 1, cy_c2 hA hn tw ?_ (n + 1) 0 yf ye (by omega) (by omega) (fun i y d hi => absurd hi (Nat.not_lt_zero i)) (fun i d hi => absurd hi (Nat.not_lt_zero i))⟩
  intro yf0 ye0 i1 i2
  have so0 : cy_so A n (cz_Es n nw wl g kd yt) (cz_Fs n nw wl g kd yt) yf0 ye0 := by
    refine ⟨fun c d hc h => ?_, fun c x d hc hx h => ?_⟩
    · rw [(i2 c d hc).mp h]
      exact hcl.1 c hc
    · exact cz_Fs0 hn tw _ _ _ ((i1 c x d hc hx).mp h)
  refine ⟨8001, cy_c90 hA hn hcl hws hkd hwd (yf0 := yf0) (ye0 := ye0) ?_ 8001 0 yf0 ye0 yh 1 (by omega) (by omega) (by omega) so0 (fun h => absurd h (by omega)) (fun _ => Nat.zero_le _) (fun _ _ h => h) (fun _ _ h => h)⟩
  intro yf1 ye1 yh1 so1 hal m1 m2
  have hc1 := cy_al_cl hA hal (fun c hc => m2 c c ((i2 c c hc).mpr rfl))
  have h0 : ∀ c x d, cz_e yt c x d → cy_F A n yf1 c x d := by
    intro c x d he
    obtain ⟨e1, e2, e3, _⟩ := cz_e_in hn tw he
    exact ⟨e1, e2, e3, m1 _ _ ((i1 c x d e1 e2).mpr he)⟩
  refine hp yf1 ye1 yh1 (fun c d hc => ⟨so1.1 c d hc, fun h => (h.2.2 _ _ hc1 h0).2.2⟩) (fun c x d hc hx => ⟨so1.2 c x d hc hx, fun h => (h.2.2 _ _ hc1 h0).2.2.2⟩) (fun c x d h => (h.2.2 _ _ hc1 h0).2.1)
end
end
section
/-! the reference's renumbering -/
def cy_bi (A n : Nat) (E : Nat → Nat → Prop) (F : Nat → Nat → Nat → Prop) (cur m : Nat) (rho fc : Nat → Nat) (yu yt yb : Nat → Int32) : Prop :=
  0 < m ∧ rho 0 = 0 ∧ (∀ s, s < m → rho s < n ∧ yb s = nI (rho s)) ∧ (∀ r s, r < m → s < m → E (rho r) (rho s) → r = s) ∧
  (∀ d, d < n → (yu d = -1 ∧ ∀ s, s < m → ¬ E d (rho s)) ∨ ∃ s, s < m ∧ yu d = nI s ∧ E d (rho s)) ∧
  (∀ r y d, r < m → r * 6 + y < cur → y < A → F (rho r) y d → ∃ s, s < m ∧ E d (rho s)) ∧
  (∀ s, 0 < s → s < m → fc s % 6 < A ∧ fc s / 6 < s ∧ fc s < cur ∧ F (rho (fc s / 6)) (fc s % 6) (rho s) ∧ ∀ r y, r < m → y < A → F (rho r) y (rho s) → fc s ≤ r * 6 + y) ∧
  (∀ s s', 0 < s → s < s' → s' < m → fc s < fc s') ∧
  (∀ r y, r < 32 → y < 6 → (yt (r * 6 + y) = -1 ∧ (r * 6 + y < cur → r < m → y < A → ∀ d, ¬ F (rho r) y d)) ∨ (r < m ∧ y < A ∧ r * 6 + y < cur ∧ ∃ s, s < m ∧ yt (r * 6 + y) = nI s ∧ F (rho r) y (rho s)))
section
variable {A n nw : Nat} {wl : Nat → Nat} {g : Nat → Nat → Nat} {kd : Nat → Nat} {E : Nat → Nat → Prop} {F : Nat → Nat → Nat → Prop}
variable {cur m row x : Nat} {rho fc : Nat → Nat} {yu yt yb : Nat → Int32}
theorem cy_bi_m (hcl : cz_cl n nw wl g kd E F) (h : cy_bi A n E F cur m rho fc yu yt yb) : m ≤ n :=
  cz_pig n m rho (fun i hi => (h.2.2.1 i hi).1) (fun i j hi hj e => h.2.2.2.1 i j hi hj (by rw [e]; exact hcl.1 _ (h.2.2.1 j hj).1))
theorem cy_bi_lt (hcl : cz_cl n nw wl g kd E F) (h : cy_bi A n E F cur m rho fc yu yt yb) {d : Nat} (hd : d < n) (hl : ∀ s, s < m → ¬ E d (rho s)) : m + 1 ≤ n := by
  have hl2 : ∀ s, s < m → rho s ≠ d := fun s hs e => hl s hs (by rw [e]; exact hcl.1 _ hd)
  refine cz_pig n (m + 1) (cz_nu rho m d) (fun i hi => ?_) (fun i j hi hj e => ?_)
  · by_cases e : i = m
    · rw [e, cz_nu_s]
      exact hd
    · rw [cz_nu_n e]
      exact (h.2.2.1 i (by omega)).1
  · by_cases e1 : i = m
    · by_cases e2 : j = m
      · omega
      · rw [e1, cz_nu_s, cz_nu_n e2] at e
        exact absurd e.symm (hl2 j (by omega))
    · by_cases e2 : j = m
      · rw [e2, cz_nu_s, cz_nu_n e1] at e
        exact absurd e (hl2 i (by omega))
      · rw [cz_nu_n e1, cz_nu_n e2] at e
        exact h.2.2.2.1 i j (by omega) (by omega) (by rw [e]; exact hcl.1 _ (h.2.2.1 j (by omega)).1)
theorem cy_bi_skip (hA : A ≤ 6) (hx : x < A) (h : cy_bi A n E F (row * 6 + x) m rho fc yu yt yb) (hno : ∀ d, ¬ F (rho row) x d) : cy_bi A n E F (row * 6 + x + 1) m rho fc yu yt yb := by
  obtain ⟨a1, a2, a3, a4, a5, a6, a7, a8, a9⟩ := h
  refine ⟨a1, a2, a3, a4, a5, ?_, ?_, a8, ?_⟩
  · intro r y d hr hc hy hF
    by_cases e : r * 6 + y < row * 6 + x
    · exact a6 r y d hr e hy hF
    · have e1 : r = row := by omega
      have e2 : y = x := by omega
      subst e1 e2
      exact absurd hF (hno d)
  · intro s h0 hs
    obtain ⟨b1, b2, b3, b4⟩ := a7 s h0 hs
    exact ⟨b1, b2, by omega, b4⟩
  · intro r y hr hy
    rcases a9 r y hr hy with ⟨k1, k2⟩ | ⟨k1, k2, k3, k4⟩
    · refine Or.inl ⟨k1, fun hc hrm hyA d hF => ?_⟩
      by_cases e : r * 6 + y < row * 6 + x
      · exact k2 e hrm hyA d hF
      · have e1 : r = row := by omega
        have e2 : y = x := by omega
        subst e1 e2
        exact hno d hF
    · exact Or.inr ⟨k1, k2, by omega, k4⟩
theorem cy_bi_old (hcl : cz_cl n nw wl g kd E F) (hA : A ≤ 6) (hx : x < A) (hrow : row < m) (h : cy_bi A n E F (row * 6 + x) m rho fc yu yt yb) {d s : Nat} (hF : F (rho row) x d) (hs : s < m) (hE : E d (rho s)) :
    cy_bi A n E F (row * 6 + x + 1) m rho fc yu (upd yt (row * 6 + x) (nI s)) yb := by
  obtain ⟨a1, a2, a3, a4, a5, a6, a7, a8, a9⟩ := h
  refine ⟨a1, a2, a3, a4, a5, ?_, ?_, a8, ?_⟩
  · intro r y d' hr hc hy hF'
    by_cases e : r * 6 + y < row * 6 + x
    · exact a6 r y d' hr e hy hF'
    · have e1 : r = row := by omega
      have e2 : y = x := by omega
      subst e1 e2
      exact ⟨s, hs, hcl.2.2.1 _ _ _ (hcl.2.2.2.2.2.2.1 _ _ _ _ hF' hF) hE⟩
  · intro s h0 hs
    obtain ⟨b1, b2, b3, b4⟩ := a7 s h0 hs
    exact ⟨b1, b2, by omega, b4⟩
  · intro r y hr hy
    by_cases e : r * 6 + y = row * 6 + x
    · have e1 : r = row := by omega
      have e2 : y = x := by omega
      subst e1 e2
      rw [pk_us]
      exact Or.inr ⟨hrow, hx, by omega, s, hs, rfl, hcl.2.2.2.2.1 _ _ _ _ hF hE⟩
    · rw [pk_un e]
      rcases a9 r y hr hy with ⟨k1, k2⟩ | ⟨k1, k2, k3, k4⟩
      · exact Or.inl ⟨k1, fun hc hrm hyA d hF => k2 (by omega) hrm hyA d hF⟩
      · exact Or.inr ⟨k1, k2, by omega, k4⟩
theorem cy_bi_new (hcl : cz_cl n nw wl g kd E F) (hA : A ≤ 6) (hx : x < A) (hrow : row < m) (h : cy_bi A n E F (row * 6 + x) m rho fc yu yt yb) {d : Nat} (hd : d < n) (hF : F (rho row) x d) (hl : ∀ s, s < m → ¬ E d (rho s)) {yu' : Nat → Int32}
    (hu1 : ∀ e, e < n → E d e → yu' e = nI m) (hu2 : ∀ e, e < n → ¬ E d e → yu' e = yu e) :
    cy_bi A n E F (row * 6 + x + 1) (m + 1) (cz_nu rho m d) (cz_nu fc m (row * 6 + x)) yu' (upd yt (row * 6 + x) (nI m)) (upd yb m (nI d)) := by
  obtain ⟨a1, a2, a3, a4, a5, a6, a7, a8, a9⟩ := h
  have e61 : (row * 6 + x) / 6 = row := by omega
  have e62 : (row * 6 + x) % 6 = x := by omega
  refine ⟨by omega, ?_, ?_, ?_, ?_, ?_, ?_, ?_, ?_⟩
  · rw [cz_nu_n (by omega)]
    exact a2
  · intro s hs
    by_cases e : s = m
    · subst e
      rw [cz_nu_s, pk_us]
      exact ⟨hd, rfl⟩
    · rw [cz_nu_n e, pk_un e]
      exact a3 s (by omega)
  · intro r s hr hs e
    by_cases e1 : r = m
    · by_cases e2 : s = m
      · omega
      · rw [e1, cz_nu_s, cz_nu_n e2] at e
        exact absurd e (hl s (by omega))
    · by_cases e2 : s = m
      · rw [e2, cz_nu_s, cz_nu_n e1] at e
        exact absurd (hcl.2.1 _ _ e) (hl r (by omega))
      · rw [cz_nu_n e1, cz_nu_n e2] at e
        exact a4 r s (by omega) (by omega) e
  · intro e he
    by_cases hE : E d e
    · exact Or.inr ⟨m, by omega, hu1 e he hE, by rw [cz_nu_s]; exact hcl.2.1 _ _ hE⟩
    · rw [hu2 e he hE]
      rcases a5 e he with ⟨k1, k2⟩ | ⟨s, k1, k2, k3⟩
      · refine Or.inl ⟨k1, fun s hs => ?_⟩
        by_cases e2 : s = m
        · rw [e2, cz_nu_s]
          exact fun h5 => hE (hcl.2.1 _ _ h5)
        · rw [cz_nu_n e2]
          exact k2 s (by omega)
      · exact Or.inr ⟨s, by omega, k2, by rw [cz_nu_n (by omega)]; exact k3⟩
  · intro r y d' hr hc hy hF'
    have hrm : r ≠ m := by omega
    rw [cz_nu_n hrm] at hF'
    by_cases e : r * 6 + y < row * 6 + x
    · obtain ⟨s, k1, k2⟩ := a6 r y d' (by omega) e hy hF'
      exact ⟨s, by omega, by rw [cz_nu_n (by omega)]; exact k2⟩
    · have e1 : r = row := by omega
      have e2 : y = x := by omega
      subst e1 e2
      exact ⟨m, by omega, by rw [cz_nu_s]; exact hcl.2.2.2.2.2.2.1 _ _ _ _ hF' hF⟩
  · intro s h0 hs
    by_cases e : s = m
    · subst e
      rw [cz_nu_s, e61, e62, cz_nu_s, cz_nu_n (by omega)]
      refine ⟨hx, hrow, by omega, hF, ?_⟩
      intro r y hr hy hF'
      by_cases e2 : r = s
      · omega
      · rw [cz_nu_n e2] at hF'
        by_cases e3 : r * 6 + y < row * 6 + x
        · obtain ⟨s', k1, k2⟩ := a6 r y d (by omega) e3 hy hF'
          exact absurd k2 (hl s' k1)
        · omega
    · obtain ⟨b1, b2, b3, b4, b5⟩ := a7 s h0 (by omega)
      rw [cz_nu_n e, cz_nu_n e, cz_nu_n (by omega)]
      refine ⟨b1, b2, by omega, b4, ?_⟩
      intro r y hr hy hF'
      by_cases e2 : r = m
      · omega
      · rw [cz_nu_n e2] at hF'
        exact b5 r y (by omega) hy hF'
  · intro s s' h0 h1 h2
    by_cases e : s' = m
    · rw [e, cz_nu_s, cz_nu_n (by omega)]
      exact (a7 s h0 (by omega)).2.2.1
    · rw [cz_nu_n e, cz_nu_n (by omega)]
      exact a8 s s' h0 h1 (by omega)
  · intro r y hr hy
    by_cases e : r * 6 + y = row * 6 + x
    · have e1 : r = row := by omega
      have e2 : y = x := by omega
      subst e1 e2
      rw [pk_us]
      exact Or.inr ⟨by omega, hx, by omega, m, by omega, rfl, by rw [cz_nu_s, cz_nu_n (by omega)]; exact hF⟩
    · rw [pk_un e]
      rcases a9 r y hr hy with ⟨k1, k2⟩ | ⟨k1, k2, k3, s, k4, k5, k6⟩
      · refine Or.inl ⟨k1, fun hc hrm hyA d' hF' => ?_⟩
        have hrm2 : r ≠ m := by omega
        rw [cz_nu_n hrm2] at hF'
        exact k2 (by omega) (by omega) hyA d' hF'
      · exact Or.inr ⟨by omega, k2, by omega, s, by omega, k5, by rw [cz_nu_n (by omega), cz_nu_n (by omega)]; exact k6⟩
theorem cy_bi_row (hA : A ≤ 6) (h : cy_bi A n E F (row * 6 + A) m rho fc yu yt yb) : cy_bi A n E F ((row + 1) * 6) m rho fc yu yt yb := by
  obtain ⟨a1, a2, a3, a4, a5, a6, a7, a8, a9⟩ := h
  refine ⟨a1, a2, a3, a4, a5, ?_, ?_, a8, ?_⟩
  · exact fun r y d hr hc hy hF => a6 r y d hr (by omega) hy hF
  · intro s h0 hs
    obtain ⟨b1, b2, b3, b4⟩ := a7 s h0 hs
    exact ⟨b1, b2, by omega, b4⟩
  · intro r y hr hy
    rcases a9 r y hr hy with ⟨k1, k2⟩ | ⟨k1, k2, k3, k4⟩
    · exact Or.inl ⟨k1, fun hc hrm hyA => k2 (by omega) hrm hyA⟩
    · exact Or.inr ⟨k1, k2, by omega, k4⟩
theorem cy_bi_0 (hn0 : 0 < n) (hu : ∀ d, d < n → (E d 0 ∧ yu d = 0) ∨ (¬ E d 0 ∧ yu d = -1)) (ht : ∀ i, i < 192 → yt i = -1) : cy_bi A n E F (0 * 6) 1 (fun _ => 0) (fun _ => 0) yu yt (upd yb 0 0) := by
  refine ⟨by omega, rfl, ?_, fun r s hr hs _ => by omega, ?_, fun r y d hr hc => by omega, fun s h0 hs => by omega, fun s s' h0 h1 h2 => by omega, ?_⟩
  · intro s hs
    have e : s = 0 := by omega
    subst e
    exact ⟨hn0, pk_us⟩
  · intro d hd
    rcases hu d hd with ⟨k1, k2⟩ | ⟨k1, k2⟩
    · exact Or.inr ⟨0, by omega, k2, k1⟩
    · exact Or.inl ⟨k2, fun s _ => k1⟩
  · intro r y hr hy
    exact Or.inl ⟨ht _ (by omega), fun hc => by omega⟩
theorem cy_bi_std (hn : n ≤ 32) (hA : A ≤ 6) (hcl : cz_cl n nw wl g kd E F) (h : cy_bi A n E F (m * 6) m rho fc yu yt yb) : cz_std A E F m rho fc ∧ cz_tt A F m rho yt := by
  have hmn := cy_bi_m hcl h
  obtain ⟨a1, a2, a3, a4, a5, a6, a7, a8, a9⟩ := h
  refine ⟨⟨a1, by omega, a2, a4, fun r x d hr hx hF => a6 r x d hr (by omega) hx hF, ?_, a8⟩, ?_⟩
  · intro s h0 hs
    obtain ⟨b1, b2, b3, b4, b5⟩ := a7 s h0 hs
    exact ⟨b1, b2, b4, b5⟩
  · intro r x hr hx
    constructor
    · rcases a9 r x hr hx with ⟨k1, k2⟩ | ⟨k1, k2, k3, k4⟩
      · exact Or.inl k1
      · exact Or.inr ⟨k1, k2, k4⟩
    · intro hrm hxA s hs hF
      rcases a9 r x hr hx with ⟨k1, k2⟩ | ⟨k1, k2, k3, s', k4, k5, k6⟩
      · exact absurd hF (k2 (by omega) hrm hxA _)
      · have e := a4 s s' hs k4 (hcl.2.2.2.2.2.2.1 _ _ _ _ hF k6)
        rw [e]
        exact k5
end
section
variable {yl ym yn yw yc : Int32} {yx yg yk yt yf ye yh yu yb yd : Nat → Int32}
variable {A n nw b : Nat} {wl : Nat → Nat} {g : Nat → Nat → Nat} {kd : Nat → Nat} {E : Nat → Nat → Prop} {F : Nat → Nat → Nat → Prop}
theorem cy_r149 (hn : n ≤ 32) {d m : Nat} {row x : Int32} (hd : d < n) (hm : m < 32) {yu0 : Nat → Int32} {post : SY → Prop} {J73 J86 J97 : Int32 → Int32 → (Nat → Int32) → (Nat → Int32) → (Nat → Int32) → (Nat → Int32) → (Nat → Int32) → (Nat → Int32) → (Nat → Int32) → (Nat → Int32) → (Nat → Int32) → (Nat → Int32) → Prop}
    (hp : ∀ yu, (∀ e, e < n → bt (ye d) e = true → yu e = nI m) → (∀ e, e < n → ¬ bt (ye d) e = true → yu e = yu0 e) → wY_renumber_198 post J73 J86 J97 (nI (m + 1)) row x (nI d) yl ym (nI n) yw yc yx yg yk yt yf ye yh yu (upd yb m (nI d)) yd) :
    ∀ N e yu, n - e < N → e ≤ n → (∀ i, i < n → (i < e ∧ bt (ye d) i = true → yu i = nI m) ∧ (¬ (i < e ∧ bt (ye d) i = true) → yu i = yu0 i)) →
    wY_renumber_149 post J73 J86 J97 (nI m) row x (nI d) yl ym (nI n) yw yc N (nI e) yx yg yk yt yf ye yh yu yb yd := by
  have c1 : (nI d).toNatClampNeg = d := nI_clamp (by omega)
  have c2 : (nI m).toNatClampNeg = m := nI_clamp (by omega)
  intro N
  induction N with
  | zero => exact fun e yu h => absurd h (Nat.not_lt_zero _)
  | succ N ih =>
    intro e yu h1 h2 h3
    refine pk_le n e (fun hle => ?_) (fun hlt => ?_)
    · exact And.intro (vp_in_nI hm (by omega)) (nm_r (congrArg (fun z => upd yb z (nI d)) c2) (nm_r (nI_1 m) (hp yu (fun i hi hb => (h3 i hi).1 ⟨by omega, hb⟩) (fun i hi hb => (h3 i hi).2 (fun h => hb h.2)))))
    · refine And.intro (vp_in_nI (by omega) (by omega)) ?_
      rw [c1]
      refine br_c (fun hz => ?_) (fun hz => ?_)
      · rw [cy_bit _ (by omega)] at hz
        refine nm_r (nI_1 e) (ih (e + 1) yu (by omega) (by omega) (fun i hi => ⟨fun h => (h3 i hi).1 ⟨?_, h.2⟩, fun h => (h3 i hi).2 (fun h4 => h ⟨by omega, h4.2⟩)⟩))
        by_cases e2 : i = e
        · have h5 := h.2
          rw [e2, hz] at h5
          exact absurd h5 (by decide)
        · omega
      · rw [cy_bit _ (by omega)] at hz
        have c3 : (nI e).toNatClampNeg = e := nI_clamp (by omega)
        refine And.intro (vp_in_nI (by omega) (by omega)) (nm_r (congrArg (fun z => upd yu z (nI m)) c3) (nm_r (nI_1 e) (ih (e + 1) _ (by omega) (by omega) (fun i hi => ?_))))
        by_cases e2 : i = e
        · rw [e2, pk_us]
          exact ⟨fun _ => rfl, fun h => absurd ⟨by omega, cy_nf hz⟩ h⟩
        · rw [pk_un e2]
          exact ⟨fun h => (h3 i hi).1 ⟨by omega, h.2⟩, fun h => (h3 i hi).2 (fun h4 => h ⟨by omega, h4.2⟩)⟩
theorem cy_r198 (hn : n ≤ 32) {row x d s : Nat} (hd : d < n) (hrow : row < 32) (hx : x < 6) {m : Int32} (hu : yu d = nI s) {post : SY → Prop} {J73 J86 J97 : Int32 → Int32 → (Nat → Int32) → (Nat → Int32) → (Nat → Int32) → (Nat → Int32) → (Nat → Int32) → (Nat → Int32) → (Nat → Int32) → (Nat → Int32) → (Nat → Int32) → (Nat → Int32) → Prop}
    (hp : J97 m (nI (d + 1)) yx yg yk (upd yt (row * 6 + x) (nI s)) yf ye yh yu yb yd) : wY_renumber_198 post J73 J86 J97 m (nI row) (nI x) (nI d) yl ym yn yw yc yx yg yk yt yf ye yh yu yb yd := by
  have c1 : (nI row * 6 + nI x).toNatClampNeg = row * 6 + x := by rw [cz_ix, nI_clamp (by omega)]
  have v1 : vp_in (nI row * 6 + nI x) 192 := by rw [cz_ix]; exact vp_in_nI (by omega) (by omega)
  have e1 : upd yt (nI row * 6 + nI x).toNatClampNeg (yu (nI d).toNatClampNeg) = upd yt (row * 6 + x) (nI s) := by rw [c1, nI_clamp (by omega), hu]
  exact And.intro (vp_in_nI (by omega) (by omega)) (And.intro v1 (nm_r e1 (nm_r (nI_1 d) hp)))
theorem cy_r97 (hA : cz_A A) (hn : n ≤ 32) (hcl : cz_cl n nw wl g kd E F) (hE : ∀ c d, c < n → (bt (ye c) d = true ↔ E c d)) (hF : ∀ c x d, c < n → x < A → (bt (yf (c * 6 + x)) d = true ↔ F c x d)) {row x : Nat} (hx : x < A) {post : SY → Prop} {J73 J86 : Int32 → Int32 → (Nat → Int32) → (Nat → Int32) → (Nat → Int32) → (Nat → Int32) → (Nat → Int32) → (Nat → Int32) → (Nat → Int32) → (Nat → Int32) → (Nat → Int32) → (Nat → Int32) → Prop} :
    ∀ N d m rho fc yu yt yb, n - d < N → d ≤ n → row < m →
    ((cy_bi A n E F (row * 6 + x) m rho fc yu yt yb ∧ ∀ e, e < d → ¬ F (rho row) x e) ∨ (cy_bi A n E F (row * 6 + x + 1) m rho fc yu yt yb ∧ ∃ s, s < m ∧ yt (row * 6 + x) = nI s ∧ F (rho row) x (rho s))) →
    (∀ m' rho' fc' yu' yt' yb', row < m' → cy_bi A n E F (row * 6 + x + 1) m' rho' fc' yu' yt' yb' → J86 (nI m') (nI (x + 1)) yx yg yk yt' yf ye yh yu' yb' yd) →
    wY_renumber_97 post J73 J86 (nI row) (nI x) yl ym (nI n) yw yc N (nI m) (nI d) yx yg yk yt yf ye yh yu yb yd := by
  have hA6 := cz_A6 hA
  intro N
  induction N with
  | zero => exact fun d m rho fc yu yt yb h => absurd h (Nat.not_lt_zero _)
  | succ N ih =>
    intro d m rho fc yu yt yb h1 h2 hrow hD hJ
    have hm : m ≤ n := by
      rcases hD with ⟨k, _⟩ | ⟨k, _⟩
      · exact cy_bi_m hcl k
      · exact cy_bi_m hcl k
    have hb3 : rho row < n ∧ yb row = nI (rho row) := by
      rcases hD with ⟨k, _⟩ | ⟨k, _⟩
      · exact k.2.2.1 row hrow
      · exact k.2.2.1 row hrow
    refine pk_le n d (fun hle => ?_) (fun hlt => ?_)
    · refine nm_r (nI_1 x) (hJ m rho fc yu yt yb hrow ?_)
      rcases hD with ⟨k1, k2⟩ | ⟨k1, _⟩
      · refine cy_bi_skip hA6 hx k1 (fun e he => k2 e ?_ he)
        have := (hcl.2.2.2.2.2.2.2.1 _ _ _ he).2
        omega
      · exact k1
    · have c0 : (nI row).toNatClampNeg = row := nI_clamp (by omega)
      have e1 : yb (nI row).toNatClampNeg * 6 + nI x = nI (rho row * 6 + x) := by rw [c0, hb3.2, cz_ix]
      have e2 : (yb (nI row).toNatClampNeg * 6 + nI x).toNatClampNeg = rho row * 6 + x := by rw [e1, nI_clamp (by omega)]
      have v1 : vp_in (yb (nI row).toNatClampNeg * 6 + nI x) 192 := by rw [e1]; exact vp_in_nI (by omega) (by omega)
      refine And.intro (vp_in_nI (by omega) (by omega)) (And.intro v1 ?_)
      rw [e2]
      refine br_c (fun hz => ?_) (fun hz => ?_)
      · rw [cy_bit _ (by omega)] at hz
        have hnF : ¬ F (rho row) x d := by
          intro h
          rw [(hF _ _ _ hb3.1 hx).mpr h] at hz
          exact absurd hz (by decide)
        refine nm_r (nI_1 d) (ih (d + 1) m rho fc yu yt yb (by omega) (by omega) hrow ?_ hJ)
        rcases hD with ⟨k1, k2⟩ | k1
        · refine Or.inl ⟨k1, fun e he => ?_⟩
          by_cases e3 : e = d
          · rw [e3]
            exact hnF
          · exact k2 e (by omega)
        · exact Or.inr k1
      · rw [cy_bit _ (by omega)] at hz
        have hFd : F (rho row) x d := (hF _ _ _ hb3.1 hx).mp (cy_nf hz)
        have cd : (nI d).toNatClampNeg = d := nI_clamp (by omega)
        refine And.intro (vp_in_nI (by omega) (by omega)) ?_
        rw [cd]
        rcases hD with ⟨k1, k2⟩ | ⟨k1, s, k2, k3, k4⟩
        · rcases k1.2.2.2.2.1 d hlt with ⟨l1, l2⟩ | ⟨s, l1, l2, l3⟩
          · have hm1 := cy_bi_lt hcl k1 hlt l2
            rw [l1]
            refine br_f cz_m1n (br_f (nI_ge (b := 32) (by omega) (by omega)) ⟨n + 1, cy_r149 hn hlt (by omega) (yu0 := yu) ?_ (n + 1) 0 yu (by omega) (by omega) (fun i hi => ⟨fun h => absurd h.1 (Nat.not_lt_zero i), fun _ => rfl⟩)⟩)
            intro yu' u1 u2
            have hu : yu' d = nI m := u1 d hlt ((hE d d hlt).mpr (hcl.1 d hlt))
            have hnew := cy_bi_new hcl hA6 hx hrow k1 hlt hFd l2 (yu' := yu') (fun e he hEe => u1 e he ((hE d e hlt).mpr hEe)) (fun e he hEe => u2 e he (fun hb => hEe ((hE d e hlt).mp hb)))
            refine cy_r198 hn hlt (by omega) (by omega) hu (ih (d + 1) (m + 1) _ _ yu' _ _ (by omega) (by omega) (by omega) (Or.inr ⟨hnew, m, by omega, pk_us, ?_⟩) hJ)
            rw [cz_nu_s, cz_nu_n (by omega)]
            exact hFd
          · rw [l2]
            refine br_t (nI_pos' (by omega)) (cy_r198 hn hlt (by omega) (by omega) l2 (ih (d + 1) m rho fc yu _ yb (by omega) (by omega) hrow (Or.inr ⟨cy_bi_old hcl hA6 hx hrow k1 hFd l1 l3, s, l1, pk_us, hcl.2.2.2.2.1 _ _ _ _ hFd l3⟩) hJ))
        · have hEd : E d (rho s) := hcl.2.2.2.2.2.2.1 _ _ _ _ hFd k4
          have hud : yu d = nI s := by
            rcases k1.2.2.2.2.1 d hlt with ⟨l1, l2⟩ | ⟨s', l1, l2, l3⟩
            · exact absurd hEd (l2 s k2)
            · have e3 := k1.2.2.2.1 s' s l1 k2 (hcl.2.2.1 _ _ _ (hcl.2.1 _ _ l3) hEd)
              rw [← e3]
              exact l2
          have hup : upd yt (row * 6 + x) (nI s) = yt := by
            funext j
            by_cases e3 : j = row * 6 + x
            · rw [e3, pk_us, k3]
            · rw [pk_un e3]
          rw [hud]
          refine br_t (nI_pos' (by omega)) (cy_r198 hn hlt (by omega) (by omega) hud ?_)
          rw [hup]
          exact ih (d + 1) m rho fc yu yt yb (by omega) (by omega) hrow (Or.inr ⟨k1, s, k2, k3, k4⟩) hJ
theorem cy_r86 (hA : cz_A A) (hn : n ≤ 32) (hcl : cz_cl n nw wl g kd E F) (hE : ∀ c d, c < n → (bt (ye c) d = true ↔ E c d)) (hF : ∀ c x d, c < n → x < A → (bt (yf (c * 6 + x)) d = true ↔ F c x d)) {row : Nat} (hr32 : row < 32) {post : SY → Prop} {J73 : Int32 → Int32 → (Nat → Int32) → (Nat → Int32) → (Nat → Int32) → (Nat → Int32) → (Nat → Int32) → (Nat → Int32) → (Nat → Int32) → (Nat → Int32) → (Nat → Int32) → (Nat → Int32) → Prop} :
    ∀ N x m rho fc yu yt yb, A - x < N → x ≤ A → row < m → cy_bi A n E F (row * 6 + x) m rho fc yu yt yb →
    (∀ m' rho' fc' yu' yt' yb', row < m' → cy_bi A n E F ((row + 1) * 6) m' rho' fc' yu' yt' yb' → J73 (nI m') (nI (row + 1)) yx yg yk yt' yf ye yh yu' yb' yd) →
    wY_renumber_86 post J73 (nI row) (nI A) ym (nI n) yw yc N (nI m) (nI x) yx yg yk yt yf ye yh yu yb yd := by
  have hA6 := cz_A6 hA
  intro N
  induction N with
  | zero => exact fun x m rho fc yu yt yb h => absurd h (Nat.not_lt_zero _)
  | succ N ih =>
    intro x m rho fc yu yt yb h1 h2 hrow hD hJ
    refine pk_le A x (fun hle => ?_) (fun hlt => ?_)
    · have e : x = A := by omega
      subst e
      exact nm_r (nI_1 row) (hJ _ _ _ _ _ _ hrow (cy_bi_row hA6 hD))
    · exact ⟨n + 1, cy_r97 hA hn hcl hE hF hlt (n + 1) 0 m rho fc yu yt yb (by omega) (by omega) hrow (Or.inl ⟨hD, fun e he => absurd he (Nat.not_lt_zero e)⟩) (fun m' rho' fc' yu' yt' yb' q1 q2 => ih (x + 1) m' rho' fc' yu' yt' yb' (by omega) (by omega) q1 q2 hJ)⟩
theorem cy_r73 (hA : cz_A A) (hn : n ≤ 32) (hcl : cz_cl n nw wl g kd E F) (hE : ∀ c d, c < n → (bt (ye c) d = true ↔ E c d)) (hF : ∀ c x d, c < n → x < A → (bt (yf (c * 6 + x)) d = true ↔ F c x d)) {post : SY → Prop}
    (hp : ∀ m rho fc yu yt yb, cz_std A E F m rho fc → cz_tt A F m rho yt → post (nI A, ym, nI m, yw, yc, yx, yg, yk, yt, yf, ye, yh, yu, yb, yd)) :
    ∀ N row m rho fc yu yt yb, 33 - row < N → row ≤ m → cy_bi A n E F (row * 6) m rho fc yu yt yb →
    wY_renumber_73 post (nI A) ym (nI n) yw yc N (nI m) (nI row) yx yg yk yt yf ye yh yu yb yd := by
  have hA6 := cz_A6 hA
  intro N
  induction N with
  | zero => exact fun row m rho fc yu yt yb h => absurd h (Nat.not_lt_zero _)
  | succ N ih =>
    intro row m rho fc yu yt yb h1 h2 hD
    have hm := cy_bi_m hcl hD
    by_cases hrm : row = m
    · subst hrm
      obtain ⟨s1, s2⟩ := cy_bi_std hn hA6 hcl hD
      have hfin := hp _ _ _ yu yt yb s1 s2
      exact br_c (fun _ => hfin) (fun _ => br_t (nI_le (Nat.le_refl row) (by omega)) hfin)
    · refine br_f (nI_ge (b := 32) (by omega) (by omega)) (br_f (nI_ge (by omega) (by omega)) ?_)
      exact ⟨A + 1, cy_r86 hA hn hcl hE hF (by omega) (A + 1) 0 m rho fc yu yt yb (by omega) (by omega) (by omega) hD (fun m' rho' fc' yu' yt' yb' q1 q2 => ih (row + 1) m' rho' fc' yu' yt' yb' (by omega) (by omega) q2)⟩
theorem cy_r42 (hA : cz_A A) (hn0 : 0 < n) (hn : n ≤ 32) (hcl : cz_cl n nw wl g kd E F) (hE : ∀ c d, c < n → (bt (ye c) d = true ↔ E c d)) (hF : ∀ c x d, c < n → x < A → (bt (yf (c * 6 + x)) d = true ↔ F c x d)) (hu : ∀ d, d < n → (E d 0 ∧ yu d = 0) ∨ (¬ E d 0 ∧ yu d = -1)) {post : SY → Prop}
    (hp : ∀ m rho fc yu yt yb, cz_std A E F m rho fc → cz_tt A F m rho yt → post (nI A, ym, nI m, yw, yc, yx, yg, yk, yt, yf, ye, yh, yu, yb, yd)) :
    ∀ N i yt, 192 - i < N → i ≤ 192 → (∀ j, j < i → yt j = -1) → wY_renumber_42 post (nI A) ym (nI n) yw yc N (nI i) yx yg yk yt yf ye yh yu yb yd := by
  intro N
  induction N with
  | zero => exact fun i yt h => absurd h (Nat.not_lt_zero _)
  | succ N ih =>
    intro i yt h1 h2 h3
    refine pk_le 192 i (fun hle => ?_) (fun hlt => ?_)
    · exact nm_e ⟨34, cy_r73 hA hn hcl hE hF hp 34 0 1 _ _ yu yt _ (by omega) (by omega) (cy_bi_0 hn0 hu (fun j hj => h3 j (by omega)))⟩
    · have c1 : (nI i).toNatClampNeg = i := nI_clamp (by omega)
      refine And.intro (vp_in_nI hlt (by omega)) (nm_r (congrArg (fun z => upd yt z (-1)) c1) (nm_r (nI_1 i) (ih (i + 1) _ (by omega) (by omega) (fun j hj => ?_))))
      by_cases e : j = i
      · rw [e, pk_us]
      · rw [pk_un e]
        exact h3 j (by omega)
theorem cy_r2 (hA : cz_A A) (hn0 : 0 < n) (hn : n ≤ 32) (hcl : cz_cl n nw wl g kd E F) (hE : ∀ c d, c < n → (bt (ye c) d = true ↔ E c d)) (hF : ∀ c x d, c < n → x < A → (bt (yf (c * 6 + x)) d = true ↔ F c x d)) {post : SY → Prop}
    (hp : ∀ m rho fc yu yt yb, cz_std A E F m rho fc → cz_tt A F m rho yt → post (nI A, ym, nI m, yw, yc, yx, yg, yk, yt, yf, ye, yh, yu, yb, yd)) :
    ∀ N c yu, n - c < N → c ≤ n → (∀ d, d < c → (E d 0 ∧ yu d = 0) ∨ (¬ E d 0 ∧ yu d = -1)) → wY_renumber_2 post (nI A) ym (nI n) yw yc N (nI c) yx yg yk yt yf ye yh yu yb yd := by
  intro N
  induction N with
  | zero => exact fun i yt h => absurd h (Nat.not_lt_zero _)
  | succ N ih =>
    intro c yu h1 h2 h3
    refine pk_le n c (fun hle => ?_) (fun hlt => ?_)
    · exact ⟨193, cy_r42 hA hn0 hn hcl hE hF (fun d hd => h3 d (by omega)) hp 193 0 yt (by omega) (by omega) (fun j hj => absurd hj (Nat.not_lt_zero j))⟩
    · have c1 : (nI c).toNatClampNeg = c := nI_clamp (by omega)
      refine br_c (fun hz => ?_) (fun hz => ?_)
      · rw [cy_bit _ (by omega)] at hz
        refine And.intro (vp_in_nI (by omega) (by omega)) (nm_r (congrArg (fun z => upd yu z (-1)) c1) (nm_r (nI_1 c) (ih (c + 1) _ (by omega) (by omega) (fun d hd => ?_))))
        by_cases e : d = c
        · rw [e, pk_us]
          refine Or.inr ⟨fun h => ?_, rfl⟩
          rw [(hE 0 c hn0).mpr (hcl.2.1 _ _ h)] at hz
          exact absurd hz (by decide)
        · rw [pk_un e]
          exact h3 d (by omega)
      · rw [cy_bit _ (by omega)] at hz
        refine And.intro (vp_in_nI (by omega) (by omega)) (nm_r (congrArg (fun z => upd yu z 0) c1) (nm_r (nI_1 c) (ih (c + 1) _ (by omega) (by omega) (fun d hd => ?_))))
        by_cases e : d = c
        · rw [e, pk_us]
          exact Or.inl ⟨hcl.2.1 _ _ ((hE 0 c hn0).mp (cy_nf hz)), rfl⟩
        · rw [pk_un e]
          exact h3 d (by omega)
theorem cy_close (hA : cz_A A) (hn0 : 0 < n) (hn : n ≤ 32) (hws : cy_ws nw wl g kd yx yg yk) (hkd : ∀ w, w < nw → kd w = 1 ∨ kd w = 2) (hwd : cz_wd A nw wl g) (tw : cz_tw A n yt) {post : SY → Prop}
    (hp : ∀ m rho fc yc' yt' yf' ye' yh' yu' yb', cz_std A (cz_Es n nw wl g kd yt) (cz_Fs n nw wl g kd yt) m rho fc → cz_tt A (cz_Fs n nw wl g kd yt) m rho yt' → post (nI A, ym, nI m, nI nw, yc', yx, yg, yk, yt', yf', ye', yh', yu', yb', yd)) :
    wpY_close post (nI A, ym, nI n, nI nw, yc, yx, yg, yk, yt, yf, ye, yh, yu, yb, yd) := by
  refine cy_close0 hA hn hws hkd hwd tw ?_
  intro yf' ye' yh' h1 h2 h3
  refine ⟨n + 1, cy_r2 hA hn0 hn cz_EsFs h1 h2 ?_ (n + 1) 0 yu (by omega) (by omega) (fun d hd => absurd hd (Nat.not_lt_zero d))⟩
  intro m rho fc yu' yt' yb' s1 s2
  exact hp m rho fc _ yt' yf' ye' yh' yu' yb' s1 s2
end
end
section
/-! the relation; the constructors -/
def cr_C (A n ms nw L : Nat) (cw wl : Nat → Nat) (g : Nat → Nat → Nat) (kd st fc D : Nat → Nat) (cu sr sa kn tb pr fm bb dp yx yg yk yt : Nat → Int32) : Prop :=
  (cz_A A ∧ 4 ≤ ms ∧ ms ≤ 32 ∧ 0 < n ∧ n ≤ ms ∧ L ≤ 24) ∧
  (yg 0 = nI L ∧ yk 0 = 0 ∧ ∀ i, i < L → cu i = nI (cw i) ∧ yx i = nI (cw i) ∧ cw i < A) ∧
  (cx_ws nw wl g kd st sa sr kn ∧ cy_ws nw wl g kd yx yg yk ∧ cz_wd A nw wl g ∧ st 0 = 0 ∧ sa 0 = 0 ∧ st nw ≤ 96) ∧
  ((∀ c, c < 32 → pr c = nI c) ∧ cz_tw A n tb ∧ (∀ i, i < 192 → yt i = tb i) ∧ cz_wc n nw wl g kd tb ∧ cz_bf A n tb fc ∧
  D 0 = 0 ∧ (∀ s, s < n → dp s = nI (D s) ∧ D s ≤ s) ∧ (∀ s, 0 < s → s < n → fm s = nI (fc s / 6) ∧ bb s = nI (fc s % 6) ∧ D s = D (fc s / 6) + 1))
def i_Rel (_ : Nat) (u : SX) (v : SY) : Prop := match u, v with
  | (al, mo, cl, wo, nn, de, to, sl, cu, sr, sa, kn, tb, fr, pr, qu, sk, sw, od, lb, fm, bb, dp), (yl, ym, yn, yw, yc, yx, yg, yk, yt, yf, ye, yh, yu, yb, yd) => ∃ (A n ms nw L : Nat) (cw wl : Nat → Nat) (g : Nat → Nat → Nat) (kd st fc D : Nat → Nat),
    (al = nI A ∧ mo = nI ms ∧ cl = nI L ∧ wo = nI nw ∧ nn = nI n ∧ to = 0 ∧ yl = nI A ∧ ym = nI ms ∧ yn = nI n ∧ yw = nI nw) ∧ cr_C A n ms nw L cw wl g kd st fc D cu sr sa kn tb pr fm bb dp yx yg yk yt
theorem i_up {k : Nat} {u : SX} {v : SY} (h : i_Rel k u v) : i_Rel (k + 3) u v := h
section
variable {al mo cl wo nn de to sl : Int32} {cu sr sa kn tb fr pr qu sk sw od lb fm bb dp : Nat → Int32}
variable {yl ym yn yw yc : Int32} {yx yg yk yt yf ye yh yu yb yd : Nat → Int32}
theorem cr_in {k : Nat} {A n ms nw L : Nat} {cw wl : Nat → Nat} {g : Nat → Nat → Nat} {kd st fc D : Nat → Nat} (h : cr_C A n ms nw L cw wl g kd st fc D cu sr sa kn tb pr fm bb dp yx yg yk yt) :
    i_Rel k (nI A, nI ms, nI L, nI nw, nI n, de, 0, sl, cu, sr, sa, kn, tb, fr, pr, qu, sk, sw, od, lb, fm, bb, dp) (nI A, nI ms, nI n, nI nw, yc, yx, yg, yk, yt, yf, ye, yh, yu, yb, yd) :=
  ⟨A, n, ms, nw, L, cw, wl, g, kd, st, fc, D, ⟨rfl, rfl, rfl, rfl, rfl, rfl, rfl, rfl, rfl, rfl⟩, h⟩
end
theorem cr_el {k : Nat} {u : SX} {v : SY} {P : SX → SY → Prop}
    (h : ∀ (A n ms nw L : Nat) (cw wl : Nat → Nat) (g : Nat → Nat → Nat) (kd st fc D : Nat → Nat) (de sl : Int32) (cu sr sa kn tb fr pr qu sk sw od lb fm bb dp : Nat → Int32) (yc : Int32) (yx yg yk yt yf ye yh yu yb yd : Nat → Int32),
      cr_C A n ms nw L cw wl g kd st fc D cu sr sa kn tb pr fm bb dp yx yg yk yt → P (nI A, nI ms, nI L, nI nw, nI n, de, 0, sl, cu, sr, sa, kn, tb, fr, pr, qu, sk, sw, od, lb, fm, bb, dp) (nI A, nI ms, nI n, nI nw, yc, yx, yg, yk, yt, yf, ye, yh, yu, yb, yd))
    (I : i_Rel k u v) : P u v := by
  obtain ⟨al, mo, cl, wo, nn, de, to, sl, cu, sr, sa, kn, tb, fr, pr, qu, sk, sw, od, lb, fm, bb, dp⟩ := u
  obtain ⟨yl, ym, yn, yw, yc, yx, yg, yk, yt, yf, ye, yh, yu, yb, yd⟩ := v
  obtain ⟨A, n, ms, nw, L, cw, wl, g, kd, st, fc, D, ⟨e1, e2, e3, e4, e5, e6, e7, e8, e9, e10⟩, hC⟩ := I
  subst e1 e2 e3 e4 e5 e6 e7 e8 e9 e10
  exact h A n ms nw L cw wl g kd st fc D de sl cu sr sa kn tb fr pr qu sk sw od lb fm bb dp yc yx yg yk yt yf ye yh yu yb yd hC
section
variable {al mo cl wo nn de to sl : Int32} {cu sr sa kn tb fr pr qu sk sw od lb fm bb dp : Nat → Int32}
variable {yl ym yn yw yc : Int32} {yx yg yk yt yf ye yh yu yb yd : Nat → Int32}
theorem cx_i219 {post : SX → Prop} (hp : ∀ pr, (∀ c, c < 32 → pr c = nI c) → post (al, mo, cl, wo, nn, de, to, sl, cu, sr, sa, kn, tb, fr, pr, qu, sk, sw, od, lb, fm, bb, dp)) :
    ∀ N c pr, 32 - c < N → c ≤ 32 → (∀ j, j < c → pr j = nI j) → wX_init_219 post al mo cl wo nn de to sl N (nI c) cu sr sa kn tb fr pr qu sk sw od lb fm bb dp := by
  intro N
  induction N with
  | zero => exact fun c pr h => absurd h (Nat.not_lt_zero _)
  | succ N ih =>
    intro c pr h1 h2 h3
    refine pk_le 32 c (fun hle => ?_) (fun hlt => ?_)
    · exact hp pr (fun j hj => h3 j (by omega))
    · have c1 : (nI c).toNatClampNeg = c := nI_clamp (by omega)
      refine And.intro (vp_in_nI hlt (by omega)) (nm_r (congrArg (fun z => upd pr z (nI c)) c1) (nm_r (nI_1 c) (ih (c + 1) _ (by omega) (by omega) (fun j hj => ?_))))
      by_cases e : j = c
      · rw [e, pk_us]
      · rw [pk_un e]
        exact h3 j (by omega)
theorem cx_i194 {post : SX → Prop} (hp : ∀ tb pr, (∀ i, i < 192 → tb i = -1) → (∀ c, c < 32 → pr c = nI c) → post (al, mo, cl, wo, nn, de, to, sl, cu, sr, sa, kn, tb, fr, pr, qu, sk, sw, od, lb, fm, bb, dp)) :
    ∀ N i tb, 192 - i < N → i ≤ 192 → (∀ j, j < i → tb j = -1) → wX_init_194 post al mo cl wo nn de to sl N (nI i) cu sr sa kn tb fr pr qu sk sw od lb fm bb dp := by
  intro N
  induction N with
  | zero => exact fun i tb h => absurd h (Nat.not_lt_zero _)
  | succ N ih =>
    intro i tb h1 h2 h3
    refine pk_le 192 i (fun hle => ?_) (fun hlt => ?_)
    · exact ⟨33, cx_i219 (fun pr hpr => hp tb pr (fun j hj => h3 j (by omega)) hpr) 33 0 _ (by omega) (by omega) (fun j hj => absurd hj (Nat.not_lt_zero j))⟩
    · have c1 : (nI i).toNatClampNeg = i := nI_clamp (by omega)
      refine And.intro (vp_in_nI hlt (by omega)) (nm_r (congrArg (fun z => upd tb z (-1)) c1) (nm_r (nI_1 i) (ih (i + 1) _ (by omega) (by omega) (fun j hj => ?_))))
      by_cases e : j = i
      · rw [e, pk_us]
      · rw [pk_un e]
        exact h3 j (by omega)
theorem cy_i145 {post : SY → Prop} (hp : ∀ yt, (∀ i, i < 192 → yt i = -1) → post (yl, ym, yn, yw, yc, yx, yg, yk, yt, yf, ye, yh, yu, yb, yd)) :
    ∀ N i yt, 192 - i < N → i ≤ 192 → (∀ j, j < i → yt j = -1) → wY_init_145 post yl ym yn yw yc N (nI i) yx yg yk yt yf ye yh yu yb yd := by
  intro N
  induction N with
  | zero => exact fun i yt h => absurd h (Nat.not_lt_zero _)
  | succ N ih =>
    intro i yt h1 h2 h3
    refine pk_le 192 i (fun hle => ?_) (fun hlt => ?_)
    · exact hp yt (fun j hj => h3 j (by omega))
    · have c1 : (nI i).toNatClampNeg = i := nI_clamp (by omega)
      refine And.intro (vp_in_nI hlt (by omega)) (nm_r (congrArg (fun z => upd yt z (-1)) c1) (nm_r (nI_1 i) (ih (i + 1) _ (by omega) (by omega) (fun j hj => ?_))))
      by_cases e : j = i
      · rw [e, pk_us]
      · rw [pk_un e]
        exact h3 j (by omega)
end
/-- an int clamped into lo .. hi -/
theorem cr_clamp (x : Int32) {lo hi : Nat} (h : lo ≤ hi) (hh : hi < 2 ^ 31) : (¬ nI lo ≤ x) ∨ (∃ j, lo ≤ j ∧ j ≤ hi ∧ x = nI j) ∨ (nI lo ≤ x ∧ ¬ x ≤ nI hi) := by
  by_cases h1 : nI lo ≤ x
  · by_cases h2 : x ≤ nI hi
    · have h3 : ¬ x < 0 := by
        intro h4
        have h5 := Int32.lt_of_le_of_lt h1 h4
        exact nI_pos (by omega) h5
      obtain ⟨j, hj, e⟩ := nI_of h3
      subst e
      rw [nI_leI (by omega) hj] at h1
      rw [nI_leI hj hh] at h2
      exact Or.inr (Or.inl ⟨j, h1, h2, rfl⟩)
    · exact Or.inr (Or.inr ⟨h1, h2⟩)
  · exact Or.inl h1
theorem cr_i0 (k0 k1 : Int32) : ∃ G, 1 ≤ G ∧ G ≤ 3 ∧ (∀ post : SX → Prop, wX_init_148 post k1 (nI G) 0 0 0 0 0 0 0 0 (fun _ => 0) (fun _ => 0) (fun _ => 0) (fun _ => 0) (fun _ => 0) (fun _ => 0) (fun _ => 0) (fun _ => 0) (fun _ => 0) (fun _ => 0) (fun _ => 0) (fun _ => 0) (fun _ => 0) (fun _ => 0) (fun _ => 0) → wpX_init post k0 k1) ∧
    (∀ post : SY → Prop, wY_init_115 post k1 (nI (2 * G)) 0 0 1 0 0 (fun _ => 0) (fun _ => 0) (fun _ => 0) (fun _ => 0) (fun _ => 0) (fun _ => 0) (fun _ => 0) (fun _ => 0) (fun _ => 0) (fun _ => 0) → wpY_init post k0 k1) := by
  rcases cr_clamp k0 (lo := 1) (hi := 3) (by omega) (by omega) with h | ⟨j, h1, h2, rfl⟩ | ⟨h1, h2⟩
  · exact ⟨1, by omega, by omega, fun post hp => br_f h (br_t (by decide) hp), fun post hp => br_f h hp⟩
  · have e1 : (1 : Int32) ≤ nI j := nI_le (a := 1) h1 (by omega)
    have e2 : nI j ≤ 3 := nI_le (b := 3) h2 (by omega)
    have e3 : (2 : Int32) * nI j = nI (2 * j) := by rw [show (2 : Int32) = nI 2 from rfl, pk_mul]
    refine ⟨j, h1, h2, fun post hp => br_t e1 (br_t e2 hp), fun post hp => br_t e1 (br_t e2 ?_)⟩
    rw [e3]
    exact hp
  · exact ⟨3, by omega, by omega, fun post hp => br_t h1 (br_f h2 hp), fun post hp => br_t h1 (br_f h2 hp)⟩
theorem cr_i1 (k1 : Int32) (G : Nat) : ∃ ms, 4 ≤ ms ∧ ms ≤ 32 ∧ (∀ post : SX → Prop, (∃ n194, wX_init_194 post (nI (2 * G)) (nI ms) 0 0 1 0 0 0 n194 0 (fun _ => 0) (fun _ => 0) (fun _ => 0) (fun _ => 0) (fun _ => 0) (fun _ => 0) (fun _ => 0) (fun _ => 0) (fun _ => 0) (fun _ => 0) (fun _ => 0) (fun _ => 0) (fun _ => 0) (fun _ => 0) (fun _ => 0)) → wX_init_148 post k1 (nI G) 0 0 0 0 0 0 0 0 (fun _ => 0) (fun _ => 0) (fun _ => 0) (fun _ => 0) (fun _ => 0) (fun _ => 0) (fun _ => 0) (fun _ => 0) (fun _ => 0) (fun _ => 0) (fun _ => 0) (fun _ => 0) (fun _ => 0) (fun _ => 0) (fun _ => 0)) ∧
    (∀ post : SY → Prop, (∃ n145, wY_init_145 post (nI (2 * G)) (nI ms) 1 0 0 n145 0 (fun _ => 0) (fun _ => 0) (fun _ => 0) (fun _ => 0) (fun _ => 0) (fun _ => 0) (fun _ => 0) (fun _ => 0) (fun _ => 0) (fun _ => 0)) → wY_init_115 post k1 (nI (2 * G)) 0 0 1 0 0 (fun _ => 0) (fun _ => 0) (fun _ => 0) (fun _ => 0) (fun _ => 0) (fun _ => 0) (fun _ => 0) (fun _ => 0) (fun _ => 0) (fun _ => 0)) := by
  have e3 : (2 : Int32) * nI G = nI (2 * G) := by rw [show (2 : Int32) = nI 2 from rfl, pk_mul]
  rcases cr_clamp k1 (lo := 4) (hi := 32) (by omega) (by omega) with h | ⟨j, h1, h2, rfl⟩ | ⟨h1, h2⟩
  · exact ⟨4, by omega, by omega, fun post hp => nm_r e3 (br_f h (br_t (by decide) hp)), fun post hp => br_f h hp⟩
  · have e1 : (4 : Int32) ≤ nI j := nI_le (a := 4) h1 (by omega)
    have e2 : nI j ≤ 32 := nI_le (b := 32) h2 (by omega)
    exact ⟨j, h1, h2, fun post hp => nm_r e3 (br_t e1 (br_t e2 hp)), fun post hp => br_t e1 (br_t e2 hp)⟩
  · exact ⟨32, by omega, by omega, fun post hp => nm_r e3 (br_t h1 (br_f h2 hp)), fun post hp => br_t h1 (br_f h2 hp)⟩
theorem i_vc0 (k0 : Int32) (k1 : Int32) : wpX_init (fun u => wpY_init (fun v => i_Rel 2 u v) k0 k1) k0 k1 := by
  obtain ⟨G, g1, g2, hX, hY⟩ := cr_i0 k0 k1
  obtain ⟨ms, m1, m2, hX2, hY2⟩ := cr_i1 k1 G
  refine hX _ (hX2 _ ⟨193, cx_i194 ?_ 193 0 _ (by omega) (by omega) (fun j hj => absurd hj (Nat.not_lt_zero j))⟩)
  intro tb pr htb hpr
  refine hY _ (hY2 _ ⟨193, cy_i145 ?_ 193 0 _ (by omega) (by omega) (fun j hj => absurd hj (Nat.not_lt_zero j))⟩)
  intro yt hyt
  refine cr_in (A := 2 * G) (n := 1) (ms := ms) (nw := 0) (L := 0) (cw := fun _ => 0) (wl := fun _ => 0) (g := fun _ _ => 0) (kd := fun _ => 0) (st := fun _ => 0) (fc := fun _ => 0) (D := fun _ => 0) ?_
  have hno : ∀ w : Nat, ¬ w < 0 := fun w => Nat.not_lt_zero w
  refine ⟨⟨?_, m1, m2, by omega, by omega, by omega⟩, ⟨rfl, rfl, fun i hi => absurd hi (hno i)⟩, ⟨⟨by omega, fun w hw => absurd hw (hno w)⟩, ⟨by omega, fun w hw => absurd hw (hno w)⟩, fun w hw => absurd hw (hno w), rfl, rfl, Nat.zero_le _⟩, hpr, ?_, fun i hi => (hyt i hi).trans (htb i hi).symm, fun w hw => absurd hw (hno w), ⟨fun s h0 hs => by omega, fun s s' h0 h1 h2 => by omega⟩, rfl, fun s hs => ⟨rfl, Nat.zero_le s⟩, fun s h0 hs => by omega⟩
  · unfold cz_A
    omega
  · exact fun c x hc hx => Or.inl (htb _ (by omega))
end
section
/-! letter, power, clear, cosets, entry, read -/
theorem cr_ix (v : Int32) {N : Nat} (hN : N < 2 ^ 31) : v < 0 ∨ (¬ v < 0 ∧ nI N ≤ v ∧ ¬ v < nI N) ∨ ∃ j, j < N ∧ v = nI j ∧ ¬ v < 0 ∧ ¬ nI N ≤ v ∧ v < nI N := by
  by_cases h : v < 0
  · exact Or.inl h
  · obtain ⟨j, hj, e⟩ := nI_of h
    by_cases h2 : j < N
    · refine Or.inr (Or.inr ⟨j, h2, e, h, ?_, ?_⟩)
      · rw [e]
        exact nI_ge h2 hN
      · rw [e]
        exact nI_lt h2 hN
    · refine Or.inr (Or.inl ⟨h, ?_, ?_⟩)
      · rw [e]
        exact nI_le (by omega) hj
      · rw [e]
        exact nI_nlt (by omega) hj
section
variable {al mo cl wo nn de to sl : Int32} {cu sr sa kn tb fr pr qu sk sw od lb fm bb dp : Nat → Int32}
variable {yl ym yn yw yc : Int32} {yx yg yk yt yf ye yh yu yb yd : Nat → Int32}
theorem cx_isL {A : Nat} {v : Int32} {post : Int32 → Prop} (h0 : (v < 0 ∨ nI A ≤ v) → post 0) (h1 : ¬ v < 0 → ¬ nI A ≤ v → post 1) : wpX_isLetter post (nI A, mo, cl, wo, nn, de, to, sl, cu, sr, sa, kn, tb, fr, pr, qu, sk, sw, od, lb, fm, bb, dp) v :=
  br_c (fun h => h0 (Or.inl h)) (fun h => br_c (fun h2 => h0 (Or.inr h2)) (fun h2 => h1 h h2))
theorem cx_isC {n : Nat} {v : Int32} {post : Int32 → Prop} (h0 : (v < 0 ∨ nI n ≤ v) → post 0) (h1 : ¬ v < 0 → ¬ nI n ≤ v → post 1) : wpX_isCoset post (al, mo, cl, wo, nI n, de, to, sl, cu, sr, sa, kn, tb, fr, pr, qu, sk, sw, od, lb, fm, bb, dp) v :=
  br_c (fun h => h0 (Or.inl h)) (fun h => br_c (fun h2 => h0 (Or.inr h2)) (fun h2 => h1 h h2))
theorem cr_ws_letter {nw : Nat} {wl : Nat → Nat} {g : Nat → Nat → Nat} {kd : Nat → Nat} {L : Nat} (hL : L ≤ 24) (h : cy_ws nw wl g kd yx yg yk) {yx' yg' : Nat → Int32} (hx : ∀ i, 24 ≤ i → yx' i = yx i) (hg : ∀ w, 0 < w → yg' w = yg w) : cy_ws nw wl g kd yx' yg' yk := by
  refine ⟨h.1, fun w hw => ?_⟩
  obtain ⟨k1, k2, k3⟩ := h.2 w hw
  exact ⟨by rw [hg _ (by omega)]; exact k1, k2, fun i hi => by rw [hx _ (by omega)]; exact k3 i hi⟩
end
theorem i_vc_letter {k : Nat} {u : SX} {v : SY} (I : i_Rel k u v) (hk : k + 3 ≤ 1538) (v1 : Int32) : wpX_letter (fun r u' => wpY_letter (fun r' v' => r' = r ∧ i_Rel (k + 3) u' v') v v1) u v1 := by
  refine cr_el (P := fun u v => wpX_letter (fun r u' => wpY_letter (fun r' v' => r' = r ∧ i_Rel (k + 3) u' v') v v1) u v1) ?_ I
  intro A n ms nw L cw wl g kd st fc D de sl cu sr sa kn tb fr pr qu sk sw od lb fm bb dp yc yx yg yk yt yf ye yh yu yb yd hC
  have hC' := hC
  obtain ⟨⟨hA, hm4, hm32, hn0, hnm, hL⟩, ⟨c1, c2, c3⟩, ⟨w1, w2, w3⟩, hT⟩ := hC'
  have hA6 := cz_A6 hA
  unfold wpX_letter
  rcases cr_ix v1 (N := A) (by omega) with h | ⟨h1, h2, h3⟩ | ⟨j, hj, e, h1, h2, h3⟩
  · refine cx_isL (fun _ => br_t rfl ?_) (fun h' => absurd h h')
    exact br_t h ⟨rfl, cr_in hC⟩
  · refine cx_isL (fun _ => br_t rfl ?_) (fun _ h' => absurd h2 h')
    exact br_f h1 (br_f h3 ⟨rfl, cr_in hC⟩)
  · refine cx_isL (fun h' => absurd h' (by rintro (h | h); exact h1 h; exact h2 h)) (fun _ _ => br_f (by decide) ?_)
    have e0 : (nI L).toNatClampNeg = L := nI_clamp (by omega)
    refine pk_lt L 24 (fun hlt => ?_) (fun hge => ?_)
    · refine And.intro (vp_in_nI hlt (by omega)) (nm_r (e' := upd cu L v1) (by rw [e0]) (nm_r (nI_1 L) ?_))
      refine br_f h1 (br_t h3 ?_)
      rw [c1]
      refine pk_lt L 24 (fun hlt => ?_) (fun hge => absurd hge (by omega))
      refine And.intro (vp_in_nI (by omega) (by omega)) (nm_r (e' := upd yx L v1) (by rw [e0]) (nm_r (e' := upd yg 0 (nI (L + 1))) (by rw [nI_1]) ⟨rfl, cr_in (L := L + 1) (cw := cz_nu cw L j) (wl := wl) (g := g) (kd := kd) (st := st) (fc := fc) (D := D) ?_⟩))
      refine ⟨⟨hA, hm4, hm32, hn0, hnm, by omega⟩, ⟨pk_us, c2, fun i hi => ?_⟩, ⟨w1, cr_ws_letter hL w2 (fun i hi => pk_un (by omega)) (fun w hw => pk_un (by omega)), w3⟩, hT⟩
      by_cases ei : i = L
      · rw [ei, pk_us, pk_us, cz_nu_s]
        exact ⟨e, e, hj⟩
      · rw [pk_un ei, pk_un ei, cz_nu_n ei]
        exact c3 i (by omega)
    · refine br_f h1 (br_t h3 ?_)
      rw [c1]
      exact pk_lt L 24 (fun hlt => absurd hlt (by omega)) (fun _ => ⟨rfl, cr_in hC⟩)
theorem i_vc_clear {k : Nat} {u : SX} {v : SY} (I : i_Rel k u v) (hk : k + 3 ≤ 1538) : wpX_clear (fun u' => wpY_clear (fun v' => i_Rel (k + 3) u' v') v) u := by
  refine cr_el (P := fun u v => wpX_clear (fun u' => wpY_clear (fun v' => i_Rel (k + 3) u' v') v) u) ?_ I
  intro A n ms nw L cw wl g kd st fc D de sl cu sr sa kn tb fr pr qu sk sw od lb fm bb dp yc yx yg yk yt yf ye yh yu yb yd hC
  obtain ⟨⟨hA, hm4, hm32, hn0, hnm, hL⟩, ⟨c1, c2, c3⟩, ⟨w1, w2, w3⟩, hT⟩ := hC
  refine nm_e (cr_in (L := 0) (cw := cw) (wl := wl) (g := g) (kd := kd) (st := st) (fc := fc) (D := D) ?_)
  exact ⟨⟨hA, hm4, hm32, hn0, hnm, by omega⟩, ⟨pk_us, c2, fun i hi => absurd hi (Nat.not_lt_zero i)⟩, ⟨w1, cr_ws_letter hL w2 (fun i hi => rfl) (fun w hw => pk_un (by omega)), w3⟩, hT⟩
theorem i_vc_cosets {k : Nat} {u : SX} {v : SY} (I : i_Rel k u v) (hk : k + 3 ≤ 1538) : wpX_cosets (fun r => wpY_cosets (fun r' => r' = r ∧ i_Rel (k + 3) u v) v) u := by
  refine cr_el (P := fun u v => wpX_cosets (fun r => wpY_cosets (fun r' => r' = r ∧ i_Rel (k + 3) u v) v) u) ?_ I
  intro A n ms nw L cw wl g kd st fc D de sl cu sr sa kn tb fr pr qu sk sw od lb fm bb dp yc yx yg yk yt yf ye yh yu yb yd hC
  exact ⟨rfl, cr_in hC⟩
section
variable {al mo cl wo nn de to sl : Int32} {cu sr sa kn tb fr pr qu sk sw od lb fm bb dp : Nat → Int32}
variable {yl ym yn yw yc : Int32} {yx yg yk yt yf ye yh yu yb yd : Nat → Int32}
theorem cx_pw48 {L T : Nat} {cw : Nat → Nat} (hL0 : 0 < L) (hT : T ≤ 24) {post : Int32 → SX → Prop} (hp : ∀ cu, (∀ i, i < T → cu i = nI (cw (i % L))) → post 0 (al, mo, nI T, wo, nn, de, to, sl, cu, sr, sa, kn, tb, fr, pr, qu, sk, sw, od, lb, fm, bb, dp)) :
    ∀ N i cu, T - i < N → L ≤ i → i ≤ T → (∀ j, j < i → cu j = nI (cw (j % L))) → wX_power_48 post (nI T) al mo (nI L) wo nn de to sl N (nI i) cu sr sa kn tb fr pr qu sk sw od lb fm bb dp := by
  intro N
  induction N with
  | zero => exact fun i cu h => absurd h (Nat.not_lt_zero _)
  | succ N ih =>
    intro i cu h1 h2 h3 h4
    refine pk_le T i (fun hle => ?_) (fun hlt => ?_)
    · exact hp cu (fun j hj => h4 j (by omega))
    · have c1 : (nI i).toNatClampNeg = i := nI_clamp (by omega)
      have e1 : nI i - nI L = nI (i - L) := pk_sub h2
      have c2 : (nI i - nI L).toNatClampNeg = i - L := by rw [e1, nI_clamp (by omega)]
      have v1 : vp_in (nI i - nI L) 24 := by rw [e1]; exact vp_in_nI (by omega) (by omega)
      have e2 : upd cu (nI i).toNatClampNeg (cu (nI i - nI L).toNatClampNeg) = upd cu i (nI (cw (i % L))) := by
        rw [c1, c2, h4 (i - L) (by omega), ← Nat.mod_eq_sub_mod h2]
      refine And.intro v1 (And.intro (vp_in_nI (by omega) (by omega)) (nm_r e2 (nm_r (nI_1 i) (ih (i + 1) _ (by omega) (by omega) (by omega) (fun j hj => ?_)))))
      by_cases e : j = i
      · rw [e, pk_us]
      · rw [pk_un e]
        exact h4 j (by omega)
theorem cy_pw58 {L T : Nat} {cw : Nat → Nat} (hL0 : 0 < L) (hT : T ≤ 24) (hg : yg 0 = nI L) {yx0 : Nat → Int32} {post : Int32 → SY → Prop} (hp : ∀ yx, (∀ i, i < T → yx i = nI (cw (i % L))) → (∀ i, 24 ≤ i → yx i = yx0 i) → post 0 (yl, ym, yn, yw, yc, yx, upd yg 0 (nI T), yk, yt, yf, ye, yh, yu, yb, yd)) :
    ∀ N i yx, T - i < N → L ≤ i → i ≤ T → (∀ j, j < i → yx j = nI (cw (j % L))) → (∀ j, 24 ≤ j → yx j = yx0 j) → wY_power_58 post (nI T) yl ym yn yw yc N (nI i) yx yg yk yt yf ye yh yu yb yd := by
  intro N
  induction N with
  | zero => exact fun i yx h => absurd h (Nat.not_lt_zero _)
  | succ N ih =>
    intro i yx h1 h2 h3 h4 h5
    refine pk_le T i (fun hle => ?_) (fun hlt => ?_)
    · exact nm_e (hp yx (fun j hj => h4 j (by omega)) h5)
    · have c1 : (nI i).toNatClampNeg = i := nI_clamp (by omega)
      have e1 : nI i - yg 0 = nI (i - L) := by rw [hg]; exact pk_sub h2
      have c2 : (nI i - yg 0).toNatClampNeg = i - L := by rw [e1, nI_clamp (by omega)]
      have v1 : vp_in (nI i - yg 0) 264 := by rw [e1]; exact vp_in_nI (by omega) (by omega)
      have e2 : upd yx (nI i).toNatClampNeg (yx (nI i - yg 0).toNatClampNeg) = upd yx i (nI (cw (i % L))) := by
        rw [c1, c2, h4 (i - L) (by omega), ← Nat.mod_eq_sub_mod h2]
      refine And.intro v1 (And.intro (vp_in_nI (by omega) (by omega)) (nm_r e2 (nm_r (nI_1 i) (ih (i + 1) _ (by omega) (by omega) (by omega) (fun j hj => ?_) (fun j hj => ?_)))))
      · by_cases e : j = i
        · rw [e, pk_us]
        · rw [pk_un e]
          exact h4 j (by omega)
      · rw [pk_un (by omega)]
        exact h5 j hj
end
theorem i_vc_power {k : Nat} {u : SX} {v : SY} (I : i_Rel k u v) (hk : k + 3 ≤ 1538) (v1 : Int32) : wpX_power (fun r u' => wpY_power (fun r' v' => r' = r ∧ i_Rel (k + 3) u' v') v v1) u v1 := by
  refine cr_el (P := fun u v => wpX_power (fun r u' => wpY_power (fun r' v' => r' = r ∧ i_Rel (k + 3) u' v') v v1) u v1) ?_ I
  intro A n ms nw L cw wl g kd st fc D de sl cu sr sa kn tb fr pr qu sk sw od lb fm bb dp yc yx yg yk yt yf ye yh yu yb yd hC
  have hC' := hC
  obtain ⟨⟨hA, hm4, hm32, hn0, hnm, hL⟩, ⟨c1, c2, c3⟩, ⟨w1, w2, w3⟩, hT⟩ := hC'
  by_cases h1 : (1 : Int32) ≤ v1
  · have h0 : ¬ v1 < 0 := by
      intro h
      have h5 := Int32.lt_of_le_of_lt h1 h
      exact absurd h5 (by decide)
    obtain ⟨j, hj, e⟩ := nI_of h0
    subst e
    have hj1 : 1 ≤ j := (nI_leI (a := 1) (by omega) hj).mp h1
    refine br_t h1 ?_
    refine pk_eq L 0 (fun e0 => ?_) (fun e0 => ?_)
    · refine br_t h1 (br_t (by rw [c1, e0]; rfl) ⟨rfl, cr_in hC⟩)
    · have hl : (nI j).toInt64 * (nI L).toInt64 = lN (j * L) := by rw [nI_l hj, nI_l (by omega), lN_mul]
      have hb : j * L < 2 ^ 63 := by
        have : j * L ≤ 2 ^ 31 * 24 := Nat.mul_le_mul (by omega) hL
        omega
      have hle : lN (j * L) ≤ 24 ↔ j * L ≤ 24 := pk_lLE (b := 24) hb (by omega)
      have hg0 : ¬ yg 0 = 0 := by rw [c1]; exact nI_ne0 (by omega) (by omega)
      refine nm_r hl ?_
      by_cases h24 : j * L ≤ 24
      · have hj24 : j ≤ 24 := by
          have : j * 1 ≤ j * L := Nat.mul_le_mul_left j (by omega)
          omega
        have hLT : L ≤ j * L := by
          have : 1 * L ≤ j * L := Nat.mul_le_mul_right L hj1
          omega
        have em : nI j * nI L = nI (j * L) := pk_mul j L
        refine br_t (hle.mpr h24) ?_
        rw [lN_i]
        refine ⟨j * L + 1, cx_pw48 (cw := cw) (by omega) h24 ?_ (j * L + 1) L cu (by omega) (Nat.le_refl L) hLT (fun i hi => ?_)⟩
        · intro cu' hcu
          refine br_t h1 (br_f hg0 (br_f (nI_nlt (a := 24) hj24 (by omega)) ?_))
          rw [c1, em]
          refine br_t (nI_le (b := 24) h24 (by omega)) (nm_e (nm_e ⟨j * L + 1, cy_pw58 (cw := cw) (yx0 := yx) (by omega) h24 c1 ?_ (j * L + 1) L yx (by omega) (Nat.le_refl L) hLT (fun i hi => ?_) (fun i _ => rfl)⟩))
          · intro yx' k1 k2
            refine ⟨rfl, cr_in (L := j * L) (cw := fun i => cw (i % L)) (wl := wl) (g := g) (kd := kd) (st := st) (fc := fc) (D := D) ?_⟩
            refine ⟨⟨hA, hm4, hm32, hn0, hnm, by omega⟩, ⟨pk_us, c2, fun i hi => ⟨hcu i hi, k1 i hi, (c3 (i % L) (Nat.mod_lt _ (by omega))).2.2⟩⟩, ⟨w1, cr_ws_letter hL w2 k2 (fun w hw => pk_un (by omega)), w3⟩, hT⟩
          · rw [Nat.mod_eq_of_lt hi]
            exact (c3 i hi).2.1
        · rw [Nat.mod_eq_of_lt hi]
          exact (c3 i hi).1
      · refine br_f (fun h => h24 (hle.mp h)) ?_
        refine br_t h1 (br_f hg0 ?_)
        refine pk_lt 24 j (fun hlt => ⟨rfl, cr_in hC⟩) (fun hj24 => ?_)
        rw [c1, pk_mul]
        have hb2 : j * L ≤ 24 * 24 := Nat.mul_le_mul hj24 hL
        exact pk_le (j * L) 24 (fun h => absurd h h24) (fun _ => ⟨rfl, cr_in hC⟩)
  · exact br_f h1 (br_f h1 ⟨rfl, cr_in hC⟩)
theorem i_vc_entry {k : Nat} {u : SX} {v : SY} (I : i_Rel k u v) (hk : k + 3 ≤ 1538) (v1 : Int32) (v2 : Int32) : wpX_entry (fun r => wpY_entry (fun r' => r' = r ∧ i_Rel (k + 3) u v) v v1 v2) u v1 v2 := by
  refine cr_el (P := fun u v => wpX_entry (fun r => wpY_entry (fun r' => r' = r ∧ i_Rel (k + 3) u v) v v1 v2) u v1 v2) ?_ I
  intro A n ms nw L cw wl g kd st fc D de sl cu sr sa kn tb fr pr qu sk sw od lb fm bb dp yc yx yg yk yt yf ye yh yu yb yd hC
  have hC' := hC
  obtain ⟨⟨hA, hm4, hm32, hn0, hnm, hL⟩, _, _, hpr, tw, hyt, _⟩ := hC'
  have hA6 := cz_A6 hA
  unfold wpX_entry
  rcases cr_ix v1 (N := n) (by omega) with h | ⟨h1, h2, h3⟩ | ⟨c, hc, e, h1, h2, h3⟩
  · exact cx_isC (fun _ => br_t rfl (br_t h ⟨rfl, cr_in hC⟩)) (fun h' => absurd h h')
  · exact cx_isC (fun _ => br_t rfl (br_f h1 (br_t h2 ⟨rfl, cr_in hC⟩))) (fun _ h' => absurd h2 h')
  · refine cx_isC (fun h' => absurd h' (by rintro (h | h); exact h1 h; exact h2 h)) (fun _ _ => br_f (by decide) ?_)
    rcases cr_ix v2 (N := A) (by omega) with g0 | ⟨g1, g2, g3⟩ | ⟨x, hx, e2, g1, g2, g3⟩
    · exact cx_isL (fun _ => br_t rfl (br_f h1 (br_f h2 (br_t g0 ⟨rfl, cr_in hC⟩)))) (fun h' => absurd g0 h')
    · exact cx_isL (fun _ => br_t rfl (br_f h1 (br_f h2 (br_f g1 (br_f g3 ⟨rfl, cr_in hC⟩))))) (fun _ h' => absurd g2 h')
    · refine cx_isL (fun h' => absurd h' (by rintro (h | h); exact g1 h; exact g2 h)) (fun _ _ => br_f (by decide) ?_)
      subst e e2
      have c1 : (nI c * 6 + nI x).toNatClampNeg = c * 6 + x := by rw [cz_ix, nI_clamp (by omega)]
      have vv : vp_in (nI c * 6 + nI x) 192 := by rw [cz_ix]; exact vp_in_nI (by omega) (by omega)
      refine And.intro vv (nm_r (congrArg tb c1) ?_)
      have hy : yt (c * 6 + x) = tb (c * 6 + x) := hyt _ (by omega)
      by_cases hz : 0 ≤ tb (c * 6 + x)
      · refine br_t hz (br_f h1 (br_f h2 (br_f g1 (br_t g3 (And.intro vv ?_)))))
        rw [c1, hy]
        exact br_t hz (And.intro vv ⟨rfl, cr_in hC⟩)
      · refine br_f hz (br_f h1 (br_f h2 (br_f g1 (br_t g3 (And.intro vv ?_)))))
        rw [c1, hy]
        exact br_f hz ⟨rfl, cr_in hC⟩
theorem i_vc_read {k : Nat} {u : SX} {v : SY} (I : i_Rel k u v) (hk : k + 3 ≤ 1538) (v1 : Int32) (v2 : Int32) : wpX_read (fun r => wpY_read (fun r' => r' = r ∧ i_Rel (k + 3) u v) v v1 v2) u v1 v2 := by
  refine cr_el (P := fun u v => wpX_read (fun r => wpY_read (fun r' => r' = r ∧ i_Rel (k + 3) u v) v v1 v2) u v1 v2) ?_ I
  intro A n ms nw L cw wl g kd st fc D de sl cu sr sa kn tb fr pr qu sk sw od lb fm bb dp yc yx yg yk yt yf ye yh yu yb yd hC
  have hC' := hC
  obtain ⟨⟨hA, hm4, hm32, hn0, hnm, hL⟩, ⟨c1, c2, c3⟩, ⟨⟨hnw, w1⟩, ⟨_, w2⟩, w3, s1, s2, s3⟩, _⟩ := hC'
  by_cases h1 : v1 < 0
  · exact br_t h1 (br_t h1 ⟨rfl, cr_in hC⟩)
  · obtain ⟨w, hw, e⟩ := nI_of h1
    subst e
    refine br_f h1 ?_
    by_cases h2 : nI nw < nI w
    · exact br_t h2 (br_f h1 (br_t h2 ⟨rfl, cr_in hC⟩))
    · refine br_f h2 ?_
      have hwn : w ≤ nw := by
        rw [nI_ltI (by omega) hw] at h2
        omega
      by_cases h3 : 0 ≤ v2
      · have h3' : ¬ v2 < 0 := Int32.not_lt.mpr h3
        obtain ⟨i, hi, e⟩ := nI_of h3'
        subst e
        refine br_t h3 ?_
        have hi1 : 1 ≤ i → nI i - 1 = nI (i - 1) := fun h => pk_sub (a := i) (b := 1) h
        have cw' : (nI w).toNatClampNeg = w := nI_clamp (by omega)
        have vw : vp_in (nI w) 11 := vp_in_nI (by omega) (by omega)
        refine pk_eq w 0 (fun e => ?_) (fun ne => ?_)
        · subst e
          refine pk_eq i 0 (fun e => ?_) (fun ne => ?_)
          · subst e
            refine br_f h1 (br_f h2 (br_t h3 (br_t rfl (And.intro vw ?_))))
            rw [cw', c2]
            exact ⟨rfl, cr_in hC⟩
          · have yy : ¬ nI i = 0 := nI_ne0 (by omega) hi
            refine pk_le i L (fun hle => ?_) (fun hgt => ?_)
            · have v3 : vp_in (nI i - 1) 24 := by rw [hi1 (by omega)]; exact vp_in_nI (by omega) (by omega)
              refine And.intro v3 (br_f h1 (br_f h2 (br_t h3 (br_f yy (And.intro vw ?_)))))
              rw [cw', c1]
              have e0 := cy_ixw (a := 0) (i := i) (by omega)
              rw [hi1 (by omega), nI_clamp (show i - 1 < 2 ^ 31 by omega), (c3 (i - 1) (by omega)).1]
              refine br_t (nI_le hle (by omega)) (And.intro (by rw [e0]; exact vp_in_nI (by omega) (by omega)) ⟨?_, cr_in hC⟩)
              rw [e0, nI_clamp (by omega), show 0 * 24 + (i - 1) = i - 1 by omega]
              exact (c3 (i - 1) (by omega)).2.1
            · refine br_f h1 (br_f h2 (br_t h3 (br_f yy (And.intro vw ?_))))
              rw [cw', c1]
              exact br_f (nI_ge hgt hi) ⟨rfl, cr_in hC⟩
        · obtain ⟨q, rfl⟩ : ∃ q, w = q + 1 := ⟨w - 1, by omega⟩
          obtain ⟨a1, a2, a3, a4, a5, a6, a7⟩ := w1 q (by omega)
          obtain ⟨b1, b2, b3⟩ := w2 q (by omega)
          obtain ⟨l1, l2, l3, l4⟩ := w3 q (by omega)
          have eq1 : nI (q + 1) - 1 = nI q := nI_pred q
          have cq : (nI (q + 1) - 1).toNatClampNeg = q := by rw [eq1, nI_clamp (by omega)]
          refine pk_eq i 0 (fun e => ?_) (fun ne => ?_)
          · subst e
            have v3 : vp_in (nI (q + 1) - 1) 10 := by rw [eq1]; exact vp_in_nI (by omega) (by omega)
            refine And.intro v3 (br_f h1 (br_f h2 (br_t h3 (br_t rfl (And.intro vw ?_)))))
            rw [cw', cq, a5, b2]
            exact ⟨rfl, cr_in hC⟩
          · have yy : ¬ nI i = 0 := nI_ne0 (by omega) hi
            have v3 : vp_in (nI (q + 1) - 1) 11 := by rw [eq1]; exact vp_in_nI (by omega) (by omega)
            have el : sa (nI (q + 1)).toNatClampNeg - sa (nI (q + 1) - 1).toNatClampNeg = nI (wl q) := by
              rw [cw', cq, a1, a2, pk_sub (by omega), a3, Nat.add_sub_cancel_left]
            refine And.intro vw (And.intro v3 (nm_r el ?_))
            refine pk_le i (wl q) (fun hle => ?_) (fun hgt => ?_)
            · have e5 : sa (nI (q + 1) - 1).toNatClampNeg + nI i - 1 = nI (st q + (i - 1)) := by
                rw [cq, a1, nI_add, show (1 : Int32) = nI 1 from rfl, pk_sub (by omega)]
                exact congrArg nI (by omega)
              have v5 : vp_in (sa (nI (q + 1) - 1).toNatClampNeg + nI i - 1) 96 := by rw [e5]; exact vp_in_nI (by omega) (by omega)
              refine And.intro v3 (And.intro v5 (br_f h1 (br_f h2 (br_t h3 (br_f yy (And.intro vw ?_))))))
              rw [cw', b1]
              have e0 := cy_ixw (a := q + 1) (i := i) (by omega)
              refine br_t (nI_le hle (by omega)) (And.intro (by rw [e0]; exact vp_in_nI (by omega) (by omega)) ⟨?_, cr_in hC⟩)
              rw [e0, nI_clamp (by omega), e5, nI_clamp (by omega), b3 (i - 1) (by omega), a7 (i - 1) (by omega)]
            · refine br_f h1 (br_f h2 (br_t h3 (br_f yy (And.intro vw ?_))))
              rw [cw', b1]
              exact br_f (nI_ge hgt hi) ⟨rfl, cr_in hC⟩
      · exact br_f h3 (br_f h1 (br_f h2 (br_f h3 ⟨rfl, cr_in hC⟩)))
end
section
/-! firstMissing, status, walks, trace, member -/
def cr_ms (A n : Nat) (t : Nat → Int32) (c x : Nat) : Prop := c < n ∧ x < A ∧ t (c * 6 + x) = -1 ∧ ∀ c' x', c' < n → x' < A → c' * 6 + x' < c * 6 + x → t (c' * 6 + x') ≠ -1
def cr_fu (A n : Nat) (t : Nat → Int32) : Prop := ∀ c x, c < n → x < A → t (c * 6 + x) ≠ -1
theorem cr_dich (A n : Nat) (t : Nat → Int32) : cr_fu A n t ∨ ∃ c x, cr_ms A n t c x := by
  by_cases hex : ∃ j, ∃ c x, c < n ∧ x < A ∧ j = c * 6 + x ∧ t (c * 6 + x) = -1
  · obtain ⟨j, ⟨c, x, h1, h2, h3, h4⟩, hl⟩ := pk_least _ hex
    refine Or.inr ⟨c, x, h1, h2, h4, fun c' x' h5 h6 h7 h8 => ?_⟩
    exact hl (c' * 6 + x') (by omega) ⟨c', x', h5, h6, rfl, h8⟩
  · exact Or.inl (fun c x h1 h2 h3 => hex ⟨_, c, x, h1, h2, rfl, h3⟩)
theorem cr_ms_fu {A n : Nat} {t : Nat → Int32} {c x : Nat} (h : cr_ms A n t c x) : ¬ cr_fu A n t := fun h2 => h2 c x h.1 h.2.1 h.2.2.1
theorem cr_ms_uni {A n : Nat} {t : Nat → Int32} (hA : A ≤ 6) {c x c' x' : Nat} (h : cr_ms A n t c x) (h' : cr_ms A n t c' x') : c = c' ∧ x = x' := by
  obtain ⟨a1, a2, a3, a4⟩ := h
  obtain ⟨b1, b2, b3, b4⟩ := h'
  have h1 : ¬ c * 6 + x < c' * 6 + x' := fun h => b4 c x a1 a2 h a3
  have h2 : ¬ c' * 6 + x' < c * 6 + x := fun h => a4 c' x' b1 b2 h b3
  omega
section
variable {al mo cl wo nn de to sl : Int32} {cu sr sa kn tb fr pr qu sk sw od lb fm bb dp : Nat → Int32}
variable {yl ym yn yw yc : Int32} {yx yg yk yt yf ye yh yu yb yd : Nat → Int32}
variable {A n ms : Nat}
theorem cx_fM12 (hA : cz_A A) (hn : n ≤ 32) (tw : cz_tw A n tb) {c : Nat} (hc : c < n) {post J : Int32 → Prop}
    (h1 : (∀ c' x', c' < n → x' < A → c' * 6 + x' < (c + 1) * 6 → tb (c' * 6 + x') ≠ -1) → J (nI (c + 1))) (h2 : ∀ x, cr_ms A n tb c x → post (nI (c * 6 + x))) :
    ∀ N x, A - x < N → x ≤ A → (∀ c' x', c' < n → x' < A → c' * 6 + x' < c * 6 + x → tb (c' * 6 + x') ≠ -1) → wX_firstMissing_12 post J (nI c) (nI A) mo cl wo nn de to sl cu sr sa kn tb fr pr qu sk sw od lb fm bb dp N (nI x) := by
  have hA6 := cz_A6 hA
  intro N
  induction N with
  | zero => exact fun x h => absurd h (Nat.not_lt_zero _)
  | succ N ih =>
    intro x k1 k2 k3
    refine pk_le A x (fun hle => ?_) (fun hlt => ?_)
    · refine nm_r (nI_1 c) (h1 (fun c' x' p1 p2 p3 => k3 c' x' p1 p2 (by omega)))
    · have c1 : (nI c * 6 + nI x).toNatClampNeg = c * 6 + x := by rw [cz_ix, nI_clamp (by omega)]
      have v1 : vp_in (nI c * 6 + nI x) 192 := by rw [cz_ix]; exact vp_in_nI (by omega) (by omega)
      refine And.intro v1 ?_
      rw [c1]
      rcases cz_read hn tw (c := c) (x := x) (by omega) (by omega) with m1 | ⟨d, hd, r5, ee⟩
      · rw [m1]
        refine br_f cz_m1n ?_
        rw [cz_ix]
        exact h2 x ⟨hc, hlt, m1, k3⟩
      · rw [r5]
        refine br_t (nI_pos' (by omega)) (nm_r (nI_1 x) (ih (x + 1) (by omega) (by omega) (fun c' x' p1 p2 p3 => ?_)))
        by_cases e : c' * 6 + x' < c * 6 + x
        · exact k3 c' x' p1 p2 e
        · rw [show c' * 6 + x' = c * 6 + x by omega, r5]
          exact cz_m1 (by omega)
theorem cx_fM (hA : cz_A A) (hn : n ≤ 32) (tw : cz_tw A n tb) {post : Int32 → Prop} (h1 : cr_fu A n tb → post (-1)) (h2 : ∀ c x, cr_ms A n tb c x → post (nI (c * 6 + x))) : wpX_firstMissing post (nI A, mo, cl, wo, nI n, de, to, sl, cu, sr, sa, kn, tb, fr, pr, qu, sk, sw, od, lb, fm, bb, dp) := by
  have hA6 := cz_A6 hA
  have H : ∀ N c, n - c < N → c ≤ n → (∀ c' x', c' < n → x' < A → c' * 6 + x' < c * 6 → tb (c' * 6 + x') ≠ -1) → wX_firstMissing_2 post (nI A) mo cl wo (nI n) de to sl cu sr sa kn tb fr pr qu sk sw od lb fm bb dp N (nI c) := by
    intro N
    induction N with
    | zero => exact fun c h => absurd h (Nat.not_lt_zero _)
    | succ N ih =>
      intro c k1 k2 k3
      refine pk_le n c (fun hle => ?_) (fun hlt => ?_)
      · exact h1 (fun c' x' p1 p2 => k3 c' x' p1 p2 (by omega))
      · exact ⟨A + 1, cx_fM12 hA hn tw hlt (fun hh => ih (c + 1) (by omega) (by omega) hh) (fun x hx => h2 c x hx) (A + 1) 0 (by omega) (by omega) k3⟩
  exact ⟨n + 1, H (n + 1) 0 (by omega) (by omega) (fun c' x' _ _ h => by omega)⟩
theorem cy_st12 (hA : cz_A A) (hn : n ≤ 32) (tw : cz_tw A n tb) (hyt : ∀ i, i < 192 → yt i = tb i) {c : Nat} (hc : c < n) (hms : ms ≤ 32) {post J : Int32 → Prop}
    (h1 : (∀ c' x', c' < n → x' < A → c' * 6 + x' < (c + 1) * 6 → tb (c' * 6 + x') ≠ -1) → J (nI (c + 1))) (h2 : ∀ x, cr_ms A n tb c x → (n = ms → post 2) ∧ (n ≠ ms → post 0)) :
    ∀ N x, A - x < N → x ≤ A → (∀ c' x', c' < n → x' < A → c' * 6 + x' < c * 6 + x → tb (c' * 6 + x') ≠ -1) → wY_status_12 post J (nI c) (nI A) (nI ms) (nI n) yw yc yx yg yk yt yf ye yh yu yb yd N (nI x) := by
  have hA6 := cz_A6 hA
  intro N
  induction N with
  | zero => exact fun x h => absurd h (Nat.not_lt_zero _)
  | succ N ih =>
    intro x k1 k2 k3
    refine pk_le A x (fun hle => ?_) (fun hlt => ?_)
    · refine nm_r (nI_1 c) (h1 (fun c' x' p1 p2 p3 => k3 c' x' p1 p2 (by omega)))
    · have c1 : (nI c * 6 + nI x).toNatClampNeg = c * 6 + x := by rw [cz_ix, nI_clamp (by omega)]
      have v1 : vp_in (nI c * 6 + nI x) 192 := by rw [cz_ix]; exact vp_in_nI (by omega) (by omega)
      refine And.intro v1 ?_
      rw [c1, hyt _ (by omega)]
      rcases cz_read hn tw (c := c) (x := x) (by omega) (by omega) with m1 | ⟨d, hd, r5, ee⟩
      · rw [m1]
        obtain ⟨q1, q2⟩ := h2 x ⟨hc, hlt, m1, k3⟩
        exact br_f cz_m1n (pk_eq n ms q1 q2)
      · rw [r5]
        refine br_t (nI_pos' (by omega)) (nm_r (nI_1 x) (ih (x + 1) (by omega) (by omega) (fun c' x' p1 p2 p3 => ?_)))
        by_cases e : c' * 6 + x' < c * 6 + x
        · exact k3 c' x' p1 p2 e
        · rw [show c' * 6 + x' = c * 6 + x by omega, r5]
          exact cz_m1 (by omega)
theorem cy_stat (hA : cz_A A) (hn : n ≤ 32) (tw : cz_tw A n tb) (hyt : ∀ i, i < 192 → yt i = tb i) (hms : ms ≤ 32) {post : Int32 → Prop} (h1 : cr_fu A n tb → post 1) (h2 : ∀ c x, cr_ms A n tb c x → (n = ms → post 2) ∧ (n ≠ ms → post 0)) : wpY_status post (nI A, nI ms, nI n, yw, yc, yx, yg, yk, yt, yf, ye, yh, yu, yb, yd) := by
  have hA6 := cz_A6 hA
  have H : ∀ N c, n - c < N → c ≤ n → (∀ c' x', c' < n → x' < A → c' * 6 + x' < c * 6 → tb (c' * 6 + x') ≠ -1) → wY_status_2 post (nI A) (nI ms) (nI n) yw yc yx yg yk yt yf ye yh yu yb yd N (nI c) := by
    intro N
    induction N with
    | zero => exact fun c h => absurd h (Nat.not_lt_zero _)
    | succ N ih =>
      intro c k1 k2 k3
      refine pk_le n c (fun hle => ?_) (fun hlt => ?_)
      · exact h1 (fun c' x' p1 p2 => k3 c' x' p1 p2 (by omega))
      · exact ⟨A + 1, cy_st12 hA hn tw hyt hlt hms (fun hh => ih (c + 1) (by omega) (by omega) hh) (fun x hx => h2 c x hx) (A + 1) 0 (by omega) (by omega) k3⟩
  exact ⟨n + 1, H (n + 1) 0 (by omega) (by omega) (fun c' x' _ _ h => by omega)⟩
theorem cx_tr15 (hA : cz_A A) (hn : n ≤ 32) (tw : cz_tw A n tb) {L : Nat} {h : Nat → Nat} (hL : L ≤ 24) (hcu : ∀ i, i < L → cu i = nI (h i) ∧ h i < A) {post : Int32 → Prop} :
    ∀ N i p, L - i < N → i ≤ L → p < n → (∀ d, d < n → cz_p (cz_e tb) h (L - i) i p d → post (nI d)) → ((∀ d, ¬ cz_p (cz_e tb) h (L - i) i p d) → post 90) → wX_trace_15 post al mo (nI L) wo nn de to sl cu sr sa kn tb fr pr qu sk sw od lb fm bb dp N (nI p) (nI i) := by
  have hA6 := cz_A6 hA
  intro N
  induction N with
  | zero => exact fun i p h => absurd h (Nat.not_lt_zero _)
  | succ N ih =>
    intro i p k1 k2 k3 k4 k5
    refine pk_le L i (fun hle => ?_) (fun hlt => ?_)
    · exact k4 p k3 (cz_p_len (show 0 = L - i by omega) rfl)
    · obtain ⟨e1, hl⟩ := hcu i hlt
      have e2 : cu (nI i).toNatClampNeg = nI (h i) := by rw [nI_clamp (by omega), e1]
      have e3 : nI p * 6 + cu (nI i).toNatClampNeg = nI (p * 6 + h i) := by rw [e2, cz_ix]
      have e4 : tb (nI p * 6 + cu (nI i).toNatClampNeg).toNatClampNeg = tb (p * 6 + h i) := by rw [e3, nI_clamp (by omega)]
      have v1 : vp_in (nI p * 6 + cu (nI i).toNatClampNeg) 192 := by rw [e3]; exact vp_in_nI (by omega) (by omega)
      refine And.intro (vp_in_nI (by omega) (by omega)) (And.intro v1 (nm_r e4 ?_))
      have el : L - i = L - (i + 1) + 1 := by omega
      rcases cz_read hn tw (c := p) (x := h i) (by omega) (by omega) with m1 | ⟨d, hd, r5, ee⟩
      · rw [m1]
        refine br_f cz_m1n (k5 (fun d hp => ?_))
        obtain ⟨r, hr, _⟩ := cz_p_len el hp
        exact cz_none m1 r hr
      · rw [r5]
        refine br_t (nI_pos' (by omega)) (nm_r (nI_1 i) (ih (i + 1) d (by omega) (by omega) hd (fun d' hd' hp => k4 d' hd' (cz_p_len el.symm ⟨d, ee, hp⟩)) (fun hno => k5 (fun d' hp => ?_))))
        obtain ⟨r, hr, hp2⟩ := cz_p_len el hp
        have e := cz_e_det tb _ _ _ _ hr ee
        subst e
        exact hno d' hp2
theorem cy_wk5m {L w : Nat} (hw : w ≤ 10) (hL : L ≤ 24) (hg : yg w = nI L) {post : Int32 → Prop} (hp : post (-1)) : ∀ N i, L - i < N → i ≤ L → wY_walk_5 post (nI w) yl ym yn yw yc yx yg yk yt yf ye yh yu yb yd N (-1) (nI i) := by
  intro N
  induction N with
  | zero => exact fun i h => absurd h (Nat.not_lt_zero _)
  | succ N ih =>
    intro i k1 k2
    have e1 : yg (nI w).toNatClampNeg = nI L := by rw [nI_clamp (by omega), hg]
    refine And.intro (vp_in_nI (by omega) (by omega)) ?_
    rw [e1]
    refine pk_le L i (fun hle => hp) (fun hlt => ?_)
    exact br_t cz_m1neg (nm_r (nI_1 i) (ih (i + 1) (by omega) (by omega)))
theorem cy_wk5 (hA : cz_A A) (hn : n ≤ 32) (tw : cz_tw A n tb) (hyt : ∀ i, i < 192 → yt i = tb i) {L w : Nat} {h : Nat → Nat} (hw : w ≤ 10) (hL : L ≤ 24) (hg : yg w = nI L) (hyx : ∀ i, i < L → yx (w * 24 + i) = nI (h i) ∧ h i < A) {post : Int32 → Prop} :
    ∀ N i p, L - i < N → i ≤ L → p < n → (∀ d, d < n → cz_p (cz_e tb) h (L - i) i p d → post (nI d)) → ((∀ d, ¬ cz_p (cz_e tb) h (L - i) i p d) → post (-1)) → wY_walk_5 post (nI w) yl ym yn yw yc yx yg yk yt yf ye yh yu yb yd N (nI p) (nI i) := by
  have hA6 := cz_A6 hA
  intro N
  induction N with
  | zero => exact fun i p h => absurd h (Nat.not_lt_zero _)
  | succ N ih =>
    intro i p k1 k2 k3 k4 k5
    have e1 : yg (nI w).toNatClampNeg = nI L := by rw [nI_clamp (by omega), hg]
    refine And.intro (vp_in_nI (by omega) (by omega)) ?_
    rw [e1]
    refine pk_le L i (fun hle => ?_) (fun hlt => ?_)
    · exact k4 p k3 (cz_p_len (show 0 = L - i by omega) rfl)
    · obtain ⟨e1, hl⟩ := hyx i hlt
      have e0 : nI w * 24 + nI i = nI (w * 24 + i) := by rw [show (24 : Int32) = nI 24 from rfl, pk_mul, nI_add]
      have v0 : vp_in (nI w * 24 + nI i) 264 := by rw [e0]; exact vp_in_nI (by omega) (by omega)
      have e2 : yx (nI w * 24 + nI i).toNatClampNeg = nI (h i) := by rw [e0, nI_clamp (by omega), e1]
      have e3 : nI p * 6 + yx (nI w * 24 + nI i).toNatClampNeg = nI (p * 6 + h i) := by rw [e2, cz_ix]
      have e4 : yt (nI p * 6 + yx (nI w * 24 + nI i).toNatClampNeg).toNatClampNeg = tb (p * 6 + h i) := by rw [e3, nI_clamp (by omega), hyt _ (by omega)]
      have v1 : vp_in (nI p * 6 + yx (nI w * 24 + nI i).toNatClampNeg) 192 := by rw [e3]; exact vp_in_nI (by omega) (by omega)
      refine br_f (nI_pos (by omega)) (And.intro v0 (And.intro v1 (nm_r e4 (nm_r (nI_1 i) ?_))))
      have el : L - i = L - (i + 1) + 1 := by omega
      rcases cz_read hn tw (c := p) (x := h i) (by omega) (by omega) with m1 | ⟨d, hd, r5, ee⟩
      · rw [m1]
        refine cy_wk5m hw hL hg (k5 (fun d hp => ?_)) N (i + 1) (by omega) (by omega)
        obtain ⟨r, hr, _⟩ := cz_p_len el hp
        exact cz_none m1 r hr
      · rw [r5]
        refine ih (i + 1) d (by omega) (by omega) hd (fun d' hd' hp => k4 d' hd' (cz_p_len el.symm ⟨d, ee, hp⟩)) (fun hno => k5 (fun d' hp => ?_))
        obtain ⟨r, hr, hp2⟩ := cz_p_len el hp
        have e := cz_e_det tb _ _ _ _ hr ee
        subst e
        exact hno d' hp2
theorem cy_walk (hA : cz_A A) (hn : n ≤ 32) (tw : cz_tw A n tb) (hyt : ∀ i, i < 192 → yt i = tb i) {L w c : Nat} {h : Nat → Nat} (hw : w ≤ 10) (hL : L ≤ 24) (hg : yg w = nI L) (hyx : ∀ i, i < L → yx (w * 24 + i) = nI (h i) ∧ h i < A) (hc : c < n) {post : Int32 → Prop}
    (h1 : ∀ d, d < n → cz_p (cz_e tb) h L 0 c d → post (nI d)) (h2 : (∀ d, ¬ cz_p (cz_e tb) h L 0 c d) → post (-1)) : wpY_walk post (yl, ym, yn, yw, yc, yx, yg, yk, yt, yf, ye, yh, yu, yb, yd) (nI w) (nI c) :=
  ⟨L + 1, cy_wk5 hA hn tw hyt hw hL hg hyx (L + 1) 0 c (by omega) (by omega) hc h1 h2⟩
theorem cx_trace (hA : cz_A A) (hn : n ≤ 32) (tw : cz_tw A n tb) {L c : Nat} {h : Nat → Nat} (hL : L ≤ 24) (hcu : ∀ i, i < L → cu i = nI (h i) ∧ h i < A) (hc : c < n) {post : Int32 → Prop}
    (h1 : ∀ d, d < n → cz_p (cz_e tb) h L 0 c d → post (nI d)) (h2 : (∀ d, ¬ cz_p (cz_e tb) h L 0 c d) → post 90) : wpX_trace post (al, mo, nI L, wo, nI n, de, to, sl, cu, sr, sa, kn, tb, fr, pr, qu, sk, sw, od, lb, fm, bb, dp) (nI c) := by
  unfold wpX_trace
  refine cx_isC (fun h' => absurd h' ?_) (fun _ _ => br_f (by decide) ⟨L + 1, cx_tr15 hA hn tw hL hcu (L + 1) 0 c (by omega) (by omega) hc h1 h2⟩)
  rintro (h | h)
  · exact nI_pos (by omega) h
  · exact nI_ge hc (by omega) h
end
theorem i_vc_status {k : Nat} {u : SX} {v : SY} (I : i_Rel k u v) (hk : k + 3 ≤ 1538) : wpX_status (fun r => wpY_status (fun r' => r' = r ∧ i_Rel (k + 3) u v) v) u := by
  refine cr_el (P := fun u v => wpX_status (fun r => wpY_status (fun r' => r' = r ∧ i_Rel (k + 3) u v) v) u) ?_ I
  intro A n ms nw L cw wl g kd st fc D de sl cu sr sa kn tb fr pr qu sk sw od lb fm bb dp yc yx yg yk yt yf ye yh yu yb yd hC
  have hC' := hC
  obtain ⟨⟨hA, hm4, hm32, hn0, hnm, hL⟩, _, _, hpr, tw, hyt, _⟩ := hC'
  have hA6 := cz_A6 hA
  unfold wpX_status
  refine cx_fM hA (by omega) tw (fun hf => ?_) (fun c x hx => ?_)
  · refine br_f cz_m1n (cy_stat hA (by omega) tw hyt hm32 (fun _ => ⟨rfl, cr_in hC⟩) (fun c x hx => absurd hf (cr_ms_fu hx)))
  · have h1 := hx.1
    have h2 := hx.2.1
    refine br_t (nI_pos' (by omega)) ?_
    refine pk_lt n ms (fun hlt => ?_) (fun hge => ?_)
    · exact cy_stat hA (by omega) tw hyt hm32 (fun hf => absurd hf (cr_ms_fu hx)) (fun _ _ _ => ⟨fun e => absurd e (by omega), fun _ => ⟨rfl, cr_in hC⟩⟩)
    · exact cy_stat hA (by omega) tw hyt hm32 (fun hf => absurd hf (cr_ms_fu hx)) (fun _ _ _ => ⟨fun _ => ⟨rfl, cr_in hC⟩, fun e => absurd (show n = ms by omega) e⟩)
theorem i_vc_trace {k : Nat} {u : SX} {v : SY} (I : i_Rel k u v) (hk : k + 3 ≤ 1538) (v1 : Int32) : wpX_trace (fun r => wpY_trace (fun r' => r' = r ∧ i_Rel (k + 3) u v) v v1) u v1 := by
  refine cr_el (P := fun u v => wpX_trace (fun r => wpY_trace (fun r' => r' = r ∧ i_Rel (k + 3) u v) v v1) u v1) ?_ I
  intro A n ms nw L cw wl g kd st fc D de sl cu sr sa kn tb fr pr qu sk sw od lb fm bb dp yc yx yg yk yt yf ye yh yu yb yd hC
  have hC' := hC
  obtain ⟨⟨hA, hm4, hm32, hn0, hnm, hL⟩, ⟨c1, c2, c3⟩, _, hpr, tw, hyt, _⟩ := hC'
  have hcu : ∀ i, i < L → cu i = nI (cw i) ∧ cw i < A := fun i hi => ⟨(c3 i hi).1, (c3 i hi).2.2⟩
  have hyx : ∀ i, i < L → yx (0 * 24 + i) = nI (cw i) ∧ cw i < A := fun i hi => ⟨by rw [Nat.zero_mul, Nat.zero_add]; exact (c3 i hi).2.1, (c3 i hi).2.2⟩
  rcases cr_ix v1 (N := n) (by omega) with h | ⟨h1, h2, h3⟩ | ⟨c, hc, e, h1, h2, h3⟩
  · unfold wpX_trace
    exact cx_isC (fun _ => br_t rfl (br_t h ⟨rfl, cr_in hC⟩)) (fun h' => absurd h h')
  · unfold wpX_trace
    exact cx_isC (fun _ => br_t rfl (br_f h1 (br_f h3 ⟨rfl, cr_in hC⟩))) (fun _ h' => absurd h2 h')
  · subst e
    refine cx_trace hA (by omega) tw hL hcu hc (fun d hd hp => ?_) (fun hno => ?_)
    · refine br_f h1 (br_t h3 (cy_walk (w := 0) hA (by omega) tw hyt (by omega) hL c1 hyx hc (fun d' hd' hp' => ?_) (fun hno => absurd hp (hno d))))
      have e := cz_p_det (cz_e_det tb) hp' hp
      subst e
      exact br_t (nI_pos' (by omega)) ⟨rfl, cr_in hC⟩
    · exact br_f h1 (br_t h3 (cy_walk (w := 0) hA (by omega) tw hyt (by omega) hL c1 hyx hc (fun d' hd' hp' => absurd hp' (hno d')) (fun _ => br_f cz_m1n ⟨rfl, cr_in hC⟩)))
theorem i_vc_member {k : Nat} {u : SX} {v : SY} (I : i_Rel k u v) (hk : k + 3 ≤ 1538) : wpX_member (fun r => wpY_member (fun r' => r' = r ∧ i_Rel (k + 3) u v) v) u := by
  refine cr_el (P := fun u v => wpX_member (fun r => wpY_member (fun r' => r' = r ∧ i_Rel (k + 3) u v) v) u) ?_ I
  intro A n ms nw L cw wl g kd st fc D de sl cu sr sa kn tb fr pr qu sk sw od lb fm bb dp yc yx yg yk yt yf ye yh yu yb yd hC
  have hC' := hC
  obtain ⟨⟨hA, hm4, hm32, hn0, hnm, hL⟩, ⟨c1, c2, c3⟩, _, hpr, tw, hyt, _⟩ := hC'
  have hA6 := cz_A6 hA
  have hcu : ∀ i, i < L → cu i = nI (cw i) ∧ cw i < A := fun i hi => ⟨(c3 i hi).1, (c3 i hi).2.2⟩
  have hyx : ∀ i, i < L → yx (0 * 24 + i) = nI (cw i) ∧ cw i < A := fun i hi => ⟨by rw [Nat.zero_mul, Nat.zero_add]; exact (c3 i hi).2.1, (c3 i hi).2.2⟩
  unfold wpX_member
  refine cx_trace (c := 0) hA (by omega) tw hL hcu hn0 (fun d hd hp => ?_) (fun hno => ?_)
  · have hw : ∀ post : Int32 → Prop, post (nI d) → wpY_walk post (nI A, nI ms, nI n, nI nw, yc, yx, yg, yk, yt, yf, ye, yh, yu, yb, yd) 0 0 := by
      intro post hpost
      refine cy_walk (w := 0) (c := 0) hA (by omega) tw hyt (by omega) hL c1 hyx hn0 (fun d' hd' hp' => ?_) (fun hno => absurd hp (hno d))
      have e := cz_p_det (cz_e_det tb) hp' hp
      subst e
      exact hpost
    refine pk_eq d 0 (fun e => ?_) (fun ne => ?_)
    · refine hw _ (br_t ?_ ⟨rfl, cr_in hC⟩)
      rw [e]
      rfl
    · have hne : ¬ nI d = 0 := nI_ne0 (by omega) (by omega)
      refine cx_fM hA (by omega) tw (fun hf => br_f cz_m1n (hw _ (br_f hne ?_))) (fun c x hx => br_t (nI_pos' (by have := hx.1; have := hx.2.1; omega)) (hw _ (br_f hne ?_)))
      · exact cy_stat hA (by omega) tw hyt hm32 (fun _ => br_t rfl ⟨rfl, cr_in hC⟩) (fun c x hx => absurd hf (cr_ms_fu hx))
      · exact cy_stat hA (by omega) tw hyt hm32 (fun hf => absurd hf (cr_ms_fu hx)) (fun _ _ _ => ⟨fun _ => br_f (by decide) ⟨rfl, cr_in hC⟩, fun _ => br_f (by decide) ⟨rfl, cr_in hC⟩⟩)
  · have hw : ∀ post : Int32 → Prop, post (-1) → wpY_walk post (nI A, nI ms, nI n, nI nw, yc, yx, yg, yk, yt, yf, ye, yh, yu, yb, yd) 0 0 := by
      intro post hpost
      exact cy_walk (w := 0) (c := 0) hA (by omega) tw hyt (by omega) hL c1 hyx hn0 (fun d' hd' hp' => absurd hp' (hno d')) (fun _ => hpost)
    refine br_f (by decide) ?_
    refine cx_fM hA (by omega) tw (fun hf => br_f cz_m1n (hw _ (br_f (by decide) ?_))) (fun c x hx => br_t (nI_pos' (by have := hx.1; have := hx.2.1; omega)) (hw _ (br_f (by decide) ?_)))
    · exact cy_stat hA (by omega) tw hyt hm32 (fun _ => br_t rfl ⟨rfl, cr_in hC⟩) (fun c x hx => absurd hf (cr_ms_fu hx))
    · exact cy_stat hA (by omega) tw hyt hm32 (fun hf => absurd hf (cr_ms_fu hx)) (fun _ _ _ => ⟨fun _ => br_f (by decide) ⟨rfl, cr_in hC⟩, fun _ => br_f (by decide) ⟨rfl, cr_in hC⟩⟩)
end
section
/-! period and normal -/
theorem cr_path {A n : Nat} {t : Nat → Int32} (hA : cz_A A) (hn : n ≤ 32) (tw : cz_tw A n t) (hf : cr_fu A n t) {h : Nat → Nat} : ∀ L a c, c < n → (∀ i, i < L → h (a + i) < A) → ∃ d, d < n ∧ cz_p (cz_e t) h L a c d := by
  have hA6 := cz_A6 hA
  intro L
  induction L with
  | zero => exact fun a c hc _ => ⟨c, hc, rfl⟩
  | succ L ih =>
    intro a c hc hl
    have hx := hl 0 (by omega)
    rw [Nat.add_zero] at hx
    rcases cz_read hn tw (c := c) (x := h a) (by omega) (by omega) with m1 | ⟨d, hd, _, ee⟩
    · exact absurd m1 (hf c (h a) hc hx)
    · obtain ⟨d', h1, h2⟩ := ih (a + 1) d hd (fun i hi => by rw [show a + 1 + i = a + (i + 1) by omega]; exact hl (i + 1) (by omega))
      exact ⟨d', h1, d, ee, h2⟩
def cr_it (W : Nat → Nat) : Nat → Nat → Nat
  | 0 => fun c => c
  | k + 1 => fun c => W (cr_it W k c)
theorem cr_it_lt {W : Nat → Nat} {n c : Nat} (hW : ∀ c, c < n → W c < n) (hc : c < n) : ∀ k, cr_it W k c < n := by
  intro k
  induction k with
  | zero => exact hc
  | succ k ih => exact hW _ ih
theorem cr_it_back {W : Nat → Nat} {n c : Nat} (hW : ∀ c, c < n → W c < n) (hi : ∀ a b, a < n → b < n → W a = W b → a = b) (hc : c < n) : ∀ i k, cr_it W i c = cr_it W (i + k) c → c = cr_it W k c := by
  intro i
  induction i with
  | zero =>
    intro k h
    rw [Nat.zero_add] at h
    exact h
  | succ i ih =>
    intro k h
    rw [Nat.add_right_comm] at h
    exact ih k (hi _ _ (cr_it_lt hW hc i) (cr_it_lt hW hc (i + k)) h)
theorem cr_per {W : Nat → Nat} {n c : Nat} (hW : ∀ c, c < n → W c < n) (hi : ∀ a b, a < n → b < n → W a = W b → a = b) (hc : c < n) : ∃ p, 1 ≤ p ∧ p ≤ n ∧ cr_it W p c = c ∧ ∀ j, 1 ≤ j → j < p → cr_it W j c ≠ c := by
  have hex : ∃ p, 1 ≤ p ∧ p ≤ n ∧ cr_it W p c = c := by
    by_cases hx : ∃ p, 1 ≤ p ∧ p ≤ n ∧ cr_it W p c = c
    · exact hx
    · exfalso
      have h1 := cz_pig n (n + 1) (fun i => cr_it W i c) (fun i _ => cr_it_lt hW hc i) (fun i j h1 h2 e => by
        have e : cr_it W i c = cr_it W j c := e
        by_cases hlt : i < j
        · have e2 := cr_it_back hW hi hc i (j - i) (by rw [show i + (j - i) = j by omega]; exact e)
          exact absurd ⟨j - i, by omega, by omega, e2.symm⟩ hx
        · by_cases hgt : j < i
          · have e2 := cr_it_back hW hi hc j (i - j) (by rw [show j + (i - j) = i by omega]; exact e.symm)
            exact absurd ⟨i - j, by omega, by omega, e2.symm⟩ hx
          · omega)
      omega
  obtain ⟨p, ⟨h1, h2, h3⟩, h4⟩ := pk_least _ hex
  exact ⟨p, h1, h2, h3, fun j h5 h6 h7 => h4 j h6 ⟨h5, by omega, h7⟩⟩
section
variable {al mo cl wo nn de to sl : Int32} {cu sr sa kn tb fr pr qu sk sw od lb fm bb dp : Nat → Int32}
variable {yl ym yn yw yc : Int32} {yx yg yk yt yf ye yh yu yb yd : Nat → Int32}
variable {A n nw : Nat} {wl : Nat → Nat} {g : Nat → Nat → Nat} {kd st : Nat → Nat}
theorem cx_pe32 (hA : cz_A A) (hn : n ≤ 32) (tw : cz_tw A n tb) {L c p : Nat} {h W : Nat → Nat} (hL : L ≤ 24) (hcu : ∀ i, i < L → cu i = nI (h i) ∧ h i < A) (hW : ∀ c, c < n → W c < n ∧ cz_p (cz_e tb) h L 0 c (W c)) (hc : c < n)
    (hp1 : p ≤ n) (hp2 : cr_it W p c = c) (hp3 : ∀ j, 1 ≤ j → j < p → cr_it W j c ≠ c) {post : Int32 → Prop} (hp : post (nI p)) :
    ∀ N j, p - j < N → 1 ≤ j → j ≤ p → wX_period_32 post (nI c) al mo (nI L) wo (nI n) de to sl cu sr sa kn tb fr pr qu sk sw od lb fm bb dp N (nI (cr_it W j c)) (nI j) (nI j) := by
  have hlt := cr_it_lt (fun c hc => (hW c hc).1) hc
  intro N
  induction N with
  | zero => exact fun j h => absurd h (Nat.not_lt_zero _)
  | succ N ih =>
    intro j h1 h2 h3
    refine pk_le n j (fun hle => ?_) (fun hgt => ?_)
    · rw [show j = p by omega]
      exact hp
    · have hj := hlt j
      refine pk_eq (cr_it W j c) c (fun e => ?_) (fun ne => ?_)
      · have e2 : j = p := by
          by_cases h4 : j < p
          · exact absurd e (hp3 j h2 h4)
          · omega
        rw [e2]
        exact hp
      · have h5 : j ≠ p := fun e => ne (by rw [e]; exact hp2)
        refine cx_trace hA hn tw hL hcu hj (fun d hd hpd => ?_) (fun hno => absurd (hW _ hj).2 (hno _))
        have e := cz_p_det (cz_e_det tb) hpd (hW _ hj).2
        subst e
        exact nm_r (nI_1 j) (nm_r (nI_1 j) (ih (j + 1) (by omega) (by omega) (by omega)))
theorem cy_pe30 (hA : cz_A A) (hn : n ≤ 32) (tw : cz_tw A n tb) (hyt : ∀ i, i < 192 → yt i = tb i) {L c p : Nat} {h W : Nat → Nat} (hL : L ≤ 24) (hg : yg 0 = nI L) (hyx : ∀ i, i < L → yx (0 * 24 + i) = nI (h i) ∧ h i < A) (hW : ∀ c, c < n → W c < n ∧ cz_p (cz_e tb) h L 0 c (W c)) (hc : c < n)
    (hp1 : p ≤ n) (hp2 : cr_it W p c = c) (hp3 : ∀ j, 1 ≤ j → j < p → cr_it W j c ≠ c) {post : Int32 → Prop} (hp : post (nI p)) :
    ∀ N j, p - j < N → j + 1 ≤ p → wY_period_30 post (nI c) yl ym yn yw yc yx yg yk yt yf ye yh yu yb yd N (nI (cr_it W j c)) (nI (j + 1)) := by
  have hlt := cr_it_lt (fun c hc => (hW c hc).1) hc
  intro N
  induction N with
  | zero => exact fun j h => absurd h (Nat.not_lt_zero _)
  | succ N ih =>
    intro j h1 h2
    refine br_f (nI_nlt (a := 32) (by omega) (by omega)) ?_
    have hj := hlt j
    have hj1 := hlt (j + 1)
    refine cy_walk (w := 0) hA hn tw hyt (by omega) hL hg hyx hj (fun d hd hpd => ?_) (fun hno => absurd (hW _ hj).2 (hno _))
    have e := cz_p_det (cz_e_det tb) hpd (hW _ hj).2
    subst e
    refine pk_eq (W (cr_it W j c)) c (fun e => ?_) (fun ne => ?_)
    · have e2 : j + 1 = p := by
        by_cases h4 : j + 1 < p
        · exact absurd e (hp3 (j + 1) (by omega) h4)
        · omega
      rw [e2]
      exact hp
    · have h5 : j + 1 ≠ p := fun e => ne (by rw [← e] at hp2; exact hp2)
      exact nm_r (nI_1 (j + 1)) (ih (j + 1) (by omega) (by omega))
theorem cx_fix20 (hA : cz_A A) (hn : n ≤ 32) (tw : cz_tw A n tb) (hf : cr_fu A n tb) (hws : cx_ws nw wl g kd st sa sr kn) (hwd : cz_wd A nw wl g) {w c : Nat} (hw : w < nw) {post J : Int32 → Prop} :
    ∀ N i p, wl w - i < N → i ≤ wl w → p < n → (∀ d, d < n → cz_p (cz_e tb) (g w) (wl w - i) i p d → wX_fixesAll_61 post J (nI w) (nI c) (nI d) al mo cl wo nn de to sl cu sr sa kn tb fr pr qu sk sw od lb fm bb dp) → wX_fixesAll_20 post J (nI w) (nI c) al mo cl wo nn de to sl cu sr sa kn tb fr pr qu sk sw od lb fm bb dp N (nI p) (nI (st w + i)) := by
  have hA6 := cz_A6 hA
  obtain ⟨hnw, hws'⟩ := hws
  obtain ⟨w1, w2, w3, w4, w5, w6, w7⟩ := hws' w hw
  obtain ⟨l1, l2, l3, l4⟩ := hwd w hw
  have c2 : sa (nI w + 1).toNatClampNeg = nI (st (w + 1)) := by rw [nI_1, nI_clamp (by omega), w2]
  have v1 : vp_in (nI w + 1) 11 := by rw [nI_1]; exact vp_in_nI (by omega) (by omega)
  intro N
  induction N with
  | zero => exact fun i p h => absurd h (Nat.not_lt_zero _)
  | succ N ih =>
    intro i p h1 h2 h3 h4
    refine And.intro v1 ?_
    rw [c2]
    refine pk_le (st (w + 1)) (st w + i) (fun hle => ?_) (fun hlt => ?_)
    · exact h4 p h3 (cz_p_len (show 0 = wl w - i by omega) rfl)
    · have hl := l3 i
      have e1 : sr (nI (st w + i)).toNatClampNeg = nI (g w i) := by rw [nI_clamp (by omega), w7 i (by omega)]
      have e2 : nI p * 6 + sr (nI (st w + i)).toNatClampNeg = nI (p * 6 + g w i) := by rw [e1, cz_ix]
      have e3 : tb (nI p * 6 + sr (nI (st w + i)).toNatClampNeg).toNatClampNeg = tb (p * 6 + g w i) := by rw [e2, nI_clamp (by omega)]
      have v2 : vp_in (nI p * 6 + sr (nI (st w + i)).toNatClampNeg) 192 := by rw [e2]; exact vp_in_nI (by omega) (by omega)
      refine br_f (nI_pos (by omega)) (And.intro (vp_in_nI (by omega) (by omega)) (And.intro v2 (nm_r e3 (nm_r (nI_1 (st w + i)) ?_))))
      rcases cz_read hn tw (c := p) (x := g w i) (by omega) (by omega) with m1 | ⟨d, hd, r5, ee⟩
      · exact absurd m1 (hf p _ h3 hl)
      · rw [r5]
        exact ih (i + 1) d (by omega) (by omega) hd (fun d' hd' hp => h4 d' hd' (cz_p_len (show wl w - (i + 1) + 1 = wl w - i by omega) ⟨d, ee, hp⟩))
theorem cx_fix (hA : cz_A A) (hn : n ≤ 32) (tw : cz_tw A n tb) (hf : cr_fu A n tb) (hws : cx_ws nw wl g kd st sa sr kn) (hwd : cz_wd A nw wl g) {w : Nat} (hw : w < nw) {post : Int32 → Prop}
    (h1 : (∀ c, c < n → cz_p (cz_e tb) (g w) (wl w) 0 c c) → post 1) (h2 : (∃ c, c < n ∧ ¬ cz_p (cz_e tb) (g w) (wl w) 0 c c) → post 0) : wpX_fixesAll post (al, mo, cl, wo, nI n, de, to, sl, cu, sr, sa, kn, tb, fr, pr, qu, sk, sw, od, lb, fm, bb, dp) (nI w) := by
  have hnw := hws.1
  obtain ⟨w1, w2, w3, w4, w5, w6, w7⟩ := hws.2 w hw
  have H : ∀ N c, n - c < N → c ≤ n → (∀ d, d < c → cz_p (cz_e tb) (g w) (wl w) 0 d d) → wX_fixesAll_2 post (nI w) al mo cl wo (nI n) de to sl cu sr sa kn tb fr pr qu sk sw od lb fm bb dp N (nI c) := by
    intro N
    induction N with
    | zero => exact fun c h => absurd h (Nat.not_lt_zero _)
    | succ N ih =>
      intro c k1 k2 k3
      refine pk_le n c (fun hle => ?_) (fun hlt => ?_)
      · exact h1 (fun d hd => k3 d (by omega))
      · have e1 : sa (nI w).toNatClampNeg = nI (st w + 0) := by rw [nI_clamp (by omega), w1, Nat.add_zero]
        refine And.intro (vp_in_nI (by omega) (by omega)) (nm_r e1 ⟨wl w + 1, cx_fix20 hA hn tw hf hws hwd hw (wl w + 1) 0 c (by omega) (by omega) hlt (fun d hd hp => ?_)⟩)
        refine pk_eq d c (fun e => ?_) (fun ne => ?_)
        · subst e
          refine nm_r (nI_1 d) (ih (d + 1) (by omega) (by omega) (fun e he => ?_))
          by_cases ee : e = d
          · rw [ee]
            exact hp
          · exact k3 e (by omega)
        · exact h2 ⟨c, hlt, fun hp2 => ne (cz_p_det (cz_e_det tb) hp hp2)⟩
  exact ⟨n + 1, H (n + 1) 0 (by omega) (by omega) (fun d hd => absurd hd (Nat.not_lt_zero d))⟩
def cr_nf (n nw : Nat) (wl : Nat → Nat) (g : Nat → Nat → Nat) (kd : Nat → Nat) (t : Nat → Int32) : Prop := ∀ w, w < nw → kd w = 2 → ∀ c, c < n → cz_p (cz_e t) (g w) (wl w) 0 c c
theorem cx_nor11 (hA : cz_A A) (hn : n ≤ 32) (tw : cz_tw A n tb) (hf : cr_fu A n tb) (hws : cx_ws nw wl g kd st sa sr kn) (hwd : cz_wd A nw wl g) {post : Int32 → Prop}
    (h1 : cr_nf n nw wl g kd tb → post 1) (h2 : ¬ cr_nf n nw wl g kd tb → post 0) :
    ∀ N w, nw - w < N → w ≤ nw → (∀ v, v < w → kd v = 2 → ∀ c, c < n → cz_p (cz_e tb) (g v) (wl v) 0 c c) → wX_normal_11 post al mo cl (nI nw) (nI n) de to sl cu sr sa kn tb fr pr qu sk sw od lb fm bb dp N (nI w) := by
  have hnw := hws.1
  intro N
  induction N with
  | zero => exact fun c h => absurd h (Nat.not_lt_zero _)
  | succ N ih =>
    intro w k1 k2 k3
    refine pk_le nw w (fun hle => ?_) (fun hlt => ?_)
    · exact h1 (fun v hv => k3 v (by omega))
    · obtain ⟨w1, w2, w3, w4, w5, w6, w7⟩ := hws.2 w hlt
      have e1 : kn (nI w).toNatClampNeg = nI (kd w) := by rw [nI_clamp (by omega), w5]
      refine And.intro (vp_in_nI (by omega) (by omega)) ?_
      rw [e1]
      refine pk_eq (kd w) 2 (fun e => ?_) (fun ne => ?_)
      · refine cx_fix hA hn tw hf hws hwd hlt (fun hall => br_f (by decide) (nm_r (nI_1 w) (ih (w + 1) (by omega) (by omega) (fun v hv hkv => ?_)))) (fun ⟨c, hc, hno⟩ => br_t rfl (h2 (fun hnf => hno (hnf w hlt e c hc))))
        by_cases ev : v = w
        · rw [ev]
          exact hall
        · exact k3 v (by omega) hkv
      · refine nm_r (nI_1 w) (ih (w + 1) (by omega) (by omega) (fun v hv hkv => ?_))
        by_cases ev : v = w
        · rw [ev] at hkv
          exact absurd hkv ne
        · exact k3 v (by omega) hkv
theorem cy_nor22 (hA : cz_A A) (hn : n ≤ 32) (tw : cz_tw A n tb) (hyt : ∀ i, i < 192 → yt i = tb i) (hf : cr_fu A n tb) (hws : cy_ws nw wl g kd yx yg yk) (hkd : ∀ w, w < nw → kd w = 1 ∨ kd w = 2) (hwd : cz_wd A nw wl g) {w : Nat} (hw : w < nw) {post J : Int32 → Prop}
    (h1 : (kd w = 2 → ∀ c, c < n → cz_p (cz_e tb) (g w) (wl w) 0 c c) → J (nI (w + 1 + 1))) (h2 : ¬ cr_nf n nw wl g kd tb → post 0) :
    ∀ N c, n - c < N → c ≤ n → (kd w = 2 → ∀ d, d < c → cz_p (cz_e tb) (g w) (wl w) 0 d d) → wY_normal_22 post J (nI (w + 1)) yl ym (nI n) yw yc yx yg yk yt yf ye yh yu yb yd N (nI c) := by
  have hnw := hws.1
  obtain ⟨w1, w2, w3⟩ := hws.2 w hw
  obtain ⟨l1, l2, l3, l4⟩ := hwd w hw
  have hkw := hkd w hw
  have e1 : yk (nI (w + 1)).toNatClampNeg = nI (kd w) := by rw [nI_clamp (by omega), w2]
  intro N
  induction N with
  | zero => exact fun c h => absurd h (Nat.not_lt_zero _)
  | succ N ih =>
    intro c k1 k2 k3
    refine pk_le n c (fun hle => ?_) (fun hlt => ?_)
    · exact nm_r (nI_1 (w + 1)) (h1 (fun e d hd => k3 e d (by omega)))
    · refine And.intro (vp_in_nI (by omega) (by omega)) ?_
      rw [e1]
      refine pk_eq (kd w) 2 (fun e => ?_) (fun ne => ?_)
      · obtain ⟨d0, hd0, hp0⟩ := cr_path hA hn tw hf (h := g w) (wl w) 0 c hlt (fun i _ => l3 _)
        refine cy_walk hA hn tw hyt (by omega) l2 w1 (fun i hi => ⟨w3 i hi, l3 i⟩) hlt (fun d hd hp => ?_) (fun hno => absurd hp0 (hno d0))
        refine pk_eq d c (fun e2 => ?_) (fun ne => ?_)
        · subst e2
          refine nm_r (nI_1 d) (ih (d + 1) (by omega) (by omega) (fun e x hx => ?_))
          by_cases ee : x = d
          · rw [ee]
            exact hp
          · exact k3 e x (by omega)
        · exact h2 (fun hnf => ne (cz_p_det (cz_e_det tb) hp (hnf w hw e c hlt)))
      · exact nm_r (nI_1 c) (ih (c + 1) (by omega) (by omega) (fun e => absurd e ne))
theorem cy_nor12 (hA : cz_A A) (hn : n ≤ 32) (tw : cz_tw A n tb) (hyt : ∀ i, i < 192 → yt i = tb i) (hf : cr_fu A n tb) (hws : cy_ws nw wl g kd yx yg yk) (hkd : ∀ w, w < nw → kd w = 1 ∨ kd w = 2) (hwd : cz_wd A nw wl g) {post : Int32 → Prop}
    (h1 : cr_nf n nw wl g kd tb → post 1) (h2 : ¬ cr_nf n nw wl g kd tb → post 0) :
    ∀ N w, nw - w < N → w ≤ nw → (∀ v, v < w → kd v = 2 → ∀ c, c < n → cz_p (cz_e tb) (g v) (wl v) 0 c c) → wY_normal_12 post yl ym (nI n) (nI nw) yc yx yg yk yt yf ye yh yu yb yd N (nI (w + 1)) := by
  have hnw := hws.1
  intro N
  induction N with
  | zero => exact fun c h => absurd h (Nat.not_lt_zero _)
  | succ N ih =>
    intro w k1 k2 k3
    refine pk_lt nw (w + 1) (fun hle => ?_) (fun hlt => ?_)
    · exact h1 (fun v hv => k3 v (by omega))
    · refine ⟨n + 1, cy_nor22 hA hn tw hyt hf hws hkd hwd (show w < nw by omega) (fun hall => ih (w + 1) (by omega) (by omega) (fun v hv hkv => ?_)) h2 (n + 1) 0 (by omega) (by omega) (fun _ d hd => absurd hd (Nat.not_lt_zero d))⟩
      by_cases ev : v = w
      · rw [ev] at hkv ⊢
        exact hall hkv
      · exact k3 v (by omega) hkv
end
theorem i_vc_period {k : Nat} {u : SX} {v : SY} (I : i_Rel k u v) (hk : k + 3 ≤ 1538) (v1 : Int32) : wpX_period (fun r => wpY_period (fun r' => r' = r ∧ i_Rel (k + 3) u v) v v1) u v1 := by
  refine cr_el (P := fun u v => wpX_period (fun r => wpY_period (fun r' => r' = r ∧ i_Rel (k + 3) u v) v v1) u v1) ?_ I
  intro A n ms nw L cw wl g kd st fc D de sl cu sr sa kn tb fr pr qu sk sw od lb fm bb dp yc yx yg yk yt yf ye yh yu yb yd hC
  have hC' := hC
  obtain ⟨⟨hA, hm4, hm32, hn0, hnm, hL⟩, ⟨c1, c2, c3⟩, _, hpr, tw, hyt, _⟩ := hC'
  have hn : n ≤ 32 := by omega
  have hcu : ∀ i, i < L → cu i = nI (cw i) ∧ cw i < A := fun i hi => ⟨(c3 i hi).1, (c3 i hi).2.2⟩
  have hyx : ∀ i, i < L → yx (0 * 24 + i) = nI (cw i) ∧ cw i < A := fun i hi => ⟨by rw [Nat.zero_mul, Nat.zero_add]; exact (c3 i hi).2.1, (c3 i hi).2.2⟩
  unfold wpX_period
  rcases cr_ix v1 (N := n) (by omega) with h | ⟨h1, h2, h3⟩ | ⟨c, hc, e, h1, h2, h3⟩
  · exact cx_isC (fun _ => br_t rfl (br_t h ⟨rfl, cr_in hC⟩)) (fun h' => absurd h h')
  · exact cx_isC (fun _ => br_t rfl (br_f h1 (br_f h3 ⟨rfl, cr_in hC⟩))) (fun _ h' => absurd h2 h')
  · subst e
    refine cx_isC (fun h' => absurd h' (by rintro (h | h); exact h1 h; exact h2 h)) (fun _ _ => br_f (by decide) ?_)
    refine cx_fM hA hn tw (fun hf => ?_) (fun c' x' hx => ?_)
    · refine br_t cz_m1neg ?_
      have hex : ∀ a, ∃ d, a < n → d < n ∧ cz_p (cz_e tb) cw L 0 a d := by
        intro a
        by_cases ha : a < n
        · obtain ⟨d, hd, hp⟩ := cr_path hA hn tw hf (h := cw) L 0 a ha (fun i hi => by rw [Nat.zero_add]; exact (hcu i hi).2)
          exact ⟨d, fun _ => ⟨hd, hp⟩⟩
        · exact ⟨0, fun h => absurd h ha⟩
      obtain ⟨W, hW⟩ := Classical.axiomOfChoice hex
      have hinj : ∀ a b, a < n → b < n → W a = W b → a = b := by
        intro a b ha hb e
        have p1 := (hW a ha).2
        have p2 := (hW b hb).2
        rw [e] at p1
        exact cz_p_inj (cz_e_det tb) (cz_e_sym hn tw) p1 p2
      obtain ⟨p, q1, q2, q3, q4⟩ := cr_per (fun c hc => (hW c hc).1) hinj hc
      refine cx_trace hA hn tw hL hcu hc (fun d hd hpd => ?_) (fun hno => absurd (hW _ hc).2 (hno _))
      have e := cz_p_det (cz_e_det tb) hpd (hW _ hc).2
      subst e
      refine ⟨p + 1, cx_pe32 hA hn tw hL hcu hW hc q2 q3 q4 ?_ (p + 1) 1 (by omega) (by omega) q1⟩
      refine br_f h1 (br_t h3 (cy_stat hA hn tw hyt hm32 (fun _ => br_t rfl ?_) (fun c x hx => absurd hf (cr_ms_fu hx))))
      exact ⟨p + 1, cy_pe30 hA hn tw hyt hL c1 hyx hW hc q2 q3 q4 ⟨rfl, cr_in hC⟩ (p + 1) 0 (by omega) q1⟩
    · have hA6 := cz_A6 hA
      have g1 := hx.1
      have g2 := hx.2.1
      refine br_f (nI_pos (by omega)) (br_f h1 (br_t h3 (cy_stat hA hn tw hyt hm32 (fun hf => absurd hf (cr_ms_fu hx)) (fun _ _ _ => ⟨fun _ => br_f (by decide) ⟨rfl, cr_in hC⟩, fun _ => br_f (by decide) ⟨rfl, cr_in hC⟩⟩))))
theorem i_vc_normal {k : Nat} {u : SX} {v : SY} (I : i_Rel k u v) (hk : k + 3 ≤ 1538) : wpX_normal (fun r => wpY_normal (fun r' => r' = r ∧ i_Rel (k + 3) u v) v) u := by
  refine cr_el (P := fun u v => wpX_normal (fun r => wpY_normal (fun r' => r' = r ∧ i_Rel (k + 3) u v) v) u) ?_ I
  intro A n ms nw L cw wl g kd st fc D de sl cu sr sa kn tb fr pr qu sk sw od lb fm bb dp yc yx yg yk yt yf ye yh yu yb yd hC
  have hC' := hC
  obtain ⟨⟨hA, hm4, hm32, hn0, hnm, hL⟩, _, ⟨w1, w2, w3, _⟩, hpr, tw, hyt, _⟩ := hC'
  have hn : n ≤ 32 := by omega
  have hkd : ∀ w, w < nw → kd w = 1 ∨ kd w = 2 := fun w hw => (w1.2 w hw).2.2.2.2.2.1
  unfold wpX_normal
  refine cx_fM hA hn tw (fun hf => ?_) (fun c' x' hx => ?_)
  · have hY : ∀ post : Int32 → Prop, (cr_nf n nw wl g kd tb → post 1) → (¬ cr_nf n nw wl g kd tb → post 0) → wpY_normal post (nI A, nI ms, nI n, nI nw, yc, yx, yg, yk, yt, yf, ye, yh, yu, yb, yd) := by
      intro post p1 p2
      unfold wpY_normal
      refine cy_stat hA hn tw hyt hm32 (fun _ => br_t rfl ?_) (fun c x hx => absurd hf (cr_ms_fu hx))
      exact ⟨nw + 1, cy_nor12 hA hn tw hyt hf w2 hkd w3 p1 p2 (nw + 1) 0 (by omega) (by omega) (fun v hv => absurd hv (Nat.not_lt_zero v))⟩
    refine br_t cz_m1neg ⟨nw + 1, cx_nor11 hA hn tw hf w1 w3 (fun hnf => ?_) (fun hnf => ?_) (nw + 1) 0 (by omega) (by omega) (fun v hv => absurd hv (Nat.not_lt_zero v))⟩
    · exact hY _ (fun _ => ⟨rfl, cr_in hC⟩) (fun h => absurd hnf h)
    · exact hY _ (fun h => absurd h hnf) (fun _ => ⟨rfl, cr_in hC⟩)
  · have hA6 := cz_A6 hA
    have g1 := hx.1
    have g2 := hx.2.1
    refine br_f (nI_pos (by omega)) (cy_stat hA hn tw hyt hm32 (fun hf => absurd hf (cr_ms_fu hx)) (fun _ _ _ => ⟨fun _ => br_f (by decide) ⟨rfl, cr_in hC⟩, fun _ => br_f (by decide) ⟨rfl, cr_in hC⟩⟩))
end
section
/-! repLetter: the tree of the numbering and the shortest words -/
def cr_up (fc : Nat → Nat) (v : Nat) : Nat → Nat
  | 0 => v
  | j + 1 => fc (cr_up fc v j) / 6
def cr_rc (t : Nat → Int32) (v : Nat) : Nat → Nat → Prop
  | 0 => fun c => c = v
  | l + 1 => fun c => ∃ x d, cz_e t c x d ∧ cr_rc t v l d
def cr_dp (n : Nat) (fc D : Nat → Nat) : Prop := D 0 = 0 ∧ (∀ s, s < n → D s ≤ s) ∧ (∀ s, 0 < s → s < n → D s = D (fc s / 6) + 1)
section
variable {A n : Nat} {t : Nat → Int32} {fc D : Nat → Nat} {v : Nat}
theorem cr_dmono (hb : cz_bf A n t fc) (hd : cr_dp n fc D) : ∀ s', s' < n → ∀ s, s ≤ s' → D s ≤ D s' := by
  obtain ⟨d0, d1, d2⟩ := hd
  intro s'
  induction s' using Nat.strongRecOn with
  | ind s' ih =>
    intro hs' s hs
    by_cases e0 : s = 0
    · rw [e0, d0]
      exact Nat.zero_le _
    · have hle : fc s ≤ fc s' := by
        by_cases e : s = s'
        · rw [e]
          exact Nat.le_refl _
        · exact Nat.le_of_lt (hb.2 s s' (by omega) (by omega) hs')
      obtain ⟨_, b2, _, _⟩ := hb.1 s' (by omega) hs'
      have h1 := ih (fc s' / 6) b2 (by omega) (fc s / 6) (by omega)
      rw [d2 s (by omega) (by omega), d2 s' (by omega) hs']
      omega
theorem cr_dedge (hn : n ≤ 32) (tw : cz_tw A n t) (hb : cz_bf A n t fc) (hd : cr_dp n fc D) {r x s : Nat} (he : cz_e t r x s) : D s ≤ D r + 1 := by
  obtain ⟨e1, e2, e3, _⟩ := cz_e_in hn tw he
  have hx := he.2.1
  by_cases e0 : s = 0
  · rw [e0, hd.1]
    omega
  · obtain ⟨_, b2, _, b4⟩ := hb.1 s (by omega) e3
    have h1 := b4 r x he
    have h2 := cr_dmono hb hd r e1 (fc s / 6) (by omega)
    rw [hd.2.2 s (by omega) e3]
    omega
theorem cr_rcD (hn : n ≤ 32) (tw : cz_tw A n t) (hb : cz_bf A n t fc) (hd : cr_dp n fc D) : ∀ l c, cr_rc t v l c → D v ≤ D c + l := by
  intro l
  induction l with
  | zero =>
    intro c h
    have e : c = v := h
    rw [e]
    omega
  | succ l ih =>
    intro c ⟨x, d, h1, h2⟩
    have := cr_dedge hn tw hb hd h1
    have := ih d h2
    omega
theorem cr_upD (hb : cz_bf A n t fc) (hd : cr_dp n fc D) (hv : v < n) : ∀ j, j ≤ D v → cr_up fc v j < n ∧ D (cr_up fc v j) + j = D v := by
  intro j
  induction j with
  | zero => exact fun _ => ⟨hv, rfl⟩
  | succ j ih =>
    intro hj
    obtain ⟨h1, h2⟩ := ih (by omega)
    have h0 : 0 < cr_up fc v j := by
      by_cases e : cr_up fc v j = 0
      · rw [e, hd.1] at h2
        omega
      · omega
    obtain ⟨_, b2, _, _⟩ := hb.1 _ h0 h1
    have h3 := hd.2.2 _ h0 h1
    refine ⟨?_, ?_⟩
    · show fc (cr_up fc v j) / 6 < n
      omega
    · show D (fc (cr_up fc v j) / 6) + (j + 1) = D v
      omega
theorem cr_up0 (hb : cz_bf A n t fc) (hd : cr_dp n fc D) (hv : v < n) {j : Nat} (hj : j < D v) : 0 < cr_up fc v j := by
  obtain ⟨h1, h2⟩ := cr_upD hb hd hv j (by omega)
  by_cases e : cr_up fc v j = 0
  · rw [e, hd.1] at h2
    omega
  · omega
theorem cr_uprc (hb : cz_bf A n t fc) (hd : cr_dp n fc D) (hv : v < n) : ∀ j, j ≤ D v → cr_rc t v j (cr_up fc v j) := by
  intro j
  induction j with
  | zero => exact fun _ => rfl
  | succ j ih =>
    intro hj
    have h0 := cr_up0 hb hd hv (j := j) (by omega)
    obtain ⟨h1, h2⟩ := cr_upD hb hd hv j (by omega)
    obtain ⟨_, _, b3, _⟩ := hb.1 _ h0 h1
    exact ⟨_, _, b3, ih (by omega)⟩
/-- nothing left of the tree's path comes as near -/
theorem cr_left (hn : n ≤ 32) (tw : cz_tw A n t) (hb : cz_bf A n t fc) (hd : cr_dp n fc D) (hv : v < n) : ∀ m, m ≤ D v → ∀ u, cr_rc t v m u → u < cr_up fc v m → False := by
  intro m
  induction m with
  | zero =>
    intro _ u h1 h2
    have e : u = v := h1
    have h2 : u < v := h2
    omega
  | succ m ih =>
    intro hm u ⟨x, u1, h1, h2⟩ h3
    have h3 : u < fc (cr_up fc v m) / 6 := h3
    have h0 := cr_up0 hb hd hv (j := m) (by omega)
    obtain ⟨g1, g2⟩ := cr_upD hb hd hv m (by omega)
    refine ih (by omega) u1 h2 ?_
    obtain ⟨e1, e2, e3, _⟩ := cz_e_in hn tw h1
    have hx := h1.2.1
    by_cases e0 : u1 = 0
    · omega
    · obtain ⟨_, _, _, b4⟩ := hb.1 u1 (by omega) e3
      have h4 := b4 u x h1
      by_cases h5 : u1 < cr_up fc v m
      · exact h5
      · exfalso
        by_cases e : cr_up fc v m = u1
        · rw [e] at h3
          omega
        · have := hb.2 (cr_up fc v m) u1 h0 (by omega) e3
          omega
theorem cr_low (hn : n ≤ 32) (tw : cz_tw A n t) (hb : cz_bf A n t fc) (hd : cr_dp n fc D) (hv : v < n) {m x u : Nat} (hm : m < D v) (he : cz_e t (cr_up fc v (m + 1)) x u) (hr : cr_rc t v m u) : fc (cr_up fc v m) % 6 ≤ x := by
  by_cases h : fc (cr_up fc v m) % 6 ≤ x
  · exact h
  · exfalso
    have h0 := cr_up0 hb hd hv hm
    obtain ⟨g1, g2⟩ := cr_upD hb hd hv m (by omega)
    obtain ⟨e1, e2, e3, _⟩ := cz_e_in hn tw he
    have hup : cr_up fc v (m + 1) = fc (cr_up fc v m) / 6 := rfl
    refine cr_left hn tw hb hd hv m (by omega) u hr ?_
    by_cases e0 : u = 0
    · omega
    · obtain ⟨_, _, _, b4⟩ := hb.1 u (by omega) e3
      have h4 := b4 _ _ he
      by_cases h5 : u < cr_up fc v m
      · exact h5
      · exfalso
        by_cases e : cr_up fc v m = u
        · rw [← e, hup] at h4
          omega
        · have := hb.2 (cr_up fc v m) u h0 (by omega) e3
          omega
end
/-- the distances while they are swept -/
def cr_di (n : Nat) (t : Nat → Int32) (v : Nat) (dd : Nat → Nat) (yd : Nat → Int32) : Prop := ∀ c, c < n → yd c = nI (dd c) ∧ dd c ≤ 32 ∧ (dd c = 32 ∨ cr_rc t v (dd c) c)
def cr_ub (n : Nat) (t : Nat → Int32) (v : Nat) (dd : Nat → Nat) (j : Nat) : Prop := ∀ l c, l ≤ j → c < n → cr_rc t v l c → dd c ≤ l
def cy_d7 (y : Nat) : Int32 := if y = 0 then -1 else nI (y - 1)
theorem cy_d7s (y : Nat) : cy_d7 (y + 1) = nI y := by
  unfold cy_d7
  rw [if_neg (by omega), Nat.add_sub_cancel]
theorem cy_d70 : cy_d7 0 = -1 := rfl
theorem cy_d7m (y : Nat) : nI y + (-1) = cy_d7 y := by
  cases y with
  | zero => rw [cy_d70]; decide
  | succ y => rw [cy_d7s, pk_m1]
section
variable {al mo cl wo nn de to sl : Int32} {cu sr sa kn tb fr pr qu sk sw od lb fm bb dp : Nat → Int32}
variable {yl ym yn yw yc : Int32} {yx yg yk yt yf ye yh yu yb yd : Nat → Int32}
variable {A n v i : Nat} {fc D : Nat → Nat}
theorem cx_rep40 (hn : n ≤ 32) (hb : cz_bf A n tb fc) (hd : cr_dp n fc D) (hv : v < n) (hi : i < D v) (hfm : ∀ s, 0 < s → s < n → fm s = nI (fc s / 6) ∧ bb s = nI (fc s % 6)) {post : Int32 → Prop} (hp : post (nI (fc (cr_up fc v (D v - 1 - i)) % 6))) :
    ∀ N j, D v - 1 - i - j < N → j ≤ D v - 1 - i → wX_repLetter_40 post (nI i) al mo cl wo nn de to sl cu sr sa kn tb fr pr qu sk sw od lb fm bb dp N (nI (cr_up fc v j)) (nI (D v - 1 - j)) := by
  have hDv := hd.2.1 v hv
  intro N
  induction N with
  | zero => exact fun j h => absurd h (Nat.not_lt_zero _)
  | succ N ih =>
    intro j h1 h2
    obtain ⟨g1, g2⟩ := cr_upD hb hd hv j (by omega)
    have g0 := cr_up0 hb hd hv (j := j) (by omega)
    obtain ⟨f1, f2⟩ := hfm _ g0 g1
    have c1 : (nI (cr_up fc v j)).toNatClampNeg = cr_up fc v j := nI_clamp (by omega)
    have v1 : vp_in (nI (cr_up fc v j)) 32 := vp_in_nI (by omega) (by omega)
    refine pk_le (D v - 1 - j) i (fun hle => ?_) (fun hgt => ?_)
    · have e : j = D v - 1 - i := by omega
      refine And.intro v1 ?_
      rw [c1, f2, e]
      exact hp
    · refine And.intro v1 (nm_r (e' := nI (fc (cr_up fc v j) / 6)) (by rw [c1, f1]) (nm_r (e' := nI (D v - 1 - (j + 1))) ?_ (ih (j + 1) (by omega) (by omega))))
      rw [sb_m1 (by omega)]
      exact congrArg nI (by omega)
theorem cy_rep77 (hA : cz_A A) (hn : n ≤ 32) (tw : cz_tw A n tb) (hyt : ∀ i, i < 192 → yt i = tb i) {c j : Nat} (hc : c < n) {x2 x3 : Int32} {post : Int32 → SY → Prop} {J54 J65 : Int32 → (Nat → Int32) → (Nat → Int32) → (Nat → Int32) → (Nat → Int32) → (Nat → Int32) → (Nat → Int32) → (Nat → Int32) → (Nat → Int32) → (Nat → Int32) → (Nat → Int32) → Prop}
    (hJ : ∀ dd yd, cr_di n tb v dd yd → cr_ub n tb v dd j → (∀ l a, l ≤ j + 1 → a < c + 1 → cr_rc tb v l a → dd a ≤ l) → J65 (nI (c + 1)) yx yg yk yt yf ye yh yu yb yd) :
    ∀ N x dd yd, A - x < N → x ≤ A → cr_di n tb v dd yd → cr_ub n tb v dd j → (∀ l a, l ≤ j + 1 → a < c → cr_rc tb v l a → dd a ≤ l) → (∀ l y d, l ≤ j → y < x → cz_e tb c y d → cr_rc tb v l d → dd c ≤ l + 1) →
    wY_repLetter_77 post J54 J65 x2 x3 (nI c) (nI A) ym yn yw yc N (nI x) yx yg yk yt yf ye yh yu yb yd := by
  have hA6 := cz_A6 hA
  intro N
  induction N with
  | zero => exact fun x dd yd h => absurd h (Nat.not_lt_zero _)
  | succ N ih =>
    intro x dd yd h1 h2 hdi hub hdone hrow
    refine pk_le A x (fun hle => ?_) (fun hlt => ?_)
    · refine nm_r (nI_1 c) (hJ dd yd hdi hub (fun l a hl ha hr => ?_))
      by_cases e : a = c
      · subst e
        cases l with
        | zero => exact hub 0 a (by omega) hc hr
        | succ l =>
          obtain ⟨y, d, he, hr2⟩ := hr
          exact hrow l y d (by omega) (Nat.lt_of_lt_of_le (cz_e_in hn tw he).2.1 hle) he hr2
      · exact hdone l a hl (by omega) hr
    · have c1 : (nI c * 6 + nI x).toNatClampNeg = c * 6 + x := by rw [cz_ix, nI_clamp (by omega)]
      have v1 : vp_in (nI c * 6 + nI x) 192 := by rw [cz_ix]; exact vp_in_nI (by omega) (by omega)
      have e1 : yt (nI c * 6 + nI x).toNatClampNeg = tb (c * 6 + x) := by rw [c1, hyt _ (by omega)]
      have cc : (nI c).toNatClampNeg = c := nI_clamp (by omega)
      refine And.intro v1 (nm_r e1 ?_)
      rcases cz_read hn tw (c := c) (x := x) (by omega) (by omega) with m1 | ⟨d, hd, r5, ee⟩
      · rw [m1]
        refine br_t cz_m1neg (nm_r (nI_1 x) (ih (x + 1) dd yd (by omega) (by omega) hdi hub hdone (fun l y d hl hy he => ?_)))
        by_cases e : y = x
        · rw [e] at he
          exact absurd he (cz_none m1 d)
        · exact hrow l y d hl (by omega) he
      · rw [r5]
        have cd : (nI d).toNatClampNeg = d := nI_clamp (by omega)
        obtain ⟨p1, p2, p3⟩ := hdi c hc
        obtain ⟨q1, q2, q3⟩ := hdi d hd
        refine br_f (nI_pos (by omega)) (And.intro (vp_in_nI (by omega) (by omega)) (And.intro (vp_in_nI (by omega) (by omega)) ?_))
        rw [cc, cd, p1, q1, nI_1]
        refine pk_le (dd c) (dd d + 1) (fun hle => ?_) (fun hgt => ?_)
        · refine nm_r (nI_1 x) (ih (x + 1) dd yd (by omega) (by omega) hdi hub hdone (fun l y d' hl hy he hr => ?_))
          by_cases e : y = x
          · subst e
            have e2 := cz_e_det tb _ _ _ _ he ee
            subst e2
            have := hub l d' hl hd hr
            omega
          · exact hrow l y d' hl (by omega) he hr
        · have hle : ∀ a, cz_nu dd c (dd d + 1) a ≤ dd a := by
            intro a
            by_cases e : a = c
            · rw [e, cz_nu_s]
              omega
            · rw [cz_nu_n e]
              exact Nat.le_refl _
          refine And.intro (vp_in_nI (by omega) (by omega)) (And.intro (vp_in_nI (by omega) (by omega)) (nm_e (nm_r (nI_1 x) (ih (x + 1) (cz_nu dd c (dd d + 1)) _ (by omega) (by omega) (fun a ha => ?_) (fun l a hl ha hr => Nat.le_trans (hle a) (hub l a hl ha hr)) (fun l a hl ha hr => Nat.le_trans (hle a) (hdone l a hl ha hr)) (fun l y d' hl hy he hr => ?_)))))
          · by_cases e : a = c
            · subst e
              rw [pk_us, cz_nu_s]
              refine ⟨rfl, by omega, Or.inr ⟨x, d, ee, ?_⟩⟩
              rcases q3 with q3 | q3
              · omega
              · exact q3
            · rw [pk_un e, cz_nu_n e]
              exact hdi a ha
          · by_cases e : y = x
            · subst e
              have e2 := cz_e_det tb _ _ _ _ he ee
              subst e2
              rw [cz_nu_s]
              have := hub l d' hl hd hr
              omega
            · exact Nat.le_trans (hle c) (hrow l y d' hl (by omega) he hr)
theorem cy_rep65 (hA : cz_A A) (hn : n ≤ 32) (tw : cz_tw A n tb) (hyt : ∀ i, i < 192 → yt i = tb i) {j : Nat} {x2 : Int32} {post : Int32 → SY → Prop} {J54 : Int32 → (Nat → Int32) → (Nat → Int32) → (Nat → Int32) → (Nat → Int32) → (Nat → Int32) → (Nat → Int32) → (Nat → Int32) → (Nat → Int32) → (Nat → Int32) → (Nat → Int32) → Prop}
    (hJ : ∀ dd yd, cr_di n tb v dd yd → cr_ub n tb v dd (j + 1) → J54 (nI (j + 1)) yx yg yk yt yf ye yh yu yb yd) :
    ∀ N c dd yd, n - c < N → c ≤ n → cr_di n tb v dd yd → cr_ub n tb v dd j → (∀ l a, l ≤ j + 1 → a < c → cr_rc tb v l a → dd a ≤ l) →
    wY_repLetter_65 post J54 x2 (nI j) (nI A) ym (nI n) yw yc N (nI c) yx yg yk yt yf ye yh yu yb yd := by
  intro N
  induction N with
  | zero => exact fun c dd yd h => absurd h (Nat.not_lt_zero _)
  | succ N ih =>
    intro c dd yd h1 h2 hdi hub hdone
    refine pk_le n c (fun hle => ?_) (fun hlt => ?_)
    · exact nm_r (nI_1 j) (hJ dd yd hdi (fun l a hl ha hr => hdone l a hl (by omega) hr))
    · exact ⟨A + 1, cy_rep77 hA hn tw hyt hlt (fun dd' yd' k1 k2 k3 => ih (c + 1) dd' yd' (by omega) (by omega) k1 k2 k3) (A + 1) 0 dd yd (by omega) (by omega) hdi hub hdone (fun l y d _ hy => absurd hy (Nat.not_lt_zero y))⟩
theorem cy_rep54 (hA : cz_A A) (hn0 : 0 < n) (hn : n ≤ 32) (tw : cz_tw A n tb) (hyt : ∀ i, i < 192 → yt i = tb i) {x2 : Int32} {post : Int32 → SY → Prop}
    (hp : ∀ dd yd, cr_di n tb v dd yd → cr_ub n tb v dd n → (x2 < nI (dd 0) → ∃ n181, wY_repLetter_181 post x2 (nI A) ym (nI n) yw yc yx yg yk yt yf ye yh yu yb yd n181 0 90 0) ∧ (¬ x2 < nI (dd 0) → post 90 (nI A, ym, nI n, yw, yc, yx, yg, yk, yt, yf, ye, yh, yu, yb, yd))) :
    ∀ N j dd yd, n - j < N → j ≤ n → cr_di n tb v dd yd → cr_ub n tb v dd j → wY_repLetter_54 post x2 (nI A) ym (nI n) yw yc N (nI j) yx yg yk yt yf ye yh yu yb yd := by
  intro N
  induction N with
  | zero => exact fun c dd yd h => absurd h (Nat.not_lt_zero _)
  | succ N ih =>
    intro j dd yd h1 h2 hdi hub
    refine pk_le n j (fun hle => ?_) (fun hlt => ?_)
    · have e : j = n := by omega
      subst e
      rw [(hdi 0 hn0).1]
      exact hp dd yd hdi hub
    · exact ⟨n + 1, cy_rep65 hA hn tw hyt (fun dd' yd' k1 k2 => ih (j + 1) dd' yd' (by omega) (by omega) k1 k2) (n + 1) 0 dd yd (by omega) (by omega) hdi hub (fun l a _ ha => absurd ha (Nat.not_lt_zero a))⟩
theorem cy_rep21 (hn : n ≤ 32) (hv : v < n) {x2 : Int32} {post : Int32 → SY → Prop}
    (hp : ∀ dd yd, cr_di n tb v dd yd → cr_ub n tb v dd 0 → ∃ n54, wY_repLetter_54 post x2 (nI A) ym (nI n) yw yc n54 0 yx yg yk yt yf ye yh yu yb yd) :
    ∀ N c yd, n - c < N → c ≤ n → (∀ a, a < c → yd a = nI (if a = v then 0 else 32)) → wY_repLetter_21 post (nI v) x2 (nI A) ym (nI n) yw yc N (nI c) yx yg yk yt yf ye yh yu yb yd := by
  intro N
  induction N with
  | zero => exact fun c yd h => absurd h (Nat.not_lt_zero _)
  | succ N ih =>
    intro c yd h1 h2 h3
    refine pk_le n c (fun hle => ?_) (fun hlt => ?_)
    · refine hp (fun a => if a = v then 0 else 32) yd (fun a ha => ⟨h3 a (by omega), ?_, ?_⟩) (fun l a hl ha hr => ?_)
      · show (if a = v then 0 else 32) ≤ 32
        split <;> omega
      · show (if a = v then 0 else 32) = 32 ∨ cr_rc tb v (if a = v then 0 else 32) a
        by_cases e : a = v
        · rw [if_pos e]
          exact Or.inr e
        · rw [if_neg e]
          exact Or.inl rfl
      · have e : l = 0 := by omega
        subst e
        have e : a = v := hr
        show (if a = v then 0 else 32) ≤ 0
        rw [if_pos e]
        exact Nat.le_refl 0
    · have c1 : (nI c).toNatClampNeg = c := nI_clamp (by omega)
      have v1 : vp_in (nI c) 32 := vp_in_nI (by omega) (by omega)
      refine pk_eq c v (fun e => ?_) (fun ne => ?_)
      · refine And.intro v1 (nm_r (e' := upd yd c 0) (by rw [c1]) (nm_r (nI_1 c) (ih (c + 1) _ (by omega) (by omega) (fun a ha => ?_))))
        by_cases e2 : a = c
        · rw [e2, pk_us, if_pos e]
          rfl
        · rw [pk_un e2]
          exact h3 a (by omega)
      · refine And.intro v1 (nm_r (e' := upd yd c 32) (by rw [c1]) (nm_r (nI_1 c) (ih (c + 1) _ (by omega) (by omega) (fun a ha => ?_))))
        by_cases e2 : a = c
        · rw [e2, pk_us, if_neg ne]
          rfl
        · rw [pk_un e2]
          exact h3 a (by omega)
theorem cy_rep205 (hA : cz_A A) (hn : n ≤ 32) (tw : cz_tw A n tb) (hyt : ∀ i, i < 192 → yt i = tb i) (hb : cz_bf A n tb fc) (hd : cr_dp n fc D) (hv : v < n) {dd : Nat → Nat} (hdi : cr_di n tb v dd yd) (hub : cr_ub n tb v dd n) {m k : Nat} (hm : m < D v) {x2 : Int32} {post : Int32 → SY → Prop} {J : Int32 → Int32 → Int32 → Prop}
    (hJ : J (nI (cr_up fc v m)) (nI (fc (cr_up fc v m) % 6)) (nI (k + 1))) :
    ∀ N y at' best, y < N → y ≤ A → (y ≤ fc (cr_up fc v m) % 6 → at' = nI (cr_up fc v m) ∧ best = nI (fc (cr_up fc v m) % 6)) → wY_repLetter_205 post J x2 (nI k) (nI (cr_up fc v (m + 1))) yl ym yn yw yc yx yg yk yt yf ye yh yu yb yd N at' best (cy_d7 y) := by
  have hA6 := cz_A6 hA
  have hDv := hd.2.1 v hv
  obtain ⟨g1, g2⟩ := cr_upD hb hd hv (m + 1) (by omega)
  obtain ⟨g3, g4⟩ := cr_upD hb hd hv m (by omega)
  have g0 := cr_up0 hb hd hv hm
  have hdd : ∀ j, j ≤ D v → dd (cr_up fc v j) = j := by
    intro j hj
    obtain ⟨k1, k2⟩ := cr_upD hb hd hv j hj
    have h1 := hub j _ (by omega) k1 (cr_uprc hb hd hv j hj)
    obtain ⟨_, _, h2⟩ := hdi _ k1
    rcases h2 with h2 | h2
    · omega
    · have := cr_rcD hn tw hb hd _ _ h2
      omega
  intro N
  induction N with
  | zero => exact fun y at' best h => absurd h (Nat.not_lt_zero _)
  | succ N ih =>
    intro y at' best h1 h2 h3
    cases y with
    | zero =>
      rw [cy_d70]
      obtain ⟨e1, e2⟩ := h3 (Nat.zero_le _)
      subst e1 e2
      exact br_t cz_m1neg (nm_r (nI_1 k) hJ)
    | succ y =>
      rw [cy_d7s]
      have c1 : (nI (cr_up fc v (m + 1)) * 6 + nI y).toNatClampNeg = cr_up fc v (m + 1) * 6 + y := by rw [cz_ix, nI_clamp (by omega)]
      have v1 : vp_in (nI (cr_up fc v (m + 1)) * 6 + nI y) 192 := by rw [cz_ix]; exact vp_in_nI (by omega) (by omega)
      have e1 : yt (nI (cr_up fc v (m + 1)) * 6 + nI y).toNatClampNeg = tb (cr_up fc v (m + 1) * 6 + y) := by rw [c1, hyt _ (by omega)]
      have cc : (nI (cr_up fc v (m + 1))).toNatClampNeg = cr_up fc v (m + 1) := nI_clamp (by omega)
      obtain ⟨_, _, b3, _⟩ := hb.1 _ g0 g3
      refine br_f (nI_pos (by omega)) (And.intro v1 (nm_r e1 ?_))
      rcases cz_read hn tw (c := cr_up fc v (m + 1)) (x := y) (by omega) (by omega) with m1 | ⟨u, hu, r5, ee⟩
      · rw [m1]
        refine br_t cz_m1neg (nm_r (cy_d7m y) (ih y at' best (by omega) (by omega) (fun hle => h3 ?_)))
        by_cases e : y = fc (cr_up fc v m) % 6
        · rw [e] at m1
          exact absurd b3 (cz_none m1 _)
        · omega
      · rw [r5]
        have cu' : (nI u).toNatClampNeg = u := nI_clamp (by omega)
        obtain ⟨p1, p2, p3⟩ := hdi u hu
        refine br_f (nI_pos (by omega)) (And.intro (vp_in_nI (by omega) (by omega)) (And.intro (vp_in_nI (by omega) (by omega)) ?_))
        rw [cu', cc, p1, (hdi _ g1).1, hdd (m + 1) (by omega), nI_pred]
        refine pk_eq (dd u) m (fun e => ?_) (fun ne => ?_)
        · have hrc : cr_rc tb v m u := by
            rw [e] at p3
            rcases p3 with p3 | p3
            · omega
            · exact p3
          have hlow := cr_low hn tw hb hd hv hm ee hrc
          refine nm_r (cy_d7m y) (ih y _ _ (by omega) (by omega) (fun hle => ?_))
          have e2 : y = fc (cr_up fc v m) % 6 := by omega
          have b3' : cz_e tb (cr_up fc v (m + 1)) (fc (cr_up fc v m) % 6) (cr_up fc v m) := b3
          rw [e2] at ee
          have e3 := cz_e_det tb _ _ _ _ ee b3'
          rw [e3, e2]
          exact ⟨rfl, rfl⟩
        · refine nm_r (cy_d7m y) (ih y at' best (by omega) (by omega) (fun hle => h3 ?_))
          by_cases e : y = fc (cr_up fc v m) % 6
          · have b3' : cz_e tb (cr_up fc v (m + 1)) (fc (cr_up fc v m) % 6) (cr_up fc v m) := b3
            rw [e] at ee
            have e3 := cz_e_det tb _ _ _ _ ee b3'
            rw [e3, hdd m (by omega)] at ne
            exact absurd rfl ne
          · omega
theorem cy_rep181 (hA : cz_A A) (hn : n ≤ 32) (tw : cz_tw A n tb) (hyt : ∀ i, i < 192 → yt i = tb i) (hb : cz_bf A n tb fc) (hd : cr_dp n fc D) (hv : v < n) {dd : Nat → Nat} (hdi : cr_di n tb v dd yd) (hub : cr_ub n tb v dd n) (hi : i < D v) {post : Int32 → SY → Prop}
    (hp : post (nI (fc (cr_up fc v (D v - 1 - i)) % 6)) (nI A, ym, yn, yw, yc, yx, yg, yk, yt, yf, ye, yh, yu, yb, yd)) :
    ∀ N k best, i + 1 - k < N → k ≤ i + 1 → (k = i + 1 → best = nI (fc (cr_up fc v (D v - 1 - i)) % 6)) → wY_repLetter_181 post (nI i) (nI A) ym yn yw yc yx yg yk yt yf ye yh yu yb yd N (nI (cr_up fc v (D v - k))) best (nI k) := by
  have hA6 := cz_A6 hA
  have hA1 : 1 ≤ A := by unfold cz_A at hA; omega
  have hDv := hd.2.1 v hv
  intro N
  induction N with
  | zero => exact fun k best h => absurd h (Nat.not_lt_zero _)
  | succ N ih =>
    intro k best h1 h2 h3
    refine pk_lt i k (fun hlt => ?_) (fun hge => ?_)
    · have e : k = i + 1 := by omega
      rw [h3 e]
      exact hp
    · refine br_f (nI_ge (b := 32) (by omega) (by omega)) ?_
      have e1 : nI A - 1 = cy_d7 A := by
        rw [show (1 : Int32) = nI 1 from rfl, pk_sub hA1]
        unfold cy_d7
        rw [if_neg (by omega)]
      have em : D v - k = D v - (k + 1) + 1 := by omega
      refine nm_r e1 ⟨A + 1, ?_⟩
      rw [em]
      refine cy_rep205 (m := D v - (k + 1)) hA hn tw hyt hb hd hv hdi hub (by omega) ?_ (A + 1) A _ _ (by omega) (Nat.le_refl A) (fun hle => ?_)
      · exact ih (k + 1) _ (by omega) (by omega) (fun e => by rw [show D v - (k + 1) = D v - 1 - i by omega])
      · obtain ⟨g1, g2⟩ := cr_upD hb hd hv (D v - (k + 1)) (by omega)
        have g0 := cr_up0 hb hd hv (j := D v - (k + 1)) (by omega)
        obtain ⟨b1, _, _, _⟩ := hb.1 _ g0 g1
        omega
end
theorem i_vc_repLetter {k : Nat} {u : SX} {v : SY} (I : i_Rel k u v) (hk : k + 3 ≤ 1538) (v1 : Int32) (v2 : Int32) : wpX_repLetter (fun r => wpY_repLetter (fun r' v' => r' = r ∧ i_Rel (k + 3) u v') v v1 v2) u v1 v2 := by
  refine cr_el (P := fun u v => wpX_repLetter (fun r => wpY_repLetter (fun r' v' => r' = r ∧ i_Rel (k + 3) u v') v v1 v2) u v1 v2) ?_ I
  intro A n ms nw L cw wl g kd st fc D de sl cu sr sa kn tb fr pr qu sk sw od lb fm bb dp yc yx yg yk yt yf ye yh yu yb yd hC
  have hC' := hC
  obtain ⟨⟨hA, hm4, hm32, hn0, hnm, hL⟩, _, _, hpr, tw, hyt, _, hb, d0, d1, d2⟩ := hC'
  have hn : n ≤ 32 := by omega
  have hd : cr_dp n fc D := ⟨d0, fun s hs => (d1 s hs).2, fun s h0 hs => (d2 s h0 hs).2.2⟩
  unfold wpX_repLetter
  rcases cr_ix v1 (N := n) (by omega) with h | ⟨h1, h2, h3⟩ | ⟨c, hc, e, h1, h2, h3⟩
  · exact cx_isC (fun _ => br_t rfl (br_t h ⟨rfl, cr_in hC⟩)) (fun h' => absurd h h')
  · exact cx_isC (fun _ => br_t rfl (br_f h1 (br_t h2 ⟨rfl, cr_in hC⟩))) (fun _ h' => absurd h2 h')
  · subst e
    refine cx_isC (fun h' => absurd h' (by rintro (h | h); exact h1 h; exact h2 h)) (fun _ _ => br_f (by decide) ?_)
    by_cases h4 : 0 ≤ v2
    · have h4' : ¬ v2 < 0 := Int32.not_lt.mpr h4
      obtain ⟨i, hi, e⟩ := nI_of h4'
      subst e
      have cc : (nI c).toNatClampNeg = c := nI_clamp (by omega)
      have v1' : vp_in (nI c) 32 := vp_in_nI (by omega) (by omega)
      have hDc := (d1 c hc).2
      have hup0 : cr_up fc c (D c) = 0 := by
        obtain ⟨g1, g2⟩ := cr_upD hb hd hc (D c) (Nat.le_refl _)
        by_cases e : cr_up fc c (D c) = 0
        · exact e
        · have := hd.2.2 _ (by omega) g1
          omega
      have hY : ∀ post : Int32 → SY → Prop, (∀ yd, (i < D c → post (nI (fc (cr_up fc c (D c - 1 - i)) % 6)) (nI A, nI ms, nI n, nI nw, yc, yx, yg, yk, yt, yf, ye, yh, yu, yb, yd)) ∧ (¬ i < D c → post 90 (nI A, nI ms, nI n, nI nw, yc, yx, yg, yk, yt, yf, ye, yh, yu, yb, yd))) → wpY_repLetter post (nI A, nI ms, nI n, nI nw, yc, yx, yg, yk, yt, yf, ye, yh, yu, yb, yd) (nI c) (nI i) := by
        intro post hpost
        refine br_f h1 (br_f h2 (br_t h4 ⟨n + 1, cy_rep21 (tb := tb) hn hc ?_ (n + 1) 0 yd (by omega) (by omega) (fun a ha => absurd ha (Nat.not_lt_zero a))⟩))
        intro dd yd' k1 k2
        refine ⟨n + 1, cy_rep54 hA hn0 hn tw hyt ?_ (n + 1) 0 dd yd' (by omega) (by omega) k1 k2⟩
        intro dd2 yd2 q1 q2
        have hd0 : dd2 0 = D c := by
          have e1 := q2 (D c) 0 (by omega) hn0 (by have := cr_uprc hb hd hc (D c) (Nat.le_refl _); rw [hup0] at this; exact this)
          obtain ⟨_, _, e2⟩ := q1 0 hn0
          rcases e2 with e2 | e2
          · omega
          · have := cr_rcD hn tw hb hd _ _ e2
            omega
        rw [hd0]
        refine pk_lt i (D c) (fun hlt => ?_) (fun hge => (hpost yd2).2 (by omega))
        refine ⟨i + 2, ?_⟩
        have hh := cy_rep181 (i := i) (post := post) hA hn tw hyt hb hd hc q1 q2 hlt ((hpost yd2).1 hlt) (i + 2) 0 90 (by omega) (by omega) (fun e => by omega)
        rw [Nat.sub_zero, hup0] at hh
        exact hh
      refine br_t h4 (And.intro v1' ?_)
      rw [cc, (d1 c hc).1]
      refine pk_lt i (D c) (fun hlt => ?_) (fun hge => ?_)
      · refine And.intro v1' (nm_r (e' := nI (D c - 1 - 0)) ?_ ⟨D c + 1, cx_rep40 hn hb hd hc hlt (fun s h0 hs => ⟨(d2 s h0 hs).1, (d2 s h0 hs).2.1⟩) ?_ (D c + 1) 0 (by omega) (by omega)⟩)
        · rw [Nat.sub_zero]
          exact pk_sub (a := D c) (b := 1) (by omega)
        · exact hY _ (fun yd => ⟨fun _ => ⟨rfl, cr_in hC⟩, fun h => absurd hlt h⟩)
      · exact hY _ (fun yd => ⟨fun h => absurd h (by omega), fun _ => ⟨rfl, cr_in hC⟩⟩)
    · exact br_f h4 (br_f h1 (br_f h2 (br_f h4 ⟨rfl, cr_in hC⟩)))
end
section
/-! what both closings give; store -/
theorem cz_e_cg {t t' : Nat → Int32} (h : ∀ i, i < 192 → t' i = t i) : cz_e t' = cz_e t := by
  funext c x d
  refine propext ⟨fun k => ⟨k.1, k.2.1, k.2.2.1, ?_⟩, fun k => ⟨k.1, k.2.1, k.2.2.1, ?_⟩⟩
  · rw [← h _ (by have := k.1; have := k.2.1; omega)]
    exact k.2.2.2
  · rw [h _ (by have := k.1; have := k.2.1; omega)]
    exact k.2.2.2
theorem cz_tw_cg {A n : Nat} {t t' : Nat → Int32} (hn : n ≤ 32) (h : ∀ i, i < 192 → t' i = t i) (tw : cz_tw A n t) : cz_tw A n t' := by
  intro c x hc hx
  have h6 := cz_iv6 x hx
  rw [h _ (by omega)]
  rcases tw c x hc hx with k | ⟨k1, k2, d, k3, k4, k5⟩
  · exact Or.inl k
  · exact Or.inr ⟨k1, k2, d, k3, k4, by rw [h _ (by omega)]; exact k5⟩
def cr_T (A m nw : Nat) (wl : Nat → Nat) (g : Nat → Nat → Nat) (kd fc D : Nat → Nat) (tb pr fm bb dp yt : Nat → Int32) : Prop :=
  (∀ c, c < 32 → pr c = nI c) ∧ cz_tw A m tb ∧ (∀ i, i < 192 → yt i = tb i) ∧ cz_wc m nw wl g kd tb ∧ cz_bf A m tb fc ∧
  D 0 = 0 ∧ (∀ s, s < m → dp s = nI (D s) ∧ D s ≤ s) ∧ (∀ s, 0 < s → s < m → fm s = nI (fc s / 6) ∧ bb s = nI (fc s % 6) ∧ D s = D (fc s / 6) + 1)
section
variable {A n nw m m2 : Nat} {wl : Nat → Nat} {g : Nat → Nat → Nat} {kd : Nat → Nat} {t0 tb pr fm bb dp yt0 yt : Nat → Int32} {rho2 fc2 : Nat → Nat}
theorem cr_fiT (hA : cz_A A) (hwd : cz_wd A nw wl g) (h : cx_fi A n nw wl g kd t0 m tb pr fm bb dp) : (0 < m ∧ m ≤ n) ∧ ∃ fc D, ∀ yt, (∀ i, i < 192 → yt i = tb i) → cr_T A m nw wl g kd fc D tb pr fm bb dp yt := by
  obtain ⟨rho, fc, D, s1, s2, s3, s4, s5, s6, s7, s8⟩ := h
  have hcl : cz_cl n nw wl g kd (cz_Es n nw wl g kd t0) (cz_Fs n nw wl g kd t0) := cz_EsFs
  refine ⟨⟨s1.1, s8⟩, fc, D, fun yt hyt => ⟨s4, cz_tt_tw hA s1.2.1 hcl s3, hyt, cz_tt_wc hA hcl hwd s1 s2 s3, cz_tt_bf hA s1 s3, s5, s6, s7⟩⟩
theorem cr_fiY (hn0 : 0 < n) (h : cx_fi A n nw wl g kd t0 m tb pr fm bb dp) (he : ∀ i, i < 192 → yt0 i = t0 i) (h1 : cz_std A (cz_Es n nw wl g kd yt0) (cz_Fs n nw wl g kd yt0) m2 rho2 fc2) (h2 : cz_tt A (cz_Fs n nw wl g kd yt0) m2 rho2 yt) : m2 = m ∧ ∀ i, i < 192 → yt i = tb i := by
  obtain ⟨rho, fc, D, s1, s2, s3, s4, s5, s6, s7, s8⟩ := h
  have hcl : cz_cl n nw wl g kd (cz_Es n nw wl g kd t0) (cz_Fs n nw wl g kd t0) := cz_EsFs
  have ee := cz_e_cg he
  have eE : cz_Es n nw wl g kd yt0 = cz_Es n nw wl g kd t0 := by
    unfold cz_Es
    rw [ee]
  have eF : cz_Fs n nw wl g kd yt0 = cz_Fs n nw wl g kd t0 := by
    unfold cz_Fs
    rw [ee]
  rw [eE, eF] at h1
  rw [eF] at h2
  exact ⟨cz_std_m hcl hn0 h1 s1, cz_std_t hcl hn0 h1 s1 h2 s3⟩
theorem cr_wcok {sk : Nat → Int32} {k : Nat} (h : cz_wc n nw wl g kd tb) {w c : Nat} (hw : w < nw) (hc : c < n) (hk : kd w = 1 ∨ c = 0) : cz_ok tb sk (fun c => c) k (g w) (wl w) 0 c := by
  intro _ f q p hf h1 h2
  rw [Nat.zero_add] at h1 ⊢
  exact h w hw c hc hk f q p hf (cz_p_mono (fun c x d z => z.1) h1) (cz_p_mono (fun c x d z => z.1) h2)
theorem cr_xs0 {E : Nat → Nat → Prop} {F : Nat → Nat → Nat → Prop} {sk : Nat → Int32} (hcl : cz_cl n nw wl g kd E F) (hn : n ≤ 32) (tw : cz_tw A n tb) (hpr : ∀ c, c < 32 → pr c = nI c) (hF : ∀ c x d, cz_e tb c x d → F c x d) : cz_xs A n 0 E F tb pr sk (fun c => c) 0 :=
  ⟨tw, fun c hc => Or.inl ⟨hpr c (by omega), rfl⟩, fun c x d _ => ⟨rfl, rfl⟩, hF, fun c hc => hcl.1 c hc, by omega, fun i hi => absurd hi (Nat.not_lt_zero i)⟩
end
section
variable {A nw L so : Nat} {wl : Nat → Nat} {g : Nat → Nat → Nat} {kd st cw : Nat → Nat} {sa sr kn sr' yx yg yk yx' : Nat → Int32}
def cr_g (nw L : Nat) (cw : Nat → Nat) (g : Nat → Nat → Nat) (w : Nat) : Nat → Nat := if w = nw then (fun i => cw (i % L)) else g w
theorem cr_g_s : cr_g nw L cw g nw = (fun i => cw (i % L)) := if_pos rfl
theorem cr_g_n {w : Nat} (h : w ≠ nw) : cr_g nw L cw g w = g w := if_neg h
theorem cr_stm (h : cx_ws nw wl g kd st sa sr kn) : ∀ j, j ≤ nw → ∀ i, i ≤ j → st i ≤ st j := by
  intro j
  induction j with
  | zero =>
    intro _ i hi
    rw [show i = 0 by omega]
    exact Nat.le_refl _
  | succ j ih =>
    intro hj i hi
    by_cases e : i = j + 1
    · rw [e]
      exact Nat.le_refl _
    · have h1 := ih (by omega) i (by omega)
      have h2 := (h.2 j (by omega)).2.2.1
      omega
theorem cr_sanw (h : cx_ws nw wl g kd st sa sr kn) (h0 : st 0 = 0) (h1 : sa 0 = 0) : sa nw = nI (st nw) := by
  by_cases e : nw = 0
  · rw [e, h0, h1]
    rfl
  · have := (h.2 (nw - 1) (by omega)).2.1
    rw [show nw - 1 + 1 = nw by omega] at this
    exact this
theorem cr_wsX (h : cx_ws nw wl g kd st sa sr kn) (h0 : st 0 = 0) (h1 : sa 0 = 0) (hs : so = 1 ∨ so = 2) (hL0 : 0 < L) (hnw : nw < 10) (h96 : st nw + L ≤ 96) (r1 : ∀ j, j < st nw → sr' j = sr j) (r2 : ∀ i, i < L → sr' (st nw + i) = nI (cw i)) :
    cx_ws (nw + 1) (cz_nu wl nw L) (cr_g nw L cw g) (cz_nu kd nw so) (cz_nu st (nw + 1) (st nw + L)) (upd sa (nw + 1) (nI (st nw + L))) sr' (upd kn nw (nI so)) := by
  refine ⟨by omega, fun w hw => ?_⟩
  by_cases e : w = nw
  · subst e
    rw [cz_nu_s, cr_g_s, cz_nu_s, cz_nu_s, pk_us, pk_us, cz_nu_n (by omega), pk_un (by omega)]
    refine ⟨cr_sanw h h0 h1, rfl, rfl, h96, rfl, hs, fun i hi => ?_⟩
    dsimp only
    rw [Nat.mod_eq_of_lt hi]
    exact r2 i hi
  · obtain ⟨a1, a2, a3, a4, a5, a6, a7⟩ := h.2 w (by omega)
    have hm := cr_stm h nw (Nat.le_refl _) (w + 1) (by omega)
    rw [cz_nu_n e, cr_g_n e, cz_nu_n e, cz_nu_n (by omega), cz_nu_n (by omega), pk_un (by omega), pk_un (by omega), pk_un e]
    exact ⟨a1, a2, a3, a4, a5, a6, fun i hi => by rw [r1 _ (by omega)]; exact a7 i hi⟩
theorem cr_wsY (h : cy_ws nw wl g kd yx yg yk) (hL0 : 0 < L) (hwd : cz_wd A nw wl g) (hnw : nw < 10) (r1 : ∀ j, j < (nw + 1) * 24 → yx' j = yx j) (r2 : ∀ i, i < L → yx' ((nw + 1) * 24 + i) = nI (cw i)) :
    cy_ws (nw + 1) (cz_nu wl nw L) (cr_g nw L cw g) (cz_nu kd nw so) yx' (upd (upd yg (nw + 1) (nI L)) 0 0) (upd yk (nw + 1) (nI so)) := by
  refine ⟨by omega, fun w hw => ?_⟩
  by_cases e : w = nw
  · subst e
    rw [cz_nu_s, cr_g_s, cz_nu_s, pk_us, pk_un (by omega), pk_us]
    refine ⟨rfl, rfl, fun i hi => ?_⟩
    dsimp only
    rw [Nat.mod_eq_of_lt hi]
    exact r2 i hi
  · obtain ⟨a1, a2, a3⟩ := h.2 w (by omega)
    have l2 := (hwd w (by omega)).2.1
    rw [cz_nu_n e, cr_g_n e, cz_nu_n e, pk_un (by omega), pk_un (by omega), pk_un (by omega)]
    exact ⟨a1, a2, fun i hi => by rw [r1 _ (by omega)]; exact a3 i hi⟩
theorem cr_wdN (hwd : cz_wd A nw wl g) (hL0 : 0 < L) (hL : L ≤ 24) (hcw : ∀ i, i < L → cw i < A) : cz_wd A (nw + 1) (cz_nu wl nw L) (cr_g nw L cw g) := by
  intro w hw
  by_cases e : w = nw
  · subst e
    rw [cz_nu_s, cr_g_s]
    refine ⟨hL0, hL, fun i => hcw _ (Nat.mod_lt _ hL0), fun i j h => ?_⟩
    show cw (i % L) = cw (j % L)
    rw [h]
  · rw [cz_nu_n e, cr_g_n e]
    exact hwd w (by omega)
end
section
variable {al mo cl wo nn de to sl : Int32} {cu sr sa kn tb fr pr qu sk sw od lb fm bb dp : Nat → Int32}
variable {yl ym yn yw yc : Int32} {yx yg yk yt yf ye yh yu yb yd : Nat → Int32}
variable {A n nw L so ms : Nat} {wl : Nat → Nat} {g : Nat → Nat → Nat} {kd st cw : Nat → Nat}
theorem cx_sto53 (hL : L ≤ 24) (hnw : nw < 10) (h96 : st nw + L ≤ 96) (hcu : ∀ i, i < L → cu i = nI (cw i)) {sr0 : Nat → Int32} {post : Int32 → SX → Prop}
    (hp : ∀ sr', (∀ j, j < st nw → sr' j = sr0 j) → (∀ i, i < L → sr' (st nw + i) = nI (cw i)) → post 0 (al, mo, 0, nI (nw + 1), nn, de, to, sl, cu, sr', upd sa (nw + 1) (nI (st nw + L)), upd kn nw (nI so), tb, fr, pr, qu, sk, sw, od, lb, fm, bb, dp)) :
    ∀ N i sr, L - i < N → i ≤ L → (∀ j, j < st nw → sr j = sr0 j) → (∀ j, j < i → sr (st nw + j) = nI (cw j)) → wX_store_53 post (nI so) (nI (st nw)) al mo (nI L) (nI nw) nn de to sl N (nI i) cu sr sa kn tb fr pr qu sk sw od lb fm bb dp := by
  intro N
  induction N with
  | zero => exact fun i sr h => absurd h (Nat.not_lt_zero _)
  | succ N ih =>
    intro i sr h1 h2 h3 h4
    refine pk_le L i (fun hle => ?_) (fun hlt => ?_)
    · have c1 : (nI nw).toNatClampNeg = nw := nI_clamp (by omega)
      have c2 : (nI (nw + 1)).toNatClampNeg = nw + 1 := nI_clamp (by omega)
      refine And.intro (vp_in_nI (by omega) (by omega)) (nm_r (congrArg (fun z => upd kn z (nI so)) c1) (nm_r (nI_1 nw) (And.intro (vp_in_nI (by omega) (by omega)) (nm_r (e' := upd sa (nw + 1) (nI (st nw + L))) (by rw [c2, nI_add]) (hp sr h3 (fun j hj => h4 j (by omega)))))))
    · have c1 : (nI i).toNatClampNeg = i := nI_clamp (by omega)
      have e1 : nI (st nw) + nI i = nI (st nw + i) := nI_add _ _
      have v1 : vp_in (nI (st nw) + nI i) 96 := by rw [e1]; exact vp_in_nI (by omega) (by omega)
      have e2 : upd sr (nI (st nw) + nI i).toNatClampNeg (cu (nI i).toNatClampNeg) = upd sr (st nw + i) (nI (cw i)) := by rw [e1, c1, nI_clamp (by omega), hcu i hlt]
      refine And.intro (vp_in_nI (by omega) (by omega)) (And.intro v1 (nm_r e2 (nm_r (nI_1 i) (ih (i + 1) _ (by omega) (by omega) (fun j hj => ?_) (fun j hj => ?_)))))
      · rw [pk_un (by omega)]
        exact h3 j hj
      · by_cases e : j = i
        · rw [e, pk_us]
        · rw [pk_un (by omega)]
          exact h4 j (by omega)
theorem cx_store (hws : cx_ws nw wl g kd st sa sr kn) (h0 : st 0 = 0) (h1 : sa 0 = 0) (hst : st nw ≤ 96) (hL : L ≤ 24) (hcu : ∀ i, i < L → cu i = nI (cw i)) {post : Int32 → SX → Prop}
    (h93 : L = 0 → post 93 (al, mo, nI L, nI nw, nn, de, to, sl, cu, sr, sa, kn, tb, fr, pr, qu, sk, sw, od, lb, fm, bb, dp)) (h92 : L ≠ 0 → (10 ≤ nw ∨ 96 < st nw + L) → post 92 (al, mo, nI L, nI nw, nn, de, to, sl, cu, sr, sa, kn, tb, fr, pr, qu, sk, sw, od, lb, fm, bb, dp))
    (hok : L ≠ 0 → nw < 10 → st nw + L ≤ 96 → ∀ sr', (∀ j, j < st nw → sr' j = sr j) → (∀ i, i < L → sr' (st nw + i) = nI (cw i)) → post 0 (al, mo, 0, nI (nw + 1), nn, de, to, sl, cu, sr', upd sa (nw + 1) (nI (st nw + L)), upd kn nw (nI so), tb, fr, pr, qu, sk, sw, od, lb, fm, bb, dp)) :
    wpX_store post (al, mo, nI L, nI nw, nn, de, to, sl, cu, sr, sa, kn, tb, fr, pr, qu, sk, sw, od, lb, fm, bb, dp) (nI so) := by
  have hnw := hws.1
  have c1 : sa (nI nw).toNatClampNeg = nI (st nw) := by rw [nI_clamp (by omega), cr_sanw hws h0 h1]
  unfold wpX_store
  refine pk_eq L 0 h93 (fun ne => ?_)
  refine pk_le 10 nw (fun hle => h92 ne (Or.inl hle)) (fun hlt => ?_)
  refine And.intro (vp_in_nI (by omega) (by omega)) ?_
  rw [c1, nI_add]
  refine pk_le (st nw + L) 96 (fun h96 => ?_) (fun h96 => h92 ne (Or.inr h96))
  exact And.intro (vp_in_nI (by omega) (by omega)) (nm_r rfl ⟨L + 1, cx_sto53 hL hlt h96 hcu (fun sr' k1 k2 => hok ne hlt h96 sr' k1 k2) (L + 1) 0 sr (by omega) (by omega) (fun j _ => rfl) (fun j hj => absurd hj (Nat.not_lt_zero j))⟩)
theorem cy_sto69 (hL : L ≤ 24) (hnw : nw < 10) (hg : yg 0 = nI L) (hyx : ∀ i, i < L → yx i = nI (cw i)) {yx0 : Nat → Int32} (hx0 : ∀ i, i < L → yx0 i = nI (cw i)) {post : Int32 → SY → Prop}
    (hp : ∀ yx', (∀ j, j < (nw + 1) * 24 → yx' j = yx0 j) → (∀ i, i < L → yx' ((nw + 1) * 24 + i) = nI (cw i)) → wpY_close (fun u => post 0 u) (yl, ym, yn, nI (nw + 1), yc, yx', upd (upd yg (nw + 1) (nI L)) 0 0, upd yk (nw + 1) (nI so), yt, yf, ye, yh, yu, yb, yd)) :
    ∀ N i yx, L - i < N → i ≤ L → (∀ j, j < (nw + 1) * 24 → yx j = yx0 j) → (∀ j, j < i → yx ((nw + 1) * 24 + j) = nI (cw j)) → wY_store_69 post (nI so) yl ym yn (nI (nw + 1)) yc N (nI i) yx yg yk yt yf ye yh yu yb yd := by
  intro N
  induction N with
  | zero => exact fun i sr h => absurd h (Nat.not_lt_zero _)
  | succ N ih =>
    intro i yx h1 h2 h3 h4
    have c2 : (nI (nw + 1)).toNatClampNeg = nw + 1 := nI_clamp (by omega)
    have v2 : vp_in (nI (nw + 1)) 11 := vp_in_nI (by omega) (by omega)
    rw [show wY_store_69 post (nI so) yl ym yn (nI (nw + 1)) yc (N + 1) (nI i) yx yg yk yt yf ye yh yu yb yd = _ from rfl]
    refine br_c (fun hle => ?_) (fun hgt => ?_)
    · have hle : L ≤ i := by
        rw [hg] at hle
        exact (nI_leI (by omega) (by omega)).mp hle
      refine And.intro v2 (nm_r (e' := upd yg (nw + 1) (nI L)) (by rw [c2, hg]) (And.intro v2 (nm_r (congrArg (fun z => upd yk z (nI so)) c2) (nm_e (hp yx h3 (fun j hj => h4 j (by omega)))))))
    · have hlt : i < L := by
        rw [hg, nI_leI (by omega) (by omega)] at hgt
        omega
      have c1 : (nI i).toNatClampNeg = i := nI_clamp (by omega)
      have e1 : nI (nw + 1) * 24 + nI i = nI ((nw + 1) * 24 + i) := by rw [show (24 : Int32) = nI 24 from rfl, pk_mul, nI_add]
      have v1 : vp_in (nI (nw + 1) * 24 + nI i) 264 := by rw [e1]; exact vp_in_nI (by omega) (by omega)
      have e2 : upd yx (nI (nw + 1) * 24 + nI i).toNatClampNeg (yx (nI i).toNatClampNeg) = upd yx ((nw + 1) * 24 + i) (nI (cw i)) := by rw [e1, c1, nI_clamp (by omega), h3 i (by omega), hx0 i hlt]
      refine And.intro (vp_in_nI (by omega) (by omega)) (And.intro v1 (nm_r e2 (nm_r (nI_1 i) (ih (i + 1) _ (by omega) (by omega) (fun j hj => ?_) (fun j hj => ?_)))))
      · rw [pk_un (by omega)]
        exact h3 j hj
      · by_cases e : j = i
        · rw [e, pk_us]
        · rw [pk_un (by omega)]
          exact h4 j (by omega)
theorem cy_store (hX : cx_ws nw wl g kd st sa sr kn) (hY : cy_ws nw wl g kd yx yg yk) (h0 : st 0 = 0) (hst : st nw ≤ 96) (hL : L ≤ 24) (hg : yg 0 = nI L) (hyx : ∀ i, i < L → yx i = nI (cw i)) {post : Int32 → SY → Prop}
    (h93 : L = 0 → post 93 (yl, ym, yn, nI nw, yc, yx, yg, yk, yt, yf, ye, yh, yu, yb, yd)) (h92 : L ≠ 0 → (10 ≤ nw ∨ 96 < st nw + L) → post 92 (yl, ym, yn, nI nw, yc, yx, yg, yk, yt, yf, ye, yh, yu, yb, yd))
    (hok : L ≠ 0 → nw < 10 → st nw + L ≤ 96 → ∀ yx', (∀ j, j < (nw + 1) * 24 → yx' j = yx j) → (∀ i, i < L → yx' ((nw + 1) * 24 + i) = nI (cw i)) → wpY_close (fun u => post 0 u) (yl, ym, yn, nI (nw + 1), yc, yx', upd (upd yg (nw + 1) (nI L)) 0 0, upd yk (nw + 1) (nI so), yt, yf, ye, yh, yu, yb, yd)) :
    wpY_store post (yl, ym, yn, nI nw, yc, yx, yg, yk, yt, yf, ye, yh, yu, yb, yd) (nI so) := by
  have hnw := hX.1
  have hstm := cr_stm hX nw (Nat.le_refl _)
  by_cases e0 : L = 0
  · have ez : yg 0 = 0 := by rw [hg, e0]; rfl
    exact br_t ez (h93 e0)
  · have ez : ¬ yg 0 = 0 := by rw [hg]; exact nI_ne0 (by omega) (by omega)
    have H : ∀ N w, nw - w < N → w ≤ nw → wY_store_16 post (nI so) yl ym yn (nI nw) yc yx yg yk yt yf ye yh yu yb yd N (nI (L + st w)) (nI (w + 1)) := by
      intro N
      induction N with
      | zero => exact fun w h => absurd h (Nat.not_lt_zero _)
      | succ N ih =>
        intro w k1 k2
        have hw := hstm w k2
        refine pk_lt nw (w + 1) (fun hlt => ?_) (fun hge => ?_)
        · have e : w = nw := by omega
          subst e
          refine pk_le 10 w (fun hle => h92 e0 (Or.inl hle)) (fun hlt => ?_)
          refine pk_le (L + st w) 96 (fun h96 => ?_) (fun h96 => h92 e0 (Or.inr (by omega)))
          exact nm_r (nI_1 w) ⟨L + 1, cy_sto69 (yx := yx) (yx0 := yx) hL hlt hg hyx hyx (fun yx' q1 q2 => hok e0 hlt (by omega) yx' q1 q2) (L + 1) 0 yx (by omega) (by omega) (fun j _ => rfl) (fun j hj => absurd hj (Nat.not_lt_zero j))⟩
        · obtain ⟨a1, a2, a3⟩ := hY.2 w (by omega)
          have a4 := (hX.2 w (by omega)).2.2.1
          refine And.intro (vp_in_nI (by omega) (by omega)) (nm_r (e' := nI (L + st (w + 1))) ?_ (nm_r (nI_1 (w + 1)) (ih (w + 1) (by omega) (by omega))))
          rw [nI_clamp (by omega), a1, nI_add]
          exact congrArg nI (by omega)
    refine br_f ez ⟨nw + 2, ?_⟩
    refine br_f (nI_nlt (a := nw) (b := 0) (by omega) (by omega)) (And.intro (vp_in_nI (n := 0) (by omega) (by omega)) (nm_r (e' := nI (L + st 0)) ?_ (nm_r (e' := nI (0 + 1)) rfl (H (nw + 1) 0 (by omega) (by omega)))))
    show 0 + yg 0 = nI (L + st 0)
    rw [hg, h0, Nat.add_zero, Int32.zero_add]
end
end
section
/-! relator, subgroup, define -/
section
variable {al mo cl wo nn de to sl : Int32} {cu sr sa kn tb fr pr qu sk sw od lb fm bb dp : Nat → Int32}
variable {yl ym yn yw yc : Int32} {yx yg yk yt yf ye yh yu yb yd : Nat → Int32}
variable {A n nw L ms : Nat} {wl : Nat → Nat} {g : Nat → Nat → Nat} {kd st cw : Nat → Nat}
/-- old words keep their rules beside a new one -/
theorem cr_okold {so : Nat} (h : cz_wc n nw wl g kd tb) {w c k : Nat} (hw : w < nw) (hc : c < n) (hk : cz_nu kd nw so w = 1 ∨ c = 0) : cz_ok tb sk (fun c => c) k (cr_g nw L cw g w) (cz_nu wl nw L w) 0 c := by
  have e : w ≠ nw := by omega
  rw [cz_nu_n e] at hk
  rw [cr_g_n e, cz_nu_n e]
  exact cr_wcok h hw hc hk
/-- the new word, loaded -/
theorem cx_relX (hA : cz_A A) (hn0 : 0 < n) (hn : n ≤ 32) (hwd : cz_wd A nw wl g) (hwc : cz_wc n nw wl g kd tb) (tw : cz_tw A n tb) (hpr : ∀ c, c < 32 → pr c = nI c) (hL0 : 0 < L) (hL : L ≤ 24) (hcw : ∀ i, i < L → cw i < A)
    (hws : cx_ws (nw + 1) (cz_nu wl nw L) (cr_g nw L cw g) (cz_nu kd nw 1) (cz_nu st (nw + 1) (st nw + L)) sa sr kn) {post : Int32 → SX → Prop}
    (hp : ∀ m de' sl' tb' fr' pr' qu' sk' sw' od' lb' fm' bb' dp', cx_fi A n (nw + 1) (cz_nu wl nw L) (cr_g nw L cw g) (cz_nu kd nw 1) tb m tb' pr' fm' bb' dp' → post 0 (nI A, mo, cl, nI (nw + 1), nI m, de', 0, sl', cu, sr, sa, kn, tb', fr', pr', qu', sk', sw', od', lb', fm', bb', dp')) :
    wpX_load (fun u => match u with | (al, mo, cl, wo, nn, de, to, sl, cu, sr, sa, kn, tb, fr, pr, qu, sk, sw, od, lb, fm, bb, dp) => ∃ n23 : Nat, wX_relator_23 post 0 n23 0 al mo cl wo nn de to sl cu sr sa kn tb fr pr qu sk sw od lb fm bb dp) (nI A, mo, cl, nI (nw + 1), nI n, de, 0, sl, cu, sr, sa, kn, tb, fr, pr, qu, sk, sw, od, lb, fm, bb, dp) (nI nw) 0 := by
  have hwd' := cr_wdN hwd hL0 hL hcw
  have hcl : cz_cl n (nw + 1) (cz_nu wl nw L) (cr_g nw L cw g) (cz_nu kd nw 1) (cz_Es n (nw + 1) (cz_nu wl nw L) (cr_g nw L cw g) (cz_nu kd nw 1) tb) (cz_Fs n (nw + 1) (cz_nu wl nw L) (cr_g nw L cw g) (cz_nu kd nw 1) tb) := cz_EsFs
  have hl := (hwd' nw (by omega)).1
  refine cx_load (tn := 0) hws hwd' (show nw < nw + 1 by omega) hl ?_
  intro sw' hsw
  have hx0 := cr_xs0 (sk := sk) hcl hn tw hpr (cz_Fs0 hn tw)
  refine ⟨n + 1, cx_rel23 hA hn0 hn hcl hwd' (show nw < nw + 1 by omega) cz_nu_s hsw (n + 1) 0 tb pr sk qu (fun c => c) 0 de (by omega) (by omega) hx0 (fun d hd => absurd hd (Nat.not_lt_zero d)) ?_⟩
  intro tb' pr' sk' qu' ph' k' de' j1 j2 j3
  refine cx_close hA hn0 hn hws hwd' tw hx0.2.1 j1 (cz_tr_hm j2) (fun w hw hkw => ?_) (fun _ w hw hkw => ?_) hp
  · obtain ⟨l1, l2, l3, l4⟩ := hwd' w hw
    refine cz_ok_iw hn j1.1 j1.2.2.1 l1 l4 (fun c hc => ?_)
    by_cases e : w = nw
    · rw [e]
      exact j3 c hc
    · exact cz_ok_tr j1.2.2.1 j2 hc (cr_okold (sk := sk) (k := 0) hwc (by omega) hc (Or.inl hkw))
  · have e : w ≠ nw := by
      intro e
      rw [e, cz_nu_s] at hkw
      omega
    exact cz_ok_tr j1.2.2.1 j2 hn0 (cr_okold (so := 1) (sk := sk) (k := 0) hwc (by omega) hn0 (Or.inr rfl))
theorem cx_subX (hA : cz_A A) (hn0 : 0 < n) (hn : n ≤ 32) (hwd : cz_wd A nw wl g) (hwc : cz_wc n nw wl g kd tb) (tw : cz_tw A n tb) (hpr : ∀ c, c < 32 → pr c = nI c) (hL0 : 0 < L) (hL : L ≤ 24) (hcw : ∀ i, i < L → cw i < A)
    (hws : cx_ws (nw + 1) (cz_nu wl nw L) (cr_g nw L cw g) (cz_nu kd nw 2) (cz_nu st (nw + 1) (st nw + L)) sa sr kn) {post : Int32 → SX → Prop}
    (hp : ∀ m de' sl' tb' fr' pr' qu' sk' sw' od' lb' fm' bb' dp', cx_fi A n (nw + 1) (cz_nu wl nw L) (cr_g nw L cw g) (cz_nu kd nw 2) tb m tb' pr' fm' bb' dp' → post 0 (nI A, mo, cl, nI (nw + 1), nI m, de', 0, sl', cu, sr, sa, kn, tb', fr', pr', qu', sk', sw', od', lb', fm', bb', dp')) :
    wpX_load (fun u => wpX_scan (fun u => wpX_close (fun u => post 0 u) u) u 0) (nI A, mo, cl, nI (nw + 1), nI n, de, 0, sl, cu, sr, sa, kn, tb, fr, pr, qu, sk, sw, od, lb, fm, bb, dp) (nI nw) 0 := by
  have hwd' := cr_wdN hwd hL0 hL hcw
  have hcl : cz_cl n (nw + 1) (cz_nu wl nw L) (cr_g nw L cw g) (cz_nu kd nw 2) (cz_Es n (nw + 1) (cz_nu wl nw L) (cr_g nw L cw g) (cz_nu kd nw 2) tb) (cz_Fs n (nw + 1) (cz_nu wl nw L) (cr_g nw L cw g) (cz_nu kd nw 2) tb) := cz_EsFs
  obtain ⟨l1, l2, l3, l4⟩ := hwd' nw (by omega)
  refine cx_load (tn := 0) hws hwd' (show nw < nw + 1 by omega) l1 ?_
  intro sw' hsw
  have hx0 := cr_xs0 (sk := sk) hcl hn tw hpr (cz_Fs0 hn tw)
  refine cx_scan (c := 0) (k := 0) hA hn0 hn hcl l1 l2 l3 hsw hn0 rfl (cz_ruS hcl hn0 (show nw < nw + 1 by omega)) hx0 ?_
  intro tb' pr' sk' qu' ph' k' de' j1 j2 j3
  refine cx_close hA hn0 hn hws hwd' tw hx0.2.1 j1 (cz_tr_hm j2) (fun w hw hkw => ?_) (fun _ w hw hkw => ?_) hp
  · obtain ⟨l1, l2, l3, l4⟩ := hwd' w hw
    have e : w ≠ nw := by
      intro e
      rw [e, cz_nu_s] at hkw
      omega
    refine cz_ok_iw hn j1.1 j1.2.2.1 l1 l4 (fun c hc => ?_)
    exact cz_ok_tr j1.2.2.1 j2 hc (cr_okold (sk := sk) (k := 0) hwc (by omega) hc (Or.inl hkw))
  · by_cases e : w = nw
    · rw [e]
      exact j3
    · exact cz_ok_tr j1.2.2.1 j2 hn0 (cr_okold (so := 2) (sk := sk) (k := 0) hwc (by omega) hn0 (Or.inr rfl))
theorem cz_tw_succ {t : Nat → Int32} (h : cz_tw A n t) : cz_tw A (n + 1) t := by
  intro c x hc hx
  rcases h c x hc hx with k | ⟨k1, k2, d, k3, k4⟩
  · exact Or.inl k
  · exact Or.inr ⟨by omega, k2, d, by omega, k4⟩
theorem cz_tw_row {t : Nat → Int32} (h : cz_tw A n t) {x : Nat} (hn : n < 32) (hx : x < 6) : t (n * 6 + x) = -1 := by
  rcases h n x hn hx with k | ⟨k1, _⟩
  · exact k
  · omega
/-- the component's define at a missing entry -/
theorem cx_define (hA : cz_A A) (hn0 : 0 < n) (hms : ms ≤ 32) (hnm : n < ms) (hws : cx_ws nw wl g kd st sa sr kn) (hwd : cz_wd A nw wl g) (hwc : cz_wc n nw wl g kd tb) (tw : cz_tw A n tb) (hpr : ∀ c, c < 32 → pr c = nI c)
    {c x : Nat} (hc : c < n) (hx : x < A) (hmi : tb (c * 6 + x) = -1) {post : Int32 → SX → Prop}
    (hp : ∀ m de' sl' tb' fr' pr' qu' sk' sw' od' lb' fm' bb' dp', cx_fi A (n + 1) nw wl g kd (cz_jt tb c x n) m tb' pr' fm' bb' dp' → post 0 (nI A, nI ms, cl, nI nw, nI m, de', 0, sl', cu, sr, sa, kn, tb', fr', pr', qu', sk', sw', od', lb', fm', bb', dp')) :
    wpX_define post (nI A, nI ms, cl, nI nw, nI n, de, 0, sl, cu, sr, sa, kn, tb, fr, pr, qu, sk, sw, od, lb, fm, bb, dp) (nI c) (nI x) := by
  have hA6 := cz_A6 hA
  have hn : n + 1 ≤ 32 := by omega
  have h6 := (cz_iv6 x (by omega)).1
  have tw1 := cz_tw_succ tw
  have mi2 : tb (n * 6 + cz_iv x) = -1 := cz_tw_row tw (by omega) h6
  have tw0 : cz_tw A (n + 1) (cz_jt tb c x n) := cz_jt_tw hA hn tw1 (by omega) hx (by omega) hmi mi2
  have hcl : cz_cl (n + 1) nw wl g kd (cz_Es (n + 1) nw wl g kd (cz_jt tb c x n)) (cz_Fs (n + 1) nw wl g kd (cz_jt tb c x n)) := cz_EsFs
  have hje : ∀ c' y d', cz_e (cz_jt tb c x n) c' y d' ↔ _ := fun c' y d' => cz_jt_e (c' := c') (y := y) (d' := d') (show c < 32 by omega) (show x < 6 by omega) (show n < 32 by omega) hmi mi2
  have hx0 := cr_xs0 (sk := sk) hcl hn tw1 hpr (fun c' y d' he => cz_Fs0 hn tw0 _ _ _ ((hje c' y d').mpr (Or.inl he)))
  obtain ⟨hx1, htr1⟩ := cz_xs_jt hA hn hcl hx0 (show c < n + 1 by omega) hx (show n < n + 1 by omega) hmi mi2 (cz_Fs0 hn tw0 _ _ _ ((hje _ _ _).mpr (Or.inr (Or.inl ⟨rfl, rfl, rfl⟩)))) rfl rfl
  have c1 : (nI c * 6 + nI x).toNatClampNeg = c * 6 + x := by rw [cz_ix, nI_clamp (by omega)]
  have v1 : vp_in (nI c * 6 + nI x) 192 := by rw [cz_ix]; exact vp_in_nI (by omega) (by omega)
  unfold wpX_define
  refine cx_isC (fun h' => absurd h' ?_) (fun _ _ => br_f (by decide) (cx_isL (fun h' => absurd h' ?_) (fun _ _ => br_f (by decide) ?_)))
  · rintro (h | h)
    · exact nI_pos (by omega) h
    · exact nI_ge hc (by omega) h
  · rintro (h | h)
    · exact nI_pos (by omega) h
    · exact nI_ge hx (by omega) h
  refine And.intro v1 ?_
  rw [c1, hmi]
  refine br_t cz_m1neg (br_t (nI_lt hnm (by omega)) (nm_r (nI_1 n) ?_))
  refine cx_join (k := 0) (by omega) (by omega) (by omega) (by omega) ?_
  refine cx_scanSin hA (by omega) hn hcl hws hwd (show n < n + 1 by omega) hx1 ?_
  intro tb' pr' sk' qu' ph' k' de' sl' sw' j1 j2 j3
  have htr := cz_tr_trans hn tw1 hx0.2.1 htr1 j2
  refine cx_close hA (by omega) hn hws hwd tw0 hx1.2.1 j1 (cz_tr_hm j2) (fun w hw hkw => ?_) (fun _ w hw hkw => ?_) hp
  · obtain ⟨l1, l2, l3, l4⟩ := hwd w hw
    refine cz_ok_iw hn j1.1 j1.2.2.1 l1 l4 (fun d hd => ?_)
    by_cases e : d = n
    · subst e
      by_cases e1 : wl w = 1
      · exact j3 w hw hkw e1
      · refine cz_ok_tr j1.2.2.1 htr hd (fun _ f q p hf k1 k2 => ?_)
        exfalso
        by_cases ef : f = 0
        · obtain ⟨r, _, k4⟩ := cz_p_last (cz_p_len (show wl w - 1 - f = wl w - 2 - f + 1 by omega) k1)
          have := (cz_e_in (show d ≤ 32 by omega) tw k4.1).2.2.1
          omega
        · obtain ⟨r, k3, _⟩ := cz_p_len (show f = f - 1 + 1 by omega) k2
          have := (cz_e_in (show d ≤ 32 by omega) tw k3.1).1
          omega
    · exact cz_ok_tr j1.2.2.1 htr hd (cr_wcok hwc hw (by omega) (Or.inl hkw))
  · exact cz_ok_tr j1.2.2.1 htr (by omega) (cr_wcok hwc hw hn0 (Or.inr rfl))
/-- the reference's define at a missing entry -/
theorem cy_define (hA : cz_A A) (hn0 : 0 < n) (hms : ms ≤ 32) (hnm : n < ms) (hws : cy_ws nw wl g kd yx yg yk) (hkd : ∀ w, w < nw → kd w = 1 ∨ kd w = 2) (hwd : cz_wd A nw wl g) (tw : cz_tw A n yt)
    {c x : Nat} (hc : c < n) (hx : x < A) (hmi : yt (c * 6 + x) = -1) {post : Int32 → SY → Prop}
    (hp : ∀ m rho fc yc' yt' yf' ye' yh' yu' yb', cz_std A (cz_Es (n + 1) nw wl g kd (cz_jt yt c x n)) (cz_Fs (n + 1) nw wl g kd (cz_jt yt c x n)) m rho fc → cz_tt A (cz_Fs (n + 1) nw wl g kd (cz_jt yt c x n)) m rho yt' → post 0 (nI A, nI ms, nI m, nI nw, yc', yx, yg, yk, yt', yf', ye', yh', yu', yb', yd)) :
    wpY_define post (nI A, nI ms, nI n, nI nw, yc, yx, yg, yk, yt, yf, ye, yh, yu, yb, yd) (nI c) (nI x) := by
  have hA6 := cz_A6 hA
  have hn : n + 1 ≤ 32 := by omega
  have h6 := (cz_iv6 x (by omega)).1
  have mi2 : yt (n * 6 + cz_iv x) = -1 := cz_tw_row tw (by omega) h6
  have tw0 : cz_tw A (n + 1) (cz_jt yt c x n) := cz_jt_tw hA hn (cz_tw_succ tw) (by omega) hx (by omega) hmi mi2
  have c1 : (nI c * 6 + nI x).toNatClampNeg = c * 6 + x := by rw [cz_ix, nI_clamp (by omega)]
  have v1 : vp_in (nI c * 6 + nI x) 192 := by rw [cz_ix]; exact vp_in_nI (by omega) (by omega)
  have e2 : (nI n * 6 + (nI x ^^^ 1)).toNatClampNeg = n * 6 + cz_iv x := by rw [cz_ivN, cz_ix, nI_clamp (by omega)]
  have v2 : vp_in (nI n * 6 + (nI x ^^^ 1)) 192 := by rw [cz_ivN, cz_ix]; exact vp_in_nI (by omega) (by omega)
  unfold wpY_define
  refine br_f (nI_pos (by omega)) (br_f (nI_ge hc (by omega)) (br_f (nI_pos (by omega)) (br_t (nI_lt hx (by omega)) (And.intro v1 ?_))))
  rw [c1, hmi]
  refine br_t cz_m1neg (br_t (nI_lt hnm (by omega)) (And.intro v1 (nm_e (And.intro v2 (nm_r (congrArg (fun z => upd (upd yt (c * 6 + x) (nI n)) z (nI c)) e2) (nm_r (nI_1 n) ?_))))))
  exact cy_close (yt := cz_jt yt c x n) hA (by omega) hn hws hkd hwd tw0 hp
end
theorem i_vc_relator {k : Nat} {u : SX} {v : SY} (I : i_Rel k u v) (hk : k + 3 ≤ 1538) : wpX_relator (fun r u' => wpY_relator (fun r' v' => r' = r ∧ i_Rel (k + 3) u' v') v) u := by
  refine cr_el (P := fun u v => wpX_relator (fun r u' => wpY_relator (fun r' v' => r' = r ∧ i_Rel (k + 3) u' v') v) u) ?_ I
  intro A n ms nw L cw wl g kd st fc D de sl cu sr sa kn tb fr pr qu sk sw od lb fm bb dp yc yx yg yk yt yf ye yh yu yb yd hC
  have hC' := hC
  obtain ⟨⟨hA, hm4, hm32, hn0, hnm, hL⟩, ⟨c1, c2, c3⟩, ⟨w1, w2, w3, s1, s2, s3⟩, hpr, tw, hyt, hwc, hb, hT⟩ := hC'
  have hn : n ≤ 32 := by omega
  have hcu : ∀ i, i < L → cu i = nI (cw i) := fun i hi => (c3 i hi).1
  have hyx : ∀ i, i < L → yx i = nI (cw i) := fun i hi => (c3 i hi).2.1
  unfold wpX_relator
  refine cx_store (so := 1) w1 s1 s2 s3 hL hcu (fun e => ?_) (fun ne hor => ?_) (fun ne hnw h96 sr' r1 r2 => ?_)
  · refine br_f (by decide) ?_
    unfold wpY_relator
    exact cy_store (so := 1) w1 w2 s1 s3 hL c1 hyx (fun _ => ⟨rfl, cr_in hC⟩) (fun ne => absurd e ne) (fun ne => absurd e ne)
  · refine br_f (by decide) ?_
    unfold wpY_relator
    refine cy_store (so := 1) w1 w2 s1 s3 hL c1 hyx (fun e => absurd e ne) (fun _ _ => ⟨rfl, cr_in hC⟩) (fun _ h1 h2 => ?_)
    rcases hor with h | h <;> omega
  · refine br_t rfl ?_
    have hwsX := cr_wsX (so := 1) (cw := cw) w1 s1 s2 (Or.inl rfl) (by omega) hnw h96 r1 r2
    have hwd' := cr_wdN w3 (show 0 < L by omega) hL (fun i hi => (c3 i hi).2.2)
    rw [nI_pred]
    refine cx_relX (post := fun r u' => wpY_relator (fun r' v' => r' = r ∧ i_Rel (k + 3) u' v') (nI A, nI ms, nI n, nI nw, yc, yx, yg, yk, yt, yf, ye, yh, yu, yb, yd)) hA hn0 hn w3 hwc tw hpr (by omega) hL (fun i hi => (c3 i hi).2.2) hwsX ?_
    intro m de' sl' tb' fr' pr' qu' sk' sw' od' lb' fm' bb' dp' hfi
    show wpY_relator _ _
    unfold wpY_relator
    refine cy_store (so := 1) w1 w2 s1 s3 hL c1 hyx (fun e => absurd e ne) (fun _ hor => absurd hor (by omega)) (fun _ _ _ yx' q1 q2 => ?_)
    have hwsY := cr_wsY (so := 1) (cw := cw) w2 (show 0 < L by omega) w3 hnw q1 q2
    have hkd : ∀ w, w < nw + 1 → cz_nu kd nw 1 w = 1 ∨ cz_nu kd nw 1 w = 2 := fun w hw => (hwsX.2 w hw).2.2.2.2.2.1
    refine cy_close hA hn0 hn hwsY hkd hwd' (cz_tw_cg hn hyt tw) ?_
    intro m2 rho fc2 yc' yt' yf' ye' yh' yu' yb' p1 p2
    obtain ⟨em, ht⟩ := cr_fiY hn0 hfi hyt p1 p2
    obtain ⟨⟨hm0, hmn⟩, fc', D', hTT⟩ := cr_fiT hA hwd' hfi
    subst em
    refine ⟨rfl, cr_in (L := 0) (cw := cw) (wl := cz_nu wl nw L) (g := cr_g nw L cw g) (kd := cz_nu kd nw 1) (st := cz_nu st (nw + 1) (st nw + L)) (fc := fc') (D := D') ?_⟩
    refine ⟨⟨hA, hm4, hm32, hm0, by omega, by omega⟩, ⟨pk_us, ?_, fun i hi => absurd hi (Nat.not_lt_zero i)⟩, ⟨hwsX, hwsY, hwd', ?_, ?_, ?_⟩, hTT yt' ht⟩
    · rw [pk_un (by omega)]
      exact c2
    · rw [cz_nu_n (by omega)]
      exact s1
    · rw [pk_un (by omega)]
      exact s2
    · rw [cz_nu_s]
      exact h96
theorem i_vc_subgroup {k : Nat} {u : SX} {v : SY} (I : i_Rel k u v) (hk : k + 3 ≤ 1538) : wpX_subgroup (fun r u' => wpY_subgroup (fun r' v' => r' = r ∧ i_Rel (k + 3) u' v') v) u := by
  refine cr_el (P := fun u v => wpX_subgroup (fun r u' => wpY_subgroup (fun r' v' => r' = r ∧ i_Rel (k + 3) u' v') v) u) ?_ I
  intro A n ms nw L cw wl g kd st fc D de sl cu sr sa kn tb fr pr qu sk sw od lb fm bb dp yc yx yg yk yt yf ye yh yu yb yd hC
  have hC' := hC
  obtain ⟨⟨hA, hm4, hm32, hn0, hnm, hL⟩, ⟨c1, c2, c3⟩, ⟨w1, w2, w3, s1, s2, s3⟩, hpr, tw, hyt, hwc, hb, hT⟩ := hC'
  have hn : n ≤ 32 := by omega
  have hcu : ∀ i, i < L → cu i = nI (cw i) := fun i hi => (c3 i hi).1
  have hyx : ∀ i, i < L → yx i = nI (cw i) := fun i hi => (c3 i hi).2.1
  unfold wpX_subgroup
  refine cx_store (so := 2) w1 s1 s2 s3 hL hcu (fun e => ?_) (fun ne hor => ?_) (fun ne hnw h96 sr' r1 r2 => ?_)
  · refine br_f (by decide) ?_
    unfold wpY_subgroup
    exact cy_store (so := 2) w1 w2 s1 s3 hL c1 hyx (fun _ => ⟨rfl, cr_in hC⟩) (fun ne => absurd e ne) (fun ne => absurd e ne)
  · refine br_f (by decide) ?_
    unfold wpY_subgroup
    refine cy_store (so := 2) w1 w2 s1 s3 hL c1 hyx (fun e => absurd e ne) (fun _ _ => ⟨rfl, cr_in hC⟩) (fun _ h1 h2 => ?_)
    rcases hor with h | h <;> omega
  · refine br_t rfl ?_
    have hwsX := cr_wsX (so := 2) (cw := cw) w1 s1 s2 (Or.inr rfl) (by omega) hnw h96 r1 r2
    have hwd' := cr_wdN w3 (show 0 < L by omega) hL (fun i hi => (c3 i hi).2.2)
    rw [nI_pred]
    refine cx_subX (post := fun r u' => wpY_subgroup (fun r' v' => r' = r ∧ i_Rel (k + 3) u' v') (nI A, nI ms, nI n, nI nw, yc, yx, yg, yk, yt, yf, ye, yh, yu, yb, yd)) hA hn0 hn w3 hwc tw hpr (by omega) hL (fun i hi => (c3 i hi).2.2) hwsX ?_
    intro m de' sl' tb' fr' pr' qu' sk' sw' od' lb' fm' bb' dp' hfi
    show wpY_subgroup _ _
    unfold wpY_subgroup
    refine cy_store (so := 2) w1 w2 s1 s3 hL c1 hyx (fun e => absurd e ne) (fun _ hor => absurd hor (by omega)) (fun _ _ _ yx' q1 q2 => ?_)
    have hwsY := cr_wsY (so := 2) (cw := cw) w2 (show 0 < L by omega) w3 hnw q1 q2
    have hkd : ∀ w, w < nw + 1 → cz_nu kd nw 2 w = 1 ∨ cz_nu kd nw 2 w = 2 := fun w hw => (hwsX.2 w hw).2.2.2.2.2.1
    refine cy_close hA hn0 hn hwsY hkd hwd' (cz_tw_cg hn hyt tw) ?_
    intro m2 rho fc2 yc' yt' yf' ye' yh' yu' yb' p1 p2
    obtain ⟨em, ht⟩ := cr_fiY hn0 hfi hyt p1 p2
    obtain ⟨⟨hm0, hmn⟩, fc', D', hTT⟩ := cr_fiT hA hwd' hfi
    subst em
    refine ⟨rfl, cr_in (L := 0) (cw := cw) (wl := cz_nu wl nw L) (g := cr_g nw L cw g) (kd := cz_nu kd nw 2) (st := cz_nu st (nw + 1) (st nw + L)) (fc := fc') (D := D') ?_⟩
    refine ⟨⟨hA, hm4, hm32, hm0, by omega, by omega⟩, ⟨pk_us, ?_, fun i hi => absurd hi (Nat.not_lt_zero i)⟩, ⟨hwsX, hwsY, hwd', ?_, ?_, ?_⟩, hTT yt' ht⟩
    · rw [pk_un (by omega)]
      exact c2
    · rw [cz_nu_n (by omega)]
      exact s1
    · rw [pk_un (by omega)]
      exact s2
    · rw [cz_nu_s]
      exact h96
end
section
/-! define and run -/
theorem cr_jtcg {t t' : Nat → Int32} {c x n : Nat} (h : ∀ i, i < 192 → t' i = t i) : ∀ i, i < 192 → cz_jt t' c x n i = cz_jt t c x n i := by
  intro i hi
  unfold cz_jt upd
  by_cases h1 : i = n * 6 + cz_iv x
  · rw [if_pos h1, if_pos h1]
  · rw [if_neg h1, if_neg h1]
    by_cases h2 : i = c * 6 + x
    · rw [if_pos h2, if_pos h2]
    · rw [if_neg h2, if_neg h2]
      exact h i hi
theorem i_vc_define {k : Nat} {u : SX} {v : SY} (I : i_Rel k u v) (hk : k + 3 ≤ 1538) (v1 : Int32) (v2 : Int32) : wpX_define (fun r u' => wpY_define (fun r' v' => r' = r ∧ i_Rel (k + 3) u' v') v v1 v2) u v1 v2 := by
  refine cr_el (P := fun u v => wpX_define (fun r u' => wpY_define (fun r' v' => r' = r ∧ i_Rel (k + 3) u' v') v v1 v2) u v1 v2) ?_ I
  intro A n ms nw L cw wl g kd st fc D de sl cu sr sa kn tb fr pr qu sk sw od lb fm bb dp yc yx yg yk yt yf ye yh yu yb yd hC
  have hC' := hC
  obtain ⟨⟨hA, hm4, hm32, hn0, hnm, hL⟩, hcur, ⟨w1, w2, w3, s1, s2, s3⟩, hpr, tw, hyt, hwc, hb, hT⟩ := hC'
  have hA6 := cz_A6 hA
  rcases cr_ix v1 (N := n) (by omega) with h | ⟨h1, h2, h3⟩ | ⟨c, hc, e, h1, h2, h3⟩
  · unfold wpX_define
    exact cx_isC (fun _ => br_t rfl (br_t h ⟨rfl, cr_in hC⟩)) (fun h' => absurd h h')
  · unfold wpX_define
    exact cx_isC (fun _ => br_t rfl (br_f h1 (br_t h2 ⟨rfl, cr_in hC⟩))) (fun _ h' => absurd h2 h')
  · rcases cr_ix v2 (N := A) (by omega) with g0 | ⟨g1, g2, g3⟩ | ⟨x, hx, e2, g1, g2, g3⟩
    · unfold wpX_define
      refine cx_isC (fun h' => absurd h' (by rintro (h | h); exact h1 h; exact h2 h)) (fun _ _ => br_f (by decide) ?_)
      exact cx_isL (fun _ => br_t rfl (br_f h1 (br_f h2 (br_t g0 ⟨rfl, cr_in hC⟩)))) (fun h' => absurd g0 h')
    · unfold wpX_define
      refine cx_isC (fun h' => absurd h' (by rintro (h | h); exact h1 h; exact h2 h)) (fun _ _ => br_f (by decide) ?_)
      exact cx_isL (fun _ => br_t rfl (br_f h1 (br_f h2 (br_f g1 (br_f g3 ⟨rfl, cr_in hC⟩))))) (fun _ h' => absurd g2 h')
    · subst e e2
      have c1 : (nI c * 6 + nI x).toNatClampNeg = c * 6 + x := by rw [cz_ix, nI_clamp (by omega)]
      have vv : vp_in (nI c * 6 + nI x) 192 := by rw [cz_ix]; exact vp_in_nI (by omega) (by omega)
      have hy : yt (c * 6 + x) = tb (c * 6 + x) := hyt _ (by omega)
      rcases cz_read (show n ≤ 32 by omega) tw (c := c) (x := x) (by omega) (by omega) with m1 | ⟨d, hd, r5, ee⟩
      · by_cases hlt : n < ms
        · have hkd : ∀ w, w < nw → kd w = 1 ∨ kd w = 2 := fun w hw => (w1.2 w hw).2.2.2.2.2.1
          refine cx_define (post := fun r u' => wpY_define (fun r' v' => r' = r ∧ i_Rel (k + 3) u' v') (nI A, nI ms, nI n, nI nw, yc, yx, yg, yk, yt, yf, ye, yh, yu, yb, yd) (nI c) (nI x)) hA hn0 hm32 hlt w1 w3 hwc tw hpr hc hx m1 ?_
          intro m de' sl' tb' fr' pr' qu' sk' sw' od' lb' fm' bb' dp' hfi
          refine cy_define hA hn0 hm32 hlt w2 hkd w3 (cz_tw_cg (by omega) hyt tw) hc hx (hy.trans m1) ?_
          intro m2 rho fc2 yc' yt' yf' ye' yh' yu' yb' p1 p2
          obtain ⟨em, ht⟩ := cr_fiY (by omega) hfi (cr_jtcg hyt) p1 p2
          obtain ⟨⟨hm0, hmn⟩, fc', D', hTT⟩ := cr_fiT hA w3 hfi
          subst em
          refine ⟨rfl, cr_in (L := L) (cw := cw) (wl := wl) (g := g) (kd := kd) (st := st) (fc := fc') (D := D') ?_⟩
          exact ⟨⟨hA, hm4, hm32, hm0, by omega, hL⟩, hcur, ⟨w1, w2, w3, s1, s2, s3⟩, hTT yt' ht⟩
        · unfold wpX_define
          refine cx_isC (fun h' => absurd h' (by rintro (h | h); exact h1 h; exact h2 h)) (fun _ _ => br_f (by decide) ?_)
          refine cx_isL (fun h' => absurd h' (by rintro (h | h); exact g1 h; exact g2 h)) (fun _ _ => br_f (by decide) (And.intro vv ?_))
          rw [c1, m1]
          have hge : ¬ nI n < nI ms := nI_nlt (by omega) (by omega)
          refine br_t cz_m1neg (br_f hge ?_)
          refine br_f h1 (br_f h2 (br_f g1 (br_t g3 (And.intro vv ?_))))
          rw [c1, hy, m1]
          exact br_t cz_m1neg (br_f hge ⟨rfl, cr_in hC⟩)
      · unfold wpX_define
        refine cx_isC (fun h' => absurd h' (by rintro (h | h); exact h1 h; exact h2 h)) (fun _ _ => br_f (by decide) ?_)
        refine cx_isL (fun h' => absurd h' (by rintro (h | h); exact g1 h; exact g2 h)) (fun _ _ => br_f (by decide) (And.intro vv ?_))
        rw [c1, r5]
        have hge : ¬ nI d < 0 := nI_pos (by omega)
        refine br_f hge ?_
        refine br_f h1 (br_f h2 (br_f g1 (br_t g3 (And.intro vv ?_))))
        rw [c1, hy, r5]
        exact br_f hge ⟨rfl, cr_in hC⟩
section
variable {al mo cl wo nn de to sl : Int32} {cu sr sa kn tb fr pr qu sk sw od lb fm bb dp : Nat → Int32}
variable {yl ym yn yw yc : Int32} {yx yg yk yt yf ye yh yu yb yd : Nat → Int32}
variable {A n nw L ms lim i : Nat} {wl : Nat → Nat} {g : Nat → Nat → Nat} {kd st cw : Nat → Nat}
theorem cy_run64 (hA : cz_A A) (hn : n ≤ 32) (tw : cz_tw A n tb) (hyt : ∀ i, i < 192 → yt i = tb i) {c0 x0 r : Nat} (hm : cr_ms A n tb c0 x0) (hr : r < n) {x2 x3 : Int32} {post : Int32 → SY → Prop} {J23 : Int32 → Int32 → Int32 → Int32 → Int32 → Int32 → (Nat → Int32) → (Nat → Int32) → (Nat → Int32) → (Nat → Int32) → (Nat → Int32) → (Nat → Int32) → (Nat → Int32) → (Nat → Int32) → (Nat → Int32) → (Nat → Int32) → Prop} {J51 : Int32 → Int32 → Int32 → Prop}
    (hJ : ∀ x4 x5, (r * 6 ≤ c0 * 6 + x0 → x4 = nI c0 ∧ x5 = nI x0) → J51 x4 x5 (cy_d7 r)) :
    ∀ N z x4 x5, z < N → z ≤ A → (r * 6 + z ≤ c0 * 6 + x0 → x4 = nI c0 ∧ x5 = nI x0) → wY_run_64 post J23 J51 x2 x3 (nI r) yl ym yn yw yc yx yg yk yt yf ye yh yu yb yd N x4 x5 (cy_d7 z) := by
  have hA6 := cz_A6 hA
  obtain ⟨m1, m2, m3, m4⟩ := hm
  intro N
  induction N with
  | zero => exact fun z x4 x5 h => absurd h (Nat.not_lt_zero _)
  | succ N ih =>
    intro z x4 x5 h1 h2 h3
    cases z with
    | zero =>
      rw [cy_d70]
      exact br_t cz_m1neg (nm_r (cy_d7m r) (hJ x4 x5 h3))
    | succ z =>
      rw [cy_d7s]
      have c1 : (nI r * 6 + nI z).toNatClampNeg = r * 6 + z := by rw [cz_ix, nI_clamp (by omega)]
      have v1 : vp_in (nI r * 6 + nI z) 192 := by rw [cz_ix]; exact vp_in_nI (by omega) (by omega)
      refine br_f (nI_pos (by omega)) (And.intro v1 ?_)
      rw [c1, hyt _ (by omega)]
      rcases cz_read hn tw (c := r) (x := z) (by omega) (by omega) with k1 | ⟨d, hd, r5, ee⟩
      · rw [k1]
        refine br_f cz_m1n (nm_r (cy_d7m z) (ih z _ _ (by omega) (by omega) (fun hle => ?_)))
        by_cases e : r * 6 + z = c0 * 6 + x0
        · rw [show r = c0 by omega, show z = x0 by omega]
          exact ⟨rfl, rfl⟩
        · exact absurd k1 (m4 r z hr (by omega) (by omega))
      · rw [r5]
        refine br_t (nI_pos' (by omega)) (nm_r (cy_d7m z) (ih z x4 x5 (by omega) (by omega) (fun hle => ?_)))
        by_cases e : r * 6 + z = c0 * 6 + x0
        · rw [e, m3] at r5
          exact absurd r5.symm (cz_m1 (by omega))
        · exact h3 (by omega)
theorem cy_run51 (hA : cz_A A) (hn : n ≤ 32) (tw : cz_tw A n tb) (hyt : ∀ i, i < 192 → yt i = tb i) {c0 x0 : Nat} (hm : cr_ms A n tb c0 x0) {x2 : Int32} {post : Int32 → SY → Prop} {J23 : Int32 → Int32 → Int32 → Int32 → Int32 → Int32 → (Nat → Int32) → (Nat → Int32) → (Nat → Int32) → (Nat → Int32) → (Nat → Int32) → (Nat → Int32) → (Nat → Int32) → (Nat → Int32) → (Nat → Int32) → (Nat → Int32) → Prop}
    (hJ : wpY_define (fun _ u => match u with | (yl, ym, yn, yw, yc, yx, yg, yk, yt, yf, ye, yh, yu, yb, yd) => J23 (nI (i + 1)) yl ym yn yw yc yx yg yk yt yf ye yh yu yb yd) (nI A, ym, yn, yw, yc, yx, yg, yk, yt, yf, ye, yh, yu, yb, yd) (nI c0) (nI x0)) :
    ∀ N y x4 x5, y < N → y ≤ n → (y * 6 ≤ c0 * 6 + x0 → x4 = nI c0 ∧ x5 = nI x0) → wY_run_51 post J23 x2 (nI i) (nI A) ym yn yw yc yx yg yk yt yf ye yh yu yb yd N x4 x5 (cy_d7 y) := by
  have hA6 := cz_A6 hA
  have hA1 : 1 ≤ A := by unfold cz_A at hA; omega
  have hx0 := hm.2.1
  intro N
  induction N with
  | zero => exact fun y x4 x5 h => absurd h (Nat.not_lt_zero _)
  | succ N ih =>
    intro y x4 x5 h1 h2 h3
    cases y with
    | zero =>
      rw [cy_d70]
      obtain ⟨e1, e2⟩ := h3 (by omega)
      subst e1 e2
      refine br_t cz_m1neg ?_
      have e : (fun (r_23 : Int32) (u : SY) => match u with | (yl, ym, yn, yw, yc, yx, yg, yk, yt, yf, ye, yh, yu, yb, yd) => ∀ x3_39 : Int32, x3_39 = nI i + 1 → J23 x3_39 yl ym yn yw yc yx yg yk yt yf ye yh yu yb yd) = (fun (_ : Int32) (u : SY) => match u with | (yl, ym, yn, yw, yc, yx, yg, yk, yt, yf, ye, yh, yu, yb, yd) => J23 (nI (i + 1)) yl ym yn yw yc yx yg yk yt yf ye yh yu yb yd) := by
        funext r u
        obtain ⟨yl, ym, yn, yw, yc, yx, yg, yk, yt, yf, ye, yh, yu, yb, yd⟩ := u
        refine propext ⟨fun h => h _ (nI_1 i).symm, fun h => nm_r (nI_1 i) h⟩
      exact e ▸ hJ
    | succ y =>
      rw [cy_d7s]
      have e1 : nI A - 1 = cy_d7 A := by
        rw [show (1 : Int32) = nI 1 from rfl, pk_sub hA1]
        unfold cy_d7
        rw [if_neg (by omega)]
      refine br_f (nI_pos (by omega)) (nm_r e1 ⟨A + 1, cy_run64 hA hn tw hyt hm (by omega) ?_ (A + 1) A x4 x5 (by omega) (Nat.le_refl A) (fun hle => h3 (by omega))⟩)
      intro x4' x5' hh
      exact ih y x4' x5' (by omega) (by omega) hh
/-- one turn of the reference's loop -/
theorem cy_runS (hA : cz_A A) (hn0 : 0 < n) (hms : ms ≤ 32) (hnm : n < ms) (hws : cy_ws nw wl g kd yx yg yk) (hkd : ∀ w, w < nw → kd w = 1 ∨ kd w = 2) (hwd : cz_wd A nw wl g) (tw : cz_tw A n tb) (hyt : ∀ i, i < 192 → yt i = tb i)
    {c0 x0 m : Nat} {tb' pr' fm' bb' dp' : Nat → Int32} (hm : cr_ms A n tb c0 x0) (hfi : cx_fi A (n + 1) nw wl g kd (cz_jt tb c0 x0 n) m tb' pr' fm' bb' dp') (hlim : lim ≤ 32) (hi : i < lim) {N : Nat} {post : Int32 → SY → Prop}
    (hp : ∀ yc yt yf ye yh yu yb, (∀ i, i < 192 → yt i = tb' i) → wY_run_23 post (nI lim) N (nI (i + 1)) (nI A) (nI ms) (nI m) (nI nw) yc yx yg yk yt yf ye yh yu yb yd) :
    wY_run_23 post (nI lim) (N + 1) (nI i) (nI A) (nI ms) (nI n) (nI nw) yc yx yg yk yt yf ye yh yu yb yd := by
  have hn : n ≤ 32 := by omega
  have hA6 := cz_A6 hA
  have hc0 := hm.1
  have hx0 := hm.2.1
  refine br_f (nI_ge hi (by omega)) ?_
  refine cy_stat hA hn tw hyt hms (fun hf => absurd hf (cr_ms_fu hm)) (fun _ _ _ => ⟨fun e => absurd e (by omega), fun _ => br_t rfl ?_⟩)
  have e1 : nI n - 1 = cy_d7 n := by
    rw [show (1 : Int32) = nI 1 from rfl, pk_sub (by omega)]
    unfold cy_d7
    rw [if_neg (by omega)]
  refine nm_r e1 ⟨n + 1, cy_run51 hA hn tw hyt hm ?_ (n + 1) n 0 0 (by omega) (Nat.le_refl n) (fun hle => absurd hle (by omega))⟩
  refine cy_define hA hn0 hms hnm hws hkd hwd (cz_tw_cg hn hyt tw) hc0 hx0 ((hyt _ (by omega)).trans hm.2.2.1) ?_
  intro m2 rho fc2 yc' yt' yf' ye' yh' yu' yb' p1 p2
  obtain ⟨em, ht⟩ := cr_fiY (by omega) hfi (cr_jtcg hyt) p1 p2
  subst em
  exact hp _ _ _ _ _ _ _ ht
/-- the component's loop; the reference's is carried along -/
theorem cr_run (hA : cz_A A) (hms : ms ≤ 32) (w1 : cx_ws nw wl g kd st sa sr kn) (w2 : cy_ws nw wl g kd yx yg yk) (w3 : cz_wd A nw wl g) (hlim : lim ≤ 32) {Y0 : (Int32 → SY → Prop) → Prop} {Ph : Int32 → SX → Prop}
    (hend : ∀ i n fc D de sl tb fr pr qu sk sw od lb fm bb dp, i ≤ lim → 0 < n → n ≤ ms → (∀ yt, (∀ i, i < 192 → yt i = tb i) → cr_T A n nw wl g kd fc D tb pr fm bb dp yt) → (i = lim ∨ cr_fu A n tb ∨ n = ms) →
      (∀ post : Int32 → SY → Prop, (∀ yc yt yf ye yh yu yb, (∀ i, i < 192 → yt i = tb i) → wY_run_23 post (nI lim) (lim - i + 1) (nI i) (nI A) (nI ms) (nI n) (nI nw) yc yx yg yk yt yf ye yh yu yb yd) → Y0 post) →
      Ph (nI i) (nI A, nI ms, cl, nI nw, nI n, de, 0, sl, cu, sr, sa, kn, tb, fr, pr, qu, sk, sw, od, lb, fm, bb, dp)) :
    ∀ N i n fc D de sl tb fr pr qu sk sw od lb fm bb dp, lim - i < N → i ≤ lim → 0 < n → n ≤ ms → (∀ yt, (∀ i, i < 192 → yt i = tb i) → cr_T A n nw wl g kd fc D tb pr fm bb dp yt) →
      (∀ post : Int32 → SY → Prop, (∀ yc yt yf ye yh yu yb, (∀ i, i < 192 → yt i = tb i) → wY_run_23 post (nI lim) (lim - i + 1) (nI i) (nI A) (nI ms) (nI n) (nI nw) yc yx yg yk yt yf ye yh yu yb yd) → Y0 post) →
      wX_run_18 Ph (nI lim) N (nI i) (nI i) (nI A) (nI ms) cl (nI nw) (nI n) de 0 sl cu sr sa kn tb fr pr qu sk sw od lb fm bb dp := by
  have hA6 := cz_A6 hA
  have hkd : ∀ w, w < nw → kd w = 1 ∨ kd w = 2 := fun w hw => (w1.2 w hw).2.2.2.2.2.1
  intro N
  induction N with
  | zero => exact fun i n fc D de sl tb fr pr qu sk sw od lb fm bb dp h => absurd h (Nat.not_lt_zero _)
  | succ N ih =>
    intro i n fc D de sl tb fr pr qu sk sw od lb fm bb dp h1 h2 hn0 hnm hT hY
    obtain ⟨hpr, tw, _, hwc, hb, hTd⟩ := hT tb (fun _ _ => rfl)
    have hn : n ≤ 32 := by omega
    refine pk_le lim i (fun hle => ?_) (fun hlt => ?_)
    · exact hend i n fc D de sl tb fr pr qu sk sw od lb fm bb dp h2 hn0 hnm hT (Or.inl (by omega)) hY
    · refine cx_fM hA hn tw (fun hf => ?_) (fun c x hx => ?_)
      · exact br_t cz_m1neg (hend i n fc D de sl tb fr pr qu sk sw od lb fm bb dp h2 hn0 hnm hT (Or.inr (Or.inl hf)) hY)
      · have hc := hx.1
        have hxA := hx.2.1
        refine br_f (nI_pos (by omega)) ?_
        refine pk_lt n ms (fun hlt2 => ?_) (fun hge => ?_)
        · have d6 : ¬ (6 : Int32) = 0 := by decide
          have e3 : nI (c * 6 + x) / 6 = nI c := by
            rw [show (6 : Int32) = nI 6 from rfl, pk_div (by omega) (by omega) (by omega)]
            exact congrArg nI (by omega)
          have e4 : nI (c * 6 + x) - nI (c * 6 + x) / 6 * 6 = nI x := by
            rw [show (6 : Int32) = nI 6 from rfl, pk_rem (by omega) (by omega) (by omega)]
            exact congrArg nI (by omega)
          have e5 : nI (c * 6 + x) - nI c * 6 = nI x := by rw [← e3]; exact e4
          refine And.intro d6 (And.intro d6 ?_)
          rw [e3, e5]
          refine cx_define hA hn0 hms hlt2 w1 w3 hwc tw hpr hc hxA hx.2.2.1 ?_
          intro m de' sl' tb' fr' pr' qu' sk' sw' od' lb' fm' bb' dp' hfi
          obtain ⟨⟨hm0, hmn⟩, fc', D', hTT⟩ := cr_fiT hA w3 hfi
          refine nm_r (nI_1 i) (nm_r (nI_1 i) (ih (i + 1) m fc' D' _ _ tb' _ pr' _ _ _ _ _ fm' bb' dp' (by omega) (by omega) hm0 (by omega) hTT (fun post hpost => hY post (fun yc yt yf ye yh yu yb hyt => ?_))))
          have e6 : lim - i + 1 = (lim - (i + 1) + 1) + 1 := by omega
          rw [e6]
          exact cy_runS hA hn0 hms hlt2 w2 hkd w3 tw hyt hx hfi hlim hlt (fun yc yt yf ye yh yu yb hyt => hpost yc yt yf ye yh yu yb hyt)
        · exact hend i n fc D de sl tb fr pr qu sk sw od lb fm bb dp h2 hn0 hnm hT (Or.inr (Or.inr (by omega))) hY
end
theorem i_vc_run {k : Nat} {u : SX} {v : SY} (I : i_Rel k u v) (hk : k + 3 ≤ 1538) (v1 : Int32) : wpX_run (fun r u' => wpY_run (fun r' v' => r' = r ∧ i_Rel (k + 3) u' v') v v1) u v1 := by
  refine cr_el (P := fun u v => wpX_run (fun r u' => wpY_run (fun r' v' => r' = r ∧ i_Rel (k + 3) u' v') v v1) u v1) ?_ I
  intro A n ms nw L cw wl g kd st fc D de sl cu sr sa kn tb fr pr qu sk sw od lb fm bb dp yc yx yg yk yt yf ye yh yu yb yd hC
  have hC' := hC
  obtain ⟨⟨hA, hm4, hm32, hn0, hnm, hL⟩, hcur, ⟨w1, w2, w3, s1, s2, s3⟩, hpr, tw, hyt, hwc, hb, hT⟩ := hC'
  have hlim : ∃ lim, lim ≤ 32 ∧ (∀ post : Int32 → SY → Prop, wY_run_23 post (nI lim) (lim - 0 + 1) (nI 0) (nI A) (nI ms) (nI n) (nI nw) yc yx yg yk yt yf ye yh yu yb yd → wpY_run post (nI A, nI ms, nI n, nI nw, yc, yx, yg, yk, yt, yf, ye, yh, yu, yb, yd) v1) ∧ (∀ post : Int32 → SX → Prop, wX_run_18 post (nI lim) (lim + 1) (nI 0) (nI 0) (nI A) (nI ms) (nI L) (nI nw) (nI n) de 0 sl cu sr sa kn tb fr pr qu sk sw od lb fm bb dp → wpX_run post (nI A, nI ms, nI L, nI nw, nI n, de, 0, sl, cu, sr, sa, kn, tb, fr, pr, qu, sk, sw, od, lb, fm, bb, dp) v1) := by
    by_cases h0 : v1 < 0
    · have h0' : ¬ 0 ≤ v1 := Int32.not_le.mpr h0
      have hle0 : v1 ≤ 0 := Int32.le_of_lt h0
      have hle : v1 ≤ 32 := Int32.le_trans hle0 (by decide)
      refine ⟨0, by omega, fun post hp => br_f h0' ⟨1, hp⟩, fun post hp => br_t hle ⟨1, ?_⟩⟩
      exact br_t hle0 (hp.1 (Int32.le_refl _))
    · obtain ⟨j, hj, e⟩ := nI_of h0
      subst e
      by_cases h32 : j ≤ 32
      · refine ⟨j, h32, fun post hp => br_t (nI_pos' hj) (br_t (nI_le (b := 32) h32 (by omega)) ⟨_, hp⟩), fun post hp => br_t (nI_le (b := 32) h32 (by omega)) ⟨_, hp⟩⟩
      · refine ⟨32, by omega, fun post hp => br_t (nI_pos' hj) (br_f (nI_ge (a := 32) (by omega) hj) ⟨_, hp⟩), fun post hp => br_f (nI_ge (a := 32) (by omega) hj) ⟨_, hp⟩⟩
  obtain ⟨lim, hl32, hYl, hXl⟩ := hlim
  refine hXl _ (cr_run (Y0 := fun post => wpY_run post (nI A, nI ms, nI n, nI nw, yc, yx, yg, yk, yt, yf, ye, yh, yu, yb, yd) v1) hA hm32 w1 w2 w3 hl32 ?_ (lim + 1) 0 n fc D de sl tb fr pr qu sk sw od lb fm bb dp (by omega) (by omega) hn0 hnm (fun yt hy => ⟨hpr, tw, hy, hwc, hb, hT⟩) (fun post hpost => hYl post (hpost yc yt yf ye yh yu yb hyt)))
  intro i n' fc' D' de' sl' tb' fr' pr' qu' sk' sw' od' lb' fm' bb' dp' hi hn0' hnm' hT' hend hY
  refine hY _ (fun yc' yt' yf' ye' yh' yu' yb' hyt' => ?_)
  have hfin : i_Rel (k + 3) (nI A, nI ms, nI L, nI nw, nI n', de', 0, sl', cu, sr, sa, kn, tb', fr', pr', qu', sk', sw', od', lb', fm', bb', dp') (nI A, nI ms, nI n', nI nw, yc', yx, yg, yk, yt', yf', ye', yh', yu', yb', yd) :=
    cr_in (L := L) (cw := cw) (wl := wl) (g := g) (kd := kd) (st := st) (fc := fc') (D := D') ⟨⟨hA, hm4, hm32, hn0', hnm', hL⟩, hcur, ⟨w1, w2, w3, s1, s2, s3⟩, hT' yt' hyt'⟩
  refine pk_le lim i (fun hle => ?_) (fun hlt => ?_)
  · rw [show lim = i by omega]
    exact ⟨rfl, hfin⟩
  · have tw' := (hT' tb' (fun _ _ => rfl)).2.1
    refine cy_stat hA (by omega) tw' hyt' hm32 (fun _ => br_f (by decide) ⟨rfl, hfin⟩) (fun c x hx => ⟨fun _ => br_f (by decide) ⟨rfl, hfin⟩, fun ne => ?_⟩)
    rcases hend with h | h | h
    · omega
    · exact absurd h (cr_ms_fu hx)
    · exact absurd h ne
end
