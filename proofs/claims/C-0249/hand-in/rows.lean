section
/-! rows of the kit, pasted (starting text) -/
theorem pk_us {f : Nat → Int32} {k : Nat} {x : Int32} : upd f k x k = x := if_pos rfl
theorem pk_un {f : Nat → Int32} {k j : Nat} {x : Int32} (h : j ≠ k) : upd f k x j = f j := if_neg h
theorem pk_sub {a b : Nat} (h : b ≤ a) : nI a - nI b = nI (a - b) := by
  obtain ⟨c, rfl⟩ : ∃ c, a = c + b := ⟨a - b, by omega⟩
  rw [← nI_add, Int32.add_sub_cancel, Nat.add_sub_cancel]
theorem pk_m1 (n : Nat) : nI (n + 1) + (-1) = nI n := by
  rw [← nI_1, Int32.add_assoc, show (1 : Int32) + (-1) = 0 from rfl, Int32.add_zero]
theorem pk_mul (a b : Nat) : nI a * nI b = nI (a * b) := (Int32.ofNat_mul a b).symm
theorem pk_div {a d : Nat} (ha : a < 2 ^ 31) (h0 : 0 < d) (hd : d < 2 ^ 31) : nI a / nI d = nI (a / d) := by
  apply Int32.toInt_inj.mp
  rw [lg_idiv_nonneg (by rw [nI_toInt ha]; omega) (by rw [nI_toInt hd]; omega), nI_toInt ha, nI_toInt hd, nI_toInt (Nat.lt_of_le_of_lt (Nat.div_le_self a d) ha)]
  first | rfl | exact (Int.natCast_ediv _ _).symm
theorem pk_rem {a d : Nat} (ha : a < 2 ^ 31) (h0 : 0 < d) (hd : d < 2 ^ 31) : nI a - nI a / nI d * nI d = nI (a % d) := by
  rw [pk_div ha h0 hd, pk_mul, pk_sub (Nat.div_mul_le_self a d)]
  exact congrArg nI (by have := Nat.div_add_mod' a d; omega)
theorem pk_ix (x : Int32) {n : Nat} (hn : n < 2 ^ 31) : x < 0 ∨ nI n ≤ x ∨ ∃ j : Nat, j < n ∧ x = nI j := by
  by_cases h : x < 0
  · exact Or.inl h
  · obtain ⟨j, hj, rfl⟩ := nI_of h
    by_cases h2 : j < n
    · exact Or.inr (Or.inr ⟨j, h2, rfl⟩)
    · exact Or.inr (Or.inl (nI_le (by omega) hj))
theorem pk_le {x y : Int32} {A B : Prop} (a b : Nat) (f : a ≤ b → A) (g : b < a → B) (hx : x = nI a := by rfl) (hy : y = nI b := by rfl) (ha : a < 2 ^ 31 := by omega) (hb : b < 2 ^ 31 := by omega) : (x ≤ y → A) ∧ (¬ x ≤ y → B) := by
  subst hx hy
  rw [nI_leI ha hb]
  exact ⟨f, fun z => g (by omega)⟩
theorem pk_lt {x y : Int32} {A B : Prop} (a b : Nat) (f : a < b → A) (g : b ≤ a → B) (hx : x = nI a := by rfl) (hy : y = nI b := by rfl) (ha : a < 2 ^ 31 := by omega) (hb : b < 2 ^ 31 := by omega) : (x < y → A) ∧ (¬ x < y → B) := by
  subst hx hy
  rw [nI_ltI ha hb]
  exact ⟨f, fun z => g (by omega)⟩
theorem pk_eq {x y : Int32} {A B : Prop} (a b : Nat) (f : a = b → A) (g : a ≠ b → B) (hx : x = nI a := by rfl) (hy : y = nI b := by rfl) (ha : a < 2 ^ 31 := by omega) (hb : b < 2 ^ 31 := by omega) : (x = y → A) ∧ (¬ x = y → B) := by
  subst hx hy
  rw [nI_eq ha hb]
  exact ⟨f, g⟩
theorem pk_in {x : Int32} (n N : Nat) (h : n < N) (hx : x = nI n := by rfl) (hN : N < 2 ^ 31 := by omega) : vp_in x N := by
  subst hx
  exact vp_in_nI h hN
theorem pk_cl {x : Int32} (n : Nat) (hx : x = nI n := by rfl) (h : n < 2 ^ 31 := by omega) : x.toNatClampNeg = n := by
  subst hx
  exact nI_clamp h
theorem pk_tn {n : Nat} (h : n < 2 ^ 32) : (nI n).toBitVec.toNat = n := Nat.mod_eq_of_lt h
theorem pk_shl (a s : Int32) (k : Nat) (hs : (s.toBitVec.smod 32).toNat = k) : (a <<< s).toBitVec.toNat = a.toBitVec.toNat * 2 ^ k % 2 ^ 32 := by
  show (a.toBitVec <<< (s.toBitVec.smod 32).toNat).toNat = _
  rw [hs, BitVec.toNat_shiftLeft, Nat.shiftLeft_eq]
theorem pk_shlN {n : Nat} (s : Int32) (k : Nat) (hs : (s.toBitVec.smod 32).toNat = k) (h : n * 2 ^ k < 2 ^ 32) : nI n <<< s = nI (n * 2 ^ k) := by
  apply Int32.toBitVec_inj.mp
  apply BitVec.eq_of_toNat_eq
  have hn : n < 2 ^ 32 := Nat.lt_of_le_of_lt (Nat.le_mul_of_pos_right n (Nat.two_pow_pos k)) h
  rw [pk_shl _ _ k hs, pk_tn hn, pk_tn h, Nat.mod_eq_of_lt h]
theorem pk_shr (a s : Int32) (k : Nat) (hs : (s.toBitVec.smod 32).toNat = k) : (a >>> s).toInt = a.toInt >>> k := by
  show (a.toBitVec.sshiftRight (s.toBitVec.smod 32).toNat).toInt = _
  rw [hs, BitVec.toInt_sshiftRight]
  rfl
theorem pk_shrN {n : Nat} (h : n < 2 ^ 31) (s : Int32) (k : Nat) (hs : (s.toBitVec.smod 32).toNat = k) : nI n >>> s = nI (n / 2 ^ k) := by
  apply Int32.toInt_inj.mp
  have h2 : n / 2 ^ k ≤ n := Nat.div_le_self _ _
  rw [pk_shr _ _ k hs, nI_toInt h, nI_toInt (by omega), Int.shiftRight_eq_div_pow]
  rfl
theorem s_l : ∀ n, n < 32 → ((nI n &&& 31).toBitVec.smod 32).toNat = n := by decide +kernel
theorem nx_and (a b : Nat) : nI a &&& nI b = nI (a &&& b) := by
  apply Int32.toBitVec_inj.1
  show BitVec.ofNat 32 a &&& BitVec.ofNat 32 b = BitVec.ofNat 32 (a &&& b)
  apply BitVec.eq_of_getLsbD_eq
  intro i hi
  simp [hi]
theorem nx_xor (a b : Nat) : nI a ^^^ nI b = nI (a ^^^ b) := by
  apply Int32.toBitVec_inj.1
  show BitVec.ofNat 32 a ^^^ BitVec.ofNat 32 b = BitVec.ofNat 32 (a ^^^ b)
  apply BitVec.eq_of_getLsbD_eq
  intro i hi
  simp [hi]
end
section
/-! sets as naturals: difference, one bit, and their Int32 forms -/
def mb_d (a b : Nat) : Nat := a ^^^ (a &&& b)
theorem mb_dt (a b i : Nat) : (mb_d a b).testBit i = (a.testBit i && !b.testBit i) := by
  unfold mb_d
  rw [Nat.testBit_xor, Nat.testBit_and]
  cases a.testBit i <;> cases b.testBit i <;> rfl
theorem mb_dlt {a b m : Nat} (h : a < 2 ^ m) : mb_d a b < 2 ^ m :=
  Nat.xor_lt_two_pow h (Nat.lt_of_le_of_lt Nat.and_le_left h)
theorem mb_sh : ∀ v, v < 13 → (1 : Int32) <<< (nI v &&& 31) = nI (2 ^ v) := by decide +kernel
theorem mb_full : ∀ v, v < 13 → nI (2 ^ v) - 1 = nI (2 ^ v - 1) := by decide +kernel
theorem mb_or (a b : Nat) : nI a ||| nI b = nI (a ||| b) := by
  apply Int32.toBitVec_inj.1
  show BitVec.ofNat 32 a ||| BitVec.ofNat 32 b = BitVec.ofNat 32 (a ||| b)
  apply BitVec.eq_of_getLsbD_eq
  intro i hi
  simp [hi]
theorem mb_dif (a b : Nat) : nI a &&& (nI b ^^^ (-1)) = nI (mb_d a b) := by
  apply Int32.toBitVec_inj.1
  show BitVec.ofNat 32 a &&& (BitVec.ofNat 32 b ^^^ BitVec.allOnes 32) = BitVec.ofNat 32 (mb_d a b)
  apply BitVec.eq_of_getLsbD_eq
  intro i hi
  rw [BitVec.getLsbD_and, BitVec.getLsbD_xor, BitVec.getLsbD_ofNat, BitVec.getLsbD_ofNat, BitVec.getLsbD_ofNat, mb_dt, BitVec.getLsbD_allOnes]
  simp [hi]
theorem mb_bit {a v : Nat} (ha : a < 2 ^ 31) (hv : v < 31) : (nI a >>> (nI v &&& 31)) &&& 1 = nI (if a.testBit v = true then 1 else 0) := by
  rw [pk_shrN ha _ v (s_l v (by omega))]
  show nI (a / 2 ^ v) &&& nI 1 = _
  rw [nx_and, Nat.and_one_is_mod, Nat.testBit_eq_decide_div_mod_eq]
  apply congrArg nI
  generalize a / 2 ^ v = z
  by_cases h : z % 2 = 1
  · simp [h]
  · simp [h]; omega
theorem mb_bit1 {a v : Nat} (ha : a < 2 ^ 31) (hv : v < 31) : ((nI a >>> (nI v &&& 31)) &&& 1) = 1 ↔ a.testBit v = true := by
  rw [mb_bit ha hv]
  cases a.testBit v
  · exact ⟨fun h => absurd h (by decide), fun h => absurd h (by decide)⟩
  · exact ⟨fun _ => rfl, fun _ => rfl⟩
theorem mb_n0 {a : Nat} (h : a < 2 ^ 31) : nI a = 0 ↔ a = 0 := by
  rw [← nI_0, nI_eq h (by omega)]
theorem mb_a0 {a b : Nat} : a &&& b = 0 ↔ ∀ i, a.testBit i = true → b.testBit i = false := by
  constructor
  · intro h i ha
    have := Nat.testBit_and a b i
    rw [h, Nat.zero_testBit, ha] at this
    simpa using this.symm
  · intro h
    apply Nat.eq_of_testBit_eq
    intro i
    rw [Nat.testBit_and, Nat.zero_testBit]
    cases ha : a.testBit i
    · rfl
    · rw [h i ha]; rfl
theorem mb_a2 {a v : Nat} : a &&& 2 ^ v = 0 ↔ a.testBit v = false := by
  rw [mb_a0]
  constructor
  · intro h
    cases ha : a.testBit v
    · rfl
    · have := h v ha
      rw [Nat.testBit_two_pow_self] at this
      exact absurd this (by decide)
  · intro h i hi
    by_cases e : v = i
    · subst e; rw [h] at hi; exact absurd hi (by decide)
    · exact Nat.testBit_two_pow_of_ne e
theorem mb_and2 {a v : Nat} (ha : a < 2 ^ 31) : (nI a &&& nI (2 ^ v)) = 0 ↔ a.testBit v = false := by
  rw [nx_and, mb_n0 (Nat.lt_of_le_of_lt Nat.and_le_left ha), mb_a2]
theorem mb_and0 {a b : Nat} (ha : a < 2 ^ 31) : (nI a &&& nI b) = 0 ↔ a &&& b = 0 := by
  rw [nx_and, mb_n0 (Nat.lt_of_le_of_lt Nat.and_le_left ha)]
theorem mb_p12 {n : Nat} (h : n ≤ 12) : 2 ^ n ≤ 4096 := Nat.le_trans (Nat.pow_le_pow_right (by decide) h) (by decide)
theorem mb_o2t (a v i : Nat) : (a ||| 2 ^ v).testBit i = (a.testBit i || decide (v = i)) := by
  rw [Nat.testBit_or, Nat.testBit_two_pow]
theorem mb_hi {a v i : Nat} (h : a < 2 ^ v) (hi : v ≤ i) : a.testBit i = false :=
  Nat.testBit_lt_two_pow (Nat.lt_of_lt_of_le h (Nat.pow_le_pow_right (by decide) hi))
theorem mb_tl {a v i : Nat} (h : a < 2 ^ v) (hi : a.testBit i = true) : i < v := by
  rcases Nat.lt_or_ge i v with z | z
  · exact z
  · rw [mb_hi h z] at hi; exact absurd hi (by decide)
theorem mb_bf {x : Bool} (h : ¬ x = true) : x = false := by cases x; rfl; exact absurd rfl h
theorem mb_bt {x : Bool} (h : ¬ x = false) : x = true := by cases x; exact absurd rfl h; rfl
/-- Int32 order of naturals against any Int32 -/
theorem mb_ltI {w : Nat} {b : Int32} (hw : w < 2 ^ 31) : nI w < b ↔ (w : Int) < b.toInt := by
  rw [Int32.lt_iff_toInt_lt, nI_toInt hw]
end
section
/-! the problem: n, rows, must, must not, gains; layers, feasible prefixes, values, what a node offers -/
abbrev mp_B : Type := Nat × (Nat → Nat) × Nat × Nat × (Nat → Nat)
def mp_n (p : mp_B) : Nat := p.1
def mp_N (p : mp_B) : Nat → Nat := p.2.1
def mp_I (p : mp_B) : Nat := p.2.2.1
def mp_O (p : mp_B) : Nat := p.2.2.2.1
def mp_g (p : mp_B) : Nat → Nat := p.2.2.2.2
def mp_op (p : mp_B) : Nat → Nat → Nat
  | 0, _ => 2 ^ mp_n p - 1
  | v + 1, s => if s.testBit v = true then mb_d (mb_d (mp_op p v s) (2 ^ v)) (mp_N p v) else mb_d (mp_op p v s) (2 ^ v)
def mp_fe (p : mp_B) : Nat → Nat → Prop
  | 0, _ => True
  | v + 1, s => mp_fe p v s ∧ ((s.testBit v = true ∧ (mp_op p v s).testBit v = true ∧ (mp_O p).testBit v = false) ∨ (s.testBit v = false ∧ (mp_I p).testBit v = false))
def mp_v (g : Nat → Nat) : Nat → Nat → Nat
  | 0, _ => 0
  | v + 1, s => mp_v g v s + (if s.testBit v = true then g v else 0)
def mp_of (p : mp_B) : Nat → Nat → Nat → Nat → Nat → Prop
  | 0, _, _, w, x => x ≤ w
  | k + 1, v, o, w, x => ((mp_I p).testBit v = false ∧ mp_of p k (v + 1) (mb_d o (2 ^ v)) w x) ∨
      (o.testBit v = true ∧ (mp_O p).testBit v = false ∧ mp_of p k (v + 1) (mb_d (mb_d o (2 ^ v)) (mp_N p v)) (w + mp_g p v) x)
theorem mp_opc (p : mp_B) {s t : Nat} : ∀ v, (∀ u, u < v → s.testBit u = t.testBit u) → mp_op p v s = mp_op p v t
  | 0, _ => rfl
  | v + 1, h => by
    unfold mp_op
    rw [mp_opc p v (fun u hu => h u (by omega)), h v (by omega)]
theorem mp_fec (p : mp_B) {s t : Nat} : ∀ v, (∀ u, u < v → s.testBit u = t.testBit u) → (mp_fe p v s ↔ mp_fe p v t)
  | 0, _ => Iff.rfl
  | v + 1, h => by
    unfold mp_fe
    rw [mp_fec p v (fun u hu => h u (by omega)), mp_opc p v (fun u hu => h u (by omega)), h v (by omega)]
theorem mp_vc (g : Nat → Nat) {s t : Nat} : ∀ v, (∀ u, u < v → s.testBit u = t.testBit u) → mp_v g v s = mp_v g v t
  | 0, _ => rfl
  | v + 1, h => by
    unfold mp_v
    rw [mp_vc g v (fun u hu => h u (by omega)), h v (by omega)]
theorem mp_op1 (p : mp_B) {v s : Nat} (h : s.testBit v = true) : mp_op p (v + 1) s = mb_d (mb_d (mp_op p v s) (2 ^ v)) (mp_N p v) := by
  rw [mp_op, if_pos h]
theorem mp_op0 (p : mp_B) {v s : Nat} (h : s.testBit v = false) : mp_op p (v + 1) s = mb_d (mp_op p v s) (2 ^ v) := by
  rw [mp_op, if_neg (by rw [h]; decide)]
theorem mp_v1 (g : Nat → Nat) {v s : Nat} (h : s.testBit v = true) : mp_v g (v + 1) s = mp_v g v s + g v := by
  rw [mp_v, if_pos h]
theorem mp_v0 (g : Nat → Nat) {v s : Nat} (h : s.testBit v = false) : mp_v g (v + 1) s = mp_v g v s := by
  rw [mp_v, if_neg (by rw [h]; decide), Nat.add_zero]
theorem mp_oplt (p : mp_B) (s : Nat) : ∀ v, mp_op p v s < 2 ^ mp_n p
  | 0 => by unfold mp_op; have := Nat.two_pow_pos (mp_n p); omega
  | v + 1 => by
    unfold mp_op
    split
    · exact mb_dlt (mb_dlt (mp_oplt p s v))
    · exact mb_dlt (mp_oplt p s v)
theorem mp_vle (g : Nat → Nat) (G s : Nat) : ∀ v, (∀ u, u < v → g u ≤ G) → mp_v g v s ≤ v * G
  | 0, _ => by unfold mp_v; omega
  | v + 1, h => by
    unfold mp_v
    have h1 := mp_vle g G s v (fun u hu => h u (by omega))
    have h2 := h v (by omega)
    rw [Nat.add_mul, Nat.one_mul]
    split <;> omega
theorem mp_fed (p : mp_B) {s : Nat} : ∀ k v, mp_fe p (v + k) s → mp_fe p v s
  | 0, _, h => h
  | k + 1, v, h => mp_fed p k v h.1
theorem mp_feof (p : mp_B) {s n : Nat} : ∀ k v, v + k = n → mp_fe p n s → mp_of p k v (mp_op p v s) (mp_v (mp_g p) v s) (mp_v (mp_g p) n s)
  | 0, v, e, _ => by
    have e : v = n := e
    subst e
    exact Nat.le_refl _
  | k + 1, v, e, h => by
    have h2 : mp_fe p (v + 1) s := mp_fed p k (v + 1) (by rw [show v + 1 + k = n by omega]; exact h)
    have ih := mp_feof p k (v + 1) (by omega) h
    rcases h2.2 with ⟨a, b, c⟩ | ⟨a, b⟩
    · rw [mp_op1 p a, mp_v1 _ a] at ih
      exact Or.inr ⟨b, c, ih⟩
    · rw [mp_op0 p a, mp_v0 _ a] at ih
      exact Or.inl ⟨b, ih⟩
theorem mp_ofm (p : mp_B) : ∀ k v o w o' w' x, (∀ i, o.testBit i = true → o'.testBit i = true) → w ≤ w' → mp_of p k v o w x → mp_of p k v o' w' x
  | 0, v, o, w, o', w', x, _, hw, h => by
    have h : x ≤ w := h
    show x ≤ w'
    omega
  | k + 1, v, o, w, o', w', x, ho, hw, h => by
    have h1 : ∀ b i, (mb_d o b).testBit i = true → (mb_d o' b).testBit i = true := by
      intro b i hi
      rw [mb_dt, Bool.and_eq_true] at hi ⊢
      exact ⟨ho i hi.1, hi.2⟩
    have h2 : ∀ b c i, (mb_d (mb_d o b) c).testBit i = true → (mb_d (mb_d o' b) c).testBit i = true := by
      intro b c i hi
      rw [mb_dt, Bool.and_eq_true] at hi ⊢
      exact ⟨h1 b i hi.1, hi.2⟩
    rcases h with ⟨a, h⟩ | ⟨a, b, h⟩
    · exact Or.inl ⟨a, mp_ofm p k _ _ _ _ _ _ (h1 _) hw h⟩
    · exact Or.inr ⟨ho _ a, b, mp_ofm p k _ _ _ _ _ _ (h2 _ _) (by omega) h⟩
def mp_ok (p : mp_B) : Prop := 2 ≤ mp_n p ∧ mp_n p ≤ 12 ∧ (∀ u, u < mp_n p → mp_N p u < 4096) ∧ mp_I p < 4096 ∧ mp_O p < 4096 ∧ (∀ u, u < mp_n p → mp_g p u ≤ 130000)
/-- a node of layer v that stands for a feasible choice below v -/
def mn_R (p : mp_B) (v : Nat) (o w t : Int32) : Prop := ∃ s, s < 2 ^ v ∧ mp_fe p v s ∧ o = nI (mp_op p v s) ∧ w = nI (mp_v (mp_g p) v s) ∧ t = nI s
/-- a node within the ranges -/
def mn_G (p : mp_B) (v : Nat) (o w : Int32) : Prop := ∃ oo ww, oo < 2 ^ mp_n p ∧ ww ≤ v * 130000 ∧ o = nI oo ∧ w = nI ww
/-- a node that offers x -/
def mn_F (p : mp_B) (v : Nat) (o w : Int32) (x : Nat) : Prop := ∃ oo ww, oo < 2 ^ mp_n p ∧ ww ≤ v * 130000 ∧ o = nI oo ∧ w = nI ww ∧ mp_of p (mp_n p - v) v oo ww x
theorem mn_RG {p : mp_B} {v : Nat} {o w t : Int32} (hp : mp_ok p) (hv : v ≤ mp_n p) (h : mn_R p v o w t) : mn_G p v o w := by
  obtain ⟨s, h1, h2, h3, h4, h5⟩ := h
  exact ⟨_, _, mp_oplt p s v, mp_vle _ 130000 s v (fun u hu => hp.2.2.2.2.2 u (by omega)), h3, h4⟩
theorem mn_FG {p : mp_B} {v : Nat} {o w : Int32} {x : Nat} (h : mn_F p v o w x) : mn_G p v o w := by
  obtain ⟨a, b, h1, h2, h3, h4, _⟩ := h
  exact ⟨a, b, h1, h2, h3, h4⟩
theorem mn_o31 {p : mp_B} (hp : mp_ok p) {o : Nat} (h : o < 2 ^ mp_n p) : o < 2 ^ 31 := by
  have := mb_p12 hp.2.1
  omega
theorem mn_ws {v w : Nat} (h : w ≤ v * 130000) : w ≤ (v + 1) * 130000 := Nat.le_trans h (Nat.mul_le_mul_right _ (Nat.le_succ v))
theorem mn_w31 {v w : Nat} (hv : v ≤ 12) (h : w ≤ v * 130000) : w < 2 ^ 31 := by omega
/-- more state and more value offer as much -/
theorem mn_Fm {p : mp_B} {v : Nat} {o w o' w' : Int32} {x : Nat} (hp : mp_ok p) (hv : v ≤ mp_n p) (h : mn_F p v o w x) (h' : mn_G p v o' w')
    (ho : ∀ a b, a < 2 ^ mp_n p → b < 2 ^ mp_n p → o = nI a → o' = nI b → ∀ i, a.testBit i = true → b.testBit i = true) (hw : w ≤ w') : mn_F p v o' w' x := by
  obtain ⟨a, b, h1, h2, h3, h4, h5⟩ := h
  obtain ⟨a', b', g1, g2, g3, g4⟩ := h'
  have hn := hp.2.1
  refine ⟨a', b', g1, g2, g3, g4, mp_ofm p _ _ _ _ _ _ _ (ho a a' h1 g1 h3 g3) ?_ h5⟩
  rw [h4, g4, nI_leI (by omega) (by omega)] at hw
  exact hw
theorem mn_Fw {p : mp_B} {v : Nat} {o w w' : Int32} {x : Nat} (hp : mp_ok p) (hv : v ≤ mp_n p) (h : mn_F p v o w x) (h' : mn_G p v o w') (hw : w ≤ w') : mn_F p v o w' x := by
  refine mn_Fm hp hv h h' ?_ hw
  intro a b ha hb ea eb i hi
  have := (nI_eq (mn_o31 hp ha) (mn_o31 hp hb)).mp (ea.symm.trans eb)
  rw [← this]; exact hi
/-- the two ways on from a node -/
theorem mn_R0 {p : mp_B} {v : Nat} {o w t : Int32} (h : mn_R p v o w t) (hI : (mp_I p).testBit v = false) : mn_R p (v + 1) (o &&& (nI (2 ^ v) ^^^ (-1))) w t := by
  obtain ⟨s, h1, h2, h3, h4, h5⟩ := h
  have hs : s.testBit v = false := Nat.testBit_lt_two_pow h1
  refine ⟨s, by rw [Nat.pow_succ]; omega, ⟨h2, Or.inr ⟨hs, hI⟩⟩, ?_, ?_, h5⟩
  · rw [h3, mb_dif, mp_op0 p hs]
  · rw [h4, mp_v0 _ hs]
theorem mn_R1 {p : mp_B} {v : Nat} {o w t : Int32} (hp : mp_ok p) (hv : v < mp_n p) (h : mn_R p v o w t) (ho : ¬ (o &&& nI (2 ^ v)) = 0) (hO : (mp_O p).testBit v = false) :
    mn_R p (v + 1) ((o &&& (nI (2 ^ v) ^^^ (-1))) &&& (nI (mp_N p v) ^^^ (-1))) (w + nI (mp_g p v)) (t ||| nI (2 ^ v)) := by
  obtain ⟨s, h1, h2, h3, h4, h5⟩ := h
  have hlt := mp_oplt p s v
  rw [h3, mb_and2 (mn_o31 hp hlt)] at ho
  have ho := mb_bt ho
  have hc : ∀ u, u < v → (s ||| 2 ^ v).testBit u = s.testBit u := by
    intro u hu
    rw [mb_o2t, decide_eq_false (by omega), Bool.or_false]
  have hs : (s ||| 2 ^ v).testBit v = true := by
    rw [mb_o2t, decide_eq_true rfl, Bool.or_true]
  refine ⟨s ||| 2 ^ v, Nat.or_lt_two_pow (by rw [Nat.pow_succ]; omega) (by rw [Nat.pow_succ]; have := Nat.two_pow_pos v; omega), ⟨(mp_fec p v hc).mpr h2, Or.inl ⟨hs, ?_, hO⟩⟩, ?_, ?_, ?_⟩
  · rw [mp_opc p v hc]; exact ho
  · rw [h3, mb_dif, mb_dif, mp_op1 p hs, mp_opc p v hc]
  · rw [h4, nI_add, mp_v1 _ hs, mp_vc _ v hc]
  · rw [h5, mb_or]
theorem mn_G0 {p : mp_B} {v : Nat} {o w : Int32} (h : mn_G p v o w) : mn_G p (v + 1) (o &&& (nI (2 ^ v) ^^^ (-1))) w := by
  obtain ⟨a, b, h1, h2, h3, h4⟩ := h
  exact ⟨_, b, mb_dlt h1, mn_ws h2, by rw [h3, mb_dif], h4⟩
theorem mn_G1 {p : mp_B} {v : Nat} {o w : Int32} (hp : mp_ok p) (hv : v < mp_n p) (h : mn_G p v o w) :
    mn_G p (v + 1) ((o &&& (nI (2 ^ v) ^^^ (-1))) &&& (nI (mp_N p v) ^^^ (-1))) (w + nI (mp_g p v)) := by
  obtain ⟨a, b, h1, h2, h3, h4⟩ := h
  have := hp.2.2.2.2.2 v hv
  exact ⟨_, b + mp_g p v, mb_dlt (mb_dlt h1), by omega, by rw [h3, mb_dif, mb_dif], by rw [h4, nI_add]⟩
theorem mn_Fs {p : mp_B} {v : Nat} {o w : Int32} {x : Nat} (hp : mp_ok p) (hv : v < mp_n p) (h : mn_F p v o w x) :
    ((mp_I p).testBit v = false ∧ mn_F p (v + 1) (o &&& (nI (2 ^ v) ^^^ (-1))) w x) ∨
    (¬ (o &&& nI (2 ^ v)) = 0 ∧ (mp_O p).testBit v = false ∧ mn_F p (v + 1) ((o &&& (nI (2 ^ v) ^^^ (-1))) &&& (nI (mp_N p v) ^^^ (-1))) (w + nI (mp_g p v)) x) := by
  obtain ⟨a, b, h1, h2, h3, h4, h5⟩ := h
  have e : mp_n p - v = (mp_n p - (v + 1)) + 1 := by omega
  rw [e] at h5
  rcases h5 with ⟨c, h5⟩ | ⟨c, d, h5⟩
  · exact Or.inl ⟨c, _, b, mb_dlt h1, mn_ws h2, by rw [h3, mb_dif], h4, h5⟩
  · refine Or.inr ⟨?_, d, _, b + mp_g p v, mb_dlt (mb_dlt h1), ?_, by rw [h3, mb_dif, mb_dif], by rw [h4, nI_add], h5⟩
    · rw [h3, mb_and2 (mn_o31 hp h1), c]; decide
    · have := hp.2.2.2.2.2 v hv
      omega
end
section
/-! layers, pure: what reach, sort and merge do -/
def ml_I (p : mp_B) (v : Nat) (rl : Prop) (S : Nat → Prop) (m : Nat) (ns nv nt : Nat → Int32) : Prop :=
  (∀ k, k < m → mn_G p v (ns k) (nv k)) ∧ (rl → ∀ k, k < m → mn_R p v (ns k) (nv k) (nt k)) ∧ (∀ x, S x → ∃ k, k < m ∧ mn_F p v (ns k) (nv k) x)
def ml_S (m : Nat) (ns nv nt : Nat → Int32) (o w t : Int32) (m' : Nat) (ns' nv' nt' : Nat → Int32) : Prop :=
  (m' = m ∧ ns' = ns ∧ nv' = nv ∧ nt' = nt ∧ ∃ k, k < m ∧ ns k = o ∧ w ≤ nv k) ∨
  (m' = m ∧ ns' = ns ∧ ∃ k, k < m ∧ ns k = o ∧ nv k ≤ w ∧ nv' = upd nv k w ∧ nt' = upd nt k t) ∨
  (m' = m + 1 ∧ ns' = upd ns m o ∧ nv' = upd nv m w ∧ nt' = upd nt m t)
theorem ml_Sub {p : mp_B} {v : Nat} {rl : Prop} {S S' : Nat → Prop} {m : Nat} {ns nv nt : Nat → Int32} (h : ∀ x, S' x → S x) (I : ml_I p v rl S m ns nv nt) : ml_I p v rl S' m ns nv nt :=
  ⟨I.1, I.2.1, fun x hx => I.2.2 x (h x hx)⟩
theorem ml_put {p : mp_B} {v : Nat} {rl : Prop} {S : Nat → Prop} {m m' : Nat} {ns nv nt ns' nv' nt' : Nat → Int32} {o w t : Int32} (hp : mp_ok p) (hv : v ≤ mp_n p)
    (I : ml_I p v rl S m ns nv nt) (h : ml_S m ns nv nt o w t m' ns' nv' nt') (hG : mn_G p v o w) (hR : rl → mn_R p v o w t) :
    ml_I p v rl (fun x => S x ∨ mn_F p v o w x) m' ns' nv' nt' := by
  obtain ⟨I1, I2, I3⟩ := I
  rcases h with ⟨rfl, rfl, rfl, rfl, k, hk, e, hw⟩ | ⟨rfl, rfl, k, hk, e, hw, rfl, rfl⟩ | ⟨rfl, rfl, rfl, rfl⟩
  · refine ⟨I1, I2, ?_⟩
    intro x hx
    rcases hx with hx | hx
    · exact I3 x hx
    · have g := I1 k hk
      rw [e] at g
      have := mn_Fw hp hv hx g hw
      exact ⟨k, hk, by rw [e]; exact this⟩
  · have hk1 : ∀ j, j < m' → mn_G p v (ns' j) (upd nv k w j) := by
      intro j hj
      by_cases z : j = k
      · subst z; rw [pk_us, e]; exact hG
      · rw [pk_un z]; exact I1 j hj
    refine ⟨hk1, ?_, ?_⟩
    · intro hr j hj
      by_cases z : j = k
      · subst z; rw [pk_us, pk_us, e]; exact hR hr
      · rw [pk_un z, pk_un z]; exact I2 hr j hj
    · intro x hx
      rcases hx with hx | hx
      · obtain ⟨j, hj, hF⟩ := I3 x hx
        refine ⟨j, hj, ?_⟩
        by_cases z : j = k
        · subst z
          have g := hk1 j hj
          rw [pk_us] at g ⊢
          exact mn_Fw hp hv hF g hw
        · rw [pk_un z]; exact hF
      · exact ⟨k, hk, by rw [pk_us, e]; exact hx⟩
  · refine ⟨?_, ?_, ?_⟩
    · intro j hj
      by_cases z : j = m
      · subst z; rw [pk_us, pk_us]; exact hG
      · rw [pk_un z, pk_un z]; exact I1 j (by omega)
    · intro hr j hj
      by_cases z : j = m
      · subst z; rw [pk_us, pk_us, pk_us]; exact hR hr
      · rw [pk_un z, pk_un z, pk_un z]; exact I2 hr j (by omega)
    · intro x hx
      rcases hx with hx | hx
      · obtain ⟨j, hj, hF⟩ := I3 x hx
        refine ⟨j, by omega, ?_⟩
        rw [pk_un (by omega), pk_un (by omega)]; exact hF
      · exact ⟨m, by omega, by rw [pk_us, pk_us]; exact hx⟩
/-- the same layer in other arrays -/
theorem ml_cp {p : mp_B} {v : Nat} {rl : Prop} {S : Nat → Prop} {m : Nat} {ns nv nt st vl tk : Nat → Int32} (I : ml_I p v rl S m ns nv nt)
    (h : ∀ k, k < m → st k = ns k ∧ vl k = nv k ∧ tk k = nt k) : ml_I p v rl S m st vl tk := by
  obtain ⟨I1, I2, I3⟩ := I
  refine ⟨?_, ?_, ?_⟩
  · intro k hk
    rw [(h k hk).1, (h k hk).2.1]; exact I1 k hk
  · intro hr k hk
    rw [(h k hk).1, (h k hk).2.1, (h k hk).2.2]; exact I2 hr k hk
  · intro x hx
    obtain ⟨k, hk, hF⟩ := I3 x hx
    exact ⟨k, hk, by rw [(h k hk).1, (h k hk).2.1]; exact hF⟩
/-- a permutation of three arrays -/
def ms_P (n : Nat) (s v t s' v' t' : Nat → Int32) : Prop :=
  (∀ k, k < n → ∃ j, j < n ∧ s' k = s j ∧ v' k = v j ∧ t' k = t j) ∧ (∀ j, j < n → ∃ k, k < n ∧ s' k = s j ∧ v' k = v j ∧ t' k = t j)
theorem ms_rf {n : Nat} {s v t : Nat → Int32} : ms_P n s v t s v t :=
  ⟨fun k hk => ⟨k, hk, rfl, rfl, rfl⟩, fun k hk => ⟨k, hk, rfl, rfl, rfl⟩⟩
theorem ms_c {n : Nat} {s v t s1 v1 t1 s2 v2 t2 : Nat → Int32} (σ : Nat → Nat) (h : ms_P n s v t s1 v1 t1) (h1 : ∀ k, k < n → σ k < n) (h2 : ∀ k, k < n → σ (σ k) = k)
    (h3 : ∀ k, k < n → s2 k = s1 (σ k) ∧ v2 k = v1 (σ k) ∧ t2 k = t1 (σ k)) : ms_P n s v t s2 v2 t2 := by
  constructor
  · intro k hk
    obtain ⟨j, hj, a, b, c⟩ := h.1 (σ k) (h1 k hk)
    obtain ⟨d, e, f⟩ := h3 k hk
    exact ⟨j, hj, d.trans a, e.trans b, f.trans c⟩
  · intro j hj
    obtain ⟨k, hk, a, b, c⟩ := h.2 j hj
    obtain ⟨d, e, f⟩ := h3 (σ k) (h1 k hk)
    rw [h2 k hk] at d e f
    exact ⟨σ k, h1 k hk, d.trans a, e.trans b, f.trans c⟩
def ms_w (a k : Nat) : Nat := if k = a then a + 1 else if k = a + 1 then a else k
theorem ms_w1 {a k n : Nat} (h : a + 1 < n) (hk : k < n) : ms_w a k < n := by
  unfold ms_w
  split
  · omega
  · split <;> omega
theorem ms_w2 (a k : Nat) : ms_w a (ms_w a k) = k := by
  unfold ms_w
  by_cases h : k = a
  · rw [if_pos h, if_neg (by omega), if_pos rfl, h]
  · rw [if_neg h]
    by_cases h' : k = a + 1
    · rw [if_pos h', if_pos rfl, h']
    · rw [if_neg h', if_neg h, if_neg h']
theorem ms_u (f : Nat → Int32) (x : Int32) (a k : Nat) : upd (upd f (a + 1) (f a)) a x k = upd f (a + 1) x (ms_w a k) := by
  unfold ms_w
  by_cases h : k = a
  · rw [if_pos h, h, pk_us, pk_us]
  · rw [if_neg h, pk_un h]
    by_cases h' : k = a + 1
    · rw [if_pos h', h', pk_us, pk_un (by omega)]
    · rw [if_neg h', pk_un h', pk_un h']
theorem ms_i (f : Nat → Int32) (k : Nat) : upd f k (f k) = f := by
  funext j
  by_cases h : j = k
  · rw [h, pk_us]
  · rw [pk_un h]
/-- a layer after a permutation -/
theorem ml_pm {p : mp_B} {v : Nat} {rl : Prop} {S : Nat → Prop} {m : Nat} {s w t s' w' t' : Nat → Int32} (I : ml_I p v rl S m s w t) (h : ms_P m s w t s' w' t') : ml_I p v rl S m s' w' t' := by
  obtain ⟨I1, I2, I3⟩ := I
  refine ⟨?_, ?_, ?_⟩
  · intro k hk
    obtain ⟨j, hj, a, b, c⟩ := h.1 k hk
    rw [a, b]; exact I1 j hj
  · intro hr k hk
    obtain ⟨j, hj, a, b, c⟩ := h.1 k hk
    rw [a, b, c]; exact I2 hr j hj
  · intro x hx
    obtain ⟨j, hj, hF⟩ := I3 x hx
    obtain ⟨k, hk, a, b, c⟩ := h.2 j hj
    exact ⟨k, hk, by rw [a, b]; exact hF⟩
/-- a layer cut down -/
theorem ml_cut {p : mp_B} {v : Nat} {rl : Prop} {S : Nat → Prop} {m q : Nat} {s w t : Nat → Int32} (I : ml_I p v rl S m s w t) (h : q ≤ m) : ml_I p v rl (fun _ => False) q s w t :=
  ⟨fun k hk => I.1 k (by omega), fun hr k hk => I.2.1 hr k (by omega), fun _ hx => hx.elim⟩
/-- what merging gives: at place q a state that holds all from q on -/
def ms_M (p : mp_B) (q m : Nat) (s s' : Nat → Int32) : Prop :=
  (∀ k, k ≠ q → s' k = s k) ∧ ∃ c, c < 2 ^ mp_n p ∧ s' q = nI c ∧ ∀ k, q ≤ k → k < m → ∀ b, b < 2 ^ mp_n p → s k = nI b → ∀ i, b.testBit i = true → c.testBit i = true
theorem ml_mg {p : mp_B} {v : Nat} {rl : Prop} {S : Nat → Prop} {m q : Nat} {s w t s' : Nat → Int32} (hp : mp_ok p) (hv : v ≤ mp_n p) (I : ml_I p v rl S m s w t) (h : q < m)
    (hs : ∀ k, q ≤ k → k < m → (w k).toInt ≤ (w q).toInt) (hM : ms_M p q m s s') : ml_I p v False S (q + 1) s' w t := by
  obtain ⟨I1, I2, I3⟩ := I
  obtain ⟨M1, c, hc, ec, M2⟩ := hM
  have hG : ∀ k, k < q + 1 → mn_G p v (s' k) (w k) := by
    intro k hk
    by_cases z : k = q
    · subst z
      obtain ⟨a, b, h1, h2, h3, h4⟩ := I1 k h
      exact ⟨c, b, hc, h2, ec, h4⟩
    · rw [M1 k z]; exact I1 k (by omega)
  refine ⟨hG, fun z => z.elim, ?_⟩
  intro x hx
  obtain ⟨k, hk, hF⟩ := I3 x hx
  by_cases z : k < q
  · exact ⟨k, by omega, by rw [M1 k (by omega)]; exact hF⟩
  · refine ⟨q, by omega, mn_Fm hp hv hF (hG q (by omega)) ?_ ?_⟩
    · intro a b ha hb ea eb i hi
      have e : b = c := (nI_eq (mn_o31 hp hb) (mn_o31 hp hc)).mp (eb.symm.trans ec)
      rw [e]
      exact M2 k (by omega) hk a ha ea i hi
    · rw [Int32.le_iff_toInt_le]
      exact hs k (by omega) hk
end
section
/-! the walks of the layer's small methods -/
section
variable {f_n f_width f_forcedIn f_forcedOut f_mustIn f_mustOut f_size f_nextSize f_cutLevel f_cutSize f_exact f_bestValue f_bestTaken : Int32} {a_joined a_weights a_gain a_state a_value a_taken a_nextState a_nextValue a_nextTaken a_cutState a_cutValue a_cutTaken a_waitLevel a_waitState a_waitValue a_waitTaken a_rest : Nat → Int32}
theorem xr_reach3 {post : SX → Prop} {o w t : Int32} {m : Nat} (hm : m < 64)
    (K : ∀ m' ns nv nt, m' ≤ m + 1 → ml_S m a_nextState a_nextValue a_nextTaken o w t m' ns nv nt → post (f_n, f_width, f_forcedIn, f_forcedOut, f_mustIn, f_mustOut, f_size, nI m', f_cutLevel, f_cutSize, f_exact, f_bestValue, f_bestTaken, a_joined, a_weights, a_gain, a_state, a_value, a_taken, ns, nv, nt, a_cutState, a_cutValue, a_cutTaken, a_waitLevel, a_waitState, a_waitValue, a_waitTaken, a_rest)) :
    ∀ d j, j + d = m → wX_reach_3 post o w t f_n f_width f_forcedIn f_forcedOut f_mustIn f_mustOut f_size (nI m) f_cutLevel f_cutSize f_exact f_bestValue f_bestTaken a_joined a_weights a_gain a_state a_value a_taken a_nextState a_nextValue a_nextTaken a_cutState a_cutValue a_cutTaken a_waitLevel a_waitState a_waitValue a_waitTaken a_rest (d + 1) (nI j) := by
  intro d
  induction d with
  | zero =>
    intro j hj
    have hj : j = m := by omega
    subst hj
    rw [wX_reach_3]
    have c := nI_clamp (n := j) (by omega)
    have vi : vp_in (nI j) 64 := vp_in_nI hm (by decide)
    refine br_t (nI_le (Nat.le_refl _) (by omega)) (br_f (nI_ge (b := 64) hm (by decide)) ⟨vi, nm_r (e' := upd a_nextState j o) (by rw [c]) ⟨vi, nm_r (e' := upd a_nextValue j w) (by rw [c]) ⟨vi, nm_r (e' := upd a_nextTaken j t) (by rw [c]) (nm_r (nI_1 j) ?_)⟩⟩⟩)
    exact K (j + 1) _ _ _ (by omega) (Or.inr (Or.inr ⟨rfl, rfl, rfl, rfl⟩))
  | succ d ih =>
    intro j hj
    rw [wX_reach_3]
    have c := nI_clamp (n := j) (by omega)
    have vi : vp_in (nI j) 64 := vp_in_nI (by omega) (by decide)
    refine br_f (nI_ge (by omega) (by omega)) ⟨vi, br_c (fun e => ⟨vi, br_c (fun h => ?_) (fun h => ⟨vi, nm_r (e' := upd a_nextValue j w) (by rw [c]) ⟨vi, nm_r (e' := upd a_nextTaken j t) (by rw [c]) ?_⟩⟩)⟩) (fun e => nm_r (nI_1 j) (ih (j + 1) (by omega)))⟩
    · rw [c] at e h
      exact K m _ _ _ (by omega) (Or.inl ⟨rfl, rfl, rfl, rfl, j, by omega, e, h⟩)
    · rw [c] at e h
      exact K m _ _ _ (by omega) (Or.inr (Or.inl ⟨rfl, rfl, j, by omega, e, Int32.le_of_lt (Int32.not_le.mp h), rfl, rfl⟩))
theorem xr_reach {post : SX → Prop} {o w t : Int32} {m : Nat} (hm : m < 64)
    (K : ∀ m' ns nv nt, m' ≤ m + 1 → ml_S m a_nextState a_nextValue a_nextTaken o w t m' ns nv nt → post (f_n, f_width, f_forcedIn, f_forcedOut, f_mustIn, f_mustOut, f_size, nI m', f_cutLevel, f_cutSize, f_exact, f_bestValue, f_bestTaken, a_joined, a_weights, a_gain, a_state, a_value, a_taken, ns, nv, nt, a_cutState, a_cutValue, a_cutTaken, a_waitLevel, a_waitState, a_waitValue, a_waitTaken, a_rest)) :
    wpX_reach post (f_n, f_width, f_forcedIn, f_forcedOut, f_mustIn, f_mustOut, f_size, nI m, f_cutLevel, f_cutSize, f_exact, f_bestValue, f_bestTaken, a_joined, a_weights, a_gain, a_state, a_value, a_taken, a_nextState, a_nextValue, a_nextTaken, a_cutState, a_cutValue, a_cutTaken, a_waitLevel, a_waitState, a_waitValue, a_waitTaken, a_rest) o w t :=
  Exists.intro (m + 1) (xr_reach3 hm K m 0 (by omega))
theorem xr_tl10 {post : SX → Prop} {sz : Nat} (hs : sz ≤ 64)
    (K : ∀ st vl tk, (∀ k, k < sz → st k = a_nextState k ∧ vl k = a_nextValue k ∧ tk k = a_nextTaken k) → post (f_n, f_width, f_forcedIn, f_forcedOut, f_mustIn, f_mustOut, nI sz, f_nextSize, f_cutLevel, f_cutSize, f_exact, f_bestValue, f_bestTaken, a_joined, a_weights, a_gain, st, vl, tk, a_nextState, a_nextValue, a_nextTaken, a_cutState, a_cutValue, a_cutTaken, a_waitLevel, a_waitState, a_waitValue, a_waitTaken, a_rest)) :
    ∀ d j st vl tk, j + d = sz → (∀ k, k < j → st k = a_nextState k ∧ vl k = a_nextValue k ∧ tk k = a_nextTaken k) →
    wX_takeLayer_10 post f_n f_width f_forcedIn f_forcedOut f_mustIn f_mustOut (nI sz) f_nextSize f_cutLevel f_cutSize f_exact f_bestValue f_bestTaken (d + 1) (nI j) a_joined a_weights a_gain st vl tk a_nextState a_nextValue a_nextTaken a_cutState a_cutValue a_cutTaken a_waitLevel a_waitState a_waitValue a_waitTaken a_rest := by
  intro d
  induction d with
  | zero =>
    intro j st vl tk hj h
    rw [wX_takeLayer_10]
    have hj : j = sz := by omega
    subst hj
    exact br_t (nI_le (Nat.le_refl _) (by omega)) (K _ _ _ h)
  | succ d ih =>
    intro j st vl tk hj h
    rw [wX_takeLayer_10]
    have c := nI_clamp (n := j) (by omega)
    have vi : vp_in (nI j) 64 := vp_in_nI (by omega) (by decide)
    refine br_f (nI_ge (by omega) (by omega)) ⟨vi, vi, nm_r (e' := upd st j (a_nextState j)) (by rw [c]) ⟨vi, vi, nm_r (e' := upd vl j (a_nextValue j)) (by rw [c]) ⟨vi, vi, nm_r (e' := upd tk j (a_nextTaken j)) (by rw [c]) (nm_r (nI_1 j) (ih (j + 1) _ _ _ (by omega) ?_))⟩⟩⟩
    intro k hk
    by_cases z : k = j
    · subst z; rw [pk_us, pk_us, pk_us]; exact ⟨rfl, rfl, rfl⟩
    · rw [pk_un z, pk_un z, pk_un z]; exact h k (by omega)
theorem xr_takeLayer {post : SX → Prop} {sz : Nat} (hs : sz ≤ 64)
    (K : ∀ st vl tk, (∀ k, k < sz → st k = a_nextState k ∧ vl k = a_nextValue k ∧ tk k = a_nextTaken k) → post (f_n, f_width, f_forcedIn, f_forcedOut, f_mustIn, f_mustOut, nI sz, nI sz, f_cutLevel, f_cutSize, f_exact, f_bestValue, f_bestTaken, a_joined, a_weights, a_gain, st, vl, tk, a_nextState, a_nextValue, a_nextTaken, a_cutState, a_cutValue, a_cutTaken, a_waitLevel, a_waitState, a_waitValue, a_waitTaken, a_rest)) :
    wpX_takeLayer post (f_n, f_width, f_forcedIn, f_forcedOut, f_mustIn, f_mustOut, f_size, nI sz, f_cutLevel, f_cutSize, f_exact, f_bestValue, f_bestTaken, a_joined, a_weights, a_gain, a_state, a_value, a_taken, a_nextState, a_nextValue, a_nextTaken, a_cutState, a_cutValue, a_cutTaken, a_waitLevel, a_waitState, a_waitValue, a_waitTaken, a_rest) :=
  Exists.intro (sz + 1) (xr_tl10 hs K sz 0 _ _ _ (by omega) (fun k hk => absurd hk (by omega)))
theorem xr_kc15 {post : SX → Prop} {sz : Nat} (hs : sz ≤ 64)
    (K : ∀ st vl tk, (∀ k, k < sz → st k = a_state k ∧ vl k = a_value k ∧ tk k = a_taken k) → post (f_n, f_width, f_forcedIn, f_forcedOut, f_mustIn, f_mustOut, nI sz, f_nextSize, f_cutLevel, f_cutSize, f_exact, f_bestValue, f_bestTaken, a_joined, a_weights, a_gain, a_state, a_value, a_taken, a_nextState, a_nextValue, a_nextTaken, st, vl, tk, a_waitLevel, a_waitState, a_waitValue, a_waitTaken, a_rest)) :
    ∀ d j st vl tk, j + d = sz → (∀ k, k < j → st k = a_state k ∧ vl k = a_value k ∧ tk k = a_taken k) →
    wX_keepCut_15 post f_n f_width f_forcedIn f_forcedOut f_mustIn f_mustOut (nI sz) f_nextSize f_cutLevel f_cutSize f_exact f_bestValue f_bestTaken (d + 1) (nI j) a_joined a_weights a_gain a_state a_value a_taken a_nextState a_nextValue a_nextTaken st vl tk a_waitLevel a_waitState a_waitValue a_waitTaken a_rest := by
  intro d
  induction d with
  | zero =>
    intro j st vl tk hj h
    rw [wX_keepCut_15]
    have hj : j = sz := by omega
    subst hj
    exact br_t (nI_le (Nat.le_refl _) (by omega)) (K _ _ _ h)
  | succ d ih =>
    intro j st vl tk hj h
    rw [wX_keepCut_15]
    have c := nI_clamp (n := j) (by omega)
    have vi : vp_in (nI j) 64 := vp_in_nI (by omega) (by decide)
    refine br_f (nI_ge (by omega) (by omega)) ⟨vi, vi, nm_r (e' := upd st j (a_state j)) (by rw [c]) ⟨vi, vi, nm_r (e' := upd vl j (a_value j)) (by rw [c]) ⟨vi, vi, nm_r (e' := upd tk j (a_taken j)) (by rw [c]) (nm_r (nI_1 j) (ih (j + 1) _ _ _ (by omega) ?_))⟩⟩⟩
    intro k hk
    by_cases z : k = j
    · subst z; rw [pk_us, pk_us, pk_us]; exact ⟨rfl, rfl, rfl⟩
    · rw [pk_un z, pk_un z, pk_un z]; exact h k (by omega)
theorem xr_keepCut {post : SX → Prop} {sz : Nat} {l : Int32} (hs : sz ≤ 64)
    (K : ∀ st vl tk, (∀ k, k < sz → st k = a_state k ∧ vl k = a_value k ∧ tk k = a_taken k) → post (f_n, f_width, f_forcedIn, f_forcedOut, f_mustIn, f_mustOut, nI sz, f_nextSize, l, nI sz, f_exact, f_bestValue, f_bestTaken, a_joined, a_weights, a_gain, a_state, a_value, a_taken, a_nextState, a_nextValue, a_nextTaken, st, vl, tk, a_waitLevel, a_waitState, a_waitValue, a_waitTaken, a_rest)) :
    wpX_keepCut post (f_n, f_width, f_forcedIn, f_forcedOut, f_mustIn, f_mustOut, nI sz, f_nextSize, f_cutLevel, f_cutSize, f_exact, f_bestValue, f_bestTaken, a_joined, a_weights, a_gain, a_state, a_value, a_taken, a_nextState, a_nextValue, a_nextTaken, a_cutState, a_cutValue, a_cutTaken, a_waitLevel, a_waitState, a_waitValue, a_waitTaken, a_rest) l :=
  Exists.intro (sz + 1) (xr_kc15 hs K sz 0 _ _ _ (by omega) (fun k hk => absurd hk (by omega)))
theorem xr_startLayer {post : SX → Prop} {o w t : Int32}
    (K : ∀ st vl tk, st 0 = o → vl 0 = w → tk 0 = t → post (f_n, f_width, f_forcedIn, f_forcedOut, f_mustIn, f_mustOut, 1, f_nextSize, f_cutLevel, f_cutSize, f_exact, f_bestValue, f_bestTaken, a_joined, a_weights, a_gain, st, vl, tk, a_nextState, a_nextValue, a_nextTaken, a_cutState, a_cutValue, a_cutTaken, a_waitLevel, a_waitState, a_waitValue, a_waitTaken, a_rest)) :
    wpX_startLayer post (f_n, f_width, f_forcedIn, f_forcedOut, f_mustIn, f_mustOut, f_size, f_nextSize, f_cutLevel, f_cutSize, f_exact, f_bestValue, f_bestTaken, a_joined, a_weights, a_gain, a_state, a_value, a_taken, a_nextState, a_nextValue, a_nextTaken, a_cutState, a_cutValue, a_cutTaken, a_waitLevel, a_waitState, a_waitValue, a_waitTaken, a_rest) o w t := by
  unfold wpX_startLayer
  exact nm_e (nm_e (nm_e (K _ _ _ pk_us pk_us pk_us)))
/-! sort -/
theorem xr_so107 {post : SX → Prop} {J2 : Int32 → (Nat → Int32) → (Nat → Int32) → (Nat → Int32) → (Nat → Int32) → (Nat → Int32) → (Nat → Int32) → (Nat → Int32) → (Nat → Int32) → (Nat → Int32) → (Nat → Int32) → (Nat → Int32) → (Nat → Int32) → (Nat → Int32) → (Nat → Int32) → (Nat → Int32) → (Nat → Int32) → (Nat → Int32) → Prop} {o w t : Int32} {i q : Nat} (hq : q < 64)
    (K : J2 (nI (i + 1)) a_joined a_weights a_gain (upd a_state q o) (upd a_value q w) (upd a_taken q t) a_nextState a_nextValue a_nextTaken a_cutState a_cutValue a_cutTaken a_waitLevel a_waitState a_waitValue a_waitTaken a_rest) : wX_sortLayer_107 post J2 (nI i) o w t (nI q) f_n f_width f_forcedIn f_forcedOut f_mustIn f_mustOut f_size f_nextSize f_cutLevel f_cutSize f_exact f_bestValue f_bestTaken a_joined a_weights a_gain a_state a_value a_taken a_nextState a_nextValue a_nextTaken a_cutState a_cutValue a_cutTaken a_waitLevel a_waitState a_waitValue a_waitTaken a_rest := by
  have c := nI_clamp (n := q) (by omega)
  have vi : vp_in (nI q) 64 := vp_in_nI hq (by decide)
  unfold wX_sortLayer_107
  exact ⟨vi, nm_r (e' := upd a_state q o) (by rw [c]) ⟨vi, nm_r (e' := upd a_value q w) (by rw [c]) ⟨vi, nm_r (e' := upd a_taken q t) (by rw [c]) (nm_r (nI_1 i) K)⟩⟩⟩
theorem xr_so35 {post : SX → Prop} {J2 : Int32 → (Nat → Int32) → (Nat → Int32) → (Nat → Int32) → (Nat → Int32) → (Nat → Int32) → (Nat → Int32) → (Nat → Int32) → (Nat → Int32) → (Nat → Int32) → (Nat → Int32) → (Nat → Int32) → (Nat → Int32) → (Nat → Int32) → (Nat → Int32) → (Nat → Int32) → (Nat → Int32) → (Nat → Int32) → Prop} {o w t : Int32} {i sz : Nat} {s0 v0 t0 : Nat → Int32} (hi : i < sz) (hsz : sz ≤ 64)
    (K : ∀ st vl tk, ms_P sz s0 v0 t0 st vl tk → (∀ a b, a < b → b < i + 1 → (vl b).toInt ≤ (vl a).toInt) → J2 (nI (i + 1)) a_joined a_weights a_gain st vl tk a_nextState a_nextValue a_nextTaken a_cutState a_cutValue a_cutTaken a_waitLevel a_waitState a_waitValue a_waitTaken a_rest) :
    ∀ q st vl tk, q ≤ i → ms_P sz s0 v0 t0 (upd st q o) (upd vl q w) (upd tk q t) → (∀ a b, a < b → b < i + 1 → b ≠ q → (upd vl q w b).toInt ≤ (upd vl q w a).toInt) →
    wX_sortLayer_35 post J2 (nI i) o w t f_n f_width f_forcedIn f_forcedOut f_mustIn f_mustOut (nI sz) f_nextSize f_cutLevel f_cutSize f_exact f_bestValue f_bestTaken (q + 1) (nI q) a_joined a_weights a_gain st vl tk a_nextState a_nextValue a_nextTaken a_cutState a_cutValue a_cutTaken a_waitLevel a_waitState a_waitValue a_waitTaken a_rest := by
  intro q
  induction q with
  | zero =>
    intro st vl tk hq hP hS
    rw [wX_sortLayer_35]
    refine br_t (nI_le (a := 0) (b := 0) (Nat.le_refl _) (by decide)) (xr_so107 (q := 0) (by decide) (K _ _ _ hP ?_))
    intro a b hab hb
    exact hS a b hab hb (by omega)
  | succ q ih =>
    intro st vl tk hq hP hS
    rw [wX_sortLayer_35]
    have c := nI_clamp (n := q) (by omega)
    have c1 := nI_clamp (n := q + 1) (by omega)
    have e1 : nI (q + 1) - 1 = nI q := nI_pred q
    have vi : vp_in (nI (q + 1) - 1) 64 := by rw [e1]; exact vp_in_nI (by omega) (by decide)
    have vi1 : vp_in (nI (q + 1)) 64 := vp_in_nI (by omega) (by decide)
    refine br_f (nI_nle (by omega) (by omega)) ⟨vi, br_c (fun h => xr_so107 (q := q + 1) (by omega) (K _ _ _ hP ?_)) (fun h => ⟨vi, vi1, nm_r (e' := upd st (q + 1) (st q)) (by rw [c1, e1, c]) ⟨vi, vi1, nm_r (e' := upd vl (q + 1) (vl q)) (by rw [c1, e1, c]) ⟨vi, vi1, nm_r (e' := upd tk (q + 1) (tk q)) (by rw [c1, e1, c]) (nm_r (pk_m1 q) (ih _ _ _ (by omega) ?_ ?_))⟩⟩⟩)⟩
    · rw [e1, c, Int32.le_iff_toInt_le] at h
      intro a b hab hb
      by_cases z : b = q + 1
      · subst z
        have h2 : (upd vl (q + 1) w (q + 1)).toInt ≤ (upd vl (q + 1) w q).toInt := by
          rw [pk_us, pk_un (by omega)]; exact h
        by_cases z2 : a = q
        · subst z2; exact h2
        · exact Int.le_trans h2 (hS a q (by omega) (by omega) (by omega))
      · exact hS a b hab hb z
    · exact ms_c (ms_w q) hP (fun k hk => ms_w1 (by omega) hk) (fun k _ => ms_w2 q k) (fun k _ => ⟨ms_u st o q k, ms_u vl w q k, ms_u tk t q k⟩)
    · rw [e1, c, Int32.le_iff_toInt_le] at h
      intro a b hab hb z
      rw [ms_u, ms_u]
      have hlt : (upd vl (q + 1) w q).toInt ≤ (upd vl (q + 1) w (q + 1)).toInt := by
        rw [pk_us, pk_un (by omega)]; omega
      by_cases z1 : b = q + 1
      · subst z1
        have eb : ms_w q (q + 1) = q := by unfold ms_w; rw [if_neg (by omega), if_pos rfl]
        rw [eb]
        by_cases z2 : a = q
        · subst z2
          have ea : ms_w a a = a + 1 := by unfold ms_w; rw [if_pos rfl]
          rw [ea]; exact hlt
        · have ea : ms_w q a = a := by unfold ms_w; rw [if_neg z2, if_neg (by omega)]
          rw [ea]
          exact hS a q (by omega) (by omega) (by omega)
      · have eb : ms_w q b = b := by unfold ms_w; rw [if_neg z, if_neg z1]
        rw [eb]
        by_cases z2 : a = q
        · subst z2
          have ea : ms_w a a = a + 1 := by unfold ms_w; rw [if_pos rfl]
          rw [ea]
          exact hS (a + 1) b (by omega) hb z1
        · by_cases z3 : a = q + 1
          · subst z3
            have ea : ms_w q (q + 1) = q := by unfold ms_w; rw [if_neg (by omega), if_pos rfl]
            rw [ea]
            exact hS q b (by omega) hb z1
          · have ea : ms_w q a = a := by unfold ms_w; rw [if_neg z2, if_neg z3]
            rw [ea]
            exact hS a b hab hb z1
theorem xr_so2 {post : SX → Prop} {sz : Nat} {s0 v0 t0 : Nat → Int32} (hsz : sz ≤ 64)
    (K : ∀ st vl tk, ms_P sz s0 v0 t0 st vl tk → (∀ a b, a < b → b < sz → (vl b).toInt ≤ (vl a).toInt) → post (f_n, f_width, f_forcedIn, f_forcedOut, f_mustIn, f_mustOut, nI sz, f_nextSize, f_cutLevel, f_cutSize, f_exact, f_bestValue, f_bestTaken, a_joined, a_weights, a_gain, st, vl, tk, a_nextState, a_nextValue, a_nextTaken, a_cutState, a_cutValue, a_cutTaken, a_waitLevel, a_waitState, a_waitValue, a_waitTaken, a_rest)) :
    ∀ d i st vl tk, i + d = sz → ms_P sz s0 v0 t0 st vl tk → (∀ a b, a < b → b < i → (vl b).toInt ≤ (vl a).toInt) →
    wX_sortLayer_2 post f_n f_width f_forcedIn f_forcedOut f_mustIn f_mustOut (nI sz) f_nextSize f_cutLevel f_cutSize f_exact f_bestValue f_bestTaken (d + 1) (nI i) a_joined a_weights a_gain st vl tk a_nextState a_nextValue a_nextTaken a_cutState a_cutValue a_cutTaken a_waitLevel a_waitState a_waitValue a_waitTaken a_rest := by
  intro d
  induction d with
  | zero =>
    intro i st vl tk hi hP hS
    rw [wX_sortLayer_2]
    have hi : i = sz := by omega
    subst hi
    exact br_t (nI_le (Nat.le_refl _) (by omega)) (K _ _ _ hP hS)
  | succ d ih =>
    intro i st vl tk hi hP hS
    rw [wX_sortLayer_2]
    have c := nI_clamp (n := i) (by omega)
    have vi : vp_in (nI i) 64 := vp_in_nI (by omega) (by decide)
    refine br_f (nI_ge (by omega) (by omega)) ⟨vi, nm_r (e' := st i) (by rw [c]) ⟨vi, nm_r (e' := vl i) (by rw [c]) ⟨vi, nm_r (e' := tk i) (by rw [c]) (Exists.intro (i + 1) ?_)⟩⟩⟩
    refine xr_so35 (s0 := s0) (v0 := v0) (t0 := t0) (sz := sz) (by omega) hsz ?_ i st vl tk (Nat.le_refl _) ?_ ?_
    · intro st' vl' tk' hP' hS'
      exact ih (i + 1) st' vl' tk' (by omega) hP' hS'
    · rw [ms_i, ms_i, ms_i]; exact hP
    · intro a b hab hb z
      rw [ms_i]
      exact hS a b hab (by omega)
theorem xr_sortLayer {post : SX → Prop} {sz : Nat} (h1 : 1 ≤ sz) (hsz : sz ≤ 64)
    (K : ∀ st vl tk, ms_P sz a_state a_value a_taken st vl tk → (∀ a b, a < b → b < sz → (vl b).toInt ≤ (vl a).toInt) → post (f_n, f_width, f_forcedIn, f_forcedOut, f_mustIn, f_mustOut, nI sz, f_nextSize, f_cutLevel, f_cutSize, f_exact, f_bestValue, f_bestTaken, a_joined, a_weights, a_gain, st, vl, tk, a_nextState, a_nextValue, a_nextTaken, a_cutState, a_cutValue, a_cutTaken, a_waitLevel, a_waitState, a_waitValue, a_waitTaken, a_rest)) :
    wpX_sortLayer post (f_n, f_width, f_forcedIn, f_forcedOut, f_mustIn, f_mustOut, nI sz, f_nextSize, f_cutLevel, f_cutSize, f_exact, f_bestValue, f_bestTaken, a_joined, a_weights, a_gain, a_state, a_value, a_taken, a_nextState, a_nextValue, a_nextTaken, a_cutState, a_cutValue, a_cutTaken, a_waitLevel, a_waitState, a_waitValue, a_waitTaken, a_rest) :=
  Exists.intro ((sz - 1) + 1) (xr_so2 hsz K (sz - 1) 1 _ _ _ (by omega) ms_rf (fun a b h1 h2 => absurd h1 (by omega)))
/-! merge -/
theorem xr_mb2 {post : SX → Prop} {p : mp_B} {sz q : Nat} {s0 : Nat → Int32} (hp : mp_ok p) (hq : q < sz) (hsz : sz ≤ 64) (hG : ∀ k, k < sz → ∃ b, b < 2 ^ mp_n p ∧ s0 k = nI b)
    (K : ∀ st, ms_M p q sz s0 st → post (f_n, f_width, f_forcedIn, f_forcedOut, f_mustIn, f_mustOut, nI sz, f_nextSize, f_cutLevel, f_cutSize, f_exact, f_bestValue, f_bestTaken, a_joined, a_weights, a_gain, st, a_value, a_taken, a_nextState, a_nextValue, a_nextTaken, a_cutState, a_cutValue, a_cutTaken, a_waitLevel, a_waitState, a_waitValue, a_waitTaken, a_rest)) :
    ∀ d i st, i + d = sz → q < i → ms_M p q i s0 st →
    wX_mergeBehind_2 post (nI (q + 1)) f_n f_width f_forcedIn f_forcedOut f_mustIn f_mustOut (nI sz) f_nextSize f_cutLevel f_cutSize f_exact f_bestValue f_bestTaken (d + 1) (nI i) a_joined a_weights a_gain st a_value a_taken a_nextState a_nextValue a_nextTaken a_cutState a_cutValue a_cutTaken a_waitLevel a_waitState a_waitValue a_waitTaken a_rest := by
  intro d
  induction d with
  | zero =>
    intro i st hi hqi hM
    rw [wX_mergeBehind_2]
    have hi : i = sz := by omega
    subst hi
    exact br_t (nI_le (Nat.le_refl _) (by omega)) (K _ hM)
  | succ d ih =>
    intro i st hi hqi hM
    rw [wX_mergeBehind_2]
    have c := nI_clamp (n := i) (by omega)
    have cq := nI_clamp (n := q) (by omega)
    have e1 : nI (q + 1) - 1 = nI q := nI_pred q
    have vi : vp_in (nI i) 64 := vp_in_nI (by omega) (by decide)
    have vq : vp_in (nI (q + 1) - 1) 64 := by rw [e1]; exact vp_in_nI (by omega) (by decide)
    refine br_f (nI_ge (by omega) (by omega)) ⟨vq, vi, vq, nm_r (e' := upd st q (st q ||| st i)) (by rw [e1, cq, c]) (nm_r (nI_1 i) (ih (i + 1) _ (by omega) (by omega) ?_))⟩
    obtain ⟨M1, a, ha, ea, M2⟩ := hM
    obtain ⟨b, hb, eb⟩ := hG i (by omega)
    refine ⟨fun k hk => by rw [pk_un hk]; exact M1 k hk, a ||| b, Nat.or_lt_two_pow ha hb, ?_, ?_⟩
    · rw [pk_us, ea, M1 i (by omega), eb, mb_or]
    · intro k hk hki b' hb' eb' j hj
      rw [Nat.testBit_or]
      by_cases z : k = i
      · subst z
        have e := (nI_eq (mn_o31 hp hb) (mn_o31 hp hb')).mp (eb.symm.trans eb')
        rw [e, hj, Bool.or_true]
      · rw [M2 k hk (by omega) b' hb' eb' j hj, Bool.true_or]
theorem xr_mergeBehind {post : SX → Prop} {p : mp_B} {sz q : Nat} (hp : mp_ok p) (hq : q < sz) (hsz : sz ≤ 64) (hG : ∀ k, k < sz → ∃ b, b < 2 ^ mp_n p ∧ a_state k = nI b)
    (K : ∀ st, ms_M p q sz a_state st → post (f_n, f_width, f_forcedIn, f_forcedOut, f_mustIn, f_mustOut, nI sz, f_nextSize, f_cutLevel, f_cutSize, f_exact, f_bestValue, f_bestTaken, a_joined, a_weights, a_gain, st, a_value, a_taken, a_nextState, a_nextValue, a_nextTaken, a_cutState, a_cutValue, a_cutTaken, a_waitLevel, a_waitState, a_waitValue, a_waitTaken, a_rest)) :
    wpX_mergeBehind post (f_n, f_width, f_forcedIn, f_forcedOut, f_mustIn, f_mustOut, nI sz, f_nextSize, f_cutLevel, f_cutSize, f_exact, f_bestValue, f_bestTaken, a_joined, a_weights, a_gain, a_state, a_value, a_taken, a_nextState, a_nextValue, a_nextTaken, a_cutState, a_cutValue, a_cutTaken, a_waitLevel, a_waitState, a_waitValue, a_waitTaken, a_rest) (nI (q + 1)) := by
  refine Exists.intro ((sz - (q + 1)) + 1) (xr_mb2 hp hq hsz hG K (sz - (q + 1)) (q + 1) _ (by omega) (by omega) ?_)
  obtain ⟨b, hb, eb⟩ := hG q hq
  refine ⟨fun k _ => rfl, b, hb, eb, ?_⟩
  intro k h1 h2 b' hb' eb' i hi
  have : k = q := by omega
  subst this
  have e := (nI_eq (mn_o31 hp hb) (mn_o31 hp hb')).mp (eb.symm.trans eb')
  rw [e]; exact hi
end
end
section
/-! expand and the merged or cut-down run -/
def mn_L (p : mp_B) (f_n f_mustIn f_mustOut : Int32) (a_joined a_gain : Nat → Int32) : Prop :=
  mp_ok p ∧ f_n = nI (mp_n p) ∧ f_mustIn = nI (mp_I p) ∧ f_mustOut = nI (mp_O p) ∧ (∀ u, u < mp_n p → a_joined u = nI (mp_N p u)) ∧ (∀ u, u < mp_n p → a_gain u = nI (mp_g p u))
def mr_C (p : mp_B) (l v : Nat) (S : Nat → Prop) (cl cz : Int32) (cs cv ct : Nat → Int32) : Prop :=
  ∃ c z, l ≤ c ∧ c < v ∧ (c = l → v = l + 1) ∧ cl = nI c ∧ cz = nI z ∧ z ≤ 2 ^ (c - l) ∧ z ≤ 16 ∧ ml_I p c True S z cs cv ct
def mr_I (p : mp_B) (l v : Nat) (mg : Int32) (S : Nat → Prop) (sz : Nat) (ex : Int32) (st vl tk : Nat → Int32) (cl cz : Int32) (cs cv ct : Nat → Int32) : Prop :=
  sz ≤ 16 ∧ ml_I p v (mg = 0 ∨ ex = 1) (fun x => (¬ mg = 0 ∨ ex = 1) ∧ S x) sz st vl tk ∧ (ex = 1 ∨ (ex = 0 ∧ l + 2 ≤ v)) ∧ (ex = 1 → sz ≤ 2 ^ (v - l)) ∧ (¬ mg = 0 → v = l ∨ mr_C p l v S cl cz cs cv ct)
def mr_T (mg : Int32) (i : Nat) (vl tk : Nat → Int32) (bv0 bt0 top bv bt : Int32) : Prop :=
  (∀ k, k < i → (vl k).toInt ≤ top.toInt) ∧
  (mg = 0 → (∀ k, k < i → (vl k).toInt ≤ bv.toInt) ∧ bv0.toInt ≤ bv.toInt ∧ ((bv = bv0 ∧ bt = bt0) ∨ ∃ k, k < i ∧ bv = vl k ∧ bt = tk k)) ∧
  (¬ mg = 0 → bv = bv0 ∧ bt = bt0)
def mr_B (p : mp_B) (bv bt : Int32) : Prop :=
  (bv = -1 ∧ bt = 0) ∨ ∃ s, s < 2 ^ mp_n p ∧ mp_fe p (mp_n p) s ∧ bv = nI (mp_v (mp_g p) (mp_n p) s) ∧ bt = nI s
section
variable {f_n f_width f_forcedIn f_forcedOut f_mustIn f_mustOut f_size f_nextSize f_cutLevel f_cutSize f_exact f_bestValue f_bestTaken : Int32} {a_joined a_weights a_gain a_state a_value a_taken a_nextState a_nextValue a_nextTaken a_cutState a_cutValue a_cutTaken a_waitLevel a_waitState a_waitValue a_waitTaken a_rest : Nat → Int32}
theorem xr_ex39 {post : SX → Prop} {p : mp_B} {v i m : Nat} {rl : Prop} {S : Nat → Prop} (L : mn_L p f_n f_mustIn f_mustOut a_joined a_gain) (hv : v < mp_n p) (hi : i < 64) (hm : m < 64)
    (hG : mn_G p v (a_state i) (a_value i)) (hR : rl → mn_R p v (a_state i) (a_value i) (a_taken i)) (hI : ml_I p (v + 1) rl S m a_nextState a_nextValue a_nextTaken)
    (K : ∀ m' ns nv nt, m' ≤ m + 1 → ml_I p (v + 1) rl (fun x => S x ∨ (¬ (a_state i &&& nI (2 ^ v)) = 0 ∧ (mp_O p).testBit v = false ∧ mn_F p (v + 1) ((a_state i &&& (nI (2 ^ v) ^^^ (-1))) &&& (nI (mp_N p v) ^^^ (-1))) (a_value i + nI (mp_g p v)) x)) m' ns nv nt →
      post (f_n, f_width, f_forcedIn, f_forcedOut, f_mustIn, f_mustOut, f_size, nI m', f_cutLevel, f_cutSize, f_exact, f_bestValue, f_bestTaken, a_joined, a_weights, a_gain, a_state, a_value, a_taken, ns, nv, nt, a_cutState, a_cutValue, a_cutTaken, a_waitLevel, a_waitState, a_waitValue, a_waitTaken, a_rest)) :
    wX_expand_39 post (nI i) (nI v) (nI (2 ^ v)) f_n f_width f_forcedIn f_forcedOut f_mustIn f_mustOut f_size (nI m) f_cutLevel f_cutSize f_exact f_bestValue f_bestTaken a_joined a_weights a_gain a_state a_value a_taken a_nextState a_nextValue a_nextTaken a_cutState a_cutValue a_cutTaken a_waitLevel a_waitState a_waitValue a_waitTaken a_rest := by
  obtain ⟨hp, L1, L2, L3, L4, L5⟩ := L
  have hn := hp.2.1
  have c := nI_clamp (n := i) (by omega)
  have cv := nI_clamp (n := v) (by omega)
  have vi : vp_in (nI i) 64 := vp_in_nI hi (by decide)
  have vv : vp_in (nI v) 12 := vp_in_nI (by omega) (by decide)
  have hO : (f_mustOut &&& nI (2 ^ v)) = 0 ↔ (mp_O p).testBit v = false := by
    rw [L3, mb_and2 (by have := hp.2.2.2.2.1; omega)]
  unfold wX_expand_39
  refine ⟨vi, br_c (fun h => ?_) (fun h => br_c (fun h2 => ⟨vi, vv, vi, vv, vi, xr_reach hm (fun m' ns nv nt h3 h4 => ?_)⟩) (fun h2 => ?_))⟩
  · rw [c] at h
    exact K m _ _ _ (by omega) (ml_Sub (fun x hx => hx.elim id (fun z => absurd h z.1)) hI)
  · rw [c] at h h4
    rw [cv, L4 v hv, L5 v hv] at h4
    rw [hO] at h2
    have hI2 := ml_put hp (by omega) hI h4 (mn_G1 hp hv hG) (fun hr => mn_R1 hp hv (hR hr) h h2)
    exact K m' _ _ _ h3 (ml_Sub (fun x hx => hx.elim Or.inl (fun z => Or.inr z.2.2)) hI2)
  · rw [hO] at h2
    exact K m _ _ _ (by omega) (ml_Sub (fun x hx => hx.elim id (fun z => absurd z.2.1 h2)) hI)
theorem xr_expand {post : SX → Prop} {p : mp_B} {v i m : Nat} {rl : Prop} {S : Nat → Prop} (L : mn_L p f_n f_mustIn f_mustOut a_joined a_gain) (hv : v < mp_n p) (hi : i < 64) (hm : m + 2 ≤ 64)
    (hG : mn_G p v (a_state i) (a_value i)) (hR : rl → mn_R p v (a_state i) (a_value i) (a_taken i)) (hI : ml_I p (v + 1) rl S m a_nextState a_nextValue a_nextTaken)
    (K : ∀ m' ns nv nt, m' ≤ m + 2 → ml_I p (v + 1) rl (fun x => S x ∨ mn_F p v (a_state i) (a_value i) x) m' ns nv nt →
      post (f_n, f_width, f_forcedIn, f_forcedOut, f_mustIn, f_mustOut, f_size, nI m', f_cutLevel, f_cutSize, f_exact, f_bestValue, f_bestTaken, a_joined, a_weights, a_gain, a_state, a_value, a_taken, ns, nv, nt, a_cutState, a_cutValue, a_cutTaken, a_waitLevel, a_waitState, a_waitValue, a_waitTaken, a_rest)) :
    wpX_expand post (f_n, f_width, f_forcedIn, f_forcedOut, f_mustIn, f_mustOut, f_size, nI m, f_cutLevel, f_cutSize, f_exact, f_bestValue, f_bestTaken, a_joined, a_weights, a_gain, a_state, a_value, a_taken, a_nextState, a_nextValue, a_nextTaken, a_cutState, a_cutValue, a_cutTaken, a_waitLevel, a_waitState, a_waitValue, a_waitTaken, a_rest) (nI i) (nI v) := by
  have L' := L
  obtain ⟨hp, L1, L2, L3, L4, L5⟩ := L'
  have hn := hp.2.1
  have c := nI_clamp (n := i) (by omega)
  have vi : vp_in (nI i) 64 := vp_in_nI hi (by decide)
  have hO : (f_mustIn &&& nI (2 ^ v)) = 0 ↔ (mp_I p).testBit v = false := by
    rw [L2, mb_and2 (by have := hp.2.2.2.1; omega)]
  unfold wpX_expand
  refine nm_r (mb_sh v (by omega)) (br_c (fun h => ⟨vi, vi, vi, xr_reach (by omega) (fun m' ns nv nt h3 h4 => ?_)⟩) (fun h => ?_))
  · rw [c] at h4
    rw [hO] at h
    have hI2 := ml_put hp (by omega) hI h4 (mn_G0 hG) (fun hr => mn_R0 (hR hr) h)
    refine xr_ex39 (rl := rl) L hv hi (by omega) hG hR hI2 (fun m2 ns2 nv2 nt2 h5 h6 => K m2 _ _ _ (by omega) (ml_Sub ?_ h6))
    intro x hx
    rcases hx with hx | hx
    · exact Or.inl (Or.inl hx)
    · rcases mn_Fs hp hv hx with z | z
      · exact Or.inl (Or.inr z.2)
      · exact Or.inr z
  · rw [hO] at h
    refine xr_ex39 (rl := rl) L hv hi (by omega) hG hR hI (fun m2 ns2 nv2 nt2 h5 h6 => K m2 _ _ _ (by omega) (ml_Sub ?_ h6))
    intro x hx
    rcases hx with hx | hx
    · exact Or.inl hx
    · rcases mn_Fs hp hv hx with z | z
      · exact absurd z.1 h
      · exact Or.inr z
theorem xr_r39 {post : Int32 → SX → Prop} {J7 : Int32 → Int32 → Int32 → Int32 → Int32 → Int32 → Int32 → Int32 → Int32 → Int32 → Int32 → Int32 → Int32 → Int32 → (Nat → Int32) → (Nat → Int32) → (Nat → Int32) → (Nat → Int32) → (Nat → Int32) → (Nat → Int32) → (Nat → Int32) → (Nat → Int32) → (Nat → Int32) → (Nat → Int32) → (Nat → Int32) → (Nat → Int32) → (Nat → Int32) → (Nat → Int32) → (Nat → Int32) → (Nat → Int32) → (Nat → Int32) → Prop} {p : mp_B} {l v sz wd q : Nat} {mg : Int32} {rl : Prop} (L : mn_L p f_n f_mustIn f_mustOut a_joined a_gain) (hv : v < mp_n p) (hl : l ≤ v) (hsz : sz ≤ 16) (hwd : wd ≤ 16)
    (hq : (v = l ∧ wd < 2 ∧ q = 2) ∨ (¬ (v = l ∧ wd < 2) ∧ q = wd))
    (hG : ∀ k, k < sz → mn_G p v (a_state k) (a_value k)) (hR : rl → ∀ k, k < sz → mn_R p v (a_state k) (a_value k) (a_taken k))
    (K : ∀ m ns nv nt st vl tk, m ≤ 2 * sz → ml_I p (v + 1) rl (fun x => ∃ k, k < sz ∧ mn_F p v (a_state k) (a_value k) x) m st vl tk →
      wX_run_86 post J7 (nI l) mg (nI v) (nI q) f_n (nI wd) f_forcedIn f_forcedOut f_mustIn f_mustOut (nI m) (nI m) f_cutLevel f_cutSize f_exact f_bestValue f_bestTaken a_joined a_weights a_gain st vl tk ns nv nt a_cutState a_cutValue a_cutTaken a_waitLevel a_waitState a_waitValue a_waitTaken a_rest) :
    ∀ d i m ns nv nt, i + d = sz → m ≤ 2 * i → ml_I p (v + 1) rl (fun x => ∃ k, k < i ∧ mn_F p v (a_state k) (a_value k) x) m ns nv nt →
    wX_run_39 post J7 (nI l) mg (nI v) (d + 1) (nI i) f_n (nI wd) f_forcedIn f_forcedOut f_mustIn f_mustOut (nI sz) (nI m) f_cutLevel f_cutSize f_exact f_bestValue f_bestTaken a_joined a_weights a_gain a_state a_value a_taken ns nv nt a_cutState a_cutValue a_cutTaken a_waitLevel a_waitState a_waitValue a_waitTaken a_rest := by
  have hn := L.1.2.1
  intro d
  induction d with
  | zero =>
    intro i m ns nv nt hi hm hI
    rw [wX_run_39]
    have hi : i = sz := by omega
    subst hi
    refine br_t (nI_le (Nat.le_refl _) (by omega)) (xr_takeLayer (by omega) (fun st vl tk h => ?_))
    have hK := K m ns nv nt st vl tk hm (ml_cp hI h)
    show (_ → _) ∧ (_ → _)
    rcases hq with ⟨h1, h2, h3⟩ | ⟨h1, h2⟩
    · subst h1 h3
      exact br_t rfl (br_f (nI_ge (b := 2) h2 (by decide)) hK)
    · subst h2
      by_cases z : v = l
      · subst z
        exact br_t rfl (br_t (nI_le (a := 2) (by omega) (by omega)) hK)
      · refine br_f ?_ hK
        intro e
        exact z ((nI_eq (by omega) (by omega)).mp e)
  | succ d ih =>
    intro i m ns nv nt hi hm hI
    rw [wX_run_39]
    refine br_f (nI_ge (by omega) (by omega)) (xr_expand (rl := rl) L hv (by omega) (by omega) (hG i (by omega)) (fun hr => hR hr i (by omega)) hI (fun m' ns' nv' nt' h1 h2 => nm_r (nI_1 i) (ih (i + 1) m' ns' nv' nt' (by omega) (by omega) (ml_Sub ?_ h2))))
    intro x hx
    obtain ⟨k, hk, hF⟩ := hx
    by_cases z : k = i
    · subst z; exact Or.inr hF
    · exact Or.inl ⟨k, by omega, hF⟩
theorem xr_r86 {post : Int32 → SX → Prop} {J7 : Int32 → Int32 → Int32 → Int32 → Int32 → Int32 → Int32 → Int32 → Int32 → Int32 → Int32 → Int32 → Int32 → Int32 → (Nat → Int32) → (Nat → Int32) → (Nat → Int32) → (Nat → Int32) → (Nat → Int32) → (Nat → Int32) → (Nat → Int32) → (Nat → Int32) → (Nat → Int32) → (Nat → Int32) → (Nat → Int32) → (Nat → Int32) → (Nat → Int32) → (Nat → Int32) → (Nat → Int32) → (Nat → Int32) → (Nat → Int32) → Prop} {p : mp_B} {v m q : Nat} {x1 mg : Int32} {rl : Prop} {S : Nat → Prop} (hp : mp_ok p) (hv : v < mp_n p) (hq1 : 1 ≤ q) (hq : q ≤ 16) (hm : m ≤ 64)
    (hI : ml_I p (v + 1) rl S m a_state a_value a_taken)
    (Ka : m ≤ q → J7 (nI (v + 1)) f_n f_width f_forcedIn f_forcedOut f_mustIn f_mustOut (nI m) f_nextSize f_cutLevel f_cutSize f_exact f_bestValue f_bestTaken a_joined a_weights a_gain a_state a_value a_taken a_nextState a_nextValue a_nextTaken a_cutState a_cutValue a_cutTaken a_waitLevel a_waitState a_waitValue a_waitTaken a_rest)
    (Kb : q < m → mg = 0 → ∀ st vl tk, ml_I p (v + 1) rl (fun _ => False) q st vl tk → J7 (nI (v + 1)) f_n f_width f_forcedIn f_forcedOut f_mustIn f_mustOut (nI q) f_nextSize f_cutLevel f_cutSize 0 f_bestValue f_bestTaken a_joined a_weights a_gain st vl tk a_nextState a_nextValue a_nextTaken a_cutState a_cutValue a_cutTaken a_waitLevel a_waitState a_waitValue a_waitTaken a_rest)
    (Kc : q < m → ¬ mg = 0 → ∀ st vl tk, ml_I p (v + 1) False S q st vl tk → J7 (nI (v + 1)) f_n f_width f_forcedIn f_forcedOut f_mustIn f_mustOut (nI q) f_nextSize f_cutLevel f_cutSize 0 f_bestValue f_bestTaken a_joined a_weights a_gain st vl tk a_nextState a_nextValue a_nextTaken a_cutState a_cutValue a_cutTaken a_waitLevel a_waitState a_waitValue a_waitTaken a_rest) :
    wX_run_86 post J7 x1 mg (nI v) (nI q) f_n f_width f_forcedIn f_forcedOut f_mustIn f_mustOut (nI m) f_nextSize f_cutLevel f_cutSize f_exact f_bestValue f_bestTaken a_joined a_weights a_gain a_state a_value a_taken a_nextState a_nextValue a_nextTaken a_cutState a_cutValue a_cutTaken a_waitLevel a_waitState a_waitValue a_waitTaken a_rest := by
  unfold wX_run_86
  refine pk_le m q (fun h => nm_r (nI_1 v) (Ka h)) (fun h => xr_sortLayer (by omega) hm (fun st vl tk hP hS => ?_))
  have hI2 := ml_pm hI hP
  refine br_c (fun hg => nm_r (nI_1 v) (Kb h hg _ _ _ (ml_cut hI2 (by omega)))) (fun hg => ?_)
  obtain ⟨r, rfl⟩ : ∃ r, q = r + 1 := ⟨q - 1, by omega⟩
  refine xr_mergeBehind hp (by omega) hm (fun k hk => ?_) (fun st' hM => nm_r (nI_1 v) (Kc h hg _ _ _ (ml_mg hp (by omega) hI2 (by omega) (fun k h1 h2 => ?_) hM)))
  · obtain ⟨a, b, g1, g2, g3, g4⟩ := hI2.1 k hk
    exact ⟨a, g1, g3⟩
  · by_cases z : k = r
    · subst z; exact Int.le_refl _
    · exact hS r k (by omega) h2
theorem xr_step {post : Int32 → SX → Prop} {J7 : Int32 → Int32 → Int32 → Int32 → Int32 → Int32 → Int32 → Int32 → Int32 → Int32 → Int32 → Int32 → Int32 → Int32 → (Nat → Int32) → (Nat → Int32) → (Nat → Int32) → (Nat → Int32) → (Nat → Int32) → (Nat → Int32) → (Nat → Int32) → (Nat → Int32) → (Nat → Int32) → (Nat → Int32) → (Nat → Int32) → (Nat → Int32) → (Nat → Int32) → (Nat → Int32) → (Nat → Int32) → (Nat → Int32) → (Nat → Int32) → Prop} {p : mp_B} {l v sz wd : Nat} {mg ex : Int32} {S : Nat → Prop} (L : mn_L p f_n f_mustIn f_mustOut a_joined a_gain) (hv : v < mp_n p) (hl : l ≤ v) (hwd1 : 1 ≤ wd) (hwd : wd ≤ 16)
    (hsz : sz ≤ 16) (hI : ml_I p v (mg = 0 ∨ ex = 1) (fun x => (¬ mg = 0 ∨ ex = 1) ∧ S x) sz a_state a_value a_taken) (he : ex = 1 ∨ (ex = 0 ∧ l + 2 ≤ v)) (hz : ex = 1 → sz ≤ 2 ^ (v - l))
    (hC : ¬ mg = 0 → mr_C p l (v + 1) S f_cutLevel f_cutSize a_cutState a_cutValue a_cutTaken)
    (K : ∀ sz' nz ex' st vl tk ns nv nt, mr_I p l (v + 1) mg S sz' ex' st vl tk f_cutLevel f_cutSize a_cutState a_cutValue a_cutTaken →
      J7 (nI (v + 1)) f_n (nI wd) f_forcedIn f_forcedOut f_mustIn f_mustOut (nI sz') nz f_cutLevel f_cutSize ex' f_bestValue f_bestTaken a_joined a_weights a_gain st vl tk ns nv nt a_cutState a_cutValue a_cutTaken a_waitLevel a_waitState a_waitValue a_waitTaken a_rest) :
    ∃ n39 : Nat, wX_run_39 post J7 (nI l) mg (nI v) n39 0 f_n (nI wd) f_forcedIn f_forcedOut f_mustIn f_mustOut (nI sz) 0 f_cutLevel f_cutSize ex f_bestValue f_bestTaken a_joined a_weights a_gain a_state a_value a_taken a_nextState a_nextValue a_nextTaken a_cutState a_cutValue a_cutTaken a_waitLevel a_waitState a_waitValue a_waitTaken a_rest := by
  have hp := L.1
  obtain ⟨q, hq⟩ : ∃ q, (v = l ∧ wd < 2 ∧ q = 2) ∨ (¬ (v = l ∧ wd < 2) ∧ q = wd) := by
    by_cases z : v = l ∧ wd < 2
    · exact ⟨2, Or.inl ⟨z.1, z.2, rfl⟩⟩
    · exact ⟨wd, Or.inr ⟨z, rfl⟩⟩
  have n01 : ¬ (0 : Int32) = 1 := by decide
  have hdbl : ex = 1 → 2 * sz ≤ 2 ^ (v + 1 - l) := by
    intro h
    have := hz h
    rw [show v + 1 - l = (v - l) + 1 by omega, Nat.pow_succ]
    omega
  have hlate : ∀ m, m ≤ 2 * sz → q < m → l + 2 ≤ v + 1 := by
    intro m h1 h2
    by_cases z : v = l
    · rcases he with h | h
      · have h3 := hz h
        rw [z, Nat.sub_self] at h3
        have h4 : sz ≤ 1 := h3
        rcases hq with h5 | h5
        · omega
        · omega
      · omega
    · omega
  refine Exists.intro (sz + 1) (xr_r39 (rl := (mg = 0 ∨ ex = 1)) L hv hl hsz hwd hq hI.1 hI.2.1 (fun m ns nv nt st vl tk h1 h2 => xr_r86 hp hv (by omega) (by omega) (by omega) h2 (fun h => ?_) (fun h hg st' vl' tk' h3 => ?_) (fun h hg st' vl' tk' h3 => ?_)) sz 0 0 _ _ _ (by omega) (by omega) ?_)
  · refine K _ _ _ _ _ _ _ _ _ ⟨by omega, ml_Sub (fun x hx => hI.2.2 x hx) h2, ?_, fun h4 => Nat.le_trans h1 (hdbl h4), fun hg => Or.inr (hC hg)⟩
    rcases he with h4 | h4
    · exact Or.inl h4
    · exact Or.inr ⟨h4.1, by omega⟩
  · refine K _ _ _ _ _ _ _ _ _ ⟨by omega, ?_, Or.inr ⟨rfl, hlate m h1 h⟩, fun z => absurd z n01, fun hg' => absurd hg hg'⟩
    refine ⟨h3.1, fun _ => h3.2.1 (Or.inl hg), ?_⟩
    intro x hx
    rcases hx.1 with z | z
    · exact absurd hg z
    · exact absurd z n01
  · refine K _ _ _ _ _ _ _ _ _ ⟨by omega, ?_, Or.inr ⟨rfl, hlate m h1 h⟩, fun z => absurd z n01, fun hg' => Or.inr (hC hg')⟩
    refine ⟨h3.1, ?_, ?_⟩
    · intro z
      rcases z with z | z
      · exact absurd z hg
      · exact absurd z n01
    · intro x hx
      exact h3.2.2 x (hI.2.2 x ⟨Or.inl hg, hx.2⟩)
  · exact ⟨fun k hk => absurd hk (by omega), fun _ k hk => absurd hk (by omega), fun x hx => by obtain ⟨k, hk, _⟩ := hx; omega⟩
end
end
section
/-! the run's last loop, its main loop, and what the two runs give -/
theorem mr_Ts {mg : Int32} {i : Nat} {vl tk : Nat → Int32} {bv0 bt0 top bv bt top' bv' bt' : Int32} (h : mr_T mg i vl tk bv0 bt0 top bv bt)
    (h1 : ((vl i).toInt ≤ top.toInt ∧ top' = top) ∨ (top.toInt ≤ (vl i).toInt ∧ top' = vl i))
    (h2 : mg = 0 → ((vl i).toInt ≤ bv.toInt ∧ bv' = bv ∧ bt' = bt) ∨ (bv.toInt ≤ (vl i).toInt ∧ bv' = vl i ∧ bt' = tk i)) (h3 : ¬ mg = 0 → bv' = bv ∧ bt' = bt) :
    mr_T mg (i + 1) vl tk bv0 bt0 top' bv' bt' := by
  obtain ⟨a, b, c⟩ := h
  refine ⟨?_, ?_, ?_⟩
  · intro k hk
    by_cases z : k = i
    · subst z
      rcases h1 with ⟨h1, rfl⟩ | ⟨h1, rfl⟩
      · exact h1
      · exact Int.le_refl _
    · have := a k (by omega)
      rcases h1 with ⟨h1, rfl⟩ | ⟨h1, rfl⟩
      · exact this
      · exact Int.le_trans this h1
  · intro hg
    obtain ⟨b1, b2, b3⟩ := b hg
    rcases h2 hg with ⟨h4, rfl, rfl⟩ | ⟨h4, rfl, rfl⟩
    · refine ⟨?_, b2, ?_⟩
      · intro k hk
        by_cases z : k = i
        · subst z; exact h4
        · exact b1 k (by omega)
      · rcases b3 with b3 | ⟨k, hk, b3⟩
        · exact Or.inl b3
        · exact Or.inr ⟨k, by omega, b3⟩
    · refine ⟨?_, Int.le_trans b2 h4, Or.inr ⟨i, by omega, rfl, rfl⟩⟩
      intro k hk
      by_cases z : k = i
      · subst z; exact Int.le_refl _
      · exact Int.le_trans (b1 k (by omega)) h4
  · intro hg
    obtain ⟨c1, c2⟩ := c hg
    obtain ⟨d1, d2⟩ := h3 hg
    exact ⟨d1.trans c1, d2.trans c2⟩
theorem mr_nle {x y : Int32} (h : ¬ x ≤ y) : y.toInt ≤ x.toInt := by
  rw [Int32.le_iff_toInt_le] at h
  omega
section
variable {f_n f_width f_forcedIn f_forcedOut f_mustIn f_mustOut f_size f_nextSize f_cutLevel f_cutSize f_exact f_bestValue f_bestTaken : Int32} {a_joined a_weights a_gain a_state a_value a_taken a_nextState a_nextValue a_nextTaken a_cutState a_cutValue a_cutTaken a_waitLevel a_waitState a_waitValue a_waitTaken a_rest : Nat → Int32}
theorem xr_r161 {post : Int32 → SX → Prop} {J : Int32 → Int32 → Int32 → Int32 → Prop} {mg top top' bv0 bt0 : Int32} {i : Nat} (hi : i < 64)
    (hT : mr_T mg i a_value a_taken bv0 bt0 top f_bestValue f_bestTaken)
    (h1 : ((a_value i).toInt ≤ top.toInt ∧ top' = top) ∨ (top.toInt ≤ (a_value i).toInt ∧ top' = a_value i))
    (K : ∀ bv bt, mr_T mg (i + 1) a_value a_taken bv0 bt0 top' bv bt → J top' (nI (i + 1)) bv bt) :
    wX_run_161 post J mg top' (nI i) f_n f_width f_forcedIn f_forcedOut f_mustIn f_mustOut f_size f_nextSize f_cutLevel f_cutSize f_exact f_bestValue f_bestTaken a_joined a_weights a_gain a_state a_value a_taken a_nextState a_nextValue a_nextTaken a_cutState a_cutValue a_cutTaken a_waitLevel a_waitState a_waitValue a_waitTaken a_rest := by
  have c := nI_clamp (n := i) (by omega)
  have vi : vp_in (nI i) 64 := vp_in_nI hi (by decide)
  unfold wX_run_161
  refine br_c (fun hg => ⟨vi, br_c (fun h => nm_r (nI_1 i) (K _ _ ?_)) (fun h => ⟨vi, nm_r (e' := a_value i) (by rw [c]) ⟨vi, nm_r (e' := a_taken i) (by rw [c]) (nm_r (nI_1 i) (K _ _ ?_))⟩⟩)⟩) (fun hg => nm_r (nI_1 i) (K _ _ ?_))
  · rw [c, Int32.le_iff_toInt_le] at h
    exact mr_Ts hT h1 (fun _ => Or.inl ⟨h, rfl, rfl⟩) (fun z => absurd hg z)
  · rw [c] at h
    exact mr_Ts hT h1 (fun _ => Or.inr ⟨mr_nle h, rfl, rfl⟩) (fun z => absurd hg z)
  · exact mr_Ts hT h1 (fun z => absurd z hg) (fun _ => ⟨rfl, rfl⟩)
theorem xr_r133 {post : Int32 → SX → Prop} {mg bv0 bt0 : Int32} {sz : Nat} (hsz : sz ≤ 64)
    (K : ∀ top bv bt, mr_T mg sz a_value a_taken bv0 bt0 top bv bt → post top (f_n, f_width, f_forcedIn, f_forcedOut, f_mustIn, f_mustOut, nI sz, f_nextSize, f_cutLevel, f_cutSize, f_exact, bv, bt, a_joined, a_weights, a_gain, a_state, a_value, a_taken, a_nextState, a_nextValue, a_nextTaken, a_cutState, a_cutValue, a_cutTaken, a_waitLevel, a_waitState, a_waitValue, a_waitTaken, a_rest)) :
    ∀ d i top bv bt, i + d = sz → mr_T mg i a_value a_taken bv0 bt0 top bv bt →
    wX_run_133 post mg f_n f_width f_forcedIn f_forcedOut f_mustIn f_mustOut (nI sz) f_nextSize f_cutLevel f_cutSize f_exact a_joined a_weights a_gain a_state a_value a_taken a_nextState a_nextValue a_nextTaken a_cutState a_cutValue a_cutTaken a_waitLevel a_waitState a_waitValue a_waitTaken a_rest (d + 1) top (nI i) bv bt := by
  intro d
  induction d with
  | zero =>
    intro i top bv bt hi hT
    rw [wX_run_133]
    have hi : i = sz := by omega
    subst hi
    exact br_t (nI_le (Nat.le_refl _) (by omega)) (K _ _ _ hT)
  | succ d ih =>
    intro i top bv bt hi hT
    rw [wX_run_133]
    have c := nI_clamp (n := i) (by omega)
    have vi : vp_in (nI i) 64 := vp_in_nI (by omega) (by decide)
    refine br_f (nI_ge (by omega) (by omega)) ⟨vi, br_c (fun h => xr_r161 (bv0 := bv0) (bt0 := bt0) (top := top) (by omega) hT (Or.inl ⟨?_, rfl⟩) (fun bv' bt' h' => ih (i + 1) _ bv' bt' (by omega) h')) (fun h => ⟨vi, nm_r (e' := a_value i) (by rw [c]) (xr_r161 (bv0 := bv0) (bt0 := bt0) (top := top) (by omega) hT (Or.inr ⟨?_, rfl⟩) (fun bv' bt' h' => ih (i + 1) _ bv' bt' (by omega) h'))⟩)⟩
    · rw [c, Int32.le_iff_toInt_le] at h
      exact h
    · rw [c] at h
      exact mr_nle h
theorem xr_r7 {post : Int32 → SX → Prop} {p : mp_B} {l wd : Nat} {mg : Int32} {S : Nat → Prop} (L : mn_L p f_n f_mustIn f_mustOut a_joined a_gain) (hwd1 : 1 ≤ wd) (hwd : wd ≤ 16)
    (K : ∀ sz nz cl cz ex top bv bt st vl tk ns nv nt cs cv ct, mr_I p l (mp_n p) mg S sz ex st vl tk cl cz cs cv ct → mr_T mg sz vl tk f_bestValue f_bestTaken top bv bt →
      post top (f_n, nI wd, f_forcedIn, f_forcedOut, f_mustIn, f_mustOut, nI sz, nz, cl, cz, ex, bv, bt, a_joined, a_weights, a_gain, st, vl, tk, ns, nv, nt, cs, cv, ct, a_waitLevel, a_waitState, a_waitValue, a_waitTaken, a_rest)) :
    ∀ d v sz nz cl cz ex st vl tk ns nv nt cs cv ct, v + d = mp_n p → l ≤ v → mr_I p l v mg S sz ex st vl tk cl cz cs cv ct →
    wX_run_7 post (nI l) mg (d + 1) (nI v) f_n (nI wd) f_forcedIn f_forcedOut f_mustIn f_mustOut (nI sz) nz cl cz ex f_bestValue f_bestTaken a_joined a_weights a_gain st vl tk ns nv nt cs cv ct a_waitLevel a_waitState a_waitValue a_waitTaken a_rest := by
  have hn := L.1.2.1
  have L1 := L.2.1
  intro d
  induction d with
  | zero =>
    intro v sz nz cl cz ex st vl tk ns nv nt cs cv ct hv hl hI
    rw [wX_run_7]
    have hv : v = mp_n p := by omega
    subst hv
    have h16 := hI.1
    refine br_t (by rw [L1]; exact nI_le (Nat.le_refl _) (by omega)) (Exists.intro (sz + 1) (xr_r133 (bv0 := f_bestValue) (bt0 := f_bestTaken) (by omega) (fun top bv bt hT => K _ _ _ _ _ _ _ _ _ _ _ _ _ _ _ _ _ hI hT) sz 0 _ _ _ (by omega) ?_))
    exact ⟨fun k hk => absurd hk (by omega), fun _ => ⟨fun k hk => absurd hk (by omega), Int.le_refl _, Or.inl ⟨rfl, rfl⟩⟩, fun _ => ⟨rfl, rfl⟩⟩
  | succ d ih =>
    intro v sz nz cl cz ex st vl tk ns nv nt cs cv ct hv hl hI
    rw [wX_run_7]
    obtain ⟨I1, I2, I3, I4, I5⟩ := hI
    have n01 : ¬ (0 : Int32) = 1 := by decide
    refine br_f (by rw [L1]; exact nI_ge (by omega) (by omega)) (br_c (fun h => ?_) (fun h => br_c (fun hg => ?_) (fun hg => xr_keepCut (by omega) (fun cs' cv' ct' hc => ?_))))
    · subst h
      refine xr_step L (by omega) hl hwd1 hwd I1 I2 I3 I4 (fun hg => ?_) (fun sz' nz' ex' st' vl' tk' ns' nv' nt' h' => ih (v + 1) _ _ _ _ _ _ _ _ _ _ _ _ _ _ (by omega) (by omega) h')
      rcases I3 with z | ⟨_, z⟩
      · exact absurd z n01
      · rcases I5 hg with z2 | ⟨c, y, q1, q2, q3, q4⟩
        · omega
        · exact ⟨c, y, q1, by omega, fun e => absurd (q3 e) (by omega), q4⟩
    · exact xr_step L (by omega) hl hwd1 hwd I1 I2 I3 I4 (fun hg' => absurd hg hg') (fun sz' nz' ex' st' vl' tk' ns' nv' nt' h' => ih (v + 1) _ _ _ _ _ _ _ _ _ _ _ _ _ _ (by omega) (by omega) h')
    · have e1 : ex = 1 := by
        rcases I3 with z | z
        · exact z
        · exact absurd z.1 h
      refine xr_step L (by omega) hl hwd1 hwd I1 I2 I3 I4 (fun _ => ?_) (fun sz' nz' ex' st' vl' tk' ns' nv' nt' h' => ih (v + 1) _ _ _ _ _ _ _ _ _ _ _ _ _ _ (by omega) (by omega) h')
      refine ⟨v, sz, hl, by omega, fun e => by omega, rfl, rfl, I4 e1, I1, ?_⟩
      refine ml_cp ⟨I2.1, fun _ => I2.2.1 (Or.inr e1), fun x hx => I2.2.2 x ⟨Or.inr e1, hx⟩⟩ hc
theorem xr_run {post : Int32 → SX → Prop} {p : mp_B} {l wd : Nat} {mg : Int32} (L : mn_L p f_n f_mustIn f_mustOut a_joined a_gain) (hwd1 : 1 ≤ wd) (hwd : wd ≤ 16) (hl : l < mp_n p)
    (hR : mn_R p l (a_state 0) (a_value 0) (a_taken 0))
    (K : ∀ sz nz cl cz ex top bv bt st vl tk ns nv nt cs cv ct, mr_I p l (mp_n p) mg (mn_F p l (a_state 0) (a_value 0)) sz ex st vl tk cl cz cs cv ct → mr_T mg sz vl tk f_bestValue f_bestTaken top bv bt →
      post top (f_n, nI wd, f_forcedIn, f_forcedOut, f_mustIn, f_mustOut, nI sz, nz, cl, cz, ex, bv, bt, a_joined, a_weights, a_gain, st, vl, tk, ns, nv, nt, cs, cv, ct, a_waitLevel, a_waitState, a_waitValue, a_waitTaken, a_rest)) :
    wpX_run post (f_n, nI wd, f_forcedIn, f_forcedOut, f_mustIn, f_mustOut, 1, f_nextSize, f_cutLevel, f_cutSize, f_exact, f_bestValue, f_bestTaken, a_joined, a_weights, a_gain, a_state, a_value, a_taken, a_nextState, a_nextValue, a_nextTaken, a_cutState, a_cutValue, a_cutTaken, a_waitLevel, a_waitState, a_waitValue, a_waitTaken, a_rest) (nI l) mg := by
  refine Exists.intro ((mp_n p - l) + 1) (xr_r7 L hwd1 hwd K (mp_n p - l) l 1 _ _ _ 1 _ _ _ _ _ _ _ _ _ (by omega) (Nat.le_refl _) ⟨by decide, ?_, Or.inl rfl, fun _ => Nat.two_pow_pos _, fun _ => Or.inl rfl⟩)
  have hG := mn_RG L.1 (by omega) hR
  refine ⟨?_, ?_, ?_⟩
  · intro k hk
    have : k = 0 := by omega
    subst this; exact hG
  · intro _ k hk
    have : k = 0 := by omega
    subst this; exact hR
  · intro x hx
    exact ⟨0, by decide, hx.2⟩
theorem mr_end {p : mp_B} (hp : mp_ok p) {o w : Int32} {x : Nat} (h : mn_F p (mp_n p) o w x) : (x : Int) ≤ w.toInt := by
  obtain ⟨a, b, h1, h2, h3, h4, h5⟩ := h
  rw [Nat.sub_self] at h5
  have h5 : x ≤ b := h5
  have := hp.2.1
  rw [h4, nI_toInt (by omega)]
  omega
theorem xr_run0 {post : Int32 → SX → Prop} {p : mp_B} {l wd : Nat} (L : mn_L p f_n f_mustIn f_mustOut a_joined a_gain) (hwd1 : 1 ≤ wd) (hwd : wd ≤ 16) (hl : l < mp_n p)
    (hR : mn_R p l (a_state 0) (a_value 0) (a_taken 0)) (hB : mr_B p f_bestValue f_bestTaken)
    (K : ∀ r z1 z2 z3 z4 ex bv bt st vl tk ns nv nt cs cv ct, (ex = 1 ∨ (ex = 0 ∧ l + 2 ≤ mp_n p)) → (ex = 1 → ∀ x : Nat, mn_F p l (a_state 0) (a_value 0) x → (x : Int) ≤ bv.toInt) → f_bestValue.toInt ≤ bv.toInt → mr_B p bv bt →
      post r (f_n, nI wd, f_forcedIn, f_forcedOut, f_mustIn, f_mustOut, z1, z2, z3, z4, ex, bv, bt, a_joined, a_weights, a_gain, st, vl, tk, ns, nv, nt, cs, cv, ct, a_waitLevel, a_waitState, a_waitValue, a_waitTaken, a_rest)) :
    wpX_run post (f_n, nI wd, f_forcedIn, f_forcedOut, f_mustIn, f_mustOut, 1, f_nextSize, f_cutLevel, f_cutSize, f_exact, f_bestValue, f_bestTaken, a_joined, a_weights, a_gain, a_state, a_value, a_taken, a_nextState, a_nextValue, a_nextTaken, a_cutState, a_cutValue, a_cutTaken, a_waitLevel, a_waitState, a_waitValue, a_waitTaken, a_rest) (nI l) 0 := by
  refine xr_run L hwd1 hwd hl hR (fun sz nz cl cz ex top bv bt st vl tk ns nv nt cs cv ct hI hT => K _ _ _ _ _ _ _ _ _ _ _ _ _ _ _ _ _ hI.2.2.1 ?_ (hT.2.1 rfl).2.1 ?_)
  · intro he x hx
    obtain ⟨k, hk, hF⟩ := hI.2.1.2.2 x ⟨Or.inr he, hx⟩
    exact Int.le_trans (mr_end L.1 hF) ((hT.2.1 rfl).1 k hk)
  · rcases (hT.2.1 rfl).2.2 with ⟨h1, h2⟩ | ⟨k, hk, h1, h2⟩
    · rw [h1, h2]; exact hB
    · obtain ⟨s, q1, q2, q3, q4, q5⟩ := hI.2.1.2.1 (Or.inl rfl) k hk
      exact Or.inr ⟨s, q1, q2, h1.trans q4, h2.trans q5⟩
theorem xr_run1 {post : Int32 → SX → Prop} {p : mp_B} {l wd : Nat} (L : mn_L p f_n f_mustIn f_mustOut a_joined a_gain) (hwd1 : 1 ≤ wd) (hwd : wd ≤ 16) (hl : l < mp_n p)
    (hR : mn_R p l (a_state 0) (a_value 0) (a_taken 0))
    (K : ∀ r z1 z2 c z ex st vl tk ns nv nt cs cv ct, (∀ x : Nat, mn_F p l (a_state 0) (a_value 0) x → (x : Int) ≤ r.toInt) →
      l ≤ c → c < mp_n p → (c = l → mp_n p = l + 1) → z ≤ 2 ^ (c - l) → z ≤ 16 → ml_I p c True (mn_F p l (a_state 0) (a_value 0)) z cs cv ct →
      post r (f_n, nI wd, f_forcedIn, f_forcedOut, f_mustIn, f_mustOut, z1, z2, nI c, nI z, ex, f_bestValue, f_bestTaken, a_joined, a_weights, a_gain, st, vl, tk, ns, nv, nt, cs, cv, ct, a_waitLevel, a_waitState, a_waitValue, a_waitTaken, a_rest)) :
    wpX_run post (f_n, nI wd, f_forcedIn, f_forcedOut, f_mustIn, f_mustOut, 1, f_nextSize, f_cutLevel, f_cutSize, f_exact, f_bestValue, f_bestTaken, a_joined, a_weights, a_gain, a_state, a_value, a_taken, a_nextState, a_nextValue, a_nextTaken, a_cutState, a_cutValue, a_cutTaken, a_waitLevel, a_waitState, a_waitValue, a_waitTaken, a_rest) (nI l) 1 := by
  have n10 : ¬ (1 : Int32) = 0 := by decide
  refine xr_run L hwd1 hwd hl hR (fun sz nz cl cz ex top bv bt st vl tk ns nv nt cs cv ct hI hT => ?_)
  obtain ⟨e1, e2⟩ := hT.2.2 n10
  subst e1 e2
  rcases hI.2.2.2.2 n10 with h | ⟨c, z, q1, q2, q3, q4, q5, q6, q7, q8⟩
  · omega
  · subst q4 q5
    refine K _ _ _ _ _ _ _ _ _ _ _ _ _ _ _ ?_ q1 q2 q3 q6 q7 q8
    intro x hx
    obtain ⟨k, hk, hF⟩ := hI.2.1.2.2 x ⟨Or.inl n10, hx⟩
    exact Int.le_trans (mr_end L.1 hF) (hT.1 k hk)
end
end
section
/-! the branch and bound loop -/
def mo_K (p : mp_B) (h : Nat) (lv : Nat → Nat) (wl ws wv wt : Nat → Int32) : Prop :=
  ∀ j, j < h → lv j < mp_n p ∧ j ≤ 16 * lv j ∧ wl j = nI (lv j) ∧ mn_R p (lv j) (ws j) (wv j) (wt j)
def mo_P (n : Nat) (lv : Nat → Nat) : Nat → Nat
  | 0 => 0
  | h + 1 => mo_P n lv h + (2 ^ (n - lv h) - 1)
theorem mo_Pc (n : Nat) {lv lv' : Nat → Nat} : ∀ h, (∀ j, j < h → lv j = lv' j) → mo_P n lv h = mo_P n lv' h
  | 0, _ => rfl
  | h + 1, e => by
    unfold mo_P
    rw [mo_Pc n h (fun j hj => e j (by omega)), e h (by omega)]
theorem mo_Pa (n c h : Nat) {lv lv' : Nat → Nat} (e : ∀ j, j < h → lv' j = lv j) : ∀ z, (∀ k, k < z → lv' (h + k) = c) → mo_P n lv' (h + z) = mo_P n lv h + z * (2 ^ (n - c) - 1)
  | 0, _ => by
    rw [Nat.zero_mul, Nat.add_zero, Nat.add_zero]
    exact mo_Pc n h e
  | z + 1, q => by
    rw [← Nat.add_assoc]
    show mo_P n lv' (h + z) + (2 ^ (n - lv' (h + z)) - 1) = _
    rw [mo_Pa n c h e z (fun k hk => q k (by omega)), q z (by omega), Nat.add_mul, Nat.one_mul, Nat.add_assoc]
/-- the cut's nodes weigh less than the node that they stand for -/
theorem mo_less {n l c z : Nat} (h1 : l < c) (h2 : c < n) (hz : z ≤ 2 ^ (c - l)) : z * (2 ^ (n - c) - 1) + 1 ≤ 2 ^ (n - l) - 1 := by
  have e : 2 ^ (n - l) = 2 ^ (c - l) * 2 ^ (n - c) := by
    rw [← Nat.pow_add]
    exact congrArg (2 ^ ·) (by omega)
  have h3 : 2 ^ 1 ≤ 2 ^ (c - l) := Nat.pow_le_pow_right (by decide) (by omega)
  have h4 : z * (2 ^ (n - c) - 1) ≤ 2 ^ (c - l) * (2 ^ (n - c) - 1) := Nat.mul_le_mul_right _ hz
  rw [Nat.mul_sub (2 ^ (c - l)) (2 ^ (n - c)) 1, Nat.mul_one, ← e] at h4
  have h5 : 2 ^ (c - l) ≤ 2 ^ (n - l) := Nat.pow_le_pow_right (by decide) (by omega)
  generalize z * (2 ^ (n - c) - 1) = a at *
  generalize 2 ^ (c - l) = b at *
  generalize 2 ^ (n - l) = d at *
  omega
theorem mo_pos {n l : Nat} (h : l < n) : 1 ≤ 2 ^ (n - l) - 1 := by
  have : 2 ^ 1 ≤ 2 ^ (n - l) := Nat.pow_le_pow_right (by decide) (by omega)
  omega
def mo_V (p : mp_B) (h : Nat) (lv : Nat → Nat) (ws wv : Nat → Int32) (bv : Int32) : Prop :=
  ∀ x : Nat, mp_of p (mp_n p) 0 (2 ^ mp_n p - 1) 0 x → (x : Int) ≤ bv.toInt ∨ ∃ j, j < h ∧ mn_F p (lv j) (ws j) (wv j) x
section
variable {f_n f_width f_forcedIn f_forcedOut f_mustIn f_mustOut f_size f_nextSize f_cutLevel f_cutSize f_exact f_bestValue f_bestTaken : Int32} {a_joined a_weights a_gain a_state a_value a_taken a_nextState a_nextValue a_nextTaken a_cutState a_cutValue a_cutTaken a_waitLevel a_waitState a_waitValue a_waitTaken a_rest : Nat → Int32}
theorem xr_s148 {post : SX → Prop} {J : Int32 → Int32 → Int32 → Int32 → Int32 → Int32 → Int32 → Int32 → Int32 → Int32 → Int32 → Int32 → Int32 → Int32 → Int32 → (Nat → Int32) → (Nat → Int32) → (Nat → Int32) → (Nat → Int32) → (Nat → Int32) → (Nat → Int32) → (Nat → Int32) → (Nat → Int32) → (Nat → Int32) → (Nat → Int32) → (Nat → Int32) → (Nat → Int32) → (Nat → Int32) → (Nat → Int32) → (Nat → Int32) → (Nat → Int32) → (Nat → Int32) → Prop} {h0 c z step : Nat} (hz : z ≤ 64) (hh : h0 + z ≤ 256) (hs : step < 8192)
    (K : ∀ wl ws wv wt, (∀ j, j < h0 → wl j = a_waitLevel j ∧ ws j = a_waitState j ∧ wv j = a_waitValue j ∧ wt j = a_waitTaken j) →
      (∀ k, k < z → wl (h0 + k) = nI c ∧ ws (h0 + k) = a_cutState k ∧ wv (h0 + k) = a_cutValue k ∧ wt (h0 + k) = a_cutTaken k) →
      J (nI (h0 + z)) (nI (step + 1)) f_n f_width f_forcedIn f_forcedOut f_mustIn f_mustOut f_size f_nextSize (nI c) (nI z) f_exact f_bestValue f_bestTaken a_joined a_weights a_gain a_state a_value a_taken a_nextState a_nextValue a_nextTaken a_cutState a_cutValue a_cutTaken wl ws wv wt a_rest) :
    ∀ d i wl ws wv wt, i + d = z → (∀ j, j < h0 → wl j = a_waitLevel j ∧ ws j = a_waitState j ∧ wv j = a_waitValue j ∧ wt j = a_waitTaken j) →
      (∀ k, k < i → wl (h0 + k) = nI c ∧ ws (h0 + k) = a_cutState k ∧ wv (h0 + k) = a_cutValue k ∧ wt (h0 + k) = a_cutTaken k) →
      wX_solve_148 post J (nI step) f_n f_width f_forcedIn f_forcedOut f_mustIn f_mustOut f_size f_nextSize (nI c) (nI z) f_exact f_bestValue f_bestTaken (d + 1) (nI (h0 + i)) (nI i) a_joined a_weights a_gain a_state a_value a_taken a_nextState a_nextValue a_nextTaken a_cutState a_cutValue a_cutTaken wl ws wv wt a_rest := by
  intro d
  induction d with
  | zero =>
    intro i wl ws wv wt hi h1 h2
    rw [wX_solve_148]
    have hi : i = z := by omega
    subst hi
    exact br_t (nI_le (Nat.le_refl _) (by omega)) (nm_r (nI_1 step) (K _ _ _ _ h1 h2))
  | succ d ih =>
    intro i wl ws wv wt hi h1 h2
    rw [wX_solve_148]
    have ci := nI_clamp (n := i) (by omega)
    have ch := nI_clamp (n := h0 + i) (by omega)
    have vi : vp_in (nI i) 64 := vp_in_nI (by omega) (by decide)
    have vh : vp_in (nI (h0 + i)) 256 := vp_in_nI (by omega) (by decide)
    refine br_f (nI_ge (by omega) (by omega)) (br_f (nI_ge (b := 256) (by omega) (by decide)) ⟨vh, nm_r (e' := upd wl (h0 + i) (nI c)) (by rw [ch]) ⟨vi, vh, nm_r (e' := upd ws (h0 + i) (a_cutState i)) (by rw [ch, ci]) ⟨vi, vh, nm_r (e' := upd wv (h0 + i) (a_cutValue i)) (by rw [ch, ci]) ⟨vi, vh, nm_r (e' := upd wt (h0 + i) (a_cutTaken i)) (by rw [ch, ci]) (nm_r (nI_1 (h0 + i)) (nm_r (nI_1 i) (ih (i + 1) _ _ _ _ (by omega) ?_ ?_)))⟩⟩⟩⟩)
    · intro j hj
      rw [pk_un (by omega), pk_un (by omega), pk_un (by omega), pk_un (by omega)]
      exact h1 j hj
    · intro k hk
      by_cases e : k = i
      · subst e
        rw [pk_us, pk_us, pk_us, pk_us]
        exact ⟨rfl, rfl, rfl, rfl⟩
      · rw [pk_un (by omega), pk_un (by omega), pk_un (by omega), pk_un (by omega)]
        exact h2 k (by omega)
theorem xr_s49 {post : SX → Prop} {p : mp_B} {wd : Nat} (L : mn_L p f_n f_mustIn f_mustOut a_joined a_gain) (hwd1 : 1 ≤ wd) (hwd : wd ≤ 16)
    (K : ∀ z1 z2 z3 z4 ex bv bt st vl tk ns nv nt cs cv ct wl ws wv wt, mr_B p bv bt → (∀ x : Nat, mp_of p (mp_n p) 0 (2 ^ mp_n p - 1) 0 x → (x : Int) ≤ bv.toInt) → post (f_n, nI wd, f_forcedIn, f_forcedOut, f_mustIn, f_mustOut, z1, z2, z3, z4, ex, bv, bt, a_joined, a_weights, a_gain, st, vl, tk, ns, nv, nt, cs, cv, ct, wl, ws, wv, wt, a_rest)) :
    ∀ d h step lv z1 z2 z3 z4 ex bv bt st vl tk ns nv nt cs cv ct wl ws wv wt, mo_P (mp_n p) lv h ≤ d → step + mo_P (mp_n p) lv h ≤ 4095 → mo_K p h lv wl ws wv wt → mr_B p bv bt → mo_V p h lv ws wv bv →
      wX_solve_49 post (d + 1) (nI h) (nI step) f_n (nI wd) f_forcedIn f_forcedOut f_mustIn f_mustOut z1 z2 z3 z4 ex bv bt a_joined a_weights a_gain st vl tk ns nv nt cs cv ct wl ws wv wt a_rest := by
  have hn := L.1.2.1
  intro d
  induction d with
  | zero =>
    intro h step lv z1 z2 z3 z4 ex bv bt st vl tk ns nv nt cs cv ct wl ws wv wt hd hs hK hB hV
    rw [wX_solve_49]
    have hh : h = 0 := by
      rcases Nat.eq_zero_or_pos h with e | e
      · exact e
      · obtain ⟨g, rfl⟩ : ∃ g, h = g + 1 := ⟨h - 1, by omega⟩
        have h1 := mo_pos (hK g (by omega)).1
        have h2 : mo_P (mp_n p) lv g + (2 ^ (mp_n p - lv g) - 1) ≤ 0 := hd
        omega
    subst hh
    refine br_f (nI_ge (b := 8192) (by omega) (by decide)) (br_t (nI_le (a := 0) (b := 0) (Nat.le_refl _) (by decide)) (K _ _ _ _ _ _ _ _ _ _ _ _ _ _ _ _ _ _ _ _ hB ?_))
    intro x hx
    rcases hV x hx with z | ⟨j, hj, _⟩
    · exact z
    · omega
  | succ d ih =>
    intro h step lv z1 z2 z3 z4 ex bv bt st vl tk ns nv nt cs cv ct wl ws wv wt hd hs hK hB hV
    rw [wX_solve_49]
    refine br_f (nI_ge (b := 8192) (by omega) (by decide)) ?_
    rcases Nat.eq_zero_or_pos h with e | e
    · subst e
      refine br_t (nI_le (a := 0) (b := 0) (Nat.le_refl _) (by decide)) (K _ _ _ _ _ _ _ _ _ _ _ _ _ _ _ _ _ _ _ _ hB ?_)
      intro x hx
      rcases hV x hx with z | ⟨j, hj, _⟩
      · exact z
      · omega
    · obtain ⟨g, rfl⟩ : ∃ g, h = g + 1 := ⟨h - 1, by omega⟩
      obtain ⟨g1, g2, g3, g4⟩ := hK g (by omega)
      have hPe : mo_P (mp_n p) lv (g + 1) = mo_P (mp_n p) lv g + (2 ^ (mp_n p - lv g) - 1) := rfl
      have hpos := mo_pos g1
      rw [hPe] at hd hs
      have hKg : mo_K p g lv wl ws wv wt := fun j hj => hK j (by omega)
      have c := nI_clamp (n := g) (by omega)
      have vi : vp_in (nI g) 256 := vp_in_nI (by omega) (by decide)
      refine br_f (nI_nle (by omega) (by omega)) (nm_r (pk_m1 g) ⟨vi, nm_r (e' := nI (lv g)) (by rw [c]; exact g3) ⟨vi, nm_r (e' := ws g) (by rw [c]) ⟨vi, nm_r (e' := wv g) (by rw [c]) ⟨vi, nm_r (e' := wt g) (by rw [c]) (xr_startLayer (fun st1 vl1 tk1 e1 e2 e3 => ?_))⟩⟩⟩⟩)
      refine xr_run0 L hwd1 hwd g1 (by rw [e1, e2, e3]; exact g4) hB (fun r y1 y2 y3 y4 ex2 bv2 bt2 st2 vl2 tk2 ns2 nv2 nt2 cs2 cv2 ct2 q1 q2 q3 q4 => ?_)
      rw [e1, e2] at q2
      refine br_c (fun hx => ?_) (fun hx => ?_)
      · have q1 : lv g + 2 ≤ mp_n p := by
          rcases q1 with q | q
          · rw [hx] at q; exact absurd q (by decide)
          · exact q.2
        refine xr_startLayer (fun st3 vl3 tk3 e1' e2' e3' => ?_)
        refine xr_run1 L hwd1 hwd g1 (by rw [e1', e2', e3']; exact g4) (fun r' y1' y2' cc z ex4 st4 vl4 tk4 ns4 nv4 nt4 cs4 cv4 ct4 r1 r2 r3 r4 r5 r6 r7 => ?_)
        rw [e1', e2'] at r1 r7
        have hcl : lv g < cc := by
          rcases Nat.lt_or_ge (lv g) cc with z | z
          · exact z
          · have := r4 (by omega); omega
        refine br_c (fun hb => nm_r (nI_1 step) (ih g (step + 1) lv _ _ _ _ _ _ _ _ _ _ _ _ _ _ _ _ _ _ _ _ (by omega) (by omega) hKg q4 ?_)) (fun hb => Exists.intro (z + 1) ?_)
        · rw [Int32.le_iff_toInt_le] at hb
          intro x hx'
          rcases hV x hx' with a | ⟨j, hj, hF⟩
          · exact Or.inl (Int.le_trans a q3)
          · by_cases ej : j = g
            · subst ej
              exact Or.inl (Int.le_trans (r1 x hF) hb)
            · exact Or.inr ⟨j, by omega, hF⟩
        · refine xr_s148 (h0 := g) (c := cc) (z := z) (by omega) (by omega) (by omega) (fun wl5 ws5 wv5 wt5 s1 s2 => ?_) z 0 _ _ _ _ (by omega) (fun j _ => ⟨rfl, rfl, rfl, rfl⟩) (fun k hk => absurd hk (by omega))
          have hl1 : ∀ j, j < g → (fun j => if j < g then lv j else cc) j = lv j := fun j hj => if_pos hj
          have hl2 : ∀ k, k < z → (fun j => if j < g then lv j else cc) (g + k) = cc := fun k hk => if_neg (by omega)
          have hPa := mo_Pa (mp_n p) cc g hl1 z hl2
          have hless := mo_less hcl r3 r5
          generalize hlv : (fun j => if j < g then lv j else cc) = lv' at hl1 hl2 hPa
          refine ih (g + z) (step + 1) lv' _ _ _ _ _ _ _ _ _ _ _ _ _ _ _ _ _ _ _ _ (by omega) (by omega) ?_ q4 ?_
          · intro j hj
            by_cases ej : j < g
            · rw [hl1 j ej, (s1 j ej).1, (s1 j ej).2.1, (s1 j ej).2.2.1, (s1 j ej).2.2.2]
              exact hKg j ej
            · obtain ⟨k, rfl⟩ : ∃ k, j = g + k := ⟨j - g, by omega⟩
              have hk : k < z := by omega
              rw [hl2 k hk, (s2 k hk).1, (s2 k hk).2.1, (s2 k hk).2.2.1, (s2 k hk).2.2.2]
              exact ⟨r3, by omega, rfl, r7.2.1 trivial k hk⟩
          · intro x hx'
            rcases hV x hx' with a | ⟨j, hj, hF⟩
            · exact Or.inl (Int.le_trans a q3)
            · by_cases ej : j = g
              · subst ej
                obtain ⟨k, hk, hF2⟩ := r7.2.2 x hF
                refine Or.inr ⟨j + k, by omega, ?_⟩
                rw [hl2 k hk, (s2 k hk).2.1, (s2 k hk).2.2.1]
                exact hF2
              · have ej : j < g := by omega
                refine Or.inr ⟨j, by omega, ?_⟩
                rw [hl1 j ej, (s1 j ej).2.1, (s1 j ej).2.2.1]
                exact hF
      · have hq1 : ex2 = 1 := by
          rcases q1 with q | q
          · exact q
          · exact absurd q.1 hx
        refine nm_r (nI_1 step) (ih g (step + 1) lv _ _ _ _ _ _ _ _ _ _ _ _ _ _ _ _ _ _ _ _ (by omega) (by omega) hKg q4 ?_)
        intro x hx'
        rcases hV x hx' with a | ⟨j, hj, hF⟩
        · exact Or.inl (Int.le_trans a q3)
        · by_cases ej : j = g
          · subst ej
            exact Or.inl (q2 hq1 x hF)
          · exact Or.inr ⟨j, by omega, hF⟩
theorem xr_solve {post : SX → Prop} {p : mp_B} {wd : Nat} (L : mn_L p f_n f_mustIn f_mustOut a_joined a_gain) (hwd1 : 1 ≤ wd) (hwd : wd ≤ 16)
    (K : ∀ z1 z2 z3 z4 ex bv bt st vl tk ns nv nt cs cv ct wl ws wv wt, mr_B p bv bt → (∀ x : Nat, mp_of p (mp_n p) 0 (2 ^ mp_n p - 1) 0 x → (x : Int) ≤ bv.toInt) → post (f_n, nI wd, f_forcedIn, f_forcedOut, f_mustIn, f_mustOut, z1, z2, z3, z4, ex, bv, bt, a_joined, a_weights, a_gain, st, vl, tk, ns, nv, nt, cs, cv, ct, wl, ws, wv, wt, a_rest)) :
    wpX_solve post (f_n, nI wd, f_forcedIn, f_forcedOut, f_mustIn, f_mustOut, f_size, f_nextSize, f_cutLevel, f_cutSize, f_exact, f_bestValue, f_bestTaken, a_joined, a_weights, a_gain, a_state, a_value, a_taken, a_nextState, a_nextValue, a_nextTaken, a_cutState, a_cutValue, a_cutTaken, a_waitLevel, a_waitState, a_waitValue, a_waitTaken, a_rest) := by
  have hn := L.1.2.1
  have hn2 := L.1.1
  have L1 := L.2.1
  have h12 := mb_p12 hn
  have eF : ((1 : Int32) <<< (f_n &&& 31)) - 1 = nI (2 ^ mp_n p - 1) := by
    rw [L1, mb_sh _ (by omega), mb_full _ (by omega)]
  unfold wpX_solve
  refine nm_e (nm_r (e' := upd a_waitState 0 (nI (2 ^ mp_n p - 1))) (by rw [eF]) (nm_e (nm_e (Exists.intro ((2 ^ mp_n p - 1) + 1) (xr_s49 L hwd1 hwd K (2 ^ mp_n p - 1) 1 0 (fun _ => 0) _ _ _ _ _ (-1) 0 _ _ _ _ _ _ _ _ _ _ _ _ _ ?_ ?_ ?_ (Or.inl ⟨rfl, rfl⟩) ?_)))))
  · show 0 + (2 ^ (mp_n p - 0) - 1) ≤ _
    rw [Nat.sub_zero]; omega
  · show 0 + (0 + (2 ^ (mp_n p - 0) - 1)) ≤ _
    rw [Nat.sub_zero]; omega
  · intro j hj
    have : j = 0 := by omega
    subst this
    rw [pk_us, pk_us, pk_us, pk_us]
    exact ⟨(by show 0 < mp_n p; omega), (by show 0 ≤ 16 * 0; omega), rfl, 0, by decide, trivial, rfl, rfl, rfl⟩
  · intro x hx
    refine Or.inr ⟨0, by decide, ?_⟩
    rw [pk_us, pk_us]
    exact ⟨2 ^ mp_n p - 1, 0, by have := Nat.two_pow_pos (mp_n p); omega, by omega, rfl, rfl, hx⟩
end
end
section
/-! pure laws: feasible = allowed; counts -/
def mg_ok (n : Nat) (N : Nat → Nat) : Prop := (∀ v, v < n → N v < 2 ^ n) ∧ (∀ u v, u < n → v < n → (N u).testBit v = (N v).testBit u) ∧ (∀ v, v < n → (N v).testBit v = false)
def my_ind (n : Nat) (N : Nat → Nat) (s : Nat) : Prop := ∀ v, v < n → s.testBit v = true → s &&& N v = 0
def my_ok (n I O s : Nat) : Prop := ∀ v, v < n → (I.testBit v = true → s.testBit v = true) ∧ (O.testBit v = true → s.testBit v = false)
theorem mp_opt (p : mp_B) (s w : Nat) : ∀ v, (mp_op p v s).testBit w = true ↔ v ≤ w ∧ w < mp_n p ∧ ∀ u, u < v → s.testBit u = true → (mp_N p u).testBit w = false
  | 0 => by
    unfold mp_op
    rw [Nat.testBit_two_pow_sub_one, decide_eq_true_iff]
    exact ⟨fun h => ⟨by omega, h, fun u hu => absurd hu (by omega)⟩, fun h => h.2.1⟩
  | v + 1 => by
    have ih := mp_opt p s w v
    cases hs : s.testBit v
    · rw [mp_op0 p hs, mb_dt, Bool.and_eq_true, ih, Nat.testBit_two_pow]
      constructor
      · rintro ⟨⟨a, b, c⟩, d⟩
        have : v ≠ w := by
          intro e
          rw [decide_eq_true e] at d
          exact absurd d (by decide)
        refine ⟨by omega, b, fun u hu => ?_⟩
        by_cases e : u = v
        · subst e; intro h; rw [hs] at h; exact absurd h (by decide)
        · exact c u (by omega)
      · rintro ⟨a, b, c⟩
        refine ⟨⟨by omega, b, fun u hu => c u (by omega)⟩, ?_⟩
        rw [decide_eq_false (by omega)]; rfl
    · rw [mp_op1 p hs, mb_dt, mb_dt, Bool.and_eq_true, Bool.and_eq_true, ih, Nat.testBit_two_pow]
      constructor
      · rintro ⟨⟨⟨a, b, c⟩, d⟩, f⟩
        have : v ≠ w := by
          intro e
          rw [decide_eq_true e] at d
          exact absurd d (by decide)
        refine ⟨by omega, b, fun u hu => ?_⟩
        by_cases e : u = v
        · subst e
          intro _
          revert f
          cases (mp_N p u).testBit w <;> decide
        · exact c u (by omega)
      · rintro ⟨a, b, c⟩
        refine ⟨⟨⟨by omega, b, fun u hu => c u (by omega)⟩, ?_⟩, ?_⟩
        · rw [decide_eq_false (by omega)]; rfl
        · rw [c v (by omega) hs]; rfl
theorem mp_fei (p : mp_B) (s : Nat) : ∀ v, mp_fe p v s ↔ ∀ u, u < v → (s.testBit u = true ∧ (mp_op p u s).testBit u = true ∧ (mp_O p).testBit u = false) ∨ (s.testBit u = false ∧ (mp_I p).testBit u = false)
  | 0 => ⟨fun _ u hu => absurd hu (by omega), fun _ => trivial⟩
  | v + 1 => by
    show mp_fe p v s ∧ _ ↔ _
    rw [mp_fei p s v]
    constructor
    · rintro ⟨a, b⟩ u hu
      by_cases e : u = v
      · subst e; exact b
      · exact a u (by omega)
    · intro h
      exact ⟨fun u hu => h u (by omega), h v (by omega)⟩
theorem mp_al {p : mp_B} {s : Nat} (hg : mg_ok (mp_n p) (mp_N p)) (hs : s < 2 ^ mp_n p) : mp_fe p (mp_n p) s ↔ my_ok (mp_n p) (mp_I p) (mp_O p) s ∧ my_ind (mp_n p) (mp_N p) s := by
  obtain ⟨g1, g2, g3⟩ := hg
  rw [mp_fei]
  constructor
  · intro h
    constructor
    · intro v hv
      rcases h v hv with ⟨a, b, c⟩ | ⟨a, b⟩
      · exact ⟨fun _ => a, fun z => by rw [c] at z; exact absurd z (by decide)⟩
      · exact ⟨fun z => by rw [b] at z; exact absurd z (by decide), fun _ => a⟩
    · intro v hv hsv
      rw [mb_a0]
      intro i hi
      have hin := mb_tl hs hi
      rcases Nat.lt_trichotomy i v with e | e | e
      · rcases h v hv with ⟨a, b, c⟩ | ⟨a, b⟩
        · rw [g2 v i hv hin]
          exact ((mp_opt p s v v).mp b).2.2 i e hi
        · rw [a] at hsv; exact absurd hsv (by decide)
      · subst e; exact g3 i hin
      · rcases h i hin with ⟨a, b, c⟩ | ⟨a, b⟩
        · exact ((mp_opt p s i i).mp b).2.2 v e hsv
        · rw [a] at hi; exact absurd hi (by decide)
  · rintro ⟨a, b⟩ u hu
    obtain ⟨a1, a2⟩ := a u hu
    cases h : s.testBit u
    · refine Or.inr ⟨rfl, ?_⟩
      apply mb_bf
      intro z
      rw [a1 z] at h; exact absurd h (by decide)
    · refine Or.inl ⟨rfl, ?_, ?_⟩
      · rw [mp_opt]
        refine ⟨Nat.le_refl _, hu, ?_⟩
        intro w hw hsw
        exact mb_a0.mp (b w (by omega) hsw) u h
      · apply mb_bf
        intro z
        rw [a2 z] at h; exact absurd h (by decide)
/-! counts -/
def mc_n (P : Nat → Bool) : Nat → Nat
  | 0 => 0
  | m + 1 => mc_n P m + (if P m = true then 1 else 0)
theorem mc_nc {P Q : Nat → Bool} : ∀ m, (∀ k, k < m → P k = Q k) → mc_n P m = mc_n Q m
  | 0, _ => rfl
  | m + 1, h => by
    unfold mc_n
    rw [mc_nc m (fun k hk => h k (by omega)), h m (by omega)]
theorem mc_n0 {P : Nat → Bool} : ∀ m, (∀ k, k < m → P k = false) → mc_n P m = 0
  | 0, _ => rfl
  | m + 1, h => by
    unfold mc_n
    rw [mc_n0 m (fun k hk => h k (by omega)), h m (by omega)]
    rfl
theorem mc_n2 (P : Nat → Bool) : ∀ m, mc_n P (2 * m) = mc_n (fun q => P (2 * q)) m + mc_n (fun q => P (2 * q + 1)) m
  | 0 => rfl
  | m + 1 => by
    show mc_n P (2 * m + 1 + 1) = _
    unfold mc_n
    have e : mc_n P (2 * m + 1) = mc_n P (2 * m) + (if P (2 * m) = true then 1 else 0) := rfl
    rw [e, mc_n2 P m]
    omega
def mc_a (p : mp_B) (b : Int) : Nat → Nat → Nat → Nat → Nat
  | 0, _, _, w => if b ≤ (w : Int) then 1 else 0
  | k + 1, v, o, w => (if (mp_I p).testBit v = false then mc_a p b k (v + 1) (mb_d o (2 ^ v)) w else 0) +
      (if o.testBit v = true ∧ (mp_O p).testBit v = false then mc_a p b k (v + 1) (mb_d (mb_d o (2 ^ v)) (mp_N p v)) (w + mp_g p v) else 0)
def mc_t (p : mp_B) : Nat → Nat → Nat → Nat
  | 0, _, _ => 1
  | k + 1, v, o => (if (mp_I p).testBit v = false then mc_t p k (v + 1) (mb_d o (2 ^ v)) else 0) +
      (if o.testBit v = true ∧ (mp_O p).testBit v = false then mc_t p k (v + 1) (mb_d (mb_d o (2 ^ v)) (mp_N p v)) else 0)
theorem mc_ta (p : mp_B) {b : Int} (hb : b ≤ 0) : ∀ k v o w, mc_a p b k v o w = mc_t p k v o
  | 0, v, o, w => by
    unfold mc_a mc_t
    rw [if_pos (by omega)]
  | k + 1, v, o, w => by
    unfold mc_a mc_t
    rw [mc_ta p hb k, mc_ta p hb k]
def mc_r (g : Nat → Nat) : Nat → Nat → Nat
  | 0, _ => 0
  | k + 1, v => mc_r g k (v + 1) + g v
theorem mc_a0 (p : mp_B) {b : Int} : ∀ k v o w, ((w + mc_r (mp_g p) k v : Nat) : Int) < b → mc_a p b k v o w = 0
  | 0, v, o, w, h => by
    unfold mc_a
    unfold mc_r at h
    rw [if_neg (by omega)]
  | k + 1, v, o, w, h => by
    unfold mc_a
    unfold mc_r at h
    rw [mc_a0 p k (v + 1) _ w (by omega), mc_a0 p k (v + 1) _ (w + mp_g p v) (by omega)]
    split <;> split <;> rfl
theorem mc_bits {s v q : Nat} (hs : s < 2 ^ v) : ∀ u, u < v → (2 ^ v * q + s).testBit u = s.testBit u := by
  intro u hu
  rw [Nat.testBit_two_pow_mul_add _ hs, if_pos hu]
theorem mc_cnt (p : mp_B) (b : Int) (P : Nat → Bool) (hP : ∀ s, P s = true ↔ mp_fe p (mp_n p) s ∧ b ≤ (mp_v (mp_g p) (mp_n p) s : Int)) :
    ∀ k v s, v + k = mp_n p → s < 2 ^ v → mp_fe p v s → mc_a p b k v (mp_op p v s) (mp_v (mp_g p) v s) = mc_n (fun q => P (2 ^ v * q + s)) (2 ^ k)
  | 0, v, s, e, hs, hf => by
    have e : v = mp_n p := e
    subst e
    show (if b ≤ _ then 1 else 0) = 0 + (if P (2 ^ mp_n p * 0 + s) = true then 1 else 0)
    rw [Nat.mul_zero, Nat.zero_add, Nat.zero_add]
    by_cases z : b ≤ (mp_v (mp_g p) (mp_n p) s : Int)
    · rw [if_pos z, if_pos ((hP s).mpr ⟨hf, z⟩)]
    · rw [if_neg z, if_neg (fun h => z ((hP s).mp h).2)]
  | k + 1, v, s, e, hs, hf => by
    have e2 : 2 ^ (k + 1) = 2 * 2 ^ k := by rw [Nat.pow_succ, Nat.mul_comm]
    have ev : 2 ^ (v + 1) = 2 ^ v * 2 := Nat.pow_succ ..
    have hb0 : s.testBit v = false := Nat.testBit_lt_two_pow hs
    have hs0 : s < 2 ^ (v + 1) := by omega
    have hs1 : 2 ^ v * 1 + s < 2 ^ (v + 1) := by omega
    have hc1 : ∀ u, u < v → (2 ^ v * 1 + s).testBit u = s.testBit u := mc_bits hs
    have hb1 : (2 ^ v * 1 + s).testBit v = true := by
      rw [Nat.testBit_two_pow_mul_add _ hs, if_neg (by omega), Nat.sub_self]
      rfl
    have hfd : ∀ t, mp_fe p (mp_n p) t → mp_fe p (v + 1) t := by
      intro t ht
      rw [← e, show v + (k + 1) = (v + 1) + k by omega] at ht
      exact mp_fed p k (v + 1) ht
    have hA : mc_n (fun q => P (2 ^ v * (2 * q) + s)) (2 ^ k) = (if (mp_I p).testBit v = false then mc_a p b k (v + 1) (mb_d (mp_op p v s) (2 ^ v)) (mp_v (mp_g p) v s) else 0) := by
      have eq : ∀ q, 2 ^ v * (2 * q) + s = 2 ^ (v + 1) * q + s := by
        intro q
        rw [ev, Nat.mul_assoc]
      rw [mc_nc (Q := fun q => P (2 ^ (v + 1) * q + s)) _ (fun q _ => by show P _ = P _; rw [eq])]
      by_cases hI : (mp_I p).testBit v = false
      · rw [if_pos hI, ← mc_cnt p b P hP k (v + 1) s (by omega) hs0 ⟨hf, Or.inr ⟨hb0, hI⟩⟩, mp_op0 p hb0, mp_v0 _ hb0]
      · rw [if_neg hI]
        apply mc_n0
        intro q _
        apply mb_bf
        intro hq
        have h1 := (hfd _ ((hP _).mp hq).1).2
        rw [mc_bits hs0 v (by omega), hb0] at h1
        rcases h1 with h1 | h1
        · exact absurd h1.1 (by decide)
        · exact hI h1.2
    have hB : mc_n (fun q => P (2 ^ v * (2 * q + 1) + s)) (2 ^ k) = (if (mp_op p v s).testBit v = true ∧ (mp_O p).testBit v = false then mc_a p b k (v + 1) (mb_d (mb_d (mp_op p v s) (2 ^ v)) (mp_N p v)) (mp_v (mp_g p) v s + mp_g p v) else 0) := by
      have eq : ∀ q, 2 ^ v * (2 * q + 1) + s = 2 ^ (v + 1) * q + (2 ^ v * 1 + s) := by
        intro q
        rw [ev, Nat.mul_add, Nat.mul_assoc, Nat.add_assoc]
      rw [mc_nc (Q := fun q => P (2 ^ (v + 1) * q + (2 ^ v * 1 + s))) _ (fun q _ => by show P _ = P _; rw [eq])]
      by_cases hI : (mp_op p v s).testBit v = true ∧ (mp_O p).testBit v = false
      · rw [if_pos hI, ← mc_cnt p b P hP k (v + 1) (2 ^ v * 1 + s) (by omega) hs1 ⟨(mp_fec p v hc1).mpr hf, Or.inl ⟨hb1, by rw [mp_opc p v hc1]; exact hI.1, hI.2⟩⟩, mp_op1 p hb1, mp_v1 _ hb1, mp_opc p v hc1, mp_vc _ v hc1]
      · rw [if_neg hI]
        apply mc_n0
        intro q _
        apply mb_bf
        intro hq
        have h1 := (hfd _ ((hP _).mp hq).1).2
        rw [mc_bits hs1 v (by omega), hb1] at h1
        have hc2 : ∀ u, u < v → (2 ^ (v + 1) * q + (2 ^ v * 1 + s)).testBit u = s.testBit u := by
          intro u hu
          rw [mc_bits hs1 u (by omega), hc1 u hu]
        rcases h1 with h1 | h1
        · rw [mp_opc p v hc2] at h1
          exact hI h1.2
        · exact absurd h1.1 (by decide)
    rw [e2, mc_n2, hA, hB]
    rfl
theorem mc_all (p : mp_B) (b : Int) (P : Nat → Bool) (hP : ∀ s, P s = true ↔ mp_fe p (mp_n p) s ∧ b ≤ (mp_v (mp_g p) (mp_n p) s : Int)) :
    mc_a p b (mp_n p) 0 (2 ^ mp_n p - 1) 0 = mc_n P (2 ^ mp_n p) := by
  have h := mc_cnt p b P hP (mp_n p) 0 0 (by omega) (by decide) trivial
  rw [mc_nc (Q := P) _ (fun q _ => by show P _ = P _; rw [Nat.pow_zero, Nat.one_mul, Nat.add_zero])] at h
  exact h
/-- places for different numbers -/
theorem mc_ph : ∀ (M m : Nat) (f : Nat → Nat), (∀ k, k < m → f k < M) → (∀ j k, j < m → k < m → f j = f k → j = k) → m ≤ M
  | 0, m, f, h, _ => by
    rcases Nat.eq_zero_or_pos m with e | e
    · omega
    · exact absurd (h 0 e) (by omega)
  | M + 1, m, f, h, hi => by
    by_cases z : ∃ k, k < m ∧ f k = M
    · obtain ⟨k, hk, ek⟩ := z
      have hne : ∀ j, j < m → j ≠ k → f j < M := by
        intro j hj hjk
        have h1 := h j hj
        have h2 : f j ≠ M := fun e => hjk (hi j k hj hk (e.trans ek.symm))
        omega
      have := mc_ph M (m - 1) (fun j => if j < k then f j else f (j + 1)) (by
        intro j hj
        show (if j < k then f j else f (j + 1)) < M
        split
        · exact hne j (by omega) (by omega)
        · exact hne (j + 1) (by omega) (by omega)) (by
        intro i j hi' hj' e
        have e : (if i < k then f i else f (i + 1)) = (if j < k then f j else f (j + 1)) := e
        split at e <;> split at e
        · exact hi i j (by omega) (by omega) e
        · have := hi i (j + 1) (by omega) (by omega) e; omega
        · have := hi (i + 1) j (by omega) (by omega) e; omega
        · have := hi (i + 1) (j + 1) (by omega) (by omega) e; omega)
      omega
    · have := mc_ph M m f (fun k hk => by
        have h1 := h k hk
        have h2 : f k ≠ M := fun e => z ⟨k, hk, e⟩
        omega) hi
      omega
end
section
/-! allowedSets: layers of counts -/
def mk_s (f : Nat → Int32) : Nat → Int32
  | 0 => 0
  | m + 1 => mk_s f m + f m
theorem mk_s0 (f : Nat → Int32) : mk_s f 0 = 0 := rfl
theorem mk_sc {f g : Nat → Int32} : ∀ m, (∀ k, k < m → f k = g k) → mk_s f m = mk_s g m
  | 0, _ => rfl
  | m + 1, h => by
    unfold mk_s
    rw [mk_sc m (fun k hk => h k (by omega)), h m (by omega)]
theorem mk_su {f g : Nat → Int32} {k : Nat} {d : Int32} (e : g k = f k + d) : ∀ m, k < m → (∀ j, j < m → j ≠ k → g j = f j) → mk_s g m = mk_s f m + d
  | 0, hk, _ => absurd hk (by omega)
  | m + 1, hk, h => by
    unfold mk_s
    by_cases z : k = m
    · subst z
      rw [mk_sc (f := g) (g := f) k (fun j hj => h j (by omega) (by omega)), e, Int32.add_assoc]
    · rw [mk_su e m (by omega) (fun j hj => h j (by omega)), h m (by omega) (by omega), Int32.add_assoc, Int32.add_assoc, Int32.add_comm d]
def mk_N (p : mp_B) (v : Nat) (o : Int32) : Prop := ∃ oo, oo < 2 ^ mp_n p ∧ (∀ i, i < v → oo.testBit i = false) ∧ o = nI oo
def mk_w (p : mp_B) (v : Nat) (ns nv : Nat → Int32) (k : Nat) : Int32 := nv k * nI (mc_t p (mp_n p - v) v (ns k).toNatClampNeg)
def mk_I (p : mp_B) (v : Nat) (T : Int32) (m : Nat) (ns nv : Nat → Int32) : Prop :=
  (∀ k, k < m → mk_N p v (ns k)) ∧ (∀ j k, j < m → k < m → ns j = ns k → j = k) ∧ mk_s (mk_w p v ns nv) m = T
def mk_S (m : Nat) (ns nv : Nat → Int32) (o w : Int32) (m' : Nat) (ns' nv' : Nat → Int32) : Prop :=
  (m' = m ∧ ns' = ns ∧ ∃ k, k < m ∧ ns k = o ∧ nv' = upd nv k (nv k + w)) ∨
  (m' = m + 1 ∧ (∀ k, k < m → ¬ ns k = o) ∧ ns' = upd ns m o ∧ nv' = upd nv m w)
theorem mk_put {p : mp_B} {v m m' : Nat} {T o w : Int32} {ns nv ns' nv' : Nat → Int32} (I : mk_I p v T m ns nv) (h : mk_S m ns nv o w m' ns' nv') (ho : mk_N p v o) :
    mk_I p v (T + w * nI (mc_t p (mp_n p - v) v o.toNatClampNeg)) m' ns' nv' := by
  obtain ⟨I1, I2, I3⟩ := I
  rcases h with ⟨rfl, rfl, k, hk, e, rfl⟩ | ⟨rfl, hne, rfl, rfl⟩
  · refine ⟨I1, I2, ?_⟩
    rw [← I3]
    refine mk_su (k := k) ?_ m' hk ?_
    · unfold mk_w
      rw [pk_us, e, Int32.add_mul]
    · intro j hj hjk
      unfold mk_w
      rw [pk_un hjk]
  · refine ⟨?_, ?_, ?_⟩
    · intro k hk
      by_cases z : k = m
      · subst z; rw [pk_us]; exact ho
      · rw [pk_un z]; exact I1 k (by omega)
    · intro j k hj hk e
      by_cases z : j = m
      · by_cases z2 : k = m
        · omega
        · rw [z, pk_us, pk_un z2] at e
          exact absurd e.symm (hne k (by omega))
      · by_cases z2 : k = m
        · rw [z2, pk_us, pk_un z] at e
          exact absurd e (hne j (by omega))
        · rw [pk_un z, pk_un z2] at e
          exact I2 j k (by omega) (by omega) e
    · show mk_s _ m + mk_w p v _ _ m = _
      have e1 : mk_w p v (upd ns m o) (upd nv m w) m = w * nI (mc_t p (mp_n p - v) v o.toNatClampNeg) := by
        unfold mk_w
        rw [pk_us, pk_us]
      rw [e1, mk_sc (g := mk_w p v ns nv) m (fun k hk => by unfold mk_w; rw [pk_un (by omega), pk_un (by omega)]), I3]
theorem mk_le {p : mp_B} {v m : Nat} {T : Int32} {ns nv : Nat → Int32} (hp : mp_ok p) (hv : v ≤ mp_n p) (I : mk_I p v T m ns nv) : m ≤ 2 ^ (mp_n p - v) := by
  obtain ⟨I1, I2, _⟩ := I
  have hn := hp.2.1
  have e2 : 2 ^ mp_n p = 2 ^ v * 2 ^ (mp_n p - v) := by
    rw [← Nat.pow_add]
    exact congrArg (2 ^ ·) (by omega)
  have h0 : ∀ k, k < m → ∃ q, q < 2 ^ (mp_n p - v) ∧ ns k = nI (2 ^ v * q) := by
    intro k hk
    obtain ⟨o, h1, h2, h3⟩ := I1 k hk
    have hm : o % 2 ^ v = 0 := by
      apply Nat.eq_of_testBit_eq
      intro i
      rw [Nat.testBit_mod_two_pow, Nat.zero_testBit]
      by_cases z : i < v
      · rw [h2 i z, Bool.and_false]
      · rw [decide_eq_false z, Bool.false_and]
    have hd := Nat.div_add_mod o (2 ^ v)
    rw [hm, Nat.add_zero] at hd
    refine ⟨o / 2 ^ v, ?_, by rw [hd]; exact h3⟩
    rw [e2] at h1
    exact Nat.div_lt_of_lt_mul h1
  have hc : ∀ q, q < 2 ^ (mp_n p - v) → (nI (2 ^ v * q)).toNatClampNeg / 2 ^ v = q := by
    intro q hq
    have h1 : 2 ^ v * q < 2 ^ mp_n p := by
      rw [e2]
      exact Nat.mul_lt_mul_of_pos_left hq (Nat.two_pow_pos v)
    rw [nI_clamp (mn_o31 hp h1), Nat.mul_div_cancel_left _ (Nat.two_pow_pos v)]
  refine mc_ph _ m (fun k => (ns k).toNatClampNeg / 2 ^ v) ?_ ?_
  · intro k hk
    obtain ⟨q, hq, e⟩ := h0 k hk
    show (ns k).toNatClampNeg / 2 ^ v < _
    rw [e, hc q hq]; exact hq
  · intro j k hj hk e
    have e : (ns j).toNatClampNeg / 2 ^ v = (ns k).toNatClampNeg / 2 ^ v := e
    obtain ⟨q, hq, eq⟩ := h0 j hj
    obtain ⟨q', hq', eq'⟩ := h0 k hk
    rw [eq, eq', hc q hq, hc q' hq'] at e
    exact I2 j k hj hk (by rw [eq, eq', e])
theorem mk_rm {p : mp_B} {v m : Nat} {T : Int32} {ns nv : Nat → Int32} (hp : mp_ok p) (hv : v ≤ mp_n p) (I : mk_I p v T m ns nv) (hm : m ≤ 2 ^ v) : m ≤ 64 ∧ (m < 2 ^ v → m < 64) := by
  have h := mk_le hp hv I
  have hn := hp.2.1
  by_cases z : v ≤ 6
  · have : 2 ^ v ≤ 2 ^ 6 := Nat.pow_le_pow_right (by decide) z
    constructor
    · omega
    · intro _; omega
  · have : 2 ^ (mp_n p - v) ≤ 2 ^ 5 := Nat.pow_le_pow_right (by decide) (by omega)
    constructor
    · omega
    · intro _; omega
theorem mk_N0 {p : mp_B} {v : Nat} {o : Int32} (h : mk_N p v o) : mk_N p (v + 1) (o &&& (nI (2 ^ v) ^^^ (-1))) := by
  obtain ⟨a, h1, h2, h3⟩ := h
  refine ⟨_, mb_dlt h1, ?_, by rw [h3, mb_dif]⟩
  intro i hi
  rw [mb_dt, Nat.testBit_two_pow]
  by_cases z : i = v
  · rw [decide_eq_true z.symm]; simp
  · rw [h2 i (by omega)]; rfl
theorem mk_N1 {p : mp_B} {v b : Nat} {o : Int32} (h : mk_N p v o) : mk_N p v (o &&& (nI b ^^^ (-1))) := by
  obtain ⟨a, h1, h2, h3⟩ := h
  refine ⟨_, mb_dlt h1, ?_, by rw [h3, mb_dif]⟩
  intro i hi
  rw [mb_dt, h2 i hi]; rfl
/-- a node's count, by its two ways on -/
theorem mk_st {p : mp_B} {v : Nat} {o : Int32} (hp : mp_ok p) (hv : v < mp_n p) (h : mk_N p v o) :
    mc_t p (mp_n p - v) v o.toNatClampNeg =
      (if (mp_I p).testBit v = false then mc_t p (mp_n p - (v + 1)) (v + 1) (o &&& (nI (2 ^ v) ^^^ (-1))).toNatClampNeg else 0) +
      (if ¬ (o &&& nI (2 ^ v)) = 0 ∧ (mp_O p).testBit v = false then mc_t p (mp_n p - (v + 1)) (v + 1) ((o &&& (nI (2 ^ v) ^^^ (-1))) &&& (nI (mp_N p v) ^^^ (-1))).toNatClampNeg else 0) := by
  obtain ⟨a, h1, h2, h3⟩ := h
  have e : mp_n p - v = (mp_n p - (v + 1)) + 1 := by omega
  have h4 : (¬ (nI a &&& nI (2 ^ v)) = 0) ↔ a.testBit v = true := by
    rw [mb_and2 (mn_o31 hp h1)]
    cases a.testBit v <;> decide
  rw [h3, mb_dif, mb_dif, nI_clamp (mn_o31 hp h1), nI_clamp (mn_o31 hp (mb_dlt h1)), nI_clamp (mn_o31 hp (mb_dlt (mb_dlt h1))), e]
  rw [mc_t]
  by_cases z : a.testBit v = true ∧ (mp_O p).testBit v = false
  · rw [if_pos z, if_pos (show ¬ (nI a &&& nI (2 ^ v)) = 0 ∧ (mp_O p).testBit v = false from ⟨h4.mpr z.1, z.2⟩)]
  · rw [if_neg z, if_neg (show ¬ (¬ (nI a &&& nI (2 ^ v)) = 0 ∧ (mp_O p).testBit v = false) from fun y => z ⟨h4.mp y.1, y.2⟩)]
theorem mk_w0 (p : mp_B) (st vl : Nat → Int32) (k : Nat) : mk_w p (mp_n p) st vl k = vl k := by
  unfold mk_w
  rw [Nat.sub_self, mc_t, show nI 1 = 1 from rfl, Int32.mul_one]
section
variable {f_n f_width f_forcedIn f_forcedOut f_mustIn f_mustOut f_size f_nextSize f_cutLevel f_cutSize f_exact f_bestValue f_bestTaken : Int32} {a_joined a_weights a_gain a_state a_value a_taken a_nextState a_nextValue a_nextTaken a_cutState a_cutValue a_cutTaken a_waitLevel a_waitState a_waitValue a_waitTaken a_rest : Nat → Int32}
theorem xc_rc2 {post : SX → Prop} {o w : Int32} {m : Nat} (hm : m < 64)
    (K : ∀ m' ns nv, m' ≤ m + 1 → mk_S m a_nextState a_nextValue o w m' ns nv → post (f_n, f_width, f_forcedIn, f_forcedOut, f_mustIn, f_mustOut, f_size, nI m', f_cutLevel, f_cutSize, f_exact, f_bestValue, f_bestTaken, a_joined, a_weights, a_gain, a_state, a_value, a_taken, ns, nv, a_nextTaken, a_cutState, a_cutValue, a_cutTaken, a_waitLevel, a_waitState, a_waitValue, a_waitTaken, a_rest)) :
    ∀ d j, j + d = m → (∀ k, k < j → ¬ a_nextState k = o) → wX_reachCount_2 post o w f_n f_width f_forcedIn f_forcedOut f_mustIn f_mustOut f_size (nI m) f_cutLevel f_cutSize f_exact f_bestValue f_bestTaken a_joined a_weights a_gain a_state a_value a_taken a_nextState a_nextValue a_nextTaken a_cutState a_cutValue a_cutTaken a_waitLevel a_waitState a_waitValue a_waitTaken a_rest (d + 1) (nI j) := by
  intro d
  induction d with
  | zero =>
    intro j hj hne
    have hj : j = m := by omega
    subst hj
    rw [wX_reachCount_2]
    have c := nI_clamp (n := j) (by omega)
    have vi : vp_in (nI j) 64 := vp_in_nI hm (by decide)
    refine br_t (nI_le (Nat.le_refl _) (by omega)) (br_f (nI_ge (b := 64) hm (by decide)) ⟨vi, nm_r (e' := upd a_nextState j o) (by rw [c]) ⟨vi, nm_r (e' := upd a_nextValue j w) (by rw [c]) (nm_r (nI_1 j) ?_)⟩⟩)
    exact K (j + 1) _ _ (by omega) (Or.inr ⟨rfl, hne, rfl, rfl⟩)
  | succ d ih =>
    intro j hj hne
    rw [wX_reachCount_2]
    have c := nI_clamp (n := j) (by omega)
    have vi : vp_in (nI j) 64 := vp_in_nI (by omega) (by decide)
    refine br_f (nI_ge (by omega) (by omega)) ⟨vi, br_c (fun e => ⟨vi, vi, nm_r (e' := upd a_nextValue j (a_nextValue j + w)) (by rw [c]) ?_⟩) (fun e => nm_r (nI_1 j) (ih (j + 1) (by omega) ?_))⟩
    · rw [c] at e
      exact K m _ _ (by omega) (Or.inl ⟨rfl, rfl, j, by omega, e, rfl⟩)
    · rw [c] at e
      intro k hk
      by_cases z : k = j
      · subst z; exact e
      · exact hne k (by omega)
theorem xc_reachCount {post : SX → Prop} {o w : Int32} {m : Nat} (hm : m < 64)
    (K : ∀ m' ns nv, m' ≤ m + 1 → mk_S m a_nextState a_nextValue o w m' ns nv → post (f_n, f_width, f_forcedIn, f_forcedOut, f_mustIn, f_mustOut, f_size, nI m', f_cutLevel, f_cutSize, f_exact, f_bestValue, f_bestTaken, a_joined, a_weights, a_gain, a_state, a_value, a_taken, ns, nv, a_nextTaken, a_cutState, a_cutValue, a_cutTaken, a_waitLevel, a_waitState, a_waitValue, a_waitTaken, a_rest)) :
    wpX_reachCount post (f_n, f_width, f_forcedIn, f_forcedOut, f_mustIn, f_mustOut, f_size, nI m, f_cutLevel, f_cutSize, f_exact, f_bestValue, f_bestTaken, a_joined, a_weights, a_gain, a_state, a_value, a_taken, a_nextState, a_nextValue, a_nextTaken, a_cutState, a_cutValue, a_cutTaken, a_waitLevel, a_waitState, a_waitValue, a_waitTaken, a_rest) o w :=
  Exists.intro (m + 1) (xc_rc2 hm K m 0 (by omega) (fun k hk => absurd hk (by omega)))
theorem xc_cn33 {post : SX → Prop} {p : mp_B} {v i m : Nat} {T : Int32} (L : mn_L p f_n f_mustIn f_mustOut a_joined a_gain) (hv : v < mp_n p) (hi : i < 64) (hm : m < 64) (hN : mk_N p v (a_state i))
    (hI : mk_I p (v + 1) T m a_nextState a_nextValue)
    (K : ∀ m' ns nv, m' ≤ m + 1 → mk_I p (v + 1) (T + a_value i * nI (if ¬ (a_state i &&& nI (2 ^ v)) = 0 ∧ (mp_O p).testBit v = false then mc_t p (mp_n p - (v + 1)) (v + 1) ((a_state i &&& (nI (2 ^ v) ^^^ (-1))) &&& (nI (mp_N p v) ^^^ (-1))).toNatClampNeg else 0)) m' ns nv →
      post (f_n, f_width, f_forcedIn, f_forcedOut, f_mustIn, f_mustOut, f_size, nI m', f_cutLevel, f_cutSize, f_exact, f_bestValue, f_bestTaken, a_joined, a_weights, a_gain, a_state, a_value, a_taken, ns, nv, a_nextTaken, a_cutState, a_cutValue, a_cutTaken, a_waitLevel, a_waitState, a_waitValue, a_waitTaken, a_rest)) :
    wX_countNode_33 post (nI i) (nI v) (nI (2 ^ v)) f_n f_width f_forcedIn f_forcedOut f_mustIn f_mustOut f_size (nI m) f_cutLevel f_cutSize f_exact f_bestValue f_bestTaken a_joined a_weights a_gain a_state a_value a_taken a_nextState a_nextValue a_nextTaken a_cutState a_cutValue a_cutTaken a_waitLevel a_waitState a_waitValue a_waitTaken a_rest := by
  obtain ⟨hp, L1, L2, L3, L4, L5⟩ := L
  have hn := hp.2.1
  have c := nI_clamp (n := i) (by omega)
  have cv := nI_clamp (n := v) (by omega)
  have vi : vp_in (nI i) 64 := vp_in_nI hi (by decide)
  have vv : vp_in (nI v) 12 := vp_in_nI (by omega) (by decide)
  have hO : (f_mustOut &&& nI (2 ^ v)) = 0 ↔ (mp_O p).testBit v = false := by
    rw [L3, mb_and2 (by have := hp.2.2.2.2.1; omega)]
  have hz : ∀ x : Int32, T + x * nI 0 = T := by
    intro x
    rw [nI_0, Int32.mul_zero, Int32.add_zero]
  unfold wX_countNode_33
  refine ⟨vi, br_c (fun h => ?_) (fun h => br_c (fun h2 => ⟨vi, vv, vi, xc_reachCount hm (fun m' ns nv h3 h4 => ?_)⟩) (fun h2 => ?_))⟩
  · rw [c] at h
    refine K m _ _ (by omega) ?_
    rw [if_neg (fun z => z.1 h), hz]
    exact hI
  · rw [c] at h h4
    rw [cv, L4 v hv] at h4
    rw [hO] at h2
    have hI2 := mk_put hI h4 (mk_N1 (mk_N0 hN))
    refine K m' _ _ h3 ?_
    rw [if_pos ⟨h, h2⟩]
    exact hI2
  · rw [hO] at h2
    refine K m _ _ (by omega) ?_
    rw [if_neg (fun z => h2 z.2), hz]
    exact hI
theorem xc_countNode {post : SX → Prop} {p : mp_B} {v i m : Nat} {T : Int32} (L : mn_L p f_n f_mustIn f_mustOut a_joined a_gain) (hv : v < mp_n p) (hi : i < 64) (hm : m + 1 < 2 ^ (v + 1)) (hN : mk_N p v (a_state i))
    (hI : mk_I p (v + 1) T m a_nextState a_nextValue)
    (K : ∀ m' ns nv, m' ≤ m + 2 → mk_I p (v + 1) (T + mk_w p v a_state a_value i) m' ns nv →
      post (f_n, f_width, f_forcedIn, f_forcedOut, f_mustIn, f_mustOut, f_size, nI m', f_cutLevel, f_cutSize, f_exact, f_bestValue, f_bestTaken, a_joined, a_weights, a_gain, a_state, a_value, a_taken, ns, nv, a_nextTaken, a_cutState, a_cutValue, a_cutTaken, a_waitLevel, a_waitState, a_waitValue, a_waitTaken, a_rest)) :
    wpX_countNode post (f_n, f_width, f_forcedIn, f_forcedOut, f_mustIn, f_mustOut, f_size, nI m, f_cutLevel, f_cutSize, f_exact, f_bestValue, f_bestTaken, a_joined, a_weights, a_gain, a_state, a_value, a_taken, a_nextState, a_nextValue, a_nextTaken, a_cutState, a_cutValue, a_cutTaken, a_waitLevel, a_waitState, a_waitValue, a_waitTaken, a_rest) (nI i) (nI v) := by
  have L' := L
  obtain ⟨hp, L1, L2, L3, L4, L5⟩ := L'
  have hn := hp.2.1
  have c := nI_clamp (n := i) (by omega)
  have vi : vp_in (nI i) 64 := vp_in_nI hi (by decide)
  have hO : (f_mustIn &&& nI (2 ^ v)) = 0 ↔ (mp_I p).testBit v = false := by
    rw [L2, mb_and2 (by have := hp.2.2.2.1; omega)]
  have hr1 := (mk_rm hp (by omega) hI (by omega)).2 (by omega)
  unfold mk_w at K
  rw [mk_st hp hv hN, ← nI_add, Int32.mul_add, ← Int32.add_assoc] at K
  unfold wpX_countNode
  refine nm_r (mb_sh v (by omega)) (br_c (fun h => ⟨vi, vi, xc_reachCount hr1 (fun m' ns nv h3 h4 => ?_)⟩) (fun h => ?_))
  · rw [c] at h4
    rw [hO] at h
    have hI2 := mk_put hI h4 (mk_N0 hN)
    rw [if_pos h] at K
    exact xc_cn33 L hv hi ((mk_rm hp (by omega) hI2 (by omega)).2 (by omega)) hN hI2 (fun m2 ns2 nv2 h5 h6 => K m2 _ _ (by omega) h6)
  · rw [hO] at h
    rw [if_neg h, nI_0, Int32.mul_zero, Int32.add_zero] at K
    exact xc_cn33 L hv hi hr1 hN hI (fun m2 ns2 nv2 h5 h6 => K m2 _ _ (by omega) h6)
theorem xc_a35 {post : Int32 → SX → Prop} {J : Int32 → Int32 → Int32 → Int32 → Int32 → Int32 → Int32 → Int32 → Int32 → Int32 → Int32 → Int32 → Int32 → Int32 → (Nat → Int32) → (Nat → Int32) → (Nat → Int32) → (Nat → Int32) → (Nat → Int32) → (Nat → Int32) → (Nat → Int32) → (Nat → Int32) → (Nat → Int32) → (Nat → Int32) → (Nat → Int32) → (Nat → Int32) → (Nat → Int32) → (Nat → Int32) → (Nat → Int32) → (Nat → Int32) → (Nat → Int32) → Prop} {p : mp_B} {v sz : Nat} {T : Int32} (L : mn_L p f_n f_mustIn f_mustOut a_joined a_gain) (hv : v < mp_n p) (hsz : sz ≤ 64) (hsz2 : sz ≤ 2 ^ v)
    (hI0 : mk_I p v T sz a_state a_value)
    (K : ∀ m ns nv nt st vl tk, m ≤ 2 ^ (v + 1) → mk_I p (v + 1) T m st vl → J (nI (v + 1)) f_n f_width f_forcedIn f_forcedOut f_mustIn f_mustOut (nI m) (nI m) f_cutLevel f_cutSize f_exact f_bestValue f_bestTaken a_joined a_weights a_gain st vl tk ns nv nt a_cutState a_cutValue a_cutTaken a_waitLevel a_waitState a_waitValue a_waitTaken a_rest) :
    ∀ d i m ns nv, i + d = sz → m ≤ 2 * i → mk_I p (v + 1) (mk_s (mk_w p v a_state a_value) i) m ns nv →
    wX_allowedSets_35 post J (nI v) (d + 1) (nI i) f_n f_width f_forcedIn f_forcedOut f_mustIn f_mustOut (nI sz) (nI m) f_cutLevel f_cutSize f_exact f_bestValue f_bestTaken a_joined a_weights a_gain a_state a_value a_taken ns nv a_nextTaken a_cutState a_cutValue a_cutTaken a_waitLevel a_waitState a_waitValue a_waitTaken a_rest := by
  have hn := L.1.2.1
  have e2 : 2 ^ (v + 1) = 2 ^ v * 2 := Nat.pow_succ ..
  intro d
  induction d with
  | zero =>
    intro i m ns nv hi hm hI
    rw [wX_allowedSets_35]
    have hi : i = sz := by omega
    subst hi
    rw [hI0.2.2] at hI
    refine br_t (nI_le (Nat.le_refl _) (by omega)) (xr_takeLayer (mk_rm L.1 (by omega) hI (by omega)).1 (fun st vl tk h => nm_r (nI_1 v) (K m _ _ _ st vl tk (by omega) ?_)))
    obtain ⟨I1, I2, I3⟩ := hI
    refine ⟨fun k hk => by rw [(h k hk).1]; exact I1 k hk, fun j k hj hk e => I2 j k hj hk (by rw [← (h j hj).1, ← (h k hk).1]; exact e), ?_⟩
    rw [← I3]
    refine mk_sc m (fun k hk => ?_)
    unfold mk_w
    rw [(h k hk).1, (h k hk).2.1]
  | succ d ih =>
    intro i m ns nv hi hm hI
    rw [wX_allowedSets_35]
    exact br_f (nI_ge (by omega) (by omega)) (xc_countNode L hv (by omega) (by omega) (hI0.1 i (by omega)) hI (fun m' ns' nv' h1 h2 => nm_r (nI_1 i) (ih (i + 1) m' ns' nv' (by omega) (by omega) h2)))
theorem xc_a69 {post : Int32 → SX → Prop} {sz : Nat} (hsz : sz ≤ 64) (K : post (mk_s a_value sz) (f_n, f_width, f_forcedIn, f_forcedOut, f_mustIn, f_mustOut, nI sz, f_nextSize, f_cutLevel, f_cutSize, f_exact, f_bestValue, f_bestTaken, a_joined, a_weights, a_gain, a_state, a_value, a_taken, a_nextState, a_nextValue, a_nextTaken, a_cutState, a_cutValue, a_cutTaken, a_waitLevel, a_waitState, a_waitValue, a_waitTaken, a_rest)) :
    ∀ d i, i + d = sz → wX_allowedSets_69 post f_n f_width f_forcedIn f_forcedOut f_mustIn f_mustOut (nI sz) f_nextSize f_cutLevel f_cutSize f_exact f_bestValue f_bestTaken a_joined a_weights a_gain a_state a_value a_taken a_nextState a_nextValue a_nextTaken a_cutState a_cutValue a_cutTaken a_waitLevel a_waitState a_waitValue a_waitTaken a_rest (d + 1) (mk_s a_value i) (nI i) := by
  intro d
  induction d with
  | zero =>
    intro i hi
    rw [wX_allowedSets_69]
    have hi : i = sz := by omega
    subst hi
    exact br_t (nI_le (Nat.le_refl _) (by omega)) K
  | succ d ih =>
    intro i hi
    rw [wX_allowedSets_69]
    have c := nI_clamp (n := i) (by omega)
    have vi : vp_in (nI i) 64 := vp_in_nI (by omega) (by decide)
    exact br_f (nI_ge (by omega) (by omega)) ⟨vi, nm_r (e' := mk_s a_value (i + 1)) (by rw [c]; rfl) (nm_r (nI_1 i) (ih (i + 1) (by omega)))⟩
theorem xc_a20 {post : Int32 → SX → Prop} {p : mp_B} {T : Int32} (L : mn_L p f_n f_mustIn f_mustOut a_joined a_gain)
    (K : ∀ z1 z2 ns nv nt st vl tk, post T (f_n, f_width, f_forcedIn, f_forcedOut, f_mustIn, f_mustOut, z1, z2, f_cutLevel, f_cutSize, f_exact, f_bestValue, f_bestTaken, a_joined, a_weights, a_gain, st, vl, tk, ns, nv, nt, a_cutState, a_cutValue, a_cutTaken, a_waitLevel, a_waitState, a_waitValue, a_waitTaken, a_rest)) :
    ∀ d v sz z2 st vl tk ns nv nt, v + d = mp_n p → sz ≤ 2 ^ v → mk_I p v T sz st vl →
    wX_allowedSets_20 post (d + 1) (nI v) f_n f_width f_forcedIn f_forcedOut f_mustIn f_mustOut (nI sz) z2 f_cutLevel f_cutSize f_exact f_bestValue f_bestTaken a_joined a_weights a_gain st vl tk ns nv nt a_cutState a_cutValue a_cutTaken a_waitLevel a_waitState a_waitValue a_waitTaken a_rest := by
  have hn := L.1.2.1
  have L1 := L.2.1
  intro d
  induction d with
  | zero =>
    intro v sz z2 st vl tk ns nv nt hv hsz hI
    rw [wX_allowedSets_20]
    have hv : v = mp_n p := by omega
    subst hv
    refine br_t (by rw [L1]; exact nI_le (Nat.le_refl _) (by omega)) (Exists.intro (sz + 1) (xc_a69 (mk_rm L.1 (by omega) hI hsz).1 ?_ sz 0 (by omega)))
    have e : mk_s vl sz = T := by
      rw [← hI.2.2]
      refine mk_sc sz (fun k _ => ?_)
      rw [mk_w0]
    rw [e]
    exact K _ _ _ _ _ _ _ _
  | succ d ih =>
    intro v sz z2 st vl tk ns nv nt hv hsz hI
    rw [wX_allowedSets_20]
    refine br_f (by rw [L1]; exact nI_ge (by omega) (by omega)) (Exists.intro (sz + 1) (xc_a35 (T := T) L (by omega) (mk_rm L.1 (by omega) hI hsz).1 hsz hI (fun m ns' nv' nt' st' vl' tk' h1 h2 => ih (v + 1) m _ _ _ _ _ _ _ (by omega) h1 h2) sz 0 0 _ _ (by omega) (by omega) ?_))
    exact ⟨fun k hk => absurd hk (by omega), fun j k hj => absurd hj (by omega), (mk_s0 _).trans (mk_s0 _).symm⟩
end
end
section
/-! atLeast: a depth-first count with a stack -/
def ma_K (p : mp_B) (h : Nat) (wl ws wv : Nat → Int32) : Prop :=
  ∀ j, j < h → ∃ v o w, v ≤ mp_n p ∧ j ≤ v ∧ o < 2 ^ mp_n p ∧ w ≤ v * 30 ∧ wl j = nI v ∧ ws j = nI o ∧ wv j = nI w
def ma_f (p : mp_B) (b : Int) (wl ws wv : Nat → Int32) (j : Nat) : Int32 :=
  nI (mc_a p b (mp_n p - (wl j).toNatClampNeg) (wl j).toNatClampNeg (ws j).toNatClampNeg (wv j).toNatClampNeg)
def ma_T (p : mp_B) (b : Int) (wl ws wv : Nat → Int32) (h : Nat) : Int32 := mk_s (ma_f p b wl ws wv) h
def ma_P (p : mp_B) (wl : Nat → Int32) (h : Nat) : Nat := mo_P (mp_n p + 1) (fun j => (wl j).toNatClampNeg) h
theorem ma_Ku {p : mp_B} {h v o w : Nat} {wl ws wv : Nat → Int32} (K : ma_K p h wl ws wv) (h1 : v ≤ mp_n p) (h2 : h ≤ v) (h3 : o < 2 ^ mp_n p) (h4 : w ≤ v * 30) :
    ma_K p (h + 1) (upd wl h (nI v)) (upd ws h (nI o)) (upd wv h (nI w)) := by
  intro j hj
  by_cases z : j = h
  · subst z
    rw [pk_us, pk_us, pk_us]
    exact ⟨v, o, w, h1, h2, h3, h4, rfl, rfl, rfl⟩
  · rw [pk_un z, pk_un z, pk_un z]
    exact K j (by omega)
theorem ma_Tu {p : mp_B} {b : Int} {h v o w : Nat} {wl ws wv : Nat → Int32} (h1 : v < 2 ^ 31) (h3 : o < 2 ^ 31) (h4 : w < 2 ^ 31) :
    ma_T p b (upd wl h (nI v)) (upd ws h (nI o)) (upd wv h (nI w)) (h + 1) = ma_T p b wl ws wv h + nI (mc_a p b (mp_n p - v) v o w) := by
  unfold ma_T
  rw [mk_s, mk_sc (g := ma_f p b wl ws wv) h (fun k hk => by unfold ma_f; rw [pk_un (by omega), pk_un (by omega), pk_un (by omega)])]
  unfold ma_f
  rw [pk_us, pk_us, pk_us, nI_clamp h1, nI_clamp h3, nI_clamp h4]
theorem ma_Pu {p : mp_B} {h v : Nat} {wl : Nat → Int32} (h1 : v < 2 ^ 31) : ma_P p (upd wl h (nI v)) (h + 1) = ma_P p wl h + (2 ^ (mp_n p + 1 - v) - 1) := by
  unfold ma_P
  rw [mo_P, mo_Pc (mp_n p + 1) (lv' := fun j => (wl j).toNatClampNeg) h (fun j hj => by show (upd wl h (nI v) j).toNatClampNeg = _; rw [pk_un (by omega)]), pk_us, nI_clamp h1]
theorem ma_Ts {p : mp_B} {b : Int} {h v o w : Nat} {wl ws wv : Nat → Int32} (h1 : v < 2 ^ 31) (h3 : o < 2 ^ 31) (h4 : w < 2 ^ 31) (e1 : wl h = nI v) (e2 : ws h = nI o) (e3 : wv h = nI w) :
    ma_T p b wl ws wv (h + 1) = ma_T p b wl ws wv h + nI (mc_a p b (mp_n p - v) v o w) := by
  unfold ma_T
  rw [mk_s]
  apply congrArg
  unfold ma_f
  rw [e1, e2, e3, nI_clamp h1, nI_clamp h3, nI_clamp h4]
theorem ma_Ps {p : mp_B} {h v : Nat} {wl : Nat → Int32} (h1 : v < 2 ^ 31) (e1 : wl h = nI v) : ma_P p wl (h + 1) = ma_P p wl h + (2 ^ (mp_n p + 1 - v) - 1) := by
  unfold ma_P
  rw [mo_P, e1, nI_clamp h1]
theorem ma_2 {n v : Nat} (h : v < n) : 2 ^ (n + 1 - v) - 1 = (2 ^ (n + 1 - (v + 1)) - 1) + (2 ^ (n + 1 - (v + 1)) - 1) + 1 ∧ 1 ≤ 2 ^ (n + 1 - (v + 1)) - 1 := by
  rw [show n + 1 - v = (n - v) + 1 by omega, show n + 1 - (v + 1) = n - v by omega, Nat.pow_succ]
  have : 2 ^ 1 ≤ 2 ^ (n - v) := Nat.pow_le_pow_right (by decide) (by omega)
  omega
theorem ma_1 {n v : Nat} (h : v ≤ n) : 1 ≤ 2 ^ (n + 1 - v) - 1 := by
  have : 2 ^ 1 ≤ 2 ^ (n + 1 - v) := Nat.pow_le_pow_right (by decide) (by omega)
  omega
section
variable {f_n f_width f_forcedIn f_forcedOut f_mustIn f_mustOut f_size f_nextSize f_cutLevel f_cutSize f_exact f_bestValue f_bestTaken : Int32} {a_joined a_weights a_gain a_state a_value a_taken a_nextState a_nextValue a_nextTaken a_cutState a_cutValue a_cutTaken a_waitLevel a_waitState a_waitValue a_waitTaken a_rest : Nat → Int32}
theorem xa_216 {post : Int32 → SX → Prop} {J : Int32 → Int32 → Int32 → (Nat → Int32) → (Nat → Int32) → (Nat → Int32) → (Nat → Int32) → (Nat → Int32) → (Nat → Int32) → (Nat → Int32) → (Nat → Int32) → (Nat → Int32) → (Nat → Int32) → (Nat → Int32) → (Nat → Int32) → (Nat → Int32) → (Nat → Int32) → (Nat → Int32) → (Nat → Int32) → (Nat → Int32) → Prop} {p : mp_B} {x1 found C : Int32} {b : Int} {h step v o w : Nat} (hp : mp_ok p) (hv : v < mp_n p) (hw30 : mp_g p v ≤ 30) (hO : f_mustOut = nI (mp_O p)) (hj : a_joined v = nI (mp_N p v)) (hw : a_weights v = nI (mp_g p v))
    (hh : h ≤ v + 1) (ho : o < 2 ^ mp_n p) (hww : w ≤ v * 30) (hK : ma_K p h a_waitLevel a_waitState a_waitValue)
    (hC : found + (ma_T p b a_waitLevel a_waitState a_waitValue h + nI (if o.testBit v = true ∧ (mp_O p).testBit v = false then mc_a p b (mp_n p - (v + 1)) (v + 1) (mb_d (mb_d o (2 ^ v)) (mp_N p v)) (w + mp_g p v) else 0)) = C)
    (K : ∀ h' wl ws wv, ma_K p h' wl ws wv → found + ma_T p b wl ws wv h' = C → ma_P p wl h' ≤ ma_P p a_waitLevel h + (2 ^ (mp_n p + 1 - (v + 1)) - 1) → J (nI h') found (nI (step + 1)) a_joined a_weights a_gain a_state a_value a_taken a_nextState a_nextValue a_nextTaken a_cutState a_cutValue a_cutTaken wl ws wv a_waitTaken a_rest) :
    wX_atLeast_216 post J x1 (nI h) found (nI step) (nI v) (nI o) (nI w) (nI (2 ^ v)) f_n f_width f_forcedIn f_forcedOut f_mustIn f_mustOut f_size f_nextSize f_cutLevel f_cutSize f_exact f_bestValue f_bestTaken a_joined a_weights a_gain a_state a_value a_taken a_nextState a_nextValue a_nextTaken a_cutState a_cutValue a_cutTaken a_waitLevel a_waitState a_waitValue a_waitTaken a_rest := by
  have hn := hp.2.1
  have ch := nI_clamp (n := h) (by omega)
  have cv := nI_clamp (n := v) (by omega)
  have vh : vp_in (nI h) 256 := vp_in_nI (by omega) (by decide)
  have vv : vp_in (nI v) 12 := vp_in_nI (by omega) (by decide)
  have ho31 := mn_o31 hp ho
  have eO : (f_mustOut &&& nI (2 ^ v)) = 0 ↔ (mp_O p).testBit v = false := by
    rw [hO, mb_and2 (by have := hp.2.2.2.2.1; omega)]
  unfold wX_atLeast_216
  refine br_c (fun q => nm_r (nI_1 step) (K h _ _ _ hK ?_ (by omega))) (fun q => br_c (fun q2 => ⟨vh, nm_r (e' := upd a_waitLevel h (nI (v + 1))) (by rw [ch, nI_1]) ⟨vv, vh, nm_r (e' := upd a_waitState h (nI (mb_d (mb_d o (2 ^ v)) (mp_N p v)))) (by rw [ch, cv, hj, mb_dif, mb_dif]) ⟨vv, vh, nm_r (e' := upd a_waitValue h (nI (w + mp_g p v))) (by rw [ch, cv, hw, nI_add]) (nm_r (nI_1 h) (nm_r (nI_1 step) (K (h + 1) _ _ _ ?_ ?_ ?_)))⟩⟩⟩) (fun q2 => nm_r (nI_1 step) (K h _ _ _ hK ?_ (by omega))))
  · rw [mb_and2 ho31] at q
    rw [if_neg (fun z => by rw [q] at z; exact absurd z.1 (by decide)), nI_0, Int32.add_zero] at hC
    exact hC
  · exact ma_Ku hK (by omega) hh (mb_dlt (mb_dlt ho)) (by omega)
  · rw [mb_and2 ho31] at q
    rw [eO] at q2
    rw [if_pos ⟨mb_bt q, q2⟩] at hC
    rw [ma_Tu (by omega) (mn_o31 hp (mb_dlt (mb_dlt ho))) (by omega)]
    exact hC
  · rw [ma_Pu (by omega)]
    exact Nat.le_refl _
  · rw [eO] at q2
    rw [if_neg (fun z => q2 z.2), nI_0, Int32.add_zero] at hC
    exact hC
theorem xa_87 {post : Int32 → SX → Prop} {p : mp_B} {b C : Int32} (hp : mp_ok p) (hg : mg_ok (mp_n p) (mp_N p)) (hf : f_n = nI (mp_n p)) (hMI : f_mustIn = nI (mp_I p)) (hO : f_mustOut = nI (mp_O p)) (hj : ∀ u, u < mp_n p → a_joined u = nI (mp_N p u)) (hw : ∀ u, u < mp_n p → a_weights u = nI (mp_g p u) ∧ mp_g p u ≤ 30)
    (hr : ∀ u, u < mp_n p → a_rest u = nI (mc_r (mp_g p) (mp_n p - u) u) ∧ mc_r (mp_g p) (mp_n p - u) u ≤ 1000)
    (K : ∀ wl ws wv, post C (f_n, f_width, f_forcedIn, f_forcedOut, f_mustIn, f_mustOut, f_size, f_nextSize, f_cutLevel, f_cutSize, f_exact, f_bestValue, f_bestTaken, a_joined, a_weights, a_gain, a_state, a_value, a_taken, a_nextState, a_nextValue, a_nextTaken, a_cutState, a_cutValue, a_cutTaken, wl, ws, wv, a_waitTaken, a_rest)) :
    ∀ d h found step wl ws wv, ma_P p wl h ≤ d → step + ma_P p wl h ≤ 8191 → ma_K p h wl ws wv → found + ma_T p b.toInt wl ws wv h = C →
    wX_atLeast_87 post b f_n f_width f_forcedIn f_forcedOut f_mustIn f_mustOut f_size f_nextSize f_cutLevel f_cutSize f_exact f_bestValue f_bestTaken (d + 1) (nI h) found (nI step) a_joined a_weights a_gain a_state a_value a_taken a_nextState a_nextValue a_nextTaken a_cutState a_cutValue a_cutTaken wl ws wv a_waitTaken a_rest := by
  have hn := hp.2.1
  intro d
  induction d with
  | zero =>
    intro h found step wl ws wv hd hs hK hC
    rw [wX_atLeast_87]
    have hh : h = 0 := by
      rcases Nat.eq_zero_or_pos h with e | e
      · exact e
      · obtain ⟨g, rfl⟩ : ∃ g, h = g + 1 := ⟨h - 1, by omega⟩
        obtain ⟨v, o, w, a1, a2, a3, a4, a5, a6, a7⟩ := hK g (by omega)
        rw [ma_Ps (by omega) a5] at hd
        have := ma_1 a1
        omega
    subst hh
    have e : found = C := by
      rw [← hC]
      show found = found + 0
      rw [Int32.add_zero]
    rw [e]
    exact br_f (nI_ge (b := 8192) (by omega) (by decide)) (br_t (nI_le (a := 0) (b := 0) (Nat.le_refl _) (by decide)) (K _ _ _))
  | succ d ih =>
    intro h found step wl ws wv hd hs hK hC
    rw [wX_atLeast_87]
    refine br_f (nI_ge (b := 8192) (by omega) (by decide)) ?_
    rcases Nat.eq_zero_or_pos h with e | e
    · subst e
      have e : found = C := by
        rw [← hC]
        show found = found + 0
        rw [Int32.add_zero]
      rw [e]
      exact br_t (nI_le (a := 0) (b := 0) (Nat.le_refl _) (by decide)) (K _ _ _)
    · obtain ⟨g, rfl⟩ : ∃ g, h = g + 1 := ⟨h - 1, by omega⟩
      obtain ⟨v, o, w, a1, a2, a3, a4, a5, a6, a7⟩ := hK g (by omega)
      have ho31 := mn_o31 hp a3
      have hKg : ma_K p g wl ws wv := fun j hj => hK j (by omega)
      have h1 := ma_1 a1
      rw [ma_Ps (by omega) a5] at hd hs
      rw [ma_Ts (by omega) ho31 (by omega) a5 a6 a7] at hC
      have c := nI_clamp (n := g) (by omega)
      have cv := nI_clamp (n := v) (by omega)
      have vi : vp_in (nI g) 256 := vp_in_nI (by omega) (by decide)
      refine br_f (nI_nle (by omega) (by omega)) (nm_r (pk_m1 g) ⟨vi, nm_r (e' := nI v) (by rw [c]; exact a5) ⟨vi, nm_r (e' := nI o) (by rw [c]; exact a6) ⟨vi, nm_r (e' := nI w) (by rw [c]; exact a7) (br_c (fun q => ?_) (fun q => ?_))⟩⟩⟩)
      · rw [hf, nI_eq (by omega) (by omega)] at q
        subst q
        rw [Nat.sub_self, mc_a] at hC
        refine br_c (fun q2 => nm_r (Int32.add_zero found) (nm_r (nI_1 step) (ih g found (step + 1) _ _ _ (by omega) (by omega) hKg ?_))) (fun q2 => nm_e (nm_r (nI_1 step) (ih g (found + 1) (step + 1) _ _ _ (by omega) (by omega) hKg ?_)))
        · rw [mb_ltI (by omega)] at q2
          rw [if_neg (by omega), nI_0, Int32.add_zero] at hC
          exact hC
        · rw [mb_ltI (by omega)] at q2
          rw [if_pos (by omega)] at hC
          rw [← hC, Int32.add_assoc, Int32.add_comm 1]
          rfl
      · rw [hf, nI_eq (by omega) (by omega)] at q
        have hv : v < mp_n p := by omega
        obtain ⟨hr1, hr2⟩ := hr v hv
        obtain ⟨hw1, hw2⟩ := hw v hv
        have v13 : vp_in (nI v) 13 := vp_in_nI (by omega) (by decide)
        obtain ⟨m1, m2⟩ := ma_2 hv
        refine ⟨v13, br_c (fun q2 => ?_) (fun q2 => nm_r (mb_sh v (by omega)) ?_)⟩
        · rw [cv, hr1, nI_add, mb_ltI (by omega)] at q2
          rw [mc_a0 p _ _ _ _ q2, nI_0, Int32.add_zero] at hC
          exact nm_r (nI_1 step) (ih g found (step + 1) _ _ _ (by omega) (by omega) hKg hC)
        · have eI : (f_mustIn &&& nI (2 ^ v)) = 0 ↔ (mp_I p).testBit v = false := by
            rw [hMI, mb_and2 (by have := hp.2.2.2.1; omega)]
          rw [show mp_n p - v = (mp_n p - (v + 1)) + 1 by omega, mc_a, ← nI_add] at hC
          refine br_c (fun q3 => ⟨vi, nm_r (e' := upd wl g (nI (v + 1))) (by rw [c, nI_1]) ⟨vi, nm_r (e' := upd ws g (nI (mb_d o (2 ^ v)))) (by rw [c, mb_dif]) ⟨vi, nm_r (e' := upd wv g (nI w)) (by rw [c]) (nm_r (nI_1 g) (xa_216 (p := p) (b := b.toInt) (C := C) hp hv hw2 hO (hj v hv) hw1 (by omega) a3 a4 (ma_Ku hKg (by omega) (by omega) (mb_dlt a3) (by omega)) ?_ (fun h' wl' ws' wv' k1 k2 k3 => ?_)))⟩⟩⟩) (fun q3 => xa_216 (p := p) (b := b.toInt) (C := C) hp hv hw2 hO (hj v hv) hw1 (by omega) a3 a4 hKg ?_ (fun h' wl' ws' wv' k1 k2 k3 => ?_))
          · rw [eI] at q3
            rw [if_pos q3] at hC
            rw [ma_Tu (by omega) (mn_o31 hp (mb_dlt a3)) (by omega), Int32.add_assoc]
            exact hC
          · rw [ma_Pu (by omega)] at k3
            exact ih h' found (step + 1) _ _ _ (by omega) (by omega) k1 k2
          · rw [eI] at q3
            rw [if_neg q3, nI_0, Int32.zero_add] at hC
            exact hC
          · exact ih h' found (step + 1) _ _ _ (by omega) (by omega) k1 k2
theorem xa_21 {post : Int32 → SX → Prop} {p : mp_B} {b : Int32} (hp : mp_ok p) (hg : mg_ok (mp_n p) (mp_N p)) (hf : f_n = nI (mp_n p)) (hMI : f_mustIn = nI (mp_I p)) (hO : f_mustOut = nI (mp_O p)) (hj : ∀ u, u < mp_n p → a_joined u = nI (mp_N p u)) (hw : ∀ u, u < mp_n p → a_weights u = nI (mp_g p u) ∧ mp_g p u ≤ 30)
    (K : ∀ wl ws wv re, post (nI (mc_a p b.toInt (mp_n p) 0 (2 ^ mp_n p - 1) 0)) (f_n, f_width, f_forcedIn, f_forcedOut, f_mustIn, f_mustOut, f_size, f_nextSize, f_cutLevel, f_cutSize, f_exact, f_bestValue, f_bestTaken, a_joined, a_weights, a_gain, a_state, a_value, a_taken, a_nextState, a_nextValue, a_nextTaken, a_cutState, a_cutValue, a_cutTaken, wl, ws, wv, a_waitTaken, re)) :
    ∀ j re, j ≤ mp_n p → (∀ u, j ≤ u → u ≤ mp_n p → re u = nI (mc_r (mp_g p) (mp_n p - u) u) ∧ mc_r (mp_g p) (mp_n p - u) u ≤ (mp_n p - u) * 30) →
    wX_atLeast_21 post b f_n f_width f_forcedIn f_forcedOut f_mustIn f_mustOut f_size f_nextSize f_cutLevel f_cutSize f_exact f_bestValue f_bestTaken (j + 1) (nI j + (-1)) a_joined a_weights a_gain a_state a_value a_taken a_nextState a_nextValue a_nextTaken a_cutState a_cutValue a_cutTaken a_waitLevel a_waitState a_waitValue a_waitTaken re := by
  have hn := hp.2.1
  have h12 := mb_p12 hn
  intro j
  induction j with
  | zero =>
    intro re hjn hre
    rw [wX_atLeast_21]
    have eF : ((1 : Int32) <<< (f_n &&& 31)) - 1 = nI (2 ^ mp_n p - 1) := by
      rw [hf, mb_sh _ (by omega), mb_full _ (by omega)]
    have hpos := Nat.two_pow_pos (mp_n p)
    refine br_t (by decide) (nm_r (e' := upd a_waitLevel 0 (nI 0)) rfl (nm_r (e' := upd a_waitState 0 (nI (2 ^ mp_n p - 1))) (by rw [eF]) (nm_r (e' := upd a_waitValue 0 (nI 0)) rfl (Exists.intro (8191 + 1) ?_))))
    have hK0 : ma_K p 0 a_waitLevel a_waitState a_waitValue := fun j hj => absurd hj (by omega)
    have hP : ma_P p (upd a_waitLevel 0 (nI 0)) 1 ≤ 8191 := by
      rw [ma_Pu (h := 0) (by omega)]
      show 0 + (2 ^ (mp_n p + 1 - 0) - 1) ≤ 8191
      rw [Nat.sub_zero, Nat.pow_succ]
      omega
    refine xa_87 (C := nI (mc_a p b.toInt (mp_n p) 0 (2 ^ mp_n p - 1) 0)) hp hg hf hMI hO hj hw (fun u hu => ?_) (fun wl ws wv => K wl ws wv re) 8191 1 0 0 _ _ _ hP (by omega) (ma_Ku hK0 (by omega) (by omega) (by omega) (by omega)) ?_
    · obtain ⟨h1, h2⟩ := hre u (by omega) (by omega)
      exact ⟨h1, by omega⟩
    · rw [ma_Tu (h := 0) (by omega) (by omega) (by omega), Nat.sub_zero]
      show 0 + (0 + _) = _
      rw [Int32.zero_add, Int32.zero_add]
  | succ j ih =>
    intro re hjn hre
    rw [wX_atLeast_21, pk_m1]
    have c := nI_clamp (n := j) (by omega)
    have c1 := nI_clamp (n := j + 1) (by omega)
    have v13 : vp_in (nI j) 13 := vp_in_nI (by omega) (by decide)
    have v12 : vp_in (nI j) 12 := vp_in_nI (by omega) (by decide)
    have v13' : vp_in (nI j + 1) 13 := by rw [nI_1]; exact vp_in_nI (by omega) (by decide)
    obtain ⟨h1, h2⟩ := hre (j + 1) (by omega) (by omega)
    obtain ⟨w1, w2⟩ := hw j (by omega)
    have er : mc_r (mp_g p) (mp_n p - j) j = mc_r (mp_g p) (mp_n p - (j + 1)) (j + 1) + mp_g p j := by
      rw [show mp_n p - j = (mp_n p - (j + 1)) + 1 by omega, mc_r]
    refine br_f (nI_pos (by omega)) ⟨v13', v12, v13, nm_r (e' := upd re j (nI (mc_r (mp_g p) (mp_n p - j) j))) (by rw [c, nI_1, c1, h1, w1, nI_add, er]) (nm_e (ih _ (by omega) ?_))⟩
    intro u hu hun
    by_cases z : u = j
    · subst z
      rw [pk_us, er]
      exact ⟨rfl, by omega⟩
    · rw [pk_un z]
      exact hre u (by omega) hun
end
end
section
/-! the other small methods of the component; edges; weights -/
def me_j (f : Nat → Int32) (a b : Nat) (on : Int32) : Nat → Int32 :=
  if on = 0 then upd (upd f a (f a &&& (nI (2 ^ b) ^^^ (-1)))) b (upd f a (f a &&& (nI (2 ^ b) ^^^ (-1))) b &&& (nI (2 ^ a) ^^^ (-1)))
  else upd (upd f a (f a ||| nI (2 ^ b))) b (upd f a (f a ||| nI (2 ^ b)) b ||| nI (2 ^ a))
def mj_R (n : Nat) (f : Nat → Int32) : Prop := ∃ N : Nat → Nat, mg_ok n N ∧ ∀ u, u < n → f u = nI (N u)
def mj_N (N : Nat → Nat) (a b : Nat) (on : Int32) (u : Nat) : Nat :=
  if on = 0 then (if u = a then mb_d (N a) (2 ^ b) else if u = b then mb_d (N b) (2 ^ a) else N u)
  else (if u = a then N a ||| 2 ^ b else if u = b then N b ||| 2 ^ a else N u)
theorem mj_t {N : Nat → Nat} {a b : Nat} {on : Int32} (u v : Nat) (h : a ≠ b) : (mj_N N a b on u).testBit v =
    (if on = 0 then ((N u).testBit v && !(decide (u = a ∧ v = b) || decide (u = b ∧ v = a))) else ((N u).testBit v || (decide (u = a ∧ v = b) || decide (u = b ∧ v = a)))) := by
  unfold mj_N
  by_cases z : on = 0
  · rw [if_pos z, if_pos z]
    by_cases h1 : u = a
    · subst h1
      rw [if_pos rfl, mb_dt, Nat.testBit_two_pow]
      have e1 : decide (u = b ∧ v = u) = false := decide_eq_false (fun q => h q.1)
      rw [e1, Bool.or_false]
      by_cases q : b = v
      · rw [decide_eq_true q, decide_eq_true ⟨rfl, q.symm⟩]
      · rw [decide_eq_false q, decide_eq_false (fun y => q y.2.symm)]
    · rw [if_neg h1]
      have e1 : decide (u = a ∧ v = b) = false := decide_eq_false (fun q => h1 q.1)
      rw [e1, Bool.false_or]
      by_cases h2 : u = b
      · subst h2
        rw [if_pos rfl, mb_dt, Nat.testBit_two_pow]
        by_cases q : a = v
        · rw [decide_eq_true q, decide_eq_true ⟨rfl, q.symm⟩]
        · rw [decide_eq_false q, decide_eq_false (fun y => q y.2.symm)]
      · rw [if_neg h2]
        have e2 : decide (u = b ∧ v = a) = false := decide_eq_false (fun q => h2 q.1)
        rw [e2]; simp
  · rw [if_neg z, if_neg z]
    by_cases h1 : u = a
    · subst h1
      rw [if_pos rfl, Nat.testBit_or, Nat.testBit_two_pow]
      have e1 : decide (u = b ∧ v = u) = false := decide_eq_false (fun q => h q.1)
      rw [e1, Bool.or_false]
      by_cases q : b = v
      · rw [decide_eq_true q, decide_eq_true ⟨rfl, q.symm⟩]
      · rw [decide_eq_false q, decide_eq_false (fun y => q y.2.symm)]
    · rw [if_neg h1]
      have e1 : decide (u = a ∧ v = b) = false := decide_eq_false (fun q => h1 q.1)
      rw [e1, Bool.false_or]
      by_cases h2 : u = b
      · subst h2
        rw [if_pos rfl, Nat.testBit_or, Nat.testBit_two_pow]
        by_cases q : a = v
        · rw [decide_eq_true q, decide_eq_true ⟨rfl, q.symm⟩]
        · rw [decide_eq_false q, decide_eq_false (fun y => q y.2.symm)]
      · rw [if_neg h2]
        have e2 : decide (u = b ∧ v = a) = false := decide_eq_false (fun q => h2 q.1)
        rw [e2]; simp
theorem mj_ok {n a b : Nat} {f : Nat → Int32} {on : Int32} (h : mj_R n f) (ha : a < n) (hb : b < n) (hab : a ≠ b) : mj_R n (me_j f a b on) := by
  obtain ⟨N, ⟨g1, g2, g3⟩, e⟩ := h
  refine ⟨mj_N N a b on, ⟨?_, ?_, ?_⟩, ?_⟩
  · intro v hv
    apply Nat.lt_pow_two_of_testBit
    intro i hi
    rw [mj_t v i hab, mb_hi (g1 v hv) hi, decide_eq_false (by omega : ¬ (v = a ∧ i = b)), decide_eq_false (by omega : ¬ (v = b ∧ i = a))]
    split <;> rfl
  · intro u v hu hv
    rw [mj_t u v hab, mj_t v u hab, g2 u v hu hv]
    have e1 : decide (u = a ∧ v = b) = decide (v = b ∧ u = a) := decide_eq_decide.mpr and_comm
    have e2 : decide (u = b ∧ v = a) = decide (v = a ∧ u = b) := decide_eq_decide.mpr and_comm
    rw [e1, e2, Bool.or_comm (decide (v = b ∧ u = a))]
  · intro v hv
    rw [mj_t v v hab, g3 v hv, decide_eq_false (by omega : ¬ (v = a ∧ v = b)), decide_eq_false (by omega : ¬ (v = b ∧ v = a))]
    split <;> rfl
  · intro u hu
    unfold me_j mj_N
    by_cases z : on = 0
    · rw [if_pos z, if_pos z]
      by_cases h1 : u = a
      · subst h1
        rw [if_pos rfl, pk_un hab, pk_us, e u hu, mb_dif]
      · rw [if_neg h1]
        by_cases h2 : u = b
        · subst h2
          rw [if_pos rfl, pk_us, pk_un h1, e u hu, mb_dif]
        · rw [if_neg h2, pk_un h2, pk_un h1, e u hu]
    · rw [if_neg z, if_neg z]
      by_cases h1 : u = a
      · subst h1
        rw [if_pos rfl, pk_un hab, pk_us, e u hu, mb_or]
      · rw [if_neg h1]
        by_cases h2 : u = b
        · subst h2
          rw [if_pos rfl, pk_us, pk_un h1, e u hu, mb_or]
        · rw [if_neg h2, pk_un h2, pk_un h1, e u hu]
/-- the number of ones below 12 -/
def mh_1 (s : Nat) : Nat := mp_v (fun _ => 1) 12 s
theorem mh_le (s : Nat) : mh_1 s ≤ 12 := by
  have := mp_vle (fun _ => 1) 1 s 12 (fun _ _ => Nat.le_refl _)
  exact this
theorem mp_vs (g : Nat → Nat) (v s : Nat) : mp_v g (v + 1) s = mp_v g v s + (if s.testBit v = true then g v else 0) := rfl
section
variable {f_n f_width f_forcedIn f_forcedOut f_mustIn f_mustOut f_size f_nextSize f_cutLevel f_cutSize f_exact f_bestValue f_bestTaken : Int32} {a_joined a_weights a_gain a_state a_value a_taken a_nextState a_nextValue a_nextTaken a_cutState a_cutValue a_cutTaken a_waitLevel a_waitState a_waitValue a_waitTaken a_rest : Nat → Int32}
theorem xs_no {post : Int32 → Prop} {n : Nat} {x : Int32} (h : x < 0 ∨ nI n ≤ x) (K : post 0) : wpX_isVertex post (nI n, f_width, f_forcedIn, f_forcedOut, f_mustIn, f_mustOut, f_size, f_nextSize, f_cutLevel, f_cutSize, f_exact, f_bestValue, f_bestTaken, a_joined, a_weights, a_gain, a_state, a_value, a_taken, a_nextState, a_nextValue, a_nextTaken, a_cutState, a_cutValue, a_cutTaken, a_waitLevel, a_waitState, a_waitValue, a_waitTaken, a_rest) x := by
  unfold wpX_isVertex
  rcases h with h | h
  · exact br_t h K
  · exact br_c (fun _ => K) (fun _ => br_t h K)
theorem xs_yes {post : Int32 → Prop} {n j : Nat} (hn : n ≤ 12) (hj : j < n) (K : post 1) : wpX_isVertex post (nI n, f_width, f_forcedIn, f_forcedOut, f_mustIn, f_mustOut, f_size, f_nextSize, f_cutLevel, f_cutSize, f_exact, f_bestValue, f_bestTaken, a_joined, a_weights, a_gain, a_state, a_value, a_taken, a_nextState, a_nextValue, a_nextTaken, a_cutState, a_cutValue, a_cutTaken, a_waitLevel, a_waitState, a_waitValue, a_waitTaken, a_rest) (nI j) := by
  unfold wpX_isVertex
  exact br_f (nI_pos (by omega)) (br_f (nI_ge hj (by omega)) K)
theorem xs_setEdge {post : SX → Prop} {a b : Nat} {on : Int32} (ha : a < 12) (hb : b < 12) (K : post (f_n, f_width, f_forcedIn, f_forcedOut, f_mustIn, f_mustOut, f_size, f_nextSize, f_cutLevel, f_cutSize, f_exact, f_bestValue, f_bestTaken, me_j a_joined a b on, a_weights, a_gain, a_state, a_value, a_taken, a_nextState, a_nextValue, a_nextTaken, a_cutState, a_cutValue, a_cutTaken, a_waitLevel, a_waitState, a_waitValue, a_waitTaken, a_rest)) : wpX_setEdge post (f_n, f_width, f_forcedIn, f_forcedOut, f_mustIn, f_mustOut, f_size, f_nextSize, f_cutLevel, f_cutSize, f_exact, f_bestValue, f_bestTaken, a_joined, a_weights, a_gain, a_state, a_value, a_taken, a_nextState, a_nextValue, a_nextTaken, a_cutState, a_cutValue, a_cutTaken, a_waitLevel, a_waitState, a_waitValue, a_waitTaken, a_rest) (nI a) (nI b) on := by
  have ca := nI_clamp (n := a) (by omega)
  have cb := nI_clamp (n := b) (by omega)
  have va : vp_in (nI a) 12 := vp_in_nI ha (by decide)
  have vb : vp_in (nI b) 12 := vp_in_nI hb (by decide)
  have ea := mb_sh a (by omega)
  have eb := mb_sh b (by omega)
  unfold wpX_setEdge
  refine br_c (fun h => ⟨va, ?_⟩) (fun h => ⟨va, ?_⟩)
  · unfold wX_setEdge_34
    refine ⟨va, nm_r (e' := upd a_joined a (a_joined a &&& (nI (2 ^ b) ^^^ (-1)))) (by rw [ca, eb]) (br_t h ⟨vb, vb, nm_r (e' := me_j a_joined a b on) (by rw [me_j, if_pos h, cb, ea]) K⟩)⟩
  · unfold wX_setEdge_34
    refine ⟨va, nm_r (e' := upd a_joined a (a_joined a ||| nI (2 ^ b))) (by rw [ca, eb]) (br_f h ⟨vb, vb, nm_r (e' := me_j a_joined a b on) (by rw [me_j, if_neg h, cb, ea]) K⟩)⟩
theorem xs_o4 {post : Int32 → Prop} {s : Nat} (hs : s < 2 ^ 31) (K : post (nI (mh_1 s))) :
    ∀ d j, j + d = 12 → wX_ones_4 post (nI s) (d + 1) (nI (mp_v (fun _ => 1) j s)) (nI j) := by
  intro d
  induction d with
  | zero =>
    intro j hj
    rw [wX_ones_4]
    have hj : j = 12 := by omega
    subst hj
    exact br_t (nI_le (a := 12) (b := 12) (Nat.le_refl _) (by decide)) K
  | succ d ih =>
    intro j hj
    rw [wX_ones_4]
    exact br_f (nI_ge (b := 12) (by omega) (by decide)) (nm_r (e' := nI (mp_v (fun _ => 1) (j + 1) s)) (by rw [mb_bit hs (by omega), nI_add, mp_vs]) (nm_r (nI_1 j) (ih (j + 1) (by omega))))
theorem xs_ones {post : Int32 → Prop} {s : Nat} (hs : s < 2 ^ 31) (K : post (nI (mh_1 s))) : wpX_ones post (nI s) :=
  Exists.intro (12 + 1) (xs_o4 hs K 12 0 (by omega))
theorem xs_w4 {post : Int32 → Prop} {s n : Nat} {wt : Nat → Nat} (hs : s < 2 ^ 31) (hn : n ≤ 12) (hw : ∀ u, u < n → a_weights u = nI (wt u)) (K : post (nI (mp_v wt n s))) :
    ∀ d j, j + d = n → wX_weightOf_4 post (nI s) (nI n) f_width f_forcedIn f_forcedOut f_mustIn f_mustOut f_size f_nextSize f_cutLevel f_cutSize f_exact f_bestValue f_bestTaken a_joined a_weights a_gain a_state a_value a_taken a_nextState a_nextValue a_nextTaken a_cutState a_cutValue a_cutTaken a_waitLevel a_waitState a_waitValue a_waitTaken a_rest (d + 1) (nI (mp_v wt j s)) (nI j) := by
  intro d
  induction d with
  | zero =>
    intro j hj
    rw [wX_weightOf_4]
    have hj : j = n := by omega
    subst hj
    exact br_t (nI_le (Nat.le_refl _) (by omega)) K
  | succ d ih =>
    intro j hj
    rw [wX_weightOf_4]
    have c := nI_clamp (n := j) (by omega)
    have vi : vp_in (nI j) 12 := vp_in_nI (by omega) (by decide)
    refine br_f (nI_ge (by omega) (by omega)) (br_c (fun h => ⟨vi, nm_r (e' := nI (mp_v wt (j + 1) s)) ?_ (nm_r (nI_1 j) (ih (j + 1) (by omega)))⟩) (fun h => nm_r (e' := nI (mp_v wt (j + 1) s)) ?_ (nm_r (nI_1 j) (ih (j + 1) (by omega)))))
    · rw [mb_bit1 hs (by omega)] at h
      rw [c, hw j (by omega), nI_add, mp_v1 _ h]
    · rw [mb_bit1 hs (by omega)] at h
      rw [Int32.add_zero, mp_v0 _ (mb_bf h)]
theorem xs_weightOf {post : Int32 → Prop} {s n : Nat} {wt : Nat → Nat} (hs : s < 2 ^ 31) (hn : n ≤ 12) (hw : ∀ u, u < n → a_weights u = nI (wt u)) (K : post (nI (mp_v wt n s))) :
    wpX_weightOf post (nI n, f_width, f_forcedIn, f_forcedOut, f_mustIn, f_mustOut, f_size, f_nextSize, f_cutLevel, f_cutSize, f_exact, f_bestValue, f_bestTaken, a_joined, a_weights, a_gain, a_state, a_value, a_taken, a_nextState, a_nextValue, a_nextTaken, a_cutState, a_cutValue, a_cutTaken, a_waitLevel, a_waitState, a_waitValue, a_waitTaken, a_rest) (nI s) :=
  Exists.intro (n + 1) (xs_w4 hs hn hw K n 0 (by omega))
theorem xs_t2 {post : SX → Prop} {n : Nat} {wt : Nat → Nat} (hn : n ≤ 12) (hw : ∀ u, u < n → a_weights u = nI (wt u))
    (K : ∀ ga, (∀ u, u < n → ga u = nI (4096 * wt u + 2 ^ u)) → post (nI n, f_width, f_forcedIn, f_forcedOut, f_forcedIn, f_forcedOut, f_size, f_nextSize, f_cutLevel, f_cutSize, f_exact, f_bestValue, f_bestTaken, a_joined, a_weights, ga, a_state, a_value, a_taken, a_nextState, a_nextValue, a_nextTaken, a_cutState, a_cutValue, a_cutTaken, a_waitLevel, a_waitState, a_waitValue, a_waitTaken, a_rest)) :
    ∀ d j ga, j + d = n → (∀ u, u < j → ga u = nI (4096 * wt u + 2 ^ u)) → wX_takeWeights_2 post (nI n) f_width f_forcedIn f_forcedOut f_mustIn f_mustOut f_size f_nextSize f_cutLevel f_cutSize f_exact f_bestValue f_bestTaken (d + 1) (nI j) a_joined a_weights ga a_state a_value a_taken a_nextState a_nextValue a_nextTaken a_cutState a_cutValue a_cutTaken a_waitLevel a_waitState a_waitValue a_waitTaken a_rest := by
  intro d
  induction d with
  | zero =>
    intro j ga hj h
    rw [wX_takeWeights_2]
    have hj : j = n := by omega
    subst hj
    exact br_t (nI_le (Nat.le_refl _) (by omega)) (K _ h)
  | succ d ih =>
    intro j ga hj h
    rw [wX_takeWeights_2]
    have c := nI_clamp (n := j) (by omega)
    have vi : vp_in (nI j) 12 := vp_in_nI (by omega) (by decide)
    have e : (4096 : Int32) * nI (wt j) + nI (2 ^ j) = nI (4096 * wt j + 2 ^ j) := by
      rw [← nI_add, ← pk_mul]; rfl
    refine br_f (nI_ge (by omega) (by omega)) ⟨vi, vi, nm_r (e' := upd ga j (nI (4096 * wt j + 2 ^ j))) (by rw [c, hw j (by omega), mb_sh j (by omega), e]) (nm_r (nI_1 j) (ih (j + 1) _ (by omega) ?_))⟩
    intro k hk
    by_cases z : k = j
    · subst z; rw [pk_us]
    · rw [pk_un z]; exact h k (by omega)
theorem xs_takeWeights {post : SX → Prop} {n : Nat} {wt : Nat → Nat} (hn : n ≤ 12) (hw : ∀ u, u < n → a_weights u = nI (wt u))
    (K : ∀ ga, (∀ u, u < n → ga u = nI (4096 * wt u + 2 ^ u)) → post (nI n, f_width, f_forcedIn, f_forcedOut, f_forcedIn, f_forcedOut, f_size, f_nextSize, f_cutLevel, f_cutSize, f_exact, f_bestValue, f_bestTaken, a_joined, a_weights, ga, a_state, a_value, a_taken, a_nextState, a_nextValue, a_nextTaken, a_cutState, a_cutValue, a_cutTaken, a_waitLevel, a_waitState, a_waitValue, a_waitTaken, a_rest)) :
    wpX_takeWeights post (nI n, f_width, f_forcedIn, f_forcedOut, f_mustIn, f_mustOut, f_size, f_nextSize, f_cutLevel, f_cutSize, f_exact, f_bestValue, f_bestTaken, a_joined, a_weights, a_gain, a_state, a_value, a_taken, a_nextState, a_nextValue, a_nextTaken, a_cutState, a_cutValue, a_cutTaken, a_waitLevel, a_waitState, a_waitValue, a_waitTaken, a_rest) :=
  Exists.intro (n + 1) (xs_t2 hn hw K n 0 _ (by omega) (fun u hu => absurd hu (by omega)))
theorem xs_u2 {post : SX → Prop} {n : Nat} (hn : n ≤ 12)
    (K : ∀ ga, (∀ u, u < n → ga u = nI (4096 * 1 + 2 ^ u)) → post (nI n, f_width, f_forcedIn, f_forcedOut, 0, 0, f_size, f_nextSize, f_cutLevel, f_cutSize, f_exact, f_bestValue, f_bestTaken, a_joined, a_weights, ga, a_state, a_value, a_taken, a_nextState, a_nextValue, a_nextTaken, a_cutState, a_cutValue, a_cutTaken, a_waitLevel, a_waitState, a_waitValue, a_waitTaken, a_rest)) :
    ∀ d j ga, j + d = n → (∀ u, u < j → ga u = nI (4096 * 1 + 2 ^ u)) → wX_takeOnes_2 post (nI n) f_width f_forcedIn f_forcedOut f_mustIn f_mustOut f_size f_nextSize f_cutLevel f_cutSize f_exact f_bestValue f_bestTaken (d + 1) (nI j) a_joined a_weights ga a_state a_value a_taken a_nextState a_nextValue a_nextTaken a_cutState a_cutValue a_cutTaken a_waitLevel a_waitState a_waitValue a_waitTaken a_rest := by
  intro d
  induction d with
  | zero =>
    intro j ga hj h
    rw [wX_takeOnes_2]
    have hj : j = n := by omega
    subst hj
    exact br_t (nI_le (Nat.le_refl _) (by omega)) (K _ h)
  | succ d ih =>
    intro j ga hj h
    rw [wX_takeOnes_2]
    have c := nI_clamp (n := j) (by omega)
    have vi : vp_in (nI j) 12 := vp_in_nI (by omega) (by decide)
    have e : (4096 : Int32) + nI (2 ^ j) = nI (4096 * 1 + 2 ^ j) := by
      rw [← nI_add]; rfl
    refine br_f (nI_ge (by omega) (by omega)) ⟨vi, nm_r (e' := upd ga j (nI (4096 * 1 + 2 ^ j))) (by rw [c, mb_sh j (by omega), e]) (nm_r (nI_1 j) (ih (j + 1) _ (by omega) ?_))⟩
    intro k hk
    by_cases z : k = j
    · subst z; rw [pk_us]
    · rw [pk_un z]; exact h k (by omega)
theorem xs_takeOnes {post : SX → Prop} {n : Nat} (hn : n ≤ 12)
    (K : ∀ ga, (∀ u, u < n → ga u = nI (4096 * 1 + 2 ^ u)) → post (nI n, f_width, f_forcedIn, f_forcedOut, 0, 0, f_size, f_nextSize, f_cutLevel, f_cutSize, f_exact, f_bestValue, f_bestTaken, a_joined, a_weights, ga, a_state, a_value, a_taken, a_nextState, a_nextValue, a_nextTaken, a_cutState, a_cutValue, a_cutTaken, a_waitLevel, a_waitState, a_waitValue, a_waitTaken, a_rest)) :
    wpX_takeOnes post (nI n, f_width, f_forcedIn, f_forcedOut, f_mustIn, f_mustOut, f_size, f_nextSize, f_cutLevel, f_cutSize, f_exact, f_bestValue, f_bestTaken, a_joined, a_weights, a_gain, a_state, a_value, a_taken, a_nextState, a_nextValue, a_nextTaken, a_cutState, a_cutValue, a_cutTaken, a_waitLevel, a_waitState, a_waitValue, a_waitTaken, a_rest) :=
  Exists.intro (n + 1) (xs_u2 hn K n 0 _ (by omega) (fun u hu => absurd hu (by omega)))
end
end
section
/-! the reference's methods -/
/-- how v is forced -/
def mh_w (I O v : Nat) : Nat := if I.testBit v = true then 1 else if O.testBit v = true then 2 else 0
def mh_R (n I O : Nat) (bh : Nat → Int32) : Prop := ∀ u, u < n → bh u = nI (mh_w I O u) ∧ ¬ (I.testBit u = true ∧ O.testBit u = true)
theorem mh_1e {I O v : Nat} : nI (mh_w I O v) = 1 ↔ I.testBit v = true := by
  unfold mh_w
  cases I.testBit v <;> cases O.testBit v <;> decide
theorem mh_2e {I O v : Nat} (h : ¬ (I.testBit v = true ∧ O.testBit v = true)) : nI (mh_w I O v) = 2 ↔ O.testBit v = true := by
  unfold mh_w
  revert h
  cases I.testBit v <;> cases O.testBit v <;> decide
section
variable {f_n f_sets : Int32} {a_rows a_weights a_how : Nat → Int32}
theorem ys_no {post : Int32 → Prop} {n : Nat} {x : Int32} (h : x < 0 ∨ nI n ≤ x) (K : post 1) : wpY_bad post (nI n, f_sets, a_rows, a_weights, a_how) x := by
  unfold wpY_bad
  rcases h with h | h
  · exact br_t h K
  · exact br_c (fun _ => K) (fun _ => br_t h K)
theorem ys_yes {post : Int32 → Prop} {n j : Nat} (hn : n ≤ 12) (hj : j < n) (K : post 0) : wpY_bad post (nI n, f_sets, a_rows, a_weights, a_how) (nI j) := by
  unfold wpY_bad
  exact br_f (nI_pos (by omega)) (br_f (nI_ge hj (by omega)) (br_t (nI_le (b := 11) (by omega) (by decide)) K))
theorem ys_join {post : SY → Prop} {a b : Nat} {on : Int32} (ha : a < 12) (hb : b < 12) (K : post (f_n, f_sets, me_j a_rows a b on, a_weights, a_how)) : wpY_join post (f_n, f_sets, a_rows, a_weights, a_how) (nI a) (nI b) on := by
  have ca := nI_clamp (n := a) (by omega)
  have cb := nI_clamp (n := b) (by omega)
  have va : vp_in (nI a) 12 := vp_in_nI ha (by decide)
  have vb : vp_in (nI b) 12 := vp_in_nI hb (by decide)
  have ea := mb_sh a (by omega)
  have eb := mb_sh b (by omega)
  unfold wpY_join
  refine br_c (fun h => ⟨va, ?_⟩) (fun h => ⟨va, ?_⟩)
  · unfold wY_join_34
    refine ⟨va, nm_r (e' := upd a_rows a (a_rows a &&& (nI (2 ^ b) ^^^ (-1)))) (by rw [ca, eb]) (br_t h ⟨vb, vb, nm_r (e' := me_j a_rows a b on) (by rw [me_j, if_pos h, cb, ea]) K⟩)⟩
  · unfold wY_join_34
    refine ⟨va, nm_r (e' := upd a_rows a (a_rows a ||| nI (2 ^ b))) (by rw [ca, eb]) (br_f h ⟨vb, vb, nm_r (e' := me_j a_rows a b on) (by rw [me_j, if_neg h, cb, ea]) K⟩)⟩
theorem ys_z4 {post : Int32 → Prop} {s : Nat} (hs : s < 2 ^ 31) (K : post (nI (mh_1 s))) :
    ∀ d j, j + d = 12 → wY_size_4 post (nI s) f_n f_sets a_rows a_weights a_how (d + 1) (nI (mp_v (fun _ => 1) j s)) (nI j) := by
  intro d
  induction d with
  | zero =>
    intro j hj
    rw [wY_size_4]
    have hj : j = 12 := by omega
    subst hj
    exact br_t (nI_le (a := 12) (b := 12) (Nat.le_refl _) (by decide)) K
  | succ d ih =>
    intro j hj
    rw [wY_size_4]
    exact br_f (nI_ge (b := 12) (by omega) (by decide)) (nm_r (e' := nI (mp_v (fun _ => 1) (j + 1) s)) (by rw [mb_bit hs (by omega), nI_add, mp_vs]) (nm_r (nI_1 j) (ih (j + 1) (by omega))))
theorem ys_size {post : Int32 → Prop} {s : Nat} (hs : s < 2 ^ 31) (K : post (nI (mh_1 s))) : wpY_size post (f_n, f_sets, a_rows, a_weights, a_how) (nI s) :=
  Exists.intro (12 + 1) (ys_z4 hs K 12 0 (by omega))
theorem ys_t4 {post : Int32 → Prop} {s n : Nat} {wt : Nat → Nat} (hs : s < 2 ^ 31) (hn : n ≤ 12) (hw : ∀ u, u < n → a_weights u = nI (wt u)) (K : post (nI (mp_v wt n s))) :
    ∀ d j, j + d = n → wY_total_4 post (nI s) (nI n) f_sets a_rows a_weights a_how (d + 1) (nI (mp_v wt j s)) (nI j) := by
  intro d
  induction d with
  | zero =>
    intro j hj
    rw [wY_total_4]
    have hj : j = n := by omega
    subst hj
    exact br_t (nI_le (Nat.le_refl _) (by omega)) K
  | succ d ih =>
    intro j hj
    rw [wY_total_4]
    have c := nI_clamp (n := j) (by omega)
    have vi : vp_in (nI j) 12 := vp_in_nI (by omega) (by decide)
    refine br_f (nI_ge (by omega) (by omega)) (br_f (nI_ge (b := 12) (by omega) (by decide)) (br_c (fun h => ⟨vi, nm_r (e' := nI (mp_v wt (j + 1) s)) ?_ (nm_r (nI_1 j) (ih (j + 1) (by omega)))⟩) (fun h => nm_r (nI_1 j) ?_)))
    · rw [mb_bit1 hs (by omega)] at h
      rw [c, hw j (by omega), nI_add, mp_v1 _ h]
    · rw [mb_bit1 hs (by omega)] at h
      have := ih (j + 1) (by omega)
      rw [mp_v0 _ (mb_bf h)] at this
      exact this
theorem ys_total {post : Int32 → Prop} {s n : Nat} {wt : Nat → Nat} (hs : s < 2 ^ 31) (hn : n ≤ 12) (hw : ∀ u, u < n → a_weights u = nI (wt u)) (K : post (nI (mp_v wt n s))) :
    wpY_total post (nI n, f_sets, a_rows, a_weights, a_how) (nI s) :=
  Exists.intro (n + 1) (ys_t4 hs hn hw K n 0 (by omega))
theorem ys_i2 {post : Int32 → Prop} {s n : Nat} {N : Nat → Nat} (hs : s < 2 ^ 31) (hn : n ≤ 12) (hN : ∀ u, u < n → a_rows u = nI (N u)) (K1 : my_ind n N s → post 1) (K0 : ¬ my_ind n N s → post 0) :
    ∀ d j, j + d = n → (∀ v, v < j → s.testBit v = true → s &&& N v = 0) → wY_independent_2 post (nI s) (nI n) f_sets a_rows a_weights a_how (d + 1) (nI j) := by
  intro d
  induction d with
  | zero =>
    intro j hj h
    rw [wY_independent_2]
    have hj : j = n := by omega
    subst hj
    exact br_t (nI_le (Nat.le_refl _) (by omega)) (K1 h)
  | succ d ih =>
    intro j hj h
    rw [wY_independent_2]
    have c := nI_clamp (n := j) (by omega)
    have vi : vp_in (nI j) 12 := vp_in_nI (by omega) (by decide)
    refine br_f (nI_ge (by omega) (by omega)) (br_f (nI_ge (b := 12) (by omega) (by decide)) (br_c (fun q => ⟨vi, br_c (fun q2 => nm_r (nI_1 j) (ih (j + 1) (by omega) ?_)) (fun q2 => K0 ?_)⟩) (fun q => nm_r (nI_1 j) (ih (j + 1) (by omega) ?_))))
    · rw [c, hN j (by omega), mb_and0 hs] at q2
      intro v hv hvs
      by_cases z : v = j
      · subst z; exact q2
      · exact h v (by omega) hvs
    · rw [mb_bit1 hs (by omega)] at q
      rw [c, hN j (by omega), mb_and0 hs] at q2
      exact fun z => q2 (z j (by omega) q)
    · rw [mb_bit1 hs (by omega)] at q
      intro v hv hvs
      by_cases z : v = j
      · subst z; exact absurd hvs q
      · exact h v (by omega) hvs
theorem ys_independent {post : Int32 → Prop} {s n : Nat} {N : Nat → Nat} (hs : s < 2 ^ 31) (hn : n ≤ 12) (hN : ∀ u, u < n → a_rows u = nI (N u)) (K1 : my_ind n N s → post 1) (K0 : ¬ my_ind n N s → post 0) :
    wpY_independent post (nI n, f_sets, a_rows, a_weights, a_how) (nI s) :=
  Exists.intro (n + 1) (ys_i2 hs hn hN K1 K0 n 0 (by omega) (fun v hv => absurd hv (by omega)))
theorem ys_a45 {post : Int32 → Prop} {J : Int32 → Prop} {s n I O j : Nat} {z : Int32} (hn : n ≤ 12) (hj : j < n) (hh : mh_R n I O a_how) (hz : (z = 0 ∧ s.testBit j = false) ∨ (¬ z = 0 ∧ s.testBit j = true))
    (K0 : (O.testBit j = true ∧ s.testBit j = true) → post 0) (K1 : (O.testBit j = true → s.testBit j = false) → J (nI (j + 1))) :
    wY_allowed_45 post J (nI s) (nI j) z (nI n) f_sets a_rows a_weights a_how := by
  have c := nI_clamp (n := j) (by omega)
  have vi : vp_in (nI j) 12 := vp_in_nI (by omega) (by decide)
  obtain ⟨h1, h2⟩ := hh j hj
  unfold wY_allowed_45
  refine ⟨vi, br_c (fun q => br_c (fun q2 => nm_r (nI_1 j) (K1 ?_)) (fun q2 => K0 ?_)) (fun q => nm_r (nI_1 j) (K1 ?_))⟩
  · intro _
    rcases hz with hz | hz
    · exact hz.2
    · exact absurd q2 hz.1
  · rw [c, h1, mh_2e h2] at q
    rcases hz with hz | hz
    · exact absurd hz.1 q2
    · exact ⟨q, hz.2⟩
  · rw [c, h1, mh_2e h2] at q
    exact fun z => absurd z q
theorem ys_a30 {post : Int32 → Prop} {J : Int32 → Prop} {s n I O j : Nat} {z : Int32} (hn : n ≤ 12) (hj : j < n) (hh : mh_R n I O a_how) (hz : (z = 0 ∧ s.testBit j = false) ∨ (¬ z = 0 ∧ s.testBit j = true))
    (K0 : ¬ ((I.testBit j = true → s.testBit j = true) ∧ (O.testBit j = true → s.testBit j = false)) → post 0) (K1 : ((I.testBit j = true → s.testBit j = true) ∧ (O.testBit j = true → s.testBit j = false)) → J (nI (j + 1))) :
    wY_allowed_30 post J (nI s) (nI j) z (nI n) f_sets a_rows a_weights a_how := by
  have c := nI_clamp (n := j) (by omega)
  have vi : vp_in (nI j) 12 := vp_in_nI (by omega) (by decide)
  obtain ⟨h1, h2⟩ := hh j hj
  have hK0 : (O.testBit j = true ∧ s.testBit j = true) → post 0 := fun q => K0 (fun y => by rw [y.2 q.1] at q; exact absurd q.2 (by decide))
  unfold wY_allowed_30
  refine ⟨vi, br_c (fun q => br_c (fun q2 => K0 ?_) (fun q2 => ys_a45 (s := s) hn hj hh hz hK0 (fun q3 => K1 ⟨fun _ => ?_, q3⟩))) (fun q => ys_a45 (s := s) hn hj hh hz hK0 (fun q3 => K1 ⟨fun y => ?_, q3⟩))⟩
  · rw [c, h1, mh_1e] at q
    rcases hz with hz | hz
    · intro y
      rw [y.1 q] at hz
      exact absurd hz.2 (by decide)
    · exact absurd q2 hz.1
  · rcases hz with hz | hz
    · exact absurd hz.1 q2
    · exact hz.2
  · rw [c, h1, mh_1e] at q
    exact absurd y q
theorem ys_a2 {post : Int32 → Prop} {s n I O : Nat} {N : Nat → Nat} (hs : s < 2 ^ 31) (hn : n ≤ 12) (hN : ∀ u, u < n → a_rows u = nI (N u)) (hh : mh_R n I O a_how) (K1 : my_ok n I O s ∧ my_ind n N s → post 1) (K0 : ¬ (my_ok n I O s ∧ my_ind n N s) → post 0) :
    ∀ d j, j + d = n → (∀ v, v < j → (I.testBit v = true → s.testBit v = true) ∧ (O.testBit v = true → s.testBit v = false)) → wY_allowed_2 post (nI s) (nI n) f_sets a_rows a_weights a_how (d + 1) (nI j) := by
  intro d
  induction d with
  | zero =>
    intro j hj h
    rw [wY_allowed_2]
    have hj : j = n := by omega
    subst hj
    refine br_t (nI_le (Nat.le_refl _) (by omega)) ?_
    unfold wY_allowed_67
    exact ys_independent hs hn hN (fun q => ⟨narrow_b1, K1 ⟨h, q⟩⟩) (fun q => ⟨narrow_b0, K0 (fun y => q y.2)⟩)
  | succ d ih =>
    intro j hj h
    rw [wY_allowed_2]
    have hK0 : ¬ ((I.testBit j = true → s.testBit j = true) ∧ (O.testBit j = true → s.testBit j = false)) → post 0 := fun q => K0 (fun y => q (y.1 j (by omega)))
    have hK1 : ((I.testBit j = true → s.testBit j = true) ∧ (O.testBit j = true → s.testBit j = false)) → wY_allowed_2 post (nI s) (nI n) f_sets a_rows a_weights a_how (d + 1) (nI (j + 1)) := by
      intro q
      refine ih (j + 1) (by omega) ?_
      intro v hv
      by_cases z : v = j
      · subst z; exact q
      · exact h v (by omega)
    refine br_f (nI_ge (by omega) (by omega)) (br_f (nI_ge (b := 12) (by omega) (by decide)) (br_c (fun q => ys_a30 (I := I) (O := O) (s := s) hn (by omega) hh (Or.inr ⟨by decide, ?_⟩) hK0 hK1) (fun q => ys_a30 (I := I) (O := O) (s := s) hn (by omega) hh (Or.inl ⟨rfl, ?_⟩) hK0 hK1)))
    · rw [mb_bit1 hs (by omega)] at q
      exact q
    · rw [mb_bit1 hs (by omega)] at q
      exact mb_bf q
theorem ys_allowed {post : Int32 → Prop} {s n I O : Nat} {N : Nat → Nat} (hs : s < 2 ^ 31) (hn : n ≤ 12) (hN : ∀ u, u < n → a_rows u = nI (N u)) (hh : mh_R n I O a_how) (K1 : my_ok n I O s ∧ my_ind n N s → post 1) (K0 : ¬ (my_ok n I O s ∧ my_ind n N s) → post 0) :
    wpY_allowed post (nI n, f_sets, a_rows, a_weights, a_how) (nI s) :=
  Exists.intro (n + 1) (ys_a2 hs hn hN hh K1 K0 n 0 (by omega) (fun v hv => absurd hv (by omega)))
end
/-- the best set by a condition: -1, or the one of greatest 4096 * weight + set -/
def my_best (m : Nat) (C : Nat → Prop) (V : Nat → Nat) (r : Int32) : Prop :=
  (r = -1 ∧ ∀ s, s < m → ¬ C s) ∨ ∃ c, c < m ∧ r = nI c ∧ C c ∧ ∀ s, s < m → C s → V s ≤ V c
def my_V (wt : Nat → Nat) (n s : Nat) : Nat := 4096 * mp_v wt n s + s
def my_c (n I O : Nat) (N : Nat → Nat) (mu no s : Nat) : Prop := s &&& mu = mu ∧ s &&& no = 0 ∧ my_ok n I O s ∧ my_ind n N s
section
variable {f_n f_sets : Int32} {a_rows a_weights a_how : Nat → Int32}
theorem ys_s8 {post : Int32 → Prop} {n I O mu no : Nat} {N wt : Nat → Nat} (hn : n ≤ 12) (hmu : mu < 4096) (hN : ∀ u, u < n → a_rows u = nI (N u)) (hh : mh_R n I O a_how) (hw : ∀ u, u < n → a_weights u = nI (wt u) ∧ wt u ≤ 30)
    (K : ∀ r, my_best (2 ^ n) (my_c n I O N mu no) (my_V wt n) r → post r) :
    ∀ d i r q, i + d = 2 ^ n → ((r = -1 ∧ ∀ s, s < i → ¬ my_c n I O N mu no s) ∨ ∃ c, c < i ∧ r = nI c ∧ q = nI (mp_v wt n c) ∧ my_c n I O N mu no c ∧ ∀ s, s < i → my_c n I O N mu no s → my_V wt n s ≤ my_V wt n c) →
    wY_search_8 post (nI mu) (nI no) (nI n) (nI (2 ^ n)) a_rows a_weights a_how (d + 1) r q (nI i) := by
  have h12 := mb_p12 hn
  have hv : ∀ s, mp_v wt n s ≤ 360 := by
    intro s
    have := mp_vle wt 30 s n (fun u hu => (hw u hu).2)
    omega
  intro d
  induction d with
  | zero =>
    intro i r q hi h
    rw [wY_search_8]
    have hi : i = 2 ^ n := by omega
    refine br_t (by rw [hi]; exact nI_le (Nat.le_refl _) (by omega)) (K r ?_)
    rw [hi] at h
    rcases h with h | ⟨c, h1, h2, h3, h4, h5⟩
    · exact Or.inl h
    · exact Or.inr ⟨c, h1, h2, h4, h5⟩
  | succ d ih =>
    intro i r q hi h
    rw [wY_search_8]
    have hi31 : i < 2 ^ 31 := by omega
    have e1 : (nI i &&& nI mu) = nI mu ↔ i &&& mu = mu := by
      rw [nx_and, nI_eq (Nat.lt_of_le_of_lt Nat.and_le_left hi31) (by omega)]
    have e2 : (nI i &&& nI no) = 0 ↔ i &&& no = 0 := mb_and0 hi31
    have hskip : ¬ my_c n I O N mu no i → wY_search_8 post (nI mu) (nI no) (nI n) (nI (2 ^ n)) a_rows a_weights a_how (d + 1) r q (nI (i + 1)) := by
      intro hc
      refine ih (i + 1) r q (by omega) ?_
      rcases h with ⟨h1, h2⟩ | ⟨c, h1, h2, h3, h4, h5⟩
      · refine Or.inl ⟨h1, fun s hs => ?_⟩
        by_cases z : s = i
        · subst z; exact hc
        · exact h2 s (by omega)
      · refine Or.inr ⟨c, by omega, h2, h3, h4, fun s hs hcs => ?_⟩
        by_cases z : s = i
        · subst z; exact absurd hcs hc
        · exact h5 s (by omega) hcs
    refine br_f (nI_ge (by omega) (by omega)) (br_c (fun q1 => br_c (fun q2 => ys_allowed (I := I) (O := O) hi31 hn hN hh (fun q3 => br_f (by decide) (ys_total hi31 hn (fun u hu => (hw u hu).1) ?_)) (fun q3 => br_t rfl (nm_r (nI_1 i) (hskip (fun z => q3 z.2.2))))) (fun q2 => nm_r (nI_1 i) (hskip (fun z => q2 (e2.mpr z.2.1))))) (fun q1 => nm_r (nI_1 i) (hskip (fun z => q1 (e1.mpr z.1)))))
    have hc : my_c n I O N mu no i := ⟨e1.mp q1, e2.mp q2, q3⟩
    have hi1 := hv i
    rcases h with ⟨h1, h2⟩ | ⟨c, h1, h2, h3, h4, h5⟩
    · refine br_t (by rw [h1]; decide) (nm_r (nI_1 i) (ih (i + 1) _ _ (by omega) (Or.inr ⟨i, by omega, rfl, rfl, hc, fun s hs hcs => ?_⟩)))
      by_cases z : s = i
      · subst z; exact Nat.le_refl _
      · exact absurd hcs (h2 s (by omega))
    · have hc1 := hv c
      refine br_f (by rw [h2]; exact nI_pos (by omega)) (br_c (fun q4 => nm_r (nI_1 i) (ih (i + 1) _ _ (by omega) (Or.inr ⟨c, by omega, h2, h3, h4, fun s hs hcs => ?_⟩))) (fun q4 => nm_r (nI_1 i) (ih (i + 1) _ _ (by omega) (Or.inr ⟨i, by omega, rfl, rfl, hc, fun s hs hcs => ?_⟩))))
      · rw [h3, nI_ltI (by omega) (by omega)] at q4
        by_cases z : s = i
        · subst z
          unfold my_V
          omega
        · exact h5 s (by omega) hcs
      · rw [h3, nI_ltI (by omega) (by omega)] at q4
        by_cases z : s = i
        · subst z; exact Nat.le_refl _
        · have := h5 s (by omega) hcs
          unfold my_V at this ⊢
          omega
theorem ys_search {post : Int32 → Prop} {n I O mu no : Nat} {N wt : Nat → Nat} (hn : n ≤ 12) (hmu : mu < 4096) (hN : ∀ u, u < n → a_rows u = nI (N u)) (hh : mh_R n I O a_how) (hw : ∀ u, u < n → a_weights u = nI (wt u) ∧ wt u ≤ 30)
    (K : ∀ r, my_best (2 ^ n) (my_c n I O N mu no) (my_V wt n) r → post r) : wpY_search post (nI n, nI (2 ^ n), a_rows, a_weights, a_how) (nI mu) (nI no) :=
  Exists.intro (2 ^ n + 1) (ys_s8 hn hmu hN hh hw K (2 ^ n) 0 (-1) 0 (by omega) (Or.inl ⟨rfl, fun s hs => absurd hs (by omega)⟩))
theorem ys_m4 {post : Int32 → Prop} {n I O : Nat} {N wt : Nat → Nat} {b : Int32} {P : Nat → Bool} (hn : n ≤ 12) (hN : ∀ u, u < n → a_rows u = nI (N u)) (hh : mh_R n I O a_how) (hw : ∀ u, u < n → a_weights u = nI (wt u) ∧ wt u ≤ 30)
    (hP : ∀ s, s < 2 ^ n → (P s = true ↔ (my_ok n I O s ∧ my_ind n N s) ∧ b.toInt ≤ (mp_v wt n s : Int))) (K : post (nI (mc_n P (2 ^ n)))) :
    ∀ d i, i + d = 2 ^ n → wY_many_4 post b (nI n) (nI (2 ^ n)) a_rows a_weights a_how (d + 1) (nI (mc_n P i)) (nI i) := by
  have h12 := mb_p12 hn
  have hv : ∀ s, mp_v wt n s ≤ 360 := by
    intro s
    have := mp_vle wt 30 s n (fun u hu => (hw u hu).2)
    omega
  intro d
  induction d with
  | zero =>
    intro i hi
    rw [wY_many_4]
    have hi : i = 2 ^ n := by omega
    rw [hi]
    exact br_t (nI_le (Nat.le_refl _) (by omega)) K
  | succ d ih =>
    intro i hi
    rw [wY_many_4]
    have hi31 : i < 2 ^ 31 := by omega
    have hPi := hP i (by omega)
    have hv1 := hv i
    have ihh := ih (i + 1) (by omega)
    refine br_f (nI_ge (by omega) (by omega)) (ys_allowed (I := I) (O := O) hi31 hn hN hh (fun q => br_f (by decide) (ys_total hi31 hn (fun u hu => (hw u hu).1) (br_c (fun q2 => nm_r (nI_1 i) ?_) (fun q2 => nm_r (nI_1 _) (nm_r (nI_1 i) ?_))))) (fun q => br_t rfl (nm_r (nI_1 i) ?_)))
    · rw [mb_ltI (by omega)] at q2
      rw [mc_n, if_neg (fun z => by have := (hPi.mp z).2; omega), Nat.add_zero] at ihh
      exact ihh
    · rw [mb_ltI (by omega)] at q2
      rw [mc_n, if_pos (hPi.mpr ⟨q, by omega⟩)] at ihh
      exact ihh
    · rw [mc_n, if_neg (fun z => q (hPi.mp z).1), Nat.add_zero] at ihh
      exact ihh
theorem ys_many {post : Int32 → Prop} {n I O : Nat} {N wt : Nat → Nat} {b : Int32} {P : Nat → Bool} (hn : n ≤ 12) (hN : ∀ u, u < n → a_rows u = nI (N u)) (hh : mh_R n I O a_how) (hw : ∀ u, u < n → a_weights u = nI (wt u) ∧ wt u ≤ 30)
    (hP : ∀ s, s < 2 ^ n → (P s = true ↔ (my_ok n I O s ∧ my_ind n N s) ∧ b.toInt ≤ (mp_v wt n s : Int))) (K : post (nI (mc_n P (2 ^ n)))) :
    wpY_many post (nI n, nI (2 ^ n), a_rows, a_weights, a_how) b :=
  Exists.intro (2 ^ n + 1) (ys_m4 hn hN hh hw hP K (2 ^ n) 0 (by omega))
theorem ys_al4 {post : Int32 → Prop} {n : Nat} {N : Nat → Nat} (hn : n ≤ 12) (hN : ∀ u, u < n → a_rows u = nI (N u))
    (K : ∀ m, (∃ c, c < 2 ^ n ∧ my_ind n N c ∧ mh_1 c = m) → (∀ s, s < 2 ^ n → my_ind n N s → mh_1 s ≤ m) → post (nI m)) :
    ∀ d i m, i + d = 2 ^ n → (∃ c, c < 2 ^ n ∧ my_ind n N c ∧ mh_1 c = m) → (∀ s, s < i → my_ind n N s → mh_1 s ≤ m) → wY_alpha_4 post (nI n) (nI (2 ^ n)) a_rows a_weights a_how (d + 1) (nI m) (nI i) := by
  have h12 := mb_p12 hn
  intro d
  induction d with
  | zero =>
    intro i m hi h1 h2
    rw [wY_alpha_4]
    have hi : i = 2 ^ n := by omega
    rw [hi] at h2 ⊢
    exact br_t (nI_le (Nat.le_refl _) (by omega)) (K m h1 h2)
  | succ d ih =>
    intro i m hi h1 h2
    rw [wY_alpha_4]
    have hi31 : i < 2 ^ 31 := by omega
    have hli := mh_le i
    have hm : m ≤ 12 := by
      obtain ⟨c, _, _, rfl⟩ := h1
      exact mh_le c
    refine br_f (nI_ge (by omega) (by omega)) (ys_size hi31 (br_c (fun q => nm_r (nI_1 i) (ih (i + 1) m (by omega) h1 ?_)) (fun q => ys_independent hi31 hn hN (fun q2 => br_f (by decide) (ys_size hi31 (nm_r (nI_1 i) (ih (i + 1) _ (by omega) ⟨i, by omega, q2, rfl⟩ ?_)))) (fun q2 => br_t rfl (nm_r (nI_1 i) (ih (i + 1) m (by omega) h1 ?_))))))
    · rw [nI_leI (by omega) (by omega)] at q
      intro s hs hi2
      by_cases z : s = i
      · subst z; exact q
      · exact h2 s (by omega) hi2
    · rw [nI_leI (by omega) (by omega)] at q
      intro s hs hi2
      by_cases z : s = i
      · subst z; exact Nat.le_refl _
      · have := h2 s (by omega) hi2
        omega
    · intro s hs hi2
      by_cases z : s = i
      · subst z; exact absurd hi2 q2
      · exact h2 s (by omega) hi2
theorem ys_lc14 {post : Int32 → Prop} {n : Nat} {N : Nat → Nat} (hn : n ≤ 12) (hN : ∀ u, u < n → a_rows u = nI (N u))
    (K : ∀ c, c < 2 ^ n → my_ind n N (2 ^ n - 1 - c) → (∀ s, s < 2 ^ n → my_ind n N (2 ^ n - 1 - s) → mh_1 c < mh_1 s ∨ (mh_1 c = mh_1 s ∧ c ≤ s)) → post (nI c)) :
    ∀ i c, i ≤ 2 ^ n → c < 2 ^ n → my_ind n N (2 ^ n - 1 - c) → i ≤ c + 1 → (∀ s, i ≤ s → s < 2 ^ n → my_ind n N (2 ^ n - 1 - s) → mh_1 c < mh_1 s ∨ (mh_1 c = mh_1 s ∧ c ≤ s)) →
    wY_leastCover_14 post (nI n) (nI (2 ^ n)) a_rows a_weights a_how (i + 1) (nI c) (nI i + (-1)) := by
  have h12 := mb_p12 hn
  intro i
  induction i with
  | zero =>
    intro c hi hc h1 h0 h2
    rw [wY_leastCover_14]
    exact br_t (by decide) (K c hc h1 (fun s hs => h2 s (by omega) hs))
  | succ i ih =>
    intro c hi hc h1 h0 h2
    rw [wY_leastCover_14, pk_m1]
    have hi31 : i < 2 ^ 31 := by omega
    have hli := mh_le i
    have hlc := mh_le c
    have e : nI (2 ^ n) - 1 - nI i = nI (2 ^ n - 1 - i) := by
      rw [mb_full n (by omega), pk_sub (by omega)]
    have h0' : i ≤ c := by omega
    refine br_f (nI_pos hi31) (ys_size hi31 (ys_size (by omega) (br_c (fun q => nm_e (ih c (by omega) hc h1 (by omega) ?_)) (fun q => ?_))))
    · rw [nI_ltI (by omega) (by omega)] at q
      intro s hs hs2 hi2
      by_cases z : s = i
      · subst z; exact Or.inl q
      · exact h2 s (by omega) hs2 hi2
    · rw [nI_ltI (by omega) (by omega)] at q
      rw [e]
      refine ys_independent (by omega) hn hN (fun q2 => br_f (by decide) (nm_e (ih i (by omega) (by omega) q2 (by omega) ?_))) (fun q2 => br_t rfl (nm_e (ih c (by omega) hc h1 (by omega) ?_)))
      · intro s hs hs2 hi2
        by_cases z : s = i
        · subst z; exact Or.inr ⟨rfl, Nat.le_refl _⟩
        · have := h2 s (by omega) hs2 hi2
          omega
      · intro s hs hs2 hi2
        by_cases z : s = i
        · subst z; exact absurd hi2 q2
        · exact h2 s (by omega) hs2 hi2
end
end
section
/-! the component's answers, against the best set and the counts -/
theorem mv_g (wt : Nat → Nat) (s : Nat) : ∀ v, mp_v (fun u => 4096 * wt u + 2 ^ u) v s = 4096 * mp_v wt v s + s % 2 ^ v
  | 0 => by
    show 0 = 4096 * 0 + s % 1
    omega
  | v + 1 => by
    rw [mp_vs, mp_vs, mv_g wt s v, Nat.mod_pow_succ, ← Nat.toNat_testBit]
    cases s.testBit v
    · simp
    · simp; omega
theorem mv_x (g : Nat → Nat) {n s : Nat} (hs : s < 2 ^ n) : ∀ k, mp_v g (n + k) s = mp_v g n s
  | 0 => rfl
  | k + 1 => by
    show mp_v g (n + k + 1) s = _
    rw [mp_v0 _ (mb_hi hs (by omega)), mv_x g hs k]
def mz_p (n I O : Nat) (N wt : Nat → Nat) : mp_B := (n, N, I, O, fun u => 4096 * wt u + 2 ^ u)
def mz_q (n I O : Nat) (N wt : Nat → Nat) : mp_B := (n, N, I, O, wt)
theorem mz_ok {n I O : Nat} {N wt : Nat → Nat} (h2 : 2 ≤ n) (hn : n ≤ 12) (hg : mg_ok n N) (hI : I < 2 ^ n) (hO : O < 2 ^ n) (hw : ∀ u, u < n → wt u ≤ 30) : mp_ok (mz_p n I O N wt) := by
  have h12 := mb_p12 hn
  refine ⟨h2, hn, fun u hu => Nat.lt_of_lt_of_le (hg.1 u hu) h12, Nat.lt_of_lt_of_le hI h12, Nat.lt_of_lt_of_le hO h12, fun u hu => ?_⟩
  show 4096 * wt u + 2 ^ u ≤ 130000
  have hu : u < n := hu
  have h1 := hw u hu
  have h3 : 2 ^ u ≤ 2 ^ 11 := Nat.pow_le_pow_right (by decide) (by omega)
  omega
theorem mz_okq {n I O : Nat} {N wt : Nat → Nat} (h2 : 2 ≤ n) (hn : n ≤ 12) (hg : mg_ok n N) (hI : I < 2 ^ n) (hO : O < 2 ^ n) (hw : ∀ u, u < n → wt u ≤ 30) : mp_ok (mz_q n I O N wt) := by
  have h12 := mb_p12 hn
  refine ⟨h2, hn, fun u hu => Nat.lt_of_lt_of_le (hg.1 u hu) h12, Nat.lt_of_lt_of_le hI h12, Nat.lt_of_lt_of_le hO h12, fun u hu => ?_⟩
  show wt u ≤ 130000
  have h1 := hw u hu
  omega
theorem mz_V {n I O s : Nat} {N wt : Nat → Nat} (hs : s < 2 ^ n) : mp_v (mp_g (mz_p n I O N wt)) n s = my_V wt n s := by
  show mp_v (fun u => 4096 * wt u + 2 ^ u) n s = _
  rw [mv_g, Nat.mod_eq_of_lt hs]
  rfl
/-- allowed: the sets that are looked for -/
def mz_c (n I O : Nat) (N : Nat → Nat) (s : Nat) : Prop := my_ok n I O s ∧ my_ind n N s
theorem mz_sol {n I O : Nat} {N wt : Nat → Nat} {bv bt : Int32} (h2 : 2 ≤ n) (hn : n ≤ 12) (hg : mg_ok n N) (hB : mr_B (mz_p n I O N wt) bv bt)
    (hV : ∀ x : Nat, mp_of (mz_p n I O N wt) n 0 (2 ^ n - 1) 0 x → (x : Int) ≤ bv.toInt) (hw : ∀ u, u < n → wt u ≤ 30) :
    (bv = -1 ∧ bt = 0 ∧ my_best (2 ^ n) (mz_c n I O N) (my_V wt n) (-1)) ∨ ∃ t, t < 2 ^ n ∧ bt = nI t ∧ 0 ≤ bv ∧ my_best (2 ^ n) (mz_c n I O N) (my_V wt n) (nI t) := by
  have h12 := mb_p12 hn
  have hx : ∀ s, s < 2 ^ n → mz_c n I O N s → (my_V wt n s : Int) ≤ bv.toInt := by
    intro s hs hc
    have hf : mp_fe (mz_p n I O N wt) n s := (mp_al (p := mz_p n I O N wt) hg hs).mpr hc
    have := mp_feof (mz_p n I O N wt) (s := s) (n := n) n 0 (by omega) hf
    have h3 := hV _ this
    rw [mz_V hs] at h3
    exact h3
  have hvb : ∀ s, s < 2 ^ n → my_V wt n s < 2 ^ 31 := by
    intro s hs
    have := mp_vle wt 30 s n hw
    unfold my_V
    omega
  rcases hB with ⟨h3, h4⟩ | ⟨t, ht, hf, h3, h4⟩
  · refine Or.inl ⟨h3, h4, Or.inl ⟨rfl, fun s hs hc => ?_⟩⟩
    have := hx s hs hc
    rw [h3] at this
    have e : (-1 : Int32).toInt = -1 := by decide
    omega
  · have ht : t < 2 ^ n := ht
    have h3 : bv = nI (mp_v (mp_g (mz_p n I O N wt)) n t) := h3
    rw [mz_V ht] at h3
    refine Or.inr ⟨t, ht, h4, by rw [h3]; exact nI_pos' (hvb t ht), Or.inr ⟨t, ht, rfl, (mp_al (p := mz_p n I O N wt) hg ht).mp hf, fun s hs hc => ?_⟩⟩
    have := hx s hs hc
    rw [h3, nI_toInt (hvb t ht)] at this
    omega
theorem mz_un {n : Nat} {C C' : Nat → Prop} {wt : Nat → Nat} {r r' : Int32} (hn : n ≤ 12) (hC : ∀ s, s < 2 ^ n → (C s ↔ C' s)) (h : my_best (2 ^ n) C (my_V wt n) r) (h' : my_best (2 ^ n) C' (my_V wt n) r') : r' = r := by
  have h12 := mb_p12 hn
  rcases h with ⟨h1, h2⟩ | ⟨c, h1, h2, h3, h4⟩
  · rcases h' with ⟨g1, g2⟩ | ⟨d, g1, g2, g3, g4⟩
    · rw [h1, g1]
    · exact absurd ((hC d g1).mpr g3) (h2 d g1)
  · rcases h' with ⟨g1, g2⟩ | ⟨d, g1, g2, g3, g4⟩
    · exact absurd ((hC c h1).mp h3) (g2 c h1)
    · have a := h4 d g1 ((hC d g1).mpr g3)
      have b := g4 c h1 ((hC c h1).mp h3)
      unfold my_V at a b
      have : c = d := by omega
      rw [h2, g2, this]
theorem mz_rr {n : Nat} {C : Nat → Prop} {V : Nat → Nat} {r : Int32} (h : my_best (2 ^ n) C V r) : r = -1 ∨ ∃ c, c < 2 ^ n ∧ r = nI c := by
  rcases h with ⟨h1, _⟩ | ⟨c, h1, h2, _⟩
  · exact Or.inl h1
  · exact Or.inr ⟨c, h1, h2⟩
/-- the answer by its set -/
def my_w (wt : Nat → Nat) (n : Nat) (r : Int32) : Int32 := if r = -1 then -1 else nI (mp_v wt n r.toNatClampNeg)
theorem my_wm (wt : Nat → Nat) (n : Nat) : my_w wt n (-1) = -1 := if_pos rfl
theorem my_wn (wt : Nat → Nat) {n c : Nat} (hc : c < 2 ^ 31) : my_w wt n (nI c) = nI (mp_v wt n c) := by
  unfold my_w
  rw [nI_clamp hc, if_neg]
  intro e
  have := congrArg Int32.toInt e
  rw [nI_toInt hc, show (-1 : Int32).toInt = -1 by decide] at this
  omega
noncomputable def my_P (p : mp_B) (b : Int) (s : Nat) : Bool := @decide (mp_fe p (mp_n p) s ∧ b ≤ (mp_v (mp_g p) (mp_n p) s : Int)) (Classical.propDecidable _)
theorem my_Pe (p : mp_B) (b : Int) (s : Nat) : my_P p b s = true ↔ mp_fe p (mp_n p) s ∧ b ≤ (mp_v (mp_g p) (mp_n p) s : Int) :=
  @decide_eq_true_iff _ (Classical.propDecidable _)
section
variable {f_n f_width f_forcedIn f_forcedOut f_mustIn f_mustOut f_size f_nextSize f_cutLevel f_cutSize f_exact f_bestValue f_bestTaken : Int32} {a_joined a_weights a_gain a_state a_value a_taken a_nextState a_nextValue a_nextTaken a_cutState a_cutValue a_cutTaken a_waitLevel a_waitState a_waitValue a_waitTaken a_rest : Nat → Int32}
/-- gains taken, then solved -/
theorem xt_solve {post : SX → Prop} {n wd I O I' O' : Nat} {N wt : Nat → Nat} {ga : Nat → Int32} (h2 : 2 ≤ n) (hn : n ≤ 12) (h1w : 1 ≤ wd) (hwd : wd ≤ 16) (hg : mg_ok n N) (hI : I' < 2 ^ n) (hO : O' < 2 ^ n) (hj : ∀ u, u < n → a_joined u = nI (N u)) (hw : ∀ u, u < n → wt u ≤ 30) (hga : ∀ u, u < n → ga u = nI (4096 * wt u + 2 ^ u))
    (K : ∀ z1 z2 z3 z4 ex bv bt st vl tk ns nv nt cs cv ct wl ws wv wt', ((bv = -1 ∧ bt = 0 ∧ my_best (2 ^ n) (mz_c n I' O' N) (my_V wt n) (-1)) ∨ ∃ t, t < 2 ^ n ∧ bt = nI t ∧ 0 ≤ bv ∧ my_best (2 ^ n) (mz_c n I' O' N) (my_V wt n) (nI t)) →
      post (nI n, nI wd, nI I, nI O, nI I', nI O', z1, z2, z3, z4, ex, bv, bt, a_joined, a_weights, ga, st, vl, tk, ns, nv, nt, cs, cv, ct, wl, ws, wv, wt', a_rest)) :
    wpX_solve post (nI n, nI wd, nI I, nI O, nI I', nI O', f_size, f_nextSize, f_cutLevel, f_cutSize, f_exact, f_bestValue, f_bestTaken, a_joined, a_weights, ga, a_state, a_value, a_taken, a_nextState, a_nextValue, a_nextTaken, a_cutState, a_cutValue, a_cutTaken, a_waitLevel, a_waitState, a_waitValue, a_waitTaken, a_rest) :=
  xr_solve (p := mz_p n I' O' N wt) ⟨mz_ok h2 hn hg hI hO hw, rfl, rfl, rfl, hj, hga⟩ h1w hwd
    (fun z1 z2 z3 z4 ex bv bt st vl tk ns nv nt cs cv ct wl ws wv wt' hB hV => K z1 z2 z3 z4 ex bv bt st vl tk ns nv nt cs cv ct wl ws wv wt' (mz_sol h2 hn hg hB hV hw))
/-- the weight of what was found -/
theorem xt_fin {P : Int32 → Prop} {n : Nat} {wt : Nat → Nat} {C : Nat → Prop} {bv bt : Int32} (hn : n ≤ 12) (hw : ∀ u, u < n → a_weights u = nI (wt u))
    (h : (bv = -1 ∧ bt = 0 ∧ my_best (2 ^ n) C (my_V wt n) (-1)) ∨ ∃ t, t < 2 ^ n ∧ bt = nI t ∧ 0 ≤ bv ∧ my_best (2 ^ n) C (my_V wt n) (nI t))
    (K : ∀ r, my_best (2 ^ n) C (my_V wt n) r → P (my_w wt n r)) :
    (0 ≤ bv → wpX_weightOf P (nI n, f_width, f_forcedIn, f_forcedOut, f_mustIn, f_mustOut, f_size, f_nextSize, f_cutLevel, f_cutSize, f_exact, f_bestValue, f_bestTaken, a_joined, a_weights, a_gain, a_state, a_value, a_taken, a_nextState, a_nextValue, a_nextTaken, a_cutState, a_cutValue, a_cutTaken, a_waitLevel, a_waitState, a_waitValue, a_waitTaken, a_rest) bt) ∧ (¬ 0 ≤ bv → P (-1)) := by
  have h12 := mb_p12 hn
  rcases h with ⟨h1, h2, h3⟩ | ⟨t, h1, h2, h3, h4⟩
  · refine br_f (by rw [h1]; decide) ?_
    have := K _ h3
    rw [my_wm] at this
    exact this
  · refine br_t h3 ?_
    have := K _ h4
    rw [my_wn wt (by omega)] at this
    rw [h2]
    exact xs_weightOf (by omega) hn hw this
theorem xt_best {post : Int32 → SX → Prop} {n wd I O : Nat} {N wt : Nat → Nat} (h2 : 2 ≤ n) (hn : n ≤ 12) (h1w : 1 ≤ wd) (hwd : wd ≤ 16) (hg : mg_ok n N) (hI : I < 2 ^ n) (hO : O < 2 ^ n) (hj : ∀ u, u < n → a_joined u = nI (N u)) (hw : ∀ u, u < n → a_weights u = nI (wt u) ∧ wt u ≤ 30)
    (K : ∀ y1 y2 z1 z2 z3 z4 ex bv bt ga st vl tk ns nv nt cs cv ct wl ws wv wt' re r, my_best (2 ^ n) (mz_c n I O N) (my_V wt n) r → post (my_w wt n r) (nI n, nI wd, nI I, nI O, y1, y2, z1, z2, z3, z4, ex, bv, bt, a_joined, a_weights, ga, st, vl, tk, ns, nv, nt, cs, cv, ct, wl, ws, wv, wt', re)) :
    wpX_best post (nI n, nI wd, nI I, nI O, f_mustIn, f_mustOut, f_size, f_nextSize, f_cutLevel, f_cutSize, f_exact, f_bestValue, f_bestTaken, a_joined, a_weights, a_gain, a_state, a_value, a_taken, a_nextState, a_nextValue, a_nextTaken, a_cutState, a_cutValue, a_cutTaken, a_waitLevel, a_waitState, a_waitValue, a_waitTaken, a_rest) := by
  unfold wpX_best
  refine xs_takeWeights hn (fun u hu => (hw u hu).1) (fun ga hga => ?_)
  refine xt_solve h2 hn h1w hwd hg hI hO hj (fun u hu => (hw u hu).2) hga (fun z1 z2 z3 z4 ex bv bt st vl tk ns nv nt cs cv ct wl ws wv wt' h => ?_)
  exact xt_fin hn (fun u hu => (hw u hu).1) h (fun r hr => K _ _ _ _ _ _ _ _ _ _ _ _ _ _ _ _ _ _ _ _ _ _ _ _ r hr)
theorem xt_bestSet {post : Int32 → SX → Prop} {n wd I O : Nat} {N wt : Nat → Nat} (h2 : 2 ≤ n) (hn : n ≤ 12) (h1w : 1 ≤ wd) (hwd : wd ≤ 16) (hg : mg_ok n N) (hI : I < 2 ^ n) (hO : O < 2 ^ n) (hj : ∀ u, u < n → a_joined u = nI (N u)) (hw : ∀ u, u < n → a_weights u = nI (wt u) ∧ wt u ≤ 30)
    (K : ∀ y1 y2 z1 z2 z3 z4 ex bv bt ga st vl tk ns nv nt cs cv ct wl ws wv wt' re r, my_best (2 ^ n) (mz_c n I O N) (my_V wt n) r → post r (nI n, nI wd, nI I, nI O, y1, y2, z1, z2, z3, z4, ex, bv, bt, a_joined, a_weights, ga, st, vl, tk, ns, nv, nt, cs, cv, ct, wl, ws, wv, wt', re)) :
    wpX_bestSet post (nI n, nI wd, nI I, nI O, f_mustIn, f_mustOut, f_size, f_nextSize, f_cutLevel, f_cutSize, f_exact, f_bestValue, f_bestTaken, a_joined, a_weights, a_gain, a_state, a_value, a_taken, a_nextState, a_nextValue, a_nextTaken, a_cutState, a_cutValue, a_cutTaken, a_waitLevel, a_waitState, a_waitValue, a_waitTaken, a_rest) := by
  unfold wpX_bestSet
  refine xs_takeWeights hn (fun u hu => (hw u hu).1) (fun ga hga => ?_)
  refine xt_solve h2 hn h1w hwd hg hI hO hj (fun u hu => (hw u hu).2) hga (fun z1 z2 z3 z4 ex bv bt st vl tk ns nv nt cs cv ct wl ws wv wt' h => ?_)
  rcases h with ⟨h1, h3, h4⟩ | ⟨t, h1, h3, h4, h5⟩
  · exact br_f (by rw [h1]; decide) (K _ _ _ _ _ _ _ _ _ _ _ _ _ _ _ _ _ _ _ _ _ _ _ _ _ h4)
  · subst h3
    exact br_t h4 (K _ _ _ _ _ _ _ _ _ _ _ _ _ _ _ _ _ _ _ _ _ _ _ _ _ h5)
theorem xt_atLeast {post : Int32 → SX → Prop} {n wd I O : Nat} {N wt : Nat → Nat} {b : Int32} (h2 : 2 ≤ n) (hn : n ≤ 12) (hg : mg_ok n N) (hI : I < 2 ^ n) (hO : O < 2 ^ n) (hj : ∀ u, u < n → a_joined u = nI (N u)) (hw : ∀ u, u < n → a_weights u = nI (wt u) ∧ wt u ≤ 30)
    (K : ∀ y1 y2 z1 z2 z3 z4 ex bv bt ga st vl tk ns nv nt cs cv ct wl ws wv wt' re, post (nI (mc_n (my_P (mz_q n I O N wt) b.toInt) (2 ^ n))) (nI n, nI wd, nI I, nI O, y1, y2, z1, z2, z3, z4, ex, bv, bt, a_joined, a_weights, ga, st, vl, tk, ns, nv, nt, cs, cv, ct, wl, ws, wv, wt', re)) :
    wpX_atLeast post (nI n, nI wd, nI I, nI O, f_mustIn, f_mustOut, f_size, f_nextSize, f_cutLevel, f_cutSize, f_exact, f_bestValue, f_bestTaken, a_joined, a_weights, a_gain, a_state, a_value, a_taken, a_nextState, a_nextValue, a_nextTaken, a_cutState, a_cutValue, a_cutTaken, a_waitLevel, a_waitState, a_waitValue, a_waitTaken, a_rest) b := by
  have e : mc_a (mz_q n I O N wt) b.toInt n 0 (2 ^ n - 1) 0 = mc_n (my_P (mz_q n I O N wt) b.toInt) (2 ^ n) := mc_all (mz_q n I O N wt) b.toInt _ (my_Pe _ _)
  rw [← e] at K
  unfold wpX_atLeast
  refine xs_takeWeights hn (fun u hu => (hw u hu).1) (fun ga hga => ?_)
  have c := nI_clamp (n := n) (by omega)
  refine And.intro (vp_in_nI (by omega) (by decide)) (nm_r (e' := upd a_rest n 0) (by rw [c]) (nm_r (Int32.sub_eq_add_neg (nI n) 1) (Exists.intro (n + 1) ?_)))
  refine xa_21 (p := mz_q n I O N wt) (mz_okq h2 hn hg hI hO (fun u hu => (hw u hu).2)) hg rfl rfl rfl hj hw (fun wl ws wv re => K _ _ _ _ _ _ _ _ _ _ _ _ _ _ _ _ _ _ _ _ _ _ _ _) n _ (Nat.le_refl _) ?_
  intro u hu hun
  have hun : u ≤ n := hun
  have : u = n := by omega
  subst this
  rw [pk_us]
  show 0 = nI (mc_r wt (u - u) u) ∧ mc_r wt (u - u) u ≤ (u - u) * 30
  rw [Nat.sub_self]
  exact ⟨rfl, Nat.le_refl _⟩
theorem xt_allowedSets {post : Int32 → SX → Prop} {n wd I O : Nat} {N wt : Nat → Nat} (h2 : 2 ≤ n) (hn : n ≤ 12) (hg : mg_ok n N) (hI : I < 2 ^ n) (hO : O < 2 ^ n) (hj : ∀ u, u < n → a_joined u = nI (N u)) (hw : ∀ u, u < n → a_weights u = nI (wt u) ∧ wt u ≤ 30)
    (K : ∀ y1 y2 z1 z2 z3 z4 ex bv bt ga st vl tk ns nv nt cs cv ct wl ws wv wt' re, post (nI (mc_n (my_P (mz_p n I O N wt) (-1)) (2 ^ n))) (nI n, nI wd, nI I, nI O, y1, y2, z1, z2, z3, z4, ex, bv, bt, a_joined, a_weights, ga, st, vl, tk, ns, nv, nt, cs, cv, ct, wl, ws, wv, wt', re)) :
    wpX_allowedSets post (nI n, nI wd, nI I, nI O, f_mustIn, f_mustOut, f_size, f_nextSize, f_cutLevel, f_cutSize, f_exact, f_bestValue, f_bestTaken, a_joined, a_weights, a_gain, a_state, a_value, a_taken, a_nextState, a_nextValue, a_nextTaken, a_cutState, a_cutValue, a_cutTaken, a_waitLevel, a_waitState, a_waitValue, a_waitTaken, a_rest) := by
  have h12 := mb_p12 hn
  have hpos := Nat.two_pow_pos n
  have e : mc_a (mz_p n I O N wt) (-1) n 0 (2 ^ n - 1) 0 = mc_n (my_P (mz_p n I O N wt) (-1)) (2 ^ n) := mc_all (mz_p n I O N wt) (-1) _ (my_Pe _ _)
  rw [mc_ta _ (by decide)] at e
  rw [← e] at K
  have eF : ((1 : Int32) <<< (nI n &&& 31)) - 1 = nI (2 ^ n - 1) := by
    rw [mb_sh _ (by omega), mb_full _ (by omega)]
  unfold wpX_allowedSets
  refine xs_takeWeights hn (fun u hu => (hw u hu).1) (fun ga hga => ?_)
  refine xr_startLayer (fun st vl tk e1 e2 e3 => Exists.intro (n + 1) ?_)
  rw [eF] at e1
  refine xc_a20 (p := mz_p n I O N wt) (T := nI (mc_t (mz_p n I O N wt) n 0 (2 ^ n - 1))) ⟨mz_ok h2 hn hg hI hO (fun u hu => (hw u hu).2), rfl, rfl, rfl, hj, hga⟩ (fun z1 z2 ns nv nt st' vl' tk' => K _ _ _ _ _ _ _ _ _ _ _ _ _ _ _ _ _ _ _ _ _ _ _ _) n 0 1 _ _ _ _ _ _ _ (Nat.zero_add n) (by decide) ⟨?_, ?_, ?_⟩
  · intro k hk
    have : k = 0 := by omega
    subst this
    exact ⟨2 ^ n - 1, (by show 2 ^ n - 1 < 2 ^ n; omega), fun i hi => absurd hi (by omega), e1⟩
  · intro j k h1 h3 _
    omega
  · rw [mk_s, mk_s, Int32.zero_add]
    unfold mk_w
    rw [e1, e2, nI_clamp (by omega), Int32.one_mul, Nat.sub_zero]
    rfl
theorem xt_alpha {post : Int32 → SX → Prop} {n wd I O : Nat} {N : Nat → Nat} (h2 : 2 ≤ n) (hn : n ≤ 12) (h1w : 1 ≤ wd) (hwd : wd ≤ 16) (hg : mg_ok n N) (hj : ∀ u, u < n → a_joined u = nI (N u))
    (K : ∀ y1 y2 z1 z2 z3 z4 ex bv bt ga st vl tk ns nv nt cs cv ct wl ws wv wt' re t, t < 2 ^ n → my_best (2 ^ n) (mz_c n 0 0 N) (my_V (fun _ => 1) n) (nI t) → post (nI (mh_1 t)) (nI n, nI wd, nI I, nI O, y1, y2, z1, z2, z3, z4, ex, bv, bt, a_joined, a_weights, ga, st, vl, tk, ns, nv, nt, cs, cv, ct, wl, ws, wv, wt', re)) :
    wpX_alpha post (nI n, nI wd, nI I, nI O, f_mustIn, f_mustOut, f_size, f_nextSize, f_cutLevel, f_cutSize, f_exact, f_bestValue, f_bestTaken, a_joined, a_weights, a_gain, a_state, a_value, a_taken, a_nextState, a_nextValue, a_nextTaken, a_cutState, a_cutValue, a_cutTaken, a_waitLevel, a_waitState, a_waitValue, a_waitTaken, a_rest) := by
  have h12 := mb_p12 hn
  have hpos := Nat.two_pow_pos n
  unfold wpX_alpha
  refine xs_takeOnes hn (fun ga hga => ?_)
  refine xt_solve (wt := fun _ => 1) (I' := 0) (O' := 0) h2 hn h1w hwd hg hpos hpos hj (fun u hu => (by decide)) hga (fun z1 z2 z3 z4 ex bv bt st vl tk ns nv nt cs cv ct wl ws wv wt' h => ?_)
  rcases h with ⟨h1, h3, h4⟩ | ⟨t, h1, h3, h4, h5⟩
  · rcases h4 with ⟨_, h4⟩ | ⟨c, q1, q2, q3, q4⟩
    · refine absurd ⟨?_, ?_⟩ (h4 0 hpos)
      · intro v _
        rw [Nat.zero_testBit]
        exact ⟨fun z => z, fun z => z.symm ▸ rfl⟩
      · intro v _ z
        exact Nat.zero_and _
    · have := congrArg Int32.toInt q2
      rw [nI_toInt (by omega), show (-1 : Int32).toInt = -1 by decide] at this
      omega
  · subst h3
    exact xs_ones (by omega) (K _ _ _ _ _ _ _ _ _ _ _ _ _ _ _ _ _ _ _ _ _ _ _ _ t h1 h5)
theorem xt_leastCover {post : Int32 → SX → Prop} {n wd I O : Nat} {N : Nat → Nat} (h2 : 2 ≤ n) (hn : n ≤ 12) (h1w : 1 ≤ wd) (hwd : wd ≤ 16) (hg : mg_ok n N) (hj : ∀ u, u < n → a_joined u = nI (N u))
    (K : ∀ y1 y2 z1 z2 z3 z4 ex bv bt ga st vl tk ns nv nt cs cv ct wl ws wv wt' re t, t < 2 ^ n → my_best (2 ^ n) (mz_c n 0 0 N) (my_V (fun _ => 1) n) (nI t) → post (nI (mb_d (2 ^ n - 1) t)) (nI n, nI wd, nI I, nI O, y1, y2, z1, z2, z3, z4, ex, bv, bt, a_joined, a_weights, ga, st, vl, tk, ns, nv, nt, cs, cv, ct, wl, ws, wv, wt', re)) :
    wpX_leastCover post (nI n, nI wd, nI I, nI O, f_mustIn, f_mustOut, f_size, f_nextSize, f_cutLevel, f_cutSize, f_exact, f_bestValue, f_bestTaken, a_joined, a_weights, a_gain, a_state, a_value, a_taken, a_nextState, a_nextValue, a_nextTaken, a_cutState, a_cutValue, a_cutTaken, a_waitLevel, a_waitState, a_waitValue, a_waitTaken, a_rest) := by
  have h12 := mb_p12 hn
  have hpos := Nat.two_pow_pos n
  have eF : ((1 : Int32) <<< (nI n &&& 31)) - 1 = nI (2 ^ n - 1) := by
    rw [mb_sh _ (by omega), mb_full _ (by omega)]
  unfold wpX_leastCover
  refine xs_takeOnes hn (fun ga hga => ?_)
  refine xt_solve (wt := fun _ => 1) (I' := 0) (O' := 0) h2 hn h1w hwd hg hpos hpos hj (fun u hu => (by decide)) hga (fun z1 z2 z3 z4 ex bv bt st vl tk ns nv nt cs cv ct wl ws wv wt' h => ?_)
  rcases h with ⟨h1, h3, h4⟩ | ⟨t, h1, h3, h4, h5⟩
  · rcases h4 with ⟨_, h4⟩ | ⟨c, q1, q2, q3, q4⟩
    · refine absurd ⟨?_, ?_⟩ (h4 0 hpos)
      · intro v _
        rw [Nat.zero_testBit]
        exact ⟨fun z => z, fun z => z.symm ▸ rfl⟩
      · intro v _ z
        exact Nat.zero_and _
    · have := congrArg Int32.toInt q2
      rw [nI_toInt (by omega), show (-1 : Int32).toInt = -1 by decide] at this
      omega
  · subst h3
    have := K (nI 0) (nI 0) z1 z2 z3 z4 ex bv (nI t) ga st vl tk ns nv nt cs cv ct wl ws wv wt' a_rest t h1 h5
    rw [← mb_dif, ← eF] at this
    exact this
end
end
section
/-! the relation; the constructors; edges, chains, forcing -/
def mz_D (n wd I O : Nat) (N wt : Nat → Nat) (aj aw bh : Nat → Int32) : Prop :=
  2 ≤ n ∧ n ≤ 12 ∧ 1 ≤ wd ∧ wd ≤ 16 ∧ mg_ok n N ∧ (∀ u, u < n → aj u = nI (N u)) ∧ (∀ u, u < n → aw u = nI (wt u) ∧ wt u ≤ 30) ∧ I < 2 ^ n ∧ O < 2 ^ n ∧ mh_R n I O bh
/-- the relation at the head of a turn: the same graph, weights and forced vertices; the component's scratch is free -/
def i_Rel (k : Nat) (u : SX) (v : SY) : Prop :=
  match u with
  | (f_n, f_width, f_forcedIn, f_forcedOut, f_mustIn, f_mustOut, f_size, f_nextSize, f_cutLevel, f_cutSize, f_exact, f_bestValue, f_bestTaken, a_joined, a_weights, a_gain, a_state, a_value, a_taken, a_nextState, a_nextValue, a_nextTaken, a_cutState, a_cutValue, a_cutTaken, a_waitLevel, a_waitState, a_waitValue, a_waitTaken, a_rest) => match v with
    | (g_n, g_sets, b_rows, b_weights, b_how) => ∃ n wd I O N wt, mz_D n wd I O N wt a_joined a_weights b_how ∧ f_n = nI n ∧ f_width = nI wd ∧ f_forcedIn = nI I ∧ f_forcedOut = nI O ∧ g_n = nI n ∧ g_sets = nI (2 ^ n) ∧ b_rows = a_joined ∧ b_weights = a_weights
theorem mz_el {k : Nat} {u : SX} {v : SY} {P : SX → SY → Prop} (R : i_Rel k u v)
    (h : ∀ f_mustIn f_mustOut f_size f_nextSize f_cutLevel f_cutSize f_exact f_bestValue f_bestTaken a_joined a_weights a_gain a_state a_value a_taken a_nextState a_nextValue a_nextTaken a_cutState a_cutValue a_cutTaken a_waitLevel a_waitState a_waitValue a_waitTaken a_rest b_how n wd I O N wt, mz_D n wd I O N wt a_joined a_weights b_how → P (nI n, nI wd, nI I, nI O, f_mustIn, f_mustOut, f_size, f_nextSize, f_cutLevel, f_cutSize, f_exact, f_bestValue, f_bestTaken, a_joined, a_weights, a_gain, a_state, a_value, a_taken, a_nextState, a_nextValue, a_nextTaken, a_cutState, a_cutValue, a_cutTaken, a_waitLevel, a_waitState, a_waitValue, a_waitTaken, a_rest) (nI n, nI (2 ^ n), a_joined, a_weights, b_how)) : P u v := by
  obtain ⟨f_n, f_width, f_forcedIn, f_forcedOut, f_mustIn, f_mustOut, f_size, f_nextSize, f_cutLevel, f_cutSize, f_exact, f_bestValue, f_bestTaken, a_joined, a_weights, a_gain, a_state, a_value, a_taken, a_nextState, a_nextValue, a_nextTaken, a_cutState, a_cutValue, a_cutTaken, a_waitLevel, a_waitState, a_waitValue, a_waitTaken, a_rest⟩ := u
  obtain ⟨g_n, g_sets, b_rows, b_weights, b_how⟩ := v
  obtain ⟨n, wd, I, O, N, wt, hD, e1, e2, e3, e4, e5, e6, e7, e8⟩ := R
  subst e1 e2 e3 e4 e5 e6 e7 e8
  exact h f_mustIn f_mustOut f_size f_nextSize f_cutLevel f_cutSize f_exact f_bestValue f_bestTaken _ _ a_gain a_state a_value a_taken a_nextState a_nextValue a_nextTaken a_cutState a_cutValue a_cutTaken a_waitLevel a_waitState a_waitValue a_waitTaken a_rest b_how n wd I O N wt hD
section
variable {f_n f_width f_forcedIn f_forcedOut f_mustIn f_mustOut f_size f_nextSize f_cutLevel f_cutSize f_exact f_bestValue f_bestTaken : Int32} {a_joined a_weights a_gain a_state a_value a_taken a_nextState a_nextValue a_nextTaken a_cutState a_cutValue a_cutTaken a_waitLevel a_waitState a_waitValue a_waitTaken a_rest : Nat → Int32}
theorem mz_in {k n wd I O : Nat} {N wt : Nat → Nat} {b_how : Nat → Int32} (hD : mz_D n wd I O N wt a_joined a_weights b_how) : i_Rel k (nI n, nI wd, nI I, nI O, f_mustIn, f_mustOut, f_size, f_nextSize, f_cutLevel, f_cutSize, f_exact, f_bestValue, f_bestTaken, a_joined, a_weights, a_gain, a_state, a_value, a_taken, a_nextState, a_nextValue, a_nextTaken, a_cutState, a_cutValue, a_cutTaken, a_waitLevel, a_waitState, a_waitValue, a_waitTaken, a_rest) (nI n, nI (2 ^ n), a_joined, a_weights, b_how) :=
  Exists.intro n (Exists.intro wd (Exists.intro I (Exists.intro O (Exists.intro N (Exists.intro wt ⟨hD, rfl, rfl, rfl, rfl, rfl, rfl, rfl, rfl⟩)))))
end
/-! the constructors -/
def mi_w (j : Nat) : Nat → Int32 := fun u => if u < j then 1 else 0
theorem mi_0 : (fun _ => 0 : Nat → Int32) = mi_w 0 := by
  funext u
  exact (if_neg (Nat.not_lt_zero u)).symm
theorem mi_s (j : Nat) : upd (mi_w j) j 1 = mi_w (j + 1) := by
  funext u
  by_cases h : u = j
  · rw [h, pk_us]
    exact (if_pos (Nat.lt_succ_self j)).symm
  · rw [pk_un h]
    unfold mi_w
    by_cases h2 : u < j
    · rw [if_pos h2, if_pos (by omega)]
    · rw [if_neg h2, if_neg (by omega)]
def mi_c (n : Nat) (p : Int32) : Prop := (¬ 2 ≤ p ∧ n = 2) ∨ (2 ≤ p ∧ p ≤ 12 ∧ p = nI n) ∨ (2 ≤ p ∧ ¬ p ≤ 12 ∧ n = 12)
theorem mi_r {x : Int32} {a : Nat} (ha : a < 2 ^ 31) (h : nI a ≤ x) : ∃ j, a ≤ j ∧ j < 2 ^ 31 ∧ x = nI j := by
  have h0 : ¬ x < 0 := by
    rw [Int32.le_iff_toInt_le, nI_toInt ha] at h
    rw [Int32.lt_iff_toInt_lt, show (0 : Int32).toInt = 0 by decide]
    omega
  obtain ⟨j, hj, rfl⟩ := nI_of h0
  rw [nI_leI ha hj] at h
  exact ⟨j, h, hj, rfl⟩
section
variable {f_n f_width f_forcedIn f_forcedOut f_mustIn f_mustOut f_size f_nextSize f_cutLevel f_cutSize f_exact f_bestValue f_bestTaken : Int32} {a_joined a_weights a_gain a_state a_value a_taken a_nextState a_nextValue a_nextTaken a_cutState a_cutValue a_cutTaken a_waitLevel a_waitState a_waitValue a_waitTaken a_rest : Nat → Int32}
theorem xi_204 {post : SX → Prop} (K : post (f_n, f_width, f_forcedIn, f_forcedOut, f_mustIn, f_mustOut, f_size, f_nextSize, f_cutLevel, f_cutSize, f_exact, f_bestValue, f_bestTaken, a_joined, mi_w 12, a_gain, a_state, a_value, a_taken, a_nextState, a_nextValue, a_nextTaken, a_cutState, a_cutValue, a_cutTaken, a_waitLevel, a_waitState, a_waitValue, a_waitTaken, a_rest)) : ∀ d j, j + d = 12 → wX_init_204 post f_n f_width f_forcedIn f_forcedOut f_mustIn f_mustOut f_size f_nextSize f_cutLevel f_cutSize f_exact f_bestValue f_bestTaken (d + 1) (nI j) a_joined (mi_w j) a_gain a_state a_value a_taken a_nextState a_nextValue a_nextTaken a_cutState a_cutValue a_cutTaken a_waitLevel a_waitState a_waitValue a_waitTaken a_rest := by
  intro d
  induction d with
  | zero =>
    intro j hj
    rw [wX_init_204]
    have hj : j = 12 := by omega
    subst hj
    exact br_t (nI_le (a := 12) (b := 12) (Nat.le_refl _) (by decide)) K
  | succ d ih =>
    intro j hj
    rw [wX_init_204]
    have c := nI_clamp (n := j) (by omega)
    exact br_f (nI_ge (b := 12) (by omega) (by decide)) ⟨vp_in_nI (by omega) (by decide), nm_r (e' := mi_w (j + 1)) (by rw [c, mi_s]) (nm_r (nI_1 j) (ih (j + 1) (by omega)))⟩
theorem xi_173 {post : SX → Prop} {x2 : Int32} (K : ∀ wd, 1 ≤ wd → wd ≤ 16 → post (f_n, nI wd, f_forcedIn, f_forcedOut, f_mustIn, f_mustOut, f_size, f_nextSize, f_cutLevel, f_cutSize, f_exact, f_bestValue, f_bestTaken, a_joined, mi_w 12, a_gain, a_state, a_value, a_taken, a_nextState, a_nextValue, a_nextTaken, a_cutState, a_cutValue, a_cutTaken, a_waitLevel, a_waitState, a_waitValue, a_waitTaken, a_rest)) : wX_init_173 post x2 f_n f_width f_forcedIn f_forcedOut f_mustIn f_mustOut f_size f_nextSize f_cutLevel f_cutSize f_exact f_bestValue f_bestTaken a_joined (mi_w 0) a_gain a_state a_value a_taken a_nextState a_nextValue a_nextTaken a_cutState a_cutValue a_cutTaken a_waitLevel a_waitState a_waitValue a_waitTaken a_rest := by
  unfold wX_init_173
  refine br_c (fun h => ?_) (fun h => ?_)
  · obtain ⟨j, h1, h2, rfl⟩ := mi_r (a := 1) (by decide) h
    unfold wX_init_184
    exact pk_le j 16 (fun q => Exists.intro (12 + 1) (xi_204 (K j h1 q) 12 0 (by omega))) (fun q => Exists.intro (12 + 1) (xi_204 (K 16 (by decide) (by decide)) 12 0 (by omega)))
  · unfold wX_init_184
    exact br_t (by decide) (Exists.intro (12 + 1) (xi_204 (K 1 (by decide) (by decide)) 12 0 (by omega)))
end
theorem xi_init {post : SX → Prop} {p0 p1 : Int32}
    (K : ∀ n wd, mi_c n p0 → 2 ≤ n → n ≤ 12 → 1 ≤ wd → wd ≤ 16 → post (nI n, nI wd, 0, 0, 0, 0, 0, 0, 0, 0, 0, 0, 0, (fun _ => 0), mi_w 12, (fun _ => 0), (fun _ => 0), (fun _ => 0), (fun _ => 0), (fun _ => 0), (fun _ => 0), (fun _ => 0), (fun _ => 0), (fun _ => 0), (fun _ => 0), (fun _ => 0), (fun _ => 0), (fun _ => 0), (fun _ => 0), (fun _ => 0))) :
    wpX_init post p0 p1 := by
  unfold wpX_init
  refine br_c (fun h => ?_) (fun h => ?_)
  · obtain ⟨j, h1, h2, rfl⟩ := mi_r (a := 2) (by decide) h
    unfold wX_init_155
    refine br_c (fun q => ?_) (fun q => ?_)
    · have q' := (nI_leI (b := 12) h2 (by decide)).mp q
      have := xi_173 (f_width := 0) (post := post) (x2 := p1) (fun wd w1 w2 => K j wd (Or.inr (Or.inl ⟨h, q, rfl⟩)) h1 q' w1 w2)
      rw [← mi_0] at this
      exact this
    · have := xi_173 (f_width := 0) (post := post) (x2 := p1) (fun wd w1 w2 => K 12 wd (Or.inr (Or.inr ⟨h, q, rfl⟩)) (by decide) (by decide) w1 w2)
      rw [← mi_0] at this
      exact this
  · unfold wX_init_155
    refine br_t (by decide) ?_
    have := xi_173 (f_width := 0) (post := post) (x2 := p1) (fun wd w1 w2 => K 2 wd (Or.inl ⟨h, rfl⟩) (by decide) (by decide) w1 w2)
    rw [← mi_0] at this
    exact this
theorem yi_65 {post : SY → Prop} {f_n f_sets : Int32} {a_rows a_how : Nat → Int32} (K : post (f_n, f_sets, a_rows, mi_w 12, a_how)) : ∀ d j, j + d = 12 → wY_init_65 post f_n f_sets (d + 1) (nI j) a_rows (mi_w j) a_how := by
  intro d
  induction d with
  | zero =>
    intro j hj
    rw [wY_init_65]
    have hj : j = 12 := by omega
    subst hj
    exact br_t (nI_le (a := 12) (b := 12) (Nat.le_refl _) (by decide)) K
  | succ d ih =>
    intro j hj
    rw [wY_init_65]
    have c := nI_clamp (n := j) (by omega)
    exact br_f (nI_ge (b := 12) (by omega) (by decide)) ⟨vp_in_nI (by omega) (by decide), nm_r (e' := mi_w (j + 1)) (by rw [c, mi_s]) (nm_r (nI_1 j) (ih (j + 1) (by omega)))⟩
theorem yi_50 {post : SY → Prop} {n : Nat} (hn : n ≤ 12) (K : post (nI n, nI (2 ^ n), (fun _ => 0), mi_w 12, (fun _ => 0))) : wY_init_50 post (nI n) 0 0 (fun _ => 0) (fun _ => 0) (fun _ => 0) := by
  unfold wY_init_50
  refine nm_r (mb_sh n (by omega)) (Exists.intro (12 + 1) ?_)
  have := yi_65 K 12 0 (by omega)
  rw [← mi_0] at this
  exact this
theorem yi_init {post : SY → Prop} {p0 p1 : Int32} {n : Nat} (hc : mi_c n p0) (hn : n ≤ 12) (K : post (nI n, nI (2 ^ n), (fun _ => 0), mi_w 12, (fun _ => 0))) : wpY_init post p0 p1 := by
  unfold wpY_init
  rcases hc with ⟨h, rfl⟩ | ⟨h, h2, rfl⟩ | ⟨h, h2, rfl⟩
  · exact br_f h (yi_50 (by decide) K)
  · exact br_t h (br_t h2 (yi_50 hn K))
  · exact br_t h (br_f h2 (yi_50 (by decide) K))
theorem mz_D0 {n wd : Nat} (h2 : 2 ≤ n) (hn : n ≤ 12) (w1 : 1 ≤ wd) (w2 : wd ≤ 16) : mz_D n wd 0 0 (fun _ => 0) (fun _ => 1) (fun _ => 0) (mi_w 12) (fun _ => 0) := by
  refine ⟨h2, hn, w1, w2, ⟨fun v _ => Nat.two_pow_pos n, fun u v _ _ => by rw [Nat.zero_testBit, Nat.zero_testBit], fun v _ => Nat.zero_testBit v⟩, fun u _ => rfl, fun u hu => ⟨if_pos (by omega), (by decide : 1 ≤ 30)⟩, Nat.two_pow_pos n, Nat.two_pow_pos n, fun u _ => ⟨?_, ?_⟩⟩
  · unfold mh_w
    rw [Nat.zero_testBit]
    rfl
  · rw [Nat.zero_testBit]
    decide
/-! chains -/
def mh_f (n st : Nat) : Nat → Nat → (Nat → Int32) → (Nat → Int32)
  | 0, _, f => f
  | d + 1, a, f => mh_f n st d ((a + st) % n) (if (a + st) % n = a then f else me_j f a ((a + st) % n) 1)
theorem mh_fok {n st : Nat} (hn : 0 < n) : ∀ d a f, a < n → mj_R n f → mj_R n (mh_f n st d a f)
  | 0, _, _, _, h => h
  | d + 1, a, f, ha, h => by
    unfold mh_f
    have hm := Nat.mod_lt (a + st) hn
    refine mh_fok hn d _ _ hm ?_
    by_cases z : (a + st) % n = a
    · rw [if_pos z]; exact h
    · rw [if_neg z]; exact mj_ok h ha hm (fun e => z e.symm)
def mh_s (N : Nat → Nat) : Nat → Nat
  | 0 => 0
  | u + 1 => mh_s N u + mh_1 (N u)
theorem mh_sl (N : Nat → Nat) : ∀ u, mh_s N u ≤ 12 * u
  | 0 => Nat.le_refl _
  | u + 1 => by
    have h1 := mh_sl N u
    have h2 := mh_le (N u)
    unfold mh_s
    omega
theorem mh_h {S : Nat} (h : S < 2 ^ 31) : nI S >>> ((1 : Int32) &&& 31) = nI (S / 2) := pk_shrN h _ 1 (by decide)
theorem mh_d {S : Nat} (h : S < 2 ^ 31) : nI S / 2 = nI (S / 2) := pk_div (d := 2) h (by decide) (by decide)
section
variable {f_n f_width f_forcedIn f_forcedOut f_mustIn f_mustOut f_size f_nextSize f_cutLevel f_cutSize f_exact f_bestValue f_bestTaken : Int32} {a_joined a_weights a_gain a_state a_value a_taken a_nextState a_nextValue a_nextTaken a_cutState a_cutValue a_cutTaken a_waitLevel a_waitState a_waitValue a_waitTaken a_rest : Nat → Int32}
theorem xh_93 {post : Int32 → SX → Prop} {n : Nat} {N : Nat → Nat} (hn : n ≤ 12) (hN : ∀ u, u < n → N u < 2 ^ n) (hj : ∀ u, u < n → a_joined u = nI (N u)) (K : post (nI (mh_s N n / 2)) (nI n, f_width, f_forcedIn, f_forcedOut, f_mustIn, f_mustOut, f_size, f_nextSize, f_cutLevel, f_cutSize, f_exact, f_bestValue, f_bestTaken, a_joined, a_weights, a_gain, a_state, a_value, a_taken, a_nextState, a_nextValue, a_nextTaken, a_cutState, a_cutValue, a_cutTaken, a_waitLevel, a_waitState, a_waitValue, a_waitTaken, a_rest)) :
    ∀ d u, u + d = n → wX_chain_93 post (nI n) f_width f_forcedIn f_forcedOut f_mustIn f_mustOut f_size f_nextSize f_cutLevel f_cutSize f_exact f_bestValue f_bestTaken a_joined a_weights a_gain a_state a_value a_taken a_nextState a_nextValue a_nextTaken a_cutState a_cutValue a_cutTaken a_waitLevel a_waitState a_waitValue a_waitTaken a_rest (d + 1) (nI (mh_s N u)) (nI u) := by
  have h12 := mb_p12 hn
  intro d
  induction d with
  | zero =>
    intro u hu
    rw [wX_chain_93]
    have hu : u = n := by omega
    subst hu
    have hl := mh_sl N u
    refine br_t (nI_le (Nat.le_refl _) (by omega)) ?_
    rw [mh_h (by omega)]
    exact K
  | succ d ih =>
    intro u hu
    rw [wX_chain_93]
    have c := nI_clamp (n := u) (by omega)
    have := hN u (by omega)
    refine br_f (nI_ge (by omega) (by omega)) ⟨vp_in_nI (by omega) (by decide), ?_⟩
    rw [c, hj u (by omega)]
    exact xs_ones (by omega) (nm_r (nI_add _ _) (nm_r (nI_1 u) (ih (u + 1) (by omega))))
theorem xh_44 {post : Int32 → SX → Prop} {n st cnt : Nat} {G : Nat → Int32} (h2 : 2 ≤ n) (hn : n ≤ 12) (hst : st ≤ 11) (hc : cnt ≤ 12)
    (K : ∃ n93 : Nat, wX_chain_93 post (nI n) f_width f_forcedIn f_forcedOut f_mustIn f_mustOut f_size f_nextSize f_cutLevel f_cutSize f_exact f_bestValue f_bestTaken G a_weights a_gain a_state a_value a_taken a_nextState a_nextValue a_nextTaken a_cutState a_cutValue a_cutTaken a_waitLevel a_waitState a_waitValue a_waitTaken a_rest n93 0 0) :
    ∀ d k a f, k + d = cnt → a < n → mh_f n st d a f = G → wX_chain_44 post (nI st) (nI cnt) (d + 1) (nI a) (nI k) (nI n) f_width f_forcedIn f_forcedOut f_mustIn f_mustOut f_size f_nextSize f_cutLevel f_cutSize f_exact f_bestValue f_bestTaken f a_weights a_gain a_state a_value a_taken a_nextState a_nextValue a_nextTaken a_cutState a_cutValue a_cutTaken a_waitLevel a_waitState a_waitValue a_waitTaken a_rest := by
  intro d
  induction d with
  | zero =>
    intro k a f hk ha hG
    rw [wX_chain_44]
    have hG : f = G := hG
    rw [hG]
    exact br_t (nI_le (by omega) (by omega)) K
  | succ d ih =>
    intro k a f hk ha hG
    rw [wX_chain_44]
    have hm := Nat.mod_lt (a + st) (show 0 < n by omega)
    rw [mh_f] at hG
    refine br_f (nI_ge (by omega) (by omega)) ⟨nI_ne0 (by omega) (by omega), nm_r (e' := nI ((a + st) % n)) (by rw [nI_add, pk_rem (by omega) (by omega) (by omega)]) (pk_eq ((a + st) % n) a (fun z => ?_) (fun z => ?_))⟩
    · rw [if_pos z] at hG
      exact nm_r (nI_1 k) (ih (k + 1) _ f (by omega) hm hG)
    · rw [if_neg z] at hG
      exact xs_setEdge (by omega) (by omega) (nm_r (nI_1 k) (ih (k + 1) _ _ (by omega) hm hG))
end
section
variable {f_n f_sets : Int32} {a_rows a_weights a_how : Nat → Int32}
theorem yh_127 {post : Int32 → SY → Prop} {n : Nat} {N : Nat → Nat} (hn : n ≤ 12) (hN : ∀ u, u < n → N u < 2 ^ n) (hj : ∀ u, u < n → a_rows u = nI (N u)) (K : post (nI (mh_s N n / 2)) (nI n, f_sets, a_rows, a_weights, a_how)) :
    ∀ d u, u + d = n → wY_chain_127 post (nI n) f_sets a_rows a_weights a_how (d + 1) (nI (mh_s N u)) (nI u) := by
  have h12 := mb_p12 hn
  intro d
  induction d with
  | zero =>
    intro u hu
    rw [wY_chain_127]
    have hu : u = n := by omega
    subst hu
    have hl := mh_sl N u
    refine br_t (nI_le (Nat.le_refl _) (by omega)) ⟨by decide, ?_⟩
    rw [mh_d (by omega)]
    exact K
  | succ d ih =>
    intro u hu
    rw [wY_chain_127]
    have c := nI_clamp (n := u) (by omega)
    have := hN u (by omega)
    refine br_f (nI_ge (by omega) (by omega)) (br_f (nI_ge (b := 12) (by omega) (by decide)) ⟨vp_in_nI (by omega) (by decide), ?_⟩)
    rw [c, hj u (by omega)]
    exact ys_size (by omega) (nm_r (nI_add _ _) (nm_r (nI_1 u) (ih (u + 1) (by omega))))
theorem yh_41 {post : Int32 → SY → Prop} {n v st cnt : Nat} {G : Nat → Int32} (h2 : 2 ≤ n) (hn : n ≤ 12) (hv : v < n) (hst : st ≤ 11) (hc : cnt ≤ 12)
    (K : ∃ n127 : Nat, wY_chain_127 post (nI n) f_sets G a_weights a_how n127 0 0) :
    ∀ d k f, k + d = cnt → mh_f n st d ((v + k * st) % n) f = G → wY_chain_41 post (nI v) (nI st) (nI cnt) (d + 1) (nI k) (nI n) f_sets f a_weights a_how := by
  intro d
  induction d with
  | zero =>
    intro k f hk hG
    rw [wY_chain_41]
    have hG : f = G := hG
    rw [hG]
    exact br_t (nI_le (by omega) (by omega)) K
  | succ d ih =>
    intro k f hk hG
    rw [wY_chain_41]
    have hkst : k * st ≤ 12 * 11 := Nat.mul_le_mul (by omega) hst
    have hm0 := Nat.mod_lt (v + k * st) (show 0 < n by omega)
    have hm := Nat.mod_lt (v + k * st + st) (show 0 < n by omega)
    rw [mh_f, Nat.mod_add_mod] at hG
    have ek : v + (k + 1) * st = v + k * st + st := by rw [Nat.add_mul, Nat.one_mul, Nat.add_assoc]
    have i1 : (1 : Int32) ≤ nI n := nI_le (a := 1) (by omega) (by omega)
    have i0 : ¬ nI n = 0 := nI_ne0 (by omega) (by omega)
    have e1 : (nI v + nI k * nI st) - (nI v + nI k * nI st) / nI n * nI n = nI ((v + k * st) % n) := by
      rw [pk_mul, nI_add, pk_rem (by omega) (by omega) (by omega)]
    have e2 : ((nI v + nI k * nI st) + nI st) - ((nI v + nI k * nI st) + nI st) / nI n * nI n = nI ((v + k * st + st) % n) := by
      rw [pk_mul, nI_add, nI_add, pk_rem (by omega) (by omega) (by omega)]
    refine br_f (nI_ge (by omega) (by omega)) (br_t i1 ⟨i0, ?_⟩)
    rw [e1]
    unfold wY_chain_70
    refine br_t i1 ⟨i0, ?_⟩
    rw [e2]
    unfold wY_chain_97
    refine pk_eq ((v + k * st) % n) ((v + k * st + st) % n) (fun z => nm_r (nI_1 k) (ih (k + 1) f (by omega) ?_)) (fun z => ys_join (by omega) (by omega) (nm_r (nI_1 k) (ih (k + 1) _ (by omega) ?_)))
    · rw [if_pos z.symm] at hG
      rw [ek]; exact hG
    · rw [if_neg (fun y => z y.symm)] at hG
      rw [ek]; exact hG
end
end
section
/-! the owed statements: the constructors, the small methods -/
theorem i_up {k : Nat} {u : SX} {v : SY} (h : i_Rel k u v) : i_Rel (k + 4) u v := h
theorem i_vc0 (k0 : Int32) (k1 : Int32) : wpX_init (fun u => wpY_init (fun v => i_Rel 2 u v) k0 k1) k0 k1 := by
  refine xi_init (fun n wd hc h2 hn w1 w2 => yi_init hc hn ?_)
  exact mz_in (I := 0) (O := 0) (mz_D0 h2 hn w1 w2)
theorem i_vc_vertices {k : Nat} {u : SX} {v : SY} (I : i_Rel k u v) (hk : k + 4 ≤ 2050) : wpX_vertices (fun r => wpY_vertices (fun r' => r' = r ∧ i_Rel (k + 4) u v) v) u := by
  refine mz_el (P := fun u v => wpX_vertices (fun r => wpY_vertices (fun r' => r' = r ∧ i_Rel (k + 4) u v) v) u) I ?_
  intro f_mustIn f_mustOut f_size f_nextSize f_cutLevel f_cutSize f_exact f_bestValue f_bestTaken a_joined a_weights a_gain a_state a_value a_taken a_nextState a_nextValue a_nextTaken a_cutState a_cutValue a_cutTaken a_waitLevel a_waitState a_waitValue a_waitTaken a_rest b_how n wd I O N wt hD
  exact ⟨rfl, mz_in hD⟩
theorem mz_ix (x : Int32) {n : Nat} (hn : n ≤ 12) : (x < 0 ∨ nI n ≤ x) ∨ ∃ j : Nat, j < n ∧ x = nI j := by
  rcases pk_ix x (n := n) (by omega) with h | h | h
  · exact Or.inl (Or.inl h)
  · exact Or.inl (Or.inr h)
  · exact Or.inr h
theorem mz_De {n wd I O a b : Nat} {N wt : Nat → Nat} {aj aw bh : Nat → Int32} {on : Int32} (hD : mz_D n wd I O N wt aj aw bh) (ha : a < n) (hb : b < n) (hab : a ≠ b) :
    ∃ N', mz_D n wd I O N' wt (me_j aj a b on) aw bh := by
  obtain ⟨h1, h2, h3, h4, h5, h6, h7⟩ := hD
  obtain ⟨N', g1, g2⟩ := mj_ok (on := on) ⟨N, h5, h6⟩ ha hb hab
  exact ⟨N', h1, h2, h3, h4, g1, g2, h7⟩
theorem i_vc_edge {k : Nat} {u : SX} {v : SY} (I : i_Rel k u v) (hk : k + 4 ≤ 2050) (v1 : Int32) (v2 : Int32) (v3 : Int32) : wpX_edge (fun r u' => wpY_edge (fun r' v' => r' = r ∧ i_Rel (k + 4) u' v') v v1 v2 v3) u v1 v2 v3 := by
  refine mz_el (P := fun u v => wpX_edge (fun r u' => wpY_edge (fun r' v' => r' = r ∧ i_Rel (k + 4) u' v') v v1 v2 v3) u v1 v2 v3) I ?_
  intro f_mustIn f_mustOut f_size f_nextSize f_cutLevel f_cutSize f_exact f_bestValue f_bestTaken a_joined a_weights a_gain a_state a_value a_taken a_nextState a_nextValue a_nextTaken a_cutState a_cutValue a_cutTaken a_waitLevel a_waitState a_waitValue a_waitTaken a_rest b_how n wd I O N wt hD
  have hn := hD.2.1
  have n10 : ¬ (1 : Int32) = 0 := by decide
  unfold wpX_edge
  rcases mz_ix v1 hn with h1 | ⟨a, ha, rfl⟩
  · refine xs_no h1 (br_t rfl ?_)
    unfold wpY_edge
    exact ys_no h1 (br_f n10 ⟨rfl, mz_in hD⟩)
  refine xs_yes hn ha (br_f n10 ?_)
  rcases mz_ix v2 hn with h1 | ⟨b, hb, rfl⟩
  · refine xs_no h1 (br_t rfl ?_)
    unfold wpY_edge
    exact ys_yes hn ha (br_t rfl (ys_no h1 (br_f n10 ⟨rfl, mz_in hD⟩)))
  refine xs_yes hn hb (br_f n10 ?_)
  have va : vp_in (nI a) 12 := vp_in_nI (by omega) (by decide)
  by_cases hab : a = b
  · subst hab
    refine br_t rfl ?_
    unfold wpY_edge
    exact ys_yes hn ha (br_t rfl (ys_yes hn ha (br_t rfl (br_t rfl ⟨rfl, mz_in hD⟩))))
  have hne : ¬ nI a = nI b := fun e => hab ((nI_eq (by omega) (by omega)).mp e)
  refine br_f hne ⟨va, nm_e (br_c (fun h0 => ?_) (fun h0 => ?_))⟩
  · obtain ⟨N', hD'⟩ := mz_De (on := 0) hD ha hb hab
    unfold wX_edge_50
    refine xs_setEdge (by omega) (by omega) ?_
    unfold wpY_edge
    refine ys_yes hn ha (br_t rfl (ys_yes hn hb (br_t rfl (br_f hne ⟨va, nm_e (br_t h0 ?_)⟩))))
    unfold wY_edge_50
    exact ys_join (by omega) (by omega) ⟨rfl, mz_in hD'⟩
  · obtain ⟨N', hD'⟩ := mz_De (on := 1) hD ha hb hab
    unfold wX_edge_50
    refine xs_setEdge (by omega) (by omega) ?_
    unfold wpY_edge
    refine ys_yes hn ha (br_t rfl (ys_yes hn hb (br_t rfl (br_f hne ⟨va, nm_e (br_f h0 ?_)⟩))))
    unfold wY_edge_50
    exact ys_join (by omega) (by omega) ⟨rfl, mz_in hD'⟩
/-- an int between a and b, or not -/
theorem mz_rg (x : Int32) (a b : Nat) (hb : b < 2 ^ 30) : (x < nI a) ∨ (¬ x < nI a ∧ ¬ x ≤ nI b) ∨ ∃ j : Nat, a ≤ j ∧ j ≤ b ∧ x = nI j ∧ ¬ x < nI a ∧ x ≤ nI b ∨ 2 ^ 30 ≤ a := by
  by_cases ha : 2 ^ 30 ≤ a
  · exact Or.inr (Or.inr ⟨0, Or.inr ha⟩)
  by_cases h : x < nI a
  · exact Or.inl h
  by_cases h2 : x ≤ nI b
  · obtain ⟨j, h3, h4, h5⟩ := mi_r (a := a) (by omega) (Int32.not_lt.mp h)
    refine Or.inr (Or.inr ⟨j, Or.inl ⟨h3, ?_, h5, h, h2⟩⟩)
    rw [h5, nI_leI h4 (by omega)] at h2
    exact h2
  · exact Or.inr (Or.inl ⟨h, h2⟩)
theorem i_vc_weigh {k : Nat} {u : SX} {v : SY} (I : i_Rel k u v) (hk : k + 4 ≤ 2050) (v1 : Int32) (v2 : Int32) : wpX_weigh (fun r u' => wpY_weigh (fun r' v' => r' = r ∧ i_Rel (k + 4) u' v') v v1 v2) u v1 v2 := by
  refine mz_el (P := fun u v => wpX_weigh (fun r u' => wpY_weigh (fun r' v' => r' = r ∧ i_Rel (k + 4) u' v') v v1 v2) u v1 v2) I ?_
  intro f_mustIn f_mustOut f_size f_nextSize f_cutLevel f_cutSize f_exact f_bestValue f_bestTaken a_joined a_weights a_gain a_state a_value a_taken a_nextState a_nextValue a_nextTaken a_cutState a_cutValue a_cutTaken a_waitLevel a_waitState a_waitValue a_waitTaken a_rest b_how n wd I O N wt hD
  have hn := hD.2.1
  have n10 : ¬ (1 : Int32) = 0 := by decide
  unfold wpX_weigh
  rcases mz_ix v1 hn with h1 | ⟨a, ha, rfl⟩
  · refine xs_no h1 (br_t rfl ?_)
    unfold wpY_weigh
    exact ys_no h1 (br_f n10 ⟨rfl, mz_in hD⟩)
  refine xs_yes hn ha (br_f n10 ?_)
  rcases mz_rg v2 0 30 (by decide) with h | ⟨h, h'⟩ | ⟨j, ⟨j1, j2, j3, h, h'⟩ | j4⟩
  · refine br_t h ?_
    unfold wpY_weigh
    exact ys_yes hn ha (br_t rfl (br_t h ⟨rfl, mz_in hD⟩))
  · refine br_f h (br_f h' ?_)
    unfold wpY_weigh
    exact ys_yes hn ha (br_t rfl (br_f h (br_f h' ⟨rfl, mz_in hD⟩)))
  · have va : vp_in (nI a) 12 := vp_in_nI (by omega) (by decide)
    have c := nI_clamp (n := a) (by omega)
    have hD' : mz_D n wd I O N (fun u => if u = a then j else wt u) a_joined (upd a_weights (nI a).toNatClampNeg v2) b_how := by
      obtain ⟨q1, q2, q3, q4, q5, q6, q7, q8⟩ := hD
      refine ⟨q1, q2, q3, q4, q5, q6, fun u hu => ?_, q8⟩
      rw [c]
      by_cases z : u = a
      · subst z
        show _ = nI (if u = u then j else wt u) ∧ (if u = u then j else wt u) ≤ 30
        rw [pk_us, if_pos rfl]
        exact ⟨j3, j2⟩
      · show _ = nI (if u = a then j else wt u) ∧ (if u = a then j else wt u) ≤ 30
        rw [pk_un z, if_neg z]
        exact q7 u hu
    refine br_f h (br_t h' ⟨va, nm_e ⟨va, nm_e ?_⟩⟩)
    unfold wpY_weigh
    exact ys_yes hn ha (br_t rfl (br_f h (br_t h' ⟨va, nm_e ⟨va, nm_e ⟨rfl, mz_in hD'⟩⟩⟩)))
  · exact absurd j4 (by decide)
theorem i_vc_neighbours {k : Nat} {u : SX} {v : SY} (I : i_Rel k u v) (hk : k + 4 ≤ 2050) (v1 : Int32) : wpX_neighbours (fun r => wpY_neighbours (fun r' => r' = r ∧ i_Rel (k + 4) u v) v v1) u v1 := by
  refine mz_el (P := fun u v => wpX_neighbours (fun r => wpY_neighbours (fun r' => r' = r ∧ i_Rel (k + 4) u v) v v1) u v1) I ?_
  intro f_mustIn f_mustOut f_size f_nextSize f_cutLevel f_cutSize f_exact f_bestValue f_bestTaken a_joined a_weights a_gain a_state a_value a_taken a_nextState a_nextValue a_nextTaken a_cutState a_cutValue a_cutTaken a_waitLevel a_waitState a_waitValue a_waitTaken a_rest b_how n wd I O N wt hD
  have hn := hD.2.1
  have n10 : ¬ (1 : Int32) = 0 := by decide
  unfold wpX_neighbours
  rcases mz_ix v1 hn with h1 | ⟨a, ha, rfl⟩
  · refine xs_no h1 (br_t rfl ?_)
    unfold wpY_neighbours
    exact ys_no h1 (br_f n10 ⟨rfl, mz_in hD⟩)
  have va : vp_in (nI a) 12 := vp_in_nI (by omega) (by decide)
  refine xs_yes hn ha (br_f n10 ⟨va, ?_⟩)
  unfold wpY_neighbours
  exact ys_yes hn ha (br_t rfl ⟨va, rfl, mz_in hD⟩)
theorem i_vc_chain {k : Nat} {u : SX} {v : SY} (I : i_Rel k u v) (hk : k + 4 ≤ 2050) (v1 : Int32) (v2 : Int32) (v3 : Int32) : wpX_chain (fun r u' => wpY_chain (fun r' v' => r' = r ∧ i_Rel (k + 4) u' v') v v1 v2 v3) u v1 v2 v3 := by
  refine mz_el (P := fun u v => wpX_chain (fun r u' => wpY_chain (fun r' v' => r' = r ∧ i_Rel (k + 4) u' v') v v1 v2 v3) u v1 v2 v3) I ?_
  intro f_mustIn f_mustOut f_size f_nextSize f_cutLevel f_cutSize f_exact f_bestValue f_bestTaken a_joined a_weights a_gain a_state a_value a_taken a_nextState a_nextValue a_nextTaken a_cutState a_cutValue a_cutTaken a_waitLevel a_waitState a_waitValue a_waitTaken a_rest b_how n wd I O N wt hD
  have hn := hD.2.1
  have n10 : ¬ (1 : Int32) = 0 := by decide
  unfold wpX_chain
  rcases mz_ix v1 hn with h1 | ⟨a, ha, rfl⟩
  · refine xs_no h1 (br_t rfl ?_)
    unfold wpY_chain
    exact ys_no h1 (br_f n10 ⟨rfl, mz_in hD⟩)
  refine xs_yes hn ha (br_f n10 ?_)
  rcases mz_rg v2 1 11 (by decide) with h | ⟨h, h'⟩ | ⟨st, ⟨s1, s2, rfl, h, h'⟩ | j4⟩
  · refine br_t h ?_
    unfold wpY_chain
    exact ys_yes hn ha (br_t rfl (br_t h ⟨rfl, mz_in hD⟩))
  · refine br_f h (br_f h' ?_)
    unfold wpY_chain
    exact ys_yes hn ha (br_t rfl (br_f h (br_f h' ⟨rfl, mz_in hD⟩)))
  · refine br_f h (br_t h' ?_)
    rcases mz_rg v3 1 12 (by decide) with g | ⟨g, g'⟩ | ⟨cnt, ⟨c1, c2, rfl, g, g'⟩ | j4⟩
    · refine br_t g ?_
      unfold wpY_chain
      exact ys_yes hn ha (br_t rfl (br_f h (br_t h' (br_t g ⟨rfl, mz_in hD⟩))))
    · refine br_f g (br_f g' ?_)
      unfold wpY_chain
      exact ys_yes hn ha (br_t rfl (br_f h (br_t h' (br_f g (br_f g' ⟨rfl, mz_in hD⟩)))))
    · obtain ⟨q1, q2, q3, q4, q5, q6, q7⟩ := hD
      obtain ⟨N', p1, p2⟩ := mh_fok (st := st) (n := n) (by omega) cnt a a_joined ha ⟨N, q5, q6⟩
      have hD' : mz_D n wd I O N' wt (mh_f n st cnt a a_joined) a_weights b_how := ⟨q1, q2, q3, q4, p1, p2, q7⟩
      refine br_f g (br_t g' (Exists.intro (cnt + 1) (xh_44 q1 hn s2 c2 (Exists.intro (n + 1) (xh_93 hn p1.1 p2 ?_ n 0 (by omega))) cnt 0 a a_joined (by omega) ha rfl)))
      unfold wpY_chain
      refine ys_yes hn ha (br_t rfl (br_f h (br_t h' (br_f g (br_t g' (Exists.intro (cnt + 1) (yh_41 q1 hn ha s2 c2 (Exists.intro (n + 1) (yh_127 hn p1.1 p2 ⟨rfl, mz_in hD'⟩ n 0 (by omega))) cnt 0 a_joined (by omega) ?_)))))))
      rw [Nat.zero_mul, Nat.add_zero, Nat.mod_eq_of_lt ha]
    · exact absurd j4 (by decide)
  · exact absurd j4 (by decide)
/-! forcing -/
theorem mf_D {n wd I O I' O' a h : Nat} {N wt : Nat → Nat} {aj aw bh : Nat → Int32} (hD : mz_D n wd I O N wt aj aw bh) (hI : I' < 2 ^ n) (hO : O' < 2 ^ n)
    (h1 : ∀ u, u ≠ a → I'.testBit u = I.testBit u ∧ O'.testBit u = O.testBit u) (h2 : mh_w I' O' a = h) (h3 : ¬ (I'.testBit a = true ∧ O'.testBit a = true)) : mz_D n wd I' O' N wt aj aw (upd bh a (nI h)) := by
  obtain ⟨q1, q2, q3, q4, q5, q6, q7, q8, q9, q10⟩ := hD
  refine ⟨q1, q2, q3, q4, q5, q6, q7, hI, hO, fun u hu => ?_⟩
  by_cases z : u = a
  · subst z
    rw [pk_us, h2]
    exact ⟨rfl, h3⟩
  · obtain ⟨e1, e2⟩ := h1 u z
    rw [pk_un z]
    unfold mh_w
    rw [e1, e2]
    exact q10 u hu
theorem mf_o (I a u : Nat) (h : u ≠ a) : (I ||| 2 ^ a).testBit u = I.testBit u := by
  rw [mb_o2t, decide_eq_false (fun e => h e.symm), Bool.or_false]
theorem mf_oa (I a : Nat) : (I ||| 2 ^ a).testBit a = true := by
  rw [mb_o2t, decide_eq_true rfl, Bool.or_true]
theorem mf_d (I a u : Nat) (h : u ≠ a) : (mb_d I (2 ^ a)).testBit u = I.testBit u := by
  rw [mb_dt, Nat.testBit_two_pow, decide_eq_false (fun e => h e.symm), Bool.not_false, Bool.and_true]
theorem mf_da (I a : Nat) : (mb_d I (2 ^ a)).testBit a = false := by
  rw [mb_dt, Nat.testBit_two_pow, decide_eq_true rfl, Bool.not_true, Bool.and_false]
theorem mf_2 {n a : Nat} (h : a < n) : 2 ^ a < 2 ^ n := Nat.pow_lt_pow_right (by decide) h
section
variable {f_n f_width f_forcedIn f_forcedOut f_mustIn f_mustOut f_size f_nextSize f_cutLevel f_cutSize f_exact f_bestValue f_bestTaken : Int32} {a_joined a_weights a_gain a_state a_value a_taken a_nextState a_nextValue a_nextTaken a_cutState a_cutValue a_cutTaken a_waitLevel a_waitState a_waitValue a_waitTaken a_rest : Nat → Int32}
theorem xf_force {post : Int32 → SX → Prop} {n I O a h : Nat} (hn : n ≤ 12) (ha : a < n) (hh : h ≤ 2) (hI : I < 2 ^ n) (hO : O < 2 ^ n) (hd : ¬ (I.testBit a = true ∧ O.testBit a = true))
    (K : ∀ I' O', I' < 2 ^ n → O' < 2 ^ n → (∀ u, u ≠ a → I'.testBit u = I.testBit u ∧ O'.testBit u = O.testBit u) → mh_w I' O' a = h → ¬ (I'.testBit a = true ∧ O'.testBit a = true) →
      post (nI (mh_w I O a)) (nI n, f_width, nI I', nI O', f_mustIn, f_mustOut, f_size, f_nextSize, f_cutLevel, f_cutSize, f_exact, f_bestValue, f_bestTaken, a_joined, a_weights, a_gain, a_state, a_value, a_taken, a_nextState, a_nextValue, a_nextTaken, a_cutState, a_cutValue, a_cutTaken, a_waitLevel, a_waitState, a_waitValue, a_waitTaken, a_rest)) :
    wpX_force post (nI n, f_width, nI I, nI O, f_mustIn, f_mustOut, f_size, f_nextSize, f_cutLevel, f_cutSize, f_exact, f_bestValue, f_bestTaken, a_joined, a_weights, a_gain, a_state, a_value, a_taken, a_nextState, a_nextValue, a_nextTaken, a_cutState, a_cutValue, a_cutTaken, a_waitLevel, a_waitState, a_waitValue, a_waitTaken, a_rest) (nI a) (nI h) := by
  have h12 := mb_p12 hn
  have n10 : ¬ (1 : Int32) = 0 := by decide
  have h2a := mf_2 ha
  have fin : ∀ z : Int32, z = nI (mh_w I O a) → wX_force_57 post (nI h) (nI (2 ^ a)) z (nI n) f_width (nI I) (nI O) f_mustIn f_mustOut f_size f_nextSize f_cutLevel f_cutSize f_exact f_bestValue f_bestTaken a_joined a_weights a_gain a_state a_value a_taken a_nextState a_nextValue a_nextTaken a_cutState a_cutValue a_cutTaken a_waitLevel a_waitState a_waitValue a_waitTaken a_rest := by
    intro z hz
    unfold wX_force_57
    obtain rfl | rfl | rfl : h = 0 ∨ h = 1 ∨ h = 2 := by omega
    · refine br_f (by decide) ?_
      unfold wX_force_82
      rw [mb_dif I (2 ^ a), hz]
      refine br_f (by decide) (nm_r (mb_dif O (2 ^ a)) (K _ _ (mb_dlt hI) (mb_dlt hO) (fun u hu => ⟨mf_d I a u hu, mf_d O a u hu⟩) ?_ ?_))
      · unfold mh_w; rw [mf_da, mf_da]; rfl
      · rw [mf_da]; exact fun q => absurd q.1 (by decide)
    · refine br_t rfl ?_
      unfold wX_force_82
      rw [mb_or I (2 ^ a), hz]
      refine br_f (by decide) (nm_r (mb_dif O (2 ^ a)) (K _ _ (Nat.or_lt_two_pow hI h2a) (mb_dlt hO) (fun u hu => ⟨mf_o I a u hu, mf_d O a u hu⟩) ?_ ?_))
      · unfold mh_w; rw [mf_oa, if_pos rfl]
      · rw [mf_da]; exact fun q => absurd q.2 (by decide)
    · refine br_f (by decide) ?_
      unfold wX_force_82
      rw [mb_dif I (2 ^ a), hz]
      refine br_t rfl (nm_r (mb_or O (2 ^ a)) (K _ _ (mb_dlt hI) (Nat.or_lt_two_pow hO h2a) (fun u hu => ⟨mf_d I a u hu, mf_o O a u hu⟩) ?_ ?_))
      · unfold mh_w; rw [mf_oa, mf_da]; rfl
      · rw [mf_da]; exact fun q => absurd q.1 (by decide)
  have eI : (nI I &&& nI (2 ^ a)) = 0 ↔ I.testBit a = false := mb_and2 (by omega)
  have eO : (nI O &&& nI (2 ^ a)) = 0 ↔ O.testBit a = false := mb_and2 (by omega)
  unfold wpX_force
  refine xs_yes hn ha (br_f n10 (br_f (nI_pos (by omega)) (br_t (nI_le (b := 2) hh (by decide)) (nm_r (mb_sh a (by omega)) (br_c (fun q => ?_) (fun q => ?_))))))
  · rw [eI] at q
    unfold wX_force_40
    refine br_c (fun q2 => fin _ ?_) (fun q2 => fin _ ?_)
    · rw [eO] at q2
      unfold mh_w; rw [q, q2]; rfl
    · rw [eO] at q2
      unfold mh_w; rw [q, mb_bt q2]; rfl
  · rw [eI] at q
    have q := mb_bt q
    unfold wX_force_40
    refine br_c (fun q2 => fin _ ?_) (fun q2 => ?_)
    · unfold mh_w; rw [q]; rfl
    · rw [eO] at q2
      exact absurd ⟨q, mb_bt q2⟩ hd
end
theorem i_vc_force {k : Nat} {u : SX} {v : SY} (I : i_Rel k u v) (hk : k + 4 ≤ 2050) (v1 : Int32) (v2 : Int32) : wpX_force (fun r u' => wpY_force (fun r' v' => r' = r ∧ i_Rel (k + 4) u' v') v v1 v2) u v1 v2 := by
  refine mz_el (P := fun u v => wpX_force (fun r u' => wpY_force (fun r' v' => r' = r ∧ i_Rel (k + 4) u' v') v v1 v2) u v1 v2) I ?_
  intro f_mustIn f_mustOut f_size f_nextSize f_cutLevel f_cutSize f_exact f_bestValue f_bestTaken a_joined a_weights a_gain a_state a_value a_taken a_nextState a_nextValue a_nextTaken a_cutState a_cutValue a_cutTaken a_waitLevel a_waitState a_waitValue a_waitTaken a_rest b_how n wd I O N wt hD
  have hn := hD.2.1
  have n10 : ¬ (1 : Int32) = 0 := by decide
  rcases mz_ix v1 hn with h1 | ⟨a, ha, rfl⟩
  · unfold wpX_force
    refine xs_no h1 (br_t rfl ?_)
    unfold wpY_force
    exact ys_no h1 (br_f n10 ⟨rfl, mz_in hD⟩)
  rcases mz_rg v2 0 2 (by decide) with h | ⟨h, h'⟩ | ⟨j, ⟨j1, j2, rfl, h, h'⟩ | j4⟩
  · unfold wpX_force
    refine xs_yes hn ha (br_f n10 (br_t h ?_))
    unfold wpY_force
    exact ys_yes hn ha (br_t rfl (br_t h ⟨rfl, mz_in hD⟩))
  · unfold wpX_force
    refine xs_yes hn ha (br_f n10 (br_f h (br_f h' ?_)))
    unfold wpY_force
    exact ys_yes hn ha (br_t rfl (br_f h (br_f h' ⟨rfl, mz_in hD⟩)))
  · have va : vp_in (nI a) 12 := vp_in_nI (by omega) (by decide)
    have c := nI_clamp (n := a) (by omega)
    have hD2 := hD
    obtain ⟨q1, q2, q3, q4, q5, q6, q7, q8, q9, q10⟩ := hD2
    refine xf_force hn ha j2 q8 q9 (q10 a ha).2 (fun I' O' p1 p2 p3 p4 p5 => ?_)
    have hD' := mf_D hD p1 p2 p3 p4 p5
    unfold wpY_force
    exact ys_yes hn ha (br_t rfl (br_f h (br_t h' ⟨va, nm_r (e' := nI (mh_w I O a)) (by rw [c]; exact (q10 a ha).1) ⟨va, nm_r (e' := upd b_how a (nI j)) (by rw [c]) ⟨rfl, mz_in hD'⟩⟩⟩)))
  · exact absurd j4 (by decide)
end
section
/-! the owed statements: searches and counts -/
/-! conditions -/
theorem mq_0 {n I O s : Nat} {N : Nat → Nat} : mz_c n I O N s ↔ my_c n I O N 0 0 s :=
  ⟨fun h => ⟨Nat.and_zero _, Nat.and_zero _, h⟩, fun h => h.2.2⟩
theorem mq_a {s j : Nat} : s &&& 2 ^ j = 2 ^ j ↔ s.testBit j = true := by
  constructor
  · intro h
    have := Nat.testBit_and s (2 ^ j) j
    rw [h, Nat.testBit_two_pow_self, Bool.and_true] at this
    exact this.symm
  · intro h
    apply Nat.eq_of_testBit_eq
    intro i
    rw [Nat.testBit_and, Nat.testBit_two_pow]
    by_cases z : j = i
    · subst z; rw [h]; rfl
    · rw [decide_eq_false z, Bool.and_false]
theorem mq_I {n I O j s : Nat} {N : Nat → Nat} (hj : j < n) : mz_c n (I ||| 2 ^ j) O N s ↔ my_c n I O N (2 ^ j) 0 s := by
  constructor
  · rintro ⟨h1, h2⟩
    refine ⟨mq_a.mpr ((h1 j hj).1 (mf_oa I j)), Nat.and_zero _, fun v hv => ⟨fun z => (h1 v hv).1 ?_, (h1 v hv).2⟩, h2⟩
    rw [mb_o2t, z, Bool.true_or]
  · rintro ⟨h1, _, h2, h3⟩
    refine ⟨fun v hv => ⟨fun z => ?_, (h2 v hv).2⟩, h3⟩
    by_cases e : v = j
    · subst e; exact mq_a.mp h1
    · rw [mf_o I j v e] at z
      exact (h2 v hv).1 z
theorem mq_O {n I O j s : Nat} {N : Nat → Nat} (hj : j < n) : mz_c n I (O ||| 2 ^ j) N s ↔ my_c n I O N 0 (2 ^ j) s := by
  constructor
  · rintro ⟨h1, h2⟩
    refine ⟨Nat.and_zero _, mb_a2.mpr ((h1 j hj).2 (mf_oa O j)), fun v hv => ⟨(h1 v hv).1, fun z => (h1 v hv).2 ?_⟩, h2⟩
    rw [mb_o2t, z, Bool.true_or]
  · rintro ⟨_, h1, h2, h3⟩
    refine ⟨fun v hv => ⟨(h2 v hv).1, fun z => ?_⟩, h3⟩
    by_cases e : v = j
    · subst e; exact mb_a2.mp h1
    · rw [mf_o O j v e] at z
      exact (h2 v hv).2 z
theorem mq_x {n I O s : Nat} {N : Nat → Nat} (hO : O < 2 ^ n) (h : ¬ I &&& O = 0) : ¬ mz_c n I O N s := by
  rintro ⟨h1, _⟩
  apply h
  rw [mb_a0]
  intro i hi
  apply mb_bf
  intro z
  obtain ⟨a, b⟩ := h1 i (mb_tl hO z)
  have := a hi
  rw [b z] at this
  exact absurd this (by decide)
theorem mq_n {n : Nat} {C C' : Nat → Prop} {V : Nat → Nat} {r : Int32} (h : ∀ s, C s → C' s) (hn : ∀ s, ¬ C' s) (hb : my_best (2 ^ n) C V r) : r = -1 := by
  rcases hb with ⟨h1, _⟩ | ⟨c, _, _, h3, _⟩
  · exact h1
  · exact absurd (h c h3) (hn c)
section
variable {f_n f_sets : Int32} {a_rows a_weights a_how : Nat → Int32}
theorem yq_w {post : Int32 → Prop} {n : Nat} {wt : Nat → Nat} {r : Int32} (hn : n ≤ 12) (hw : ∀ u, u < n → a_weights u = nI (wt u)) (hr : r = -1 ∨ ∃ c, c < 2 ^ n ∧ r = nI c) (K : post (my_w wt n r)) : wpY_weightOf post (nI n, f_sets, a_rows, a_weights, a_how) r := by
  have h12 := mb_p12 hn
  unfold wpY_weightOf
  rcases hr with rfl | ⟨c, hc, rfl⟩
  · rw [my_wm] at K
    exact br_f (by decide) K
  · rw [my_wn wt (by omega)] at K
    exact br_t (nI_pos' (by omega)) (ys_total (by omega) hn hw K)
end
theorem mz_bh {n wd I O : Nat} {N wt : Nat → Nat} {aj aw bh : Nat → Int32} (hD : mz_D n wd I O N wt aj aw bh) : mh_R n I O bh := hD.2.2.2.2.2.2.2.2.2
theorem i_vc_best {k : Nat} {u : SX} {v : SY} (I : i_Rel k u v) (hk : k + 4 ≤ 2050) : wpX_best (fun r u' => wpY_best (fun r' => r' = r ∧ i_Rel (k + 4) u' v) v) u := by
  refine mz_el (P := fun u v => wpX_best (fun r u' => wpY_best (fun r' => r' = r ∧ i_Rel (k + 4) u' v) v) u) I ?_
  intro f_mustIn f_mustOut f_size f_nextSize f_cutLevel f_cutSize f_exact f_bestValue f_bestTaken a_joined a_weights a_gain a_state a_value a_taken a_nextState a_nextValue a_nextTaken a_cutState a_cutValue a_cutTaken a_waitLevel a_waitState a_waitValue a_waitTaken a_rest b_how n wd I O N wt hD
  have hD2 := hD
  obtain ⟨q1, q2, q3, q4, q5, q6, q7, q8, q9, q10⟩ := hD2
  refine xt_best q1 q2 q3 q4 q5 q8 q9 q6 q7 ?_
  intro y1 y2 z1 z2 z3 z4 ex bv bt ga st vl tk ns nv nt cs cv ct wl ws wv wt' re r hr
  unfold wpY_best
  refine ys_search (mu := 0) (no := 0) q2 (by decide) q6 q10 q7 (fun r' hr' => yq_w q2 (fun u hu => (q7 u hu).1) (mz_rr hr') ?_)
  rw [mz_un q2 (fun s _ => mq_0) hr hr']
  exact ⟨rfl, mz_in hD⟩
theorem i_vc_bestSet {k : Nat} {u : SX} {v : SY} (I : i_Rel k u v) (hk : k + 4 ≤ 2050) : wpX_bestSet (fun r u' => wpY_bestSet (fun r' => r' = r ∧ i_Rel (k + 4) u' v) v) u := by
  refine mz_el (P := fun u v => wpX_bestSet (fun r u' => wpY_bestSet (fun r' => r' = r ∧ i_Rel (k + 4) u' v) v) u) I ?_
  intro f_mustIn f_mustOut f_size f_nextSize f_cutLevel f_cutSize f_exact f_bestValue f_bestTaken a_joined a_weights a_gain a_state a_value a_taken a_nextState a_nextValue a_nextTaken a_cutState a_cutValue a_cutTaken a_waitLevel a_waitState a_waitValue a_waitTaken a_rest b_how n wd I O N wt hD
  have hD2 := hD
  obtain ⟨q1, q2, q3, q4, q5, q6, q7, q8, q9, q10⟩ := hD2
  refine xt_bestSet q1 q2 q3 q4 q5 q8 q9 q6 q7 ?_
  intro y1 y2 z1 z2 z3 z4 ex bv bt ga st vl tk ns nv nt cs cv ct wl ws wv wt' re r hr
  unfold wpY_bestSet
  refine ys_search (mu := 0) (no := 0) q2 (by decide) q6 q10 q7 (fun r' hr' => ?_)
  exact ⟨mz_un q2 (fun s _ => mq_0) hr hr', mz_in hD⟩
theorem i_vc_bestWith {k : Nat} {u : SX} {v : SY} (I : i_Rel k u v) (hk : k + 4 ≤ 2050) (v1 : Int32) : wpX_bestWith (fun r u' => wpY_bestWith (fun r' => r' = r ∧ i_Rel (k + 4) u' v) v v1) u v1 := by
  refine mz_el (P := fun u v => wpX_bestWith (fun r u' => wpY_bestWith (fun r' => r' = r ∧ i_Rel (k + 4) u' v) v v1) u v1) I ?_
  intro f_mustIn f_mustOut f_size f_nextSize f_cutLevel f_cutSize f_exact f_bestValue f_bestTaken a_joined a_weights a_gain a_state a_value a_taken a_nextState a_nextValue a_nextTaken a_cutState a_cutValue a_cutTaken a_waitLevel a_waitState a_waitValue a_waitTaken a_rest b_how n wd I O N wt hD
  have hD2 := hD
  obtain ⟨q1, q2, q3, q4, q5, q6, q7, q8, q9, q10⟩ := hD2
  have h12 := mb_p12 q2
  have n10 : ¬ (1 : Int32) = 0 := by decide
  unfold wpX_bestWith
  rcases mz_ix v1 q2 with h1 | ⟨a, ha, rfl⟩
  · refine xs_no h1 (br_t rfl ?_)
    unfold wpY_bestWith
    exact ys_no h1 (br_f n10 ⟨rfl, mz_in hD⟩)
  have h2a := mf_2 ha
  have es := mb_sh a (by omega)
  refine xs_yes q2 ha (br_f n10 (xs_takeWeights q2 (fun u hu => (q7 u hu).1) (fun ga hga => nm_r (e' := nI (I ||| 2 ^ a)) (by rw [es, mb_or]) (br_c (fun h => ?_) (fun h => ?_)))))
  · refine xt_solve q1 q2 q3 q4 q5 (Nat.or_lt_two_pow q8 h2a) q9 q6 (fun u hu => (q7 u hu).2) hga (fun z1 z2 z3 z4 ex bv bt st vl tk ns nv nt cs cv ct wl ws wv wt' hs => ?_)
    refine xt_fin q2 (fun u hu => (q7 u hu).1) hs (fun r hr => ?_)
    unfold wpY_bestWith
    refine ys_yes q2 ha (br_t rfl ?_)
    rw [es]
    refine ys_search (no := 0) q2 (by omega) q6 q10 q7 (fun r' hr' => yq_w q2 (fun u hu => (q7 u hu).1) (mz_rr hr') ?_)
    rw [mz_un q2 (fun s _ => mq_I ha) hr hr']
    exact ⟨rfl, mz_in hD⟩
  · have hx : ∀ s, ¬ mz_c n (I ||| 2 ^ a) O N s := by
      intro s
      refine mq_x q9 (fun z => h ?_)
      rw [nx_and, z]
      rfl
    unfold wpY_bestWith
    refine ys_yes q2 ha (br_t rfl ?_)
    rw [es]
    refine ys_search (no := 0) q2 (by omega) q6 q10 q7 (fun r' hr' => yq_w q2 (fun u hu => (q7 u hu).1) (mz_rr hr') ?_)
    rw [mq_n (fun s => (mq_I ha).mpr) hx hr', my_wm]
    exact ⟨rfl, mz_in hD⟩
theorem i_vc_bestWithout {k : Nat} {u : SX} {v : SY} (I : i_Rel k u v) (hk : k + 4 ≤ 2050) (v1 : Int32) : wpX_bestWithout (fun r u' => wpY_bestWithout (fun r' => r' = r ∧ i_Rel (k + 4) u' v) v v1) u v1 := by
  refine mz_el (P := fun u v => wpX_bestWithout (fun r u' => wpY_bestWithout (fun r' => r' = r ∧ i_Rel (k + 4) u' v) v v1) u v1) I ?_
  intro f_mustIn f_mustOut f_size f_nextSize f_cutLevel f_cutSize f_exact f_bestValue f_bestTaken a_joined a_weights a_gain a_state a_value a_taken a_nextState a_nextValue a_nextTaken a_cutState a_cutValue a_cutTaken a_waitLevel a_waitState a_waitValue a_waitTaken a_rest b_how n wd I O N wt hD
  have hD2 := hD
  obtain ⟨q1, q2, q3, q4, q5, q6, q7, q8, q9, q10⟩ := hD2
  have h12 := mb_p12 q2
  have n10 : ¬ (1 : Int32) = 0 := by decide
  unfold wpX_bestWithout
  rcases mz_ix v1 q2 with h1 | ⟨a, ha, rfl⟩
  · refine xs_no h1 (br_t rfl ?_)
    unfold wpY_bestWithout
    exact ys_no h1 (br_f n10 ⟨rfl, mz_in hD⟩)
  have h2a := mf_2 ha
  have es := mb_sh a (by omega)
  refine xs_yes q2 ha (br_f n10 (xs_takeWeights q2 (fun u hu => (q7 u hu).1) (fun ga hga => nm_r (e' := nI (O ||| 2 ^ a)) (by rw [es, mb_or]) (br_c (fun h => ?_) (fun h => ?_)))))
  · refine xt_solve q1 q2 q3 q4 q5 q8 (Nat.or_lt_two_pow q9 h2a) q6 (fun u hu => (q7 u hu).2) hga (fun z1 z2 z3 z4 ex bv bt st vl tk ns nv nt cs cv ct wl ws wv wt' hs => ?_)
    refine xt_fin q2 (fun u hu => (q7 u hu).1) hs (fun r hr => ?_)
    unfold wpY_bestWithout
    refine ys_yes q2 ha (br_t rfl ?_)
    rw [es]
    refine ys_search (mu := 0) q2 (by decide) q6 q10 q7 (fun r' hr' => yq_w q2 (fun u hu => (q7 u hu).1) (mz_rr hr') ?_)
    rw [mz_un q2 (fun s _ => mq_O ha) hr hr']
    exact ⟨rfl, mz_in hD⟩
  · have hx : ∀ s, ¬ mz_c n I (O ||| 2 ^ a) N s := by
      intro s
      refine mq_x (Nat.or_lt_two_pow q9 h2a) (fun z => h ?_)
      rw [nx_and, z]
      rfl
    unfold wpY_bestWithout
    refine ys_yes q2 ha (br_t rfl ?_)
    rw [es]
    refine ys_search (mu := 0) q2 (by decide) q6 q10 q7 (fun r' hr' => yq_w q2 (fun u hu => (q7 u hu).1) (mz_rr hr') ?_)
    rw [mq_n (fun s => (mq_O ha).mpr) hx hr', my_wm]
    exact ⟨rfl, mz_in hD⟩
theorem mq_P {n I O : Nat} {N wt : Nat → Nat} (hg : mg_ok n N) (b : Int32) : ∀ s, s < 2 ^ n → (my_P (mz_q n I O N wt) b.toInt s = true ↔ (my_ok n I O s ∧ my_ind n N s) ∧ b.toInt ≤ (mp_v wt n s : Int)) := by
  intro s hs
  rw [my_Pe]
  have := mp_al (p := mz_q n I O N wt) hg hs
  exact ⟨fun h => ⟨this.mp h.1, h.2⟩, fun h => ⟨this.mpr h.1, h.2⟩⟩
theorem mq_P1 {n I O : Nat} {N wt : Nat → Nat} (hg : mg_ok n N) : ∀ s, s < 2 ^ n → (my_P (mz_p n I O N wt) (-1) s = true ↔ (my_ok n I O s ∧ my_ind n N s) ∧ (-1 : Int32).toInt ≤ (mp_v wt n s : Int)) := by
  intro s hs
  rw [my_Pe]
  have := mp_al (p := mz_p n I O N wt) hg hs
  have e : (-1 : Int32).toInt = -1 := by decide
  rw [e]
  exact ⟨fun h => ⟨this.mp h.1, by omega⟩, fun h => ⟨this.mpr h.1, by omega⟩⟩
theorem i_vc_allowedSets {k : Nat} {u : SX} {v : SY} (I : i_Rel k u v) (hk : k + 4 ≤ 2050) : wpX_allowedSets (fun r u' => wpY_allowedSets (fun r' => r' = r ∧ i_Rel (k + 4) u' v) v) u := by
  refine mz_el (P := fun u v => wpX_allowedSets (fun r u' => wpY_allowedSets (fun r' => r' = r ∧ i_Rel (k + 4) u' v) v) u) I ?_
  intro f_mustIn f_mustOut f_size f_nextSize f_cutLevel f_cutSize f_exact f_bestValue f_bestTaken a_joined a_weights a_gain a_state a_value a_taken a_nextState a_nextValue a_nextTaken a_cutState a_cutValue a_cutTaken a_waitLevel a_waitState a_waitValue a_waitTaken a_rest b_how n wd I O N wt hD
  have hD2 := hD
  obtain ⟨q1, q2, q3, q4, q5, q6, q7, q8, q9, q10⟩ := hD2
  refine xt_allowedSets q1 q2 q5 q8 q9 q6 q7 ?_
  intro y1 y2 z1 z2 z3 z4 ex bv bt ga st vl tk ns nv nt cs cv ct wl ws wv wt' re
  unfold wpY_allowedSets
  exact ys_many q2 q6 q10 q7 (mq_P1 q5) ⟨rfl, mz_in hD⟩
theorem i_vc_atLeast {k : Nat} {u : SX} {v : SY} (I : i_Rel k u v) (hk : k + 4 ≤ 2050) (v1 : Int32) : wpX_atLeast (fun r u' => wpY_atLeast (fun r' => r' = r ∧ i_Rel (k + 4) u' v) v v1) u v1 := by
  refine mz_el (P := fun u v => wpX_atLeast (fun r u' => wpY_atLeast (fun r' => r' = r ∧ i_Rel (k + 4) u' v) v v1) u v1) I ?_
  intro f_mustIn f_mustOut f_size f_nextSize f_cutLevel f_cutSize f_exact f_bestValue f_bestTaken a_joined a_weights a_gain a_state a_value a_taken a_nextState a_nextValue a_nextTaken a_cutState a_cutValue a_cutTaken a_waitLevel a_waitState a_waitValue a_waitTaken a_rest b_how n wd I O N wt hD
  have hD2 := hD
  obtain ⟨q1, q2, q3, q4, q5, q6, q7, q8, q9, q10⟩ := hD2
  refine xt_atLeast q1 q2 q5 q8 q9 q6 q7 ?_
  intro y1 y2 z1 z2 z3 z4 ex bv bt ga st vl tk ns nv nt cs cv ct wl ws wv wt' re
  unfold wpY_atLeast
  exact ys_many q2 q6 q10 q7 (mq_P q5 v1) ⟨rfl, mz_in hD⟩
theorem i_vc_bestSets {k : Nat} {u : SX} {v : SY} (I : i_Rel k u v) (hk : k + 4 ≤ 2050) : wpX_bestSets (fun r u' => wpY_bestSets (fun r' => r' = r ∧ i_Rel (k + 4) u' v) v) u := by
  refine mz_el (P := fun u v => wpX_bestSets (fun r u' => wpY_bestSets (fun r' => r' = r ∧ i_Rel (k + 4) u' v) v) u) I ?_
  intro f_mustIn f_mustOut f_size f_nextSize f_cutLevel f_cutSize f_exact f_bestValue f_bestTaken a_joined a_weights a_gain a_state a_value a_taken a_nextState a_nextValue a_nextTaken a_cutState a_cutValue a_cutTaken a_waitLevel a_waitState a_waitValue a_waitTaken a_rest b_how n wd I O N wt hD
  have hD2 := hD
  obtain ⟨q1, q2, q3, q4, q5, q6, q7, q8, q9, q10⟩ := hD2
  unfold wpX_bestSets
  refine xt_best q1 q2 q3 q4 q5 q8 q9 q6 q7 ?_
  intro y1 y2 z1 z2 z3 z4 ex bv bt ga st vl tk ns nv nt cs cv ct wl ws wv wt' re r hr
  refine br_c (fun h => ?_) (fun h => ?_)
  · refine xt_atLeast q1 q2 q5 q8 q9 q6 q7 ?_
    intro y1 y2 z1 z2 z3 z4 ex bv bt ga st vl tk ns nv nt cs cv ct wl ws wv wt' re
    unfold wpY_bestSets
    unfold wpY_best
    refine ys_search (mu := 0) (no := 0) q2 (by decide) q6 q10 q7 (fun r' hr' => yq_w q2 (fun u hu => (q7 u hu).1) (mz_rr hr') ?_)
    rw [mz_un q2 (fun s _ => mq_0) hr hr']
    exact br_t h (ys_many q2 q6 q10 q7 (mq_P q5 _) ⟨rfl, mz_in hD⟩)
  · unfold wpY_bestSets
    unfold wpY_best
    refine ys_search (mu := 0) (no := 0) q2 (by decide) q6 q10 q7 (fun r' hr' => yq_w q2 (fun u hu => (q7 u hu).1) (mz_rr hr') ?_)
    rw [mz_un q2 (fun s _ => mq_0) hr hr']
    exact br_f h ⟨rfl, mz_in hD⟩
/-! possible -/
section
variable {f_n f_width f_forcedIn f_forcedOut f_mustIn f_mustOut f_size f_nextSize f_cutLevel f_cutSize f_exact f_bestValue f_bestTaken : Int32} {a_joined a_weights a_gain a_state a_value a_taken a_nextState a_nextValue a_nextTaken a_cutState a_cutValue a_cutTaken a_waitLevel a_waitState a_waitValue a_waitTaken a_rest : Nat → Int32}
theorem xq_p2 {post : Int32 → Prop} {n I : Nat} {N : Nat → Nat} (hn : n ≤ 12) (hI : I < 2 ^ n) (hN : ∀ u, u < n → a_joined u = nI (N u)) (K1 : my_ind n N I → post 1) (K0 : ¬ my_ind n N I → post 0) :
    ∀ d j, j + d = n → (∀ v, v < j → I.testBit v = true → I &&& N v = 0) → wX_possible_2 post (nI n) f_width (nI I) f_forcedOut f_mustIn f_mustOut f_size f_nextSize f_cutLevel f_cutSize f_exact f_bestValue f_bestTaken a_joined a_weights a_gain a_state a_value a_taken a_nextState a_nextValue a_nextTaken a_cutState a_cutValue a_cutTaken a_waitLevel a_waitState a_waitValue a_waitTaken a_rest (d + 1) (nI j) := by
  have h12 := mb_p12 hn
  have hs : I < 2 ^ 31 := by omega
  intro d
  induction d with
  | zero =>
    intro j hj h
    rw [wX_possible_2]
    have hj : j = n := by omega
    subst hj
    exact br_t (nI_le (Nat.le_refl _) (by omega)) (K1 h)
  | succ d ih =>
    intro j hj h
    rw [wX_possible_2]
    have c := nI_clamp (n := j) (by omega)
    have vi : vp_in (nI j) 12 := vp_in_nI (by omega) (by decide)
    have e : (nI (N j) &&& nI I) = 0 ↔ I &&& N j = 0 := by
      rw [← mb_and0 hs, Int32.and_comm]
    refine br_f (nI_ge (by omega) (by omega)) (br_c (fun q => ⟨vi, br_c (fun q2 => nm_r (nI_1 j) (ih (j + 1) (by omega) ?_)) (fun q2 => K0 ?_)⟩) (fun q => nm_r (nI_1 j) (ih (j + 1) (by omega) ?_)))
    · rw [c, hN j (by omega), e] at q2
      intro v hv hvs
      by_cases z : v = j
      · subst z; exact q2
      · exact h v (by omega) hvs
    · rw [mb_bit1 hs (by omega)] at q
      rw [c, hN j (by omega), e] at q2
      exact fun z => q2 (z j (by omega) q)
    · rw [mb_bit1 hs (by omega)] at q
      intro v hv hvs
      by_cases z : v = j
      · subst z; exact absurd hvs q
      · exact h v (by omega) hvs
theorem xq_possible {post : Int32 → Prop} {n I : Nat} {N : Nat → Nat} (hn : n ≤ 12) (hI : I < 2 ^ n) (hN : ∀ u, u < n → a_joined u = nI (N u)) (K1 : my_ind n N I → post 1) (K0 : ¬ my_ind n N I → post 0) :
    wpX_possible post (nI n, f_width, nI I, f_forcedOut, f_mustIn, f_mustOut, f_size, f_nextSize, f_cutLevel, f_cutSize, f_exact, f_bestValue, f_bestTaken, a_joined, a_weights, a_gain, a_state, a_value, a_taken, a_nextState, a_nextValue, a_nextTaken, a_cutState, a_cutValue, a_cutTaken, a_waitLevel, a_waitState, a_waitValue, a_waitTaken, a_rest) :=
  Exists.intro (n + 1) (xq_p2 hn hI hN K1 K0 n 0 (by omega) (fun v hv => absurd hv (by omega)))
end
theorem i_vc_possible {k : Nat} {u : SX} {v : SY} (I : i_Rel k u v) (hk : k + 4 ≤ 2050) : wpX_possible (fun r => wpY_possible (fun r' => r' = r ∧ i_Rel (k + 4) u v) v) u := by
  refine mz_el (P := fun u v => wpX_possible (fun r => wpY_possible (fun r' => r' = r ∧ i_Rel (k + 4) u v) v) u) I ?_
  intro f_mustIn f_mustOut f_size f_nextSize f_cutLevel f_cutSize f_exact f_bestValue f_bestTaken a_joined a_weights a_gain a_state a_value a_taken a_nextState a_nextValue a_nextTaken a_cutState a_cutValue a_cutTaken a_waitLevel a_waitState a_waitValue a_waitTaken a_rest b_how n wd I O N wt hD
  have hD2 := hD
  obtain ⟨q1, q2, q3, q4, q5, q6, q7, q8, q9, q10⟩ := hD2
  have h12 := mb_p12 q2
  refine xq_possible q2 q8 q6 (fun h => ?_) (fun h => ?_)
  · unfold wpY_possible
    refine ys_search (mu := 0) (no := 0) q2 (by decide) q6 q10 q7 (fun r' hr' => ?_)
    have hc : my_c n I O N 0 0 I := by
      refine mq_0.mp ⟨fun v hv => ⟨fun z => z, fun z => ?_⟩, h⟩
      apply mb_bf
      exact fun y => (q10 v hv).2 ⟨y, z⟩
    rcases hr' with ⟨_, h2⟩ | ⟨c, h2, h3, _⟩
    · exact absurd hc (h2 I q8)
    · rw [h3]
      exact br_t (nI_pos' (by omega)) ⟨rfl, mz_in hD⟩
  · unfold wpY_possible
    refine ys_search (mu := 0) (no := 0) q2 (by decide) q6 q10 q7 (fun r' hr' => ?_)
    have hc : ∀ s, ¬ my_c n I O N 0 0 s := by
      rintro s ⟨_, _, h1, h2⟩
      apply h
      intro v hv hvI
      rw [mb_a0]
      intro i hi
      have hin := mb_tl q8 hi
      exact mb_a0.mp (h2 v hv ((h1 v hv).1 hvI)) i ((h1 i hin).1 hi)
    rw [mq_n (fun s z => z) hc hr']
    exact br_f (by decide) ⟨rfl, mz_in hD⟩
/-! alpha and leastCover -/
theorem mq_i {n s : Nat} {N : Nat → Nat} : mz_c n 0 0 N s ↔ my_ind n N s :=
  ⟨fun h => h.2, fun h => ⟨fun v _ => ⟨fun z => by rw [Nat.zero_testBit] at z; exact absurd z (by decide), fun z => by rw [Nat.zero_testBit] at z; exact absurd z (by decide)⟩, h⟩⟩
theorem mq_1 {n s : Nat} (hn : n ≤ 12) (hs : s < 2 ^ n) : mp_v (fun _ => 1) n s = mh_1 s := by
  have := mv_x (fun _ => 1) hs (12 - n)
  rw [show n + (12 - n) = 12 by omega] at this
  exact this.symm
theorem mq_V {n s : Nat} (hn : n ≤ 12) (hs : s < 2 ^ n) : my_V (fun _ => 1) n s = 4096 * mh_1 s + s := by
  unfold my_V
  rw [mq_1 hn hs]
theorem mq_b {n t : Nat} {N : Nat → Nat} (hn : n ≤ 12) (ht : t < 2 ^ n) (h : my_best (2 ^ n) (mz_c n 0 0 N) (my_V (fun _ => 1) n) (nI t)) :
    my_ind n N t ∧ ∀ s, s < 2 ^ n → my_ind n N s → 4096 * mh_1 s + s ≤ 4096 * mh_1 t + t := by
  have h12 := mb_p12 hn
  rcases h with ⟨h1, _⟩ | ⟨c, h1, h2, h3, h4⟩
  · have := congrArg Int32.toInt h1
    rw [nI_toInt (by omega), show (-1 : Int32).toInt = -1 by decide] at this
    omega
  · have e := (nI_eq (by omega) (by omega)).mp h2
    subst e
    refine ⟨mq_i.mp h3, fun s hs hi => ?_⟩
    have := h4 s hs (mq_i.mpr hi)
    rw [mq_V hn hs, mq_V hn ht] at this
    exact this
theorem mq_ind0 {n : Nat} {N : Nat → Nat} : my_ind n N 0 := fun v _ _ => Nat.zero_and _
theorem mh_10 : mh_1 0 = 0 := by decide
theorem i_vc_alpha {k : Nat} {u : SX} {v : SY} (I : i_Rel k u v) (hk : k + 4 ≤ 2050) : wpX_alpha (fun r u' => wpY_alpha (fun r' => r' = r ∧ i_Rel (k + 4) u' v) v) u := by
  refine mz_el (P := fun u v => wpX_alpha (fun r u' => wpY_alpha (fun r' => r' = r ∧ i_Rel (k + 4) u' v) v) u) I ?_
  intro f_mustIn f_mustOut f_size f_nextSize f_cutLevel f_cutSize f_exact f_bestValue f_bestTaken a_joined a_weights a_gain a_state a_value a_taken a_nextState a_nextValue a_nextTaken a_cutState a_cutValue a_cutTaken a_waitLevel a_waitState a_waitValue a_waitTaken a_rest b_how n wd I O N wt hD
  have hD2 := hD
  obtain ⟨q1, q2, q3, q4, q5, q6, q7, q8, q9, q10⟩ := hD2
  have h12 := mb_p12 q2
  have hpos := Nat.two_pow_pos n
  refine xt_alpha q1 q2 q3 q4 q5 q6 ?_
  intro y1 y2 z1 z2 z3 z4 ex bv bt ga st vl tk ns nv nt cs cv ct wl ws wv wt' re t ht hr
  obtain ⟨h1, h2⟩ := mq_b q2 ht hr
  unfold wpY_alpha
  refine Exists.intro (2 ^ n + 1) (ys_al4 q2 q6 (fun m hm1 hm2 => ⟨?_, mz_in hD⟩) (2 ^ n) 0 0 (by omega) ⟨0, hpos, mq_ind0, mh_10⟩ (fun s hs => absurd hs (by omega)))
  obtain ⟨c, c1, c2, c3⟩ := hm1
  have a1 := hm2 t ht h1
  have a2 := h2 c c1 c2
  have : m = mh_1 t := by omega
  rw [this]
theorem mq_cs {n s : Nat} (hs : s < 2 ^ n) : mb_d (2 ^ n - 1) s = 2 ^ n - 1 - s := by
  apply Nat.eq_of_testBit_eq
  intro i
  rw [mb_dt, Nat.testBit_two_pow_sub_one, show 2 ^ n - 1 - s = 2 ^ n - (s + 1) by omega, Nat.testBit_two_pow_sub_succ hs]
theorem mq_cv {n s : Nat} (hs : s < 2 ^ n) : ∀ v, v ≤ n → mp_v (fun _ => 1) v (2 ^ n - 1 - s) + mp_v (fun _ => 1) v s = v
  | 0, _ => rfl
  | v + 1, h => by
    have ih := mq_cv hs v (by omega)
    have e : (2 ^ n - 1 - s).testBit v = !s.testBit v := by
      rw [show 2 ^ n - 1 - s = 2 ^ n - (s + 1) by omega, Nat.testBit_two_pow_sub_succ hs, decide_eq_true (by omega), Bool.true_and]
    rw [mp_vs, mp_vs, e]
    cases s.testBit v
    · simp; omega
    · simp; omega
theorem mq_c1 {n s : Nat} (hn : n ≤ 12) (hs : s < 2 ^ n) : mh_1 (2 ^ n - 1 - s) + mh_1 s = n := by
  rw [← mq_1 hn hs, ← mq_1 hn (show 2 ^ n - 1 - s < 2 ^ n by omega)]
  exact mq_cv hs n (Nat.le_refl _)
theorem i_vc_leastCover {k : Nat} {u : SX} {v : SY} (I : i_Rel k u v) (hk : k + 4 ≤ 2050) : wpX_leastCover (fun r u' => wpY_leastCover (fun r' => r' = r ∧ i_Rel (k + 4) u' v) v) u := by
  refine mz_el (P := fun u v => wpX_leastCover (fun r u' => wpY_leastCover (fun r' => r' = r ∧ i_Rel (k + 4) u' v) v) u) I ?_
  intro f_mustIn f_mustOut f_size f_nextSize f_cutLevel f_cutSize f_exact f_bestValue f_bestTaken a_joined a_weights a_gain a_state a_value a_taken a_nextState a_nextValue a_nextTaken a_cutState a_cutValue a_cutTaken a_waitLevel a_waitState a_waitValue a_waitTaken a_rest b_how n wd I O N wt hD
  have hD2 := hD
  obtain ⟨q1, q2, q3, q4, q5, q6, q7, q8, q9, q10⟩ := hD2
  have h12 := mb_p12 q2
  have hpos := Nat.two_pow_pos n
  refine xt_leastCover q1 q2 q3 q4 q5 q6 ?_
  intro y1 y2 z1 z2 z3 z4 ex bv bt ga st vl tk ns nv nt cs cv ct wl ws wv wt' re t ht hr
  obtain ⟨h1, h2⟩ := mq_b q2 ht hr
  rw [mq_cs ht]
  unfold wpY_leastCover
  refine nm_r (mb_full n (by omega)) (nm_r (Int32.sub_eq_add_neg (nI (2 ^ n)) 1) (Exists.intro (2 ^ n + 1) (ys_lc14 q2 q6 (fun c hc1 hc2 hc3 => ⟨?_, mz_in hD⟩) (2 ^ n) (2 ^ n - 1) (Nat.le_refl _) (by omega) ?_ (by omega) (fun s h3 h4 => absurd h3 (by omega)))))
  · rw [Nat.sub_self]
    exact mq_ind0
  · have e1 : 2 ^ n - 1 - (2 ^ n - 1 - t) = t := by omega
    have a1 := hc3 (2 ^ n - 1 - t) (by omega) (by rw [e1]; exact h1)
    have a2 := h2 (2 ^ n - 1 - c) (by omega) hc2
    have b1 := mq_c1 q2 ht
    have b2 := mq_c1 q2 hc1
    have : c = 2 ^ n - 1 - t := by omega
    rw [this]
end
