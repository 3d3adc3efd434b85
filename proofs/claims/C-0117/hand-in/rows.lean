section
/-! rows pasted from the kit's rows: stores, numbers, bits -/
theorem pk_us {f : Nat → Int32} {k : Nat} {x : Int32} : upd f k x k = x := if_pos rfl
theorem pk_un {f : Nat → Int32} {k j : Nat} {x : Int32} (h : j ≠ k) : upd f k x j = f j := if_neg h
theorem pk_sub {a b : Nat} (h : b ≤ a) : nI a - nI b = nI (a - b) := by
  obtain ⟨c, rfl⟩ : ∃ c, a = c + b := ⟨a - b, by omega⟩
  rw [← nI_add, Int32.add_sub_cancel, Nat.add_sub_cancel]
theorem pk_m1 (n : Nat) : nI (n + 1) + (-1) = nI n := by
  rw [← nI_1, Int32.add_assoc, show (1 : Int32) + (-1) = 0 from rfl, Int32.add_zero]
theorem pk_mul (a b : Nat) : nI a * nI b = nI (a * b) := (Int32.ofNat_mul a b).symm
theorem pk_div {a d : Nat} (ha : a < 2 ^ 31) (h0 : 0 < d) (hd : d < 2 ^ 31) : nI a / nI d = nI (a / d) := by
  apply Int32.toInt_inj.mp
  rw [lg_idiv_nonneg (by rw [nI_toInt ha]; omega) (by rw [nI_toInt hd]; omega), nI_toInt ha, nI_toInt hd, nI_toInt (Nat.lt_of_le_of_lt (Nat.div_le_self a d) ha)]
  first | rfl | exact (Int.natCast_ediv _ _).symm
theorem pk_rem {a d : Nat} (ha : a < 2 ^ 31) (h0 : 0 < d) (hd : d < 2 ^ 31) : nI a - nI a / nI d * nI d = nI (a % d) := by
  rw [pk_div ha h0 hd, pk_mul, pk_sub (Nat.div_mul_le_self a d)]
  exact congrArg nI (by have := Nat.div_add_mod' a d; omega)
theorem pk_ix (x : Int32) {n : Nat} (hn : n < 2 ^ 31) : x < 0 ∨ nI n ≤ x ∨ ∃ j : Nat, j < n ∧ x = nI j := by
  by_cases h : x < 0
  · exact Or.inl h
  · obtain ⟨j, hj, rfl⟩ := nI_of h
    by_cases h2 : j < n
    · exact Or.inr (Or.inr ⟨j, h2, rfl⟩)
    · exact Or.inr (Or.inl (nI_le (by omega) hj))
theorem pk_le {x y : Int32} {A B : Prop} (a b : Nat) (f : a ≤ b → A) (g : b < a → B) (hx : x = nI a := by rfl) (hy : y = nI b := by rfl) (ha : a < 2 ^ 31 := by omega) (hb : b < 2 ^ 31 := by omega) : (x ≤ y → A) ∧ (¬ x ≤ y → B) := by
  subst hx hy
  rw [nI_leI ha hb]
  exact ⟨f, fun z => g (by omega)⟩
theorem pk_lt {x y : Int32} {A B : Prop} (a b : Nat) (f : a < b → A) (g : b ≤ a → B) (hx : x = nI a := by rfl) (hy : y = nI b := by rfl) (ha : a < 2 ^ 31 := by omega) (hb : b < 2 ^ 31 := by omega) : (x < y → A) ∧ (¬ x < y → B) := by
  subst hx hy
  rw [nI_ltI ha hb]
  exact ⟨f, fun z => g (by omega)⟩
theorem pk_eq {x y : Int32} {A B : Prop} (a b : Nat) (f : a = b → A) (g : a ≠ b → B) (hx : x = nI a := by rfl) (hy : y = nI b := by rfl) (ha : a < 2 ^ 31 := by omega) (hb : b < 2 ^ 31 := by omega) : (x = y → A) ∧ (¬ x = y → B) := by
  subst hx hy
  rw [nI_eq ha hb]
  exact ⟨f, g⟩
theorem pk_in {x : Int32} (n N : Nat) (h : n < N) (hx : x = nI n := by rfl) (hN : N < 2 ^ 31 := by omega) : vp_in x N := by
  subst hx
  exact vp_in_nI h hN
theorem pk_cl {x : Int32} (n : Nat) (hx : x = nI n := by rfl) (h : n < 2 ^ 31 := by omega) : x.toNatClampNeg = n := by
  subst hx
  exact nI_clamp h
def bt (x : Int32) (i : Nat) : Bool := x.toBitVec.getLsbD i
theorem b_ext {x y : Int32} (h : ∀ i, i < 32 → bt x i = bt y i) : x = y := Int32.toBitVec_inj.mp (BitVec.eq_of_getLsbD_eq (fun i hi => h i hi))
theorem b_xor (x y : Int32) (i : Nat) : bt (x ^^^ y) i = (bt x i ^^ bt y i) := by unfold bt; rw [Int32.toBitVec_xor, BitVec.getLsbD_xor]
theorem b_big {x : Int32} {i : Nat} (h : 32 ≤ i) : bt x i = false := BitVec.getLsbD_of_ge _ _ h
theorem b_0 (i : Nat) : bt 0 i = false := BitVec.getLsbD_zero
theorem s_l : ∀ n, n < 32 → ((nI n &&& 31).toBitVec.smod 32).toNat = n := by decide +kernel
theorem b_shl (n : Nat) (hn : n < 32) (x : Int32) {i : Nat} (hi : i < 32) : bt (x <<< (nI n &&& 31)) i = (decide (n ≤ i) && bt x (i - n)) := by
  unfold bt
  rw [Int32.toBitVec_shiftLeft]
  show (x.toBitVec <<< ((nI n &&& 31).toBitVec.smod 32).toNat).getLsbD i = _
  rw [s_l n hn, BitVec.getLsbD_shiftLeft]
  rcases Nat.lt_or_ge i n with h | h
  · simp [h, Nat.not_le.mpr h]
  · simp [hi, h, Nat.not_lt.mpr h]
end
section
/-! the check word's step as a linear map on bits: what it never sends to zero -/
theorem sh_xc (a b : Int32) : a ^^^ b = b ^^^ a := b_ext fun i _ => by rw [b_xor, b_xor, Bool.xor_comm]
theorem sh_xa (a b c : Int32) : (a ^^^ b) ^^^ c = a ^^^ (b ^^^ c) := b_ext fun i _ => by rw [b_xor, b_xor, b_xor, b_xor, Bool.xor_assoc]
theorem sh_xs (a : Int32) : a ^^^ a = 0 := b_ext fun i _ => by rw [b_xor, b_0, Bool.xor_self]
theorem sh_x0 (a : Int32) : a ^^^ 0 = a := b_ext fun i _ => by rw [b_xor, b_0, Bool.xor_false]
theorem sh_0x (a : Int32) : 0 ^^^ a = a := by rw [sh_xc, sh_x0]
theorem sh_xx (a b : Int32) : (a ^^^ b) ^^^ b = a := by rw [sh_xa, sh_xs, sh_x0]
theorem sh_xz {a b : Int32} (h : a ^^^ b = 0) : a = b := by
  have e := sh_xx a b
  rw [h, sh_0x] at e
  exact e.symm
theorem sh_xm {a b c : Int32} (h : a ^^^ b = c) : a = c ^^^ b := by rw [← h, sh_xx]
theorem sh_x4 (a b c d : Int32) : (a ^^^ b) ^^^ (c ^^^ d) = (a ^^^ c) ^^^ (b ^^^ d) := by
  rw [sh_xa, sh_xa, ← sh_xa b c d, sh_xc b c, sh_xa c b d]
def sh_fold (h : Int32) : Int32 := if 0 ≤ h then h <<< ((1 : Int32) &&& 31) else (h <<< ((1 : Int32) &&& 31)) ^^^ 79764919
theorem sh_shl1 (x : Int32) {i : Nat} (hi : i < 32) : bt (x <<< ((1 : Int32) &&& 31)) i = (decide (1 ≤ i) && bt x (i - 1)) := b_shl 1 (by omega) x hi
theorem sh_sgn (h : Int32) : bt h 31 = decide (h.toInt < 0) := by
  have e : h.toBitVec.msb = h.toBitVec.getLsbD 31 := BitVec.msb_eq_getLsbD_last h.toBitVec
  have e2 : h.toBitVec.msb = decide (h.toBitVec.toInt < 0) := BitVec.msb_eq_toInt
  show h.toBitVec.getLsbD 31 = _
  rw [← e, e2]
  rfl
theorem sh_bit (h : Int32) {i : Nat} (hi : i < 32) : bt (sh_fold h) i = ((decide (1 ≤ i) && bt h (i - 1)) ^^ (bt h 31 && bt 79764919 i)) := by
  have h0 : (0 : Int32).toInt = 0 := by decide
  unfold sh_fold
  by_cases z : (0 : Int32) ≤ h
  · have s : bt h 31 = false := by
      rw [sh_sgn]
      rw [Int32.le_iff_toInt_le, h0] at z
      exact decide_eq_false (by omega)
    rw [if_pos z, sh_shl1 h hi, s, Bool.false_and, Bool.xor_false]
  · have s : bt h 31 = true := by
      rw [sh_sgn]
      rw [Int32.le_iff_toInt_le, h0] at z
      exact decide_eq_true (by omega)
    rw [if_neg z, b_xor, sh_shl1 h hi, s, Bool.true_and]
theorem sh_bl : ∀ d x y p q f : Bool, ((d && (x ^^ y)) ^^ ((p ^^ q) && f)) = (((d && x) ^^ (p && f)) ^^ ((d && y) ^^ (q && f))) := by decide
theorem sh_lin (a b : Int32) : sh_fold (a ^^^ b) = sh_fold a ^^^ sh_fold b := by
  apply b_ext
  intro i hi
  rw [b_xor, sh_bit _ hi, sh_bit _ hi, sh_bit _ hi, b_xor, b_xor]
  exact sh_bl _ _ _ _ _ _
theorem sh_f0 : sh_fold 0 = 0 := by decide
theorem sh_F0 : bt 79764919 0 = true := by decide
theorem sh_b0 {h : Int32} {i : Nat} (e : h = 0) : bt h i = false := by rw [e, b_0]
theorem sh_K0 {h : Int32} (e : sh_fold h = 0) : h = 0 := by
  have hb : bt h 31 = false := by
    have := sh_bit h (i := 0) (by omega)
    rw [e, b_0, sh_F0] at this
    simpa using this.symm
  apply b_ext
  intro i hi
  rw [b_0]
  by_cases h31 : i = 31
  · rw [h31]; exact hb
  · have := sh_bit h (i := i + 1) (by omega)
    rw [e, b_0, hb] at this
    simpa using this.symm
theorem sh_t1 : ∀ i, i < 31 → bt 62851949 (i + 1) = (bt 62851949 i ^^ bt 79764919 (i + 1)) := by decide +kernel
theorem sh_t1a : bt 62851949 0 = true ∧ bt 62851949 31 = false := by decide +kernel
theorem sh_bl1 : ∀ b u f : Bool, ((b && u) ^^ (b && f)) = (b && (u ^^ f)) := by decide
theorem sh_K1 {h : Int32} (e : sh_fold h = h) : h = 0 := by
  have hs : ∀ i, i < 32 → bt h i = (bt h 31 && bt 62851949 i) := by
    intro i
    induction i with
    | zero =>
      intro _
      have := sh_bit h (i := 0) (by omega)
      rw [e, sh_F0] at this
      rw [sh_t1a.1]
      simpa using this
    | succ i ih =>
      intro hi
      have := sh_bit h (i := i + 1) hi
      rw [e, Nat.add_sub_cancel, ih (by omega), decide_eq_true (by omega), Bool.true_and, sh_bl1, ← sh_t1 i (by omega)] at this
      exact this
  have hb : bt h 31 = false := by
    have := hs 31 (by omega)
    rw [sh_t1a.2, Bool.and_false] at this
    exact this
  apply b_ext
  intro i hi
  rw [hs i hi, hb, b_0, Bool.false_and]
theorem sh_t2 : ∀ i, i < 31 → bt 26936401 (i + 1) = (bt 44895475 i ^^ bt 79764919 (i + 1)) ∧ bt 53872802 (i + 1) = bt 26936401 i := by decide +kernel
theorem sh_t3 : ∀ i, i < 31 → bt 44895475 (i + 1) = (bt 26936401 i ^^ bt 26936401 (i + 1)) ∧ bt 26936401 (i + 1) = ((bt 53872802 i ^^ bt 79764919 (i + 1)) ^^ bt 53872802 (i + 1)) := by decide +kernel
theorem sh_t2a : bt 26936401 0 = true ∧ bt 53872802 0 = false ∧ bt 44895475 0 = true := by decide +kernel
theorem sh_t2b : bt 26936401 31 = false ∧ bt 53872802 31 = false ∧ bt 44895475 31 = false := by decide +kernel
theorem sh_bl2 : ∀ b c u v f : Bool, ((((b && u) ^^ (c && v))) ^^ (b && f)) = ((b && (u ^^ f)) ^^ (c && v)) := by decide
theorem sh_bl3 : ∀ b c s t s' t' f h : Bool, ((((((b && s) ^^ (c && t))) ^^ (c && f)) ^^ ((b && s') ^^ (c && t'))) ^^ h) = false → h = ((b && (s ^^ s')) ^^ (c && ((t ^^ f) ^^ t'))) := by decide
theorem sh_K2 {h : Int32} (e : (sh_fold (sh_fold h) ^^^ sh_fold h) ^^^ h = 0) : h = 0 := by
  have hs : ∀ i, i < 32 → bt (sh_fold h) i = ((bt h 31 && bt 26936401 i) ^^ (bt (sh_fold h) 31 && bt 53872802 i)) ∧ bt h i = ((bt h 31 && bt 44895475 i) ^^ (bt (sh_fold h) 31 && bt 26936401 i)) := by
    intro i
    induction i with
    | zero =>
      intro _
      have h1 := sh_bit h (i := 0) (by omega)
      have h2 := sh_bit (sh_fold h) (i := 0) (by omega)
      have h3 : bt ((sh_fold (sh_fold h) ^^^ sh_fold h) ^^^ h) 0 = false := sh_b0 e
      rw [b_xor, b_xor, h2, h1, sh_F0] at h3
      rw [h1, sh_F0, sh_t2a.1, sh_t2a.2.1, sh_t2a.2.2]
      revert h3
      generalize bt h 31 = b
      generalize bt (sh_fold h) 31 = c
      generalize bt h 0 = x
      cases b <;> cases c <;> cases x <;> simp
    | succ i ih =>
      intro hi
      obtain ⟨i1, i2⟩ := ih (by omega)
      have h1 := sh_bit h (i := i + 1) hi
      have h2 := sh_bit (sh_fold h) (i := i + 1) hi
      have h3 : bt ((sh_fold (sh_fold h) ^^^ sh_fold h) ^^^ h) (i + 1) = false := sh_b0 e
      rw [Nat.add_sub_cancel, decide_eq_true (by omega : 1 ≤ i + 1), Bool.true_and] at h1 h2
      rw [i2, sh_bl2, ← (sh_t2 i (by omega)).1, ← (sh_t2 i (by omega)).2] at h1
      rw [i1] at h2
      rw [b_xor, b_xor, h2, h1] at h3
      refine ⟨h1, ?_⟩
      rw [sh_bl3 _ _ _ _ _ _ _ _ h3, ← (sh_t3 i (by omega)).1, ← (sh_t3 i (by omega)).2]
  have h31 := hs 31 (by omega)
  rw [sh_t2b.1, sh_t2b.2.1, sh_t2b.2.2, Bool.and_false, Bool.and_false, Bool.xor_false] at h31
  obtain ⟨hc, hb⟩ := h31
  apply b_ext
  intro i hi
  rw [(hs i hi).2, hb, hc, b_0, Bool.false_and, Bool.false_and, Bool.xor_false]
/-! the step iterated -/
def sh_it : Nat → Int32 → Int32
  | 0, m => m
  | k + 1, m => sh_fold (sh_it k m)
theorem sh_it_lin (a b : Int32) : ∀ k, sh_it k (a ^^^ b) = sh_it k a ^^^ sh_it k b := by
  intro k
  induction k with
  | zero => rfl
  | succ k ih =>
    show sh_fold (sh_it k (a ^^^ b)) = sh_fold (sh_it k a) ^^^ sh_fold (sh_it k b)
    rw [ih, sh_lin]
theorem sh_it_0 {a : Int32} : ∀ k, sh_it k a = 0 → a = 0 := by
  intro k
  induction k with
  | zero => exact fun h => h
  | succ k ih => exact fun h => ih (sh_K0 h)
theorem sh_it_add (d : Nat) (m : Int32) : ∀ k, sh_it (d + k) m = sh_it k (sh_it d m) := by
  intro k
  induction k with
  | zero => rfl
  | succ k ih =>
    show sh_fold (sh_it (d + k) m) = sh_fold (sh_it k (sh_it d m))
    rw [ih]
theorem sh_it_ne {d : Nat} {m : Int32} (h1 : 1 ≤ d) (h3 : d ≤ 3) (e : sh_it d m = m) : m = 0 := by
  have hd : d = 1 ∨ d = 2 ∨ d = 3 := by omega
  rcases hd with rfl | rfl | rfl
  · exact sh_K1 e
  · have e' : sh_fold (sh_fold m) = m := e
    have g : sh_fold (sh_fold m ^^^ m) = sh_fold m ^^^ m := by rw [sh_lin, e', sh_xc]
    exact sh_K1 (sh_xz (sh_K1 g))
  · have e' : sh_fold (sh_fold (sh_fold m)) = m := e
    have g : sh_fold ((sh_fold (sh_fold m) ^^^ sh_fold m) ^^^ m) = (sh_fold (sh_fold m) ^^^ sh_fold m) ^^^ m := by
      rw [sh_lin, sh_lin, e', sh_xa, sh_xc]
    exact sh_K2 (sh_K1 g)
/-! the check word -/
def sh_chk (w : Nat → Int32) : Nat → Int32
  | 0 => 0
  | n + 1 => sh_fold (sh_chk w n) ^^^ w n
theorem sh_chk_cg {a b : Nat → Int32} : ∀ n, (∀ i, i < n → a i = b i) → sh_chk a n = sh_chk b n := by
  intro n
  induction n with
  | zero => exact fun _ => rfl
  | succ n ih =>
    intro h
    show sh_fold (sh_chk a n) ^^^ a n = sh_fold (sh_chk b n) ^^^ b n
    rw [ih (fun i hi => h i (by omega)), h n (by omega)]
theorem sh_chk_lin (a b : Nat → Int32) : ∀ n, sh_chk (fun i => a i ^^^ b i) n = sh_chk a n ^^^ sh_chk b n := by
  intro n
  induction n with
  | zero => exact (sh_xs 0).symm
  | succ n ih =>
    show sh_fold (sh_chk (fun i => a i ^^^ b i) n) ^^^ (a n ^^^ b n) = (sh_fold (sh_chk a n) ^^^ a n) ^^^ (sh_fold (sh_chk b n) ^^^ b n)
    rw [ih, sh_lin, sh_x4]
def sh_dl (j : Nat) (m : Int32) : Nat → Int32 := fun i => if i = j then m else 0
theorem sh_dl_s {j : Nat} {m : Int32} : sh_dl j m j = m := if_pos rfl
theorem sh_dl_n {i j : Nat} {m : Int32} (h : i ≠ j) : sh_dl j m i = 0 := if_neg h
theorem sh_dl_0 (j i : Nat) : sh_dl j 0 i = 0 := by
  unfold sh_dl
  by_cases h : i = j
  · rw [if_pos h]
  · rw [if_neg h]
theorem sh_chk_z {w : Nat → Int32} : ∀ n, (∀ i, i < n → w i = 0) → sh_chk w n = 0 := by
  intro n
  induction n with
  | zero => exact fun _ => rfl
  | succ n ih =>
    intro h
    show sh_fold (sh_chk w n) ^^^ w n = 0
    rw [ih (fun i hi => h i (by omega)), h n (by omega), sh_f0, sh_xs]
theorem sh_chk_dl (j : Nat) (m : Int32) : ∀ k, sh_chk (sh_dl j m) (j + 1 + k) = sh_it k m := by
  intro k
  induction k with
  | zero =>
    show sh_fold (sh_chk (sh_dl j m) j) ^^^ sh_dl j m j = m
    rw [sh_chk_z j (fun i hi => sh_dl_n (by omega)), sh_f0, sh_dl_s, sh_0x]
  | succ k ih =>
    show sh_fold (sh_chk (sh_dl j m) (j + 1 + k)) ^^^ sh_dl j m (j + 1 + k) = sh_fold (sh_it k m)
    rw [ih, sh_dl_n (by omega), sh_x0]
theorem sh_ne1 {j n : Nat} {m : Int32} (hm : ¬ m = 0) (hj : j < n) : ¬ sh_chk (sh_dl j m) n = 0 := by
  intro e
  obtain ⟨k, rfl⟩ : ∃ k, n = j + 1 + k := ⟨n - (j + 1), by omega⟩
  rw [sh_chk_dl] at e
  exact hm (sh_it_0 k e)
theorem sh_ne2a {j c n : Nat} {m : Int32} (hm : ¬ m = 0) (hj : j < c) (hc : c < n) (hn : n ≤ 4) : ¬ sh_chk (sh_dl j m) n ^^^ sh_chk (sh_dl c m) n = 0 := by
  intro e
  obtain ⟨k, rfl⟩ : ∃ k, n = c + 1 + k := ⟨n - (c + 1), by omega⟩
  obtain ⟨d, rfl⟩ : ∃ d, c = j + d := ⟨c - j, by omega⟩
  rw [show j + d + 1 + k = j + 1 + (d + k) from by omega, sh_chk_dl, show j + 1 + (d + k) = (j + d) + 1 + k from by omega, sh_chk_dl, sh_it_add, ← sh_it_lin] at e
  exact hm (sh_it_ne (d := d) (by omega) (by omega) (sh_xz (sh_it_0 k e)))
theorem sh_ne2 {j c n : Nat} {m : Int32} (hm : ¬ m = 0) (hj : j < n) (hc : c < n) (hn : n ≤ 4) (hne : c ≠ j) : ¬ sh_chk (sh_dl j m) n ^^^ sh_chk (sh_dl c m) n = 0 := by
  rcases Nat.lt_or_ge j c with h | h
  · exact sh_ne2a hm h hc hn
  · rw [sh_xc]; exact sh_ne2a hm (by omega) hj hn
/-! what the loop of recover sees: wo holds the words, spoilt at C by m -/
theorem sh_chkA {n C : Nat} {m : Int32} {w wo : Nat → Int32} (h : ∀ i, i < n → wo i = w i ^^^ sh_dl C m i) (hz : m = 0 ∨ n ≤ C) : ∀ i, i < n → wo i = w i := by
  intro i hi
  rw [h i hi]
  rcases hz with z | z
  · rw [z, sh_dl_0, sh_x0]
  · rw [sh_dl_n (by omega), sh_x0]
theorem sh_chkB {n C : Nat} {m : Int32} {w wo : Nat → Int32} (h : ∀ i, i < n → wo i = w i ^^^ sh_dl C m i) (hm : ¬ m = 0) (hC : C < n) : ¬ sh_chk wo n = sh_chk w n := by
  intro e
  rw [sh_chk_cg n h, sh_chk_lin w (sh_dl C m) n] at e
  refine sh_ne1 hm hC (j := C) (n := n) ?_
  have := sh_xm (a := sh_chk (sh_dl C m) n) (b := sh_chk w n) (c := sh_chk w n) (by rw [sh_xc, e])
  rw [this, sh_xs]
theorem sh_chkC {n C c : Nat} {m : Int32} {w wo : Nat → Int32} (h : ∀ i, i < n → wo i = w i ^^^ sh_dl C m i) (hm : ¬ m = 0) (hC : C < n) (hc : c < n) (hne : c ≠ C) (hn : n ≤ 4) : ¬ sh_chk (upd wo c (w c ^^^ m)) n = sh_chk w n := by
  have h2 : ∀ i, i < n → upd wo c (w c ^^^ m) i = w i ^^^ (sh_dl C m i ^^^ sh_dl c m i) := by
    intro i hi
    by_cases z : i = c
    · rw [z, pk_us, sh_dl_n hne, sh_dl_s, sh_0x]
    · rw [pk_un z, h i hi, sh_dl_n (j := c) z, sh_x0]
  intro e
  rw [sh_chk_cg n h2, sh_chk_lin w (fun i => sh_dl C m i ^^^ sh_dl c m i) n] at e
  have := sh_xm (a := sh_chk (fun i => sh_dl C m i ^^^ sh_dl c m i) n) (b := sh_chk w n) (c := sh_chk w n) (by rw [sh_xc, e])
  rw [sh_xs, sh_chk_lin] at this
  exact sh_ne2 hm hC hc hn hne this
theorem sh_chkD {n C : Nat} {m : Int32} {w wo : Nat → Int32} (h : ∀ i, i < n → wo i = w i ^^^ sh_dl C m i) : ∀ i, i < n → upd wo C (w C) i = w i := by
  intro i hi
  by_cases z : i = C
  · rw [z, pk_us]
  · rw [pk_un z, h i hi, sh_dl_n z, sh_x0]
/-! parity and the rebuilt column -/
def sh_px (f : Nat → Int32) : Nat → Int32
  | 0 => 0
  | n + 1 => sh_px f n ^^^ f n
def sh_rb (f : Nat → Int32) (l : Nat) : Nat → Int32
  | 0 => 0
  | n + 1 => if n = l then sh_rb f l n else sh_rb f l n ^^^ f n
def sh_T (w : Nat → Int32) (n : Nat) : Nat → Int32 := fun c => if c < n then w c else sh_px w n
theorem sh_T_lt {w : Nat → Int32} {n c : Nat} (h : c < n) : sh_T w n c = w c := if_pos h
theorem sh_T_eq {w : Nat → Int32} {n : Nat} : sh_T w n n = sh_px w n := if_neg (Nat.lt_irrefl n)
theorem sh_px_cg {a b : Nat → Int32} : ∀ n, (∀ i, i < n → a i = b i) → sh_px a n = sh_px b n := by
  intro n
  induction n with
  | zero => exact fun _ => rfl
  | succ n ih =>
    intro h
    show sh_px a n ^^^ a n = sh_px b n ^^^ b n
    rw [ih (fun i hi => h i (by omega)), h n (by omega)]
theorem sh_T_cg {a b : Nat → Int32} {n : Nat} (h : ∀ i, i < n → a i = b i) (c : Nat) : sh_T a n c = sh_T b n c := by
  unfold sh_T
  by_cases z : c < n
  · rw [if_pos z, if_pos z, h c z]
  · rw [if_neg z, if_neg z, sh_px_cg n h]
theorem sh_px_lin (a b : Nat → Int32) : ∀ n, sh_px (fun i => a i ^^^ b i) n = sh_px a n ^^^ sh_px b n := by
  intro n
  induction n with
  | zero => exact (sh_xs 0).symm
  | succ n ih =>
    show sh_px (fun i => a i ^^^ b i) n ^^^ (a n ^^^ b n) = (sh_px a n ^^^ a n) ^^^ (sh_px b n ^^^ b n)
    rw [ih, sh_x4]
theorem sh_px_T (w : Nat → Int32) (n : Nat) : sh_px (sh_T w n) (n + 1) = 0 := by
  show sh_px (sh_T w n) n ^^^ sh_T w n n = 0
  rw [sh_T_eq, sh_px_cg n (fun i hi => sh_T_lt hi), sh_xs]
theorem sh_px_dl (j : Nat) (m : Int32) : ∀ n, sh_px (sh_dl j m) n = if j < n then m else 0 := by
  intro n
  induction n with
  | zero => rfl
  | succ n ih =>
    show sh_px (sh_dl j m) n ^^^ sh_dl j m n = _
    rw [ih]
    by_cases z : n = j
    · rw [z, if_neg (Nat.lt_irrefl j), sh_dl_s, if_pos (Nat.lt_succ_self j), sh_0x]
    · rw [sh_dl_n z, sh_x0]
      by_cases y : j < n
      · rw [if_pos y, if_pos (by omega)]
      · rw [if_neg y, if_neg (by omega)]
theorem sh_rb_cg {a b : Nat → Int32} {l : Nat} : ∀ n, (∀ i, i < n → i ≠ l → a i = b i) → sh_rb a l n = sh_rb b l n := by
  intro n
  induction n with
  | zero => exact fun _ => rfl
  | succ n ih =>
    intro h
    show (if n = l then sh_rb a l n else sh_rb a l n ^^^ a n) = (if n = l then sh_rb b l n else sh_rb b l n ^^^ b n)
    rw [ih (fun i hi => h i (by omega))]
    by_cases z : n = l
    · rw [if_pos z, if_pos z]
    · rw [if_neg z, if_neg z, h n (by omega) z]
theorem sh_rb_eq (f : Nat → Int32) (l : Nat) : ∀ n, sh_rb f l n ^^^ (if l < n then f l else 0) = sh_px f n := by
  intro n
  induction n with
  | zero => exact sh_xs 0
  | succ n ih =>
    show (if n = l then sh_rb f l n else sh_rb f l n ^^^ f n) ^^^ (if l < n + 1 then f l else 0) = sh_px f n ^^^ f n
    rw [← ih]
    by_cases z : n = l
    · rw [if_pos z, ← z, if_pos (Nat.lt_succ_self n), if_neg (Nat.lt_irrefl n), sh_x0]
    · rw [if_neg z]
      by_cases y : l < n
      · rw [if_pos y, if_pos (by omega), sh_xa, sh_xa, sh_xc (f n)]
      · rw [if_neg y, if_neg (by omega), sh_x0, sh_x0]
theorem sh_rb_D {w : Nat → Int32} {n l C : Nat} {m : Int32} (hl : l ≤ n) (hC : ¬ m = 0 → C ≤ n) : sh_rb (fun c => sh_T w n c ^^^ sh_dl C m c) l (n + 1) = sh_T w n l ^^^ (if l = C then 0 else m) := by
  have e := sh_rb_eq (fun c => sh_T w n c ^^^ sh_dl C m c) l (n + 1)
  rw [if_pos (by omega : l < n + 1), sh_px_lin, sh_px_T, sh_px_dl, sh_0x] at e
  have em : (if C < n + 1 then m else 0) = m := by
    by_cases z : m = 0
    · rw [z]
      by_cases y : C < n + 1
      · rw [if_pos y]
      · rw [if_neg y]
    · rw [if_pos (by have := hC z; omega)]
  rw [em] at e
  rw [sh_xm e]
  by_cases z : l = C
  · rw [if_pos z, z, sh_dl_s, sh_xc m, sh_xx, sh_x0]
  · rw [if_neg z, sh_dl_n z, sh_x0, sh_xc]
theorem sh_rb_T {w f : Nat → Int32} {n l : Nat} (hl : l ≤ n) (h : ∀ i, i ≤ n → i ≠ l → f i = sh_T w n i) : sh_rb f l (n + 1) = sh_T w n l := by
  have e := sh_rb_D (w := w) (n := n) (l := l) (C := l) (m := 0) hl (fun z => absurd rfl z)
  rw [if_pos rfl, sh_x0] at e
  rw [← e]
  refine sh_rb_cg (n + 1) (fun i hi hne => ?_)
  rw [h i (by omega) hne, sh_dl_0, sh_x0]
end
section
/-! numbers at this class's indices -/
theorem sh_i5 (e c : Nat) : nI e * 5 + nI c = nI (e * 5 + c) := by
  rw [← nI_add, ← pk_mul]; rfl
theorem sh_i12 (d r : Nat) : nI d * 12 + nI r = nI (d * 12 + r) := by
  rw [← nI_add, ← pk_mul]; rfl
theorem sh_i4 (e c : Nat) : 4 * nI e + nI c = nI (4 * e + c) := by
  rw [← nI_add, ← pk_mul]; rfl
theorem sh_c5 {e c : Nat} (he : e < 8) (hc : c ≤ 4) : (nI e * 5 + nI c).toNatClampNeg = e * 5 + c := pk_cl _ (sh_i5 e c) (by omega)
theorem sh_c12 {d r : Nat} (hd : d < 5) (hr : r < 12) : (nI d * 12 + nI r).toNatClampNeg = d * 12 + r := pk_cl _ (sh_i12 d r) (by omega)
theorem sh_c4 {e c : Nat} (he : e < 8) (hc : c < 4) : (4 * nI e + nI c).toNatClampNeg = 4 * e + c := pk_cl _ (sh_i4 e c) (by omega)
theorem sh_v5 {e c : Nat} (he : e < 8) (hc : c ≤ 4) : vp_in (nI e * 5 + nI c) 40 := pk_in (e * 5 + c) 40 (by omega) (sh_i5 e c)
theorem sh_v12 {d r : Nat} (hd : d < 5) (hr : r < 12) : vp_in (nI d * 12 + nI r) 60 := pk_in (d * 12 + r) 60 (by omega) (sh_i12 d r)
theorem sh_v4 {e c : Nat} (he : e < 8) (hc : c < 4) : vp_in (4 * nI e + nI c) 32 := pk_in (4 * e + c) 32 (by omega) (sh_i4 e c)
theorem sh_pr (f : Nat) (h : 0 < f) : ∃ g, f = g + 1 := ⟨f - 1, by omega⟩
/-- where the columns of extent e lie -/
def sh_K (e n : Nat) (p : Nat → Nat) (wi co : Nat → Int32) : Prop := e < 8 ∧ n ≤ 4 ∧ wi e = nI n ∧ ∀ c, c ≤ n → p c < 60 ∧ co (e * 5 + c) = nI (p c)
/-- a living extent: its words w, damaged at column C by m -/
def sh_E (e n : Nat) (p : Nat → Nat) (w : Nat → Int32) (C : Nat) (m : Int32) (ce wi ck co : Nat → Int32) : Prop :=
  sh_K e n p wi co ∧ 0 < n ∧ ck e = sh_chk w n ∧ (∀ c, c ≤ n → ce (p c) = sh_T w n c ^^^ sh_dl C m c) ∧ (¬ m = 0 → C ≤ n)
section
variable {tt dd mm : Int32} {ce ta wi ck co dr wo ch : Nat → Int32}
theorem wk_fold {post : Int32 → Prop} {h : Int32} (H : post (sh_fold h)) : wpX_fold post (tt, dd, mm, ce, ta, wi, ck, co, dr, wo, ch) h := by
  unfold wpX_fold
  dsimp only
  intro x ex
  subst ex
  unfold sh_fold at H
  refine br_c (fun z => ?_) (fun z => ?_)
  · rw [if_pos z] at H; exact H
  · rw [if_neg z] at H; exact H
theorem wk_check_l {post : Int32 → Prop} {n : Nat} (hn : n ≤ 4) (H : post (sh_chk wo n)) : ∀ d i f, i + d = n → d < f → wX_checkOf_4 post (nI n) tt dd mm ce ta wi ck co dr wo ch f (sh_chk wo i) (nI i) := by
  intro d
  induction d with
  | zero =>
    intro i f hi hf
    obtain ⟨f, rfl⟩ := sh_pr f (by omega)
    obtain rfl : i = n := by omega
    exact br_t (nI_le (Nat.le_refl _) (by omega)) H
  | succ d ih =>
    intro i f hi hf
    obtain ⟨f, rfl⟩ := sh_pr f (by omega)
    refine br_f (nI_ge (by omega) (by omega)) (wk_fold ⟨pk_in i 4 (by omega), nm_r ?_ (nm_r (nI_1 i) (ih (i + 1) f (by omega) (by omega)))⟩)
    rw [nI_clamp (by omega)]; rfl
theorem wk_check {post : Int32 → Prop} {n : Nat} (hn : n ≤ 4) (H : post (sh_chk wo n)) : wpX_checkOf post (tt, dd, mm, ce, ta, wi, ck, co, dr, wo, ch) (nI n) :=
  Exists.intro (n + 1) (wk_check_l hn H n 0 (n + 1) (by omega) (by omega))
theorem wk_freeRow_l {post : Int32 → Prop} {d : Nat} (hd : d < 5) (H : ∀ r, r < 12 → ta (d * 12 + r) = 0 → post (nI r)) : ∀ k i f, i + k = 12 → k < f → (∃ r, i ≤ r ∧ r < 12 ∧ ta (d * 12 + r) = 0) → wX_freeRow_2 post (nI d) tt dd mm ce ta wi ck co dr wo ch f (nI i) := by
  intro k
  induction k with
  | zero =>
    intro i f hi hf h
    obtain ⟨r, h1, h2, h3⟩ := h
    omega
  | succ k ih =>
    intro i f hi hf h
    obtain ⟨f, rfl⟩ := sh_pr f (by omega)
    refine br_f (nI_ge (b := 12) (by omega) (by decide)) ⟨sh_v12 hd (by omega), ?_⟩
    rw [sh_c12 hd (by omega)]
    by_cases z : ta (d * 12 + i) = 0
    · exact br_t z (H i (by omega) z)
    · refine br_f z (nm_r (nI_1 i) (ih (i + 1) f (by omega) (by omega) ?_))
      obtain ⟨r, h1, h2, h3⟩ := h
      have : r ≠ i := fun e => z (e ▸ h3)
      exact ⟨r, by omega, h2, h3⟩
theorem wk_freeRow {post : Int32 → Prop} {d : Nat} (hd : d < 5) (hf : ∃ r, r < 12 ∧ ta (d * 12 + r) = 0) (H : ∀ r, r < 12 → ta (d * 12 + r) = 0 → post (nI r)) : wpX_freeRow post (tt, dd, mm, ce, ta, wi, ck, co, dr, wo, ch) (nI d) := by
  obtain ⟨r, h1, h2⟩ := hf
  exact Exists.intro 13 (wk_freeRow_l hd H 12 0 13 (by omega) (by omega) ⟨r, by omega, h1, h2⟩)
theorem wk_freeRows_l {post : Int32 → Prop} {d : Nat} (hd : d < 5) (H : ∀ k, 0 < k → k ≤ 12 → post (nI k)) : ∀ k i s f, i + k = 12 → k < f → s ≤ i → (0 < s ∨ ∃ r, i ≤ r ∧ r < 12 ∧ ta (d * 12 + r) = 0) → wX_freeRows_4 post (nI d) tt dd mm ce ta wi ck co dr wo ch f (nI s) (nI i) := by
  intro k
  induction k with
  | zero =>
    intro i s f hi hf hs h
    obtain ⟨f, rfl⟩ := sh_pr f (by omega)
    refine br_t (nI_le (a := 12) (by omega) (by omega)) (H s ?_ (by omega))
    rcases h with h | ⟨r, h1, h2, h3⟩
    · exact h
    · omega
  | succ k ih =>
    intro i s f hi hf hs h
    obtain ⟨f, rfl⟩ := sh_pr f (by omega)
    refine br_f (nI_ge (b := 12) (by omega) (by decide)) ⟨sh_v12 hd (by omega), ?_⟩
    rw [sh_c12 hd (by omega)]
    by_cases z : ta (d * 12 + i) = 0
    · exact br_t z (nm_r (nI_1 s) (nm_r (nI_1 i) (ih (i + 1) (s + 1) f (by omega) (by omega) (by omega) (Or.inl (by omega)))))
    · refine br_f z (nm_r (nI_1 i) (ih (i + 1) s f (by omega) (by omega) (by omega) ?_))
      rcases h with h | ⟨r, h1, h2, h3⟩
      · exact Or.inl h
      · have : r ≠ i := fun e => z (e ▸ h3)
        exact Or.inr ⟨r, by omega, h2, h3⟩
theorem wk_freeRows {post : Int32 → Prop} {d : Nat} (hd : d < 5) (hf : ∃ r, r < 12 ∧ ta (d * 12 + r) = 0) (H : ∀ k, 0 < k → k ≤ 12 → post (nI k)) : wpX_freeRows post (tt, dd, mm, ce, ta, wi, ck, co, dr, wo, ch) (nI d) := by
  obtain ⟨r, h1, h2⟩ := hf
  exact Exists.intro 13 (wk_freeRows_l hd H 12 0 0 13 (by omega) (by omega) (by omega) (Or.inr ⟨r, by omega, h1, h2⟩))
theorem wk_rebuilt_l {post : Int32 → Prop} {e n l : Nat} {p : Nat → Nat} (K : sh_K e n p wi co) (hl : l ≤ n) (H : post (sh_rb (fun c => ce (p c)) l (n + 1))) : ∀ k i f, i + k = n + 1 → k < f → wX_rebuilt_5 post (nI e) (nI l) tt dd mm ce ta wi ck co dr wo ch f (sh_rb (fun c => ce (p c)) l i) (nI i) := by
  obtain ⟨he, hn, hw, hc⟩ := K
  intro k
  induction k with
  | zero =>
    intro i f hi hf
    obtain ⟨f, rfl⟩ := sh_pr f (by omega)
    obtain rfl : i = n + 1 := by omega
    refine And.intro (vp_in_nI he (by omega)) ?_
    rw [nI_clamp (by omega), hw]
    exact br_t (nI_lt (by omega) (by omega)) H
  | succ k ih =>
    intro i f hi hf
    obtain ⟨f, rfl⟩ := sh_pr f (by omega)
    have ih' := ih (i + 1) f (by omega) (by omega)
    refine And.intro (vp_in_nI he (by omega)) ?_
    rw [nI_clamp (by omega : e < 2 ^ 31), hw]
    refine br_f (nI_nlt (by omega) (by omega)) (pk_eq i l (fun z => ?_) (fun z => ?_))
    · refine nm_r (nI_1 i) ?_
      have ez : sh_rb (fun c => ce (p c)) l (i + 1) = sh_rb (fun c => ce (p c)) l i := if_pos z
      rw [ez] at ih'
      exact ih'
    · have ez : sh_rb (fun c => ce (p c)) l (i + 1) = sh_rb (fun c => ce (p c)) l i ^^^ ce (p i) := if_neg z
      refine ⟨sh_v5 he (by omega), ?_⟩
      rw [sh_c5 he (by omega), (hc i (by omega)).2]
      refine ⟨vp_in_nI (hc i (by omega)).1 (by omega), nm_r ?_ (nm_r (nI_1 i) ih')⟩
      rw [ez, nI_clamp (by have := (hc i (by omega)).1; omega)]
theorem wk_rebuilt {post : Int32 → Prop} {e n l : Nat} {p : Nat → Nat} (K : sh_K e n p wi co) (hl : l ≤ n) (H : post (sh_rb (fun c => ce (p c)) l (n + 1))) : wpX_rebuilt post (tt, dd, mm, ce, ta, wi, ck, co, dr, wo, ch) (nI e) (nI l) :=
  Exists.intro (n + 2) (wk_rebuilt_l K hl H (n + 1) 0 (n + 2) (by omega) (by omega))
theorem wk_load_l {post : SX → Prop} {e n : Nat} {p : Nat → Nat} (K : sh_K e n p wi co) (H : ∀ wo', (∀ i, i < n → wo' i = ce (p i)) → post (tt, dd, mm, ce, ta, wi, ck, co, dr, wo', ch)) : ∀ k i f wo, i + k = n → k < f → (∀ j, j < i → wo j = ce (p j)) → wX_loadWords_2 post (nI e) tt dd mm f (nI i) ce ta wi ck co dr wo ch := by
  obtain ⟨he, hn, hw, hc⟩ := K
  intro k
  induction k with
  | zero =>
    intro i f wo hi hf h
    obtain ⟨f, rfl⟩ := sh_pr f (by omega)
    obtain rfl : i = n := by omega
    refine And.intro (vp_in_nI he (by omega)) ?_
    rw [nI_clamp (by omega), hw]
    exact br_t (nI_le (Nat.le_refl _) (by omega)) (H wo h)
  | succ k ih =>
    intro i f wo hi hf h
    obtain ⟨f, rfl⟩ := sh_pr f (by omega)
    refine And.intro (vp_in_nI he (by omega)) ?_
    rw [nI_clamp (by omega : e < 2 ^ 31), hw]
    refine br_f (nI_ge (by omega) (by omega)) ⟨sh_v5 he (by omega), ?_⟩
    have hp := (hc i (by omega)).1
    rw [sh_c5 he (by omega), (hc i (by omega)).2]
    refine ⟨vp_in_nI hp (by omega), pk_in i 4 (by omega), nm_e (nm_r (nI_1 i) (ih (i + 1) f _ (by omega) (by omega) ?_))⟩
    intro j hj
    rw [nI_clamp (by omega : i < 2 ^ 31), nI_clamp (by omega : p i < 2 ^ 31)]
    by_cases z : j = i
    · rw [z, pk_us]
    · rw [pk_un z, h j (by omega)]
theorem wk_load {post : SX → Prop} {e n : Nat} {p : Nat → Nat} (K : sh_K e n p wi co) (H : ∀ wo', (∀ i, i < n → wo' i = ce (p i)) → post (tt, dd, mm, ce, ta, wi, ck, co, dr, wo', ch)) : wpX_loadWords post (tt, dd, mm, ce, ta, wi, ck, co, dr, wo, ch) (nI e) :=
  Exists.intro (n + 1) (wk_load_l K H n 0 (n + 1) wo (by omega) (by omega) (fun j hj => absurd hj (by omega)))
theorem sh_upd_id {a : Nat → Int32} {c : Nat} {x : Int32} : upd (upd a c x) c (a c) = a := by
  funext i
  by_cases z : i = c
  · rw [z, pk_us]
  · rw [pk_un z, pk_un z]
theorem sh_rbE {e n l C : Nat} {p : Nat → Nat} {w : Nat → Int32} {m : Int32} (E : sh_E e n p w C m ce wi ck co) (hl : l ≤ n) : sh_rb (fun c => ce (p c)) l (n + 1) = sh_T w n l ^^^ (if l = C then 0 else m) := by
  obtain ⟨K, h0, hk, hd, hm⟩ := E
  rw [← sh_rb_D hl hm]
  exact sh_rb_cg (n + 1) (fun i hi _ => hd i (by omega))
theorem wk_rec_l {post : Int32 → SX → Prop} {e n C : Nat} {p : Nat → Nat} {w : Nat → Int32} {m : Int32} (E : sh_E e n p w C m ce wi ck co) (hm : ¬ m = 0) (hC : C < n) (hw : ∀ i, i < n → wo i = w i ^^^ sh_dl C m i) (H : ∀ wo', (∀ i, i < n → wo' i = w i) → post (nI C) (tt, dd, mm, ce, ta, wi, ck, co, dr, wo', ch)) : ∀ k i f, i + k = C → k < f → wX_recover_33 post (nI e) (nI n) tt dd mm f (nI i) ce ta wi ck co dr wo ch := by
  have K := E.1
  obtain ⟨he, hn, hwi, hc⟩ := E.1
  have hk := E.2.2.1
  intro k
  induction k with
  | zero =>
    intro i f hi hf
    obtain ⟨f, rfl⟩ := sh_pr f (by omega)
    obtain rfl : i = C := by omega
    refine br_f (nI_ge (by omega) (by omega)) ⟨pk_in i 4 (by omega), nm_e (wk_rebuilt K (by omega) ⟨pk_in i 4 (by omega), ?_⟩)⟩
    rw [sh_rbE E (by omega : i ≤ n), if_pos rfl, sh_x0, sh_T_lt hC, nI_clamp (by omega : i < 2 ^ 31)]
    refine nm_e (wk_check hn ⟨vp_in_nI he (by omega), ?_⟩)
    rw [nI_clamp (by omega : e < 2 ^ 31), hk]
    exact br_t (sh_chk_cg n (sh_chkD hw)) (H _ (sh_chkD hw))
  | succ k ih =>
    intro i f hi hf
    obtain ⟨f, rfl⟩ := sh_pr f (by omega)
    refine br_f (nI_ge (by omega) (by omega)) ⟨pk_in i 4 (by omega), nm_e (wk_rebuilt K (by omega) ⟨pk_in i 4 (by omega), ?_⟩)⟩
    rw [sh_rbE E (by omega : i ≤ n), if_neg (by omega : ¬ i = C), sh_T_lt (by omega : i < n), nI_clamp (by omega : i < 2 ^ 31)]
    refine nm_e (wk_check hn ⟨vp_in_nI he (by omega), ?_⟩)
    rw [nI_clamp (by omega : e < 2 ^ 31), hk]
    refine br_f (sh_chkC hw hm hC (by omega) (by omega) hn) ⟨pk_in i 4 (by omega), nm_r sh_upd_id (nm_r (nI_1 i) (ih (i + 1) f (by omega) (by omega)))⟩
/-- what recover answers -/
def sh_rc (n C : Nat) (m : Int32) : Int32 := if m = 0 then -1 else if C = n then -1 else nI C
theorem wk_recover {post : Int32 → SX → Prop} {e n C : Nat} {p : Nat → Nat} {w : Nat → Int32} {m : Int32} (E : sh_E e n p w C m ce wi ck co) (H : ∀ wo', (∀ i, i < n → wo' i = w i) → post (sh_rc n C m) (tt, dd, mm, ce, ta, wi, ck, co, dr, wo', ch)) : wpX_recover post (tt, dd, mm, ce, ta, wi, ck, co, dr, wo, ch) (nI e) := by
  have K := E.1
  obtain ⟨he, hn, hwi, hc⟩ := E.1
  obtain ⟨-, h0, hk, hd, hCn⟩ := E
  unfold wpX_recover
  dsimp only
  refine ⟨vp_in_nI he (by omega), nm_r (e' := nI n) (by rw [nI_clamp (by omega), hwi]) (wk_load K (fun wo' hwo => ?_))⟩
  dsimp only
  have hw : ∀ i, i < n → wo' i = w i ^^^ sh_dl C m i := by
    intro i hi
    rw [hwo i hi, hd i (by omega), sh_T_lt hi]
  refine wk_check hn ⟨vp_in_nI he (by omega), ?_⟩
  rw [nI_clamp (by omega : e < 2 ^ 31), hk]
  by_cases z : m = 0
  · have h1 := sh_chkA hw (Or.inl z)
    refine br_t (sh_chk_cg n h1) ?_
    have := H wo' h1
    rw [sh_rc, if_pos z] at this
    exact this
  · by_cases y : C = n
    · have h1 := sh_chkA hw (Or.inr (by omega))
      refine br_t (sh_chk_cg n h1) ?_
      have := H wo' h1
      rw [sh_rc, if_neg z, if_pos y] at this
      exact this
    · have hC : C < n := by have := hCn z; omega
      refine br_f (sh_chkB hw z hC) (Exists.intro (C + 1) ?_)
      refine wk_rec_l ⟨K, h0, hk, hd, hCn⟩ z hC hw (fun wo'' h'' => ?_) C 0 (C + 1) (by omega) (by omega)
      have := H wo'' h''
      rw [sh_rc, if_neg z, if_neg y] at this
      exact this
/-- what faulty answers -/
def sh_fa (C : Nat) (m : Int32) : Int32 := if m = 0 then -5 else nI C
theorem wk_faulty {post : Int32 → SX → Prop} {e n C : Nat} {p : Nat → Nat} {w : Nat → Int32} {m : Int32} (E : sh_E e n p w C m ce wi ck co) (H : ∀ wo', (∀ i, i < n → wo' i = w i) → post (sh_fa C m) (tt, dd, mm, ce, ta, wi, ck, co, dr, wo', ch)) : wpX_faulty post (tt, dd, mm, ce, ta, wi, ck, co, dr, wo, ch) (nI e) := by
  have K := E.1
  obtain ⟨he, hn, hwi, hc⟩ := E.1
  have E' := E
  obtain ⟨-, h0, hk, hd, hCn⟩ := E'
  unfold wpX_faulty
  dsimp only
  refine wk_recover E (fun wo' hwo => ?_)
  dsimp only
  have H' := H wo' hwo
  have hpn := (hc n (Nat.le_refl n)).1
  by_cases y : m = 0 ∨ C = n
  · have er : sh_rc n C m = -1 := by
      unfold sh_rc
      rcases y with y | y
      · rw [if_pos y]
      · rw [if_pos y]
        by_cases z : m = 0
        · rw [if_pos z]
        · rw [if_neg z]
    rw [er]
    refine br_t (by decide) ⟨vp_in_nI he (by omega), ?_⟩
    rw [nI_clamp (by omega : e < 2 ^ 31), hwi]
    refine wk_rebuilt K (Nat.le_refl n) ⟨vp_in_nI he (by omega), sh_v5 he hn, ?_⟩
    rw [sh_c5 he hn, (hc n (Nat.le_refl n)).2]
    refine ⟨vp_in_nI hpn (by omega), ?_⟩
    rw [nI_clamp (by omega : p n < 2 ^ 31), sh_rbE E (Nat.le_refl n), hd n (Nat.le_refl n)]
    by_cases z : m = 0
    · rw [sh_fa, if_pos z] at H'
      refine br_t ?_ H'
      rw [z, sh_dl_0]
      by_cases q : n = C
      · rw [if_pos q]
      · rw [if_neg q]
    · rw [sh_fa, if_neg z] at H'
      have hC : C = n := by
        rcases y with y | y
        · exact absurd y z
        · exact y
      rw [hC] at H' ⊢
      refine br_f ?_ ⟨vp_in_nI he (by omega), H'⟩
      rw [if_pos rfl, sh_dl_s, sh_x0]
      intro q
      apply z
      have := sh_xm (a := m) (b := sh_T w n n) (c := sh_T w n n) (by rw [sh_xc]; exact q.symm)
      rw [this, sh_xs]
  · have z : ¬ m = 0 := fun q => y (Or.inl q)
    have q : ¬ C = n := fun q => y (Or.inr q)
    have er : sh_rc n C m = nI C := by
      unfold sh_rc
      rw [if_neg z, if_neg q]
    rw [sh_fa, if_neg z] at H'
    rw [er]
    exact br_f (nI_pos (by have := hCn z; omega)) H'
end
end
section
/-! the disks chosen so far as a set of bits -/
def sh_pc (U : Nat) : Nat := U % 2 + U / 2 % 2 + U / 4 % 2 + U / 8 % 2 + U / 16 % 2
theorem sh_ub : ∀ U, U < 32 → ∀ d, d < 5 → (((nI U >>> (nI d &&& 31)) &&& 1) = 0 ↔ U.testBit d = false) := by decide +kernel
theorem sh_uo : ∀ U, U < 32 → ∀ d, d < 5 → nI U ||| ((1 : Int32) <<< (nI d &&& 31)) = nI (U ||| 2 ^ d) := by decide +kernel
theorem sh_un : ∀ U, U < 32 → ∀ d, d < 5 → U.testBit d = false → U ||| 2 ^ d < 32 ∧ sh_pc (U ||| 2 ^ d) = sh_pc U + 1 := by decide +kernel
theorem sh_ut : ∀ U, U < 32 → ∀ d, d < 5 → ∀ j, j < 5 → (U ||| 2 ^ d).testBit j = (U.testBit j || decide (j = d)) := by decide +kernel
theorem sh_uf : ∀ U, U < 32 → sh_pc U < 5 → ∀ t, t < 5 → ¬ ∀ k, k < 5 → U.testBit ((t + k) % 5) = true := by decide +kernel
theorem sh_r5 {t i : Nat} (h : t + i < 2 ^ 31) : (nI t + nI i) - (nI t + nI i) / 5 * 5 = nI ((t + i) % 5) := by
  rw [nI_add]
  exact pk_rem h (by decide) (by decide)
section
variable {dd mm : Int32} {ce ta wi ck co dr wo ch : Nat → Int32} {t : Nat}
theorem wk_ch84 {post : SX → Prop} {J4 : Int32 → Int32 → (Nat → Int32) → (Nat → Int32) → (Nat → Int32) → (Nat → Int32) → (Nat → Int32) → (Nat → Int32) → (Nat → Int32) → (Nat → Int32) → Prop} {x1 : Int32} {U c b : Nat} (hU : U < 32) (hc : c < 5) (hb : b < 5) (hf : ∃ r, r < 12 ∧ ta (b * 12 + r) = 0)
    (H : ∀ r, r < 12 → ta (b * 12 + r) = 0 → J4 (nI (U ||| 2 ^ b)) (nI (c + 1)) ce ta wi ck co dr wo (upd ch c (nI (b * 12 + r)))) : wX_choose_84 post J4 x1 (nI U) (nI c) (nI b) (nI t) dd mm ce ta wi ck co dr wo ch := by
  unfold wX_choose_84
  refine wk_freeRow hb hf (fun r hr hz => ⟨pk_in c 5 hc, nm_r ?_ (nm_r (sh_uo U hU b hb) (nm_r (nI_1 c) (H r hr hz)))⟩)
  rw [nI_clamp (by omega), sh_i12]
theorem wk_ch18 {post : SX → Prop} {J4 : Int32 → Int32 → (Nat → Int32) → (Nat → Int32) → (Nat → Int32) → (Nat → Int32) → (Nat → Int32) → (Nat → Int32) → (Nat → Int32) → (Nat → Int32) → Prop} {x1 : Int32} {U c : Nat} (ht : t < 5) (hU : U < 32) (hc : c < 5) (hpc : sh_pc U < 5) (hf : ∀ d, d < 5 → ∃ r, r < 12 ∧ ta (d * 12 + r) = 0)
    (H : ∀ b r, b < 5 → U.testBit b = false → r < 12 → ta (b * 12 + r) = 0 → J4 (nI (U ||| 2 ^ b)) (nI (c + 1)) ce ta wi ck co dr wo (upd ch c (nI (b * 12 + r)))) :
    ∀ (k i f : Nat) (x4 x5 : Int32), i + k = 5 → k < f → ((x4 = -1 ∧ x5 = 0 ∧ ∀ j, j < i → U.testBit ((t + j) % 5) = true) ∨ (∃ b s, b < 5 ∧ U.testBit b = false ∧ x4 = nI b ∧ 0 < s ∧ s ≤ 12 ∧ x5 = nI s)) → wX_choose_18 post J4 x1 (nI U) (nI c) (nI t) dd mm ce ta wi ck co dr wo ch f x4 x5 (nI i) := by
  intro k
  induction k with
  | zero =>
    intro i f x4 x5 hi hk h
    obtain ⟨f, rfl⟩ := sh_pr f (by omega)
    obtain rfl : i = 5 := by omega
    refine br_t (nI_le (a := 5) (by omega) (by omega)) ?_
    rcases h with ⟨-, -, h⟩ | ⟨b, s, hb, hbt, rfl, -, -, -⟩
    · exact absurd h (sh_uf U hU hpc t ht)
    · exact br_t (nI_pos' (by omega)) (wk_ch84 hU hc hb (hf b hb) (fun r hr hz => H b r hb hbt hr hz))
  | succ k ih =>
    intro i f x4 x5 hi hk h
    obtain ⟨f, rfl⟩ := sh_pr f (by omega)
    have hd : (t + i) % 5 < 5 := Nat.mod_lt _ (by decide)
    refine br_f (nI_ge (b := 5) (by omega) (by decide)) ⟨by decide, nm_r (sh_r5 (by omega)) (wk_freeRows hd (hf _ hd) (fun s hs hs12 => ?_))⟩
    have ih' := fun x4 x5 => ih (i + 1) f x4 x5 (by omega) (by omega)
    by_cases z : U.testBit ((t + i) % 5) = false
    · refine br_t ((sh_ub U hU _ hd).mpr z) ?_
      rcases h with ⟨h1, h2, h⟩ | ⟨b, s', hb, hbt, h1, hs', hs2, h2⟩
      · subst h1 h2
        exact br_f (nI_nle hs (by omega)) (nm_r (nI_1 i) (ih' _ _ (Or.inr ⟨_, s, hd, z, rfl, hs, hs12, rfl⟩)))
      · subst h1 h2
        exact br_c (fun _ => nm_r (nI_1 i) (ih' _ _ (Or.inr ⟨b, s', hb, hbt, rfl, hs', hs2, rfl⟩))) (fun _ => nm_r (nI_1 i) (ih' _ _ (Or.inr ⟨_, s, hd, z, rfl, hs, hs12, rfl⟩)))
    · refine br_f (fun y => z ((sh_ub U hU _ hd).mp y)) (nm_r (nI_1 i) (ih' _ _ ?_))
      rcases h with ⟨h1, h2, h⟩ | h
      · refine Or.inl ⟨h1, h2, fun j hj => ?_⟩
        by_cases y : j = i
        · rw [y]
          cases hq : U.testBit ((t + i) % 5) with
          | true => rfl
          | false => exact absurd hq z
        · exact h j (by omega)
      · exact Or.inr h
/-- c columns are chosen, on different disks: the set U -/
def sh_Q (ta ch : Nat → Int32) (Q : Nat → Nat) (c U : Nat) : Prop := U < 32 ∧ sh_pc U = c ∧ (∀ i, i < c → Q i < 60 ∧ ch i = nI (Q i) ∧ ta (Q i) = 0 ∧ U.testBit (Q i / 12) = true) ∧ (∀ i j, i < c → j < c → Q i / 12 = Q j / 12 → i = j)
theorem sh_Q_s {Q : Nat → Nat} {c U b r : Nat} (h : sh_Q ta ch Q c U) (hb : b < 5) (hbt : U.testBit b = false) (hr : r < 12) (hz : ta (b * 12 + r) = 0) : sh_Q ta (upd ch c (nI (b * 12 + r))) (fun i => if i = c then b * 12 + r else Q i) (c + 1) (U ||| 2 ^ b) := by
  obtain ⟨hU, hpc, h1, h2⟩ := h
  obtain ⟨h3, h4⟩ := sh_un U hU b hb hbt
  have hd : (b * 12 + r) / 12 = b := by omega
  have hq : ∀ i, i < c → Q i / 12 ≠ b := by
    intro i hi e
    have := (h1 i hi).2.2.2
    rw [e, hbt] at this
    exact absurd this (by decide)
  refine ⟨h3, by omega, fun i hi => ?_, fun i j hi hj => ?_⟩
  · by_cases y : i = c
    · dsimp only
      rw [if_pos y, y, pk_us, hd, sh_ut U hU b hb b hb, decide_eq_true rfl, Bool.or_true]
      exact ⟨by omega, rfl, hz, rfl⟩
    · obtain ⟨g1, g2, g3, g4⟩ := h1 i (by omega)
      dsimp only
      rw [if_neg y, pk_un y, sh_ut U hU b hb _ (by omega), g4, Bool.true_or]
      exact ⟨g1, g2, g3, rfl⟩
  · dsimp only
    by_cases y : i = c
    · by_cases x : j = c
      · omega
      · rw [if_pos y, if_neg x, hd]
        intro e
        exact absurd e.symm (hq j (by omega))
    · by_cases x : j = c
      · rw [if_neg y, if_pos x, hd]
        intro e
        exact absurd e (hq i (by omega))
      · rw [if_neg y, if_neg x]
        exact h2 i j (by omega) (by omega)
theorem wk_ch4 {post : SX → Prop} {n : Nat} (ht : t < 5) (hn : n ≤ 5) (hf : ∀ d, d < 5 → ∃ r, r < 12 ∧ ta (d * 12 + r) = 0)
    (H : ∀ (t' : Nat) (ch' : Nat → Int32) (Q : Nat → Nat), t' < 5 → (∀ i, i < n → Q i < 60 ∧ ch' i = nI (Q i) ∧ ta (Q i) = 0) → (∀ i j, i < n → j < n → Q i / 12 = Q j / 12 → i = j) → post (nI t', dd, mm, ce, ta, wi, ck, co, dr, wo, ch')) :
    ∀ (k c f U : Nat) (ch : Nat → Int32) (Q : Nat → Nat), c + k = n → k < f → sh_Q ta ch Q c U → wX_choose_4 post (nI n) (nI t) dd mm f (nI U) (nI c) ce ta wi ck co dr wo ch := by
  intro k
  induction k with
  | zero =>
    intro c f U ch Q hc hk h
    obtain ⟨f, rfl⟩ := sh_pr f (by omega)
    obtain rfl : c = n := by omega
    have H' := fun t' ht' => H t' ch Q ht' (fun i hi => ⟨(h.2.2.1 i hi).1, (h.2.2.1 i hi).2.1, (h.2.2.1 i hi).2.2.1⟩) h.2.2.2
    refine br_t (nI_le (Nat.le_refl _) (by omega)) ?_
    rw [nI_1]
    exact pk_eq (t + 1) 5 (fun _ => H' 0 (by omega)) (fun z => nm_e (H' (t + 1) (by omega)))
  | succ k ih =>
    intro c f U ch Q hc hk h
    obtain ⟨f, rfl⟩ := sh_pr f (by omega)
    refine br_f (nI_ge (by omega) (by omega)) (Exists.intro 6 ?_)
    refine wk_ch18 ht h.1 (by omega) (by have := h.2.1; omega) hf (fun b r hb hbt hr hz => ?_) 5 0 6 (-1) 0 (by omega) (by omega) (Or.inl ⟨rfl, rfl, fun j hj => absurd hj (by omega)⟩)
    exact ih (c + 1) f _ _ _ (by omega) (by omega) (sh_Q_s h hb hbt hr hz)
theorem wk_choose {post : SX → Prop} {n : Nat} (ht : t < 5) (hn : n ≤ 5) (hf : ∀ d, d < 5 → ∃ r, r < 12 ∧ ta (d * 12 + r) = 0)
    (H : ∀ (t' : Nat) (ch' : Nat → Int32) (Q : Nat → Nat), t' < 5 → (∀ i, i < n → Q i < 60 ∧ ch' i = nI (Q i) ∧ ta (Q i) = 0) → (∀ i j, i < n → j < n → Q i / 12 = Q j / 12 → i = j) → post (nI t', dd, mm, ce, ta, wi, ck, co, dr, wo, ch')) : wpX_choose post (nI t, dd, mm, ce, ta, wi, ck, co, dr, wo, ch) (nI n) :=
  Exists.intro (n + 1) (wk_ch4 ht hn hf H n 0 (n + 1) 0 ch (fun _ => 0) (by omega) (by omega) ⟨by omega, rfl, fun i hi => absurd hi (by omega), fun i j hi => absurd hi (by omega)⟩)
end
end
section
theorem sh_nb0 : vp_nar .boolean 0 = 0 := rfl
theorem sh_nb1 : vp_nar .boolean 1 = 1 := rfl
section
variable {tt dd mm : Int32} {ce ta wi ck co dr wo ch : Nat → Int32}
theorem wk_free_l {post : SX → Prop} {e n : Nat} {p : Nat → Nat} (K : sh_K e n p wi co) (H : ∀ (ta' : Nat → Int32), (∀ c, c ≤ n → ta' (p c) = 0) → (∀ q, (∀ c, c ≤ n → p c ≠ q) → ta' q = ta q) → post (tt, dd, mm, ce, ta', upd wi e 0, ck, co, dr, wo, ch)) : ∀ (k i f : Nat) (ta' : Nat → Int32), i + k = n + 1 → k < f → (∀ c, c < i → ta' (p c) = 0) → (∀ q, (∀ c, c ≤ n → p c ≠ q) → ta' q = ta q) → wX_free_12 post (nI e) tt dd mm f (nI i) ce ta' wi ck co dr wo ch := by
  obtain ⟨he, hn, hw, hc⟩ := K
  intro k
  induction k with
  | zero =>
    intro i f ta' hi hf h1 h2
    obtain ⟨f, rfl⟩ := sh_pr f (by omega)
    obtain rfl : i = n + 1 := by omega
    refine And.intro (vp_in_nI he (by omega)) ?_
    rw [nI_clamp (by omega : e < 2 ^ 31), hw]
    exact br_t (nI_lt (by omega) (by omega)) ⟨vp_in_nI he (by omega), nm_e (H ta' (fun c hc => h1 c (by omega)) h2)⟩
  | succ k ih =>
    intro i f ta' hi hf h1 h2
    obtain ⟨f, rfl⟩ := sh_pr f (by omega)
    have hp := (hc i (by omega)).1
    refine And.intro (vp_in_nI he (by omega)) ?_
    rw [nI_clamp (by omega : e < 2 ^ 31), hw]
    refine br_f (nI_nlt (by omega) (by omega)) ⟨sh_v5 he (by omega), ?_⟩
    rw [sh_c5 he (by omega), (hc i (by omega)).2]
    refine ⟨vp_in_nI hp (by omega), nm_e (nm_r (nI_1 i) (ih (i + 1) f _ (by omega) (by omega) (fun c hc' => ?_) (fun q hq => ?_)))⟩
    · rw [nI_clamp (by omega : p i < 2 ^ 31), sh_nb0]
      by_cases y : p c = p i
      · rw [y, pk_us]
      · rw [pk_un y]
        exact h1 c (by have : c ≠ i := fun z => y (by rw [z]); omega)
    · rw [nI_clamp (by omega : p i < 2 ^ 31), pk_un (fun z => hq i (by omega) z.symm)]
      exact h2 q hq
theorem wk_free {post : SX → Prop} {e n : Nat} {p : Nat → Nat} (K : sh_K e n p wi co) (H0 : n = 0 → post (tt, dd, mm, ce, ta, wi, ck, co, dr, wo, ch)) (H : 0 < n → ∀ (ta' : Nat → Int32), (∀ c, c ≤ n → ta' (p c) = 0) → (∀ q, (∀ c, c ≤ n → p c ≠ q) → ta' q = ta q) → post (tt, dd, mm, ce, ta', upd wi e 0, ck, co, dr, wo, ch)) : wpX_free post (tt, dd, mm, ce, ta, wi, ck, co, dr, wo, ch) (nI e) := by
  have he := K.1
  have hn := K.2.1
  refine And.intro (vp_in_nI he (by omega)) ?_
  rw [nI_clamp (by omega : e < 2 ^ 31), K.2.2.1]
  refine pk_eq n 0 H0 (fun z => Exists.intro (n + 2) ?_)
  exact wk_free_l K (H (by omega)) (n + 1) 0 (n + 2) ta (by omega) (by omega) (fun c hc => absurd hc (by omega)) (fun q _ => rfl)
/-- wk_free where the extent may be empty and nothing is known of its columns then -/
theorem wk_free' {post : SX → Prop} {e n : Nat} {p : Nat → Nat} (he : e < 8) (hn : n ≤ 4) (hw : wi e = nI n) (hc : 0 < n → ∀ c, c ≤ n → p c < 60 ∧ co (e * 5 + c) = nI (p c)) (H0 : n = 0 → post (tt, dd, mm, ce, ta, wi, ck, co, dr, wo, ch)) (H : 0 < n → ∀ (ta' : Nat → Int32), (∀ c, c ≤ n → ta' (p c) = 0) → (∀ q, (∀ c, c ≤ n → p c ≠ q) → ta' q = ta q) → post (tt, dd, mm, ce, ta', upd wi e 0, ck, co, dr, wo, ch)) : wpX_free post (tt, dd, mm, ce, ta, wi, ck, co, dr, wo, ch) (nI e) := by
  by_cases z : 0 < n
  · exact wk_free ⟨he, hn, hw, hc z⟩ H0 H
  · have h0 : n = 0 := by omega
    refine And.intro (vp_in_nI he (by omega)) ?_
    rw [nI_clamp (by omega : e < 2 ^ 31), hw, h0]
    exact br_t rfl (H0 h0)
theorem wk_pl119 {post : SX → Prop} {e n : Nat} {Q : Nat → Nat} (he : e < 8) (hn : n ≤ 4) (hQ : ∀ i, i ≤ n → ch i = nI (Q i)) (H : ∀ (co' : Nat → Int32), (∀ i, i ≤ n → co' (e * 5 + i) = nI (Q i)) → (∀ j, (∀ i, i ≤ n → e * 5 + i ≠ j) → co' j = co j) → post (tt, dd, mm, ce, ta, wi, ck, co', dr, wo, ch)) : ∀ (k i f : Nat) (co' : Nat → Int32), i + k = n + 1 → k < f → (∀ j, j < i → co' (e * 5 + j) = nI (Q j)) → (∀ j, (∀ i, i ≤ n → e * 5 + i ≠ j) → co' j = co j) → wX_place_119 post (nI e) (nI n) tt dd mm f (nI i) ce ta wi ck co' dr wo ch := by
  intro k
  induction k with
  | zero =>
    intro i f co' hi hf h1 h2
    obtain ⟨f, rfl⟩ := sh_pr f (by omega)
    obtain rfl : i = n + 1 := by omega
    exact br_t (nI_lt (by omega) (by omega)) (H co' (fun c hc => h1 c (by omega)) h2)
  | succ k ih =>
    intro i f co' hi hf h1 h2
    obtain ⟨f, rfl⟩ := sh_pr f (by omega)
    refine br_f (nI_nlt (by omega) (by omega)) ⟨pk_in i 5 (by omega), sh_v5 he (by omega), ?_⟩
    rw [sh_c5 he (by omega), nI_clamp (by omega : i < 2 ^ 31), hQ i (by omega)]
    refine nm_e (nm_r (nI_1 i) (ih (i + 1) f _ (by omega) (by omega) (fun j hj => ?_) (fun j hj => ?_)))
    · by_cases y : j = i
      · rw [y, pk_us]
      · rw [pk_un (by omega)]
        exact h1 j (by omega)
    · rw [pk_un (fun z => hj i (by omega) z.symm)]
      exact h2 j hj
/-- the marks: ta1 has the new cells, ta' not the old ones -/
def sh_M (n n0 : Nat) (Q p : Nat → Nat) (ta ta' : Nat → Int32) : Prop :=
  ∃ ta1 : Nat → Int32, (∀ i, i ≤ n → ¬ ta1 (Q i) = 0) ∧ (∀ q, (∀ i, i ≤ n → Q i ≠ q) → ta1 q = ta q) ∧ (0 < n0 → ∀ c, c ≤ n0 → ta' (p c) = 0) ∧ (∀ q, (0 < n0 → ∀ c, c ≤ n0 → p c ≠ q) → ta' q = ta1 q)
theorem wk_pl68 {post : SX → Prop} {e n n0 : Nat} {Q p : Nat → Nat} (he : e < 8) (hn : n ≤ 4) (hn0 : n0 ≤ 4) (hw : wi e = nI n0) (hc : 0 < n0 → ∀ c, c ≤ n0 → p c < 60 ∧ co (e * 5 + c) = nI (p c)) (hQ : ∀ i, i ≤ n → Q i < 60 ∧ ch i = nI (Q i))
    (H : ∀ (ta' : Nat → Int32) (wi' : Nat → Int32) (co' : Nat → Int32), sh_M n n0 Q p ta ta' → wi' e = nI n → (∀ x, x ≠ e → wi' x = wi x) → (∀ i, i ≤ n → co' (e * 5 + i) = nI (Q i)) → (∀ j, (∀ i, i ≤ n → e * 5 + i ≠ j) → co' j = co j) → post (tt, dd, mm, ce, ta', wi', upd ck e (sh_chk wo n), co', dr, wo, ch)) :
    ∀ (k i f : Nat) (ta1 : Nat → Int32), i + k = n + 1 → k < f → (∀ j, j < i → ¬ ta1 (Q j) = 0) → (∀ q, (∀ i, i ≤ n → Q i ≠ q) → ta1 q = ta q) → wX_place_68 post (nI e) (nI n) tt dd mm f (nI i) ce ta1 wi ck co dr wo ch := by
  intro k
  induction k with
  | zero =>
    intro i f ta1 hi hf h1 h2
    obtain ⟨f, rfl⟩ := sh_pr f (by omega)
    obtain rfl : i = n + 1 := by omega
    have h1' : ∀ i, i ≤ n → ¬ ta1 (Q i) = 0 := fun i hi => h1 i (by omega)
    refine br_t (nI_lt (by omega) (by omega)) (wk_free' he hn0 hw hc (fun z => ?_) (fun z ta' g1 g2 => ?_))
    · dsimp only
      refine ⟨vp_in_nI he (by omega), nm_e (wk_check hn ⟨vp_in_nI he (by omega), nm_e (Exists.intro (n + 2) ?_)⟩)⟩
      rw [nI_clamp (by omega : e < 2 ^ 31)]
      refine wk_pl119 he hn (fun i hi => (hQ i hi).2) (fun co' g3 g4 => ?_) (n + 1) 0 (n + 2) co (by omega) (by omega) (fun j hj => absurd hj (by omega)) (fun j _ => rfl)
      exact H ta1 _ co' ⟨ta1, h1', h2, fun y => absurd y (by omega), fun q _ => rfl⟩ pk_us (fun x hx => pk_un hx) g3 g4
    · dsimp only
      refine ⟨vp_in_nI he (by omega), nm_e (wk_check hn ⟨vp_in_nI he (by omega), nm_e (Exists.intro (n + 2) ?_)⟩)⟩
      rw [nI_clamp (by omega : e < 2 ^ 31)]
      refine wk_pl119 he hn (fun i hi => (hQ i hi).2) (fun co' g3 g4 => ?_) (n + 1) 0 (n + 2) co (by omega) (by omega) (fun j hj => absurd hj (by omega)) (fun j _ => rfl)
      exact H ta' _ co' ⟨ta1, h1', h2, fun _ => g1, fun q hq => g2 q (hq z)⟩ pk_us (fun x hx => by rw [pk_un hx, pk_un hx]) g3 g4
  | succ k ih =>
    intro i f ta1 hi hf h1 h2
    obtain ⟨f, rfl⟩ := sh_pr f (by omega)
    have hq60 := (hQ i (by omega)).1
    refine br_f (nI_nlt (by omega) (by omega)) ⟨pk_in i 5 (by omega), ?_⟩
    rw [nI_clamp (by omega : i < 2 ^ 31), (hQ i (by omega)).2]
    refine ⟨vp_in_nI hq60 (by omega), nm_e (nm_r (nI_1 i) (ih (i + 1) f _ (by omega) (by omega) (fun j hj => ?_) (fun q hq => ?_)))⟩
    · rw [nI_clamp (by omega : Q i < 2 ^ 31), sh_nb1]
      by_cases y : Q j = Q i
      · rw [y, pk_us]; decide
      · rw [pk_un y]
        exact h1 j (by have : j ≠ i := fun z => y (by rw [z]); omega)
    · rw [nI_clamp (by omega : Q i < 2 ^ 31), pk_un (fun z => hq i (by omega) z.symm)]
      exact h2 q hq
theorem wk_pl12 {post : SX → Prop} {e n n0 : Nat} {Q p : Nat → Nat} (he : e < 8) (hn : n ≤ 4) (hn0 : n0 ≤ 4) (hw : wi e = nI n0) (hc : 0 < n0 → ∀ c, c ≤ n0 → p c < 60 ∧ co (e * 5 + c) = nI (p c)) (hQ : ∀ i, i ≤ n → Q i < 60 ∧ ch i = nI (Q i)) (hQd : ∀ i j, i ≤ n → j ≤ n → Q i = Q j → i = j)
    (H : ∀ (ce' : Nat → Int32) (ta' : Nat → Int32) (wi' : Nat → Int32) (co' : Nat → Int32), (∀ i, i ≤ n → ce' (Q i) = sh_T wo n i) → (∀ q, (∀ i, i ≤ n → Q i ≠ q) → ce' q = ce q) → sh_M n n0 Q p ta ta' → wi' e = nI n → (∀ x, x ≠ e → wi' x = wi x) → (∀ i, i ≤ n → co' (e * 5 + i) = nI (Q i)) → (∀ j, (∀ i, i ≤ n → e * 5 + i ≠ j) → co' j = co j) → post (tt, dd, mm, ce', ta', wi', upd ck e (sh_chk wo n), co', dr, wo, ch)) :
    ∀ (k i f : Nat) (ce1 : Nat → Int32), i + k = n → k < f → (∀ j, j < i → ce1 (Q j) = wo j) → (∀ q, (∀ i, i ≤ n → Q i ≠ q) → ce1 q = ce q) → wX_place_12 post (nI e) (nI n) tt dd mm f (sh_px wo i) (nI i) ce1 ta wi ck co dr wo ch := by
  intro k
  induction k with
  | zero =>
    intro i f ce1 hi hf h1 h2
    obtain ⟨f, rfl⟩ := sh_pr f (by omega)
    obtain rfl : i = n := by omega
    have hq60 := (hQ i (by omega)).1
    refine br_t (nI_le (Nat.le_refl _) (by omega)) ⟨pk_in i 5 (by omega), ?_⟩
    rw [nI_clamp (by omega : i < 2 ^ 31), (hQ i (by omega)).2]
    refine ⟨vp_in_nI hq60 (by omega), nm_e (Exists.intro (i + 2) ?_)⟩
    rw [nI_clamp (by omega : Q i < 2 ^ 31)]
    refine wk_pl68 he hn hn0 hw hc hQ (fun ta' wi' co' g1 g2 g3 g4 g5 => ?_) (i + 1) 0 (i + 2) ta (by omega) (by omega) (fun j hj => absurd hj (by omega)) (fun q _ => rfl)
    refine H _ ta' wi' co' (fun j hj => ?_) (fun q hq => ?_) g1 g2 g3 g4 g5
    · by_cases y : j = i
      · rw [y, pk_us, sh_T_eq]
      · rw [pk_un (fun z => y (hQd j i hj (Nat.le_refl i) z)), sh_T_lt (by omega)]
        exact h1 j (by omega)
    · rw [pk_un (fun z => hq i (by omega) z.symm)]
      exact h2 q hq
  | succ k ih =>
    intro i f ce1 hi hf h1 h2
    obtain ⟨f, rfl⟩ := sh_pr f (by omega)
    have hq60 := (hQ i (by omega)).1
    refine br_f (nI_ge (by omega) (by omega)) ⟨pk_in i 5 (by omega), pk_in i 4 (by omega), ?_⟩
    rw [nI_clamp (by omega : i < 2 ^ 31), (hQ i (by omega)).2]
    refine ⟨vp_in_nI hq60 (by omega), nm_e ⟨pk_in i 4 (by omega), nm_e (nm_r (nI_1 i) (ih (i + 1) f _ (by omega) (by omega) (fun j hj => ?_) (fun q hq => ?_)))⟩⟩
    · rw [nI_clamp (by omega : Q i < 2 ^ 31)]
      by_cases y : j = i
      · rw [y, pk_us]
      · rw [pk_un (fun z => y (hQd j i (by omega) (by omega) z))]
        exact h1 j (by omega)
    · rw [nI_clamp (by omega : Q i < 2 ^ 31), pk_un (fun z => hq i (by omega) z.symm)]
      exact h2 q hq
theorem wk_place0 {post : SX → Prop} {t e n n0 : Nat} {p : Nat → Nat} (ht : t < 5) (he : e < 8) (hn : n ≤ 4) (hn0 : n0 ≤ 4) (hw : wi e = nI n0) (hc : 0 < n0 → ∀ c, c ≤ n0 → p c < 60 ∧ co (e * 5 + c) = nI (p c)) (hf : ∀ d, d < 5 → ∃ r, r < 12 ∧ ta (d * 12 + r) = 0)
    (H : ∀ (t' : Nat) (Q : Nat → Nat) (ch' : Nat → Int32) (ce' : Nat → Int32) (ta' : Nat → Int32) (wi' : Nat → Int32) (co' : Nat → Int32), t' < 5 → (∀ i, i ≤ n → Q i < 60 ∧ ta (Q i) = 0) → (∀ i j, i ≤ n → j ≤ n → Q i / 12 = Q j / 12 → i = j) → (∀ i, i ≤ n → ce' (Q i) = sh_T wo n i) → (∀ q, (∀ i, i ≤ n → Q i ≠ q) → ce' q = ce q) → sh_M n n0 Q p ta ta' → wi' e = nI n → (∀ x, x ≠ e → wi' x = wi x) → (∀ i, i ≤ n → co' (e * 5 + i) = nI (Q i)) → (∀ j, (∀ i, i ≤ n → e * 5 + i ≠ j) → co' j = co j) → post (nI t', dd, mm, ce', ta', wi', upd ck e (sh_chk wo n), co', dr, wo, ch')) :
    wpX_place post (nI t, dd, mm, ce, ta, wi, ck, co, dr, wo, ch) (nI e) (nI n) := by
  unfold wpX_place
  dsimp only
  rw [nI_1]
  refine wk_choose ht (by omega) hf (fun t' ch' Q ht' hQ hQd => ?_)
  dsimp only
  refine Exists.intro (n + 1) ?_
  refine wk_pl12 (Q := Q) (p := p) he hn hn0 hw hc (fun i hi => ⟨(hQ i (by omega)).1, (hQ i (by omega)).2.1⟩) (fun i j hi hj z => hQd i j (by omega) (by omega) (by rw [z])) (fun ce' ta' wi' co' g1 g2 g3 g4 g5 g6 g7 => ?_) n 0 (n + 1) ce (by omega) (by omega) (fun j hj => absurd hj (by omega)) (fun q _ => rfl)
  exact H t' Q ch' ce' ta' wi' co' ht' (fun i hi => ⟨(hQ i (by omega)).1, (hQ i (by omega)).2.2⟩) (fun i j hi hj => hQd i j (by omega) (by omega)) g1 g2 g3 g4 g5 g6 g7
end
end
section
/-! the relation's parts: where the stripes lie (sh_G), what the cells hold (sh_D) -/
def sh_L (W : Nat → Nat) (e c : Nat) : Prop := e < 8 ∧ 0 < W e ∧ c ≤ W e
def sh_G (W : Nat → Nat) (P : Nat → Nat → Nat) (ta wi co : Nat → Int32) : Prop :=
  (∀ e, e < 8 → W e ≤ 4 ∧ wi e = nI (W e)) ∧
  (∀ e c, sh_L W e c → P e c < 60 ∧ co (e * 5 + c) = nI (P e c) ∧ ¬ ta (P e c) = 0) ∧
  (∀ e c c', sh_L W e c → sh_L W e c' → P e c / 12 = P e c' / 12 → c = c') ∧
  (∀ e c e' c', sh_L W e c → sh_L W e' c' → P e c = P e' c' → e = e') ∧
  (∀ q, q < 60 → ¬ ta q = 0 → ∃ e c, sh_L W e c ∧ P e c = q)
def sh_D (W : Nat → Nat) (P : Nat → Nat → Nat) (C : Nat → Nat) (w : Nat → Nat → Int32) (m ce ck : Nat → Int32) : Prop :=
  (∀ e c, sh_L W e c → ce (P e c) = sh_T (w e) (W e) c ^^^ sh_dl (C e) (m e) c) ∧
  (∀ e, e < 8 → 0 < W e → ck e = sh_chk (w e) (W e)) ∧
  (∀ e, e < 8 → ¬ m e = 0 → 0 < W e ∧ C e ≤ W e)
def sh_up {α : Type} (f : Nat → α) (e : Nat) (x : α) : Nat → α := fun y => if y = e then x else f y
theorem sh_us {α : Type} {f : Nat → α} {e : Nat} {x : α} : sh_up f e x e = x := if_pos rfl
theorem sh_uq {α : Type} {f : Nat → α} {e y : Nat} {x : α} (h : y ≠ e) : sh_up f e x y = f y := if_neg h
theorem sh_pig : ∀ (m : Nat) (f : Nat → Nat), (∀ i, i < m + 1 → f i < m) → ∃ i j, i < j ∧ j < m + 1 ∧ f i = f j := by
  intro m
  induction m with
  | zero =>
    intro f h
    exact absurd (h 0 (by omega)) (by omega)
  | succ m ih =>
    intro f h
    by_cases z : ∃ i, i < m + 1 ∧ f i = f (m + 1)
    · obtain ⟨i, hi, e⟩ := z
      exact ⟨i, m + 1, hi, by omega, e⟩
    · have hz : ∀ i, i < m + 1 → f i ≠ f (m + 1) := fun i hi e => z ⟨i, hi, e⟩
      obtain ⟨i, j, hij, hj, e⟩ := ih (fun i => if f i = m then f (m + 1) else f i) (by
        intro i hi
        have h1 := h i (by omega)
        have h2 := h (m + 1) (by omega)
        have h3 := hz i hi
        by_cases y : f i = m
        · rw [if_pos y]; omega
        · rw [if_neg y]; omega)
      refine ⟨i, j, hij, by omega, ?_⟩
      have h1 := hz i (by omega)
      have h2 := hz j (by omega)
      by_cases y : f i = m
      · by_cases x : f j = m
        · rw [y, x]
        · rw [if_pos y, if_neg x] at e
          exact absurd e.symm h2
      · by_cases x : f j = m
        · rw [if_neg y, if_pos x] at e
          exact absurd e h1
        · rw [if_neg y, if_neg x] at e
          exact e
section
variable {W C : Nat → Nat} {P : Nat → Nat → Nat} {w : Nat → Nat → Int32} {m ce ta wi ck co : Nat → Int32}
theorem sh_room (G : sh_G W P ta wi co) {d : Nat} (hd : d < 5) : ∃ r, r < 12 ∧ ta (d * 12 + r) = 0 := by
  apply Classical.byContradiction
  intro hn
  have h1 : ∀ r, ∃ e, r < 12 → ∃ c, sh_L W e c ∧ P e c = d * 12 + r := by
    intro r
    by_cases hr : r < 12
    · have hz : ¬ ta (d * 12 + r) = 0 := fun z => hn ⟨r, hr, z⟩
      obtain ⟨e, c, h⟩ := G.2.2.2.2 (d * 12 + r) (by omega) hz
      exact ⟨e, fun _ => ⟨c, h⟩⟩
    · exact ⟨0, fun z => absurd z hr⟩
  obtain ⟨f, hf⟩ := Classical.axiomOfChoice h1
  obtain ⟨i, j, hij, hj, e⟩ := sh_pig 8 f (by
    intro i hi
    obtain ⟨c, h, -⟩ := hf i (by omega)
    exact h.1)
  obtain ⟨c, hc, ec⟩ := hf i (by omega)
  obtain ⟨c', hc', ec'⟩ := hf j (by omega)
  rw [← e] at hc' ec'
  have := G.2.2.1 (f i) c c' hc hc' (by rw [ec, ec']; omega)
  rw [this] at ec
  omega
theorem sh_GK (G : sh_G W P ta wi co) {e : Nat} (he : e < 8) (h0 : 0 < W e) : sh_K e (W e) (P e) wi co :=
  ⟨he, (G.1 e he).1, (G.1 e he).2, fun c hc => ⟨(G.2.1 e c ⟨he, h0, hc⟩).1, (G.2.1 e c ⟨he, h0, hc⟩).2.1⟩⟩
theorem sh_GE (G : sh_G W P ta wi co) (D : sh_D W P C w m ce ck) {e : Nat} (he : e < 8) (h0 : 0 < W e) : sh_E e (W e) (P e) (w e) (C e) (m e) ce wi ck co :=
  ⟨sh_GK G he h0, h0, D.2.1 e he h0, fun c hc => D.1 e c ⟨he, h0, hc⟩, fun z => (D.2.2 e he z).2⟩
theorem sh_inj (G : sh_G W P ta wi co) {e c e' c' : Nat} (h : sh_L W e c) (h' : sh_L W e' c') (z : P e c = P e' c') : e = e' ∧ c = c' := by
  have := G.2.2.2.1 e c e' c' h h' z
  subst this
  exact ⟨rfl, G.2.2.1 e c c' h h' (by rw [z])⟩
/-- a damaged column put right -/
theorem sh_D_fix (G : sh_G W P ta wi co) (D : sh_D W P C w m ce ck) {e : Nat} (he : e < 8) (hm : ¬ m e = 0) {x : Int32} (hx : x = sh_T (w e) (W e) (C e)) : sh_D W P C w (upd m e 0) (upd ce (P e (C e)) x) ck := by
  obtain ⟨d1, d2, d3⟩ := D
  obtain ⟨h0, hC⟩ := d3 e he hm
  refine ⟨fun e' c h => ?_, d2, fun e' he' z => ?_⟩
  · by_cases y : e' = e
    · subst y
      rw [pk_us, sh_dl_0, sh_x0]
      by_cases q : c = C e'
      · rw [q, pk_us, hx]
      · rw [pk_un (fun z => q (sh_inj G h ⟨he, h0, hC⟩ z).2), d1 e' c h, sh_dl_n q, sh_x0]
    · rw [pk_un y, pk_un (fun z => y (sh_inj G h ⟨he, h0, hC⟩ z).1), d1 e' c h]
  · by_cases y : e' = e
    · subst y
      rw [pk_us] at z
      exact absurd rfl z
    · rw [pk_un y] at z
      exact d3 e' he' z
/-- a column damaged (more) -/
theorem sh_D_dmg (G : sh_G W P ta wi co) (D : sh_D W P C w m ce ck) {e c : Nat} (he : e < 8) (h0 : 0 < W e) (hc : c ≤ W e) (hm : m e = 0 ∨ C e = c) (k : Int32) : sh_D W P (sh_up C e c) w (upd m e (m e ^^^ k)) (upd ce (P e c) (ce (P e c) ^^^ k)) ck := by
  obtain ⟨d1, d2, d3⟩ := D
  refine ⟨fun e' c' h => ?_, d2, fun e' he' z => ?_⟩
  · by_cases y : e' = e
    · subst y
      rw [pk_us, sh_us]
      by_cases q : c' = c
      · subst q
        rw [pk_us, d1 e' c' h, sh_dl_s, sh_xa]
        rcases hm with hm | hm
        · rw [hm, sh_dl_0]
        · rw [hm, sh_dl_s]
      · rw [pk_un (fun z => q (sh_inj G h ⟨he, h0, hc⟩ z).2), d1 e' c' h, sh_dl_n q]
        rcases hm with hm | hm
        · rw [hm, sh_dl_0]
        · rw [hm, sh_dl_n q]
    · rw [pk_un y, sh_uq y, pk_un (fun z => y (sh_inj G h ⟨he, h0, hc⟩ z).1), d1 e' c' h]
  · by_cases y : e' = e
    · subst y
      rw [sh_us]
      exact ⟨h0, hc⟩
    · rw [pk_un y] at z
      rw [sh_uq y]
      exact d3 e' he' z
/-- an extent is given up -/
theorem sh_G_free (G : sh_G W P ta wi co) {e : Nat} (he : e < 8) (h0 : 0 < W e) {ta' : Nat → Int32} (h1 : ∀ c, c ≤ W e → ta' (P e c) = 0) (h2 : ∀ q, (∀ c, c ≤ W e → P e c ≠ q) → ta' q = ta q) : sh_G (sh_up W e 0) P ta' (upd wi e 0) co := by
  obtain ⟨g1, g2, g3, g4, g5⟩ := G
  have hL : ∀ e' c, sh_L (sh_up W e 0) e' c → e' ≠ e ∧ sh_L W e' c := by
    intro e' c h
    obtain ⟨a, b, d⟩ := h
    by_cases y : e' = e
    · rw [y, sh_us] at b
      omega
    · rw [sh_uq y] at b d
      exact ⟨y, a, b, d⟩
  refine ⟨fun x hx => ?_, fun x c h => ?_, fun x c c' h h' => ?_, fun x c x' c' h h' => ?_, fun q hq hz => ?_⟩
  · by_cases y : x = e
    · rw [y, sh_us, pk_us]
      exact ⟨by omega, rfl⟩
    · rw [sh_uq y, pk_un y]
      exact g1 x hx
  · obtain ⟨y, h⟩ := hL x c h
    obtain ⟨a, b, d⟩ := g2 x c h
    refine ⟨a, b, ?_⟩
    rw [h2 _ (fun c' hc' z => y (g4 e c' x c ⟨he, h0, hc'⟩ h z).symm)]
    exact d
  · exact g3 x c c' (hL x c h).2 (hL x c' h').2
  · exact g4 x c x' c' (hL x c h).2 (hL x' c' h').2
  · have hne : ∀ c, c ≤ W e → P e c ≠ q := fun c hc z => hz (by rw [← z]; exact h1 c hc)
    rw [h2 q hne] at hz
    obtain ⟨x, c, h, hp⟩ := g5 q hq hz
    have y : x ≠ e := fun z => hne c (by rw [← z]; exact h.2.2) (by rw [← z]; exact hp)
    refine ⟨x, c, ⟨h.1, ?_, ?_⟩, hp⟩
    · rw [sh_uq y]; exact h.2.1
    · rw [sh_uq y]; exact h.2.2
theorem sh_D_free (D : sh_D W P C w m ce ck) {e : Nat} {w' : Nat → Nat → Int32} (hw : ∀ x, x < 8 → x ≠ e → ∀ i, i < W x → w' x i = w x i) : sh_D (sh_up W e 0) P C w' (upd m e 0) ce ck := by
  obtain ⟨d1, d2, d3⟩ := D
  refine ⟨fun x c h => ?_, fun x hx h => ?_, fun x hx z => ?_⟩
  · obtain ⟨a, b, d⟩ := h
    have y : x ≠ e := fun y => by rw [y, sh_us] at b; omega
    rw [sh_uq y] at b d ⊢
    rw [pk_un y, sh_T_cg (hw x a y) c]
    exact d1 x c ⟨a, b, d⟩
  · have y : x ≠ e := fun y => by rw [y, sh_us] at h; omega
    rw [sh_uq y] at h ⊢
    rw [sh_chk_cg _ (hw x hx y)]
    exact d2 x hx h
  · have y : x ≠ e := fun y => by rw [y, pk_us] at z; exact z rfl
    rw [pk_un y] at z
    rw [sh_uq y]
    exact d3 x hx z
/-- a new stripe stands for the extent -/
theorem sh_G_place (G : sh_G W P ta wi co) {e n : Nat} {Q : Nat → Nat} {ta' wi' co' : Nat → Int32} (he : e < 8) (hn0 : 0 < n) (hn : n ≤ 4) (q1 : ∀ i, i ≤ n → Q i < 60 ∧ ta (Q i) = 0) (q2 : ∀ i j, i ≤ n → j ≤ n → Q i / 12 = Q j / 12 → i = j) (M : sh_M n (W e) Q (P e) ta ta') (hw : wi' e = nI n) (hw' : ∀ x, x ≠ e → wi' x = wi x) (hc : ∀ i, i ≤ n → co' (e * 5 + i) = nI (Q i)) (hc' : ∀ j, (∀ i, i ≤ n → e * 5 + i ≠ j) → co' j = co j) : sh_G (sh_up W e n) (sh_up P e Q) ta' wi' co' := by
  obtain ⟨g1, g2, g3, g4, g5⟩ := G
  obtain ⟨ta1, m1, m2, m3, m4⟩ := M
  have hL : ∀ x c, x ≠ e → sh_L (sh_up W e n) x c → sh_L W x c := by
    intro x c y h
    obtain ⟨a, b, d⟩ := h
    rw [sh_uq y] at b d
    exact ⟨a, b, d⟩
  have hLe : ∀ c, sh_L (sh_up W e n) e c → c ≤ n := by
    intro c h
    have := h.2.2
    rw [sh_us] at this
    exact this
  have hQP : ∀ i x c, i ≤ n → sh_L W x c → Q i ≠ P x c := by
    intro i x c hi h z
    apply (g2 x c h).2.2
    rw [← z]
    exact (q1 i hi).2
  refine ⟨fun x hx => ?_, fun x c h => ?_, fun x c c' h h' => ?_, fun x c x' c' h h' => ?_, fun q hq hz => ?_⟩
  · by_cases y : x = e
    · rw [y, sh_us, hw]
      exact ⟨hn, rfl⟩
    · rw [sh_uq y, hw' x y]
      exact g1 x hx
  · by_cases y : x = e
    · subst y
      have hcn := hLe c h
      rw [sh_us]
      refine ⟨(q1 c hcn).1, hc c hcn, ?_⟩
      rw [m4 _ (fun h0 c' hc'' z => hQP c x c' hcn ⟨he, h0, hc''⟩ z.symm)]
      exact m1 c hcn
    · have h := hL x c y h
      obtain ⟨a, b, d⟩ := g2 x c h
      rw [sh_uq y]
      refine ⟨a, ?_, ?_⟩
      · rw [hc' _ (fun i hi z => ?_)]
        · exact b
        · have := h.2.2
          have := (g1 x h.1).1
          omega
      · rw [m4 _ (fun h0 c' hc'' z => y (g4 e c' x c ⟨he, h0, hc''⟩ h z).symm), m2 _ (fun i hi => hQP i x c hi h)]
        exact d
  · by_cases y : x = e
    · subst y
      rw [sh_us]
      exact q2 c c' (hLe c h) (hLe c' h')
    · rw [sh_uq y]
      exact g3 x c c' (hL x c y h) (hL x c' y h')
  · by_cases y : x = e
    · by_cases y' : x' = e
      · intro _
        rw [y, y']
      · subst y
        rw [sh_us, sh_uq y']
        intro z
        exact absurd z (hQP c x' c' (hLe c h) (hL x' c' y' h'))
    · by_cases y' : x' = e
      · subst y'
        rw [sh_us, sh_uq y]
        intro z
        exact absurd z.symm (hQP c' x c (hLe c' h') (hL x c y h))
      · rw [sh_uq y, sh_uq y']
        exact g4 x c x' c' (hL x c y h) (hL x' c' y' h')
  · by_cases y : ∃ i, i ≤ n ∧ Q i = q
    · obtain ⟨i, hi, hqi⟩ := y
      exact ⟨e, i, ⟨he, by rw [sh_us]; exact hn0, by rw [sh_us]; exact hi⟩, by rw [sh_us]; exact hqi⟩
    · have hne : ∀ i, i ≤ n → Q i ≠ q := fun i hi z => y ⟨i, hi, z⟩
      have hold : 0 < W e → ∀ c, c ≤ W e → P e c ≠ q := fun h0 c hcc z => hz (by rw [← z]; exact m3 h0 c hcc)
      rw [m4 q hold, m2 q hne] at hz
      obtain ⟨x, c, h, hp⟩ := g5 q hq hz
      have yx : x ≠ e := by
        intro z
        subst z
        exact hold h.2.1 c h.2.2 hp
      refine ⟨x, c, ⟨h.1, ?_, ?_⟩, ?_⟩
      · rw [sh_uq yx]; exact h.2.1
      · rw [sh_uq yx]; exact h.2.2
      · rw [sh_uq yx]; exact hp
theorem sh_D_place (G : sh_G W P ta wi co) (D : sh_D W P C w m ce ck) {e n : Nat} {Q : Nat → Nat} {wo ce' : Nat → Int32} {w' : Nat → Nat → Int32} (q1 : ∀ i, i ≤ n → Q i < 60 ∧ ta (Q i) = 0) (h1 : ∀ i, i ≤ n → ce' (Q i) = sh_T wo n i) (h2 : ∀ q, (∀ i, i ≤ n → Q i ≠ q) → ce' q = ce q) (hw : ∀ x, x < 8 → x ≠ e → ∀ i, i < W x → w' x i = w x i) (hwe : ∀ i, i < n → w' e i = wo i) : sh_D (sh_up W e n) (sh_up P e Q) C w' (upd m e 0) ce' (upd ck e (sh_chk wo n)) := by
  obtain ⟨d1, d2, d3⟩ := D
  refine ⟨fun x c h => ?_, fun x hx h => ?_, fun x hx z => ?_⟩
  · by_cases y : x = e
    · subst y
      obtain ⟨a, b, d⟩ := h
      rw [sh_us] at d
      rw [sh_us, sh_us, pk_us, sh_dl_0, sh_x0, h1 c d]
      exact (sh_T_cg hwe c).symm
    · obtain ⟨a, b, d⟩ := h
      rw [sh_uq y] at b d
      have hL : sh_L W x c := ⟨a, b, d⟩
      rw [sh_uq y, sh_uq y, pk_un y, sh_T_cg (hw x a y) c, ← d1 x c hL]
      apply h2
      intro i hi z
      apply (G.2.1 x c hL).2.2
      rw [← z]
      exact (q1 i hi).2
  · by_cases y : x = e
    · subst y
      rw [sh_us, pk_us]
      exact (sh_chk_cg n hwe).symm
    · rw [sh_uq y] at h ⊢
      rw [pk_un y, d2 x hx h]
      exact (sh_chk_cg _ (hw x hx y)).symm
  · have y : x ≠ e := fun y => by rw [y, pk_us] at z; exact z rfl
    rw [pk_un y] at z
    rw [sh_uq y]
    exact d3 x hx z
end
end
section
/-! X's calls over sh_G and sh_D -/
theorem sh_ix (v : Int32) : (v < 0 ∨ ¬ v < 8) ∨ ∃ e, e < 8 ∧ v = nI e := by
  rcases pk_ix v (n := 8) (by decide) with h | h | h
  · exact Or.inl (Or.inl h)
  · exact Or.inl (Or.inr (Int32.not_lt.mpr h))
  · exact Or.inr h
theorem sh_lt8 {e : Nat} (he : e < 8) : nI e < 8 := nI_lt (b := 8) he (by decide)
section
variable {tt dd mm : Int32} {ce ta wi ck co dr wo ch : Nat → Int32} {W C : Nat → Nat} {P : Nat → Nat → Nat} {w : Nat → Nat → Int32} {m : Nat → Int32}
theorem wk_bad_t {post : Int32 → Prop} {v : Int32} (h : v < 0 ∨ ¬ v < 8) (H : post 1) : wpX_bad post (tt, dd, mm, ce, ta, wi, ck, co, dr, wo, ch) v := by
  unfold wpX_bad
  dsimp only
  refine br_c (fun _ => H) (fun z => ?_)
  rcases h with h | h
  · exact absurd h z
  · exact br_f h H
theorem wk_bad_f {post : Int32 → Prop} {e : Nat} (he : e < 8) (H : post 0) : wpX_bad post (tt, dd, mm, ce, ta, wi, ck, co, dr, wo, ch) (nI e) :=
  br_f (nI_pos (by omega)) (br_t (sh_lt8 he) H)
theorem wk_place {post : SX → Prop} {t e n : Nat} (ht : t < 5) (he : e < 8) (hn0 : 0 < n) (hn : n ≤ 4) (G : sh_G W P ta wi co) (D : sh_D W P C w m ce ck)
    (H : ∀ (t' : Nat) (Q : Nat → Nat) (ch' : Nat → Int32) (ce' : Nat → Int32) (ta' : Nat → Int32) (wi' : Nat → Int32) (ck' : Nat → Int32) (co' : Nat → Int32), t' < 5 → sh_G (sh_up W e n) (sh_up P e Q) ta' wi' co' → (∀ w' : Nat → Nat → Int32, (∀ x, x < 8 → x ≠ e → ∀ i, i < W x → w' x i = w x i) → (∀ i, i < n → w' e i = wo i) → sh_D (sh_up W e n) (sh_up P e Q) C w' (upd m e 0) ce' ck') → post (nI t', dd, mm, ce', ta', wi', ck', co', dr, wo, ch')) :
    wpX_place post (nI t, dd, mm, ce, ta, wi, ck, co, dr, wo, ch) (nI e) (nI n) := by
  refine wk_place0 (p := P e) (n0 := W e) ht he hn (G.1 e he).1 (G.1 e he).2 (fun h0 c hc => ⟨(G.2.1 e c ⟨he, h0, hc⟩).1, (G.2.1 e c ⟨he, h0, hc⟩).2.1⟩) (fun d hd => sh_room G hd) (fun t' Q ch' ce' ta' wi' co' ht' q1 q2 h1 h2 M hw hw' hc hc' => ?_)
  exact H t' Q ch' ce' ta' wi' _ co' ht' (sh_G_place G he hn0 hn q1 q2 M hw hw' hc hc') (fun w' hx hwe => sh_D_place G D q1 h1 h2 hx hwe)
theorem wk_put_l {post : Int32 → SX → Prop} {t e n : Nat} (ht : t < 5) (he : e < 8) (hn0 : 0 < n) (hn : n ≤ 4) (G : sh_G W P ta wi co) (D : sh_D W P C w m ce ck)
    (H : ∀ (t' : Nat) (Q : Nat → Nat) (wo' : Nat → Int32) (ch' : Nat → Int32) (ce' : Nat → Int32) (ta' : Nat → Int32) (wi' : Nat → Int32) (ck' : Nat → Int32) (co' : Nat → Int32), t' < 5 → sh_G (sh_up W e n) (sh_up P e Q) ta' wi' co' → (∀ w' : Nat → Nat → Int32, (∀ x, x < 8 → x ≠ e → ∀ i, i < W x → w' x i = w x i) → (∀ i, i < n → w' e i = dr i) → sh_D (sh_up W e n) (sh_up P e Q) C w' (upd m e 0) ce' ck') → post (nI n) (nI t', 0, mm, ce', ta', wi', ck', co', dr, wo', ch')) :
    ∀ (k i f : Nat) (wo : Nat → Int32), i + k = n → k < f → (∀ j, j < i → wo j = dr j) → wX_put_22 post (nI e) (nI t) (nI n) mm f (nI i) ce ta wi ck co dr wo ch := by
  intro k
  induction k with
  | zero =>
    intro i f wo hi hf h
    obtain ⟨f, rfl⟩ := sh_pr f (by omega)
    obtain rfl : i = n := by omega
    refine br_t (nI_le (Nat.le_refl _) (by omega)) (wk_place ht he hn0 hn G D (fun t' Q ch' ce' ta' wi' ck' co' ht' G' D' => ?_))
    exact H t' Q wo ch' ce' ta' wi' ck' co' ht' G' (fun w' hx hwe => D' w' hx (fun j hj => by rw [hwe j hj, h j hj]))
  | succ k ih =>
    intro i f wo hi hf h
    obtain ⟨f, rfl⟩ := sh_pr f (by omega)
    refine br_f (nI_ge (by omega) (by omega)) ⟨pk_in i 4 (by omega), pk_in i 4 (by omega), nm_e (nm_r (nI_1 i) (ih (i + 1) f _ (by omega) (by omega) (fun j hj => ?_)))⟩
    rw [nI_clamp (by omega : i < 2 ^ 31)]
    by_cases y : j = i
    · rw [y, pk_us]
    · rw [pk_un y]
      exact h j (by omega)
/-- the marks of m below i are gone -/
def sh_z (i : Nat) (m : Nat → Int32) : Nat → Int32 := fun x => if x < i then 0 else m x
theorem sh_z_lt {i x : Nat} (h : x < i) : sh_z i m x = 0 := if_pos h
theorem sh_z_ge {i x : Nat} (h : ¬ x < i) : sh_z i m x = m x := if_neg h
theorem sh_z_0 : sh_z 0 m = m := by
  funext x
  exact sh_z_ge (by omega)
theorem sh_z_s {i : Nat} : upd (sh_z i m) i 0 = sh_z (i + 1) m := by
  funext x
  by_cases y : x = i
  · rw [y, pk_us, sh_z_lt (by omega)]
  · rw [pk_un y]
    by_cases z : x < i
    · rw [sh_z_lt z, sh_z_lt (by omega)]
    · rw [sh_z_ge z, sh_z_ge (by omega)]
theorem sh_upd0 {a : Nat → Int32} {e : Nat} (h : a e = 0) : upd a e 0 = a := by
  funext x
  by_cases y : x = e
  · rw [y, pk_us, h]
  · rw [pk_un y]
/-- how many marks below n -/
def sh_cn (m : Nat → Int32) : Nat → Nat
  | 0 => 0
  | n + 1 => if m n = 0 then sh_cn m n else sh_cn m n + 1
theorem sh_cn_t {n : Nat} (h : m n = 0) : sh_cn m (n + 1) = sh_cn m n := if_pos h
theorem sh_cn_f {n : Nat} (h : ¬ m n = 0) : sh_cn m (n + 1) = sh_cn m n + 1 := if_neg h
theorem sh_cn_le : ∀ n, sh_cn m n ≤ n := by
  intro n
  induction n with
  | zero => exact Nat.le_refl 0
  | succ n ih =>
    by_cases h : m n = 0
    · rw [sh_cn_t h]; omega
    · rw [sh_cn_f h]; omega
theorem sh_cn_0 : ∀ n, sh_cn m n = 0 → ∀ x, x < n → m x = 0 := by
  intro n
  induction n with
  | zero => exact fun _ x hx => absurd hx (by omega)
  | succ n ih =>
    intro h x hx
    by_cases y : m n = 0
    · rw [sh_cn_t y] at h
      by_cases z : x = n
      · rw [z]; exact y
      · exact ih h x (by omega)
    · rw [sh_cn_f y] at h
      omega
theorem sh_neg5 {n : Nat} (h : n < 2 ^ 31) : ¬ (-5 : Int32) = nI n := by
  intro e
  have := nI_pos h
  rw [← e] at this
  exact this (by decide)
theorem wk_scrubOne {post : SX → Prop} {e : Nat} (G : sh_G W P ta wi co) (D : sh_D W P C w m ce ck) (he : e < 8) (h0 : 0 < W e)
    (H0 : m e = 0 → ∀ (wo' : Nat → Int32), post (tt, dd, mm, ce, ta, wi, ck, co, dr, wo', ch)) (H : ¬ m e = 0 → ∀ (wo' : Nat → Int32) (ce' : Nat → Int32), sh_D W P C w (upd m e 0) ce' ck → post (tt, dd, mm + 1, ce', ta, wi, ck, co, dr, wo', ch)) : wpX_scrubOne post (tt, dd, mm, ce, ta, wi, ck, co, dr, wo, ch) (nI e) := by
  have E := sh_GE G D he h0
  obtain ⟨hW4, hwi⟩ := G.1 e he
  unfold wpX_scrubOne
  dsimp only
  refine wk_faulty E (fun wo' hwo => ?_)
  dsimp only
  refine ⟨vp_in_nI he (by omega), ?_⟩
  rw [nI_clamp (by omega : e < 2 ^ 31), hwi]
  by_cases z : m e = 0
  · have er : sh_fa (C e) (m e) = -5 := if_pos z
    rw [er]
    refine br_f (sh_neg5 (by omega)) ?_
    unfold wpX_mendData
    exact br_t (by decide) (H0 z wo')
  · have er : sh_fa (C e) (m e) = nI (C e) := if_neg z
    obtain ⟨-, hC⟩ := D.2.2 e he z
    obtain ⟨hp, hco, -⟩ := G.2.1 e (C e) ⟨he, h0, hC⟩
    rw [er]
    refine pk_eq (C e) (W e) (fun y => ⟨sh_v5 he (by omega), ?_⟩) (fun y => ?_)
    · refine wk_rebuilt (sh_GK G he h0) hC ?_
      rw [sh_c5 he (by omega), hco]
      refine ⟨vp_in_nI hp (by omega), nm_e (nm_e (H z wo' _ ?_))⟩
      rw [nI_clamp (by omega : P e (C e) < 2 ^ 31)]
      refine sh_D_fix G D he z ?_
      rw [sh_rbE E hC, if_pos rfl, sh_x0]
    · unfold wpX_mendData
      refine br_f (nI_pos (by omega)) ⟨sh_v5 he (by omega), pk_in (C e) 4 (by omega), ?_⟩
      rw [sh_c5 he (by omega), hco]
      refine ⟨vp_in_nI hp (by omega), nm_e (nm_e (H z wo' _ ?_))⟩
      rw [nI_clamp (by omega : P e (C e) < 2 ^ 31), nI_clamp (by omega : C e < 2 ^ 31)]
      refine sh_D_fix G D he z ?_
      rw [hwo (C e) (by omega), sh_T_lt (by omega)]
theorem wk_scrub_l {post : Int32 → SX → Prop} {x1 : Int32} (G : sh_G W P ta wi co) (hm : ∀ e, e < 8 → ¬ m e = 0 → 0 < W e)
    (H : ∀ (wo' : Nat → Int32) (ce' : Nat → Int32), sh_D W P C w (sh_z 8 m) ce' ck → post (mm + nI (sh_cn m 8) - x1) (tt, dd, mm + nI (sh_cn m 8), ce', ta, wi, ck, co, dr, wo', ch)) :
    ∀ (k i f : Nat) (wo ce : Nat → Int32), i + k = 8 → k < f → sh_D W P C w (sh_z i m) ce ck → wX_scrub_7 post x1 f (nI i) tt dd (mm + nI (sh_cn m i)) ce ta wi ck co dr wo ch := by
  intro k
  induction k with
  | zero =>
    intro i f wo ce hi hf D
    obtain ⟨f, rfl⟩ := sh_pr f (by omega)
    obtain rfl : i = 8 := by omega
    exact br_t (nI_le (a := 8) (by omega) (by omega)) (H wo ce D)
  | succ k ih =>
    intro i f wo ce hi hf D
    obtain ⟨f, rfl⟩ := sh_pr f (by omega)
    have hzi : sh_z i m i = m i := sh_z_ge (by omega)
    refine br_f (nI_ge (b := 8) (by omega) (by decide)) ⟨vp_in_nI (by omega) (by omega), ?_⟩
    rw [nI_clamp (by omega : i < 2 ^ 31), (G.1 i (by omega)).2]
    have hW := (G.1 i (by omega)).1
    refine pk_le (W i) 0 (fun y => ?_) (fun y => ?_)
    · have z : m i = 0 := by
        apply Classical.byContradiction
        intro z
        have := hm i (by omega) z
        omega
      refine nm_r (nI_1 i) ?_
      have D' : sh_D W P C w (sh_z (i + 1) m) ce ck := by
        rw [← sh_z_s, sh_upd0 (by rw [hzi, z])]
        exact D
      have := ih (i + 1) f wo ce (by omega) (by omega) D'
      rw [sh_cn_t z] at this
      exact this
    · refine wk_scrubOne G D (by omega) y (fun z wo' => ?_) (fun z wo' ce' D' => ?_)
      · rw [hzi] at z
        refine nm_r (nI_1 i) ?_
        have D' : sh_D W P C w (sh_z (i + 1) m) ce ck := by
          rw [← sh_z_s, sh_upd0 (by rw [hzi, z])]
          exact D
        have := ih (i + 1) f wo' ce (by omega) (by omega) D'
        rw [sh_cn_t z] at this
        exact this
      · rw [hzi] at z
        rw [sh_z_s] at D'
        refine nm_r (nI_1 i) ?_
        have := ih (i + 1) f wo' ce' (by omega) (by omega) D'
        rw [sh_cn_f z, ← nI_1 (sh_cn m i), ← Int32.add_assoc] at this
        exact this
theorem wk_scrub {post : Int32 → SX → Prop} (G : sh_G W P ta wi co) (D : sh_D W P C w m ce ck)
    (H : ∀ (wo' : Nat → Int32) (ce' : Nat → Int32), sh_D W P C w (sh_z 8 m) ce' ck → post (nI (sh_cn m 8)) (tt, dd, mm + nI (sh_cn m 8), ce', ta, wi, ck, co, dr, wo', ch)) : wpX_scrub post (tt, dd, mm, ce, ta, wi, ck, co, dr, wo, ch) := by
  refine Exists.intro 9 ?_
  have e0 : mm + nI (sh_cn m 0) = mm := Int32.add_zero mm
  have := wk_scrub_l (post := post) (x1 := mm) (mm := mm) (tt := tt) (dd := dd) (dr := dr) (ch := ch) G (fun e he z => (D.2.2 e he z).1) (fun wo' ce' D' => by
    have e1 : mm + nI (sh_cn m 8) - mm = nI (sh_cn m 8) := by rw [Int32.add_comm, Int32.add_sub_cancel]
    rw [e1]
    exact H wo' ce' D') 8 0 9 wo ce (by omega) (by omega) (by rw [sh_z_0]; exact D)
  rw [e0] at this
  exact this
/-- is any extent below i damaged -/
def sh_an (m : Nat → Int32) (i : Nat) : Int32 := if sh_cn m i = 0 then 0 else 1
theorem sh_an_t {i : Nat} (h : m i = 0) : sh_an m (i + 1) = sh_an m i := by
  unfold sh_an
  rw [sh_cn_t h]
theorem sh_an_f {i : Nat} (h : ¬ m i = 0) : sh_an m (i + 1) = 1 := by
  unfold sh_an
  rw [sh_cn_f h]
  exact if_neg (by omega)
theorem wk_any_l {post : Int32 → SX → Prop} (G : sh_G W P ta wi co) (D : sh_D W P C w m ce ck) (H : ∀ (wo' : Nat → Int32), post (sh_an m 8) (tt, dd, mm, ce, ta, wi, ck, co, dr, wo', ch)) :
    ∀ (k i f : Nat) (wo : Nat → Int32), i + k = 8 → k < f → wX_anyDamaged_4 post f (sh_an m i) (nI i) tt dd mm ce ta wi ck co dr wo ch := by
  intro k
  induction k with
  | zero =>
    intro i f wo hi hf
    obtain ⟨f, rfl⟩ := sh_pr f (by omega)
    obtain rfl : i = 8 := by omega
    refine br_t (nI_le (a := 8) (by omega) (by omega)) ⟨?_, H wo⟩
    by_cases z : sh_cn m 8 = 0
    · have ez : sh_an m 8 = 0 := if_pos z
      rw [ez]; rfl
    · have ez : sh_an m 8 = 1 := if_neg z
      rw [ez]; rfl
  | succ k ih =>
    intro i f wo hi hf
    obtain ⟨f, rfl⟩ := sh_pr f (by omega)
    have ih' := fun wo' => ih (i + 1) f wo' (by omega) (by omega)
    refine br_f (nI_ge (b := 8) (by omega) (by decide)) ⟨vp_in_nI (by omega) (by omega), ?_⟩
    rw [nI_clamp (by omega : i < 2 ^ 31), (G.1 i (by omega)).2]
    have hW := (G.1 i (by omega)).1
    refine pk_le (W i) 0 (fun y => ?_) (fun y => ?_)
    · have z : m i = 0 := by
        apply Classical.byContradiction
        intro z
        have := (D.2.2 i (by omega) z).1
        omega
      refine nm_r (nI_1 i) ?_
      have := ih' wo
      rw [sh_an_t z] at this
      exact this
    · refine wk_faulty (sh_GE G D (by omega) y) (fun wo' hwo => ?_)
      dsimp only
      have ih2 := ih' wo'
      by_cases z : m i = 0
      · have er : sh_fa (C i) (m i) = -5 := if_pos z
        rw [er]
        rw [sh_an_t z] at ih2
        refine br_c (fun q => br_t rfl (nm_r (nI_1 i) ?_)) (fun q => nm_r (nI_1 i) ?_)
        · rw [q] at ih2
          exact ih2
        · have q1 : sh_an m i = 1 := if_neg (fun x => q (if_pos x))
          rw [q1] at ih2
          exact ih2
      · have er : sh_fa (C i) (m i) = nI (C i) := if_neg z
        have hC := (D.2.2 i (by omega) z).2
        rw [er]
        rw [sh_an_f z] at ih2
        exact br_c (fun q => br_f (fun x => sh_neg5 (by omega : C i < 2 ^ 31) x.symm) (nm_r (nI_1 i) ih2)) (fun q => nm_r (nI_1 i) ih2)
theorem wk_any {post : Int32 → SX → Prop} (G : sh_G W P ta wi co) (D : sh_D W P C w m ce ck) (H : ∀ (wo' : Nat → Int32), post (sh_an m 8) (tt, dd, mm, ce, ta, wi, ck, co, dr, wo', ch)) : wpX_anyDamaged post (tt, dd, mm, ce, ta, wi, ck, co, dr, wo, ch) :=
  Exists.intro 9 (wk_any_l G D H 8 0 9 wo (by omega) (by omega))
/-- while disk d is supplied again: right are the extents below i, the columns below j of extent i, and all other disks -/
def sh_H (W : Nat → Nat) (P : Nat → Nat → Nat) (w : Nat → Nat → Int32) (d i j : Nat) (ce : Nat → Int32) : Prop :=
  ∀ e c, sh_L W e c → (e < i ∨ P e c / 12 ≠ d ∨ (e = i ∧ c < j)) → ce (P e c) = sh_T (w e) (W e) c
theorem wk_res_l {post : SX → Prop} {d e : Nat} (hd : d < 5) (he : e < 8) (h0 : 0 < W e) (G : sh_G W P ta wi co) (H : ∀ (ce' : Nat → Int32), sh_H W P w d (e + 1) 0 ce' → post (tt, dd, mm, ce', ta, wi, ck, co, dr, wo, ch)) :
    ∀ (k i f : Nat) (ce : Nat → Int32), i + k = W e + 1 → k < f → sh_H W P w d e i ce → wX_resupply_2 post (nI e) (nI d) tt dd mm f (nI i) ce ta wi ck co dr wo ch := by
  obtain ⟨hW4, hwi⟩ := G.1 e he
  intro k
  induction k with
  | zero =>
    intro i f ce hi hf h
    obtain ⟨f, rfl⟩ := sh_pr f (by omega)
    obtain rfl : i = W e + 1 := by omega
    refine And.intro (vp_in_nI he (by omega)) ?_
    rw [nI_clamp (by omega : e < 2 ^ 31), hwi]
    refine br_t (nI_lt (by omega) (by omega)) (H ce (fun x c hL hx => h x c hL ?_))
    rcases hx with hx | hx | hx
    · by_cases y : x = e
      · exact Or.inr (Or.inr ⟨y, by have := hL.2.2; rw [y] at this; omega⟩)
      · exact Or.inl (by omega)
    · exact Or.inr (Or.inl hx)
    · omega
  | succ k ih =>
    intro i f ce hi hf h
    obtain ⟨f, rfl⟩ := sh_pr f (by omega)
    have hLi : sh_L W e i := ⟨he, h0, by omega⟩
    obtain ⟨hp, hco, -⟩ := G.2.1 e i hLi
    have ed : nI d * 12 = nI (d * 12) := pk_mul d 12
    have ed2 : nI (d * 12) + 12 = nI (d * 12 + 12) := nI_add (d * 12) 12
    refine And.intro (vp_in_nI he (by omega)) ?_
    rw [nI_clamp (by omega : e < 2 ^ 31), hwi]
    have hout : P e i / 12 ≠ d → sh_H W P w d e (i + 1) ce := by
      intro hne x c hL hx
      rcases hx with hx | hx | ⟨hx, hc⟩
      · exact h x c hL (Or.inl hx)
      · exact h x c hL (Or.inr (Or.inl hx))
      · by_cases y : c = i
        · exact h x c hL (Or.inr (Or.inl (by rw [hx, y]; exact hne)))
        · exact h x c hL (Or.inr (Or.inr ⟨hx, by omega⟩))
    refine br_f (nI_nlt (by omega) (by omega)) ⟨sh_v5 he (by omega), nm_r (e' := nI (P e i)) (by rw [sh_c5 he (by omega), hco]) ?_⟩
    rw [ed, ed2]
    refine pk_lt (P e i) (d * 12) (fun y => nm_r (nI_1 i) (ih (i + 1) f ce (by omega) (by omega) (hout (by omega)))) (fun y => ?_)
    refine pk_le (d * 12 + 12) (P e i) (fun y2 => nm_r (nI_1 i) (ih (i + 1) f ce (by omega) (by omega) (hout (by omega)))) (fun y2 => ?_)
    have hdi : P e i / 12 = d := by omega
    refine wk_rebuilt (sh_GK G he h0) (by omega) ⟨vp_in_nI hp (by omega), nm_e (nm_r (nI_1 i) (ih (i + 1) f _ (by omega) (by omega) ?_))⟩
    rw [nI_clamp (by omega : P e i < 2 ^ 31)]
    have hr : sh_rb (fun c => ce (P e c)) i (W e + 1) = sh_T (w e) (W e) i := by
      refine sh_rb_T (by omega) (fun c hc hne => ?_)
      have hLc : sh_L W e c := ⟨he, h0, hc⟩
      refine h e c hLc (Or.inr (Or.inl (fun q => hne ?_)))
      exact G.2.2.1 e c i hLc hLi (by rw [q, hdi])
    rw [hr]
    intro x c hL hx
    by_cases y : P x c = P e i
    · obtain ⟨y1, y2⟩ := sh_inj G hL hLi y
      rw [y1, y2, pk_us]
    · rw [pk_un y]
      refine h x c hL ?_
      rcases hx with hx | hx | ⟨hx, hc⟩
      · exact Or.inl hx
      · exact Or.inr (Or.inl hx)
      · refine Or.inr (Or.inr ⟨hx, ?_⟩)
        have : c ≠ i := fun q => y (by rw [hx, q])
        omega
theorem wk_res {post : SX → Prop} {d e : Nat} (hd : d < 5) (he : e < 8) (h0 : 0 < W e) (G : sh_G W P ta wi co) (h : sh_H W P w d e 0 ce) (H : ∀ (ce' : Nat → Int32), sh_H W P w d (e + 1) 0 ce' → post (tt, dd, mm, ce', ta, wi, ck, co, dr, wo, ch)) : wpX_resupply post (tt, dd, mm, ce, ta, wi, ck, co, dr, wo, ch) (nI e) (nI d) :=
  Exists.intro (W e + 2) (wk_res_l hd he h0 G H (W e + 1) 0 (W e + 2) ce (by omega) (by omega) h)
theorem wk_lose53 {post : Int32 → SX → Prop} {d : Nat} (hd : d < 5) (G : sh_G W P ta wi co) (H : ∀ (ce' : Nat → Int32), (∀ e c, sh_L W e c → ce' (P e c) = sh_T (w e) (W e) c) → post 0 (tt, dd, mm, ce', ta, wi, ck, co, dr, wo, ch)) :
    ∀ (k i f : Nat) (ce : Nat → Int32), i + k = 8 → k < f → sh_H W P w d i 0 ce → wX_lose_53 post (nI d) f (nI i) tt dd mm ce ta wi ck co dr wo ch := by
  intro k
  induction k with
  | zero =>
    intro i f ce hi hf h
    obtain ⟨f, rfl⟩ := sh_pr f (by omega)
    obtain rfl : i = 8 := by omega
    exact br_t (nI_le (a := 8) (by omega) (by omega)) (H ce (fun e c hL => h e c hL (Or.inl hL.1)))
  | succ k ih =>
    intro i f ce hi hf h
    obtain ⟨f, rfl⟩ := sh_pr f (by omega)
    refine br_f (nI_ge (b := 8) (by omega) (by decide)) ⟨vp_in_nI (by omega) (by omega), ?_⟩
    rw [nI_clamp (by omega : i < 2 ^ 31), (G.1 i (by omega)).2]
    have hW := (G.1 i (by omega)).1
    refine pk_le (W i) 0 (fun y => nm_r (nI_1 i) (ih (i + 1) f ce (by omega) (by omega) ?_)) (fun y => ?_)
    · intro x c hL hx
      refine h x c hL ?_
      rcases hx with hx | hx | hx
      · by_cases z : x = i
        · have := hL.2.1
          rw [z] at this
          omega
        · exact Or.inl (by omega)
      · exact Or.inr (Or.inl hx)
      · omega
    · exact wk_res hd (by omega) y G h (fun ce' h' => nm_r (nI_1 i) (ih (i + 1) f ce' (by omega) (by omega) h'))
theorem wk_lose25 {post : Int32 → SX → Prop} {d : Nat} (hd : d < 5) (G : sh_G W P ta wi co) (hT : ∀ e c, sh_L W e c → ce (P e c) = sh_T (w e) (W e) c) (H : ∀ (ce' : Nat → Int32), (∀ e c, sh_L W e c → ce' (P e c) = sh_T (w e) (W e) c) → post 0 (tt, dd, mm, ce', ta, wi, ck, co, dr, wo, ch)) :
    ∀ (k i f : Nat) (ce' : Nat → Int32), i + k = 12 → k < f → (∀ q, q / 12 ≠ d → ce' q = ce q) → wX_lose_25 post (nI d) tt dd mm f (nI i) ce' ta wi ck co dr wo ch := by
  intro k
  induction k with
  | zero =>
    intro i f ce' hi hf h
    obtain ⟨f, rfl⟩ := sh_pr f (by omega)
    obtain rfl : i = 12 := by omega
    refine br_t (nI_le (a := 12) (by omega) (by omega)) (Exists.intro 9 (wk_lose53 hd G H 8 0 9 ce' (by omega) (by omega) ?_))
    intro e c hL hx
    rcases hx with hx | hx | hx
    · omega
    · rw [h _ hx]; exact hT e c hL
    · omega
  | succ k ih =>
    intro i f ce' hi hf h
    obtain ⟨f, rfl⟩ := sh_pr f (by omega)
    refine br_f (nI_ge (b := 12) (by omega) (by decide)) ⟨sh_v12 hd (by omega), nm_e (nm_r (nI_1 i) (ih (i + 1) f _ (by omega) (by omega) (fun q hq => ?_)))⟩
    rw [sh_c12 hd (by omega), pk_un (by omega)]
    exact h q hq
/-- the sum that digest reckons -/
def sh_dg (f : Nat → Int32) : Nat → Int32
  | 0 => 0
  | n + 1 => sh_dg f n + (nI n + 1) * f n
theorem sh_dg_cg {a b : Nat → Int32} : ∀ n, (∀ i, i < n → a i = b i) → sh_dg a n = sh_dg b n := by
  intro n
  induction n with
  | zero => exact fun _ => rfl
  | succ n ih =>
    intro h
    show sh_dg a n + (nI n + 1) * a n = sh_dg b n + (nI n + 1) * b n
    rw [ih (fun i hi => h i (by omega)), h n (by omega)]
theorem wk_dig_l {post : Int32 → SX → Prop} {e n : Nat} (he : e < 8) (hn : n ≤ 4) (hw : wi e = nI n) (H : post (sh_dg wo n) (tt, dd, mm, ce, ta, wi, ck, co, dr, wo, ch)) : ∀ k i f, i + k = n → k < f → wX_digest_29 post (nI e) tt dd mm ce ta wi ck co dr wo ch f (sh_dg wo i) (nI i) := by
  intro k
  induction k with
  | zero =>
    intro i f hi hf
    obtain ⟨f, rfl⟩ := sh_pr f (by omega)
    obtain rfl : i = n := by omega
    refine And.intro (vp_in_nI he (by omega)) ?_
    rw [nI_clamp (by omega : e < 2 ^ 31), hw]
    exact br_t (nI_le (Nat.le_refl _) (by omega)) H
  | succ k ih =>
    intro i f hi hf
    obtain ⟨f, rfl⟩ := sh_pr f (by omega)
    refine And.intro (vp_in_nI he (by omega)) ?_
    rw [nI_clamp (by omega : e < 2 ^ 31), hw]
    refine br_f (nI_ge (by omega) (by omega)) ⟨pk_in i 4 (by omega), nm_r ?_ (nm_r (nI_1 i) (ih (i + 1) f (by omega) (by omega)))⟩
    rw [nI_clamp (by omega : i < 2 ^ 31)]; rfl
end
end
section
/-! the model's loops -/
def sh_w (vw : Nat → Int32) : Nat → Nat → Int32 := fun e i => vw (4 * e + i)
section
variable {dd mm : Int32} {dr vw vs vc vm : Nat → Int32}
theorem wy_ext_t {post : Int32 → Prop} {e : Nat} (he : e < 8) (H : post 1) : wpY_isExtent post (dd, mm, dr, vw, vs, vc, vm) (nI e) :=
  br_f (nI_pos (by omega)) (br_f (nI_nlt (b := e) (a := 7) (by omega) (by omega)) H)
theorem wy_ext_f {post : Int32 → Prop} {v : Int32} (h : v < 0 ∨ ¬ v < 8) (H : post 0) : wpY_isExtent post (dd, mm, dr, vw, vs, vc, vm) v := by
  unfold wpY_isExtent
  dsimp only
  refine br_c (fun _ => H) (fun z => ?_)
  rcases h with h | h
  · exact absurd h z
  · refine br_t ?_ H
    have h7 : (7 : Int32).toInt = 7 := by decide
    have h8 : (8 : Int32).toInt = 8 := by decide
    rw [Int32.lt_iff_toInt_lt, h8] at h
    rw [Int32.lt_iff_toInt_lt, h7]
    omega
theorem wy_put_l {post : Int32 → SY → Prop} {e n : Nat} (he : e < 8) (hn : n ≤ 4) (H : ∀ (vw' : Nat → Int32), (∀ i, i < n → vw' (4 * e + i) = dr i) → (∀ j, (∀ i, i < n → 4 * e + i ≠ j) → vw' j = vw j) → post (nI n) (0, mm, dr, vw', upd vs e (nI n), vc, upd vm e 0)) :
    ∀ (k i f : Nat) (vw' : Nat → Int32), i + k = n → k < f → (∀ j, j < i → vw' (4 * e + j) = dr j) → (∀ j, (∀ i, i < n → 4 * e + i ≠ j) → vw' j = vw j) → wY_put_22 post (nI e) (nI n) mm f (nI i) dr vw' vs vc vm := by
  intro k
  induction k with
  | zero =>
    intro i f vw' hi hf h1 h2
    obtain ⟨f, rfl⟩ := sh_pr f (by omega)
    obtain rfl : i = n := by omega
    have hv : vp_in (nI e) 8 := vp_in_nI he (by omega)
    refine br_t (nI_le (Nat.le_refl _) (by omega)) ⟨hv, nm_e ⟨hv, nm_e ⟨hv, ?_⟩⟩⟩
    rw [nI_clamp (by omega : e < 2 ^ 31), pk_us]
    exact H vw' h1 h2
  | succ k ih =>
    intro i f vw' hi hf h1 h2
    obtain ⟨f, rfl⟩ := sh_pr f (by omega)
    refine br_f (nI_ge (by omega) (by omega)) ⟨pk_in i 4 (by omega), sh_v4 he (by omega), nm_e (nm_r (nI_1 i) (ih (i + 1) f _ (by omega) (by omega) (fun j hj => ?_) (fun j hj => ?_)))⟩
    · rw [sh_c4 he (by omega), nI_clamp (by omega : i < 2 ^ 31)]
      by_cases y : j = i
      · rw [y, pk_us]
      · rw [pk_un (by omega)]
        exact h1 j (by omega)
    · rw [sh_c4 he (by omega), pk_un (fun z => hj i (by omega) z.symm)]
      exact h2 j hj
theorem wy_cnt_l {post : Int32 → Prop} (H : post (nI (sh_cn vm 8))) : ∀ (k i f : Nat), i + k = 8 → k < f → wY_damagedExtents_4 post dd mm dr vw vs vc vm f (nI (sh_cn vm i)) (nI i) := by
  intro k
  induction k with
  | zero =>
    intro i f hi hf
    obtain ⟨f, rfl⟩ := sh_pr f (by omega)
    obtain rfl : i = 8 := by omega
    exact br_t (nI_le (a := 8) (by omega) (by omega)) H
  | succ k ih =>
    intro i f hi hf
    obtain ⟨f, rfl⟩ := sh_pr f (by omega)
    have ih' := ih (i + 1) f (by omega) (by omega)
    refine br_f (nI_ge (b := 8) (by omega) (by decide)) ⟨vp_in_nI (by omega) (by omega), ?_⟩
    rw [nI_clamp (by omega : i < 2 ^ 31)]
    refine br_c (fun z => nm_r (nI_1 i) ?_) (fun z => nm_r (nI_1 (sh_cn vm i)) (nm_r (nI_1 i) ?_))
    · rw [sh_cn_t z] at ih'
      exact ih'
    · rw [sh_cn_f z] at ih'
      exact ih'
theorem wy_cnt {post : Int32 → Prop} (H : post (nI (sh_cn vm 8))) : wpY_damagedExtents post (dd, mm, dr, vw, vs, vc, vm) :=
  Exists.intro 9 (wy_cnt_l H 8 0 9 (by omega) (by omega))
theorem wy_scrub_l {post : Int32 → SY → Prop} {x1 : Int32} (H : post x1 (dd, mm + x1, dr, vw, vs, vc, sh_z 8 vm)) : ∀ (k i f : Nat), i + k = 8 → k < f → wY_scrub_7 post x1 dd mm f (nI i) dr vw vs vc (sh_z i vm) := by
  intro k
  induction k with
  | zero =>
    intro i f hi hf
    obtain ⟨f, rfl⟩ := sh_pr f (by omega)
    obtain rfl : i = 8 := by omega
    exact br_t (nI_le (a := 8) (by omega) (by omega)) (nm_e H)
  | succ k ih =>
    intro i f hi hf
    obtain ⟨f, rfl⟩ := sh_pr f (by omega)
    refine br_f (nI_ge (b := 8) (by omega) (by decide)) ⟨vp_in_nI (by omega) (by omega), nm_r ?_ (nm_r (nI_1 i) (ih (i + 1) f (by omega) (by omega)))⟩
    rw [nI_clamp (by omega : i < 2 ^ 31), sh_z_s]
theorem wy_scrub {post : Int32 → SY → Prop} (H : post (nI (sh_cn vm 8)) (dd, mm + nI (sh_cn vm 8), dr, vw, vs, vc, sh_z 8 vm)) : wpY_scrub post (dd, mm, dr, vw, vs, vc, vm) := by
  unfold wpY_scrub
  dsimp only
  refine wy_cnt (Exists.intro 9 ?_)
  have := wy_scrub_l (post := post) (dd := dd) (mm := mm) (dr := dr) (vw := vw) (vs := vs) (vc := vc) (vm := vm) H 8 0 9 (by omega) (by omega)
  rw [sh_z_0] at this
  exact this
theorem wy_copy_l {post : Int32 → SY → Prop} {a e : Nat} (ha : a < 8) (he : e < 8) (H : ∀ (vw' : Nat → Int32), (∀ i, i < 4 → vw' (4 * e + i) = vw (4 * a + i)) → (∀ j, (∀ i, i < 4 → 4 * e + i ≠ j) → vw' j = vw j) → post (vs a) (dd, mm, dr, vw', upd vs e (vs a), vc, upd vm e 0)) :
    ∀ (k i f : Nat) (vw' : Nat → Int32), i + k = 4 → k < f → (∀ j, j < i → vw' (4 * e + j) = vw (4 * a + j)) → (∀ j, (∀ l, l < i → 4 * e + l ≠ j) → vw' j = vw j) → wY_copy_32 post (nI a) (nI e) dd mm f (nI i) dr vw' vs vc vm := by
  intro k
  induction k with
  | zero =>
    intro i f vw' hi hf h1 h2
    obtain ⟨f, rfl⟩ := sh_pr f (by omega)
    obtain rfl : i = 4 := by omega
    have hv : vp_in (nI e) 8 := vp_in_nI he (by omega)
    have hva : vp_in (nI a) 8 := vp_in_nI ha (by omega)
    refine br_t (nI_le (a := 4) (by omega) (by omega)) ⟨hva, hv, nm_e ⟨hv, nm_e ⟨hva, ?_⟩⟩⟩
    rw [nI_clamp (by omega : e < 2 ^ 31), nI_clamp (by omega : a < 2 ^ 31)]
    have es : upd vs e (vs a) a = vs a := by
      by_cases y : a = e
      · rw [y, pk_us]
      · rw [pk_un y]
    rw [es]
    exact H vw' h1 h2
  | succ k ih =>
    intro i f vw' hi hf h1 h2
    obtain ⟨f, rfl⟩ := sh_pr f (by omega)
    refine br_f (nI_ge (b := 4) (by omega) (by decide)) ⟨sh_v4 ha (by omega), sh_v4 he (by omega), nm_e (nm_r (nI_1 i) (ih (i + 1) f _ (by omega) (by omega) (fun j hj => ?_) (fun j hj => ?_)))⟩
    · rw [sh_c4 he (by omega), sh_c4 ha (by omega)]
      by_cases y : j = i
      · rw [y, pk_us]
        exact h2 _ (fun l hl => by omega)
      · rw [pk_un (by omega)]
        exact h1 j (by omega)
    · rw [sh_c4 he (by omega), pk_un (fun z => hj i (by omega) z.symm)]
      exact h2 j (fun l hl => hj l (by omega))
theorem wy_dig_l {post : Int32 → Prop} {e n : Nat} (he : e < 8) (hn : n ≤ 4) (hs : vs e = nI n) (H : post (sh_dg (sh_w vw e) n)) : ∀ (k i f : Nat), i + k = n → k < f → wY_digest_14 post (nI e) dd mm dr vw vs vc vm f (sh_dg (sh_w vw e) i) (nI i) := by
  intro k
  induction k with
  | zero =>
    intro i f hi hf
    obtain ⟨f, rfl⟩ := sh_pr f (by omega)
    obtain rfl : i = n := by omega
    refine And.intro (vp_in_nI he (by omega)) ?_
    rw [nI_clamp (by omega : e < 2 ^ 31), hs]
    exact br_t (nI_le (Nat.le_refl _) (by omega)) H
  | succ k ih =>
    intro i f hi hf
    obtain ⟨f, rfl⟩ := sh_pr f (by omega)
    refine And.intro (vp_in_nI he (by omega)) ?_
    rw [nI_clamp (by omega : e < 2 ^ 31), hs]
    refine br_f (nI_ge (by omega) (by omega)) ⟨sh_v4 he (by omega), nm_r ?_ (nm_r (nI_1 i) (ih (i + 1) f (by omega) (by omega)))⟩
    rw [sh_c4 he (by omega)]; rfl
end
end
section
/-! the relation -/
def sh_R (W C : Nat → Nat) (P : Nat → Nat → Nat) (ce ta wi ck co vw vs vc vm : Nat → Int32) : Prop :=
  sh_G W P ta wi co ∧ sh_D W P C (sh_w vw) vm ce ck ∧ (∀ e, e < 8 → vs e = nI (W e)) ∧ (∀ e, e < 8 → ¬ vm e = 0 → vc e = nI (C e))
/-- the relation at the head of a turn: drafts, counts alike; there are widths W, places P, damaged columns C as the model's tables say -/
def i_Rel (_ : Nat) (u : SX) (v : SY) : Prop :=
  ∃ (t n : Nat) (mm : Int32) (ce ta wi ck co dr wo ch vw vs vc vm : Nat → Int32) (W C : Nat → Nat) (P : Nat → Nat → Nat), u = (nI t, nI n, mm, ce, ta, wi, ck, co, dr, wo, ch) ∧ v = (nI n, mm, dr, vw, vs, vc, vm) ∧ t < 5 ∧ n ≤ 4 ∧ sh_R W C P ce ta wi ck co vw vs vc vm
theorem i_up {k : Nat} {u : SX} {v : SY} (h : i_Rel k u v) : i_Rel (k + 4) u v := h
theorem zz_el {Z : SX → SY → Prop} (h : ∀ (t n : Nat) (mm : Int32) (ce ta wi ck co dr wo ch vw vs vc vm : Nat → Int32) (W C : Nat → Nat) (P : Nat → Nat → Nat), t < 5 → n ≤ 4 → sh_R W C P ce ta wi ck co vw vs vc vm → Z (nI t, nI n, mm, ce, ta, wi, ck, co, dr, wo, ch) (nI n, mm, dr, vw, vs, vc, vm)) {k : Nat} {u : SX} {v : SY} (I : i_Rel k u v) : Z u v := by
  obtain ⟨t, n, mm, ce, ta, wi, ck, co, dr, wo, ch, vw, vs, vc, vm, W, C, P, hu, hv, ht, hn, R⟩ := I
  rw [hu, hv]
  exact h t n mm ce ta wi ck co dr wo ch vw vs vc vm W C P ht hn R
theorem zz_in {k t n : Nat} {mm : Int32} {ce ta wi ck co dr wo ch vw vs vc vm : Nat → Int32} {W C : Nat → Nat} {P : Nat → Nat → Nat} (ht : t < 5) (hn : n ≤ 4) (R : sh_R W C P ce ta wi ck co vw vs vc vm) : i_Rel k (nI t, nI n, mm, ce, ta, wi, ck, co, dr, wo, ch) (nI n, mm, dr, vw, vs, vc, vm) :=
  ⟨t, n, mm, ce, ta, wi, ck, co, dr, wo, ch, vw, vs, vc, vm, W, C, P, rfl, rfl, ht, hn, R⟩
theorem i_vc0 : wpX_init (fun u => wpY_init (fun v => i_Rel 0 u v)) := by
  unfold wpX_init wpY_init
  refine zz_in (k := 0) (t := 0) (n := 0) (W := fun _ => 0) (C := fun _ => 0) (P := fun _ _ => 0) (by omega) (by omega) ⟨⟨fun e he => ⟨Nat.zero_le 4, rfl⟩, fun e c h => ?_, fun e c c' h => ?_, fun e c e' c' h => ?_, fun q hq hz => ?_⟩, ⟨fun e c h => ?_, fun e he h => ?_, fun e he h => ?_⟩, fun e he => rfl, fun e he h => ?_⟩
  · exact absurd h.2.1 (Nat.lt_irrefl 0)
  · exact absurd h.2.1 (Nat.lt_irrefl 0)
  · exact absurd h.2.1 (Nat.lt_irrefl 0)
  · exact absurd rfl hz
  · exact absurd h.2.1 (Nat.lt_irrefl 0)
  · exact absurd h (Nat.lt_irrefl 0)
  · exact absurd rfl h
  · exact absurd rfl h
theorem i_vc_draft {k : Nat} {u : SX} {v : SY} (I : i_Rel k u v) (hk : k + 4 ≤ 2048) (v1 : Int32) : wpX_draft (fun r u' => wpY_draft (fun r' v' => r' = r ∧ i_Rel (k + 4) u' v') v v1) u v1 := by
  refine zz_el (Z := fun u v => wpX_draft (fun r u' => wpY_draft (fun r' v' => r' = r ∧ i_Rel (k + 4) u' v') v v1) u v1) ?_ I
  intro t n mm ce ta wi ck co dr wo ch vw vs vc vm W C P ht hn R
  unfold wpX_draft wpY_draft
  dsimp only
  refine pk_eq n 4 (fun z => pk_eq n 4 (fun _ => ⟨rfl, zz_in ht hn R⟩) (fun y => absurd z y)) (fun z => ⟨pk_in n 4 (by omega), nm_e (nm_r (nI_1 n) ?_)⟩)
  refine pk_eq n 4 (fun y => absurd y z) (fun _ => ⟨pk_in n 4 (by omega), nm_e (nm_r (nI_1 n) ⟨rfl, zz_in ht (by omega) R⟩)⟩)
theorem i_vc_scrap {k : Nat} {u : SX} {v : SY} (I : i_Rel k u v) (hk : k + 4 ≤ 2048) : wpX_scrap (fun u' => wpY_scrap (fun v' => i_Rel (k + 4) u' v') v) u := by
  refine zz_el (Z := fun u v => wpX_scrap (fun u' => wpY_scrap (fun v' => i_Rel (k + 4) u' v') v) u) ?_ I
  intro t n mm ce ta wi ck co dr wo ch vw vs vc vm W C P ht hn R
  exact zz_in (k := k + 4) (n := 0) ht (by omega) R
theorem sh_Rput {W C : Nat → Nat} {P : Nat → Nat → Nat} {ce ta wi ck co vw vs vc vm vw' ce' ta' wi' ck' co' : Nat → Int32} {e n : Nat} {Q : Nat → Nat} (R : sh_R W C P ce ta wi ck co vw vs vc vm) (hn : n ≤ 4) (G : sh_G (sh_up W e n) (sh_up P e Q) ta' wi' co') (D : ∀ w' : Nat → Nat → Int32, (∀ x, x < 8 → x ≠ e → ∀ i, i < W x → w' x i = sh_w vw x i) → (∀ i, i < n → w' e i = sh_w vw' e i) → sh_D (sh_up W e n) (sh_up P e Q) C w' (upd vm e 0) ce' ck')
    (h2 : ∀ j, (∀ i, i < 4 → 4 * e + i ≠ j) → vw' j = vw j) : sh_R (sh_up W e n) C (sh_up P e Q) ce' ta' wi' ck' co' vw' (upd vs e (nI n)) vc (upd vm e 0) := by
  obtain ⟨G0, D0, hs, hv⟩ := R
  refine ⟨G, D (sh_w vw') (fun x hx y i hi => h2 _ (fun j hj z => ?_)) (fun i hi => rfl), fun x hx => ?_, fun x hx z => ?_⟩
  · have := (G0.1 x hx).1
    omega
  · by_cases y : x = e
    · rw [y, pk_us, sh_us]
    · rw [pk_un y, sh_uq y]
      exact hs x hx
  · have y : x ≠ e := fun y => by rw [y, pk_us] at z; exact z rfl
    rw [pk_un y] at z
    exact hv x hx z
theorem i_vc_put {k : Nat} {u : SX} {v : SY} (I : i_Rel k u v) (hk : k + 4 ≤ 2048) (v1 : Int32) : wpX_put (fun r u' => wpY_put (fun r' v' => r' = r ∧ i_Rel (k + 4) u' v') v v1) u v1 := by
  refine zz_el (Z := fun u v => wpX_put (fun r u' => wpY_put (fun r' v' => r' = r ∧ i_Rel (k + 4) u' v') v v1) u v1) ?_ I
  intro t n mm ce ta wi ck co dr wo ch vw vs vc vm W C P ht hn R
  unfold wpX_put wpY_put
  dsimp only
  rcases sh_ix v1 with h | ⟨e, he, rfl⟩
  · exact wk_bad_t h (br_f (by decide) (wy_ext_f h (br_t rfl ⟨rfl, zz_in ht hn R⟩)))
  · refine wk_bad_f he (br_t rfl (pk_eq n 0 (fun z => ?_) (fun z => ?_)))
    · exact wy_ext_t he (br_f (by decide) (pk_eq n 0 (fun _ => ⟨rfl, zz_in ht hn R⟩) (fun y => absurd z y)))
    · refine Exists.intro (n + 1) (wk_put_l ht he (by omega) hn R.1 R.2.1 (fun t' Q wo' ch' ce' ta' wi' ck' co' ht' G' D' => ?_) n 0 (n + 1) wo (by omega) (by omega) (fun j hj => absurd hj (by omega)))
      refine wy_ext_t he (br_f (by decide) (pk_eq n 0 (fun y => absurd y z) (fun _ => Exists.intro (n + 1) ?_)))
      refine wy_put_l he hn (fun vw' g1 g2 => ⟨rfl, zz_in (n := 0) ht' (by omega) (sh_Rput R hn G' (fun w' a b => D' w' a (fun i hi => by rw [b i hi]; exact g1 i hi)) (fun j hj => g2 j (fun i hi => hj i (by omega))))⟩) n 0 (n + 1) vw (by omega) (by omega) (fun j hj => absurd hj (by omega)) (fun j _ => rfl)
theorem sh_Rfree {W C : Nat → Nat} {P : Nat → Nat → Nat} {ce ta wi ck co vw vs vc vm vw' ta' wi' : Nat → Int32} {e : Nat} (R : sh_R W C P ce ta wi ck co vw vs vc vm) (G : sh_G (sh_up W e 0) P ta' wi' co)
    (h2 : ∀ j, (∀ i, i < 4 → 4 * e + i ≠ j) → vw' j = vw j) : sh_R (sh_up W e 0) C P ce ta' wi' ck co vw' (upd vs e 0) vc (upd vm e 0) := by
  obtain ⟨G0, D0, hs, hv⟩ := R
  refine ⟨G, sh_D_free D0 (fun x hx y i hi => h2 _ (fun j hj z => ?_)), fun x hx => ?_, fun x hx z => ?_⟩
  · have := (G0.1 x hx).1
    omega
  · by_cases y : x = e
    · rw [y, pk_us, sh_us]; rfl
    · rw [pk_un y, sh_uq y]
      exact hs x hx
  · have y : x ≠ e := fun y => by rw [y, pk_us] at z; exact z rfl
    rw [pk_un y] at z
    exact hv x hx z
theorem sh_up_id {W : Nat → Nat} {e : Nat} (h : W e = 0) : sh_up W e 0 = W := by
  funext x
  by_cases y : x = e
  · rw [y, sh_us, h]
  · rw [sh_uq y]
theorem i_vc_delete {k : Nat} {u : SX} {v : SY} (I : i_Rel k u v) (hk : k + 4 ≤ 2048) (v1 : Int32) : wpX_delete (fun r u' => wpY_delete (fun r' v' => r' = r ∧ i_Rel (k + 4) u' v') v v1) u v1 := by
  refine zz_el (Z := fun u v => wpX_delete (fun r u' => wpY_delete (fun r' v' => r' = r ∧ i_Rel (k + 4) u' v') v v1) u v1) ?_ I
  intro t n mm ce ta wi ck co dr wo ch vw vs vc vm W C P ht hn R
  unfold wpX_delete wpY_delete
  dsimp only
  rcases sh_ix v1 with h | ⟨e, he, rfl⟩
  · exact wk_bad_t h (br_f (by decide) (wy_ext_f h (br_t rfl ⟨rfl, zz_in ht hn R⟩)))
  · have hve : vp_in (nI e) 8 := vp_in_nI he (by omega)
    obtain ⟨hW4, hwi⟩ := R.1.1 e he
    have hs := R.2.2.1 e he
    refine wk_bad_f he (br_t rfl ⟨hve, ?_⟩)
    rw [nI_clamp (by omega : e < 2 ^ 31), hwi, hs]
    refine pk_eq (W e) 0 (fun z => ?_) (fun z => ⟨hve, nm_e ?_⟩)
    · exact wy_ext_t he (br_f (by decide) ⟨hve, pk_eq (W e) 0 (fun _ => ⟨rfl, zz_in ht hn R⟩) (fun y => absurd z y)⟩)
    · refine wk_free (sh_GK R.1 he (by omega)) (fun y => absurd y z) (fun h0 ta' g1 g2 => ?_)
      refine wy_ext_t he (br_f (by decide) ⟨hve, pk_eq (W e) 0 (fun y => absurd y z) (fun _ => ⟨hve, nm_e ⟨hve, nm_e ⟨hve, nm_e ⟨rfl, ?_⟩⟩⟩⟩)⟩)
      exact zz_in ht hn (sh_Rfree R (sh_G_free R.1 he h0 g1 g2) (fun j _ => rfl))
theorem i_vc_size {k : Nat} {u : SX} {v : SY} (I : i_Rel k u v) (hk : k + 4 ≤ 2048) (v1 : Int32) : wpX_size (fun r => wpY_size (fun r' => r' = r ∧ i_Rel (k + 4) u v) v v1) u v1 := by
  refine zz_el (Z := fun u v => wpX_size (fun r => wpY_size (fun r' => r' = r ∧ i_Rel (k + 4) u v) v v1) u v1) ?_ I
  intro t n mm ce ta wi ck co dr wo ch vw vs vc vm W C P ht hn R
  unfold wpX_size wpY_size
  dsimp only
  rcases sh_ix v1 with h | ⟨e, he, rfl⟩
  · exact wk_bad_t h (br_f (by decide) (wy_ext_f h (br_t rfl ⟨rfl, zz_in ht hn R⟩)))
  · have hve : vp_in (nI e) 8 := vp_in_nI he (by omega)
    refine wk_bad_f he (br_t rfl ⟨hve, wy_ext_t he (br_f (by decide) ⟨hve, ?_, zz_in ht hn R⟩)⟩)
    rw [nI_clamp (by omega : e < 2 ^ 31), (R.1.1 e he).2, R.2.2.1 e he]
theorem i_vc_healed {k : Nat} {u : SX} {v : SY} (I : i_Rel k u v) (hk : k + 4 ≤ 2048) : wpX_healed (fun r => wpY_healed (fun r' => r' = r ∧ i_Rel (k + 4) u v) v) u := by
  refine zz_el (Z := fun u v => wpX_healed (fun r => wpY_healed (fun r' => r' = r ∧ i_Rel (k + 4) u v) v) u) ?_ I
  intro t n mm ce ta wi ck co dr wo ch vw vs vc vm W C P ht hn R
  exact ⟨rfl, zz_in ht hn R⟩
end
section
theorem i_vc_read {k : Nat} {u : SX} {v : SY} (I : i_Rel k u v) (hk : k + 4 ≤ 2048) (v1 : Int32) (v2 : Int32) : wpX_read (fun r u' => wpY_read (fun r' v' => r' = r ∧ i_Rel (k + 4) u' v') v v1 v2) u v1 v2 := by
  refine zz_el (Z := fun u v => wpX_read (fun r u' => wpY_read (fun r' v' => r' = r ∧ i_Rel (k + 4) u' v') v v1 v2) u v1 v2) ?_ I
  intro t n mm ce ta wi ck co dr wo ch vw vs vc vm W C P ht hn R
  unfold wpX_read wpY_read
  dsimp only
  rcases sh_ix v1 with h | ⟨e, he, rfl⟩
  · exact wk_bad_t h (br_f (by decide) (wy_ext_f h (br_t rfl ⟨rfl, zz_in ht hn R⟩)))
  · have hve : vp_in (nI e) 8 := vp_in_nI he (by omega)
    have R0 := R
    obtain ⟨G, D, hs, hv⟩ := R0
    obtain ⟨hW4, hwi⟩ := G.1 e he
    have hse := hs e he
    refine wk_bad_f he (br_t rfl ?_)
    by_cases hi0 : v2 < 0
    · exact br_t hi0 (wy_ext_t he (br_f (by decide) (br_t hi0 ⟨rfl, zz_in ht hn R⟩)))
    · obtain ⟨i, hi, rfl⟩ := nI_of hi0
      refine br_f hi0 ⟨hve, ?_⟩
      rw [nI_clamp (by omega : e < 2 ^ 31), hwi, hse]
      refine pk_lt i (W e) (fun hiw => ?_) (fun hiw => ?_)
      · have h0 : 0 < W e := by omega
        refine wk_recover (sh_GE G D he h0) (fun wo' hwo => ?_)
        dsimp only
        have hvi : vp_in (nI i) 4 := pk_in i 4 (by omega)
        have h65 : ∀ (mm' : Int32) (vm' : Nat → Int32) (post : Int32 → SY → Prop), post (wo' i) (nI n, mm', dr, vw, vs, vc, vm') → wY_read_65 post (nI e) (nI i) (nI n) mm' dr vw vs vc vm' := by
          intro mm' vm' post hp
          refine And.intro (sh_v4 he (by omega)) ?_
          rw [sh_c4 he (by omega)]
          rw [hwo i hiw] at hp
          exact hp
        by_cases z : vm e = 0
        · have er : sh_rc (W e) (C e) (vm e) = -1 := if_pos z
          rw [er]
          unfold wpX_mendData
          refine br_t (by decide) ⟨hvi, ?_⟩
          rw [nI_clamp (by omega : i < 2 ^ 31)]
          exact wy_ext_t he (br_f (by decide) (br_f hi0 ⟨hve, br_t (nI_lt hiw (by omega)) ⟨hve, br_t z (h65 mm vm _ ⟨rfl, zz_in ht hn R⟩)⟩⟩))
        · have hve2 := hv e he z
          have hC := (D.2.2 e he z).2
          by_cases y : C e = W e
          · have er : sh_rc (W e) (C e) (vm e) = -1 := by
              unfold sh_rc
              rw [if_neg z, if_pos y]
            rw [er]
            unfold wpX_mendData
            refine br_t (by decide) ⟨hvi, ?_⟩
            rw [nI_clamp (by omega : i < 2 ^ 31)]
            exact wy_ext_t he (br_f (by decide) (br_f hi0 ⟨hve, br_t (nI_lt hiw (by omega)) ⟨hve, br_f z ⟨hve, hve, br_t (by rw [hve2, y]) (h65 mm vm _ ⟨rfl, zz_in ht hn R⟩)⟩⟩⟩))
          · have er : sh_rc (W e) (C e) (vm e) = nI (C e) := by
              unfold sh_rc
              rw [if_neg z, if_neg y]
            obtain ⟨hp, hco, -⟩ := G.2.1 e (C e) ⟨he, h0, hC⟩
            rw [er]
            unfold wpX_mendData
            refine br_f (nI_pos (by omega)) ⟨sh_v5 he (by omega), pk_in (C e) 4 (by omega), ?_⟩
            rw [sh_c5 he (by omega), hco]
            refine ⟨vp_in_nI hp (by omega), nm_e (nm_e ⟨hvi, ?_⟩)⟩
            rw [nI_clamp (by omega : i < 2 ^ 31), nI_clamp (by omega : P e (C e) < 2 ^ 31), nI_clamp (by omega : C e < 2 ^ 31)]
            refine wy_ext_t he (br_f (by decide) (br_f hi0 ⟨hve, br_t (nI_lt hiw (by omega)) ⟨hve, br_f z ⟨hve, hve, br_f ?_ ⟨hve, nm_e (nm_e (h65 _ _ _ ⟨rfl, zz_in (C := C) ht hn ⟨G, ?_, hs, ?_⟩⟩))⟩⟩⟩⟩))
            · rw [hve2, nI_eq (by omega) (by omega)]
              exact y
            · exact sh_D_fix G D he z (by rw [hwo (C e) (by omega), sh_T_lt (by omega)])
            · intro x hx q
              by_cases qx : x = e
              · rw [qx, pk_us] at q
                exact absurd rfl q
              · rw [pk_un qx] at q
                exact hv x hx q
      · exact wy_ext_t he (br_f (by decide) (br_f hi0 ⟨hve, br_f (nI_nlt hiw (by omega)) ⟨rfl, zz_in ht hn R⟩⟩))
theorem i_vc_damaged {k : Nat} {u : SX} {v : SY} (I : i_Rel k u v) (hk : k + 4 ≤ 2048) (v1 : Int32) : wpX_damaged (fun r u' => wpY_damaged (fun r' => r' = r ∧ i_Rel (k + 4) u' v) v v1) u v1 := by
  refine zz_el (Z := fun u v => wpX_damaged (fun r u' => wpY_damaged (fun r' => r' = r ∧ i_Rel (k + 4) u' v) v v1) u v1) ?_ I
  intro t n mm ce ta wi ck co dr wo ch vw vs vc vm W C P ht hn R
  unfold wpX_damaged wpY_damaged
  dsimp only
  rcases sh_ix v1 with h | ⟨e, he, rfl⟩
  · exact wk_bad_t h (br_f (by decide) (wy_ext_f h (br_t rfl ⟨rfl, zz_in ht hn R⟩)))
  · have hve : vp_in (nI e) 8 := vp_in_nI he (by omega)
    have R0 := R
    obtain ⟨G, D, hs, hv⟩ := R0
    obtain ⟨hW4, hwi⟩ := G.1 e he
    have hse := hs e he
    refine wk_bad_f he (br_t rfl ⟨hve, ?_⟩)
    rw [nI_clamp (by omega : e < 2 ^ 31), hwi, hse]
    refine pk_eq (W e) 0 (fun z => ?_) (fun z => ?_)
    · exact wy_ext_t he (br_f (by decide) ⟨hve, pk_eq (W e) 0 (fun _ => ⟨rfl, zz_in ht hn R⟩) (fun y => absurd z y)⟩)
    · refine wk_faulty (sh_GE G D he (by omega)) (fun wo' hwo => ?_)
      dsimp only
      refine wy_ext_t he (br_f (by decide) ⟨hve, pk_eq (W e) 0 (fun y => absurd y z) (fun _ => ⟨hve, br_c (fun q => ⟨?_, zz_in ht hn R⟩) (fun q => ⟨hve, ?_, zz_in ht hn R⟩)⟩)⟩)
      · exact (if_pos q : sh_fa (C e) (vm e) = -5).symm
      · rw [hv e he q]
        exact (if_neg q : sh_fa (C e) (vm e) = nI (C e)).symm
theorem i_vc_scrub {k : Nat} {u : SX} {v : SY} (I : i_Rel k u v) (hk : k + 4 ≤ 2048) : wpX_scrub (fun r u' => wpY_scrub (fun r' v' => r' = r ∧ i_Rel (k + 4) u' v') v) u := by
  refine zz_el (Z := fun u v => wpX_scrub (fun r u' => wpY_scrub (fun r' v' => r' = r ∧ i_Rel (k + 4) u' v') v) u) ?_ I
  intro t n mm ce ta wi ck co dr wo ch vw vs vc vm W C P ht hn R
  obtain ⟨G, D, hs, hv⟩ := R
  refine wk_scrub G D (fun wo' ce' D' => wy_scrub ⟨rfl, zz_in (C := C) ht hn ⟨G, D', hs, fun x hx q => ?_⟩⟩)
  rw [sh_z_lt hx] at q
  exact absurd rfl q
theorem i_vc_lose {k : Nat} {u : SX} {v : SY} (I : i_Rel k u v) (hk : k + 4 ≤ 2048) (v1 : Int32) : wpX_lose (fun r u' => wpY_lose (fun r' => r' = r ∧ i_Rel (k + 4) u' v) v v1) u v1 := by
  refine zz_el (Z := fun u v => wpX_lose (fun r u' => wpY_lose (fun r' => r' = r ∧ i_Rel (k + 4) u' v) v v1) u v1) ?_ I
  intro t n mm ce ta wi ck co dr wo ch vw vs vc vm W C P ht hn R
  unfold wpX_lose wpY_lose
  dsimp only
  by_cases h0 : v1 < 0
  · exact br_t h0 (br_t h0 ⟨rfl, zz_in ht hn R⟩)
  · obtain ⟨d, hd31, rfl⟩ := nI_of h0
    refine br_f h0 (pk_lt d 5 (fun hd => ?_) (fun hd => ?_))
    · have R0 := R
      obtain ⟨G, D, hs, hv⟩ := R0
      have hc8 : sh_cn vm 8 ≤ 8 := sh_cn_le 8
      refine wk_any G D (fun wo' => ?_)
      dsimp only
      by_cases z : sh_cn vm 8 = 0
      · have er : sh_an vm 8 = 0 := if_pos z
        have hm := sh_cn_0 8 z
        refine br_t er (Exists.intro 13 (wk_lose25 (w := sh_w vw) hd G (fun e c hL => ?_) (fun ce' hT => ?_) 12 0 13 ce (by omega) (by omega) (fun q _ => rfl)))
        · rw [D.1 e c hL, hm e hL.1, sh_dl_0, sh_x0]
        · refine br_f h0 (br_t (nI_le (b := 4) (by omega) (by omega)) (wy_cnt (pk_le (sh_cn vm 8) 0 (fun _ => ⟨rfl, zz_in (C := C) ht hn ⟨G, ⟨fun e c hL => ?_, D.2.1, D.2.2⟩, hs, hv⟩⟩) (fun y => by omega))))
          rw [hT e c hL, hm e hL.1, sh_dl_0, sh_x0]
      · have er : ¬ sh_an vm 8 = 0 := by
          have e1 : sh_an vm 8 = 1 := if_neg z
          rw [e1]; decide
        exact br_f er (br_f h0 (br_t (nI_le (b := 4) (by omega) (by omega)) (wy_cnt (pk_le (sh_cn vm 8) 0 (fun y => by omega) (fun _ => ⟨rfl, zz_in ht hn R⟩)))))
    · exact br_f h0 (pk_le d 4 (fun y => by omega) (fun _ => ⟨rfl, zz_in ht hn R⟩))
section
variable {dd mm : Int32} {dr vw vs vc vm : Nat → Int32}
theorem wy_copy_b {post : Int32 → SY → Prop} {v1 v2 : Int32} (h : v1 < 0 ∨ ¬ v1 < 8) (H : post (-1) (dd, mm, dr, vw, vs, vc, vm)) : wpY_copy post (dd, mm, dr, vw, vs, vc, vm) v1 v2 := by
  unfold wpY_copy
  exact wy_ext_f h (br_t rfl H)
theorem wy_copy_b2 {post : Int32 → SY → Prop} {a : Nat} {v2 : Int32} (ha : a < 8) (h : v2 < 0 ∨ ¬ v2 < 8) (H : post (-1) (dd, mm, dr, vw, vs, vc, vm)) : wpY_copy post (dd, mm, dr, vw, vs, vc, vm) (nI a) v2 := by
  unfold wpY_copy
  exact wy_ext_t ha (br_f (by decide) (wy_ext_f h (br_t rfl H)))
theorem wy_copy_m {post : Int32 → SY → Prop} {a e : Nat} (ha : a < 8) (he : e < 8) (z : ¬ vm a = 0) (H : post (-4) (dd, mm, dr, vw, vs, vc, vm)) : wpY_copy post (dd, mm, dr, vw, vs, vc, vm) (nI a) (nI e) := by
  unfold wpY_copy
  exact wy_ext_t ha (br_f (by decide) (wy_ext_t he (br_f (by decide) ⟨vp_in_nI ha (by omega), br_f (by rw [nI_clamp (by omega : a < 2 ^ 31)]; exact z) H⟩)))
theorem wy_copy_z {post : Int32 → SY → Prop} {a e n : Nat} (ha : a < 8) (he : e < 8) (z : vm a = 0) (hs : vs a = nI n) (H : ∀ (vw' : Nat → Int32), (∀ i, i < 4 → vw' (4 * e + i) = vw (4 * a + i)) → (∀ j, (∀ i, i < 4 → 4 * e + i ≠ j) → vw' j = vw j) → post (nI n) (dd, mm, dr, vw', upd vs e (nI n), vc, upd vm e 0)) : wpY_copy post (dd, mm, dr, vw, vs, vc, vm) (nI a) (nI e) := by
  unfold wpY_copy
  refine wy_ext_t ha (br_f (by decide) (wy_ext_t he (br_f (by decide) ⟨vp_in_nI ha (by omega), br_t (by rw [nI_clamp (by omega : a < 2 ^ 31)]; exact z) (Exists.intro 5 ?_)⟩)))
  refine wy_copy_l ha he (fun vw' g1 g2 => ?_) 4 0 5 vw (by omega) (by omega) (fun j hj => absurd hj (by omega)) (fun j _ => rfl)
  rw [hs]
  exact H vw' g1 g2
end
theorem i_vc_copy {k : Nat} {u : SX} {v : SY} (I : i_Rel k u v) (hk : k + 4 ≤ 2048) (v1 : Int32) (v2 : Int32) : wpX_copy (fun r u' => wpY_copy (fun r' v' => r' = r ∧ i_Rel (k + 4) u' v') v v1 v2) u v1 v2 := by
  refine zz_el (Z := fun u v => wpX_copy (fun r u' => wpY_copy (fun r' v' => r' = r ∧ i_Rel (k + 4) u' v') v v1 v2) u v1 v2) ?_ I
  intro t n mm ce ta wi ck co dr wo ch vw vs vc vm W C P ht hn R
  unfold wpX_copy
  dsimp only
  rcases sh_ix v1 with h | ⟨a, ha, rfl⟩
  · exact wk_bad_t h (br_f (by decide) (wy_copy_b h ⟨rfl, zz_in ht hn R⟩))
  · refine wk_bad_f ha (br_t rfl ?_)
    rcases sh_ix v2 with h | ⟨e, he, rfl⟩
    · exact wk_bad_t h (br_f (by decide) (wy_copy_b2 ha h ⟨rfl, zz_in ht hn R⟩))
    · have hva : vp_in (nI a) 8 := vp_in_nI ha (by omega)
      have R0 := R
      obtain ⟨G, D, hs, hv⟩ := R0
      obtain ⟨hW4, hwi⟩ := G.1 a ha
      have hsa := hs a ha
      refine wk_bad_f he (br_t rfl ⟨hva, ?_⟩)
      rw [nI_clamp (by omega : a < 2 ^ 31), hwi]
      refine pk_eq (W a) 0 (fun z => ?_) (fun z => ?_)
      · have hm : vm a = 0 := by
          apply Classical.byContradiction
          intro q
          have := (D.2.2 a ha q).1
          omega
        rw [z] at hsa
        refine wk_free' (p := P e) he (G.1 e he).1 (G.1 e he).2 (fun h0 c hc => ⟨(G.2.1 e c ⟨he, h0, hc⟩).1, (G.2.1 e c ⟨he, h0, hc⟩).2.1⟩) (fun y => ?_) (fun h0 ta' g1 g2 => ?_)
        · exact wy_copy_z ha he hm hsa (fun vw' g1 g2 => ⟨rfl, zz_in ht hn (sh_Rfree R (by rw [sh_up_id y]; exact G) g2)⟩)
        · exact wy_copy_z ha he hm hsa (fun vw' g3 g4 => ⟨rfl, zz_in ht hn (sh_Rfree R (sh_G_free G he h0 g1 g2) g4)⟩)
      · have h0 : 0 < W a := by omega
        refine wk_faulty (sh_GE G D ha h0) (fun wo' hwo => ?_)
        dsimp only
        by_cases y : vm a = 0
        · have er : sh_fa (C a) (vm a) = -5 := if_pos y
          rw [er]
          refine br_t rfl ⟨hva, nm_r (e' := nI (W a)) hwi ?_⟩
          refine wk_place ht he h0 hW4 G D (fun t' Q ch' ce' ta' wi' ck' co' ht' G' D' => ?_)
          dsimp only
          refine wy_copy_z ha he y hsa (fun vw' g1 g2 => ⟨rfl, zz_in ht' hn (sh_Rput R hW4 G' (fun w' p q => D' w' p (fun i hi => ?_)) g2)⟩)
          rw [q i hi, hwo i hi]
          exact g1 i (by omega)
        · have er : ¬ sh_fa (C a) (vm a) = -5 := by
            have e1 : sh_fa (C a) (vm a) = nI (C a) := if_neg y
            have := (D.2.2 a ha y).2
            rw [e1]
            exact fun x => sh_neg5 (by omega : C a < 2 ^ 31) x.symm
          exact br_f er (wy_copy_m ha he y ⟨rfl, zz_in ht hn R⟩)
theorem i_vc_digest {k : Nat} {u : SX} {v : SY} (I : i_Rel k u v) (hk : k + 4 ≤ 2048) (v1 : Int32) : wpX_digest (fun r u' => wpY_digest (fun r' => r' = r ∧ i_Rel (k + 4) u' v) v v1) u v1 := by
  refine zz_el (Z := fun u v => wpX_digest (fun r u' => wpY_digest (fun r' => r' = r ∧ i_Rel (k + 4) u' v) v v1) u v1) ?_ I
  intro t n mm ce ta wi ck co dr wo ch vw vs vc vm W C P ht hn R
  unfold wpX_digest wpY_digest
  dsimp only
  rcases sh_ix v1 with h | ⟨e, he, rfl⟩
  · exact wk_bad_t h (br_f (by decide) (wy_ext_f h (br_t rfl ⟨rfl, zz_in ht hn R⟩)))
  · have hve : vp_in (nI e) 8 := vp_in_nI he (by omega)
    have R0 := R
    obtain ⟨G, D, hs, hv⟩ := R0
    obtain ⟨hW4, hwi⟩ := G.1 e he
    have hse := hs e he
    refine wk_bad_f he (br_t rfl ⟨hve, ?_⟩)
    rw [nI_clamp (by omega : e < 2 ^ 31), hwi]
    refine pk_eq (W e) 0 (fun z => ?_) (fun z => ?_)
    · refine wy_ext_t he (br_f (by decide) (Exists.intro 1 (wy_dig_l he hW4 hse ?_ (W e) 0 1 (by omega) (by omega))))
      rw [z]
      exact ⟨rfl, zz_in ht hn R⟩
    · refine wk_recover (sh_GE G D he (by omega)) (fun wo' hwo => ?_)
      dsimp only
      refine Exists.intro (W e + 1) (wk_dig_l he hW4 hwi ?_ (W e) 0 (W e + 1) (by omega) (by omega))
      refine wy_ext_t he (br_f (by decide) (Exists.intro (W e + 1) (wy_dig_l he hW4 hse ?_ (W e) 0 (W e + 1) (by omega) (by omega))))
      exact ⟨(sh_dg_cg (W e) hwo).symm, zz_in ht hn R⟩
theorem i_vc_damage {k : Nat} {u : SX} {v : SY} (I : i_Rel k u v) (hk : k + 4 ≤ 2048) (v1 : Int32) (v2 : Int32) (v3 : Int32) : wpX_damage (fun r u' => wpY_damage (fun r' v' => r' = r ∧ i_Rel (k + 4) u' v') v v1 v2 v3) u v1 v2 v3 := by
  refine zz_el (Z := fun u v => wpX_damage (fun r u' => wpY_damage (fun r' v' => r' = r ∧ i_Rel (k + 4) u' v') v v1 v2 v3) u v1 v2 v3) ?_ I
  intro t n mm ce ta wi ck co dr wo ch vw vs vc vm W C P ht hn R
  unfold wpX_damage wpY_damage
  dsimp only
  rcases sh_ix v1 with h | ⟨e, he, rfl⟩
  · exact wk_bad_t h (br_f (by decide) (wy_ext_f h (br_t rfl ⟨rfl, zz_in ht hn R⟩)))
  · have hve : vp_in (nI e) 8 := vp_in_nI he (by omega)
    have R0 := R
    obtain ⟨G, D, hs, hv⟩ := R0
    obtain ⟨hW4, hwi⟩ := G.1 e he
    have hse := hs e he
    refine wk_bad_f he (br_t rfl ⟨hve, ?_⟩)
    rw [nI_clamp (by omega : e < 2 ^ 31), hwi, hse]
    refine pk_eq (W e) 0 (fun z => ?_) (fun z => ?_)
    · exact wy_ext_t he (br_f (by decide) ⟨hve, pk_eq (W e) 0 (fun _ => ⟨rfl, zz_in ht hn R⟩) (fun y => absurd z y)⟩)
    · have h0 : 0 < W e := by omega
      have hn0 : ¬ nI (W e) = 0 := nI_ne0 h0 (by omega)
      by_cases hc0 : v2 < 0
      · exact br_t hc0 (wy_ext_t he (br_f (by decide) ⟨hve, br_f hn0 (br_t hc0 ⟨rfl, zz_in ht hn R⟩)⟩))
      · obtain ⟨c, hc31, rfl⟩ := nI_of hc0
        refine br_f hc0 ⟨hve, pk_le c (W e) (fun hc => ?_) (fun hc => ?_)⟩
        · have hcW : nI c ≤ nI (W e) := nI_le hc (by omega)
          obtain ⟨hp, hco, -⟩ := G.2.1 e c ⟨he, h0, hc⟩
          have hX61 : ∀ (wo1 : Nat → Int32) (post : Int32 → SX → Prop), (vm e = 0 ∨ C e = c) → (∀ (wo2 : Nat → Int32), sh_D W P (sh_up C e c) (sh_w vw) (upd vm e (vm e ^^^ v3)) (upd ce (P e c) (ce (P e c) ^^^ v3)) ck → post (if vm e ^^^ v3 = 0 then 0 else 1) (nI t, nI n, mm, upd ce (P e c) (ce (P e c) ^^^ v3), ta, wi, ck, co, dr, wo2, ch)) → wX_damage_61 post (nI e) (nI c) v3 (nI t) (nI n) mm ce ta wi ck co dr wo1 ch := by
            intro wo1 post hor H
            have D' := sh_D_dmg G D he h0 hc hor v3
            refine And.intro (sh_v5 he (by omega)) (nm_r (e' := nI (P e c)) (by rw [sh_c5 he (by omega), hco]) ⟨vp_in_nI hp (by omega), vp_in_nI hp (by omega), ?_⟩)
            rw [nI_clamp (by omega : P e c < 2 ^ 31)]
            refine nm_e (wk_faulty (sh_GE G D' he h0) (fun wo2 _ => ?_))
            dsimp only
            have H' := H wo2 D'
            rw [pk_us, sh_us]
            by_cases q : vm e ^^^ v3 = 0
            · rw [if_pos q] at H'
              have er : sh_fa c (vm e ^^^ v3) = -5 := if_pos q
              rw [er]
              exact br_f (sh_neg5 hc31) H'
            · rw [if_neg q] at H'
              have er : sh_fa c (vm e ^^^ v3) = nI c := if_neg q
              rw [er]
              exact br_t rfl H'
          have hY60 : ∀ (wo2 : Nat → Int32), sh_D W P (sh_up C e c) (sh_w vw) (upd vm e (vm e ^^^ v3)) (upd ce (P e c) (ce (P e c) ^^^ v3)) ck → wY_damage_60 (fun r' v' => r' = (if vm e ^^^ v3 = 0 then 0 else 1) ∧ i_Rel (k + 4) (nI t, nI n, mm, upd ce (P e c) (ce (P e c) ^^^ v3), ta, wi, ck, co, dr, wo2, ch) v') (nI e) (nI c) v3 (nI n) mm dr vw vs vc vm := by
            intro wo2 D'
            have R' : sh_R W (sh_up C e c) P (upd ce (P e c) (ce (P e c) ^^^ v3)) ta wi ck co vw vs (upd vc e (nI c)) (upd vm e (vm e ^^^ v3)) := by
              refine ⟨G, D', hs, fun x hx q => ?_⟩
              by_cases qx : x = e
              · rw [qx, pk_us, sh_us]
              · rw [pk_un qx] at q
                rw [pk_un qx, sh_uq qx]
                exact hv x hx q
            unfold wY_damage_60
            refine ⟨hve, nm_e ⟨hve, hve, nm_e ⟨hve, ?_⟩⟩⟩
            rw [nI_clamp (by omega : e < 2 ^ 31), pk_us]
            exact br_c (fun q => ⟨by rw [if_pos q], zz_in ht hn R'⟩) (fun q => ⟨by rw [if_neg q], zz_in ht hn R'⟩)
          refine wk_faulty (sh_GE G D he h0) (fun wo' hwo => ?_)
          dsimp only
          by_cases q : vm e = 0
          · have er : sh_fa (C e) (vm e) = -5 := if_pos q
            rw [er]
            refine br_t rfl (hX61 wo' _ (Or.inl q) (fun wo2 D' => ?_))
            exact wy_ext_t he (br_f (by decide) ⟨hve, br_f hn0 (br_f hc0 ⟨hve, br_t hcW ⟨hve, br_t q (hY60 wo2 D')⟩⟩)⟩)
          · have hCW := (D.2.2 e he q).2
            have hvc := hv e he q
            have er : sh_fa (C e) (vm e) = nI (C e) := if_neg q
            rw [er]
            refine br_f (fun x => sh_neg5 (by omega : C e < 2 ^ 31) x.symm) (pk_eq (C e) c (fun x => ?_) (fun x => ?_))
            · refine hX61 wo' _ (Or.inr x) (fun wo2 D' => ?_)
              exact wy_ext_t he (br_f (by decide) ⟨hve, br_f hn0 (br_f hc0 ⟨hve, br_t hcW ⟨hve, br_f q ⟨hve, br_t (by rw [hvc, x]) (hY60 wo2 D')⟩⟩⟩)⟩)
            · refine wy_ext_t he (br_f (by decide) ⟨hve, br_f hn0 (br_f hc0 ⟨hve, br_t hcW ⟨hve, br_f q ⟨hve, br_f ?_ ⟨rfl, zz_in ht hn R⟩⟩⟩⟩)⟩)
              rw [hvc, nI_eq (by omega) (by omega)]
              exact x
        · exact wy_ext_t he (br_f (by decide) ⟨hve, br_f hn0 (br_f hc0 ⟨hve, br_f (nI_ge hc hc31) ⟨rfl, zz_in ht hn R⟩⟩)⟩)
end
