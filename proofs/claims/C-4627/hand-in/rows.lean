section
/-! rows of the kit's rows to paste (starting text) -/
theorem pk_us {f : Nat → Int32} {k : Nat} {x : Int32} : upd f k x k = x := if_pos rfl
theorem pk_un {f : Nat → Int32} {k j : Nat} {x : Int32} (h : j ≠ k) : upd f k x j = f j := if_neg h
theorem pk_sub {a b : Nat} (h : b ≤ a) : nI a - nI b = nI (a - b) := by
  obtain ⟨c, rfl⟩ : ∃ c, a = c + b := ⟨a - b, by omega⟩
  rw [← nI_add, Int32.add_sub_cancel, Nat.add_sub_cancel]
theorem pk_m1 (n : Nat) : nI (n + 1) + (-1) = nI n := by
  rw [← nI_1, Int32.add_assoc, show (1 : Int32) + (-1) = 0 from rfl, Int32.add_zero]
theorem pk_mul (a b : Nat) : nI a * nI b = nI (a * b) := (Int32.ofNat_mul a b).symm
theorem pk_div {a d : Nat} (ha : a < 2 ^ 31) (h0 : 0 < d) (hd : d < 2 ^ 31) : nI a / nI d = nI (a / d) := by
  apply Int32.toInt_inj.mp
  rw [lg_idiv_nonneg (by rw [nI_toInt ha]; omega) (by rw [nI_toInt hd]; omega), nI_toInt ha, nI_toInt hd, nI_toInt (Nat.lt_of_le_of_lt (Nat.div_le_self a d) ha)]
  first | rfl | exact (Int.natCast_ediv _ _).symm
theorem pk_rem {a d : Nat} (ha : a < 2 ^ 31) (h0 : 0 < d) (hd : d < 2 ^ 31) : nI a - nI a / nI d * nI d = nI (a % d) := by
  rw [pk_div ha h0 hd, pk_mul, pk_sub (Nat.div_mul_le_self a d)]
  exact congrArg nI (by have := Nat.div_add_mod' a d; omega)
theorem pk_sub_toInt {a b : Nat} (ha : a < 2 ^ 30) (hb : b < 2 ^ 30) : (nI a - nI b).toInt = (a : Int) - b := by
  rw [Int32.toInt_sub, nI_toInt (by omega), nI_toInt (by omega)]
  exact Int.bmod_eq_of_le (by omega) (by omega)
theorem pk_sneg {a b : Nat} (hb : b < 2 ^ 30) (h : a < b) : nI a - nI b < 0 := by
  rw [Int32.lt_iff_toInt_lt, pk_sub_toInt (by omega) hb, show (0 : Int32).toInt = 0 from by decide]
  omega
theorem pk_ix (x : Int32) {n : Nat} (hn : n < 2 ^ 31) : x < 0 ∨ nI n ≤ x ∨ ∃ j : Nat, j < n ∧ x = nI j := by
  by_cases h : x < 0
  · exact Or.inl h
  · obtain ⟨j, hj, rfl⟩ := nI_of h
    by_cases h2 : j < n
    · exact Or.inr (Or.inr ⟨j, h2, rfl⟩)
    · exact Or.inr (Or.inl (nI_le (by omega) hj))
theorem pk_le {x y : Int32} {A B : Prop} (a b : Nat) (f : a ≤ b → A) (g : b < a → B) (hx : x = nI a := by rfl) (hy : y = nI b := by rfl) (ha : a < 2 ^ 31 := by omega) (hb : b < 2 ^ 31 := by omega) : (x ≤ y → A) ∧ (¬ x ≤ y → B) := by
  subst hx hy
  rw [nI_leI ha hb]
  exact ⟨f, fun z => g (by omega)⟩
theorem pk_lt {x y : Int32} {A B : Prop} (a b : Nat) (f : a < b → A) (g : b ≤ a → B) (hx : x = nI a := by rfl) (hy : y = nI b := by rfl) (ha : a < 2 ^ 31 := by omega) (hb : b < 2 ^ 31 := by omega) : (x < y → A) ∧ (¬ x < y → B) := by
  subst hx hy
  rw [nI_ltI ha hb]
  exact ⟨f, fun z => g (by omega)⟩
theorem pk_eq {x y : Int32} {A B : Prop} (a b : Nat) (f : a = b → A) (g : a ≠ b → B) (hx : x = nI a := by rfl) (hy : y = nI b := by rfl) (ha : a < 2 ^ 31 := by omega) (hb : b < 2 ^ 31 := by omega) : (x = y → A) ∧ (¬ x = y → B) := by
  subst hx hy
  rw [nI_eq ha hb]
  exact ⟨f, g⟩
theorem pk_in {x : Int32} (n N : Nat) (h : n < N) (hx : x = nI n := by rfl) (hN : N < 2 ^ 31 := by omega) : vp_in x N := by
  subst hx
  exact vp_in_nI h hN
theorem pk_cl {x : Int32} (n : Nat) (hx : x = nI n := by rfl) (h : n < 2 ^ 31 := by omega) : x.toNatClampNeg = n := by
  subst hx
  exact nI_clamp h
theorem pk_tn {n : Nat} (h : n < 2 ^ 32) : (nI n).toBitVec.toNat = n := Nat.mod_eq_of_lt h
theorem pk_and (x : Int32) {m : Int32} (k : Nat) (hm : m.toBitVec.toNat = 2 ^ k - 1) : x &&& m = nI (x.toBitVec.toNat % 2 ^ k) := by
  apply Int32.toBitVec_inj.mp
  apply BitVec.eq_of_toNat_eq
  rw [Int32.toBitVec_and, BitVec.toNat_and, hm, Nat.and_two_pow_sub_one_eq_mod]
  show _ = (BitVec.ofNat 32 _).toNat
  rw [BitVec.toNat_ofNat]
  exact (Nat.mod_eq_of_lt (Nat.lt_of_le_of_lt (Nat.mod_le _ _) x.toBitVec.isLt)).symm
theorem pk_andN {n : Nat} (h : n < 2 ^ 32) {m : Int32} (k : Nat) (hm : m.toBitVec.toNat = 2 ^ k - 1) : nI n &&& m = nI (n % 2 ^ k) := by
  rw [pk_and _ k hm, pk_tn h]
theorem pk_andE (x : Int32) {m : Int32} (k : Nat) (hm : m.toBitVec.toNat = 2 ^ k - 1) : ∃ j : Nat, j < 2 ^ k ∧ x &&& m = nI j := ⟨_, Nat.mod_lt _ (Nat.two_pow_pos k), pk_and x k hm⟩
theorem pk_andIn (x : Int32) {m : Int32} (k : Nat) (hm : m.toBitVec.toNat = 2 ^ k - 1) (hk : k ≤ 30) : vp_in (x &&& m) (2 ^ k) := by
  obtain ⟨j, hj, e⟩ := pk_andE x k hm
  rw [e]
  exact vp_in_nI hj (Nat.lt_of_le_of_lt (Nat.pow_le_pow_right (by decide) hk) (by decide))
theorem pk_shl (a s : Int32) (k : Nat) (hs : (s.toBitVec.smod 32).toNat = k) : (a <<< s).toBitVec.toNat = a.toBitVec.toNat * 2 ^ k % 2 ^ 32 := by
  show (a.toBitVec <<< (s.toBitVec.smod 32).toNat).toNat = _
  rw [hs, BitVec.toNat_shiftLeft, Nat.shiftLeft_eq]
theorem pk_shlN {n : Nat} (s : Int32) (k : Nat) (hs : (s.toBitVec.smod 32).toNat = k) (h : n * 2 ^ k < 2 ^ 32) : nI n <<< s = nI (n * 2 ^ k) := by
  apply Int32.toBitVec_inj.mp
  apply BitVec.eq_of_toNat_eq
  have hn : n < 2 ^ 32 := Nat.lt_of_le_of_lt (Nat.le_mul_of_pos_right n (Nat.two_pow_pos k)) h
  rw [pk_shl _ _ k hs, pk_tn hn, pk_tn h, Nat.mod_eq_of_lt h]
theorem pk_shr (a s : Int32) (k : Nat) (hs : (s.toBitVec.smod 32).toNat = k) : (a >>> s).toInt = a.toInt >>> k := by
  show (a.toBitVec.sshiftRight (s.toBitVec.smod 32).toNat).toInt = _
  rw [hs, BitVec.toInt_sshiftRight]
  rfl
theorem pk_shrN {n : Nat} (h : n < 2 ^ 31) (s : Int32) (k : Nat) (hs : (s.toBitVec.smod 32).toNat = k) : nI n >>> s = nI (n / 2 ^ k) := by
  apply Int32.toInt_inj.mp
  have h2 : n / 2 ^ k ≤ n := Nat.div_le_self _ _
  rw [pk_shr _ _ k hs, nI_toInt h, nI_toInt (by omega), Int.shiftRight_eq_div_pow]
  rfl
theorem pk_loop {σ : Type} (W : Nat → Nat → σ → Prop) (I : Nat → σ → Prop) (e i0 : Nat) (s : σ) (hi : i0 ≤ e) (h0 : I i0 s) (hx : ∀ n s, I e s → W (n + 1) e s)
    (hs : ∀ n i s, i < e → I i s → (∀ s', I (i + 1) s' → W n (i + 1) s') → W (n + 1) i s) : ∃ n, W n i0 s :=
  ⟨e + 1, loop_i W I e hx hs (e + 1) i0 s hi (by omega) h0⟩
theorem pk_loopD {σ : Type} (W : Nat → Nat → σ → Prop) (I : Nat → σ → Prop) (hx : ∀ n s, I 0 s → W (n + 1) 0 s)
    (hs : ∀ n i s, I (i + 1) s → (∀ s', I i s' → W n i s') → W (n + 1) (i + 1) s) : ∀ (e : Nat) (s : σ), I e s → W (e + 1) e s := by
  intro e
  induction e with
  | zero => exact fun s h => hx 0 s h
  | succ e ih => exact fun s h => hs (e + 1) e s h (fun s' h' => ih s' h')
theorem pk_least (P : Nat → Prop) (h : ∃ k, P k) : ∃ k, P k ∧ ∀ j, j < k → ¬ P j := by
  obtain ⟨k, hk⟩ := h
  induction k using Nat.strongRecOn with
  | ind k ih =>
    by_cases e : ∃ j, j < k ∧ P j
    · obtain ⟨j, hj, pj⟩ := e
      exact ih j hj pj
    · exact ⟨k, hk, fun j hj pj => e ⟨j, hj, pj⟩⟩
theorem s_l : ∀ n, n < 32 → ((nI n &&& 31).toBitVec.smod 32).toNat = n := by decide +kernel
theorem nx_and (a b : Nat) : nI a &&& nI b = nI (a &&& b) := by
  apply Int32.toBitVec_inj.1
  show BitVec.ofNat 32 a &&& BitVec.ofNat 32 b = BitVec.ofNat 32 (a &&& b)
  apply BitVec.eq_of_getLsbD_eq
  intro i hi
  simp [hi]
theorem nx_xor (a b : Nat) : nI a ^^^ nI b = nI (a ^^^ b) := by
  apply Int32.toBitVec_inj.1
  show BitVec.ofNat 32 a ^^^ BitVec.ofNat 32 b = BitVec.ofNat 32 (a ^^^ b)
  apply BitVec.eq_of_getLsbD_eq
  intro i hi
  simp [hi]
end
section
/-! words over two letters, changes, what signs derive, the distance: no program in sight -/
def mp_St (w z : List Bool) : Prop :=
  (∃ p q : List Bool, ∃ c d : Bool, w = p ++ c :: q ∧ z = p ++ d :: q) ∨
  (∃ p q : List Bool, ∃ c : Bool, w = p ++ c :: q ∧ z = p ++ q) ∨
  (∃ p q : List Bool, ∃ c : Bool, w = p ++ q ∧ z = p ++ c :: q)
theorem mp_St_rep (p q : List Bool) (c d : Bool) : mp_St (p ++ c :: q) (p ++ d :: q) := Or.inl ⟨p, q, c, d, rfl, rfl⟩
theorem mp_St_del (p q : List Bool) (c : Bool) : mp_St (p ++ c :: q) (p ++ q) := Or.inr (Or.inl ⟨p, q, c, rfl, rfl⟩)
theorem mp_St_ins (p q : List Bool) (c : Bool) : mp_St (p ++ q) (p ++ c :: q) := Or.inr (Or.inr ⟨p, q, c, rfl, rfl⟩)
theorem mp_St_len {w z : List Bool} (h : mp_St w z) : z.length ≤ w.length + 1 ∧ w.length ≤ z.length + 1 := by
  rcases h with ⟨p, q, c, d, rfl, rfl⟩ | ⟨p, q, c, rfl, rfl⟩ | ⟨p, q, c, rfl, rfl⟩ <;>
    simp only [List.length_append, List.length_cons] <;> omega
theorem mp_St_l {w z : List Bool} (a : List Bool) (h : mp_St w z) : mp_St (a ++ w) (a ++ z) := by
  rcases h with ⟨p, q, c, d, rfl, rfl⟩ | ⟨p, q, c, rfl, rfl⟩ | ⟨p, q, c, rfl, rfl⟩
  · rw [← List.append_assoc, ← List.append_assoc]; exact mp_St_rep _ _ _ _
  · rw [← List.append_assoc, ← List.append_assoc]; exact mp_St_del _ _ _
  · rw [← List.append_assoc, ← List.append_assoc]; exact mp_St_ins _ _ _
theorem mp_St_r {w z : List Bool} (a : List Bool) (h : mp_St w z) : mp_St (w ++ a) (z ++ a) := by
  rcases h with ⟨p, q, c, d, rfl, rfl⟩ | ⟨p, q, c, rfl, rfl⟩ | ⟨p, q, c, rfl, rfl⟩
  · rw [List.append_assoc, List.append_assoc]; exact mp_St_rep p (q ++ a) c d
  · rw [List.append_assoc, List.append_assoc]; exact mp_St_del p (q ++ a) c
  · rw [List.append_assoc, List.append_assoc]; exact mp_St_ins p (q ++ a) c
def mp_Ed : Nat → List Bool → List Bool → Prop
  | 0, w, z => w = z
  | k + 1, w, z => mp_Ed k w z ∨ ∃ m, mp_Ed k w m ∧ mp_St m z
theorem mp_Ed_up {k : Nat} {w z : List Bool} (h : mp_Ed k w z) : mp_Ed (k + 1) w z := Or.inl h
theorem mp_Ed_st {k : Nat} {w m z : List Bool} (h : mp_Ed k w m) (s : mp_St m z) : mp_Ed (k + 1) w z := Or.inr ⟨m, h, s⟩
theorem mp_Ed_mono {k : Nat} {w z : List Bool} (h : mp_Ed k w z) : ∀ l, k ≤ l → mp_Ed l w z := by
  intro l hl
  obtain ⟨d, rfl⟩ : ∃ d, l = k + d := ⟨l - k, by omega⟩
  clear hl
  induction d with
  | zero => exact h
  | succ d ih => exact mp_Ed_up ih
theorem mp_Ed_trans {a : Nat} {w m : List Bool} (h : mp_Ed a w m) : ∀ (b : Nat) (z : List Bool), mp_Ed b m z → mp_Ed (a + b) w z := by
  intro b
  induction b with
  | zero => intro z hz; cases hz; exact h
  | succ b ih =>
    intro z hz
    rcases hz with hz | ⟨y, hy, s⟩
    · exact mp_Ed_up (ih z hz)
    · exact mp_Ed_st (ih y hy) s
theorem mp_Ed_l {k : Nat} {w : List Bool} (a : List Bool) : ∀ {z : List Bool}, mp_Ed k w z → mp_Ed k (a ++ w) (a ++ z) := by
  induction k with
  | zero => intro z h; cases h; exact rfl
  | succ k ih =>
    intro z h
    rcases h with h | ⟨m, h, s⟩
    · exact mp_Ed_up (ih h)
    · exact mp_Ed_st (ih h) (mp_St_l a s)
theorem mp_Ed_r {k : Nat} {w : List Bool} (a : List Bool) : ∀ {z : List Bool}, mp_Ed k w z → mp_Ed k (w ++ a) (z ++ a) := by
  induction k with
  | zero => intro z h; cases h; exact rfl
  | succ k ih =>
    intro z h
    rcases h with h | ⟨m, h, s⟩
    · exact mp_Ed_up (ih h)
    · exact mp_Ed_st (ih h) (mp_St_r a s)
theorem mp_Ed_app {a b : Nat} {u v x y : List Bool} (h1 : mp_Ed a u x) (h2 : mp_Ed b v y) : mp_Ed (a + b) (u ++ v) (x ++ y) :=
  mp_Ed_trans (mp_Ed_r v h1) b _ (mp_Ed_l x h2)
theorem mp_Ed_len {k : Nat} {w : List Bool} : ∀ {z : List Bool}, mp_Ed k w z → z.length ≤ w.length + k ∧ w.length ≤ z.length + k := by
  induction k with
  | zero => intro z h; cases h; exact ⟨Nat.le_refl _, Nat.le_refl _⟩
  | succ k ih =>
    intro z h
    rcases h with h | ⟨m, h, s⟩
    · have := ih h; omega
    · have a := ih h
      have b := mp_St_len s
      omega
theorem mp_Ed_del : ∀ w : List Bool, mp_Ed w.length w []
  | [] => rfl
  | c :: w => by
    have h : mp_Ed 1 ([c] ++ w) ([] ++ w) := mp_Ed_r w (Or.inr ⟨[c], rfl, mp_St_del [] [] c⟩)
    have h2 := mp_Ed_trans h w.length [] (mp_Ed_del w)
    rw [List.length_cons, Nat.add_comm]
    exact h2
theorem mp_Ed_ins : ∀ w : List Bool, mp_Ed w.length [] w
  | [] => rfl
  | c :: w => mp_Ed_st (mp_Ed_ins w) (mp_St_ins [] w c)
theorem mp_St_split {m x y : List Bool} (h : mp_St m (x ++ y)) : ∃ m1 m2, m = m1 ++ m2 ∧ ((mp_St m1 x ∧ m2 = y) ∨ (m1 = x ∧ mp_St m2 y)) := by
  rcases h with ⟨p, q, c, d, rfl, e⟩ | ⟨p, q, c, rfl, e⟩ | ⟨p, q, c, rfl, e⟩
  · rcases List.append_eq_append_iff.mp e with ⟨a, rfl, rfl⟩ | ⟨a, rfl, e2⟩
    · exact ⟨x, a ++ c :: q, by rw [List.append_assoc], Or.inr ⟨rfl, mp_St_rep _ _ _ _⟩⟩
    · cases a with
      | nil =>
        rw [List.nil_append] at e2
        subst e2
        exact ⟨p, c :: q, rfl, Or.inr ⟨(List.append_nil p).symm, mp_St_rep [] q c d⟩⟩
      | cons f a =>
        rw [List.cons_append] at e2
        injection e2 with e3 e4
        subst e3 e4
        exact ⟨p ++ c :: a, y, by rw [List.append_assoc, List.cons_append], Or.inl ⟨mp_St_rep _ _ _ _, rfl⟩⟩
  · rcases List.append_eq_append_iff.mp e with ⟨a, rfl, rfl⟩ | ⟨a, rfl, rfl⟩
    · exact ⟨x, a ++ c :: q, by rw [List.append_assoc], Or.inr ⟨rfl, mp_St_del _ _ _⟩⟩
    · exact ⟨p ++ c :: a, y, by rw [List.append_assoc, List.cons_append], Or.inl ⟨mp_St_del _ _ _, rfl⟩⟩
  · rcases List.append_eq_append_iff.mp e with ⟨a, rfl, rfl⟩ | ⟨a, rfl, e2⟩
    · exact ⟨x, a ++ q, by rw [List.append_assoc], Or.inr ⟨rfl, mp_St_ins _ _ _⟩⟩
    · cases a with
      | nil =>
        rw [List.nil_append] at e2
        subst e2
        exact ⟨p, q, rfl, Or.inr ⟨(List.append_nil p).symm, mp_St_ins [] q c⟩⟩
      | cons f a =>
        rw [List.cons_append] at e2
        injection e2 with e3 e4
        subst e3 e4
        exact ⟨p ++ a, y, by rw [List.append_assoc], Or.inl ⟨mp_St_ins _ _ _, rfl⟩⟩
theorem mp_Ed_split {k : Nat} {w : List Bool} : ∀ {x y : List Bool}, mp_Ed k w (x ++ y) → ∃ u v a b, w = u ++ v ∧ mp_Ed a u x ∧ mp_Ed b v y ∧ a + b ≤ k := by
  induction k with
  | zero => intro x y h; exact ⟨x, y, 0, 0, h, rfl, rfl, Nat.le_refl _⟩
  | succ k ih =>
    intro x y h
    rcases h with h | ⟨m, h, s⟩
    · obtain ⟨u, v, a, b, e, h1, h2, h3⟩ := ih h
      exact ⟨u, v, a, b, e, h1, h2, by omega⟩
    · obtain ⟨m1, m2, rfl, h4⟩ := mp_St_split s
      obtain ⟨u, v, a, b, e, h1, h2, h3⟩ := ih h
      rcases h4 with ⟨s1, rfl⟩ | ⟨rfl, s2⟩
      · exact ⟨u, v, a + 1, b, e, mp_Ed_st h1 s1, h2, by omega⟩
      · exact ⟨u, v, a, b + 1, e, h1, mp_Ed_st h2 s2, by omega⟩
/-! the changes to one letter -/
def mp_lc (c : Bool) (w : List Bool) : Nat := if w = [] then 1 else if c ∈ w then w.length - 1 else w.length
theorem mp_lc_nil (c : Bool) : mp_lc c [] = 1 := if_pos rfl
theorem mp_lc_in {c : Bool} {w : List Bool} (h : c ∈ w) : mp_lc c w = w.length - 1 := by
  unfold mp_lc
  rw [if_neg (fun e => by rw [e] at h; exact absurd h (List.not_mem_nil)), if_pos h]
theorem mp_lc_out {c : Bool} {w : List Bool} (h0 : w ≠ []) (h : ¬ c ∈ w) : mp_lc c w = w.length := by
  unfold mp_lc
  rw [if_neg h0, if_neg h]
theorem mp_lc_b {c : Bool} {w : List Bool} (h0 : w ≠ []) : w.length - 1 ≤ mp_lc c w ∧ mp_lc c w ≤ w.length := by
  by_cases h : c ∈ w
  · rw [mp_lc_in h]; omega
  · rw [mp_lc_out h0 h]; omega
theorem mp_lc_le {c : Bool} {w : List Bool} (h0 : w.length ≠ 0) : w.length - 1 ≤ mp_lc c w ∧ mp_lc c w ≤ w.length :=
  mp_lc_b (fun e => h0 (by rw [e]; rfl))
theorem mp_lc_St {c : Bool} {m z : List Bool} (h : mp_St m z) : mp_lc c m ≤ mp_lc c z + 1 := by
  rcases h with ⟨p, q, e, d, rfl, rfl⟩ | ⟨p, q, e, rfl, rfl⟩ | ⟨p, q, e, rfl, rfl⟩
  · have h1 := mp_lc_le (c := c) (w := p ++ e :: q) (by simp)
    have h2 := mp_lc_le (c := c) (w := p ++ d :: q) (by simp)
    simp only [List.length_append, List.length_cons] at h1 h2
    omega
  · have h1 := mp_lc_le (c := c) (w := p ++ e :: q) (by simp)
    by_cases hz : p ++ q = []
    · rw [hz, mp_lc_nil]
      have hl : (p ++ q).length = 0 := by rw [hz]; rfl
      simp only [List.length_append, List.length_cons] at h1 hl
      omega
    · by_cases hc : c ∈ p ++ e :: q
      · rw [mp_lc_in hc]
        have h2 := mp_lc_b (c := c) hz
        have hl : (p ++ q).length ≠ 0 := fun e => hz (List.eq_nil_of_length_eq_zero e)
        simp only [List.length_append, List.length_cons] at h2 hl ⊢
        omega
      · have hc2 : ¬ c ∈ p ++ q := by
          intro hm
          apply hc
          rcases List.mem_append.mp hm with hm | hm
          · exact List.mem_append.mpr (Or.inl hm)
          · exact List.mem_append.mpr (Or.inr (List.mem_cons_of_mem _ hm))
        rw [mp_lc_out hz hc2]
        simp only [List.length_append, List.length_cons] at h1 ⊢
        omega
  · have h1 := mp_lc_le (c := c) (w := p ++ e :: q) (by simp)
    by_cases hz : p ++ q = []
    · rw [hz, mp_lc_nil]; omega
    · have h2 := mp_lc_b (c := c) hz
      simp only [List.length_append, List.length_cons] at h1 h2
      omega
theorem mp_lc_Ed {c : Bool} {k : Nat} {w : List Bool} : ∀ {z : List Bool}, mp_Ed k w z → mp_lc c w ≤ mp_lc c z + k := by
  induction k with
  | zero => intro z h; cases h; exact Nat.le_refl _
  | succ k ih =>
    intro z h
    rcases h with h | ⟨m, h, s⟩
    · have := ih h; omega
    · have a := ih h
      have b := mp_lc_St (c := c) s
      omega
theorem mp_lc_1 (c : Bool) : mp_lc c [c] = 0 := by rw [mp_lc_in (List.mem_singleton.mpr rfl)]; rfl
theorem mp_Ed_lc (c : Bool) (w : List Bool) : mp_Ed (mp_lc c w) w [c] := by
  by_cases h0 : w = []
  · subst h0
    rw [mp_lc_nil]
    exact mp_Ed_ins [c]
  · by_cases hc : c ∈ w
    · rw [mp_lc_in hc]
      obtain ⟨p, q, rfl⟩ := List.append_of_mem hc
      have h1 : mp_Ed p.length p [] := mp_Ed_del p
      have h2 : mp_Ed q.length q [] := mp_Ed_del q
      have h3 : mp_Ed (0 + q.length) ([c] ++ q) ([c] ++ []) := mp_Ed_app rfl h2
      have h4 : mp_Ed (p.length + (0 + q.length)) (p ++ ([c] ++ q)) ([] ++ ([c] ++ [])) := mp_Ed_app h1 h3
      have e : (p ++ c :: q).length - 1 = p.length + (0 + q.length) := by simp only [List.length_append, List.length_cons]; omega
      rw [e]
      exact h4
    · rw [mp_lc_out h0 hc]
      cases w with
      | nil => exact absurd rfl h0
      | cons d q =>
        have h1 : mp_Ed 1 [d] [c] := mp_Ed_st (k := 0) rfl (mp_St_rep [] [] d c)
        have h4 : mp_Ed (1 + q.length) ([d] ++ q) ([c] ++ []) := mp_Ed_app h1 (mp_Ed_del q)
        rw [List.length_cons, Nat.add_comm]
        exact h4
/-! what signs derive: the least closed set -/
def mp_Cl (n : Nat) (L R : Nat → Nat) (S : Nat → List Bool → Prop) : Prop :=
  S 5 [false] ∧ S 6 [true] ∧ (∀ r, r < n → R r = 0 → S (L r) []) ∧
  (∀ r, r < n → R r ≠ 0 → R r < 8 → ∀ x, S (R r - 1) x → S (L r) x) ∧
  (∀ r, r < n → 8 ≤ R r → ∀ x y, S (R r / 8 - 1) x → S (R r % 8 - 1) y → S (L r) (x ++ y))
def mp_Dv (n : Nat) (L R : Nat → Nat) (s : Nat) (x : List Bool) : Prop := ∀ S : Nat → List Bool → Prop, mp_Cl n L R S → S s x
theorem mp_Dv_cl (n : Nat) (L R : Nat → Nat) : mp_Cl n L R (mp_Dv n L R) :=
  ⟨fun _ h => h.1, fun _ h => h.2.1, fun r hr e _ h => h.2.2.1 r hr e, fun r hr e0 e8 x hx S h => h.2.2.2.1 r hr e0 e8 x (hx S h),
    fun r hr e8 x y hx hy S h => h.2.2.2.2 r hr e8 x y (hx S h) (hy S h)⟩
/-- the rules are rules: a name at the left, a row's number at the right -/
def mp_Ok (n : Nat) (L R : Nat → Nat) : Prop := ∀ r, r < n → L r < 5 ∧ R r < 64 ∧ (8 ≤ R r → R r % 8 ≠ 0)
def mp_lw (s : Nat) (x : List Bool) : Prop := (s = 5 ∧ x = [false]) ∨ (s = 6 ∧ x = [true])
theorem mp_Dv_lt {n : Nat} {L R : Nat → Nat} (ok : mp_Ok n L R) {s : Nat} (hs : 5 ≤ s) {x : List Bool} : mp_Dv n L R s x ↔ mp_lw s x := by
  constructor
  · intro h
    have h2 : s < 5 ∨ mp_lw s x := h (fun s x => s < 5 ∨ mp_lw s x)
      ⟨Or.inr (Or.inl ⟨rfl, rfl⟩), Or.inr (Or.inr ⟨rfl, rfl⟩), fun r hr _ => Or.inl (ok r hr).1, fun r hr _ _ _ _ => Or.inl (ok r hr).1,
        fun r hr _ _ _ _ _ => Or.inl (ok r hr).1⟩
    rcases h2 with h2 | h2
    · omega
    · exact h2
  · intro h
    rcases h with ⟨rfl, rfl⟩ | ⟨rfl, rfl⟩
    · exact (mp_Dv_cl n L R).1
    · exact (mp_Dv_cl n L R).2.1
/-! the least number below 4 with a property, 4 if there is none -/
noncomputable def mp_lt (P : Nat → Prop) : Nat :=
  @ite Nat (P 0) (Classical.propDecidable _) 0 (@ite Nat (P 1) (Classical.propDecidable _) 1 (@ite Nat (P 2) (Classical.propDecidable _) 2 (@ite Nat (P 3) (Classical.propDecidable _) 3 4)))
theorem mp_lt_eq {P : Nat → Prop} {c : Nat} (hc : c ≤ 4) (h : ∀ k, k < c → ¬ P k) (h2 : c < 4 → P c) : mp_lt P = c := by
  unfold mp_lt
  rcases (by omega : c = 0 ∨ c = 1 ∨ c = 2 ∨ c = 3 ∨ c = 4) with rfl | rfl | rfl | rfl | rfl
  · rw [if_pos (h2 (by omega))]
  · rw [if_neg (h 0 (by omega)), if_pos (h2 (by omega))]
  · rw [if_neg (h 0 (by omega)), if_neg (h 1 (by omega)), if_pos (h2 (by omega))]
  · rw [if_neg (h 0 (by omega)), if_neg (h 1 (by omega)), if_neg (h 2 (by omega)), if_pos (h2 (by omega))]
  · rw [if_neg (h 0 (by omega)), if_neg (h 1 (by omega)), if_neg (h 2 (by omega)), if_neg (h 3 (by omega))]
theorem mp_lt_ex (P : Nat → Prop) : ∃ c, c ≤ 4 ∧ (∀ k, k < c → ¬ P k) ∧ (c < 4 → P c) := by
  obtain ⟨c, hc, hm⟩ := pk_least (fun k => k = 4 ∨ P k) ⟨4, Or.inl rfl⟩
  have h4 : c ≤ 4 := by
    rcases Nat.lt_or_ge 4 c with z | z
    · exact absurd (Or.inl rfl) (hm 4 z)
    · exact z
  refine ⟨c, h4, fun k hk hp => hm k hk (Or.inr hp), fun hlt => ?_⟩
  rcases hc with e | hp
  · omega
  · exact hp
theorem mp_lt_le {P : Nat → Prop} (mono : ∀ a b, a ≤ b → P a → P b) {d : Nat} : mp_lt P ≤ d ↔ 4 ≤ d ∨ P d := by
  obtain ⟨c, hc, hm, hp⟩ := mp_lt_ex P
  rw [mp_lt_eq hc hm hp]
  constructor
  · intro h
    rcases Nat.lt_or_ge c 4 with z | z
    · exact Or.inr (mono c d h (hp z))
    · exact Or.inl (by omega)
  · intro h
    rcases Nat.lt_or_ge d c with z | z
    · rcases h with h | h
      · omega
      · exact absurd h (hm d z)
    · exact z
/-! the distance of a word from a sign -/
def mp_P (n : Nat) (L R : Nat → Nat) (s : Nat) (w : List Bool) (d : Nat) : Prop := ∃ x, mp_Dv n L R s x ∧ mp_Ed d w x
theorem mp_P_mono {n : Nat} {L R : Nat → Nat} {s : Nat} {w : List Bool} : ∀ a b, a ≤ b → mp_P n L R s w a → mp_P n L R s w b :=
  fun _ b hab ⟨x, h, e⟩ => ⟨x, h, mp_Ed_mono e b hab⟩
noncomputable def mp_ds (n : Nat) (L R : Nat → Nat) (s : Nat) (w : List Bool) : Nat := mp_lt (mp_P n L R s w)
theorem mp_ds_le {n : Nat} {L R : Nat → Nat} {s : Nat} {w : List Bool} {d : Nat} : mp_ds n L R s w ≤ d ↔ 4 ≤ d ∨ mp_P n L R s w d := mp_lt_le mp_P_mono
theorem mp_ds_4 (n : Nat) (L R : Nat → Nat) (s : Nat) (w : List Bool) : mp_ds n L R s w ≤ 4 := mp_ds_le.mpr (Or.inl (Nat.le_refl _))
theorem mp_ds_0 {n : Nat} {L R : Nat → Nat} {s : Nat} {w : List Bool} : mp_ds n L R s w = 0 ↔ mp_Dv n L R s w := by
  have h := mp_ds_le (n := n) (L := L) (R := R) (s := s) (w := w) (d := 0)
  constructor
  · intro e
    rcases h.mp (by omega) with z | ⟨x, hx, e⟩
    · omega
    · cases e; exact hx
  · intro e
    have := h.mpr (Or.inr ⟨w, e, rfl⟩)
    omega
theorem mp_ds_r0 {n : Nat} {L R : Nat → Nat} {r : Nat} (hr : r < n) (e : R r = 0) (w : List Bool) : mp_ds n L R (L r) w ≤ w.length :=
  mp_ds_le.mpr (Or.inr ⟨[], (mp_Dv_cl n L R).2.2.1 r hr e, mp_Ed_del w⟩)
theorem mp_ds_r1 {n : Nat} {L R : Nat → Nat} {r : Nat} (hr : r < n) (e0 : R r ≠ 0) (e8 : R r < 8) (w : List Bool) : mp_ds n L R (L r) w ≤ mp_ds n L R (R r - 1) w := by
  rcases mp_ds_le.mp (Nat.le_refl (mp_ds n L R (R r - 1) w)) with h | ⟨x, hx, h⟩
  · exact mp_ds_le.mpr (Or.inl h)
  · exact mp_ds_le.mpr (Or.inr ⟨x, (mp_Dv_cl n L R).2.2.2.1 r hr e0 e8 x hx, h⟩)
theorem mp_ds_r2 {n : Nat} {L R : Nat → Nat} {r : Nat} (hr : r < n) (e8 : 8 ≤ R r) (u v : List Bool) :
    mp_ds n L R (L r) (u ++ v) ≤ mp_ds n L R (R r / 8 - 1) u + mp_ds n L R (R r % 8 - 1) v := by
  rcases mp_ds_le.mp (Nat.le_refl (mp_ds n L R (R r / 8 - 1) u)) with h | ⟨x, hx, h⟩
  · exact mp_ds_le.mpr (Or.inl (by omega))
  · rcases mp_ds_le.mp (Nat.le_refl (mp_ds n L R (R r % 8 - 1) v)) with g | ⟨y, hy, g⟩
    · exact mp_ds_le.mpr (Or.inl (by omega))
    · exact mp_ds_le.mpr (Or.inr ⟨x ++ y, (mp_Dv_cl n L R).2.2.2.2 r hr e8 x y hx hy, mp_Ed_app h g⟩)
theorem mp_ds_lt {n : Nat} {L R : Nat → Nat} (ok : mp_Ok n L R) (c : Bool) (w : List Bool) : mp_ds n L R (5 + c.toNat) w = min 4 (mp_lc c w) := by
  have hd : ∀ x, mp_Dv n L R (5 + c.toNat) x ↔ x = [c] := by
    intro x
    rw [mp_Dv_lt ok (by omega)]
    cases c
    · exact ⟨fun h => by rcases h with ⟨_, h⟩ | ⟨h, _⟩; exact h; exact absurd h (by decide), fun h => Or.inl ⟨rfl, h⟩⟩
    · exact ⟨fun h => by rcases h with ⟨h, _⟩ | ⟨_, h⟩; exact absurd h (by decide); exact h, fun h => Or.inr ⟨rfl, h⟩⟩
  apply Nat.le_antisymm
  · rw [mp_ds_le]
    rcases Nat.lt_or_ge (mp_lc c w) 4 with z | z
    · rw [Nat.min_eq_right (by omega)]
      exact Or.inr ⟨[c], (hd _).mpr rfl, mp_Ed_lc c w⟩
    · rw [Nat.min_eq_left z]
      exact Or.inl (Nat.le_refl _)
  · rcases mp_ds_le.mp (Nat.le_refl (mp_ds n L R (5 + c.toNat) w)) with h | ⟨x, hx, h⟩
    · omega
    · have e := (hd x).mp hx
      subst e
      have := mp_lc_Ed (c := c) h
      rw [mp_lc_1] at this
      omega
/-! stretches of a text -/
def mp_sg (W : List Bool) (i j : Nat) : List Bool := (W.drop i).take (j - i)
theorem mp_sg_len {W : List Bool} {i j : Nat} (h : j ≤ W.length) : (mp_sg W i j).length = j - i := by
  unfold mp_sg
  rw [List.length_take, List.length_drop]
  omega
theorem mp_sg_all (W : List Bool) : mp_sg W 0 W.length = W := by
  unfold mp_sg
  rw [List.drop_zero, Nat.sub_zero, List.take_length]
theorem mp_sg_nil (W : List Bool) (i : Nat) : mp_sg W i i = [] := by
  unfold mp_sg
  rw [Nat.sub_self, List.take_zero]
theorem mp_sg_app {W : List Bool} {i k j : Nat} (h1 : i ≤ k) (h2 : k ≤ j) : mp_sg W i j = mp_sg W i k ++ mp_sg W k j := by
  unfold mp_sg
  rw [show j - i = (k - i) + (j - k) by omega, List.take_add, List.drop_drop, show i + (k - i) = k by omega]
theorem mp_sg_cut {W : List Bool} {i j : Nat} (hij : i ≤ j) (h : j ≤ W.length) {u v : List Bool} (e : mp_sg W i j = u ++ v) :
    ∃ k, i ≤ k ∧ k ≤ j ∧ u = mp_sg W i k ∧ v = mp_sg W k j := by
  have hl : (mp_sg W i j).length = u.length + v.length := by rw [e, List.length_append]
  rw [mp_sg_len h] at hl
  refine ⟨i + u.length, by omega, by omega, ?_⟩
  have e2 := mp_sg_app (W := W) (i := i) (k := i + u.length) (j := j) (by omega) (by omega)
  rw [e] at e2
  exact List.append_inj e2 (by rw [mp_sg_len (by omega)]; omega)
theorem mp_sg_mem {W : List Bool} {i j : Nat} (h : j ≤ W.length) {c : Bool} : c ∈ mp_sg W i j ↔ ∃ k, i ≤ k ∧ k < j ∧ W.getD k false = c := by
  rw [List.mem_iff_getElem?]
  constructor
  · rintro ⟨k, hk⟩
    unfold mp_sg at hk
    rw [List.getElem?_take] at hk
    split at hk
    · rw [List.getElem?_drop] at hk
      exact ⟨i + k, by omega, by omega, by rw [List.getD_eq_getElem?_getD, hk]; rfl⟩
    · cases hk
  · rintro ⟨k, h1, h2, rfl⟩
    refine ⟨k - i, ?_⟩
    unfold mp_sg
    rw [List.getElem?_take, if_pos (by omega), List.getElem?_drop, show i + (k - i) = k by omega, List.getElem?_eq_getElem (by omega), List.getD_eq_getElem?_getD,
      List.getElem?_eq_getElem (by omega)]
    rfl
/-! a closed table is at most the distance -/
def mp_ix (s i j : Nat) : Nat := 36 * s + 6 * i + j
def mp_TC (n : Nat) (L R : Nat → Nat) (N : Nat) (T : Nat → Nat) (r i j : Nat) : Prop :=
  (R r = 0 → T (mp_ix (L r) i j) ≤ j - i) ∧
  (R r ≠ 0 → R r < 8 → T (mp_ix (L r) i j) ≤ T (mp_ix (R r - 1) i j)) ∧
  (8 ≤ R r → ∀ k, i ≤ k → k ≤ j → T (mp_ix (L r) i j) ≤ T (mp_ix (R r / 8 - 1) i k) + T (mp_ix (R r % 8 - 1) k j))
theorem mp_closed {n : Nat} {L R : Nat → Nat} {W : List Bool} {T : Nat → Nat}
    (h5 : ∀ (c : Bool) (i j : Nat), i ≤ j → j ≤ W.length → T (mp_ix (5 + c.toNat) i j) ≤ mp_lc c (mp_sg W i j))
    (hc : ∀ r, r < n → ∀ i j, i ≤ j → j ≤ W.length → mp_TC n L R W.length T r i j) {s : Nat} {x : List Bool} (hx : mp_Dv n L R s x) :
    ∀ i j k, i ≤ j → j ≤ W.length → mp_Ed k (mp_sg W i j) x → T (mp_ix s i j) ≤ k := by
  refine hx (fun s x => ∀ i j k, i ≤ j → j ≤ W.length → mp_Ed k (mp_sg W i j) x → T (mp_ix s i j) ≤ k) ⟨?_, ?_, ?_, ?_, ?_⟩
  · intro i j k h1 h2 h
    have a := h5 false i j h1 h2
    have b := mp_lc_Ed (c := false) h
    rw [mp_lc_1] at b
    exact Nat.le_trans a (by omega)
  · intro i j k h1 h2 h
    have a := h5 true i j h1 h2
    have b := mp_lc_Ed (c := true) h
    rw [mp_lc_1] at b
    exact Nat.le_trans a (by omega)
  · intro r hr e i j k h1 h2 h
    have a := (hc r hr i j h1 h2).1 e
    have b := (mp_Ed_len h).2
    rw [mp_sg_len h2, List.length_nil] at b
    omega
  · intro r hr e0 e8 x hx i j k h1 h2 h
    have a := (hc r hr i j h1 h2).2.1 e0 e8
    have b := hx i j k h1 h2 h
    omega
  · intro r hr e8 x y hx hy i j k h1 h2 h
    obtain ⟨u, v, a, b, e, ha, hb, hab⟩ := mp_Ed_split h
    obtain ⟨m, m1, m2, rfl, rfl⟩ := mp_sg_cut h1 h2 e
    have c1 := hx i m a m1 (by omega) ha
    have c2 := hy m j b m2 h2 hb
    have c3 := (hc r hr i j h1 h2).2.2 e8 m m1 m2
    omega
theorem mp_table {n : Nat} {L R : Nat → Nat} {W : List Bool} {T : Nat → Nat}
    (h5 : ∀ (c : Bool) (i j : Nat), i ≤ j → j ≤ W.length → T (mp_ix (5 + c.toNat) i j) ≤ mp_lc c (mp_sg W i j))
    (hc : ∀ r, r < n → ∀ i j, i ≤ j → j ≤ W.length → mp_TC n L R W.length T r i j) {s i j : Nat} (h1 : i ≤ j) (h2 : j ≤ W.length)
    (h4 : T (mp_ix s i j) ≤ 4) (hd : mp_ds n L R s (mp_sg W i j) ≤ T (mp_ix s i j)) : T (mp_ix s i j) = mp_ds n L R s (mp_sg W i j) := by
  apply Nat.le_antisymm _ hd
  rcases mp_ds_le.mp (Nat.le_refl (mp_ds n L R s (mp_sg W i j))) with h | ⟨x, hx, h⟩
  · omega
  · exact mp_closed h5 hc hx i j _ h1 h2 h
/-! the shortest row -/
theorem mp_P_nil {n : Nat} {L R : Nat → Nat} {s d : Nat} : mp_P n L R s [] d ↔ ∃ x, mp_Dv n L R s x ∧ x.length ≤ d := by
  constructor
  · rintro ⟨x, hx, e⟩
    have := (mp_Ed_len e).1
    exact ⟨x, hx, by rw [List.length_nil] at this; omega⟩
  · rintro ⟨x, hx, e⟩
    exact ⟨x, hx, mp_Ed_mono (mp_Ed_ins x) d e⟩
/-! sums -/
def mp_sm (f : Nat → Nat) : Nat → Nat
  | 0 => 0
  | k + 1 => mp_sm f k + f k
theorem mp_sm_le {f g : Nat → Nat} : ∀ N, (∀ k, k < N → f k ≤ g k) → mp_sm f N ≤ mp_sm g N
  | 0, _ => Nat.le_refl _
  | N + 1, h => by
    have a := mp_sm_le (f := f) (g := g) N (fun k hk => h k (by omega))
    have b := h N (by omega)
    show mp_sm f N + f N ≤ mp_sm g N + g N
    omega
theorem mp_sm_lt {f g : Nat → Nat} {p : Nat} (hp : f p < g p) : ∀ N, (∀ k, k < N → f k ≤ g k) → p < N → mp_sm f N < mp_sm g N
  | 0, _, h => by omega
  | N + 1, h, hN => by
    have b := h N (by omega)
    show mp_sm f N + f N < mp_sm g N + g N
    rcases Nat.lt_or_ge p N with z | z
    · have a := mp_sm_lt hp N (fun k hk => h k (by omega)) z
      omega
    · have e : p = N := by omega
      subst e
      have a := mp_sm_le (f := f) (g := g) p (fun k hk => h k (by omega))
      omega
theorem mp_sm_c {f : Nat → Nat} {c : Nat} : ∀ N, (∀ k, k < N → f k ≤ c) → mp_sm f N ≤ c * N
  | 0, _ => Nat.le_refl _
  | N + 1, h => by
    have a := mp_sm_c (f := f) (c := c) N (fun k hk => h k (by omega))
    have b := h N (by omega)
    show mp_sm f N + f N ≤ c * (N + 1)
    rw [Nat.mul_add, Nat.mul_one]
    omega
/-- the numbers of names and stretches, together -/
def mp_mu (T : Nat → Nat) : Nat := mp_sm (fun k => if k / 6 % 6 ≤ k % 6 then T k else 0) 180
theorem mp_mu_420 {T : Nat → Nat} (h : ∀ k, k < 252 → T k ≤ 4) : mp_mu T ≤ 420 := by
  have a : mp_mu T ≤ mp_sm (fun k => if k / 6 % 6 ≤ k % 6 then 4 else 0) 180 := by
    apply mp_sm_le
    intro k hk
    by_cases e : k / 6 % 6 ≤ k % 6
    · rw [if_pos e, if_pos e]; exact h k (by omega)
    · rw [if_neg e, if_neg e]; exact Nat.le_refl _
  have b : mp_sm (fun k => if k / 6 % 6 ≤ k % 6 then 4 else 0) 180 = 420 := by decide +kernel
  omega
theorem mp_mu_lt {T : Nat → Nat} {s i j v : Nat} (hs : s < 5) (hij : i ≤ j) (hj : j < 6) (hv : v < T (mp_ix s i j)) :
    mp_mu (fun q => if q = mp_ix s i j then v else T q) < mp_mu T := by
  apply mp_sm_lt (p := mp_ix s i j)
  · have e : mp_ix s i j / 6 % 6 ≤ mp_ix s i j % 6 := by unfold mp_ix; omega
    show (if mp_ix s i j / 6 % 6 ≤ mp_ix s i j % 6 then (if mp_ix s i j = mp_ix s i j then v else T (mp_ix s i j)) else 0) < (if mp_ix s i j / 6 % 6 ≤ mp_ix s i j % 6 then T (mp_ix s i j) else 0)
    rw [if_pos e, if_pos e, if_pos rfl]
    exact hv
  · intro k hk
    dsimp only
    by_cases e : k / 6 % 6 ≤ k % 6
    · rw [if_pos e, if_pos e]
      by_cases e2 : k = mp_ix s i j
      · rw [if_pos e2, e2]; omega
      · rw [if_neg e2]; exact Nat.le_refl _
    · rw [if_neg e, if_neg e]; exact Nat.le_refl _
  · unfold mp_ix; omega
end
section
/-! numbers of words, and the shifts that make them -/
def mp_vl : List Bool → Nat
  | [] => 0
  | b :: x => b.toNat * 2 ^ x.length + mp_vl x
theorem mp_vl_lt : ∀ x : List Bool, mp_vl x < 2 ^ x.length
  | [] => by decide
  | b :: x => by
    have h := mp_vl_lt x
    show b.toNat * 2 ^ x.length + mp_vl x < 2 ^ (x.length + 1)
    rw [Nat.pow_succ]
    generalize 2 ^ x.length = m at *
    cases b
    · show 0 * m + mp_vl x < m * 2
      omega
    · show 1 * m + mp_vl x < m * 2
      omega
theorem mp_vl_app (y : List Bool) : ∀ x : List Bool, mp_vl (x ++ y) = mp_vl x * 2 ^ y.length + mp_vl y
  | [] => by
    show mp_vl y = 0 * 2 ^ y.length + mp_vl y
    rw [Nat.zero_mul, Nat.zero_add]
  | b :: x => by
    show b.toNat * 2 ^ (x ++ y).length + mp_vl (x ++ y) = (b.toNat * 2 ^ x.length + mp_vl x) * 2 ^ y.length + mp_vl y
    rw [mp_vl_app y x, List.length_append, Nat.pow_add, Nat.add_mul, Nat.mul_assoc, Nat.add_assoc]
theorem mp_vl_1 (b : Bool) : mp_vl [b] = b.toNat := by
  show b.toNat * 2 ^ 0 + 0 = b.toNat
  rw [Nat.pow_zero, Nat.mul_one, Nat.add_zero]
theorem mp_vl_snoc (x : List Bool) (b : Bool) : mp_vl (x ++ [b]) = 2 * mp_vl x + b.toNat := by
  rw [mp_vl_app, mp_vl_1]
  show mp_vl x * 2 ^ 1 + b.toNat = _
  omega
theorem mp_vl_inj : ∀ x y : List Bool, x.length = y.length → mp_vl x = mp_vl y → x = y
  | [], [], _, _ => rfl
  | [], _ :: _, h, _ => by cases h
  | _ :: _, [], h, _ => by cases h
  | b :: x, c :: y, h, e => by
    have hl : x.length = y.length := by
      rw [List.length_cons, List.length_cons] at h
      omega
    have e2 : b.toNat * 2 ^ x.length + mp_vl x = c.toNat * 2 ^ y.length + mp_vl y := e
    have hx := mp_vl_lt x
    have hy := mp_vl_lt y
    rw [← hl] at e2 hy
    have key : b = c ∧ mp_vl x = mp_vl y := by
      generalize 2 ^ x.length = m at *
      cases b <;> cases c
      · have e3 : 0 * m + mp_vl x = 0 * m + mp_vl y := e2
        exact ⟨rfl, by omega⟩
      · have e3 : 0 * m + mp_vl x = 1 * m + mp_vl y := e2
        omega
      · have e3 : 1 * m + mp_vl x = 0 * m + mp_vl y := e2
        omega
      · have e3 : 1 * m + mp_vl x = 1 * m + mp_vl y := e2
        exact ⟨rfl, by omega⟩
    rw [key.1, mp_vl_inj x y hl key.2]
theorem mp_wd : ∀ (n c : Nat), c < 2 ^ n → ∃ w : List Bool, w.length = n ∧ mp_vl w = c
  | 0, c, h => ⟨[], rfl, by rw [Nat.pow_zero] at h; show 0 = c; omega⟩
  | n + 1, c, h => by
    rw [Nat.pow_succ] at h
    obtain ⟨w, hw, e⟩ := mp_wd n (c / 2) (by omega)
    refine ⟨w ++ [decide (c % 2 = 1)], by rw [List.length_append, hw]; rfl, ?_⟩
    rw [mp_vl_snoc, e]
    by_cases z : c % 2 = 1
    · rw [decide_eq_true z]
      show 2 * (c / 2) + 1 = c
      omega
    · rw [decide_eq_false z]
      show 2 * (c / 2) + 0 = c
      omega
def mp_nm (x : List Bool) : Nat := 2 ^ x.length - 1 + mp_vl x
theorem mp_nm_b (x : List Bool) : 2 ^ x.length ≤ mp_nm x + 1 ∧ mp_nm x + 1 < 2 * 2 ^ x.length := by
  have h := mp_vl_lt x
  have h2 := Nat.two_pow_pos x.length
  unfold mp_nm
  omega
theorem mp_nm_ge (x : List Bool) (k : Nat) : k ≤ x.length ↔ 2 ^ k ≤ mp_nm x + 1 := by
  have h := mp_nm_b x
  constructor
  · intro hk
    have := Nat.pow_le_pow_right (n := 2) (by decide) hk
    omega
  · intro hk
    rcases Nat.lt_or_ge x.length k with z | z
    · have := Nat.pow_le_pow_right (n := 2) (by decide) (show x.length + 1 ≤ k from z)
      rw [Nat.pow_succ] at this
      omega
    · exact z
theorem mp_nm_inj {x y : List Bool} (e : mp_nm x = mp_nm y) : x = y := by
  have h1 := (mp_nm_ge x y.length).mpr (by rw [e]; exact (mp_nm_b y).1)
  have h2 := (mp_nm_ge y x.length).mpr (by rw [← e]; exact (mp_nm_b x).1)
  have hl : x.length = y.length := by omega
  apply mp_vl_inj x y hl
  unfold mp_nm at e
  rw [hl] at e
  omega
theorem mp_nm_lt {x : List Bool} (h : x.length ≤ 8) : mp_nm x < 511 := by
  have h1 := (mp_nm_b x).2
  have h2 := Nat.pow_le_pow_right (n := 2) (by decide) h
  omega
theorem mp_nm_of : ∀ m : Nat, ∃ x : List Bool, mp_nm x = m := by
  intro m
  induction m using Nat.strongRecOn with
  | ind m ih =>
    rcases Nat.eq_zero_or_pos m with rfl | hm
    · exact ⟨[], rfl⟩
    · obtain ⟨x, hx⟩ := ih ((m + 1) / 2 - 1) (by omega)
      have hp := Nat.two_pow_pos x.length
      unfold mp_nm at hx
      refine ⟨x ++ [decide ((m + 1) % 2 = 1)], ?_⟩
      unfold mp_nm
      rw [mp_vl_snoc, List.length_append, List.length_singleton, Nat.pow_succ]
      generalize 2 ^ x.length = q at *
      by_cases z : (m + 1) % 2 = 1
      · rw [decide_eq_true z]
        show q * 2 - 1 + (2 * mp_vl x + 1) = m
        omega
      · rw [decide_eq_false z]
        show q * 2 - 1 + (2 * mp_vl x + 0) = m
        omega
theorem mp_nm_sur {m : Nat} (h : m < 511) : ∃ x : List Bool, x.length ≤ 8 ∧ mp_nm x = m := by
  obtain ⟨x, hx⟩ := mp_nm_of m
  refine ⟨x, ?_, hx⟩
  have h1 := (mp_nm_b x).1
  rcases Nat.lt_or_ge 8 x.length with z | z
  · have := Nat.pow_le_pow_right (n := 2) (by decide) (show 9 ≤ x.length from z)
    omega
  · exact z
/-! parts of a word's number -/
theorem mp_hi (u v : List Bool) : mp_vl (u ++ v) / 2 ^ v.length = mp_vl u := by
  rw [mp_vl_app, Nat.mul_comm, Nat.mul_add_div (Nat.two_pow_pos _), Nat.div_eq_of_lt (mp_vl_lt v), Nat.add_zero]
theorem mp_lo (u v : List Bool) : mp_vl (u ++ v) % 2 ^ v.length = mp_vl v := by
  rw [mp_vl_app, Nat.mul_comm, Nat.mul_add_mod, Nat.mod_eq_of_lt (mp_vl_lt v)]
theorem mp_x1 (a : Nat) (e : Bool) : (2 * a + e.toNat) ^^^ 1 = 2 * a + (!e).toNat := by
  have h1 : ((2 * a + e.toNat) ^^^ 1) / 2 = (2 * a + e.toNat) / 2 ^^^ 1 / 2 := Nat.xor_div_two
  have h2 : ((2 * a + e.toNat) ^^^ 1) % 2 = 1 ↔ ¬ ((2 * a + e.toNat) % 2 = 1 ↔ 1 % 2 = 1) := Nat.xor_mod_two_eq_one
  rw [show 1 / 2 = 0 from rfl, Nat.xor_zero] at h1
  cases e
  · have h3 : ((2 * a + 0) ^^^ 1) / 2 = (2 * a + 0) / 2 := h1
    have h4 : ((2 * a + 0) ^^^ 1) % 2 = 1 ↔ ¬ ((2 * a + 0) % 2 = 1 ↔ 1 % 2 = 1) := h2
    show (2 * a + 0) ^^^ 1 = 2 * a + 1
    generalize (2 * a + 0) ^^^ 1 = z at *
    have h5 : z % 2 = 1 := h4.mpr (fun h => by have := h.mpr rfl; omega)
    omega
  · have h3 : ((2 * a + 1) ^^^ 1) / 2 = (2 * a + 1) / 2 := h1
    have h4 : ((2 * a + 1) ^^^ 1) % 2 = 1 ↔ ¬ ((2 * a + 1) % 2 = 1 ↔ 1 % 2 = 1) := h2
    show (2 * a + 1) ^^^ 1 = 2 * a + 0
    generalize (2 * a + 1) ^^^ 1 = z at *
    have h5 : ¬ z % 2 = 1 := fun h => (h4.mp h) ⟨fun _ => rfl, fun _ => by omega⟩
    omega
theorem mp_flip (u v : List Bool) (e : Bool) : mp_vl (u ++ e :: v) ^^^ 2 ^ v.length = mp_vl (u ++ (!e) :: v) := by
  have hv := mp_vl_lt v
  have hp := Nat.two_pow_pos v.length
  have ha : ∀ b : Bool, mp_vl (u ++ b :: v) = 2 ^ v.length * (2 * mp_vl u + b.toNat) + mp_vl v := by
    intro b
    rw [show u ++ b :: v = (u ++ [b]) ++ v by rw [List.append_assoc]; rfl, mp_vl_app, mp_vl_snoc, Nat.mul_comm]
  have h1 : (mp_vl (u ++ e :: v) ^^^ 2 ^ v.length) / 2 ^ v.length = mp_vl (u ++ e :: v) / 2 ^ v.length ^^^ 2 ^ v.length / 2 ^ v.length := Nat.xor_div_two_pow
  have h2 : (mp_vl (u ++ e :: v) ^^^ 2 ^ v.length) % 2 ^ v.length = mp_vl (u ++ e :: v) % 2 ^ v.length ^^^ 2 ^ v.length % 2 ^ v.length := Nat.xor_mod_two_pow
  rw [Nat.mod_self, Nat.xor_zero, ha e, Nat.mul_add_mod, Nat.mod_eq_of_lt hv] at h2
  rw [Nat.div_self hp, ha e, Nat.mul_add_div hp, Nat.div_eq_of_lt hv, Nat.add_zero, mp_x1] at h1
  rw [ha e, ha (!e), ← Nat.div_add_mod (_ ^^^ _) (2 ^ v.length), h1, h2]
theorem mp_bit {w : List Bool} {k : Nat} (h : k < w.length) : mp_vl w / 2 ^ (w.length - 1 - k) % 2 = (w.getD k false).toNat := by
  have e : w = (w.take k ++ [w.getD k false]) ++ w.drop (k + 1) := by
    have h1 : w.drop k = w.getD k false :: w.drop (k + 1) := by
      rw [List.drop_eq_getElem_cons h, List.getD_eq_getElem?_getD, List.getElem?_eq_getElem h]
      rfl
    rw [List.append_assoc, List.singleton_append, ← h1, List.take_append_drop]
  have hl : (w.drop (k + 1)).length = w.length - 1 - k := by rw [List.length_drop]; omega
  have h2 := mp_hi (w.take k ++ [w.getD k false]) (w.drop (k + 1))
  rw [← e, hl] at h2
  rw [h2, mp_vl_snoc]
  have := Bool.toNat_lt (w.getD k false)
  omega
theorem mp_part {W : List Bool} {i j : Nat} (h1 : i ≤ j) (h2 : j ≤ W.length) : mp_vl W / 2 ^ (W.length - j) % 2 ^ (j - i) = mp_vl (mp_sg W i j) := by
  have e : W = (mp_sg W 0 i ++ mp_sg W i j) ++ mp_sg W j W.length := by
    rw [← mp_sg_app (Nat.zero_le _) h1, ← mp_sg_app (Nat.zero_le _) h2, mp_sg_all]
  have a := mp_hi (mp_sg W 0 i ++ mp_sg W i j) (mp_sg W j W.length)
  rw [← e, mp_sg_len (Nat.le_refl _)] at a
  have b := mp_lo (mp_sg W 0 i) (mp_sg W i j)
  rw [mp_sg_len h2] at b
  rw [a, b]
/-! shifts and masks of small numbers -/
theorem nx_or (a b : Nat) : nI a ||| nI b = nI (a ||| b) := by
  apply Int32.toBitVec_inj.1
  show BitVec.ofNat 32 a ||| BitVec.ofNat 32 b = BitVec.ofNat 32 (a ||| b)
  apply BitVec.eq_of_getLsbD_eq
  intro i hi
  simp [hi]
theorem mp_2 {k : Nat} (h : k < 31) : 2 ^ k < 2 ^ 31 := Nat.pow_lt_pow_right (by decide) h
theorem mp_p2 {k : Nat} (h : k < 31) : (1 : Int32) <<< (nI k &&& 31) = nI (2 ^ k) := by
  have h2 := mp_2 h
  have := pk_shlN (n := 1) (nI k &&& 31) k (s_l k (by omega)) (by omega)
  rw [Nat.one_mul] at this
  exact this
theorem mp_sr {a k : Nat} (ha : a < 2 ^ 31) (hk : k < 32) : nI a >>> (nI k &&& 31) = nI (a / 2 ^ k) := pk_shrN ha _ k (s_l k hk)
theorem mp_sl {a k : Nat} (hk : k < 32) (h : a * 2 ^ k < 2 ^ 32) : nI a <<< (nI k &&& 31) = nI (a * 2 ^ k) := pk_shlN _ k (s_l k hk) h
theorem mp_mk {k : Nat} (h : k < 31) : ((1 : Int32) <<< (nI k &&& 31)) - 1 = nI (2 ^ k - 1) := by
  rw [mp_p2 h]
  exact pk_sub (b := 1) Nat.one_le_two_pow
theorem mp_am (a : Nat) {k : Nat} (h : k < 31) : nI a &&& (((1 : Int32) <<< (nI k &&& 31)) - 1) = nI (a % 2 ^ k) := by
  rw [mp_mk h, nx_and, Nat.and_two_pow_sub_one_eq_mod]
theorem mp_or (a : Nat) {b k : Nat} (h : b < 2 ^ k) : nI (a * 2 ^ k) ||| nI b = nI (a * 2 ^ k + b) := by
  rw [nx_or, Nat.mul_comm, Nat.two_pow_add_eq_or_of_lt h]
theorem mp_a1 (a : Nat) : nI a &&& 1 = nI (a % 2) := by
  have := nx_and a 1
  rw [Nat.and_one_is_mod] at this
  exact this
theorem mp_256 {x : List Bool} (h : x.length ≤ 8) : mp_vl x < 256 := by
  have h1 := mp_vl_lt x
  have h2 := Nat.pow_le_pow_right (n := 2) (by decide) h
  omega
theorem mp_num {x : List Bool} (h : x.length ≤ 8) : (((1 : Int32) <<< (nI x.length &&& 31)) - 1) + nI (mp_vl x) = nI (mp_nm x) := by
  rw [mp_mk (by omega), nI_add]
  rfl
/-- the same, the length and the bits given -/
theorem mp_numE {x : List Bool} {n b : Nat} (h : x.length ≤ 8) (hn : n = x.length) (hb : b = mp_vl x) : (((1 : Int32) <<< (nI n &&& 31)) - 1) + nI b = nI (mp_nm x) := by
  subst hn hb
  exact mp_num h
theorem mp_bits {x : List Bool} (h : x.length ≤ 8) : (nI (mp_nm x) - ((1 : Int32) <<< (nI x.length &&& 31))) + 1 = nI (mp_vl x) := by
  rw [mp_p2 (by omega)]
  have e : nI (mp_nm x) + 1 = nI (mp_vl x) + nI (2 ^ x.length) := by
    rw [nI_1, nI_add]
    have := Nat.two_pow_pos x.length
    exact congrArg nI (by unfold mp_nm; omega)
  have e2 : ∀ a b c : Int32, a + 1 = b + c → (a - c) + 1 = b := by
    intro a b c h
    have : (a - c) + 1 = (a + 1) - c := by grind
    rw [this, h]
    exact Int32.add_sub_cancel _ _
  exact e2 _ _ _ e
end
section
/-! the component's fill: its table holds the distances -/
def mx_T (W : List Bool) (xt : Nat → Int32) : Prop := ∀ k, k < W.length → xt k = nI (5 + (W.getD k false).toNat)
def mx_z (c : Nat) : Nat := if c = 0 then 0 else if c < 8 then 1 else 2
def mx_R (n : Nat) (L R : Nat → Nat) (xl xr xs : Nat → Int32) : Prop := ∀ r, r < n → xl r = nI (L r) ∧ xs r = nI (mx_z (R r)) ∧
  (R r ≠ 0 → R r < 8 → xr (2 * r) = nI (R r - 1)) ∧ (8 ≤ R r → xr (2 * r) = nI (R r / 8 - 1) ∧ xr (2 * r + 1) = nI (R r % 8 - 1))
def mx_S (n : Nat) (L R : Nat → Nat) (W : List Bool) (xl xr xs xt : Nat → Int32) : Prop :=
  n ≤ 14 ∧ W.length ≤ 5 ∧ mp_Ok n L R ∧ mx_R n L R xl xr xs ∧ mx_T W xt
def mx_TR (tb : Nat → Int32) (T : Nat → Nat) : Prop := ∀ p, p < 252 → tb p = nI (T p) ∧ T p ≤ 4
def mx_up (T : Nat → Nat) (p v : Nat) : Nat → Nat := fun q => if q = p then v else T q
theorem mx_up_s (T : Nat → Nat) (p v : Nat) : mx_up T p v p = v := if_pos rfl
theorem mx_up_n {T : Nat → Nat} {p v q : Nat} (h : q ≠ p) : mx_up T p v q = T q := if_neg h
theorem mx_TR_up {tb : Nat → Int32} {T : Nat → Nat} (h : mx_TR tb T) (p : Nat) {v : Nat} (hv : v ≤ 4) : mx_TR (upd tb p (nI v)) (mx_up T p v) := by
  intro q hq
  by_cases e : q = p
  · subst e
    rw [pk_us, mx_up_s]
    exact ⟨rfl, hv⟩
  · rw [pk_un e, mx_up_n e]
    exact h q hq
theorem mp_ix_lt {s i j : Nat} (hs : s < 7) (hi : i < 6) (hj : j < 6) : mp_ix s i j < 252 := by unfold mp_ix; omega
theorem mp_ix_inj {s i j s' i' j' : Nat} (hi : i < 6) (hj : j < 6) (hi' : i' < 6) (hj' : j' < 6) (e : mp_ix s i j = mp_ix s' i' j') : s = s' ∧ i = i' ∧ j = j' := by
  unfold mp_ix at e
  omega
theorem mp_tn_inj {a b : Bool} (h : a.toNat = b.toNat) : a = b := by
  cases a <;> cases b
  · rfl
  · exact absurd h (by decide)
  · exact absurd h (by decide)
  · rfl
theorem mx_at {post : Int32 → Prop} (s i j : Nat) {x : Int32} (hx : x = nI s) (h : post (nI (mp_ix s i j))) : wpX_at post x (nI i) (nI j) := by
  subst hx
  have e : ((36 * nI s) + (6 * nI i)) + nI j = nI (mp_ix s i j) := by
    unfold mp_ix
    rw [← nI_add, ← nI_add, ← pk_mul, ← pk_mul]
    rfl
  unfold wpX_at
  rw [e]
  exact h
theorem mp_lc_6 (c : Bool) (w : List Bool) : mp_lc c w ≤ w.length + 1 := by
  by_cases h : w = []
  · subst h; rw [mp_lc_nil]; omega
  · have := (mp_lc_b (c := c) h).2; omega
theorem mx_lc10 {W : List Bool} {xt : Nat → Int32} (hT : mx_T W xt) (hW : W.length ≤ 5) {post : Int32 → Prop} (c : Bool) {i j : Nat} (hij : i < j) (hj : j ≤ W.length)
    {fc fs fk : Int32} {xl xr xs xk tb : Nat → Int32} (hp : post (nI (mp_lc c (mp_sg W i j)))) :
    ∀ d k, k + d = j → i ≤ k → (∀ q, i ≤ q → q < k → W.getD q false ≠ c) →
      wX_letterChanges_10 post (nI (5 + c.toNat)) (nI i) (nI j) fc fs fk xl xr xs xt xk tb (d + 1) (nI k) := by
  intro d
  induction d with
  | zero =>
    intro k hk hik hno
    have e : mp_lc c (mp_sg W i j) = j - i := by
      rw [mp_lc_out, mp_sg_len hj]
      · intro e
        have := mp_sg_len (i := i) hj
        rw [e, List.length_nil] at this
        omega
      · rw [mp_sg_mem hj]
        rintro ⟨q, h1, h2, h3⟩
        exact hno q h1 (by omega) h3
    rw [e] at hp
    refine br_t (nI_le (by omega) (by omega)) ?_
    rw [pk_sub (by omega)]
    exact hp
  | succ d ih =>
    intro k hk hik hno
    refine br_f (nI_ge (by omega) (by omega)) ⟨vp_in_nI (by omega) (by omega), ?_⟩
    have hx : xt (nI k).toNatClampNeg = nI (5 + (W.getD k false).toNat) := by rw [nI_clamp (by omega), hT k (by omega)]
    by_cases hc : W.getD k false = c
    · have e : mp_lc c (mp_sg W i j) = j - i - 1 := by rw [mp_lc_in ((mp_sg_mem hj).mpr ⟨k, hik, by omega, hc⟩), mp_sg_len hj]
      rw [e] at hp
      refine br_t (by rw [hx, hc]) ?_
      have e2 : nI j - nI i = nI (j - i) := pk_sub (by omega)
      have e3 : nI (j - i) - 1 = nI (j - i - 1) := pk_sub (b := 1) (by omega)
      rw [e2, e3]
      exact hp
    · refine br_f ?_ (nm_r (nI_1 k) (ih (k + 1) (by omega) (by omega) ?_))
      · rw [hx]
        intro h
        have h1 := Bool.toNat_lt (W.getD k false)
        have h2 := Bool.toNat_lt c
        have h3 := (nI_eq (by omega) (by omega)).mp h
        exact hc (mp_tn_inj (by omega))
      · intro q h1 h2
        by_cases e : q = k
        · rw [e]; exact hc
        · exact hno q h1 (by omega)
theorem mx_lch {W : List Bool} {xt : Nat → Int32} (hT : mx_T W xt) (hW : W.length ≤ 5) {post : Int32 → Prop} (c : Bool) {i j : Nat} (hij : i ≤ j) (hj : j ≤ W.length)
    {fc fs fk : Int32} {xl xr xs xk tb : Nat → Int32} (hp : post (nI (mp_lc c (mp_sg W i j)))) :
    wpX_letterChanges post (fc, fs, fk, xl, xr, xs, xt, xk, tb) (nI (5 + c.toNat)) (nI i) (nI j) := by
  unfold wpX_letterChanges
  dsimp only
  by_cases e : i = j
  · refine br_t (by rw [e]) ?_
    subst e
    rw [mp_sg_nil, mp_lc_nil] at hp
    exact hp
  · refine br_f (fun h => e ((nI_eq (by omega) (by omega)).mp h)) ⟨_, mx_lc10 hT hW c (by omega) hj hp (j - i) i (by omega) (Nat.le_refl _) (fun q h1 h2 => by omega)⟩
/-! a rule's changes -/
def mx_CB (R : Nat → Nat) (T : Nat → Nat) (r i j v : Nat) : Prop := v ≤ 4 ∧ (R r = 0 → v = min 4 (j - i)) ∧ (R r ≠ 0 → R r < 8 → v = T (mp_ix (R r - 1) i j)) ∧
  (8 ≤ R r → (∀ k, i ≤ k → k ≤ j → v ≤ T (mp_ix (R r / 8 - 1) i k) + T (mp_ix (R r % 8 - 1) k j)) ∧
    (v = 4 ∨ ∃ k, i ≤ k ∧ k ≤ j ∧ v = T (mp_ix (R r / 8 - 1) i k) + T (mp_ix (R r % 8 - 1) k j)))
theorem mx_cb59 {n : Nat} {L R : Nat → Nat} {W : List Bool} {xl xr xs xt : Nat → Int32} (S : mx_S n L R W xl xr xs xt) {tb : Nat → Int32} {T : Nat → Nat} (hT : mx_TR tb T)
    {r i j : Nat} (hr : r < n) (h8 : 8 ≤ R r) (hij : i ≤ j) (hj : j ≤ W.length) {fc fs fk : Int32} {xk : Nat → Int32} {post : Int32 → Prop}
    (K : ∀ v, mx_CB R T r i j v → post (nI v)) :
    ∀ d k b, k + d = j + 1 → i ≤ k → b ≤ 4 → (∀ q, i ≤ q → q < k → b ≤ T (mp_ix (R r / 8 - 1) i q) + T (mp_ix (R r % 8 - 1) q j)) →
      (b = 4 ∨ ∃ q, i ≤ q ∧ q ≤ j ∧ b = T (mp_ix (R r / 8 - 1) i q) + T (mp_ix (R r % 8 - 1) q j)) →
      wX_changesBy_59 post (nI r) (nI i) (nI j) fc fs fk xl xr xs xt xk tb (d + 1) (nI b) (nI k) := by
  obtain ⟨hn, hW, ok, hR, hX⟩ := S
  obtain ⟨_, hr64, hr8⟩ := ok r hr
  have hr8 := hr8 h8
  obtain ⟨_, _, _, hr2⟩ := hR r hr
  obtain ⟨ha, hb⟩ := hr2 h8
  intro d
  induction d with
  | zero =>
    intro k b hk hik hb4 hall hex
    refine br_t (nI_lt (by omega) (by omega)) (K b ⟨hb4, fun h => by omega, fun _ h => by omega, fun _ => ⟨fun q h1 h2 => hall q h1 (by omega), hex⟩⟩)
  | succ d ih =>
    intro k b hk hik hb4 hall hex
    have e1 : 2 * nI r = nI (2 * r) := pk_mul 2 r
    have e2 : 2 * nI r + 1 = nI (2 * r + 1) := by rw [e1]; exact nI_1 _
    have i1 : mp_ix (R r / 8 - 1) i k < 252 := mp_ix_lt (by omega) (by omega) (by omega)
    have i2 : mp_ix (R r % 8 - 1) k j < 252 := mp_ix_lt (by omega) (by omega) (by omega)
    have t1 := hT _ i1
    have t2 := hT _ i2
    refine br_f (nI_nlt (by omega) (by omega)) ⟨pk_in (2 * r) 28 (by omega) e1, mx_at (R r / 8 - 1) i k (by rw [e1, nI_clamp (by omega)]; exact ha) ?_⟩
    refine ⟨pk_in (2 * r + 1) 28 (by omega) e2, mx_at (R r % 8 - 1) k j (by rw [e2, nI_clamp (by omega)]; exact hb) ?_⟩
    refine ⟨vp_in_nI i1 (by omega), vp_in_nI i2 (by omega), nm_r (e' := nI (T (mp_ix (R r / 8 - 1) i k) + T (mp_ix (R r % 8 - 1) k j)))
      (by rw [nI_clamp (by omega), nI_clamp (by omega), t1.1, t2.1, nI_add]) ?_⟩
    refine pk_le b (T (mp_ix (R r / 8 - 1) i k) + T (mp_ix (R r % 8 - 1) k j)) (fun h => nm_r (nI_1 k) ?_) (fun h => nm_r (nI_1 k) ?_)
    · refine ih (k + 1) b (by omega) (by omega) hb4 ?_ hex
      intro q h1 h2
      by_cases e : q = k
      · rw [e]; exact h
      · exact hall q h1 (by omega)
    · refine ih (k + 1) _ (by omega) (by omega) (by omega) ?_ (Or.inr ⟨k, hik, by omega, rfl⟩)
      intro q h1 h2
      by_cases e : q = k
      · rw [e]; exact Nat.le_refl _
      · have := hall q h1 (by omega); omega
theorem mx_cb {n : Nat} {L R : Nat → Nat} {W : List Bool} {xl xr xs xt : Nat → Int32} (S : mx_S n L R W xl xr xs xt) {tb : Nat → Int32} {T : Nat → Nat} (hT : mx_TR tb T)
    {r i j : Nat} (hr : r < n) (hij : i ≤ j) (hj : j ≤ W.length) {fc fs fk : Int32} {xk : Nat → Int32} {post : Int32 → Prop}
    (K : ∀ v, mx_CB R T r i j v → post (nI v)) : wpX_changesBy post (fc, fs, fk, xl, xr, xs, xt, xk, tb) (nI r) (nI i) (nI j) := by
  have S' := S
  obtain ⟨hn, hW, ok, hR, hX⟩ := S
  obtain ⟨_, hr64, hr8⟩ := ok r hr
  obtain ⟨_, hz, hr1, hr2⟩ := hR r hr
  have hs : xs (nI r).toNatClampNeg = nI (mx_z (R r)) := by rw [nI_clamp (by omega)]; exact hz
  unfold wpX_changesBy
  dsimp only
  refine ⟨vp_in_nI (by omega) (by omega), ?_⟩
  by_cases h0 : R r = 0
  · have ez : mx_z (R r) = 0 := if_pos h0
    refine br_t (by rw [hs, ez]; rfl) ?_
    have e : nI j - nI i = nI (j - i) := pk_sub hij
    refine pk_le 4 (j - i) (fun h => ?_) (fun h => ?_) rfl e
    · exact K 4 ⟨by omega, fun _ => by omega, fun h => absurd h0 h, fun h => by omega⟩
    · rw [e]
      exact K (j - i) ⟨by omega, fun _ => by omega, fun h => absurd h0 h, fun h => by omega⟩
  · by_cases h8 : R r < 8
    · have ez : mx_z (R r) = 1 := by unfold mx_z; rw [if_neg h0, if_pos h8]
      have e1 : 2 * nI r = nI (2 * r) := pk_mul 2 r
      have i1 : mp_ix (R r - 1) i j < 252 := mp_ix_lt (by omega) (by omega) (by omega)
      refine br_f (by rw [hs, ez]; decide) ⟨vp_in_nI (by omega) (by omega), br_t (by rw [hs, ez]; rfl) ⟨pk_in (2 * r) 28 (by omega) e1,
        mx_at (R r - 1) i j (by rw [e1, nI_clamp (by omega)]; exact hr1 h0 h8) ⟨vp_in_nI i1 (by omega), ?_⟩⟩⟩
      rw [nI_clamp (by omega), (hT _ i1).1]
      exact K _ ⟨(hT _ i1).2, fun h => absurd h h0, fun _ _ => rfl, fun h => by omega⟩
    · have ez : mx_z (R r) = 2 := by unfold mx_z; rw [if_neg h0, if_neg h8]
      refine br_f (by rw [hs, ez]; decide) ⟨vp_in_nI (by omega) (by omega), br_f (by rw [hs, ez]; decide) ⟨_,
        mx_cb59 S' hT hr (by omega) hij hj K (j + 1 - i) i 4 (by omega) (Nat.le_refl _) (Nat.le_refl _) (fun q h1 h2 => by omega) (Or.inl rfl)⟩⟩
/-! the invariant of the table -/
def mx_I (n : Nat) (L R : Nat → Nat) (W : List Bool) (T : Nat → Nat) : Prop :=
  (∀ s i j, s < 7 → i ≤ j → j ≤ W.length → mp_ds n L R s (mp_sg W i j) ≤ T (mp_ix s i j)) ∧
  (∀ (c : Bool) (i j : Nat), i ≤ j → j ≤ W.length → T (mp_ix (5 + c.toNat) i j) ≤ mp_lc c (mp_sg W i j))
theorem mx_CB_TC {n : Nat} {L R : Nat → Nat} {N : Nat} {T : Nat → Nat} {r i j v : Nat} (h : mx_CB R T r i j v) (hv : T (mp_ix (L r) i j) ≤ v) : mp_TC n L R N T r i j := by
  obtain ⟨_, h0, h1, h2⟩ := h
  refine ⟨fun e => ?_, fun e e8 => ?_, fun e8 k k1 k2 => ?_⟩
  · have := h0 e; omega
  · have := h1 e e8; omega
  · have := (h2 e8).1 k k1 k2; omega
theorem mx_CB_ds {n : Nat} {L R : Nat → Nat} {W : List Bool} {T : Nat → Nat} (ok : mp_Ok n L R) (I : mx_I n L R W T) {r i j v : Nat} (hr : r < n) (hij : i ≤ j) (hj : j ≤ W.length)
    (h : mx_CB R T r i j v) : mp_ds n L R (L r) (mp_sg W i j) ≤ v := by
  obtain ⟨_, h0, h1, h2⟩ := h
  obtain ⟨_, hr64, hr8⟩ := ok r hr
  have h4 := mp_ds_4 n L R (L r) (mp_sg W i j)
  by_cases e0 : R r = 0
  · have a := mp_ds_r0 (L := L) hr e0 (mp_sg W i j)
    rw [mp_sg_len hj] at a
    have := h0 e0
    omega
  · by_cases e8 : R r < 8
    · have a := mp_ds_r1 (L := L) hr e0 e8 (mp_sg W i j)
      have b := I.1 (R r - 1) i j (by omega) hij hj
      have := h1 e0 e8
      omega
    · have hr8 := hr8 (by omega)
      rcases (h2 (by omega)).2 with e | ⟨k, k1, k2, e⟩
      · omega
      · have a := mp_ds_r2 (L := L) (R := R) hr (by omega) (mp_sg W i k) (mp_sg W k j)
        rw [← mp_sg_app k1 k2] at a
        have b := I.1 (R r / 8 - 1) i k (by omega) k1 (by omega)
        have c := I.1 (R r % 8 - 1) k j (by omega) k2 hj
        omega
theorem mx_I_up {n : Nat} {L R : Nat → Nat} {W : List Bool} {T : Nat → Nat} (hW : W.length ≤ 5) (I : mx_I n L R W T) {s i j v : Nat} (hs : s < 7) (hij : i ≤ j) (hj : j ≤ W.length)
    (hd : mp_ds n L R s (mp_sg W i j) ≤ v) (hv : v ≤ T (mp_ix s i j)) : mx_I n L R W (mx_up T (mp_ix s i j) v) := by
  refine ⟨fun s' i' j' h1 h2 h3 => ?_, fun c i' j' h2 h3 => ?_⟩
  · by_cases e : mp_ix s' i' j' = mp_ix s i j
    · obtain ⟨rfl, rfl, rfl⟩ := mp_ix_inj (by omega) (by omega) (by omega) (by omega) e
      rw [mx_up_s]
      exact hd
    · rw [mx_up_n e]
      exact I.1 s' i' j' h1 h2 h3
  · by_cases e : mp_ix (5 + c.toNat) i' j' = mp_ix s i j
    · rw [e, mx_up_s]
      have := I.2 c i' j' h2 h3
      rw [e] at this
      omega
    · rw [mx_up_n e]
      exact I.2 c i' j' h2 h3
/-! a rule for all stretches -/
def mx_U (n : Nat) (L R : Nat → Nat) (W : List Bool) (T0 T : Nat → Nat) (f r : Nat) (Q : Nat → Nat → Prop) : Prop :=
  f ≤ 1 ∧ mx_I n L R W T ∧ mp_mu T + f ≤ mp_mu T0 ∧ (f = 0 → T = T0 ∧ ∀ i j, i ≤ j → j ≤ W.length → Q i j → mp_TC n L R W.length T r i j)
theorem mx_U_mono {n : Nat} {L R : Nat → Nat} {W : List Bool} {T0 T : Nat → Nat} {f r : Nat} {Q Q' : Nat → Nat → Prop} (h : mx_U n L R W T0 T f r Q)
    (hq : ∀ i j, i ≤ j → j ≤ W.length → Q' i j → Q i j) : mx_U n L R W T0 T f r Q' :=
  ⟨h.1, h.2.1, h.2.2.1, fun e => ⟨(h.2.2.2 e).1, fun i j h1 h2 h3 => (h.2.2.2 e).2 i j h1 h2 (hq i j h1 h2 h3)⟩⟩
theorem mx_ur15 {n : Nat} {L R : Nat → Nat} {W : List Bool} {xl xr xs xt : Nat → Int32} (S : mx_S n L R W xl xr xs xt) {T0 : Nat → Nat} {r i : Nat} (hr : r < n)
    (hi : i ≤ W.length) {fc fk : Int32} {xk : Nat → Int32} {post : Int32 → SX → Prop}
    {J4 : Int32 → Int32 → (Nat → Int32) → (Nat → Int32) → (Nat → Int32) → (Nat → Int32) → (Nat → Int32) → (Nat → Int32) → Prop}
    (K : ∀ f tb T, mx_TR tb T → mx_U n L R W T0 T f r (fun i' _ => i' < i + 1) → J4 (nI f) (nI (i + 1)) xl xr xs xt xk tb) :
    ∀ d j f tb T, j + d = W.length + 1 → i ≤ j → mx_TR tb T → mx_U n L R W T0 T f r (fun i' j' => i' < i ∨ (i' = i ∧ j' < j)) →
      wX_useRule_15 post J4 (nI r) (nI i) fc (nI W.length) fk (d + 1) (nI f) (nI j) xl xr xs xt xk tb := by
  have S' := S
  obtain ⟨hn, hW, ok, hR, hX⟩ := S
  obtain ⟨hl5, _, _⟩ := ok r hr
  have hl : xl (nI r).toNatClampNeg = nI (L r) := by rw [nI_clamp (by omega)]; exact (hR r hr).1
  intro d
  induction d with
  | zero =>
    intro j f tb T hj hij hT hU
    exact br_t (nI_lt (by omega) (by omega)) (nm_r (nI_1 i) (K f tb T hT (mx_U_mono hU (fun i' j' h1 h2 h3 => by omega))))
  | succ d ih =>
    intro j f tb T hj hij hT hU
    have i1 : mp_ix (L r) i j < 252 := mp_ix_lt (by omega) (by omega) (by omega)
    refine br_f (nI_nlt (by omega) (by omega)) (mx_cb S' hT hr hij (by omega) (fun v hv => ?_))
    refine ⟨vp_in_nI (by omega) (by omega), mx_at (L r) i j hl ⟨vp_in_nI i1 (by omega), ?_⟩⟩
    have ht : tb (nI (mp_ix (L r) i j)).toNatClampNeg = nI (T (mp_ix (L r) i j)) := by rw [nI_clamp (by omega)]; exact (hT _ i1).1
    have ht4 := (hT _ i1).2
    have hv4 := hv.1
    refine pk_le (T (mp_ix (L r) i j)) v (fun h => nm_r (nI_1 j) ?_) (fun h => ⟨vp_in_nI i1 (by omega), nm_r (e' := upd tb (mp_ix (L r) i j) (nI v)) (by rw [nI_clamp (by omega)]) (nm_r (nI_1 j) ?_)⟩) ht
    · refine ih (j + 1) f tb T (by omega) (by omega) hT ⟨hU.1, hU.2.1, hU.2.2.1, fun e => ⟨(hU.2.2.2 e).1, fun i' j' h1 h2 h3 => ?_⟩⟩
      by_cases e2 : i' = i ∧ j' = j
      · obtain ⟨rfl, rfl⟩ := e2
        exact mx_CB_TC hv h
      · exact (hU.2.2.2 e).2 i' j' h1 h2 (by omega)
    · have hmu := mp_mu_lt (T := T) hl5 hij (by omega) h
      have hmu2 : mp_mu (mx_up T (mp_ix (L r) i j) v) < mp_mu T := hmu
      refine ih (j + 1) 1 _ _ (by omega) (by omega) (mx_TR_up hT _ hv4) ⟨Nat.le_refl _, mx_I_up hW hU.2.1 (by omega) hij (by omega) (mx_CB_ds ok hU.2.1 hr hij (by omega) hv) (by omega), ?_, fun e => by omega⟩
      have := hU.2.2.1
      omega
theorem mx_b01 {f : Nat} (h : f ≤ 1) : narrow .boolean (.int (nI f)) = .int (nI f) := by
  rcases (by omega : f = 0 ∨ f = 1) with rfl | rfl
  · rfl
  · rfl
theorem mx_ur4 {n : Nat} {L R : Nat → Nat} {W : List Bool} {xl xr xs xt : Nat → Int32} (S : mx_S n L R W xl xr xs xt) {T0 : Nat → Nat} {r : Nat} (hr : r < n)
    {fc fk : Int32} {xk : Nat → Int32} {post : Int32 → SX → Prop}
    (K : ∀ f tb T, mx_TR tb T → mx_U n L R W T0 T f r (fun _ _ => True) → post (nI f) (fc, nI W.length, fk, xl, xr, xs, xt, xk, tb)) :
    ∀ d i f tb T, i + d = W.length + 1 → mx_TR tb T → mx_U n L R W T0 T f r (fun i' _ => i' < i) →
      wX_useRule_4 post (nI r) fc (nI W.length) fk (d + 1) (nI f) (nI i) xl xr xs xt xk tb := by
  have hW := S.2.1
  intro d
  induction d with
  | zero =>
    intro i f tb T hi hT hU
    exact br_t (nI_lt (by omega) (by omega)) ⟨mx_b01 hU.1, K f tb T hT (mx_U_mono hU (fun i' j' h1 h2 _ => by omega))⟩
  | succ d ih =>
    intro i f tb T hi hT hU
    refine br_f (nI_nlt (by omega) (by omega)) ⟨_, mx_ur15 S hr (by omega) (fun f' tb' T' hT' hU' => ih (i + 1) f' tb' T' (by omega) hT' hU') (W.length + 1 - i) i f tb T (by omega) (Nat.le_refl _) hT
      (mx_U_mono hU (fun i' j' h1 h2 h3 => by omega))⟩
theorem mx_ur {n : Nat} {L R : Nat → Nat} {W : List Bool} {xl xr xs xt : Nat → Int32} (S : mx_S n L R W xl xr xs xt) {r : Nat} (hr : r < n)
    {fc fk : Int32} {xk tb : Nat → Int32} {T : Nat → Nat} (hT : mx_TR tb T) (I : mx_I n L R W T) {post : Int32 → SX → Prop}
    (K : ∀ f tb T', mx_TR tb T' → mx_U n L R W T T' f r (fun _ _ => True) → post (nI f) (fc, nI W.length, fk, xl, xr, xs, xt, xk, tb)) :
    wpX_useRule post (fc, nI W.length, fk, xl, xr, xs, xt, xk, tb) (nI r) := by
  unfold wpX_useRule
  dsimp only
  exact ⟨_, mx_ur4 S hr K (W.length + 1) 0 0 tb T (by omega) hT ⟨by omega, I, by omega, fun _ => ⟨rfl, fun i j _ _ h => by omega⟩⟩⟩
/-! the rounds -/
def mx_V (n : Nat) (L R : Nat → Nat) (W : List Bool) (T0 T : Nat → Nat) (c r : Nat) : Prop :=
  c ≤ 1 ∧ mx_I n L R W T ∧ mp_mu T + c ≤ mp_mu T0 ∧ (c = 0 → T = T0 ∧ ∀ r', r' < r → ∀ i j, i ≤ j → j ≤ W.length → mp_TC n L R W.length T r' i j)
theorem mx_V_up {n : Nat} {L R : Nat → Nat} {W : List Bool} {T0 T T' : Nat → Nat} {c r f c' : Nat} (h : mx_V n L R W T0 T c r) (hu : mx_U n L R W T T' f r (fun _ _ => True))
    (hc : c' ≤ 1) (h1 : c' = 0 → c = 0 ∧ f = 0) (h2 : c' = 1 → c = 1 ∨ f = 1) : mx_V n L R W T0 T' c' (r + 1) := by
  obtain ⟨a1, a2, a3, a4⟩ := h
  obtain ⟨b1, b2, b3, b4⟩ := hu
  refine ⟨hc, b2, ?_, fun e => ?_⟩
  · rcases (by omega : c' = 0 ∨ c' = 1) with e | e
    · omega
    · have := h2 e; omega
  · obtain ⟨e1, e2⟩ := h1 e
    obtain ⟨rfl, a5⟩ := a4 e1
    obtain ⟨rfl, b5⟩ := b4 e2
    refine ⟨rfl, fun r' hr' i j h1 h2 => ?_⟩
    by_cases e3 : r' = r
    · rw [e3]; exact b5 i j h1 h2 trivial
    · exact a5 r' (by omega) i j h1 h2
theorem mx_f119 {n : Nat} {L R : Nat → Nat} {W : List Bool} {xl xr xs xt : Nat → Int32} (S : mx_S n L R W xl xr xs xt) {T0 : Nat → Nat} {q : Nat}
    {fk : Int32} {xk : Nat → Int32} {post : SX → Prop}
    {J : Int32 → Int32 → Int32 → Int32 → Int32 → (Nat → Int32) → (Nat → Int32) → (Nat → Int32) → (Nat → Int32) → (Nat → Int32) → (Nat → Int32) → Prop}
    (K : ∀ c tb T, mx_TR tb T → mx_V n L R W T0 T c n → J (nI c) (nI (q + 1)) (nI n) (nI W.length) fk xl xr xs xt xk tb) :
    ∀ d r c tb T, r + d = n → mx_TR tb T → mx_V n L R W T0 T c r →
      wX_fill_119 post J (nI q) (d + 1) (nI c) (nI r) (nI n) (nI W.length) fk xl xr xs xt xk tb := by
  have hn := S.1
  intro d
  induction d with
  | zero =>
    intro r c tb T hr hT hV
    have e : r = n := by omega
    subst e
    exact br_t (nI_le (by omega) (by omega)) (nm_r (nI_1 q) (K c tb T hT hV))
  | succ d ih =>
    intro r c tb T hr hT hV
    refine br_f (nI_ge (by omega) (by omega)) (mx_ur S (by omega) hT hV.2.1 (fun f tb' T' hT' hU => ?_))
    have hc := hV.1
    have hf := hU.1
    refine pk_eq c 0 (fun hc0 => pk_eq f 0 (fun hf0 => nm_r (nI_1 r) ?_) (fun hf0 => nm_r (nI_1 r) ?_)) (fun hc0 => nm_r (nI_1 r) ?_)
    · exact ih (r + 1) 0 tb' T' (by omega) hT' (mx_V_up hV hU (by omega) (fun _ => ⟨hc0, hf0⟩) (fun h => by omega))
    · exact ih (r + 1) 1 tb' T' (by omega) hT' (mx_V_up hV hU (by omega) (fun h => by omega) (fun h => by omega))
    · exact ih (r + 1) 1 tb' T' (by omega) hT' (mx_V_up hV hU (by omega) (fun h => by omega) (fun h => by omega))
def mx_D (n : Nat) (L R : Nat → Nat) (W : List Bool) (tb : Nat → Int32) : Prop :=
  ∀ s i j, s < 7 → i ≤ j → j ≤ W.length → tb (mp_ix s i j) = nI (mp_ds n L R s (mp_sg W i j))
theorem mx_D_of {n : Nat} {L R : Nat → Nat} {W : List Bool} {tb : Nat → Int32} {T : Nat → Nat} (hW : W.length ≤ 5) (hT : mx_TR tb T) (I : mx_I n L R W T)
    (hc : ∀ r, r < n → ∀ i j, i ≤ j → j ≤ W.length → mp_TC n L R W.length T r i j) : mx_D n L R W tb := by
  intro s i j hs hij hj
  have i1 : mp_ix s i j < 252 := mp_ix_lt hs (by omega) (by omega)
  rw [(hT _ i1).1, mp_table I.2 hc hij hj (hT _ i1).2 (I.1 s i j hs hij hj)]
theorem mx_f104 {n : Nat} {L R : Nat → Nat} {W : List Bool} {xl xr xs xt : Nat → Int32} (S : mx_S n L R W xl xr xs xt)
    {fk : Int32} {xk : Nat → Int32} {post : SX → Prop} (K : ∀ tb, mx_D n L R W tb → post (nI n, nI W.length, fk, xl, xr, xs, xt, xk, tb)) :
    ∀ m c q tb T, c ≤ 1 → mx_TR tb T → mx_I n L R W T → (c = 1 → mp_mu T < m ∧ q + mp_mu T ≤ 420) →
      (c = 0 → ∀ r, r < n → ∀ i j, i ≤ j → j ≤ W.length → mp_TC n L R W.length T r i j) →
      wX_fill_104 post (m + 1) (nI c) (nI q) (nI n) (nI W.length) fk xl xr xs xt xk tb := by
  have hn := S.1
  have hW := S.2.1
  intro m
  induction m with
  | zero =>
    intro c q tb T hc hT I h1 h0
    have hc0 : c = 0 := by
      rcases (by omega : c = 0 ∨ c = 1) with e | e
      · exact e
      · have := (h1 e).1; omega
    subst hc0
    have P := K tb (mx_D_of hW hT I (h0 rfl))
    exact br_c (fun _ => P) (fun _ => br_t rfl P)
  | succ m ih =>
    intro c q tb T hc hT I h1 h0
    rcases (by omega : c = 0 ∨ c = 1) with e | e
    · subst e
      have P := K tb (mx_D_of hW hT I (h0 rfl))
      exact br_c (fun _ => P) (fun _ => br_t rfl P)
    · subst e
      obtain ⟨hm, hq⟩ := h1 rfl
      refine br_f (nI_ge (b := 422) (by omega) (by omega)) (br_f (by decide) ⟨_, mx_f119 S (T0 := T) (fun c' tb' T' hT' hV => ?_) n 0 0 tb T (by omega) hT ⟨by omega, I, by omega, fun _ => ⟨rfl, fun r' h => by omega⟩⟩⟩)
      have hv := hV.2.2.1
      exact ih c' (q + 1) tb' T' hV.1 hT' hV.2.1 (fun e => by omega) (fun e => (hV.2.2.2 e).2)
/-! letters at first -/
def mx_F (n : Nat) (L R : Nat → Nat) (W : List Bool) (T : Nat → Nat) (Q : Nat → Nat → Nat → Prop) : Prop :=
  (∀ s i j, s < 7 → i ≤ j → j ≤ W.length → mp_ds n L R s (mp_sg W i j) ≤ T (mp_ix s i j)) ∧
  (∀ (c : Bool) (i j : Nat), i ≤ j → j ≤ W.length → Q (5 + c.toNat) i j → T (mp_ix (5 + c.toNat) i j) ≤ mp_lc c (mp_sg W i j))
theorem mx_F_mono {n : Nat} {L R : Nat → Nat} {W : List Bool} {T : Nat → Nat} {Q Q' : Nat → Nat → Nat → Prop} (h : mx_F n L R W T Q)
    (hq : ∀ l i j, 5 ≤ l → i ≤ j → j ≤ W.length → Q' l i j → Q l i j) : mx_F n L R W T Q' :=
  ⟨h.1, fun c i j h1 h2 h3 => h.2 c i j h1 h2 (hq _ i j (Nat.le_add_right 5 _) h1 h2 h3)⟩
theorem mx_F_up {n : Nat} {L R : Nat → Nat} {W : List Bool} {T : Nat → Nat} {Q : Nat → Nat → Nat → Prop} (ok : mp_Ok n L R) (hW : W.length ≤ 5) (h : mx_F n L R W T Q) (c : Bool) {i j : Nat} (hij : i ≤ j) (hj : j ≤ W.length)
    {Q' : Nat → Nat → Nat → Prop} (hq : ∀ l i' j', i' ≤ j' → j' ≤ W.length → Q' l i' j' → Q l i' j' ∨ (l = 5 + c.toNat ∧ i' = i ∧ j' = j)) :
    mx_F n L R W (mx_up T (mp_ix (5 + c.toNat) i j) (min 4 (mp_lc c (mp_sg W i j)))) Q' := by
  have hd := mp_ds_lt ok c (mp_sg W i j)
  have hcl := Bool.toNat_lt c
  refine ⟨fun s' i' j' h1 h2 h3 => ?_, fun c' i' j' h2 h3 hQ => ?_⟩
  · by_cases e : mp_ix s' i' j' = mp_ix (5 + c.toNat) i j
    · obtain ⟨rfl, rfl, rfl⟩ := mp_ix_inj (by omega) (by omega) (by omega) (by omega) e
      rw [mx_up_s, hd]
      exact Nat.le_refl _
    · rw [mx_up_n e]
      exact h.1 s' i' j' h1 h2 h3
  · by_cases e : mp_ix (5 + c'.toNat) i' j' = mp_ix (5 + c.toNat) i j
    · obtain ⟨e1, rfl, rfl⟩ := mp_ix_inj (by omega) (by omega) (by omega) (by omega) e
      have e2 : c' = c := mp_tn_inj (by omega)
      subst e2
      rw [mx_up_s]
      omega
    · rw [mx_up_n e]
      rcases hq _ i' j' h2 h3 hQ with a | ⟨a, rfl, rfl⟩
      · exact h.2 c' i' j' h2 h3 a
      · rw [a] at e
        exact absurd rfl e
theorem mx_f42 {n : Nat} {L R : Nat → Nat} {W : List Bool} {xl xr xs xt : Nat → Int32} (S : mx_S n L R W xl xr xs xt) (c : Bool) {i : Nat} (hi : i ≤ W.length)
    {fc fk : Int32} {xk : Nat → Int32} {post : SX → Prop}
    {J24 J32 : Int32 → (Nat → Int32) → (Nat → Int32) → (Nat → Int32) → (Nat → Int32) → (Nat → Int32) → (Nat → Int32) → Prop}
    (K : ∀ tb T, mx_TR tb T → mx_F n L R W T (fun l i' _ => l < 5 + c.toNat ∨ (l = 5 + c.toNat ∧ i' < i + 1)) → J32 (nI (i + 1)) xl xr xs xt xk tb) :
    ∀ d j tb T, j + d = W.length + 1 → i ≤ j → mx_TR tb T → mx_F n L R W T (fun l i' j' => l < 5 + c.toNat ∨ (l = 5 + c.toNat ∧ (i' < i ∨ (i' = i ∧ j' < j)))) →
      wX_fill_42 post J24 J32 (nI (5 + c.toNat)) (nI i) fc (nI W.length) fk (d + 1) (nI j) xl xr xs xt xk tb := by
  obtain ⟨hn, hW, ok, hR, hX⟩ := S
  have hcl := Bool.toNat_lt c
  intro d
  induction d with
  | zero =>
    intro j tb T hj hij hT hF
    exact br_t (nI_lt (by omega) (by omega)) (nm_r (nI_1 i) (K tb T hT (mx_F_mono hF (fun l i' j' h0 h1 h2 h3 => by omega))))
  | succ d ih =>
    intro j tb T hj hij hT hF
    have i1 : mp_ix (5 + c.toNat) i j < 252 := mp_ix_lt (by omega) (by omega) (by omega)
    have hb := mp_lc_6 c (mp_sg W i j)
    rw [mp_sg_len (by omega)] at hb
    have hF2 := mx_F_up ok hW hF c hij (by omega) (Q' := fun l i' j' => l < 5 + c.toNat ∨ (l = 5 + c.toNat ∧ (i' < i ∨ (i' = i ∧ j' < j + 1)))) (fun l i' j' h1 h2 h3 => by omega)
    have hT2 := mx_TR_up hT (mp_ix (5 + c.toNat) i j) (v := min 4 (mp_lc c (mp_sg W i j))) (by omega)
    have G := ih (j + 1) _ _ (by omega) (by omega) hT2 hF2
    refine br_f (nI_nlt (by omega) (by omega)) (mx_lch hX hW c hij (by omega) (mx_at (5 + c.toNat) i j rfl ?_))
    refine pk_le 4 (mp_lc c (mp_sg W i j)) (fun h => ⟨vp_in_nI i1 (by omega), nm_r (e' := upd tb (mp_ix (5 + c.toNat) i j) (nI (min 4 (mp_lc c (mp_sg W i j))))) ?_ (nm_r (nI_1 j) G)⟩)
      (fun h => ⟨vp_in_nI i1 (by omega), nm_r (e' := upd tb (mp_ix (5 + c.toNat) i j) (nI (min 4 (mp_lc c (mp_sg W i j))))) ?_ (nm_r (nI_1 j) G)⟩)
    · rw [nI_clamp (by omega), Nat.min_eq_left h]
      rfl
    · rw [nI_clamp (by omega), Nat.min_eq_right (by omega)]
theorem mx_f32 {n : Nat} {L R : Nat → Nat} {W : List Bool} {xl xr xs xt : Nat → Int32} (S : mx_S n L R W xl xr xs xt) (c : Bool)
    {fc fk : Int32} {xk : Nat → Int32} {post : SX → Prop}
    {J24 : Int32 → (Nat → Int32) → (Nat → Int32) → (Nat → Int32) → (Nat → Int32) → (Nat → Int32) → (Nat → Int32) → Prop}
    (K : ∀ tb T, mx_TR tb T → mx_F n L R W T (fun l _ _ => l < 5 + c.toNat + 1) → J24 (nI (5 + c.toNat + 1)) xl xr xs xt xk tb) :
    ∀ d i tb T, i + d = W.length + 1 → mx_TR tb T → mx_F n L R W T (fun l i' _ => l < 5 + c.toNat ∨ (l = 5 + c.toNat ∧ i' < i)) →
      wX_fill_32 post J24 (nI (5 + c.toNat)) fc (nI W.length) fk (d + 1) (nI i) xl xr xs xt xk tb := by
  have hW := S.2.1
  intro d
  induction d with
  | zero =>
    intro i tb T hi hT hF
    exact br_t (nI_lt (by omega) (by omega)) (nm_r (nI_1 (5 + c.toNat)) (K tb T hT (mx_F_mono hF (fun l i' j' h0 h1 h2 h3 => by omega))))
  | succ d ih =>
    intro i tb T hi hT hF
    exact br_f (nI_nlt (by omega) (by omega)) ⟨_, mx_f42 S c (by omega) (fun tb' T' hT' hF' => ih (i + 1) tb' T' (by omega) hT' hF') (W.length + 1 - i) i tb T (by omega) (Nat.le_refl _) hT
      (mx_F_mono hF (fun l i' j' h0 h1 h2 h3 => by omega))⟩
theorem mx_f24 {n : Nat} {L R : Nat → Nat} {W : List Bool} {xl xr xs xt : Nat → Int32} (S : mx_S n L R W xl xr xs xt)
    {fk : Int32} {xk : Nat → Int32} {post : SX → Prop} (K : ∀ tb, mx_D n L R W tb → post (nI n, nI W.length, fk, xl, xr, xs, xt, xk, tb)) {tb : Nat → Int32} {T : Nat → Nat}
    (hT : mx_TR tb T) (hF : mx_F n L R W T (fun _ _ _ => False)) : wX_fill_24 post (nI n) (nI W.length) fk 3 5 xl xr xs xt xk tb := by
  refine br_f (by decide) ⟨_, mx_f32 S false (fun tb' T' hT' hF' => ?_) (W.length + 1) 0 tb T (by omega) hT (mx_F_mono hF (fun l i' j' h0 h1 h2 h3 => ?_))⟩
  · refine br_f (by decide) ⟨_, mx_f32 S true (fun tb' T' hT' hF' => ?_) (W.length + 1) 0 tb' T' (by omega) hT' (mx_F_mono hF' (fun l i' j' h0 h1 h2 h3 => ?_))⟩
    · have I : mx_I n L R W T' := ⟨hF'.1, fun c i j h1 h2 => hF'.2 c i j h1 h2 (by
        have := Bool.toNat_lt c
        show 5 + c.toNat < 5 + 1 + 1
        omega)⟩
      refine br_t (by decide) ⟨_, mx_f104 S K 421 1 0 tb' T' (Nat.le_refl _) hT' I (fun _ => ?_) (fun h => by omega)⟩
      have := mp_mu_420 (T := T') (fun k hk => (hT' k hk).2)
      omega
    · have h4 : l < 5 + 1 ∨ (l = 5 + 1 ∧ i' < 0) := h3
      show l < 5 + 0 + 1
      omega
  · have h4 : l < 5 + 0 ∨ (l = 5 + 0 ∧ i' < 0) := h3
    omega
theorem mx_fill {n : Nat} {L R : Nat → Nat} {W : List Bool} {xl xr xs xt : Nat → Int32} (S : mx_S n L R W xl xr xs xt)
    {fk : Int32} {xk tb : Nat → Int32} {post : SX → Prop} (K : ∀ tb, mx_D n L R W tb → post (nI n, nI W.length, fk, xl, xr, xs, xt, xk, tb)) :
    wpX_fill post (nI n, nI W.length, fk, xl, xr, xs, xt, xk, tb) := by
  have key : ∀ d k tb, k + d = 252 → (∀ p, p < k → tb p = nI 4) → wX_fill_2 post (nI n) (nI W.length) fk (d + 1) (nI k) xl xr xs xt xk tb := by
    intro d
    induction d with
    | zero =>
      intro k tb hk h
      refine br_t (nI_le (a := 252) (by omega) (by omega)) ⟨_, mx_f24 S K (T := fun _ => 4) (fun p hp => ⟨h p (by omega), Nat.le_refl _⟩) ⟨fun s i j _ _ _ => mp_ds_4 _ _ _ _ _, fun c i j _ _ hf => hf.elim⟩⟩
    | succ d ih =>
      intro k tb hk h
      refine br_f (nI_ge (b := 252) (by omega) (by omega)) ⟨vp_in_nI (by omega) (by omega), nm_r (e' := upd tb k (nI 4)) (by rw [nI_clamp (by omega)]; rfl) (nm_r (nI_1 k) (ih (k + 1) _ (by omega) (fun p hp => ?_)))⟩
      by_cases e : p = k
      · rw [e, pk_us]
      · rw [pk_un e]; exact h p (by omega)
  unfold wpX_fill
  dsimp only
  exact ⟨_, key 252 0 tb (by omega) (fun p hp => by omega)⟩
end
section
/-! the reference's work: made holds what names derive -/
def my_R (n : Nat) (L R : Nat → Nat) (yl yr : Nat → Int32) : Prop := ∀ r, r < n → yl r = nI (L r) ∧ yr r = nI (R r)
def my_S (n : Nat) (L R : Nat → Nat) (yl yr : Nat → Int32) : Prop := n ≤ 14 ∧ mp_Ok n L R ∧ my_R n L R yl yr
def my_MR (ym : Nat → Int32) (B : Nat → Bool) : Prop := ∀ p, p < 2555 → ym p = nI (B p).toNat
def my_yd (B : Nat → Bool) (s : Nat) (x : List Bool) : Bool := if s < 5 then B (511 * s + mp_nm x) else decide (mp_nm x = s - 4)
theorem my_yd_n {B : Nat → Bool} {s : Nat} {x : List Bool} (h : s < 5) : my_yd B s x = B (511 * s + mp_nm x) := if_pos h
theorem my_yd_l {B : Nat → Bool} {s : Nat} {x : List Bool} (h : ¬ s < 5) : my_yd B s x = decide (mp_nm x = s - 4) := if_neg h
theorem my_t0 {b : Bool} (h : b.toNat = 0) : b = false := by
  cases b
  · rfl
  · exact absurd h (by decide)
theorem my_t1 {b : Bool} (h : b.toNat ≠ 0) : b = true := by
  cases b
  · exact absurd rfl h
  · rfl
theorem my_size4 {x : List Bool} (hx : x.length ≤ 8) {post : Int32 → Prop} {fc fl ft : Int32} {yl yr ym yf : Nat → Int32} (hp : post (nI x.length)) :
    ∀ d k, k + d = 9 → 1 ≤ k → wY_size_4 post (nI (mp_nm x)) fc fl ft yl yr ym yf (d + 1) (nI (min (k - 1) x.length)) (nI k) := by
  have hm := mp_nm_lt hx
  intro d
  induction d with
  | zero =>
    intro k hk h1
    have e : min (k - 1) x.length = x.length := by omega
    rw [e]
    exact br_t (nI_le (a := 9) (by omega) (by omega)) hp
  | succ d ih =>
    intro k hk h1
    have h2 := mp_2 (k := k) (by omega)
    have hg := mp_nm_ge x k
    have G := ih (k + 1) (by omega) (by omega)
    refine br_f (nI_ge (b := 9) (by omega) (by omega)) (pk_lt (mp_nm x) (2 ^ k - 1) (fun h => nm_r (nI_1 k) ?_) (fun h => nm_r (nI_1 k) ?_) rfl (mp_mk (by omega)))
    · have e : min (k + 1 - 1) x.length = min (k - 1) x.length := by
        have : ¬ k ≤ x.length := fun z => by have := hg.mp z; omega
        omega
      rw [e] at G
      exact G
    · have e : min (k + 1 - 1) x.length = k := by
        have : k ≤ x.length := hg.mpr (by omega)
        omega
      rw [e] at G
      exact G
theorem my_size {x : List Bool} (hx : x.length ≤ 8) {post : Int32 → Prop} {fc fl ft : Int32} {yl yr ym yf : Nat → Int32} (hp : post (nI x.length)) :
    wpY_size post (fc, fl, ft, yl, yr, ym, yf) (nI (mp_nm x)) := by
  have G := my_size4 hx (fc := fc) (fl := fl) (ft := ft) (yl := yl) (yr := yr) (ym := ym) (yf := yf) hp 8 1 (by omega) (by omega)
  rw [show min (1 - 1) x.length = 0 by omega] at G
  unfold wpY_size
  dsimp only
  exact ⟨_, G⟩
theorem my_num {x : List Bool} (hx : x.length ≤ 8) {a b : Int32} (ha : a = nI x.length) (hb : b = nI (mp_vl x)) {post : Int32 → Prop} {fc fl ft : Int32} {yl yr ym yf : Nat → Int32}
    (hp : post (nI (mp_nm x))) : wpY_number post (fc, fl, ft, yl, yr, ym, yf) a b := by
  subst ha hb
  unfold wpY_number
  dsimp only
  rw [mp_num hx]
  exact hp
theorem my_der {B : Nat → Bool} {ym : Nat → Int32} (hB : my_MR ym B) {s : Nat} (hs : s < 7) {x : List Bool} (hx : x.length ≤ 8) {a : Int32} (ha : a = nI s) {post : Int32 → Prop}
    {fc fl ft : Int32} {yl yr yf : Nat → Int32} (hp : post (nI (my_yd B s x).toNat)) : wpY_derives post (fc, fl, ft, yl, yr, ym, yf) a (nI (mp_nm x)) := by
  subst ha
  have hm := mp_nm_lt hx
  unfold wpY_derives
  dsimp only
  refine pk_le s 4 (fun h => ?_) (fun h => ?_)
  · have e : (511 * nI s) + nI (mp_nm x) = nI (511 * s + mp_nm x) := by
      rw [← nI_add, ← pk_mul]
      rfl
    rw [e, nI_clamp (by omega), hB _ (by omega)]
    rw [my_yd_n (by omega)] at hp
    have hb := Bool.toNat_lt (B (511 * s + mp_nm x))
    exact ⟨vp_in_nI (by omega) (by omega), mx_b01 (by omega), hp⟩
  · have e : nI s - 4 = nI (s - 4) := pk_sub (b := 4) (by omega)
    rw [my_yd_l (by omega)] at hp
    refine pk_eq (mp_nm x) (s - 4) (fun h => ?_) (fun h => ?_) rfl e
    · rw [decide_eq_true h] at hp
      exact hp
    · rw [decide_eq_false h] at hp
      exact hp
/-! what a right side gives -/
def my_GV (B : Nat → Bool) (c : Nat) (x : List Bool) : Prop := (c = 0 ∧ x = []) ∨ (c ≠ 0 ∧ c < 8 ∧ my_yd B (c - 1) x = true) ∨
  (8 ≤ c ∧ ∃ u v, x = u ++ v ∧ my_yd B (c / 8 - 1) u = true ∧ my_yd B (c % 8 - 1) v = true)
theorem my_g47 {B : Nat → Bool} {ym : Nat → Int32} (hB : my_MR ym B) {c : Nat} (hc : c < 64) (h8 : 8 ≤ c) (h0 : c % 8 ≠ 0) {x : List Bool} (hx : x.length ≤ 8) {post : Int32 → Prop}
    {fc fl ft : Int32} {yl yr yf : Nat → Int32} (K : ∀ b : Bool, (b = true ↔ my_GV B c x) → post (nI b.toNat)) :
    ∀ d k, k + d = x.length + 1 → (∀ q, q < k → ¬ (my_yd B (c / 8 - 1) (x.take q) = true ∧ my_yd B (c % 8 - 1) (x.drop q) = true)) →
      wY_gives_47 post (nI c) (nI x.length) (nI (mp_vl x)) fc fl ft yl yr ym yf (d + 1) (nI k) := by
  have hv := mp_256 hx
  intro d
  induction d with
  | zero =>
    intro k hk hno
    refine br_t (nI_lt (by omega) (by omega)) (K false ⟨fun h => (by cases h), fun h => ?_⟩)
    rcases h with ⟨h, _⟩ | ⟨_, h, _⟩ | ⟨_, u, v, rfl, h1, h2⟩
    · omega
    · omega
    · rw [List.length_append] at hk
      refine absurd ⟨?_, ?_⟩ (hno u.length (by omega))
      · rw [List.take_left]; exact h1
      · rw [List.drop_left]; exact h2
  | succ d ih =>
    intro k hk hno
    have hlt : (x.take k).length = k := by rw [List.length_take]; omega
    have hld : (x.drop k).length = x.length - k := List.length_drop
    have e1 : nI x.length - nI k = nI (x.length - k) := pk_sub (by omega)
    have a1 := mp_hi (x.take k) (x.drop k)
    have a2 := mp_lo (x.take k) (x.drop k)
    rw [List.take_append_drop, hld] at a1 a2
    have e8 : nI c / 8 = nI (c / 8) := pk_div (d := 8) (by omega) (by omega) (by omega)
    have er : nI c - nI c / 8 * 8 = nI (c % 8) := pk_rem (d := 8) (by omega) (by omega) (by omega)
    have e9 : nI c / 8 - 1 = nI (c / 8 - 1) := by rw [e8]; exact pk_sub (b := 1) (by omega)
    have e10 : nI c - nI c / 8 * 8 - 1 = nI (c % 8 - 1) := by rw [er]; exact pk_sub (b := 1) (by omega)
    refine br_f (nI_nlt (by omega) (by omega)) (nm_r (e' := nI (mp_vl (x.drop k))) (by rw [e1, mp_am _ (by omega), a2]) ?_)
    refine my_num (x := x.take k) (by omega) (by rw [hlt]) (by rw [e1, mp_sr (by omega) (by omega), a1]) ?_
    refine my_num (x := x.drop k) (by omega) (by rw [e1, hld]) rfl ?_
    refine ⟨by decide, my_der hB (s := c / 8 - 1) (by omega) (x := x.take k) (by omega) e9 ?_⟩
    have hb1 := Bool.toNat_lt (my_yd B (c / 8 - 1) (x.take k))
    have hb2 := Bool.toNat_lt (my_yd B (c % 8 - 1) (x.drop k))
    have G : ¬ (my_yd B (c / 8 - 1) (x.take k) = true ∧ my_yd B (c % 8 - 1) (x.drop k) = true) → wY_gives_47 post (nI c) (nI x.length) (nI (mp_vl x)) fc fl ft yl yr ym yf (d + 1) (nI (k + 1)) := by
      intro hn
      refine ih (k + 1) (by omega) (fun q hq => ?_)
      by_cases e : q = k
      · rw [e]; exact hn
      · exact hno q (by omega)
    refine pk_eq (my_yd B (c / 8 - 1) (x.take k)).toNat 0 (fun h => nm_r (nI_1 k) (G ?_)) (fun h => ⟨by decide, my_der hB (s := c % 8 - 1) (by omega) (x := x.drop k) (by omega) e10 ?_⟩)
    · intro z
      rw [my_t0 h] at z
      exact absurd z.1 (by decide)
    · refine pk_eq (my_yd B (c % 8 - 1) (x.drop k)).toNat 0 (fun h' => nm_r (nI_1 k) (G ?_)) (fun h' => ?_)
      · intro z
        rw [my_t0 h'] at z
        exact absurd z.2 (by decide)
      · exact K true ⟨fun _ => Or.inr (Or.inr ⟨h8, x.take k, x.drop k, (List.take_append_drop k x).symm, my_t1 h, my_t1 h'⟩), fun _ => rfl⟩
theorem my_gives {B : Nat → Bool} {ym : Nat → Int32} (hB : my_MR ym B) {c : Nat} (hc : c < 64) (h0 : 8 ≤ c → c % 8 ≠ 0) {x : List Bool} (hx : x.length ≤ 8) {a : Int32} (ha : a = nI c) {post : Int32 → Prop}
    {fc fl ft : Int32} {yl yr yf : Nat → Int32} (K : ∀ b : Bool, (b = true ↔ my_GV B c x) → post (nI b.toNat)) : wpY_gives post (fc, fl, ft, yl, yr, ym, yf) a (nI (mp_nm x)) := by
  subst ha
  have hm := mp_nm_lt hx
  unfold wpY_gives
  dsimp only
  refine pk_eq c 0 (fun h => pk_eq (mp_nm x) 0 (fun z => ?_) (fun z => ?_)) (fun h => pk_le 8 c (fun h8 => ?_) (fun h8 => ?_))
  · have e : x = [] := mp_nm_inj (y := []) z
    exact K true ⟨fun _ => Or.inl ⟨h, e⟩, fun _ => rfl⟩
  · refine K false ⟨fun h => (by cases h), fun g => ?_⟩
    rcases g with ⟨_, g⟩ | ⟨g, _⟩ | ⟨g, _⟩
    · rw [g] at z; exact absurd rfl z
    · omega
    · omega
  · exact my_size hx (nm_r (mp_bits hx) ⟨_, my_g47 hB hc h8 (h0 h8) hx K (x.length + 1) 0 (by omega) (fun q hq => by omega)⟩)
  · have e : nI c - 1 = nI (c - 1) := pk_sub (b := 1) (by omega)
    have hb := Bool.toNat_lt (my_yd B (c - 1) x)
    refine my_der hB (s := c - 1) (by omega) hx e ⟨mx_b01 (by omega), K _ ⟨fun g => Or.inr (Or.inl ⟨h, h8, g⟩), fun g => ?_⟩⟩
    rcases g with ⟨g, _⟩ | ⟨_, _, g⟩ | ⟨g, _⟩
    · omega
    · exact g
    · omega
/-! soundness -/
def my_so (n : Nat) (L R : Nat → Nat) (B : Nat → Bool) : Prop := ∀ s x, s < 5 → x.length ≤ 8 → B (511 * s + mp_nm x) = true → mp_Dv n L R s x
theorem my_yd_so {n : Nat} {L R : Nat → Nat} {B : Nat → Bool} (h : my_so n L R B) {s : Nat} {x : List Bool} (hs : s < 7) (hx : x.length ≤ 8) (hy : my_yd B s x = true) : mp_Dv n L R s x := by
  by_cases h5 : s < 5
  · rw [my_yd_n h5] at hy
    exact h s x h5 hx hy
  · rw [my_yd_l h5] at hy
    have e := of_decide_eq_true hy
    rcases (by omega : s = 5 ∨ s = 6) with rfl | rfl
    · have : x = [false] := mp_nm_inj (y := [false]) e
      subst this
      exact (mp_Dv_cl n L R).1
    · have : x = [true] := mp_nm_inj (y := [true]) e
      subst this
      exact (mp_Dv_cl n L R).2.1
theorem my_GV_so {n : Nat} {L R : Nat → Nat} {B : Nat → Bool} (ok : mp_Ok n L R) (h : my_so n L R B) {r : Nat} (hr : r < n) {x : List Bool} (hx : x.length ≤ 8) (hg : my_GV B (R r) x) : mp_Dv n L R (L r) x := by
  obtain ⟨_, h64, h8⟩ := ok r hr
  rcases hg with ⟨e, rfl⟩ | ⟨e0, e8, hy⟩ | ⟨e8, u, v, rfl, h1, h2⟩
  · exact (mp_Dv_cl n L R).2.2.1 r hr e
  · exact (mp_Dv_cl n L R).2.2.2.1 r hr e0 e8 x (my_yd_so h (by omega) hx hy)
  · rw [List.length_append] at hx
    have := h8 e8
    exact (mp_Dv_cl n L R).2.2.2.2 r hr e8 u v (my_yd_so h (by omega) (by omega) h1) (my_yd_so h (by omega) (by omega) h2)
def my_mz (B : Nat → Bool) : Nat := mp_sm (fun k => 1 - (B k).toNat) 2555
def my_ub (B : Nat → Bool) (p : Nat) : Nat → Bool := fun q => if q = p then true else B q
theorem my_ub_s (B : Nat → Bool) (p : Nat) : my_ub B p p = true := if_pos rfl
theorem my_ub_n {B : Nat → Bool} {p q : Nat} (h : q ≠ p) : my_ub B p q = B q := if_neg h
theorem my_mz_lt {B : Nat → Bool} {p : Nat} (hp : p < 2555) (h : B p = false) : my_mz (my_ub B p) < my_mz B := by
  apply mp_sm_lt (p := p)
  · show 1 - (my_ub B p p).toNat < 1 - (B p).toNat
    rw [my_ub_s, h]
    decide
  · intro k hk
    show 1 - (my_ub B p k).toNat ≤ 1 - (B k).toNat
    by_cases e : k = p
    · rw [e, my_ub_s]
      show 1 - 1 ≤ _
      omega
    · rw [my_ub_n e]
      exact Nat.le_refl _
  · exact hp
theorem my_mz_le (B : Nat → Bool) : my_mz B ≤ 2555 := by
  have := mp_sm_c (f := fun k => 1 - (B k).toNat) (c := 1) 2555 (fun k _ => by omega)
  rw [Nat.one_mul] at this
  exact this
theorem my_MR_up {ym : Nat → Int32} {B : Nat → Bool} (h : my_MR ym B) (p : Nat) : my_MR (upd ym p (nI 1)) (my_ub B p) := by
  intro q hq
  by_cases e : q = p
  · rw [e, pk_us, my_ub_s]
    rfl
  · rw [pk_un e, my_ub_n e]
    exact h q hq
/-! one rule for all rows -/
def my_U (n : Nat) (L R : Nat → Nat) (B0 B : Nat → Bool) (f r m : Nat) : Prop := f ≤ 1 ∧ my_so n L R B ∧ my_mz B + f ≤ my_mz B0 ∧
  (f = 0 → B = B0 ∧ ∀ x : List Bool, x.length ≤ 8 → mp_nm x < m → my_GV B (R r) x → B (511 * L r + mp_nm x) = true)
theorem my_w4 {n : Nat} {L R : Nat → Nat} {yl yr : Nat → Int32} (S : my_S n L R yl yr) {B0 : Nat → Bool} {r : Nat} (hr : r < n) {fc fl ft : Int32} {yf : Nat → Int32} {post : Int32 → SY → Prop}
    (K : ∀ f ym B, my_MR ym B → my_U n L R B0 B f r 511 → post (nI f) (fc, fl, ft, yl, yr, ym, yf)) :
    ∀ d m f ym B, m + d = 511 → my_MR ym B → my_U n L R B0 B f r m → wY_widen_4 post (nI r) fc fl ft (d + 1) (nI f) (nI m) yl yr ym yf := by
  obtain ⟨hn, ok, hR⟩ := S
  obtain ⟨h5, h64, h8⟩ := ok r hr
  have hl : yl (nI r).toNatClampNeg = nI (L r) := by rw [nI_clamp (by omega)]; exact (hR r hr).1
  have hg : yr (nI r).toNatClampNeg = nI (R r) := by rw [nI_clamp (by omega)]; exact (hR r hr).2
  intro d
  induction d with
  | zero =>
    intro m f ym B hm hB hU
    have e : m = 511 := by omega
    subst e
    exact br_t (nI_le (a := 511) (by omega) (by omega)) ⟨mx_b01 hU.1, K f ym B hB hU⟩
  | succ d ih =>
    intro m f ym B hm hB hU
    obtain ⟨x, hx, rfl⟩ := mp_nm_sur (m := m) (by omega)
    have ei : (511 * yl (nI r).toNatClampNeg) + nI (mp_nm x) = nI (511 * L r + mp_nm x) := by
      rw [hl, ← nI_add, ← pk_mul]
      rfl
    have hi : vp_in ((511 * yl (nI r).toNatClampNeg) + nI (mp_nm x)) 2555 := pk_in _ 2555 (by omega) ei
    have ec : ((511 * yl (nI r).toNatClampNeg) + nI (mp_nm x)).toNatClampNeg = 511 * L r + mp_nm x := pk_cl _ ei
    have hb := Bool.toNat_lt (B (511 * L r + mp_nm x))
    have hr14 : vp_in (nI r) 14 := vp_in_nI (by omega) (by omega)
    have keep : (my_GV B (R r) x → B (511 * L r + mp_nm x) = true) → wY_widen_4 post (nI r) fc fl ft (d + 1) (nI f) (nI (mp_nm x + 1)) yl yr ym yf := by
      intro hk
      refine ih (mp_nm x + 1) f ym B (by omega) hB ⟨hU.1, hU.2.1, hU.2.2.1, fun e => ⟨(hU.2.2.2 e).1, fun y hy hym hgv => ?_⟩⟩
      by_cases e2 : mp_nm y = mp_nm x
      · rw [mp_nm_inj e2] at hgv ⊢
        exact hk hgv
      · exact (hU.2.2.2 e).2 y hy (by omega) hgv
    refine br_f (nI_ge (b := 511) (by omega) (by omega)) ⟨hr14, hi, ?_⟩
    refine pk_eq (B (511 * L r + mp_nm x)).toNat 0 (fun h => ⟨hr14, my_gives hB h64 h8 hx hg (fun b hgb => ?_)⟩) (fun h => nm_r (nI_1 _) (keep (fun _ => my_t1 h))) (by rw [ec]; exact hB _ (by omega))
    have hbb := Bool.toNat_lt b
    refine pk_eq b.toNat 0 (fun hb0 => nm_r (nI_1 _) (keep (fun hgv => ?_))) (fun hb1 => ⟨hr14, hi, nm_r (e' := upd ym (511 * L r + mp_nm x) (nI 1)) (by rw [ec]; rfl) (nm_r (nI_1 _) ?_)⟩)
    · have := hgb.mpr hgv
      rw [my_t0 hb0] at this
      cases this
    · have hgv := hgb.mp (my_t1 hb1)
      have hlt := my_mz_lt (B := B) (p := 511 * L r + mp_nm x) (by omega) (my_t0 h)
      refine ih (mp_nm x + 1) 1 _ _ (by omega) (my_MR_up hB _) ⟨Nat.le_refl _, fun s y hs hy hby => ?_, ?_, fun e => by omega⟩
      · by_cases e : 511 * s + mp_nm y = 511 * L r + mp_nm x
        · have hyl := mp_nm_lt hy
          have hxl := mp_nm_lt hx
          have e1 : s = L r := by omega
          have e2 : y = x := mp_nm_inj (by omega)
          rw [e1, e2]
          exact my_GV_so ok hU.2.1 hr hx hgv
        · rw [my_ub_n e] at hby
          exact hU.2.1 s y hs hy hby
      · have := hU.2.2.1
        omega
theorem my_widen {n : Nat} {L R : Nat → Nat} {yl yr : Nat → Int32} (S : my_S n L R yl yr) {B : Nat → Bool} {r : Nat} (hr : r < n) {fc fl ft : Int32} {ym yf : Nat → Int32} (hB : my_MR ym B) (hs : my_so n L R B) {post : Int32 → SY → Prop}
    (K : ∀ f ym B', my_MR ym B' → my_U n L R B B' f r 511 → post (nI f) (fc, fl, ft, yl, yr, ym, yf)) : wpY_widen post (fc, fl, ft, yl, yr, ym, yf) (nI r) := by
  unfold wpY_widen
  dsimp only
  exact ⟨_, my_w4 S hr K 511 0 0 ym B (by omega) hB ⟨by omega, hs, by omega, fun _ => ⟨rfl, fun x _ h => by omega⟩⟩⟩
/-! rounds -/
def my_V (n : Nat) (L R : Nat → Nat) (B0 B : Nat → Bool) (c r : Nat) : Prop := c ≤ 1 ∧ my_so n L R B ∧ my_mz B + c ≤ my_mz B0 ∧
  (c = 0 → B = B0 ∧ ∀ r', r' < r → ∀ x : List Bool, x.length ≤ 8 → my_GV B (R r') x → B (511 * L r' + mp_nm x) = true)
theorem my_V_up {n : Nat} {L R : Nat → Nat} {B0 B B' : Nat → Bool} {c r f c' : Nat} (h : my_V n L R B0 B c r) (hu : my_U n L R B B' f r 511)
    (hc : c' ≤ 1) (h1 : c' = 0 → c = 0 ∧ f = 0) (h2 : c' = 1 → c = 1 ∨ f = 1) : my_V n L R B0 B' c' (r + 1) := by
  obtain ⟨a1, a2, a3, a4⟩ := h
  obtain ⟨b1, b2, b3, b4⟩ := hu
  refine ⟨hc, b2, ?_, fun e => ?_⟩
  · rcases (by omega : c' = 0 ∨ c' = 1) with e | e
    · omega
    · have := h2 e; omega
  · obtain ⟨e1, e2⟩ := h1 e
    obtain ⟨rfl, a5⟩ := a4 e1
    obtain ⟨rfl, b5⟩ := b4 e2
    refine ⟨rfl, fun r' hr' x hx hg => ?_⟩
    by_cases e3 : r' = r
    · rw [e3] at hg ⊢
      exact b5 x hx (mp_nm_lt hx) hg
    · exact a5 r' (by omega) x hx hg
theorem my_k41 {n : Nat} {L R : Nat → Nat} {yl yr : Nat → Int32} (S : my_S n L R yl yr) {B0 : Nat → Bool} {q : Nat} {fl ft : Int32} {yf : Nat → Int32} {post : SY → Prop}
    {J : Int32 → Int32 → Int32 → Int32 → Int32 → (Nat → Int32) → (Nat → Int32) → (Nat → Int32) → (Nat → Int32) → Prop}
    (K : ∀ c ym B, my_MR ym B → my_V n L R B0 B c n → J (nI c) (nI (q + 1)) (nI n) fl ft yl yr ym yf) :
    ∀ d r c ym B, r + d = n → my_MR ym B → my_V n L R B0 B c r → wY_work_41 post J (nI q) (d + 1) (nI c) (nI r) (nI n) fl ft yl yr ym yf := by
  have hn := S.1
  intro d
  induction d with
  | zero =>
    intro r c ym B hr hB hV
    have e : r = n := by omega
    subst e
    exact br_t (nI_le (by omega) (by omega)) (nm_r (nI_1 q) (K c ym B hB hV))
  | succ d ih =>
    intro r c ym B hr hB hV
    refine br_f (nI_ge (by omega) (by omega)) (br_f (nI_ge (b := 14) (by omega) (by omega)) (my_widen S (by omega) hB hV.2.1 (fun f ym' B' hB' hU => ?_)))
    have hc := hV.1
    have hf := hU.1
    refine pk_eq f 0 (fun hf0 => nm_r (nI_1 r) ?_) (fun hf0 => nm_r (nI_1 r) ?_)
    · exact ih (r + 1) c ym' B' (by omega) hB' (my_V_up hV hU hc (fun e => ⟨e, hf0⟩) (fun h => Or.inl h))
    · exact ih (r + 1) 1 ym' B' (by omega) hB' (my_V_up hV hU (by omega) (fun h => by omega) (fun h => by omega))
/-- made holds what names derive -/
def my_W (n : Nat) (L R : Nat → Nat) (ym : Nat → Int32) : Prop := ∃ B : Nat → Bool, my_MR ym B ∧ ∀ s x, s < 7 → x.length ≤ 8 → (my_yd B s x = true ↔ mp_Dv n L R s x)
theorem my_W_of {n : Nat} {L R : Nat → Nat} {ym : Nat → Int32} {B : Nat → Bool} (ok : mp_Ok n L R) (hB : my_MR ym B) (hs : my_so n L R B)
    (hc : ∀ r, r < n → ∀ x : List Bool, x.length ≤ 8 → my_GV B (R r) x → B (511 * L r + mp_nm x) = true) : my_W n L R ym := by
  refine ⟨B, hB, fun s x h7 hx => ⟨fun h => my_yd_so hs h7 hx h, fun h => ?_⟩⟩
  refine h (fun s x => x.length ≤ 8 → my_yd B s x = true) ⟨?_, ?_, ?_, ?_, ?_⟩ hx
  · intro _; exact rfl
  · intro _; exact rfl
  · intro r hr e hx
    rw [my_yd_n (ok r hr).1]
    exact hc r hr [] hx (Or.inl ⟨e, rfl⟩)
  · intro r hr e0 e8 x h1 hx
    rw [my_yd_n (ok r hr).1]
    exact hc r hr x hx (Or.inr (Or.inl ⟨e0, e8, h1 hx⟩))
  · intro r hr e8 x y h1 h2 hx
    rw [my_yd_n (ok r hr).1]
    have hl := hx
    rw [List.length_append] at hl
    exact hc r hr _ hx (Or.inr (Or.inr ⟨e8, x, y, rfl, h1 (by omega), h2 (by omega)⟩))
theorem my_k26 {n : Nat} {L R : Nat → Nat} {yl yr : Nat → Int32} (S : my_S n L R yl yr) {fl ft : Int32} {yf : Nat → Int32} {post : SY → Prop}
    (K : ∀ ym, my_W n L R ym → post (nI n, fl, ft, yl, yr, ym, yf)) :
    ∀ m c q ym B, c ≤ 1 → my_MR ym B → my_so n L R B → (c = 1 → my_mz B < m ∧ q + my_mz B ≤ 2555) →
      (c = 0 → ∀ r, r < n → ∀ x : List Bool, x.length ≤ 8 → my_GV B (R r) x → B (511 * L r + mp_nm x) = true) →
      wY_work_26 post (m + 1) (nI c) (nI q) (nI n) fl ft yl yr ym yf := by
  have hn := S.1
  have ok := S.2.1
  intro m
  induction m with
  | zero =>
    intro c q ym B hc hB hs h1 h0
    have hc0 : c = 0 := by
      rcases (by omega : c = 0 ∨ c = 1) with e | e
      · exact e
      · have := (h1 e).1; omega
    subst hc0
    have P := K ym (my_W_of ok hB hs (h0 rfl))
    exact br_c (fun _ => P) (fun _ => br_t rfl P)
  | succ m ih =>
    intro c q ym B hc hB hs h1 h0
    rcases (by omega : c = 0 ∨ c = 1) with e | e
    · subst e
      have P := K ym (my_W_of ok hB hs (h0 rfl))
      exact br_c (fun _ => P) (fun _ => br_t rfl P)
    · subst e
      obtain ⟨hm, hq⟩ := h1 rfl
      refine br_f (nI_ge (b := 3000) (by omega) (by omega)) (br_f (by decide) ⟨_, my_k41 S (B0 := B) (fun c' ym' B' hB' hV => ?_) n 0 0 ym B (by omega) hB ⟨by omega, hs, by omega, fun _ => ⟨rfl, fun r' h => by omega⟩⟩⟩)
      have hv := hV.2.2.1
      exact ih c' (q + 1) ym' B' hV.1 hB' hV.2.1 (fun e => by omega) (fun e => (hV.2.2.2 e).2)
theorem my_work {n : Nat} {L R : Nat → Nat} {yl yr : Nat → Int32} (S : my_S n L R yl yr) {fl ft : Int32} {ym yf : Nat → Int32} {post : SY → Prop}
    (K : ∀ ym, my_W n L R ym → post (nI n, fl, ft, yl, yr, ym, yf)) : wpY_work post (nI n, fl, ft, yl, yr, ym, yf) := by
  have key : ∀ d k ym, k + d = 2555 → (∀ p, p < k → ym p = nI 0) → wY_work_2 post (nI n) fl ft (d + 1) (nI k) yl yr ym yf := by
    intro d
    induction d with
    | zero =>
      intro k ym hk h
      have hz := my_mz_le (fun _ => false)
      exact br_t (nI_le (a := 2555) (by omega) (by omega)) ⟨_, my_k26 S K 2556 1 0 ym (fun _ => false) (Nat.le_refl _) (fun p hp => h p (by omega)) (fun s x _ _ h => by cases h) (fun _ => by omega) (fun h => by omega)⟩
    | succ d ih =>
      intro k ym hk h
      refine br_f (nI_ge (b := 2555) (by omega) (by omega)) ⟨vp_in_nI (by omega) (by omega), nm_r (e' := upd ym k (nI 0)) (by rw [nI_clamp (by omega)]; rfl) (nm_r (nI_1 k) (ih (k + 1) _ (by omega) (fun p hp => ?_)))⟩
      by_cases e : p = k
      · rw [e, pk_us]
      · rw [pk_un e]; exact h p (by omega)
  unfold wpY_work
  dsimp only
  exact ⟨_, key 2555 0 ym (by omega) (fun p hp => by omega)⟩
theorem my_dv {n : Nat} {L R : Nat → Nat} {ym : Nat → Int32} (hW : my_W n L R ym) {s : Nat} (hs : s < 7) {x : List Bool} (hx : x.length ≤ 8) {post : Int32 → Prop}
    {fc fl ft : Int32} {yl yr yf : Nat → Int32} (h1 : mp_Dv n L R s x → post 1) (h0 : ¬ mp_Dv n L R s x → post 0) : wpY_derives post (fc, fl, ft, yl, yr, ym, yf) (nI s) (nI (mp_nm x)) := by
  obtain ⟨B, hB, hy⟩ := hW
  refine my_der hB hs hx rfl ?_
  have := hy s x hs hx
  cases e : my_yd B s x
  · exact h0 (fun z => by have := this.mpr z; rw [e] at this; cases this)
  · exact h1 (this.mp e)
end
section
/-! the reference's away: it answers the distance -/
def my_FR (yf : Nat → Int32) (F : Nat → Nat) : Prop := ∀ p, p < 511 → yf p = nI (F p) ∧ F p ≤ 9
def my_mt (F : Nat → Nat) (q ch : Nat) : Nat → Nat := fun p => if p = q then min (F p) ch else F p
theorem my_mt_s (F : Nat → Nat) (q ch : Nat) : my_mt F q ch q = min (F q) ch := if_pos rfl
theorem my_mt_n {F : Nat → Nat} {q ch p : Nat} (h : p ≠ q) : my_mt F q ch p = F p := if_neg h
theorem my_mt_le (F : Nat → Nat) (q ch p : Nat) : my_mt F q ch p ≤ F p := by
  by_cases e : p = q
  · rw [e, my_mt_s]; omega
  · rw [my_mt_n e]; exact Nat.le_refl _
theorem my_mt_at (F : Nat → Nat) (q ch : Nat) : my_mt F q ch q ≤ ch := by rw [my_mt_s]; omega
theorem my_meet {yf : Nat → Int32} {F : Nat → Nat} (hF : my_FR yf F) {z : List Bool} (hz : z.length ≤ 8) {a : Int32} (ha : a = nI (mp_nm z)) {ch : Nat} (hc : ch ≤ 9) {post : SY → Prop}
    {fc fl ft : Int32} {yl yr ym : Nat → Int32} (K : ∀ yf, my_FR yf (my_mt F (mp_nm z) ch) → post (fc, fl, ft, yl, yr, ym, yf)) :
    wpY_meet post (fc, fl, ft, yl, yr, ym, yf) a (nI ch) := by
  subst ha
  have hm := mp_nm_lt hz
  have h9 := (hF _ hm).2
  unfold wpY_meet
  dsimp only
  refine ⟨vp_in_nI hm (by omega), pk_le (F (mp_nm z)) ch (fun h => K yf ?_) (fun h => ⟨vp_in_nI hm (by omega), nm_r (e' := upd yf (mp_nm z) (nI ch)) (by rw [nI_clamp (by omega)]) (K _ ?_)⟩) (by rw [nI_clamp (by omega)]; exact (hF _ hm).1)⟩
  · intro p hp
    by_cases e : p = mp_nm z
    · rw [e, my_mt_s, Nat.min_eq_left h]
      exact hF _ hm
    · rw [my_mt_n e]
      exact hF p hp
  · intro p hp
    by_cases e : p = mp_nm z
    · rw [e, my_mt_s, pk_us, Nat.min_eq_right (by omega)]
      exact ⟨rfl, hc⟩
    · rw [my_mt_n e, pk_un e]
      exact hF p hp
def my_G (x : List Bool) (ch : Nat) (F F' : Nat → Nat) : Prop := ∀ z : List Bool, z.length ≤ 8 → F' (mp_nm z) = F (mp_nm z) ∨ (F' (mp_nm z) = ch ∧ ch < F (mp_nm z) ∧ mp_St x z)
theorem my_G_mt {x : List Bool} {ch : Nat} {F F' : Nat → Nat} (h : my_G x ch F F') {z0 : List Bool} (hs : mp_St x z0) : my_G x ch F (my_mt F' (mp_nm z0) ch) := by
  intro z hz
  by_cases e : mp_nm z = mp_nm z0
  · have e2 : z = z0 := mp_nm_inj e
    subst e2
    rw [my_mt_s]
    rcases h z hz with a | ⟨a, b, c⟩
    · rw [a]
      rcases Nat.lt_or_ge ch (F (mp_nm z)) with q | q
      · exact Or.inr ⟨by omega, q, hs⟩
      · exact Or.inl (by omega)
    · exact Or.inr ⟨by omega, b, c⟩
  · rw [my_mt_n e]
    exact h z hz
def my_Nb (u v z : List Bool) : Prop := (∃ u' e, u = u' ++ [e] ∧ (z = u' ++ (!e) :: v ∨ z = u' ++ v)) ∨ (∃ e, z = u ++ e :: v)
def my_C (x : List Bool) (ch p : Nat) (F : Nat → Nat) : Prop := ∀ u v z : List Bool, x = u ++ v → v.length < p → z.length ≤ 8 → my_Nb u v z → F (mp_nm z) ≤ ch
theorem my_cov {x : List Bool} {ch : Nat} {F : Nat → Nat} (hC : my_C x ch (x.length + 1) F) {z : List Bool} (hz : z.length ≤ 8) (hs : mp_St x z) : z = x ∨ F (mp_nm z) ≤ ch := by
  rcases hs with ⟨p, q, c, d, rfl, rfl⟩ | ⟨p, q, c, rfl, rfl⟩ | ⟨p, q, c, rfl, rfl⟩
  · by_cases e : d = c
    · exact Or.inl (by rw [e])
    · have e2 : d = !c := by
        cases d <;> cases c
        · exact absurd rfl e
        · rfl
        · rfl
        · exact absurd rfl e
      refine Or.inr (hC (p ++ [c]) q _ (by rw [List.append_assoc]; rfl) (by rw [List.length_append, List.length_cons]; omega) hz (Or.inl ⟨p, c, rfl, Or.inl (by rw [e2])⟩))
  · exact Or.inr (hC (p ++ [c]) q _ (by rw [List.append_assoc]; rfl) (by rw [List.length_append, List.length_cons]; omega) hz (Or.inl ⟨p, c, rfl, Or.inr rfl⟩))
  · exact Or.inr (hC p q _ rfl (by rw [List.length_append]; omega) hz (Or.inr ⟨c, rfl⟩))
theorem my_vl0 (u v : List Bool) : mp_vl (u ++ false :: v) = mp_vl u * 2 ^ (v.length + 1) + mp_vl v := by
  rw [mp_vl_app, List.length_cons]
  show mp_vl u * 2 ^ (v.length + 1) + (0 * 2 ^ v.length + mp_vl v) = _
  rw [Nat.zero_mul, Nat.zero_add]
theorem my_nm1 (u v : List Bool) : mp_nm (u ++ true :: v) = mp_nm (u ++ false :: v) + 2 ^ v.length := by
  unfold mp_nm
  rw [my_vl0, mp_vl_app, List.length_append, List.length_append, List.length_cons, List.length_cons]
  show _ + (mp_vl u * 2 ^ (v.length + 1) + (1 * 2 ^ v.length + mp_vl v)) = _
  omega
theorem my_a95 {x u v : List Bool} (hx : x.length ≤ 8) (hxe : x = u ++ v) {ch p : Nat} (hp : v.length = p) (hc : ch ≤ 9) {F F' : Nat → Nat} {yf : Nat → Int32} (hF : my_FR yf F') (hG : my_G x ch F F')
    {post : SY → Prop} {J : Int32 → Int32 → Int32 → Int32 → (Nat → Int32) → (Nat → Int32) → (Nat → Int32) → (Nat → Int32) → Prop} {fc fl ft : Int32} {yl yr ym : Nat → Int32}
    (K : ∀ yf F'', my_FR yf F'' → (∀ q, F'' q ≤ F' q) → my_G x ch F F'' → (∀ (z : List Bool) (e : Bool), z = u ++ e :: v → z.length ≤ 8 → F'' (mp_nm z) ≤ ch) → J (nI (p + 1)) fc fl ft yl yr ym yf) :
    wY_around_95 post J (nI ch) (nI x.length) (nI (mp_vl x)) (nI p) (nI (mp_vl v)) (nI (mp_vl u)) fc fl ft yl yr ym yf := by
  have hl : ∀ e : Bool, (u ++ e :: v).length = x.length + 1 := by
    intro e
    rw [hxe, List.length_append, List.length_append, List.length_cons]
    rfl
  have hul : u.length + p = x.length := by rw [hxe, List.length_append, hp]
  have hvl := mp_vl_lt v
  rw [hp] at hvl
  unfold wY_around_95
  refine pk_le 8 x.length (fun h => nm_r (nI_1 p) (K yf F' hF (fun q => Nat.le_refl _) hG (fun z e hz hz8 => ?_))) (fun h => ?_)
  · rw [hz, hl] at hz8
    omega
  · have e1 : nI x.length + 1 = nI (u ++ false :: v).length := by rw [hl, nI_1]
    have hu := mp_256 (x := u) (by omega)
    have h2 : 2 ^ (p + 1) ≤ 2 ^ 8 := Nat.pow_le_pow_right (by decide) (by omega)
    have hm : mp_vl u * 2 ^ (p + 1) < 256 * 512 := Nat.lt_of_le_of_lt (Nat.mul_le_mul_left _ h2) (by omega)
    have h3 : mp_vl v < 2 ^ (p + 1) := by rw [Nat.pow_succ]; omega
    have e2 : (nI (mp_vl u) <<< ((nI p + 1) &&& 31)) ||| nI (mp_vl v) = nI (mp_vl (u ++ false :: v)) := by
      rw [nI_1, mp_sl (by omega) (by omega), mp_or _ h3, my_vl0, hp]
    refine my_num (x := u ++ false :: v) (by rw [hl]; omega) e1 e2 ?_
    have e3 : nI (mp_nm (u ++ false :: v)) + ((1 : Int32) <<< (nI p &&& 31)) = nI (mp_nm (u ++ true :: v)) := by
      rw [mp_p2 (by omega), nI_add, my_nm1, hp]
    refine my_meet hF (z := u ++ false :: v) (by rw [hl]; omega) rfl hc (fun yf1 hF1 => ?_)
    refine my_meet hF1 (z := u ++ true :: v) (by rw [hl]; omega) e3 hc (fun yf2 hF2 => nm_r (nI_1 p) ?_)
    have s0 : mp_St x (u ++ false :: v) := by rw [hxe]; exact mp_St_ins u v false
    have s1 : mp_St x (u ++ true :: v) := by rw [hxe]; exact mp_St_ins u v true
    refine K yf2 _ hF2 (fun q => Nat.le_trans (my_mt_le _ _ _ _) (my_mt_le _ _ _ _)) (my_G_mt (my_G_mt hG s0) s1) (fun z e hz hz8 => ?_)
    subst hz
    cases e
    · exact Nat.le_trans (my_mt_le _ _ _ _) (my_mt_at _ _ _)
    · exact my_mt_at _ _ _
theorem my_snoc : ∀ l : List Bool, l ≠ [] → ∃ l' b, l = l' ++ [b]
  | [], h => absurd rfl h
  | [b], _ => ⟨[], b, rfl⟩
  | a :: b :: l, _ => by
    obtain ⟨l', c, e⟩ := my_snoc (b :: l) (by intro z; cases z)
    exact ⟨a :: l', c, by rw [e]; rfl⟩
theorem my_C_up {x u v : List Bool} (hxe : x = u ++ v) {ch p : Nat} (hp : v.length = p) {F F' : Nat → Nat} (hC : my_C x ch p F) (hle : ∀ q, F' q ≤ F q)
    (hN : ∀ z : List Bool, z.length ≤ 8 → my_Nb u v z → F' (mp_nm z) ≤ ch) : my_C x ch (p + 1) F' := by
  intro u2 v2 z hx2 hl hz hn
  by_cases e : v2.length = p
  · have e2 : u2 = u ∧ v2 = v := List.append_inj' (hx2.symm.trans hxe) (by omega)
    obtain ⟨rfl, rfl⟩ := e2
    exact hN z hz hn
  · exact Nat.le_trans (hle _) (hC u2 v2 z hx2 (by omega) hz hn)
theorem my_a18 {x : List Bool} (hx : x.length ≤ 8) {ch : Nat} (hc : ch ≤ 9) {F : Nat → Nat} {post : SY → Prop} {fc fl ft : Int32} {yl yr ym : Nat → Int32}
    (K : ∀ yf F', my_FR yf F' → my_G x ch F F' → my_C x ch (x.length + 1) F' → post (fc, fl, ft, yl, yr, ym, yf)) :
    ∀ d p yf F', p + d = x.length + 1 → my_FR yf F' → my_G x ch F F' → my_C x ch p F' →
      wY_around_18 post (nI ch) (nI x.length) (nI (mp_vl x)) (d + 1) (nI p) fc fl ft yl yr ym yf := by
  have h256 := mp_256 hx
  intro d
  induction d with
  | zero =>
    intro p yf F' hp hF hG hC
    have e : p = x.length + 1 := by omega
    subst e
    exact br_t (nI_lt (by omega) (by omega)) (K yf F' hF hG hC)
  | succ d ih =>
    intro p yf F' hp hF hG hC
    obtain ⟨u, v, hxe, hv⟩ : ∃ u v : List Bool, x = u ++ v ∧ v.length = p :=
      ⟨x.take (x.length - p), x.drop (x.length - p), (List.take_append_drop _ _).symm, by rw [List.length_drop]; omega⟩
    have hul : u.length + p = x.length := by rw [hxe, List.length_append, hv]
    have a1 := mp_hi u v
    have a2 := mp_lo u v
    rw [← hxe, hv] at a1 a2
    refine br_f (nI_nlt (by omega) (by omega)) (nm_r (e' := nI (mp_vl v)) (by rw [mp_am _ (by omega), a2]) (nm_r (e' := nI (mp_vl u)) (by rw [mp_sr (by omega) (by omega), a1]) ?_))
    refine pk_le x.length p (fun h => ?_) (fun h => ?_)
    · refine my_a95 hx hxe hv hc hF hG (fun yf2 F2 hF2 hle hG2 hN => ih (p + 1) yf2 F2 (by omega) hF2 hG2 (my_C_up hxe hv hC hle (fun z hz hn => ?_)))
      rcases hn with ⟨u', e, hu, _⟩ | ⟨e, hz2⟩
      · rw [hu, List.length_append, List.length_singleton] at hul
        omega
      · exact hN z e hz2 hz
    · obtain ⟨u', e, hu⟩ := my_snoc u (by intro z; rw [z, List.length_nil] at hul; omega)
      have hxe2 : x = u' ++ e :: v := by rw [hxe, hu, List.append_assoc]; rfl
      have hul2 : u'.length + 1 = u.length := by rw [hu, List.length_append]; rfl
      have hz1 : (u' ++ (!e) :: v).length = x.length := by rw [hxe2, List.length_append, List.length_append]; rfl
      have hz2 : (u' ++ v).length = x.length - 1 := by rw [List.length_append]; omega
      have e1 : nI (mp_vl x) ^^^ ((1 : Int32) <<< (nI p &&& 31)) = nI (mp_vl (u' ++ (!e) :: v)) := by
        rw [mp_p2 (by omega), nx_xor, ← mp_flip, ← hxe2, hv]
      have hu2 := mp_256 (x := u) (by omega)
      have hu3 := mp_256 (x := u') (by omega)
      have e2 : nI (mp_vl u) >>> ((1 : Int32) &&& 31) = nI (mp_vl u') := by
        have q : nI (mp_vl u) >>> ((1 : Int32) &&& 31) = nI (mp_vl u / 2 ^ 1) := mp_sr (k := 1) (by omega) (by omega)
        rw [q, hu, mp_vl_snoc]
        have := Bool.toNat_lt e
        exact congrArg nI (by omega)
      have hvl := mp_vl_lt v
      rw [hv] at hvl
      have h2 : 2 ^ p ≤ 2 ^ 8 := Nat.pow_le_pow_right (by decide) (by omega)
      have hm : mp_vl u' * 2 ^ p < 256 * 512 := Nat.lt_of_le_of_lt (Nat.mul_le_mul_left _ h2) (by omega)
      have e3 : ((nI (mp_vl u) >>> ((1 : Int32) &&& 31)) <<< (nI p &&& 31)) ||| nI (mp_vl v) = nI (mp_vl (u' ++ v)) := by
        rw [e2, mp_sl (by omega) (by omega), mp_or _ hvl, mp_vl_app, hv]
      have e4 : nI x.length - 1 = nI (u' ++ v).length := by rw [hz2]; exact pk_sub (b := 1) (by omega)
      refine my_num (x := u' ++ (!e) :: v) (by omega) (by rw [hz1]) e1 ?_
      refine my_num (x := u' ++ v) (by omega) e4 e3 ?_
      have s0 : mp_St x (u' ++ (!e) :: v) := by rw [hxe2]; exact mp_St_rep u' v e (!e)
      have s1 : mp_St x (u' ++ v) := by rw [hxe2]; exact mp_St_del u' v e
      refine my_meet hF (z := u' ++ (!e) :: v) (by omega) rfl hc (fun yf1 hF1 => ?_)
      refine my_meet hF1 (z := u' ++ v) (by omega) rfl hc (fun yf2 hF2 => ?_)
      refine my_a95 hx hxe hv hc hF2 (my_G_mt (my_G_mt hG s0) s1) (fun yf3 F3 hF3 hle hG3 hN => ih (p + 1) yf3 F3 (by omega) hF3 hG3
        (my_C_up hxe hv hC (fun q => Nat.le_trans (hle q) (Nat.le_trans (my_mt_le _ _ _ _) (my_mt_le _ _ _ _))) (fun z hz hn => ?_)))
      rcases hn with ⟨u2, e', hu', hz'⟩ | ⟨e', hz'⟩
      · have q : u' = u2 ∧ [e] = [e'] := List.append_inj' (hu.symm.trans hu') rfl
        obtain ⟨rfl, q2⟩ := q
        injection q2 with q3
        subst q3
        rcases hz' with rfl | rfl
        · exact Nat.le_trans (hle _) (Nat.le_trans (my_mt_le _ _ _ _) (my_mt_at _ _ _))
        · exact Nat.le_trans (hle _) (my_mt_at _ _ _)
      · exact hN z e' hz' hz
theorem my_around {x : List Bool} (hx : x.length ≤ 8) {ch : Nat} (hc : ch ≤ 9) {b : Int32} (hb : b = nI ch) {F : Nat → Nat} {yf : Nat → Int32} (hF : my_FR yf F) {post : SY → Prop} {fc fl ft : Int32} {yl yr ym : Nat → Int32}
    (K : ∀ yf F', my_FR yf F' → my_G x ch F F' → my_C x ch (x.length + 1) F' → post (fc, fl, ft, yl, yr, ym, yf)) :
    wpY_around post (fc, fl, ft, yl, yr, ym, yf) (nI (mp_nm x)) b := by
  subst hb
  unfold wpY_around
  dsimp only
  exact my_size hx (nm_r (mp_bits hx) ⟨_, my_a18 hx hc K (x.length + 1) 0 yf F (by omega) hF (fun z _ => Or.inl rfl) (fun u v z _ h => by omega)⟩)
/-! got -/
theorem my_got2 {n : Nat} {L R : Nat → Nat} {ym : Nat → Int32} (hW : my_W n L R ym) {s : Nat} (hs : s < 7) {F : Nat → Nat} {yf : Nat → Int32} (hF : my_FR yf F) {c : Nat} (hc : c ≤ 9) {post : Int32 → Prop}
    {fc fl ft : Int32} {yl yr : Nat → Int32} (h1 : (∃ x : List Bool, x.length ≤ 8 ∧ F (mp_nm x) = c ∧ mp_Dv n L R s x) → post 1)
    (h0 : ¬ (∃ x : List Bool, x.length ≤ 8 ∧ F (mp_nm x) = c ∧ mp_Dv n L R s x) → post 0) :
    ∀ d m, m + d = 511 → (∀ x : List Bool, x.length ≤ 8 → mp_nm x < m → F (mp_nm x) = c → ¬ mp_Dv n L R s x) → wY_got_2 post (nI s) (nI c) fc fl ft yl yr ym yf (d + 1) (nI m) := by
  intro d
  induction d with
  | zero =>
    intro m hm hno
    refine br_t (nI_le (a := 511) (by omega) (by omega)) (h0 ?_)
    rintro ⟨x, hx, e, hd⟩
    have := mp_nm_lt hx
    exact hno x hx (by omega) e hd
  | succ d ih =>
    intro m hm hno
    obtain ⟨x, hx, rfl⟩ := mp_nm_sur (m := m) (by omega)
    have hx5 := mp_nm_lt hx
    have h9 := (hF _ hx5).2
    have G : (F (mp_nm x) = c → ¬ mp_Dv n L R s x) → wY_got_2 post (nI s) (nI c) fc fl ft yl yr ym yf (d + 1) (nI (mp_nm x + 1)) := by
      intro hn
      refine ih (mp_nm x + 1) (by omega) (fun y hy hlt e => ?_)
      by_cases e2 : mp_nm y = mp_nm x
      · have e3 : y = x := mp_nm_inj e2
        subst e3
        exact hn e
      · exact hno y hy (by omega) e
    refine br_f (nI_ge (b := 511) (by omega) (by omega)) ⟨vp_in_nI hx5 (by omega), pk_eq (F (mp_nm x)) c (fun h => ?_) (fun h => nm_r (nI_1 _) (G (fun z => absurd z h))) (by rw [nI_clamp (by omega)]; exact (hF _ hx5).1)⟩
    refine my_dv hW hs hx (fun hd => br_f (by decide) (h1 ⟨x, hx, h, hd⟩)) (fun hd => br_t rfl (nm_r (nI_1 _) (G (fun _ => hd))))
theorem my_got {n : Nat} {L R : Nat → Nat} {ym : Nat → Int32} (hW : my_W n L R ym) {s : Nat} (hs : s < 7) {F : Nat → Nat} {yf : Nat → Int32} (hF : my_FR yf F) {c : Nat} (hc : c ≤ 9) {post : Int32 → Prop}
    {fc fl ft : Int32} {yl yr : Nat → Int32} (h1 : (∃ x : List Bool, x.length ≤ 8 ∧ F (mp_nm x) = c ∧ mp_Dv n L R s x) → post 1)
    (h0 : ¬ (∃ x : List Bool, x.length ≤ 8 ∧ F (mp_nm x) = c ∧ mp_Dv n L R s x) → post 0) : wpY_got post (fc, fl, ft, yl, yr, ym, yf) (nI s) (nI c) := by
  unfold wpY_got
  dsimp only
  exact ⟨_, my_got2 hW hs hF hc h1 h0 511 0 (by omega) (fun x _ h => by omega)⟩
/-! breadth first -/
def my_A (w : List Bool) (c : Nat) (F : Nat → Nat) : Prop := ∀ x : List Bool, x.length ≤ 8 → (∀ k, k ≤ c → (F (mp_nm x) ≤ k ↔ mp_Ed k w x)) ∧ (F (mp_nm x) ≤ c ∨ F (mp_nm x) = 9)
def my_AW (c : Nat) (F : Nat → Nat) (m : Nat) (F' : Nat → Nat) : Prop := ∀ z : List Bool, z.length ≤ 8 →
  (F' (mp_nm z) = F (mp_nm z) ∨ (F' (mp_nm z) = c + 1 ∧ c + 1 < F (mp_nm z) ∧ ∃ x : List Bool, x.length ≤ 8 ∧ F (mp_nm x) = c ∧ mp_St x z)) ∧
  (∀ x : List Bool, x.length ≤ 8 → mp_nm x < m → F (mp_nm x) = c → mp_St x z → F' (mp_nm z) ≤ c + 1)
theorem my_A_step {w : List Bool} {c : Nat} {F F' : Nat → Nat} (hw : w.length ≤ 5) (hc : c ≤ 3) (hA : my_A w c F) (hB : my_AW c F 511 F') : my_A w (c + 1) F' := by
  intro x hx
  obtain ⟨a1, a2⟩ := hA x hx
  obtain ⟨b1, b2⟩ := hB x hx
  refine ⟨fun k hk => ?_, ?_⟩
  · by_cases e : k ≤ c
    · rw [← a1 k e]
      rcases b1 with b | ⟨b, b', _⟩
      · rw [b]
      · rw [b]; omega
    · have e2 : k = c + 1 := by omega
      subst e2
      constructor
      · intro h
        rcases b1 with b | ⟨b, b', y, hy, ey, sy⟩
        · have : F (mp_nm x) ≤ c := by omega
          exact mp_Ed_up ((a1 c (Nat.le_refl _)).mp this)
        · exact mp_Ed_st (((hA y hy).1 c (Nat.le_refl _)).mp (by omega)) sy
      · intro h
        have low : mp_Ed c w x → F' (mp_nm x) ≤ c + 1 := by
          intro h
          have := (a1 c (Nat.le_refl _)).mpr h
          rcases b1 with b | ⟨b, _⟩ <;> omega
        rcases h with h | ⟨m, h, sm⟩
        · exact low h
        · have hl := (mp_Ed_len h).1
          have hm8 : m.length ≤ 8 := by omega
          have hm := ((hA m hm8).1 c (Nat.le_refl _)).mpr h
          by_cases e : F (mp_nm m) = c
          · exact b2 m hm8 (mp_nm_lt hm8) e sm
          · obtain ⟨c', rfl⟩ : ∃ c', c = c' + 1 := ⟨c - 1, by omega⟩
            exact low (mp_Ed_st (((hA m hm8).1 c' (by omega)).mp (by omega)) sm)
  · rcases b1 with b | ⟨b, _⟩
    · rw [b]; omega
    · omega
theorem my_y67 {c : Nat} (hc : c ≤ 3) {F : Nat → Nat} {a : Int32} {post : Int32 → SY → Prop} {J : Int32 → Int32 → Int32 → Int32 → (Nat → Int32) → (Nat → Int32) → (Nat → Int32) → (Nat → Int32) → Prop}
    {fc fl ft : Int32} {yl yr ym : Nat → Int32} (K : ∀ yf F', my_FR yf F' → my_AW c F 511 F' → J (nI (c + 1)) fc fl ft yl yr ym yf) :
    ∀ d m yf F', m + d = 511 → my_FR yf F' → my_AW c F m F' → wY_away_67 post J a (nI c) (d + 1) (nI m) fc fl ft yl yr ym yf := by
  intro d
  induction d with
  | zero =>
    intro m yf F' hm hF hA
    have e : m = 511 := by omega
    subst e
    exact br_t (nI_le (a := 511) (by omega) (by omega)) (nm_r (nI_1 c) (K yf F' hF hA))
  | succ d ih =>
    intro m yf F' hm hF hA
    obtain ⟨x, hx, rfl⟩ := mp_nm_sur (m := m) (by omega)
    have hx5 := mp_nm_lt hx
    have h9 := (hF _ hx5).2
    refine br_f (nI_ge (b := 511) (by omega) (by omega)) ⟨vp_in_nI hx5 (by omega), pk_eq (F' (mp_nm x)) c (fun h => ?_) (fun h => nm_r (nI_1 _) (ih _ yf F' (by omega) hF (fun z hz => ⟨(hA z hz).1, fun y hy hlt e s => ?_⟩))) (by rw [nI_clamp (by omega)]; exact (hF _ hx5).1)⟩
    · have hFx : F (mp_nm x) = c := by
        rcases (hA x hx).1 with b | ⟨b, _⟩
        · omega
        · omega
      refine my_around hx (ch := c + 1) (by omega) (nI_1 c) hF (fun yf2 F2 hF2 hG hC => nm_r (nI_1 _) (ih _ yf2 F2 (by omega) hF2 (fun z hz => ⟨?_, fun y hy hlt e s => ?_⟩)))
      · rcases hG z hz with g | ⟨g1, g2, g3⟩
        · rw [g]
          exact (hA z hz).1
        · rcases (hA z hz).1 with b | ⟨b, _⟩
          · exact Or.inr ⟨g1, by omega, x, hx, hFx, g3⟩
          · omega
      · have le : F' (mp_nm z) ≤ c + 1 → F2 (mp_nm z) ≤ c + 1 := by
          intro q
          rcases hG z hz with g | ⟨g1, g2, g3⟩ <;> omega
        by_cases e2 : mp_nm y = mp_nm x
        · have e3 : y = x := mp_nm_inj e2
          subst e3
          rcases my_cov hC hz s with q | q
          · subst q
            exact le (by omega)
          · exact q
        · exact le ((hA z hz).2 y hy (by omega) e s)
    · by_cases e2 : mp_nm y = mp_nm x
      · rw [e2] at e
        rcases (hA x hx).1 with b | ⟨b, b', _⟩
        · exact absurd (b.trans e) h
        · omega
      · exact (hA z hz).2 y hy (by omega) e s
theorem my_y45 {n : Nat} {L R : Nat → Nat} {ym : Nat → Int32} (hW : my_W n L R ym) {s : Nat} (hs : s < 7) {w : List Bool} (hw : w.length ≤ 5) {post : Int32 → SY → Prop} {fc fl ft : Int32} {yl yr : Nat → Int32}
    (K : ∀ yf, post (nI (mp_ds n L R s w)) (fc, fl, ft, yl, yr, ym, yf)) :
    ∀ d c yf F, c + d = 4 → my_FR yf F → my_A w c F → (∀ k, k < c → ¬ mp_P n L R s w k) → wY_away_45 post (nI s) (d + 1) (nI c) fc fl ft yl yr ym yf := by
  intro d
  induction d with
  | zero =>
    intro c yf F hc hF hA hno
    have e : c = 4 := by omega
    subst e
    have e2 : mp_ds n L R s w = 4 := mp_lt_eq (Nat.le_refl _) hno (fun h => by omega)
    have K2 := K yf
    rw [e2] at K2
    exact br_t (nI_le (a := 4) (by omega) (by omega)) K2
  | succ d ih =>
    intro c yf F hc hF hA hno
    refine br_f (nI_ge (b := 4) (by omega) (by omega)) (my_got hW hs hF (by omega) (fun hg => br_f (by decide) ?_) (fun hg => br_t rfl ⟨_, my_y67 (by omega) (fun yf2 F2 hF2 hB => ih (c + 1) yf2 F2 (by omega) hF2 (my_A_step hw (by omega) hA hB) (fun k hk hp => ?_)) 511 0 yf F (by omega) hF (fun z _ => ⟨Or.inl rfl, fun x _ h => by omega⟩)⟩))
    · obtain ⟨x, hx, e, hd⟩ := hg
      have e2 : mp_ds n L R s w = c := mp_lt_eq (by omega) hno (fun _ => ⟨x, hd, ((hA x hx).1 c (Nat.le_refl _)).mp (by omega)⟩)
      have K2 := K yf
      rw [e2] at K2
      exact K2
    · by_cases e : k < c
      · exact hno k e hp
      · have e2 : k = c := by omega
        subst e2
        obtain ⟨x, hd, he⟩ := hp
        have hl := (mp_Ed_len he).1
        have hx : x.length ≤ 8 := by omega
        have h1 := ((hA x hx).1 k (Nat.le_refl _)).mpr he
        by_cases e3 : F (mp_nm x) = k
        · exact hg ⟨x, hx, e3, hd⟩
        · exact hno (F (mp_nm x)) (by omega) ⟨x, hd, ((hA x hx).1 (F (mp_nm x)) (by omega)).mp (Nat.le_refl _)⟩
theorem my_away {n : Nat} {L R : Nat → Nat} {ym : Nat → Int32} (hW : my_W n L R ym) {s : Nat} (hs : s < 7) {w : List Bool} (hw : w.length ≤ 5) {a b c : Int32} (ha : a = nI s) (hb : b = nI w.length) (hc : c = nI (mp_vl w))
    {post : Int32 → SY → Prop} {fc fl ft : Int32} {yl yr yf : Nat → Int32} (K : ∀ yf, post (nI (mp_ds n L R s w)) (fc, fl, ft, yl, yr, ym, yf)) :
    wpY_away post (fc, fl, ft, yl, yr, ym, yf) a b c := by
  subst ha hb hc
  have key : ∀ d k yf, k + d = 511 → (∀ p, p < k → yf p = nI 9) → wY_away_3 post (nI s) (nI w.length) (nI (mp_vl w)) fc fl ft (d + 1) (nI k) yl yr ym yf := by
    intro d
    induction d with
    | zero =>
      intro k yf hk h
      have hm := mp_nm_lt (x := w) (by omega)
      refine br_t (nI_le (a := 511) (by omega) (by omega)) (my_num (x := w) (by omega) rfl rfl ⟨vp_in_nI hm (by omega), nm_r (e' := upd yf (mp_nm w) (nI 0)) (by rw [nI_clamp (by omega)]; rfl) ⟨_, my_y45 hW hs hw K 4 0 _ (my_mt (fun _ => 9) (mp_nm w) 0) (by omega) (fun p hp => ?_) (fun x hx => ⟨fun k hk => ?_, ?_⟩) (fun k hk => by omega)⟩⟩)
      · by_cases e : p = mp_nm w
        · rw [e, pk_us, my_mt_s]
          exact ⟨rfl, by omega⟩
        · rw [pk_un e, my_mt_n e]
          exact ⟨h p (by omega), Nat.le_refl _⟩
      · have ek : k = 0 := by omega
        subst ek
        by_cases e : mp_nm x = mp_nm w
        · have e2 : x = w := mp_nm_inj e
          subst e2
          rw [my_mt_s]
          exact ⟨fun _ => rfl, fun _ => by omega⟩
        · rw [my_mt_n e]
          exact ⟨fun z => absurd z (by decide), fun z => by
            have z2 : w = x := z
            rw [z2] at e
            exact absurd rfl e⟩
      · by_cases e : mp_nm x = mp_nm w
        · rw [e, my_mt_s]
          exact Or.inl (by omega)
        · rw [my_mt_n e]
          exact Or.inr rfl
    | succ d ih =>
      intro k yf hk h
      refine br_f (nI_ge (b := 511) (by omega) (by omega)) ⟨vp_in_nI (by omega) (by omega), nm_r (e' := upd yf k (nI 9)) (by rw [nI_clamp (by omega)]; rfl) (nm_r (nI_1 k) (ih (k + 1) _ (by omega) (fun p hp => ?_)))⟩
      by_cases e : p = k
      · rw [e, pk_us]
      · rw [pk_un e]; exact h p (by omega)
  unfold wpY_away
  dsimp only
  exact ⟨_, key 511 0 yf (by omega) (fun p hp => by omega)⟩
end
section
/-! the relation: one grammar and one text on both sides -/
def i_Rel (_ : Nat) (u : SX) (v : SY) : Prop := ∃ (n : Nat) (L R : Nat → Nat) (W : List Bool) (fk : Int32) (xl xr xs xt xk tb yl yr ym yf : Nat → Int32),
  u = (nI n, nI W.length, fk, xl, xr, xs, xt, xk, tb) ∧ v = (nI n, nI W.length, nI (mp_vl W), yl, yr, ym, yf) ∧ mx_S n L R W xl xr xs xt ∧ my_R n L R yl yr
theorem mr_mk {k n : Nat} {L R : Nat → Nat} {W : List Bool} {fk : Int32} {xl xr xs xt xk tb yl yr ym yf : Nat → Int32} (S : mx_S n L R W xl xr xs xt) (Y : my_R n L R yl yr) :
    i_Rel k (nI n, nI W.length, fk, xl, xr, xs, xt, xk, tb) (nI n, nI W.length, nI (mp_vl W), yl, yr, ym, yf) :=
  ⟨n, L, R, W, fk, xl, xr, xs, xt, xk, tb, yl, yr, ym, yf, rfl, rfl, S, Y⟩
theorem mr_el {k : Nat} {u : SX} {v : SY} (I : i_Rel k u v) (P : SX → SY → Prop)
    (h : ∀ (n : Nat) (L R : Nat → Nat) (W : List Bool) (fk : Int32) (xl xr xs xt xk tb yl yr ym yf : Nat → Int32), mx_S n L R W xl xr xs xt → my_R n L R yl yr →
      P (nI n, nI W.length, fk, xl, xr, xs, xt, xk, tb) (nI n, nI W.length, nI (mp_vl W), yl, yr, ym, yf)) : P u v := by
  obtain ⟨n, L, R, W, fk, xl, xr, xs, xt, xk, tb, yl, yr, ym, yf, rfl, rfl, S, Y⟩ := I
  exact h n L R W fk xl xr xs xt xk tb yl yr ym yf S Y
theorem mr_S {n : Nat} {L R : Nat → Nat} {W : List Bool} {xl xr xs xt yl yr : Nat → Int32} (S : mx_S n L R W xl xr xs xt) (Y : my_R n L R yl yr) : my_S n L R yl yr := ⟨S.1, S.2.2.1, Y⟩
theorem i_up {k : Nat} {u : SX} {v : SY} (h : i_Rel k u v) : i_Rel (k + 4) u v := h
theorem i_vc0 : wpX_init (fun u => wpY_init (fun v => i_Rel 0 u v)) := by
  refine ⟨0, fun _ => 0, fun _ => 0, [], 0, _, _, _, _, _, _, _, _, _, _, rfl, rfl, ⟨by omega, by decide, fun r h => by omega, fun r h => by omega, fun k h => ?_⟩, fun r h => by omega⟩
  exact absurd h (Nat.not_lt_zero _)
theorem i_vc_rules {k : Nat} {u : SX} {v : SY} (I : i_Rel k u v) (hk : k + 4 ≤ 2048) : wpX_rules (fun r => wpY_rules (fun r' => r' = r ∧ i_Rel (k + 4) u v) v) u :=
  mr_el I (fun u v => wpX_rules (fun r => wpY_rules (fun r' => r' = r ∧ i_Rel (k + 4) u v) v) u) (fun _ _ _ _ _ _ _ _ _ _ _ _ _ _ _ S Y => ⟨rfl, mr_mk S Y⟩)
theorem i_vc_length {k : Nat} {u : SX} {v : SY} (I : i_Rel k u v) (hk : k + 4 ≤ 2048) : wpX_length (fun r => wpY_length (fun r' => r' = r ∧ i_Rel (k + 4) u v) v) u :=
  mr_el I (fun u v => wpX_length (fun r => wpY_length (fun r' => r' = r ∧ i_Rel (k + 4) u v) v) u) (fun _ _ _ _ _ _ _ _ _ _ _ _ _ _ _ S Y => ⟨rfl, mr_mk S Y⟩)
/-! rule -/
theorem mr_and7 {c : Nat} (h : c < 64) : nI c &&& 7 = nI (c % 8) := pk_andN (n := c) (by omega) (m := 7) 3 (by decide)
theorem mr_rs_ok {c : Nat} (h : c < 64) (h8 : 8 ≤ c → c % 8 ≠ 0) {post : Int32 → Prop} (hp : post (nI (mx_z c))) : wpX_rowSize post (nI c) := by
  unfold wpX_rowSize
  refine br_f (nI_pos (by omega)) (br_t (nI_le (b := 63) (by omega) (by omega)) (pk_le 8 c (fun h1 => ?_) (fun h1 => ?_)))
  · have e : mx_z c = 2 := by unfold mx_z; rw [if_neg (by omega), if_neg (by omega)]
    rw [e] at hp
    have := h8 h1
    rw [mr_and7 h]
    exact br_f (nI_nle (by omega) (by omega)) hp
  · refine pk_le c 0 (fun h2 => ?_) (fun h2 => ?_)
    · have e : mx_z c = 0 := if_pos (by omega)
      rw [e] at hp
      exact hp
    · have e : mx_z c = 1 := by unfold mx_z; rw [if_neg (by omega), if_pos (by omega)]
      rw [e] at hp
      exact hp
def mr_bad (x : Int32) : Prop := x < 0 ∨ ∃ c, c < 2 ^ 31 ∧ x = nI c ∧ (63 < c ∨ (8 ≤ c ∧ c % 8 = 0))
theorem mr_cases (x : Int32) : mr_bad x ∨ ∃ c, x = nI c ∧ c < 64 ∧ (8 ≤ c → c % 8 ≠ 0) := by
  by_cases h : x < 0
  · exact Or.inl (Or.inl h)
  · obtain ⟨c, hc, rfl⟩ := nI_of h
    by_cases h2 : 63 < c ∨ (8 ≤ c ∧ c % 8 = 0)
    · exact Or.inl (Or.inr ⟨c, hc, rfl, h2⟩)
    · exact Or.inr ⟨c, rfl, by omega, by omega⟩
theorem mr_rs_bad {x : Int32} (h : mr_bad x) {post : Int32 → Prop} (hp : post (-1)) : wpX_rowSize post x := by
  unfold wpX_rowSize
  rcases h with h | ⟨c, hc, rfl, h⟩
  · exact br_t h hp
  · refine br_f (nI_pos hc) (pk_le c 63 (fun h1 => br_t (nI_le (a := 8) (by omega) (by omega)) ?_) (fun h1 => hp))
    rw [mr_and7 (by omega), show c % 8 = 0 by omega]
    exact br_t (by decide) hp
theorem mr_br_ok {c : Nat} (h : c < 64) (h8 : 8 ≤ c → c % 8 ≠ 0) {post : Int32 → Prop} {fc fl ft : Int32} {yl yr ym yf : Nat → Int32} (hp : post 0) : wpY_badRight post (fc, fl, ft, yl, yr, ym, yf) (nI c) := by
  unfold wpY_badRight
  dsimp only
  refine br_f (nI_pos (by omega)) (br_f (nI_nlt (a := 63) (b := c) (by omega) (by omega)) ?_)
  refine pk_le c 7 (fun h1 => hp) (fun h1 => ⟨by decide, ?_⟩)
  have er : nI c - nI c / 8 * 8 = nI (c % 8) := pk_rem (d := 8) (by omega) (by omega) (by omega)
  rw [er]
  have := h8 (by omega)
  exact br_f (nI_ne0 (by omega) (by omega)) hp
theorem mr_br_bad {x : Int32} (h : mr_bad x) {post : Int32 → Prop} {fc fl ft : Int32} {yl yr ym yf : Nat → Int32} (hp : post 1) : wpY_badRight post (fc, fl, ft, yl, yr, ym, yf) x := by
  unfold wpY_badRight
  dsimp only
  rcases h with h | ⟨c, hc, rfl, h⟩
  · exact br_t h hp
  · refine br_f (nI_pos hc) (pk_lt 63 c (fun h1 => hp) (fun h1 => br_f (nI_ge (a := 7) (by omega) (by omega)) ⟨by decide, ?_⟩))
    have er : nI c - nI c / 8 * 8 = nI (c % 8) := pk_rem (d := 8) (by omega) (by omega) (by omega)
    rw [er, show c % 8 = 0 by omega]
    exact br_t rfl hp
theorem mr_61x {n m : Nat} {fs fk x4 x5 : Int32} (h5 : x5 < 0) {xl xr xs xt xk tb : Nat → Int32} {post : Int32 → SX → Prop} (hp : post (nI n) (nI (n + 1), fs, fk, xl, xr, xs, xt, xk, tb)) :
    wX_rule_61 post (nI n) fs fk (m + 1) x4 x5 xl xr xs xt xk tb := by
  refine br_t h5 (nm_r (nI_1 n) ?_)
  rw [nI_pred]
  exact hp
theorem mr_61s {n m j v : Nat} (hj : 2 * n + j < 28) {fs fk x4 x5' : Int32} (hv : (x4 &&& 7) - 1 = nI v) (h5 : nI j + (-1) = x5') {xl xr xs xt xk tb : Nat → Int32} {post : Int32 → SX → Prop}
    (hp : wX_rule_61 post (nI n) fs fk m (x4 >>> ((3 : Int32) &&& 31)) x5' xl (upd xr (2 * n + j) (nI v)) xs xt xk tb) :
    wX_rule_61 post (nI n) fs fk (m + 1) x4 (nI j) xl xr xs xt xk tb := by
  have e : 2 * nI n + nI j = nI (2 * n + j) := by
    rw [← nI_add, ← pk_mul]
    rfl
  refine br_f (nI_pos (by omega)) ⟨pk_in _ 28 hj e, nm_r (e' := upd xr (2 * n + j) (nI v)) (by rw [e, nI_clamp (by omega), hv]) (nm_e (nm_r h5 hp))⟩
theorem mr_R_up {n : Nat} {L R : Nat → Nat} {xl xr xs : Nat → Int32} (h : mx_R n L R xl xr xs) {a c : Nat} {xr' : Nat → Int32} (hx : ∀ p, p < 2 * n → xr' p = xr p)
    (h1 : c ≠ 0 → c < 8 → xr' (2 * n) = nI (c - 1)) (h2 : 8 ≤ c → xr' (2 * n) = nI (c / 8 - 1) ∧ xr' (2 * n + 1) = nI (c % 8 - 1)) :
    mx_R (n + 1) (mx_up L n a) (mx_up R n c) (upd xl n (nI a)) xr' (upd xs n (nI (mx_z c))) := by
  intro r hr
  by_cases e : r = n
  · subst e
    rw [mx_up_s, mx_up_s, pk_us, pk_us]
    exact ⟨rfl, rfl, h1, h2⟩
  · rw [mx_up_n e, mx_up_n e, pk_un e, pk_un e, hx _ (by omega), hx _ (by omega)]
    exact h r (by omega)
theorem mr_Ok_up {n : Nat} {L R : Nat → Nat} (h : mp_Ok n L R) {a c : Nat} (ha : a < 5) (hc : c < 64) (h8 : 8 ≤ c → c % 8 ≠ 0) : mp_Ok (n + 1) (mx_up L n a) (mx_up R n c) := by
  intro r hr
  by_cases e : r = n
  · subst e
    rw [mx_up_s, mx_up_s]
    exact ⟨ha, hc, h8⟩
  · rw [mx_up_n e, mx_up_n e]
    exact h r (by omega)
theorem mr_Y_up {n : Nat} {L R : Nat → Nat} {yl yr : Nat → Int32} (h : my_R n L R yl yr) (a c : Nat) : my_R (n + 1) (mx_up L n a) (mx_up R n c) (upd yl n (nI a)) (upd yr n (nI c)) := by
  intro r hr
  by_cases e : r = n
  · subst e
    rw [mx_up_s, mx_up_s, pk_us, pk_us]
    exact ⟨rfl, rfl⟩
  · rw [mx_up_n e, mx_up_n e, pk_un e, pk_un e]
    exact h r (by omega)
/-- the component's writing of a right side, with any count of letters -/
theorem mr_61 {n : Nat} (hn : n < 14) {L R : Nat → Nat} {xl xr xs : Nat → Int32} (h : mx_R n L R xl xr xs) {a c : Nat} (hc : c < 64) (h8 : 8 ≤ c → c % 8 ≠ 0) {fs fk : Int32} {xt xk tb : Nat → Int32} {post : Int32 → SX → Prop}
    (K : ∀ xr', mx_R (n + 1) (mx_up L n a) (mx_up R n c) (upd xl n (nI a)) xr' (upd xs n (nI (mx_z c))) → post (nI n) (nI (n + 1), fs, fk, upd xl n (nI a), xr', upd xs n (nI (mx_z c)), xt, xk, tb)) :
    wX_rule_61 post (nI n) fs fk 3 (nI c) (nI (mx_z c) - 1) (upd xl n (nI a)) xr (upd xs n (nI (mx_z c))) xt xk tb := by
  have s3 : nI c >>> ((3 : Int32) &&& 31) = nI (c / 8) := mp_sr (k := 3) (by omega) (by omega)
  by_cases h0 : c = 0
  · have ez : mx_z c = 0 := if_pos h0
    have K2 := K xr (mr_R_up h (fun p _ => rfl) (fun z => absurd h0 z) (fun z => by omega))
    rw [ez] at K2 ⊢
    exact mr_61x (by decide) K2
  · by_cases h1 : c < 8
    · have ez : mx_z c = 1 := by unfold mx_z; rw [if_neg h0, if_pos h1]
      have K2 := K (upd xr (2 * n + 0) (nI (c - 1))) (mr_R_up h (fun p hp => pk_un (by omega)) (fun _ _ => pk_us) (fun z => by omega))
      rw [ez] at K2 ⊢
      refine mr_61s (j := 0) (v := c - 1) (by omega) ?_ rfl (mr_61x (by decide) K2)
      rw [mr_and7 hc, Nat.mod_eq_of_lt h1]
      exact pk_sub (b := 1) (by omega)
    · have ez : mx_z c = 2 := by unfold mx_z; rw [if_neg h0, if_neg h1]
      have hm := h8 (by omega)
      have K2 := K (upd (upd xr (2 * n + 1) (nI (c % 8 - 1))) (2 * n + 0) (nI (c / 8 - 1))) (mr_R_up h (fun p hp => by rw [pk_un (by omega), pk_un (by omega)]) (fun _ z => absurd z h1)
        (fun _ => ⟨pk_us, by rw [pk_un (by omega), pk_us]⟩))
      rw [ez] at K2 ⊢
      refine mr_61s (j := 1) (v := c % 8 - 1) (x5' := nI 0) (by omega) ?_ (by decide) (mr_61s (j := 0) (v := c / 8 - 1) (by omega) ?_ rfl (mr_61x (by decide) K2))
      · rw [mr_and7 hc]
        exact pk_sub (b := 1) (by omega)
      · rw [s3, mr_and7 (by omega), Nat.mod_eq_of_lt (by omega)]
        exact pk_sub (b := 1) (by omega)
theorem i_vc_rule {k : Nat} {u : SX} {v : SY} (I : i_Rel k u v) (hk : k + 4 ≤ 2048) (v1 : Int32) (v2 : Int32) : wpX_rule (fun r u' => wpY_rule (fun r' v' => r' = r ∧ i_Rel (k + 4) u' v') v v1 v2) u v1 v2 := by
  refine mr_el I (fun u v => wpX_rule (fun r u' => wpY_rule (fun r' v' => r' = r ∧ i_Rel (k + 4) u' v') v v1 v2) u v1 v2) ?_
  intro n L R W fk xl xr xs xt xk tb yl yr ym yf S Y
  have same : ∀ r : Int32, r = r ∧ i_Rel (k + 4) (nI n, nI W.length, fk, xl, xr, xs, xt, xk, tb) (nI n, nI W.length, nI (mp_vl W), yl, yr, ym, yf) := fun r => ⟨rfl, mr_mk S Y⟩
  obtain ⟨hn, hW, ok, hR, hT⟩ := S
  unfold wpX_rule
  dsimp only
  unfold wpX_isName
  by_cases h1 : v1 < 0
  · refine br_t h1 (br_t rfl ?_)
    unfold wpY_rule
    dsimp only
    exact br_t h1 (same _)
  · obtain ⟨a, ha, rfl⟩ := nI_of h1
    refine br_f h1 (pk_le 5 a (fun h5 => br_t rfl ?_) (fun h5 => br_f (by decide) ?_))
    · unfold wpY_rule
      dsimp only
      exact br_f h1 (br_f (nI_ge (a := 4) (by omega) ha) (same _))
    · rcases mr_cases v2 with hb | ⟨c, rfl, hc, h8⟩
      · refine mr_rs_bad hb (br_f (by decide) ?_)
        unfold wpY_rule
        dsimp only
        exact br_f h1 (br_t (nI_le (b := 4) (by omega) (by omega)) (mr_br_bad hb (br_f (by decide) (same _))))
      · have hz : mx_z c ≤ 2 := by
          unfold mx_z
          by_cases z : c = 0
          · rw [if_pos z]; omega
          · rw [if_neg z]
            by_cases z : c < 8
            · rw [if_pos z]; omega
            · rw [if_neg z]; omega
        refine mr_rs_ok hc h8 (br_t (nI_pos' (by omega)) (pk_eq n 14 (fun e => ?_) (fun e => ?_)))
        · unfold wpY_rule
          dsimp only
          exact br_f h1 (br_t (nI_le (b := 4) (by omega) (by omega)) (mr_br_ok hc h8 (br_t rfl (br_f (nI_ge (a := 13) (by omega) (by omega)) (same _)))))
        · have hin : vp_in (nI n) 14 := vp_in_nI (by omega) (by omega)
          refine ⟨hin, nm_r (e' := upd xl n (nI a)) (by rw [nI_clamp (by omega)]) ⟨hin, nm_r (e' := upd xs n (nI (mx_z c))) (by rw [nI_clamp (by omega)]) (nm_e ⟨3, mr_61 (by omega) hR hc h8 (fun xr' hR' => ?_)⟩)⟩⟩
          unfold wpY_rule
          dsimp only
          refine br_f h1 (br_t (nI_le (b := 4) (by omega) (by omega)) (mr_br_ok hc h8 (br_t rfl (br_t (nI_le (b := 13) (by omega) (by omega)) ⟨hin, nm_r (e' := upd yl n (nI a)) (by rw [nI_clamp (by omega)])
            ⟨hin, nm_r (e' := upd yr n (nI c)) (by rw [nI_clamp (by omega)]) (nm_r (nI_1 n) ⟨rfl, mr_mk ⟨by omega, hW, mr_Ok_up ok h5 hc h8, hR', hT⟩ (mr_Y_up Y a c)⟩)⟩⟩))))
/-! drop -/
def mr_sh : Nat → Nat → (Nat → Nat) → Nat → Nat
  | 0, _, f => f
  | d + 1, q, f => mr_sh d (q + 1) (mx_up f q (f (q + 1)))
theorem mr_R_cp {n : Nat} {L R : Nat → Nat} {xl xr xs : Nat → Int32} (h : mx_R n L R xl xr xs) {q : Nat} (hq : q + 1 < n) :
    mx_R n (mx_up L q (L (q + 1))) (mx_up R q (R (q + 1))) (upd xl q (xl (q + 1))) (upd (upd xr (2 * q) (xr (2 * q + 2))) (2 * q + 1) (xr (2 * q + 3))) (upd xs q (xs (q + 1))) := by
  intro r hr
  by_cases e : r = q
  · subst e
    rw [mx_up_s, mx_up_s, pk_us, pk_us, pk_un (show 2 * r ≠ 2 * r + 1 by omega), pk_us, pk_us]
    exact h (r + 1) hq
  · rw [mx_up_n e, mx_up_n e, pk_un e, pk_un e, pk_un (show 2 * r ≠ 2 * q + 1 by omega), pk_un (show 2 * r ≠ 2 * q by omega), pk_un (show 2 * r + 1 ≠ 2 * q + 1 by omega), pk_un (show 2 * r + 1 ≠ 2 * q by omega)]
    exact h r hr
theorem mr_Ok_cp {n : Nat} {L R : Nat → Nat} (h : mp_Ok n L R) {q : Nat} (hq : q + 1 < n) : mp_Ok n (mx_up L q (L (q + 1))) (mx_up R q (R (q + 1))) := by
  intro r hr
  by_cases e : r = q
  · subst e
    rw [mx_up_s, mx_up_s]
    exact h (r + 1) hq
  · rw [mx_up_n e, mx_up_n e]
    exact h r hr
theorem mr_Y_cp {n : Nat} {L R : Nat → Nat} {yl yr : Nat → Int32} (h : my_R n L R yl yr) {q : Nat} (hq : q + 1 < n) :
    my_R n (mx_up L q (L (q + 1))) (mx_up R q (R (q + 1))) (upd yl q (yl (q + 1))) (upd yr q (yr (q + 1))) := by
  intro r hr
  by_cases e : r = q
  · subst e
    rw [mx_up_s, mx_up_s, pk_us, pk_us]
    exact h (r + 1) hq
  · rw [mx_up_n e, mx_up_n e, pk_un e, pk_un e]
    exact h r hr
theorem mr_xd {n : Nat} (hn : n ≤ 14) {fs fk : Int32} {xt xk tb : Nat → Int32} {post : Int32 → SX → Prop} :
    ∀ (d q : Nat) (L R : Nat → Nat) (xl xr xs : Nat → Int32), q + 1 + d = n → mp_Ok n L R → mx_R n L R xl xr xs →
      (∀ xl' xr' xs', mp_Ok n (mr_sh d q L) (mr_sh d q R) → mx_R n (mr_sh d q L) (mr_sh d q R) xl' xr' xs' → post (nI (n - 1)) (nI (n - 1), fs, fk, xl', xr', xs', xt, xk, tb)) →
      wX_drop_18 post (nI n) fs fk (d + 1) (nI (q + 1)) xl xr xs xt xk tb := by
  intro d
  induction d with
  | zero =>
    intro q L R xl xr xs hq ok hR K
    have e : nI n - 1 = nI (n - 1) := pk_sub (b := 1) (by omega)
    exact br_t (nI_le (by omega) (by omega)) (nm_r e (K xl xr xs ok hR))
  | succ d ih =>
    intro q L R xl xr xs hq ok hR K
    have e1 : nI (q + 1) - 1 = nI q := nI_pred q
    have e2 : 2 * nI (q + 1) = nI (2 * q + 2) := pk_mul 2 (q + 1)
    have e3 : 2 * nI (q + 1) - 2 = nI (2 * q) := by rw [e2]; exact pk_sub (b := 2) (by omega)
    have e4 : 2 * nI (q + 1) + 1 = nI (2 * q + 3) := by rw [e2]; exact nI_1 _
    have e5 : 2 * nI (q + 1) - 1 = nI (2 * q + 1) := by rw [e2]; exact nI_pred _
    refine br_f (nI_ge (by omega) (by omega)) ⟨vp_in_nI (by omega) (by omega), pk_in q 14 (by omega) e1, nm_r (e' := upd xl q (xl (q + 1))) (by rw [e1, nI_clamp (by omega), nI_clamp (by omega)]) ?_⟩
    refine ⟨vp_in_nI (by omega) (by omega), pk_in q 14 (by omega) e1, nm_r (e' := upd xs q (xs (q + 1))) (by rw [e1, nI_clamp (by omega), nI_clamp (by omega)]) ?_⟩
    refine ⟨pk_in _ 28 (by omega) e2, pk_in _ 28 (by omega) e3, nm_r (e' := upd xr (2 * q) (xr (2 * q + 2))) (by rw [e3, e2, nI_clamp (by omega), nI_clamp (by omega)]) ?_⟩
    refine ⟨pk_in _ 28 (by omega) e4, pk_in _ 28 (by omega) e5, nm_r (e' := upd (upd xr (2 * q) (xr (2 * q + 2))) (2 * q + 1) (xr (2 * q + 3))) (by rw [e5, e4, nI_clamp (by omega), nI_clamp (by omega), pk_un (show 2 * q + 3 ≠ 2 * q by omega)]) (nm_r (nI_1 _) ?_)⟩
    exact ih (q + 1) _ _ _ _ _ (by omega) (mr_Ok_cp ok (by omega)) (mr_R_cp hR (by omega)) K
theorem mr_yd {n : Nat} (hn : n ≤ 14) {fl ft : Int32} {ym yf : Nat → Int32} {post : Int32 → SY → Prop} :
    ∀ (d q : Nat) (L R : Nat → Nat) (yl yr : Nat → Int32), q + 1 + d = n → my_R n L R yl yr →
      (∀ yl' yr', my_R n (mr_sh d q L) (mr_sh d q R) yl' yr' → post (nI (n - 1)) (nI (n - 1), fl, ft, yl', yr', ym, yf)) →
      wY_drop_16 post (nI n) fl ft (d + 1) (nI q) yl yr ym yf := by
  intro d
  induction d with
  | zero =>
    intro q L R yl yr hq hR K
    have e : nI n - 1 = nI (n - 1) := pk_sub (b := 1) (by omega)
    refine br_t (by rw [e]; exact nI_le (by omega) (by omega)) ?_
    unfold wY_drop_66
    exact nm_r e (K yl yr hR)
  | succ d ih =>
    intro q L R yl yr hq hR K
    have e : nI n - 1 = nI (n - 1) := pk_sub (b := 1) (by omega)
    have e1 : nI q + 1 = nI (q + 1) := nI_1 q
    refine br_f (by rw [e]; exact nI_ge (by omega) (by omega)) (br_f (nI_ge (b := 13) (by omega) (by omega)) ⟨pk_in _ 14 (by omega) e1, vp_in_nI (by omega) (by omega), nm_r (e' := upd yl q (yl (q + 1))) (by rw [e1, nI_clamp (by omega), nI_clamp (by omega)]) ?_⟩)
    refine ⟨pk_in _ 14 (by omega) e1, vp_in_nI (by omega) (by omega), nm_r (e' := upd yr q (yr (q + 1))) (by rw [e1, nI_clamp (by omega), nI_clamp (by omega)]) (nm_r e1 ?_)⟩
    exact ih (q + 1) _ _ _ _ (by omega) (mr_Y_cp hR (by omega)) K
theorem i_vc_drop {k : Nat} {u : SX} {v : SY} (I : i_Rel k u v) (hk : k + 4 ≤ 2048) (v1 : Int32) : wpX_drop (fun r u' => wpY_drop (fun r' v' => r' = r ∧ i_Rel (k + 4) u' v') v v1) u v1 := by
  refine mr_el I (fun u v => wpX_drop (fun r u' => wpY_drop (fun r' v' => r' = r ∧ i_Rel (k + 4) u' v') v v1) u v1) ?_
  intro n L R W fk xl xr xs xt xk tb yl yr ym yf S Y
  have same : ∀ r : Int32, r = r ∧ i_Rel (k + 4) (nI n, nI W.length, fk, xl, xr, xs, xt, xk, tb) (nI n, nI W.length, nI (mp_vl W), yl, yr, ym, yf) := fun r => ⟨rfl, mr_mk S Y⟩
  obtain ⟨hn, hW, ok, hR, hT⟩ := S
  unfold wpX_drop
  dsimp only
  by_cases h1 : v1 < 0
  · refine br_t h1 ?_
    unfold wpY_drop
    dsimp only
    exact br_t h1 (same _)
  · obtain ⟨q, hq, rfl⟩ := nI_of h1
    refine br_f h1 (pk_lt q n (fun h2 => nm_r (nI_1 q) ⟨_, mr_xd hn (n - (q + 1)) q L R xl xr xs (by omega) ok hR (fun xl' xr' xs' ok' hR' => ?_)⟩) (fun h2 => ?_))
    · unfold wpY_drop
      dsimp only
      refine br_f h1 (br_t (nI_lt h2 (by omega)) ⟨_, mr_yd hn (n - (q + 1)) q L R yl yr (by omega) Y (fun yl' yr' Y' => ⟨rfl, ?_⟩)⟩)
      exact mr_mk ⟨by omega, hW, fun r hr => ok' r (by omega), fun r hr => hR' r (by omega), hT⟩ (fun r hr => Y' r (by omega))
    · unfold wpY_drop
      dsimp only
      exact br_f h1 (br_f (nI_nlt h2 hq) (same _))
/-! write, push, pop -/
theorem mr_w27 {c b : Nat} (hc : c ≤ 5) {W : List Bool} (hl : W.length = c) (hb : mp_vl W = b) {fc fs fk : Int32} {xl xr xs xk tb : Nat → Int32} {post : Int32 → SX → Prop}
    (K : ∀ xt, mx_T W xt → post (nI c) (fc, nI c, fk, xl, xr, xs, xt, xk, tb)) :
    ∀ d k xt, k + d = c → (∀ q, q < k → xt q = nI (5 + (W.getD q false).toNat)) → wX_write_27 post (nI c) (nI b) fc fs fk (d + 1) (nI k) xl xr xs xt xk tb := by
  have h256 := mp_256 (x := W) (by omega)
  intro d
  induction d with
  | zero =>
    intro k xt hk h
    exact br_t (nI_le (by omega) (by omega)) (K xt (fun q hq => h q (by omega)))
  | succ d ih =>
    intro k xt hk h
    have e1 : nI c - 1 - nI k = nI (c - 1 - k) := by
      have : nI c - 1 = nI (c - 1) := pk_sub (b := 1) (by omega)
      rw [this]
      exact pk_sub (by omega)
    have hbit := mp_bit (w := W) (k := k) (by omega)
    rw [hl, hb] at hbit
    have e2 : 5 + ((nI b >>> ((nI c - 1 - nI k) &&& 31)) &&& 1) = nI (5 + (W.getD k false).toNat) := by
      rw [e1, mp_sr (by omega) (by omega), mp_a1, hbit, ← nI_add]
      rfl
    refine br_f (nI_ge (by omega) (by omega)) ⟨vp_in_nI (by omega) (by omega), nm_r (e' := upd xt k (nI (5 + (W.getD k false).toNat))) (by rw [e2, nI_clamp (by omega)]) (nm_r (nI_1 k) (ih (k + 1) _ (by omega) (fun q hq => ?_)))⟩
    by_cases e : q = k
    · rw [e, pk_us]
    · rw [pk_un e]; exact h q (by omega)
theorem i_vc_write {k : Nat} {u : SX} {v : SY} (I : i_Rel k u v) (hk : k + 4 ≤ 2048) (v1 : Int32) (v2 : Int32) : wpX_write (fun r u' => wpY_write (fun r' v' => r' = r ∧ i_Rel (k + 4) u' v') v v1 v2) u v1 v2 := by
  refine mr_el I (fun u v => wpX_write (fun r u' => wpY_write (fun r' v' => r' = r ∧ i_Rel (k + 4) u' v') v v1 v2) u v1 v2) ?_
  intro n L R W fk xl xr xs xt xk tb yl yr ym yf S Y
  have same : ∀ r : Int32, r = r ∧ i_Rel (k + 4) (nI n, nI W.length, fk, xl, xr, xs, xt, xk, tb) (nI n, nI W.length, nI (mp_vl W), yl, yr, ym, yf) := fun r => ⟨rfl, mr_mk S Y⟩
  obtain ⟨hn, hW, ok, hR, hT⟩ := S
  unfold wpX_write
  dsimp only
  by_cases h1 : v1 < 0
  · refine br_t h1 ?_
    unfold wpY_write
    dsimp only
    exact br_t h1 (same _)
  · obtain ⟨c, hc, rfl⟩ := nI_of h1
    refine br_f h1 (pk_le c 5 (fun h5 => ?_) (fun h5 => ?_))
    · by_cases h2 : v2 < 0
      · refine br_t h2 ?_
        unfold wpY_write
        dsimp only
        exact br_f h1 (br_t (nI_le (b := 5) (by omega) (by omega)) (br_t h2 (same _)))
      · obtain ⟨b, hb, rfl⟩ := nI_of h2
        have ep := mp_p2 (k := c) (by omega)
        have hp2 := mp_2 (k := c) (by omega)
        refine br_f h2 (pk_lt b (2 ^ c) (fun h3 => ?_) (fun h3 => ?_) rfl ep)
        · obtain ⟨W', hl, hv⟩ := mp_wd c b h3
          refine ⟨_, mr_w27 h5 hl hv (fun xt' hT' => ?_) c 0 xt (by omega) (fun q hq => by omega)⟩
          unfold wpY_write
          dsimp only
          refine br_f h1 (br_t (nI_le (b := 5) (by omega) (by omega)) (br_f h2 (br_t (by rw [ep]; exact nI_lt h3 hp2) ⟨rfl, ?_⟩)))
          subst hl hv
          exact mr_mk ⟨hn, h5, ok, hR, hT'⟩ Y
        · unfold wpY_write
          dsimp only
          exact br_f h1 (br_t (nI_le (b := 5) (by omega) (by omega)) (br_f h2 (br_f (by rw [ep]; exact nI_nlt h3 hb) (same _))))
    · unfold wpY_write
      dsimp only
      exact br_f h1 (br_f (nI_ge (a := 5) (by omega) (by omega)) (same _))
theorem mr_T_snoc {W : List Bool} {xt : Nat → Int32} (h : mx_T W xt) (b : Bool) : mx_T (W ++ [b]) (upd xt W.length (nI (5 + b.toNat))) := by
  intro k hk
  rw [List.length_append, List.length_singleton] at hk
  rw [List.getD_eq_getElem?_getD]
  by_cases e : k = W.length
  · rw [e, pk_us, List.getElem?_append_right (Nat.le_refl _), Nat.sub_self]
    rfl
  · rw [pk_un e, List.getElem?_append_left (by omega), h k (by omega), List.getD_eq_getElem?_getD]
theorem mr_push {k n : Nat} {L R : Nat → Nat} {W : List Bool} {fk : Int32} {xl xr xs xt xk tb yl yr ym yf : Nat → Int32} (S : mx_S n L R W xl xr xs xt) (Y : my_R n L R yl yr) (b : Bool) :
    wpX_push (fun r u' => wpY_push (fun r' v' => r' = r ∧ i_Rel (k + 4) u' v') (nI n, nI W.length, nI (mp_vl W), yl, yr, ym, yf) (nI (5 + b.toNat))) (nI n, nI W.length, fk, xl, xr, xs, xt, xk, tb) (nI (5 + b.toNat)) := by
  have same : ∀ r : Int32, r = r ∧ i_Rel (k + 4) (nI n, nI W.length, fk, xl, xr, xs, xt, xk, tb) (nI n, nI W.length, nI (mp_vl W), yl, yr, ym, yf) := fun r => ⟨rfl, mr_mk S Y⟩
  obtain ⟨hn, hW, ok, hR, hT⟩ := S
  have hb := Bool.toNat_lt b
  have h13 : ∀ P : Int32 → SY → Prop, wY_push_13 P (nI (5 + b.toNat)) (nI n) (nI W.length) (nI (mp_vl W)) yl yr ym yf → wpY_push P (nI n, nI W.length, nI (mp_vl W), yl, yr, ym, yf) (nI (5 + b.toNat)) := by
    intro P hP
    unfold wpY_push
    dsimp only
    cases b
    · exact br_t rfl hP
    · exact br_f (by decide) (br_t rfl hP)
  unfold wpX_push
  dsimp only
  refine br_f (nI_nlt (b := 5) (by omega) (by omega)) (br_t (nI_le (b := 6) (by omega) (by omega)) (pk_eq W.length 5 (fun e => h13 _ ?_) (fun e => ⟨vp_in_nI (by omega) (by omega), nm_r (e' := upd xt W.length (nI (5 + b.toNat))) (by rw [nI_clamp (by omega)]) (nm_r (nI_1 _) (h13 _ ?_))⟩)))
  · unfold wY_push_13
    exact br_f (nI_ge (a := 4) (by omega) (by omega)) (same _)
  · have h256 := mp_256 (x := W) (by omega)
    have e2 : 2 * nI (mp_vl W) + nI (5 + b.toNat) - 5 = nI (mp_vl (W ++ [b])) := by
      have a : 2 * nI (mp_vl W) = nI (2 * mp_vl W) := pk_mul 2 _
      rw [a, nI_add, mp_vl_snoc]
      have c : nI (2 * mp_vl W + (5 + b.toNat)) - 5 = nI (2 * mp_vl W + (5 + b.toNat) - 5) := pk_sub (b := 5) (by omega)
      rw [c]
      exact congrArg nI (by omega)
    have hl : W.length + 1 = (W ++ [b]).length := by rw [List.length_append]; rfl
    unfold wY_push_13
    refine br_t (nI_le (b := 4) (by omega) (by omega)) (nm_r e2 (nm_r (nI_1 _) ⟨rfl, ?_⟩))
    rw [hl]
    exact mr_mk ⟨hn, by omega, ok, hR, mr_T_snoc hT b⟩ Y
theorem i_vc_push {k : Nat} {u : SX} {v : SY} (I : i_Rel k u v) (hk : k + 4 ≤ 2048) (v1 : Int32) : wpX_push (fun r u' => wpY_push (fun r' v' => r' = r ∧ i_Rel (k + 4) u' v') v v1) u v1 := by
  refine mr_el I (fun u v => wpX_push (fun r u' => wpY_push (fun r' v' => r' = r ∧ i_Rel (k + 4) u' v') v v1) u v1) ?_
  intro n L R W fk xl xr xs xt xk tb yl yr ym yf S Y
  by_cases h5 : v1 = 5
  · subst h5
    exact mr_push S Y false
  · by_cases h6 : v1 = 6
    · subst h6
      exact mr_push S Y true
    · have hy : ∀ P : Int32 → SY → Prop, P (-1) (nI n, nI W.length, nI (mp_vl W), yl, yr, ym, yf) → wpY_push P (nI n, nI W.length, nI (mp_vl W), yl, yr, ym, yf) v1 := by
        intro P hP
        unfold wpY_push
        dsimp only
        exact br_f h5 (br_f h6 hP)
      unfold wpX_push
      dsimp only
      refine br_c (fun h => hy _ ⟨rfl, mr_mk S Y⟩) (fun h => br_c (fun h7 => ?_) (fun h7 => hy _ ⟨rfl, mr_mk S Y⟩))
      exfalso
      have q1 : ¬ v1.toInt < (5 : Int32).toInt := fun z => h (Int32.lt_iff_toInt_lt.mpr z)
      have q2 := Int32.le_iff_toInt_le.mp h7
      have a5 : (5 : Int32).toInt = 5 := by decide
      have a6 : (6 : Int32).toInt = 6 := by decide
      have q3 : v1.toInt = 5 ∨ v1.toInt = 6 := by omega
      rcases q3 with q3 | q3
      · exact h5 (Int32.toInt_inj.mp (q3.trans a5.symm))
      · exact h6 (Int32.toInt_inj.mp (q3.trans a6.symm))
theorem i_vc_pop {k : Nat} {u : SX} {v : SY} (I : i_Rel k u v) (hk : k + 4 ≤ 2048) : wpX_pop (fun r u' => wpY_pop (fun r' v' => r' = r ∧ i_Rel (k + 4) u' v') v) u := by
  refine mr_el I (fun u v => wpX_pop (fun r u' => wpY_pop (fun r' v' => r' = r ∧ i_Rel (k + 4) u' v') v) u) ?_
  intro n L R W fk xl xr xs xt xk tb yl yr ym yf S Y
  unfold wpX_pop
  dsimp only
  by_cases e : W = []
  · subst e
    refine br_t rfl ?_
    unfold wpY_pop
    dsimp only
    exact br_t rfl ⟨rfl, mr_mk S Y⟩
  · obtain ⟨V, b, rfl⟩ := my_snoc W e
    obtain ⟨hn, hW, ok, hR, hT⟩ := S
    have hl : (V ++ [b]).length = V.length + 1 := by rw [List.length_append]; rfl
    have hne : ¬ nI (V ++ [b]).length = 0 := nI_ne0 (by omega) (by omega)
    have e1 : nI (V ++ [b]).length - 1 = nI V.length := by rw [hl]; exact nI_pred _
    have hb := Bool.toNat_lt b
    have h256 := mp_256 (x := V ++ [b]) (by omega)
    have hx : xt (nI V.length).toNatClampNeg = nI (5 + b.toNat) := by
      rw [nI_clamp (by omega), hT _ (by omega), List.getD_eq_getElem?_getD, List.getElem?_append_right (Nat.le_refl _), Nat.sub_self]
      rfl
    refine br_f hne (nm_r e1 ⟨vp_in_nI (by omega) (by omega), ?_⟩)
    have er : nI (mp_vl (V ++ [b])) - nI (mp_vl (V ++ [b])) / 2 * 2 = nI (mp_vl (V ++ [b]) % 2) := pk_rem (d := 2) (by omega) (by omega) (by omega)
    have ed : nI (mp_vl (V ++ [b])) / 2 = nI (mp_vl (V ++ [b]) / 2) := pk_div (d := 2) (by omega) (by omega) (by omega)
    have e5 : 5 + (nI (mp_vl (V ++ [b])) - nI (mp_vl (V ++ [b])) / 2 * 2) = nI (5 + b.toNat) := by
      rw [er, mp_vl_snoc, show (2 * mp_vl V + b.toNat) % 2 = b.toNat by omega, ← nI_add]
      rfl
    have e6 : nI (mp_vl (V ++ [b])) / 2 = nI (mp_vl V) := by
      rw [ed, mp_vl_snoc]
      exact congrArg nI (by omega)
    unfold wpY_pop
    dsimp only
    refine br_f hne ⟨by decide, nm_r e5 ⟨by decide, nm_r e6 (nm_r e1 ⟨hx.symm, ?_⟩)⟩⟩
    refine mr_mk ⟨hn, by omega, ok, hR, fun q hq => ?_⟩ Y
    rw [hT q (by omega), List.getD_eq_getElem?_getD, List.getElem?_append_left hq, List.getD_eq_getElem?_getD]
end
section
/-! distance, distanceOf, accepts, shortest, derived, fertile -/
theorem mx_wd {n : Nat} {L R : Nat → Nat} {W : List Bool} {xl xr xs xt : Nat → Int32} (S : mx_S n L R W xl xr xs xt) {fk : Int32} {xk tb : Nat → Int32} {post : Int32 → SX → Prop}
    (K : ∀ tb, post (nI (mp_ds n L R 0 W)) (nI n, nI W.length, fk, xl, xr, xs, xt, xk, tb)) : wpX_wholeDistance post (nI n, nI W.length, fk, xl, xr, xs, xt, xk, tb) := by
  have hW := S.2.1
  unfold wpX_wholeDistance
  dsimp only
  refine mx_fill S (fun tb' hD => mx_at 0 0 W.length rfl ?_)
  have i1 : mp_ix 0 0 W.length < 252 := mp_ix_lt (by omega) (by omega) (by omega)
  refine ⟨vp_in_nI i1 (by omega), ?_⟩
  dsimp only
  rw [nI_clamp (by omega), hD 0 0 W.length (by omega) (by omega) (Nat.le_refl _), mp_sg_all]
  exact K tb'
theorem i_vc_distance {k : Nat} {u : SX} {v : SY} (I : i_Rel k u v) (hk : k + 4 ≤ 2048) : wpX_distance (fun r u' => wpY_distance (fun r' v' => r' = r ∧ i_Rel (k + 4) u' v') v) u := by
  refine mr_el I (fun u v => wpX_distance (fun r u' => wpY_distance (fun r' v' => r' = r ∧ i_Rel (k + 4) u' v') v) u) ?_
  intro n L R W fk xl xr xs xt xk tb yl yr ym yf S Y
  unfold wpX_distance
  dsimp only
  refine mx_wd S (fun tb' => ?_)
  dsimp only
  unfold wpY_distance
  dsimp only
  refine my_work (mr_S S Y) (fun ym' hM => ?_)
  exact my_away hM (s := 0) (by omega) S.2.1 rfl rfl rfl (fun yf' => ⟨rfl, mr_mk S Y⟩)
theorem my_part {W : List Bool} (hW : W.length ≤ 5) {i j : Nat} (hij : i ≤ j) (hj : j ≤ W.length) {post : Int32 → Prop} {fc : Int32} {yl yr ym yf : Nat → Int32}
    (hp : post (nI (mp_vl (mp_sg W i j)))) : wpY_part post (fc, nI W.length, nI (mp_vl W), yl, yr, ym, yf) (nI i) (nI j) := by
  have h256 := mp_256 (x := W) (by omega)
  unfold wpY_part
  dsimp only
  rw [pk_sub hj, pk_sub hij, mp_sr (by omega) (by omega), mp_am _ (by omega), mp_part hij hj]
  exact hp
theorem mr_sgn (x : Int32) : (x < 0 ∨ ∃ s, s < 2 ^ 31 ∧ x = nI s ∧ 7 ≤ s) ∨ ∃ s, x = nI s ∧ s < 7 := by
  by_cases h : x < 0
  · exact Or.inl (Or.inl h)
  · obtain ⟨s, hs, rfl⟩ := nI_of h
    by_cases h7 : s < 7
    · exact Or.inr ⟨s, rfl, h7⟩
    · exact Or.inl (Or.inr ⟨s, hs, rfl, by omega⟩)
theorem mr_sgX {x : Int32} (h : x < 0 ∨ ∃ s, s < 2 ^ 31 ∧ x = nI s ∧ 7 ≤ s) {post : Int32 → Prop} (hp : post 0) : wpX_isSign post x := by
  unfold wpX_isSign
  rcases h with h | ⟨s, hs, rfl, h7⟩
  · exact br_t h hp
  · exact br_f (nI_pos hs) (br_t (nI_le (a := 7) h7 hs) hp)
theorem mr_sgX1 {s : Nat} (h : s < 7) {post : Int32 → Prop} (hp : post 1) : wpX_isSign post (nI s) := by
  unfold wpX_isSign
  exact br_f (nI_pos (by omega)) (br_f (nI_ge (b := 7) h (by omega)) hp)
theorem mr_sgY {x : Int32} (h : x < 0 ∨ ∃ s, s < 2 ^ 31 ∧ x = nI s ∧ 7 ≤ s) {A B : Prop} (hp : A) : (x < 0 → A) ∧ (¬ x < 0 → ((x ≤ 6 → B) ∧ (¬ x ≤ 6 → A))) := by
  rcases h with h | ⟨s, hs, rfl, h7⟩
  · exact br_t h hp
  · exact br_f (nI_pos hs) (br_f (nI_ge (a := 6) (by omega) hs) hp)
theorem mr_sgY1 {s : Nat} (h : s < 7) {A B : Prop} (hp : B) : (nI s < 0 → A) ∧ (¬ nI s < 0 → ((nI s ≤ 6 → B) ∧ (¬ nI s ≤ 6 → A))) :=
  br_f (nI_pos (by omega)) (br_t (nI_le (b := 6) (by omega) (by omega)) hp)
theorem i_vc_distanceOf {k : Nat} {u : SX} {v : SY} (I : i_Rel k u v) (hk : k + 4 ≤ 2048) (v1 : Int32) (v2 : Int32) (v3 : Int32) : wpX_distanceOf (fun r u' => wpY_distanceOf (fun r' v' => r' = r ∧ i_Rel (k + 4) u' v') v v1 v2 v3) u v1 v2 v3 := by
  refine mr_el I (fun u v => wpX_distanceOf (fun r u' => wpY_distanceOf (fun r' v' => r' = r ∧ i_Rel (k + 4) u' v') v v1 v2 v3) u v1 v2 v3) ?_
  intro n L R W fk xl xr xs xt xk tb yl yr ym yf S Y
  have hW := S.2.1
  have same : ∀ r : Int32, r = r ∧ i_Rel (k + 4) (nI n, nI W.length, fk, xl, xr, xs, xt, xk, tb) (nI n, nI W.length, nI (mp_vl W), yl, yr, ym, yf) := fun r => ⟨rfl, mr_mk S Y⟩
  unfold wpX_distanceOf
  dsimp only
  rcases mr_sgn v1 with h1 | ⟨s, rfl, hs⟩
  · refine mr_sgX h1 (br_t rfl ?_)
    unfold wpY_distanceOf
    dsimp only
    exact mr_sgY h1 (same _)
  · refine mr_sgX1 hs (br_f (by decide) ?_)
    have hy2 : ∀ P : Int32 → SY → Prop, (∀ Q : Int32 → Prop, Q 1 → wpY_bad Q (nI n, nI W.length, nI (mp_vl W), yl, yr, ym, yf) v2 v3) → P (-2) (nI n, nI W.length, nI (mp_vl W), yl, yr, ym, yf) →
        wpY_distanceOf P (nI n, nI W.length, nI (mp_vl W), yl, yr, ym, yf) (nI s) v2 v3 := by
      intro P hb hP
      unfold wpY_distanceOf
      dsimp only
      exact mr_sgY1 hs (hb _ (br_f (by decide) hP))
    by_cases h2 : v2 < 0
    · refine br_t h2 (hy2 _ (fun Q hQ => ?_) (same _))
      unfold wpY_bad
      dsimp only
      exact br_t h2 hQ
    · obtain ⟨i, hi, rfl⟩ := nI_of h2
      by_cases h3 : v3 < nI i
      · refine br_f h2 (br_t h3 (hy2 _ (fun Q hQ => ?_) (same _)))
        unfold wpY_bad
        dsimp only
        exact br_f h2 (br_t h3 hQ)
      · have h30 : ¬ v3 < 0 := by
          intro z
          apply h3
          have a := nI_toInt hi
          have b := Int32.lt_iff_toInt_lt.mp z
          have c : (0 : Int32).toInt = 0 := by decide
          exact Int32.lt_iff_toInt_lt.mpr (by omega)
        obtain ⟨j, hj, rfl⟩ := nI_of h30
        have hij : i ≤ j := by
          rcases Nat.lt_or_ge j i with z | z
          · exact absurd (nI_lt z hi) h3
          · exact z
        refine br_f h2 (br_f h3 (pk_le j W.length (fun h4 => ?_) (fun h4 => hy2 _ (fun Q hQ => ?_) (same _))))
        · refine mx_fill S (fun tb' hD => mx_at s i j rfl ?_)
          have i1 : mp_ix s i j < 252 := mp_ix_lt (by omega) (by omega) (by omega)
          refine ⟨vp_in_nI i1 (by omega), ?_⟩
          dsimp only
          rw [nI_clamp (by omega), hD s i j hs hij h4]
          unfold wpY_distanceOf
          dsimp only
          refine mr_sgY1 hs ?_
          unfold wpY_bad
          dsimp only
          refine br_f h2 (br_f h3 (br_t (nI_le h4 (by omega)) (br_t rfl (my_work (mr_S S Y) (fun ym' hM => my_part hW hij h4 ?_)))))
          exact my_away hM (s := s) hs (w := mp_sg W i j) (by rw [mp_sg_len h4]; omega) rfl (by rw [mp_sg_len h4]; exact pk_sub hij) rfl (fun yf' => ⟨rfl, mr_mk S Y⟩)
        · unfold wpY_bad
          dsimp only
          exact br_f h2 (br_f h3 (br_f (nI_ge h4 hj) hQ))
theorem my_acc {n : Nat} {L R : Nat → Nat} {W : List Bool} {yl yr ym yf : Nat → Int32} (S : my_S n L R yl yr) (hW : W.length ≤ 5) {post : Int32 → SY → Prop}
    (h1 : mp_Dv n L R 0 W → ∀ ym, post 1 (nI n, nI W.length, nI (mp_vl W), yl, yr, ym, yf)) (h0 : ¬ mp_Dv n L R 0 W → ∀ ym, post 0 (nI n, nI W.length, nI (mp_vl W), yl, yr, ym, yf)) :
    wpY_accepts post (nI n, nI W.length, nI (mp_vl W), yl, yr, ym, yf) := by
  unfold wpY_accepts
  dsimp only
  refine my_work S (fun ym' hM => my_num (x := W) (by omega) rfl rfl ?_)
  have hm := mp_nm_lt (x := W) (by omega)
  obtain ⟨B, hB, hy⟩ := hM
  have e := hB (mp_nm W) (by omega)
  have hy2 := hy 0 W (by omega) (by omega)
  rw [my_yd_n (by omega), Nat.mul_zero, Nat.zero_add] at hy2
  have hb := Bool.toNat_lt (B (mp_nm W))
  refine ⟨vp_in_nI (by omega) (by omega), pk_eq (B (mp_nm W)).toNat 0 (fun h => h0 (fun z => ?_) ym') (fun h => h1 (hy2.mp (my_t1 h)) ym') (by rw [nI_clamp (by omega)]; exact e)⟩
  have := hy2.mpr z
  rw [my_t0 h] at this
  cases this
theorem i_vc_accepts {k : Nat} {u : SX} {v : SY} (I : i_Rel k u v) (hk : k + 4 ≤ 2048) : wpX_accepts (fun r u' => wpY_accepts (fun r' v' => r' = r ∧ i_Rel (k + 4) u' v') v) u := by
  refine mr_el I (fun u v => wpX_accepts (fun r u' => wpY_accepts (fun r' v' => r' = r ∧ i_Rel (k + 4) u' v') v) u) ?_
  intro n L R W fk xl xr xs xt xk tb yl yr ym yf S Y
  have h4 := mp_ds_4 n L R 0 W
  unfold wpX_accepts
  dsimp only
  refine mx_wd S (fun tb' => ?_)
  dsimp only
  refine pk_eq (mp_ds n L R 0 W) 0 (fun h => ?_) (fun h => ?_)
  · exact my_acc (mr_S S Y) S.2.1 (fun _ ym' => ⟨rfl, mr_mk S Y⟩) (fun z => absurd (mp_ds_0.mp h) z)
  · exact my_acc (mr_S S Y) S.2.1 (fun z => absurd (mp_ds_0.mpr z) h) (fun _ ym' => ⟨rfl, mr_mk S Y⟩)
/-! shortest -/
theorem my_sh18 {n : Nat} {L R : Nat → Nat} {ym : Nat → Int32} (hM : my_W n L R ym) {s : Nat} (hs : s < 7) {fc fl ft : Int32} {yl yr yf : Nat → Int32} {post : Int32 → SY → Prop}
    (K : post (nI (mp_ds n L R s [])) (fc, fl, ft, yl, yr, ym, yf)) :
    ∀ d m, m + d = 15 → (∀ x : List Bool, mp_nm x < m → ¬ mp_Dv n L R s x) → wY_shortest_18 post (nI s) fc fl ft yl yr ym yf (d + 1) (nI m) := by
  intro d
  induction d with
  | zero =>
    intro m hm hno
    have e : mp_ds n L R s [] = 4 := by
      refine mp_lt_eq (Nat.le_refl _) (fun k hk hp => ?_) (fun h => by omega)
      obtain ⟨x, hd, hl⟩ := mp_P_nil.mp hp
      have h1 := (mp_nm_b x).2
      have h2 : 2 ^ x.length ≤ 2 ^ 3 := Nat.pow_le_pow_right (by decide) (by omega)
      exact hno x (by omega) hd
    rw [e] at K
    exact br_t (nI_le (a := 15) (by omega) (by omega)) K
  | succ d ih =>
    intro m hm hno
    obtain ⟨x, hx, rfl⟩ := mp_nm_sur (m := m) (by omega)
    refine br_f (nI_ge (b := 15) (by omega) (by omega)) (my_dv hM hs hx (fun hd => br_f (by decide) (my_size hx ?_)) (fun hd => br_t rfl (nm_r (nI_1 _) (ih _ (by omega) (fun y hy => ?_)))))
    · have h1 := (mp_nm_b x).1
      have h4 : ¬ 4 ≤ x.length := by
        intro z
        have : 2 ^ 4 ≤ 2 ^ x.length := Nat.pow_le_pow_right (by decide) z
        omega
      have e : mp_ds n L R s [] = x.length := by
        refine mp_lt_eq (by omega) (fun k hk hp => ?_) (fun _ => mp_P_nil.mpr ⟨x, hd, Nat.le_refl _⟩)
        obtain ⟨y, hdy, hl⟩ := mp_P_nil.mp hp
        have h1 := (mp_nm_b y).2
        have h2 := (mp_nm_b x).1
        have h3 : 2 ^ (y.length + 1) ≤ 2 ^ x.length := Nat.pow_le_pow_right (by decide) (by omega)
        rw [Nat.pow_succ] at h3
        exact hno y (by omega) hdy
      rw [e] at K
      exact K
    · by_cases e : mp_nm y = mp_nm x
      · rw [mp_nm_inj e]; exact hd
      · exact hno y (by omega)
theorem i_vc_shortest {k : Nat} {u : SX} {v : SY} (I : i_Rel k u v) (hk : k + 4 ≤ 2048) (v1 : Int32) : wpX_shortest (fun r u' => wpY_shortest (fun r' v' => r' = r ∧ i_Rel (k + 4) u' v') v v1) u v1 := by
  refine mr_el I (fun u v => wpX_shortest (fun r u' => wpY_shortest (fun r' v' => r' = r ∧ i_Rel (k + 4) u' v') v v1) u v1) ?_
  intro n L R W fk xl xr xs xt xk tb yl yr ym yf S Y
  unfold wpX_shortest
  dsimp only
  rcases mr_sgn v1 with h1 | ⟨s, rfl, hs⟩
  · refine mr_sgX h1 (br_t rfl ?_)
    unfold wpY_shortest
    dsimp only
    exact mr_sgY h1 ⟨rfl, mr_mk S Y⟩
  · refine mr_sgX1 hs (br_f (by decide) (mx_fill S (fun tb' hD => mx_at s 0 0 rfl ?_)))
    have i1 : mp_ix s 0 0 < 252 := mp_ix_lt (by omega) (by omega) (by omega)
    refine ⟨vp_in_nI i1 (by omega), ?_⟩
    dsimp only
    rw [nI_clamp (by omega), hD s 0 0 hs (by omega) (by omega), mp_sg_nil]
    unfold wpY_shortest
    dsimp only
    exact mr_sgY1 hs (my_work (mr_S S Y) (fun ym' hM => ⟨_, my_sh18 hM hs ⟨rfl, mr_mk S Y⟩ 15 0 (by omega) (fun x h => by omega)⟩))
/-! derived -/
noncomputable def mr_g (n : Nat) (L R : Nat → Nat) (W : List Bool) (s i j : Nat) : Nat := @ite Nat (mp_Dv n L R s (mp_sg W i j)) (Classical.propDecidable _) 1 0
theorem mr_g1 {n : Nat} {L R : Nat → Nat} {W : List Bool} {s i j : Nat} (h : mp_Dv n L R s (mp_sg W i j)) : mr_g n L R W s i j = 1 := by unfold mr_g; rw [if_pos h]
theorem mr_g0 {n : Nat} {L R : Nat → Nat} {W : List Bool} {s i j : Nat} (h : ¬ mp_Dv n L R s (mp_sg W i j)) : mr_g n L R W s i j = 0 := by unfold mr_g; rw [if_neg h]
def mr_cj (g : Nat → Nat → Nat) (i : Nat) : Nat → Nat → Nat → Nat
  | 0, _, c => c
  | d + 1, j, c => mr_cj g i d (j + 1) (c + g i j)
def mr_ci (g : Nat → Nat → Nat) (N : Nat) : Nat → Nat → Nat → Nat
  | 0, _, c => c
  | d + 1, i, c => mr_ci g N d (i + 1) (mr_cj g i (N + 1 - i) i c)
theorem mr_x28 {n : Nat} {L R : Nat → Nat} {W : List Bool} (hW : W.length ≤ 5) {tb : Nat → Int32} (hD : mx_D n L R W tb) {s : Nat} (hs : s < 7) {i : Nat} {fc fk : Int32} {xl xr xs xt xk : Nat → Int32}
    {post : Int32 → SX → Prop} {J : Int32 → Int32 → Prop} :
    ∀ d j c, j + d = W.length + 1 → i ≤ j → J (nI (mr_cj (mr_g n L R W s) i d j c)) (nI (i + 1)) → wX_derived_28 post J (nI s) (nI i) fc (nI W.length) fk xl xr xs xt xk tb (d + 1) (nI c) (nI j) := by
  intro d
  induction d with
  | zero =>
    intro j c hj hij K
    exact br_t (nI_lt (by omega) (by omega)) (nm_r (nI_1 i) K)
  | succ d ih =>
    intro j c hj hij K
    have i1 : mp_ix s i j < 252 := mp_ix_lt (by omega) (by omega) (by omega)
    have e := hD s i j hs hij (by omega)
    have h4 := mp_ds_4 n L R s (mp_sg W i j)
    refine br_f (nI_nlt (by omega) (by omega)) (mx_at s i j rfl ⟨vp_in_nI i1 (by omega), pk_eq (mp_ds n L R s (mp_sg W i j)) 0 (fun h => nm_r (nI_1 c) (nm_r (nI_1 j) (ih (j + 1) (c + 1) (by omega) (by omega) ?_)))
      (fun h => nm_r (Int32.add_zero (nI c)) (nm_r (nI_1 j) (ih (j + 1) c (by omega) (by omega) ?_))) (by rw [nI_clamp (by omega)]; exact e)⟩)
    · have K2 : J (nI (mr_cj (mr_g n L R W s) i d (j + 1) (c + mr_g n L R W s i j))) (nI (i + 1)) := K
      rw [mr_g1 (mp_ds_0.mp h)] at K2
      exact K2
    · have K2 : J (nI (mr_cj (mr_g n L R W s) i d (j + 1) (c + mr_g n L R W s i j))) (nI (i + 1)) := K
      rw [mr_g0 (fun z => h (mp_ds_0.mpr z))] at K2
      exact K2
theorem mr_x17 {n : Nat} {L R : Nat → Nat} {W : List Bool} (hW : W.length ≤ 5) {tb : Nat → Int32} (hD : mx_D n L R W tb) {s : Nat} (hs : s < 7) {fc fk : Int32} {xl xr xs xt xk : Nat → Int32}
    {post : Int32 → SX → Prop} :
    ∀ d i c, i + d = W.length + 1 → post (nI (mr_ci (mr_g n L R W s) W.length d i c)) (fc, nI W.length, fk, xl, xr, xs, xt, xk, tb) → wX_derived_17 post (nI s) fc (nI W.length) fk xl xr xs xt xk tb (d + 1) (nI c) (nI i) := by
  intro d
  induction d with
  | zero =>
    intro i c hi K
    exact br_t (nI_lt (by omega) (by omega)) K
  | succ d ih =>
    intro i c hi K
    exact br_f (nI_nlt (by omega) (by omega)) ⟨_, mr_x28 hW hD hs (W.length + 1 - i) i c (by omega) (Nat.le_refl _) (ih (i + 1) _ (by omega) K)⟩
theorem mr_y31 {n : Nat} {L R : Nat → Nat} {W : List Bool} (hW : W.length ≤ 5) {ym : Nat → Int32} (hM : my_W n L R ym) {s : Nat} (hs : s < 7) {i : Nat} {fc : Int32} {yl yr yf : Nat → Int32}
    {post : Int32 → SY → Prop} {J : Int32 → Int32 → Prop} :
    ∀ d j c, j + d = W.length + 1 → i ≤ j → J (nI (mr_cj (mr_g n L R W s) i d j c)) (nI (i + 1)) → wY_derived_31 post J (nI s) (nI i) fc (nI W.length) (nI (mp_vl W)) yl yr ym yf (d + 1) (nI c) (nI j) := by
  intro d
  induction d with
  | zero =>
    intro j c hj hij K
    exact br_t (nI_lt (by omega) (by omega)) (nm_r (nI_1 i) K)
  | succ d ih =>
    intro j c hj hij K
    have hl := mp_sg_len (W := W) (i := i) (j := j) (by omega)
    have K2 : J (nI (mr_cj (mr_g n L R W s) i d (j + 1) (c + mr_g n L R W s i j))) (nI (i + 1)) := K
    refine br_f (nI_nlt (by omega) (by omega)) (my_part hW hij (by omega) (my_num (x := mp_sg W i j) (by omega) (by rw [hl]; exact pk_sub hij) rfl (my_dv hM hs (by omega) (fun h => br_f (by decide) (nm_r (nI_1 c) (nm_r (nI_1 j) (ih (j + 1) (c + 1) (by omega) (by omega) ?_))))
      (fun h => br_t rfl (nm_r (nI_1 j) (ih (j + 1) c (by omega) (by omega) ?_))))))
    · rw [mr_g1 h] at K2
      exact K2
    · rw [mr_g0 h] at K2
      exact K2
theorem mr_y20 {n : Nat} {L R : Nat → Nat} {W : List Bool} (hW : W.length ≤ 5) {ym : Nat → Int32} (hM : my_W n L R ym) {s : Nat} (hs : s < 7) {fc : Int32} {yl yr yf : Nat → Int32} {post : Int32 → SY → Prop} :
    ∀ d i c, i + d = W.length + 1 → post (nI (mr_ci (mr_g n L R W s) W.length d i c)) (fc, nI W.length, nI (mp_vl W), yl, yr, ym, yf) → wY_derived_20 post (nI s) fc (nI W.length) (nI (mp_vl W)) yl yr ym yf (d + 1) (nI c) (nI i) := by
  intro d
  induction d with
  | zero =>
    intro i c hi K
    exact br_t (nI_lt (by omega) (by omega)) K
  | succ d ih =>
    intro i c hi K
    exact br_f (nI_nlt (by omega) (by omega)) ⟨_, mr_y31 hW hM hs (W.length + 1 - i) i c (by omega) (Nat.le_refl _) (ih (i + 1) _ (by omega) K)⟩
theorem i_vc_derived {k : Nat} {u : SX} {v : SY} (I : i_Rel k u v) (hk : k + 4 ≤ 2048) (v1 : Int32) : wpX_derived (fun r u' => wpY_derived (fun r' v' => r' = r ∧ i_Rel (k + 4) u' v') v v1) u v1 := by
  refine mr_el I (fun u v => wpX_derived (fun r u' => wpY_derived (fun r' v' => r' = r ∧ i_Rel (k + 4) u' v') v v1) u v1) ?_
  intro n L R W fk xl xr xs xt xk tb yl yr ym yf S Y
  unfold wpX_derived
  dsimp only
  rcases mr_sgn v1 with h1 | ⟨s, rfl, hs⟩
  · refine mr_sgX h1 (br_t rfl ?_)
    unfold wpY_derived
    dsimp only
    exact mr_sgY h1 ⟨rfl, mr_mk S Y⟩
  · refine mr_sgX1 hs (br_f (by decide) (mx_fill S (fun tb' hD => ⟨_, mr_x17 S.2.1 hD hs (W.length + 1) 0 0 (by omega) ?_⟩)))
    unfold wpY_derived
    dsimp only
    exact mr_sgY1 hs (my_work (mr_S S Y) (fun ym' hM => ⟨_, mr_y20 S.2.1 hM hs (W.length + 1) 0 0 (by omega) ⟨rfl, mr_mk S Y⟩⟩))
/-! fertile -/
def mr_al (t : Int32) (s : Nat) : Bool := decide (5 ≤ s) || decide (((t >>> (nI s &&& 31)) &&& 1) = 1)
def mr_ok (t : Int32) (c : Nat) : Bool := if c = 0 then true else if c < 8 then mr_al t (c - 1) else mr_al t (c / 8 - 1) && mr_al t (c % 8 - 1)
def mr_nx (L R : Nat → Nat) (t : Int32) (r : Nat) : Int32 := if mr_ok t (R r) = true then t ||| ((1 : Int32) <<< (nI (L r) &&& 31)) else t
def mr_rd (L R : Nat → Nat) : Nat → Nat → Int32 → Int32
  | 0, _, t => t
  | d + 1, r, t => mr_rd L R d (r + 1) (mr_nx L R t r)
def mr_rr (L R : Nat → Nat) (n : Nat) : Nat → Int32 → Int32
  | 0, t => t
  | d + 1, t => mr_rr L R n d (mr_rd L R n 0 t)
theorem mr_al5 {t : Int32} {s : Nat} (h : 5 ≤ s) : mr_al t s = true := by unfold mr_al; rw [decide_eq_true h]; rfl
theorem mr_alT {t : Int32} {s : Nat} (h : ((t >>> (nI s &&& 31)) &&& 1) = 1) : mr_al t s = true := by unfold mr_al; rw [decide_eq_true h, Bool.or_true]
theorem mr_alF {t : Int32} {s : Nat} (h5 : ¬ 5 ≤ s) (h : ¬ ((t >>> (nI s &&& 31)) &&& 1) = 1) : mr_al t s = false := by unfold mr_al; rw [decide_eq_false h, decide_eq_false h5]; rfl
theorem mr_x25e {n : Nat} {L R : Nat → Nat} {xl xr xs : Nat → Int32} (hn : n ≤ 14) (hR : mx_R n L R xl xr xs) {r : Nat} (hr : r < n) {t x2 : Int32} {f k m : Nat} (hf : f ≤ 1) (hk : mx_z (R r) ≤ k) (hk3 : k ≤ 3)
    {fc fs fk : Int32} {xt xk tb : Nat → Int32} {post : Int32 → Prop} {J4 J11 : Int32 → Int32 → Prop}
    (K : J11 (if f = 1 then t ||| ((1 : Int32) <<< (nI (L r) &&& 31)) else t) (nI (r + 1))) :
    wX_fertile_25 post J4 J11 t x2 (nI r) fc fs fk xl xr xs xt xk tb (m + 1) (nI f) (nI k) := by
  have hin : vp_in (nI r) 14 := vp_in_nI (by omega) (by omega)
  have hl : xl (nI r).toNatClampNeg = nI (L r) := by rw [nI_clamp (by omega)]; exact (hR r hr).1
  have hz : xs (nI r).toNatClampNeg = nI (mx_z (R r)) := by rw [nI_clamp (by omega)]; exact (hR r hr).2.1
  refine ⟨hin, br_t (by rw [hz]; exact nI_le hk (by omega)) (pk_eq f 0 (fun h => nm_r (nI_1 r) ?_) (fun h => ⟨hin, nm_r (e' := t ||| ((1 : Int32) <<< (nI (L r) &&& 31))) (by rw [hl]) (nm_r (nI_1 r) ?_)⟩))⟩
  · rw [if_neg (by omega)] at K
    exact K
  · rw [if_pos (by omega)] at K
    exact K
theorem mr_x25s {n : Nat} {L R : Nat → Nat} {xl xr xs : Nat → Int32} (hn : n ≤ 14) (hR : mx_R n L R xl xr xs) {r : Nat} (hr : r < n) {t x2 : Int32} {f k m s : Nat} (hf : f ≤ 1) (hk : k < mx_z (R r)) (hk3 : k < 2) (hz3 : mx_z (R r) ≤ 2) (hs : s < 7)
    (hx : xr (2 * r + k) = nI s) {fc fs fk : Int32} {xt xk tb : Nat → Int32} {post : Int32 → Prop} {J4 J11 : Int32 → Int32 → Prop}
    (K : wX_fertile_25 post J4 J11 t x2 (nI r) fc fs fk xl xr xs xt xk tb m (nI (if f = 1 ∧ mr_al t s = true then 1 else 0)) (nI (k + 1))) :
    wX_fertile_25 post J4 J11 t x2 (nI r) fc fs fk xl xr xs xt xk tb (m + 1) (nI f) (nI k) := by
  have hin : vp_in (nI r) 14 := vp_in_nI (by omega) (by omega)
  have hz : xs (nI r).toNatClampNeg = nI (mx_z (R r)) := by rw [nI_clamp (by omega)]; exact (hR r hr).2.1
  have e : 2 * nI r + nI k = nI (2 * r + k) := by
    rw [← nI_add, ← pk_mul]
    rfl
  refine ⟨hin, br_f (by rw [hz]; exact nI_ge hk (by omega)) ⟨pk_in _ 28 (by omega) e, nm_r (e' := nI s) (by rw [e, nI_clamp (by omega)]; exact hx) (pk_eq f 0 (fun h => nm_r (nI_1 k) ?_) (fun h => ?_))⟩⟩
  · rw [if_neg (by omega)] at K
    exact K
  · refine pk_le 5 s (fun h5 => nm_r (nI_1 k) ?_) (fun h5 => br_c (fun ht => nm_r (nI_1 k) ?_) (fun ht => nm_r (nI_1 k) ?_))
    · rw [if_pos ⟨by omega, mr_al5 h5⟩] at K
      exact K
    · rw [if_pos ⟨by omega, mr_alT ht⟩] at K
      exact K
    · rw [if_neg (fun z => by rw [mr_alF (by omega) ht] at z; exact absurd z.2 (by decide))] at K
      exact K
theorem mr_x25 {n : Nat} {L R : Nat → Nat} {xl xr xs : Nat → Int32} (hn : n ≤ 14) (ok : mp_Ok n L R) (hR : mx_R n L R xl xr xs) {r : Nat} (hr : r < n) {t x2 : Int32}
    {fc fs fk : Int32} {xt xk tb : Nat → Int32} {post : Int32 → Prop} {J4 J11 : Int32 → Int32 → Prop} (K : J11 (mr_nx L R t r) (nI (r + 1))) :
    wX_fertile_25 post J4 J11 t x2 (nI r) fc fs fk xl xr xs xt xk tb 3 (nI 1) (nI 0) := by
  obtain ⟨_, h64, h8⟩ := ok r hr
  unfold mr_nx mr_ok at K
  by_cases h0 : R r = 0
  · have ez : mx_z (R r) = 0 := if_pos h0
    rw [if_pos h0, if_pos rfl] at K
    exact mr_x25e hn hR hr (Nat.le_refl _) (by omega) (by omega) (by rw [if_pos rfl]; exact K)
  · rw [if_neg h0] at K
    by_cases h1 : R r < 8
    · have ez : mx_z (R r) = 1 := by unfold mx_z; rw [if_neg h0, if_pos h1]
      rw [if_pos h1] at K
      refine mr_x25s hn hR hr (Nat.le_refl _) (by omega) (by omega) (by omega) (s := R r - 1) (by omega) ((hR r hr).2.2.1 h0 h1) ?_
      cases hb : mr_al t (R r - 1)
      · rw [hb, if_neg (by decide)] at K
        rw [if_neg (fun z => absurd z.2 (by decide))]
        exact mr_x25e hn hR hr (by omega) (by omega) (by omega) (by rw [if_neg (by decide)]; exact K)
      · rw [hb, if_pos rfl] at K
        rw [if_pos ⟨rfl, rfl⟩]
        exact mr_x25e hn hR hr (by omega) (by omega) (by omega) (by rw [if_pos rfl]; exact K)
    · have ez : mx_z (R r) = 2 := by unfold mx_z; rw [if_neg h0, if_neg h1]
      have hm := h8 (by omega)
      have hr2 := (hR r hr).2.2.2 (by omega)
      rw [if_neg h1] at K
      refine mr_x25s hn hR hr (Nat.le_refl _) (by omega) (by omega) (by omega) (s := R r / 8 - 1) (by omega) hr2.1 ?_
      cases hb : mr_al t (R r / 8 - 1)
      · rw [hb, Bool.false_and, if_neg (by decide)] at K
        rw [if_neg (fun z => absurd z.2 (by decide))]
        refine mr_x25s hn hR hr (by omega) (by omega) (by omega) (by omega) (s := R r % 8 - 1) (by omega) hr2.2 ?_
        rw [if_neg (fun z => absurd z.1 (by decide))]
        exact mr_x25e hn hR hr (by omega) (by omega) (by omega) (by rw [if_neg (by decide)]; exact K)
      · rw [hb, Bool.true_and] at K
        rw [if_pos ⟨rfl, rfl⟩]
        refine mr_x25s hn hR hr (by omega) (by omega) (by omega) (by omega) (s := R r % 8 - 1) (by omega) hr2.2 ?_
        cases hb2 : mr_al t (R r % 8 - 1)
        · rw [hb2, if_neg (by decide)] at K
          rw [if_neg (fun z => absurd z.2 (by decide))]
          exact mr_x25e hn hR hr (by omega) (by omega) (by omega) (by rw [if_neg (by decide)]; exact K)
        · rw [hb2, if_pos rfl] at K
          rw [if_pos ⟨rfl, rfl⟩]
          exact mr_x25e hn hR hr (by omega) (by omega) (by omega) (by rw [if_pos rfl]; exact K)
theorem mr_x11 {n : Nat} {L R : Nat → Nat} {xl xr xs : Nat → Int32} (hn : n ≤ 14) (ok : mp_Ok n L R) (hR : mx_R n L R xl xr xs) {q : Nat}
    {fs fk : Int32} {xt xk tb : Nat → Int32} {post : Int32 → Prop} {J4 : Int32 → Int32 → Prop} :
    ∀ d r t, r + d = n → J4 (mr_rd L R d r t) (nI (q + 1)) → wX_fertile_11 post J4 (nI q) (nI n) fs fk xl xr xs xt xk tb (d + 1) t (nI r) := by
  intro d
  induction d with
  | zero =>
    intro r t hr K
    exact br_t (nI_le (by omega) (by omega)) (nm_r (nI_1 q) K)
  | succ d ih =>
    intro r t hr K
    exact br_f (nI_ge (by omega) (by omega)) ⟨3, mr_x25 hn ok hR (by omega) (ih (r + 1) _ (by omega) K)⟩
theorem mr_x4 {n : Nat} {L R : Nat → Nat} {xl xr xs : Nat → Int32} (hn : n ≤ 14) (ok : mp_Ok n L R) (hR : mx_R n L R xl xr xs)
    {fs fk : Int32} {xt xk tb : Nat → Int32} {post : Int32 → Prop} :
    ∀ d q t, q + d = 6 → post (mr_rr L R n d t) → wX_fertile_4 post (nI n) fs fk xl xr xs xt xk tb (d + 1) t (nI q) := by
  intro d
  induction d with
  | zero =>
    intro q t hq K
    exact br_t (nI_lt (a := 5) (by omega) (by omega)) K
  | succ d ih =>
    intro q t hq K
    exact br_f (nI_nlt (a := 5) (by omega) (by omega)) ⟨_, mr_x11 hn ok hR n 0 t (by omega) (ih (q + 1) _ (by omega) K)⟩
theorem mr_yal {t : Int32} {s : Nat} (hs : s < 7) {a : Int32} (ha : a = nI s) {post : Int32 → Prop} {fc fl ft : Int32} {yl yr ym yf : Nat → Int32} (h1 : mr_al t s = true → post 1) (h0 : mr_al t s = false → post 0) :
    wpY_alive post (fc, fl, ft, yl, yr, ym, yf) a t := by
  subst ha
  unfold wpY_alive
  dsimp only
  refine pk_lt 4 s (fun h => h1 (mr_al5 h)) (fun h => br_c (fun ht => h1 (mr_alT ht)) (fun ht => h0 (mr_alF (by omega) ht)))
theorem mr_y96 {n : Nat} {L R : Nat → Nat} {yl yr : Nat → Int32} (hn : n ≤ 14) (hY : my_R n L R yl yr) {r : Nat} (hr : r < n) {t x2 : Int32} {f g : Nat} (hf : f ≤ 1) (hg : g ≤ 1)
    {fc fl ft : Int32} {ym yf : Nat → Int32} {post : Int32 → Prop} {J4 J12 : Int32 → Int32 → Prop}
    (K : J12 (if f = 1 ∧ g = 1 then t ||| ((1 : Int32) <<< (nI (L r) &&& 31)) else t) (nI (r + 1))) :
    wY_fertile_96 post J4 J12 t x2 (nI r) (nI f) (nI g) fc fl ft yl yr ym yf := by
  have hl : yl (nI r).toNatClampNeg = nI (L r) := by rw [nI_clamp (by omega)]; exact (hY r hr).1
  unfold wY_fertile_96
  refine pk_eq f 0 (fun h => nm_r (nI_1 r) ?_) (fun h => pk_eq g 0 (fun h' => nm_r (nI_1 r) ?_) (fun h' => ⟨vp_in_nI (by omega) (by omega), nm_r (e' := t ||| ((1 : Int32) <<< (nI (L r) &&& 31))) (by rw [hl]) (nm_r (nI_1 r) ?_)⟩))
  · rw [if_neg (by omega)] at K
    exact K
  · rw [if_neg (by omega)] at K
    exact K
  · rw [if_pos (by omega)] at K
    exact K
theorem mr_y61 {n : Nat} {L R : Nat → Nat} {yl yr : Nat → Int32} (hn : n ≤ 14) (ok : mp_Ok n L R) (hY : my_R n L R yl yr) {r : Nat} (hr : r < n) {t x2 : Int32} {f : Nat} (hf : f ≤ 1)
    {fc fl ft : Int32} {ym yf : Nat → Int32} {post : Int32 → Prop} {J4 J12 : Int32 → Int32 → Prop}
    (K : J12 (if f = 1 ∧ (R r = 0 ∨ mr_al t (R r % 8 - 1) = true) then t ||| ((1 : Int32) <<< (nI (L r) &&& 31)) else t) (nI (r + 1))) :
    wY_fertile_61 post J4 J12 t x2 (nI r) (nI f) fc fl ft yl yr ym yf := by
  obtain ⟨_, h64, h8⟩ := ok r hr
  have hin : vp_in (nI r) 14 := vp_in_nI (by omega) (by omega)
  have hc : yr (nI r).toNatClampNeg = nI (R r) := by rw [nI_clamp (by omega)]; exact (hY r hr).2
  unfold wY_fertile_61 wY_fertile_91
  refine ⟨hin, pk_eq (R r) 0 (fun h => mr_y96 hn hY hr (g := 1) hf (by omega) ?_) (fun h => ⟨hin, by decide, mr_yal (s := R r % 8 - 1) (by omega) ?_ (fun hb => br_f (by decide) (mr_y96 hn hY hr (g := 1) hf (by omega) ?_)) (fun hb => br_t rfl (mr_y96 hn hY hr (g := 0) hf (by omega) ?_))⟩) hc⟩
  · by_cases e : f = 1
    · rw [if_pos ⟨e, Or.inl h⟩] at K
      rw [if_pos ⟨e, rfl⟩]
      exact K
    · rw [if_neg (fun z => e z.1)] at K
      rw [if_neg (fun z => e z.1)]
      exact K
  · rw [hc]
    have er : nI (R r) - nI (R r) / 8 * 8 = nI (R r % 8) := pk_rem (d := 8) (by omega) (by omega) (by omega)
    rw [er]
    refine pk_sub (b := 1) ?_
    by_cases z : 8 ≤ R r
    · have := h8 z; omega
    · omega
  · by_cases e : f = 1
    · rw [if_pos ⟨e, Or.inr hb⟩] at K
      rw [if_pos ⟨e, rfl⟩]
      exact K
    · rw [if_neg (fun z => e z.1)] at K
      rw [if_neg (fun z => e z.1)]
      exact K
  · rw [if_neg (fun z => by rcases z.2 with q | q; exact h q; rw [hb] at q; cases q)] at K
    rw [if_neg (fun z => absurd z.2 (by decide))]
    exact K
theorem mr_y12s {n : Nat} {L R : Nat → Nat} {yl yr : Nat → Int32} (hn : n ≤ 14) (ok : mp_Ok n L R) (hY : my_R n L R yl yr) {r : Nat} (hr : r < n) {t : Int32} {q d : Nat}
    {fl ft : Int32} {ym yf : Nat → Int32} {post : Int32 → Prop} {J4 : Int32 → Int32 → Prop}
    (K : wY_fertile_12 post J4 (nI q) (nI n) fl ft yl yr ym yf d (mr_nx L R t r) (nI (r + 1))) :
    wY_fertile_12 post J4 (nI q) (nI n) fl ft yl yr ym yf (d + 1) t (nI r) := by
  obtain ⟨_, h64, h8⟩ := ok r hr
  have hin : vp_in (nI r) 14 := vp_in_nI (by omega) (by omega)
  have hc : yr (nI r).toNatClampNeg = nI (R r) := by rw [nI_clamp (by omega)]; exact (hY r hr).2
  unfold mr_nx mr_ok at K
  refine br_f (nI_ge (by omega) (by omega)) (br_f (nI_ge (b := 14) (by omega) (by omega)) ⟨hin, pk_lt (R r) 8 (fun h => ?_) (fun h => ⟨hin, by decide, ?_⟩) hc⟩)
  · unfold wY_fertile_56
    refine mr_y61 hn ok hY hr (f := 1) (Nat.le_refl _) ?_
    by_cases h0 : R r = 0
    · rw [if_pos h0, if_pos rfl] at K
      rw [if_pos ⟨rfl, Or.inl h0⟩]
      exact K
    · rw [if_neg h0, if_pos h] at K
      rw [Nat.mod_eq_of_lt h]
      by_cases hb : mr_al t (R r - 1) = true
      · rw [if_pos hb] at K
        rw [if_pos ⟨rfl, Or.inr hb⟩]
        exact K
      · rw [if_neg hb] at K
        rw [if_neg (fun z => by rcases z.2 with q | q; exact h0 q; exact hb q)]
        exact K
  · have hm := h8 h
    rw [if_neg (show ¬ R r = 0 by omega), if_neg (show ¬ R r < 8 by omega)] at K
    refine mr_yal (s := R r / 8 - 1) (by omega) ?_ (fun hb => br_f (by decide) ?_) (fun hb => br_t rfl ?_)
    · rw [hc]
      have e8 : nI (R r) / 8 = nI (R r / 8) := pk_div (d := 8) (by omega) (by omega) (by omega)
      rw [e8]
      exact pk_sub (b := 1) (by omega)
    · unfold wY_fertile_56
      refine mr_y61 hn ok hY hr (f := 1) (Nat.le_refl _) ?_
      rw [hb, Bool.true_and] at K
      by_cases hb2 : mr_al t (R r % 8 - 1) = true
      · rw [if_pos hb2] at K
        rw [if_pos ⟨rfl, Or.inr hb2⟩]
        exact K
      · rw [if_neg hb2] at K
        rw [if_neg (fun z => by rcases z.2 with q | q; omega; exact hb2 q)]
        exact K
    · refine mr_y61 hn ok hY hr (f := 0) (by omega) ?_
      rw [hb, Bool.false_and, if_neg (by decide)] at K
      rw [if_neg (fun z => absurd z.1 (by decide))]
      exact K
theorem mr_y12 {n : Nat} {L R : Nat → Nat} {yl yr : Nat → Int32} (hn : n ≤ 14) (ok : mp_Ok n L R) (hY : my_R n L R yl yr) {q : Nat}
    {fl ft : Int32} {ym yf : Nat → Int32} {post : Int32 → Prop} {J4 : Int32 → Int32 → Prop} :
    ∀ d r t, r + d = n → J4 (mr_rd L R d r t) (nI (q + 1)) → wY_fertile_12 post J4 (nI q) (nI n) fl ft yl yr ym yf (d + 1) t (nI r) := by
  intro d
  induction d with
  | zero =>
    intro r t hr K
    exact br_t (nI_le (by omega) (by omega)) (nm_r (nI_1 q) K)
  | succ d ih =>
    intro r t hr K
    exact mr_y12s hn ok hY (by omega) (ih (r + 1) _ (by omega) K)
theorem mr_y4 {n : Nat} {L R : Nat → Nat} {yl yr : Nat → Int32} (hn : n ≤ 14) (ok : mp_Ok n L R) (hY : my_R n L R yl yr)
    {fl ft : Int32} {ym yf : Nat → Int32} {post : Int32 → Prop} :
    ∀ d q t, q + d = 6 → post (mr_rr L R n d t) → wY_fertile_4 post (nI n) fl ft yl yr ym yf (d + 1) t (nI q) := by
  intro d
  induction d with
  | zero =>
    intro q t hq K
    exact br_t (nI_le (a := 6) (by omega) (by omega)) K
  | succ d ih =>
    intro q t hq K
    exact br_f (nI_ge (b := 6) (by omega) (by omega)) ⟨_, mr_y12 hn ok hY n 0 t (by omega) (ih (q + 1) _ (by omega) K)⟩
theorem i_vc_fertile {k : Nat} {u : SX} {v : SY} (I : i_Rel k u v) (hk : k + 4 ≤ 2048) : wpX_fertile (fun r => wpY_fertile (fun r' => r' = r ∧ i_Rel (k + 4) u v) v) u := by
  refine mr_el I (fun u v => wpX_fertile (fun r => wpY_fertile (fun r' => r' = r ∧ i_Rel (k + 4) u v) v) u) ?_
  intro n L R W fk xl xr xs xt xk tb yl yr ym yf S Y
  unfold wpX_fertile
  dsimp only
  refine ⟨_, mr_x4 S.1 S.2.2.1 S.2.2.2.1 6 0 0 (by omega) ?_⟩
  unfold wpY_fertile
  dsimp only
  exact ⟨_, mr_y4 S.1 S.2.2.1 Y 6 0 0 (by omega) ⟨rfl, mr_mk S Y⟩⟩
end
section
/-! nearby, swapAt, cutAt -/
theorem mx_wdN {n N : Nat} {L R : Nat → Nat} {W : List Bool} {xl xr xs xt : Nat → Int32} (hN : W.length = N) (S : mx_S n L R W xl xr xs xt) {fk : Int32} {xk tb : Nat → Int32} {post : Int32 → SX → Prop}
    (K : ∀ tb, post (nI (mp_ds n L R 0 W)) (nI n, nI N, fk, xl, xr, xs, xt, xk, tb)) : wpX_wholeDistance post (nI n, nI N, fk, xl, xr, xs, xt, xk, tb) := by
  subst hN
  exact mx_wd S K
theorem mr_keep {N : Nat} (hN : N ≤ 5) {fc fk : Int32} {xl xr xs xt xk tb : Nat → Int32} {post : SX → Prop} (K : ∀ xk, (∀ q, q < N → xk q = xt q) → post (fc, nI N, nI N, xl, xr, xs, xt, xk, tb)) :
    wpX_keep post (fc, nI N, fk, xl, xr, xs, xt, xk, tb) := by
  have key : ∀ d k xk, k + d = N → (∀ q, q < k → xk q = xt q) → wX_keep_10 post fc (nI N) (nI N) (d + 1) (nI k) xl xr xs xt xk tb := by
    intro d
    induction d with
    | zero =>
      intro k xk hk h
      exact br_t (nI_le (by omega) (by omega)) (K xk (fun q hq => h q (by omega)))
    | succ d ih =>
      intro k xk hk h
      refine br_f (nI_ge (by omega) (by omega)) ⟨vp_in_nI (by omega) (by omega), vp_in_nI (by omega) (by omega), nm_r (e' := upd xk k (xt k)) (by rw [nI_clamp (by omega)]) (nm_r (nI_1 k) (ih (k + 1) _ (by omega) (fun q hq => ?_)))⟩
      by_cases e : q = k
      · rw [e, pk_us]
      · rw [pk_un e]; exact h q (by omega)
  unfold wpX_keep
  dsimp only
  exact ⟨_, key N 0 xk (by omega) (fun q hq => by omega)⟩
theorem mr_restore {N : Nat} (hN : N ≤ 5) {fc fs : Int32} {xl xr xs xt xk tb : Nat → Int32} {post : SX → Prop} (K : ∀ xt, (∀ q, q < N → xt q = xk q) → post (fc, nI N, nI N, xl, xr, xs, xt, xk, tb)) :
    wpX_restore post (fc, fs, nI N, xl, xr, xs, xt, xk, tb) := by
  have key : ∀ d k xt, k + d = N → (∀ q, q < k → xt q = xk q) → wX_restore_10 post fc (nI N) (nI N) (d + 1) (nI k) xl xr xs xt xk tb := by
    intro d
    induction d with
    | zero =>
      intro k xt hk h
      exact br_t (nI_le (by omega) (by omega)) (K xt (fun q hq => h q (by omega)))
    | succ d ih =>
      intro k xt hk h
      refine br_f (nI_ge (by omega) (by omega)) ⟨vp_in_nI (by omega) (by omega), vp_in_nI (by omega) (by omega), nm_r (e' := upd xt k (xk k)) (by rw [nI_clamp (by omega)]) (nm_r (nI_1 k) (ih (k + 1) _ (by omega) (fun q hq => ?_)))⟩
      by_cases e : q = k
      · rw [e, pk_us]
      · rw [pk_un e]; exact h q (by omega)
  unfold wpX_restore
  dsimp only
  exact ⟨_, key N 0 xt (by omega) (fun q hq => by omega)⟩
/-! a text with one letter turned, a text without one letter -/
def mp_fl (W : List Bool) (i : Nat) : List Bool := W.take i ++ (!W.getD i false) :: W.drop (i + 1)
def mp_ct (W : List Bool) (i : Nat) : List Bool := W.take i ++ W.drop (i + 1)
theorem mp_dec {W : List Bool} {i : Nat} (h : i < W.length) : W = W.take i ++ W.getD i false :: W.drop (i + 1) := by
  have h1 : W.drop i = W.getD i false :: W.drop (i + 1) := by
    rw [List.drop_eq_getElem_cons h, List.getD_eq_getElem?_getD, List.getElem?_eq_getElem h]
    rfl
  rw [← h1, List.take_append_drop]
theorem mp_gl {u x : List Bool} {k : Nat} (h : k < u.length) : (u ++ x).getD k false = u.getD k false := by
  rw [List.getD_eq_getElem?_getD, List.getD_eq_getElem?_getD, List.getElem?_append_left h]
theorem mp_gr (u x : List Bool) (k : Nat) : (u ++ x).getD (u.length + k) false = x.getD k false := by
  rw [List.getD_eq_getElem?_getD, List.getD_eq_getElem?_getD, List.getElem?_append_right (Nat.le_add_right _ _), Nat.add_sub_cancel_left]
theorem mp_fl_len {W : List Bool} {i : Nat} (h : i < W.length) : (mp_fl W i).length = W.length := by
  unfold mp_fl
  rw [List.length_append, List.length_cons, List.length_take, List.length_drop]
  omega
theorem mp_ct_len {W : List Bool} {i : Nat} (h : i < W.length) : (mp_ct W i).length = W.length - 1 := by
  unfold mp_ct
  rw [List.length_append, List.length_take, List.length_drop]
  omega
theorem mp_tl {W : List Bool} {i : Nat} (h : i < W.length) : (W.take i).length = i := by rw [List.length_take]; omega
theorem mp_dl {W : List Bool} {i : Nat} : (W.drop (i + 1)).length = W.length - 1 - i := by rw [List.length_drop]; omega
theorem mp_fl_i {W : List Bool} {i : Nat} (h : i < W.length) : (mp_fl W i).getD i false = !W.getD i false := by
  have e := mp_gr (W.take i) ((!W.getD i false) :: W.drop (i + 1)) 0
  rw [mp_tl h, Nat.add_zero] at e
  exact e
theorem mp_fl_k {W : List Bool} {i k : Nat} (h : i < W.length) (hk : k ≠ i) : (mp_fl W i).getD k false = W.getD k false := by
  have e : ∀ b : Bool, (W.take i ++ b :: W.drop (i + 1)).getD k false = if k < i then (W.take i).getD k false else (W.drop (i + 1)).getD (k - i - 1) false := by
    intro b
    by_cases z : k < i
    · rw [if_pos z]
      exact mp_gl (by rw [mp_tl h]; exact z)
    · rw [if_neg z]
      have e := mp_gr (W.take i) (b :: W.drop (i + 1)) (k - i - 1 + 1)
      rw [mp_tl h, show i + (k - i - 1 + 1) = k by omega, List.getD_cons_succ] at e
      exact e
  have e2 := e (W.getD i false)
  rw [← mp_dec h] at e2
  rw [e2]
  exact e (!W.getD i false)
theorem mp_ct_l {W : List Bool} {i k : Nat} (h : i < W.length) (hk : k < i) : (mp_ct W i).getD k false = W.getD k false := by
  have a : (mp_ct W i).getD k false = (W.take i).getD k false := mp_gl (by rw [mp_tl h]; exact hk)
  have b : (W.take i ++ W.getD i false :: W.drop (i + 1)).getD k false = (W.take i).getD k false := mp_gl (by rw [mp_tl h]; exact hk)
  rw [← mp_dec h] at b
  rw [a, b]
theorem mp_ct_r {W : List Bool} {i k : Nat} (h : i < W.length) (hk : i ≤ k) : (mp_ct W i).getD k false = W.getD (k + 1) false := by
  have a := mp_gr (W.take i) (W.drop (i + 1)) (k - i)
  have b := mp_gr (W.take i) (W.getD i false :: W.drop (i + 1)) (k - i + 1)
  rw [mp_tl h, show i + (k - i) = k by omega] at a
  rw [mp_tl h, ← mp_dec h, show i + (k - i + 1) = k + 1 by omega, List.getD_cons_succ] at b
  rw [b]
  exact a
theorem mr_11 (b : Bool) : 11 - nI (5 + b.toNat) = nI (5 + (!b).toNat) := by
  cases b
  · rfl
  · rfl
theorem mr_sw {n : Nat} {L R : Nat → Nat} {W : List Bool} {xl xr xs xt : Nat → Int32} (S : mx_S n L R W xl xr xs xt) {i : Nat} (hi : i < W.length) {fk : Int32} {xk tb : Nat → Int32} {post : Int32 → SX → Prop}
    (K : ∀ xt tb, mx_T W xt → post (nI (mp_ds n L R 0 (mp_fl W i))) (nI n, nI W.length, fk, xl, xr, xs, xt, xk, tb)) : wpX_swappedDistance post (nI n, nI W.length, fk, xl, xr, xs, xt, xk, tb) (nI i) := by
  obtain ⟨hn, hW, ok, hR, hT⟩ := S
  have hin : vp_in (nI i) 6 := vp_in_nI (by omega) (by omega)
  have ec : (nI i).toNatClampNeg = i := nI_clamp (by omega)
  unfold wpX_swappedDistance
  dsimp only
  refine ⟨hin, hin, nm_r (e' := upd xt i (nI (5 + (!W.getD i false).toNat))) (by rw [ec, hT i hi, mr_11]) ?_⟩
  refine mx_wdN (W := mp_fl W i) (mp_fl_len hi) ⟨hn, by rw [mp_fl_len hi]; exact hW, ok, hR, fun k hk => ?_⟩ (fun tb' => ?_)
  · rw [mp_fl_len hi] at hk
    by_cases e : k = i
    · rw [e, pk_us, mp_fl_i hi]
    · rw [pk_un e, mp_fl_k hi e]
      exact hT k hk
  · dsimp only
    refine ⟨hin, hin, nm_r (e' := upd (upd xt i (nI (5 + (!W.getD i false).toNat))) i (nI (5 + (W.getD i false).toNat))) (by rw [ec, pk_us, mr_11, Bool.not_not]) (K _ tb' (fun k hk => ?_))⟩
    by_cases e : k = i
    · rw [e, pk_us]
    · rw [pk_un e, pk_un e]
      exact hT k hk
theorem mr_cut8 {n : Nat} {L R : Nat → Nat} {W : List Bool} {xl xr xs : Nat → Int32} (hn : n ≤ 14) (hW : W.length ≤ 5) (ok : mp_Ok n L R) (hR : mx_R n L R xl xr xs) {i : Nat} (hi : i < W.length) {xk tb : Nat → Int32} (hk : mx_T W xk) {post : Int32 → SX → Prop}
    (K : ∀ xt tb, mx_T W xt → post (nI (mp_ds n L R 0 (mp_ct W i))) (nI n, nI W.length, nI W.length, xl, xr, xs, xt, xk, tb)) :
    ∀ d k xt, k + d = W.length → i < k → (∀ q, q + 1 < k → xt q = nI (5 + ((mp_ct W i).getD q false).toNat)) → (∀ q, k ≤ q → q < W.length → xt q = nI (5 + (W.getD q false).toNat)) →
      wX_cutDistance_8 post (nI n) (nI W.length) (nI W.length) (d + 1) (nI k) xl xr xs xt xk tb := by
  intro d
  induction d with
  | zero =>
    intro k xt hkd hik h1 h2
    have e : nI W.length - 1 = nI (W.length - 1) := pk_sub (b := 1) (by omega)
    have hl := mp_ct_len hi
    refine br_t (nI_le (by omega) (by omega)) (nm_r e (mx_wdN (W := mp_ct W i) hl ⟨hn, by omega, ok, hR, fun q hq => h1 q (by omega)⟩ (fun tb' => ?_)))
    dsimp only
    exact mr_restore hW (fun xt' hx' => K xt' tb' (fun q hq => by rw [hx' q hq]; exact hk q hq))
  | succ d ih =>
    intro k xt hkd hik h1 h2
    obtain ⟨m, rfl⟩ : ∃ m, k = m + 1 := ⟨k - 1, by omega⟩
    have e : nI (m + 1) - 1 = nI m := nI_pred m
    refine br_f (nI_ge (by omega) (by omega)) ⟨vp_in_nI (by omega) (by omega), pk_in m 6 (by omega) e, nm_r (e' := upd xt m (xt (m + 1))) (by rw [e, nI_clamp (by omega), nI_clamp (by omega)]) (nm_r (nI_1 _) (ih (m + 1 + 1) _ (by omega) (by omega) (fun q hq => ?_) (fun q hq hq2 => ?_)))⟩
    · by_cases z : q = m
      · rw [z, pk_us, mp_ct_r hi (by omega)]
        exact h2 (m + 1) (Nat.le_refl _) (by omega)
      · rw [pk_un z]
        exact h1 q (by omega)
    · rw [pk_un (by omega)]
      exact h2 q (by omega) hq2
theorem mr_cut {n : Nat} {L R : Nat → Nat} {W : List Bool} {xl xr xs xt : Nat → Int32} (S : mx_S n L R W xl xr xs xt) {i : Nat} (hi : i < W.length) {fk : Int32} {xk tb : Nat → Int32} {post : Int32 → SX → Prop}
    (K : ∀ fk xt xk tb, mx_T W xt → post (nI (mp_ds n L R 0 (mp_ct W i))) (nI n, nI W.length, fk, xl, xr, xs, xt, xk, tb)) : wpX_cutDistance post (nI n, nI W.length, fk, xl, xr, xs, xt, xk, tb) (nI i) := by
  obtain ⟨hn, hW, ok, hR, hT⟩ := S
  unfold wpX_cutDistance
  dsimp only
  refine mr_keep hW (fun xk' hx' => ?_)
  dsimp only
  refine nm_r (nI_1 i) ⟨_, mr_cut8 hn hW ok hR hi (fun q hq => by rw [hx' q hq]; exact hT q hq) (fun xt' tb' hT' => K _ xt' xk' tb' hT') (W.length - (i + 1)) (i + 1) xt (by omega) (by omega) (fun q hq => ?_) (fun q _ hq => hT q hq)⟩
  rw [mp_ct_l hi (by omega)]
  exact hT q (by omega)
/-! the reference's cut and flipped -/
theorem my_cut {W : List Bool} (hW : W.length ≤ 5) {i : Nat} (hi : i < W.length) {post : Int32 → Prop} {fc : Int32} {yl yr ym yf : Nat → Int32} (hp : post (nI (mp_vl (mp_ct W i)))) :
    wpY_cut post (fc, nI W.length, nI (mp_vl W), yl, yr, ym, yf) (nI i) := by
  have h256 := mp_256 (x := W) (by omega)
  have e1 : nI W.length - 1 - nI i = nI (W.length - 1 - i) := by
    have : nI W.length - 1 = nI (W.length - 1) := pk_sub (b := 1) (by omega)
    rw [this]
    exact pk_sub (by omega)
  have a1 := mp_hi (W.take i) (W.getD i false :: W.drop (i + 1))
  rw [← mp_dec hi, List.length_cons, mp_dl] at a1
  have a2 := mp_lo (W.take i ++ [W.getD i false]) (W.drop (i + 1))
  rw [List.append_assoc, List.singleton_append, ← mp_dec hi, mp_dl] at a2
  have hv := mp_vl_lt (W.drop (i + 1))
  rw [mp_dl] at hv
  have hu := mp_256 (x := W.take i) (by rw [mp_tl hi]; omega)
  have h2 : 2 ^ (W.length - 1 - i) ≤ 2 ^ 5 := Nat.pow_le_pow_right (by decide) (by omega)
  have hm : mp_vl (W.take i) * 2 ^ (W.length - 1 - i) < 256 * 64 := Nat.lt_of_le_of_lt (Nat.mul_le_mul_left _ h2) (by omega)
  have e2 : ((nI (mp_vl W) >>> ((nI (W.length - 1 - i) + 1) &&& 31)) <<< (nI (W.length - 1 - i) &&& 31)) ||| (nI (mp_vl W) &&& (((1 : Int32) <<< (nI (W.length - 1 - i) &&& 31)) - 1)) = nI (mp_vl (mp_ct W i)) := by
    rw [nI_1, mp_sr (by omega) (by omega), a1, mp_sl (by omega) (by omega), mp_am _ (by omega), a2, mp_or _ hv]
    unfold mp_ct
    rw [mp_vl_app, mp_dl]
  unfold wpY_cut
  dsimp only
  refine nm_r e1 ?_
  rw [e2]
  exact hp
theorem my_flipped {W : List Bool} (hW : W.length ≤ 5) {i : Nat} (hi : i < W.length) {post : Int32 → Prop} {fc : Int32} {yl yr ym yf : Nat → Int32} (hp : post (nI (mp_vl (mp_fl W i)))) :
    wpY_flipped post (fc, nI W.length, nI (mp_vl W), yl, yr, ym, yf) (nI i) := by
  have e1 : nI W.length - 1 - nI i = nI (W.length - 1 - i) := by
    have : nI W.length - 1 = nI (W.length - 1) := pk_sub (b := 1) (by omega)
    rw [this]
    exact pk_sub (by omega)
  have a := mp_flip (W.take i) (W.drop (i + 1)) (W.getD i false)
  rw [← mp_dec hi, mp_dl] at a
  unfold wpY_flipped
  dsimp only
  rw [e1, mp_p2 (by omega), nx_xor, a]
  exact hp
/-! nearby -/
def mr_best (s c : Nat → Nat) : Nat → Nat → Nat → Nat
  | 0, _, b => b
  | d + 1, i, b => mr_best s c d (i + 1) (min (min b (s i)) (c i))
theorem mr_xn {n : Nat} {L R : Nat → Nat} {W : List Bool} {xl xr xs : Nat → Int32} (hn : n ≤ 14) (hW : W.length ≤ 5) (ok : mp_Ok n L R) (hR : mx_R n L R xl xr xs) {post : Int32 → SX → Prop} :
    ∀ d i b fk xt xk tb, i + d = W.length → b ≤ 4 → mx_T W xt →
      (∀ fk xt xk tb, mx_T W xt → post (nI (mr_best (fun i => mp_ds n L R 0 (mp_fl W i)) (fun i => mp_ds n L R 0 (mp_ct W i)) d i b)) (nI n, nI W.length, fk, xl, xr, xs, xt, xk, tb)) →
      wX_nearby_7 post (d + 1) (nI b) (nI i) (nI n) (nI W.length) fk xl xr xs xt xk tb := by
  intro d
  induction d with
  | zero =>
    intro i b fk xt xk tb hi hb hT K
    exact br_t (nI_le (by omega) (by omega)) (K fk xt xk tb hT)
  | succ d ih =>
    intro i b fk xt xk tb hi hb hT K
    have s4 := mp_ds_4 n L R 0 (mp_fl W i)
    have c4 := mp_ds_4 n L R 0 (mp_ct W i)
    refine br_f (nI_ge (by omega) (by omega)) (mr_sw ⟨hn, hW, ok, hR, hT⟩ (by omega) (fun xt1 tb1 hT1 => ?_))
    dsimp only
    refine mr_cut ⟨hn, hW, ok, hR, hT1⟩ (by omega) (fun fk2 xt2 xk2 tb2 hT2 => ?_)
    dsimp only
    have G := ih (i + 1) (min (min b (mp_ds n L R 0 (mp_fl W i))) (mp_ds n L R 0 (mp_ct W i))) fk2 xt2 xk2 tb2 (by omega) (by omega) hT2 K
    refine pk_le b (mp_ds n L R 0 (mp_fl W i)) (fun h => ?_) (fun h => ?_)
    · unfold wX_nearby_38
      refine pk_le b (mp_ds n L R 0 (mp_ct W i)) (fun h' => nm_r (nI_1 i) ?_) (fun h' => nm_r (nI_1 i) ?_)
      · rw [show min (min b (mp_ds n L R 0 (mp_fl W i))) (mp_ds n L R 0 (mp_ct W i)) = b by omega] at G
        exact G
      · rw [show min (min b (mp_ds n L R 0 (mp_fl W i))) (mp_ds n L R 0 (mp_ct W i)) = mp_ds n L R 0 (mp_ct W i) by omega] at G
        exact G
    · unfold wX_nearby_38
      refine pk_le (mp_ds n L R 0 (mp_fl W i)) (mp_ds n L R 0 (mp_ct W i)) (fun h' => nm_r (nI_1 i) ?_) (fun h' => nm_r (nI_1 i) ?_)
      · rw [show min (min b (mp_ds n L R 0 (mp_fl W i))) (mp_ds n L R 0 (mp_ct W i)) = mp_ds n L R 0 (mp_fl W i) by omega] at G
        exact G
      · rw [show min (min b (mp_ds n L R 0 (mp_fl W i))) (mp_ds n L R 0 (mp_ct W i)) = mp_ds n L R 0 (mp_ct W i) by omega] at G
        exact G
theorem mr_yn {n : Nat} {L R : Nat → Nat} {W : List Bool} (hW : W.length ≤ 5) {yl yr ym : Nat → Int32} (hM : my_W n L R ym) {fc : Int32} {post : Int32 → SY → Prop} :
    ∀ d i b yf, i + d = W.length → b ≤ 4 →
      (∀ yf, post (nI (mr_best (fun i => mp_ds n L R 0 (mp_fl W i)) (fun i => mp_ds n L R 0 (mp_ct W i)) d i b)) (fc, nI W.length, nI (mp_vl W), yl, yr, ym, yf)) →
      wY_nearby_20 post (d + 1) (nI b) (nI i) fc (nI W.length) (nI (mp_vl W)) yl yr ym yf := by
  intro d
  induction d with
  | zero =>
    intro i b yf hi hb K
    exact br_t (nI_le (by omega) (by omega)) (K yf)
  | succ d ih =>
    intro i b yf hi hb K
    have hl : i < W.length := by omega
    have s4 := mp_ds_4 n L R 0 (mp_fl W i)
    have c4 := mp_ds_4 n L R 0 (mp_ct W i)
    have ec : nI W.length - 1 = nI (mp_ct W i).length := by
      rw [mp_ct_len hl]
      exact pk_sub (b := 1) (by omega)
    refine br_f (nI_ge (by omega) (by omega)) (my_cut hW hl (my_flipped hW hl (my_away hM (s := 0) (by omega) (w := mp_ct W i) (by rw [mp_ct_len hl]; omega) rfl ec rfl (fun yf1 => ?_))))
    dsimp only
    refine my_away hM (s := 0) (by omega) (w := mp_fl W i) (by rw [mp_fl_len hl]; omega) rfl (by rw [mp_fl_len hl]) rfl (fun yf2 => ?_)
    dsimp only
    have G := ih (i + 1) (min (min b (mp_ds n L R 0 (mp_fl W i))) (mp_ds n L R 0 (mp_ct W i))) yf2 (by omega) (by omega) K
    refine pk_le b (mp_ds n L R 0 (mp_ct W i)) (fun h => ?_) (fun h => ?_)
    · unfold wY_nearby_77
      refine pk_le b (mp_ds n L R 0 (mp_fl W i)) (fun h' => nm_r (nI_1 i) ?_) (fun h' => nm_r (nI_1 i) ?_)
      · rw [show min (min b (mp_ds n L R 0 (mp_fl W i))) (mp_ds n L R 0 (mp_ct W i)) = b by omega] at G
        exact G
      · rw [show min (min b (mp_ds n L R 0 (mp_fl W i))) (mp_ds n L R 0 (mp_ct W i)) = mp_ds n L R 0 (mp_fl W i) by omega] at G
        exact G
    · unfold wY_nearby_77
      refine pk_le (mp_ds n L R 0 (mp_ct W i)) (mp_ds n L R 0 (mp_fl W i)) (fun h' => nm_r (nI_1 i) ?_) (fun h' => nm_r (nI_1 i) ?_)
      · rw [show min (min b (mp_ds n L R 0 (mp_fl W i))) (mp_ds n L R 0 (mp_ct W i)) = mp_ds n L R 0 (mp_ct W i) by omega] at G
        exact G
      · rw [show min (min b (mp_ds n L R 0 (mp_fl W i))) (mp_ds n L R 0 (mp_ct W i)) = mp_ds n L R 0 (mp_fl W i) by omega] at G
        exact G
theorem i_vc_nearby {k : Nat} {u : SX} {v : SY} (I : i_Rel k u v) (hk : k + 4 ≤ 2048) : wpX_nearby (fun r u' => wpY_nearby (fun r' v' => r' = r ∧ i_Rel (k + 4) u' v') v) u := by
  refine mr_el I (fun u v => wpX_nearby (fun r u' => wpY_nearby (fun r' v' => r' = r ∧ i_Rel (k + 4) u' v') v) u) ?_
  intro n L R W fk xl xr xs xt xk tb yl yr ym yf S Y
  have h4 := mp_ds_4 n L R 0 W
  have S' := S
  obtain ⟨hn, hW, ok, hR, hT⟩ := S
  unfold wpX_nearby
  dsimp only
  refine mx_wd S' (fun tb' => ?_)
  dsimp only
  refine ⟨_, mr_xn hn hW ok hR W.length 0 _ fk xt xk tb' (by omega) h4 hT (fun fk2 xt2 xk2 tb2 hT2 => ?_)⟩
  unfold wpY_nearby
  dsimp only
  refine my_work (mr_S S' Y) (fun ym' hM => ?_)
  dsimp only
  refine my_away hM (s := 0) (by omega) hW rfl rfl rfl (fun yf' => ?_)
  dsimp only
  exact ⟨_, mr_yn hW hM W.length 0 _ yf' (by omega) h4 (fun yf2 => ⟨rfl, mr_mk ⟨hn, hW, ok, hR, hT2⟩ Y⟩)⟩
/-! swapAt, cutAt -/
def mr_first (g : Nat → Nat) (d0 : Nat) : Nat → Nat → Int32
  | 0, _ => -1
  | d + 1, i => if d0 ≤ g i then mr_first g d0 d (i + 1) else nI i
theorem mr_f_t {g : Nat → Nat} {d0 d i : Nat} (h : d0 ≤ g i) : mr_first g d0 (d + 1) i = mr_first g d0 d (i + 1) := if_pos h
theorem mr_f_f {g : Nat → Nat} {d0 d i : Nat} (h : ¬ d0 ≤ g i) : mr_first g d0 (d + 1) i = nI i := if_neg h
theorem mr_xs {n : Nat} {L R : Nat → Nat} {W : List Bool} {xl xr xs : Nat → Int32} (hn : n ≤ 14) (hW : W.length ≤ 5) (ok : mp_Ok n L R) (hR : mx_R n L R xl xr xs) {b : Nat} (hb : b ≤ 4) {fk : Int32} {xk : Nat → Int32} {post : Int32 → SX → Prop} :
    ∀ d i xt tb, i + d = W.length → mx_T W xt →
      (∀ xt tb, mx_T W xt → post (mr_first (fun i => mp_ds n L R 0 (mp_fl W i)) b d i) (nI n, nI W.length, fk, xl, xr, xs, xt, xk, tb)) →
      wX_swapAt_7 post (nI b) (d + 1) (nI i) (nI n) (nI W.length) fk xl xr xs xt xk tb := by
  intro d
  induction d with
  | zero =>
    intro i xt tb hi hT K
    exact br_t (nI_le (by omega) (by omega)) (K xt tb hT)
  | succ d ih =>
    intro i xt tb hi hT K
    have s4 := mp_ds_4 n L R 0 (mp_fl W i)
    refine br_f (nI_ge (by omega) (by omega)) (mr_sw ⟨hn, hW, ok, hR, hT⟩ (by omega) (fun xt1 tb1 hT1 => ?_))
    dsimp only
    refine pk_le b (mp_ds n L R 0 (mp_fl W i)) (fun h => nm_r (nI_1 i) (ih (i + 1) xt1 tb1 (by omega) hT1 (fun xt2 tb2 hT2 => ?_))) (fun h => ?_)
    · have K2 := K xt2 tb2 hT2
      rw [mr_f_t (g := fun i => mp_ds n L R 0 (mp_fl W i)) h] at K2
      exact K2
    · have K2 := K xt1 tb1 hT1
      rw [mr_f_f (g := fun i => mp_ds n L R 0 (mp_fl W i)) (Nat.not_le.mpr h)] at K2
      exact K2
theorem mr_ys {n : Nat} {L R : Nat → Nat} {W : List Bool} (hW : W.length ≤ 5) {yl yr ym : Nat → Int32} (hM : my_W n L R ym) {b : Nat} (hb : b ≤ 4) {fc : Int32} {post : Int32 → SY → Prop} :
    ∀ d i yf, i + d = W.length → (∀ yf, post (mr_first (fun i => mp_ds n L R 0 (mp_fl W i)) b d i) (fc, nI W.length, nI (mp_vl W), yl, yr, ym, yf)) →
      wY_swapAt_20 post (nI b) (d + 1) (nI i) fc (nI W.length) (nI (mp_vl W)) yl yr ym yf := by
  intro d
  induction d with
  | zero =>
    intro i yf hi K
    exact br_t (nI_le (by omega) (by omega)) (K yf)
  | succ d ih =>
    intro i yf hi K
    have hl : i < W.length := by omega
    have s4 := mp_ds_4 n L R 0 (mp_fl W i)
    refine br_f (nI_ge (by omega) (by omega)) (my_flipped hW hl (my_away hM (s := 0) (by omega) (w := mp_fl W i) (by rw [mp_fl_len hl]; omega) rfl (by rw [mp_fl_len hl]) rfl (fun yf1 => ?_)))
    dsimp only
    refine pk_le b (mp_ds n L R 0 (mp_fl W i)) (fun h => nm_r (nI_1 i) (ih (i + 1) yf1 (by omega) (fun yf2 => ?_))) (fun h => ?_)
    · have K2 := K yf2
      rw [mr_f_t (g := fun i => mp_ds n L R 0 (mp_fl W i)) h] at K2
      exact K2
    · have K2 := K yf1
      rw [mr_f_f (g := fun i => mp_ds n L R 0 (mp_fl W i)) (Nat.not_le.mpr h)] at K2
      exact K2
theorem i_vc_swapAt {k : Nat} {u : SX} {v : SY} (I : i_Rel k u v) (hk : k + 4 ≤ 2048) : wpX_swapAt (fun r u' => wpY_swapAt (fun r' v' => r' = r ∧ i_Rel (k + 4) u' v') v) u := by
  refine mr_el I (fun u v => wpX_swapAt (fun r u' => wpY_swapAt (fun r' v' => r' = r ∧ i_Rel (k + 4) u' v') v) u) ?_
  intro n L R W fk xl xr xs xt xk tb yl yr ym yf S Y
  have h4 := mp_ds_4 n L R 0 W
  have S' := S
  obtain ⟨hn, hW, ok, hR, hT⟩ := S
  unfold wpX_swapAt
  dsimp only
  refine mx_wd S' (fun tb' => ?_)
  dsimp only
  refine ⟨_, mr_xs hn hW ok hR h4 W.length 0 xt tb' (by omega) hT (fun xt2 tb2 hT2 => ?_)⟩
  unfold wpY_swapAt
  dsimp only
  refine my_work (mr_S S' Y) (fun ym' hM => ?_)
  dsimp only
  refine my_away hM (s := 0) (by omega) hW rfl rfl rfl (fun yf' => ?_)
  dsimp only
  exact ⟨_, mr_ys hW hM h4 W.length 0 yf' (by omega) (fun yf2 => ⟨rfl, mr_mk ⟨hn, hW, ok, hR, hT2⟩ Y⟩)⟩
theorem mr_xc {n : Nat} {L R : Nat → Nat} {W : List Bool} {xl xr xs : Nat → Int32} (hn : n ≤ 14) (hW : W.length ≤ 5) (ok : mp_Ok n L R) (hR : mx_R n L R xl xr xs) {b : Nat} (hb : b ≤ 4) {post : Int32 → SX → Prop} :
    ∀ d i fk xt xk tb, i + d = W.length → mx_T W xt →
      (∀ fk xt xk tb, mx_T W xt → post (mr_first (fun i => mp_ds n L R 0 (mp_ct W i)) b d i) (nI n, nI W.length, fk, xl, xr, xs, xt, xk, tb)) →
      wX_cutAt_7 post (nI b) (d + 1) (nI i) (nI n) (nI W.length) fk xl xr xs xt xk tb := by
  intro d
  induction d with
  | zero =>
    intro i fk xt xk tb hi hT K
    exact br_t (nI_le (by omega) (by omega)) (K fk xt xk tb hT)
  | succ d ih =>
    intro i fk xt xk tb hi hT K
    have s4 := mp_ds_4 n L R 0 (mp_ct W i)
    refine br_f (nI_ge (by omega) (by omega)) (mr_cut ⟨hn, hW, ok, hR, hT⟩ (by omega) (fun fk1 xt1 xk1 tb1 hT1 => ?_))
    dsimp only
    refine pk_le b (mp_ds n L R 0 (mp_ct W i)) (fun h => nm_r (nI_1 i) (ih (i + 1) fk1 xt1 xk1 tb1 (by omega) hT1 (fun fk2 xt2 xk2 tb2 hT2 => ?_))) (fun h => ?_)
    · have K2 := K fk2 xt2 xk2 tb2 hT2
      rw [mr_f_t (g := fun i => mp_ds n L R 0 (mp_ct W i)) h] at K2
      exact K2
    · have K2 := K fk1 xt1 xk1 tb1 hT1
      rw [mr_f_f (g := fun i => mp_ds n L R 0 (mp_ct W i)) (Nat.not_le.mpr h)] at K2
      exact K2
theorem mr_yc {n : Nat} {L R : Nat → Nat} {W : List Bool} (hW : W.length ≤ 5) {yl yr ym : Nat → Int32} (hM : my_W n L R ym) {b : Nat} (hb : b ≤ 4) {fc : Int32} {post : Int32 → SY → Prop} :
    ∀ d i yf, i + d = W.length → (∀ yf, post (mr_first (fun i => mp_ds n L R 0 (mp_ct W i)) b d i) (fc, nI W.length, nI (mp_vl W), yl, yr, ym, yf)) →
      wY_cutAt_20 post (nI b) (d + 1) (nI i) fc (nI W.length) (nI (mp_vl W)) yl yr ym yf := by
  intro d
  induction d with
  | zero =>
    intro i yf hi K
    exact br_t (nI_le (by omega) (by omega)) (K yf)
  | succ d ih =>
    intro i yf hi K
    have hl : i < W.length := by omega
    have s4 := mp_ds_4 n L R 0 (mp_ct W i)
    have ec : nI W.length - 1 = nI (mp_ct W i).length := by
      rw [mp_ct_len hl]
      exact pk_sub (b := 1) (by omega)
    refine br_f (nI_ge (by omega) (by omega)) (my_cut hW hl (my_away hM (s := 0) (by omega) (w := mp_ct W i) (by rw [mp_ct_len hl]; omega) rfl ec rfl (fun yf1 => ?_)))
    dsimp only
    refine pk_le b (mp_ds n L R 0 (mp_ct W i)) (fun h => nm_r (nI_1 i) (ih (i + 1) yf1 (by omega) (fun yf2 => ?_))) (fun h => ?_)
    · have K2 := K yf2
      rw [mr_f_t (g := fun i => mp_ds n L R 0 (mp_ct W i)) h] at K2
      exact K2
    · have K2 := K yf1
      rw [mr_f_f (g := fun i => mp_ds n L R 0 (mp_ct W i)) (Nat.not_le.mpr h)] at K2
      exact K2
theorem i_vc_cutAt {k : Nat} {u : SX} {v : SY} (I : i_Rel k u v) (hk : k + 4 ≤ 2048) : wpX_cutAt (fun r u' => wpY_cutAt (fun r' v' => r' = r ∧ i_Rel (k + 4) u' v') v) u := by
  refine mr_el I (fun u v => wpX_cutAt (fun r u' => wpY_cutAt (fun r' v' => r' = r ∧ i_Rel (k + 4) u' v') v) u) ?_
  intro n L R W fk xl xr xs xt xk tb yl yr ym yf S Y
  have h4 := mp_ds_4 n L R 0 W
  have S' := S
  obtain ⟨hn, hW, ok, hR, hT⟩ := S
  unfold wpX_cutAt
  dsimp only
  refine mx_wd S' (fun tb' => ?_)
  dsimp only
  refine ⟨_, mr_xc hn hW ok hR h4 W.length 0 fk xt xk tb' (by omega) hT (fun fk2 xt2 xk2 tb2 hT2 => ?_)⟩
  unfold wpY_cutAt
  dsimp only
  refine my_work (mr_S S' Y) (fun ym' hM => ?_)
  dsimp only
  refine my_away hM (s := 0) (by omega) hW rfl rfl rfl (fun yf' => ?_)
  dsimp only
  exact ⟨_, mr_yc hW hM h4 W.length 0 yf' (by omega) (fun yf2 => ⟨rfl, mr_mk ⟨hn, hW, ok, hR, hT2⟩ Y⟩)⟩
end
section
/-! ahead -/
def mr_sx : Nat → Nat → List Bool
  | 0, _ => []
  | m + 1, c => decide (c / 2 ^ m % 2 = 1) :: mr_sx m c
theorem mr_sx_len : ∀ m c : Nat, (mr_sx m c).length = m
  | 0, _ => rfl
  | m + 1, c => by
    show (mr_sx m c).length + 1 = m + 1
    rw [mr_sx_len m c]
theorem mr_db (x : Nat) : (decide (x % 2 = 1)).toNat = x % 2 := by
  by_cases z : x % 2 = 1
  · rw [decide_eq_true z, z]
    rfl
  · rw [decide_eq_false z, show x % 2 = 0 by omega]
    rfl
theorem mr_sx_vl : ∀ m c : Nat, mp_vl (mr_sx m c) = c % 2 ^ m
  | 0, c => by
    rw [Nat.pow_zero, Nat.mod_one]
    rfl
  | m + 1, c => by
    show (decide (c / 2 ^ m % 2 = 1)).toNat * 2 ^ (mr_sx m c).length + mp_vl (mr_sx m c) = c % 2 ^ (m + 1)
    rw [mr_db, mr_sx_len, mr_sx_vl m c, Nat.mod_pow_succ, Nat.mul_comm, Nat.add_comm]
noncomputable def mr_ag (n : Nat) (L R : Nat → Nat) (W : List Bool) (m c : Nat) : Nat := if W.length + m ≤ 5 then mp_ds n L R 0 (W ++ mr_sx m c) else 4
theorem mr_ag_4 (n : Nat) (L R : Nat → Nat) (W : List Bool) (m c : Nat) : mr_ag n L R W m c ≤ 4 := by
  unfold mr_ag
  by_cases h : W.length + m ≤ 5
  · rw [if_pos h]; exact mp_ds_4 _ _ _ _ _
  · rw [if_neg h]; exact Nat.le_refl _
theorem mr_ag_c (n : Nat) (L R : Nat → Nat) (W : List Bool) {m c c' : Nat} (h : mr_sx m c = mr_sx m c') : mr_ag n L R W m c = mr_ag n L R W m c' := by
  unfold mr_ag
  rw [h]
def mr_ab (g : Nat → Nat → Nat) : Nat → Nat → Nat → Nat
  | 0, _, b => b
  | d + 1, c, b => mr_ab g d (c + 1) (min b (g (if c < 4 then 1 else 2) c))
def mr_yb (g : Nat → Nat → Nat) (m : Nat) : Nat → Nat → Nat → Nat
  | 0, _, b => b
  | d + 1, x, b => mr_yb g m d (x + 1) (min b (g m x))
theorem mr_m1 (a : Int32) : a + (-1) = a - 1 := (Int32.sub_eq_add_neg a 1).symm
theorem mr_x43 {n : Nat} {L R : Nat → Nat} {xl xr xs : Nat → Int32} (hn : n ≤ 14) (ok : mp_Ok n L R) (hR : mx_R n L R xl xr xs)
    {J : Int32 → Int32 → Int32 → Int32 → Int32 → (Nat → Int32) → (Nat → Int32) → (Nat → Int32) → (Nat → Int32) → (Nat → Int32) → (Nat → Int32) → Prop} {post : Int32 → SX → Prop} {fk : Int32} {b c : Nat} (hb : b ≤ 4) (hc : c < 8) {xk tb : Nat → Int32}
    (V : List Bool) (hV5 : V.length ≤ 5)
    (K : ∀ xt tb z, mx_T V xt → z = min b (mp_ds n L R 0 V) → wX_ahead_99 post J (nI c) (nI z) (nI n) (nI V.length) fk xl xr xs xt xk tb) :
    ∀ m W xt, W.length + m ≤ 5 → mx_T W xt → V = W ++ mr_sx m c → wX_ahead_43 post J (nI b) (nI c) (nI n) fk (m + 1) (nI m - 1) (nI W.length) xl xr xs xt xk tb := by
  intro m
  induction m with
  | zero =>
    intro W xt hW hT hV
    have e : V = W := by rw [hV]; exact List.append_nil W
    subst e
    have d4 := mp_ds_4 n L R 0 V
    refine br_t (by decide) (mx_wd ⟨hn, hV5, ok, hR, hT⟩ (fun tb1 => ?_))
    dsimp only
    exact pk_le b (mp_ds n L R 0 V) (fun h' => K xt tb1 b hT (by omega)) (fun h' => K xt tb1 _ hT (by omega))
  | succ m ih =>
    intro W xt hW hT hV
    have e1 : nI (m + 1) - 1 = nI m := nI_pred m
    have e2 : 5 + ((nI c >>> ((nI (m + 1) - 1) &&& 31)) &&& 1) = nI (5 + (decide (c / 2 ^ m % 2 = 1)).toNat) := by
      rw [e1, mp_sr (by omega) (by omega), mp_a1, mr_db, ← nI_add]
      rfl
    have G := ih (W ++ [decide (c / 2 ^ m % 2 = 1)]) (upd xt W.length (nI (5 + (decide (c / 2 ^ m % 2 = 1)).toNat))) (by rw [List.length_append, List.length_singleton]; omega) (mr_T_snoc hT _) (by rw [hV, List.append_assoc]; rfl)
    rw [List.length_append, List.length_singleton] at G
    refine br_f (by rw [e1]; exact nI_pos (by omega)) ⟨vp_in_nI (by omega) (by omega), nm_r (e' := upd xt W.length (nI (5 + (decide (c / 2 ^ m % 2 = 1)).toNat))) (by rw [e2, nI_clamp (by omega)]) (nm_r (nI_1 _) (nm_r (e' := nI m - 1) (by rw [e1]; exact mr_m1 _) G))⟩
theorem mr_x27 {n : Nat} {L R : Nat → Nat} {W : List Bool} {xl xr xs xk : Nat → Int32} (hn : n ≤ 14) (hW : W.length ≤ 5) (ok : mp_Ok n L R) (hR : mx_R n L R xl xr xs) (hK : mx_T W xk)
    {J : Int32 → Int32 → Int32 → Int32 → Int32 → (Nat → Int32) → (Nat → Int32) → (Nat → Int32) → (Nat → Int32) → (Nat → Int32) → (Nat → Int32) → Prop} {post : Int32 → SX → Prop} {b c m : Nat} (hb : b ≤ 4) (hc : c < 8) (hm : m ≤ 2) {xt tb : Nat → Int32} (hT : mx_T W xt)
    (G : ∀ xt tb, mx_T W xt → J (nI (min b (mr_ag n L R W m c))) (nI (c + 1)) (nI n) (nI W.length) (nI W.length) xl xr xs xt xk tb) :
    wX_ahead_27 post J (nI b) (nI c) (nI m) (nI n) (nI W.length) (nI W.length) xl xr xs xt xk tb := by
  have e1 : nI W.length + nI m = nI (W.length + m) := nI_add _ _
  unfold wX_ahead_27
  refine pk_lt 5 (W.length + m) (fun h => nm_r (nI_1 c) ?_) (fun h => nm_e ⟨m + 1, ?_⟩) rfl e1
  · have G2 := G xt tb hT
    unfold mr_ag at G2
    rw [if_neg (by omega), Nat.min_eq_left hb] at G2
    exact G2
  · have hl : (W ++ mr_sx m c).length = W.length + m := by rw [List.length_append, mr_sx_len]
    have ga : mr_ag n L R W m c = mp_ds n L R 0 (W ++ mr_sx m c) := if_pos h
    rw [ga] at G
    refine mr_x43 hn ok hR hb hc (W ++ mr_sx m c) (by omega) (fun xt1 tb1 z hT1 hz => ?_) m W xt h hT rfl
    unfold wX_ahead_99
    refine mr_restore hW (fun xt2 hx2 => ?_)
    dsimp only
    refine nm_r (nI_1 c) ?_
    rw [hz]
    exact G xt2 tb1 (fun q hq => by rw [hx2 q hq]; exact hK q hq)
theorem mr_x11a {n : Nat} {L R : Nat → Nat} {W : List Bool} {xl xr xs xk : Nat → Int32} (hn : n ≤ 14) (hW : W.length ≤ 5) (ok : mp_Ok n L R) (hR : mx_R n L R xl xr xs) (hK : mx_T W xk) {post : Int32 → SX → Prop} :
    ∀ d c b xt tb, c + d = 8 → b ≤ 4 → mx_T W xt →
      (∀ xt tb, mx_T W xt → post (nI (mr_ab (mr_ag n L R W) d c b)) (nI n, nI W.length, nI W.length, xl, xr, xs, xt, xk, tb)) →
      wX_ahead_11 post (d + 1) (nI b) (nI c) (nI n) (nI W.length) (nI W.length) xl xr xs xt xk tb := by
  intro d
  induction d with
  | zero =>
    intro c b xt tb hc hb hT K
    exact br_t (nI_le (a := 8) (by omega) (by omega)) (K xt tb hT)
  | succ d ih =>
    intro c b xt tb hc hb hT K
    refine br_f (nI_ge (b := 8) (by omega) (by omega)) (pk_le 4 c (fun h => ?_) (fun h => ?_))
    · refine mr_x27 hn hW ok hR hK (m := 2) hb (by omega) (by omega) hT (fun xt1 tb1 hT1 => ih (c + 1) _ xt1 tb1 (by omega) (by omega) hT1 (fun xt2 tb2 hT2 => ?_))
      have K2 : post (nI (mr_ab (mr_ag n L R W) d (c + 1) (min b (mr_ag n L R W (if c < 4 then 1 else 2) c)))) (nI n, nI W.length, nI W.length, xl, xr, xs, xt2, xk, tb2) := K xt2 tb2 hT2
      rw [if_neg (by omega)] at K2
      exact K2
    · refine mr_x27 hn hW ok hR hK (m := 1) hb (by omega) (by omega) hT (fun xt1 tb1 hT1 => ih (c + 1) _ xt1 tb1 (by omega) (by omega) hT1 (fun xt2 tb2 hT2 => ?_))
      have K2 : post (nI (mr_ab (mr_ag n L R W) d (c + 1) (min b (mr_ag n L R W (if c < 4 then 1 else 2) c)))) (nI n, nI W.length, nI W.length, xl, xr, xs, xt2, xk, tb2) := K xt2 tb2 hT2
      rw [if_pos h] at K2
      exact K2
theorem mr_y15 {n : Nat} {L R : Nat → Nat} {W : List Bool} (hW : W.length ≤ 5) {yl yr ym : Nat → Int32} (hM : my_W n L R ym) {m : Nat} (hm : m ≤ 2) {fc : Int32} {post : Int32 → SY → Prop}
    {J8 : Int32 → Int32 → Int32 → Int32 → Int32 → (Nat → Int32) → (Nat → Int32) → (Nat → Int32) → (Nat → Int32) → Prop} :
    ∀ d x b yf, x + d = 2 ^ m → b ≤ 4 → (∀ yf, J8 (nI (mr_yb (mr_ag n L R W) m d x b)) (nI (m + 1)) fc (nI W.length) (nI (mp_vl W)) yl yr ym yf) →
      wY_ahead_15 post J8 (nI m) (d + 1) (nI b) (nI x) fc (nI W.length) (nI (mp_vl W)) yl yr ym yf := by
  have hp := mp_p2 (k := m) (by omega)
  have h4 : 2 ^ m ≤ 2 ^ 2 := Nat.pow_le_pow_right (by decide) hm
  have h256 := mp_256 (x := W) (by omega)
  intro d
  induction d with
  | zero =>
    intro x b yf hx hb K
    exact br_t (by rw [hp]; exact nI_le (by omega) (by omega)) (nm_r (nI_1 m) (K yf))
  | succ d ih =>
    intro x b yf hx hb K
    have e1 : nI W.length + nI m = nI (W.length + m) := nI_add _ _
    have g4 := mr_ag_4 n L R W m x
    have G : ∀ yf, wY_ahead_15 post J8 (nI m) (d + 1) (nI (min b (mr_ag n L R W m x))) (nI (x + 1)) fc (nI W.length) (nI (mp_vl W)) yl yr ym yf := fun yf' => ih (x + 1) _ yf' (by omega) (by omega) K
    have R5 : ∀ yf, wY_ahead_55 post J8 (wY_ahead_15 post J8 (nI m) (d + 1)) (nI b) (nI m) (nI x) (nI (mr_ag n L R W m x)) fc (nI W.length) (nI (mp_vl W)) yl yr ym yf := by
      intro yf'
      have G2 := G yf'
      unfold wY_ahead_55
      refine pk_le b (mr_ag n L R W m x) (fun h => nm_r (nI_1 x) ?_) (fun h => nm_r (nI_1 x) ?_)
      · rw [Nat.min_eq_left h] at G2
        exact G2
      · rw [Nat.min_eq_right (by omega)] at G2
        exact G2
    refine br_f (by rw [hp]; exact nI_ge (by omega) (by omega)) (pk_le (W.length + m) 5 (fun h => ?_) (fun h => ?_) e1)
    · have hl : (W ++ mr_sx m x).length = W.length + m := by rw [List.length_append, mr_sx_len]
      have hm2 : mp_vl W * 2 ^ m < 256 * 8 := Nat.lt_of_le_of_lt (Nat.mul_le_mul_left _ h4) (by omega)
      have e2 : (nI (mp_vl W) <<< (nI m &&& 31)) ||| nI x = nI (mp_vl (W ++ mr_sx m x)) := by
        rw [mp_sl (by omega) (by omega), mp_or _ (by omega), mp_vl_app, mr_sx_len, mr_sx_vl, Nat.mod_eq_of_lt (by omega)]
      have ga : mr_ag n L R W m x = mp_ds n L R 0 (W ++ mr_sx m x) := if_pos h
      rw [ga] at R5
      exact my_away hM (s := 0) (by omega) (w := W ++ mr_sx m x) (by omega) rfl (by rw [e1, hl]) e2 (fun yf' => R5 yf')
    · have ga : mr_ag n L R W m x = 4 := if_neg (by omega)
      rw [ga] at R5
      exact R5 yf
theorem mr_eq {n : Nat} {L R : Nat → Nat} {W : List Bool} (hW : W.length ≤ 5) :
    mr_yb (mr_ag n L R W) 2 4 0 (mr_yb (mr_ag n L R W) 1 2 0 (mr_yb (mr_ag n L R W) 0 1 0 4)) = mr_ab (mr_ag n L R W) 6 2 (mp_ds n L R 0 W) := by
  have h4 := mp_ds_4 n L R 0 W
  have a0 : mr_ag n L R W 0 0 = mp_ds n L R 0 W := by
    have : mr_ag n L R W 0 0 = mp_ds n L R 0 (W ++ []) := if_pos (by omega)
    rw [this, List.append_nil]
  have c2 : mr_ag n L R W 1 2 = mr_ag n L R W 1 0 := mr_ag_c n L R W (by decide)
  have c3 : mr_ag n L R W 1 3 = mr_ag n L R W 1 1 := mr_ag_c n L R W (by decide)
  have c4 : mr_ag n L R W 2 4 = mr_ag n L R W 2 0 := mr_ag_c n L R W (by decide)
  have c5 : mr_ag n L R W 2 5 = mr_ag n L R W 2 1 := mr_ag_c n L R W (by decide)
  have c6 : mr_ag n L R W 2 6 = mr_ag n L R W 2 2 := mr_ag_c n L R W (by decide)
  have c7 : mr_ag n L R W 2 7 = mr_ag n L R W 2 3 := mr_ag_c n L R W (by decide)
  show min (min (min (min (min (min (min 4 (mr_ag n L R W 0 0)) (mr_ag n L R W 1 0)) (mr_ag n L R W 1 1)) (mr_ag n L R W 2 0)) (mr_ag n L R W 2 1)) (mr_ag n L R W 2 2)) (mr_ag n L R W 2 3) =
    min (min (min (min (min (min (mp_ds n L R 0 W) (mr_ag n L R W 1 2)) (mr_ag n L R W 1 3)) (mr_ag n L R W 2 4)) (mr_ag n L R W 2 5)) (mr_ag n L R W 2 6)) (mr_ag n L R W 2 7)
  rw [c2, c3, c4, c5, c6, c7, a0, Nat.min_eq_right h4]
theorem mr_yb_4 (g : Nat → Nat → Nat) (m : Nat) : ∀ d x b, b ≤ 4 → mr_yb g m d x b ≤ 4
  | 0, _, _, h => h
  | d + 1, x, b, h => mr_yb_4 g m d (x + 1) (min b (g m x)) (by omega)
theorem i_vc_ahead {k : Nat} {u : SX} {v : SY} (I : i_Rel k u v) (hk : k + 4 ≤ 2048) : wpX_ahead (fun r u' => wpY_ahead (fun r' v' => r' = r ∧ i_Rel (k + 4) u' v') v) u := by
  refine mr_el I (fun u v => wpX_ahead (fun r u' => wpY_ahead (fun r' v' => r' = r ∧ i_Rel (k + 4) u' v') v) u) ?_
  intro n L R W fk xl xr xs xt xk tb yl yr ym yf S Y
  have h4 := mp_ds_4 n L R 0 W
  have S' := S
  obtain ⟨hn, hW, ok, hR, hT⟩ := S
  unfold wpX_ahead
  dsimp only
  refine mx_wd S' (fun tb' => ?_)
  dsimp only
  refine mr_keep hW (fun xk' hx' => ?_)
  dsimp only
  refine ⟨_, mr_x11a hn hW ok hR (fun q hq => by rw [hx' q hq]; exact hT q hq) 6 2 (mp_ds n L R 0 W) xt tb' (by omega) h4 hT (fun xt2 tb2 hT2 => ?_)⟩
  unfold wpY_ahead
  dsimp only
  refine my_work (mr_S S' Y) (fun ym' hM => ?_)
  dsimp only
  have b0 : mr_yb (mr_ag n L R W) 0 1 0 4 ≤ 4 := mr_yb_4 _ _ _ _ _ (Nat.le_refl _)
  have b1 := mr_yb_4 (mr_ag n L R W) 1 2 0 _ b0
  refine ⟨4, br_f (by decide) ⟨_, mr_y15 hW hM (m := 0) (by omega) 1 0 4 yf (by decide) (Nat.le_refl _) (fun yf1 => ?_)⟩⟩
  refine br_f (by decide) ⟨_, mr_y15 hW hM (m := 1) (by omega) 2 0 _ yf1 (by decide) b0 (fun yf2 => ?_)⟩
  refine br_f (by decide) ⟨_, mr_y15 hW hM (m := 2) (by omega) 4 0 _ yf2 (by decide) b1 (fun yf3 => ?_)⟩
  refine br_t (by decide) ⟨?_, mr_mk ⟨hn, hW, ok, hR, hT2⟩ Y⟩
  rw [mr_eq hW]
end
