section
/-! rows of the kit (kit/rows), pasted -/
theorem pk_us {f : Nat → Int32} {k : Nat} {x : Int32} : upd f k x k = x := if_pos rfl
theorem pk_un {f : Nat → Int32} {k j : Nat} {x : Int32} (h : j ≠ k) : upd f k x j = f j := if_neg h
theorem pk_sub {a b : Nat} (h : b ≤ a) : nI a - nI b = nI (a - b) := by
  obtain ⟨c, rfl⟩ : ∃ c, a = c + b := ⟨a - b, by omega⟩
  rw [← nI_add, Int32.add_sub_cancel, Nat.add_sub_cancel]
theorem pk_m1 (n : Nat) : nI (n + 1) + (-1) = nI n := by
  rw [← nI_1, Int32.add_assoc, show (1 : Int32) + (-1) = 0 from rfl, Int32.add_zero]
theorem pk_mul (a b : Nat) : nI a * nI b = nI (a * b) := (Int32.ofNat_mul a b).symm
theorem pk_sub_toInt {a b : Nat} (ha : a < 2 ^ 30) (hb : b < 2 ^ 30) : (nI a - nI b).toInt = (a : Int) - b := by
  rw [Int32.toInt_sub, nI_toInt (by omega), nI_toInt (by omega)]
  exact Int.bmod_eq_of_le (by omega) (by omega)
theorem pk_sneg {a b : Nat} (hb : b < 2 ^ 30) (h : a < b) : nI a - nI b < 0 := by
  rw [Int32.lt_iff_toInt_lt, pk_sub_toInt (by omega) hb, show (0 : Int32).toInt = 0 from by decide]
  omega
theorem pk_ix (x : Int32) {n : Nat} (hn : n < 2 ^ 31) : x < 0 ∨ nI n ≤ x ∨ ∃ j : Nat, j < n ∧ x = nI j := by
  by_cases h : x < 0
  · exact Or.inl h
  · obtain ⟨j, hj, rfl⟩ := nI_of h
    by_cases h2 : j < n
    · exact Or.inr (Or.inr ⟨j, h2, rfl⟩)
    · exact Or.inr (Or.inl (nI_le (by omega) hj))
theorem pk_le {x y : Int32} {A B : Prop} (a b : Nat) (f : a ≤ b → A) (g : b < a → B) (hx : x = nI a := by rfl) (hy : y = nI b := by rfl) (ha : a < 2 ^ 31 := by omega) (hb : b < 2 ^ 31 := by omega) : (x ≤ y → A) ∧ (¬ x ≤ y → B) := by
  subst hx hy
  rw [nI_leI ha hb]
  exact ⟨f, fun z => g (by omega)⟩
theorem pk_lt {x y : Int32} {A B : Prop} (a b : Nat) (f : a < b → A) (g : b ≤ a → B) (hx : x = nI a := by rfl) (hy : y = nI b := by rfl) (ha : a < 2 ^ 31 := by omega) (hb : b < 2 ^ 31 := by omega) : (x < y → A) ∧ (¬ x < y → B) := by
  subst hx hy
  rw [nI_ltI ha hb]
  exact ⟨f, fun z => g (by omega)⟩
theorem pk_eq {x y : Int32} {A B : Prop} (a b : Nat) (f : a = b → A) (g : a ≠ b → B) (hx : x = nI a := by rfl) (hy : y = nI b := by rfl) (ha : a < 2 ^ 31 := by omega) (hb : b < 2 ^ 31 := by omega) : (x = y → A) ∧ (¬ x = y → B) := by
  subst hx hy
  rw [nI_eq ha hb]
  exact ⟨f, g⟩
theorem pk_in {x : Int32} (n N : Nat) (h : n < N) (hx : x = nI n := by rfl) (hN : N < 2 ^ 31 := by omega) : vp_in x N := by
  subst hx
  exact vp_in_nI h hN
theorem pk_cl {x : Int32} (n : Nat) (hx : x = nI n := by rfl) (h : n < 2 ^ 31 := by omega) : x.toNatClampNeg = n := by
  subst hx
  exact nI_clamp h
theorem pk_tn {n : Nat} (h : n < 2 ^ 32) : (nI n).toBitVec.toNat = n := Nat.mod_eq_of_lt h
theorem pk_and (x : Int32) {m : Int32} (k : Nat) (hm : m.toBitVec.toNat = 2 ^ k - 1) : x &&& m = nI (x.toBitVec.toNat % 2 ^ k) := by
  apply Int32.toBitVec_inj.mp
  apply BitVec.eq_of_toNat_eq
  rw [Int32.toBitVec_and, BitVec.toNat_and, hm, Nat.and_two_pow_sub_one_eq_mod]
  show _ = (BitVec.ofNat 32 _).toNat
  rw [BitVec.toNat_ofNat]
  exact (Nat.mod_eq_of_lt (Nat.lt_of_le_of_lt (Nat.mod_le _ _) x.toBitVec.isLt)).symm
theorem pk_andN {n : Nat} (h : n < 2 ^ 32) {m : Int32} (k : Nat) (hm : m.toBitVec.toNat = 2 ^ k - 1) : nI n &&& m = nI (n % 2 ^ k) := by
  rw [pk_and _ k hm, pk_tn h]
theorem pk_shl (a s : Int32) (k : Nat) (hs : (s.toBitVec.smod 32).toNat = k) : (a <<< s).toBitVec.toNat = a.toBitVec.toNat * 2 ^ k % 2 ^ 32 := by
  show (a.toBitVec <<< (s.toBitVec.smod 32).toNat).toNat = _
  rw [hs, BitVec.toNat_shiftLeft, Nat.shiftLeft_eq]
theorem pk_shlN {n : Nat} (s : Int32) (k : Nat) (hs : (s.toBitVec.smod 32).toNat = k) (h : n * 2 ^ k < 2 ^ 32) : nI n <<< s = nI (n * 2 ^ k) := by
  apply Int32.toBitVec_inj.mp
  apply BitVec.eq_of_toNat_eq
  have hn : n < 2 ^ 32 := Nat.lt_of_le_of_lt (Nat.le_mul_of_pos_right n (Nat.two_pow_pos k)) h
  rw [pk_shl _ _ k hs, pk_tn hn, pk_tn h, Nat.mod_eq_of_lt h]
theorem pk_shr (a s : Int32) (k : Nat) (hs : (s.toBitVec.smod 32).toNat = k) : (a >>> s).toInt = a.toInt >>> k := by
  show (a.toBitVec.sshiftRight (s.toBitVec.smod 32).toNat).toInt = _
  rw [hs, BitVec.toInt_sshiftRight]
  rfl
theorem pk_shrN {n : Nat} (h : n < 2 ^ 31) (s : Int32) (k : Nat) (hs : (s.toBitVec.smod 32).toNat = k) : nI n >>> s = nI (n / 2 ^ k) := by
  apply Int32.toInt_inj.mp
  have h2 : n / 2 ^ k ≤ n := Nat.div_le_self _ _
  rw [pk_shr _ _ k hs, nI_toInt h, nI_toInt (by omega), Int.shiftRight_eq_div_pow]
  rfl
theorem pk_vb (z : Int32) : vp_nar .byte z.toInt8.toInt32 = z.toInt8.toInt32 := by rw [vp_nar_byte]; simp
theorem pk_least (P : Nat → Prop) (h : ∃ k, P k) : ∃ k, P k ∧ ∀ j, j < k → ¬ P j := by
  obtain ⟨k, hk⟩ := h
  induction k using Nat.strongRecOn with
  | ind k ih =>
    by_cases e : ∃ j, j < k ∧ P j
    · obtain ⟨j, hj, pj⟩ := e
      exact ih j hj pj
    · exact ⟨k, hk, fun j hj pj => e ⟨j, hj, pj⟩⟩
theorem sb_cl0 : (0 : Int32).toNatClampNeg = 0 := by decide
theorem sb_m1 {p : Nat} (h : 0 < p) : nI p + (-1) = nI (p - 1) := by
  obtain ⟨q, rfl⟩ : ∃ q, p = q + 1 := ⟨p - 1, by omega⟩
  exact pk_m1 q
def bt (x : Int32) (i : Nat) : Bool := x.toBitVec.getLsbD i
theorem b_ext {x y : Int32} (h : ∀ i, i < 32 → bt x i = bt y i) : x = y := Int32.toBitVec_inj.mp (BitVec.eq_of_getLsbD_eq (fun i hi => h i hi))
theorem b_or (x y : Int32) (i : Nat) : bt (x ||| y) i = (bt x i || bt y i) := by unfold bt; rw [Int32.toBitVec_or, BitVec.getLsbD_or]
theorem b_and (x y : Int32) (i : Nat) : bt (x &&& y) i = (bt x i && bt y i) := by unfold bt; rw [Int32.toBitVec_and, BitVec.getLsbD_and]
theorem b_xor (x y : Int32) (i : Nat) : bt (x ^^^ y) i = (bt x i ^^ bt y i) := by unfold bt; rw [Int32.toBitVec_xor, BitVec.getLsbD_xor]
theorem b_big {x : Int32} {i : Nat} (h : 32 ≤ i) : bt x i = false := BitVec.getLsbD_of_ge _ _ h
theorem b_255 (i : Nat) : bt 255 i = decide (i < 8) := by
  rcases Nat.lt_or_ge i 32 with h | h
  · exact (by decide +kernel : ∀ i, i < 32 → bt 255 i = decide (i < 8)) i h
  · rw [b_big h, decide_eq_false (by omega)]
theorem b_0 (i : Nat) : bt 0 i = false := BitVec.getLsbD_zero
theorem s_l : ∀ n, n < 32 → ((nI n &&& 31).toBitVec.smod 32).toNat = n := by decide +kernel
theorem b_shl (n : Nat) (hn : n < 32) (x : Int32) {i : Nat} (hi : i < 32) : bt (x <<< (nI n &&& 31)) i = (decide (n ≤ i) && bt x (i - n)) := by
  unfold bt
  rw [Int32.toBitVec_shiftLeft]
  show (x.toBitVec <<< ((nI n &&& 31).toBitVec.smod 32).toNat).getLsbD i = _
  rw [s_l n hn, BitVec.getLsbD_shiftLeft]
  rcases Nat.lt_or_ge i n with h | h
  · simp [h, Nat.not_le.mpr h]
  · simp [hi, h, Nat.not_lt.mpr h]
theorem b_sshr (n : Nat) (hn : n < 32) (x : Int32) {i : Nat} (hi : i < 32) : bt (x >>> (nI n &&& 31)) i = if n + i < 32 then bt x (n + i) else bt x 31 := by
  unfold bt
  rw [Int32.toBitVec_shiftRight]
  show (x.toBitVec.sshiftRight ((nI n &&& 31).toBitVec.smod 32).toNat).getLsbD i = _
  rw [s_l n hn, BitVec.getLsbD_sshiftRight, BitVec.msb_eq_getLsbD_last]
  simp [hi]
theorem nx_and (a b : Nat) : nI a &&& nI b = nI (a &&& b) := by
  apply Int32.toBitVec_inj.1
  show BitVec.ofNat 32 a &&& BitVec.ofNat 32 b = BitVec.ofNat 32 (a &&& b)
  apply BitVec.eq_of_getLsbD_eq
  intro i hi
  simp [hi]
theorem ts_nf {x : Bool} (h : ¬ x = false) : x = true := by cases x <;> first | rfl | exact absurd rfl h
theorem ts_nt {x : Bool} (h : ¬ x = true) : x = false := by cases x <;> first | rfl | exact absurd rfl h
end
section
/-! free rectangles and holes over a set F of cells -/
def ag_FR (F : Nat → Nat → Prop) (x y w h : Nat) : Prop := 0 < w ∧ 0 < h ∧ ∀ i j, x ≤ i → i < x + w → y ≤ j → j < y + h → F i j
def ag_In (x y w h x' y' w' h' : Nat) : Prop := x' ≤ x ∧ y' ≤ y ∧ x + w ≤ x' + w' ∧ y + h ≤ y' + h'
def ag_MX (F : Nat → Nat → Prop) (x y w h : Nat) : Prop := ag_FR F x y w h ∧ ∀ x' y' w' h', ag_FR F x' y' w' h' → ag_In x y w h x' y' w' h' → x' = x ∧ y' = y ∧ w' = w ∧ h' = h
def ag_Bd (C R : Nat) (F : Nat → Nat → Prop) : Prop := ∀ i j, F i j → i < C ∧ j < R
theorem ag_sub {F : Nat → Nat → Prop} {x y w h x' y' w' h' : Nat} (f : ag_FR F x' y' w' h') (g : ag_In x y w h x' y' w' h') (hw : 0 < w) (hh : 0 < h) : ag_FR F x y w h := by
  obtain ⟨_, _, f⟩ := f
  obtain ⟨a, b, c, d⟩ := g
  exact ⟨hw, hh, fun i j p q r s => f i j (by omega) (by omega) (by omega) (by omega)⟩
theorem ag_jL {F : Nat → Nat → Prop} {x y w h x' : Nat} (f : ag_FR F x y w h) (g : ag_FR F x' y 1 h) (e : x = x' + 1) : ag_FR F x' y (w + 1) h := by
  obtain ⟨fw, fh, f⟩ := f
  obtain ⟨_, _, g⟩ := g
  refine ⟨by omega, fh, fun i j p q r s => ?_⟩
  by_cases hi : i = x'
  · exact g i j (by omega) (by omega) r s
  · exact f i j (by omega) (by omega) r s
theorem ag_jR {F : Nat → Nat → Prop} {x y w h : Nat} (f : ag_FR F x y w h) (g : ag_FR F (x + w) y 1 h) : ag_FR F x y (w + 1) h := by
  obtain ⟨fw, fh, f⟩ := f
  obtain ⟨_, _, g⟩ := g
  refine ⟨by omega, fh, fun i j p q r s => ?_⟩
  by_cases hi : i = x + w
  · exact g i j (by omega) (by omega) r s
  · exact f i j (by omega) (by omega) r s
theorem ag_jD {F : Nat → Nat → Prop} {x y w h y' : Nat} (f : ag_FR F x y w h) (g : ag_FR F x y' w 1) (e : y = y' + 1) : ag_FR F x y' w (h + 1) := by
  obtain ⟨fw, fh, f⟩ := f
  obtain ⟨_, _, g⟩ := g
  refine ⟨fw, by omega, fun i j p q r s => ?_⟩
  by_cases hj : j = y'
  · exact g i j p q (by omega) (by omega)
  · exact f i j p q (by omega) (by omega)
theorem ag_jU {F : Nat → Nat → Prop} {x y w h : Nat} (f : ag_FR F x y w h) (g : ag_FR F x (y + h) w 1) : ag_FR F x y w (h + 1) := by
  obtain ⟨fw, fh, f⟩ := f
  obtain ⟨_, _, g⟩ := g
  refine ⟨fw, by omega, fun i j p q r s => ?_⟩
  by_cases hj : j = y + h
  · exact g i j p q (by omega) (by omega)
  · exact f i j p q (by omega) (by omega)
theorem ag_loc {F : Nat → Nat → Prop} {x y w h : Nat} : ag_MX F x y w h ↔ ag_FR F x y w h ∧ (∀ x', x = x' + 1 → ¬ ag_FR F x' y 1 h) ∧ ¬ ag_FR F (x + w) y 1 h ∧ (∀ y', y = y' + 1 → ¬ ag_FR F x y' w 1) ∧ ¬ ag_FR F x (y + h) w 1 := by
  constructor
  · intro ⟨f, hm⟩
    refine ⟨f, fun x' e g => ?_, fun g => ?_, fun y' e g => ?_, fun g => ?_⟩
    · have := hm _ _ _ _ (ag_jL f g e) ⟨by omega, by omega, by omega, by omega⟩
      omega
    · have := hm _ _ _ _ (ag_jR f g) ⟨by omega, by omega, by omega, by omega⟩
      omega
    · have := hm _ _ _ _ (ag_jD f g e) ⟨by omega, by omega, by omega, by omega⟩
      omega
    · have := hm _ _ _ _ (ag_jU f g) ⟨by omega, by omega, by omega, by omega⟩
      omega
  · intro ⟨f, h1, h2, h3, h4⟩
    refine ⟨f, fun x' y' w' h' g i => ?_⟩
    obtain ⟨i1, i2, i3, i4⟩ := i
    have fw := f.1
    have fh := f.2.1
    have e1 : x' = x := by
      rcases Nat.lt_or_ge x' x with z | z
      · exact absurd (ag_sub g (x := x - 1) (y := y) (w := 1) (h := h) ⟨by omega, by omega, by omega, by omega⟩ (by omega) fh) (h1 (x - 1) (by omega))
      · omega
    have e2 : y' = y := by
      rcases Nat.lt_or_ge y' y with z | z
      · exact absurd (ag_sub g (x := x) (y := y - 1) (w := w) (h := 1) ⟨by omega, by omega, by omega, by omega⟩ fw (by omega)) (h3 (y - 1) (by omega))
      · omega
    have e3 : x' + w' ≤ x + w := by
      rcases Nat.lt_or_ge (x + w) (x' + w') with z | z
      · exact absurd (ag_sub g (x := x + w) (y := y) (w := 1) (h := h) ⟨by omega, by omega, by omega, by omega⟩ (by omega) fh) h2
      · omega
    have e4 : y' + h' ≤ y + h := by
      rcases Nat.lt_or_ge (y + h) (y' + h') with z | z
      · exact absurd (ag_sub g (x := x) (y := y + h) (w := w) (h := 1) ⟨by omega, by omega, by omega, by omega⟩ fw (by omega)) h4
      · omega
    omega
theorem ag_bd {C R : Nat} {F : Nat → Nat → Prop} (hb : ag_Bd C R F) {x y w h : Nat} (f : ag_FR F x y w h) : x + w ≤ C ∧ y + h ≤ R := by
  obtain ⟨fw, fh, f⟩ := f
  have := hb (x + w - 1) (y + h - 1) (f _ _ (by omega) (by omega) (by omega) (by omega))
  omega
theorem ag_ext' {C R : Nat} {F : Nat → Nat → Prop} (hb : ag_Bd C R F) : ∀ n x y w h, C + R < n + w + h → ag_FR F x y w h → ∃ x' y' w' h', ag_MX F x' y' w' h' ∧ ag_In x y w h x' y' w' h' := by
  intro n
  induction n with
  | zero =>
    intro x y w h hn f
    have := ag_bd hb f
    omega
  | succ n ih =>
    intro x y w h hn f
    by_cases a : ∃ x', x = x' + 1 ∧ ag_FR F x' y 1 h
    · obtain ⟨x', e, g⟩ := a
      obtain ⟨x2, y2, w2, h2, q, i1, i2, i3, i4⟩ := ih x' y (w + 1) h (by omega) (ag_jL f g e)
      exact ⟨x2, y2, w2, h2, q, by omega, by omega, by omega, by omega⟩
    · by_cases b : ag_FR F (x + w) y 1 h
      · obtain ⟨x2, y2, w2, h2, q, i1, i2, i3, i4⟩ := ih x y (w + 1) h (by omega) (ag_jR f b)
        exact ⟨x2, y2, w2, h2, q, by omega, by omega, by omega, by omega⟩
      · by_cases c : ∃ y', y = y' + 1 ∧ ag_FR F x y' w 1
        · obtain ⟨y', e, g⟩ := c
          obtain ⟨x2, y2, w2, h2, q, i1, i2, i3, i4⟩ := ih x y' w (h + 1) (by omega) (ag_jD f g e)
          exact ⟨x2, y2, w2, h2, q, by omega, by omega, by omega, by omega⟩
        · by_cases d : ag_FR F x (y + h) w 1
          · obtain ⟨x2, y2, w2, h2, q, i1, i2, i3, i4⟩ := ih x y w (h + 1) (by omega) (ag_jU f d)
            exact ⟨x2, y2, w2, h2, q, by omega, by omega, by omega, by omega⟩
          · exact ⟨x, y, w, h, ag_loc.mpr ⟨f, fun x' e g => a ⟨x', e, g⟩, b, fun y' e g => c ⟨y', e, g⟩, d⟩, Nat.le_refl _, Nat.le_refl _, Nat.le_refl _, Nat.le_refl _⟩
/-- every free rectangle lies in a hole -/
theorem ag_ext {C R : Nat} {F : Nat → Nat → Prop} (hb : ag_Bd C R F) {x y w h : Nat} (f : ag_FR F x y w h) : ∃ x' y' w' h', ag_MX F x' y' w' h' ∧ ag_In x y w h x' y' w' h' :=
  ag_ext' hb (C + R + 1) x y w h (by omega) f
theorem ag_cho {P : Nat → Nat → Prop} (h : ∀ x, ∃ y, P x y) : ∃ f : Nat → Nat, ∀ x, P x (f x) := ⟨fun x => Classical.choose (h x), fun x => Classical.choose_spec (h x)⟩
theorem ag_pig : ∀ (N n : Nat) (g : Nat → Nat), (∀ i, i < n → g i < N) → (∀ i j, i < n → j < n → g i = g j → i = j) → n ≤ N := by
  intro N
  induction N with
  | zero =>
    intro n g h _
    rcases Nat.eq_zero_or_pos n with z | z
    · omega
    · have := h 0 z
      omega
  | succ N ih =>
    intro n g h inj
    rcases Nat.eq_zero_or_pos n with z | z
    · omega
    · obtain ⟨m, rfl⟩ : ∃ m, n = m + 1 := ⟨n - 1, by omega⟩
      have h1 : ∀ i, i < m → (fun i => if g i = N then g m else g i) i < N := by
        intro i hi
        show (if g i = N then g m else g i) < N
        have a := h i (by omega)
        have b := h m (by omega)
        split
        · rename_i e
          have : g m ≠ N := fun e2 => by
            have := inj i m (by omega) (by omega) (e.trans e2.symm)
            omega
          omega
        · omega
      have h2 : ∀ i j, i < m → j < m → (fun i => if g i = N then g m else g i) i = (fun i => if g i = N then g m else g i) j → i = j := by
        intro i j hi hj
        show (if g i = N then g m else g i) = (if g j = N then g m else g j) → i = j
        have ci := inj i m (by omega) (by omega)
        have cj := inj j m (by omega) (by omega)
        have cij := inj i j (by omega) (by omega)
        intro e
        split at e
        · split at e
          · exact cij (by omega)
          · have := cj e.symm
            omega
        · split at e
          · have := ci e
            omega
          · exact cij e
      have := ih m _ h1 h2
      omega
theorem ag_wit {F : Nat → Nat → Prop} {x y w h : Nat} (m : ag_MX F x y w h) : ∃ c, x ≤ c ∧ c < x + w ∧ ¬ F c (y + h) := by
  have l := ag_loc.mp m
  have fw := l.1.1
  have n := l.2.2.2.2
  apply Classical.byContradiction
  intro z
  apply n
  refine ⟨fw, by omega, fun i j p q r s => ?_⟩
  have e : j = y + h := by omega
  subst e
  apply Classical.byContradiction
  intro z2
  exact z ⟨i, p, q, z2⟩
theorem ag_same {F : Nat → Nat → Prop} {x y w h x' w' h' c : Nat} (m : ag_MX F x y w h) (m' : ag_MX F x' y w' h') (c1 : x ≤ c) (c2 : c < x + w) (c3 : ¬ F c (y + h)) (d1 : x' ≤ c) (d2 : c < x' + w') (d3 : ¬ F c (y + h')) : x = x' ∧ w = w' ∧ h = h' := by
  have f := m.1
  have f' := m'.1
  have eh : h = h' := by
    rcases Nat.lt_trichotomy h h' with z | z | z
    · exact absurd (f'.2.2 c (y + h) d1 d2 (by omega) (by omega)) c3
    · exact z
    · exact absurd (f.2.2 c (y + h') c1 c2 (by omega) (by omega)) d3
  subst eh
  have e : ∃ X W, X ≤ x ∧ X ≤ x' ∧ x + w ≤ X + W ∧ x' + w' ≤ X + W ∧ (X = x ∨ X = x') ∧ (X + W = x + w ∨ X + W = x' + w') := by
    rcases Nat.le_total x x' with z | z
    · rcases Nat.le_total (x + w) (x' + w') with z2 | z2
      · exact ⟨x, x' + w' - x, by omega, by omega, by omega, by omega, by omega, by omega⟩
      · exact ⟨x, w, by omega, by omega, by omega, by omega, by omega, by omega⟩
    · rcases Nat.le_total (x + w) (x' + w') with z2 | z2
      · exact ⟨x', w', by omega, by omega, by omega, by omega, by omega, by omega⟩
      · exact ⟨x', x + w - x', by omega, by omega, by omega, by omega, by omega, by omega⟩
  obtain ⟨X, W, e1, e2, e3, e4, e5, e6⟩ := e
  have fu : ag_FR F X y W h := by
    refine ⟨by omega, f.2.1, fun i j p q r s => ?_⟩
    by_cases z : x ≤ i ∧ i < x + w
    · exact f.2.2 i j z.1 z.2 r s
    · exact f'.2.2 i j (by omega) (by omega) r s
  have a := m.2 _ _ _ _ fu ⟨by omega, by omega, by omega, by omega⟩
  have b := m'.2 _ _ _ _ fu ⟨by omega, by omega, by omega, by omega⟩
  omega
/-- a hole's code -/
def ag_pk (x y w h : Nat) : Nat := x * 32768 + y * 1024 + w * 32 + h
def ag_S (x y w h : Nat) : Prop := x < 32 ∧ y < 32 ∧ w < 32 ∧ h < 32
theorem ag_pk_lt {x y w h : Nat} (s : ag_S x y w h) : ag_pk x y w h < 1048576 := by
  obtain ⟨a, b, c, d⟩ := s
  unfold ag_pk
  omega
theorem ag_pk_inj {x y w h x' y' w' h' : Nat} (s : ag_S x y w h) (s' : ag_S x' y' w' h') (e : nI (ag_pk x y w h) = nI (ag_pk x' y' w' h')) : x = x' ∧ y = y' ∧ w = w' ∧ h = h' := by
  have l := ag_pk_lt s
  have l' := ag_pk_lt s'
  have e2 := (nI_eq (by omega) (by omega)).mp e
  obtain ⟨a, b, c, d⟩ := s
  obtain ⟨a', b', c', d'⟩ := s'
  unfold ag_pk at e2
  omega
theorem ag_MS {C R : Nat} {F : Nat → Nat → Prop} (hb : ag_Bd C R F) (hC : C ≤ 16) (hR : R ≤ 16) {x y w h : Nat} (f : ag_FR F x y w h) : ag_S x y w h := by
  have := ag_bd hb f
  exact ⟨by omega, by omega, by omega, by omega⟩
/-- the first n of a are the codes of the holes with P, each once -/
def ag_HS (F : Nat → Nat → Prop) (P : Nat → Nat → Nat → Nat → Prop) (n : Nat) (a : Nat → Int32) : Prop :=
  (∀ k, k < n → ∃ x y w h, a k = nI (ag_pk x y w h) ∧ ag_MX F x y w h ∧ P x y w h) ∧ (∀ x y w h, ag_MX F x y w h → P x y w h → ∃ k, k < n ∧ a k = nI (ag_pk x y w h)) ∧ (∀ i j, i < n → j < n → a i = a j → i = j)
theorem ag_HS_le {C R : Nat} {F : Nat → Nat → Prop} (hb : ag_Bd C R F) (hC : C ≤ 16) (hR : R ≤ 16) {P : Nat → Nat → Nat → Nat → Prop} {n : Nat} {a : Nat → Int32} (H : ag_HS F P n a) : n ≤ 256 := by
  obtain ⟨h1, _, h3⟩ := H
  have ex : ∀ k, ∃ m, k < n → ∃ x y w h c, a k = nI (ag_pk x y w h) ∧ ag_MX F x y w h ∧ x ≤ c ∧ c < x + w ∧ ¬ F c (y + h) ∧ m = 16 * y + c := by
    intro k
    by_cases hk : k < n
    · obtain ⟨x, y, w, h, e, m, _⟩ := h1 k hk
      obtain ⟨c, c1, c2, c3⟩ := ag_wit m
      exact ⟨16 * y + c, fun _ => ⟨x, y, w, h, c, e, m, c1, c2, c3, rfl⟩⟩
    · exact ⟨0, fun z => absurd z hk⟩
  obtain ⟨g, hg⟩ := ag_cho ex
  refine ag_pig 256 n g ?_ ?_
  · intro i hi
    obtain ⟨x, y, w, h, c, e, m, c1, c2, c3, e2⟩ := hg i hi
    have := ag_bd hb m.1
    have := m.1.2.1
    omega
  · intro i j hi hj e
    obtain ⟨x, y, w, h, c, ea, m, c1, c2, c3, e2⟩ := hg i hi
    obtain ⟨x', y', w', h', c', ea', m', c1', c2', c3', e2'⟩ := hg j hj
    have b1 := ag_bd hb m.1
    have b2 := ag_bd hb m'.1
    have ey : y = y' := by omega
    have ec : c = c' := by omega
    subst ey ec
    obtain ⟨q1, q2, q3⟩ := ag_same m m' c1 c2 c3 c1' c2' c3'
    subst q1 q2 q3
    exact h3 i j hi hj (ea.trans ea'.symm)
theorem ag_HS_cong {F : Nat → Nat → Prop} {P Q : Nat → Nat → Nat → Nat → Prop} {n : Nat} {a : Nat → Int32} (c : ∀ x y w h, ag_MX F x y w h → (P x y w h ↔ Q x y w h)) (H : ag_HS F P n a) : ag_HS F Q n a := by
  obtain ⟨h1, h2, h3⟩ := H
  refine ⟨fun k hk => ?_, fun x y w h m q => h2 x y w h m ((c x y w h m).mpr q), h3⟩
  obtain ⟨x, y, w, h, e, m, p⟩ := h1 k hk
  exact ⟨x, y, w, h, e, m, (c x y w h m).mp p⟩
theorem ag_HS_add {C R : Nat} {F : Nat → Nat → Prop} (hb : ag_Bd C R F) (hC : C ≤ 16) (hR : R ≤ 16) {P : Nat → Nat → Nat → Nat → Prop} {n : Nat} {a : Nat → Int32} (H : ag_HS F P n a) {x y w h : Nat} (m : ag_MX F x y w h) (np : ¬ P x y w h) : n < 256 ∧ ag_HS F (fun x' y' w' h' => P x' y' w' h' ∨ (x' = x ∧ y' = y ∧ w' = w ∧ h' = h)) (n + 1) (upd a n (nI (ag_pk x y w h))) := by
  have H2 : ag_HS F (fun x' y' w' h' => P x' y' w' h' ∨ (x' = x ∧ y' = y ∧ w' = w ∧ h' = h)) (n + 1) (upd a n (nI (ag_pk x y w h))) := by
    obtain ⟨h1, h2, h3⟩ := H
    have nw : ∀ k, k < n → a k ≠ nI (ag_pk x y w h) := by
      intro k hk e
      obtain ⟨x', y', w', h', e', m', p'⟩ := h1 k hk
      obtain ⟨q1, q2, q3, q4⟩ := ag_pk_inj (ag_MS hb hC hR m'.1) (ag_MS hb hC hR m.1) (e'.symm.trans e)
      subst q1 q2 q3 q4
      exact np p'
    refine ⟨fun k hk => ?_, fun x' y' w' h' m' q => ?_, fun i j hi hj e => ?_⟩
    · by_cases hk2 : k = n
      · subst hk2
        exact ⟨x, y, w, h, pk_us, m, Or.inr ⟨rfl, rfl, rfl, rfl⟩⟩
      · obtain ⟨x', y', w', h', e', m', p'⟩ := h1 k (by omega)
        exact ⟨x', y', w', h', (pk_un hk2).trans e', m', Or.inl p'⟩
    · rcases q with q | ⟨q1, q2, q3, q4⟩
      · obtain ⟨k, hk, e⟩ := h2 x' y' w' h' m' q
        exact ⟨k, by omega, (pk_un (by omega)).trans e⟩
      · subst q1 q2 q3 q4
        exact ⟨n, by omega, pk_us⟩
    · by_cases hi2 : i = n
      · by_cases hj2 : j = n
        · omega
        · subst hi2
          rw [pk_us, pk_un hj2] at e
          exact absurd e.symm (nw j (by omega))
      · by_cases hj2 : j = n
        · subst hj2
          rw [pk_us, pk_un hi2] at e
          exact absurd e (nw i (by omega))
        · rw [pk_un hi2, pk_un hj2] at e
          exact h3 i j (by omega) (by omega) e
  exact ⟨by have := ag_HS_le hb hC hR H2; omega, H2⟩
theorem ag_HS_0 {F : Nat → Nat → Prop} {P : Nat → Nat → Nat → Nat → Prop} {a : Nat → Int32} (c : ∀ x y w h, ag_MX F x y w h → ¬ P x y w h) : ag_HS F P 0 a :=
  ⟨fun k hk => absurd hk (by omega), fun x y w h m p => absurd p (c x y w h m), fun i j hi => absurd hi (by omega)⟩
end
section
/-! the lowest, then leftmost place -/
def ag_LW (F : Nat → Nat → Prop) (w h : Nat) (r : Int32) : Prop :=
  (r = -3 ∧ ∀ x y, ¬ ag_FR F x y w h) ∨ (∃ x y, ag_FR F x y w h ∧ r = nI (256 * y + x) ∧ ∀ x' y', ag_FR F x' y' w h → 256 * y + x ≤ 256 * y' + x')
theorem ag_LW_u {F : Nat → Nat → Prop} {w h : Nat} {r r' : Int32} (a : ag_LW F w h r) (b : ag_LW F w h r') : r = r' := by
  rcases a with ⟨e, n⟩ | ⟨x, y, f, e, m⟩
  · rcases b with ⟨e', _⟩ | ⟨x', y', f', _, _⟩
    · rw [e, e']
    · exact absurd f' (n x' y')
  · rcases b with ⟨_, n'⟩ | ⟨x', y', f', e', m'⟩
    · exact absurd f (n' x y)
    · have := m x' y' f'
      have := m' x y f
      rw [e, e']
      exact congrArg nI (by omega)
/-- the same of the holes in a list Q -/
def ag_LQ (Q : Nat → Nat → Nat → Nat → Prop) (w h : Nat) (r : Int32) : Prop :=
  (r = -3 ∧ ∀ x y w' h', Q x y w' h' → ¬ (w ≤ w' ∧ h ≤ h')) ∨ (∃ x y w' h', Q x y w' h' ∧ w ≤ w' ∧ h ≤ h' ∧ r = nI (256 * y + x) ∧ ∀ x' y' w2 h2, Q x' y' w2 h2 → w ≤ w2 → h ≤ h2 → 256 * y + x ≤ 256 * y' + x')
theorem ag_LQ_LW {C R : Nat} {F : Nat → Nat → Prop} (hb : ag_Bd C R F) (hC : C ≤ 16) {w h : Nat} (hw : 0 < w) (hh : 0 < h) {r : Int32} (a : ag_LQ (ag_MX F) w h r) : ag_LW F w h r := by
  rcases a with ⟨e, n⟩ | ⟨x, y, w', h', m, z1, z2, e, l⟩
  · refine Or.inl ⟨e, fun x y f => ?_⟩
    obtain ⟨x', y', w', h', m, i1, i2, i3, i4⟩ := ag_ext hb f
    exact n x' y' w' h' m ⟨by omega, by omega⟩
  · refine Or.inr ⟨x, y, ag_sub m.1 ⟨Nat.le_refl _, Nat.le_refl _, by omega, by omega⟩ hw hh, e, fun x2 y2 f => ?_⟩
    obtain ⟨x3, y3, w3, h3, m3, i1, i2, i3, i4⟩ := ag_ext hb f
    have := l x3 y3 w3 h3 m3 (by omega) (by omega)
    omega
/-! counting -/
def ag_cn (p : Nat → Bool) : Nat → Nat
  | 0 => 0
  | n + 1 => ag_cn p n + (if p n = true then 1 else 0)
theorem ag_cn_s {p : Nat → Bool} {n : Nat} : ag_cn p (n + 1) = ag_cn p n + (if p n = true then 1 else 0) := rfl
theorem ag_cn_t {p : Nat → Bool} {n : Nat} (h : p n = true) : ag_cn p (n + 1) = ag_cn p n + 1 := by rw [ag_cn_s, if_pos h]
theorem ag_cn_f {p : Nat → Bool} {n : Nat} (h : p n = false) : ag_cn p (n + 1) = ag_cn p n := by
  rw [ag_cn_s, h]
  rfl
theorem ag_cn_le (p : Nat → Bool) : ∀ n, ag_cn p n ≤ n := by
  intro n
  induction n with
  | zero => exact Nat.le_refl _
  | succ n ih =>
    rw [ag_cn_s]
    split <;> omega
theorem ag_cn_lt (p : Nat → Bool) : ∀ n, ag_cn p n < n → ∃ k, k < n ∧ p k = false := by
  intro n
  induction n with
  | zero => intro h; omega
  | succ n ih =>
    intro h
    by_cases hp : p n = true
    · rw [ag_cn_t hp] at h
      obtain ⟨k, hk, e⟩ := ih (by omega)
      exact ⟨k, by omega, e⟩
    · exact ⟨n, by omega, ts_nt hp⟩
theorem ag_cn_c {p q : Nat → Bool} : ∀ n, (∀ k, k < n → p k = q k) → ag_cn p n = ag_cn q n := by
  intro n
  induction n with
  | zero => intro _; rfl
  | succ n ih =>
    intro h
    rw [ag_cn_s, ag_cn_s, ih (fun k hk => h k (by omega)), h n (by omega)]
theorem ag_cn_0 {p : Nat → Bool} : ∀ n, (∀ k, k < n → p k = false) → ag_cn p n = 0 := by
  intro n
  induction n with
  | zero => intro _; rfl
  | succ n ih =>
    intro h
    rw [ag_cn_f (h n (by omega)), ih (fun k hk => h k (by omega))]
theorem ag_cn_all {p : Nat → Bool} : ∀ n, (∀ k, k < n → p k = true) → ag_cn p n = n := by
  intro n
  induction n with
  | zero => intro _; rfl
  | succ n ih =>
    intro h
    rw [ag_cn_t (h n (by omega)), ih (fun k hk => h k (by omega))]
theorem ag_cn_1 {p : Nat → Bool} {k : Nat} : ∀ n, k < n → p k = true → (∀ j, j < n → p j = true → j = k) → ag_cn p n = 1 := by
  intro n
  induction n with
  | zero => intro h; omega
  | succ n ih =>
    intro h hp u
    by_cases e : k = n
    · subst e
      rw [ag_cn_t hp, ag_cn_0 k (fun j hj => ts_nt (fun z => by have := u j (by omega) z; omega))]
    · rw [ag_cn_f (ts_nt (fun z => by have := u n (by omega) z; omega)), ih (by omega) hp (fun j hj z => u j (by omega) z)]
theorem ag_cn_a {p q e : Nat → Bool} : ∀ n, (∀ k, k < n → q k = (p k || e k)) → (∀ k, k < n → p k = true → e k = true → False) → ag_cn q n = ag_cn p n + ag_cn e n := by
  intro n
  induction n with
  | zero => intro _ _; rfl
  | succ n ih =>
    intro h x
    rw [ag_cn_s, ag_cn_s, ag_cn_s, ih (fun k hk => h k (by omega)) (fun k hk => x k (by omega)), h n (by omega)]
    have x' := x n (by omega)
    revert x'
    cases p n <;> cases e n <;> intro x' <;> simp at x' ⊢ <;> omega
/-! counting cells -/
def ag_c2 (p : Nat → Nat → Bool) (C : Nat) : Nat → Nat
  | 0 => 0
  | y + 1 => ag_c2 p C y + ag_cn (fun x => p x y) C
theorem ag_c2_s {p : Nat → Nat → Bool} {C y : Nat} : ag_c2 p C (y + 1) = ag_c2 p C y + ag_cn (fun x => p x y) C := rfl
theorem ag_c2_c {p q : Nat → Nat → Bool} {C : Nat} : ∀ n, (∀ x y, x < C → y < n → p x y = q x y) → ag_c2 p C n = ag_c2 q C n := by
  intro n
  induction n with
  | zero => intro _; rfl
  | succ n ih =>
    intro h
    rw [ag_c2_s, ag_c2_s, ih (fun x y hx hy => h x y hx (by omega)), ag_cn_c C (fun x hx => h x n hx (by omega))]
theorem ag_c2_a {p q e : Nat → Nat → Bool} {C : Nat} : ∀ n, (∀ x y, x < C → y < n → q x y = (p x y || e x y)) → (∀ x y, x < C → y < n → p x y = true → e x y = true → False) → ag_c2 q C n = ag_c2 p C n + ag_c2 e C n := by
  intro n
  induction n with
  | zero => intro _ _; rfl
  | succ n ih =>
    intro h z
    rw [ag_c2_s, ag_c2_s, ag_c2_s, ih (fun x y hx hy => h x y hx (by omega)) (fun x y hx hy => z x y hx (by omega)), ag_cn_a C (p := fun x => p x n) (e := fun x => e x n) (fun x hx => h x n hx (by omega)) (fun x hx => z x n hx (by omega))]
    omega
theorem ag_c2_le (p : Nat → Nat → Bool) (C : Nat) : ∀ n, ag_c2 p C n ≤ C * n := by
  intro n
  induction n with
  | zero => exact Nat.le_refl _
  | succ n ih =>
    have := ag_cn_le (fun x => p x n) C
    rw [ag_c2_s, Nat.mul_succ]
    omega
theorem ag_c2_all {p : Nat → Nat → Bool} {C : Nat} : ∀ n, (∀ x y, x < C → y < n → p x y = true) → ag_c2 p C n = C * n := by
  intro n
  induction n with
  | zero => intro _; rfl
  | succ n ih =>
    intro h
    rw [ag_c2_s, ih (fun x y hx hy => h x y hx (by omega)), ag_cn_all C (fun x hx => h x n hx (by omega)), Nat.mul_succ]
theorem ag_cn_iv {l w : Nat} : ∀ n, ag_cn (fun x => decide (l ≤ x ∧ x < l + w)) n = if n ≤ l then 0 else if n ≤ l + w then n - l else w := by
  intro n
  induction n with
  | zero => rw [if_pos (by omega)]; rfl
  | succ n ih =>
    by_cases h : l ≤ n ∧ n < l + w
    · rw [ag_cn_t (decide_eq_true h), ih, if_neg (c := n + 1 ≤ l) (by omega), if_pos (c := n + 1 ≤ l + w) (by omega)]
      by_cases h2 : n ≤ l
      · rw [if_pos h2]; omega
      · rw [if_neg h2, if_pos (by omega)]; omega
    · rw [ag_cn_f (decide_eq_false h), ih]
      by_cases h2 : n + 1 ≤ l
      · rw [if_pos h2, if_pos (by omega)]
      · rw [if_neg h2, if_neg (c := n + 1 ≤ l + w) (by omega)]
        by_cases h3 : n ≤ l
        · rw [if_pos h3]; omega
        · rw [if_neg h3]
          by_cases h4 : n ≤ l + w
          · rw [if_pos h4]; omega
          · rw [if_neg h4]
theorem ag_c2_rect {C l b w h : Nat} (hc : l + w ≤ C) : ∀ n, ag_c2 (fun x y => decide (l ≤ x ∧ x < l + w ∧ b ≤ y ∧ y < b + h)) C n = w * (if n ≤ b then 0 else if n ≤ b + h then n - b else h) := by
  intro n
  induction n with
  | zero => rw [if_pos (by omega)]; rfl
  | succ n ih =>
    by_cases g : b ≤ n ∧ n < b + h
    · have e : ag_cn (fun x => decide (l ≤ x ∧ x < l + w ∧ b ≤ n ∧ n < b + h)) C = w := by
        rw [ag_cn_c (q := fun x => decide (l ≤ x ∧ x < l + w)) C (fun x _ => by
          by_cases z : l ≤ x ∧ x < l + w
          · rw [decide_eq_true z, decide_eq_true (by omega)]
          · rw [decide_eq_false z, decide_eq_false (by omega)]), ag_cn_iv]
        by_cases z : C ≤ l
        · rw [if_pos z]; omega
        · rw [if_neg z]
          by_cases z2 : C ≤ l + w
          · rw [if_pos z2]; omega
          · rw [if_neg z2]
      rw [ag_c2_s, ih, e, if_neg (c := n + 1 ≤ b) (by omega), if_pos (c := n + 1 ≤ b + h) (by omega)]
      by_cases h2 : n ≤ b
      · have e2 : n + 1 - b = 1 := by omega
        rw [if_pos h2, e2]; omega
      · have e2 : n + 1 - b = (n - b) + 1 := by omega
        rw [if_neg h2, if_pos (by omega), e2, Nat.mul_succ]
    · have e : ag_cn (fun x => decide (l ≤ x ∧ x < l + w ∧ b ≤ n ∧ n < b + h)) C = 0 := ag_cn_0 C (fun x _ => decide_eq_false (by omega))
      rw [ag_c2_s, ih, e]
      by_cases h2 : n + 1 ≤ b
      · rw [if_pos h2, if_pos (by omega)]
        rfl
      · rw [if_neg h2, if_neg (c := n + 1 ≤ b + h) (by omega)]
        by_cases h3 : n ≤ b
        · have : h = 0 := by omega
          rw [if_pos h3, this]
          rfl
        · rw [if_neg h3]
          by_cases h4 : n ≤ b + h
          · have e2 : n - b = h := by omega
            rw [if_pos h4, e2]
            rfl
          · rw [if_neg h4]
            rfl
/-! the greatest height of a width -/
def ag_MT (F : Nat → Nat → Prop) (w t : Nat) : Prop := (∀ x y h, ag_FR F x y w h → h ≤ t) ∧ (t = 0 ∨ ∃ x y, ag_FR F x y w t)
theorem ag_MT_u {F : Nat → Nat → Prop} {w t t' : Nat} (a : ag_MT F w t) (b : ag_MT F w t') : t = t' := by
  have h1 : t ≤ t' := by
    rcases a.2 with z | ⟨x, y, f⟩
    · omega
    · exact b.1 x y t f
  have h2 : t' ≤ t := by
    rcases b.2 with z | ⟨x, y, f⟩
    · omega
    · exact a.1 x y t' f
  omega
theorem ag_MT_e' {F : Nat → Nat → Prop} {w : Nat} : ∀ n, (∀ x y h, ag_FR F x y w h → h ≤ n) → ∃ t, ag_MT F w t := by
  intro n
  induction n with
  | zero => intro h; exact ⟨0, h, Or.inl rfl⟩
  | succ n ih =>
    intro h
    by_cases z : ∃ x y, ag_FR F x y w (n + 1)
    · exact ⟨n + 1, h, Or.inr z⟩
    · refine ih (fun x y k f => ?_)
      have h2 := h x y k f
      by_cases e : k = n + 1
      · subst e
        exact absurd ⟨x, y, f⟩ z
      · omega
theorem ag_MT_e {C R : Nat} {F : Nat → Nat → Prop} (hb : ag_Bd C R F) (w : Nat) : ∃ t, ag_MT F w t ∧ t ≤ R := by
  obtain ⟨t, ht⟩ := ag_MT_e' (F := F) (w := w) R (fun x y h f => by have := ag_bd hb f; omega)
  refine ⟨t, ht, ?_⟩
  rcases ht.2 with z | ⟨x, y, f⟩
  · omega
  · have := ag_bd hb f
    omega
def ag_sum (f : Nat → Nat) : Nat → Nat
  | 0 => 0
  | n + 1 => ag_sum f n + f n
theorem ag_sum_le {f : Nat → Nat} {b : Nat} (h : ∀ k, f k ≤ b) : ∀ n, ag_sum f n ≤ b * n := by
  intro n
  induction n with
  | zero => exact Nat.le_refl _
  | succ n ih =>
    have := h n
    rw [Nat.mul_succ]
    show ag_sum f n + f n ≤ _
    omega
theorem ag_sum_z {f : Nat → Nat} {a : Nat} (h : ∀ k, a ≤ k → f k = 0) : ∀ n, ag_sum f (a + n) = ag_sum f a := by
  intro n
  induction n with
  | zero => rfl
  | succ n ih =>
    show ag_sum f (a + n) + f (a + n) = _
    rw [ih, h (a + n) (by omega)]
    rfl
end
section
/-! a rectangle is taken: what is left of a hole -/
def ag_Tk (F : Nat → Nat → Prop) (tx ty tw th : Nat) : Nat → Nat → Prop := fun i j => F i j ∧ ¬ (tx ≤ i ∧ i < tx + tw ∧ ty ≤ j ∧ j < ty + th)
theorem ag_Tk_FR {F : Nat → Nat → Prop} {tx ty tw th x y w h : Nat} (f : ag_FR (ag_Tk F tx ty tw th) x y w h) : ag_FR F x y w h :=
  ⟨f.1, f.2.1, fun i j p q r s => (f.2.2 i j p q r s).1⟩
theorem ag_Tk_sep {F : Nat → Nat → Prop} {tx ty tw th x y w h : Nat} (hw : 0 < tw) (hh : 0 < th) (f : ag_FR (ag_Tk F tx ty tw th) x y w h) : x + w ≤ tx ∨ tx + tw ≤ x ∨ y + h ≤ ty ∨ ty + th ≤ y := by
  apply Classical.byContradiction
  intro z
  have fw := f.1
  have fh := f.2.1
  have a := (f.2.2 (if x ≤ tx then tx else x) (if y ≤ ty then ty else y) (by split <;> omega) (by split <;> omega) (by split <;> omega) (by split <;> omega)).2
  apply a
  refine ⟨by split <;> omega, by split <;> omega, by split <;> omega, by split <;> omega⟩
theorem ag_Tk_of {F : Nat → Nat → Prop} {tx ty tw th x y w h : Nat} (f : ag_FR F x y w h) (s : x + w ≤ tx ∨ tx + tw ≤ x ∨ y + h ≤ ty ∨ ty + th ≤ y) : ag_FR (ag_Tk F tx ty tw th) x y w h :=
  ⟨f.1, f.2.1, fun i j p q r s' => ⟨f.2.2 i j p q r s', by omega⟩⟩
/-- code c stands among the first n of a -/
def ag_At (a : Nat → Int32) (n : Nat) (x y w h : Nat) : Prop := ∃ k, k < n ∧ a k = nI (ag_pk x y w h)
/-- every free rectangle in the hole lies in one of the candidates -/
def ag_Cv (F : Nat → Nat → Prop) (a : Nat → Int32) (n : Nat) (hx hy hw hh : Nat) : Prop :=
  ∀ x y w h, ag_FR F x y w h → ag_In x y w h hx hy hw hh → ∃ x' y' w' h', ag_At a n x' y' w' h' ∧ ag_FR F x' y' w' h' ∧ ag_In x y w h x' y' w' h'
theorem ag_Cv_split {F : Nat → Nat → Prop} {tx ty tw th hx hy hw hh n : Nat} {a : Nat → Int32} (tw0 : 0 < tw) (th0 : 0 < th) (f : ag_FR F hx hy hw hh)
    (c1 : hx < tx → ag_At a n hx hy (tx - hx) hh) (c2 : tx + tw < hx + hw → ag_At a n (tx + tw) hy (hx + hw - (tx + tw)) hh)
    (c3 : hy < ty → ag_At a n hx hy hw (ty - hy)) (c4 : ty + th < hy + hh → ag_At a n hx (ty + th) hw (hy + hh - (ty + th)))
    (m1 : tx < hx + hw) (m2 : hx < tx + tw) (m3 : ty < hy + hh) (m4 : hy < ty + th) : ag_Cv (ag_Tk F tx ty tw th) a n hx hy hw hh := by
  intro x y w h g i
  obtain ⟨i1, i2, i3, i4⟩ := i
  have gw := g.1
  have gh := g.2.1
  have fw := f.1
  have fh := f.2.1
  rcases ag_Tk_sep tw0 th0 g with z | z | z | z
  · exact ⟨hx, hy, tx - hx, hh, c1 (by omega), ag_Tk_of (ag_sub f ⟨by omega, by omega, by omega, by omega⟩ (by omega) fh) (by omega), by omega, by omega, by omega, by omega⟩
  · exact ⟨tx + tw, hy, hx + hw - (tx + tw), hh, c2 (by omega), ag_Tk_of (ag_sub f ⟨by omega, by omega, by omega, by omega⟩ (by omega) fh) (by omega), by omega, by omega, by omega, by omega⟩
  · exact ⟨hx, hy, hw, ty - hy, c3 (by omega), ag_Tk_of (ag_sub f ⟨by omega, by omega, by omega, by omega⟩ fw (by omega)) (by omega), by omega, by omega, by omega, by omega⟩
  · exact ⟨hx, ty + th, hw, hy + hh - (ty + th), c4 (by omega), ag_Tk_of (ag_sub f ⟨by omega, by omega, by omega, by omega⟩ fw (by omega)) (by omega), by omega, by omega, by omega, by omega⟩
theorem ag_Cv_mono {F : Nat → Nat → Prop} {a a' : Nat → Int32} {n n' hx hy hw hh : Nat} (c : ag_Cv F a n hx hy hw hh) (hn : n ≤ n') (ha : ∀ k, k < n → a' k = a k) : ag_Cv F a' n' hx hy hw hh := by
  intro x y w h f i
  obtain ⟨x', y', w', h', ⟨k, hk, e⟩, g, i'⟩ := c x y w h f i
  exact ⟨x', y', w', h', ⟨k, by omega, (ha k hk).trans e⟩, g, i'⟩
/-- candidates: free rectangles all -/
def ag_CF (F : Nat → Nat → Prop) (a : Nat → Int32) (n : Nat) : Prop := ∀ k, k < n → ∃ x y w h, a k = nI (ag_pk x y w h) ∧ ag_FR F x y w h
theorem ag_CF_add {F : Nat → Nat → Prop} {a : Nat → Int32} {n x y w h : Nat} (c : ag_CF F a n) (f : ag_FR F x y w h) : ag_CF F (upd a n (nI (ag_pk x y w h))) (n + 1) := by
  intro k hk
  by_cases e : k = n
  · subst e
    exact ⟨x, y, w, h, pk_us, f⟩
  · obtain ⟨x', y', w', h', e', f'⟩ := c k (by omega)
    exact ⟨x', y', w', h', (pk_un e).trans e', f'⟩
/-- candidate k is covered by another, or by an equal one ahead of it -/
def ag_Cd (a : Nat → Int32) (n k : Nat) : Prop := ∃ j, j < n ∧ j ≠ k ∧ (∃ x y w h x' y' w' h', ag_S x y w h ∧ ag_S x' y' w' h' ∧ a k = nI (ag_pk x y w h) ∧ a j = nI (ag_pk x' y' w' h') ∧ ag_In x y w h x' y' w' h') ∧ (a j ≠ a k ∨ j < k)
theorem ag_Cd_n {C R : Nat} {F : Nat → Nat → Prop} (hb : ag_Bd C R F) (hC : C ≤ 16) (hR : R ≤ 16) {a : Nat → Int32} {n k x y w h : Nat} (c : ag_CF F a n) (v : ∀ x y w h, ag_FR F x y w h → ∃ x' y' w' h', ag_At a n x' y' w' h' ∧ ag_FR F x' y' w' h' ∧ ag_In x y w h x' y' w' h') (hk : k < n) (e : a k = nI (ag_pk x y w h)) (f : ag_FR F x y w h) (nc : ¬ ag_Cd a n k) : ag_MX F x y w h ∧ ∀ j, j < k → a j ≠ a k := by
  have sk := ag_MS hb hC hR f
  constructor
  · refine ⟨f, fun x2 y2 w2 h2 f2 i2 => ?_⟩
    obtain ⟨x3, y3, w3, h3, ⟨j, hj, ej⟩, f3, i3⟩ := v x2 y2 w2 h2 f2
    obtain ⟨p1, p2, p3, p4⟩ := i2
    obtain ⟨q1, q2, q3, q4⟩ := i3
    have s3 := ag_MS hb hC hR f3
    by_cases ee : a j = a k
    · obtain ⟨r1, r2, r3, r4⟩ := ag_pk_inj s3 sk (ej.symm.trans (ee.trans e))
      omega
    · exact absurd ⟨j, hj, fun z => ee (by rw [z]), ⟨x, y, w, h, x3, y3, w3, h3, sk, s3, e, ej, by omega, by omega, by omega, by omega⟩, Or.inl ee⟩ nc
  · intro j hj ee
    exact nc ⟨j, by omega, by omega, ⟨x, y, w, h, x, y, w, h, sk, sk, e, ee.trans e, Nat.le_refl _, Nat.le_refl _, Nat.le_refl _, Nat.le_refl _⟩, Or.inr hj⟩
theorem ag_Cd_y {C R : Nat} {F : Nat → Nat → Prop} (hb : ag_Bd C R F) (hC : C ≤ 16) (hR : R ≤ 16) {a : Nat → Int32} {n k x y w h : Nat} (c : ag_CF F a n) (e : a k = nI (ag_pk x y w h)) (m : ag_MX F x y w h) (d : ag_Cd a n k) : ∃ j, j < k ∧ a j = nI (ag_pk x y w h) := by
  obtain ⟨j, hj, nj, ⟨x1, y1, w1, h1, x2, y2, w2, h2, s1, s2, e1, e2, i⟩, o⟩ := d
  obtain ⟨r1, r2, r3, r4⟩ := ag_pk_inj s1 (ag_MS hb hC hR m.1) (e1.symm.trans e)
  subst r1 r2 r3 r4
  obtain ⟨x3, y3, w3, h3, e3, f3⟩ := c j hj
  obtain ⟨r1, r2, r3, r4⟩ := ag_pk_inj s2 (ag_MS hb hC hR f3) (e2.symm.trans e3)
  subst r1 r2 r3 r4
  obtain ⟨r1, r2, r3, r4⟩ := m.2 _ _ _ _ f3 i
  subst r1 r2 r3 r4
  rcases o with o | o
  · exact absurd (e3.trans e.symm) o
  · exact ⟨j, o, e3⟩
end
section
/-! columns of free cells above row y; rectangles not yet ended at a column -/
def ag_Ht (F : Nat → Nat → Prop) (y x t : Nat) : Prop := (∀ j, y ≤ j → j < y + t → F x j) ∧ ¬ F x (y + t)
theorem ag_Ht_u {F : Nat → Nat → Prop} {y x t t' : Nat} (a : ag_Ht F y x t) (b : ag_Ht F y x t') : t = t' := by
  rcases Nat.lt_trichotomy t t' with z | z | z
  · exact absurd (b.1 (y + t) (by omega) (by omega)) a.2
  · exact z
  · exact absurd (a.1 (y + t') (by omega) (by omega)) b.2
theorem ag_Ht_e' {F : Nat → Nat → Prop} {R y x : Nat} (hb : ∀ j, F x j → j < R) : ∀ n t, R < n + (y + t) → (∀ j, y ≤ j → j < y + t → F x j) → ∃ t, ag_Ht F y x t := by
  intro n
  induction n with
  | zero =>
    intro t h f
    refine ⟨t, f, fun z => ?_⟩
    have := hb _ z
    omega
  | succ n ih =>
    intro t h f
    by_cases z : F x (y + t)
    · refine ih (t + 1) (by omega) (fun j p q => ?_)
      by_cases e : j = y + t
      · rw [e]; exact z
      · exact f j p (by omega)
    · exact ⟨t, f, z⟩
theorem ag_Ht_e {C R : Nat} {F : Nat → Nat → Prop} (hb : ag_Bd C R F) (y : Nat) : ∃ H : Nat → Nat, ∀ x, ag_Ht F y x (H x) := by
  have ex : ∀ x, ∃ t, ag_Ht F y x t := fun x => ag_Ht_e' (R := R) (fun j f => (hb x j f).2) (R + 1) 0 (by omega) (fun j p q => by omega)
  exact ag_cho ex
theorem ag_Ht_b {C R : Nat} {F : Nat → Nat → Prop} (hb : ag_Bd C R F) {y x t : Nat} (h : ag_Ht F y x t) : t ≤ R ∧ (C ≤ x → t = 0) ∧ (y ≤ R → y + t ≤ R) := by
  refine ⟨?_, fun hx => ?_, fun hy => ?_⟩
  · rcases Nat.eq_zero_or_pos t with z | z
    · omega
    · have := hb _ _ (h.1 (y + t - 1) (by omega) (by omega))
      omega
  · rcases Nat.eq_zero_or_pos t with z | z
    · exact z
    · have := hb _ _ (h.1 (y + t - 1) (by omega) (by omega))
      omega
  · rcases Nat.eq_zero_or_pos t with z | z
    · omega
    · have := hb _ _ (h.1 (y + t - 1) (by omega) (by omega))
      omega
theorem ag_Ht_FR {F : Nat → Nat → Prop} {y : Nat} {H : Nat → Nat} (hH : ∀ x, ag_Ht F y x (H x)) {x w h : Nat} : ag_FR F x y w h ↔ 0 < w ∧ 0 < h ∧ ∀ i, x ≤ i → i < x + w → h ≤ H i := by
  constructor
  · intro ⟨a, b, f⟩
    refine ⟨a, b, fun i p q => ?_⟩
    rcases Nat.lt_or_ge (H i) h with z | z
    · exact absurd (f i (y + H i) p q (by omega) (by omega)) (hH i).2
    · exact z
  · intro ⟨a, b, f⟩
    refine ⟨a, b, fun i j p q r s => (hH i).1 j r ?_⟩
    have := f i p q
    omega
/-- not yet ended at column x: from s on all columns reach h, one no further, and s is the first -/
def ag_Op (H : Nat → Nat) (x s h : Nat) : Prop := 0 < h ∧ s < x ∧ (∀ i, s ≤ i → i < x → h ≤ H i) ∧ (∃ i, s ≤ i ∧ i < x ∧ H i = h) ∧ (∀ s', s = s' + 1 → H s' < h)
theorem ag_Op_u {H : Nat → Nat} {x s s' h : Nat} (a : ag_Op H x s h) (b : ag_Op H x s' h) : s = s' := by
  obtain ⟨a0, a1, a2, _, a4⟩ := a
  obtain ⟨b0, b1, b2, _, b4⟩ := b
  rcases Nat.lt_trichotomy s s' with z | z | z
  · have p := b4 (s' - 1) (by omega)
    have q := a2 (s' - 1) (by omega) (by omega)
    omega
  · exact z
  · have p := a4 (s - 1) (by omega)
    have q := b2 (s - 1) (by omega) (by omega)
    omega
theorem ag_Op_l {H : Nat → Nat} {x g : Nat} (hg : 0 < g) : ∀ i, i < x → (∀ k, i ≤ k → k < x → g ≤ H k) → (∃ c, i ≤ c ∧ c < x ∧ H c = g) → ∃ s, s ≤ i ∧ ag_Op H x s g := by
  intro i
  induction i with
  | zero => intro h1 h2 h3; exact ⟨0, Nat.le_refl _, hg, h1, h2, h3, fun s' e => by omega⟩
  | succ i ih =>
    intro h1 h2 h3
    by_cases z : H i < g
    · exact ⟨i + 1, Nat.le_refl _, hg, h1, h2, h3, fun s' e => by
        have : s' = i := by omega
        rw [this]; exact z⟩
    · obtain ⟨c, c1, c2, c3⟩ := h3
      obtain ⟨s, hs, o⟩ := ih (by omega) (fun k p q => by
        by_cases e : k = i
        · rw [e]; omega
        · exact h2 k (by omega) q) ⟨c, by omega, c2, c3⟩
      exact ⟨s, by omega, o⟩
theorem ag_Op_MX {F : Nat → Nat → Prop} {y : Nat} {H : Nat → Nat} (hH : ∀ x, ag_Ht F y x (H x)) {x w h : Nat} : ag_MX F x y w h ↔ ag_Op H (x + w) x h ∧ H (x + w) < h ∧ (∀ y', y = y' + 1 → ¬ ag_FR F x y' w 1) := by
  rw [ag_loc]
  constructor
  · intro ⟨f, l1, l2, l3, l4⟩
    obtain ⟨fw, fh, fa⟩ := (ag_Ht_FR hH).mp f
    have hr : H (x + w) < h := by
      rcases Nat.lt_or_ge (H (x + w)) h with z | z
      · exact z
      · refine absurd ((ag_Ht_FR hH).mpr ⟨by omega, fh, fun i p q => ?_⟩) l2
        have : i = x + w := by omega
        rw [this]; exact z
    refine ⟨⟨fh, by omega, fun i p q => fa i p q, ?_, fun s' e => ?_⟩, hr, l3⟩
    · apply Classical.byContradiction
      intro z
      apply l4
      refine ⟨fw, by omega, fun i j p q r s => ?_⟩
      have a := fa i p q
      have b : H i ≠ h := fun e => z ⟨i, p, q, e⟩
      exact (hH i).1 j (by omega) (by omega)
    · rcases Nat.lt_or_ge (H s') h with z | z
      · exact z
      · refine absurd ((ag_Ht_FR hH).mpr ⟨by omega, fh, fun i p q => ?_⟩) (l1 s' e)
        have : i = s' := by omega
        rw [this]; exact z
  · intro ⟨⟨oh, ow, oa, ⟨c, c1, c2, c3⟩, ol⟩, hr, hd⟩
    refine ⟨(ag_Ht_FR hH).mpr ⟨by omega, oh, fun i p q => oa i p q⟩, fun x' e g => ?_, fun g => ?_, hd, fun g => ?_⟩
    · have a := ((ag_Ht_FR hH).mp g).2.2 x' (by omega) (by omega)
      have b := ol x' e
      omega
    · have a := ((ag_Ht_FR hH).mp g).2.2 (x + w) (by omega) (by omega)
      omega
    · have a := g.2.2 c (y + h) c1 c2 (by omega) (by omega)
      rw [← c3] at a
      exact (hH c).2 a
/-- the stack at column x: all that has not ended, by height -/
def ag_St (H : Nat → Nat) (x d : Nat) (SS HH : Nat → Nat) : Prop := (∀ i, i < d → ag_Op H x (SS i) (HH i)) ∧ (∀ s g, ag_Op H x s g → ∃ i, i < d ∧ SS i = s ∧ HH i = g) ∧ (∀ i j, i < j → j < d → HH i < HH j)
theorem ag_St_0 {H : Nat → Nat} {SS HH : Nat → Nat} : ag_St H 0 0 SS HH :=
  ⟨fun i hi => absurd hi (by omega), fun s g o => absurd o.2.1 (by omega), fun i j _ hj => absurd hj (by omega)⟩
theorem ag_St_h {H : Nat → Nat} {x d : Nat} {SS HH : Nat → Nat} (S : ag_St H x d SS HH) : ∀ i, i < d → i + 1 ≤ HH i := by
  intro i
  induction i with
  | zero => intro hi; exact (S.1 0 hi).1
  | succ i ih =>
    intro hi
    have a := ih (by omega)
    have b := S.2.2 i (i + 1) (by omega) hi
    omega
theorem ag_St_d {H : Nat → Nat} {x d m : Nat} {SS HH : Nat → Nat} (hm : ∀ i, H i ≤ m) (S : ag_St H x d SS HH) : d ≤ m ∧ ∀ i, i < d → HH i ≤ m := by
  have b : ∀ i, i < d → HH i ≤ m := by
    intro i hi
    obtain ⟨_, _, _, ⟨c, _, _, e⟩, _⟩ := S.1 i hi
    have := hm c
    omega
  refine ⟨?_, b⟩
  rcases Nat.eq_zero_or_pos d with z | z
  · omega
  · have p := ag_St_h S (d - 1) (by omega)
    have q := b (d - 1) (by omega)
    omega
theorem ag_St_mono {H : Nat → Nat} {x d : Nat} {SS HH : Nat → Nat} (S : ag_St H x d SS HH) {i j : Nat} (h : i ≤ j) (hj : j < d) : HH i ≤ HH j := by
  rcases Nat.lt_or_ge i j with z | z
  · exact Nat.le_of_lt (S.2.2 i j z hj)
  · have : i = j := by omega
    rw [this]; exact Nat.le_refl _
theorem ag_Op_up {H : Nat → Nat} {x s g : Nat} (o : ag_Op H x s g) (h : g ≤ H x) : ag_Op H (x + 1) s g := by
  obtain ⟨a, b, c, ⟨i, i1, i2, i3⟩, e⟩ := o
  refine ⟨a, by omega, fun k p q => ?_, ⟨i, i1, by omega, i3⟩, e⟩
  by_cases z : k = x
  · rw [z]; exact h
  · exact c k p (by omega)
theorem ag_Op_dn {H : Nat → Nat} {x s g : Nat} (o : ag_Op H (x + 1) s g) (h : g < H x) : ag_Op H x s g := by
  obtain ⟨a, b, c, ⟨i, i1, i2, i3⟩, e⟩ := o
  have hi : i ≠ x := fun z => by rw [z] at i3; omega
  exact ⟨a, by omega, fun k p q => c k p (by omega), ⟨i, i1, by omega, i3⟩, e⟩
theorem ag_Op_top {H : Nat → Nat} {x s g : Nat} (o : ag_Op H (x + 1) s g) : g ≤ H x := o.2.2.1 x (by have := o.2.1; omega) (by omega)
/-- column x is no higher than what is left on the stack: nothing is pushed -/
theorem ag_St_keep {H : Nat → Nat} {x d d' : Nat} {SS HH : Nat → Nat} (S : ag_St H x d SS HH) (hd : d' ≤ d) (lo : ∀ i, i < d' → HH i ≤ H x) (hi : ∀ i, d' ≤ i → i < d → H x < HH i) (z : H x = 0 ∨ (0 < d' ∧ H x ≤ HH (d' - 1))) : ag_St H (x + 1) d' SS HH := by
  refine ⟨fun i h => ag_Op_up (S.1 i (by omega)) (lo i h), fun s g o => ?_, fun i j h1 h2 => S.2.2 i j h1 (by omega)⟩
  have t := ag_Op_top o
  rcases z with z | ⟨z1, z2⟩
  · have := o.1
    omega
  · rcases Nat.lt_or_ge g (H x) with q | q
    · obtain ⟨i, h1, h2, h3⟩ := S.2.1 s g (ag_Op_dn o q)
      refine ⟨i, ?_, h2, h3⟩
      rcases Nat.lt_or_ge i d' with r | r
      · exact r
      · have := hi i r h1
        omega
    · have e : HH (d' - 1) = g := by
        have := lo (d' - 1) (by omega)
        omega
      have o2 := ag_Op_up (S.1 (d' - 1) (by omega)) (lo (d' - 1) (by omega))
      rw [e] at o2
      exact ⟨d' - 1, by omega, ag_Op_u o2 o, e⟩
def ag_nu (f : Nat → Nat) (k v : Nat) : Nat → Nat := fun j => if j = k then v else f j
theorem ag_nus {f : Nat → Nat} {k v : Nat} : ag_nu f k v k = v := if_pos rfl
theorem ag_nun {f : Nat → Nat} {k v j : Nat} (h : j ≠ k) : ag_nu f k v j = f j := if_neg h
/-- column x is higher: it is pushed, from the start of the last one taken off -/
theorem ag_St_push {H : Nat → Nat} {x d d' st : Nat} {SS HH : Nat → Nat} (S : ag_St H x d SS HH) (hd : d' ≤ d) (lo : ∀ i, i < d' → HH i < H x) (hi : ∀ i, d' ≤ i → i < d → H x < HH i) (hx : 0 < H x) (hs : (d' = d ∧ st = x) ∨ (d' < d ∧ st = SS d')) : ag_St H (x + 1) (d' + 1) (ag_nu SS d' st) (ag_nu HH d' (H x)) := by
  obtain ⟨s, sx, o⟩ := ag_Op_l (H := H) (x := x + 1) hx x (by omega) (fun k p q => by
    have : k = x := by omega
    rw [this]; exact Nat.le_refl _) ⟨x, by omega, by omega, rfl⟩
  have no : ∀ s2 g, ag_Op H x s2 g → H x ≤ g → (∀ h1, d' < d → HH d' = h1 → g < h1) → False := by
    intro s2 g o2 hg hl
    obtain ⟨i, h1, h2, h3⟩ := S.2.1 s2 g o2
    rcases Nat.lt_or_ge i d' with r | r
    · have := lo i r
      omega
    · have a := hl (HH d') (by omega) rfl
      have b := ag_St_mono S r h1
      omega
  have es : s = st := by
    obtain ⟨o0, o1, o2, o3, o4⟩ := o
    rcases hs with ⟨e1, e2⟩ | ⟨e1, e2⟩
    · rcases Nat.lt_or_ge s x with z | z
      · exfalso
        have a := o2 (x - 1) (by omega) (by omega)
        obtain ⟨s2, _, p⟩ := ag_Op_l (H := H) (x := x) (g := H (x - 1)) (by omega) (x - 1) (by omega) (fun k p q => by
          have : k = x - 1 := by omega
          rw [this]; exact Nat.le_refl _) ⟨x - 1, by omega, by omega, rfl⟩
        exact no s2 _ p a (fun h1 l _ => by omega)
      · omega
    · have q := S.1 d' e1
      rw [← e2] at q
      have g1 := hi d' (Nat.le_refl _) e1
      obtain ⟨q0, q1, q2, q3, q4⟩ := q
      rcases Nat.lt_trichotomy s st with z | z | z
      · exfalso
        have a := o2 (st - 1) (by omega) (by omega)
        have b := q4 (st - 1) (by omega)
        obtain ⟨s2, _, p⟩ := ag_Op_l (H := H) (x := x) (g := H (st - 1)) (by omega) (st - 1) (by omega) (fun k p q => by
          by_cases e : k = st - 1
          · rw [e]; exact Nat.le_refl _
          · have := q2 k (by omega) q
            omega) ⟨st - 1, by omega, by omega, rfl⟩
        exact no s2 _ p a (fun h1 l e => by omega)
      · exact z
      · exfalso
        have a := o4 (s - 1) (by omega)
        have b := q2 (s - 1) (by omega) (by omega)
        omega
  subst es
  refine ⟨fun i h => ?_, fun s2 g o2 => ?_, fun i j h1 h2 => ?_⟩
  · by_cases e : i = d'
    · rw [e, ag_nus, ag_nus]; exact o
    · rw [ag_nun e, ag_nun e]
      exact ag_Op_up (S.1 i (by omega)) (Nat.le_of_lt (lo i (by omega)))
  · have t := ag_Op_top o2
    rcases Nat.lt_or_ge g (H x) with q | q
    · obtain ⟨i, h1, h2, h3⟩ := S.2.1 s2 g (ag_Op_dn o2 q)
      have hi' : i < d' := by
        rcases Nat.lt_or_ge i d' with r | r
        · exact r
        · have := hi i r h1
          omega
      refine ⟨i, by omega, ?_, ?_⟩
      · rw [ag_nun (by omega)]; exact h2
      · rw [ag_nun (by omega)]; exact h3
    · have e : g = H x := by omega
      rw [e] at o2
      exact ⟨d', by omega, by rw [ag_nus]; exact ag_Op_u o o2, by rw [ag_nus]; exact e.symm⟩
  · by_cases e : j = d'
    · rw [e, ag_nus, ag_nun (by omega)]
      exact lo i (by omega)
    · rw [ag_nun e, ag_nun (by omega)]
      exact S.2.2 i j h1 (by omega)
end
section
/-! codes of holes as ints; strips of bits -/
theorem ax_or (a b : Nat) : nI a ||| nI b = nI (a ||| b) := by
  apply Int32.toBitVec_inj.1
  show BitVec.ofNat 32 a ||| BitVec.ofNat 32 b = BitVec.ofNat 32 (a ||| b)
  apply BitVec.eq_of_getLsbD_eq
  intro i hi
  simp [hi]
theorem ax_pack {x y w h : Nat} (s : ag_S x y w h) : ((((nI x <<< ((15 : Int32) &&& 31)) ||| (nI y <<< ((10 : Int32) &&& 31))) ||| (nI w <<< ((5 : Int32) &&& 31))) ||| nI h) = nI (ag_pk x y w h) := by
  obtain ⟨s1, s2, s3, s4⟩ := s
  rw [pk_shlN _ 15 (by decide) (by omega), pk_shlN _ 10 (by decide) (by omega), pk_shlN _ 5 (by decide) (by omega), ax_or, ax_or, ax_or]
  have e1 : x * 2 ^ 15 ||| y * 2 ^ 10 = 2 ^ 10 * (x * 32 + y) := by
    rw [Nat.mul_comm x, ← Nat.two_pow_add_eq_or_of_lt (by omega)]
    omega
  have e2 : 2 ^ 10 * (x * 32 + y) ||| w * 2 ^ 5 = 2 ^ 5 * ((x * 32 + y) * 32 + w) := by
    rw [← Nat.two_pow_add_eq_or_of_lt (by omega)]
    omega
  rw [e1, e2, ← Nat.two_pow_add_eq_or_of_lt (by omega)]
  unfold ag_pk
  exact congrArg nI (by omega)
theorem ax_left {x y w h : Nat} (s : ag_S x y w h) : nI (ag_pk x y w h) >>> ((15 : Int32) &&& 31) = nI x := by
  have l := ag_pk_lt s
  rw [pk_shrN (by omega) _ 15 (by decide)]
  obtain ⟨s1, s2, s3, s4⟩ := s
  unfold ag_pk
  exact congrArg nI (by omega)
theorem ax_bottom {x y w h : Nat} (s : ag_S x y w h) : (nI (ag_pk x y w h) >>> ((10 : Int32) &&& 31)) &&& 31 = nI y := by
  have l := ag_pk_lt s
  rw [pk_shrN (by omega) _ 10 (by decide), pk_andN (by omega) 5 (by decide)]
  obtain ⟨s1, s2, s3, s4⟩ := s
  unfold ag_pk
  exact congrArg nI (by omega)
theorem ax_wide {x y w h : Nat} (s : ag_S x y w h) : (nI (ag_pk x y w h) >>> ((5 : Int32) &&& 31)) &&& 31 = nI w := by
  have l := ag_pk_lt s
  rw [pk_shrN (by omega) _ 5 (by decide), pk_andN (by omega) 5 (by decide)]
  obtain ⟨s1, s2, s3, s4⟩ := s
  unfold ag_pk
  exact congrArg nI (by omega)
theorem ax_high {x y w h : Nat} (s : ag_S x y w h) : nI (ag_pk x y w h) &&& 31 = nI h := by
  have l := ag_pk_lt s
  rw [pk_andN (by omega) 5 (by decide)]
  obtain ⟨s1, s2, s3, s4⟩ := s
  unfold ag_pk
  exact congrArg nI (by omega)
/-- the four readers and the packer, any state -/
theorem ax_wLeft {post : Int32 → Prop} {u : SX} {x y w h : Nat} (s : ag_S x y w h) (p : post (nI x)) : wpX_leftOf post u (nI (ag_pk x y w h)) := by
  obtain ⟨cC, cR, rc, hc, cc, aL, aB, aW, aH, fb, ho, ca, sS, sH⟩ := u
  show post _
  rw [ax_left s]; exact p
theorem ax_wBottom {post : Int32 → Prop} {u : SX} {x y w h : Nat} (s : ag_S x y w h) (p : post (nI y)) : wpX_bottomOf post u (nI (ag_pk x y w h)) := by
  obtain ⟨cC, cR, rc, hc, cc, aL, aB, aW, aH, fb, ho, ca, sS, sH⟩ := u
  show post _
  rw [ax_bottom s]; exact p
theorem ax_wWide {post : Int32 → Prop} {u : SX} {x y w h : Nat} (s : ag_S x y w h) (p : post (nI w)) : wpX_wideOf post u (nI (ag_pk x y w h)) := by
  obtain ⟨cC, cR, rc, hc, cc, aL, aB, aW, aH, fb, ho, ca, sS, sH⟩ := u
  show post _
  rw [ax_wide s]; exact p
theorem ax_wHigh {post : Int32 → Prop} {u : SX} {x y w h : Nat} (s : ag_S x y w h) (p : post (nI h)) : wpX_highOf post u (nI (ag_pk x y w h)) := by
  obtain ⟨cC, cR, rc, hc, cc, aL, aB, aW, aH, fb, ho, ca, sS, sH⟩ := u
  show post _
  rw [ax_high s]; exact p
theorem ax_wPack {post : Int32 → Prop} {u : SX} {x y w h : Nat} (s : ag_S x y w h) (p : post (nI (ag_pk x y w h))) : wpX_pack post u (nI x) (nI y) (nI w) (nI h) := by
  obtain ⟨cC, cR, rc, hc, cc, aL, aB, aW, aH, fb, ho, ca, sS, sH⟩ := u
  show post _
  rw [ax_pack s]; exact p
/-- strips -/
theorem ax_ones : ∀ w, w < 17 → ∀ i, i < 32 → bt (((1 : Int32) <<< (nI w &&& 31)) - 1) i = decide (i < w) := by decide +kernel
theorem ax_strip {l w : Nat} (h : l + w ≤ 16) {i : Nat} (hi : i < 32) : bt ((((1 : Int32) <<< (nI w &&& 31)) - 1) <<< (nI l &&& 31)) i = decide (l ≤ i ∧ i < l + w) := by
  rw [b_shl l (by omega) _ hi, ax_ones w (by omega) (i - l) (by omega)]
  by_cases a : l ≤ i
  · by_cases b : i < l + w
    · rw [decide_eq_true a, decide_eq_true (p := i - l < w) (by omega), decide_eq_true (p := l ≤ i ∧ i < l + w) ⟨a, b⟩]
      rfl
    · rw [decide_eq_true a, decide_eq_false (p := i - l < w) (by omega), decide_eq_false (p := l ≤ i ∧ i < l + w) (by omega)]
      rfl
  · rw [decide_eq_false a, decide_eq_false (p := l ≤ i ∧ i < l + w) (by omega)]
    rfl
theorem ax_sub {v m : Int32} {l w : Nat} (hm : ∀ i, i < 32 → bt m i = decide (l ≤ i ∧ i < l + w)) (h : l + w ≤ 16) : v &&& m = m ↔ ∀ i, l ≤ i → i < l + w → bt v i = true := by
  constructor
  · intro e i a b
    have e2 : bt (v &&& m) i = bt m i := by rw [e]
    rw [b_and, hm i (by omega), decide_eq_true ⟨a, b⟩, Bool.and_true] at e2
    exact e2
  · intro f
    apply b_ext
    intro i hi
    rw [b_and, hm i hi]
    by_cases z : l ≤ i ∧ i < l + w
    · rw [f i z.1 z.2, Bool.true_and]
    · rw [decide_eq_false z, Bool.and_false]
theorem ax_b1 : ∀ i, i < 32 → bt 1 i = decide (i = 0) := by decide +kernel
theorem ax_bit {v : Int32} {x : Nat} (hx : x < 32) : ((v >>> (nI x &&& 31)) &&& 1) = 0 ↔ bt v x = false := by
  constructor
  · intro e
    have e2 : bt ((v >>> (nI x &&& 31)) &&& 1) 0 = bt 0 0 := by rw [e]
    rw [b_and, b_sshr x hx v (by omega), if_pos (by omega), b_0, ax_b1 0 (by omega)] at e2
    simpa using e2
  · intro e
    apply b_ext
    intro i hi
    rw [b_and, b_0, ax_b1 i hi]
    by_cases z : i = 0
    · subst z
      rw [b_sshr x hx v (by omega), if_pos (by omega), Nat.add_zero, e]
      rfl
    · rw [decide_eq_false z, Bool.and_false]
theorem ax_byte : ∀ n, n < 128 → (nI n).toInt8.toInt32 = nI n := by decide +kernel
theorem ax_nar {n : Nat} (h : n < 128) : vp_nar .byte (nI n).toInt8.toInt32 = nI n := by
  rw [pk_vb, ax_byte n h]
theorem ax_nar0 : vp_nar .byte 0 = 0 := by rw [vp_nar_byte]; decide
theorem ax_lo {x y : Nat} (hx : x < 256) (hy : y < 256) : nI (256 * y + x) &&& 255 = nI x := by
  rw [pk_andN (by omega) 8 (by decide)]
  exact congrArg nI (by omega)
theorem ax_hi {x y : Nat} (hx : x < 256) (hy : y < 256) : nI (256 * y + x) >>> ((8 : Int32) &&& 31) = nI y := by
  rw [pk_shrN (by omega) _ 8 (by decide)]
  exact congrArg nI (by omega)
theorem ax_m3 : ¬ (-3 : Int32) = nI 0 := by decide
theorem ax_neg3 {a : Nat} (h : a < 2 ^ 31) : ¬ nI a = -3 := by
  intro e
  have := nI_pos h
  rw [e] at this
  exact this (by decide)
theorem ax_neg1 {a : Nat} (h : a < 2 ^ 31) : ¬ nI a = -1 := by
  intro e
  have := nI_pos h
  rw [e] at this
  exact this (by decide)
end
section
/-! X: the methods that read -/
section
variable {cC cR rc hc cc : Int32} {aL aB aW aH fb ho ca sS sH : Nat → Int32}
/-- what the walks take of a list of codes -/
def ax_Q (ho : Nat → Int32) (n : Nat) (x y w h : Nat) : Prop := ∃ k, k < n ∧ ho k = nI (ag_pk x y w h) ∧ ag_S x y w h ∧ x < 16 ∧ y < 16
def ax_Al (ho : Nat → Int32) (n : Nat) : Prop := ∀ k, k < n → ∃ x y w h, ho k = nI (ag_pk x y w h) ∧ ag_S x y w h ∧ x < 16 ∧ y < 16
theorem ax_Q_s {ho : Nat → Int32} {k x y w h : Nat} (e : ho k = nI (ag_pk x y w h)) (s : ag_S x y w h) {x' y' w' h' : Nat} (q : ax_Q ho (k + 1) x' y' w' h') : ax_Q ho k x' y' w' h' ∨ (x' = x ∧ y' = y ∧ w' = w ∧ h' = h) := by
  obtain ⟨j, hj, ej, s', b⟩ := q
  by_cases z : j = k
  · subst z
    exact Or.inr (ag_pk_inj s' s (ej.symm.trans e))
  · exact Or.inl ⟨j, by omega, ej, s', b⟩
theorem ax_Q_u {ho : Nat → Int32} {k x y w h : Nat} (q : ax_Q ho k x y w h) : ax_Q ho (k + 1) x y w h := by
  obtain ⟨j, hj, r⟩ := q
  exact ⟨j, by omega, r⟩
theorem ax_lowest_6 {post : Int32 → Prop} {w h n : Nat} (hw : w ≤ 16) (hh : h ≤ 16) (hn : n ≤ 256) (al : ax_Al ho n) (K : ∀ r, ag_LQ (ax_Q ho n) w h r → post r) : ∀ d k r, k + d = n → ag_LQ (ax_Q ho k) w h r → wX_lowest_6 post (nI w) (nI h) cC cR rc (nI n) cc aL aB aW aH fb ho ca sS sH (d + 1) r (nI k) := by
  intro d
  induction d with
  | zero =>
    intro k r hk L
    have e : k = n := by omega
    subst e
    exact br_t (nI_le (Nat.le_refl _) (by omega)) (K r L)
  | succ d ih =>
    intro k r hk L
    obtain ⟨x, y, w', h', e, s, bx, by'⟩ := al k (by omega)
    have q0 : ax_Q ho (k + 1) x y w' h' := ⟨k, by omega, e, s, bx, by'⟩
    obtain ⟨s1, s2, s3, s4⟩ := s
    have s : ag_S x y w' h' := ⟨s1, s2, s3, s4⟩
    have nof : ¬ (w ≤ w' ∧ h ≤ h') → ag_LQ (ax_Q ho (k + 1)) w h r := by
      intro z
      rcases L with ⟨e1, f⟩ | ⟨x2, y2, w2, h2, q2, z1, z2, z3, f⟩
      · refine Or.inl ⟨e1, fun x3 y3 w3 h3 q3 => ?_⟩
        rcases ax_Q_s e s q3 with q4 | ⟨a1, a2, a3, a4⟩
        · exact f x3 y3 w3 h3 q4
        · subst a1 a2 a3 a4; exact z
      · refine Or.inr ⟨x2, y2, w2, h2, ax_Q_u q2, z1, z2, z3, fun x3 y3 w3 h3 q3 b1 b2 => ?_⟩
        rcases ax_Q_s e s q3 with q4 | ⟨a1, a2, a3, a4⟩
        · exact f x3 y3 w3 h3 q4 b1 b2
        · subst a1 a2 a3 a4; exact absurd ⟨b1, b2⟩ z
    refine br_f (nI_ge (by omega) (by omega)) ⟨vp_in_nI (by omega) (by omega), nm_r (e' := nI (ag_pk x y w' h')) (by rw [nI_clamp (by omega)]; exact e) ?_⟩
    refine ax_wWide s (pk_lt w' w (fun z => nm_r (nI_1 k) (ih (k + 1) r (by omega) (nof (by omega)))) (fun z => ?_))
    refine ax_wHigh s (pk_le h h' (fun z2 => ?_) (fun z2 => nm_r (nI_1 k) (ih (k + 1) r (by omega) (nof (by omega)))))
    refine ax_wBottom s (ax_wLeft s (nm_r (e' := nI (256 * y + x)) (by rw [← nI_add, ← pk_mul]; rfl) ?_))
    rcases L with ⟨e1, f⟩ | ⟨x2, y2, w2, h2, q2, z3, z4, z5, f⟩
    · subst e1
      refine br_t (by decide) (nm_r (nI_1 k) (ih (k + 1) _ (by omega) (Or.inr ⟨x, y, w', h', q0, z, z2, rfl, fun x3 y3 w3 h3 q3 b1 b2 => ?_⟩)))
      rcases ax_Q_s e s q3 with q4 | ⟨a1, a2, a3, a4⟩
      · exact absurd ⟨b1, b2⟩ (f x3 y3 w3 h3 q4)
      · subst a1 a2 a3 a4; exact Nat.le_refl _
    · subst z5
      have b2 : x2 < 16 ∧ y2 < 16 := by
        obtain ⟨_, _, _, _, a, b⟩ := q2
        exact ⟨a, b⟩
      refine br_f (nI_pos (by omega)) (pk_le (256 * y2 + x2) (256 * y + x) (fun z6 => nm_r (nI_1 k) (ih (k + 1) _ (by omega) (Or.inr ⟨x2, y2, w2, h2, ax_Q_u q2, z3, z4, rfl, fun x3 y3 w3 h3 q3 c1 c2 => ?_⟩))) (fun z6 => nm_r (nI_1 k) (ih (k + 1) _ (by omega) (Or.inr ⟨x, y, w', h', q0, z, z2, rfl, fun x3 y3 w3 h3 q3 c1 c2 => ?_⟩))))
      · rcases ax_Q_s e s q3 with q4 | ⟨a1, a2, a3, a4⟩
        · exact f x3 y3 w3 h3 q4 c1 c2
        · subst a1 a2 a3 a4; exact z6
      · rcases ax_Q_s e s q3 with q4 | ⟨a1, a2, a3, a4⟩
        · have := f x3 y3 w3 h3 q4 c1 c2
          omega
        · subst a1 a2 a3 a4; exact Nat.le_refl _
/-- lists of all holes -/
theorem ax_HS_Al {C R : Nat} {F : Nat → Nat → Prop} (hb : ag_Bd C R F) (hC : C ≤ 16) (hR : R ≤ 16) {P : Nat → Nat → Nat → Nat → Prop} {n : Nat} (H : ag_HS F P n ho) : ax_Al ho n := by
  intro k hk
  obtain ⟨x, y, w, h, e, m, _⟩ := H.1 k hk
  have b := ag_bd hb m.1
  have fw := m.1.1
  have fh := m.1.2.1
  exact ⟨x, y, w, h, e, ag_MS hb hC hR m.1, by omega, by omega⟩
theorem ax_HS_Q {C R : Nat} {F : Nat → Nat → Prop} (hb : ag_Bd C R F) (hC : C ≤ 16) (hR : R ≤ 16) {n : Nat} (H : ag_HS F (fun _ _ _ _ => True) n ho) : ax_Q ho n = ag_MX F := by
  funext x y w h
  apply propext
  constructor
  · intro ⟨k, hk, e, s, _⟩
    obtain ⟨x', y', w', h', e', m, _⟩ := H.1 k hk
    obtain ⟨a1, a2, a3, a4⟩ := ag_pk_inj s (ag_MS hb hC hR m.1) (e.symm.trans e')
    subst a1 a2 a3 a4
    exact m
  · intro m
    obtain ⟨k, hk, e⟩ := H.2.1 x y w h m trivial
    have b := ag_bd hb m.1
    have fw := m.1.1
    have fh := m.1.2.1
    exact ⟨k, hk, e, ag_MS hb hC hR m.1, by omega, by omega⟩
theorem ax_lowest {C R : Nat} {F : Nat → Nat → Prop} (hb : ag_Bd C R F) (hC : C ≤ 16) (hR : R ≤ 16) {n : Nat} (H : ag_HS F (fun _ _ _ _ => True) n ho) {post : Int32 → Prop} {w h : Nat} (w0 : 0 < w) (hw : w ≤ 16) (h0 : 0 < h) (hh : h ≤ 16) (K : ∀ r, ag_LW F w h r → post r) : wpX_lowest post (cC, cR, rc, nI n, cc, aL, aB, aW, aH, fb, ho, ca, sS, sH) (nI w) (nI h) := by
  have hn := ag_HS_le hb hC hR H
  refine ⟨n + 1, ax_lowest_6 hw hh hn (ax_HS_Al hb hC hR H) (fun r L => K r ?_) n 0 (-3) (by omega) (Or.inl ⟨rfl, fun x y w' h' q => ?_⟩)⟩
  · rw [ax_HS_Q hb hC hR H] at L
    exact ag_LQ_LW hb hC w0 h0 L
  · obtain ⟨k, hk, _⟩ := q
    omega
/-- sizes -/
theorem ax_size {post : Int32 → Prop} {u : SX} {w h : Nat} (w0 : 0 < w) (hw : w ≤ 16) (h0 : 0 < h) (hh : h ≤ 16) (K : post 1) : wpX_isSize post u (nI w) (nI h) := by
  obtain ⟨cC, cR, rc, hc, cc, aL, aB, aW, aH, fb, ho, ca, sS, sH⟩ := u
  exact br_f (nI_nlt (b := 1) (by omega) (by omega)) (br_f (nI_nlt (a := 16) (by omega) (by omega)) (br_f (nI_nlt (b := 1) (by omega) (by omega)) (br_f (nI_nlt (a := 16) (by omega) (by omega)) K)))
theorem ay_size {post : Int32 → Prop} {v : SY} {w h : Nat} (w0 : 0 < w) (hw : w ≤ 16) (h0 : 0 < h) (hh : h ≤ 16) (K : post 1) : wpY_isSize post v (nI w) (nI h) := by
  obtain ⟨yC, yR, ce, yL, yB, yW, yH, th⟩ := v
  exact br_f (nI_nlt (b := 1) (by omega) (by omega)) (br_f (nI_nlt (a := 16) (by omega) (by omega)) (br_f (nI_nlt (b := 1) (by omega) (by omega)) (br_f (nI_nlt (a := 16) (by omega) (by omega)) K)))
theorem ax_sizes (p0 p1 : Int32) : (∃ w h, p0 = nI w ∧ p1 = nI h ∧ 0 < w ∧ w ≤ 16 ∧ 0 < h ∧ h ≤ 16) ∨ ((∀ (post : Int32 → Prop) (u : SX), post 0 → wpX_isSize post u p0 p1) ∧ (∀ (post : Int32 → Prop) (v : SY), post 0 → wpY_isSize post v p0 p1)) := by
  have one : ∀ p : Int32, p < 1 ∨ 16 < p ∨ ∃ w, p = nI w ∧ 0 < w ∧ w ≤ 16 := by
    intro p
    by_cases a : p < 1
    · exact Or.inl a
    · by_cases b : 16 < p
      · exact Or.inr (Or.inl b)
      · refine Or.inr (Or.inr ?_)
        have e1 : (1 : Int32).toInt = 1 := by decide
        have e16 : (16 : Int32).toInt = 16 := by decide
        have e0 : (0 : Int32).toInt = 0 := by decide
        rw [Int32.lt_iff_toInt_lt] at a b
        obtain ⟨j, hj, e⟩ := nI_of (x := p) (by rw [Int32.lt_iff_toInt_lt]; omega)
        rw [e, nI_toInt hj] at a b
        exact ⟨j, e, by omega, by omega⟩
  have bad : (p0 < 1 ∨ 16 < p0 ∨ p1 < 1 ∨ 16 < p1) → ((∀ (post : Int32 → Prop) (u : SX), post 0 → wpX_isSize post u p0 p1) ∧ (∀ (post : Int32 → Prop) (v : SY), post 0 → wpY_isSize post v p0 p1)) := by
    intro z
    constructor
    · intro post u K
      obtain ⟨cC, cR, rc, hc, cc, aL, aB, aW, aH, fb, ho, ca, sS, sH⟩ := u
      exact br_c (fun _ => K) (fun z1 => br_c (fun _ => K) (fun z2 => br_c (fun _ => K) (fun z3 => br_c (fun _ => K) (fun z4 => by
        rcases z with z | z | z | z
        · exact absurd z z1
        · exact absurd z z2
        · exact absurd z z3
        · exact absurd z z4))))
    · intro post v K
      obtain ⟨yC, yR, ce, yL, yB, yW, yH, th⟩ := v
      exact br_c (fun _ => K) (fun z1 => br_c (fun _ => K) (fun z2 => br_c (fun _ => K) (fun z3 => br_c (fun _ => K) (fun z4 => by
        rcases z with z | z | z | z
        · exact absurd z z1
        · exact absurd z z2
        · exact absurd z z3
        · exact absurd z z4))))
  rcases one p0 with a | a | ⟨w, ew, w0, hw⟩
  · exact Or.inr (bad (Or.inl a))
  · exact Or.inr (bad (Or.inr (Or.inl a)))
  · rcases one p1 with b | b | ⟨h, eh, h0, hh⟩
    · exact Or.inr (bad (Or.inr (Or.inr (Or.inl b))))
    · exact Or.inr (bad (Or.inr (Or.inr (Or.inr b))))
    · exact Or.inl ⟨w, h, ew, eh, w0, hw, h0, hh⟩
/-! largestHole -/
def ag_LG (Q : Nat → Nat → Nat → Nat → Prop) (m : Nat) : Prop := (∀ x y w h, Q x y w h → w * h ≤ m) ∧ (m = 0 ∨ ∃ x y w h, Q x y w h ∧ w * h = m)
theorem ag_LG_u {Q : Nat → Nat → Nat → Nat → Prop} {m m' : Nat} (a : ag_LG Q m) (b : ag_LG Q m') : m = m' := by
  have h1 : m ≤ m' := by
    rcases a.2 with z | ⟨x, y, w, h, q, e⟩
    · omega
    · have := b.1 x y w h q
      omega
  have h2 : m' ≤ m := by
    rcases b.2 with z | ⟨x, y, w, h, q, e⟩
    · omega
    · have := a.1 x y w h q
      omega
  omega
theorem ax_largest_4 {post : Int32 → Prop} {n : Nat} (hn : n ≤ 256) (al : ax_Al ho n) (K : ∀ m, ag_LG (ax_Q ho n) m → post (nI m)) : ∀ d k m, k + d = n → m < 1024 → ag_LG (ax_Q ho k) m → wX_largestHole_4 post cC cR rc (nI n) cc aL aB aW aH fb ho ca sS sH (d + 1) (nI m) (nI k) := by
  intro d
  induction d with
  | zero =>
    intro k m hk hm L
    have e : k = n := by omega
    subst e
    exact br_t (nI_le (Nat.le_refl _) (by omega)) (K m L)
  | succ d ih =>
    intro k m hk hm L
    obtain ⟨x, y, w, h, e, s, bx, by'⟩ := al k (by omega)
    have q0 : ax_Q ho (k + 1) x y w h := ⟨k, by omega, e, s, bx, by'⟩
    have lt : w * h < 1024 := Nat.mul_lt_mul'' s.2.2.1 s.2.2.2
    have ek : ho (nI k).toNatClampNeg = nI (ag_pk x y w h) := by rw [nI_clamp (by omega)]; exact e
    refine br_f (nI_ge (by omega) (by omega)) ⟨vp_in_nI (by omega) (by omega), ?_⟩
    rw [ek]
    refine ax_wWide s ⟨vp_in_nI (by omega) (by omega), ax_wHigh s (nm_r (pk_mul w h) (pk_le (w * h) m (fun z => nm_r (nI_1 k) (ih (k + 1) m (by omega) hm ?_)) (fun z => nm_r (nI_1 k) (ih (k + 1) (w * h) (by omega) lt ?_))))⟩
    · refine ⟨fun x2 y2 w2 h2 q2 => ?_, ?_⟩
      · rcases ax_Q_s e s q2 with q3 | ⟨a1, a2, a3, a4⟩
        · exact L.1 x2 y2 w2 h2 q3
        · subst a1 a2 a3 a4; exact z
      · rcases L.2 with z2 | ⟨x2, y2, w2, h2, q2, e2⟩
        · exact Or.inl z2
        · exact Or.inr ⟨x2, y2, w2, h2, ax_Q_u q2, e2⟩
    · refine ⟨fun x2 y2 w2 h2 q2 => ?_, Or.inr ⟨x, y, w, h, q0, rfl⟩⟩
      rcases ax_Q_s e s q2 with q3 | ⟨a1, a2, a3, a4⟩
      · have := L.1 x2 y2 w2 h2 q3
        omega
      · subst a1 a2 a3 a4; exact Nat.le_refl _
theorem ax_largest {C R : Nat} {F : Nat → Nat → Prop} (hb : ag_Bd C R F) (hC : C ≤ 16) (hR : R ≤ 16) {n : Nat} (H : ag_HS F (fun _ _ _ _ => True) n ho) {post : Int32 → Prop} (K : ∀ m, ag_LG (ag_MX F) m → post (nI m)) : wpX_largestHole post (cC, cR, rc, nI n, cc, aL, aB, aW, aH, fb, ho, ca, sS, sH) := by
  have hn := ag_HS_le hb hC hR H
  refine ⟨n + 1, ax_largest_4 hn (ax_HS_Al hb hC hR H) (fun m L => K m ?_) n 0 0 (by omega) (by omega) ⟨fun x y w h q => ?_, Or.inl rfl⟩⟩
  · rw [ax_HS_Q hb hC hR H] at L
    exact L
  · obtain ⟨k, hk, _⟩ := q
    omega
/-! fitting -/
def ag_FT (Q : Nat → Nat → Nat → Nat → Prop) (w t : Nat) : Prop := (∀ x y w' h, Q x y w' h → w ≤ w' → h ≤ t) ∧ (t = 0 ∨ ∃ x y w', Q x y w' t ∧ w ≤ w')
theorem ag_FT_MT {C R : Nat} {F : Nat → Nat → Prop} (hb : ag_Bd C R F) {w t : Nat} (hw : 0 < w) (a : ag_FT (ag_MX F) w t) : ag_MT F w t := by
  refine ⟨fun x y h f => ?_, ?_⟩
  · obtain ⟨x', y', w', h', m, i1, i2, i3, i4⟩ := ag_ext hb f
    have := a.1 x' y' w' h' m (by omega)
    omega
  · rcases a.2 with z | ⟨x, y, w', m, z⟩
    · exact Or.inl z
    · exact Or.inr ⟨x, y, ag_sub m.1 ⟨Nat.le_refl _, Nat.le_refl _, by omega, by omega⟩ hw m.1.2.1⟩
theorem ax_fitting_15 {post : Int32 → Prop} {J4 : Int32 → Int32 → Prop} {x1 : Int32} {w n : Nat} (hw : w ≤ 16) (hn : n ≤ 256) (al : ax_Al ho n) (K : ∀ t, ag_FT (ax_Q ho n) w t → J4 (x1 + nI t) (nI (w + 1))) : ∀ d k t, k + d = n → t < 32 → ag_FT (ax_Q ho k) w t → wX_fitting_15 post J4 x1 (nI w) cC cR rc (nI n) cc aL aB aW aH fb ho ca sS sH (d + 1) (nI t) (nI k) := by
  intro d
  induction d with
  | zero =>
    intro k t hk ht L
    have e : k = n := by omega
    subst e
    exact br_t (nI_le (Nat.le_refl _) (by omega)) (nm_e (nm_r (nI_1 w) (K t L)))
  | succ d ih =>
    intro k t hk ht L
    obtain ⟨x, y, w', h, e, s, bx, by'⟩ := al k (by omega)
    have q0 : ax_Q ho (k + 1) x y w' h := ⟨k, by omega, e, s, bx, by'⟩
    obtain ⟨s1, s2, s3, s4⟩ := s
    have s : ag_S x y w' h := ⟨s1, s2, s3, s4⟩
    have ek : ho (nI k).toNatClampNeg = nI (ag_pk x y w' h) := by rw [nI_clamp (by omega)]; exact e
    have keep : ¬ (w ≤ w' ∧ t < h) → ag_FT (ax_Q ho (k + 1)) w t := by
      intro z
      refine ⟨fun x2 y2 w2 h2 q2 b => ?_, ?_⟩
      · rcases ax_Q_s e s q2 with q3 | ⟨a1, a2, a3, a4⟩
        · exact L.1 x2 y2 w2 h2 q3 b
        · omega
      · rcases L.2 with z2 | ⟨x2, y2, w2, q2, b⟩
        · exact Or.inl z2
        · exact Or.inr ⟨x2, y2, w2, ax_Q_u q2, b⟩
    refine br_f (nI_ge (by omega) (by omega)) ⟨vp_in_nI (by omega) (by omega), ?_⟩
    rw [ek]
    refine ax_wWide s (pk_lt w' w (fun z => nm_r (nI_1 k) (ih (k + 1) t (by omega) ht (keep (by omega)))) (fun z => ⟨vp_in_nI (by omega) (by omega), ?_⟩))
    refine ax_wHigh s (pk_le h t (fun z2 => nm_r (nI_1 k) (ih (k + 1) t (by omega) ht (keep (by omega)))) (fun z2 => ⟨vp_in_nI (by omega) (by omega), ?_⟩))
    refine ax_wHigh s (nm_r (nI_1 k) (ih (k + 1) h (by omega) s4 ⟨fun x2 y2 w2 h2 q2 b => ?_, Or.inr ⟨x, y, w', q0, z⟩⟩))
    rcases ax_Q_s e s q2 with q3 | ⟨a1, a2, a3, a4⟩
    · have := L.1 x2 y2 w2 h2 q3 b
      omega
    · omega
theorem ax_fitting_4 {C R : Nat} {F : Nat → Nat → Prop} (hb : ag_Bd C R F) (hC : C ≤ 16) (hR : R ≤ 16) {n : Nat} (H : ag_HS F (fun _ _ _ _ => True) n ho) {tf : Nat → Nat} (ht : ∀ k, ag_MT F (k + 1) (tf k)) {post : Int32 → Prop} (K : post (nI (ag_sum tf 16))) : ∀ d k, k + d = 16 → wX_fitting_4 post cC cR rc (nI n) cc aL aB aW aH fb ho ca sS sH (d + 1) (nI (ag_sum tf k)) (nI (k + 1)) := by
  have hn := ag_HS_le hb hC hR H
  intro d
  induction d with
  | zero =>
    intro k hk
    have e : k = 16 := by omega
    subst e
    exact br_t (nI_lt (a := 16) (by omega) (by omega)) K
  | succ d ih =>
    intro k hk
    refine br_f (nI_nlt (a := 16) (by omega) (by omega)) ⟨n + 1, ax_fitting_15 (by omega) hn (ax_HS_Al hb hC hR H) (fun t L => ?_) n 0 0 (by omega) (by omega) ⟨fun x y w h q => ?_, Or.inl rfl⟩⟩
    · rw [ax_HS_Q hb hC hR H] at L
      have e := ag_MT_u (ag_FT_MT hb (by omega) L) (ht k)
      subst e
      rw [nI_add]
      exact ih (k + 1) (by omega)
    · obtain ⟨j, hj, _⟩ := q
      omega
theorem ax_fitting {C R : Nat} {F : Nat → Nat → Prop} (hb : ag_Bd C R F) (hC : C ≤ 16) (hR : R ≤ 16) {n : Nat} (H : ag_HS F (fun _ _ _ _ => True) n ho) {tf : Nat → Nat} (ht : ∀ k, ag_MT F (k + 1) (tf k)) {post : Int32 → Prop} (K : post (nI (ag_sum tf 16))) : wpX_fitting post (cC, cR, rc, nI n, cc, aL, aB, aW, aH, fb, ho, ca, sS, sH) :=
  ⟨17, ax_fitting_4 hb hC hR H ht K 16 0 (by omega)⟩
end
end
section
/-! X: flip, the candidates, splitting -/
section
variable {cC cR rc hc cc : Int32} {aL aB aW aH fb ho ca sS sH : Nat → Int32}
theorem ax_flip_25 {post : SX → Prop} {id l b w h : Nat} {m : Int32} (hid : id < 20) (eb : aB id = nI b) (eh : aH id = nI h) (hb : b + h ≤ 16) {fb0 : Nat → Int32} (K : ∀ fb', (∀ y, fb' y = if b ≤ y ∧ y < b + h then fb0 y ^^^ m else fb0 y) → post (cC, cR, rc, hc, cc, aL, aB, aW, aH, fb', ho, ca, sS, sH)) : ∀ d k, k + d = b + h → b ≤ k → ∀ fb1 : Nat → Int32, (∀ y, fb1 y = if b ≤ y ∧ y < k then fb0 y ^^^ m else fb0 y) → wX_flip_25 post (nI id) m cC cR rc hc cc (d + 1) (nI k) aL aB aW aH fb1 ho ca sS sH := by
  have ei : (nI id).toNatClampNeg = id := nI_clamp (by omega)
  have es : aB (nI id).toNatClampNeg + aH (nI id).toNatClampNeg = nI (b + h) := by rw [ei, eb, eh, nI_add]
  intro d
  induction d with
  | zero =>
    intro k hk hbk fb1 hf
    have e : k = b + h := by omega
    subst e
    refine ⟨vp_in_nI hid (by omega), vp_in_nI hid (by omega), br_t ?_ (K fb1 hf)⟩
    rw [es]
    exact nI_le (Nat.le_refl _) (by omega)
  | succ d ih =>
    intro k hk hbk fb1 hf
    refine ⟨vp_in_nI hid (by omega), vp_in_nI hid (by omega), br_f ?_ ⟨vp_in_nI (by omega) (by omega), vp_in_nI (by omega) (by omega), nm_e (nm_r (nI_1 k) (ih (k + 1) (by omega) (by omega) _ (fun y => ?_)))⟩⟩
    · rw [es]
      exact nI_ge (by omega) (by omega)
    · rw [nI_clamp (by omega)]
      by_cases e : y = k
      · subst e
        rw [pk_us, hf y, if_neg (c := b ≤ y ∧ y < y) (by omega), if_pos (by omega)]
      · rw [pk_un e, hf y]
        by_cases z : b ≤ y ∧ y < k
        · rw [if_pos z, if_pos (by omega)]
        · rw [if_neg z, if_neg (by omega)]
theorem ax_flip {post : SX → Prop} {id l b w h : Nat} (hid : id < 20) (el : aL id = nI l) (eb : aB id = nI b) (ew : aW id = nI w) (eh : aH id = nI h) (hl : l + w ≤ 16) (hb : b + h ≤ 16) (K : ∀ fb' m, (∀ i, i < 32 → bt m i = decide (l ≤ i ∧ i < l + w)) → (∀ y, fb' y = if b ≤ y ∧ y < b + h then fb y ^^^ m else fb y) → post (cC, cR, rc, hc, cc, aL, aB, aW, aH, fb', ho, ca, sS, sH)) : wpX_flip post (cC, cR, rc, hc, cc, aL, aB, aW, aH, fb, ho, ca, sS, sH) (nI id) := by
  have ei : (nI id).toNatClampNeg = id := nI_clamp (by omega)
  have em : (((1 : Int32) <<< ((aW (nI id).toNatClampNeg) &&& 31)) - 1) <<< ((aL (nI id).toNatClampNeg) &&& 31) = (((1 : Int32) <<< ((nI w) &&& 31)) - 1) <<< ((nI l) &&& 31) := by rw [ei, ew, el]
  refine ⟨vp_in_nI hid (by omega), vp_in_nI hid (by omega), nm_r em ⟨vp_in_nI hid (by omega), nm_r (e' := nI b) (by rw [ei, eb]) ⟨h + 1, ax_flip_25 (l := l) (w := w) hid eb eh hb (fun fb' hf => K fb' _ (fun i hi => ax_strip hl hi) hf) h b rfl (Nat.le_refl _) fb (fun y => ?_)⟩⟩⟩
  rw [if_neg (by omega)]
theorem ax_meets {post : Int32 → Prop} {u : SX} {x y w h x' y' w' h' : Nat} (s : ag_S x y w h) (s' : ag_S x' y' w' h') (K1 : x < x' + w' → x' < x + w → y < y' + h' → y' < y + h → post 1) (K0 : (x' + w' ≤ x ∨ x + w ≤ x' ∨ y' + h' ≤ y ∨ y + h ≤ y') → post 0) : wpX_meets post u (nI (ag_pk x y w h)) (nI (ag_pk x' y' w' h')) := by
  obtain ⟨cC, cR, rc, hc, cc, aL, aB, aW, aH, fb, ho, ca, sS, sH⟩ := u
  obtain ⟨s1, s2, s3, s4⟩ := s
  have s : ag_S x y w h := ⟨s1, s2, s3, s4⟩
  obtain ⟨t1, t2, t3, t4⟩ := s'
  have s' : ag_S x' y' w' h' := ⟨t1, t2, t3, t4⟩
  unfold wpX_meets
  refine ax_wLeft s (ax_wLeft s' (ax_wWide s' (pk_le (x' + w') x (fun z => K0 (by omega)) (fun z1 => ?_) (nI_add _ _))))
  refine ax_wLeft s' (ax_wLeft s (ax_wWide s (pk_lt x' (x + w) (fun z2 => ?_) (fun z => K0 (by omega)) rfl (nI_add _ _))))
  refine ax_wBottom s (ax_wBottom s' (ax_wHigh s' (pk_le (y' + h') y (fun z => K0 (by omega)) (fun z3 => ?_) (nI_add _ _))))
  exact ax_wBottom s' (ax_wBottom s (ax_wHigh s (pk_le (y + h) y' (fun z => K0 (by omega)) (fun z4 => K1 (by omega) (by omega) (by omega) (by omega)) (nI_add _ _))))
theorem ax_inside {post : Int32 → Prop} {u : SX} {x y w h x' y' w' h' : Nat} (s : ag_S x y w h) (s' : ag_S x' y' w' h') (K1 : ag_In x y w h x' y' w' h' → post 1) (K0 : ¬ ag_In x y w h x' y' w' h' → post 0) : wpX_inside post u (nI (ag_pk x y w h)) (nI (ag_pk x' y' w' h')) := by
  obtain ⟨cC, cR, rc, hc, cc, aL, aB, aW, aH, fb, ho, ca, sS, sH⟩ := u
  obtain ⟨s1, s2, s3, s4⟩ := s
  have s : ag_S x y w h := ⟨s1, s2, s3, s4⟩
  obtain ⟨t1, t2, t3, t4⟩ := s'
  have s' : ag_S x' y' w' h' := ⟨t1, t2, t3, t4⟩
  unfold wpX_inside
  refine ax_wLeft s (ax_wLeft s' (pk_lt x x' (fun z => K0 (fun i => ?_)) (fun z1 => ?_)))
  · have := i.1
    omega
  refine ax_wBottom s (ax_wBottom s' (pk_le y' y (fun z2 => ?_) (fun z => K0 (fun i => ?_))))
  rotate_left
  · have := i.2.1
    omega
  refine ax_wLeft s (ax_wWide s (ax_wLeft s' (ax_wWide s' (pk_le (x + w) (x' + w') (fun z3 => ?_) (fun z => K0 (fun i => ?_)) (nI_add _ _) (nI_add _ _)))))
  rotate_left
  · have := i.2.2.1
    omega
  refine ax_wBottom s (ax_wHigh s (ax_wBottom s' (ax_wHigh s' (pk_lt (y' + h') (y + h) (fun z => K0 (fun i => ?_)) (fun z4 => K1 ⟨z1, z2, z3, z4⟩) (nI_add _ _) (nI_add _ _)))))
  have := i.2.2.2
  omega
theorem ax_keepC {post : SX → Prop} {n : Nat} {c : Int32} (hn : n < 1024) (K : post (cC, cR, rc, hc, nI (n + 1), aL, aB, aW, aH, fb, ho, upd ca n c, sS, sH)) : wpX_keepCandidate post (cC, cR, rc, hc, nI n, aL, aB, aW, aH, fb, ho, ca, sS, sH) c := by
  refine ⟨vp_in_nI hn (by omega), nm_r (e' := upd ca n c) (by rw [nI_clamp (by omega)]) (nm_r (nI_1 n) K)⟩
theorem ax_offer {post : SX → Prop} {n x y w h : Nat} (hn : n < 1024) (s : ag_S x y w h) (K : post (cC, cR, rc, hc, nI (n + 1), aL, aB, aW, aH, fb, ho, upd ca n (nI (ag_pk x y w h)), sS, sH)) : wpX_offer post (cC, cR, rc, hc, nI n, aL, aB, aW, aH, fb, ho, ca, sS, sH) (nI x) (nI y) (nI w) (nI h) := by
  unfold wpX_offer
  refine ax_wPack s ?_
  exact ax_keepC hn K
/-- what a split adds -/
def ax_E (F : Nat → Nat → Prop) (a : Nat → Int32) (n : Nat) (a' : Nat → Int32) (n' : Nat) : Prop := n ≤ n' ∧ (∀ k, k < n → a' k = a k) ∧ (ag_CF F a n → ag_CF F a' n')
theorem ax_E_r {F : Nat → Nat → Prop} {a : Nat → Int32} {n : Nat} : ax_E F a n a n := ⟨Nat.le_refl _, fun _ _ => rfl, id⟩
theorem ax_E_t {F : Nat → Nat → Prop} {a a' a2 : Nat → Int32} {n n' n2 : Nat} (p : ax_E F a n a' n') (q : ax_E F a' n' a2 n2) : ax_E F a n a2 n2 :=
  ⟨Nat.le_trans p.1 q.1, fun k hk => (q.2.1 k (Nat.lt_of_lt_of_le hk p.1)).trans (p.2.1 k hk), fun c => q.2.2 (p.2.2 c)⟩
theorem ax_E_s {F : Nat → Nat → Prop} {a : Nat → Int32} {n x y w h : Nat} (f : ag_FR F x y w h) : ax_E F a n (upd a n (nI (ag_pk x y w h))) (n + 1) :=
  ⟨Nat.le_succ _, fun k hk => pk_un (by omega), fun c => ag_CF_add c f⟩
theorem ax_E_at {F : Nat → Nat → Prop} {a a' : Nat → Int32} {n n' x y w h : Nat} (p : ax_E F a n a' n') (q : ag_At a n x y w h) : ag_At a' n' x y w h := by
  obtain ⟨k, hk, e⟩ := q
  exact ⟨k, Nat.lt_of_lt_of_le hk p.1, (p.2.1 k hk).trans e⟩
theorem ax_at_n {a : Nat → Int32} {n x y w h : Nat} : ag_At (upd a n (nI (ag_pk x y w h))) (n + 1) x y w h := ⟨n, by omega, pk_us⟩
/-- a signed difference against zero -/
theorem ax_dif {A B : Prop} (a b : Nat) (ha : a < 1024) (hb : b < 1024) (f : a ≤ b → A) (g : b < a → nI a - nI b = nI (a - b) → B) : ((nI a - nI b) ≤ 0 → A) ∧ (¬ (nI a - nI b) ≤ 0 → B) := by
  have e0 : (0 : Int32).toInt = 0 := by decide
  constructor
  · intro z
    rw [Int32.le_iff_toInt_le, pk_sub_toInt (by omega) (by omega), e0] at z
    exact f (by omega)
  · intro z
    rw [Int32.le_iff_toInt_le, pk_sub_toInt (by omega) (by omega), e0] at z
    exact g (by omega) (pk_sub (by omega))
theorem ax_dif3 (a b c : Nat) : nI a - nI b - nI c = nI a - nI (b + c) := by
  rw [← nI_add]
  grind
theorem ax_so137 {post : SX → Prop} {F : Nat → Nat → Prop} {x y w h g n : Nat} (hx : x + w ≤ 16) (hy : y + h ≤ 16) (hg : y ≤ g) (hg2 : g ≤ 16) (hn : n < 1024) (f4 : g < y + h → ag_FR F x g w (y + h - g)) (K : ∀ n' a', n' ≤ n + 1 → ax_E F ca n a' n' → (g < y + h → ag_At a' n' x g w (y + h - g)) → post (cC, cR, rc, hc, nI n', aL, aB, aW, aH, fb, ho, a', sS, sH)) : wX_splitOne_137 post (nI x) (nI y) (nI w) (nI h) (nI (y + h) - nI g) cC cR rc hc (nI n) aL aB aW aH fb ho ca sS sH := by
  refine ax_dif (y + h) g (by omega) (by omega) (fun z => K n ca (by omega) ax_E_r (fun z2 => absurd z2 (by omega))) (fun z e1 => ?_)
  rw [e1, nI_add, pk_sub (by omega), show y + h - (y + h - g) = g from by omega]
  exact ax_offer hn ⟨by omega, by omega, by omega, by omega⟩ (K (n + 1) _ (Nat.le_refl _) (ax_E_s (f4 z)) (fun _ => ax_at_n))
theorem ax_so121 {post : SX → Prop} {F : Nat → Nat → Prop} {x y w h g t n : Nat} (hx : x + w ≤ 16) (hy : y + h ≤ 16) (hg : y ≤ g) (hg2 : g ≤ 16) (ht : t ≤ 16) (hn : n + 1 < 1024) (f3 : y < t → ag_FR F x y w (t - y)) (f4 : g < y + h → ag_FR F x g w (y + h - g)) (K : ∀ n' a', n' ≤ n + 2 → ax_E F ca n a' n' → (y < t → ag_At a' n' x y w (t - y)) → (g < y + h → ag_At a' n' x g w (y + h - g)) → post (cC, cR, rc, hc, nI n', aL, aB, aW, aH, fb, ho, a', sS, sH)) : wX_splitOne_121 post (nI x) (nI y) (nI w) (nI h) (nI t - nI y) (nI (y + h) - nI g) cC cR rc hc (nI n) aL aB aW aH fb ho ca sS sH := by
  refine ax_dif t y (by omega) (by omega) (fun z => ?_) (fun z e1 => ?_)
  · exact ax_so137 hx hy hg hg2 (by omega) f4 (fun n' a' h1 h2 h3 => K n' a' (by omega) h2 (fun z2 => absurd z2 (by omega)) h3)
  · rw [e1]
    refine ax_offer (by omega) ⟨by omega, by omega, by omega, by omega⟩ ?_
    exact ax_so137 hx hy hg hg2 (by omega) f4 (fun n' a' h1 h2 h3 => K n' a' (by omega) (ax_E_t (ax_E_s (f3 z)) h2) (fun _ => ax_E_at h2 ax_at_n) h3)
theorem ax_so99 {post : SX → Prop} {F : Nat → Nat → Prop} {x y w h g t q n : Nat} (hx : x + w ≤ 16) (hy : y + h ≤ 16) (hg : y ≤ g) (hg2 : g ≤ 16) (ht : t ≤ 16) (hq : x ≤ q) (hq2 : q ≤ 16) (hn : n + 2 < 1024) (f2 : q < x + w → ag_FR F q y (x + w - q) h) (f3 : y < t → ag_FR F x y w (t - y)) (f4 : g < y + h → ag_FR F x g w (y + h - g)) (K : ∀ n' a', n' ≤ n + 3 → ax_E F ca n a' n' → (q < x + w → ag_At a' n' q y (x + w - q) h) → (y < t → ag_At a' n' x y w (t - y)) → (g < y + h → ag_At a' n' x g w (y + h - g)) → post (cC, cR, rc, hc, nI n', aL, aB, aW, aH, fb, ho, a', sS, sH)) : wX_splitOne_99 post (nI x) (nI y) (nI w) (nI h) (nI (x + w) - nI q) (nI t - nI y) (nI (y + h) - nI g) cC cR rc hc (nI n) aL aB aW aH fb ho ca sS sH := by
  refine ax_dif (x + w) q (by omega) (by omega) (fun z => ?_) (fun z e1 => ?_)
  · exact ax_so121 hx hy hg hg2 ht (by omega) f3 f4 (fun n' a' h1 h2 h3 h4 => K n' a' (by omega) h2 (fun z2 => absurd z2 (by omega)) h3 h4)
  · rw [e1, nI_add x w, pk_sub (a := x + w) (b := x + w - q) (by omega), show x + w - (x + w - q) = q from by omega]
    refine ax_offer (by omega) ⟨by omega, by omega, by omega, by omega⟩ ?_
    exact ax_so121 hx hy hg hg2 ht (by omega) f3 f4 (fun n' a' h1 h2 h3 h4 => K n' a' (by omega) (ax_E_t (ax_E_s (f2 z)) h2) (fun _ => ax_E_at h2 ax_at_n) h3 h4)
theorem ax_splitOne {post : SX → Prop} {F : Nat → Nat → Prop} {x y w h tx ty tw th n : Nat} (hx : x + w ≤ 16) (hy : y + h ≤ 16) (htx : tx + tw ≤ 16) (hty : ty + th ≤ 16) (w0 : 0 < tw) (h0 : 0 < th) (f : ag_FR F x y w h) (m1 : x < tx + tw) (m2 : tx < x + w) (m3 : y < ty + th) (m4 : ty < y + h) (hn : n + 3 < 1024)
    (K : ∀ n' a', n' ≤ n + 4 → ax_E (ag_Tk F tx ty tw th) ca n a' n' → ag_Cv (ag_Tk F tx ty tw th) a' n' x y w h → post (cC, cR, rc, hc, nI n', aL, aB, aW, aH, fb, ho, a', sS, sH)) : wpX_splitOne post (cC, cR, rc, hc, nI n, aL, aB, aW, aH, fb, ho, ca, sS, sH) (nI (ag_pk x y w h)) (nI (ag_pk tx ty tw th)) := by
  have s : ag_S x y w h := ⟨by omega, by omega, by omega, by omega⟩
  have s' : ag_S tx ty tw th := ⟨by omega, by omega, by omega, by omega⟩
  have fw := f.1
  have fh := f.2.1
  have f1 : x < tx → ag_FR (ag_Tk F tx ty tw th) x y (tx - x) h := fun z => ag_Tk_of (ag_sub f ⟨by omega, by omega, by omega, by omega⟩ (by omega) fh) (by omega)
  have f2 : tx + tw < x + w → ag_FR (ag_Tk F tx ty tw th) (tx + tw) y (x + w - (tx + tw)) h := fun z => ag_Tk_of (ag_sub f ⟨by omega, by omega, by omega, by omega⟩ (by omega) fh) (by omega)
  have f3 : y < ty → ag_FR (ag_Tk F tx ty tw th) x y w (ty - y) := fun z => ag_Tk_of (ag_sub f ⟨by omega, by omega, by omega, by omega⟩ fw (by omega)) (by omega)
  have f4 : ty + th < y + h → ag_FR (ag_Tk F tx ty tw th) x (ty + th) w (y + h - (ty + th)) := fun z => ag_Tk_of (ag_sub f ⟨by omega, by omega, by omega, by omega⟩ fw (by omega)) (by omega)
  unfold wpX_splitOne
  refine ax_wLeft s (ax_wBottom s (ax_wWide s (ax_wHigh s (ax_wLeft s' (nm_e (ax_wLeft s' (ax_wWide s' ?_)))))))
  refine nm_r (e' := nI (x + w) - nI (tx + tw)) (by rw [nI_add, ax_dif3]) (ax_wBottom s' (nm_e (ax_wBottom s' (ax_wHigh s' (nm_r (e' := nI (y + h) - nI (ty + th)) (by rw [nI_add, ax_dif3]) ?_)))))
  refine ax_dif tx x (by omega) (by omega) (fun z => ?_) (fun z e1 => ?_)
  · exact ax_so99 hx hy (by omega) (by omega) (by omega) (by omega) (by omega) (by omega) f2 f3 f4 (fun n' a' h1 h2 c2 c3 c4 => K n' a' (by omega) h2 (ag_Cv_split w0 h0 f (fun z2 => absurd z2 (by omega)) c2 c3 c4 (by omega) (by omega) (by omega) (by omega)))
  · rw [e1]
    refine ax_offer (by omega) ⟨by omega, by omega, by omega, by omega⟩ ?_
    exact ax_so99 hx hy (by omega) (by omega) (by omega) (by omega) (by omega) (by omega) f2 f3 f4 (fun n' a' h1 h2 c2 c3 c4 => K n' a' (by omega) (ax_E_t (ax_E_s (f1 z)) h2) (ag_Cv_split w0 h0 f (fun _ => ax_E_at h2 ax_at_n) c2 c3 c4 (by omega) (by omega) (by omega) (by omega)))
/-- is candidate k covered -/
theorem ax_covered_9 {post : Int32 → Prop} {n k x y w h : Nat} (hn : n ≤ 1024) (hk : k < n) (al : ∀ j, j < n → ∃ x y w h, ca j = nI (ag_pk x y w h) ∧ ag_S x y w h) (e : ca k = nI (ag_pk x y w h)) (s : ag_S x y w h) (K1 : ag_Cd ca n k → post 1) (K0 : ¬ ag_Cd ca n k → post 0) : ∀ d j, j + d = n → (∀ i, i < j → i ≠ k → (∃ x y w h x' y' w' h', ag_S x y w h ∧ ag_S x' y' w' h' ∧ ca k = nI (ag_pk x y w h) ∧ ca i = nI (ag_pk x' y' w' h') ∧ ag_In x y w h x' y' w' h') → (ca i ≠ ca k ∨ i < k) → False) → wX_isCovered_9 post (nI k) (nI (ag_pk x y w h)) cC cR rc hc (nI n) aL aB aW aH fb ho ca sS sH (d + 1) (nI j) := by
  intro d
  induction d with
  | zero =>
    intro j hj no
    refine br_t (nI_le (by omega) (by omega)) (K0 (fun c => ?_))
    obtain ⟨i, h1, h2, h3, h4⟩ := c
    exact no i (by omega) h2 h3 h4
  | succ d ih =>
    intro j hj no
    have go : ((∃ x y w h x' y' w' h', ag_S x y w h ∧ ag_S x' y' w' h' ∧ ca k = nI (ag_pk x y w h) ∧ ca j = nI (ag_pk x' y' w' h') ∧ ag_In x y w h x' y' w' h') → (ca j ≠ ca k ∨ j < k) → j = k) → wX_isCovered_9 post (nI k) (nI (ag_pk x y w h)) cC cR rc hc (nI n) aL aB aW aH fb ho ca sS sH (d + 1) (nI (j + 1)) := by
      intro z
      refine ih (j + 1) (by omega) (fun i h1 h2 h3 h4 => ?_)
      by_cases q : i = j
      · subst q
        exact h2 (z h3 h4)
      · exact no i (by omega) h2 h3 h4
    refine br_f (nI_ge (by omega) (by omega)) (pk_eq j k (fun z => nm_r (nI_1 j) (go (fun _ _ => z))) (fun z => ⟨vp_in_nI (by omega) (by omega), ?_⟩))
    obtain ⟨x', y', w', h', e', s'⟩ := al j (by omega)
    have ej : ca (nI j).toNatClampNeg = nI (ag_pk x' y' w' h') := by rw [nI_clamp (by omega)]; exact e'
    rw [ej]
    refine ax_inside s s' (fun i => ?_) (fun i => ?_)
    · refine br_f (by decide) ⟨vp_in_nI (by omega) (by omega), br_c (fun q => ?_) (fun q => ?_)⟩
      · refine pk_le k j (fun z2 => nm_r (nI_1 j) (go (fun _ z3 => ?_))) (fun z2 => K1 ⟨j, by omega, z, ⟨x, y, w, h, x', y', w', h', s, s', e, e', i⟩, Or.inr z2⟩)
        rcases z3 with z3 | z3
        · exact absurd (e'.trans (q.trans e.symm)) z3
        · omega
      · exact K1 ⟨j, by omega, z, ⟨x, y, w, h, x', y', w', h', s, s', e, e', i⟩, Or.inl (fun q2 => q (e'.symm.trans (q2.trans e)))⟩
    · refine br_t rfl (nm_r (nI_1 j) (go (fun z2 _ => ?_)))
      obtain ⟨x1, y1, w1, h1, x2, y2, w2, h2, t1, t2, p1, p2, p3⟩ := z2
      obtain ⟨a1, a2, a3, a4⟩ := ag_pk_inj t1 s (p1.symm.trans e)
      obtain ⟨b1, b2, b3, b4⟩ := ag_pk_inj t2 s' (p2.symm.trans e')
      subst a1 a2 a3 a4 b1 b2 b3 b4
      exact absurd p3 i
theorem ax_covered {post : Int32 → Prop} {n k : Nat} (hn : n ≤ 1024) (hk : k < n) (al : ∀ j, j < n → ∃ x y w h, ca j = nI (ag_pk x y w h) ∧ ag_S x y w h) (K1 : ag_Cd ca n k → post 1) (K0 : ¬ ag_Cd ca n k → post 0) : wpX_isCovered post (cC, cR, rc, hc, nI n, aL, aB, aW, aH, fb, ho, ca, sS, sH) (nI k) := by
  obtain ⟨x, y, w, h, e, s⟩ := al k hk
  exact ⟨vp_in_nI (by omega) (by omega), nm_r (e' := nI (ag_pk x y w h)) (by rw [nI_clamp (by omega)]; exact e) ⟨n + 1, ax_covered_9 hn hk al e s K1 K0 n 0 (by omega) (fun i hi => absurd hi (by omega))⟩⟩
end
end
section
/-! X: splitHoles -/
section
variable {cC cR rc hc cc : Int32} {aL aB aW aH fb ho ca sS sH : Nat → Int32}
theorem ax_CF_S {C R : Nat} {F : Nat → Nat → Prop} (hb : ag_Bd C R F) (hC : C ≤ 16) (hR : R ≤ 16) {n : Nat} (cf : ag_CF F ca n) : ∀ j, j < n → ∃ x y w h, ca j = nI (ag_pk x y w h) ∧ ag_S x y w h := by
  intro j hj
  obtain ⟨x, y, w, h, e, f⟩ := cf j hj
  exact ⟨x, y, w, h, e, ag_MS hb hC hR f⟩
theorem ax_split_95 {C R : Nat} {F : Nat → Nat → Prop} (hb : ag_Bd C R F) (hC : C ≤ 16) (hR : R ≤ 16) {post : SX → Prop} {n : Nat} (hn : n ≤ 1024) (cf : ag_CF F ca n) (v : ∀ x y w h, ag_FR F x y w h → ∃ x' y' w' h', ag_At ca n x' y' w' h' ∧ ag_FR F x' y' w' h' ∧ ag_In x y w h x' y' w' h')
    (K : ∀ m ho', ag_HS F (fun _ _ _ _ => True) m ho' → post (cC, cR, rc, nI m, nI n, aL, aB, aW, aH, fb, ho', ca, sS, sH)) : ∀ d k m (ho1 : Nat → Int32), k + d = n → ag_HS F (fun x y w h => ∃ j, j < k ∧ ca j = nI (ag_pk x y w h)) m ho1 → wX_splitHoles_95 post cC cR rc (nI n) (d + 1) (nI k) (nI m) aL aB aW aH fb ho1 ca sS sH := by
  intro d
  induction d with
  | zero =>
    intro k m ho1 hk H
    have e : k = n := by omega
    subst e
    refine br_t (nI_le (Nat.le_refl _) (by omega)) (K m ho1 (ag_HS_cong (fun x y w h mx => ⟨fun _ => trivial, fun _ => ?_⟩) H))
    obtain ⟨x', y', w', h', ⟨j, hj, ej⟩, f', i'⟩ := v x y w h mx.1
    obtain ⟨a1, a2, a3, a4⟩ := mx.2 x' y' w' h' f' i'
    subst a1 a2 a3 a4
    exact ⟨j, hj, ej⟩
  | succ d ih =>
    intro k m ho1 hk H
    have al := ax_CF_S hb hC hR cf
    obtain ⟨x, y, w, h, e, f⟩ := cf k (by omega)
    have ek : ca (nI k).toNatClampNeg = nI (ag_pk x y w h) := by rw [nI_clamp (by omega)]; exact e
    have hm := ag_HS_le hb hC hR H
    refine br_f (nI_ge (by omega) (by omega)) (ax_covered hn (by omega) al (fun c => ?_) (fun c => ?_))
    · refine br_f (by decide) (nm_r (nI_1 k) (ih (k + 1) m ho1 (by omega) (ag_HS_cong (fun x2 y2 w2 h2 mx => ⟨fun ⟨j, hj, ej⟩ => ⟨j, by omega, ej⟩, fun ⟨j, hj, ej⟩ => ?_⟩) H)))
      by_cases z : j = k
      · subst z
        exact ag_Cd_y hb hC hR cf ej mx c
      · exact ⟨j, by omega, ej⟩
    · obtain ⟨mx, nw⟩ := ag_Cd_n hb hC hR cf v (by omega) e f c
      obtain ⟨lt, H2⟩ := ag_HS_add hb hC hR H mx (fun ⟨j, hj, ej⟩ => nw j hj (ej.trans e.symm))
      refine br_t rfl ⟨vp_in_nI (by omega) (by omega), vp_in_nI lt (by omega), nm_r (e' := upd ho1 m (nI (ag_pk x y w h))) (by rw [nI_clamp (by omega), ek]) (nm_r (nI_1 m) (nm_r (nI_1 k) (ih (k + 1) (m + 1) _ (by omega) (ag_HS_cong (fun x2 y2 w2 h2 mx2 => ⟨fun q => ?_, fun ⟨j, hj, ej⟩ => ?_⟩) H2))))⟩
      · rcases q with ⟨j, hj, ej⟩ | ⟨a1, a2, a3, a4⟩
        · exact ⟨j, by omega, ej⟩
        · subst a1 a2 a3 a4
          exact ⟨k, by omega, e⟩
      · by_cases z : j = k
        · subst z
          exact Or.inr (ag_pk_inj (ag_MS hb hC hR mx2.1) (ag_MS hb hC hR f) (ej.symm.trans e))
        · exact Or.inl ⟨j, by omega, ej⟩
theorem ax_split_36 {C R : Nat} {F : Nat → Nat → Prop} (hb : ag_Bd C R F) (hC : C ≤ 16) (hR : R ≤ 16) {tx ty tw th nh : Nat} (htx : tx + tw ≤ 16) (hty : ty + th ≤ 16) (w0 : 0 < tw) (h0 : 0 < th) (H : ag_HS F (fun _ _ _ _ => True) nh ho) {post : SX → Prop}
    (K : ∀ m ho' n ca', ag_HS (ag_Tk F tx ty tw th) (fun _ _ _ _ => True) m ho' → post (cC, cR, rc, nI m, nI n, aL, aB, aW, aH, fb, ho', ca', sS, sH)) : ∀ d k n (ca1 : Nat → Int32), k + d = nh → n ≤ 4 * k → ag_CF (ag_Tk F tx ty tw th) ca1 n → (∀ j, j < k → ∀ x y w h, ho j = nI (ag_pk x y w h) → ag_MX F x y w h → ag_Cv (ag_Tk F tx ty tw th) ca1 n x y w h) → wX_splitHoles_36 post (nI (ag_pk tx ty tw th)) (d + 1) (nI k) cC cR rc (nI nh) (nI n) aL aB aW aH fb ho ca1 sS sH := by
  have hn := ag_HS_le hb hC hR H
  have hb' : ag_Bd C R (ag_Tk F tx ty tw th) := fun i j q => hb i j q.1
  have st : ag_S tx ty tw th := ⟨by omega, by omega, by omega, by omega⟩
  intro d
  induction d with
  | zero =>
    intro k n ca1 hk h4 cf cv
    have e : k = nh := by omega
    subst e
    refine br_t (nI_le (Nat.le_refl _) (by omega)) ⟨n + 1, ax_split_95 hb' hC hR (by omega) cf (fun x y w h f => ?_) (fun m ho' q => K m ho' n ca1 q) n 0 0 ho (by omega) (ag_HS_0 (fun x y w h _ => fun ⟨j, hj, _⟩ => absurd hj (by omega)))⟩
    obtain ⟨x', y', w', h', mx, i⟩ := ag_ext hb (ag_Tk_FR f)
    obtain ⟨j, hj, ej⟩ := H.2.1 x' y' w' h' mx trivial
    exact cv j hj x' y' w' h' ej mx x y w h f i
  | succ d ih =>
    intro k n ca1 hk h4 cf cv
    obtain ⟨x, y, w, h, e, mx, _⟩ := H.1 k (by omega)
    have bd := ag_bd hb mx.1
    have s := ag_MS hb hC hR mx.1
    have ek : ho (nI k).toNatClampNeg = nI (ag_pk x y w h) := by rw [nI_clamp (by omega)]; exact e
    have go : ∀ n' a', n' ≤ n + 4 → ax_E (ag_Tk F tx ty tw th) ca1 n a' n' → ag_Cv (ag_Tk F tx ty tw th) a' n' x y w h → wX_splitHoles_36 post (nI (ag_pk tx ty tw th)) (d + 1) (nI (k + 1)) cC cR rc (nI nh) (nI n') aL aB aW aH fb ho a' sS sH := by
      intro n' a' h1 h2 h3
      refine ih (k + 1) n' a' (by omega) (by omega) (h2.2.2 cf) (fun j hj x2 y2 w2 h2' e2 mx2 => ?_)
      by_cases z : j = k
      · subst z
        obtain ⟨a1, a2, a3, a4⟩ := ag_pk_inj (ag_MS hb hC hR mx2.1) s (e2.symm.trans e)
        subst a1 a2 a3 a4
        exact h3
      · exact ag_Cv_mono (cv j (by omega) x2 y2 w2 h2' e2 mx2) h2.1 h2.2.1
    refine br_f (nI_ge (by omega) (by omega)) ⟨vp_in_nI (by omega) (by omega), ?_⟩
    rw [ek]
    refine ax_meets s st (fun m1 m2 m3 m4 => ?_) (fun z => ?_)
    · refine br_f (by decide) ⟨vp_in_nI (by omega) (by omega), ?_⟩
      exact ax_splitOne (by omega) (by omega) htx hty w0 h0 mx.1 m1 m2 m3 m4 (by omega) (fun n' a' h1 h2 h3 => nm_r (nI_1 k) (go n' a' h1 h2 h3))
    · refine br_t rfl ⟨vp_in_nI (by omega) (by omega), ?_⟩
      have f' : ag_FR (ag_Tk F tx ty tw th) x y w h := ag_Tk_of mx.1 (by omega)
      exact ax_keepC (by omega) (nm_r (nI_1 k) (go (n + 1) _ (by omega) (ax_E_s f') (fun x2 y2 w2 h2 f2 i2 => ⟨x, y, w, h, ax_at_n, f', i2⟩)))
theorem ax_splitHoles {C R : Nat} {F : Nat → Nat → Prop} (hb : ag_Bd C R F) (hC : C ≤ 16) (hR : R ≤ 16) {id l b w h nh : Nat} (hid : id < 20) (el : aL id = nI l) (eb : aB id = nI b) (ew : aW id = nI w) (eh : aH id = nI h) (hl : l + w ≤ 16) (hbh : b + h ≤ 16) (w0 : 0 < w) (h0 : 0 < h) (H : ag_HS F (fun _ _ _ _ => True) nh ho) {post : SX → Prop}
    (K : ∀ m ho' n ca', ag_HS (ag_Tk F l b w h) (fun _ _ _ _ => True) m ho' → post (cC, cR, rc, nI m, nI n, aL, aB, aW, aH, fb, ho', ca', sS, sH)) : wpX_splitHoles post (cC, cR, rc, nI nh, cc, aL, aB, aW, aH, fb, ho, ca, sS, sH) (nI id) := by
  have hi : vp_in (nI id) 20 := vp_in_nI hid (by omega)
  refine ⟨hi, hi, hi, hi, ?_⟩
  rw [nI_clamp (n := id) (by omega), el, eb, ew, eh]
  exact ax_wPack ⟨by omega, by omega, by omega, by omega⟩ ⟨nh + 1, ax_split_36 hb hC hR hl hbh w0 h0 H K nh 0 0 ca (by omega) (by omega) (fun k hk => absurd hk (by omega)) (fun j hj => absurd hj (by omega))⟩
end
end
section
/-! X: findHoles -/
section
variable {cC cR rc hc cc : Int32} {aL aB aW aH fb ho ca sS sH : Nat → Int32}
/-- the rows of bits hold F -/
def ax_Fb (R : Nat) (F : Nat → Nat → Prop) (fb : Nat → Int32) : Prop := ∀ y, y < R → ∀ x, x < 32 → (bt (fb y) x = true ↔ F x y)
theorem ax_height_2 {C R : Nat} {F : Nat → Nat → Prop} (hb : ag_Bd C R F) (hR : R ≤ 16) (hf : ax_Fb R F fb) {post : Int32 → Prop} {x y t : Nat} (hx : x < 16) (hy : y ≤ R) (ht : ag_Ht F y x t) (K : post (nI t)) : ∀ d k, k + d = y + t → y ≤ k → wX_heightAt_2 post (nI x) (nI y) cC (nI R) rc hc cc aL aB aW aH fb ho ca sS sH (d + 1) (nI k) := by
  have tb := (ag_Ht_b hb ht).2.2 hy
  intro d
  induction d with
  | zero =>
    intro k hk hyk
    have e : k = y + t := by omega
    subst e
    have K' : post (nI (y + t) - nI y) := by
      rw [pk_sub (by omega), show y + t - y = t from by omega]
      exact K
    refine pk_le R (y + t) (fun _ => K') (fun z => ⟨vp_in_nI (by omega) (by omega), br_t ?_ K'⟩)
    rw [nI_clamp (by omega), ax_bit (by omega)]
    exact ts_nt (fun q => ht.2 ((hf _ z x (by omega)).mp q))
  | succ d ih =>
    intro k hk hyk
    have fk := ht.1 k hyk (by omega)
    have kr := (hb _ _ fk).2
    refine br_f (nI_ge (by omega) (by omega)) ⟨vp_in_nI (by omega) (by omega), br_f ?_ (nm_r (nI_1 k) (ih (k + 1) (by omega) (by omega)))⟩
    rw [nI_clamp (by omega), ax_bit (by omega), (hf k kr x (by omega)).mpr fk]
    decide
theorem ax_height {C R : Nat} {F : Nat → Nat → Prop} (hb : ag_Bd C R F) (hR : R ≤ 16) (hf : ax_Fb R F fb) {post : Int32 → Prop} {x y t : Nat} (hx : x < 16) (hy : y ≤ R) (ht : ag_Ht F y x t) (K : post (nI t)) : wpX_heightAt post (cC, nI R, rc, hc, cc, aL, aB, aW, aH, fb, ho, ca, sS, sH) (nI x) (nI y) :=
  ⟨t + 1, ax_height_2 hb hR hf hx hy ht K t y rfl (Nat.le_refl _)⟩
theorem ax_keepL {R : Nat} {F : Nat → Nat → Prop} (hR : R ≤ 16) (hf : ax_Fb R F fb) {post : SX → Prop} {x y w h n : Nat} (hx : x + w ≤ 16) (w0 : 0 < w) (hy : y < R) (hh : h ≤ 16) (hn : n ≤ 256)
    (K1 : (∃ y', y = y' + 1 ∧ ag_FR F x y' w 1) → post (cC, cR, rc, nI n, cc, aL, aB, aW, aH, fb, ho, ca, sS, sH)) (K2 : (∀ y', y = y' + 1 → ¬ ag_FR F x y' w 1) → n < 256 ∧ post (cC, cR, rc, nI (n + 1), cc, aL, aB, aW, aH, fb, upd ho n (nI (ag_pk x y w h)), ca, sS, sH)) : wpX_keepIfLowest post (cC, cR, rc, nI n, cc, aL, aB, aW, aH, fb, ho, ca, sS, sH) (nI x) (nI y) (nI w) (nI h) := by
  have k30 : (∀ y', y = y' + 1 → ¬ ag_FR F x y' w 1) → wX_keepIfLowest_30 post (nI x) (nI y) (nI w) (nI h) cC cR rc (nI n) cc aL aB aW aH fb ho ca sS sH := by
    intro z
    obtain ⟨k1, k2⟩ := K2 z
    unfold wX_keepIfLowest_30
    exact ax_wPack ⟨by omega, by omega, by omega, by omega⟩ ⟨vp_in_nI k1 (by omega), nm_r (e' := upd ho n (nI (ag_pk x y w h))) (by rw [nI_clamp (by omega)]) (nm_r (nI_1 n) k2)⟩
  refine nm_e (pk_le y 0 (fun z => k30 (fun y' e => absurd e (by omega))) (fun z => ?_))
  obtain ⟨y1, rfl⟩ : ∃ y1, y = y1 + 1 := ⟨y - 1, by omega⟩
  rw [nI_pred]
  have es := ax_sub (v := fb y1) (fun i hi => ax_strip (l := x) (w := w) hx hi) hx
  refine ⟨vp_in_nI (by omega) (by omega), ?_⟩
  rw [nI_clamp (n := y1) (by omega), es]
  refine ⟨fun q => K1 ⟨y1, rfl, w0, by omega, fun i j a b c d => ?_⟩, fun q => k30 (fun y' e f => q (fun i a b => ?_))⟩
  · have ej : j = y1 := by omega
    subst ej
    exact (hf j (by omega) i (by omega)).mp (q i a b)
  · have ey : y' = y1 := by omega
    subst ey
    exact (hf y' (by omega) i (by omega)).mpr (f.2.2 i y' a b (Nat.le_refl _) (by omega))
/-- holes found so far -/
def ag_PX (y x : Nat) : Nat → Nat → Nat → Nat → Prop := fun x0 y0 w0 _ => y0 < y ∨ (y0 = y ∧ x0 + w0 < x)
def ag_PS (y x d d0 : Nat) (HH : Nat → Nat) : Nat → Nat → Nat → Nat → Prop := fun x0 y0 w0 h0 => y0 < y ∨ (y0 = y ∧ (x0 + w0 < x ∨ (x0 + w0 = x ∧ ∃ i, d ≤ i ∧ i < d0 ∧ h0 = HH i)))
theorem ag_PS_end {F : Nat → Nat → Prop} {y x d d' : Nat} {H SS HH : Nat → Nat} (hH : ∀ x, ag_Ht F y x (H x)) (S : ag_St H x d SS HH) (lo : ∀ i, i < d' → HH i ≤ H x) {x0 y0 w0 h0 : Nat} (m : ag_MX F x0 y0 w0 h0) : ag_PS y x d' d HH x0 y0 w0 h0 ↔ ag_PX y (x + 1) x0 y0 w0 h0 := by
  unfold ag_PS ag_PX
  constructor
  · intro z
    rcases z with z | ⟨z1, z2 | ⟨z2, _⟩⟩
    · exact Or.inl z
    · exact Or.inr ⟨z1, by omega⟩
    · exact Or.inr ⟨z1, by omega⟩
  · intro z
    rcases z with z | ⟨z1, z2⟩
    · exact Or.inl z
    · refine Or.inr ⟨z1, ?_⟩
      by_cases q : x0 + w0 = x
      · refine Or.inr ⟨q, ?_⟩
        subst z1
        obtain ⟨o, hr, _⟩ := (ag_Op_MX hH).mp m
        rw [q] at o hr
        obtain ⟨i, h1, h2, h3⟩ := S.2.1 _ _ o
        refine ⟨i, ?_, h1, h3.symm⟩
        rcases Nat.lt_or_ge i d' with r | r
        · have := lo i r
          omega
        · exact r
      · exact Or.inl (by omega)
theorem ag_PS_skip {F : Nat → Nat → Prop} {y x d d' : Nat} {H SS HH : Nat → Nat} (hH : ∀ x, ag_Ht F y x (H x)) (S : ag_St H x d SS HH) (hd : d' < d) (g : ∃ y', y = y' + 1 ∧ ag_FR F (SS d') y' (x - SS d') 1) {x0 y0 w0 h0 : Nat} (m : ag_MX F x0 y0 w0 h0) : ag_PS y x (d' + 1) d HH x0 y0 w0 h0 ↔ ag_PS y x d' d HH x0 y0 w0 h0 := by
  unfold ag_PS
  constructor
  · intro z
    rcases z with z | ⟨z1, z2 | ⟨z2, i, h1, h2, h3⟩⟩
    · exact Or.inl z
    · exact Or.inr ⟨z1, Or.inl z2⟩
    · exact Or.inr ⟨z1, Or.inr ⟨z2, i, by omega, h2, h3⟩⟩
  · intro z
    rcases z with z | ⟨z1, z2 | ⟨z2, i, h1, h2, h3⟩⟩
    · exact Or.inl z
    · exact Or.inr ⟨z1, Or.inl z2⟩
    · by_cases q : i = d'
      · exfalso
        subst q
        subst z1
        obtain ⟨o, _, nd⟩ := (ag_Op_MX hH).mp m
        rw [z2, h3] at o
        have es := ag_Op_u o (S.1 i hd)
        obtain ⟨y', e, f⟩ := g
        have ew : x - SS i = w0 := by omega
        rw [ew, ← es] at f
        exact nd y' e f
      · exact Or.inr ⟨z1, Or.inr ⟨z2, i, by omega, h2, h3⟩⟩
theorem ag_PS_add {F : Nat → Nat → Prop} {y x d d' : Nat} {H SS HH : Nat → Nat} (hH : ∀ x, ag_Ht F y x (H x)) (S : ag_St H x d SS HH) (hd : d' < d) {x0 y0 w0 h0 : Nat} (m : ag_MX F x0 y0 w0 h0) : (ag_PS y x (d' + 1) d HH x0 y0 w0 h0 ∨ (x0 = SS d' ∧ y0 = y ∧ w0 = x - SS d' ∧ h0 = HH d')) ↔ ag_PS y x d' d HH x0 y0 w0 h0 := by
  have sx := (S.1 d' hd).2.1
  unfold ag_PS
  constructor
  · intro z
    rcases z with (z | ⟨z1, z2 | ⟨z2, i, h1, h2, h3⟩⟩) | ⟨a1, a2, a3, a4⟩
    · exact Or.inl z
    · exact Or.inr ⟨z1, Or.inl z2⟩
    · exact Or.inr ⟨z1, Or.inr ⟨z2, i, by omega, h2, h3⟩⟩
    · exact Or.inr ⟨a2, Or.inr ⟨by omega, d', Nat.le_refl _, hd, a4⟩⟩
  · intro z
    rcases z with z | ⟨z1, z2 | ⟨z2, i, h1, h2, h3⟩⟩
    · exact Or.inl (Or.inl z)
    · exact Or.inl (Or.inr ⟨z1, Or.inl z2⟩)
    · by_cases q : i = d'
      · subst q
        subst z1
        obtain ⟨o, _, nd⟩ := (ag_Op_MX hH).mp m
        rw [z2, h3] at o
        have es := ag_Op_u o (S.1 i hd)
        exact Or.inr ⟨es, rfl, by omega, h3⟩
      · exact Or.inl (Or.inr ⟨z1, Or.inr ⟨z2, i, by omega, h2, h3⟩⟩)
theorem ax_sw35 {C R : Nat} {F : Nat → Nat → Prop} (hb : ag_Bd C R F) (hC : C ≤ 16) (hR : R ≤ 16) (hf : ax_Fb R F fb) {y x d : Nat} (hy : y < R) (hx : x ≤ C) {H SS HH : Nat → Nat} (hH : ∀ x, ag_Ht F y x (H x)) (S : ag_St H x d SS HH) (eS : ∀ i, i < d → sS i = nI (SS i)) (eH : ∀ i, i < d → sH i = nI (HH i)) {post : SX → Prop} {J4 : Int32 → Int32 → Int32 → Int32 → Int32 → Int32 → Int32 → (Nat → Int32) → (Nat → Int32) → (Nat → Int32) → (Nat → Int32) → (Nat → Int32) → (Nat → Int32) → (Nat → Int32) → (Nat → Int32) → (Nat → Int32) → Prop}
    (K : ∀ d' m ho' st, d' ≤ d → (∀ i, i < d' → HH i ≤ H x) → (∀ i, d' ≤ i → i < d → H x < HH i) → ((d' = d ∧ st = x) ∨ (d' < d ∧ st = SS d')) → ag_HS F (ag_PX y (x + 1)) m ho' → wX_sweepFrom_83 post J4 (nI y) (nI d') (nI x) (nI (H x)) (nI st) cC cR rc (nI m) cc aL aB aW aH fb ho' ca sS sH) :
    ∀ d' m (ho1 : Nat → Int32) st, d' ≤ d → (∀ i, d' ≤ i → i < d → H x < HH i) → ((d' = d ∧ st = x) ∨ (d' < d ∧ st = SS d')) → ag_HS F (ag_PS y x d' d HH) m ho1 → wX_sweepFrom_35 post J4 (nI y) (nI x) (nI (H x)) (d' + 1) (nI d') (nI st) cC cR rc (nI m) cc aL aB aW aH fb ho1 ca sS sH := by
  obtain ⟨dm, hm⟩ := ag_St_d (m := 16) (fun i => by have := (ag_Ht_b hb (hH i)).1; omega) S
  have hxm := (ag_Ht_b hb (hH x)).1
  intro d'
  induction d' with
  | zero =>
    intro m ho1 st hd hi hs HS
    exact br_t (nI_le (a := 0) (b := 0) (Nat.le_refl _) (by omega)) (K 0 m ho1 st hd (fun i h => absurd h (by omega)) hi hs (ag_HS_cong (fun x0 y0 w0 h0 mx => ag_PS_end hH S (fun i h => absurd h (by omega)) mx) HS))
  | succ d' ih =>
    intro m ho1 st hd hi hs HS
    have hdm := hm d' (by omega)
    have hm256 := ag_HS_le hb hC hR HS
    have o := S.1 d' (by omega)
    have sx := o.2.1
    refine br_f (nI_nle (by omega) (by omega)) ?_
    rw [nI_pred]
    refine ⟨vp_in_nI (by omega) (by omega), ?_⟩
    rw [nI_clamp (n := d') (by omega), eH d' (by omega)]
    refine pk_le (HH d') (H x) (fun z => ?_) (fun z => ?_)
    · have lo : ∀ i, i < d' + 1 → HH i ≤ H x := fun i h => Nat.le_trans (ag_St_mono S (j := d') (by omega) (by omega)) z
      exact K (d' + 1) m ho1 st hd lo hi hs (ag_HS_cong (fun x0 y0 w0 h0 mx => ag_PS_end hH S lo mx) HS)
    · have hi' : ∀ i, d' ≤ i → i < d → H x < HH i := by
        intro i h1 h2
        have := ag_St_mono S h1 h2
        omega
      refine nm_r (pk_m1 d') ⟨vp_in_nI (by omega) (by omega), nm_r (e' := nI (SS d')) (by rw [nI_clamp (by omega), eS d' (by omega)]) ⟨vp_in_nI (by omega) (by omega), ?_⟩⟩
      rw [pk_sub (by omega), nI_clamp (n := d') (by omega), eH d' (by omega)]
      refine ax_keepL hR hf (by omega) (by omega) hy hdm hm256 (fun g => ?_) (fun g => ?_)
      · exact ih m ho1 (SS d') (by omega) hi' (Or.inr ⟨by omega, rfl⟩) (ag_HS_cong (fun x0 y0 w0 h0 mx => ag_PS_skip hH S (by omega) g mx) HS)
      · have ex : SS d' + (x - SS d') = x := by omega
        have mx : ag_MX F (SS d') y (x - SS d') (HH d') := (ag_Op_MX hH).mpr ⟨by rw [ex]; exact o, by rw [ex]; exact z, g⟩
        obtain ⟨lt, HS2⟩ := ag_HS_add hb hC hR HS mx (fun q => by
          rcases q with q | ⟨_, q | ⟨_, i, q1, q2, q3⟩⟩
          · omega
          · omega
          · have := S.2.2 d' i (by omega) q2
            omega)
        exact ⟨lt, ih (m + 1) _ (SS d') (by omega) hi' (Or.inr ⟨by omega, rfl⟩) (ag_HS_cong (fun x0 y0 w0 h0 mx => ag_PS_add hH S (by omega) mx) HS2)⟩
end
end
section
/-! X: findHoles, the sweep's loops -/
section
variable {cC cR rc hc cc : Int32} {aL aB aW aH fb ho ca sS sH : Nat → Int32}
theorem ax_sw105 {post : SX → Prop} {J4 : Int32 → Int32 → Int32 → Int32 → Int32 → Int32 → Int32 → (Nat → Int32) → (Nat → Int32) → (Nat → Int32) → (Nat → Int32) → (Nat → Int32) → (Nat → Int32) → (Nat → Int32) → (Nat → Int32) → (Nat → Int32) → Prop} {y x d st g : Nat} (hd : d < 17) (hs : st < 128) (hg : g < 128)
    (J : J4 (nI (d + 1)) (nI (x + 1)) cC cR rc hc cc aL aB aW aH fb ho ca (upd sS d (nI st)) (upd sH d (nI g))) : wX_sweepFrom_105 post J4 (nI y) (nI d) (nI x) (nI g) (nI st) cC cR rc hc cc aL aB aW aH fb ho ca sS sH := by
  have hi : vp_in (nI d) 17 := vp_in_nI hd (by omega)
  exact ⟨hi, nm_r (e' := upd sS d (nI st)) (by rw [nI_clamp (by omega), ax_nar hs]) ⟨hi, nm_r (e' := upd sH d (nI g)) (by rw [nI_clamp (by omega), ax_nar hg]) (nm_r (nI_1 d) (nm_r (nI_1 x) J))⟩⟩
theorem ax_sw83 {post : SX → Prop} {J4 : Int32 → Int32 → Int32 → Int32 → Int32 → Int32 → Int32 → (Nat → Int32) → (Nat → Int32) → (Nat → Int32) → (Nat → Int32) → (Nat → Int32) → (Nat → Int32) → (Nat → Int32) → (Nat → Int32) → (Nat → Int32) → Prop} {y x d d' st : Nat} {H SS HH : Nat → Nat} (hHm : ∀ i, H i ≤ 16) (hx : x ≤ 16) (S : ag_St H x d SS HH) (eS : ∀ i, i < d → sS i = nI (SS i)) (eH : ∀ i, i < d → sH i = nI (HH i))
    (hd : d' ≤ d) (lo : ∀ i, i < d' → HH i ≤ H x) (hi : ∀ i, d' ≤ i → i < d → H x < HH i) (hs : (d' = d ∧ st = x) ∨ (d' < d ∧ st = SS d'))
    (J : ∀ d2 sS2 sH2 SS2 HH2, ag_St H (x + 1) d2 SS2 HH2 → (∀ i, i < d2 → sS2 i = nI (SS2 i)) → (∀ i, i < d2 → sH2 i = nI (HH2 i)) → J4 (nI d2) (nI (x + 1)) cC cR rc hc cc aL aB aW aH fb ho ca sS2 sH2) : wX_sweepFrom_83 post J4 (nI y) (nI d') (nI x) (nI (H x)) (nI st) cC cR rc hc cc aL aB aW aH fb ho ca sS sH := by
  obtain ⟨dm, hm⟩ := ag_St_d hHm S
  have hxm := hHm x
  have stb : st ≤ 16 := by
    rcases hs with ⟨_, e⟩ | ⟨q, e⟩
    · omega
    · have := (S.1 d' q).2.1
      omega
  have keep : (H x = 0 ∨ (0 < d' ∧ H x ≤ HH (d' - 1))) → J4 (nI d') (nI (x + 1)) cC cR rc hc cc aL aB aW aH fb ho ca sS sH := fun z =>
    J d' sS sH SS HH (ag_St_keep S hd lo hi z) (fun i h => eS i (by omega)) (fun i h => eH i (by omega))
  have push : 0 < H x → (∀ i, i < d' → HH i < H x) → wX_sweepFrom_105 post J4 (nI y) (nI d') (nI x) (nI (H x)) (nI st) cC cR rc hc cc aL aB aW aH fb ho ca sS sH := by
    intro z1 z2
    refine ax_sw105 (by omega) (by omega) (by omega) (J (d' + 1) _ _ (ag_nu SS d' st) (ag_nu HH d' (H x)) (ag_St_push S hd z2 hi z1 hs) (fun i h => ?_) (fun i h => ?_))
    · by_cases e : i = d'
      · rw [e, pk_us, ag_nus]
      · rw [pk_un e, ag_nun e]
        exact eS i (by omega)
    · by_cases e : i = d'
      · rw [e, pk_us, ag_nus]
      · rw [pk_un e, ag_nun e]
        exact eH i (by omega)
  refine pk_le (H x) 0 (fun z => nm_r (nI_1 x) (keep (Or.inl (by omega)))) (fun z => pk_eq d' 0 (fun z2 => push z (fun i h => absurd h (by omega))) (fun z2 => ?_))
  obtain ⟨e, rfl⟩ : ∃ e, d' = e + 1 := ⟨d' - 1, by omega⟩
  rw [nI_pred]
  refine ⟨vp_in_nI (by omega) (by omega), ?_⟩
  have he := hm e (by omega)
  rw [nI_clamp (n := e) (by omega), eH e (by omega)]
  refine pk_le (H x) (HH e) (fun z3 => nm_r (nI_1 x) (keep (Or.inr ⟨by omega, z3⟩))) (fun z3 => push z (fun i h => ?_))
  have := ag_St_mono S (i := i) (j := e) (by omega) (by omega)
  omega
theorem ax_sw4 {C R : Nat} {F : Nat → Nat → Prop} (hb : ag_Bd C R F) (hC : C ≤ 16) (hR : R ≤ 16) (hf : ax_Fb R F fb) {y : Nat} (hy : y < R) {H : Nat → Nat} (hH : ∀ x, ag_Ht F y x (H x)) {post : SX → Prop}
    (K : ∀ m ho' sS' sH', ag_HS F (fun _ y0 _ _ => y0 < y + 1) m ho' → post (nI C, nI R, rc, nI m, cc, aL, aB, aW, aH, fb, ho', ca, sS', sH')) : ∀ e x d m (ho1 sS1 sH1 : Nat → Int32) (SS HH : Nat → Nat), x + e = C + 1 → ag_St H x d SS HH → (∀ i, i < d → sS1 i = nI (SS i)) → (∀ i, i < d → sH1 i = nI (HH i)) → ag_HS F (ag_PX y x) m ho1 → wX_sweepFrom_4 post (nI y) (e + 1) (nI d) (nI x) (nI C) (nI R) rc (nI m) cc aL aB aW aH fb ho1 ca sS1 sH1 := by
  have hHm : ∀ i, H i ≤ 16 := fun i => by have := (ag_Ht_b hb (hH i)).1; omega
  intro e
  induction e with
  | zero =>
    intro x d m ho1 sS1 sH1 SS HH he S eS eH HS
    refine br_t (nI_lt (by omega) (by omega)) (K m ho1 sS1 sH1 (ag_HS_cong (fun x0 y0 w0 h0 mx => ?_) HS))
    have := ag_bd hb mx.1
    unfold ag_PX
    omega
  | succ e ih =>
    intro x d m ho1 sS1 sH1 SS HH he S eS eH HS
    have go : ∃ n35, wX_sweepFrom_35 post (wX_sweepFrom_4 post (nI y) (e + 1)) (nI y) (nI x) (nI (H x)) n35 (nI d) (nI x) (nI C) (nI R) rc (nI m) cc aL aB aW aH fb ho1 ca sS1 sH1 := by
      refine ⟨d + 1, ax_sw35 hb hC hR hf hy (by omega) hH S eS eH (fun d' m' ho' st q1 q2 q3 q4 HS' => ?_) d m ho1 x (Nat.le_refl _) (fun i h1 h2 => absurd h1 (by omega)) (Or.inl ⟨rfl, rfl⟩) (ag_HS_cong (fun x0 y0 w0 h0 mx => ?_) HS)⟩
      · exact ax_sw83 hHm (by omega) S eS eH q1 q2 q3 q4 (fun d2 sS2 sH2 SS2 HH2 S2 eS2 eH2 => ih (x + 1) d2 m' ho' sS2 sH2 SS2 HH2 (by omega) S2 eS2 eH2 HS')
      · unfold ag_PX ag_PS
        constructor
        · intro z
          rcases z with z | ⟨z1, z2⟩
          · exact Or.inl z
          · exact Or.inr ⟨z1, Or.inl z2⟩
        · intro z
          rcases z with z | ⟨z1, z2 | ⟨z2, i, h1, h2, h3⟩⟩
          · exact Or.inl z
          · exact Or.inr ⟨z1, z2⟩
          · omega
    refine br_f (nI_nlt (by omega) (by omega)) (pk_le C x (fun z => ?_) (fun z => ?_))
    · have e0 : H x = 0 := (ag_Ht_b hb (hH x)).2.1 z
      rw [e0] at go
      exact go
    · exact ax_height hb hR hf (by omega) (by omega) (hH x) go
theorem ax_sweep {C R : Nat} {F : Nat → Nat → Prop} (hb : ag_Bd C R F) (hC : C ≤ 16) (hR : R ≤ 16) (hf : ax_Fb R F fb) {y m : Nat} (hy : y < R) (HS : ag_HS F (fun _ y0 _ _ => y0 < y) m ho) {post : SX → Prop}
    (K : ∀ m ho' sS' sH', ag_HS F (fun _ y0 _ _ => y0 < y + 1) m ho' → post (nI C, nI R, rc, nI m, cc, aL, aB, aW, aH, fb, ho', ca, sS', sH')) : wpX_sweepFrom post (nI C, nI R, rc, nI m, cc, aL, aB, aW, aH, fb, ho, ca, sS, sH) (nI y) := by
  obtain ⟨H, hH⟩ := ag_Ht_e hb y
  refine ⟨C + 1 + 1, ax_sw4 hb hC hR hf hy hH K (C + 1) 0 0 m ho sS sH (fun _ => 0) (fun _ => 0) (by omega) ag_St_0 (fun i h => absurd h (by omega)) (fun i h => absurd h (by omega)) (ag_HS_cong (fun x0 y0 w0 h0 mx => ?_) HS)⟩
  unfold ag_PX
  omega
theorem ax_find_7 {C R : Nat} {F : Nat → Nat → Prop} (hb : ag_Bd C R F) (hC : C ≤ 16) (hR : R ≤ 16) (hf : ax_Fb R F fb) {post : SX → Prop}
    (K : ∀ m ho' sS' sH', ag_HS F (fun _ _ _ _ => True) m ho' → post (nI C, nI R, rc, nI m, cc, aL, aB, aW, aH, fb, ho', ca, sS', sH')) : ∀ e y m (ho1 sS1 sH1 : Nat → Int32), y + e = R → ag_HS F (fun _ y0 _ _ => y0 < y) m ho1 → wX_findHoles_7 post (e + 1) (nI y) (nI C) (nI R) rc (nI m) cc aL aB aW aH fb ho1 ca sS1 sH1 := by
  intro e
  induction e with
  | zero =>
    intro y m ho1 sS1 sH1 he HS
    refine br_t (nI_le (by omega) (by omega)) (K m ho1 sS1 sH1 (ag_HS_cong (fun x0 y0 w0 h0 mx => ⟨fun _ => trivial, fun _ => ?_⟩) HS))
    have := ag_bd hb mx.1
    have := mx.1.2.1
    omega
  | succ e ih =>
    intro y m ho1 sS1 sH1 he HS
    refine br_f (nI_ge (by omega) (by omega)) ?_
    exact ax_sweep hb hC hR hf (by omega) HS (fun m' ho' sS' sH' HS' => nm_r (nI_1 y) (ih (y + 1) m' ho' sS' sH' (by omega) HS'))
theorem ax_find {C R : Nat} {F : Nat → Nat → Prop} (hb : ag_Bd C R F) (hC : C ≤ 16) (hR : R ≤ 16) (hf : ax_Fb R F fb) {post : SX → Prop}
    (K : ∀ m ho' sS' sH', ag_HS F (fun _ _ _ _ => True) m ho' → post (nI C, nI R, rc, nI m, cc, aL, aB, aW, aH, fb, ho', ca, sS', sH')) : wpX_findHoles post (nI C, nI R, rc, hc, cc, aL, aB, aW, aH, fb, ho, ca, sS, sH) :=
  ⟨R + 1, ax_find_7 hb hC hR hf K R 0 0 ho sS sH (by omega) (ag_HS_0 (fun x y w h _ q => absurd q (by omega)))⟩
/-! clear -/
theorem ax_clear_33 {C R : Nat} (hC : C ≤ 16) (hR : R ≤ 16) {post : Int32 → SX → Prop} {x1 : Int32} (K : ∀ fb' ho', (∀ y, y < R → ∀ x, x < 32 → bt (fb' y) x = decide (x < C)) → ho' 0 = nI (ag_pk 0 0 C R) → post x1 (nI C, nI R, rc, 1, cc, aL, aB, aW, aH, fb', ho', ca, sS, sH)) : ∀ d k (fb1 : Nat → Int32), k + d = R → (∀ y, y < k → ∀ x, x < 32 → bt (fb1 y) x = decide (x < C)) → wX_clear_33 post x1 (nI C) (nI R) rc hc cc (d + 1) (nI k) aL aB aW aH fb1 ho ca sS sH := by
  intro d
  induction d with
  | zero =>
    intro k fb1 hk hf
    have e : k = R := by omega
    subst e
    exact br_t (nI_le (Nat.le_refl _) (by omega)) (ax_wPack (x := 0) (y := 0) ⟨by omega, by omega, by omega, by omega⟩ (nm_e (K fb1 _ hf pk_us)))
  | succ d ih =>
    intro k fb1 hk hf
    refine br_f (nI_ge (by omega) (by omega)) ⟨vp_in_nI (by omega) (by omega), nm_e (nm_r (nI_1 k) (ih (k + 1) _ (by omega) (fun y hy x hx => ?_)))⟩
    rw [nI_clamp (by omega)]
    by_cases e : y = k
    · rw [e, pk_us]
      exact ax_ones C (by omega) x hx
    · rw [pk_un e]
      exact hf y (by omega) x hx
theorem ax_clear_7 {C R : Nat} (hC : C ≤ 16) (hR : R ≤ 16) {post : Int32 → SX → Prop} {x1 : Int32} (K : ∀ aW' fb' ho', (∀ i, i < 20 → aW' i = 0) → (∀ y, y < R → ∀ x, x < 32 → bt (fb' y) x = decide (x < C)) → ho' 0 = nI (ag_pk 0 0 C R) → post x1 (nI C, nI R, 0, 1, cc, aL, aB, aW', aH, fb', ho', ca, sS, sH)) : ∀ d k (aW1 : Nat → Int32), k + d = 20 → (∀ i, i < k → aW1 i = 0) → wX_clear_7 post x1 (nI C) (nI R) rc hc cc (d + 1) (nI k) aL aB aW1 aH fb ho ca sS sH := by
  intro d
  induction d with
  | zero =>
    intro k aW1 hk hf
    have e : k = 20 := by omega
    subst e
    exact br_t (nI_le (a := 20) (b := 20) (Nat.le_refl _) (by omega)) ⟨R + 1, ax_clear_33 hC hR (fun fb' ho' => K aW1 fb' ho' hf) R 0 fb (by omega) (fun y hy => absurd hy (by omega))⟩
  | succ d ih =>
    intro k aW1 hk hf
    refine br_f (nI_ge (b := 20) (by omega) (by omega)) ⟨vp_in_nI (by omega) (by omega), nm_e (nm_r (nI_1 k) (ih (k + 1) _ (by omega) (fun i hi => ?_)))⟩
    rw [nI_clamp (by omega)]
    by_cases e : i = k
    · rw [e, pk_us]
      exact ax_nar0
    · rw [pk_un e]
      exact hf i (by omega)
theorem ax_clear {C R : Nat} (hC : C ≤ 16) (hR : R ≤ 16) {post : Int32 → SX → Prop} (K : ∀ aW' fb' ho', (∀ i, i < 20 → aW' i = 0) → (∀ y, y < R → ∀ x, x < 32 → bt (fb' y) x = decide (x < C)) → ho' 0 = nI (ag_pk 0 0 C R) → post rc (nI C, nI R, 0, 1, cc, aL, aB, aW', aH, fb', ho', ca, sS, sH)) : wpX_clear post (nI C, nI R, rc, hc, cc, aL, aB, aW, aH, fb, ho, ca, sS, sH) :=
  ⟨21, ax_clear_7 hC hR K 20 0 aW (by omega) (fun i hi => absurd hi (by omega))⟩
end
end
section
/-! Y: good, best, tallest, closed, areaOfHole -/
section
variable {yC yR : Int32} {ce yL yB yW yH th : Nat → Int32}
/-- the table of cells holds F -/
def ay_Ce (C R : Nat) (F : Nat → Nat → Prop) (ce : Nat → Int32) : Prop := ∀ x y, x < C → y < R → (ce (16 * y + x) = -1 ↔ F x y)
theorem ay_ix (j i : Nat) : (16 : Int32) * nI j + nI i = nI (16 * j + i) := by
  rw [← nI_add, ← pk_mul]; rfl
theorem ay_good46 {C R : Nat} {F : Nat → Nat → Prop} (hC : C ≤ 16) (hR : R ≤ 16) (hc : ay_Ce C R F ce) {post J34 : Int32 → Prop} {x w j : Nat} {y h : Int32} (hx : x + w ≤ C) (hj : j < R) (K1 : (∀ i, x ≤ i → i < x + w → F i j) → J34 (nI (j + 1))) (K0 : ∀ i, x ≤ i → i < x + w → ¬ F i j → post 0) : ∀ d i, i + d = x + w → x ≤ i → (∀ i', x ≤ i' → i' < i → F i' j) → wY_good_46 post J34 (nI x) y (nI w) h (nI j) yC yR ce yL yB yW yH th (d + 1) (nI i) := by
  intro d
  induction d with
  | zero =>
    intro i hi hxi f
    have e : i = x + w := by omega
    subst e
    refine br_t ?_ (nm_r (nI_1 j) (K1 f))
    rw [nI_add]
    exact nI_le (Nat.le_refl _) (by omega)
  | succ d ih =>
    intro i hi hxi f
    refine br_f ?_ ?_
    · rw [nI_add]
      exact nI_ge (by omega) (by omega)
    · rw [ay_ix, nI_clamp (n := 16 * j + i) (by omega), hc i j (by omega) hj]
      refine ⟨vp_in_nI (by omega) (by omega), br_c (fun z => nm_r (nI_1 i) (ih (i + 1) (by omega) (by omega) (fun i' a b => ?_))) (fun z => K0 i hxi (by omega) z)⟩
      by_cases e : i' = i
      · rw [e]; exact z
      · exact f i' a (by omega)
theorem ay_good34 {C R : Nat} {F : Nat → Nat → Prop} (hC : C ≤ 16) (hR : R ≤ 16) (hc : ay_Ce C R F ce) {post : Int32 → Prop} {x w y h : Nat} (hx : x + w ≤ C) (hy : y + h ≤ R) (w0 : 0 < w) (h0 : 0 < h) (K1 : ag_FR F x y w h → post 1) (K0 : ¬ ag_FR F x y w h → post 0) : ∀ d j, j + d = y + h → y ≤ j → (∀ i j', x ≤ i → i < x + w → y ≤ j' → j' < j → F i j') → wY_good_34 post (nI x) (nI y) (nI w) (nI h) yC yR ce yL yB yW yH th (d + 1) (nI j) := by
  intro d
  induction d with
  | zero =>
    intro j hj hyj f
    have e : j = y + h := by omega
    subst e
    refine br_t ?_ (K1 ⟨w0, h0, f⟩)
    rw [nI_add]
    exact nI_le (Nat.le_refl _) (by omega)
  | succ d ih =>
    intro j hj hyj f
    refine br_f ?_ ⟨w + 1, ay_good46 hC hR hc hx (by omega) (fun g => ih (j + 1) (by omega) (by omega) (fun i j' a b c q => ?_)) (fun i a b nf => K0 (fun g => nf (g.2.2 i j a b hyj (by omega)))) w x rfl (Nat.le_refl _) (fun i' a b => absurd b (by omega))⟩
    · rw [nI_add]
      exact nI_ge (by omega) (by omega)
    · by_cases e : j' = j
      · rw [e]; exact g i a b
      · exact f i j' a b c (by omega)
theorem ay_good {C R : Nat} {F : Nat → Nat → Prop} (hb : ag_Bd C R F) (hC : C ≤ 16) (hR : R ≤ 16) (hc : ay_Ce C R F ce) {post : Int32 → Prop} {x w y h : Nat} (hx : x + w < 128) (hy : y + h < 128) (w0 : 0 < w) (h0 : 0 < h) (K1 : ag_FR F x y w h → post 1) (K0 : ¬ ag_FR F x y w h → post 0) : wpY_good post (nI C, nI R, ce, yL, yB, yW, yH, th) (nI x) (nI y) (nI w) (nI h) := by
  have no : ¬ (x + w ≤ C ∧ y + h ≤ R) → post 0 := fun z => K0 (fun f => z (ag_bd hb f))
  refine br_f (nI_pos (by omega)) (br_f (nI_pos (by omega)) (pk_lt C (x + w) (fun z => no (by omega)) (fun z => pk_le (y + h) R (fun z2 => ⟨h + 1, ay_good34 hC hR hc z z2 w0 h0 K1 K0 h y rfl (Nat.le_refl _) (fun i j' _ _ a b => absurd b (by omega))⟩) (fun z2 => no (by omega)) (nI_add _ _)) rfl (nI_add _ _)))
theorem ay_good_n0 {post : Int32 → Prop} {v : SY} {p0 p1 p2 p3 : Int32} (h : p0 < 0) (K : post 0) : wpY_good post v p0 p1 p2 p3 := by
  obtain ⟨yC, yR, ce, yL, yB, yW, yH, th⟩ := v
  exact br_t h K
theorem ay_good_n1 {post : Int32 → Prop} {v : SY} {p0 p1 p2 p3 : Int32} (h : p1 < 0) (K : post 0) : wpY_good post v p0 p1 p2 p3 := by
  obtain ⟨yC, yR, ce, yL, yB, yW, yH, th⟩ := v
  exact br_c (fun _ => K) (fun _ => br_t h K)
/-! best -/
theorem ay_best13 {C R : Nat} {F : Nat → Nat → Prop} (hb : ag_Bd C R F) (hC : C ≤ 16) (hR : R ≤ 16) (hc : ay_Ce C R F ce) {post J2 : Int32 → Prop} {w h y : Nat} (w0 : 0 < w) (hw : w ≤ 16) (h0 : 0 < h) (hh : h ≤ 16) (hy : y < R) (pr : ∀ x' y', y' < y → ¬ ag_FR F x' y' w h) (K1 : ∀ r, ag_LW F w h r → post r) (KJ : (∀ x' y', y' < y + 1 → ¬ ag_FR F x' y' w h) → J2 (nI (y + 1))) : ∀ d x, x + d = C → (∀ x', x' < x → ¬ ag_FR F x' y w h) → wY_best_13 post J2 (nI w) (nI h) (nI y) (nI C) (nI R) ce yL yB yW yH th (d + 1) (nI x) := by
  intro d
  induction d with
  | zero =>
    intro x hx pr2
    have e : x = C := by omega
    subst e
    refine br_t (nI_le (Nat.le_refl _) (by omega)) (nm_r (nI_1 y) (KJ (fun x' y' q f => ?_)))
    by_cases z : y' = y
    · subst z
      have := ag_bd hb f
      exact pr2 x' (by omega) f
    · exact pr x' y' (by omega) f
  | succ d ih =>
    intro x hx pr2
    refine br_f (nI_ge (by omega) (by omega)) (ay_good hb hC hR hc (by omega) (by omega) w0 h0 (fun f => br_f (by decide) ?_) (fun f => br_t rfl (nm_r (nI_1 x) (ih (x + 1) (by omega) (fun x' q => ?_)))))
    · have e : (256 : Int32) * nI y + nI x = nI (256 * y + x) := by rw [← nI_add, ← pk_mul]; rfl
      rw [e]
      refine K1 _ (Or.inr ⟨x, y, f, rfl, fun x' y' f' => ?_⟩)
      have b := ag_bd hb f'
      rcases Nat.lt_trichotomy y' y with z | z | z
      · exact absurd f' (pr x' y' z)
      · subst z
        rcases Nat.lt_or_ge x' x with z2 | z2
        · exact absurd f' (pr2 x' z2)
        · omega
      · omega
    · by_cases z : x' = x
      · rw [z]; exact f
      · exact pr2 x' (by omega)
theorem ay_best2 {C R : Nat} {F : Nat → Nat → Prop} (hb : ag_Bd C R F) (hC : C ≤ 16) (hR : R ≤ 16) (hc : ay_Ce C R F ce) {post : Int32 → Prop} {w h : Nat} (w0 : 0 < w) (hw : w ≤ 16) (h0 : 0 < h) (hh : h ≤ 16) (K1 : ∀ r, ag_LW F w h r → post r) : ∀ d y, y + d = R → (∀ x' y', y' < y → ¬ ag_FR F x' y' w h) → wY_best_2 post (nI w) (nI h) (nI C) (nI R) ce yL yB yW yH th (d + 1) (nI y) := by
  intro d
  induction d with
  | zero =>
    intro y hy pr
    refine br_t (nI_le (by omega) (by omega)) (K1 _ (Or.inl ⟨rfl, fun x' y' f => ?_⟩))
    have := ag_bd hb f
    exact pr x' y' (by omega) f
  | succ d ih =>
    intro y hy pr
    exact br_f (nI_ge (by omega) (by omega)) ⟨C + 1, ay_best13 hb hC hR hc w0 hw h0 hh (by omega) pr K1 (fun q => ih (y + 1) (by omega) q) C 0 (by omega) (fun x' q => absurd q (by omega))⟩
theorem ay_best {C R : Nat} {F : Nat → Nat → Prop} (hb : ag_Bd C R F) (hC : C ≤ 16) (hR : R ≤ 16) (hc : ay_Ce C R F ce) {post : Int32 → Prop} {w h : Nat} (w0 : 0 < w) (hw : w ≤ 16) (h0 : 0 < h) (hh : h ≤ 16) (K1 : ∀ r, ag_LW F w h r → post r) : wpY_best post (nI C, nI R, ce, yL, yB, yW, yH, th) (nI w) (nI h) :=
  ⟨R + 1, ay_best2 hb hC hR hc w0 hw h0 hh K1 R 0 (by omega) (fun x' y' q => absurd q (by omega))⟩
/-! tallest -/
def ag_T (F : Nat → Nat → Prop) (x y w t : Nat) : Prop := (∀ i j, x ≤ i → i < x + w → y ≤ j → j < y + t → F i j) ∧ ¬ (∀ i, x ≤ i → i < x + w → F i (y + t))
theorem ag_T_h {F : Nat → Nat → Prop} {x y w t h : Nat} (T : ag_T F x y w t) (f : ag_FR F x y w h) : h ≤ t := by
  rcases Nat.lt_or_ge t h with z | z
  · exact absurd (fun i a b => f.2.2 i (y + t) a b (by omega) (by omega)) T.2
  · exact z
theorem ay_tall3 {C R : Nat} {F : Nat → Nat → Prop} (hb : ag_Bd C R F) (hC : C ≤ 16) (hR : R ≤ 16) (hc : ay_Ce C R F ce) {post : Int32 → Prop} {x y w : Nat} (w0 : 0 < w) (hx : x + w ≤ C) (hy : y ≤ R) (K : ∀ t, t ≤ R - y → ag_T F x y w t → post (nI t)) : ∀ d k, k + d = R - y → (∀ i j, x ≤ i → i < x + w → y ≤ j → j < y + k → F i j) → wY_tallest_3 post (nI x) (nI y) (nI w) (nI C) (nI R) ce yL yB yW yH th (d + 1) (nI (k + 1)) := by
  intro d
  induction d with
  | zero =>
    intro k hk f
    have e : k = R - y := by omega
    subst e
    refine br_t ?_ ?_
    · rw [pk_sub hy]
      exact nI_lt (by omega) (by omega)
    · rw [pk_sub hy]
      refine K (R - y) (Nat.le_refl _) ⟨f, fun g => ?_⟩
      have := hb _ _ (g x (Nat.le_refl _) (by omega))
      omega
  | succ d ih =>
    intro k hk f
    refine br_f ?_ ?_
    · rw [pk_sub hy]
      exact nI_nlt (by omega) (by omega)
    · have e : nI y + nI (k + 1) - 1 = nI (y + k) := by
        rw [nI_add, show y + (k + 1) = y + k + 1 from by omega, nI_pred]
      rw [e]
      refine ay_good (w := w) (h := 1) hb hC hR hc (by omega) (by omega) w0 (by omega) (fun g => br_f (by decide) (nm_r (nI_1 (k + 1)) (ih (k + 1) (by omega) (fun i j a b c q => ?_)))) (fun g => br_t rfl ?_)
      · by_cases z : j = y + k
        · rw [z]; exact g.2.2 i (y + k) a b (Nat.le_refl _) (by omega)
        · exact f i j a b c (by omega)
      · rw [nI_pred]
        refine K k (by omega) ⟨f, fun q => g ⟨w0, by omega, fun i j a b c q2 => ?_⟩⟩
        have : j = y + k := by omega
        rw [this]
        exact q i a b
theorem ay_tall {C R : Nat} {F : Nat → Nat → Prop} (hb : ag_Bd C R F) (hC : C ≤ 16) (hR : R ≤ 16) (hc : ay_Ce C R F ce) {post : Int32 → Prop} {x y w : Nat} (w0 : 0 < w) (hx : x + w ≤ C) (hy : y ≤ R) (K : ∀ t, t ≤ R - y → ag_T F x y w t → post (nI t)) : wpY_tallest post (nI C, nI R, ce, yL, yB, yW, yH, th) (nI x) (nI y) (nI w) :=
  ⟨R - y + 1, ay_tall3 hb hC hR hc w0 hx hy K (R - y) 0 (by omega) (fun i j _ _ a b => absurd b (by omega))⟩
theorem ay_tallN {R y : Nat} {post : Int32 → Prop} {x w : Int32} (hR : R ≤ 16) (hy : R < y) (hy2 : y < 128) (K : post (nI R - nI y)) : wpY_tallest post (yC, nI R, ce, yL, yB, yW, yH, th) x (nI y) w := by
  refine ⟨1, br_t ?_ K⟩
  have h0 := pk_sneg (a := R) (b := y) (by omega) hy
  rw [Int32.lt_iff_toInt_lt] at h0 ⊢
  have e0 : (0 : Int32).toInt = 0 := by decide
  have e1 : (1 : Int32).toInt = 1 := by decide
  omega
/-! closed, areaOfHole -/
theorem ay_closed {C R : Nat} {F : Nat → Nat → Prop} (hb : ag_Bd C R F) (hC : C ≤ 16) (hR : R ≤ 16) (hc : ay_Ce C R F ce) {post : Int32 → Prop} {x y w h : Nat} (f : ag_FR F x y w h) (u : ¬ ag_FR F x (y + h) w 1) (K1 : ag_MX F x y w h → post 1) (K0 : ¬ ag_MX F x y w h → post 0) : wpY_closed post (nI C, nI R, ce, yL, yB, yW, yH, th) (nI x) (nI y) (nI w) (nI h) := by
  have bd := ag_bd hb f
  have fw := f.1
  have fh := f.2.1
  have third : (∀ x', x = x' + 1 → ¬ ag_FR F x' y 1 h) → ¬ ag_FR F (x + w) y 1 h → wpY_good (fun r_21 => (((r_21 = 0 → (post 1)) ∧ (¬ r_21 = 0 → (post 0))))) (nI C, nI R, ce, yL, yB, yW, yH, th) (nI x) (nI y - 1) (nI w) 1 := by
    intro a b
    rcases Nat.eq_zero_or_pos y with z | z
    · subst z
      exact ay_good_n1 (by decide) (br_t rfl (K1 (ag_loc.mpr ⟨f, a, b, fun y' e => absurd e (by omega), u⟩)))
    · obtain ⟨y1, rfl⟩ : ∃ y1, y = y1 + 1 := ⟨y - 1, by omega⟩
      rw [nI_pred]
      refine ay_good (h := 1) hb hC hR hc (by omega) (by omega) fw (by omega) (fun g => br_f (by decide) (K0 (fun m => (ag_loc.mp m).2.2.2.1 y1 rfl g))) (fun g => br_t rfl (K1 (ag_loc.mpr ⟨f, a, b, fun y' e g2 => ?_, u⟩)))
      have : y' = y1 := by omega
      subst this
      exact g g2
  have second : (∀ x', x = x' + 1 → ¬ ag_FR F x' y 1 h) → wpY_good (fun r_11 => (((r_11 = 0 → (wpY_good (fun r_21 => (((r_21 = 0 → (post 1)) ∧ (¬ r_21 = 0 → (post 0))))) (nI C, nI R, ce, yL, yB, yW, yH, th) (nI x) (nI y - 1) (nI w) 1)) ∧ (¬ r_11 = 0 → (post 0))))) (nI C, nI R, ce, yL, yB, yW, yH, th) (nI x + nI w) (nI y) 1 (nI h) := by
    intro a
    rw [nI_add]
    exact ay_good (w := 1) hb hC hR hc (by omega) (by omega) (by omega) fh (fun g => br_f (by decide) (K0 (fun m => (ag_loc.mp m).2.2.1 g))) (fun g => br_t rfl (third a g))
  unfold wpY_closed
  rcases Nat.eq_zero_or_pos x with z | z
  · subst z
    exact ay_good_n0 (by decide) (br_t rfl (second (fun x' e => absurd e (by omega))))
  · obtain ⟨x1, rfl⟩ : ∃ x1, x = x1 + 1 := ⟨x - 1, by omega⟩
    show wpY_good _ _ (nI (x1 + 1) - 1) _ _ _
    rw [nI_pred]
    refine ay_good (w := 1) hb hC hR hc (by omega) (by omega) (by omega) fh (fun g => br_f (by decide) (K0 (fun m => (ag_loc.mp m).2.1 x1 rfl g))) (fun g => br_t rfl (second (fun x' e g2 => ?_)))
    have : x' = x1 := by omega
    subst this
    exact g g2
theorem ay_dle {A B : Prop} {w c x : Nat} (hw : w < 1024) (hc : c < 1024) (hx : x < 1024) (f : x + w ≤ c → A) (g : c < x + w → B) : (nI w ≤ nI c - nI x → A) ∧ (¬ nI w ≤ nI c - nI x → B) := by
  rw [Int32.le_iff_toInt_le, pk_sub_toInt (by omega) (by omega), nI_toInt (by omega)]
  exact ⟨fun z => f (by omega), fun z => g (by omega)⟩
theorem ay_area {C R : Nat} {F : Nat → Nat → Prop} (hb : ag_Bd C R F) (hC : C ≤ 16) (hR : R ≤ 16) (hc : ay_Ce C R F ce) {post : Int32 → Prop} {x y w : Nat} (hx : x < 16) (hy : y < 16) (w0 : 0 < w) (hw : w ≤ 16) (K : ∀ A, A < 1024 → ((A = 0 ∧ ∀ h, ¬ ag_MX F x y w h) ∨ (∃ h, ag_MX F x y w h ∧ A = w * h)) → post (nI A)) : wpY_areaOfHole post (nI C, nI R, ce, yL, yB, yW, yH, th) (nI x) (nI y) (nI w) := by
  unfold wpY_areaOfHole
  refine ay_dle (by omega) (by omega) (by omega) (fun z => ?_) (fun z => ?_)
  · rcases Nat.lt_or_ge R y with q | q
    · refine ay_tallN hR q (by omega) (br_t ?_ (K 0 (by omega) (Or.inl ⟨rfl, fun h m => ?_⟩)))
      · exact Int32.le_of_lt (pk_sneg (by omega) q)
      · have := ag_bd hb m.1
        omega
    · refine ay_tall hb hC hR hc w0 z q (fun t ht T => pk_le t 0 (fun z2 => K 0 (by omega) (Or.inl ⟨rfl, fun h m => ?_⟩)) (fun z2 => ?_))
      · have := ag_T_h T m.1
        have := m.1.2.1
        omega
      · have f : ag_FR F x y w t := ⟨w0, z2, T.1⟩
        have u : ¬ ag_FR F x (y + t) w 1 := fun g => T.2 (fun i a b => g.2.2 i (y + t) a b (Nat.le_refl _) (by omega))
        refine ay_closed hb hC hR hc f u (fun m => br_f (by decide) ?_) (fun m => br_t rfl (K 0 (by omega) (Or.inl ⟨rfl, fun h m2 => ?_⟩)))
        · rw [pk_mul]
          have : w * t < 32 * 32 := Nat.mul_lt_mul'' (by omega) (by omega)
          exact K (w * t) (by omega) (Or.inr ⟨t, m, rfl⟩)
        · have a := ag_T_h T m2.1
          have b := m2.2 x y w t f ⟨by omega, by omega, by omega, by omega⟩
          have e : t = h := by omega
          subst e
          exact m m2
  · exact K 0 (by omega) (Or.inl ⟨rfl, fun h m => by have := ag_bd hb m.1; omega⟩)
end
end
section
/-! Y: holes, largestHole, fitting -/
section
variable {yC yR : Int32} {ce yL yB yW yH th : Nat → Int32}
theorem ay_and15 {q : Nat} (h : q < 256) : nI q &&& 15 = nI (q % 16) := by
  rw [pk_andN (by omega) 4 (by decide)]
theorem ay_shr4 {q : Nat} (h : q < 256) : nI q >>> ((4 : Int32) &&& 31) = nI (q / 16) := by
  rw [pk_shrN (by omega) _ 4 (by decide)]
/-- the place of a hole in Y's order -/
def ag_ky (c : Nat) : Nat := (16 * (c / 1024 % 32) + c / 32768) * 32 + c / 32 % 32
theorem ag_ky_pk {x y w h : Nat} (s : ag_S x y w h) : ag_ky (nI (ag_pk x y w h)).toNatClampNeg = (16 * y + x) * 32 + w := by
  have l := ag_pk_lt s
  rw [nI_clamp (by omega)]
  obtain ⟨s1, s2, s3, s4⟩ := s
  unfold ag_ky ag_pk
  have e1 : (x * 32768 + y * 1024 + w * 32 + h) / 1024 % 32 = y := by omega
  have e2 : (x * 32768 + y * 1024 + w * 32 + h) / 32768 = x := by omega
  have e3 : (x * 32768 + y * 1024 + w * 32 + h) / 32 % 32 = w := by omega
  rw [e1, e2, e3]
def ag_ct (ho : Nat → Int32) (n K : Nat) : Nat := ag_cn (fun k => decide (ag_ky (ho k).toNatClampNeg < K)) n
theorem ag_ct_no {ho : Nat → Int32} {n K K' : Nat} (hk : K ≤ K') (h : ∀ k, k < n → ¬ (K ≤ ag_ky (ho k).toNatClampNeg ∧ ag_ky (ho k).toNatClampNeg < K')) : ag_ct ho n K' = ag_ct ho n K := by
  unfold ag_ct
  apply ag_cn_c
  intro k hkn
  have := h k hkn
  by_cases z : ag_ky (ho k).toNatClampNeg < K
  · rw [decide_eq_true z, decide_eq_true (by omega)]
  · rw [decide_eq_false z, decide_eq_false (by omega)]
theorem ag_ct_one {ho : Nat → Int32} {n K k : Nat} (hk : k < n) (e : ag_ky (ho k).toNatClampNeg = K) (u : ∀ j, j < n → ag_ky (ho j).toNatClampNeg = K → j = k) : ag_ct ho n (K + 1) = ag_ct ho n K + 1 := by
  unfold ag_ct
  rw [ag_cn_a (p := fun k => decide (ag_ky (ho k).toNatClampNeg < K)) (e := fun k => decide (ag_ky (ho k).toNatClampNeg = K)) n (fun j hj => ?_) (fun j hj a b => ?_)]
  · rw [ag_cn_1 n hk (decide_eq_true e) (fun j hj z => u j hj (of_decide_eq_true z))]
  · by_cases z : ag_ky (ho j).toNatClampNeg < K
    · rw [decide_eq_true z, decide_eq_true (by omega)]
      rfl
    · by_cases z2 : ag_ky (ho j).toNatClampNeg = K
      · rw [decide_eq_true z2, decide_eq_true (by omega), Bool.or_true]
      · rw [decide_eq_false z, decide_eq_false z2, decide_eq_false (by omega)]
        rfl
  · have a' := of_decide_eq_true a
    have b' := of_decide_eq_true b
    omega
theorem ag_ct_all {ho : Nat → Int32} {n K : Nat} (h : ∀ k, k < n → ag_ky (ho k).toNatClampNeg < K) : ag_ct ho n K = n := ag_cn_all n (fun k hk => decide_eq_true (h k hk))
theorem ag_ct_le {ho : Nat → Int32} {n K : Nat} : ag_ct ho n K ≤ n := ag_cn_le _ n
/-- one step of the count -/
theorem ag_ct_step {C R : Nat} {F : Nat → Nat → Prop} (hb : ag_Bd C R F) (hC : C ≤ 16) (hR : R ≤ 16) {ho : Nat → Int32} {n : Nat} (H : ag_HS F (fun _ _ _ _ => True) n ho) {q w : Nat} (hw : w < 32) : ((∀ h, ¬ ag_MX F (q % 16) (q / 16) w h) → ag_ct ho n (q * 32 + (w + 1)) = ag_ct ho n (q * 32 + w)) ∧ (∀ h, ag_MX F (q % 16) (q / 16) w h → ag_ct ho n (q * 32 + (w + 1)) = ag_ct ho n (q * 32 + w) + 1) := by
  have key : ∀ k, k < n → ag_ky (ho k).toNatClampNeg = q * 32 + w → ∃ h, ag_MX F (q % 16) (q / 16) w h ∧ ho k = nI (ag_pk (q % 16) (q / 16) w h) := by
    intro k hk e
    obtain ⟨x, y, w', h, eh, m, _⟩ := H.1 k hk
    have bd := ag_bd hb m.1
    have fw := m.1.1
    rw [eh, ag_ky_pk (ag_MS hb hC hR m.1)] at e
    have e1 : w' = w := by omega
    have e2 : x = q % 16 := by omega
    have e3 : y = q / 16 := by omega
    subst e1 e2 e3
    exact ⟨h, m, eh⟩
  constructor
  · intro no
    refine ag_ct_no (by omega) (fun k hk z => ?_)
    obtain ⟨h, m, _⟩ := key k hk (by omega)
    exact no h m
  · intro h m
    obtain ⟨k, hk, e⟩ := H.2.1 _ _ _ _ m trivial
    have ek : ag_ky (ho k).toNatClampNeg = q * 32 + w := by
      rw [e, ag_ky_pk (ag_MS hb hC hR m.1)]
      omega
    refine ag_ct_one hk ek (fun j hj ej => ?_)
    obtain ⟨h', m', e'⟩ := key j hj ej
    have f := m.1
    have f' := m'.1
    have fh := f.2.1
    have fh' := f'.2.1
    have eh : h = h' := by
      rcases Nat.le_total h h' with z | z
      · have := m.2 _ _ _ _ f' ⟨by omega, by omega, by omega, by omega⟩
        omega
      · have := m'.2 _ _ _ _ f ⟨by omega, by omega, by omega, by omega⟩
        omega
    subst eh
    exact H.2.2 j k hj hk (e'.trans e.symm)
theorem ay_holes13 {C R : Nat} {F : Nat → Nat → Prop} (hb : ag_Bd C R F) (hC : C ≤ 16) (hR : R ≤ 16) (hc : ay_Ce C R F ce) {ho : Nat → Int32} {n : Nat} (H : ag_HS F (fun _ _ _ _ => True) n ho) {post : Int32 → Prop} {J4 : Int32 → Int32 → Prop} {q : Nat} (hq : q < 256) (K : J4 (nI (ag_ct ho n ((q + 1) * 32 + 1))) (nI (q + 1))) : ∀ d w, w + d = C → wY_holes_13 post J4 (nI q) (nI C) (nI R) ce yL yB yW yH th (d + 1) (nI (ag_ct ho n (q * 32 + (w + 1)))) (nI (w + 1)) := by
  intro d
  induction d with
  | zero =>
    intro w hw
    refine br_t (nI_lt (by omega) (by omega)) (nm_r (nI_1 q) ?_)
    have e : ag_ct ho n ((q + 1) * 32 + 1) = ag_ct ho n (q * 32 + (w + 1)) := by
      refine ag_ct_no (by omega) (fun k hk z => ?_)
      obtain ⟨x, y, w', h, eh, m, _⟩ := H.1 k hk
      have bd := ag_bd hb m.1
      have fw := m.1.1
      rw [eh, ag_ky_pk (ag_MS hb hC hR m.1)] at z
      omega
    rw [e] at K
    exact K
  | succ d ih =>
    intro w hw
    obtain ⟨s0, s1⟩ := ag_ct_step hb hC hR H (q := q) (w := w + 1) (by omega)
    refine br_f (nI_nlt (by omega) (by omega)) ?_
    rw [ay_and15 hq, ay_shr4 hq]
    refine ay_area hb hC hR hc (by omega) (by omega) (by omega) (by omega) (fun A hA a => ?_)
    have next := ih (w + 1) (by omega)
    rcases a with ⟨e, no⟩ | ⟨h, m, e⟩
    · subst e
      rw [s0 no] at next
      exact br_t (nI_le (a := 0) (b := 0) (Nat.le_refl _) (by omega)) (nm_r (nI_1 (w + 1)) next)
    · have fw := m.1.1
      have fh := m.1.2.1
      have ap : 0 < A := by rw [e]; exact Nat.mul_pos fw fh
      rw [s1 h m] at next
      exact br_f (nI_nle ap (by omega)) (nm_r (nI_1 _) (nm_r (nI_1 (w + 1)) next))
theorem ay_holes4 {C R : Nat} {F : Nat → Nat → Prop} (hb : ag_Bd C R F) (hC : C ≤ 16) (hR : R ≤ 16) (hc : ay_Ce C R F ce) {ho : Nat → Int32} {n : Nat} (H : ag_HS F (fun _ _ _ _ => True) n ho) {post : Int32 → Prop} (K : post (nI n)) : ∀ d q, q + d = 256 → wY_holes_4 post (nI C) (nI R) ce yL yB yW yH th (d + 1) (nI (ag_ct ho n (q * 32 + 1))) (nI q) := by
  intro d
  induction d with
  | zero =>
    intro q hq
    have e : q = 256 := by omega
    subst e
    refine br_t (nI_le (a := 256) (b := 256) (Nat.le_refl _) (by omega)) ?_
    rw [ag_ct_all (fun k hk => ?_)]
    · exact K
    · obtain ⟨x, y, w', h, eh, m, _⟩ := H.1 k hk
      have bd := ag_bd hb m.1
      have fw := m.1.1
      have fh := m.1.2.1
      rw [eh, ag_ky_pk (ag_MS hb hC hR m.1)]
      omega
  | succ d ih =>
    intro q hq
    exact br_f (nI_ge (b := 256) (by omega) (by omega)) ⟨C + 1, ay_holes13 hb hC hR hc H (by omega) (ih (q + 1) (by omega)) C 0 (by omega)⟩
theorem ay_holes {C R : Nat} {F : Nat → Nat → Prop} (hb : ag_Bd C R F) (hC : C ≤ 16) (hR : R ≤ 16) (hc : ay_Ce C R F ce) {ho : Nat → Int32} {n : Nat} (H : ag_HS F (fun _ _ _ _ => True) n ho) {post : Int32 → Prop} (K : post (nI n)) : wpY_holes post (nI C, nI R, ce, yL, yB, yW, yH, th) := by
  have e : ag_ct ho n (0 * 32 + 1) = 0 := by
    refine ag_cn_0 n (fun k hk => decide_eq_false ?_)
    obtain ⟨x, y, w', h, eh, m, _⟩ := H.1 k hk
    have fw := m.1.1
    rw [eh, ag_ky_pk (ag_MS hb hC hR m.1)]
    omega
  have g := ay_holes4 (yL := yL) (yB := yB) (yW := yW) (yH := yH) (th := th) hb hC hR hc H K 256 0 (by omega)
  rw [e] at g
  exact ⟨257, g⟩
/-! largestHole -/
theorem ay_large13 {C R : Nat} {F : Nat → Nat → Prop} (hb : ag_Bd C R F) (hC : C ≤ 16) (hR : R ≤ 16) (hc : ay_Ce C R F ce) {post : Int32 → Prop} {J4 : Int32 → Int32 → Prop} {q : Nat} (hq : q < 256) (K : ∀ m, m < 1024 → ag_LG (fun x y w h => ag_MX F x y w h ∧ (16 * y + x) * 32 + w < (q + 1) * 32 + 1) m → J4 (nI m) (nI (q + 1))) : ∀ d w m, w + d = C → m < 1024 → ag_LG (fun x y w2 h => ag_MX F x y w2 h ∧ (16 * y + x) * 32 + w2 < q * 32 + (w + 1)) m → wY_largestHole_13 post J4 (nI q) (nI C) (nI R) ce yL yB yW yH th (d + 1) (nI m) (nI (w + 1)) := by
  intro d
  induction d with
  | zero =>
    intro w m hw hm L
    refine br_t (nI_lt (by omega) (by omega)) (nm_r (nI_1 q) (K m hm ⟨fun x y w2 h p => ?_, ?_⟩))
    · have bd := ag_bd hb p.1.1
      have fw := p.1.1.1
      exact L.1 x y w2 h ⟨p.1, by omega⟩
    · rcases L.2 with z | ⟨x, y, w2, h, p, e⟩
      · exact Or.inl z
      · exact Or.inr ⟨x, y, w2, h, ⟨p.1, by have := p.2; omega⟩, e⟩
  | succ d ih =>
    intro w m hw hm L
    have key : ∀ x y w2 h, ag_MX F x y w2 h → (16 * y + x) * 32 + w2 < q * 32 + (w + 1 + 1) → (16 * y + x) * 32 + w2 < q * 32 + (w + 1) ∨ (x = q % 16 ∧ y = q / 16 ∧ w2 = w + 1) := by
      intro x y w2 h mx z
      have bd := ag_bd hb mx.1
      have fw := mx.1.1
      by_cases z2 : (16 * y + x) * 32 + w2 < q * 32 + (w + 1)
      · exact Or.inl z2
      · exact Or.inr (by omega)
    refine br_f (nI_nlt (by omega) (by omega)) ?_
    rw [ay_and15 hq, ay_shr4 hq]
    refine ay_area hb hC hR hc (by omega) (by omega) (by omega) (by omega) (fun A hA a => ?_)
    have same : (∀ h, ag_MX F (q % 16) (q / 16) (w + 1) h → (w + 1) * h ≤ A) := by
      intro h mx
      rcases a with ⟨_, no⟩ | ⟨h', mx', e⟩
      · exact absurd mx (no h)
      · have f := mx.1
        have f' := mx'.1
        have fh := f.2.1
        have fh' := f'.2.1
        have eh : h = h' := by
          rcases Nat.le_total h h' with z | z
          · have := mx.2 _ _ _ _ f' ⟨by omega, by omega, by omega, by omega⟩
            omega
          · have := mx'.2 _ _ _ _ f ⟨by omega, by omega, by omega, by omega⟩
            omega
        rw [eh, e]
        exact Nat.le_refl _
    refine pk_le A m (fun z => nm_r (nI_1 (w + 1)) (ih (w + 1) m (by omega) hm ⟨fun x y w2 h p => ?_, ?_⟩)) (fun z => nm_r (nI_1 (w + 1)) (ih (w + 1) A (by omega) hA ⟨fun x y w2 h p => ?_, ?_⟩))
    · rcases key x y w2 h p.1 p.2 with z2 | ⟨e1, e2, e3⟩
      · exact L.1 x y w2 h ⟨p.1, z2⟩
      · subst e1 e2 e3
        exact Nat.le_trans (same h p.1) z
    · rcases L.2 with z2 | ⟨x, y, w2, h, p, e⟩
      · exact Or.inl z2
      · exact Or.inr ⟨x, y, w2, h, ⟨p.1, by have := p.2; omega⟩, e⟩
    · rcases key x y w2 h p.1 p.2 with z2 | ⟨e1, e2, e3⟩
      · have := L.1 x y w2 h ⟨p.1, z2⟩
        omega
      · subst e1 e2 e3
        exact same h p.1
    · rcases a with ⟨e, _⟩ | ⟨h', mx', e⟩
      · omega
      · exact Or.inr ⟨q % 16, q / 16, w + 1, h', ⟨mx', by omega⟩, e.symm⟩
theorem ay_large4 {C R : Nat} {F : Nat → Nat → Prop} (hb : ag_Bd C R F) (hC : C ≤ 16) (hR : R ≤ 16) (hc : ay_Ce C R F ce) {post : Int32 → Prop} (K : ∀ m, ag_LG (ag_MX F) m → post (nI m)) : ∀ d q m, q + d = 256 → m < 1024 → ag_LG (fun x y w h => ag_MX F x y w h ∧ (16 * y + x) * 32 + w < q * 32 + 1) m → wY_largestHole_4 post (nI C) (nI R) ce yL yB yW yH th (d + 1) (nI m) (nI q) := by
  intro d
  induction d with
  | zero =>
    intro q m hq hm L
    have e : q = 256 := by omega
    subst e
    refine br_t (nI_le (a := 256) (b := 256) (Nat.le_refl _) (by omega)) (K m ⟨fun x y w h p => ?_, ?_⟩)
    · have bd := ag_bd hb p.1
      have fw := p.1.1
      have fh := p.1.2.1
      exact L.1 x y w h ⟨p, by omega⟩
    · rcases L.2 with z | ⟨x, y, w2, h, p, e⟩
      · exact Or.inl z
      · exact Or.inr ⟨x, y, w2, h, p.1, e⟩
  | succ d ih =>
    intro q m hq hm L
    exact br_f (nI_ge (b := 256) (by omega) (by omega)) ⟨C + 1, ay_large13 hb hC hR hc (by omega) (fun m' hm' L' => ih (q + 1) m' (by omega) hm' L') C 0 m (by omega) hm L⟩
theorem ay_large {C R : Nat} {F : Nat → Nat → Prop} (hb : ag_Bd C R F) (hC : C ≤ 16) (hR : R ≤ 16) (hc : ay_Ce C R F ce) {post : Int32 → Prop} (K : ∀ m, ag_LG (ag_MX F) m → post (nI m)) : wpY_largestHole post (nI C, nI R, ce, yL, yB, yW, yH, th) :=
  ⟨257, ay_large4 hb hC hR hc K 256 0 0 (by omega) (by omega) ⟨fun x y w h p => by
    have := p.2
    have := p.1.1.1
    omega, Or.inl rfl⟩⟩
/-! fitting -/
def ag_FQ (F : Nat → Nat → Prop) (w q t : Nat) : Prop := (∀ x y h, x < 16 → 16 * y + x < q → ag_FR F x y w h → h ≤ t) ∧ (t = 0 ∨ ∃ x y, ag_FR F x y w t)
theorem ay_fit17 {C R : Nat} {F : Nat → Nat → Prop} (hb : ag_Bd C R F) (hC : C ≤ 16) (hR : R ≤ 16) (hc : ay_Ce C R F ce) {post : Int32 → Prop} {J4 : Int32 → Int32 → Prop} {x1 : Int32} {w : Nat} (w0 : 0 < w) (hw : w ≤ 16) (K : ∀ t, ag_MT F w t → J4 (x1 + nI t) (nI (w + 1))) : ∀ d q t, q + d = 256 → t ≤ 16 → ag_FQ F w q t → wY_fitting_17 post J4 x1 (nI w) (nI C) (nI R) ce yL yB yW yH th (d + 1) (nI t) (nI q) := by
  intro d
  induction d with
  | zero =>
    intro q t hq ht L
    have e : q = 256 := by omega
    subst e
    refine br_t (nI_le (a := 256) (b := 256) (Nat.le_refl _) (by omega)) (nm_e (nm_r (nI_1 w) (K t ⟨fun x y h f => ?_, L.2⟩)))
    have bd := ag_bd hb f
    have fh := f.2.1
    exact L.1 x y h (by omega) (by omega) f
  | succ d ih =>
    intro q t hq ht L
    have hq2 : q < 256 := by omega
    have j68 : ∀ z, z ≤ 16 → (∀ h, ag_FR F (q % 16) (q / 16) w h → h ≤ z) → (z = 0 ∨ ∃ x y, ag_FR F x y w z) → wY_fitting_68 post J4 (wY_fitting_17 post J4 x1 (nI w) (nI C) (nI R) ce yL yB yW yH th (d + 1)) x1 (nI w) (nI t) (nI q) (nI z) (nI C) (nI R) ce yL yB yW yH th := by
      intro z hz z1 z2
      have key : ∀ x y, x < 16 → 16 * y + x < q + 1 → 16 * y + x < q ∨ (x = q % 16 ∧ y = q / 16) := by
        intro x y hx k
        by_cases k2 : 16 * y + x < q
        · exact Or.inl k2
        · exact Or.inr (by omega)
      refine pk_le z t (fun le => nm_r (nI_1 q) (ih (q + 1) t (by omega) ht ⟨fun x y h hx k f => ?_, L.2⟩)) (fun le => nm_r (nI_1 q) (ih (q + 1) z (by omega) hz ⟨fun x y h hx k f => ?_, z2⟩))
      · rcases key x y hx k with k2 | ⟨e1, e2⟩
        · exact L.1 x y h hx k2 f
        · subst e1 e2
          exact Nat.le_trans (z1 h f) le
      · rcases key x y hx k with k2 | ⟨e1, e2⟩
        · have := L.1 x y h hx k2 f
          omega
        · subst e1 e2
          exact z1 h f
    refine br_f (nI_ge (b := 256) (by omega) (by omega)) ?_
    rw [ay_and15 hq2, ay_shr4 hq2]
    refine pk_lt C (q % 16 + w) (fun z => ?_) (fun z => ?_) rfl (nI_add _ _)
    · unfold wY_fitting_50
      exact j68 0 (by omega) (fun h f => by have := ag_bd hb f; omega) (Or.inl rfl)
    · refine pk_lt (q / 16) R (fun z2 => ?_) (fun z2 => ?_)
      · refine ay_tall hb hC hR hc w0 z (by omega) (fun t' ht' T => j68 t' (by omega) (fun h f => ag_T_h T f) ?_)
        rcases Nat.eq_zero_or_pos t' with z3 | z3
        · exact Or.inl z3
        · exact Or.inr ⟨q % 16, q / 16, w0, z3, T.1⟩
      · unfold wY_fitting_50
        exact j68 0 (by omega) (fun h f => by have := ag_bd hb f; have := f.2.1; omega) (Or.inl rfl)
theorem ay_fit4 {C R : Nat} {F : Nat → Nat → Prop} (hb : ag_Bd C R F) (hC : C ≤ 16) (hR : R ≤ 16) (hc : ay_Ce C R F ce) {tf : Nat → Nat} (ht : ∀ k, ag_MT F (k + 1) (tf k)) {post : Int32 → Prop} (K : post (nI (ag_sum tf C))) : ∀ d k, k + d = C → wY_fitting_4 post (nI C) (nI R) ce yL yB yW yH th (d + 1) (nI (ag_sum tf k)) (nI (k + 1)) := by
  intro d
  induction d with
  | zero =>
    intro k hk
    have e : k = C := by omega
    subst e
    exact br_t (nI_lt (by omega) (by omega)) K
  | succ d ih =>
    intro k hk
    refine br_f (nI_nlt (by omega) (by omega)) ⟨257, ay_fit17 hb hC hR hc (by omega) (by omega) (fun t L => ?_) 256 0 0 (by omega) (by omega) ⟨fun x y h _ q => absurd q (by omega), Or.inl rfl⟩⟩
    have e := ag_MT_u L (ht k)
    subst e
    rw [nI_add]
    exact ih (k + 1) (by omega)
theorem ay_fit {C R : Nat} {F : Nat → Nat → Prop} (hb : ag_Bd C R F) (hC : C ≤ 16) (hR : R ≤ 16) (hc : ay_Ce C R F ce) {tf : Nat → Nat} (ht : ∀ k, ag_MT F (k + 1) (tf k)) {post : Int32 → Prop} (K : post (nI (ag_sum tf C))) : wpY_fitting post (nI C, nI R, ce, yL, yB, yW, yH, th) :=
  ⟨C + 1, ay_fit4 hb hC hR hc ht K C 0 (by omega)⟩
end
end
section
/-! Y: count, paint, lay, freeCells, clear -/
section
variable {yC yR : Int32} {ce yL yB yW yH th : Nat → Int32}
def ag_us (th : Nat → Int32) : Nat → Bool := fun k => decide (¬ th k = 0)
theorem ay_count4 {post : Int32 → Prop} (K : post (nI (ag_cn (ag_us th) 20))) : ∀ d k, k + d = 20 → wY_count_4 post yC yR ce yL yB yW yH th (d + 1) (nI (ag_cn (ag_us th) k)) (nI k) := by
  intro d
  induction d with
  | zero =>
    intro k hk
    have e : k = 20 := by omega
    subst e
    exact br_t (nI_le (a := 20) (b := 20) (Nat.le_refl _) (by omega)) K
  | succ d ih =>
    intro k hk
    have next := ih (k + 1) (by omega)
    refine br_f (nI_ge (b := 20) (by omega) (by omega)) ⟨vp_in_nI (by omega) (by omega), ?_⟩
    rw [nI_clamp (n := k) (by omega)]
    refine br_c (fun z => nm_r (nI_1 k) ?_) (fun z => nm_r (nI_1 _) (nm_r (nI_1 k) ?_))
    · rw [ag_cn_f (decide_eq_false (fun q => q z))] at next
      exact next
    · rw [ag_cn_t (decide_eq_true z)] at next
      exact next
theorem ay_count {post : Int32 → Prop} (K : post (nI (ag_cn (ag_us th) 20))) : wpY_count post (yC, yR, ce, yL, yB, yW, yH, th) := ⟨21, ay_count4 K 20 0 (by omega)⟩
/-- a table with a rectangle painted -/
def ay_Pt (ce ce' : Nat → Int32) (l b w h : Nat) (v : Int32) : Prop := ∀ x y, x < 16 → ce' (16 * y + x) = if l ≤ x ∧ x < l + w ∧ b ≤ y ∧ y < b + h then v else ce (16 * y + x)
theorem ay_paint32 {post : SY → Prop} {J7 : Int32 → (Nat → Int32) → (Nat → Int32) → (Nat → Int32) → (Nat → Int32) → (Nat → Int32) → (Nat → Int32) → Prop} {id l w j : Nat} {v : Int32} (hid : id < 20) (el : yL id = nI l) (ew : yW id = nI w) (hl : l + w ≤ 16) (hj : j < 16) {ce0 : Nat → Int32} (K : ∀ ce', (∀ x y, x < 16 → ce' (16 * y + x) = if (l ≤ x ∧ x < l + w ∧ y = j) then v else ce0 (16 * y + x)) → J7 (nI (j + 1)) ce' yL yB yW yH th) : ∀ d i, i + d = l + w → l ≤ i → ∀ ce1 : Nat → Int32, (∀ x y, x < 16 → ce1 (16 * y + x) = if (l ≤ x ∧ x < i ∧ y = j) then v else ce0 (16 * y + x)) → wY_paint_32 post J7 (nI id) v (nI j) yC yR (d + 1) (nI i) ce1 yL yB yW yH th := by
  have ei : (nI id).toNatClampNeg = id := nI_clamp (by omega)
  have es : yL (nI id).toNatClampNeg + yW (nI id).toNatClampNeg = nI (l + w) := by rw [ei, el, ew, nI_add]
  have hi : vp_in (nI id) 20 := vp_in_nI hid (by omega)
  intro d
  induction d with
  | zero =>
    intro i hk hli ce1 hf
    have e : i = l + w := by omega
    subst e
    refine ⟨hi, hi, br_t ?_ (nm_r (nI_1 j) (K ce1 hf))⟩
    rw [es]
    exact nI_le (Nat.le_refl _) (by omega)
  | succ d ih =>
    intro i hk hli ce1 hf
    refine ⟨hi, hi, br_f ?_ ?_⟩
    · rw [es]
      exact nI_ge (by omega) (by omega)
    · rw [ay_ix, nI_clamp (n := 16 * j + i) (by omega)]
      refine ⟨vp_in_nI (by omega) (by omega), nm_e (nm_r (nI_1 i) (ih (i + 1) (by omega) (by omega) _ (fun x y hx => ?_)))⟩
      by_cases e : 16 * y + x = 16 * j + i
      · rw [e, pk_us, if_pos (by omega)]
      · rw [pk_un e, hf x y hx]
        by_cases z : l ≤ x ∧ x < i ∧ y = j
        · rw [if_pos z, if_pos (by omega)]
        · rw [if_neg z, if_neg (by omega)]
theorem ay_paint7 {post : SY → Prop} {id l b w h : Nat} {v : Int32} (hid : id < 20) (el : yL id = nI l) (eb : yB id = nI b) (ew : yW id = nI w) (eh : yH id = nI h) (hl : l + w ≤ 16) (hb : b + h ≤ 16) {ce0 : Nat → Int32} (K : ∀ ce', ay_Pt ce0 ce' l b w h v → post (yC, yR, ce', yL, yB, yW, yH, th)) : ∀ d j, j + d = b + h → b ≤ j → ∀ ce1 : Nat → Int32, (∀ x y, x < 16 → ce1 (16 * y + x) = if (l ≤ x ∧ x < l + w ∧ b ≤ y ∧ y < j) then v else ce0 (16 * y + x)) → wY_paint_7 post (nI id) v yC yR (d + 1) (nI j) ce1 yL yB yW yH th := by
  have ei : (nI id).toNatClampNeg = id := nI_clamp (by omega)
  have es : yB (nI id).toNatClampNeg + yH (nI id).toNatClampNeg = nI (b + h) := by rw [ei, eb, eh, nI_add]
  have hi : vp_in (nI id) 20 := vp_in_nI hid (by omega)
  intro d
  induction d with
  | zero =>
    intro j hk hbj ce1 hf
    have e : j = b + h := by omega
    subst e
    refine ⟨hi, hi, br_t ?_ (K ce1 hf)⟩
    rw [es]
    exact nI_le (Nat.le_refl _) (by omega)
  | succ d ih =>
    intro j hk hbj ce1 hf
    refine ⟨hi, hi, br_f ?_ ⟨hi, nm_r (e' := nI l) (by rw [ei, el]) ⟨w + 1, ay_paint32 (ce0 := ce1) hid el ew hl (by omega) (fun ce2 h2 => ih (j + 1) (by omega) (by omega) ce2 (fun x y hx => ?_)) w l rfl (Nat.le_refl _) ce1 (fun x y hx => ?_)⟩⟩⟩
    · rw [es]
      exact nI_ge (by omega) (by omega)
    · rw [h2 x y hx]
      by_cases z : l ≤ x ∧ x < l + w ∧ y = j
      · rw [if_pos z, if_pos (by omega)]
      · rw [if_neg z, hf x y hx]
        by_cases z2 : l ≤ x ∧ x < l + w ∧ b ≤ y ∧ y < j
        · rw [if_pos z2, if_pos (by omega)]
        · rw [if_neg z2, if_neg (by omega)]
    · rw [if_neg (by omega)]
theorem ay_paint {post : SY → Prop} {id l b w h : Nat} {v : Int32} (hid : id < 20) (el : yL id = nI l) (eb : yB id = nI b) (ew : yW id = nI w) (eh : yH id = nI h) (hl : l + w ≤ 16) (hb : b + h ≤ 16) (K : ∀ ce', ay_Pt ce ce' l b w h v → post (yC, yR, ce', yL, yB, yW, yH, th)) : wpY_paint post (yC, yR, ce, yL, yB, yW, yH, th) (nI id) v := by
  have ei : (nI id).toNatClampNeg = id := nI_clamp (by omega)
  refine ⟨vp_in_nI hid (by omega), nm_r (e' := nI b) (by rw [ei, eb]) ⟨h + 1, ay_paint7 hid el eb ew eh hl hb K h b rfl (Nat.le_refl _) ce (fun x y hx => ?_)⟩⟩
  rw [if_neg (by omega)]
theorem ay_bool1 : vp_nar .boolean 1 = 1 := by decide
theorem ay_bool0 : vp_nar .boolean 0 = 0 := by decide
theorem ay_lay7 {post : Int32 → SY → Prop} {id x y w h : Nat} (hid : id < 20) (t0 : th id = 0) (tl : ∀ k, k < id → ¬ th k = 0) (hx : x + w ≤ 16) (hy : y + h ≤ 16) (h0 : 0 < h)
    (K : ∀ ce', ay_Pt ce ce' x y w h (nI id) → post (nI id) (yC, yR, ce', upd yL id (nI x), upd yB id (nI y), upd yW id (nI w), upd yH id (nI h), upd th id 1)) : ∀ k c, k ≤ 20 → c < 20 → (k ≤ id → c = id) → wY_lay_7 post (nI (256 * y + x)) (nI w) (nI h) yC yR ce yL yB yW yH th (k + 1) (nI c) (nI k + (-1)) := by
  intro k
  induction k with
  | zero =>
    intro c hk hc inv
    have e : c = id := inv (by omega)
    subst e
    have hi : vp_in (nI c) 20 := vp_in_nI hid (by omega)
    have ei : (nI c).toNatClampNeg = c := nI_clamp (by omega)
    refine br_t (by decide) ⟨hi, nm_r (e' := upd th c 1) (by rw [ei, ay_bool1]) ⟨hi, nm_r (e' := upd yL c (nI x)) (by rw [ei, ax_lo (by omega) (by omega)]) ⟨hi, nm_r (e' := upd yB c (nI y)) (by rw [ei, ax_hi (by omega) (by omega)]) ⟨hi, nm_r (e' := upd yW c (nI w)) (by rw [ei]) ⟨hi, nm_r (e' := upd yH c (nI h)) (by rw [ei]) ?_⟩⟩⟩⟩⟩
    exact ay_paint hid pk_us pk_us pk_us pk_us hx hy K
  | succ k ih =>
    intro c hk hc inv
    rw [pk_m1]
    refine br_f (nI_pos (by omega)) ⟨vp_in_nI (by omega) (by omega), ?_⟩
    rw [nI_clamp (n := k) (by omega)]
    refine br_c (fun z => nm_e (ih k (by omega) (by omega) (fun q => ?_))) (fun z => nm_e (ih c (by omega) hc (fun q => inv ?_)))
    · rcases Nat.lt_or_ge k id with r | r
      · exact absurd z (tl k r)
      · omega
    · rcases Nat.lt_or_ge k id with r | r
      · omega
      · have e : k = id := by omega
        rw [e] at z
        exact absurd t0 z
theorem ay_lay {post : Int32 → SY → Prop} {id x y w h : Nat} (hid : id < 20) (t0 : th id = 0) (tl : ∀ k, k < id → ¬ th k = 0) (hx : x + w ≤ 16) (hy : y + h ≤ 16) (h0 : 0 < h)
    (K : ∀ ce', ay_Pt ce ce' x y w h (nI id) → post (nI id) (yC, yR, ce', upd yL id (nI x), upd yB id (nI y), upd yW id (nI w), upd yH id (nI h), upd th id 1)) : wpY_lay post (yC, yR, ce, yL, yB, yW, yH, th) (nI (256 * y + x)) (nI w) (nI h) :=
  ⟨21, ay_lay7 hid t0 tl hx hy h0 K 20 0 (Nat.le_refl _) (by omega) (fun q => absurd q (by omega))⟩
/-! freeCells -/
def ag_fc (ce : Nat → Int32) : Nat → Nat → Bool := fun x y => decide (ce (16 * y + x) = -1)
theorem ay_free14 {C : Nat} (hC : C ≤ 16) {post : Int32 → Prop} {J4 : Int32 → Int32 → Prop} {y a : Nat} (hy : y < 16) (K : J4 (nI (a + ag_cn (fun x => ag_fc ce x y) C)) (nI (y + 1))) : ∀ d x, x + d = C → wY_freeCells_14 post J4 (nI y) (nI C) yR ce yL yB yW yH th (d + 1) (nI (a + ag_cn (fun x => ag_fc ce x y) x)) (nI x) := by
  intro d
  induction d with
  | zero =>
    intro x hx
    have e : x = C := by omega
    subst e
    exact br_t (nI_le (Nat.le_refl _) (by omega)) (nm_r (nI_1 y) K)
  | succ d ih =>
    intro x hx
    have next := ih (x + 1) (by omega)
    refine br_f (nI_ge (by omega) (by omega)) ?_
    rw [ay_ix, nI_clamp (n := 16 * y + x) (by omega)]
    refine ⟨vp_in_nI (by omega) (by omega), br_c (fun z => nm_r (nI_1 _) (nm_r (nI_1 x) ?_)) (fun z => nm_r (nI_1 x) ?_)⟩
    · rw [ag_cn_t (p := fun x => ag_fc ce x y) (decide_eq_true z)] at next
      exact next
    · rw [ag_cn_f (p := fun x => ag_fc ce x y) (decide_eq_false z)] at next
      exact next
theorem ay_free4 {C R : Nat} (hC : C ≤ 16) (hR : R ≤ 16) {post : Int32 → Prop} (K : post (nI (ag_c2 (ag_fc ce) C R))) : ∀ d y, y + d = R → wY_freeCells_4 post (nI C) (nI R) ce yL yB yW yH th (d + 1) (nI (ag_c2 (ag_fc ce) C y)) (nI y) := by
  intro d
  induction d with
  | zero =>
    intro y hy
    have e : y = R := by omega
    subst e
    exact br_t (nI_le (Nat.le_refl _) (by omega)) K
  | succ d ih =>
    intro y hy
    exact br_f (nI_ge (by omega) (by omega)) ⟨C + 1, ay_free14 hC (a := ag_c2 (ag_fc ce) C y) (by omega) (ih (y + 1) (by omega)) C 0 (by omega)⟩
theorem ay_free {C R : Nat} (hC : C ≤ 16) (hR : R ≤ 16) {post : Int32 → Prop} (K : post (nI (ag_c2 (ag_fc ce) C R))) : wpY_freeCells post (nI C, nI R, ce, yL, yB, yW, yH, th) :=
  ⟨R + 1, ay_free4 hC hR K R 0 (by omega)⟩
/-! clear -/
theorem ay_clear28 {post : Int32 → SY → Prop} {x1 : Int32} (K : ∀ ce', (∀ i, i < 256 → ce' i = -1) → post x1 (yC, yR, ce', yL, yB, yW, yH, th)) : ∀ d k (ce1 : Nat → Int32), k + d = 256 → (∀ i, i < k → ce1 i = -1) → wY_clear_28 post x1 yC yR (d + 1) (nI k) ce1 yL yB yW yH th := by
  intro d
  induction d with
  | zero =>
    intro k ce1 hk hf
    have e : k = 256 := by omega
    subst e
    exact br_t (nI_le (a := 256) (b := 256) (Nat.le_refl _) (by omega)) (K ce1 hf)
  | succ d ih =>
    intro k ce1 hk hf
    refine br_f (nI_ge (b := 256) (by omega) (by omega)) ⟨vp_in_nI (by omega) (by omega), nm_e (nm_r (nI_1 k) (ih (k + 1) _ (by omega) (fun i hi => ?_)))⟩
    rw [nI_clamp (by omega)]
    by_cases e : i = k
    · rw [e, pk_us]
    · rw [pk_un e]
      exact hf i (by omega)
theorem ay_clear7 {post : Int32 → SY → Prop} {x1 : Int32} (K : ∀ ce' th', (∀ i, i < 256 → ce' i = -1) → (∀ i, i < 20 → th' i = 0) → post x1 (yC, yR, ce', yL, yB, yW, yH, th')) : ∀ d k (th1 : Nat → Int32), k + d = 20 → (∀ i, i < k → th1 i = 0) → wY_clear_7 post x1 yC yR (d + 1) (nI k) ce yL yB yW yH th1 := by
  intro d
  induction d with
  | zero =>
    intro k th1 hk hf
    have e : k = 20 := by omega
    subst e
    exact br_t (nI_le (a := 20) (b := 20) (Nat.le_refl _) (by omega)) ⟨257, ay_clear28 (fun ce' h => K ce' th1 h hf) 256 0 ce (by omega) (fun i hi => absurd hi (by omega))⟩
  | succ d ih =>
    intro k th1 hk hf
    refine br_f (nI_ge (b := 20) (by omega) (by omega)) ⟨vp_in_nI (by omega) (by omega), nm_e (nm_r (nI_1 k) (ih (k + 1) _ (by omega) (fun i hi => ?_)))⟩
    rw [nI_clamp (by omega)]
    by_cases e : i = k
    · rw [e, pk_us]
      exact ay_bool0
    · rw [pk_un e]
      exact hf i (by omega)
theorem ay_clear {post : Int32 → SY → Prop} (K : ∀ ce' th', (∀ i, i < 256 → ce' i = -1) → (∀ i, i < 20 → th' i = 0) → post (nI (ag_cn (ag_us th) 20)) (yC, yR, ce', yL, yB, yW, yH, th')) : wpY_clear post (yC, yR, ce, yL, yB, yW, yH, th) := by
  unfold wpY_clear
  exact ay_count ⟨21, ay_clear7 K 20 0 th (by omega) (fun i hi => absurd hi (by omega))⟩
theorem ay_init105 {post : SY → Prop} (K : ∀ ce', (∀ i, i < 256 → ce' i = -1) → post (yC, yR, ce', yL, yB, yW, yH, th)) : ∀ d k (ce1 : Nat → Int32), k + d = 256 → (∀ i, i < k → ce1 i = -1) → wY_init_105 post yC yR (d + 1) (nI k) ce1 yL yB yW yH th := by
  intro d
  induction d with
  | zero =>
    intro k ce1 hk hf
    have e : k = 256 := by omega
    subst e
    exact br_t (nI_le (a := 256) (b := 256) (Nat.le_refl _) (by omega)) (K ce1 hf)
  | succ d ih =>
    intro k ce1 hk hf
    refine br_f (nI_ge (b := 256) (by omega) (by omega)) ⟨vp_in_nI (by omega) (by omega), nm_e (nm_r (nI_1 k) (ih (k + 1) _ (by omega) (fun i hi => ?_)))⟩
    rw [nI_clamp (by omega)]
    by_cases e : i = k
    · rw [e, pk_us]
    · rw [pk_un e]
      exact hf i (by omega)
end
end
section
/-! the relation -/
/-- rectangle id covers (x, y); w id = 0: the number is not in use -/
def ar_in (l b w h : Nat → Nat) (id x y : Nat) : Prop := l id ≤ x ∧ x < l id + w id ∧ b id ≤ y ∧ y < b id + h id
def ar_F (C R : Nat) (l b w h : Nat → Nat) : Nat → Nat → Prop := fun x y => x < C ∧ y < R ∧ ∀ id, id < 20 → ¬ ar_in l b w h id x y
theorem ar_bd {C R : Nat} {l b w h : Nat → Nat} : ag_Bd C R (ar_F C R l b w h) := fun _ _ f => ⟨f.1, f.2.1⟩
def ar_Id (C R : Nat) (l b w h : Nat → Nat) (aL aB aW aH yL yB yW yH th : Nat → Int32) : Prop := ∀ id, id < 20 → aW id = nI (w id) ∧ (w id = 0 → th id = 0) ∧ (0 < w id → ¬ th id = 0 ∧ aL id = nI (l id) ∧ aB id = nI (b id) ∧ aH id = nI (h id) ∧ yL id = nI (l id) ∧ yB id = nI (b id) ∧ yW id = nI (w id) ∧ yH id = nI (h id) ∧ 0 < h id ∧ l id + w id ≤ C ∧ b id + h id ≤ R)
def ar_Ce (C R : Nat) (l b w h : Nat → Nat) (ce : Nat → Int32) : Prop := ∀ x y, x < C → y < R → (∀ id, id < 20 → ar_in l b w h id x y → ce (16 * y + x) = nI id) ∧ (ar_F C R l b w h x y → ce (16 * y + x) = -1)
def ar_ct (w : Nat → Nat) : Nat := ag_cn (fun k => decide (0 < w k)) 20
def ar_R (C R : Nat) (l b w h : Nat → Nat) (rc hc : Int32) (aL aB aW aH fb ho ce yL yB yW yH th : Nat → Int32) : Prop :=
  (0 < C ∧ C ≤ 16 ∧ 0 < R ∧ R ≤ 16) ∧ ar_Id C R l b w h aL aB aW aH yL yB yW yH th ∧ ar_Ce C R l b w h ce ∧ rc = nI (ar_ct w) ∧ ax_Fb R (ar_F C R l b w h) fb ∧ ∃ n, hc = nI n ∧ ag_HS (ar_F C R l b w h) (fun _ _ _ _ => True) n ho
/-- the relation at the head of a turn -/
def i_Rel (_ : Nat) (u : SX) (v : SY) : Prop := match u, v with
  | (cC, cR, rc, hc, cc, aL, aB, aW, aH, fb, ho, ca, sS, sH), (yC, yR, ce, yL, yB, yW, yH, th) => ∃ C R l b w h, cC = nI C ∧ cR = nI R ∧ yC = nI C ∧ yR = nI R ∧ ar_R C R l b w h rc hc aL aB aW aH fb ho ce yL yB yW yH th
theorem i_up {k : Nat} {u : SX} {v : SY} (h : i_Rel k u v) : i_Rel (k + 4) u v := h
theorem ar_Fn {C R : Nat} {l b w h : Nat → Nat} {x y : Nat} (hx : x < C) (hy : y < R) (n : ¬ ar_F C R l b w h x y) : ∃ id, id < 20 ∧ ar_in l b w h id x y := by
  apply Classical.byContradiction
  intro z
  exact n ⟨hx, hy, fun id hid q => z ⟨id, hid, q⟩⟩
theorem ar_ay {C R : Nat} {l b w h : Nat → Nat} {ce : Nat → Int32} (c : ar_Ce C R l b w h ce) : ay_Ce C R (ar_F C R l b w h) ce := by
  intro x y hx hy
  obtain ⟨c1, c2⟩ := c x y hx hy
  refine ⟨fun e => ?_, c2⟩
  apply Classical.byContradiction
  intro n
  obtain ⟨id, hid, q⟩ := ar_Fn hx hy n
  exact ax_neg1 (a := id) (by omega) ((c1 id hid q).symm.trans e)
/-- rectangles don't meet -/
theorem ar_dis {C R : Nat} {l b w h : Nat → Nat} {ce : Nat → Int32} (c : ar_Ce C R l b w h ce) {x y i j : Nat} (hx : x < C) (hy : y < R) (hi : i < 20) (hj : j < 20) (a : ar_in l b w h i x y) (d : ar_in l b w h j x y) : i = j := by
  obtain ⟨c1, _⟩ := c x y hx hy
  exact (nI_eq (by omega) (by omega)).mp ((c1 i hi a).symm.trans (c1 j hj d))
theorem ar_us {C R : Nat} {l b w h : Nat → Nat} {aL aB aW aH yL yB yW yH th : Nat → Int32} (I : ar_Id C R l b w h aL aB aW aH yL yB yW yH th) : ag_cn (ag_us th) 20 = ar_ct w := by
  refine ag_cn_c 20 (fun k hk => ?_)
  obtain ⟨_, i1, i2⟩ := I k hk
  show decide (¬ th k = 0) = decide (0 < w k)
  rcases Nat.eq_zero_or_pos (w k) with z | z
  · rw [decide_eq_false (p := 0 < w k) (by omega), decide_eq_false (fun q => q (i1 z))]
  · rw [decide_eq_true (p := 0 < w k) z, decide_eq_true (i2 z).1]
section
variable {cC cR rc hc cc : Int32} {aL aB aW aH fb ho ca sS sH : Nat → Int32}
theorem ax_used0 {post : Int32 → Prop} {u : SX} {p : Int32} (h : p < 0 ∨ 20 ≤ p) (K : post 0) : wpX_isUsed post u p := by
  obtain ⟨cC, cR, rc, hc, cc, aL, aB, aW, aH, fb, ho, ca, sS, sH⟩ := u
  exact br_c (fun _ => K) (fun z => br_c (fun _ => K) (fun z2 => by
    rcases h with h | h
    · exact absurd h z
    · exact absurd h z2))
theorem ax_usedN {post : Int32 → Prop} {j w : Nat} (hj : j < 20) (e : aW j = nI w) (hw : w < 128) (K0 : w = 0 → post 0) (K1 : 0 < w → post 1) : wpX_isUsed post (cC, cR, rc, hc, cc, aL, aB, aW, aH, fb, ho, ca, sS, sH) (nI j) := by
  refine br_f (nI_pos (by omega)) (br_f (nI_ge (b := 20) hj (by omega)) ⟨vp_in_nI hj (by omega), ?_⟩)
  rw [nI_clamp (n := j) (by omega), e]
  exact pk_eq w 0 K0 (fun z => K1 (by omega))
variable {yC yR : Int32} {ce yL yB yW yH th : Nat → Int32}
theorem ay_there0 {post : Int32 → Prop} {v : SY} {p : Int32} (h : p < 0 ∨ 20 ≤ p) (K : post 0) : wpY_isThere post v p := by
  obtain ⟨yC, yR, ce, yL, yB, yW, yH, th⟩ := v
  exact br_c (fun _ => K) (fun z => br_c (fun _ => K) (fun z2 => by
    rcases h with h | h
    · exact absurd h z
    · exact absurd h z2))
theorem ay_thereN {post : Int32 → Prop} {j : Nat} (hj : j < 20) (K0 : th j = 0 → post 0) (K1 : ¬ th j = 0 → post 1) : wpY_isThere post (yC, yR, ce, yL, yB, yW, yH, th) (nI j) := by
  refine br_f (nI_pos (by omega)) (br_f (nI_ge (b := 20) hj (by omega)) ⟨vp_in_nI hj (by omega), ?_⟩)
  rw [nI_clamp (n := j) (by omega)]
  exact br_c K0 K1
theorem ar_w {C R : Nat} {l b w h : Nat → Nat} (hC : C ≤ 16) (I : ar_Id C R l b w h aL aB aW aH yL yB yW yH th) {id : Nat} (hid : id < 20) : w id ≤ 16 := by
  obtain ⟨_, _, i2⟩ := I id hid
  rcases Nat.eq_zero_or_pos (w id) with z | z
  · omega
  · obtain ⟨_, _, _, _, _, _, _, _, _, q, _⟩ := i2 z
    omega
/-! look -/
theorem ar_look {C R : Nat} {l b w h : Nat → Nat} {cc : Int32} {ca sS sH : Nat → Int32} (Rl : ar_R C R l b w h rc hc aL aB aW aH fb ho ce yL yB yW yH th) (p q : Int32) : ∃ r, (∀ post : Int32 → Prop, post r → wpX_look post (nI C, nI R, rc, hc, cc, aL, aB, aW, aH, fb, ho, ca, sS, sH) p q) ∧ (∀ post : Int32 → Prop, post r → wpY_look post (nI C, nI R, ce, yL, yB, yW, yH, th) p q) := by
  obtain ⟨⟨_, hC, _, hR⟩, I, _⟩ := Rl
  rcases pk_ix p (n := 20) (by omega) with z | z | ⟨j, hj, rfl⟩
  · refine ⟨-1, fun post K => ?_, fun post K => ?_⟩
    · unfold wpX_look
      exact ax_used0 (Or.inl z) (br_t rfl K)
    · unfold wpY_look
      exact ay_there0 (Or.inl z) (br_t rfl K)
  · refine ⟨-1, fun post K => ?_, fun post K => ?_⟩
    · unfold wpX_look
      exact ax_used0 (Or.inr z) (br_t rfl K)
    · unfold wpY_look
      exact ay_there0 (Or.inr z) (br_t rfl K)
  · have hw := ar_w hC I hj
    obtain ⟨i0, i1, i2⟩ := I j hj
    have hi : vp_in (nI j) 20 := vp_in_nI hj (by omega)
    have ej : (nI j).toNatClampNeg = j := nI_clamp (by omega)
    rcases Nat.eq_zero_or_pos (w j) with z | z
    · refine ⟨-1, fun post K => ?_, fun post K => ?_⟩
      · unfold wpX_look
        exact ax_usedN hj i0 (by omega) (fun _ => br_t rfl K) (fun z2 => absurd z2 (by omega))
      · unfold wpY_look
        exact ay_thereN hj (fun _ => br_t rfl K) (fun z2 => absurd (i1 z) z2)
    · obtain ⟨t, e1, e2, e3, f1, f2, f3, f4, _⟩ := i2 z
      refine ⟨if q = 0 then nI (l j) else if q = 1 then nI (b j) else if q = 2 then nI (w j) else if q = 3 then nI (h j) else -1, fun post K => ?_, fun post K => ?_⟩
      · unfold wpX_look
        refine ax_usedN hj i0 (by omega) (fun z2 => absurd z2 (by omega)) (fun _ => br_f (by decide) ?_)
        rw [ej, e1, e2, e3, i0]
        refine br_c (fun c => ⟨hi, ?_⟩) (fun c => br_c (fun c2 => ⟨hi, ?_⟩) (fun c2 => br_c (fun c3 => ⟨hi, ?_⟩) (fun c3 => br_c (fun c4 => ⟨hi, ?_⟩) (fun c4 => ?_))))
        · rw [if_pos c] at K; exact K
        · rw [if_neg c, if_pos c2] at K; exact K
        · rw [if_neg c, if_neg c2, if_pos c3] at K; exact K
        · rw [if_neg c, if_neg c2, if_neg c3, if_pos c4] at K; exact K
        · rw [if_neg c, if_neg c2, if_neg c3, if_neg c4] at K; exact K
      · unfold wpY_look
        refine ay_thereN hj (fun z2 => absurd z2 t) (fun _ => br_f (by decide) ?_)
        rw [ej, f1, f2, f3, f4]
        refine br_c (fun c => ⟨hi, ?_⟩) (fun c => br_c (fun c2 => ⟨hi, ?_⟩) (fun c2 => br_c (fun c3 => ⟨hi, ?_⟩) (fun c3 => br_c (fun c4 => ⟨hi, ?_⟩) (fun c4 => ?_))))
        · rw [if_pos c] at K; exact K
        · rw [if_neg c, if_pos c2] at K; exact K
        · rw [if_neg c, if_neg c2, if_pos c3] at K; exact K
        · rw [if_neg c, if_neg c2, if_neg c3, if_pos c4] at K; exact K
        · rw [if_neg c, if_neg c2, if_neg c3, if_neg c4] at K; exact K
/-! owner -/
theorem ax_owner_28 {C R : Nat} {l b w h : Nat → Nat} (hC : C ≤ 16) (hR : R ≤ 16) (I : ar_Id C R l b w h aL aB aW aH yL yB yW yH th) {post : Int32 → Prop} {x y : Nat} (hx : x < 16) (hy : y < 16) (K1 : ∀ id, id < 20 → ar_in l b w h id x y → post (nI id)) (K0 : (∀ id, id < 20 → ¬ ar_in l b w h id x y) → post (-3)) : ∀ d k, k + d = 20 → (∀ i, i < k → ¬ ar_in l b w h i x y) → wX_owner_28 post (nI x) (nI y) cC cR rc hc cc aL aB aW aH fb ho ca sS sH (d + 1) (nI k) := by
  intro d
  induction d with
  | zero =>
    intro k hk no
    exact br_t (nI_le (a := 20) (by omega) (by omega)) (K0 (fun id hid => no id (by omega)))
  | succ d ih =>
    intro k hk no
    have hi : vp_in (nI k) 20 := vp_in_nI (by omega) (by omega)
    have hw := ar_w hC I (id := k) (by omega)
    obtain ⟨i0, i1, i2⟩ := I k (by omega)
    have next : ¬ ar_in l b w h k x y → wX_owner_28 post (nI x) (nI y) cC cR rc hc cc aL aB aW aH fb ho ca sS sH (d + 1) (nI (k + 1)) := fun z => ih (k + 1) (by omega) (fun i hi => by
      by_cases e : i = k
      · rw [e]; exact z
      · exact no i (by omega))
    refine br_f (nI_ge (b := 20) (by omega) (by omega)) ⟨hi, ?_⟩
    rw [nI_clamp (n := k) (by omega), i0]
    refine pk_eq (w k) 0 (fun z => nm_r (nI_1 k) (next (fun q => ?_))) (fun z => ⟨hi, ?_⟩)
    · have := q.1
      have := q.2.1
      omega
    · obtain ⟨t, e1, e2, e3, f1, f2, f3, f4, h0, g1, g2⟩ := i2 (by omega)
      rw [e1, e2, e3]
      refine pk_lt x (l k) (fun z2 => nm_r (nI_1 k) (next (fun q => ?_))) (fun z2 => ⟨hi, pk_le (b k) y (fun z3 => ⟨hi, hi, pk_le (l k + w k) x (fun z4 => nm_r (nI_1 k) (next (fun q => ?_))) (fun z4 => ⟨hi, hi, pk_le (b k + h k) y (fun z5 => nm_r (nI_1 k) (next (fun q => ?_))) (fun z5 => K1 k (by omega) ⟨z2, z4, z3, z5⟩) (nI_add _ _)⟩) (nI_add _ _)⟩) (fun z3 => nm_r (nI_1 k) (next (fun q => ?_)))⟩)
      · have := q.1
        omega
      · have := q.2.1
        omega
      · have := q.2.2.2
        omega
      · have := q.2.2.1
        omega
theorem ar_owner {C R : Nat} {l b w h : Nat → Nat} (Rl : ar_R C R l b w h rc hc aL aB aW aH fb ho ce yL yB yW yH th) (p q : Int32) : ∃ r, (∀ post : Int32 → Prop, post r → wpX_owner post (nI C, nI R, rc, hc, cc, aL, aB, aW, aH, fb, ho, ca, sS, sH) p q) ∧ (∀ post : Int32 → Prop, post r → wpY_owner post (nI C, nI R, ce, yL, yB, yW, yH, th) p q) := by
  obtain ⟨⟨_, hC, _, hR⟩, I, c, _⟩ := Rl
  rcases pk_ix p (n := C) (by omega) with z | z | ⟨x, hx, rfl⟩
  · exact ⟨-1, fun post K => br_t z K, fun post K => br_t z K⟩
  · exact ⟨-1, fun post K => br_c (fun _ => K) (fun _ => br_t z K), fun post K => br_c (fun _ => K) (fun _ => br_t z K)⟩
  · rcases pk_ix q (n := R) (by omega) with z | z | ⟨y, hy, rfl⟩
    · exact ⟨-1, fun post K => br_c (fun _ => K) (fun _ => br_c (fun _ => K) (fun _ => br_t z K)), fun post K => br_c (fun _ => K) (fun _ => br_c (fun _ => K) (fun _ => br_t z K))⟩
    · have z' : ¬ q < nI R := Int32.not_lt.mpr z
      exact ⟨-1, fun post K => br_c (fun _ => K) (fun _ => br_c (fun _ => K) (fun _ => br_c (fun _ => K) (fun _ => br_f z' K))), fun post K => br_c (fun _ => K) (fun _ => br_c (fun _ => K) (fun _ => br_c (fun _ => K) (fun _ => br_f z' K)))⟩
    · obtain ⟨c1, c2⟩ := c x y hx hy
      have hxy : 16 * y + x < 256 := by omega
      have inY : ∀ (post : Int32 → Prop), (∀ v, v = ce (16 * y + x) → (v = -1 → post (-3)) ∧ (¬ v = -1 → post v)) → wpY_owner post (nI C, nI R, ce, yL, yB, yW, yH, th) (nI x) (nI y) := by
        intro post K
        refine br_f (nI_pos (by omega)) (br_f (nI_ge hx (by omega)) (br_f (nI_pos (by omega)) (br_t (nI_lt hy (by omega)) ?_)))
        rw [ay_ix, nI_clamp (n := 16 * y + x) (by omega)]
        exact ⟨vp_in_nI hxy (by omega), K⟩
      have inX : ∀ (post : Int32 → Prop), (∀ id, id < 20 → ar_in l b w h id x y → post (nI id)) → ((∀ id, id < 20 → ¬ ar_in l b w h id x y) → post (-3)) → wpX_owner post (nI C, nI R, rc, hc, cc, aL, aB, aW, aH, fb, ho, ca, sS, sH) (nI x) (nI y) := by
        intro post K1 K0
        exact br_f (nI_pos (by omega)) (br_f (nI_ge hx (by omega)) (br_f (nI_pos (by omega)) (br_t (nI_lt hy (by omega)) ⟨21, ax_owner_28 hC hR I (by omega) (by omega) K1 K0 20 0 (by omega) (fun i hi => absurd hi (by omega))⟩)))
      by_cases fr : ar_F C R l b w h x y
      · refine ⟨-3, fun post K => inX post (fun id hid z => absurd z (fr.2.2 id hid)) (fun _ => K), fun post K => inY post (fun v e => br_t (e.trans (c2 fr)) K)⟩
      · obtain ⟨id, hid, a⟩ := ar_Fn hx hy fr
        refine ⟨nI id, fun post K => inX post (fun id' hid' a' => ?_) (fun no => absurd a (no id hid)), fun post K => inY post (fun v e => ?_)⟩
        · rw [ar_dis c hx hy hid' hid a' a]; exact K
        · have e2 : v = nI id := e.trans (c1 id hid a)
          subst e2
          exact br_f (ax_neg1 (by omega)) K
end
end
section
/-! freeCells -/
def ar_ob (l b w h : Nat → Nat) : Nat → Nat → Nat → Bool
  | 0 => fun _ _ => true
  | k + 1 => fun x y => ar_ob l b w h k x y && !(decide (l k ≤ x ∧ x < l k + w k ∧ b k ≤ y ∧ y < b k + h k))
theorem ar_ob_s {l b w h : Nat → Nat} {k x y : Nat} : ar_ob l b w h (k + 1) x y = (ar_ob l b w h k x y && !(decide (l k ≤ x ∧ x < l k + w k ∧ b k ≤ y ∧ y < b k + h k))) := rfl
theorem ar_ob_t {l b w h : Nat → Nat} {x y : Nat} : ∀ k, ar_ob l b w h k x y = true ↔ ∀ id, id < k → ¬ ar_in l b w h id x y := by
  intro k
  induction k with
  | zero => exact ⟨fun _ id hid => absurd hid (by omega), fun _ => rfl⟩
  | succ k ih =>
    rw [ar_ob_s]
    constructor
    · intro e id hid
      rw [Bool.and_eq_true] at e
      by_cases z : id = k
      · subst z
        intro q
        have := e.2
        rw [decide_eq_true (show l id ≤ x ∧ x < l id + w id ∧ b id ≤ y ∧ y < b id + h id from q)] at this
        exact absurd this (by decide)
      · exact ih.mp e.1 id (by omega)
    · intro e
      rw [Bool.and_eq_true]
      refine ⟨ih.mpr (fun id hid => e id (by omega)), ?_⟩
      rw [decide_eq_false (show ¬ (l k ≤ x ∧ x < l k + w k ∧ b k ≤ y ∧ y < b k + h k) from e k (by omega))]
      rfl
theorem ar_ob_c {C R : Nat} {l b w h : Nat → Nat} {ce : Nat → Int32} (c : ar_Ce C R l b w h ce) {k : Nat} (hk : k < 20) (h0 : 0 < h k) (hl : l k + w k ≤ C) (hb : b k + h k ≤ R) : ag_c2 (ar_ob l b w h k) C R = ag_c2 (ar_ob l b w h (k + 1)) C R + w k * h k := by
  rw [ag_c2_a (p := ar_ob l b w h (k + 1)) (e := fun x y => decide (l k ≤ x ∧ x < l k + w k ∧ b k ≤ y ∧ y < b k + h k)) R (fun x y hx hy => ?_) (fun x y hx hy p q => ?_), ag_c2_rect hl]
  · by_cases z : R ≤ b k
    · omega
    · rw [if_neg z]
      by_cases z2 : R ≤ b k + h k
      · rw [if_pos z2, show R - b k = h k from by omega]
      · rw [if_neg z2]
  · by_cases z : l k ≤ x ∧ x < l k + w k ∧ b k ≤ y ∧ y < b k + h k
    · show _ = (_ || decide _)
      rw [decide_eq_true z, Bool.or_true]
      refine (ar_ob_t k).mpr (fun id hid q => ?_)
      have := ar_dis c hx hy (by omega) hk q z
      omega
    · show _ = (_ || decide _)
      rw [ar_ob_s, decide_eq_false z, Bool.or_false]
      simp
  · have q' : l k ≤ x ∧ x < l k + w k ∧ b k ≤ y ∧ y < b k + h k := of_decide_eq_true q
    exact (ar_ob_t (k + 1)).mp p k (by omega) q'
section
variable {cC cR rc hc cc : Int32} {aL aB aW aH fb ho ca sS sH : Nat → Int32}
variable {yC yR : Int32} {ce yL yB yW yH th : Nat → Int32}
theorem ax_free_12 {C R : Nat} {l b w h : Nat → Nat} (hC : C ≤ 16) (hR : R ≤ 16) (I : ar_Id C R l b w h aL aB aW aH yL yB yW yH th) (c : ar_Ce C R l b w h ce) {post : Int32 → Prop} (K : post (nI (ag_c2 (ar_ob l b w h 20) C R))) : ∀ d k, k + d = 20 → wX_freeCells_12 post cC cR rc hc cc aL aB aW aH fb ho ca sS sH (d + 1) (nI (ag_c2 (ar_ob l b w h k) C R)) (nI k) := by
  intro d
  induction d with
  | zero =>
    intro k hk
    have e : k = 20 := by omega
    subst e
    exact br_t (nI_le (a := 20) (b := 20) (Nat.le_refl _) (by omega)) K
  | succ d ih =>
    intro k hk
    have hi : vp_in (nI k) 20 := vp_in_nI (by omega) (by omega)
    have hw := ar_w hC I (id := k) (by omega)
    have next := ih (k + 1) (by omega)
    obtain ⟨i0, i1, i2⟩ := I k (by omega)
    refine br_f (nI_ge (b := 20) (by omega) (by omega)) ⟨hi, ?_⟩
    rw [nI_clamp (n := k) (by omega), i0]
    refine pk_eq (w k) 0 (fun z => nm_r (nI_1 k) ?_) (fun z => ⟨hi, hi, ?_⟩)
    · have e : ag_c2 (ar_ob l b w h (k + 1)) C R = ag_c2 (ar_ob l b w h k) C R := by
        refine ag_c2_c R (fun x y hx hy => ?_)
        rw [ar_ob_s, decide_eq_false (by omega)]
        simp
      rw [e] at next
      exact next
    · obtain ⟨t, e1, e2, e3, f1, f2, f3, f4, h0, g1, g2⟩ := i2 (by omega)
      rw [e3]
      refine nm_r (e' := nI (ag_c2 (ar_ob l b w h (k + 1)) C R)) ?_ (nm_r (nI_1 k) next)
      rw [pk_mul, ar_ob_c c (by omega) h0 g1 g2, pk_sub (by omega)]
      exact congrArg nI (by omega)
theorem ar_free {C R : Nat} {l b w h : Nat → Nat} (Rl : ar_R C R l b w h rc hc aL aB aW aH fb ho ce yL yB yW yH th) : ∃ r, (∀ post : Int32 → Prop, post r → wpX_freeCells post (nI C, nI R, rc, hc, cc, aL, aB, aW, aH, fb, ho, ca, sS, sH)) ∧ (∀ post : Int32 → Prop, post r → wpY_freeCells post (nI C, nI R, ce, yL, yB, yW, yH, th)) := by
  obtain ⟨⟨_, hC, _, hR⟩, I, c, _⟩ := Rl
  refine ⟨nI (ag_c2 (ar_ob l b w h 20) C R), fun post K => ?_, fun post K => ay_free hC hR ?_⟩
  · refine nm_r (e' := nI (ag_c2 (ar_ob l b w h 0) C R)) ?_ ⟨21, ax_free_12 hC hR I c K 20 0 (by omega)⟩
    rw [pk_mul, ag_c2_all (p := ar_ob l b w h 0) R (fun x y _ _ => rfl)]
  · have e : ag_c2 (ag_fc ce) C R = ag_c2 (ar_ob l b w h 20) C R := by
      refine ag_c2_c R (fun x y hx hy => ?_)
      have q := ar_ay c x y hx hy
      by_cases fr : ar_F C R l b w h x y
      · rw [(ar_ob_t 20).mpr fr.2.2]
        exact decide_eq_true (q.mpr fr)
      · have n : ¬ ar_ob l b w h 20 x y = true := fun z => fr ⟨hx, hy, (ar_ob_t 20).mp z⟩
        rw [ts_nt n]
        exact decide_eq_false (fun z => fr (q.mp z))
    rw [e]
    exact K
end
end
section
/-! the relation from call to call -/
theorem ar_bits {R l b w h : Nat} {F : Nat → Nat → Prop} {fb fb' : Nat → Int32} {m : Int32} (hf : ax_Fb R F fb) (hm : ∀ i, i < 32 → bt m i = decide (l ≤ i ∧ i < l + w)) (e : ∀ y, fb' y = if b ≤ y ∧ y < b + h then fb y ^^^ m else fb y) {x y : Nat} (hy : y < R) (hx : x < 32) : ((l ≤ x ∧ x < l + w ∧ b ≤ y ∧ y < b + h) → (bt (fb' y) x = true ↔ ¬ F x y)) ∧ (¬ (l ≤ x ∧ x < l + w ∧ b ≤ y ∧ y < b + h) → (bt (fb' y) x = true ↔ F x y)) := by
  have q := hf y hy x hx
  constructor
  · intro z
    rw [e y, if_pos ⟨z.2.2.1, z.2.2.2⟩, b_xor, hm x hx, decide_eq_true (p := l ≤ x ∧ x < l + w) ⟨z.1, z.2.1⟩]
    by_cases f : F x y
    · rw [q.mpr f]
      exact ⟨fun a => absurd a (by decide), fun a => absurd f a⟩
    · rw [ts_nt (fun a => f (q.mp a))]
      exact ⟨fun _ => f, fun _ => by decide⟩
  · intro z
    rw [e y]
    by_cases z2 : b ≤ y ∧ y < b + h
    · rw [if_pos z2, b_xor, hm x hx, decide_eq_false (p := l ≤ x ∧ x < l + w) (by omega), Bool.xor_false]
      exact q
    · rw [if_neg z2]
      exact q
theorem ar_in_u {l b w h : Nat → Nat} {id x y W H p q : Nat} : ar_in (ag_nu l id x) (ag_nu b id y) (ag_nu w id W) (ag_nu h id H) id p q ↔ (x ≤ p ∧ p < x + W ∧ y ≤ q ∧ q < y + H) := by
  unfold ar_in
  rw [ag_nus, ag_nus, ag_nus, ag_nus]
theorem ar_in_n {l b w h : Nat → Nat} {id x y W H i p q : Nat} (n : i ≠ id) : ar_in (ag_nu l id x) (ag_nu b id y) (ag_nu w id W) (ag_nu h id H) i p q ↔ ar_in l b w h i p q := by
  unfold ar_in
  rw [ag_nun n, ag_nun n, ag_nun n, ag_nun n]
theorem ar_in_0 {l b w h : Nat → Nat} {id p q : Nat} (z : w id = 0) : ¬ ar_in l b w h id p q := by
  intro a
  have := a.1
  have := a.2.1
  omega
theorem ar_F_pl {C R : Nat} {l b w h : Nat → Nat} {id x y W H : Nat} (hid : id < 20) (z : w id = 0) : ar_F C R (ag_nu l id x) (ag_nu b id y) (ag_nu w id W) (ag_nu h id H) = ag_Tk (ar_F C R l b w h) x y W H := by
  funext i j
  apply propext
  constructor
  · intro ⟨a, b', c⟩
    refine ⟨⟨a, b', fun k hk q => ?_⟩, fun q => c id hid (ar_in_u.mpr q)⟩
    by_cases e : k = id
    · subst e
      exact ar_in_0 z q
    · exact c k hk ((ar_in_n e).mpr q)
  · intro ⟨⟨a, b', c⟩, d⟩
    refine ⟨a, b', fun k hk q => ?_⟩
    by_cases e : k = id
    · subst e
      exact d (ar_in_u.mp q)
    · exact c k hk ((ar_in_n e).mp q)
theorem ar_ct_u {w : Nat → Nat} {id W : Nat} (hid : id < 20) (z : w id = 0) (W0 : 0 < W) : ar_ct (ag_nu w id W) = ar_ct w + 1 := by
  unfold ar_ct
  rw [ag_cn_a (p := fun k => decide (0 < w k)) (e := fun k => decide (k = id)) 20 (fun k hk => ?_) (fun k hk a b => ?_), ag_cn_1 20 hid (decide_eq_true rfl) (fun j hj e => of_decide_eq_true e)]
  · by_cases e : k = id
    · rw [e, ag_nus, decide_eq_true W0, decide_eq_true rfl, Bool.or_true]
    · rw [ag_nun e, decide_eq_false e, Bool.or_false]
  · have a' := of_decide_eq_true a
    have b' := of_decide_eq_true b
    rw [b'] at a'
    omega
section
variable {cC cR rc hc cc : Int32} {aL aB aW aH fb ho ca sS sH : Nat → Int32}
variable {yC yR : Int32} {ce yL yB yW yH th : Nat → Int32}
theorem ar_place {C R n : Nat} {l b w h : Nat → Nat} {id x y W H : Nat} {m : Int32} {fb' ho' ce' : Nat → Int32} (Rl : ar_R C R l b w h rc hc aL aB aW aH fb ho ce yL yB yW yH th) (hid : id < 20) (z : w id = 0) (f : ag_FR (ar_F C R l b w h) x y W H) (hm : ∀ i, i < 32 → bt m i = decide (x ≤ i ∧ i < x + W)) (e : ∀ j, fb' j = if y ≤ j ∧ j < y + H then fb j ^^^ m else fb j) (P : ay_Pt ce ce' x y W H (nI id)) (HS : ag_HS (ag_Tk (ar_F C R l b w h) x y W H) (fun _ _ _ _ => True) n ho') :
    ar_R C R (ag_nu l id x) (ag_nu b id y) (ag_nu w id W) (ag_nu h id H) (rc + 1) (nI n) (upd aL id (nI x)) (upd aB id (nI y)) (upd aW id (nI W)) (upd aH id (nI H)) fb' ho' ce' (upd yL id (nI x)) (upd yB id (nI y)) (upd yW id (nI W)) (upd yH id (nI H)) (upd th id 1) := by
  obtain ⟨⟨hC0, hC, hR0, hR⟩, I, c, er, hf, _⟩ := Rl
  have bd := ag_bd ar_bd f
  have W0 := f.1
  have H0 := f.2.1
  refine ⟨⟨hC0, hC, hR0, hR⟩, fun i hi => ?_, fun i j hi hj => ?_, ?_, fun j hj i hi => ?_, n, rfl, ?_⟩
  · by_cases q : i = id
    · subst q
      rw [ag_nus, ag_nus, ag_nus, ag_nus, pk_us, pk_us, pk_us, pk_us, pk_us, pk_us, pk_us, pk_us, pk_us]
      exact ⟨rfl, fun z2 => absurd z2 (by omega), fun _ => ⟨by decide, rfl, rfl, rfl, rfl, rfl, rfl, rfl, H0, bd.1, bd.2⟩⟩
    · rw [ag_nun q, ag_nun q, ag_nun q, ag_nun q, pk_un q, pk_un q, pk_un q, pk_un q, pk_un q, pk_un q, pk_un q, pk_un q, pk_un q]
      exact I i hi
  · have p := P i j (by omega)
    obtain ⟨c1, c2⟩ := c i j hi hj
    rw [ar_F_pl hid z]
    refine ⟨fun k hk a => ?_, fun a => ?_⟩
    · by_cases q : k = id
      · subst q
        rw [p, if_pos (ar_in_u.mp a)]
      · have a' := (ar_in_n q).mp a
        rw [p, if_neg (fun t => ?_)]
        · exact c1 k hk a'
        · exact (f.2.2 i j t.1 t.2.1 t.2.2.1 t.2.2.2).2.2 k hk a'
    · rw [p, if_neg a.2]
      exact c2 a.1
  · rw [ar_ct_u hid z W0, er, nI_1]
  · rw [ar_F_pl hid z]
    obtain ⟨b1, b2⟩ := ar_bits hf hm e hj hi
    by_cases t : x ≤ i ∧ i < x + W ∧ y ≤ j ∧ j < y + H
    · rw [b1 t]
      exact ⟨fun a => absurd (f.2.2 i j t.1 t.2.1 t.2.2.1 t.2.2.2) a, fun a => absurd t a.2⟩
    · rw [b2 t]
      exact ⟨fun a => ⟨a, t⟩, fun a => a.1⟩
  · rw [ar_F_pl hid z]
    exact HS
theorem ar_rem_in {l b w h : Nat → Nat} {id i p q : Nat} : ar_in l b (ag_nu w id 0) h i p q ↔ (i ≠ id ∧ ar_in l b w h i p q) := by
  by_cases e : i = id
  · subst e
    exact ⟨fun a => absurd a (ar_in_0 ag_nus), fun a => absurd rfl a.1⟩
  · unfold ar_in
    rw [ag_nun e]
    exact ⟨fun a => ⟨e, a⟩, fun a => a.2⟩
theorem ar_rem_F {C R : Nat} {l b w h : Nat → Nat} {id i j : Nat} (c : ar_Ce C R l b w h ce) (hid : id < 20) (hi : i < C) (hj : j < R) : ar_F C R l b (ag_nu w id 0) h i j ↔ (ar_F C R l b w h i j ∨ ar_in l b w h id i j) := by
  constructor
  · intro a
    by_cases t : ar_in l b w h id i j
    · exact Or.inr t
    · refine Or.inl ⟨hi, hj, fun k hk q => ?_⟩
      by_cases e : k = id
      · subst e
        exact t q
      · exact a.2.2 k hk (ar_rem_in.mpr ⟨e, q⟩)
  · intro a
    refine ⟨hi, hj, fun k hk q => ?_⟩
    obtain ⟨n, q'⟩ := ar_rem_in.mp q
    rcases a with a | a
    · exact a.2.2 k hk q'
    · exact n (ar_dis c hi hj hk hid q' a)
theorem ar_rem_fb {C R : Nat} {l b w h : Nat → Nat} {id : Nat} {m : Int32} {fb' : Nat → Int32} (hC : C ≤ 16) (c : ar_Ce C R l b w h ce) (hf : ax_Fb R (ar_F C R l b w h) fb) (hid : id < 20) (hl : l id + w id ≤ C) (hm : ∀ i, i < 32 → bt m i = decide (l id ≤ i ∧ i < l id + w id)) (e : ∀ j, fb' j = if b id ≤ j ∧ j < b id + h id then fb j ^^^ m else fb j) : ax_Fb R (ar_F C R l b (ag_nu w id 0) h) fb' := by
  intro j hj i hi
  obtain ⟨b1, b2⟩ := ar_bits hf hm e hj hi
  by_cases hiC : i < C
  · rw [ar_rem_F c hid hiC hj]
    by_cases t : l id ≤ i ∧ i < l id + w id ∧ b id ≤ j ∧ j < b id + h id
    · rw [b1 t]
      exact ⟨fun _ => Or.inr t, fun _ a => a.2.2 id hid t⟩
    · rw [b2 t]
      exact ⟨fun a => Or.inl a, fun a => a.elim (fun z => z) (fun z => absurd z t)⟩
  · rw [b2 (by omega)]
    exact ⟨fun a => absurd a.1 hiC, fun a => absurd a.1 hiC⟩
theorem ar_remove {C R n : Nat} {l b w h : Nat → Nat} {id : Nat} {fb' ho' ce' : Nat → Int32} (Rl : ar_R C R l b w h rc hc aL aB aW aH fb ho ce yL yB yW yH th) (hid : id < 20) (z : 0 < w id) (hf' : ax_Fb R (ar_F C R l b (ag_nu w id 0) h) fb') (P : ay_Pt ce ce' (l id) (b id) (w id) (h id) (-1)) (HS : ag_HS (ar_F C R l b (ag_nu w id 0) h) (fun _ _ _ _ => True) n ho') :
    ar_R C R l b (ag_nu w id 0) h (rc - 1) (nI n) aL aB (upd aW id 0) aH fb' ho' ce' yL yB yW yH (upd th id 0) := by
  obtain ⟨⟨hC0, hC, hR0, hR⟩, I, c, er, hf, _⟩ := Rl
  refine ⟨⟨hC0, hC, hR0, hR⟩, fun i hi => ?_, fun i j hi hj => ?_, ?_, hf', n, rfl, HS⟩
  · by_cases q : i = id
    · subst q
      rw [ag_nus, pk_us, pk_us]
      exact ⟨rfl, fun _ => rfl, fun z2 => absurd z2 (by omega)⟩
    · rw [ag_nun q, pk_un q, pk_un q]
      exact I i hi
  · have p := P i j (by omega)
    obtain ⟨c1, c2⟩ := c i j hi hj
    refine ⟨fun k hk a => ?_, fun a => ?_⟩
    · obtain ⟨ne, a'⟩ := ar_rem_in.mp a
      have nt : ¬ (l id ≤ i ∧ i < l id + w id ∧ b id ≤ j ∧ j < b id + h id) := fun t => ne (ar_dis c hi hj hk hid a' t)
      rw [p, if_neg nt]
      exact c1 k hk a'
    · by_cases t : l id ≤ i ∧ i < l id + w id ∧ b id ≤ j ∧ j < b id + h id
      · rw [p, if_pos t]
      · rw [p, if_neg t]
        exact c2 (((ar_rem_F c hid hi hj).mp a).elim (fun z => z) (fun z => absurd z t))
  · have e : w = ag_nu (ag_nu w id 0) id (w id) := by
      funext k
      by_cases q : k = id
      · rw [q, ag_nus]
      · rw [ag_nun q, ag_nun q]
    have e2 : ar_ct w = ar_ct (ag_nu w id 0) + 1 := by
      have := ar_ct_u (w := ag_nu w id 0) (id := id) (W := w id) hid ag_nus z
      rw [← e] at this
      exact this
    rw [er, e2, nI_pred]
theorem ar_new {C R : Nat} (hC0 : 0 < C) (hC : C ≤ 16) (hR0 : 0 < R) (hR : R ≤ 16) (eW : ∀ i, i < 20 → aW i = 0) (ef : ∀ y, y < R → ∀ x, x < 32 → bt (fb y) x = decide (x < C)) (eh : ho 0 = nI (ag_pk 0 0 C R)) (ec : ∀ i, i < 256 → ce i = -1) (et : ∀ i, i < 20 → th i = 0) : ar_R C R (fun _ => 0) (fun _ => 0) (fun _ => 0) (fun _ => 0) 0 1 aL aB aW aH fb ho ce yL yB yW yH th := by
  have ni : ∀ i x y, ¬ ar_in (fun _ => 0) (fun _ => 0) (fun _ => 0) (fun _ => 0) i x y := fun i x y => ar_in_0 rfl
  have eF : ∀ x y, x < C → y < R → ar_F C R (fun _ => 0) (fun _ => 0) (fun _ => 0) (fun _ => 0) x y := fun x y hx hy => ⟨hx, hy, fun k _ => ni k x y⟩
  have fr : ag_FR (ar_F C R (fun _ => 0) (fun _ => 0) (fun _ => 0) (fun _ => 0)) 0 0 C R := ⟨hC0, hR0, fun i j _ a _ b => eF i j (by omega) (by omega)⟩
  have mx : ag_MX (ar_F C R (fun _ => 0) (fun _ => 0) (fun _ => 0) (fun _ => 0)) 0 0 C R := by
    refine ⟨fr, fun x y w h f i => ?_⟩
    have bd := ag_bd ar_bd f
    obtain ⟨i1, i2, i3, i4⟩ := i
    omega
  refine ⟨⟨hC0, hC, hR0, hR⟩, fun i hi => ⟨eW i hi, fun _ => et i hi, fun z => absurd z (Nat.lt_irrefl 0)⟩, fun x y hx hy => ⟨fun k hk a => absurd a (ni k x y), fun _ => ec _ (by omega)⟩, ?_, fun y hy x hx => ?_, 1, rfl, fun k hk => ?_, fun x y w h m _ => ?_, fun i j hi hj _ => by omega⟩
  · have : ar_ct (fun _ => 0) = 0 := ag_cn_0 20 (fun k hk => decide_eq_false (Nat.lt_irrefl 0))
    rw [this]
    rfl
  · rw [ef y hy x hx]
    exact ⟨fun a => eF x y (of_decide_eq_true a) hy, fun a => decide_eq_true a.1⟩
  · have : k = 0 := by omega
    subst this
    exact ⟨0, 0, C, R, eh, mx, trivial⟩
  · have bd := ag_bd ar_bd m.1
    obtain ⟨a1, a2, a3, a4⟩ := m.2 0 0 C R fr ⟨by omega, by omega, by omega, by omega⟩
    subst a1 a2 a3 a4
    exact ⟨0, by omega, eh⟩
end
end
section
/-! place -/
section
variable {cC cR rc hc cc : Int32} {aL aB aW aH fb ho ca sS sH : Nat → Int32}
variable {yC yR : Int32} {ce yL yB yW yH th : Nat → Int32}
theorem ax_place113 {C R nh : Nat} {F : Nat → Nat → Prop} (hb : ag_Bd C R F) (hC : C ≤ 16) (hR : R ≤ 16) {id x y w h W H : Nat} {t : Int32} (hid : id < 20) (ht : (t = 0 ∧ W = w ∧ H = h) ∨ (¬ t = 0 ∧ W = h ∧ H = w)) (f : ag_FR F x y W H) (HS : ag_HS F (fun _ _ _ _ => True) nh ho) {post : Int32 → SX → Prop}
    (K : ∀ m fb' n ho' cn ca', (∀ i, i < 32 → bt m i = decide (x ≤ i ∧ i < x + W)) → (∀ j, fb' j = if y ≤ j ∧ j < y + H then fb j ^^^ m else fb j) → ag_HS (ag_Tk F x y W H) (fun _ _ _ _ => True) n ho' → post (nI id) (cC, cR, rc + 1, nI n, nI cn, upd aL id (nI x), upd aB id (nI y), upd aW id (nI W), upd aH id (nI H), fb', ho', ca', sS, sH)) : wX_place_113 post (nI w) (nI h) (nI (256 * y + x)) t (nI id) cC cR rc (nI nh) cc aL aB aW aH fb ho ca sS sH := by
  have bd := ag_bd hb f
  have W0 := f.1
  have H0 := f.2.1
  have hi : vp_in (nI id) 20 := vp_in_nI hid (by omega)
  have ei : (nI id).toNatClampNeg = id := nI_clamp (by omega)
  have k174 : wX_place_174 post (nI id) (nI H) (nI id) cC cR rc (nI nh) cc (upd aL id (nI x)) (upd aB id (nI y)) (upd aW id (nI W)) aH fb ho ca sS sH := by
    refine ⟨hi, nm_r (e' := upd aH id (nI H)) (by rw [ei, ax_nar (by omega)]) (nm_e ?_)⟩
    refine ax_flip hid pk_us pk_us pk_us pk_us (by omega) (by omega) (fun fb' m hm hf => ?_)
    exact ax_splitHoles hb hC hR hid pk_us pk_us pk_us pk_us (by omega) (by omega) W0 H0 HS (fun n ho' cn ca' q => K m fb' n ho' cn ca' hm hf q)
  refine ⟨hi, nm_r (e' := upd aL id (nI x)) (by rw [ei, ax_lo (by omega) (by omega), ax_nar (by omega)]) ⟨hi, nm_r (e' := upd aB id (nI y)) (by rw [ei, ax_hi (by omega) (by omega), ax_nar (by omega)]) ?_⟩⟩
  rcases ht with ⟨t0, e1, e2⟩ | ⟨t0, e1, e2⟩
  · subst e1 e2
    exact br_t t0 ⟨hi, nm_r (e' := upd aW id (nI W)) (by rw [ei, ax_nar (by omega)]) (br_t t0 k174)⟩
  · subst e1 e2
    exact br_f t0 ⟨hi, nm_r (e' := upd aW id (nI W)) (by rw [ei, ax_nar (by omega)]) (br_f t0 k174)⟩
theorem ax_place90 {post : Int32 → SX → Prop} {x1 x2 x4 x5 : Int32} {id : Nat} (hid : id < 20) (z : aW id = 0) (nz : ∀ k, k < id → ¬ aW k = 0) (K : wX_place_113 post x1 x2 x4 x5 (nI id) cC cR rc hc cc aL aB aW aH fb ho ca sS sH) : ∀ d k, k + d = id → wX_place_90 post x1 x2 x4 x5 cC cR rc hc cc aL aB aW aH fb ho ca sS sH (d + 1) (nI k) := by
  intro d
  induction d with
  | zero =>
    intro k hk
    have e : k = id := by omega
    subst e
    refine br_c (fun _ => K) (fun _ => ⟨vp_in_nI hid (by omega), br_t ?_ K⟩)
    rw [nI_clamp (by omega)]; exact z
  | succ d ih =>
    intro k hk
    refine br_f (nI_ge (b := 19) (by omega) (by omega)) ⟨vp_in_nI (by omega) (by omega), br_f ?_ (nm_r (nI_1 k) (ih (k + 1) (by omega)))⟩
    rw [nI_clamp (by omega)]; exact nz k (by omega)
theorem ax_place79 {post : Int32 → SX → Prop} {x1 x2 x5 : Int32} {a id : Nat} (ha : a < 2 ^ 31) (hid : id < 20) (z : aW id = 0) (nz : ∀ k, k < id → ¬ aW k = 0) (K : wX_place_113 post x1 x2 (nI a) x5 (nI id) cC cR rc hc cc aL aB aW aH fb ho ca sS sH) : wX_place_79 post x1 x2 (nI a) x5 cC cR rc hc cc aL aB aW aH fb ho ca sS sH :=
  br_t (nI_pos' ha) ⟨id + 1, ax_place90 hid z nz K id 0 (by omega)⟩
/-! Y's place -/
theorem ay_place_hd {C R : Nat} {F : Nat → Nat → Prop} (hb : ag_Bd C R F) (hC : C ≤ 16) (hR : R ≤ 16) (hc : ay_Ce C R F ce) {post : Int32 → SY → Prop} {w h : Nat} (w0 : 0 < w) (hw : w ≤ 16) (h0 : 0 < h) (hh : h ≤ 16) {p2 r1 r2 : Int32} (cnt : ag_cn (ag_us th) 20 < 20) (L1 : ag_LW F w h r1) (L2 : (p2 = 0 ∧ r2 = -3) ∨ (¬ p2 = 0 ∧ ag_LW F h w r2)) (K : wY_place_46 post (nI w) (nI h) r1 r2 (nI C) (nI R) ce yL yB yW yH th) : wpY_place post (nI C, nI R, ce, yL, yB, yW, yH, th) (nI w) (nI h) p2 := by
  unfold wpY_place
  refine ay_size w0 hw h0 hh (br_f (by decide) (ay_count (br_f (fun e => ?_) (ay_best hb hC hR hc w0 hw h0 hh (fun r L => ?_)))))
  · have := (nI_eq (b := 20) (by omega) (by omega)).mp e
    omega
  · have e := ag_LW_u L L1
    subst e
    rcases L2 with ⟨z, e2⟩ | ⟨z, L2⟩
    · subst e2
      exact br_t z K
    · refine br_f z (ay_best hb hC hR hc h0 hh w0 hw (fun r' L' => ?_))
      have e := ag_LW_u L' L2
      subst e
      exact K
theorem ay_place_s {post : Int32 → SY → Prop} {x1 x2 r2 : Int32} {a : Nat} (ha : a < 2 ^ 31) (q : r2 = -3 ∨ ∃ a2, r2 = nI a2 ∧ a ≤ a2 ∧ a2 < 2 ^ 31) (K : wY_place_95 post x1 x2 (nI a) yC yR ce yL yB yW yH th) : wY_place_46 post x1 x2 (nI a) r2 yC yR ce yL yB yW yH th := by
  refine br_f (ax_neg3 ha) ?_
  rcases q with e | ⟨a2, e, le, lt⟩
  · subst e
    exact br_t rfl K
  · subst e
    exact br_f (ax_neg3 lt) (br_f (ax_neg3 ha) (br_t (nI_le le lt) K))
theorem ay_place_t {post : Int32 → SY → Prop} {x1 x2 r1 : Int32} {a : Nat} (ha : a < 2 ^ 31) (q : r1 = -3 ∨ ∃ a1, r1 = nI a1 ∧ a < a1 ∧ a1 < 2 ^ 31) (K : wY_place_86 post x1 x2 (nI a) yC yR ce yL yB yW yH th) : wY_place_46 post x1 x2 r1 (nI a) yC yR ce yL yB yW yH th := by
  rcases q with e | ⟨a1, e, le, lt⟩
  · subst e
    exact br_t rfl (br_f (ax_neg3 ha) (br_f (ax_neg3 ha) (br_t rfl K)))
  · subst e
    exact br_f (ax_neg3 lt) (br_f (ax_neg3 ha) (br_f (ax_neg3 lt) (br_f (nI_ge le lt) K)))
/-- the least number not in use -/
theorem ar_least {C R : Nat} {l b w h : Nat → Nat} (hC : C ≤ 16) (I : ar_Id C R l b w h aL aB aW aH yL yB yW yH th) (ct : ar_ct w < 20) : ∃ id, id < 20 ∧ w id = 0 ∧ aW id = 0 ∧ th id = 0 ∧ (∀ k, k < id → ¬ aW k = 0) ∧ (∀ k, k < id → ¬ th k = 0) := by
  obtain ⟨k, hk, e⟩ := ag_cn_lt _ 20 ct
  obtain ⟨id, ⟨hid, z⟩, mn⟩ := pk_least (fun k => k < 20 ∧ w k = 0) ⟨k, hk, by
    have := of_decide_eq_false e
    omega⟩
  obtain ⟨i0, i1, _⟩ := I id hid
  have up : ∀ k, k < id → 0 < w k := by
    intro k hk
    rcases Nat.eq_zero_or_pos (w k) with q | q
    · exact absurd ⟨by omega, q⟩ (mn k hk)
    · exact q
  refine ⟨id, hid, z, by rw [i0, z]; rfl, i1 z, fun k hk => ?_, fun k hk => ((I k (by omega)).2.2 (up k hk)).1⟩
  have a := (I k (by omega)).1
  have b := ar_w hC I (id := k) (by omega)
  rw [a]
  exact nI_ne0 (up k hk) (by omega)
/-- a place is found: both sides lay the rectangle there -/
theorem ar_lay {C R : Nat} {l b w h : Nat → Nat} {kk : Nat} (Rl : ar_R C R l b w h rc hc aL aB aW aH fb ho ce yL yB yW yH th) (ct : ar_ct w < 20) {pw ph W H x y : Nat} {t p2 : Int32} (ht : (t = 0 ∧ W = pw ∧ H = ph) ∨ (¬ t = 0 ∧ W = ph ∧ H = pw)) (f : ag_FR (ar_F C R l b w h) x y W H)
    (Y : ∀ post : Int32 → SY → Prop, wpY_lay (fun r u => post r u) (nI C, nI R, ce, yL, yB, yW, yH, th) (nI (256 * y + x)) (nI W) (nI H) → wpY_place post (nI C, nI R, ce, yL, yB, yW, yH, th) (nI pw) (nI ph) p2) :
    wX_place_79 (fun r u' => wpY_place (fun r' v' => r' = r ∧ i_Rel kk u' v') (nI C, nI R, ce, yL, yB, yW, yH, th) (nI pw) (nI ph) p2) (nI pw) (nI ph) (nI (256 * y + x)) t (nI C) (nI R) rc hc cc aL aB aW aH fb ho ca sS sH := by
  have Rl' := Rl
  obtain ⟨⟨hC0, hC, hR0, hR⟩, I, c, er, hf, n, en, HS⟩ := Rl'
  have bd := ag_bd ar_bd f
  have H0 := f.2.1
  have W0 := f.1
  obtain ⟨id, hid, z, za, zt, na, nt⟩ := ar_least hC I ct
  subst en
  refine ax_place79 (by omega) hid za na ?_
  refine ax_place113 ar_bd hC hR hid ht f HS (fun m fb' n' ho' cn ca' hm e HS' => Y _ ?_)
  refine ay_lay hid zt nt (by omega) (by omega) H0 (fun ce' P => ⟨rfl, ?_⟩)
  exact ⟨C, R, _, _, _, _, rfl, rfl, rfl, rfl, ar_place Rl hid z f hm e P HS'⟩
end
end
section
/-! what is owed -/
theorem ar_cl (p : Int32) : ∃ C, 0 < C ∧ C ≤ 16 ∧ ∀ G : Int32 → Prop, G (nI C) → ((4 ≤ p → ((p ≤ 16 → G p) ∧ (¬ p ≤ 16 → G 16))) ∧ (¬ 4 ≤ p → G 4)) := by
  by_cases a : 4 ≤ p
  · by_cases b : p ≤ 16
    · have e4 : (4 : Int32).toInt = 4 := by decide
      have e16 : (16 : Int32).toInt = 16 := by decide
      have e0 : (0 : Int32).toInt = 0 := by decide
      have a' := a
      have b' := b
      rw [Int32.le_iff_toInt_le] at a' b'
      obtain ⟨j, hj, e⟩ := nI_of (x := p) (by rw [Int32.lt_iff_toInt_lt]; omega)
      rw [e, nI_toInt hj] at a' b'
      refine ⟨j, by omega, by omega, fun G g => br_t a (br_t b ?_)⟩
      rw [e]; exact g
    · exact ⟨16, by omega, by omega, fun G g => br_t a (br_f b g)⟩
  · exact ⟨4, by omega, by omega, fun G g => br_f a g⟩
theorem i_vc0 (k0 : Int32) (k1 : Int32) : wpX_init (fun u => wpY_init (fun v => i_Rel 2 u v) k0 k1) k0 k1 := by
  obtain ⟨C, hC0, hC, gC⟩ := ar_cl k0
  obtain ⟨R, hR0, hR, gR⟩ := ar_cl k1
  refine gC (fun c => wX_init_100 (fun u => wpY_init (fun v => i_Rel 2 u v) k0 k1) k1 c 0 0 0 0 0 (fun _ => 0) (fun _ => 0) (fun _ => 0) (fun _ => 0) (fun _ => 0) (fun _ => 0) (fun _ => 0) (fun _ => 0) (fun _ => 0)) ?_
  refine gR (fun r => wX_init_125 (fun u => wpY_init (fun v => i_Rel 2 u v) k0 k1) r (nI C) 0 0 0 0 (fun _ => 0) (fun _ => 0) (fun _ => 0) (fun _ => 0) (fun _ => 0) (fun _ => 0) (fun _ => 0) (fun _ => 0) (fun _ => 0)) ?_
  unfold wX_init_125
  refine ax_clear hC hR (fun aW' fb' ho' eW ef eh => ?_)
  refine gC (fun c => wY_init_75 _ k1 c 0 0 (fun _ => 0) (fun _ => 0) (fun _ => 0) (fun _ => 0) (fun _ => 0) (fun _ => 0)) ?_
  refine gR (fun r => ∃ n105 : Nat, wY_init_105 _ (nI C) r n105 0 (fun _ => 0) (fun _ => 0) (fun _ => 0) (fun _ => 0) (fun _ => 0) (fun _ => 0)) ?_
  refine ⟨257, ay_init105 (fun ce' ec => ?_) 256 0 (fun _ => 0) (by omega) (fun i hi => absurd hi (by omega))⟩
  exact ⟨C, R, fun _ => 0, fun _ => 0, fun _ => 0, fun _ => 0, rfl, rfl, rfl, rfl, ar_new hC0 hC hR0 hR eW ef eh ec (fun _ _ => rfl)⟩
theorem i_vc_place {k : Nat} {u : SX} {v : SY} (I : i_Rel k u v) (hk : k + 4 ≤ 2050) (v1 : Int32) (v2 : Int32) (v3 : Int32) : wpX_place (fun r u' => wpY_place (fun r' v' => r' = r ∧ i_Rel (k + 4) u' v') v v1 v2 (lw_bz v3)) u v1 v2 (lw_bz v3) := by
  obtain ⟨cC, cR, rc, hc, cc, aL, aB, aW, aH, fb, ho, ca, sS, sH⟩ := u
  obtain ⟨yC, yR, ce, yL, yB, yW, yH, th⟩ := v
  have I' := I
  obtain ⟨C, R, l, b, w, h, rfl, rfl, rfl, rfl, Rl⟩ := I'
  generalize lw_bz v3 = p2
  rcases ax_sizes v1 v2 with ⟨pw, ph, rfl, rfl, w0, hw, h0, hh⟩ | ⟨bX, bY⟩
  · have Rl' := Rl
    obtain ⟨⟨hC0, hC, hR0, hR⟩, Id, c, er, hf, n, en, HS⟩ := Rl'
    have hce := ar_ay c
    have us := ar_us Id
    have ctl : ar_ct w ≤ 20 := ag_cn_le _ 20
    subst er
    subst en
    unfold wpX_place
    refine ax_size w0 hw h0 hh (br_f (by decide) (pk_lt (ar_ct w) 20 (fun ct => ?_) (fun ct => ?_)))
    · have lt : ∀ {x y W H}, ag_FR (ar_F C R l b w h) x y W H → 256 * y + x < 2 ^ 31 := by
        intro x y W H f
        have := ag_bd ar_bd f
        omega
      have cnt : ag_cn (ag_us th) 20 < 20 := by rw [us]; exact ct
      refine ax_lowest ar_bd hC hR HS w0 hw h0 hh (fun r1 L1 => br_c (fun p0 => ?_) (fun p0 => ?_))
      · rcases L1 with ⟨e, no⟩ | ⟨x, y, f, e, mn⟩
        · subst e
          refine br_f (by decide) ?_
          exact ay_place_hd ar_bd hC hR hce w0 hw h0 hh cnt (Or.inl ⟨rfl, no⟩) (Or.inl ⟨p0, rfl⟩) (br_t rfl (br_t rfl ⟨rfl, I⟩))
        · subst e
          exact ar_lay Rl ct (Or.inl ⟨rfl, rfl, rfl⟩) f (fun post K => ay_place_hd ar_bd hC hR hce w0 hw h0 hh cnt (Or.inr ⟨x, y, f, rfl, mn⟩) (Or.inl ⟨p0, rfl⟩) (ay_place_s (lt f) (Or.inl rfl) K))
      · refine ax_lowest ar_bd hC hR HS h0 hh w0 hw (fun r2 L2 => ?_)
        have go : ∀ post : Int32 → SY → Prop, wY_place_46 post (nI pw) (nI ph) r1 r2 (nI C) (nI R) ce yL yB yW yH th → wpY_place post (nI C, nI R, ce, yL, yB, yW, yH, th) (nI pw) (nI ph) p2 := fun post K => ay_place_hd ar_bd hC hR hce w0 hw h0 hh cnt L1 (Or.inr ⟨p0, L2⟩) K
        rcases L2 with ⟨e2, no2⟩ | ⟨x2, y2, f2, e2, mn2⟩
        · subst e2
          refine br_t (by decide) ?_
          rcases L1 with ⟨e, no⟩ | ⟨x, y, f, e, mn⟩
          · subst e
            exact br_t rfl (br_f (by decide) (go _ (br_t rfl (br_t rfl ⟨rfl, I⟩))))
          · subst e
            exact br_t rfl (ar_lay Rl ct (Or.inl ⟨rfl, rfl, rfl⟩) f (fun post K => go post (ay_place_s (lt f) (Or.inl rfl) K)))
        · subst e2
          refine br_f (nI_pos (lt f2)) ?_
          rcases L1 with ⟨e, no⟩ | ⟨x, y, f, e, mn⟩
          · subst e
            refine br_t (by decide) (br_f (by decide) ?_)
            exact ar_lay Rl ct (Or.inr ⟨by decide, rfl, rfl⟩) f2 (fun post K => go post (ay_place_t (lt f2) (Or.inl rfl) K))
          · subst e
            refine br_f (nI_pos (lt f)) (pk_le (256 * y + x) (256 * y2 + x2) (fun le => ?_) (fun le => ?_) rfl rfl (lt f) (lt f2))
            · exact br_t rfl (ar_lay Rl ct (Or.inl ⟨rfl, rfl, rfl⟩) f (fun post K => go post (ay_place_s (lt f) (Or.inr ⟨_, rfl, le, lt f2⟩) K)))
            · exact br_f (by decide) (ar_lay Rl ct (Or.inr ⟨by decide, rfl, rfl⟩) f2 (fun post K => go post (ay_place_t (lt f2) (Or.inr ⟨_, rfl, le, lt f⟩) K)))
    · unfold wpY_place
      refine ay_size w0 hw h0 hh (br_f (by decide) (ay_count (br_t ?_ ⟨rfl, I⟩)))
      rw [us, show ar_ct w = 20 from by omega]
      rfl
  · unfold wpX_place
    refine bX _ _ (br_t rfl ?_)
    unfold wpY_place
    exact bY _ _ (br_t rfl ⟨rfl, I⟩)
theorem i_vc_remove {k : Nat} {u : SX} {v : SY} (I : i_Rel k u v) (hk : k + 4 ≤ 2050) (v1 : Int32) : wpX_remove (fun r u' => wpY_remove (fun r' v' => r' = r ∧ i_Rel (k + 4) u' v') v v1) u v1 := by
  obtain ⟨cC, cR, rc, hc, cc, aL, aB, aW, aH, fb, ho, ca, sS, sH⟩ := u
  obtain ⟨yC, yR, ce, yL, yB, yW, yH, th⟩ := v
  have I' := I
  obtain ⟨C, R, l, b, w, h, rfl, rfl, rfl, rfl, Rl⟩ := I'
  have Rl' := Rl
  obtain ⟨⟨hC0, hC, hR0, hR⟩, Id, c, er, hf, n, en, HS⟩ := Rl'
  have bad : (v1 < 0 ∨ 20 ≤ v1) → wpX_remove (fun r u' => wpY_remove (fun r' v' => r' = r ∧ i_Rel (k + 4) u' v') (nI C, nI R, ce, yL, yB, yW, yH, th) v1) (nI C, nI R, rc, hc, cc, aL, aB, aW, aH, fb, ho, ca, sS, sH) v1 := by
    intro z
    unfold wpX_remove
    refine ax_used0 z (br_t rfl ?_)
    unfold wpY_remove
    exact ay_there0 z (br_t rfl ⟨rfl, I⟩)
  rcases pk_ix v1 (n := 20) (by omega) with z | z | ⟨j, hj, rfl⟩
  · exact bad (Or.inl z)
  · exact bad (Or.inr z)
  · have hw := ar_w hC Id hj
    obtain ⟨i0, i1, i2⟩ := Id j hj
    have hi : vp_in (nI j) 20 := vp_in_nI hj (by omega)
    have ej : (nI j).toNatClampNeg = j := nI_clamp (by omega)
    unfold wpX_remove
    refine ax_usedN hj i0 (by omega) (fun z => br_t rfl ?_) (fun z => br_f (by decide) ?_)
    · unfold wpY_remove
      exact ay_thereN hj (fun _ => br_t rfl ⟨rfl, I⟩) (fun z2 => absurd (i1 z) z2)
    · obtain ⟨t, e1, e2, e3, f1, f2, f3, f4, h0, g1, g2⟩ := i2 z
      refine ax_flip hj e1 e2 i0 e3 (by omega) (by omega) (fun fb' m hm e => ⟨hi, nm_r (e' := upd aW j 0) (by rw [ej, ax_nar0]) (nm_e ?_)⟩)
      have hf' := ar_rem_fb hC c hf hj g1 hm e
      refine ax_find ar_bd hC hR hf' (fun n' ho' sS' sH' HS' => ?_)
      unfold wpY_remove
      refine ay_thereN hj (fun z2 => absurd z2 t) (fun _ => br_f (by decide) ?_)
      refine ay_paint hj f1 f2 f3 f4 (by omega) (by omega) (fun ce' P => ⟨hi, nm_r (e' := upd th j 0) (by rw [ej, ay_bool0]) ?_⟩)
      have new := ar_remove Rl hj z hf' P HS'
      refine ay_count ⟨?_, C, R, _, _, _, _, rfl, rfl, rfl, rfl, new⟩
      obtain ⟨_, Id', _, er', _⟩ := new
      rw [ar_us Id', er']
theorem i_vc_look {k : Nat} {u : SX} {v : SY} (I : i_Rel k u v) (hk : k + 4 ≤ 2050) (v1 : Int32) (v2 : Int32) : wpX_look (fun r => wpY_look (fun r' => r' = r ∧ i_Rel (k + 4) u v) v v1 v2) u v1 v2 := by
  obtain ⟨cC, cR, rc, hc, cc, aL, aB, aW, aH, fb, ho, ca, sS, sH⟩ := u
  obtain ⟨yC, yR, ce, yL, yB, yW, yH, th⟩ := v
  have I' := I
  obtain ⟨C, R, l, b, w, h, rfl, rfl, rfl, rfl, Rl⟩ := I'
  obtain ⟨r, hX, hY⟩ := ar_look Rl v1 v2
  exact hX _ (hY _ ⟨rfl, I⟩)
theorem i_vc_owner {k : Nat} {u : SX} {v : SY} (I : i_Rel k u v) (hk : k + 4 ≤ 2050) (v1 : Int32) (v2 : Int32) : wpX_owner (fun r => wpY_owner (fun r' => r' = r ∧ i_Rel (k + 4) u v) v v1 v2) u v1 v2 := by
  obtain ⟨cC, cR, rc, hc, cc, aL, aB, aW, aH, fb, ho, ca, sS, sH⟩ := u
  obtain ⟨yC, yR, ce, yL, yB, yW, yH, th⟩ := v
  have I' := I
  obtain ⟨C, R, l, b, w, h, rfl, rfl, rfl, rfl, Rl⟩ := I'
  obtain ⟨r, hX, hY⟩ := ar_owner Rl v1 v2
  exact hX _ (hY _ ⟨rfl, I⟩)
theorem i_vc_freeCells {k : Nat} {u : SX} {v : SY} (I : i_Rel k u v) (hk : k + 4 ≤ 2050) : wpX_freeCells (fun r => wpY_freeCells (fun r' => r' = r ∧ i_Rel (k + 4) u v) v) u := by
  obtain ⟨cC, cR, rc, hc, cc, aL, aB, aW, aH, fb, ho, ca, sS, sH⟩ := u
  obtain ⟨yC, yR, ce, yL, yB, yW, yH, th⟩ := v
  have I' := I
  obtain ⟨C, R, l, b, w, h, rfl, rfl, rfl, rfl, Rl⟩ := I'
  obtain ⟨r, hX, hY⟩ := ar_free Rl
  exact hX _ (hY _ ⟨rfl, I⟩)
theorem i_vc_holes {k : Nat} {u : SX} {v : SY} (I : i_Rel k u v) (hk : k + 4 ≤ 2050) : wpX_holes (fun r => wpY_holes (fun r' => r' = r ∧ i_Rel (k + 4) u v) v) u := by
  obtain ⟨cC, cR, rc, hc, cc, aL, aB, aW, aH, fb, ho, ca, sS, sH⟩ := u
  obtain ⟨yC, yR, ce, yL, yB, yW, yH, th⟩ := v
  have I' := I
  obtain ⟨C, R, l, b, w, h, rfl, rfl, rfl, rfl, Rl⟩ := I'
  obtain ⟨⟨hC0, hC, hR0, hR⟩, Id, c, er, hf, n, en, HS⟩ := Rl
  subst en
  exact ay_holes ar_bd hC hR (ar_ay c) HS ⟨rfl, I⟩
theorem i_vc_largestHole {k : Nat} {u : SX} {v : SY} (I : i_Rel k u v) (hk : k + 4 ≤ 2050) : wpX_largestHole (fun r => wpY_largestHole (fun r' => r' = r ∧ i_Rel (k + 4) u v) v) u := by
  obtain ⟨cC, cR, rc, hc, cc, aL, aB, aW, aH, fb, ho, ca, sS, sH⟩ := u
  obtain ⟨yC, yR, ce, yL, yB, yW, yH, th⟩ := v
  have I' := I
  obtain ⟨C, R, l, b, w, h, rfl, rfl, rfl, rfl, Rl⟩ := I'
  obtain ⟨⟨hC0, hC, hR0, hR⟩, Id, c, er, hf, n, en, HS⟩ := Rl
  subst en
  refine ax_largest ar_bd hC hR HS (fun m L => ay_large ar_bd hC hR (ar_ay c) (fun m' L' => ⟨?_, I⟩))
  rw [ag_LG_u L L']
theorem i_vc_bestPlace {k : Nat} {u : SX} {v : SY} (I : i_Rel k u v) (hk : k + 4 ≤ 2050) (v1 : Int32) (v2 : Int32) : wpX_bestPlace (fun r => wpY_bestPlace (fun r' => r' = r ∧ i_Rel (k + 4) u v) v v1 v2) u v1 v2 := by
  obtain ⟨cC, cR, rc, hc, cc, aL, aB, aW, aH, fb, ho, ca, sS, sH⟩ := u
  obtain ⟨yC, yR, ce, yL, yB, yW, yH, th⟩ := v
  have I' := I
  obtain ⟨C, R, l, b, w, h, rfl, rfl, rfl, rfl, Rl⟩ := I'
  obtain ⟨⟨hC0, hC, hR0, hR⟩, Id, c, er, hf, n, en, HS⟩ := Rl
  subst en
  unfold wpX_bestPlace
  rcases ax_sizes v1 v2 with ⟨pw, ph, rfl, rfl, w0, hw, h0, hh⟩ | ⟨bX, bY⟩
  · refine ax_size w0 hw h0 hh (br_f (by decide) (ax_lowest ar_bd hC hR HS w0 hw h0 hh (fun r L => ?_)))
    unfold wpY_bestPlace
    exact ay_size w0 hw h0 hh (br_f (by decide) (ay_best ar_bd hC hR (ar_ay c) w0 hw h0 hh (fun r' L' => ⟨ag_LW_u L' L, I⟩)))
  · refine bX _ _ (br_t rfl ?_)
    unfold wpY_bestPlace
    exact bY _ _ (br_t rfl ⟨rfl, I⟩)
theorem i_vc_fitting {k : Nat} {u : SX} {v : SY} (I : i_Rel k u v) (hk : k + 4 ≤ 2050) : wpX_fitting (fun r => wpY_fitting (fun r' => r' = r ∧ i_Rel (k + 4) u v) v) u := by
  obtain ⟨cC, cR, rc, hc, cc, aL, aB, aW, aH, fb, ho, ca, sS, sH⟩ := u
  obtain ⟨yC, yR, ce, yL, yB, yW, yH, th⟩ := v
  have I' := I
  obtain ⟨C, R, l, b, w, h, rfl, rfl, rfl, rfl, Rl⟩ := I'
  obtain ⟨⟨hC0, hC, hR0, hR⟩, Id, c, er, hf, n, en, HS⟩ := Rl
  subst en
  have hbF : ag_Bd C R (ar_F C R l b w h) := ar_bd
  obtain ⟨tf, ht⟩ := ag_cho (fun k => ag_MT_e hbF (k + 1))
  have ht' : ∀ k, ag_MT (ar_F C R l b w h) (k + 1) (tf k) := fun k => (ht k).1
  refine ax_fitting hbF hC hR HS ht' (ay_fit hbF hC hR (ar_ay c) ht' ⟨?_, I⟩)
  have e : ag_sum tf (C + (16 - C)) = ag_sum tf C := ag_sum_z (fun k hk => by
    rcases (ht' k).2 with z | ⟨x, y, f⟩
    · exact z
    · have := ag_bd hbF f
      omega) (16 - C)
  rw [show C + (16 - C) = 16 from by omega] at e
  rw [e]
theorem i_vc_clear {k : Nat} {u : SX} {v : SY} (I : i_Rel k u v) (hk : k + 4 ≤ 2050) : wpX_clear (fun r u' => wpY_clear (fun r' v' => r' = r ∧ i_Rel (k + 4) u' v') v) u := by
  obtain ⟨cC, cR, rc, hc, cc, aL, aB, aW, aH, fb, ho, ca, sS, sH⟩ := u
  obtain ⟨yC, yR, ce, yL, yB, yW, yH, th⟩ := v
  obtain ⟨C, R, l, b, w, h, rfl, rfl, rfl, rfl, Rl⟩ := I
  obtain ⟨⟨hC0, hC, hR0, hR⟩, Id, c, er, hf, n, en, HS⟩ := Rl
  refine ax_clear hC hR (fun aW' fb' ho' eW ef eh => ay_clear (fun ce' th' ec et => ⟨?_, C, R, fun _ => 0, fun _ => 0, fun _ => 0, fun _ => 0, rfl, rfl, rfl, rfl, ar_new hC0 hC hR0 hR eW ef eh ec et⟩))
  rw [ar_us Id, er]
end
