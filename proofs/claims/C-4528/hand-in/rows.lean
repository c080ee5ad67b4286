section
theorem pk_us {f : Nat → Int32} {k : Nat} {x : Int32} : upd f k x k = x := if_pos rfl
theorem pk_un {f : Nat → Int32} {k j : Nat} {x : Int32} (h : j ≠ k) : upd f k x j = f j := if_neg h
theorem pk_sub {a b : Nat} (h : b ≤ a) : nI a - nI b = nI (a - b) := by
  obtain ⟨c, rfl⟩ : ∃ c, a = c + b := ⟨a - b, by omega⟩
  rw [← nI_add, Int32.add_sub_cancel, Nat.add_sub_cancel]
theorem pk_m1 (n : Nat) : nI (n + 1) + (-1) = nI n := by
  rw [← nI_1, Int32.add_assoc, show (1 : Int32) + (-1) = 0 from rfl, Int32.add_zero]
theorem pk_mul (a b : Nat) : nI a * nI b = nI (a * b) := (Int32.ofNat_mul a b).symm
theorem pk_ix (x : Int32) {n : Nat} (hn : n < 2 ^ 31) : x < 0 ∨ nI n ≤ x ∨ ∃ j : Nat, j < n ∧ x = nI j := by
  by_cases h : x < 0
  · exact Or.inl h
  · obtain ⟨j, hj, rfl⟩ := nI_of h
    by_cases h2 : j < n
    · exact Or.inr (Or.inr ⟨j, h2, rfl⟩)
    · exact Or.inr (Or.inl (nI_le (by omega) hj))
theorem pk_le {x y : Int32} {A B : Prop} (a b : Nat) (f : a ≤ b → A) (g : b < a → B) (hx : x = nI a := by rfl) (hy : y = nI b := by rfl) (ha : a < 2 ^ 31 := by omega) (hb : b < 2 ^ 31 := by omega) : (x ≤ y → A) ∧ (¬ x ≤ y → B) := by
  subst hx hy
  rw [nI_leI ha hb]
  exact ⟨f, fun z => g (by omega)⟩
theorem pk_lt {x y : Int32} {A B : Prop} (a b : Nat) (f : a < b → A) (g : b ≤ a → B) (hx : x = nI a := by rfl) (hy : y = nI b := by rfl) (ha : a < 2 ^ 31 := by omega) (hb : b < 2 ^ 31 := by omega) : (x < y → A) ∧ (¬ x < y → B) := by
  subst hx hy
  rw [nI_ltI ha hb]
  exact ⟨f, fun z => g (by omega)⟩
theorem pk_eq {x y : Int32} {A B : Prop} (a b : Nat) (f : a = b → A) (g : a ≠ b → B) (hx : x = nI a := by rfl) (hy : y = nI b := by rfl) (ha : a < 2 ^ 31 := by omega) (hb : b < 2 ^ 31 := by omega) : (x = y → A) ∧ (¬ x = y → B) := by
  subst hx hy
  rw [nI_eq ha hb]
  exact ⟨f, g⟩
theorem pk_in {x : Int32} (n N : Nat) (h : n < N) (hx : x = nI n := by rfl) (hN : N < 2 ^ 31 := by omega) : vp_in x N := by
  subst hx
  exact vp_in_nI h hN
theorem pk_cl {x : Int32} (n : Nat) (hx : x = nI n := by rfl) (h : n < 2 ^ 31 := by omega) : x.toNatClampNeg = n := by
  subst hx
  exact nI_clamp h
theorem pk_tn {n : Nat} (h : n < 2 ^ 32) : (nI n).toBitVec.toNat = n := Nat.mod_eq_of_lt h
theorem pk_and (x : Int32) {m : Int32} (k : Nat) (hm : m.toBitVec.toNat = 2 ^ k - 1) : x &&& m = nI (x.toBitVec.toNat % 2 ^ k) := by
  apply Int32.toBitVec_inj.mp
  apply BitVec.eq_of_toNat_eq
  rw [Int32.toBitVec_and, BitVec.toNat_and, hm, Nat.and_two_pow_sub_one_eq_mod]
  show _ = (BitVec.ofNat 32 _).toNat
  rw [BitVec.toNat_ofNat]
  exact (Nat.mod_eq_of_lt (Nat.lt_of_le_of_lt (Nat.mod_le _ _) x.toBitVec.isLt)).symm
theorem pk_andN {n : Nat} (h : n < 2 ^ 32) {m : Int32} (k : Nat) (hm : m.toBitVec.toNat = 2 ^ k - 1) : nI n &&& m = nI (n % 2 ^ k) := by
  rw [pk_and _ k hm, pk_tn h]
theorem pk_andE (x : Int32) {m : Int32} (k : Nat) (hm : m.toBitVec.toNat = 2 ^ k - 1) : ∃ j : Nat, j < 2 ^ k ∧ x &&& m = nI j := ⟨_, Nat.mod_lt _ (Nat.two_pow_pos k), pk_and x k hm⟩
theorem pk_andIn (x : Int32) {m : Int32} (k : Nat) (hm : m.toBitVec.toNat = 2 ^ k - 1) (hk : k ≤ 30) : vp_in (x &&& m) (2 ^ k) := by
  obtain ⟨j, hj, e⟩ := pk_andE x k hm
  rw [e]
  exact vp_in_nI hj (Nat.lt_of_le_of_lt (Nat.pow_le_pow_right (by decide) hk) (by decide))
theorem pk_shl (a s : Int32) (k : Nat) (hs : (s.toBitVec.smod 32).toNat = k) : (a <<< s).toBitVec.toNat = a.toBitVec.toNat * 2 ^ k % 2 ^ 32 := by
  show (a.toBitVec <<< (s.toBitVec.smod 32).toNat).toNat = _
  rw [hs, BitVec.toNat_shiftLeft, Nat.shiftLeft_eq]
theorem pk_shlN {n : Nat} (s : Int32) (k : Nat) (hs : (s.toBitVec.smod 32).toNat = k) (h : n * 2 ^ k < 2 ^ 32) : nI n <<< s = nI (n * 2 ^ k) := by
  apply Int32.toBitVec_inj.mp
  apply BitVec.eq_of_toNat_eq
  have hn : n < 2 ^ 32 := Nat.lt_of_le_of_lt (Nat.le_mul_of_pos_right n (Nat.two_pow_pos k)) h
  rw [pk_shl _ _ k hs, pk_tn hn, pk_tn h, Nat.mod_eq_of_lt h]
theorem pk_shr (a s : Int32) (k : Nat) (hs : (s.toBitVec.smod 32).toNat = k) : (a >>> s).toInt = a.toInt >>> k := by
  show (a.toBitVec.sshiftRight (s.toBitVec.smod 32).toNat).toInt = _
  rw [hs, BitVec.toInt_sshiftRight]
  rfl
theorem pk_shrN {n : Nat} (h : n < 2 ^ 31) (s : Int32) (k : Nat) (hs : (s.toBitVec.smod 32).toNat = k) : nI n >>> s = nI (n / 2 ^ k) := by
  apply Int32.toInt_inj.mp
  have h2 : n / 2 ^ k ≤ n := Nat.div_le_self _ _
  rw [pk_shr _ _ k hs, nI_toInt h, nI_toInt (by omega), Int.shiftRight_eq_div_pow]
  rfl
theorem pk_ushr (x s : Int32) (k : Nat) (hs : ((s.toUInt32 &&& Int32.toUInt32 31).toBitVec % 32).toNat = k) : (x.toUInt32 >>> (s.toUInt32 &&& Int32.toUInt32 31)).toInt32.toBitVec.toNat = x.toBitVec.toNat / 2 ^ k := by
  have e : (x.toUInt32 >>> (s.toUInt32 &&& Int32.toUInt32 31)).toInt32.toBitVec = x.toBitVec >>> k := by
    rw [← hs]
    exact UInt32.toBitVec_shiftRight _ _
  rw [e, BitVec.toNat_ushiftRight, Nat.shiftRight_eq_div_pow]
theorem pk_ushrN {n : Nat} (hn : n < 2 ^ 32) (s : Int32) (k : Nat) (hs : ((s.toUInt32 &&& Int32.toUInt32 31).toBitVec % 32).toNat = k) : ((nI n).toUInt32 >>> (s.toUInt32 &&& Int32.toUInt32 31)).toInt32 = nI (n / 2 ^ k) := by
  apply Int32.toBitVec_inj.mp
  apply BitVec.eq_of_toNat_eq
  rw [pk_ushr _ s k hs, pk_tn hn, pk_tn (Nat.lt_of_le_of_lt (Nat.div_le_self _ _) hn)]
def bt (x : Int32) (i : Nat) : Bool := x.toBitVec.getLsbD i
theorem b_ext {x y : Int32} (h : ∀ i, i < 32 → bt x i = bt y i) : x = y := Int32.toBitVec_inj.mp (BitVec.eq_of_getLsbD_eq (fun i hi => h i hi))
theorem b_or (x y : Int32) (i : Nat) : bt (x ||| y) i = (bt x i || bt y i) := by unfold bt; rw [Int32.toBitVec_or, BitVec.getLsbD_or]
theorem b_and (x y : Int32) (i : Nat) : bt (x &&& y) i = (bt x i && bt y i) := by unfold bt; rw [Int32.toBitVec_and, BitVec.getLsbD_and]
theorem b_xor (x y : Int32) (i : Nat) : bt (x ^^^ y) i = (bt x i ^^ bt y i) := by unfold bt; rw [Int32.toBitVec_xor, BitVec.getLsbD_xor]
theorem b_big {x : Int32} {i : Nat} (h : 32 ≤ i) : bt x i = false := BitVec.getLsbD_of_ge _ _ h
theorem b_255 (i : Nat) : bt 255 i = decide (i < 8) := by
  rcases Nat.lt_or_ge i 32 with h | h
  · exact (by decide +kernel : ∀ i, i < 32 → bt 255 i = decide (i < 8)) i h
  · rw [b_big h, decide_eq_false (by omega)]
theorem b_m1 : ∀ i, i < 32 → bt (-1) i = true := by decide +kernel
theorem b_0 (i : Nat) : bt 0 i = false := BitVec.getLsbD_zero
theorem s_l : ∀ n, n < 32 → ((nI n &&& 31).toBitVec.smod 32).toNat = n := by decide +kernel
theorem s_u : ∀ n, n < 32 → (((nI n).toUInt32 &&& Int32.toUInt32 31).toBitVec % 32).toNat = n := by decide +kernel
theorem b_shl (n : Nat) (hn : n < 32) (x : Int32) {i : Nat} (hi : i < 32) : bt (x <<< (nI n &&& 31)) i = (decide (n ≤ i) && bt x (i - n)) := by
  unfold bt
  rw [Int32.toBitVec_shiftLeft]
  show (x.toBitVec <<< ((nI n &&& 31).toBitVec.smod 32).toNat).getLsbD i = _
  rw [s_l n hn, BitVec.getLsbD_shiftLeft]
  rcases Nat.lt_or_ge i n with h | h
  · simp [h, Nat.not_le.mpr h]
  · simp [hi, h, Nat.not_lt.mpr h]
theorem b_ushr (n : Nat) (hn : n < 32) (x : Int32) (i : Nat) : bt ((x.toUInt32 >>> ((nI n).toUInt32 &&& Int32.toUInt32 31)).toInt32) i = bt x (n + i) := by
  show (x.toUInt32 >>> ((nI n).toUInt32 &&& Int32.toUInt32 31)).toBitVec.getLsbD i = x.toUInt32.toBitVec.getLsbD (n + i)
  rw [UInt32.toBitVec_shiftRight]
  show (x.toUInt32.toBitVec >>> (((nI n).toUInt32 &&& Int32.toUInt32 31).toBitVec % 32).toNat).getLsbD i = _
  rw [s_u n hn, BitVec.getLsbD_ushiftRight]
theorem b_sshr (n : Nat) (hn : n < 32) (x : Int32) {i : Nat} (hi : i < 32) : bt (x >>> (nI n &&& 31)) i = if n + i < 32 then bt x (n + i) else bt x 31 := by
  unfold bt
  rw [Int32.toBitVec_shiftRight]
  show (x.toBitVec.sshiftRight ((nI n &&& 31).toBitVec.smod 32).toNat).getLsbD i = _
  rw [s_l n hn, BitVec.getLsbD_sshiftRight, BitVec.msb_eq_getLsbD_last]
  simp [hi]
theorem ts_nf {x : Bool} (h : ¬ x = false) : x = true := by cases x <;> first | rfl | exact absurd rfl h
theorem ts_nt {x : Bool} (h : ¬ x = true) : x = false := by cases x <;> first | rfl | exact absurd rfl h
end
section
/-! the game over positions, plain: W mk S d p, values of variables in a position, clauses, what follows -/
noncomputable def qb_bi (p : Prop) : Int32 := @ite Int32 p (Classical.propDecidable p) 1 0
theorem qb_bi_t {p : Prop} (h : p) : qb_bi p = 1 := if_pos h
theorem qb_bi_f {p : Prop} (h : ¬ p) : qb_bi p = 0 := if_neg h
theorem qb_bi_c {p q : Prop} (h : p ↔ q) : qb_bi p = qb_bi q := by rw [propext h]
def qb_vb (b : Bool) : Int32 := if b = true then 1 else 0
def qb_x (v p j : Nat) : Bool := p.testBit (v - 1 - j)
theorem qb_x_lo {v p c j : Nat} (hc : c / 2 = p) (hj : j < v) : qb_x (v + 1) c j = qb_x v p j := by
  unfold qb_x
  rw [show v + 1 - 1 - j = (v - 1 - j) + 1 by omega, Nat.testBit_succ, hc]
theorem qb_x_0 {v p : Nat} : qb_x (v + 1) (2 * p) v = false := by
  unfold qb_x
  rw [show v + 1 - 1 - v = 0 by omega, Nat.testBit_zero]
  exact decide_eq_false (by omega)
theorem qb_x_1 {v p : Nat} : qb_x (v + 1) (2 * p + 1) v = true := by
  unfold qb_x
  rw [show v + 1 - 1 - v = 0 by omega, Nat.testBit_zero]
  exact decide_eq_true (by omega)
def qb_W (mk : Nat → Bool) (S : Nat → Prop) : Nat → Nat → Prop
  | 0, p => S p
  | d + 1, p => (mk (7 - d) = true ∧ (qb_W mk S d (2 * p) ∨ qb_W mk S d (2 * p + 1))) ∨ (mk (7 - d) = false ∧ qb_W mk S d (2 * p) ∧ qb_W mk S d (2 * p + 1))
theorem qb_W_t {mk : Nat → Bool} {S : Nat → Prop} {d p : Nat} (h : mk (7 - d) = true) : qb_W mk S (d + 1) p ↔ (qb_W mk S d (2 * p) ∨ qb_W mk S d (2 * p + 1)) := by
  constructor
  · intro z
    rcases z with ⟨_, z⟩ | ⟨z, _⟩
    · exact z
    · rw [h] at z; cases z
  · intro z; exact Or.inl ⟨h, z⟩
theorem qb_W_f {mk : Nat → Bool} {S : Nat → Prop} {d p : Nat} (h : mk (7 - d) = false) : qb_W mk S (d + 1) p ↔ (qb_W mk S d (2 * p) ∧ qb_W mk S d (2 * p + 1)) := by
  constructor
  · intro z
    rcases z with ⟨z, _⟩ | ⟨_, z⟩
    · rw [h] at z; cases z
    · exact z
  · intro z; exact Or.inr ⟨h, z⟩
def qb_E (v p q : Nat) : Prop := ∀ j, j < v → qb_x 8 q j = qb_x v p j
theorem qb_E_up {v p c q : Nat} (hc : c / 2 = p) (h : qb_E (v + 1) c q) : qb_E v p q := fun j hj => (h j (by omega)).trans (qb_x_lo hc hj)
theorem qb_mono {mk : Nat → Bool} {S T : Nat → Prop} : ∀ d v p, v + d = 8 → (∀ q, qb_E v p q → S q → T q) → qb_W mk S d p → qb_W mk T d p := by
  intro d
  induction d with
  | zero =>
    intro v p hv h z
    have e : v = 8 := by omega
    subst e
    exact h p (fun _ _ => rfl) z
  | succ d ih =>
    intro v p hv h z
    have h0 : qb_W mk S d (2 * p) → qb_W mk T d (2 * p) := ih (v + 1) _ (by omega) (fun q hq => h q (qb_E_up (by omega) hq))
    have h1 : qb_W mk S d (2 * p + 1) → qb_W mk T d (2 * p + 1) := ih (v + 1) _ (by omega) (fun q hq => h q (qb_E_up (by omega) hq))
    rcases z with ⟨hm, z | z⟩ | ⟨hm, z, z'⟩
    · exact Or.inl ⟨hm, Or.inl (h0 z)⟩
    · exact Or.inl ⟨hm, Or.inr (h1 z)⟩
    · exact Or.inr ⟨hm, h0 z, h1 z'⟩
theorem qb_no {mk : Nat → Bool} : ∀ d p, ¬ qb_W mk (fun _ => False) d p := by
  intro d
  induction d with
  | zero => intro p z; exact z
  | succ d ih =>
    intro p z
    rcases z with ⟨_, z | z⟩ | ⟨_, z, _⟩
    · exact ih _ z
    · exact ih _ z
    · exact ih _ z
theorem qb_none {mk : Nat → Bool} {S : Nat → Prop} {d v p : Nat} (hv : v + d = 8) (h : ∀ q, qb_E v p q → ¬ S q) : ¬ qb_W mk S d p :=
  fun z => qb_no d p (qb_mono d v p hv (fun q hq hs => h q hq hs) z)
/-! clauses -/
def qb_cl (c : Int32) (q : Nat) : Prop := ∃ j, j < 8 ∧ ((qb_x 8 q j = true ∧ bt c (2 * j) = true) ∨ (qb_x 8 q j = false ∧ bt c (2 * j + 1) = true))
def qb_ok (F : Nat → Int32) : Prop := ∀ j, j < 8 → F j = -1 ∨ F j = 0 ∨ F j = 1
def qb_ag (F : Nat → Int32) (q : Nat) : Prop := ∀ j, j < 8 → (F j = 0 → qb_x 8 q j = false) ∧ (F j = 1 → qb_x 8 q j = true)
def qb_op (c : Int32) (F : Nat → Int32) : Prop := ∀ j, j < 8 → ¬ (F j = 1 ∧ bt c (2 * j) = true) ∧ ¬ (F j = 0 ∧ bt c (2 * j + 1) = true) ∧ ¬ (bt c (2 * j) = true ∧ bt c (2 * j + 1) = true)
def qb_ol (c : Int32) (F : Nat → Int32) (j : Nat) : Prop := F j = -1 ∧ (bt c (2 * j) = true ∨ bt c (2 * j + 1) = true)
theorem qb_nop {c : Int32} {F : Nat → Int32} {q : Nat} (h : ¬ qb_op c F) (ha : qb_ag F q) : qb_cl c q := by
  apply Classical.byContradiction
  intro hn
  apply h
  intro j hj
  refine ⟨fun ⟨a, b⟩ => hn ⟨j, hj, Or.inl ⟨(ha j hj).2 a, b⟩⟩, fun ⟨a, b⟩ => hn ⟨j, hj, Or.inr ⟨(ha j hj).1 a, b⟩⟩, fun ⟨a, b⟩ => ?_⟩
  cases hx : qb_x 8 q j
  · exact hn ⟨j, hj, Or.inr ⟨hx, b⟩⟩
  · exact hn ⟨j, hj, Or.inl ⟨hx, a⟩⟩
theorem qb_A {mk : Nat → Bool} {T : Nat → Prop} {c : Int32} {F : Nat → Int32} (h1 : ∀ q, T q → qb_cl c q) (h2 : ∀ q, T q → qb_ag F q) (ho : qb_op c F) (hk : qb_ok F) : ∀ d v p, v + d = 8 → (∀ j, j < 8 → v ≤ j → qb_ol c F j → mk j = false) → (∀ j, j < v → qb_ol c F j → (bt c (2 * j) = true → qb_x v p j = false) ∧ (bt c (2 * j + 1) = true → qb_x v p j = true)) → ¬ qb_W mk T d p := by
  intro d
  induction d with
  | zero =>
    intro v p hv hm hl z
    have e : v = 8 := by omega
    subst e
    obtain ⟨j, hj, hc⟩ := h1 p z
    have ha := h2 p z j hj
    have hoj := ho j hj
    rcases hk j hj with f | f | f
    · rcases hc with ⟨a, b⟩ | ⟨a, b⟩
      · have y := (hl j hj ⟨f, Or.inl b⟩).1 b
        rw [y] at a; cases a
      · have y := (hl j hj ⟨f, Or.inr b⟩).2 b
        rw [y] at a; cases a
    · rcases hc with ⟨a, b⟩ | ⟨a, b⟩
      · rw [ha.1 f] at a; cases a
      · exact hoj.2.1 ⟨f, b⟩
    · rcases hc with ⟨a, b⟩ | ⟨a, b⟩
      · exact hoj.1 ⟨f, b⟩
      · rw [ha.2 f] at a; cases a
  | succ d ih =>
    intro v p hv hm hl
    have e7 : 7 - d = v := by omega
    have step : ∀ cc, cc / 2 = p → (qb_ol c F v → (bt c (2 * v) = true → qb_x (v + 1) cc v = false) ∧ (bt c (2 * v + 1) = true → qb_x (v + 1) cc v = true)) → ¬ qb_W mk T d cc := by
      intro cc hcc hv'
      refine ih (v + 1) cc (by omega) (fun j hj hvj => hm j hj (by omega)) ?_
      intro j hj hoj
      rcases Nat.lt_or_ge j v with a | a
      · rw [qb_x_lo hcc a]; exact hl j a hoj
      · have e : j = v := by omega
        rw [e] at hoj ⊢
        exact hv' hoj
    by_cases hol : qb_ol c F v
    · have hmv : mk (7 - d) = false := by rw [e7]; exact hm v (by omega) (Nat.le_refl v) hol
      rw [qb_W_f hmv]
      have hnb := (ho v (by omega)).2.2
      rcases hol.2 with a | a
      · exact fun z => step (2 * p) (by omega) (fun _ => ⟨fun _ => qb_x_0, fun b => absurd ⟨a, b⟩ hnb⟩) z.1
      · exact fun z => step (2 * p + 1) (by omega) (fun _ => ⟨fun b => absurd ⟨b, a⟩ hnb, fun _ => qb_x_1⟩) z.2
    · have s0 := step (2 * p) (by omega) (fun z => absurd z hol)
      have s1 := step (2 * p + 1) (by omega) (fun z => absurd z hol)
      intro z
      rcases z with ⟨_, z | z⟩ | ⟨_, z, _⟩
      · exact s0 z
      · exact s1 z
      · exact s0 z
theorem qb_vb_01 (b : Bool) : (qb_vb b = 0 → b = false) ∧ (qb_vb b = 1 → b = true) := by
  cases b
  · exact ⟨fun _ => rfl, fun z => absurd z (by decide)⟩
  · exact ⟨fun z => absurd z (by decide), fun _ => rfl⟩
theorem qb_vb_or (b : Bool) : qb_vb b = 0 ∨ qb_vb b = 1 := by cases b; exact Or.inl rfl; exact Or.inr rfl
theorem qb_vb_n (b : Bool) : ¬ qb_vb b = -1 := by cases b; decide; decide
theorem qb_B {mk : Nat → Bool} {T : Nat → Prop} {c : Int32} {F : Nat → Int32} {l : Nat} (h1 : ∀ q, T q → qb_cl c q) (h2 : ∀ q, T q → qb_ag F q) (ho : qb_op c F) (hk : qb_ok F) (hl : l < 8) (hml : mk l = true) (hol : qb_ol c F l) (hu : ∀ j, j < 8 → qb_ol c F j → mk j = true → j = l) (hb : ∀ j, j < 8 → qb_ol c F j → mk j = false → l ≤ j) : ∀ d v p, v + d = 8 → v ≤ l → qb_W mk T d p → qb_W mk (fun q => T q ∧ qb_ag (upd F l (qb_vb (bt c (2 * l)))) q) d p := by
  intro d
  induction d with
  | zero => intro v p hv hvl; omega
  | succ d ih =>
    intro v p hv hvl z
    have e7 : 7 - d = v := by omega
    rcases Nat.lt_or_ge v l with a | a
    · have g0 := ih (v + 1) (2 * p) (by omega) (by omega)
      have g1 := ih (v + 1) (2 * p + 1) (by omega) (by omega)
      rcases z with ⟨hm, z | z⟩ | ⟨hm, z, z'⟩
      · exact Or.inl ⟨hm, Or.inl (g0 z)⟩
      · exact Or.inl ⟨hm, Or.inr (g1 z)⟩
      · exact Or.inr ⟨hm, g0 z, g1 z'⟩
    · have e : v = l := by omega
      clear ih
      subst e
      have hmv : mk (7 - d) = true := by rw [e7]; exact hml
      have hnb := (ho v hl).2.2
      have A : ∀ cc, cc / 2 = p → ((bt c (2 * v) = true → qb_x (v + 1) cc v = false) ∧ (bt c (2 * v + 1) = true → qb_x (v + 1) cc v = true)) → ¬ qb_W mk T d cc := by
        intro cc hcc hq
        refine qb_A h1 h2 ho hk d (v + 1) cc (by omega) ?_ ?_
        · intro j hj hvj hoj
          cases hmj : mk j
          · rfl
          · have y := hu j hj hoj hmj; omega
        · intro j hj hoj
          have e : j = v := by
            cases hmj : mk j
            · have y := hb j (by omega) hoj hmj; omega
            · exact hu j (by omega) hoj hmj
          rw [e]
          exact hq
      have M : ∀ cc, cc / 2 = p → qb_x (v + 1) cc v = bt c (2 * v) → qb_W mk T d cc → qb_W mk (fun q => T q ∧ qb_ag (upd F v (qb_vb (bt c (2 * v)))) q) d cc := by
        intro cc hcc hx
        refine qb_mono d (v + 1) cc (by omega) ?_
        intro q hq hT
        refine ⟨hT, fun j hj => ?_⟩
        by_cases e : j = v
        · rw [e, pk_us, hq v (by omega), hx]
          exact qb_vb_01 _
        · rw [pk_un e]; exact h2 q hT j hj
      rw [qb_W_t hmv] at z ⊢
      cases hb2 : bt c (2 * v)
      · have hng : bt c (2 * v + 1) = true := by
          rcases hol.2 with a | a
          · rw [hb2] at a; cases a
          · exact a
        rw [hb2] at M A
        rcases z with z | z
        · exact Or.inl (M _ (by omega) qb_x_0 z)
        · exact absurd z (A _ (by omega) ⟨fun a => (by cases a), fun _ => qb_x_1⟩)
      · rw [hb2] at M
        rcases z with z | z
        · exact absurd z (A _ (by omega) ⟨fun _ => qb_x_0, fun b => absurd ⟨hb2, b⟩ hnb⟩)
        · exact Or.inr (M _ (by omega) qb_x_1 z)
/-! what derive keeps -/
def qb_I (mk : Nat → Bool) (S : Nat → Prop) (v p d : Nat) (F : Nat → Int32) : Prop := qb_ok F ∧ (∀ j, j < v → ¬ F j = -1) ∧ (qb_W mk S d p → qb_W mk (fun q => S q ∧ qb_ag F q) d p)
def qb_val (v p : Nat) (a : Nat → Int32) : Prop := ∀ j, j < 8 → a j = if j < v then qb_vb (qb_x v p j) else -1
theorem qb_val_ag {v p q : Nat} {a : Nat → Int32} (h : qb_val v p a) (hq : qb_E v p q) : qb_ag a q := by
  intro j hj
  rw [h j hj]
  by_cases z : j < v
  · rw [if_pos z, hq j z]; exact qb_vb_01 _
  · rw [if_neg z]; exact ⟨fun y => absurd y (by decide), fun y => absurd y (by decide)⟩
theorem qb_val_ok {v p : Nat} {a : Nat → Int32} (h : qb_val v p a) : qb_ok a := by
  intro j hj
  rw [h j hj]
  by_cases z : j < v
  · rw [if_pos z]; exact Or.inr (qb_vb_or _)
  · rw [if_neg z]; exact Or.inl rfl
theorem qb_I0 {mk : Nat → Bool} {S : Nat → Prop} {v p d : Nat} {a : Nat → Int32} (hv : v + d = 8) (h : qb_val v p a) : qb_I mk S v p d a := by
  refine ⟨qb_val_ok h, ?_, qb_mono d v p hv (fun q hq hs => ⟨hs, qb_val_ag h hq⟩)⟩
  intro j hj
  rw [h j (by omega), if_pos hj]
  exact qb_vb_n _
theorem qb_lost {mk : Nat → Bool} {S : Nat → Prop} {v p d : Nat} {F : Nat → Int32} {c : Int32} (I : qb_I mk S v p d F) (hv : v + d = 8) (hS : ∀ q, S q → qb_cl c q) (ho : qb_op c F) (hn : ∀ j, j < 8 → qb_ol c F j → mk j = false) : ¬ qb_W mk S d p :=
  fun z => qb_A (T := fun q => S q ∧ qb_ag F q) (fun q h => hS q h.1) (fun _ h => h.2) ho I.1 d v p hv (fun j hj _ hoj => hn j hj hoj) (fun j hj hoj => absurd hoj.1 (I.2.1 j hj)) (I.2.2 z)
theorem qb_step {mk : Nat → Bool} {S : Nat → Prop} {v p d l : Nat} {F : Nat → Int32} {c : Int32} (I : qb_I mk S v p d F) (hv : v + d = 8) (hS : ∀ q, S q → qb_cl c q) (ho : qb_op c F) (hl : l < 8) (hml : mk l = true) (hol : qb_ol c F l) (hu : ∀ j, j < 8 → qb_ol c F j → mk j = true → j = l) (hb : ∀ j, j < 8 → qb_ol c F j → mk j = false → l ≤ j) : qb_I mk S v p d (upd F l (qb_vb (bt c (2 * l)))) := by
  have hvl : v ≤ l := by
    rcases Nat.lt_or_ge l v with a | a
    · exact absurd hol.1 (I.2.1 l a)
    · exact a
  refine ⟨?_, ?_, ?_⟩
  · intro j hj
    by_cases e : j = l
    · rw [e, pk_us]; exact Or.inr (qb_vb_or _)
    · rw [pk_un e]; exact I.1 j hj
  · intro j hj
    rw [pk_un (by omega)]
    exact I.2.1 j hj
  · intro z
    have y := qb_B (T := fun q => S q ∧ qb_ag F q) (fun q h => hS q h.1) (fun _ h => h.2) ho I.1 hl hml hol hu hb d v p hv hvl (I.2.2 z)
    exact qb_mono d v p hv (fun q _ h => ⟨h.1.1, h.2⟩) y
theorem qb_forced {mk : Nat → Bool} {S : Nat → Prop} {v p d : Nat} {F : Nat → Int32} (I : qb_I mk S v p (d + 1) F) (hv : v + (d + 1) = 8) (hm : mk v = true) : (F v = 0 → (qb_W mk S (d + 1) p ↔ qb_W mk S d (2 * p))) ∧ (F v = 1 → (qb_W mk S (d + 1) p ↔ qb_W mk S d (2 * p + 1))) := by
  have hmv : mk (7 - d) = true := by rw [show 7 - d = v by omega]; exact hm
  have K := I.2.2
  rw [qb_W_t hmv] at K ⊢
  have dn : ∀ cc, qb_W mk (fun q => S q ∧ qb_ag F q) d cc → qb_W mk S d cc := fun cc z => qb_mono d (v + 1) cc (by omega) (fun q _ h => h.1) z
  rw [qb_W_t hmv] at K
  refine ⟨fun f => ⟨fun z => ?_, fun z => Or.inl z⟩, fun f => ⟨fun z => ?_, fun z => Or.inr z⟩⟩
  · rcases K z with y | y
    · exact dn _ y
    · refine absurd y (qb_none (v := v + 1) (by omega) (fun q hq h => ?_))
      have a := (h.2 v (by omega)).1 f
      rw [hq v (by omega), qb_x_1] at a
      cases a
  · rcases K z with y | y
    · refine absurd y (qb_none (v := v + 1) (by omega) (fun q hq h => ?_))
      have a := (h.2 v (by omega)).2 f
      rw [hq v (by omega), qb_x_0] at a
      cases a
    · exact dn _ y
/-! the clauses of a desk; a variable out of play; a last position -/
def qb_S (lits : Nat → Int32) (C : Nat) (lo : Int32) (q : Nat) : Prop := ∀ k, k < C → ¬ nI k = lo → qb_cl (lits k) q
theorem qb_leaf {lits a : Nat → Int32} {C p : Nat} {lo : Int32} (ha : qb_val 8 p a) (h : ∀ k, k < C → ¬ nI k = lo → ¬ qb_op (lits k) a) : qb_S lits C lo p := fun k hk hl => qb_nop (h k hk hl) (qb_val_ag ha (fun _ _ => rfl))
theorem qb_idle1 {mk : Nat → Bool} {lits a : Nat → Int32} {C v p : Nat} {lo : Int32} (ha : qb_val v p a) (hi : ∀ k, k < C → ¬ nI k = lo → qb_op (lits k) a → bt (lits k) (2 * v) = false ∧ bt (lits k) (2 * v + 1) = false) : ∀ e w q q', w + e = 8 → v < w → (∀ j, j < w → ¬ j = v → qb_x w q j = qb_x w q' j) → (∀ j, j < v → qb_x w q' j = qb_x v p j) → qb_W mk (qb_S lits C lo) e q → qb_W mk (qb_S lits C lo) e q' := by
  intro e
  induction e with
  | zero =>
    intro w q q' hw hvw h1 h2 z
    have e : w = 8 := by omega
    subst e
    intro k hk hlo
    by_cases ho : qb_op (lits k) a
    · obtain ⟨j, hj, hc⟩ := z k hk hlo
      have hn := hi k hk hlo ho
      have hjv : ¬ j = v := by
        intro e
        rw [e, hn.1, hn.2] at hc
        rcases hc with ⟨_, b⟩ | ⟨_, b⟩
        · cases b
        · cases b
      exact ⟨j, hj, by rw [← h1 j hj hjv]; exact hc⟩
    · exact qb_nop ho (qb_val_ag ha h2)
  | succ e ih =>
    intro w q q' hw hvw h1 h2 z
    have st : ∀ cc cc', cc / 2 = q → cc' / 2 = q' → qb_x (w + 1) cc w = qb_x (w + 1) cc' w → qb_W mk (qb_S lits C lo) e cc → qb_W mk (qb_S lits C lo) e cc' := by
      intro cc cc' hc hc' hx
      refine ih (w + 1) cc cc' (by omega) (by omega) ?_ ?_
      · intro j hj hjv
        rcases Nat.lt_or_ge j w with b | b
        · rw [qb_x_lo hc b, qb_x_lo hc' b]; exact h1 j b hjv
        · rw [show j = w by omega]; exact hx
      · intro j hj
        rw [qb_x_lo hc' (by omega)]; exact h2 j hj
    have g0 := st (2 * q) (2 * q') (by omega) (by omega) (by rw [qb_x_0, qb_x_0])
    have g1 := st (2 * q + 1) (2 * q' + 1) (by omega) (by omega) (by rw [qb_x_1, qb_x_1])
    rcases z with ⟨hm, z | z⟩ | ⟨hm, z, z'⟩
    · exact Or.inl ⟨hm, Or.inl (g0 z)⟩
    · exact Or.inl ⟨hm, Or.inr (g1 z)⟩
    · exact Or.inr ⟨hm, g0 z, g1 z'⟩
theorem qb_idle {mk : Nat → Bool} {lits a : Nat → Int32} {C v p d : Nat} {lo : Int32} (hv : v + (d + 1) = 8) (ha : qb_val v p a) (hi : ∀ k, k < C → ¬ nI k = lo → qb_op (lits k) a → bt (lits k) (2 * v) = false ∧ bt (lits k) (2 * v + 1) = false) : qb_W mk (qb_S lits C lo) (d + 1) p ↔ qb_W mk (qb_S lits C lo) d (2 * p) := by
  have h01 : qb_W mk (qb_S lits C lo) d (2 * p) → qb_W mk (qb_S lits C lo) d (2 * p + 1) := by
    refine qb_idle1 ha hi d (v + 1) (2 * p) (2 * p + 1) (by omega) (by omega) ?_ ?_
    · intro j hj hjv
      rw [qb_x_lo (p := p) (by omega) (by omega), qb_x_lo (p := p) (by omega) (by omega)]
    · intro j hj
      exact qb_x_lo (by omega) hj
  have h10 : qb_W mk (qb_S lits C lo) d (2 * p + 1) → qb_W mk (qb_S lits C lo) d (2 * p) := by
    refine qb_idle1 ha hi d (v + 1) (2 * p + 1) (2 * p) (by omega) (by omega) ?_ ?_
    · intro j hj hjv
      rw [qb_x_lo (p := p) (by omega) (by omega), qb_x_lo (p := p) (by omega) (by omega)]
    · intro j hj
      exact qb_x_lo (by omega) hj
  cases hm : mk (7 - d)
  · rw [qb_W_f hm]
    exact ⟨fun z => z.1, fun z => ⟨z, h01 z⟩⟩
  · rw [qb_W_t hm]
    exact ⟨fun z => z.elim id h10, fun z => Or.inl z⟩
end
section
/-! bits of a clause, of the makers, of a position; lengths -/
def qb_h (a b : Bool) : Int32 := if a = true then (if b = true then 3 else 1) else (if b = true then 2 else 0)
theorem qb_h_bt : ∀ a b : Bool, ∀ i, i < 32 → bt (qb_h a b) i = (if i = 0 then a else if i = 1 then b else false) := by
  intro a b
  cases a <;> cases b <;> decide +kernel
theorem qb_3_bt : ∀ i, i < 32 → bt 3 i = decide (i < 2) := by decide +kernel
theorem qb_1_bt : ∀ i, i < 32 → bt 1 i = decide (i < 1) := by decide +kernel
theorem qb_vb_bt : ∀ a : Bool, ∀ i, i < 32 → bt (qb_vb a) i = (if i = 0 then a else false) := by
  intro a
  cases a <;> decide +kernel
theorem qb_and3 (y : Int32) : y &&& 3 = qb_h (bt y 0) (bt y 1) := by
  apply b_ext
  intro i hi
  rw [b_and, qb_3_bt i hi, qb_h_bt _ _ i hi]
  by_cases e0 : i = 0
  · subst e0; simp
  · by_cases e1 : i = 1
    · subst e1; simp
    · rw [if_neg e0, if_neg e1, decide_eq_false (by omega), Bool.and_false]
theorem qb_and1 (y : Int32) : y &&& 1 = qb_vb (bt y 0) := by
  apply b_ext
  intro i hi
  rw [b_and, qb_1_bt i hi, qb_vb_bt _ i hi]
  by_cases e0 : i = 0
  · subst e0; simp
  · rw [if_neg e0, decide_eq_false (by omega), Bool.and_false]
theorem qb_vb0 {b : Bool} : qb_vb b = 0 ↔ b = false := by cases b <;> decide
theorem qb_vb1 {b : Bool} : qb_vb b = 1 ↔ b = true := by cases b <;> decide
theorem qb_h0 {a b : Bool} : qb_h a b = 0 ↔ a = false ∧ b = false := by cases a <;> cases b <;> decide
theorem qb_h3 {a b : Bool} : qb_h a b = 3 ↔ a = true ∧ b = true := by cases a <;> cases b <;> decide
theorem qb_h1 {a b : Bool} : qb_h a b &&& 1 = 0 ↔ a = false := by cases a <;> cases b <;> decide
theorem qb_h2 {a b : Bool} : qb_h a b &&& 2 = 0 ↔ b = false := by cases a <;> cases b <;> decide
theorem qb_2m (v : Nat) : (2 : Int32) * nI v = nI (2 * v) := pk_mul 2 v
theorem qb_H3 {v : Nat} (hv : v < 8) (c : Int32) : ((c.toUInt32 >>> ((2 * nI v).toUInt32 &&& Int32.toUInt32 31)).toInt32) &&& 3 = qb_h (bt c (2 * v)) (bt c (2 * v + 1)) := by
  rw [qb_and3, qb_2m, b_ushr (2 * v) (by omega), b_ushr (2 * v) (by omega)]
  rfl
theorem qb_H1 {v : Nat} (hv : v < 8) (c : Int32) : ((c.toUInt32 >>> ((2 * nI v).toUInt32 &&& Int32.toUInt32 31)).toInt32) &&& 1 = qb_vb (bt c (2 * v)) := by
  rw [qb_and1, qb_2m, b_ushr (2 * v) (by omega)]
  rfl
theorem qb_mk1 {v : Nat} (hv : v < 32) (m : Int32) : ((m.toUInt32 >>> ((nI v).toUInt32 &&& Int32.toUInt32 31)).toInt32) &&& 1 = qb_vb (bt m v) := by
  rw [qb_and1, b_ushr v hv]
  rfl
theorem qb_sr1 {l : Nat} (hl : l < 32) (c : Int32) : (c >>> (nI l &&& 31)) &&& 1 = qb_vb (bt c l) := by
  rw [qb_and1, b_sshr l hl c (by decide), if_pos (by omega)]
  rfl
theorem qb_bt_nI {p i : Nat} (hi : i < 32) : bt (nI p) i = p.testBit i := by
  show (BitVec.ofNat 32 p).getLsbD i = _
  rw [BitVec.getLsbD_ofNat, decide_eq_true hi, Bool.true_and]
theorem qb_ix {L p j : Nat} (hj : j < L) (hL : L ≤ 8) : (((nI p).toUInt32 >>> (((nI L - 1) - nI j).toUInt32 &&& Int32.toUInt32 31)).toInt32) &&& 1 = qb_vb (qb_x L p j) := by
  have e : (nI L - 1) - nI j = nI (L - 1 - j) := by
    rw [show nI L - 1 = nI (L - 1) from pk_sub (a := L) (b := 1) (by omega), pk_sub (by omega)]
  rw [e, qb_mk1 (by omega), qb_bt_nI (by omega)]
  rfl
theorem qb_yb {q v : Nat} (hv : v < 8) : (nI q >>> ((7 - nI v) &&& 31)) &&& 1 = qb_vb (qb_x 8 q v) := by
  rw [show (7 : Int32) - nI v = nI (7 - v) from pk_sub (a := 7) (by omega), qb_sr1 (by omega), qb_bt_nI (by omega)]
  rfl
theorem qb_lit1 {q v : Nat} (hv : v < 8) (hx : qb_x 8 q v = true) : ((2 * nI v) + 1) - ((nI q >>> ((7 - nI v) &&& 31)) &&& 1) = nI (2 * v) := by
  rw [qb_yb hv, hx, qb_2m, nI_1]
  exact pk_sub (a := 2 * v + 1) (b := 1) (by omega)
theorem qb_lit0 {q v : Nat} (hv : v < 8) (hx : qb_x 8 q v = false) : ((2 * nI v) + 1) - ((nI q >>> ((7 - nI v) &&& 31)) &&& 1) = nI (2 * v + 1) := by
  rw [qb_yb hv, hx, qb_2m, nI_1]
  exact pk_sub (a := 2 * v + 1) (b := 0) (by omega)
/-! lengths -/
def qb_L (L p : Nat) : Prop := 2 ^ L ≤ p ∧ p < 2 ^ (L + 1) ∧ L ≤ 8
theorem qb_L_lt {L p k : Nat} (h : qb_L L p) (hk : L < k) : p < 2 ^ k := Nat.lt_of_lt_of_le h.2.1 (Nat.pow_le_pow_right (by decide) hk)
theorem qb_L_ge {L p k : Nat} (h : qb_L L p) (hk : k ≤ L) : 2 ^ k ≤ p := Nat.le_trans (Nat.pow_le_pow_right (by decide) hk) h.1
theorem qb_L_u {L M p : Nat} (h : qb_L L p) (g : qb_L M p) : L = M := by
  rcases Nat.lt_trichotomy L M with a | a | a
  · have y := qb_L_lt h a; have z := g.1; omega
  · exact a
  · have y := qb_L_lt g a; have z := h.1; omega
theorem qb_L_2 {L p c : Nat} (h : qb_L L p) (hL : L < 8) (hc : c / 2 = p) : qb_L (L + 1) c := by
  have a := h.1
  have b := h.2.1
  refine ⟨?_, ?_, hL⟩
  · rw [Nat.pow_succ]; omega
  · rw [Nat.pow_succ]; omega
theorem qb_L_p {L p : Nat} (h : qb_L L p) : 1 ≤ p ∧ p < 512 := by
  have a : p < 2 ^ 9 := qb_L_lt h (by have y := h.2.2; omega)
  have b : 2 ^ 0 ≤ p := qb_L_ge h (Nat.zero_le _)
  exact ⟨b, a⟩
theorem qb_L_ex {p : Nat} (h1 : 1 ≤ p) (h2 : p < 512) : ∃ L, qb_L L p := by
  have a : p ≠ 0 := by omega
  have b : p.log2 < 9 := (Nat.log2_lt a).2 h2
  exact ⟨p.log2, Nat.log2_self_le a, Nat.lt_log2_self, by omega⟩
theorem qb_p8 {k : Nat} (hk : k ≤ 8) : 2 ^ k ≤ 256 := Nat.le_trans (Nat.pow_le_pow_right (by decide) hk) (by decide : 2 ^ 8 ≤ 256)
theorem qb_sh2 {k : Nat} (hk : k ≤ 8) : (2 : Int32) <<< (nI k &&& 31) = nI (2 * 2 ^ k) := by
  have y := qb_p8 hk
  exact pk_shlN (n := 2) _ k (s_l k (by omega)) (by omega)
theorem qb_sh1 {k : Nat} (hk : k ≤ 8) : (1 : Int32) <<< (nI k &&& 31) = nI (2 ^ k) := by
  have y := qb_p8 hk
  have z := pk_shlN (n := 1) (nI k &&& 31) k (s_l k (by omega)) (by omega)
  rw [Nat.one_mul] at z
  exact z
theorem qb_shp {p k : Nat} (hp : p < 512) (hk : k < 32) : ((nI p).toUInt32 >>> ((nI k).toUInt32 &&& Int32.toUInt32 31)).toInt32 = nI (p / 2 ^ k) := pk_ushrN (by omega) (nI k) k (s_u k hk)
theorem qb_sp {n : Nat} (h : 0 < n) : ∃ m, n = m + 1 := ⟨n - 1, by omega⟩
/-! the walks of the two lengths -/
theorem qb_xlen1 {post : Int32 → Prop} {p L : Nat} (h : qb_L L p) (hp : post (nI L)) : ∀ e k j n, k + e = 9 → e < n → 1 ≤ k → ((j = L ∧ L < k) ∨ (j + 1 = k ∧ j ≤ L)) → wX_lengthOf_4 post (nI p) n (nI j) (nI k) := by
  have hb := qb_L_p h
  have hL := h.2.2
  intro e
  induction e with
  | zero =>
    intro k j n hk hn h1 hj
    obtain ⟨n, rfl⟩ := qb_sp (Nat.lt_of_le_of_lt (Nat.zero_le _) hn)
    have e : j = L := by omega
    rw [e]
    exact br_t (nI_le (a := 9) (by omega) (by omega)) hp
  | succ e ih =>
    intro k j n hk hn h1 hj
    obtain ⟨n, rfl⟩ := qb_sp (Nat.lt_of_le_of_lt (Nat.zero_le _) hn)
    refine br_f (nI_ge (b := 9) (by omega) (by decide)) ?_
    rw [qb_shp hb.2 (by omega)]
    rcases Nat.lt_or_ge L k with a | a
    · have z : p / 2 ^ k = 0 := Nat.div_eq_of_lt (qb_L_lt h a)
      rw [z]
      exact br_t nI_0 (nm_r (nI_1 k) (ih (k + 1) j n (by omega) (by omega) (by omega) (by omega)))
    · have z : 0 < p / 2 ^ k := Nat.div_pos (qb_L_ge h a) (Nat.two_pow_pos k)
      have y : p / 2 ^ k ≤ p := Nat.div_le_self _ _
      exact br_f (nI_ne0 z (by omega)) (nm_r (nI_1 k) (ih (k + 1) k n (by omega) (by omega) (by omega) (by omega)))
theorem qb_xlen {post : Int32 → Prop} {p L : Nat} (h : qb_L L p) (hp : post (nI L)) : wpX_lengthOf post (nI p) :=
  Exists.intro 9 (qb_xlen1 h hp 8 1 0 9 (by omega) (by omega) (by omega) (by omega))
theorem qb_ylen1 {post : Int32 → Prop} {p L : Nat} (h : qb_L L p) (hp : post (nI L)) : ∀ e k n, k + e = L → e < n → wY_length_2 post (nI p) n (nI k) := by
  have hb := qb_L_p h
  have hL := h.2.2
  intro e
  induction e with
  | zero =>
    intro k n hk hn
    obtain ⟨n, rfl⟩ := qb_sp (Nat.lt_of_le_of_lt (Nat.zero_le _) hn)
    have e : k = L := by omega
    rw [e]
    rcases Nat.lt_or_ge L 8 with a | a
    · refine br_f (nI_ge (b := 8) (by omega) (by decide)) (br_t ?_ hp)
      have y := qb_p8 hL
      have z := h.2.1
      rw [qb_sh2 hL]
      rw [Nat.pow_succ] at z
      exact nI_lt (by omega) (by omega)
    · exact br_t (nI_le (a := 8) a (by omega)) hp
  | succ e ih =>
    intro k n hk hn
    obtain ⟨n, rfl⟩ := qb_sp (Nat.lt_of_le_of_lt (Nat.zero_le _) hn)
    refine br_f (nI_ge (b := 8) (by omega) (by decide)) (br_f ?_ (nm_r (nI_1 k) (ih (k + 1) n (by omega) (by omega))))
    have z := qb_L_ge (k := k + 1) h (by omega)
    rw [qb_sh2 (by omega)]
    rw [Nat.pow_succ] at z
    exact nI_nlt (by omega) (by omega)
theorem qb_ylen {post : Int32 → Prop} {p L : Nat} (h : qb_L L p) (hp : post (nI L)) : wpY_length post (nI p) :=
  Exists.intro (L + 1) (qb_ylen1 h hp L 0 (L + 1) (by omega) (by omega))
end
section
/-! the reference's walks: holds, allHold, work -/
theorem qb_yholds1 {post : Int32 → Prop} {c : Int32} {q : Nat} (hT : qb_cl c q → post 1) (hF : ¬ qb_cl c q → post 0) : ∀ e v n, v + e = 8 → e < n → (∀ j, j < v → ¬ ((qb_x 8 q j = true ∧ bt c (2 * j) = true) ∨ (qb_x 8 q j = false ∧ bt c (2 * j + 1) = true))) → wY_holds_2 post c (nI q) n (nI v) := by
  intro e
  induction e with
  | zero =>
    intro v n hv hn hi
    obtain ⟨n, rfl⟩ := qb_sp (Nat.lt_of_le_of_lt (Nat.zero_le _) hn)
    have e : v = 8 := by omega
    subst e
    exact br_t (nI_le (a := 8) (by omega) (by omega)) (hF (fun ⟨j, hj, hc⟩ => hi j hj hc))
  | succ e ih =>
    intro v n hv hn hi
    obtain ⟨n, rfl⟩ := qb_sp (Nat.lt_of_le_of_lt (Nat.zero_le _) hn)
    have h8 : ¬ (8 : Int32) ≤ nI v := nI_ge (b := 8) (by omega) (by decide)
    cases hx : qb_x 8 q v
    · refine br_f h8 (nm_r (qb_lit0 (by omega) hx) ?_)
      rw [qb_sr1 (by omega)]
      cases hb : bt c (2 * v + 1)
      · refine br_f (by decide) (nm_r (nI_1 v) (ih (v + 1) n (by omega) (by omega) (lt_s hi ?_)))
        intro z
        rcases z with ⟨a, _⟩ | ⟨_, b⟩
        · rw [hx] at a; cases a
        · rw [hb] at b; cases b
      · exact br_t rfl (hT ⟨v, by omega, Or.inr ⟨hx, hb⟩⟩)
    · refine br_f h8 (nm_r (qb_lit1 (by omega) hx) ?_)
      rw [qb_sr1 (by omega)]
      cases hb : bt c (2 * v)
      · refine br_f (by decide) (nm_r (nI_1 v) (ih (v + 1) n (by omega) (by omega) (lt_s hi ?_)))
        intro z
        rcases z with ⟨_, b⟩ | ⟨a, _⟩
        · rw [hb] at b; cases b
        · rw [hx] at a; cases a
      · exact br_t rfl (hT ⟨v, by omega, Or.inl ⟨hx, hb⟩⟩)
theorem qb_yholds {post : Int32 → Prop} {c : Int32} {q : Nat} (hT : qb_cl c q → post 1) (hF : ¬ qb_cl c q → post 0) : wpY_holds post c (nI q) :=
  Exists.intro 9 (qb_yholds1 hT hF 8 0 9 (by omega) (by omega) (fun j hj => absurd hj (by omega)))
theorem qb_yall1 {post : Int32 → Prop} {lits br won : Nat → Int32} {C q : Nat} {lo : Int32} (hC : C ≤ 20) (hT : qb_S lits C lo q → post 1) (hF : ¬ qb_S lits C lo q → post 0) : ∀ e i n, i + e = C → e < n → (∀ k, k < i → ¬ nI k = lo → qb_cl (lits k) q) → wY_allHold_2 post (nI q) lo (nI C) br lits won n (nI i) := by
  intro e
  induction e with
  | zero =>
    intro i n hi hn h
    obtain ⟨n, rfl⟩ := qb_sp (Nat.lt_of_le_of_lt (Nat.zero_le _) hn)
    have e : i = C := by omega
    subst e
    exact br_t (nI_le (Nat.le_refl _) (by omega)) (hT h)
  | succ e ih =>
    intro i n hi hn h
    obtain ⟨n, rfl⟩ := qb_sp (Nat.lt_of_le_of_lt (Nat.zero_le _) hn)
    refine br_f (nI_ge (by omega) (by omega)) ?_
    by_cases hl : nI i = lo
    · exact br_t hl (nm_r (nI_1 i) (ih (i + 1) n (by omega) (by omega) (lt_s h (fun z => absurd hl z))))
    · refine br_f hl (And.intro (pk_in i 20 (by omega)) ?_)
      rw [nI_clamp (by omega)]
      refine qb_yholds (fun z => ?_) (fun z => ?_)
      · exact br_f (by decide) (nm_r (nI_1 i) (ih (i + 1) n (by omega) (by omega) (lt_s h (fun _ => z))))
      · exact br_t rfl (hF (fun y => z (y i (by omega) hl)))
theorem qb_yall {post : Int32 → Prop} {lits br won : Nat → Int32} {C q : Nat} {lo : Int32} (hC : C ≤ 20) (hp : post (qb_bi (qb_S lits C lo q))) : wpY_allHold post (nI C, br, lits, won) (nI q) lo :=
  Exists.intro (C + 1) (qb_yall1 hC (fun z => by rw [qb_bi_t z] at hp; exact hp) (fun z => by rw [qb_bi_f z] at hp; exact hp) C 0 (C + 1) (by omega) (by omega) (fun j hj => absurd hj (by omega)))
theorem qb_nar (p : Prop) : vp_nar .boolean (qb_bi p) = qb_bi p := by
  by_cases h : p
  · rw [qb_bi_t h]; rfl
  · rw [qb_bi_f h]; rfl
theorem qb_narr (p : Prop) : narrow .boolean (.int (qb_bi p)) = .int (qb_bi p) := by
  by_cases h : p
  · rw [qb_bi_t h]; rfl
  · rw [qb_bi_f h]; rfl
theorem qb_bi0 {p : Prop} : qb_bi p = 0 ↔ ¬ p := by
  by_cases h : p
  · rw [qb_bi_t h]; exact ⟨fun z => absurd z (by decide), fun z => absurd h z⟩
  · rw [qb_bi_f h]; exact ⟨fun _ => h, fun _ => rfl⟩
/-- all positions above p are worked out -/
def qb_D (mk : Nat → Bool) (S : Nat → Prop) (p : Nat) (won : Nat → Int32) : Prop := ∀ q L, p < q → qb_L L q → won q = qb_bi (qb_W mk S (8 - L) q)
theorem qb_D_up {mk : Nat → Bool} {S : Nat → Prop} {p L : Nat} {won : Nat → Int32} {P : Prop} (h : qb_D mk S (p + 1) won) (hL : qb_L L (p + 1)) (hP : P ↔ qb_W mk S (8 - L) (p + 1)) : qb_D mk S p (upd won (p + 1) (qb_bi P)) := by
  intro q M hq hM
  by_cases e : q = p + 1
  · rw [e, pk_us]
    rw [e] at hM
    rw [← qb_L_u hL hM]
    exact qb_bi_c hP
  · rw [pk_un e]
    exact h q M (by omega) hM
/-- the store of a position's value, both or one -/
theorem qb_y63 {post : SY → Prop} {J4 : Int32 → (Nat → Int32) → (Nat → Int32) → (Nat → Int32) → Prop} {x1 x2 x5 : Int32} {p : Nat} {P0 P1 : Prop} {br lits won : Nat → Int32} {fh : Int32} (hp : p + 1 < 256) (h0 : won (2 * (p + 1)) = qb_bi P0) (h1 : won (2 * (p + 1) + 1) = qb_bi P1) (K0 : x5 = 0 → J4 (nI p) br lits (upd won (p + 1) (qb_bi (P0 ∨ P1)))) (K1 : ¬ x5 = 0 → J4 (nI p) br lits (upd won (p + 1) (qb_bi (P0 ∧ P1)))) : wY_work_63 post J4 x1 x2 (nI (p + 1)) x5 fh br lits won := by
  have e0 : (2 : Int32) * nI (p + 1) = nI (2 * (p + 1)) := qb_2m _
  have e1 : (2 : Int32) * nI (p + 1) + 1 = nI (2 * (p + 1) + 1) := by rw [e0, nI_1]
  have i0 : vp_in (2 * nI (p + 1)) 512 := by rw [e0]; exact vp_in_nI (by omega) (by decide)
  have i1 : vp_in (2 * nI (p + 1) + 1) 512 := by rw [e1]; exact vp_in_nI (by omega) (by decide)
  have i2 : vp_in (nI (p + 1)) 512 := vp_in_nI (by omega) (by decide)
  have ec : (nI (p + 1)).toNatClampNeg = p + 1 := nI_clamp (by omega)
  have n0 : vp_nar .boolean 0 = 0 := rfl
  have n1 : vp_nar .boolean 1 = 1 := rfl
  have w0 : won (2 * nI (p + 1)).toNatClampNeg = qb_bi P0 := by rw [e0, nI_clamp (by omega)]; exact h0
  have w1 : won (2 * nI (p + 1) + 1).toNatClampNeg = qb_bi P1 := by rw [e1, nI_clamp (by omega)]; exact h1
  have u0 : ∀ {P : Prop}, ¬ P → upd won (nI (p + 1)).toNatClampNeg (vp_nar .boolean 0) = upd won (p + 1) (qb_bi P) := fun z => by rw [ec, n0, qb_bi_f z]
  have u1 : ∀ {P : Prop}, P → upd won (nI (p + 1)).toNatClampNeg (vp_nar .boolean 1) = upd won (p + 1) (qb_bi P) := fun z => by rw [ec, n1, qb_bi_t z]
  refine And.intro i0 (nm_r w0 (And.intro i1 (nm_r w1 ?_)))
  by_cases a : P0
  · have b0 : ¬ qb_bi P0 = 0 := fun z => qb_bi0.mp z a
    refine br_c (fun z => br_f b0 (And.intro i2 (nm_r (u1 (Or.inl a)) (nm_r (pk_m1 p) (K0 z))))) (fun z => br_f b0 ?_)
    by_cases b : P1
    · exact br_f (fun z => qb_bi0.mp z b) (And.intro i2 (nm_r (u1 ⟨a, b⟩) (nm_r (pk_m1 p) (K1 z))))
    · exact br_t (qb_bi0.mpr b) (And.intro i2 (nm_r (u0 (fun y => b y.2)) (nm_r (pk_m1 p) (K1 z))))
  · have b0 : qb_bi P0 = 0 := qb_bi0.mpr a
    refine br_c (fun z => br_t b0 ?_) (fun z => br_t b0 (And.intro i2 (nm_r (u0 (fun y => a y.1)) (nm_r (pk_m1 p) (K1 z)))))
    by_cases b : P1
    · exact br_f (fun z => qb_bi0.mp z b) (And.intro i2 (nm_r (u1 (Or.inr b)) (nm_r (pk_m1 p) (K0 z))))
    · exact br_t (qb_bi0.mpr b) (And.intro i2 (nm_r (u0 (fun y => y.elim a b)) (nm_r (pk_m1 p) (K0 z))))
theorem qb_ywork1 {post : SY → Prop} {lits br : Nat → Int32} {C : Nat} {lo sw : Int32} {mk : Nat → Bool} (hC : C ≤ 20) (hm : ∀ k, k < 8 → (nI k = sw → (br k = 1 ↔ mk k = true)) ∧ (¬ nI k = sw → (br k = 0 ↔ mk k = true))) (hp : ∀ won, qb_D mk (qb_S lits C lo) 0 won → post (nI C, br, lits, won)) : ∀ p n won, p < 512 → p < n → qb_D mk (qb_S lits C lo) p won → wY_work_4 post lo sw (nI C) n (nI p) br lits won := by
  intro p
  induction p with
  | zero =>
    intro n won _ hn D
    obtain ⟨n, rfl⟩ := qb_sp (Nat.lt_of_le_of_lt (Nat.zero_le _) hn)
    exact br_t (nI_lt (a := 0) (b := 1) (by omega) (by decide)) (hp won D)
  | succ p ih =>
    intro n won h5 hn D
    obtain ⟨n, rfl⟩ := qb_sp (Nat.lt_of_le_of_lt (Nat.zero_le _) hn)
    refine br_f (nI_nlt (a := p + 1) (b := 1) (by omega) (by omega)) ?_
    obtain ⟨L, hL⟩ := qb_L_ex (p := p + 1) (by omega) h5
    have hL8 := hL.2.2
    refine qb_ylen hL ?_
    rcases Nat.lt_or_ge L 8 with a | a
    · have D0 := D (2 * (p + 1)) (L + 1) (by omega) (qb_L_2 hL a (by omega))
      have D1 := D (2 * (p + 1) + 1) (L + 1) (by omega) (qb_L_2 hL a (by omega))
      have hp2 : p + 1 < 256 := qb_L_lt hL a
      have e8 : 8 - L = (8 - (L + 1)) + 1 := by omega
      have e7 : 7 - (8 - (L + 1)) = L := by omega
      have Kt : mk L = true → wY_work_4 post lo sw (nI C) n (nI p) br lits (upd won (p + 1) (qb_bi (qb_W mk (qb_S lits C lo) (8 - (L + 1)) (2 * (p + 1)) ∨ qb_W mk (qb_S lits C lo) (8 - (L + 1)) (2 * (p + 1) + 1)))) := by
        intro hk
        refine ih n _ (by omega) (by omega) (qb_D_up D hL ?_)
        rw [e8, qb_W_t (by rw [e7]; exact hk)]
      have Kf : ¬ mk L = true → wY_work_4 post lo sw (nI C) n (nI p) br lits (upd won (p + 1) (qb_bi (qb_W mk (qb_S lits C lo) (8 - (L + 1)) (2 * (p + 1)) ∧ qb_W mk (qb_S lits C lo) (8 - (L + 1)) (2 * (p + 1) + 1)))) := by
        intro hk
        refine ih n _ (by omega) (by omega) (qb_D_up D hL ?_)
        rw [e8, qb_W_f (by rw [e7]; exact ts_nt hk)]
      have hmL := hm L a
      refine br_f (fun z => by have y := (nI_eq (b := 8) (by omega) (by decide)).mp z; omega) (And.intro (vp_in_nI a (by decide)) ?_)
      rw [nI_clamp (by omega)]
      refine br_c (fun z => ?_) (fun z => ?_)
      · refine br_c (fun y => ?_) (fun y => ?_)
        · exact qb_y63 hp2 D0 D1 (fun _ => Kt ((hmL.1 z).mp y)) (fun x => absurd rfl x)
        · exact qb_y63 hp2 D0 D1 (fun x => absurd x (by decide)) (fun _ => Kf (fun x => y ((hmL.1 z).mpr x)))
      · refine br_c (fun y => ?_) (fun y => ?_)
        · exact qb_y63 hp2 D0 D1 (fun _ => Kt ((hmL.2 z).mp y)) (fun x => absurd rfl x)
        · exact qb_y63 hp2 D0 D1 (fun x => absurd x (by decide)) (fun _ => Kf (fun x => y ((hmL.2 z).mpr x)))
    · have e : L = 8 := by omega
      subst e
      refine br_t rfl (qb_yall hC (And.intro (vp_in_nI h5 (by decide)) ?_))
      refine nm_r (e' := upd won (p + 1) (qb_bi (qb_S lits C lo (p + 1)))) (by rw [nI_clamp (by omega), qb_nar]) (nm_r (pk_m1 p) ?_)
      exact ih n _ (by omega) (by omega) (qb_D_up D hL Iff.rfl)
theorem qb_ywork {post : SY → Prop} {lits br won0 : Nat → Int32} {C : Nat} {lo sw : Int32} {mk : Nat → Bool} (hC : C ≤ 20) (hm : ∀ k, k < 8 → (nI k = sw → (br k = 1 ↔ mk k = true)) ∧ (¬ nI k = sw → (br k = 0 ↔ mk k = true))) (hp : ∀ won, qb_D mk (qb_S lits C lo) 0 won → post (nI C, br, lits, won)) : wpY_work post (nI C, br, lits, won0) lo sw := by
  refine Exists.intro 512 (qb_ywork1 hC hm hp 511 512 won0 (by omega) (by omega) ?_)
  intro q L hq hL
  have y := (qb_L_p hL).2
  omega
end
section
/-! the component's small walks: isMakers, isOpen (twice), force, occurs, firstValue -/
theorem qb_xmk {post : Int32 → Prop} {m fc lo ls : Int32} {lits va fo : Nat → Int32} {v : Nat} (hv : v < 8) (h : post (qb_vb (bt m v))) : wpX_isMakers post (m, fc, lo, ls, lits, va, fo) (nI v) := by
  have e := qb_mk1 (v := v) (by omega) m
  cases hb : bt m v
  · rw [hb] at h e
    exact br_t e h
  · rw [hb] at h e
    exact br_f (fun z => absurd (e.symm.trans z) (by decide)) h
theorem qb_xop1_follows {post : Int32 → Prop} {m fc lo ls : Int32} {lits va fo : Nat → Int32} {k : Nat} (hk : k < 20) (hT : qb_op (lits k) fo → post 1) (hF : ¬ qb_op (lits k) fo → post 0) : ∀ e v n, v + e = 8 → e < n → (∀ j, j < v → ¬ (fo j = 1 ∧ bt (lits k) (2 * j) = true) ∧ ¬ (fo j = 0 ∧ bt (lits k) (2 * j + 1) = true) ∧ ¬ (bt (lits k) (2 * j) = true ∧ bt (lits k) (2 * j + 1) = true)) → wX_isOpen__follows_2 post (nI k) m fc lo ls lits va fo n (nI v) := by
  intro e
  induction e with
  | zero =>
    intro v n hv hn hi
    obtain ⟨n, rfl⟩ := qb_sp (Nat.lt_of_le_of_lt (Nat.zero_le _) hn)
    have e : v = 8 := by omega
    subst e
    exact br_t (nI_le (a := 8) (by omega) (by omega)) (hT hi)
  | succ e ih =>
    intro v n hv hn hi
    obtain ⟨n, rfl⟩ := qb_sp (Nat.lt_of_le_of_lt (Nat.zero_le _) hn)
    have h8 : ¬ (8 : Int32) ≤ nI v := nI_ge (b := 8) (by omega) (by decide)
    have i8 : vp_in (nI v) 8 := vp_in_nI (by omega) (by decide)
    have ev : (nI v).toNatClampNeg = v := nI_clamp (by omega)
    have k49 : ¬ qb_op (lits k) fo → wX_isOpen__follows_49 post (wX_isOpen__follows_2 post (nI k) m fc lo ls lits va fo n) (nI k) (nI v) (qb_h (bt (lits k) (2 * v)) (bt (lits k) (2 * v + 1))) m fc lo ls lits va fo := fun z => br_f (by decide) (hF z)
    have k53 : ¬ (fo v = 1 ∧ bt (lits k) (2 * v) = true) → ¬ (fo v = 0 ∧ bt (lits k) (2 * v + 1) = true) → wX_isOpen__follows_53 post (wX_isOpen__follows_2 post (nI k) m fc lo ls lits va fo n) (nI k) (nI v) (qb_h (bt (lits k) (2 * v)) (bt (lits k) (2 * v + 1))) m fc lo ls lits va fo := by
      intro n1 n2
      refine br_t rfl (br_c (fun z => hF (fun y => (y v (by omega)).2.2 (qb_h3.mp z))) (fun z => nm_r (nI_1 v) (ih (v + 1) n (by omega) (by omega) (lt_s hi ⟨n1, n2, fun y => z (qb_h3.mpr y)⟩))))
    have k36 : ¬ (fo v = 1 ∧ bt (lits k) (2 * v) = true) → wX_isOpen__follows_36 post (wX_isOpen__follows_2 post (nI k) m fc lo ls lits va fo n) (nI k) (nI v) (qb_h (bt (lits k) (2 * v)) (bt (lits k) (2 * v + 1))) m fc lo ls lits va fo := by
      intro n1
      refine And.intro i8 ?_
      rw [ev]
      refine br_c (fun z => br_c (fun y => k53 n1 (fun x => ?_)) (fun y => k49 (fun x => ?_))) (fun z => k53 n1 (fun x => z x.1))
      · have w := qb_h2.mp y
        rw [x.2] at w; cases w
      · exact (x v (by omega)).2.1 ⟨z, ts_nf (fun w => y (qb_h2.mpr w))⟩
    refine br_f h8 (And.intro (vp_in_nI hk (by decide)) (nm_r (e' := qb_h (bt (lits k) (2 * v)) (bt (lits k) (2 * v + 1))) (by rw [nI_clamp (by omega)]; exact qb_H3 (by omega) _) (And.intro i8 ?_)))
    rw [ev]
    refine br_c (fun z => br_c (fun y => k36 (fun x => ?_)) (fun y => k49 (fun x => ?_))) (fun z => k36 (fun x => z x.1))
    · have w := qb_h1.mp y
      rw [x.2] at w; cases w
    · exact (x v (by omega)).1 ⟨z, ts_nf (fun w => y (qb_h1.mpr w))⟩
theorem qb_xop_follows {post : Int32 → Prop} {m fc lo ls : Int32} {lits va fo : Nat → Int32} {k : Nat} (hk : k < 20) (hT : qb_op (lits k) fo → post 1) (hF : ¬ qb_op (lits k) fo → post 0) : wpX_isOpen__follows post (m, fc, lo, ls, lits, va, fo) (nI k) :=
  Exists.intro 9 (qb_xop1_follows hk hT hF 8 0 9 (by omega) (by omega) (fun j hj => absurd hj (by omega)))
theorem qb_xop1_value {post : Int32 → Prop} {m fc lo ls : Int32} {lits va fo : Nat → Int32} {k : Nat} (hk : k < 20) (hT : qb_op (lits k) va → post 1) (hF : ¬ qb_op (lits k) va → post 0) : ∀ e v n, v + e = 8 → e < n → (∀ j, j < v → ¬ (va j = 1 ∧ bt (lits k) (2 * j) = true) ∧ ¬ (va j = 0 ∧ bt (lits k) (2 * j + 1) = true) ∧ ¬ (bt (lits k) (2 * j) = true ∧ bt (lits k) (2 * j + 1) = true)) → wX_isOpen__value_2 post (nI k) m fc lo ls lits va fo n (nI v) := by
  intro e
  induction e with
  | zero =>
    intro v n hv hn hi
    obtain ⟨n, rfl⟩ := qb_sp (Nat.lt_of_le_of_lt (Nat.zero_le _) hn)
    have e : v = 8 := by omega
    subst e
    exact br_t (nI_le (a := 8) (by omega) (by omega)) (hT hi)
  | succ e ih =>
    intro v n hv hn hi
    obtain ⟨n, rfl⟩ := qb_sp (Nat.lt_of_le_of_lt (Nat.zero_le _) hn)
    have h8 : ¬ (8 : Int32) ≤ nI v := nI_ge (b := 8) (by omega) (by decide)
    have i8 : vp_in (nI v) 8 := vp_in_nI (by omega) (by decide)
    have ev : (nI v).toNatClampNeg = v := nI_clamp (by omega)
    have k49 : ¬ qb_op (lits k) va → wX_isOpen__value_49 post (wX_isOpen__value_2 post (nI k) m fc lo ls lits va fo n) (nI k) (nI v) (qb_h (bt (lits k) (2 * v)) (bt (lits k) (2 * v + 1))) m fc lo ls lits va fo := fun z => br_f (by decide) (hF z)
    have k53 : ¬ (va v = 1 ∧ bt (lits k) (2 * v) = true) → ¬ (va v = 0 ∧ bt (lits k) (2 * v + 1) = true) → wX_isOpen__value_53 post (wX_isOpen__value_2 post (nI k) m fc lo ls lits va fo n) (nI k) (nI v) (qb_h (bt (lits k) (2 * v)) (bt (lits k) (2 * v + 1))) m fc lo ls lits va fo := by
      intro n1 n2
      refine br_t rfl (br_c (fun z => hF (fun y => (y v (by omega)).2.2 (qb_h3.mp z))) (fun z => nm_r (nI_1 v) (ih (v + 1) n (by omega) (by omega) (lt_s hi ⟨n1, n2, fun y => z (qb_h3.mpr y)⟩))))
    have k36 : ¬ (va v = 1 ∧ bt (lits k) (2 * v) = true) → wX_isOpen__value_36 post (wX_isOpen__value_2 post (nI k) m fc lo ls lits va fo n) (nI k) (nI v) (qb_h (bt (lits k) (2 * v)) (bt (lits k) (2 * v + 1))) m fc lo ls lits va fo := by
      intro n1
      refine And.intro i8 ?_
      rw [ev]
      refine br_c (fun z => br_c (fun y => k53 n1 (fun x => ?_)) (fun y => k49 (fun x => ?_))) (fun z => k53 n1 (fun x => z x.1))
      · have w := qb_h2.mp y
        rw [x.2] at w; cases w
      · exact (x v (by omega)).2.1 ⟨z, ts_nf (fun w => y (qb_h2.mpr w))⟩
    refine br_f h8 (And.intro (vp_in_nI hk (by decide)) (nm_r (e' := qb_h (bt (lits k) (2 * v)) (bt (lits k) (2 * v + 1))) (by rw [nI_clamp (by omega)]; exact qb_H3 (by omega) _) (And.intro i8 ?_)))
    rw [ev]
    refine br_c (fun z => br_c (fun y => k36 (fun x => ?_)) (fun y => k49 (fun x => ?_))) (fun z => k36 (fun x => z x.1))
    · have w := qb_h1.mp y
      rw [x.2] at w; cases w
    · exact (x v (by omega)).1 ⟨z, ts_nf (fun w => y (qb_h1.mpr w))⟩
theorem qb_xop_value {post : Int32 → Prop} {m fc lo ls : Int32} {lits va fo : Nat → Int32} {k : Nat} (hk : k < 20) (hT : qb_op (lits k) va → post 1) (hF : ¬ qb_op (lits k) va → post 0) : wpX_isOpen__value post (m, fc, lo, ls, lits, va, fo) (nI k) :=
  Exists.intro 9 (qb_xop1_value hk hT hF 8 0 9 (by omega) (by omega) (fun j hj => absurd hj (by omega)))
theorem qb_xfirst {post : Int32 → Prop} {m fc lo ls : Int32} {lits va fo : Nat → Int32} {v : Nat} (hv : v < 8) (h1 : bt m v = true → fo v = 1 → post 1) (h0 : post 0) : wpX_firstValue post (m, fc, lo, ls, lits, va, fo) (nI v) := by
  unfold wpX_firstValue
  dsimp only
  refine qb_xmk hv ?_
  refine br_c (fun _ => h0) (fun z => And.intro (vp_in_nI hv (by decide)) ?_)
  rw [nI_clamp (by omega)]
  exact br_c (fun y => h1 (ts_nf (fun w => z (qb_vb0.mpr w))) y) (fun _ => h0)
theorem qb_xocc1 {post : Int32 → Prop} {m lo ls : Int32} {lits va fo : Nat → Int32} {C v : Nat} (hC : C ≤ 20) (hv : v < 8) (h1 : post 1) (h0 : (∀ k, k < C → ¬ nI k = lo → qb_op (lits k) va → bt (lits k) (2 * v) = false ∧ bt (lits k) (2 * v + 1) = false) → post 0) : ∀ e i n, i + e = C → e < n → (∀ k, k < i → ¬ nI k = lo → qb_op (lits k) va → bt (lits k) (2 * v) = false ∧ bt (lits k) (2 * v + 1) = false) → wX_occurs_2 post (nI v) m (nI C) lo ls lits va fo n (nI i) := by
  intro e
  induction e with
  | zero =>
    intro i n hi hn h
    obtain ⟨n, rfl⟩ := qb_sp (Nat.lt_of_le_of_lt (Nat.zero_le _) hn)
    have e : i = C := by omega
    subst e
    exact br_t (nI_le (Nat.le_refl _) (by omega)) (h0 h)
  | succ e ih =>
    intro i n hi hn h
    obtain ⟨n, rfl⟩ := qb_sp (Nat.lt_of_le_of_lt (Nat.zero_le _) hn)
    refine br_f (nI_ge (by omega) (by omega)) ?_
    have nx : (¬ nI i = lo → qb_op (lits i) va → bt (lits i) (2 * v) = false ∧ bt (lits i) (2 * v + 1) = false) → wX_occurs_2 post (nI v) m (nI C) lo ls lits va fo n (nI (i + 1)) := fun z => ih (i + 1) n (by omega) (by omega) (lt_s h z)
    by_cases hl : nI i = lo
    · exact br_t hl (nm_r (nI_1 i) (nx (fun z => absurd hl z)))
    · refine br_f hl (qb_xop_value (by omega) (fun z => ?_) (fun z => ?_))
      · refine br_f (by decide) (And.intro (vp_in_nI (by omega) (by decide)) ?_)
        rw [nI_clamp (by omega), qb_H3 hv]
        exact br_c (fun y => nm_r (nI_1 i) (nx (fun _ _ => qb_h0.mp y))) (fun _ => h1)
      · exact br_t rfl (nm_r (nI_1 i) (nx (fun _ y => absurd y z)))
theorem qb_xocc {post : Int32 → Prop} {m lo ls : Int32} {lits va fo : Nat → Int32} {C v : Nat} (hC : C ≤ 20) (hv : v < 8) (h1 : post 1) (h0 : (∀ k, k < C → ¬ nI k = lo → qb_op (lits k) va → bt (lits k) (2 * v) = false ∧ bt (lits k) (2 * v + 1) = false) → post 0) : wpX_occurs post (m, nI C, lo, ls, lits, va, fo) (nI v) :=
  Exists.intro (C + 1) (qb_xocc1 hC hv h1 h0 C 0 (C + 1) (by omega) (by omega) (fun j hj => absurd hj (by omega)))
/-! force -/
def qb_FI (mk : Nat → Bool) (c : Int32) (F : Nat → Int32) (i mo : Nat) (x3 : Int32) (fb : Nat) : Prop :=
  ((mo = 0 ∧ ∀ j, i ≤ j → j < 8 → qb_ol c F j → mk j = false) ∨ (mo = 1 ∧ ∃ l, x3 = nI l ∧ i ≤ l ∧ l < 8 ∧ mk l = true ∧ qb_ol c F l ∧ ∀ j, i ≤ j → j < 8 → qb_ol c F j → mk j = true → j = l) ∨ (2 ≤ mo ∧ mo + i ≤ 8 ∧ ∃ l, l < 8 ∧ qb_ol c F l)) ∧ fb ≤ 8 ∧ ∀ j, i ≤ j → j < 8 → qb_ol c F j → mk j = false → fb ≤ j
theorem qb_FI_mo {mk : Nat → Bool} {c : Int32} {F : Nat → Int32} {i mo : Nat} {x3 : Int32} {fb : Nat} (h : qb_FI mk c F i mo x3 fb) : mo ≤ 8 := by
  rcases h.1 with a | a | a
  · have y := a.1; omega
  · have y := a.1; omega
  · have y := a.2.1; omega
theorem qb_FI_8 {mk : Nat → Bool} {c : Int32} {F : Nat → Int32} : qb_FI mk c F 8 0 (-1) 8 :=
  ⟨Or.inl ⟨rfl, fun j a b => absurd b (by omega)⟩, Nat.le_refl 8, fun j a b => absurd b (by omega)⟩
theorem qb_le_s {i : Nat} {P : Nat → Prop} (h : ∀ j, i + 1 ≤ j → j < 8 → P j) (hi : P i) : ∀ j, i ≤ j → j < 8 → P j := by
  intro j a b
  by_cases e : j = i
  · rw [e]; exact hi
  · exact h j (by omega) b
theorem qb_FI_n {mk : Nat → Bool} {c : Int32} {F : Nat → Int32} {i mo : Nat} {x3 : Int32} {fb : Nat} (h : qb_FI mk c F (i + 1) mo x3 fb) (hi : ¬ qb_ol c F i) : qb_FI mk c F i mo x3 fb := by
  refine ⟨?_, h.2.1, qb_le_s h.2.2 (fun z => absurd z hi)⟩
  rcases h.1 with ⟨e, a⟩ | ⟨e, l, e3, a, b, hm, ho, hu⟩ | ⟨e, a, b⟩
  · exact Or.inl ⟨e, qb_le_s a (fun z => absurd z hi)⟩
  · exact Or.inr (Or.inl ⟨e, l, e3, by omega, b, hm, ho, qb_le_s hu (fun z => absurd z hi)⟩)
  · exact Or.inr (Or.inr ⟨e, by omega, b⟩)
theorem qb_FI_m {mk : Nat → Bool} {c : Int32} {F : Nat → Int32} {i mo : Nat} {x3 : Int32} {fb : Nat} (h : qb_FI mk c F (i + 1) mo x3 fb) (hi8 : i < 8) (hi : qb_ol c F i) (hm : mk i = true) : qb_FI mk c F i (mo + 1) (nI i) fb := by
  refine ⟨?_, h.2.1, qb_le_s h.2.2 (fun _ z => by rw [hm] at z; cases z)⟩
  rcases h.1 with ⟨e, a⟩ | ⟨e, l, e3, a, b, hm', ho, hu⟩ | ⟨e, a, b⟩
  · refine Or.inr (Or.inl ⟨by omega, i, rfl, Nat.le_refl i, hi8, hm, hi, ?_⟩)
    refine qb_le_s (fun j x y z w => ?_) (fun _ _ => rfl)
    have u := a j x y z
    rw [w] at u; cases u
  · exact Or.inr (Or.inr ⟨by omega, by omega, i, hi8, hi⟩)
  · exact Or.inr (Or.inr ⟨by omega, by omega, b⟩)
theorem qb_FI_b {mk : Nat → Bool} {c : Int32} {F : Nat → Int32} {i mo : Nat} {x3 : Int32} {fb : Nat} (h : qb_FI mk c F (i + 1) mo x3 fb) (hi8 : i < 8) (hm : mk i = false) : qb_FI mk c F i mo x3 i := by
  refine ⟨?_, by omega, fun j a b _ _ => a⟩
  rcases h.1 with ⟨e, a⟩ | ⟨e, l, e3, a, b, hm', ho, hu⟩ | ⟨e, a, b⟩
  · exact Or.inl ⟨e, qb_le_s a (fun _ => hm)⟩
  · exact Or.inr (Or.inl ⟨e, l, e3, by omega, b, hm', ho, qb_le_s hu (fun _ z => by rw [hm] at z; cases z)⟩)
  · exact Or.inr (Or.inr ⟨e, by omega, b⟩)
theorem qb_x98 {post : Int32 → SX → Prop} {m fc lo ls : Int32} {lits va fo : Nat → Int32} {k mo fb : Nat} {x3 : Int32} (hk : k < 20) (I : qb_FI (bt m) (lits k) fo 0 mo x3 fb) (hL : (∀ j, j < 8 → qb_ol (lits k) fo j → bt m j = false) → post 0 (m, fc, lo, 1, lits, va, fo)) (hF : ∀ l, l < 8 → bt m l = true → qb_ol (lits k) fo l → (∀ j, j < 8 → qb_ol (lits k) fo j → bt m j = true → j = l) → (∀ j, j < 8 → qb_ol (lits k) fo j → bt m j = false → l ≤ j) → post 1 (m, fc, lo, 0, lits, va, upd fo l (qb_vb (bt (lits k) (2 * l))))) (hN : (∃ j, j < 8 ∧ qb_ol (lits k) fo j) → post 0 (m, fc, lo, 0, lits, va, fo)) : (nI mo = 0 → wX_force_98 post (nI k) (nI mo) x3 (nI fb) 1 m fc lo ls lits va fo) ∧ (¬ nI mo = 0 → wX_force_98 post (nI k) (nI mo) x3 (nI fb) 0 m fc lo ls lits va fo) := by
  obtain ⟨h, hfb, hb⟩ := I
  rcases h with ⟨e, a⟩ | ⟨e, l, e3, a, b, hm, ho, hu⟩ | ⟨e, a, b⟩
  · subst e
    exact br_t rfl (And.intro rfl (And.intro rfl (br_f (by decide) (hL (fun j hj => a j (Nat.zero_le j) hj)))))
  · subst e
    subst e3
    refine br_f (by decide) (And.intro rfl (And.intro rfl (br_t rfl ?_)))
    refine pk_le l fb (fun hlb => And.intro (vp_in_nI hk (by decide)) ?_) (fun _ => hN ⟨l, b, ho⟩) rfl rfl (by omega) (by omega)
    have K := hF l b hm ho (fun j hj => hu j (Nat.zero_le j) hj) (fun j hj x y => Nat.le_trans hlb (hb j (Nat.zero_le j) hj x y))
    rw [nI_clamp (n := k) (by omega), qb_H1 b]
    have el : (nI l).toNatClampNeg = l := nI_clamp (by omega)
    cases hbit : bt (lits k) (2 * l)
    · rw [hbit] at K
      exact br_t rfl (And.intro (vp_in_nI b (by decide)) (nm_r (e' := upd fo l 0) (by rw [el]) K))
    · rw [hbit] at K
      exact br_f (by decide) (And.intro (vp_in_nI b (by decide)) (nm_r (e' := upd fo l 1) (by rw [el]) K))
  · have n0 : ¬ nI mo = 0 := nI_ne0 (by omega) (by omega)
    have n1 : ¬ nI mo = 1 := fun z => by have y := (nI_eq (b := 1) (by omega) (by decide)).mp z; omega
    exact br_f n0 (And.intro rfl (And.intro rfl (br_f n1 (hN b))))
theorem qb_xforce1 {post : Int32 → SX → Prop} {m fc lo ls : Int32} {lits va fo : Nat → Int32} {k : Nat} (hk : k < 20) (hok : qb_ok fo) (hL : (∀ j, j < 8 → qb_ol (lits k) fo j → bt m j = false) → post 0 (m, fc, lo, 1, lits, va, fo)) (hF : ∀ l, l < 8 → bt m l = true → qb_ol (lits k) fo l → (∀ j, j < 8 → qb_ol (lits k) fo j → bt m j = true → j = l) → (∀ j, j < 8 → qb_ol (lits k) fo j → bt m j = false → l ≤ j) → post 1 (m, fc, lo, 0, lits, va, upd fo l (qb_vb (bt (lits k) (2 * l))))) (hN : (∃ j, j < 8 ∧ qb_ol (lits k) fo j) → post 0 (m, fc, lo, 0, lits, va, fo)) : ∀ i mo x3 fb n, i ≤ 8 → i < n → qb_FI (bt m) (lits k) fo i mo x3 fb → wX_force_12 post (nI k) m fc lo ls lits va fo n (nI mo) x3 (nI fb) (nI i + (-1)) := by
  intro i
  induction i with
  | zero =>
    intro mo x3 fb n _ hn I
    obtain ⟨n, rfl⟩ := qb_sp (Nat.lt_of_le_of_lt (Nat.zero_le _) hn)
    exact br_t (by decide) (qb_x98 hk I hL hF hN)
  | succ i ih =>
    intro mo x3 fb n h8 hn I
    obtain ⟨n, rfl⟩ := qb_sp (Nat.lt_of_le_of_lt (Nat.zero_le _) hn)
    rw [pk_m1]
    have hi8 : i < 8 := by omega
    have ei : (nI i).toNatClampNeg = i := nI_clamp (by omega)
    have hmo := qb_FI_mo I
    have nx : ∀ mo' x3' fb', qb_FI (bt m) (lits k) fo i mo' x3' fb' → wX_force_12 post (nI k) m fc lo ls lits va fo n (nI mo') x3' (nI fb') (nI i + (-1)) := fun mo' x3' fb' I' => ih mo' x3' fb' n (by omega) (by omega) I'
    have k47 : ¬ qb_ol (lits k) fo i → wX_force_47 post (wX_force_12 post (nI k) m fc lo ls lits va fo n) (nI k) (nI mo) x3 (nI fb) (nI i) m fc lo ls lits va fo := fun z => br_t rfl (br_t rfl (nm_e (nx mo x3 fb (qb_FI_n I z))))
    refine br_f (nI_pos (by omega)) (And.intro (vp_in_nI hi8 (by decide)) ?_)
    rw [ei, nI_clamp (n := k) (by omega), qb_H3 hi8]
    refine br_c (fun z => k47 (fun y => ?_)) (fun z => And.intro (vp_in_nI hk (by decide)) (br_c (fun y => k47 (fun x => ?_)) (fun y => ?_)))
    · rw [y.1] at z
      exact absurd z (by decide)
    · have w := qb_h0.mp y
      rcases x.2 with b | b
      · rw [w.1] at b; cases b
      · rw [w.2] at b; cases b
    · have hol : qb_ol (lits k) fo i := by
        refine ⟨?_, ?_⟩
        · rcases hok i hi8 with f | f | f
          · exact f
          · rw [f] at z; exact absurd (by decide) z
          · rw [f] at z; exact absurd (by decide) z
        · cases hb0 : bt (lits k) (2 * i)
          · right
            exact ts_nf (fun w => y (qb_h0.mpr ⟨hb0, w⟩))
          · exact Or.inl rfl
      refine br_f (by decide) (qb_xmk hi8 ?_)
      cases hm : bt m i
      · exact br_t rfl (br_f (by decide) (nm_e (nx mo x3 i (qb_FI_b I hi8 hm))))
      · exact br_f (by decide) (nm_r (nI_1 mo) (nm_e (nx (mo + 1) (nI i) fb (qb_FI_m I hi8 hol hm))))
theorem qb_xforce {post : Int32 → SX → Prop} {m fc lo ls : Int32} {lits va fo : Nat → Int32} {k : Nat} (hk : k < 20) (hok : qb_ok fo) (hL : (∀ j, j < 8 → qb_ol (lits k) fo j → bt m j = false) → post 0 (m, fc, lo, 1, lits, va, fo)) (hF : ∀ l, l < 8 → bt m l = true → qb_ol (lits k) fo l → (∀ j, j < 8 → qb_ol (lits k) fo j → bt m j = true → j = l) → (∀ j, j < 8 → qb_ol (lits k) fo j → bt m j = false → l ≤ j) → post 1 (m, fc, lo, 0, lits, va, upd fo l (qb_vb (bt (lits k) (2 * l))))) (hN : (∃ j, j < 8 ∧ qb_ol (lits k) fo j) → post 0 (m, fc, lo, 0, lits, va, fo)) : wpX_force post (m, fc, lo, ls, lits, va, fo) (nI k) :=
  Exists.intro 9 (qb_xforce1 hk hok hL hF hN 8 0 (-1) 8 9 (by omega) (by omega) qb_FI_8)
end
section
/-! derive: what it keeps, and its walk -/
def qb_Q (mk : Nat → Bool) (lits : Nat → Int32) (C : Nat) (lo : Int32) (v p d k : Nat) (ls : Int32) (F : Nat → Int32) : Prop :=
  qb_I mk (qb_S lits C lo) v p d F ∧ (ls = 0 ∨ ¬ qb_W mk (qb_S lits C lo) d p) ∧ (v = 8 → qb_val 8 p F ∧ (ls = 0 → ∀ j, j < k → ¬ nI j = lo → ¬ qb_op (lits j) F))
theorem qb_Q_0 {mk : Nat → Bool} {lits : Nat → Int32} {C : Nat} {lo : Int32} {v p d k : Nat} {ls : Int32} {F : Nat → Int32} (h : qb_Q mk lits C lo v p d k ls F) : qb_Q mk lits C lo v p d 0 ls F :=
  ⟨h.1, h.2.1, fun e => ⟨(h.2.2 e).1, fun _ j hj => absurd hj (by omega)⟩⟩
theorem qb_Q_l {mk : Nat → Bool} {lits : Nat → Int32} {C : Nat} {lo : Int32} {v p d k k' : Nat} {ls : Int32} {F : Nat → Int32} (h : qb_Q mk lits C lo v p d k ls F) (hl : ¬ ls = 0) : qb_Q mk lits C lo v p d k' ls F :=
  ⟨h.1, h.2.1, fun e => ⟨(h.2.2 e).1, fun z => absurd z hl⟩⟩
theorem qb_Q_s {mk : Nat → Bool} {lits : Nat → Int32} {C : Nat} {lo : Int32} {v p d k : Nat} {ls : Int32} {F : Nat → Int32} (h : qb_Q mk lits C lo v p d k ls F) (hk : ¬ nI k = lo → ¬ qb_op (lits k) F) : qb_Q mk lits C lo v p d (k + 1) ls F :=
  ⟨h.1, h.2.1, fun e => ⟨(h.2.2 e).1, fun z => lt_s ((h.2.2 e).2 z) hk⟩⟩
theorem qb_Q_a {mk : Nat → Bool} {lits : Nat → Int32} {C : Nat} {lo : Int32} {v p d k : Nat} {ls : Int32} {F : Nat → Int32} (hv : v + d = 8) (h : qb_Q mk lits C lo v p d k ls F) (hk : k < C) (hlo : ¬ nI k = lo) (ho : qb_op (lits k) F) (hn : ∀ j, j < 8 → qb_ol (lits k) F j → mk j = false) : qb_Q mk lits C lo v p d (k + 1) 1 F :=
  ⟨h.1, Or.inr (qb_lost h.1 hv (fun q hq => hq k hk hlo) ho hn), fun e => ⟨(h.2.2 e).1, fun z => absurd z (by decide)⟩⟩
theorem qb_Q_f {mk : Nat → Bool} {lits : Nat → Int32} {C : Nat} {lo : Int32} {v p d k l : Nat} {ls : Int32} {F : Nat → Int32} (hv : v + d = 8) (h : qb_Q mk lits C lo v p d k ls F) (hk : k < C) (hlo : ¬ nI k = lo) (ho : qb_op (lits k) F) (hl : l < 8) (hml : mk l = true) (hol : qb_ol (lits k) F l) (hu : ∀ j, j < 8 → qb_ol (lits k) F j → mk j = true → j = l) (hb : ∀ j, j < 8 → qb_ol (lits k) F j → mk j = false → l ≤ j) : qb_Q mk lits C lo v p d (k + 1) 0 (upd F l (qb_vb (bt (lits k) (2 * l)))) :=
  ⟨qb_step h.1 hv (fun q hq => hq k hk hlo) ho hl hml hol hu hb, Or.inl rfl, fun e => absurd hol.1 (h.1.2.1 l (by omega))⟩
theorem qb_Q_n {mk : Nat → Bool} {lits : Nat → Int32} {C : Nat} {lo : Int32} {v p d k : Nat} {ls : Int32} {F : Nat → Int32} (h : qb_Q mk lits C lo v p d k ls F) (hol : ∃ j, j < 8 ∧ qb_ol (lits k) F j) : qb_Q mk lits C lo v p d (k + 1) 0 F := by
  refine ⟨h.1, Or.inl rfl, fun e => ?_⟩
  obtain ⟨j, hj, ho⟩ := hol
  exact absurd ho.1 (h.1.2.1 j (by omega))
theorem qb_x57 {post : SX → Prop} {J : Int32 → Int32 → Int32 → Int32 → Int32 → Int32 → (Nat → Int32) → (Nat → Int32) → (Nat → Int32) → Prop} {m lo : Int32} {lits va : Nat → Int32} {C v p d r : Nat} (hC : C ≤ 20) (hv : v + d = 8) (K : ∀ x2 ls fo, qb_Q (bt m) lits C lo v p d C ls fo → J x2 (nI (r + 1)) m (nI C) lo ls lits va fo) : ∀ e k n x2 ls fo, k + e = C → e < n → qb_Q (bt m) lits C lo v p d k ls fo → wX_derive_57 post J (nI r) n x2 (nI k) m (nI C) lo ls lits va fo := by
  intro e
  induction e with
  | zero =>
    intro k n x2 ls fo hk hn I
    obtain ⟨n, rfl⟩ := qb_sp (Nat.lt_of_le_of_lt (Nat.zero_le _) hn)
    have e : k = C := by omega
    subst e
    exact br_t (nI_le (Nat.le_refl _) (by omega)) (nm_r (nI_1 r) (K x2 ls fo I))
  | succ e ih =>
    intro k n x2 ls fo hk hn I
    obtain ⟨n, rfl⟩ := qb_sp (Nat.lt_of_le_of_lt (Nat.zero_le _) hn)
    refine br_f (nI_ge (by omega) (by omega)) ?_
    have nx : ∀ x2 ls fo, qb_Q (bt m) lits C lo v p d (k + 1) ls fo → wX_derive_57 post J (nI r) n x2 (nI (k + 1)) m (nI C) lo ls lits va fo := fun x2 ls fo I' => ih (k + 1) n x2 ls fo (by omega) (by omega) I'
    refine br_c (fun hls => ?_) (fun hls => nm_r (nI_1 r) (K x2 ls fo (qb_Q_l I hls)))
    refine br_c (fun hl => nm_r (nI_1 k) (nx x2 ls fo (qb_Q_s I (fun z => absurd hl z)))) (fun hl => ?_)
    refine qb_xop_follows (by omega) (fun ho => ?_) (fun ho => br_t rfl (nm_r (nI_1 k) (nx x2 ls fo (qb_Q_s I (fun _ => ho)))))
    refine br_f (by decide) (qb_xforce (by omega) I.1.1 (fun a => ?_) (fun l a b c d' e' => ?_) (fun a => ?_))
    · exact br_t rfl (br_c (fun _ => nm_r (nI_1 k) (nx 0 1 fo (qb_Q_a hv I (by omega) hl ho a))) (fun _ => nm_r (nI_1 k) (nx 1 1 fo (qb_Q_a hv I (by omega) hl ho a))))
    · exact br_f (by decide) (nm_r (nI_1 k) (nx 1 0 _ (qb_Q_f hv I (by omega) hl ho a b c d' e')))
    · exact br_t rfl (br_c (fun _ => nm_r (nI_1 k) (nx 0 0 fo (qb_Q_n I a))) (fun _ => nm_r (nI_1 k) (nx 1 0 fo (qb_Q_n I a))))
theorem qb_x35 {post : SX → Prop} {m lo : Int32} {lits va : Nat → Int32} {C v p d : Nat} (hC : C ≤ 20) (hv : v + d = 8) (K : ∀ ls fo, qb_Q (bt m) lits C lo v p d C ls fo → post (m, nI C, lo, ls, lits, va, fo)) : ∀ e r n x2 ls fo, r + e = 10 → e < n → qb_Q (bt m) lits C lo v p d C ls fo → wX_derive_35 post n x2 (nI r) m (nI C) lo ls lits va fo := by
  intro e
  induction e with
  | zero =>
    intro r n x2 ls fo hr hn I
    obtain ⟨n, rfl⟩ := qb_sp (Nat.lt_of_le_of_lt (Nat.zero_le _) hn)
    exact br_t (nI_le (a := 10) (by omega) (by omega)) (K ls fo I)
  | succ e ih =>
    intro r n x2 ls fo hr hn I
    obtain ⟨n, rfl⟩ := qb_sp (Nat.lt_of_le_of_lt (Nat.zero_le _) hn)
    refine br_f (nI_ge (b := 10) (by omega) (by decide)) (br_c (fun _ => K ls fo I) (fun _ => br_c (fun _ => ?_) (fun _ => K ls fo I)))
    exact Exists.intro (C + 1) (qb_x57 hC hv (fun x2' ls' fo' I' => ih (r + 1) n x2' ls' fo' (by omega) (by omega) I') C 0 (C + 1) 0 ls fo (by omega) (by omega) (qb_Q_0 I))
theorem qb_x7 {post : SX → Prop} {m lo : Int32} {lits va : Nat → Int32} {C v p d : Nat} (hC : C ≤ 20) (hv : v + d = 8) (hva : qb_val v p va) (K : ∀ ls fo, qb_Q (bt m) lits C lo v p d C ls fo → post (m, nI C, lo, ls, lits, va, fo)) : ∀ e i n fo, i + e = 8 → e < n → (∀ j, j < i → fo j = va j) → wX_derive_7 post m (nI C) lo 0 n (nI i) lits va fo := by
  intro e
  induction e with
  | zero =>
    intro i n fo hi hn h
    obtain ⟨n, rfl⟩ := qb_sp (Nat.lt_of_le_of_lt (Nat.zero_le _) hn)
    have e : i = 8 := by omega
    subst e
    have hfo : qb_val v p fo := fun j hj => (h j hj).trans (hva j hj)
    have I : qb_Q (bt m) lits C lo v p d 0 0 fo := ⟨qb_I0 hv hfo, Or.inl rfl, fun e => ⟨by rw [e] at hfo; exact hfo, fun _ j hj => absurd hj (by omega)⟩⟩
    refine br_t (nI_le (a := 8) (by omega) (by omega)) (Exists.intro 11 ?_)
    refine br_f (by decide) (br_f (by decide) (br_t rfl ?_))
    exact Exists.intro (C + 1) (qb_x57 (r := 0) hC hv (fun x2' ls' fo' I' => qb_x35 hC hv K 9 1 10 x2' ls' fo' (by omega) (by omega) I') C 0 (C + 1) 0 0 fo (by omega) (by omega) I)
  | succ e ih =>
    intro i n fo hi hn h
    obtain ⟨n, rfl⟩ := qb_sp (Nat.lt_of_le_of_lt (Nat.zero_le _) hn)
    have i8 : vp_in (nI i) 8 := vp_in_nI (by omega) (by decide)
    refine br_f (nI_ge (b := 8) (by omega) (by decide)) (And.intro i8 (And.intro i8 (nm_r (e' := upd fo i (va i)) (by rw [nI_clamp (by omega)]) (nm_r (nI_1 i) (ih (i + 1) n _ (by omega) (by omega) ?_)))))
    intro j hj
    by_cases e : j = i
    · rw [e, pk_us]
    · rw [pk_un e]; exact h j (by omega)
theorem qb_xderive {post : SX → Prop} {m lo ls x : Int32} {lits va fo : Nat → Int32} {C v p d : Nat} (hC : C ≤ 20) (hv : v + d = 8) (hva : qb_val v p va) (K : ∀ ls fo, qb_Q (bt m) lits C lo v p d C ls fo → post (m, nI C, lo, ls, lits, va, fo)) : wpX_derive post (m, nI C, lo, ls, lits, va, fo) x :=
  Exists.intro 9 (qb_x7 hC hv hva K 8 0 9 fo (by omega) (by omega) (fun j hj => absurd hj (by omega)))
end
section
/-! needsBoth and the search -/
theorem qb_val_dn {v p c : Nat} {a b : Nat → Int32} (h : qb_val (v + 1) c a) (hc : c / 2 = p) (he : ∀ j, ¬ j = v → b j = a j) (hb : b v = -1) : qb_val v p b := by
  intro j hj
  by_cases e : j = v
  · rw [e, hb, if_neg (by omega)]
  · rw [he j e, h j hj]
    by_cases z : j < v
    · rw [if_pos z, if_pos (by omega), qb_x_lo hc z]
    · rw [if_neg z, if_neg (by omega)]
theorem qb_val_up {v p c : Nat} {a b : Nat → Int32} (h : qb_val v p a) (hc : c / 2 = p) (he : ∀ j, ¬ j = v → b j = a j) (hb : b v = qb_vb (qb_x (v + 1) c v)) : qb_val (v + 1) c b := by
  intro j hj
  by_cases e : j = v
  · rw [e, hb, if_pos (by omega)]
  · rw [he j e, h j hj]
    by_cases z : j < v
    · rw [if_pos z, if_pos (by omega), qb_x_lo hc z]
    · rw [if_neg z, if_neg (by omega)]
theorem qb_xnb {post : Int32 → SX → Prop} {m lo ls : Int32} {lits va fo : Nat → Int32} {C v p d : Nat} (hC : C ≤ 20) (hv : v + (d + 1) = 8) (hva : qb_val v p (upd va v (-1))) (K0 : ∀ ls fo, (qb_W (bt m) (qb_S lits C lo) (d + 1) p ↔ qb_W (bt m) (qb_S lits C lo) d (2 * p)) → post 0 (m, nI C, lo, ls, lits, upd (upd va v (-1)) v 0, fo)) (K1 : ∀ ls fo, post 1 (m, nI C, lo, ls, lits, upd (upd va v (-1)) v 0, fo)) : wpX_needsBoth post (m, nI C, lo, ls, lits, va, fo) (nI v) := by
  have hv8 : v < 8 := by omega
  have i8 : vp_in (nI v) 8 := vp_in_nI hv8 (by decide)
  have ev : (nI v).toNatClampNeg = v := nI_clamp (by omega)
  refine And.intro i8 (nm_r (e' := upd va v (-1)) (by rw [ev]) ?_)
  refine qb_xderive hC hv hva (fun ls' fo' Q => ?_)
  refine qb_xocc hC hv8 ?_ (fun hid => ?_)
  · refine And.intro i8 (nm_r (e' := upd (upd va v (-1)) v 0) (by rw [ev]) (qb_xmk hv8 ?_))
    refine br_c (fun z => br_f (by decide) (br_t rfl (K1 ls' fo'))) (fun z => And.intro i8 ?_)
    rw [ev]
    refine br_c (fun f => br_f (by decide) (br_f (by decide) (K0 ls' fo' ?_))) (fun f => br_f (by decide) (br_t rfl (K1 ls' fo')))
    exact (qb_forced Q.1 hv (ts_nf (fun w => z (qb_vb0.mpr w)))).1 f
  · have R := K0 ls' fo' (qb_idle hv hva hid)
    refine And.intro i8 (nm_r (e' := upd (upd va v (-1)) v 0) (by rw [ev]) (qb_xmk hv8 ?_))
    refine br_c (fun z => br_t rfl R) (fun z => And.intro i8 ?_)
    exact br_c (fun f => br_t rfl R) (fun f => br_t rfl R)
theorem qb_x164 {post : Int32 → SX → Prop} {J : Int32 → Int32 → Int32 → Int32 → Int32 → Int32 → Int32 → Int32 → (Nat → Int32) → (Nat → Int32) → (Nat → Int32) → Prop} {x2 x5 m fc lo ls : Int32} {lits va fo : Nat → Int32} {v s : Nat} (hv : v < 8) (K : J (nI v) 0 x5 (nI (s + 1)) m fc lo ls lits (upd va v (-1)) fo) : wX_isWon_164 post J x2 (nI v) x5 (nI s) m fc lo ls lits va fo :=
  br_t rfl (And.intro (vp_in_nI hv (by decide)) (nm_r (e' := upd va v (-1)) (by rw [nI_clamp (by omega)]) (br_t rfl (nm_r (Int32.add_zero (nI v)) (nm_r (nI_1 s) K)))))
theorem qb_x165 {post : Int32 → SX → Prop} {J : Int32 → Int32 → Int32 → Int32 → Int32 → Int32 → Int32 → Int32 → (Nat → Int32) → (Nat → Int32) → (Nat → Int32) → Prop} {x2 x5 m fc lo ls : Int32} {lits va fo : Nat → Int32} {v s : Nat} (hv : v < 8) (K : J (nI (v + 1)) 1 x5 (nI (s + 1)) m fc lo ls lits (upd va v 1) fo) : wX_isWon_165 post J x2 (nI v) x5 (nI s) 1 m fc lo ls lits va fo :=
  br_f (by decide) (And.intro (vp_in_nI hv (by decide)) (nm_r (e' := upd va v 1) (by rw [nI_clamp (by omega)]) (br_f (by decide) (nm_r (nI_1 v) (nm_r (nI_1 s) K)))))
theorem qb_enter {post : Int32 → SX → Prop} {x2 x5 m lo ls : Int32} {lits va fo : Nat → Int32} {C v p d s n : Nat} (hC : C ≤ 20) (hv : v + d = 8) (hs : s < 2000) (hva : qb_val v p va)
    (KL : ∀ ls fo, ¬ qb_W (bt m) (qb_S lits C lo) d p → wX_isWon_54 post x2 n (nI v) 0 0 (nI (s + 1)) m (nI C) lo ls lits va fo)
    (K8 : ∀ ls fo, v = 8 → qb_W (bt m) (qb_S lits C lo) d p → wX_isWon_54 post x2 n (nI v) 0 1 (nI (s + 1)) m (nI C) lo ls lits va fo)
    (K1 : ∀ fo, v < 8 → bt m v = true → fo v = 1 → qb_I (bt m) (qb_S lits C lo) v p d fo → wX_isWon_54 post x2 n (nI (v + 1)) 1 x5 (nI (s + 1)) m (nI C) lo 0 lits (upd va v 1) fo)
    (K0 : ∀ fo, v < 8 → wX_isWon_54 post x2 n (nI (v + 1)) 1 x5 (nI (s + 1)) m (nI C) lo 0 lits (upd va v 0) fo) : wX_isWon_54 post x2 (n + 1) (nI v) 1 x5 (nI s) m (nI C) lo ls lits va fo := by
  refine br_f (nI_ge (b := 2000) hs (by decide)) (br_f (by decide) (qb_xderive hC hv hva (fun ls' fo' Q => ?_)))
  refine br_c (fun z => ?_) (fun z => br_f z (nm_r (nI_1 s) (KL ls' fo' (Q.2.1.resolve_left z))))
  by_cases e : v = 8
  · refine br_t (by rw [e]; rfl) (br_t z (nm_r (nI_1 s) (K8 ls' fo' e ?_)))
    have hd : d = 0 := by omega
    subst hd
    exact qb_leaf (Q.2.2 e).1 (fun k hk hl => (Q.2.2 e).2 z k hk hl)
  · refine br_f (fun y => by have x := (nI_eq (b := 8) (by omega) (by decide)).mp y; omega) ?_
    subst z
    have hv8 : v < 8 := by omega
    refine qb_xfirst hv8 (fun hm f => ?_) ?_
    · exact And.intro (vp_in_nI hv8 (by decide)) (nm_r (e' := upd va v 1) (by rw [nI_clamp (by omega)]) (nm_r (nI_1 v) (nm_r (nI_1 s) (K1 fo' hv8 hm f Q.1))))
    · exact And.intro (vp_in_nI hv8 (by decide)) (nm_r (e' := upd va v 0) (by rw [nI_clamp (by omega)]) (nm_r (nI_1 v) (nm_r (nI_1 s) (K0 fo' hv8))))
theorem qb_ret1 {post : Int32 → SX → Prop} {x5 m fc lo ls : Int32} {lits va fo : Nat → Int32} {v s n st : Nat} (hv : v < 8) (hst : st ≤ v) (hs : s < 2000) (h1 : va v = 1) (K : wX_isWon_54 post (nI st) n (nI v) 0 x5 (nI (s + 1)) m fc lo ls lits (upd va v (-1)) fo) : wX_isWon_54 post (nI st) (n + 1) (nI (v + 1)) 0 x5 (nI s) m fc lo ls lits va fo := by
  refine br_f (nI_ge (b := 2000) hs (by decide)) (br_t rfl (br_f (fun y => by have x := (nI_eq (by omega) (by omega)).mp y; omega) (nm_r (pk_m1 v) (And.intro (vp_in_nI hv (by decide)) ?_))))
  rw [nI_clamp (by omega), h1]
  exact br_f (by decide) (qb_x164 hv K)
theorem qb_ret0 {post : Int32 → SX → Prop} {x5 m lo ls : Int32} {lits va fo : Nat → Int32} {C v p d s n st : Nat} (hC : C ≤ 20) (hv : v + (d + 1) = 8) (hst : st ≤ v) (hs : s < 2000) (h0 : va v = 0) (hva : qb_val v p (upd va v (-1)))
    (Ks : x5 = qb_vb (bt m v) → wX_isWon_54 post (nI st) n (nI v) 0 x5 (nI (s + 1)) m (nI C) lo ls lits (upd va v (-1)) fo)
    (Kn : ∀ ls fo, (qb_W (bt m) (qb_S lits C lo) (d + 1) p ↔ qb_W (bt m) (qb_S lits C lo) d (2 * p)) → wX_isWon_54 post (nI st) n (nI v) 0 x5 (nI (s + 1)) m (nI C) lo ls lits (upd (upd (upd va v (-1)) v 0) v (-1)) fo)
    (Ko : ∀ ls fo, ¬ x5 = qb_vb (bt m v) → wX_isWon_54 post (nI st) n (nI (v + 1)) 1 x5 (nI (s + 1)) m (nI C) lo ls lits (upd (upd (upd va v (-1)) v 0) v 1) fo) : wX_isWon_54 post (nI st) (n + 1) (nI (v + 1)) 0 x5 (nI s) m (nI C) lo ls lits va fo := by
  have hv8 : v < 8 := by omega
  refine br_f (nI_ge (b := 2000) hs (by decide)) (br_t rfl (br_f (fun y => by have x := (nI_eq (by omega) (by omega)).mp y; omega) (nm_r (pk_m1 v) (And.intro (vp_in_nI hv8 (by decide)) ?_))))
  rw [nI_clamp (by omega), h0]
  refine br_t rfl (qb_xmk hv8 (br_c (fun z => qb_x164 hv8 (Ks z)) (fun z => ?_)))
  exact qb_xnb hC hv hva (fun ls' fo' i => br_t rfl (qb_x164 hv8 (Kn ls' fo' i))) (fun ls' fo' => br_f (by decide) (qb_x165 hv8 (Ko ls' fo' z)))
theorem qb_settle {mk : Nat → Bool} {S : Nat → Prop} {d p v : Nat} (hv : v + (d + 1) = 8) (h : qb_bi (qb_W mk S d (2 * p)) = qb_vb (mk v)) : qb_W mk S (d + 1) p ↔ qb_W mk S d (2 * p) := by
  have e7 : 7 - d = v := by omega
  cases hm : mk v
  · rw [hm] at h
    have w : ¬ qb_W mk S d (2 * p) := qb_bi0.mp h
    rw [qb_W_f (by rw [e7]; exact hm)]
    exact ⟨fun z => z.1, fun z => absurd z w⟩
  · rw [hm] at h
    have w : qb_W mk S d (2 * p) := Classical.byContradiction (fun z => by rw [qb_bi_f z] at h; exact absurd h (by decide))
    rw [qb_W_t (by rw [e7]; exact hm)]
    exact ⟨fun _ => w, fun z => Or.inl z⟩
theorem qb_unsettle {mk : Nat → Bool} {S : Nat → Prop} {d p v : Nat} (hv : v + (d + 1) = 8) (h : ¬ qb_bi (qb_W mk S d (2 * p)) = qb_vb (mk v)) : qb_W mk S (d + 1) p ↔ qb_W mk S d (2 * p + 1) := by
  have e7 : 7 - d = v := by omega
  cases hm : mk v
  · rw [hm] at h
    have w : qb_W mk S d (2 * p) := Classical.byContradiction (fun z => h (qb_bi_f z))
    rw [qb_W_f (by rw [e7]; exact hm)]
    exact ⟨fun z => z.2, fun z => ⟨w, z⟩⟩
  · rw [hm] at h
    have w : ¬ qb_W mk S d (2 * p) := fun z => h (qb_bi_t z)
    rw [qb_W_t (by rw [e7]; exact hm)]
    exact ⟨fun z => z.resolve_left w, fun z => Or.inr z⟩
/-- steps below a position with d variables to come -/
def qb_k : Nat → Nat
  | 0 => 1
  | d + 1 => 2 * qb_k d + 3
theorem qb_k_le : ∀ d, d < 9 → qb_k d ≤ 1021 := by decide
theorem qb_run {post : Int32 → SX → Prop} {m lo : Int32} {lits : Nat → Int32} {C st : Nat} (hC : C ≤ 20) : ∀ d v p s n x5 ls va fo, v + d = 8 → st ≤ v → n + s = 2001 → s + qb_k d ≤ 2000 → qb_val v p va → (∀ s' n' ls' va' fo', n' + s' = 2001 → s' ≤ s + qb_k d → qb_val v p va' → wX_isWon_54 post (nI st) n' (nI v) 0 (qb_bi (qb_W (bt m) (qb_S lits C lo) d p)) (nI s') m (nI C) lo ls' lits va' fo') → wX_isWon_54 post (nI st) n (nI v) 1 x5 (nI s) m (nI C) lo ls lits va fo := by
  intro d
  induction d with
  | zero =>
    intro v p s n x5 ls va fo hv hst hn hs hva K
    have hk : qb_k 0 = 1 := rfl
    rw [hk] at hs K
    obtain ⟨n, rfl⟩ := qb_sp (n := n) (by omega)
    refine qb_enter hC hv (by omega) hva (fun ls' fo' z => ?_) (fun ls' fo' _ z => ?_) (fun _ a => absurd a (by omega)) (fun _ a => absurd a (by omega))
    · have k := K (s + 1) n ls' va fo' (by omega) (by omega) hva
      rw [qb_bi_f z] at k
      exact k
    · have k := K (s + 1) n ls' va fo' (by omega) (by omega) hva
      rw [qb_bi_t z] at k
      exact k
  | succ d ih =>
    intro v p s n x5 ls va fo hv hst hn hs hva K
    have hk : qb_k (d + 1) = 2 * qb_k d + 3 := rfl
    rw [hk] at hs K
    have hv8 : v < 8 := by omega
    obtain ⟨n, rfl⟩ := qb_sp (n := n) (by omega)
    have R1 : ∀ s0 n0 x5 ls va1 fo, n0 + s0 = 2001 → s0 + qb_k d + 1 ≤ s + (2 * qb_k d + 3) → qb_val (v + 1) (2 * p + 1) va1 → (qb_W (bt m) (qb_S lits C lo) (d + 1) p ↔ qb_W (bt m) (qb_S lits C lo) d (2 * p + 1)) → wX_isWon_54 post (nI st) n0 (nI (v + 1)) 1 x5 (nI s0) m (nI C) lo ls lits va1 fo := by
      intro s0 n0 x5 ls va1 fo h1 h2 h3 hW
      refine ih (v + 1) (2 * p + 1) s0 n0 x5 ls va1 fo (by omega) (by omega) h1 (by omega) h3 ?_
      intro s' n' ls' va' fo' g1 g2 g3
      obtain ⟨n', rfl⟩ := qb_sp (n := n') (by omega)
      have k := K (s' + 1) n' ls' (upd va' v (-1)) fo' (by omega) (by omega) (qb_val_dn g3 (by omega) (fun j e => pk_un e) pk_us)
      rw [qb_bi_c hW] at k
      refine qb_ret1 hv8 hst (by omega) ?_ k
      rw [g3 v hv8, if_pos (by omega), qb_x_1]
      rfl
    refine qb_enter hC hv (by omega) hva (fun ls' fo' z => ?_) (fun _ _ e => absurd e (by omega)) (fun fo' _ hm f I => ?_) (fun fo' _ => ?_)
    · have k := K (s + 1) n ls' va fo' (by omega) (by omega) hva
      rw [qb_bi_f z] at k
      exact k
    · exact R1 (s + 1) n x5 0 (upd va v 1) fo' (by omega) (by omega) (qb_val_up hva (by omega) (fun j e => pk_un e) (by rw [pk_us, qb_x_1]; rfl)) ((qb_forced I hv hm).2 f)
    · refine ih (v + 1) (2 * p) (s + 1) n x5 0 (upd va v 0) fo' (by omega) (by omega) (by omega) (by omega) (qb_val_up hva (by omega) (fun j e => pk_un e) (by rw [pk_us, qb_x_0]; rfl)) ?_
      intro s' n' ls' va' fo'' g1 g2 g3
      obtain ⟨n', rfl⟩ := qb_sp (n := n') (by omega)
      have hdn : qb_val v p (upd va' v (-1)) := qb_val_dn g3 (by omega) (fun j e => pk_un e) pk_us
      refine qb_ret0 hC hv hst (by omega) (by rw [g3 v hv8, if_pos (by omega), qb_x_0]; rfl) hdn (fun z => ?_) (fun ls'' fo3 i => ?_) (fun ls'' fo3 z => ?_)
      · have k := K (s' + 1) n' ls' (upd va' v (-1)) fo'' (by omega) (by omega) hdn
        rw [qb_bi_c (qb_settle hv z)] at k
        exact k
      · have k := K (s' + 1) n' ls'' (upd (upd (upd va' v (-1)) v 0) v (-1)) fo3 (by omega) (by omega) (qb_val_dn g3 (by omega) (fun j e => by rw [pk_un e, pk_un e, pk_un e]) pk_us)
        rw [qb_bi_c i] at k
        exact k
      · exact R1 (s' + 1) n' _ ls'' _ fo3 (by omega) (by omega) (qb_val_up hdn (by omega) (fun j e => by rw [pk_un e, pk_un e]) (by rw [pk_us, qb_x_1]; rfl)) (qb_unsettle hv z)
theorem qb_xw7 {post : Int32 → SX → Prop} {m lo ls : Int32} {lits fo : Nat → Int32} {C p L : Nat} (hC : C ≤ 20) (h : qb_L L p) (K : ∀ ls va fo, post (qb_bi (qb_W (bt m) (qb_S lits C lo) (8 - L) p)) (m, nI C, lo, ls, lits, va, fo)) : ∀ e i n va, i + e = 8 → e < n → (∀ j, j < i → va j = if j < L then qb_vb (qb_x L p j) else -1) → wX_isWon_7 post (nI p) (nI L) m (nI C) lo ls n (nI i) lits va fo := by
  have hL := h.2.2
  intro e
  induction e with
  | zero =>
    intro i n va hi hn hva
    obtain ⟨n, rfl⟩ := qb_sp (Nat.lt_of_le_of_lt (Nat.zero_le _) hn)
    have e : i = 8 := by omega
    subst e
    refine br_t (nI_le (a := 8) (by omega) (by omega)) (Exists.intro 2001 ?_)
    have hk := qb_k_le (8 - L) (by omega)
    refine qb_run hC (8 - L) L p 0 2001 0 ls va fo (by omega) (Nat.le_refl L) (by omega) (by omega) hva ?_
    intro s' n' ls' va' fo' h1 h2 _
    obtain ⟨n', rfl⟩ := qb_sp (n := n') (by omega)
    exact br_f (nI_ge (b := 2000) (by omega) (by decide)) (br_t rfl (br_t rfl (And.intro (qb_narr _) (K ls' va' fo'))))
  | succ e ih =>
    intro i n va hi hn hva
    obtain ⟨n, rfl⟩ := qb_sp (Nat.lt_of_le_of_lt (Nat.zero_le _) hn)
    have i8 : vp_in (nI i) 8 := vp_in_nI (by omega) (by decide)
    have ei : (nI i).toNatClampNeg = i := nI_clamp (by omega)
    have nx : ∀ x, x = (if i < L then qb_vb (qb_x L p i) else -1) → wX_isWon_7 post (nI p) (nI L) m (nI C) lo ls n (nI (i + 1)) lits (upd va i x) fo := by
      intro x hx
      refine ih (i + 1) n _ (by omega) (by omega) ?_
      intro j hj
      by_cases e : j = i
      · rw [e, pk_us]; exact hx
      · rw [pk_un e]; exact hva j (by omega)
    refine br_f (nI_ge (b := 8) (by omega) (by decide)) (pk_le L i (fun a => ?_) (fun a => ?_) rfl rfl (by omega) (by omega))
    · exact And.intro i8 (nm_r (e' := upd va i (-1)) (by rw [ei]) (nm_r (nI_1 i) (nx _ (by rw [if_neg (by omega)]))))
    · exact And.intro i8 (nm_r (e' := upd va i (qb_vb (qb_x L p i))) (by rw [ei, qb_ix a hL]) (nm_r (nI_1 i) (nx _ (by rw [if_pos a]))))
theorem qb_xwon {post : Int32 → SX → Prop} {m lo ls : Int32} {lits va fo : Nat → Int32} {C p L : Nat} (hC : C ≤ 20) (h : qb_L L p) (K : ∀ ls va fo, post (qb_bi (qb_W (bt m) (qb_S lits C lo) (8 - L) p)) (m, nI C, lo, ls, lits, va, fo)) : wpX_isWon post (m, nI C, lo, ls, lits, va, fo) (nI p) :=
  qb_xlen h (Exists.intro 9 (qb_xw7 hC h K 8 0 9 va (by omega) (by omega) (fun j hj => absurd hj (by omega))))
end
section
/-! the calls, each side with a general post -/
theorem qb_bit {w j : Nat} (hw : w < 32) (hj : j < 32) : bt ((1 : Int32) <<< (nI w &&& 31)) j = decide (j = w) := by
  rw [b_shl w hw 1 hj, qb_1_bt (j - w) (by omega)]
  by_cases e : j = w
  · rw [decide_eq_true (by omega : w ≤ j), decide_eq_true (by omega : j - w < 1), decide_eq_true e]; rfl
  · rw [decide_eq_false e]
    by_cases z : w ≤ j
    · rw [decide_eq_false (by omega : ¬ j - w < 1), Bool.and_false]
    · rw [decide_eq_false z, Bool.false_and]
/-- breaker's row against the makers' bits -/
def qb_R (m : Int32) (br : Nat → Int32) : Prop := ∀ j, j < 8 → br j = qb_vb (!bt m j)
theorem qb_R_off {m : Int32} {br : Nat → Int32} {w : Nat} (hw : w < 8) (h : qb_R m br) : qb_R (m &&& (((1 : Int32) <<< (nI w &&& 31)) ^^^ (-1))) (upd br w 1) := by
  intro j hj
  rw [b_and, b_xor, b_m1 j (by omega), qb_bit (by omega) (by omega)]
  by_cases e : j = w
  · rw [e, pk_us, decide_eq_true rfl]; simp; rfl
  · rw [pk_un e, decide_eq_false e, h j hj]; simp
theorem qb_R_on {m : Int32} {br : Nat → Int32} {w : Nat} (hw : w < 8) (h : qb_R m br) : qb_R (m ||| ((1 : Int32) <<< (nI w &&& 31))) (upd br w 0) := by
  intro j hj
  rw [b_or, qb_bit (by omega) (by omega)]
  by_cases e : j = w
  · rw [e, pk_us, decide_eq_true rfl]; simp; rfl
  · rw [pk_un e, decide_eq_false e, h j hj]; simp
theorem qb_xor2 (m b : Int32) : (m ^^^ b) ^^^ b = m := by
  apply b_ext
  intro i _
  rw [b_xor, b_xor]
  cases bt m i <;> cases bt b i <;> rfl
theorem qb_ne1 {k : Nat} (hk : k < 2 ^ 31) : ¬ nI k = -1 := by
  intro z
  have y := congrArg Int32.toInt z
  rw [nI_toInt hk, show (-1 : Int32).toInt = -1 by decide] at y
  omega
theorem qb_R_m {m : Int32} {br : Nat → Int32} (h : qb_R m br) : ∀ k, k < 8 → (nI k = -1 → (br k = 1 ↔ bt m k = true)) ∧ (¬ nI k = -1 → (br k = 0 ↔ bt m k = true)) := by
  intro k hk
  refine ⟨fun z => absurd z (qb_ne1 (by omega)), fun _ => ?_⟩
  rw [h k hk]
  cases bt m k <;> decide
theorem qb_R_s {m : Int32} {br : Nat → Int32} {w : Nat} (hw : w < 8) (h : qb_R m br) : ∀ k, k < 8 → (nI k = nI w → (br k = 1 ↔ bt (m ^^^ ((1 : Int32) <<< (nI w &&& 31))) k = true)) ∧ (¬ nI k = nI w → (br k = 0 ↔ bt (m ^^^ ((1 : Int32) <<< (nI w &&& 31))) k = true)) := by
  intro k hk
  rw [b_xor, qb_bit (by omega) (by omega), h k hk, nI_eq (by omega) (by omega)]
  refine ⟨fun e => ?_, fun e => ?_⟩
  · rw [decide_eq_true e]
    cases bt m k <;> decide
  · rw [decide_eq_false e]
    cases bt m k <;> decide
theorem qb_sel {P : Prop} {post : Int32 → Prop} (h : post (qb_bi P)) : (qb_bi P = 0 → post 0) ∧ (¬ qb_bi P = 0 → post 1) := by
  by_cases z : P
  · rw [qb_bi_t z] at h ⊢
    exact br_f (by decide) h
  · rw [qb_bi_f z] at h ⊢
    exact br_t rfl h
theorem qb_rng {x : Int32} {N : Nat} (hN : N < 2 ^ 31) (h : ¬ x < 1) (h2 : x ≤ nI N) : ∃ p, 1 ≤ p ∧ p ≤ N ∧ x = nI p := by
  have h0 : ¬ x < 0 := fun z => h (Int32.lt_trans z (by decide))
  obtain ⟨j, hj, rfl⟩ := nI_of h0
  have a := (nI_leI hj hN).mp h2
  have b : ¬ j < 1 := fun z => h (nI_lt (b := 1) z (by decide))
  exact ⟨j, by omega, a, rfl⟩
theorem qb_S_le {lits : Nat → Int32} {C q : Nat} {lo : Int32} (hC : C ≤ 20) (h : qb_S lits C (-1) q) : qb_S lits C lo q := fun k hk _ => h k hk (qb_ne1 (by omega))
/-! give, add -/
theorem qb_xgive {post : SX → Prop} {m fc lo ls v1 p1 : Int32} {lits va fo : Nat → Int32} {w : Nat} (hw : v1 &&& 7 = nI w) (K0 : p1 = 0 → post (m &&& (((1 : Int32) <<< (nI w &&& 31)) ^^^ (-1)), fc, lo, ls, lits, va, fo)) (K1 : ¬ p1 = 0 → post (m ||| ((1 : Int32) <<< (nI w &&& 31)), fc, lo, ls, lits, va, fo)) : wpX_give post (m, fc, lo, ls, lits, va, fo) v1 p1 :=
  nm_r (e' := (1 : Int32) <<< (nI w &&& 31)) (by rw [hw]) (br_c (fun z => nm_e (K0 z)) (fun z => nm_e (K1 z)))
theorem qb_ygive {post : SY → Prop} {fh v1 p1 : Int32} {br cl won : Nat → Int32} {w : Nat} (hw : v1 &&& 7 = nI w) (hw8 : w < 8) (K0 : p1 = 0 → post (fh, upd br w 1, cl, won)) (K1 : ¬ p1 = 0 → post (fh, upd br w 0, cl, won)) : wpY_give post (fh, br, cl, won) v1 p1 := by
  have i8 : vp_in (v1 &&& 7) 8 := by rw [hw]; exact vp_in_nI hw8 (by decide)
  have ew : (v1 &&& 7).toNatClampNeg = w := by rw [hw]; exact nI_clamp (by omega)
  exact br_c (fun z => And.intro i8 (nm_r (e' := upd br w 1) (by rw [ew]; rfl) (K0 z))) (fun z => And.intro i8 (nm_r (e' := upd br w 0) (by rw [ew]; rfl) (K1 z)))
/-! drop -/
theorem qb_drop {m lo ls : Int32} {va fo br won : Nat → Int32} {C : Nat} (hC : C < 20) : ∀ e i (lits : Nat → Int32), i + e = C → ∃ lits', (∀ post : Int32 → SX → Prop, post (nI C) (m, nI C, lo, ls, lits', va, fo) → wX_drop_26 post m (nI C) lo ls (e + 1) (nI i) lits va fo) ∧ (∀ post : Int32 → SY → Prop, post (nI C) (nI C, br, lits', won) → wY_drop_26 post (nI C) (e + 1) (nI i) br lits won) := by
  intro e
  induction e with
  | zero =>
    intro i lits hi
    have e : i = C := by omega
    subst e
    have h : nI i ≤ nI i := nI_le (Nat.le_refl _) (by omega)
    exact ⟨lits, fun _ h1 => br_t h h1, fun _ h1 => br_t h h1⟩
  | succ e ih =>
    intro i lits hi
    have h : ¬ nI C ≤ nI i := nI_ge (by omega) (by omega)
    have i1 : vp_in (nI i + 1) 20 := by rw [nI_1]; exact vp_in_nI (by omega) (by decide)
    have i0 : vp_in (nI i) 20 := vp_in_nI (by omega) (by decide)
    have eu : upd lits (nI i).toNatClampNeg (lits (nI i + 1).toNatClampNeg) = upd lits i (lits (i + 1)) := by rw [nI_1, nI_clamp (by omega), nI_clamp (by omega)]
    obtain ⟨l', hX, hY⟩ := ih (i + 1) (upd lits i (lits (i + 1))) (by omega)
    exact ⟨l', fun post h1 => br_f h (And.intro i1 (And.intro i0 (nm_r eu (nm_r (nI_1 i) (hX post h1))))), fun post h1 => br_f h (And.intro i1 (And.intro i0 (nm_r eu (nm_r (nI_1 i) (hY post h1)))))⟩
/-! won -/
theorem qb_Xwon {post : Int32 → SX → Prop} {m lo ls : Int32} {lits va fo : Nat → Int32} {C p L : Nat} (hC : C ≤ 20) (h1 : ¬ nI p < 1) (h2 : nI p ≤ 511) (h : qb_L L p) (K : ∀ ls va fo, post (qb_bi (qb_W (bt m) (qb_S lits C lo) (8 - L) p)) (m, nI C, lo, ls, lits, va, fo)) : wpX_won post (m, nI C, lo, ls, lits, va, fo) (nI p) :=
  br_f h1 (br_t h2 (qb_xwon hC h (fun ls' va' fo' => qb_sel (post := fun r => post r (m, nI C, lo, ls', lits, va', fo')) (K ls' va' fo'))))
theorem qb_Ywon {post : Int32 → SY → Prop} {m : Int32} {br lits won : Nat → Int32} {C p L : Nat} (hC : C ≤ 20) (hb : qb_R m br) (h1 : ¬ nI p < 1) (h2 : nI p ≤ 511) (h : qb_L L p) (K : ∀ won, post (qb_bi (qb_W (bt m) (qb_S lits C (-1)) (8 - L) p)) (nI C, br, lits, won)) : wpY_won post (nI C, br, lits, won) (nI p) := by
  have hp := qb_L_p h
  refine br_f h1 (br_t h2 (qb_ywork hC (qb_R_m hb) (fun won' D => And.intro (vp_in_nI hp.2 (by decide)) ?_)))
  rw [nI_clamp (by omega), D p L (by omega) h]
  exact qb_sel (post := fun r => post r (nI C, br, lits, won')) (K won')
/-! choice -/
theorem qb_xch {post : Int32 → SX → Prop} {m lo ls x2 : Int32} {lits va fo : Nat → Int32} {C p L x n : Nat} (hC : C ≤ 20) (hx : x < 2) (h : qb_L L (2 * p + x)) (K : qb_bi (qb_W (bt m) (qb_S lits C lo) (8 - L) (2 * p + x)) = x2 → ∀ ls va fo, post (nI x) (m, nI C, lo, ls, lits, va, fo)) (K' : ¬ qb_bi (qb_W (bt m) (qb_S lits C lo) (8 - L) (2 * p + x)) = x2 → ∀ ls va fo, wX_choice_25 post (nI p) x2 n (nI (x + 1)) m (nI C) lo ls lits va fo) : wX_choice_25 post (nI p) x2 (n + 1) (nI x) m (nI C) lo ls lits va fo := by
  refine br_f (nI_ge (b := 2) hx (by decide)) ?_
  have e : 2 * nI p + nI x = nI (2 * p + x) := by rw [qb_2m, nI_add]
  rw [e]
  exact qb_xwon hC h (fun ls' va' fo' => br_c (fun z => K z ls' va' fo') (fun z => nm_r (nI_1 x) (K' z ls' va' fo')))
theorem qb_Xchoice {post : Int32 → SX → Prop} {m lo ls : Int32} {lits va fo : Nat → Int32} {C p L : Nat} (hC : C ≤ 20) (h1 : ¬ nI p < 1) (h2 : nI p ≤ 255) (h : qb_L L p) (hL : L < 8) (K0 : qb_bi (qb_W (bt m) (qb_S lits C lo) (8 - (L + 1)) (2 * p)) = qb_vb (bt m L) → ∀ ls va fo, post 0 (m, nI C, lo, ls, lits, va, fo)) (K1 : ¬ qb_bi (qb_W (bt m) (qb_S lits C lo) (8 - (L + 1)) (2 * p)) = qb_vb (bt m L) → qb_bi (qb_W (bt m) (qb_S lits C lo) (8 - (L + 1)) (2 * p + 1)) = qb_vb (bt m L) → ∀ ls va fo, post 1 (m, nI C, lo, ls, lits, va, fo)) (K2 : ¬ qb_bi (qb_W (bt m) (qb_S lits C lo) (8 - (L + 1)) (2 * p)) = qb_vb (bt m L) → ¬ qb_bi (qb_W (bt m) (qb_S lits C lo) (8 - (L + 1)) (2 * p + 1)) = qb_vb (bt m L) → ∀ ls va fo, post 2 (m, nI C, lo, ls, lits, va, fo)) : wpX_choice post (m, nI C, lo, ls, lits, va, fo) (nI p) := by
  refine br_f h1 (br_t h2 (qb_xlen h (qb_xmk hL (Exists.intro 3 ?_))))
  refine qb_xch (x := 0) hC (by decide) (qb_L_2 h hL (by omega)) K0 (fun a ls' va' fo' => ?_)
  refine qb_xch (x := 1) hC (by decide) (qb_L_2 h hL (by omega)) (fun b => K1 a b) (fun b ls'' va'' fo'' => ?_)
  exact br_t (by decide) (K2 a b ls'' va'' fo'')
theorem qb_flip {P : Prop} {b : Bool} : qb_bi P = qb_vb (!b) ↔ ¬ qb_bi P = qb_vb b := by
  by_cases z : P
  · rw [qb_bi_t z]; cases b <;> decide
  · rw [qb_bi_f z]; cases b <;> decide
theorem qb_ych {post : Int32 → SY → Prop} {fh : Int32} {br cl won : Nat → Int32} {p L x n : Nat} {P : Prop} {b : Bool} (hx : x < 2) (hp : p < 256) (hL : L < 8) (hw : won (2 * p + x) = qb_bi P) (hb : br L = qb_vb (!b)) (K : qb_bi P = qb_vb b → post (nI x) (fh, br, cl, won)) (K' : ¬ qb_bi P = qb_vb b → wY_choice_27 post (nI p) (nI L) fh br cl won n (nI (x + 1))) : wY_choice_27 post (nI p) (nI L) fh br cl won (n + 1) (nI x) := by
  have e : 2 * nI p + nI x = nI (2 * p + x) := by rw [qb_2m, nI_add]
  refine br_f (nI_ge (b := 2) hx (by decide)) (And.intro (by rw [e]; exact vp_in_nI (by omega) (by decide)) (And.intro (vp_in_nI hL (by decide)) ?_))
  rw [e, nI_clamp (by omega), nI_clamp (by omega), hw, hb, qb_flip]
  exact br_c (fun z => nm_r (nI_1 x) (K' z)) (fun z => K (Classical.byContradiction z))
theorem qb_Ychoice {post : Int32 → SY → Prop} {m : Int32} {br lits won : Nat → Int32} {C p L : Nat} (hC : C ≤ 20) (hb : qb_R m br) (h1 : ¬ nI p < 1) (h2 : nI p ≤ 255) (h : qb_L L p) (hL : L < 8) (K0 : qb_bi (qb_W (bt m) (qb_S lits C (-1)) (8 - (L + 1)) (2 * p)) = qb_vb (bt m L) → ∀ won, post 0 (nI C, br, lits, won)) (K1 : ¬ qb_bi (qb_W (bt m) (qb_S lits C (-1)) (8 - (L + 1)) (2 * p)) = qb_vb (bt m L) → qb_bi (qb_W (bt m) (qb_S lits C (-1)) (8 - (L + 1)) (2 * p + 1)) = qb_vb (bt m L) → ∀ won, post 1 (nI C, br, lits, won)) (K2 : ¬ qb_bi (qb_W (bt m) (qb_S lits C (-1)) (8 - (L + 1)) (2 * p)) = qb_vb (bt m L) → ¬ qb_bi (qb_W (bt m) (qb_S lits C (-1)) (8 - (L + 1)) (2 * p + 1)) = qb_vb (bt m L) → ∀ won, post 2 (nI C, br, lits, won)) : wpY_choice post (nI C, br, lits, won) (nI p) := by
  have hp : p < 256 := qb_L_lt h hL
  have hp1 := (qb_L_p h).1
  refine br_f h1 (br_t h2 (qb_ywork hC (qb_R_m hb) (fun won' D => qb_ylen h (Exists.intro 3 ?_))))
  have D0 := D (2 * p) (L + 1) (by omega) (qb_L_2 h hL (by omega))
  have D1 := D (2 * p + 1) (L + 1) (by omega) (qb_L_2 h hL (by omega))
  refine qb_ych (x := 0) (by decide) hp hL D0 (hb L hL) (fun a => K0 a won') (fun a => ?_)
  refine qb_ych (x := 1) (by decide) hp hL D1 (hb L hL) (fun b => K1 a b won') (fun b => ?_)
  exact br_t (by decide) (K2 a b won')
/-! count -/
noncomputable def qb_cn (P : Nat → Prop) : Nat → Nat → Int32 → Int32
  | 0, _, c => c
  | e + 1, q, c => qb_cn P e (q + 1) (c + qb_bi (P q))
theorem qb_xcnt {post : Int32 → SX → Prop} {m lo : Int32} {lits : Nat → Int32} {C k : Nat} (hC : C ≤ 20) (hk : k ≤ 8) : ∀ e q (c ls : Int32) (va fo : Nat → Int32), q + e = 2 * 2 ^ k → 2 ^ k ≤ q → (∀ ls va fo, post (qb_cn (qb_W (bt m) (qb_S lits C lo) (8 - k)) e q c) (m, nI C, lo, ls, lits, va, fo)) → wX_count_18 post (nI k) (e + 1) c (nI q) m (nI C) lo ls lits va fo := by
  have hk2 := qb_p8 hk
  intro e
  induction e with
  | zero =>
    intro q c ls va fo hq _ K
    have h : ((2 : Int32) <<< (nI k &&& 31)) ≤ nI q := by rw [qb_sh2 hk]; exact nI_le (by omega) (by omega)
    exact br_t h (K ls va fo)
  | succ e ih =>
    intro q c ls va fo hq hq1 K
    have h : ¬ ((2 : Int32) <<< (nI k &&& 31)) ≤ nI q := by rw [qb_sh2 hk]; exact nI_ge (by omega) (by omega)
    have hL : qb_L k q := ⟨hq1, by rw [Nat.pow_succ]; omega, hk⟩
    refine br_f h (qb_xwon hC hL (fun ls' va' fo' => ?_))
    have N := ih (q + 1) (c + qb_bi (qb_W (bt m) (qb_S lits C lo) (8 - k) q)) ls' va' fo' (by omega) (by omega) K
    by_cases z : qb_W (bt m) (qb_S lits C lo) (8 - k) q
    · rw [qb_bi_t z] at N ⊢
      exact br_f (by decide) (nm_e (nm_r (nI_1 q) N))
    · rw [qb_bi_f z] at N ⊢
      exact br_t rfl (nm_e (nm_r (nI_1 q) N))
theorem qb_ycnt {post : Int32 → SY → Prop} {m lo : Int32} {lits br won : Nat → Int32} {C k : Nat} (hk : k ≤ 8) (D : qb_D (bt m) (qb_S lits C lo) 0 won) : ∀ e q (c : Int32), q + e = 2 * 2 ^ k → 2 ^ k ≤ q → post (qb_cn (qb_W (bt m) (qb_S lits C lo) (8 - k)) e q c) (nI C, br, lits, won) → wY_count_24 post (nI k) (nI C) br lits won (e + 1) c (nI q) := by
  have hk2 := qb_p8 hk
  have hk1 := Nat.two_pow_pos k
  intro e
  induction e with
  | zero =>
    intro q c hq _ K
    have h : ((2 : Int32) <<< (nI k &&& 31)) ≤ nI q := by rw [qb_sh2 hk]; exact nI_le (by omega) (by omega)
    exact br_t h K
  | succ e ih =>
    intro q c hq hq1 K
    have h : ¬ ((2 : Int32) <<< (nI k &&& 31)) ≤ nI q := by rw [qb_sh2 hk]; exact nI_ge (by omega) (by omega)
    have hL : qb_L k q := ⟨hq1, by rw [Nat.pow_succ]; omega, hk⟩
    refine br_f h (And.intro (vp_in_nI (by omega) (by decide)) ?_)
    have N := ih (q + 1) (c + qb_bi (qb_W (bt m) (qb_S lits C lo) (8 - k) q)) (by omega) (by omega) K
    rw [nI_clamp (by omega), D q k (by omega) hL]
    by_cases z : qb_W (bt m) (qb_S lits C lo) (8 - k) q
    · rw [qb_bi_t z] at N ⊢
      exact br_f (by decide) (nm_e (nm_r (nI_1 q) N))
    · rw [qb_bi_f z] at N ⊢
      rw [Int32.add_zero] at N
      exact br_t rfl (nm_r (nI_1 q) N)
end
section
/-- leftOut -1, equal counts and clauses, breaker's row against the makers' bits -/
def i_Rel (_ : Nat) (u : SX) (v : SY) : Prop := ∃ (m ls : Int32) (lits va fo br won : Nat → Int32) (C : Nat), u = (m, nI C, -1, ls, lits, va, fo) ∧ v = (nI C, br, lits, won) ∧ C ≤ 20 ∧ qb_R m br
theorem qb_rel {k : Nat} {m ls : Int32} {lits va fo br won : Nat → Int32} {C : Nat} (hC : C ≤ 20) (hb : qb_R m br) : i_Rel k (m, nI C, -1, ls, lits, va, fo) (nI C, br, lits, won) := ⟨m, ls, lits, va, fo, br, won, C, rfl, rfl, hC, hb⟩
theorem i_up {k : Nat} {u : SX} {v : SY} (h : i_Rel k u v) : i_Rel (k + 3) u v := h
theorem i_vc0 : wpX_init (fun u => wpY_init (fun v => i_Rel 0 u v)) := by
  refine qb_rel (k := 0) (C := 0) (by omega) ?_
  intro j hj
  rw [b_255, decide_eq_true hj]
  rfl
theorem i_vc_give {k : Nat} {u : SX} {v : SY} (I : i_Rel k u v) (hk : k + 3 ≤ 1536) (v1 : Int32) (v2 : Int32) : wpX_give (fun u' => wpY_give (fun v' => i_Rel (k + 3) u' v') v v1 (lw_bz v2)) u v1 (lw_bz v2) := by
  obtain ⟨m, ls, lits, va, fo, br, won, C, rfl, rfl, hC, hb⟩ := I
  obtain ⟨w, hw, ew⟩ := pk_andE v1 (m := 7) 3 (by decide)
  exact qb_xgive ew (fun z => qb_ygive ew hw (fun _ => qb_rel hC (qb_R_off hw hb)) (fun y => absurd z y)) (fun z => qb_ygive ew hw (fun y => absurd y z) (fun _ => qb_rel hC (qb_R_on hw hb)))
theorem i_vc_add {k : Nat} {u : SX} {v : SY} (I : i_Rel k u v) (hk : k + 3 ≤ 1536) (v1 : Int32) : wpX_add (fun r u' => wpY_add (fun r' v' => r' = r ∧ i_Rel (k + 3) u' v') v v1) u v1 := by
  obtain ⟨m, ls, lits, va, fo, br, won, C, rfl, rfl, hC, hb⟩ := I
  rcases Nat.lt_or_ge C 20 with h | h
  · have i0 : vp_in (nI C) 20 := vp_in_nI h (by decide)
    have eu : upd lits (nI C).toNatClampNeg (v1 &&& 65535) = upd lits C (v1 &&& 65535) := by rw [nI_clamp (by omega)]
    refine br_t (nI_lt (b := 20) h (by decide)) (And.intro i0 (nm_r eu (nm_r (nI_1 C) ?_)))
    refine br_f (fun y => by have x := (nI_eq (b := 20) (by omega) (by decide)).mp y; omega) (And.intro i0 (nm_r eu (nm_r (nI_1 C) ?_)))
    exact ⟨rfl, qb_rel (by omega) hb⟩
  · have e : C = 20 := by omega
    subst e
    exact br_f (by decide) (br_t rfl ⟨rfl, qb_rel hC hb⟩)
theorem i_vc_drop {k : Nat} {u : SX} {v : SY} (I : i_Rel k u v) (hk : k + 3 ≤ 1536) (v1 : Int32) : wpX_drop (fun r u' => wpY_drop (fun r' v' => r' = r ∧ i_Rel (k + 3) u' v') v v1) u v1 := by
  obtain ⟨m, ls, lits, va, fo, br, won, C, rfl, rfl, hC, hb⟩ := I
  rcases pk_ix v1 (n := C) (by omega) with h | h | ⟨i, hi, rfl⟩
  · exact br_t h (br_t h ⟨rfl, qb_rel hC hb⟩)
  · have h0 : ¬ v1 < 0 := fun z => absurd (Int32.lt_of_le_of_lt h z) (nI_pos (by omega))
    have h1 : ¬ v1 < nI C := Int32.not_lt.mpr h
    exact br_f h0 (br_f h1 (br_f h0 (br_f h1 ⟨rfl, qb_rel hC hb⟩)))
  · have h0 : ¬ nI i < 0 := nI_pos (by omega)
    have h1 : nI i < nI C := nI_lt hi (by omega)
    have e1 : nI C - 1 = nI (C - 1) := pk_sub (b := 1) (by omega)
    obtain ⟨l', hX, hY⟩ := qb_drop (m := m) (lo := -1) (ls := ls) (va := va) (fo := fo) (br := br) (won := won) (C := C - 1) (by omega) (C - 1 - i) i lits (by omega)
    refine br_f h0 (br_t h1 (nm_r e1 (Exists.intro _ (hX _ ?_))))
    refine br_f h0 (br_t h1 (nm_r e1 (Exists.intro _ (hY _ ?_))))
    exact ⟨rfl, qb_rel (by omega) hb⟩
theorem i_vc_won {k : Nat} {u : SX} {v : SY} (I : i_Rel k u v) (hk : k + 3 ≤ 1536) (v1 : Int32) : wpX_won (fun r u' => wpY_won (fun r' v' => r' = r ∧ i_Rel (k + 3) u' v') v v1) u v1 := by
  obtain ⟨m, ls, lits, va, fo, br, won, C, rfl, rfl, hC, hb⟩ := I
  by_cases h1 : v1 < 1
  · exact br_t h1 (br_t h1 ⟨rfl, qb_rel hC hb⟩)
  · by_cases h2 : v1 ≤ 511
    · obtain ⟨p, a, b, rfl⟩ := qb_rng (N := 511) (by decide) h1 h2
      obtain ⟨L, hL⟩ := qb_L_ex a (by omega)
      exact qb_Xwon hC h1 h2 hL (fun ls' va' fo' => qb_Ywon hC hb h1 h2 hL (fun won' => ⟨rfl, qb_rel hC hb⟩))
    · exact br_f h1 (br_f h2 (br_f h1 (br_f h2 ⟨rfl, qb_rel hC hb⟩)))
theorem i_vc_choice {k : Nat} {u : SX} {v : SY} (I : i_Rel k u v) (hk : k + 3 ≤ 1536) (v1 : Int32) : wpX_choice (fun r u' => wpY_choice (fun r' v' => r' = r ∧ i_Rel (k + 3) u' v') v v1) u v1 := by
  obtain ⟨m, ls, lits, va, fo, br, won, C, rfl, rfl, hC, hb⟩ := I
  by_cases h1 : v1 < 1
  · exact br_t h1 (br_t h1 ⟨rfl, qb_rel hC hb⟩)
  · by_cases h2 : v1 ≤ 255
    · obtain ⟨p, a, b, rfl⟩ := qb_rng (N := 255) (by decide) h1 h2
      obtain ⟨L, hL⟩ := qb_L_ex a (by omega)
      have hL8 : L < 8 := by
        rcases Nat.lt_or_ge L 8 with z | z
        · exact z
        · have y : 2 ^ 8 ≤ p := qb_L_ge hL z
          omega
      refine qb_Xchoice hC h1 h2 hL hL8 (fun A ls' va' fo' => ?_) (fun A B ls' va' fo' => ?_) (fun A B ls' va' fo' => ?_)
      · exact qb_Ychoice hC hb h1 h2 hL hL8 (fun _ won' => ⟨rfl, qb_rel hC hb⟩) (fun z => absurd A z) (fun z => absurd A z)
      · exact qb_Ychoice hC hb h1 h2 hL hL8 (fun z => absurd z A) (fun _ _ won' => ⟨rfl, qb_rel hC hb⟩) (fun _ z => absurd B z)
      · exact qb_Ychoice hC hb h1 h2 hL hL8 (fun z => absurd z A) (fun _ z => absurd z B) (fun _ _ won' => ⟨rfl, qb_rel hC hb⟩)
    · exact br_f h1 (br_f h2 (br_f h1 (br_f h2 ⟨rfl, qb_rel hC hb⟩)))
theorem i_vc_count {k : Nat} {u : SX} {v : SY} (I : i_Rel k u v) (hk : k + 3 ≤ 1536) (v1 : Int32) : wpX_count (fun r u' => wpY_count (fun r' v' => r' = r ∧ i_Rel (k + 3) u' v') v v1) u v1 := by
  obtain ⟨m, ls, lits, va, fo, br, won, C, rfl, rfl, hC, hb⟩ := I
  by_cases h1 : v1 < 0
  · exact br_t h1 (br_t h1 ⟨rfl, qb_rel hC hb⟩)
  · by_cases h2 : v1 ≤ 8
    · obtain ⟨j, hj, rfl⟩ := nI_of2 (M := 8) (n := 8) (by decide) h1 h2
      refine br_f h1 (br_t h2 (nm_r (qb_sh1 hj) (Exists.intro (2 ^ j + 1) (qb_xcnt hC hj (2 ^ j) (2 ^ j) 0 ls va fo (by omega) (Nat.le_refl _) (fun ls' va' fo' => ?_)))))
      exact br_f h1 (br_t h2 (qb_ywork hC (qb_R_m hb) (fun won' D => nm_r (qb_sh1 hj) (Exists.intro (2 ^ j + 1) (qb_ycnt hj D (2 ^ j) (2 ^ j) 0 (by omega) (Nat.le_refl _) ⟨rfl, qb_rel hC hb⟩)))))
    · exact br_f h1 (br_f h2 (br_f h1 (br_f h2 ⟨rfl, qb_rel hC hb⟩)))
theorem qb_L01 : qb_L 0 1 := ⟨by decide, by decide, by decide⟩
theorem i_vc_spare {k : Nat} {u : SX} {v : SY} (I : i_Rel k u v) (hk : k + 3 ≤ 1536) (v1 : Int32) : wpX_spare (fun r u' => wpY_spare (fun r' v' => r' = r ∧ i_Rel (k + 3) u' v') v v1) u v1 := by
  obtain ⟨m, ls, lits, va, fo, br, won, C, rfl, rfl, hC, hb⟩ := I
  by_cases h0 : v1 < 0
  · exact br_t h0 (br_t h0 ⟨rfl, qb_rel hC hb⟩)
  · by_cases h1 : v1 < nI C
    · refine br_f h0 (br_t h1 (qb_xwon (p := 1) (L := 0) hC qb_L01 (fun ls' va' fo' => ?_)))
      have Y : ∀ post : Int32 → SY → Prop, (∀ won, post (qb_bi (qb_W (bt m) (qb_S lits C v1) 8 1)) (nI C, br, lits, won)) → wpY_spare post (nI C, br, lits, won) v1 := by
        intro post K
        refine br_f h0 (br_t h1 (qb_ywork hC (qb_R_m hb) (fun w1 D1 => nm_r (D1 1 0 (by decide) qb_L01) (qb_ywork hC (qb_R_m hb) (fun w2 D2 => ?_)))))
        have e2 : w2 1 = qb_bi (qb_W (bt m) (qb_S lits C v1) 8 1) := D2 1 0 (by decide) qb_L01
        by_cases z : qb_W (bt m) (qb_S lits C (-1)) (8 - 0) 1
        · have y : qb_W (bt m) (qb_S lits C v1) 8 1 := qb_mono 8 0 1 (by omega) (fun q _ => qb_S_le hC) z
          have k1 := K w2
          rw [qb_bi_t y] at k1
          exact br_f (fun x => qb_bi0.mp x z) k1
        · refine br_t (qb_bi0.mpr z) ?_
          rw [e2]
          exact qb_sel (post := fun r => post r (nI C, br, lits, w2)) (K w2)
      refine qb_sel (P := qb_W (bt m) (qb_S lits C v1) 8 1) (post := fun r => wpY_spare (fun r' v' => r' = r ∧ i_Rel (k + 3) (m, nI C, -1, ls', lits, va', fo') v') (nI C, br, lits, won) v1) ?_
      exact Y _ (fun won' => ⟨rfl, qb_rel hC hb⟩)
    · exact br_f h0 (br_f h1 (br_f h0 (br_f h1 ⟨rfl, qb_rel hC hb⟩)))
theorem i_vc_swapped {k : Nat} {u : SX} {v : SY} (I : i_Rel k u v) (hk : k + 3 ≤ 1536) (v1 : Int32) : wpX_swapped (fun r u' => wpY_swapped (fun r' v' => r' = r ∧ i_Rel (k + 3) u' v') v v1) u v1 := by
  obtain ⟨m, ls, lits, va, fo, br, won, C, rfl, rfl, hC, hb⟩ := I
  obtain ⟨w, hw, ew⟩ := pk_andE v1 (m := 7) 3 (by decide)
  have Y : ∀ post : Int32 → SY → Prop, (∀ won, post (qb_bi (qb_W (bt (m ^^^ ((1 : Int32) <<< (nI w &&& 31)))) (qb_S lits C (-1)) 8 1)) (nI C, br, lits, won)) → wpY_swapped post (nI C, br, lits, won) v1 := by
    intro post K
    unfold wpY_swapped
    rw [ew]
    refine qb_ywork hC (qb_R_s hw hb) (fun w1 D1 => ?_)
    have e1 : w1 1 = qb_bi (qb_W (bt (m ^^^ ((1 : Int32) <<< (nI w &&& 31)))) (qb_S lits C (-1)) 8 1) := D1 1 0 (by decide) qb_L01
    show (w1 1 = 0 → _) ∧ _
    rw [e1]
    exact qb_sel (post := fun r => post r (nI C, br, lits, w1)) (K w1)
  refine nm_r (e' := m ^^^ ((1 : Int32) <<< (nI w &&& 31))) (by rw [ew]) (qb_xwon (p := 1) (L := 0) hC qb_L01 (fun ls' va' fo' => nm_r (e' := m) (by rw [ew, qb_xor2]) ?_))
  refine qb_sel (P := qb_W (bt (m ^^^ ((1 : Int32) <<< (nI w &&& 31)))) (qb_S lits C (-1)) 8 1) (post := fun r => wpY_swapped (fun r' v' => r' = r ∧ i_Rel (k + 3) (m, nI C, -1, ls', lits, va', fo') v') (nI C, br, lits, won) v1) ?_
  exact Y _ (fun won' => ⟨rfl, qb_rel hC hb⟩)
end
