section
/-! rows taken from kit/rows (starting texts), printed by take.py -/
theorem pk_us {f : Nat → Int32} {k : Nat} {x : Int32} : upd f k x k = x := if_pos rfl
theorem pk_un {f : Nat → Int32} {k j : Nat} {x : Int32} (h : j ≠ k) : upd f k x j = f j := if_neg h
theorem pk_sub {a b : Nat} (h : b ≤ a) : nI a - nI b = nI (a - b) := by
  obtain ⟨c, rfl⟩ : ∃ c, a = c + b := ⟨a - b, by omega⟩
  rw [← nI_add, Int32.add_sub_cancel, Nat.add_sub_cancel]
theorem pk_m1 (n : Nat) : nI (n + 1) + (-1) = nI n := by
  rw [← nI_1, Int32.add_assoc, show (1 : Int32) + (-1) = 0 from rfl, Int32.add_zero]
theorem pk_mul (a b : Nat) : nI a * nI b = nI (a * b) := (Int32.ofNat_mul a b).symm
theorem pk_div {a d : Nat} (ha : a < 2 ^ 31) (h0 : 0 < d) (hd : d < 2 ^ 31) : nI a / nI d = nI (a / d) := by
  apply Int32.toInt_inj.mp
  rw [lg_idiv_nonneg (by rw [nI_toInt ha]; omega) (by rw [nI_toInt hd]; omega), nI_toInt ha, nI_toInt hd, nI_toInt (Nat.lt_of_le_of_lt (Nat.div_le_self a d) ha)]
  first | rfl | exact (Int.natCast_ediv _ _).symm
theorem pk_rem {a d : Nat} (ha : a < 2 ^ 31) (h0 : 0 < d) (hd : d < 2 ^ 31) : nI a - nI a / nI d * nI d = nI (a % d) := by
  rw [pk_div ha h0 hd, pk_mul, pk_sub (Nat.div_mul_le_self a d)]
  exact congrArg nI (by have := Nat.div_add_mod' a d; omega)
theorem pk_ix (x : Int32) {n : Nat} (hn : n < 2 ^ 31) : x < 0 ∨ nI n ≤ x ∨ ∃ j : Nat, j < n ∧ x = nI j := by
  by_cases h : x < 0
  · exact Or.inl h
  · obtain ⟨j, hj, rfl⟩ := nI_of h
    by_cases h2 : j < n
    · exact Or.inr (Or.inr ⟨j, h2, rfl⟩)
    · exact Or.inr (Or.inl (nI_le (by omega) hj))
theorem pk_le {x y : Int32} {A B : Prop} (a b : Nat) (f : a ≤ b → A) (g : b < a → B) (hx : x = nI a := by rfl) (hy : y = nI b := by rfl) (ha : a < 2 ^ 31 := by omega) (hb : b < 2 ^ 31 := by omega) : (x ≤ y → A) ∧ (¬ x ≤ y → B) := by
  subst hx hy
  rw [nI_leI ha hb]
  exact ⟨f, fun z => g (by omega)⟩
theorem pk_lt {x y : Int32} {A B : Prop} (a b : Nat) (f : a < b → A) (g : b ≤ a → B) (hx : x = nI a := by rfl) (hy : y = nI b := by rfl) (ha : a < 2 ^ 31 := by omega) (hb : b < 2 ^ 31 := by omega) : (x < y → A) ∧ (¬ x < y → B) := by
  subst hx hy
  rw [nI_ltI ha hb]
  exact ⟨f, fun z => g (by omega)⟩
theorem pk_eq {x y : Int32} {A B : Prop} (a b : Nat) (f : a = b → A) (g : a ≠ b → B) (hx : x = nI a := by rfl) (hy : y = nI b := by rfl) (ha : a < 2 ^ 31 := by omega) (hb : b < 2 ^ 31 := by omega) : (x = y → A) ∧ (¬ x = y → B) := by
  subst hx hy
  rw [nI_eq ha hb]
  exact ⟨f, g⟩
theorem pk_in {x : Int32} (n N : Nat) (h : n < N) (hx : x = nI n := by rfl) (hN : N < 2 ^ 31 := by omega) : vp_in x N := by
  subst hx
  exact vp_in_nI h hN
theorem pk_cl {x : Int32} (n : Nat) (hx : x = nI n := by rfl) (h : n < 2 ^ 31 := by omega) : x.toNatClampNeg = n := by
  subst hx
  exact nI_clamp h
theorem pk_tn {n : Nat} (h : n < 2 ^ 32) : (nI n).toBitVec.toNat = n := Nat.mod_eq_of_lt h
theorem pk_and (x : Int32) {m : Int32} (k : Nat) (hm : m.toBitVec.toNat = 2 ^ k - 1) : x &&& m = nI (x.toBitVec.toNat % 2 ^ k) := by
  apply Int32.toBitVec_inj.mp
  apply BitVec.eq_of_toNat_eq
  rw [Int32.toBitVec_and, BitVec.toNat_and, hm, Nat.and_two_pow_sub_one_eq_mod]
  show _ = (BitVec.ofNat 32 _).toNat
  rw [BitVec.toNat_ofNat]
  exact (Nat.mod_eq_of_lt (Nat.lt_of_le_of_lt (Nat.mod_le _ _) x.toBitVec.isLt)).symm
theorem pk_andN {n : Nat} (h : n < 2 ^ 32) {m : Int32} (k : Nat) (hm : m.toBitVec.toNat = 2 ^ k - 1) : nI n &&& m = nI (n % 2 ^ k) := by
  rw [pk_and _ k hm, pk_tn h]
theorem pk_shr (a s : Int32) (k : Nat) (hs : (s.toBitVec.smod 32).toNat = k) : (a >>> s).toInt = a.toInt >>> k := by
  show (a.toBitVec.sshiftRight (s.toBitVec.smod 32).toNat).toInt = _
  rw [hs, BitVec.toInt_sshiftRight]
  rfl
theorem pk_shrN {n : Nat} (h : n < 2 ^ 31) (s : Int32) (k : Nat) (hs : (s.toBitVec.smod 32).toNat = k) : nI n >>> s = nI (n / 2 ^ k) := by
  apply Int32.toInt_inj.mp
  have h2 : n / 2 ^ k ≤ n := Nat.div_le_self _ _
  rw [pk_shr _ _ k hs, nI_toInt h, nI_toInt (by omega), Int.shiftRight_eq_div_pow]
  rfl
theorem pk_least (P : Nat → Prop) (h : ∃ k, P k) : ∃ k, P k ∧ ∀ j, j < k → ¬ P j := by
  obtain ⟨k, hk⟩ := h
  induction k using Nat.strongRecOn with
  | ind k ih =>
    by_cases e : ∃ j, j < k ∧ P j
    · obtain ⟨j, hj, pj⟩ := e
      exact ih j hj pj
    · exact ⟨k, hk, fun j hj pj => e ⟨j, hj, pj⟩⟩
def bt (x : Int32) (i : Nat) : Bool := x.toBitVec.getLsbD i
theorem b_ext {x y : Int32} (h : ∀ i, i < 32 → bt x i = bt y i) : x = y := Int32.toBitVec_inj.mp (BitVec.eq_of_getLsbD_eq (fun i hi => h i hi))
theorem b_or (x y : Int32) (i : Nat) : bt (x ||| y) i = (bt x i || bt y i) := by unfold bt; rw [Int32.toBitVec_or, BitVec.getLsbD_or]
theorem b_and (x y : Int32) (i : Nat) : bt (x &&& y) i = (bt x i && bt y i) := by unfold bt; rw [Int32.toBitVec_and, BitVec.getLsbD_and]
theorem b_xor (x y : Int32) (i : Nat) : bt (x ^^^ y) i = (bt x i ^^ bt y i) := by unfold bt; rw [Int32.toBitVec_xor, BitVec.getLsbD_xor]
theorem b_big {x : Int32} {i : Nat} (h : 32 ≤ i) : bt x i = false := BitVec.getLsbD_of_ge _ _ h
theorem b_m1 : ∀ i, i < 32 → bt (-1) i = true := by decide +kernel
theorem b_0 (i : Nat) : bt 0 i = false := BitVec.getLsbD_zero
theorem s_l : ∀ n, n < 32 → ((nI n &&& 31).toBitVec.smod 32).toNat = n := by decide +kernel
theorem b_shl (n : Nat) (hn : n < 32) (x : Int32) {i : Nat} (hi : i < 32) : bt (x <<< (nI n &&& 31)) i = (decide (n ≤ i) && bt x (i - n)) := by
  unfold bt
  rw [Int32.toBitVec_shiftLeft]
  show (x.toBitVec <<< ((nI n &&& 31).toBitVec.smod 32).toNat).getLsbD i = _
  rw [s_l n hn, BitVec.getLsbD_shiftLeft]
  rcases Nat.lt_or_ge i n with h | h
  · simp [h, Nat.not_le.mpr h]
  · simp [hi, h, Nat.not_lt.mpr h]
theorem b_sshr (n : Nat) (hn : n < 32) (x : Int32) {i : Nat} (hi : i < 32) : bt (x >>> (nI n &&& 31)) i = if n + i < 32 then bt x (n + i) else bt x 31 := by
  unfold bt
  rw [Int32.toBitVec_shiftRight]
  show (x.toBitVec.sshiftRight ((nI n &&& 31).toBitVec.smod 32).toNat).getLsbD i = _
  rw [s_l n hn, BitVec.getLsbD_sshiftRight, BitVec.msb_eq_getLsbD_last]
  simp [hi]
theorem nx_xor (a b : Nat) : nI a ^^^ nI b = nI (a ^^^ b) := by
  apply Int32.toBitVec_inj.1
  show BitVec.ofNat 32 a ^^^ BitVec.ofNat 32 b = BitVec.ofNat 32 (a ^^^ b)
  apply BitVec.eq_of_getLsbD_eq
  intro i hi
  simp [hi]
theorem nf_sh : ∀ l, l < 32 → ((1 : Int32) <<< (nI l &&& 31)).toBitVec = BitVec.twoPow 32 l := by decide +kernel
theorem nf_tp : ∀ l, l < 32 → BitVec.twoPow 32 l ≠ 0#32 := by decide +kernel
theorem ts_nf {x : Bool} (h : ¬ x = false) : x = true := by cases x <;> first | rfl | exact absurd rfl h
theorem ts_nt {x : Bool} (h : ¬ x = true) : x = false := by cases x <;> first | rfl | exact absurd rfl h
end
section
/-! ===== own rows on bits, counts ===== -/
theorem zb_bit (m : Int32) (l : Nat) (hl : l < 32) : (m &&& ((1 : Int32) <<< (nI l &&& 31))) = 0 ↔ bt m l = false := by
  rw [← Int32.toBitVec_inj, Int32.toBitVec_and, nf_sh l hl, BitVec.and_twoPow]
  show (if m.toBitVec.getLsbD l = true then BitVec.twoPow 32 l else 0#32) = 0#32 ↔ m.toBitVec.getLsbD l = false
  cases hb : m.toBitVec.getLsbD l
  · exact ⟨fun _ => rfl, fun _ => rfl⟩
  · exact ⟨fun z => absurd z (nf_tp l hl), fun z => absurd z (by decide)⟩
theorem zb_sh : ∀ l, l < 32 → ∀ i, i < 32 → bt ((1 : Int32) <<< (nI l &&& 31)) i = decide (i = l) := by decide +kernel
theorem zb_b1 : ∀ i, i < 32 → bt 1 i = decide (i = 0) := by decide +kernel
theorem zb_b15 : ∀ i, i < 32 → bt 15 i = decide (i < 4) := by decide +kernel
theorem zb_b14 : ∀ i, i < 32 → bt 14 i = (decide (i < 4) && !decide (i = 0)) := by decide +kernel
theorem zb_one (x : Int32) {i : Nat} (hi : i < 12) : ((x >>> (nI i &&& 31)) &&& 1) = nI (if bt x i then 1 else 0) := by
  apply b_ext
  intro j hj
  rw [b_and, b_sshr i (by omega) x hj, zb_b1 j hj]
  by_cases e : j = 0
  · subst e
    rw [if_pos (by omega), Nat.add_zero]
    cases bt x i
    · decide
    · decide
  · rw [decide_eq_false e, Bool.and_false]
    cases bt x i
    · rw [if_neg (by decide), nI_0, b_0]
    · rw [if_pos rfl]
      show false = bt 1 j
      rw [zb_b1 j hj, decide_eq_false e]
/-- the int of a two-way answer -/
def zb_i (b : Bool) : Int32 := if b then 1 else 0
theorem zb_12 : nI 12 = 12 := rfl
theorem zb_4 : nI 4 = 4 := rfl
theorem zb_n4 {v : Nat} (h : v ≤ 4) : nI v = 4 ↔ v = 4 := by
  rw [← zb_4, nI_eq (by omega) (by omega)]
/-- number of i < n with p i -/
def ga_cnt (p : Nat → Bool) : Nat → Nat
  | 0 => 0
  | n + 1 => ga_cnt p n + (if p n then 1 else 0)
theorem ga_cnt_le (p : Nat → Bool) : ∀ n, ga_cnt p n ≤ n := by
  intro n
  induction n with
  | zero => exact Nat.le_refl 0
  | succ n ih =>
    show ga_cnt p n + (if p n then 1 else 0) ≤ n + 1
    split <;> omega
theorem ga_cnt_congr {p q : Nat → Bool} : ∀ {n : Nat}, (∀ i, i < n → p i = q i) → ga_cnt p n = ga_cnt q n := by
  intro n
  induction n with
  | zero => intro _; rfl
  | succ n ih =>
    intro h
    show ga_cnt p n + (if p n then 1 else 0) = ga_cnt q n + (if q n then 1 else 0)
    rw [ih (fun i hi => h i (by omega)), h n (by omega)]
theorem ga_cnt_mono {p q : Nat → Bool} : ∀ {n : Nat}, (∀ i, i < n → p i = true → q i = true) → ga_cnt p n ≤ ga_cnt q n := by
  intro n
  induction n with
  | zero => intro _; exact Nat.le_refl 0
  | succ n ih =>
    intro h
    have h1 := ih (fun i hi => h i (by omega))
    have h2 := h n (by omega)
    show ga_cnt p n + (if p n then 1 else 0) ≤ ga_cnt q n + (if q n then 1 else 0)
    cases hp : p n
    · simp only [Bool.false_eq_true, if_false]
      split <;> omega
    · rw [h2 hp]
      simp only [if_true]
      omega
theorem ga_cnt_lt {p q : Nat → Bool} : ∀ {n : Nat}, (∀ i, i < n → p i = true → q i = true) → (∃ i, i < n ∧ q i = true ∧ p i = false) → ga_cnt p n < ga_cnt q n := by
  intro n
  induction n with
  | zero => intro _ h; obtain ⟨i, hi, _⟩ := h; omega
  | succ n ih =>
    intro h hx
    have h1 : ga_cnt p n ≤ ga_cnt q n := ga_cnt_mono (fun i hi => h i (by omega))
    have h2 := h n (by omega)
    show ga_cnt p n + (if p n then 1 else 0) < ga_cnt q n + (if q n then 1 else 0)
    obtain ⟨i, hi, hq, hp⟩ := hx
    by_cases e : i = n
    · subst e
      rw [hq, hp]
      simp only [if_true, Bool.false_eq_true, if_false]
      omega
    · have h3 := ih (fun i hi => h i (by omega)) ⟨i, by omega, hq, hp⟩
      cases hp : p n
      · simp only [Bool.false_eq_true, if_false]
        split <;> omega
      · rw [h2 hp]
        simp only [if_true]
        omega
theorem ga_cnt_pos {p : Nat → Bool} {n : Nat} : 0 < ga_cnt p n ↔ ∃ i, i < n ∧ p i = true := by
  constructor
  · induction n with
    | zero => intro h; exact absurd (show 0 < 0 from h) (by decide)
    | succ n ih =>
      intro h
      have h' : 0 < ga_cnt p n + (if p n then 1 else 0) := h
      cases hp : p n
      · rw [hp] at h'
        simp only [Bool.false_eq_true, if_false, Nat.add_zero] at h'
        obtain ⟨i, hi, e⟩ := ih h'
        exact ⟨i, by omega, e⟩
      · exact ⟨n, by omega, hp⟩
  · intro h
    obtain ⟨i, hi, e⟩ := h
    have h0 : ga_cnt (fun _ => false) n = 0 := by
      clear hi
      induction n with
      | zero => rfl
      | succ n ih =>
        show ga_cnt (fun _ => false) n + (if false = true then 1 else 0) = 0
        rw [ih]; rfl
    have h1 : ga_cnt (fun _ => false) n < ga_cnt p n := ga_cnt_lt (fun i hi z => absurd z (by decide)) ⟨i, hi, e, rfl⟩
    omega
theorem ga_cnt_eq {p q : Nat → Bool} {n : Nat} (h : ∀ i, i < n → p i = true → q i = true) : ga_cnt p n = ga_cnt q n ↔ ∀ i, i < n → q i = true → p i = true := by
  constructor
  · intro e i hi hq
    cases hp : p i
    · have := ga_cnt_lt h ⟨i, hi, hq, hp⟩
      omega
    · rfl
  · intro g
    have h1 := ga_cnt_mono h
    have h2 := ga_cnt_mono g
    omega
theorem ga_cnt_del {p : Nat → Bool} {n i : Nat} (hi : i < n) (hp : p i = true) : ga_cnt (fun j => p j && !decide (j = i)) n + 1 ≤ ga_cnt p n := by
  refine ga_cnt_lt (fun j _ hj => ?_) ⟨i, hi, hp, ?_⟩
  · revert hj; cases p j <;> simp
  · simp
theorem ga_cnt_id {n k : Nat} (h : k ≤ n) : ga_cnt (fun t => decide (t < k)) n = k := by
  induction n with
  | zero => show 0 = k; omega
  | succ n ih =>
    show ga_cnt (fun t => decide (t < k)) n + (if decide (n < k) = true then 1 else 0) = k
    by_cases e : k ≤ n
    · rw [ih e, if_neg (by simp; omega), Nat.add_zero]
    · have e2 : k = n + 1 := by omega
      subst e2
      rw [if_pos (by simp), ga_cnt_congr (q := fun t => decide (t < n)) (fun i hi => by simp; omega)]
      have : ∀ n, ga_cnt (fun t => decide (t < n)) n = n := by
        intro n
        have hh : ∀ m, m ≤ n → ga_cnt (fun t => decide (t < n)) m = m := by
          intro m
          induction m with
          | zero => intro _; rfl
          | succ m ih2 =>
            intro hm
            show ga_cnt (fun t => decide (t < n)) m + (if decide (m < n) = true then 1 else 0) = m + 1
            rw [ih2 (by omega), if_pos (by simp; omega)]
        exact hh n (Nat.le_refl n)
      rw [this n]
end
section
/-! ===== the game: labels, the judge of a sum, marks ===== -/
def ga_K (L : Nat → Nat → Bool) (V : Nat → Nat) (u x : Nat) : Bool := (List.range 12).any fun v => L u v && decide (V v = x)
def ga_J (L : Nat → Nat → Bool) (V : Nat → Nat) (a b h : Nat) : Nat :=
  if V a = 4 then (if V b = 4 then 1 else if ga_K L V a (V b ^^^ h) = true then 2 else 1)
  else if V b = 4 then (if ga_K L V b (V a ^^^ h) = true then 2 else 1)
  else if V a ^^^ V b ^^^ h = 0 then 0 else 2
def ga_some (L : Nat → Nat → Bool) (a b h : Nat) (Q : Nat → Nat → Nat → Prop) : Prop :=
  (∃ t, L a t = true ∧ Q t b h) ∨ (∃ t, L b t = true ∧ Q a t h) ∨ (∃ t, t < h ∧ Q a b t)
def ga_all (L : Nat → Nat → Bool) (a b h : Nat) (Q : Nat → Nat → Nat → Prop) : Prop :=
  (∀ t, L a t = true → Q t b h) ∧ (∀ t, L b t = true → Q a t h) ∧ (∀ t, t < h → Q a b t)
def ga_LN (N : Nat) (L : Nat → Nat → Bool) : Prop := N ≤ 12 ∧ (∀ u v, L u v = true → u < N ∧ v < N) ∧ ∀ u, ga_cnt (L u) 12 ≤ 3
def ga_GL (L : Nat → Nat → Bool) (V rk : Nat → Nat) : Prop := ∀ u, V u < 4 →
  (∀ v, L u v = true → V v ≠ V u) ∧ (∀ k, k < V u → ∃ v, L u v = true ∧ V v = k) ∧
  (∀ v, L u v = true → V u < V v → ∃ w, L v w = true ∧ V w = V u ∧ rk w < rk u)
def ga_U (V : Nat → Nat) : Nat := ga_cnt (fun u => decide (V u = 4)) 12
def ga_Lab (N : Nat) (L : Nat → Nat → Bool) (V : Nat → Nat) : Prop := (∀ u, V u ≤ 4) ∧ (∀ u, N ≤ u → V u = 0) ∧
  ∃ rk : Nat → Nat, (∀ u, rk u < 12) ∧ (∀ u, u < N → V u < 4 → rk u + ga_U V < 12) ∧ ga_GL L V rk
def ga_can (L : Nat → Nat → Bool) (V : Nat → Nat) (u m : Nat) : Prop :=
  (∀ v, L u v = true → V v ≠ m) ∧ (∀ k, k < m → ∃ v, L u v = true ∧ V v = k) ∧
  (∀ v, L u v = true → m < V v → ∃ w, L v w = true ∧ V w = m)
def ga_lab (L : Nat → Nat → Bool) (V : Nat → Nat) (u : Nat) : Prop := ∃ m, m < 4 ∧ ga_can L V u m
def ga_Good (N : Nat) (L : Nat → Nat → Bool) (V : Nat → Nat) : Prop := ga_Lab N L V ∧ ∀ u, V u = 4 → ¬ ga_lab L V u
theorem ga_nim3' : ∀ x, x < 4 → ∀ y, y < 4 → ∀ z, z < 4 → x ^^^ y ^^^ z ≠ 0 → (y ^^^ z < x ∨ x ^^^ z < y ∨ x ^^^ y < z) := by decide +kernel
theorem ga_nimw : ∀ x, x < 4 → ∀ y, y < 4 → ∀ z, z < 4 → ((y ^^^ z) ^^^ y ^^^ z = 0 ∧ x ^^^ (x ^^^ z) ^^^ z = 0 ∧ x ^^^ y ^^^ (x ^^^ y) = 0) := by decide +kernel
theorem ga_nim3 (x : Nat) (hx : x < 4) (y : Nat) (hy : y < 4) (z : Nat) (hz : z < 4) (h : x ^^^ y ^^^ z ≠ 0) :
    (∃ k, k < x ∧ k ^^^ y ^^^ z = 0) ∨ (∃ k, k < y ∧ x ^^^ k ^^^ z = 0) ∨ (∃ k, k < z ∧ x ^^^ y ^^^ k = 0) := by
  obtain ⟨w1, w2, w3⟩ := ga_nimw x hx y hy z hz
  rcases ga_nim3' x hx y hy z hz h with k | k | k
  · exact Or.inl ⟨_, k, w1⟩
  · exact Or.inr (Or.inl ⟨_, k, w2⟩)
  · exact Or.inr (Or.inr ⟨_, k, w3⟩)
theorem ga_nim2 : ∀ y, y < 4 → ∀ z, z < 4 → ∀ m, m < y ^^^ z → (∃ k, k < y ∧ k ^^^ z = m) ∨ (∃ k, k < z ∧ y ^^^ k = m) := by decide +kernel
theorem ga_xlt : ∀ y, y < 4 → ∀ z, z < 4 → y ^^^ z < 4 := by decide +kernel
theorem ga_x0 : ∀ x, x < 4 → ∀ y, y < 4 → ∀ z, z < 4 → (x ^^^ y ^^^ z = 0 ↔ x = y ^^^ z) := by decide +kernel
theorem ga_xz : ∀ x, x < 4 → ∀ y, y < 4 → ∀ z, z < 4 → ∀ t, t < z → x ^^^ y ^^^ z = 0 → x ^^^ y ^^^ t ≠ 0 := by decide +kernel
theorem ga_xz' : ∀ x, x < 4 → ∀ y, y < 4 → ∀ z, z < 4 → ∀ t, t < z → x ^^^ y ^^^ t = 0 → x ^^^ y ^^^ z ≠ 0 := by decide +kernel
theorem ga_xc (x y z : Nat) : x ^^^ y ^^^ z = y ^^^ x ^^^ z := by rw [Nat.xor_comm x y]
section
variable {N : Nat} {L : Nat → Nat → Bool} {V rk : Nat → Nat}
theorem ga_K_iff (hK : ga_LN N L) {u x : Nat} : ga_K L V u x = true ↔ ∃ v, L u v = true ∧ V v = x := by
  unfold ga_K
  rw [List.any_eq_true]
  constructor
  · intro ⟨v, _, h⟩
    rw [Bool.and_eq_true, decide_eq_true_eq] at h
    exact ⟨v, h⟩
  · intro ⟨v, h⟩
    have := hK.2.1 u v h.1
    have := hK.1
    exact ⟨v, List.mem_range.mpr (by omega), by rw [Bool.and_eq_true, decide_eq_true_eq]; exact h⟩
theorem ga_J_0 {a b h : Nat} : ga_J L V a b h = 0 ↔ V a ≠ 4 ∧ V b ≠ 4 ∧ V a ^^^ V b ^^^ h = 0 := by
  unfold ga_J
  by_cases ha : V a = 4
  · by_cases hb : V b = 4
    · simp [ha, hb]
    · simp only [ha, hb, if_true, if_false]
      split <;> simp
  · by_cases hb : V b = 4
    · simp only [ha, hb, if_true, if_false]
      split <;> simp
    · simp only [ha, hb, if_false]
      split <;> simp_all
theorem ga_J_2 {a b h : Nat} : ga_J L V a b h = 2 ↔ (V a = 4 ∧ V b ≠ 4 ∧ ga_K L V a (V b ^^^ h) = true) ∨
    (V a ≠ 4 ∧ V b = 4 ∧ ga_K L V b (V a ^^^ h) = true) ∨ (V a ≠ 4 ∧ V b ≠ 4 ∧ V a ^^^ V b ^^^ h ≠ 0) := by
  unfold ga_J
  by_cases ha : V a = 4
  · by_cases hb : V b = 4
    · simp [ha, hb]
    · simp only [ha, hb, if_true, if_false]
      split <;> simp_all
  · by_cases hb : V b = 4
    · simp only [ha, hb, if_true, if_false]
      split <;> simp_all
    · simp only [ha, hb, if_false]
      split <;> simp_all
theorem ga_J_1 {a b h : Nat} : ga_J L V a b h = 1 ↔ (V a = 4 ∧ V b = 4) ∨ (V a = 4 ∧ V b ≠ 4 ∧ ¬ ga_K L V a (V b ^^^ h) = true) ∨
    (V a ≠ 4 ∧ V b = 4 ∧ ¬ ga_K L V b (V a ^^^ h) = true) := by
  unfold ga_J
  by_cases ha : V a = 4
  · by_cases hb : V b = 4
    · simp [ha, hb]
    · simp only [ha, hb, if_true, if_false]
      split <;> simp_all
  · by_cases hb : V b = 4
    · simp only [ha, hb, if_true, if_false]
      split <;> simp_all
    · simp only [ha, hb, if_false]
      split <;> simp_all
theorem ga_J_3 (a b h : Nat) : ga_J L V a b h = 0 ∨ ga_J L V a b h = 1 ∨ ga_J L V a b h = 2 := by
  unfold ga_J
  split
  · split
    · exact Or.inr (Or.inl rfl)
    · split
      · exact Or.inr (Or.inr rfl)
      · exact Or.inr (Or.inl rfl)
  · split
    · split
      · exact Or.inr (Or.inr rfl)
      · exact Or.inr (Or.inl rfl)
    · split
      · exact Or.inl rfl
      · exact Or.inr (Or.inr rfl)
theorem ga_J_c (a b h : Nat) : ga_J L V a b h = ga_J L V b a h := by
  unfold ga_J
  by_cases ha : V a = 4
  · by_cases hb : V b = 4
    · simp [ha, hb]
    · simp only [ha, hb, if_true, if_false]
  · by_cases hb : V b = 4
    · simp only [ha, hb, if_true, if_false]
    · simp only [ha, hb, if_false]
      rw [ga_xc]
theorem ga_some_mono {a b h : Nat} {Q Q' : Nat → Nat → Nat → Prop} (k : ∀ x y z, Q x y z → Q' x y z) (s : ga_some L a b h Q) : ga_some L a b h Q' := by
  rcases s with ⟨t, h1, h2⟩ | ⟨t, h1, h2⟩ | ⟨t, h1, h2⟩
  · exact Or.inl ⟨t, h1, k _ _ _ h2⟩
  · exact Or.inr (Or.inl ⟨t, h1, k _ _ _ h2⟩)
  · exact Or.inr (Or.inr ⟨t, h1, k _ _ _ h2⟩)
theorem ga_some_swap {a b h : Nat} {Q Q' : Nat → Nat → Nat → Prop} (k : ∀ x y z, Q x y z → Q' y x z) (s : ga_some L a b h Q) : ga_some L b a h Q' := by
  rcases s with ⟨t, h1, h2⟩ | ⟨t, h1, h2⟩ | ⟨t, h1, h2⟩
  · exact Or.inr (Or.inl ⟨t, h1, k _ _ _ h2⟩)
  · exact Or.inl ⟨t, h1, k _ _ _ h2⟩
  · exact Or.inr (Or.inr ⟨t, h1, k _ _ _ h2⟩)
/-- a finite sum that isn't zero has a move to a zero sum of smaller total -/
theorem ga_reply (hG : ga_GL L V rk) {a b h : Nat} (ha : V a < 4) (hb : V b < 4) (hh : h < 4) (hx : V a ^^^ V b ^^^ h ≠ 0) :
    ga_some L a b h (fun x y z => ga_J L V x y z = 0 ∧ z < 4 ∧ V x + V y + z < V a + V b + h) := by
  rcases ga_nim3 _ ha _ hb _ hh hx with ⟨k, hk, e⟩ | ⟨k, hk, e⟩ | ⟨k, hk, e⟩
  · obtain ⟨v, hv, ev⟩ := (hG a ha).2.1 k hk
    exact Or.inl ⟨v, hv, ga_J_0.mpr ⟨by omega, by omega, by rw [ev]; exact e⟩, hh, by omega⟩
  · obtain ⟨v, hv, ev⟩ := (hG b hb).2.1 k hk
    exact Or.inr (Or.inl ⟨v, hv, ga_J_0.mpr ⟨by omega, by omega, by rw [ev]; exact e⟩, hh, by omega⟩)
  · exact Or.inr (Or.inr ⟨k, hk, ga_J_0.mpr ⟨by omega, by omega, e⟩, by omega, by omega⟩)
def ga_rho (V rk : Nat → Nat) (a b h : Nat) : Nat := (V a + V b + h) * 64 + (rk a + rk b)
theorem ga_A_a (hV : ∀ u, V u ≤ 4) (hR : ∀ u, rk u < 12) (hG : ga_GL L V rk) {a b h t : Nat} (hh : h < 4) (hJ : ga_J L V a b h = 0) (hm : L a t = true) :
    ga_some L t b h (fun x y z => ga_J L V x y z = 0 ∧ z < 4 ∧ ga_rho V rk x y z < ga_rho V rk a b h) := by
  obtain ⟨ha, hb, hx⟩ := ga_J_0.mp hJ
  have h1 := hV a
  have h2 := hV b
  have ha4 : V a < 4 := by omega
  have hb4 : V b < 4 := by omega
  obtain ⟨g1, _, g3⟩ := hG a ha4
  have hne := g1 t hm
  by_cases hlt : V t < V a
  · refine ga_some_mono ?_ (ga_reply hG (a := t) (b := b) (by omega) hb4 hh ?_)
    · intro x y z ⟨e, hz, hl⟩
      refine ⟨e, hz, ?_⟩
      have r1 := hR x
      have r2 := hR y
      unfold ga_rho
      omega
    · intro e
      rw [ga_x0 _ (by omega) _ hb4 _ hh] at e
      rw [ga_x0 _ ha4 _ hb4 _ hh] at hx
      omega
  · obtain ⟨w, hw, ew, hr⟩ := g3 t hm (by omega)
    refine Or.inl ⟨w, hw, ga_J_0.mpr ⟨by omega, hb, by rw [ew]; exact hx⟩, hh, ?_⟩
    unfold ga_rho
    omega
theorem ga_A (hV : ∀ u, V u ≤ 4) (hR : ∀ u, rk u < 12) (hG : ga_GL L V rk) {a b h : Nat} (hh : h < 4) (hJ : ga_J L V a b h = 0) :
    ga_all L a b h (fun a' b' h' => ga_some L a' b' h' (fun x y z => ga_J L V x y z = 0 ∧ z < 4 ∧ ga_rho V rk x y z < ga_rho V rk a b h)) := by
  refine ⟨fun t ht => ga_A_a hV hR hG hh hJ ht, fun t ht => ?_, fun t ht => ?_⟩
  · refine ga_some_swap ?_ (ga_A_a hV hR hG hh (by rw [ga_J_c]; exact hJ) ht)
    intro x y z ⟨e, hz, hl⟩
    refine ⟨by rw [ga_J_c]; exact e, hz, ?_⟩
    unfold ga_rho at hl ⊢
    omega
  · obtain ⟨ha, hb, hx⟩ := ga_J_0.mp hJ
    have h1 := hV a
    have h2 := hV b
    refine ga_some_mono ?_ (ga_reply hG (a := a) (b := b) (h := t) (by omega) (by omega) (by omega) (ga_xz _ (by omega) _ (by omega) _ hh t ht hx))
    intro x y z ⟨e, hz, hl⟩
    refine ⟨e, hz, ?_⟩
    have r1 := hR x
    have r2 := hR y
    unfold ga_rho
    omega
theorem ga_B_a (hK : ga_LN N L) (hV : ∀ u, V u ≤ 4) {a b h : Nat} (hh : h < 4) (ha : V a = 4) (hb : V b ≠ 4) (k : ga_K L V a (V b ^^^ h) = true) :
    ga_some L a b h (fun x y z => ga_J L V x y z = 0) := by
  have h2 := hV b
  obtain ⟨v, hv, ev⟩ := (ga_K_iff hK).mp k
  have hx : V b ^^^ h < 4 := ga_xlt _ (by omega) _ hh
  exact Or.inl ⟨v, hv, ga_J_0.mpr ⟨by omega, hb, by rw [ga_x0 _ (by omega) _ (by omega) _ hh]; exact ev⟩⟩
theorem ga_B (hK : ga_LN N L) (hV : ∀ u, V u ≤ 4) (hG : ga_GL L V rk) {a b h : Nat} (hh : h < 4) (hJ : ga_J L V a b h = 2) :
    ga_some L a b h (fun x y z => ga_J L V x y z = 0) := by
  have h1 := hV a
  have h2 := hV b
  rcases ga_J_2.mp hJ with ⟨ha, hb, k⟩ | ⟨ha, hb, k⟩ | ⟨ha, hb, k⟩
  · exact ga_B_a hK hV hh ha hb k
  · refine ga_some_swap ?_ (ga_B_a hK hV hh hb ha k)
    intro x y z e
    rw [ga_J_c]; exact e
  · exact ga_some_mono (fun x y z q => q.1) (ga_reply hG (by omega) (by omega) hh k)
theorem ga_C1_a (hK : ga_LN N L) (hV : ∀ u, V u ≤ 4) (hG : ga_GL L V rk) {a b h t : Nat} (hh : h < 4) (hm : L a t = true) (hJ : ga_J L V t b h = 0) : ga_J L V a b h = 2 := by
  obtain ⟨ht, hb, hx⟩ := ga_J_0.mp hJ
  have h1 := hV a
  have h2 := hV b
  have h3 := hV t
  rw [ga_x0 _ (by omega) _ (by omega) _ hh] at hx
  by_cases ha : V a = 4
  · exact ga_J_2.mpr (Or.inl ⟨ha, hb, (ga_K_iff hK).mpr ⟨t, hm, hx⟩⟩)
  · have g := (hG a (by omega)).1 t hm
    refine ga_J_2.mpr (Or.inr (Or.inr ⟨ha, hb, fun e => ?_⟩))
    rw [ga_x0 _ (by omega) _ (by omega) _ hh] at e
    omega
theorem ga_C1 (hK : ga_LN N L) (hV : ∀ u, V u ≤ 4) (hG : ga_GL L V rk) {a b h : Nat} (hh : h < 4) (hs : ga_some L a b h (fun x y z => ga_J L V x y z = 0)) : ga_J L V a b h = 2 := by
  rcases hs with ⟨t, h1, h2⟩ | ⟨t, h1, h2⟩ | ⟨t, h1, h2⟩
  · exact ga_C1_a hK hV hG hh h1 h2
  · rw [ga_J_c]
    exact ga_C1_a hK hV hG hh h1 (by rw [ga_J_c]; exact h2)
  · obtain ⟨ha, hb, hx⟩ := ga_J_0.mp h2
    have g1 := hV a
    have g2 := hV b
    exact ga_J_2.mpr (Or.inr (Or.inr ⟨ha, hb, ga_xz' _ (by omega) _ (by omega) _ hh t h1 hx⟩))
theorem ga_mex (hK : ga_LN N L) (V : Nat → Nat) (u : Nat) : ∃ m, m < 4 ∧ (∀ v, L u v = true → V v ≠ m) ∧ (∀ k, k < m → ∃ v, L u v = true ∧ V v = k) := by
  have hex : ∃ m, m < 4 ∧ ∀ v, L u v = true → V v ≠ m := by
    refine Classical.byContradiction fun hn => ?_
    have hw : ∀ m, m < 4 → ∃ v, L u v = true ∧ V v = m := by
      intro m hm
      refine Classical.byContradiction fun hn2 => hn ⟨m, hm, fun v hv e => hn2 ⟨v, hv, e⟩⟩
    obtain ⟨v0, l0, e0⟩ := hw 0 (by omega)
    obtain ⟨v1, l1, e1⟩ := hw 1 (by omega)
    obtain ⟨v2, l2, e2⟩ := hw 2 (by omega)
    obtain ⟨v3, l3, e3⟩ := hw 3 (by omega)
    have b0 := hK.2.1 u v0 l0
    have b1 := hK.2.1 u v1 l1
    have b2 := hK.2.1 u v2 l2
    have b3 := hK.2.1 u v3 l3
    have hN := hK.1
    have hd := hK.2.2 u
    have n01 : v0 ≠ v1 := fun e => by subst e; omega
    have n02 : v0 ≠ v2 := fun e => by subst e; omega
    have n03 : v0 ≠ v3 := fun e => by subst e; omega
    have n12 : v1 ≠ v2 := fun e => by subst e; omega
    have n13 : v1 ≠ v3 := fun e => by subst e; omega
    have n23 : v2 ≠ v3 := fun e => by subst e; omega
    have c0 := ga_cnt_del (p := L u) (n := 12) (i := v0) (by omega) l0
    have c1 := ga_cnt_del (p := fun j => L u j && !decide (j = v0)) (n := 12) (i := v1) (by omega) (by simp [l1, Ne.symm n01])
    have c2 := ga_cnt_del (p := fun j => (L u j && !decide (j = v0)) && !decide (j = v1)) (n := 12) (i := v2) (by omega) (by simp [l2, Ne.symm n02, Ne.symm n12])
    have c3 := ga_cnt_del (p := fun j => ((L u j && !decide (j = v0)) && !decide (j = v1)) && !decide (j = v2)) (n := 12) (i := v3) (by omega) (by simp [l3, Ne.symm n03, Ne.symm n13, Ne.symm n23])
    omega
  obtain ⟨m, ⟨hm, h1⟩, h2⟩ := pk_least (fun m => m < 4 ∧ ∀ v, L u v = true → V v ≠ m) hex
  refine ⟨m, hm, h1, fun k hk => ?_⟩
  refine Classical.byContradiction fun hn => h2 k hk ⟨by omega, fun v hv e => hn ⟨v, hv, e⟩⟩
theorem ga_esc (hK : ga_LN N L) (hV : ∀ u, V u ≤ 4) (hG : ga_GL L V rk) (hS : ∀ u, V u = 4 → ¬ ga_lab L V u) {a : Nat} (ha : V a = 4) :
    ∃ m, m < 4 ∧ (∀ v, L a v = true → V v ≠ m) ∧ (∀ k, k < m → ∃ v, L a v = true ∧ V v = k) ∧ ∃ v, L a v = true ∧ V v = 4 ∧ ∀ w, L v w = true → V w ≠ m := by
  obtain ⟨m, hm, h1, h2⟩ := ga_mex hK V a
  refine ⟨m, hm, h1, h2, ?_⟩
  refine Classical.byContradiction fun hn => hS a ha ⟨m, hm, h1, h2, fun v hv hlt => ?_⟩
  refine Classical.byContradiction fun hn2 => hn ⟨v, hv, ?_, fun w hw e => hn2 ⟨w, hw, e⟩⟩
  have h4 := hV v
  refine Classical.byContradiction fun hn3 => hn2 ((hG v (by omega)).2.1 m hlt)
theorem ga_C2_a (hK : ga_LN N L) (hV : ∀ u, V u ≤ 4) (hG : ga_GL L V rk) (hS : ∀ u, V u = 4 → ¬ ga_lab L V u) {a b h : Nat} (hh : h < 4) (ha : V a = 4) (hb : V b ≠ 4)
    (hk : ¬ ga_K L V a (V b ^^^ h) = true) : ga_some L a b h (fun x y z => ga_J L V x y z = 1) := by
  have h2 := hV b
  obtain ⟨m, hm, m1, m2, v, lv, ev, mv⟩ := ga_esc hK hV hG hS ha
  have nk : ¬ ga_K L V a m = true := fun z => by
    obtain ⟨w, lw, ew⟩ := (ga_K_iff hK).mp z
    exact m1 w lw ew
  by_cases e : V b ^^^ h = m
  · refine Or.inl ⟨v, lv, ga_J_1.mpr (Or.inr (Or.inl ⟨ev, hb, fun z => ?_⟩))⟩
    obtain ⟨w, lw, ew⟩ := (ga_K_iff hK).mp z
    exact mv w lw (by omega)
  · have hge : m < V b ^^^ h := by
      refine Classical.byContradiction fun hn => hk ((ga_K_iff hK).mpr (m2 _ (by omega)))
    rcases ga_nim2 _ (by omega) _ hh m hge with ⟨k, hk1, hk2⟩ | ⟨k, hk1, hk2⟩
    · obtain ⟨w, lw, ew⟩ := (hG b (by omega)).2.1 k hk1
      exact Or.inr (Or.inl ⟨w, lw, ga_J_1.mpr (Or.inr (Or.inl ⟨ha, by omega, by rw [ew, hk2]; exact nk⟩))⟩)
    · exact Or.inr (Or.inr ⟨k, hk1, ga_J_1.mpr (Or.inr (Or.inl ⟨ha, hb, by rw [hk2]; exact nk⟩))⟩)
theorem ga_C2 (hK : ga_LN N L) (hV : ∀ u, V u ≤ 4) (hG : ga_GL L V rk) (hS : ∀ u, V u = 4 → ¬ ga_lab L V u) {a b h : Nat} (hh : h < 4) (hJ : ga_J L V a b h = 1) :
    ga_some L a b h (fun x y z => ga_J L V x y z = 1) := by
  rcases ga_J_1.mp hJ with ⟨ha, hb⟩ | ⟨ha, hb, k⟩ | ⟨ha, hb, k⟩
  · obtain ⟨m, _, _, _, v, lv, ev, _⟩ := ga_esc hK hV hG hS ha
    exact Or.inl ⟨v, lv, ga_J_1.mpr (Or.inl ⟨ev, hb⟩)⟩
  · exact ga_C2_a hK hV hG hS hh ha hb k
  · refine ga_some_swap ?_ (ga_C2_a hK hV hG hS hh hb ha k)
    intro x y z e
    rw [ga_J_c]; exact e
end
end
section
/-! ===== marks that are sound and stable are the judge; the labelling step; delays ===== -/
def ga_ix (a b h : Nat) : Nat := a * 52 + b * 4 + h
def ga_Snd (L : Nat → Nat → Bool) (V : Nat → Nat) (out : Nat → Int32) : Prop := ∀ a b h, a < 13 → b < 13 → h < 4 →
  (out (ga_ix a b h) = 0 → ga_J L V a b h = 0) ∧ (out (ga_ix a b h) = 2 → ga_J L V a b h = 2)
def ga_Tri (out : Nat → Int32) : Prop := ∀ s, s < 676 → out s = 0 ∨ out s = 1 ∨ out s = 2
def ga_Des (L : Nat → Nat → Bool) (out : Nat → Int32) (a b h : Nat) : Prop :=
  ¬ ga_some L a b h (fun x y z => out (ga_ix x y z) = 0) ∧ ¬ ga_all L a b h (fun x y z => out (ga_ix x y z) = 2)
def ga_Stb (L : Nat → Nat → Bool) (out : Nat → Int32) : Prop := ∀ a b h, a < 13 → b < 13 → h < 4 → out (ga_ix a b h) = 1 → ga_Des L out a b h
def ga_Out (L : Nat → Nat → Bool) (V : Nat → Nat) (out : Nat → Int32) : Prop := ∀ a b h, a < 13 → b < 13 → h < 4 → out (ga_ix a b h) = nI (ga_J L V a b h)
section
variable {N : Nat} {L : Nat → Nat → Bool} {V : Nat → Nat}
theorem ga_ix_lt {a b h : Nat} (ha : a < 13) (hb : b < 13) (hh : h < 4) : ga_ix a b h < 676 := by unfold ga_ix; omega
theorem ga_L13 (hK : ga_LN N L) {u v : Nat} (l : L u v = true) : v < 13 := by
  have h1 := hK.2.1 u v l
  have h2 := hK.1
  omega
theorem ga_fix (hK : ga_LN N L) (hg : ga_Good N L V) {out : Nat → Int32} (h3 : ga_Tri out) (hs : ga_Snd L V out) (hb : ga_Stb L out) : ga_Out L V out := by
  obtain ⟨⟨hV, h0, rk, hR, hU, hG⟩, hS⟩ := hg
  have z0 : ∀ n a b h, a < 13 → b < 13 → h < 4 → ga_rho V rk a b h < n → ga_J L V a b h = 0 → out (ga_ix a b h) = 0 := by
    intro n
    induction n with
    | zero => intro a b h _ _ _ hr; omega
    | succ n ih =>
      intro a b h ha hb' hh hr hJ
      have hA := ga_A hV hR hG hh hJ
      have key : ∀ a' b' h', a' < 13 → b' < 13 → h' < 4 → ga_J L V a' b' h' ≠ 0 →
          ga_some L a' b' h' (fun x y z => ga_J L V x y z = 0 ∧ z < 4 ∧ ga_rho V rk x y z < ga_rho V rk a b h) → out (ga_ix a' b' h') = 2 := by
        intro a' b' h' ha' hb'' hh' hne hsome
        have hs0 : ga_some L a' b' h' (fun x y z => out (ga_ix x y z) = 0) := by
          rcases hsome with ⟨t, l, q1, q2, q3⟩ | ⟨t, l, q1, q2, q3⟩ | ⟨t, l, q1, q2, q3⟩
          · exact Or.inl ⟨t, l, ih t b' h' (ga_L13 hK l) hb'' hh' (by omega) q1⟩
          · exact Or.inr (Or.inl ⟨t, l, ih a' t h' ha' (ga_L13 hK l) hh' (by omega) q1⟩)
          · exact Or.inr (Or.inr ⟨t, l, ih a' b' t ha' hb'' (by omega) (by omega) q1⟩)
        rcases h3 _ (ga_ix_lt ha' hb'' hh') with e | e | e
        · exact absurd ((hs a' b' h' ha' hb'' hh').1 e) hne
        · exact absurd hs0 (hb a' b' h' ha' hb'' hh' e).1
        · exact e
      have hall : ga_all L a b h (fun x y z => out (ga_ix x y z) = 2) := by
        refine ⟨fun t l => key t b h (ga_L13 hK l) hb' hh (fun e => ?_) (hA.1 t l), fun t l => key a t h ha (ga_L13 hK l) hh (fun e => ?_) (hA.2.1 t l), fun t l => key a b t ha hb' (by omega) (fun e => ?_) (hA.2.2 t l)⟩
        · have := ga_C1 hK hV hG (a := a) (b := b) hh (Or.inl ⟨t, l, e⟩)
          omega
        · have := ga_C1 hK hV hG (a := a) (b := b) hh (Or.inr (Or.inl ⟨t, l, e⟩))
          omega
        · have := ga_C1 hK hV hG (a := a) (b := b) hh (Or.inr (Or.inr ⟨t, l, e⟩))
          omega
      rcases h3 _ (ga_ix_lt ha hb' hh) with e | e | e
      · exact e
      · exact absurd hall (hb a b h ha hb' hh e).2
      · have := (hs a b h ha hb' hh).2 e
        omega
  intro a b h ha hb' hh
  rcases ga_J_3 (L := L) (V := V) a b h with e | e | e
  · rw [e]
    exact z0 _ a b h ha hb' hh (Nat.lt_succ_self _) e
  · rw [e]
    rcases h3 _ (ga_ix_lt ha hb' hh) with q | q | q
    · have := (hs a b h ha hb' hh).1 q
      omega
    · exact q
    · have := (hs a b h ha hb' hh).2 q
      omega
  · rw [e]
    rcases h3 _ (ga_ix_lt ha hb' hh) with q | q | q
    · have := (hs a b h ha hb' hh).1 q
      omega
    · refine absurd ?_ (hb a b h ha hb' hh q).1
      rcases ga_B hK hV hG hh e with ⟨t, l, q1⟩ | ⟨t, l, q1⟩ | ⟨t, l, q1⟩
      · exact Or.inl ⟨t, l, z0 _ t b h (ga_L13 hK l) hb' hh (Nat.lt_succ_self _) q1⟩
      · exact Or.inr (Or.inl ⟨t, l, z0 _ a t h ha (ga_L13 hK l) hh (Nat.lt_succ_self _) q1⟩)
      · exact Or.inr (Or.inr ⟨t, l, z0 _ a b t ha hb' (by omega) (Nat.lt_succ_self _) q1⟩)
    · exact q
/-- a mark that is put keeps soundness: the two rules -/
theorem ga_put2 (hK : ga_LN N L) (hg : ga_Good N L V) {out : Nat → Int32} (hs : ga_Snd L V out) {a b h : Nat} (ha : a < 13) (hb : b < 13) (hh : h < 4)
    (k : ga_some L a b h (fun x y z => out (ga_ix x y z) = 0)) : ga_J L V a b h = 2 := by
  obtain ⟨⟨hV, h0, rk, hR, hU, hG⟩, hS⟩ := hg
  refine ga_C1 hK hV hG hh ?_
  rcases k with ⟨t, l, q⟩ | ⟨t, l, q⟩ | ⟨t, l, q⟩
  · exact Or.inl ⟨t, l, (hs t b h (ga_L13 hK l) hb hh).1 q⟩
  · exact Or.inr (Or.inl ⟨t, l, (hs a t h ha (ga_L13 hK l) hh).1 q⟩)
  · exact Or.inr (Or.inr ⟨t, l, (hs a b t ha hb (by omega)).1 q⟩)
theorem ga_put0 (hK : ga_LN N L) (hg : ga_Good N L V) {out : Nat → Int32} (hs : ga_Snd L V out) {a b h : Nat} (ha : a < 13) (hb : b < 13) (hh : h < 4)
    (k : ga_all L a b h (fun x y z => out (ga_ix x y z) = 2)) : ga_J L V a b h = 0 := by
  obtain ⟨⟨hV, h0, rk, hR, hU, hG⟩, hS⟩ := hg
  have k2 : ∀ Q : Nat → Nat → Nat → Prop, (∀ x y z, Q x y z → ga_J L V x y z ≠ 2) → ga_some L a b h Q → False := by
    intro Q hQ s
    rcases s with ⟨t, l, q⟩ | ⟨t, l, q⟩ | ⟨t, l, q⟩
    · exact hQ _ _ _ q ((hs t b h (ga_L13 hK l) hb hh).2 (k.1 t l))
    · exact hQ _ _ _ q ((hs a t h ha (ga_L13 hK l) hh).2 (k.2.1 t l))
    · exact hQ _ _ _ q ((hs a b t ha hb (by omega)).2 (k.2.2 t l))
  rcases ga_J_3 (L := L) (V := V) a b h with e | e | e
  · exact e
  · exact (k2 _ (fun x y z q => by omega) (ga_C2 hK hV hG hS hh e)).elim
  · exact (k2 _ (fun x y z q => by omega) (ga_B hK hV hG hh e)).elim
theorem ga_U_lt {V' : Nat → Nat} {u : Nat} (hu : u < 12) (h4 : V u = 4) (e1 : V' u < 4) (e2 : ∀ x, x ≠ u → V' x = V x) : ga_U V' < ga_U V := by
  unfold ga_U
  refine ga_cnt_lt (fun i hi hp => ?_) ⟨u, hu, by simp [h4], by simp; omega⟩
  rw [decide_eq_true_eq] at hp ⊢
  by_cases e : i = u
  · subst e; omega
  · rw [← e2 i e]; exact hp
theorem ga_step (hK : ga_LN N L) (hl : ga_Lab N L V) {V' : Nat → Nat} {u m : Nat} (hu : u < N) (h4 : V u = 4) (hm : m < 4) (hc : ga_can L V u m)
    (e1 : V' u = m) (e2 : ∀ x, x ≠ u → V' x = V x) : ga_Lab N L V' ∧ ga_U V' < ga_U V := by
  obtain ⟨hV, h0, rk, hR, hU, hG⟩ := hl
  obtain ⟨c1, c2, c3⟩ := hc
  have hN := hK.1
  have hlt : ga_U V' < ga_U V := ga_U_lt (u := u) (by omega) h4 (by omega) e2
  have hU12 : ga_U V ≤ 12 := ga_cnt_le _ _
  have nself : ∀ v, L u v = true → v ≠ u := by
    intro v l e
    subst e
    obtain ⟨w, lw, ew⟩ := c3 _ l (by omega)
    exact c1 w lw ew
  have hne : ∀ v, V v < 4 → v ≠ u := by
    intro v hv e
    subst e
    omega
  refine ⟨⟨fun x => ?_, fun x hx => ?_, fun x => if x = u then 12 - ga_U V else rk x, fun x => ?_, fun x hx hx4 => ?_, ?_⟩, hlt⟩
  · by_cases e : x = u
    · rw [e, e1]; omega
    · rw [e2 x e]; exact hV x
  · rw [e2 x (by omega)]; exact h0 x hx
  · show (if x = u then 12 - ga_U V else rk x) < 12
    split
    · omega
    · exact hR x
  · show (if x = u then 12 - ga_U V else rk x) + ga_U V' < 12
    by_cases e : x = u
    · rw [if_pos e]; omega
    · rw [if_neg e]
      rw [e2 x e] at hx4
      have := hU x hx hx4
      omega
  · intro x hx
    by_cases e : x = u
    · subst e
      rw [e1]
      refine ⟨fun v l => ?_, fun k hk => ?_, fun v l hv => ?_⟩
      · rw [e2 v (nself v l)]; exact c1 v l
      · obtain ⟨v, lv, ev⟩ := c2 k hk
        exact ⟨v, lv, by rw [e2 v (nself v lv)]; exact ev⟩
      · rw [e2 v (nself v l)] at hv
        obtain ⟨w, lw, ew⟩ := c3 v l hv
        have hw : w ≠ x := hne w (by omega)
        refine ⟨w, lw, by rw [e2 w hw]; exact ew, ?_⟩
        show (if w = x then 12 - ga_U V else rk w) < (if x = x then 12 - ga_U V else rk x)
        rw [if_neg hw, if_pos rfl]
        have := hU w (hK.2.1 v w lw).2 (by omega)
        omega
    · rw [e2 x e] at hx ⊢
      obtain ⟨g1, g2, g3⟩ := hG x hx
      refine ⟨fun v l => ?_, fun k hk => ?_, fun v l hv => ?_⟩
      · by_cases ev : v = u
        · subst ev
          rw [e1]
          intro em
          obtain ⟨w, lw, ew, _⟩ := g3 v l (by omega)
          exact c1 w lw (by omega)
        · rw [e2 v ev]; exact g1 v l
      · obtain ⟨v, lv, ev⟩ := g2 k hk
        exact ⟨v, lv, by rw [e2 v (hne v (by omega))]; exact ev⟩
      · have hv' : V x < V v := by
          by_cases ev : v = u
          · subst ev; omega
          · rw [e2 v ev] at hv; exact hv
        obtain ⟨w, lw, ew, hr⟩ := g3 v l hv'
        have hw : w ≠ u := hne w (by omega)
        refine ⟨w, lw, by rw [e2 w hw]; exact ew, ?_⟩
        show (if w = u then 12 - ga_U V else rk w) < (if x = u then 12 - ga_U V else rk x)
        rw [if_neg hw, if_neg e]
        exact hr
theorem ga_lab0 (hK : ga_LN N L) : ga_Lab N L (fun u => if u < N then 4 else 0) := by
  refine ⟨fun u => ?_, fun u hu => if_neg (by omega), fun _ => 0, fun _ => (by decide : 0 < 12), fun u hu h => ?_, fun u h => ?_⟩
  · show (if u < N then 4 else 0) ≤ 4
    split <;> omega
  · have h' : (if u < N then 4 else 0) < 4 := h
    rw [if_pos hu] at h'
    omega
  · have h' : (if u < N then 4 else 0) < 4 := h
    have hn : ¬ u < N := by
      intro hu
      rw [if_pos hu] at h'
      omega
    refine ⟨fun v l => absurd (hK.2.1 u v l).1 hn, fun k hk => ?_, fun v l => absurd (hK.2.1 u v l).1 hn⟩
    have hk' : k < (if u < N then 4 else 0) := hk
    rw [if_neg hn] at hk'
    omega
/-- at most one value can be given -/
theorem ga_can_no {u m : Nat} (h1 : ∀ v, L u v = true → V v ≠ m) (h2 : ∀ k, k < m → ∃ v, L u v = true ∧ V v = k)
    (h3 : ¬ ∀ v, L u v = true → m < V v → ∃ w, L v w = true ∧ V w = m) : ¬ ga_lab L V u := by
  intro ⟨m', hm', c1, c2, c3⟩
  have e : m' = m := by
    rcases Nat.lt_trichotomy m' m with h | h | h
    · obtain ⟨v, lv, ev⟩ := h2 m' h
      exact absurd ev (c1 v lv)
    · exact h
    · obtain ⟨v, lv, ev⟩ := c2 m h
      exact absurd ev (h1 v lv)
  subst e
  exact h3 c3
/-! delays -/
def ga_T (L : Nat → Nat → Bool) (V : Nat → Nat) (E : Nat → Prop) (u : Nat) : Prop := ∀ v, L u v = true → V u < V v → ∃ w, L v w = true ∧ V w = V u ∧ E w
def ga_E (L : Nat → Nat → Bool) (V : Nat → Nat) : Nat → Nat → Prop
  | 0 => fun _ => False
  | d + 1 => fun u => ga_E L V d u ∨ (V u < 4 ∧ ga_T L V (ga_E L V d) u)
theorem ga_E_mono {d e u : Nat} (h : d ≤ e) (he : ga_E L V d u) : ga_E L V e u := by
  induction h with
  | refl => exact he
  | step _ ih => exact Or.inl ih
theorem ga_E_fin {d u : Nat} (h : ga_E L V d u) : V u < 4 := by
  induction d with
  | zero => exact h.elim
  | succ d ih =>
    rcases h with h | h
    · exact ih h
    · exact h.1
theorem ga_E_all (hK : ga_LN N L) (hl : ga_Lab N L V) {u : Nat} (hu : V u < 4) : ga_E L V 12 u := by
  obtain ⟨hV, h0, rk, hR, hU, hG⟩ := hl
  have key : ∀ n u, rk u < n → V u < 4 → ga_E L V n u := by
    intro n
    induction n with
    | zero => intro u h; omega
    | succ n ih =>
      intro u hr h4
      refine Or.inr ⟨h4, fun v l hv => ?_⟩
      obtain ⟨w, lw, ew, hw⟩ := (hG u h4).2.2 v l hv
      exact ⟨w, lw, ew, ih w (by omega) (by omega)⟩
  exact key 12 u (hR u) hu
def ga_D (L : Nat → Nat → Bool) (V : Nat → Nat) (d : Nat) (dl : Nat → Int32) (u : Nat) : Prop :=
  (ga_E L V d u → ∃ e, e < d ∧ dl u = nI e ∧ ga_E L V (e + 1) u ∧ ¬ ga_E L V e u) ∧ (¬ ga_E L V d u → dl u = -1)
def ga_DD (L : Nat → Nat → Bool) (V dd : Nat → Nat) : Prop := ∀ u, V u < 4 → dd u < 12 ∧ ga_E L V (dd u + 1) u ∧ ¬ ga_E L V (dd u) u
theorem ga_DD_ex (hK : ga_LN N L) (hl : ga_Lab N L V) : ∃ dd, ga_DD L V dd := by
  have h : ∀ u, ∃ e, V u < 4 → e < 12 ∧ ga_E L V (e + 1) u ∧ ¬ ga_E L V e u := by
    intro u
    by_cases hu : V u < 4
    · obtain ⟨k, hk1, hk2⟩ := pk_least (fun k => ga_E L V k u) ⟨12, ga_E_all hK hl hu⟩
      have hk0 : k ≠ 0 := by
        intro e
        subst e
        exact hk1
      have hk12 : ¬ 12 < k := fun z => hk2 12 z (ga_E_all hK hl hu)
      obtain ⟨e, rfl⟩ : ∃ e, k = e + 1 := ⟨k - 1, by omega⟩
      exact ⟨e, fun _ => ⟨by omega, hk1, hk2 e (by omega)⟩⟩
    · exact ⟨0, fun z => absurd z hu⟩
  exact ⟨fun u => (h u).choose, fun u => (h u).choose_spec⟩
theorem ga_D_dd (hK : ga_LN N L) (hl : ga_Lab N L V) {dd : Nat → Nat} (hd : ga_DD L V dd) {d u : Nat} {dl : Nat → Int32} (h12 : 12 ≤ d) (h : ga_D L V d dl u) :
    (V u < 4 → dl u = nI (dd u)) ∧ (V u = 4 → dl u = -1) := by
  constructor
  · intro hu
    obtain ⟨e, _, h1, h2, h3⟩ := h.1 (ga_E_mono h12 (ga_E_all hK hl hu))
    obtain ⟨_, g2, g3⟩ := hd u hu
    have a1 : ¬ e + 1 ≤ dd u := fun z => g3 (ga_E_mono z h2)
    have a2 : ¬ dd u + 1 ≤ e := fun z => h3 (ga_E_mono z g2)
    have : e = dd u := by omega
    rw [h1, this]
  · intro hu
    exact h.2 (fun z => by have := ga_E_fin z; omega)
theorem ga_neg1 : ((-1 : Int32) < 0) := by decide
theorem ga_D_ge {d u : Nat} {dl : Nat → Int32} (hd : d < 1000) (h : ga_D L V d dl u) : 0 ≤ dl u ↔ ga_E L V d u := by
  constructor
  · intro h0
    refine Classical.byContradiction fun hn => ?_
    rw [h.2 hn] at h0
    exact absurd h0 (by decide)
  · intro he
    obtain ⟨e, hlt, h1, _⟩ := h.1 he
    rw [h1]
    exact nI_pos' (by omega)
theorem ga_D_read {d w : Nat} {dl : Nat → Int32} (hd : d < 900) (h : ga_D L V d dl w ∨ ga_D L V (d + 1) dl w) : (¬ dl w < 0 ∧ ¬ nI d ≤ dl w) ↔ ga_E L V d w := by
  rcases h with h | h
  · constructor
    · intro ⟨h0, _⟩
      exact (ga_D_ge (by omega) h).mp (Int32.not_lt.mp h0)
    · intro he
      obtain ⟨e, hlt, h1, _⟩ := h.1 he
      rw [h1]
      exact ⟨nI_pos (by omega), nI_ge hlt (by omega)⟩
  · constructor
    · intro ⟨h0, h2⟩
      have hE := (ga_D_ge (by omega) h).mp (Int32.not_lt.mp h0)
      obtain ⟨e, hlt, h1, g1, _⟩ := h.1 hE
      rw [h1, nI_leI (by omega) (by omega)] at h2
      exact ga_E_mono (by omega) g1
    · intro he
      obtain ⟨e, hlt, h1, _, g2⟩ := h.1 (Or.inl he)
      have : e < d := by
        refine Classical.byContradiction fun hn => g2 (ga_E_mono (by omega) he)
      rw [h1]
      exact ⟨nI_pos (by omega), nI_ge this (by omega)⟩
theorem ga_D_congr {d u : Nat} {dl dl' : Nat → Int32} (e : dl' u = dl u) (h : ga_D L V d dl u) : ga_D L V d dl' u := by
  unfold ga_D
  rw [e]
  exact h
theorem ga_D_skip1 {d u : Nat} {dl : Nat → Int32} (h4 : V u = 4) (h : ga_D L V d dl u) : ga_D L V (d + 1) dl u :=
  ⟨fun z => by have := ga_E_fin z; omega, fun _ => h.2 (fun z => by have := ga_E_fin z; omega)⟩
theorem ga_D_skip2 {d u : Nat} {dl : Nat → Int32} (hd : d < 900) (h : ga_D L V d dl u) (h0 : 0 ≤ dl u) : ga_D L V (d + 1) dl u := by
  have hE := (ga_D_ge (by omega) h).mp h0
  refine ⟨fun _ => ?_, fun z => absurd (Or.inl hE) z⟩
  obtain ⟨e, h1, h2⟩ := h.1 hE
  exact ⟨e, by omega, h2⟩
theorem ga_D_skip3 {d u : Nat} {dl : Nat → Int32} (hd : d < 900) (h : ga_D L V d dl u) (h0 : ¬ 0 ≤ dl u) (ht : ¬ ga_T L V (ga_E L V d) u) : ga_D L V (d + 1) dl u := by
  have hE : ¬ ga_E L V d u := fun z => h0 ((ga_D_ge (by omega) h).mpr z)
  refine ⟨fun z => ?_, fun _ => h.2 hE⟩
  rcases z with z | z
  · exact absurd z hE
  · exact absurd z.2 ht
theorem ga_D_set {d u : Nat} {dl dl' : Nat → Int32} (hd : d < 900) (h : ga_D L V d dl u) (h0 : ¬ 0 ≤ dl u) (h4 : V u < 4) (ht : ga_T L V (ga_E L V d) u) (e : dl' u = nI d) : ga_D L V (d + 1) dl' u := by
  have hE : ¬ ga_E L V d u := fun z => h0 ((ga_D_ge (by omega) h).mpr z)
  have hE1 : ga_E L V (d + 1) u := Or.inr ⟨h4, ht⟩
  exact ⟨fun _ => ⟨d, by omega, e, hE1, hE⟩, fun z => absurd hE1 z⟩
end
end
section
/-! ===== X: readers, labels ===== -/
def zx_F (fo : Nat → Int32) (L : Nat → Nat → Bool) : Prop := ∀ u, u < 13 → ∀ v, v < 32 → bt (fo u) v = L u v
def zx_V (N : Nat) (vs : Nat → Int32) (V : Nat → Nat) : Prop := ∀ u, u < N ∨ u = 12 → vs u = nI (V u)
def zx_FV (L : Nat → Nat → Bool) (V : Nat → Nat) (u : Nat) (M : Int32) : Prop := ∀ j, j < 32 → (bt M j = true ↔ ∃ v, L u v = true ∧ V v = j)
def zx_pass (L : Nat → Nat → Bool) (V0 V : Nat → Nat) (x1 : Int32) (i : Nat) : Prop :=
  (x1 = 0 ∧ V = V0 ∧ ∀ u, u < i → V u = 4 → ¬ ga_lab L V u) ∨ (x1 = 1 ∧ ga_U V < ga_U V0)
theorem ga_ex_s {P : Nat → Prop} {i : Nat} : (∃ v, v < i + 1 ∧ P v) ↔ (∃ v, v < i ∧ P v) ∨ P i := by
  constructor
  · intro ⟨v, h1, h2⟩
    by_cases e : v = i
    · subst e; exact Or.inr h2
    · exact Or.inl ⟨v, by omega, h2⟩
  · intro h
    rcases h with ⟨v, h1, h2⟩ | h
    · exact ⟨v, by omega, h2⟩
    · exact ⟨i, by omega, h⟩
section
variable {N : Nat} {dg sv mv : Int32} {fo vs wm dl cu : Nat → Int32} {L : Nat → Nat → Bool} {V : Nat → Nat}
theorem zx_isNode {post : Int32 → Prop} (hN : N ≤ 12) (p : Int32) (h1 : ∀ j, j < N → p = nI j → post 1) (h0 : (∀ j, j < N → p ≠ nI j) → post 0) :
    wpX_isNode post (nI N, dg, sv, mv, fo, vs, wm, dl, cu) p := by
  refine br_c (fun h => h0 fun j hj e => ?_) (fun h => br_c (fun h2 => h0 fun j hj e => ?_) (fun h2 => ?_))
  · subst e; exact nI_pos (by omega) h
  · subst e; exact nI_ge hj (by omega) h2
  · obtain ⟨j, hj, rfl⟩ := nI_of h
    rw [nI_leI (by omega) hj] at h2
    exact h1 j (by omega) rfl
theorem zx_hasLink {post : Int32 → Prop} {nd : Int32} (hF : zx_F fo L) {u v : Nat} (hu : u < 13) (hv : v < 32) (h1 : L u v = true → post 1) (h0 : L u v = false → post 0) :
    wpX_hasLink post (nd, dg, sv, mv, fo, vs, wm, dl, cu) (nI u) (nI v) := by
  refine ⟨vp_in_nI hu (by decide), ?_⟩
  rw [nI_clamp (by omega), zb_bit _ _ hv, hF u hu v hv]
  exact ⟨h0, fun z => h1 (ts_nf z)⟩
theorem zx_cb4 {post : Int32 → Prop} {nd : Int32} {x : Int32} (h : post (nI (ga_cnt (bt x) 12))) : ∀ k i, i + k = 12 →
    wX_countBits_4 post x nd dg sv mv fo vs wm dl cu (k + 1) (nI (ga_cnt (bt x) i)) (nI i) := by
  intro k
  induction k with
  | zero =>
    intro i hi
    have e : i = 12 := by omega
    subst e
    exact br_t (nI_le (a := 12) (b := 12) (by omega) (by omega)) h
  | succ k ih =>
    intro i hi
    refine br_f (nI_ge (b := 12) (by omega) (by omega)) (nm_r (e' := nI (ga_cnt (bt x) (i + 1))) ?_ (nm_r (nI_1 i) (ih (i + 1) (by omega))))
    rw [zb_one x (by omega), nI_add]
    rfl
theorem zx_countBits {post : Int32 → Prop} {nd : Int32} {x : Int32} (h : post (nI (ga_cnt (bt x) 12))) : wpX_countBits post (nd, dg, sv, mv, fo, vs, wm, dl, cu) x :=
  ⟨13, zx_cb4 h 12 0 rfl⟩
theorem zx_fv4 {post : Int32 → Prop} (hK : ga_LN N L) (hF : zx_F fo L) (hVs : zx_V N vs V) (hV : ∀ u, V u ≤ 4) {u : Nat} (hu : u < 13) (hp : ∀ M, zx_FV L V u M → post M) :
    ∀ k i M, i + k = N → (∀ j, j < 32 → (bt M j = true ↔ ∃ v, v < i ∧ L u v = true ∧ V v = j)) → wX_followerValues_4 post (nI u) (nI N) dg sv mv fo vs wm dl cu (k + 1) M (nI i) := by
  have hN := hK.1
  intro k
  induction k with
  | zero =>
    intro i M hi hM
    refine br_t (nI_le (by omega) (by omega)) (hp M fun j hj => ?_)
    rw [hM j hj]
    exact ⟨fun ⟨v, _, h⟩ => ⟨v, h⟩, fun ⟨v, h⟩ => ⟨v, by have := hK.2.1 u v h.1; omega, h⟩⟩
  | succ k ih =>
    intro i M hi hM
    have ev : vs (nI i).toNatClampNeg = nI (V i) := by rw [nI_clamp (by omega)]; exact hVs i (Or.inl (by omega))
    refine br_f (nI_ge (by omega) (by omega)) (zx_hasLink hF hu (by omega) (fun l => br_f (by decide) ?_) (fun l => br_t rfl ?_))
    · refine ⟨vp_in_nI (by omega) (by omega), nm_e (nm_r (nI_1 i) (ih (i + 1) _ (by omega) fun j hj => ?_))⟩
      have := hV i
      rw [ev, b_or, zb_sh _ (by omega) j hj, Bool.or_eq_true, hM j hj, decide_eq_true_eq, ga_ex_s]
      exact ⟨fun z => z.elim Or.inl fun e => Or.inr ⟨l, e.symm⟩, fun z => z.elim Or.inl fun e => Or.inr e.2.symm⟩
    · refine nm_r (nI_1 i) (ih (i + 1) M (by omega) fun j hj => ?_)
      rw [hM j hj, ga_ex_s]
      exact ⟨Or.inl, fun z => z.elim id fun e => absurd e.1 (by rw [l]; decide)⟩
theorem zx_followerValues {post : Int32 → Prop} (hK : ga_LN N L) (hF : zx_F fo L) (hVs : zx_V N vs V) (hV : ∀ u, V u ≤ 4) {u : Nat} (hu : u < 13) (hp : ∀ M, zx_FV L V u M → post M) :
    wpX_followerValues post (nI N, dg, sv, mv, fo, vs, wm, dl, cu) (nI u) :=
  ⟨N + 1, zx_fv4 hK hF hVs hV hu hp N 0 0 (by omega) (fun j hj => by rw [b_0]; exact ⟨fun z => absurd z (by decide), fun ⟨v, h, _⟩ => absurd h (by omega)⟩)⟩
theorem zx_lm2 {post : Int32 → Prop} {nd M : Int32} (h4 : (∀ m, m < 4 → bt M m = true) → post 4) (hm : ∀ m, m < 4 → bt M m = false → (∀ k, k < m → bt M k = true) → post (nI m)) :
    ∀ k i, i + k = 4 → (∀ m, m < i → bt M m = true) → wX_leastMissing_2 post M nd dg sv mv fo vs wm dl cu (k + 1) (nI i) := by
  intro k
  induction k with
  | zero =>
    intro i hi ha
    have e : i = 4 := by omega
    subst e
    exact br_t (nI_le (a := 4) (b := 4) (by omega) (by omega)) (h4 ha)
  | succ k ih =>
    intro i hi ha
    refine br_f (nI_ge (b := 4) (by omega) (by omega)) (br_c (fun z => hm i (by omega) ((zb_bit _ _ (by omega)).mp z) ha) (fun z => nm_r (nI_1 i) (ih (i + 1) (by omega) fun m hm' => ?_)))
    by_cases e : m = i
    · subst e
      exact ts_nf (fun y => z ((zb_bit _ _ (by omega)).mpr y))
    · exact ha m (by omega)
theorem zx_leastMissing {post : Int32 → Prop} {nd M : Int32} (h4 : (∀ m, m < 4 → bt M m = true) → post 4) (hm : ∀ m, m < 4 → bt M m = false → (∀ k, k < m → bt M k = true) → post (nI m)) :
    wpX_leastMissing post (nd, dg, sv, mv, fo, vs, wm, dl, cu) M := ⟨5, zx_lm2 h4 hm 4 0 rfl (fun m hm' => absurd hm' (by omega))⟩
def ga_Rev (L : Nat → Nat → Bool) (V : Nat → Nat) (u m : Nat) : Prop := ∀ v, L u v = true → m < V v → ∃ w, L v w = true ∧ V w = m
theorem zx_ar2 {post : Int32 → Prop} (hK : ga_LN N L) (hF : zx_F fo L) (hVs : zx_V N vs V) (hV : ∀ u, V u ≤ 4) {u m : Nat} (hu : u < 13) (hm : m < 4)
    (h1 : ga_Rev L V u m → post 1) (h0 : ¬ ga_Rev L V u m → post 0) :
    ∀ k i, i + k = N → (∀ v, v < i → L u v = true → m < V v → ∃ w, L v w = true ∧ V w = m) → wX_allRevert_2 post (nI u) (nI m) (nI N) dg sv mv fo vs wm dl cu (k + 1) (nI i) := by
  have hN := hK.1
  intro k
  induction k with
  | zero =>
    intro i hi ha
    exact br_t (nI_le (by omega) (by omega)) (h1 fun v l => ha v (by have := hK.2.1 u v l; omega) l)
  | succ k ih =>
    intro i hi ha
    have ev : vs (nI i).toNatClampNeg = nI (V i) := by rw [nI_clamp (by omega)]; exact hVs i (Or.inl (by omega))
    have h4 := hV i
    have st : (L u i = true → m < V i → ∃ w, L i w = true ∧ V w = m) → wX_allRevert_2 post (nI u) (nI m) (nI N) dg sv mv fo vs wm dl cu (k + 1) (nI (i + 1)) := by
      intro hi2
      refine ih (i + 1) (by omega) fun v hv => ?_
      by_cases e : v = i
      · subst e; exact hi2
      · exact ha v (by omega)
    refine br_f (nI_ge (by omega) (by omega)) (zx_hasLink hF hu (by omega) (fun l => br_f (by decide) ?_) (fun l => br_t rfl (nm_r (nI_1 i) (st fun z => absurd z (by rw [l]; decide)))))
    refine ⟨vp_in_nI (by omega) (by omega), pk_le (V i) m (fun h => nm_r (nI_1 i) (st fun _ z => by omega)) (fun h => ?_) ev rfl⟩
    refine zx_followerValues hK hF hVs hV (by omega) (fun M hM => br_c (fun z => h0 fun hr => ?_) (fun z => nm_r (nI_1 i) (st fun _ _ => ?_)))
    · have hb := (zb_bit _ _ (by omega)).mp z
      rw [(hM m (by omega)).mpr (hr i l h)] at hb
      exact absurd hb (by decide)
    · exact (hM m (by omega)).mp (ts_nf fun y => z ((zb_bit _ _ (by omega)).mpr y))
theorem zx_allRevert {post : Int32 → Prop} (hK : ga_LN N L) (hF : zx_F fo L) (hVs : zx_V N vs V) (hV : ∀ u, V u ≤ 4) {u m : Nat} (hu : u < 13) (hm : m < 4)
    (h1 : ga_Rev L V u m → post 1) (h0 : ¬ ga_Rev L V u m → post 0) : wpX_allRevert post (nI N, dg, sv, mv, fo, vs, wm, dl, cu) (nI u) (nI m) :=
  ⟨N + 1, zx_ar2 hK hF hVs hV hu hm h1 h0 N 0 (by omega) (fun v hv => absurd hv (by omega))⟩
theorem zx_tryLabel {post : Int32 → SX → Prop} (hK : ga_LN N L) (hF : zx_F fo L) (hVs : zx_V N vs V) (hV : ∀ u, V u ≤ 4) {u : Nat} (hu : u < N)
    (h0 : ¬ ga_lab L V u → post 0 (nI N, dg, sv, mv, fo, vs, wm, dl, cu))
    (h1 : ∀ m, m < 4 → ga_can L V u m → post 1 (nI N, dg, sv, mv, fo, upd vs u (nI m), wm, dl, cu)) :
    wpX_tryLabel post (nI N, dg, sv, mv, fo, vs, wm, dl, cu) (nI u) := by
  have hN := hK.1
  unfold wpX_tryLabel
  dsimp only
  refine zx_followerValues hK hF hVs hV (by omega) (fun M hM => ?_)
  refine zx_leastMissing (fun hall => br_t rfl (h0 ?_)) (fun m hm hb hk => br_f ?_ ?_)
  · intro ⟨m, hm, c1, _, _⟩
    obtain ⟨v, lv, ev⟩ := (hM m (by omega)).mp (hall m hm)
    exact c1 v lv ev
  · rw [zb_n4 (by omega)]; omega
  · have c1 : ∀ v, L u v = true → V v ≠ m := by
      intro v lv ev
      rw [(hM m (by omega)).mpr ⟨v, lv, ev⟩] at hb
      exact absurd hb (by decide)
    have c2 : ∀ k, k < m → ∃ v, L u v = true ∧ V v = k := fun k hk' => (hM k (by omega)).mp (hk k hk')
    refine zx_allRevert hK hF hVs hV (by omega) hm (fun hr => br_f (by decide) ⟨vp_in_nI (by omega) (by omega), nm_r (e' := upd vs u (nI m)) ?_ (h1 m hm ⟨c1, c2, hr⟩)⟩) (fun hr => br_t rfl (h0 (ga_can_no c1 c2 hr)))
    rw [nI_clamp (by omega)]
theorem zx_V_upd {u m : Nat} (hVs : zx_V N vs V) : zx_V N (upd vs u (nI m)) (fun x => if x = u then m else V x) := by
  intro x hx
  by_cases e : x = u
  · subst e
    rw [pk_us]
    show nI m = nI (if x = x then m else V x)
    rw [if_pos rfl]
  · rw [pk_un e, hVs x hx]
    show nI (V x) = nI (if x = u then m else V x)
    rw [if_neg e]
theorem zx_ln18 {post : SX → Prop} {J4 : Int32 → Int32 → Int32 → Int32 → Int32 → Int32 → (Nat → Int32) → (Nat → Int32) → (Nat → Int32) → (Nat → Int32) → (Nat → Int32) → Prop} {x2 : Int32} {V0 : Nat → Nat}
    (hK : ga_LN N L) (hF : zx_F fo L)
    (HJ : ∀ x1 vs V, zx_V N vs V → ga_Lab N L V → zx_pass L V0 V x1 N → J4 x1 (x2 + 1) (nI N) dg sv mv fo vs wm dl cu) :
    ∀ k i x1 vs V, i + k = N → zx_V N vs V → ga_Lab N L V → zx_pass L V0 V x1 i → wX_labelNodes_18 post J4 x2 (k + 1) x1 (nI i) (nI N) dg sv mv fo vs wm dl cu := by
  have hN := hK.1
  intro k
  induction k with
  | zero =>
    intro i x1 vs V hi hVs hl hp
    have e : i = N := by omega
    subst e
    exact br_t (nI_le (by omega) (by omega)) (nm_e (HJ x1 vs V hVs hl hp))
  | succ k ih =>
    intro i x1 vs V hi hVs hl hp
    have ev : vs (nI i).toNatClampNeg = nI (V i) := by rw [nI_clamp (by omega)]; exact hVs i (Or.inl (by omega))
    have h4 := hl.1 i
    have st : (V i = 4 → ¬ ga_lab L V i) → zx_pass L V0 V x1 (i + 1) := by
      intro hi2
      rcases hp with ⟨a, b, c⟩ | h
      · refine Or.inl ⟨a, b, fun u hu => ?_⟩
        by_cases e : u = i
        · subst e; exact hi2
        · exact c u (by omega)
      · exact Or.inr h
    refine br_f (nI_ge (by omega) (by omega)) ⟨vp_in_nI (by omega) (by omega), pk_eq (V i) 4 (fun e => ?_) (fun e => nm_r (nI_1 i) (ih (i + 1) x1 vs V (by omega) hVs hl (st fun z => absurd z e))) ev rfl⟩
    refine zx_tryLabel hK hF hVs hl.1 (by omega) (fun hn => br_t rfl (nm_r (nI_1 i) (ih (i + 1) x1 vs V (by omega) hVs hl (st fun _ => hn)))) (fun m hm hc => br_f (by decide) (nm_r (nI_1 i) ?_))
    obtain ⟨hl', hu'⟩ := ga_step (V' := fun x => if x = i then m else V x) hK hl (by omega) e hm hc (if_pos rfl) (fun x hx => if_neg hx)
    refine ih (i + 1) 1 _ _ (by omega) (zx_V_upd hVs) hl' (Or.inr ⟨rfl, ?_⟩)
    rcases hp with ⟨_, b, _⟩ | ⟨_, b⟩
    · rw [← b]; exact hu'
    · omega
theorem zx_ln4 {post : SX → Prop} (hK : ga_LN N L) (hF : zx_F fo L) (HP : ∀ vs V, zx_V N vs V → ga_Good N L V → post (nI N, dg, sv, mv, fo, vs, wm, dl, cu)) :
    ∀ k r x1 vs V, r + k = 12 → zx_V N vs V → ga_Lab N L V → ((x1 = 1 ∧ r + ga_U V ≤ 12) ∨ (x1 = 0 ∧ ∀ u, V u = 4 → ¬ ga_lab L V u)) →
      wX_labelNodes_4 post (k + 1) x1 (nI r) (nI N) dg sv mv fo vs wm dl cu := by
  have hN := hK.1
  intro k
  induction k with
  | zero =>
    intro r x1 vs V hr hVs hl hp
    refine br_t (nI_le (a := 12) (by omega) (by omega)) (HP vs V hVs ⟨hl, ?_⟩)
    rcases hp with ⟨_, h⟩ | ⟨_, h⟩
    · intro u hu
      have hu12 : u < 12 := by
        refine Classical.byContradiction fun hn => ?_
        have := hl.2.1 u (by omega)
        omega
      have : 0 < ga_U V := ga_cnt_pos.mpr ⟨u, hu12, by simp [hu]⟩
      omega
    · exact h
  | succ k ih =>
    intro r x1 vs V hr hVs hl hp
    refine br_f (nI_ge (b := 12) (by omega) (by omega)) ?_
    rcases hp with ⟨e, h⟩ | ⟨e, h⟩
    · subst e
      refine br_f (by decide) ⟨N + 1, zx_ln18 (V0 := V) hK hF ?_ N 0 0 vs V (by omega) hVs hl (Or.inl ⟨rfl, rfl, fun u hu => absurd hu (by omega)⟩)⟩
      intro x1' vs' V' hVs' hl' hp'
      rw [nI_1]
      refine ih (r + 1) x1' vs' V' (by omega) hVs' hl' ?_
      rcases hp' with ⟨a, b, c⟩ | ⟨a, b⟩
      · refine Or.inr ⟨a, fun u hu => c u ?_ hu⟩
        refine Classical.byContradiction fun hn => ?_
        have := hl'.2.1 u (by omega)
        omega
      · exact Or.inl ⟨a, by omega⟩
    · exact br_t e (HP vs V hVs ⟨hl, h⟩)
theorem zx_labelNodes {post : SX → Prop} (hK : ga_LN N L) (hF : zx_F fo L) (hVs : zx_V N vs V) (hl : ga_Lab N L V)
    (HP : ∀ vs V, zx_V N vs V → ga_Good N L V → post (nI N, dg, sv, mv, fo, vs, wm, dl, cu)) : wpX_labelNodes post (nI N, dg, sv, mv, fo, vs, wm, dl, cu) :=
  ⟨13, zx_ln4 hK hF HP 12 0 1 vs V rfl hVs hl (Or.inl ⟨rfl, by have := ga_cnt_le (fun u => decide (V u = 4)) 12; unfold ga_U; omega⟩)⟩
theorem zx_cl2 {post : SX → Prop} {nd : Int32} (HP : ∀ vs dl, (∀ u, u < 12 → vs u = 4 ∧ dl u = -1) → vs 12 = 0 → dl 12 = 0 → post (nd, dg, sv, mv, fo, vs, wm, dl, cu)) :
    ∀ k i vs dl, i + k = 12 → (∀ u, u < i → vs u = 4 ∧ dl u = -1) → wX_clearLabels_2 post nd dg sv mv (k + 1) (nI i) fo vs wm dl cu := by
  intro k
  induction k with
  | zero =>
    intro i vs dl hi ha
    refine br_t (nI_le (a := 12) (by omega) (by omega)) (nm_e (nm_e (HP _ _ (fun u hu => ?_) pk_us pk_us)))
    rw [pk_un (by omega), pk_un (by omega)]
    exact ha u (by omega)
  | succ k ih =>
    intro i vs dl hi ha
    refine br_f (nI_ge (b := 12) (by omega) (by omega)) ⟨vp_in_nI (by omega) (by omega), nm_e ⟨vp_in_nI (by omega) (by omega), nm_e (nm_r (nI_1 i) (ih (i + 1) _ _ (by omega) fun u hu => ?_))⟩⟩
    rw [nI_clamp (by omega)]
    by_cases e : u = i
    · subst e
      exact ⟨pk_us, pk_us⟩
    · rw [pk_un e, pk_un e]
      exact ha u (by omega)
theorem zx_clearLabels {post : SX → Prop} {nd : Int32} (HP : ∀ vs dl, (∀ u, u < 12 → vs u = 4 ∧ dl u = -1) → vs 12 = 0 → dl 12 = 0 → post (nd, dg, sv, mv, fo, vs, wm, dl, cu)) :
    wpX_clearLabels post (nd, dg, sv, mv, fo, vs, wm, dl, cu) := ⟨13, zx_cl2 HP 12 0 vs dl rfl (fun u hu => absurd hu (by omega))⟩
end
end
section
/-! ===== X: win masks, delays, solve ===== -/
def ga_G (L : Nat → Nat → Bool) (V : Nat → Nat) (u j : Nat) : Bool := if V u = 4 then ga_K L V u j else !decide (j = V u)
def zx_W1 (L : Nat → Nat → Bool) (V : Nat → Nat) (x : Int32) (u : Nat) : Prop := ∀ j, j < 32 → bt x j = (decide (j < 4) && ga_G L V u j)
def zx_Dl (N : Nat) (V dd : Nat → Nat) (dl : Nat → Int32) : Prop := ∀ u, u < N ∨ u = 12 → (V u < 4 → dl u = nI (dd u)) ∧ (V u = 4 → dl u = -1)
def zx_S (N : Nat) (L : Nat → Nat → Bool) (V dd : Nat → Nat) (vs wm dl : Nat → Int32) : Prop :=
  zx_V N vs V ∧ (∀ u, u < N ∨ u = 12 → zx_W1 L V (wm u) u) ∧ zx_Dl N V dd dl
section
variable {N : Nat} {dg sv mv : Int32} {fo vs wm dl cu : Nat → Int32} {L : Nat → Nat → Bool} {V : Nat → Nat}
theorem zx_W1_inf (hK : ga_LN N L) {u : Nat} {M : Int32} (h4 : V u = 4) (hM : zx_FV L V u M) : zx_W1 L V (M &&& 15) u := by
  intro j hj
  have e : bt M j = ga_K L V u j := by
    rw [Bool.eq_iff_iff, hM j hj, ga_K_iff hK]
  unfold ga_G
  rw [b_and, zb_b15 j hj, if_pos h4, e, Bool.and_comm]
theorem zx_W1_fin {u : Nat} (h4 : V u < 4) : zx_W1 L V (15 ^^^ ((1 : Int32) <<< (nI (V u) &&& 31))) u := by
  intro j hj
  unfold ga_G
  rw [b_xor, zb_b15 j hj, zb_sh _ (by omega) j hj, if_neg (by omega)]
  by_cases e : j = V u
  · rw [decide_eq_true e, decide_eq_true (by omega)]; rfl
  · rw [decide_eq_false e]
    cases decide (j < 4) <;> rfl
theorem zx_W1_off {u : Nat} (h0 : V u = 0) : zx_W1 L V 14 u := by
  intro j hj
  unfold ga_G
  rw [zb_b14 j hj, if_neg (by omega), h0]
theorem zx_fw2 {post : SX → Prop} (hK : ga_LN N L) (hF : zx_F fo L) (hVs : zx_V N vs V) (hl : ga_Lab N L V)
    (HP : ∀ wm, (∀ u, u < N ∨ u = 12 → zx_W1 L V (wm u) u) → post (nI N, dg, sv, mv, fo, vs, wm, dl, cu)) :
    ∀ k i wm, i + k = N → (∀ u, u < i → zx_W1 L V (wm u) u) → wX_fillWinMasks_2 post (nI N) dg sv mv (k + 1) (nI i) fo vs wm dl cu := by
  have hN := hK.1
  intro k
  induction k with
  | zero =>
    intro i wm hi ha
    refine br_t (nI_le (by omega) (by omega)) (nm_e (HP _ fun u hu => ?_))
    by_cases e : u = 12
    · subst e
      rw [pk_us]
      exact zx_W1_off (hl.2.1 12 (by omega))
    · rw [pk_un e]
      exact ha u (by omega)
  | succ k ih =>
    intro i wm hi ha
    have ev : vs (nI i).toNatClampNeg = nI (V i) := by rw [nI_clamp (by omega)]; exact hVs i (Or.inl (by omega))
    have h4 := hl.1 i
    have st : ∀ x : Int32, zx_W1 L V x i → wX_fillWinMasks_2 post (nI N) dg sv mv (k + 1) (nI (i + 1)) fo vs (upd wm (nI i).toNatClampNeg x) dl cu := by
      intro x hx
      refine ih (i + 1) _ (by omega) fun u hu => ?_
      rw [nI_clamp (by omega)]
      by_cases e : u = i
      · subst e
        rw [pk_us]; exact hx
      · rw [pk_un e]; exact ha u (by omega)
    refine br_f (nI_ge (by omega) (by omega)) ⟨vp_in_nI (by omega) (by omega), pk_eq (V i) 4 (fun e => ?_) (fun e => ?_) ev rfl⟩
    · exact zx_followerValues hK hF hVs hl.1 (by omega) (fun M hM => ⟨vp_in_nI (by omega) (by omega), nm_e (nm_r (nI_1 i) (st _ (zx_W1_inf hK e hM)))⟩)
    · refine ⟨vp_in_nI (by omega) (by omega), vp_in_nI (by omega) (by omega), nm_e (nm_r (nI_1 i) (st _ ?_))⟩
      rw [ev]
      exact zx_W1_fin (by omega)
theorem zx_fillWinMasks {post : SX → Prop} (hK : ga_LN N L) (hF : zx_F fo L) (hVs : zx_V N vs V) (hl : ga_Lab N L V)
    (HP : ∀ wm, (∀ u, u < N ∨ u = 12 → zx_W1 L V (wm u) u) → post (nI N, dg, sv, mv, fo, vs, wm, dl, cu)) :
    wpX_fillWinMasks post (nI N, dg, sv, mv, fo, vs, wm, dl, cu) := ⟨N + 1, zx_fw2 hK hF hVs hl HP N 0 wm (by omega) (fun u hu => absurd hu (by omega))⟩
theorem zx_ha3 {post : Int32 → Prop} {E : Nat → Prop} (hK : ga_LN N L) (hF : zx_F fo L) (hVs : zx_V N vs V) (hV : ∀ u, V u ≤ 4) {v m d : Nat} (hv : v < 13) (hm : m ≤ 4) (hd : d < 900)
    (hD : ∀ w, w < N → ((¬ dl w < 0 ∧ ¬ nI d ≤ dl w) ↔ E w))
    (h1 : (∃ w, L v w = true ∧ V w = m ∧ E w) → post 1) (h0 : ¬ (∃ w, L v w = true ∧ V w = m ∧ E w) → post 0) :
    ∀ k i, i + k = N → (¬ ∃ w, w < i ∧ L v w = true ∧ V w = m ∧ E w) → wX_hasAnswer_3 post (nI v) (nI m) (nI d) (nI N) dg sv mv fo vs wm dl cu (k + 1) (nI i) := by
  have hN := hK.1
  intro k
  induction k with
  | zero =>
    intro i hi ha
    exact br_t (nI_le (by omega) (by omega)) (h0 fun ⟨w, lw, h⟩ => ha ⟨w, by have := hK.2.1 v w lw; omega, lw, h⟩)
  | succ k ih =>
    intro i hi ha
    have ev : vs (nI i).toNatClampNeg = nI (V i) := by rw [nI_clamp (by omega)]; exact hVs i (Or.inl (by omega))
    have ed : dl (nI i).toNatClampNeg = dl i := by rw [nI_clamp (by omega)]
    have h4 := hV i
    have hDi := hD i (by omega)
    have st : ¬ (L v i = true ∧ V i = m ∧ E i) → wX_hasAnswer_3 post (nI v) (nI m) (nI d) (nI N) dg sv mv fo vs wm dl cu (k + 1) (nI (i + 1)) := by
      intro hi2
      refine ih (i + 1) (by omega) fun h => ?_
      rcases ga_ex_s.mp h with h | h
      · exact ha h
      · exact hi2 h
    refine br_f (nI_ge (by omega) (by omega)) (zx_hasLink hF hv (by omega) (fun l => br_f (by decide) ?_) (fun l => br_t rfl (nm_r (nI_1 i) (st fun z => absurd z.1 (by rw [l]; decide)))))
    refine ⟨vp_in_nI (by omega) (by omega), pk_eq (V i) m (fun e => ?_) (fun e => nm_r (nI_1 i) (st fun z => e z.2.1)) ev rfl⟩
    rw [ed]
    refine ⟨vp_in_nI (by omega) (by omega), br_c (fun z => nm_r (nI_1 i) (st fun y => (hDi.mpr y.2.2).1 z)) (fun z => ⟨vp_in_nI (by omega) (by omega), br_c (fun z2 => nm_r (nI_1 i) (st fun y => (hDi.mpr y.2.2).2 z2)) (fun z2 => h1 ⟨i, l, e, hDi.mp ⟨z, z2⟩⟩)⟩)⟩
theorem zx_hasAnswer {post : Int32 → Prop} {E : Nat → Prop} (hK : ga_LN N L) (hF : zx_F fo L) (hVs : zx_V N vs V) (hV : ∀ u, V u ≤ 4) {v m d : Nat} {y : Int32} (hv : v < 13) (hm : m ≤ 4) (hd : d < 900)
    (hy : y = nI m) (hD : ∀ w, w < N → ((¬ dl w < 0 ∧ ¬ nI d ≤ dl w) ↔ E w))
    (h1 : (∃ w, L v w = true ∧ V w = m ∧ E w) → post 1) (h0 : ¬ (∃ w, L v w = true ∧ V w = m ∧ E w) → post 0) :
    wpX_hasAnswer post (nI N, dg, sv, mv, fo, vs, wm, dl, cu) (nI v) y (nI d) := by
  subst hy
  exact ⟨N + 1, zx_ha3 hK hF hVs hV hv hm hd hD h1 h0 N 0 (by omega) (fun ⟨w, hw, _⟩ => absurd hw (by omega))⟩
theorem zx_ta2 {post : Int32 → Prop} {E : Nat → Prop} (hK : ga_LN N L) (hF : zx_F fo L) (hVs : zx_V N vs V) (hV : ∀ u, V u ≤ 4) {u d : Nat} (hu : u < N) (hd : d < 900)
    (hD : ∀ w, w < N → ((¬ dl w < 0 ∧ ¬ nI d ≤ dl w) ↔ E w)) (h1 : ga_T L V E u → post 1) (h0 : ¬ ga_T L V E u → post 0) :
    ∀ k i, i + k = N → (∀ v, v < i → L u v = true → V u < V v → ∃ w, L v w = true ∧ V w = V u ∧ E w) → wX_threatsAnswered_2 post (nI u) (nI d) (nI N) dg sv mv fo vs wm dl cu (k + 1) (nI i) := by
  have hN := hK.1
  intro k
  induction k with
  | zero =>
    intro i hi ha
    exact br_t (nI_le (by omega) (by omega)) (h1 fun v l => ha v (by have := hK.2.1 u v l; omega) l)
  | succ k ih =>
    intro i hi ha
    have ev : vs (nI i).toNatClampNeg = nI (V i) := by rw [nI_clamp (by omega)]; exact hVs i (Or.inl (by omega))
    have eu : vs (nI u).toNatClampNeg = nI (V u) := by rw [nI_clamp (by omega)]; exact hVs u (Or.inl (by omega))
    have h4 := hV i
    have h5 := hV u
    have st : (L u i = true → V u < V i → ∃ w, L i w = true ∧ V w = V u ∧ E w) → wX_threatsAnswered_2 post (nI u) (nI d) (nI N) dg sv mv fo vs wm dl cu (k + 1) (nI (i + 1)) := by
      intro hi2
      refine ih (i + 1) (by omega) fun v hv => ?_
      by_cases e : v = i
      · subst e; exact hi2
      · exact ha v (by omega)
    refine br_f (nI_ge (by omega) (by omega)) (zx_hasLink hF (by omega) (by omega) (fun l => br_f (by decide) ?_) (fun l => br_t rfl (nm_r (nI_1 i) (st fun z => absurd z (by rw [l]; decide)))))
    refine ⟨vp_in_nI (by omega) (by omega), vp_in_nI (by omega) (by omega), pk_le (V i) (V u) (fun h => nm_r (nI_1 i) (st fun _ z => by omega)) (fun h => ⟨vp_in_nI (by omega) (by omega), ?_⟩) ev eu⟩
    exact zx_hasAnswer hK hF hVs hV (by omega) (hV u) hd eu hD (fun hx => br_f (by decide) (nm_r (nI_1 i) (st fun _ _ => hx))) (fun hx => br_t rfl (h0 fun ht => hx (ht i l h)))
theorem zx_threatsAnswered {post : Int32 → Prop} {E : Nat → Prop} (hK : ga_LN N L) (hF : zx_F fo L) (hVs : zx_V N vs V) (hV : ∀ u, V u ≤ 4) {u d : Nat} (hu : u < N) (hd : d < 900)
    (hD : ∀ w, w < N → ((¬ dl w < 0 ∧ ¬ nI d ≤ dl w) ↔ E w)) (h1 : ga_T L V E u → post 1) (h0 : ¬ ga_T L V E u → post 0) :
    wpX_threatsAnswered post (nI N, dg, sv, mv, fo, vs, wm, dl, cu) (nI u) (nI d) :=
  ⟨N + 1, zx_ta2 hK hF hVs hV hu hd hD h1 h0 N 0 (by omega) (fun v hv => absurd hv (by omega))⟩
theorem zx_fd10 {post : SX → Prop} {J2 : Int32 → (Nat → Int32) → (Nat → Int32) → (Nat → Int32) → (Nat → Int32) → (Nat → Int32) → Prop} (hK : ga_LN N L) (hF : zx_F fo L) (hVs : zx_V N vs V) (hV : ∀ u, V u ≤ 4) {d : Nat} (hd : d < 900)
    (HJ : ∀ dl, (∀ u, u < N → ga_D L V (d + 1) dl u) → dl 12 = 0 → J2 (nI (d + 1)) fo vs wm dl cu) :
    ∀ k i dl, i + k = N → (∀ u, u < i → ga_D L V (d + 1) dl u) → (∀ u, i ≤ u → u < N → ga_D L V d dl u) → dl 12 = 0 → wX_fillDelays_10 post J2 (nI d) (nI N) dg sv mv (k + 1) (nI i) fo vs wm dl cu := by
  have hN := hK.1
  intro k
  induction k with
  | zero =>
    intro i dl hi ha hb hz
    exact br_t (nI_le (by omega) (by omega)) (nm_r (nI_1 d) (HJ dl (fun u hu => ha u (by omega)) hz))
  | succ k ih =>
    intro i dl hi ha hb hz
    have ev : vs (nI i).toNatClampNeg = nI (V i) := by rw [nI_clamp (by omega)]; exact hVs i (Or.inl (by omega))
    have ed : dl (nI i).toNatClampNeg = dl i := by rw [nI_clamp (by omega)]
    have h4 := hV i
    have hDi := hb i (by omega) (by omega)
    have st : ga_D L V (d + 1) dl i → wX_fillDelays_10 post J2 (nI d) (nI N) dg sv mv (k + 1) (nI (i + 1)) fo vs wm dl cu := by
      intro hi2
      refine ih (i + 1) dl (by omega) (fun u hu => ?_) (fun u h1 h2 => hb u (by omega) h2) hz
      by_cases e : u = i
      · subst e; exact hi2
      · exact ha u (by omega)
    refine br_f (nI_ge (by omega) (by omega)) ⟨vp_in_nI (by omega) (by omega), pk_eq (V i) 4 (fun e => nm_r (nI_1 i) (st (ga_D_skip1 e hDi))) (fun e => ?_) ev rfl⟩
    rw [ed]
    refine ⟨vp_in_nI (by omega) (by omega), br_c (fun z => nm_r (nI_1 i) (st (ga_D_skip2 hd hDi z))) (fun z => ?_)⟩
    refine zx_threatsAnswered (E := ga_E L V d) hK hF hVs hV (by omega) hd ?_ (fun ht => br_f (by decide) ⟨vp_in_nI (by omega) (by omega), nm_r (e' := upd dl i (nI d)) (by rw [nI_clamp (by omega)]) (nm_r (nI_1 i) ?_)⟩) (fun ht => br_t rfl (nm_r (nI_1 i) (st (ga_D_skip3 hd hDi z ht))))
    · intro w hw
      refine ga_D_read hd ?_
      by_cases e : w < i
      · exact Or.inr (ha w e)
      · exact Or.inl (hb w (by omega) hw)
    · refine ih (i + 1) _ (by omega) (fun u hu => ?_) (fun u h1 h2 => ga_D_congr (pk_un (by omega)) (hb u (by omega) h2)) (by rw [pk_un (by omega)]; exact hz)
      by_cases e : u = i
      · subst e
        exact ga_D_set hd hDi z (by omega) ht pk_us
      · exact ga_D_congr (pk_un e) (ha u (by omega))
theorem zx_fd2 {post : SX → Prop} (hK : ga_LN N L) (hF : zx_F fo L) (hVs : zx_V N vs V) (hV : ∀ u, V u ≤ 4)
    (HP : ∀ dl, (∀ u, u < N → ga_D L V 12 dl u) → dl 12 = 0 → post (nI N, dg, sv, mv, fo, vs, wm, dl, cu)) :
    ∀ k d dl, d + k = 12 → (∀ u, u < N → ga_D L V d dl u) → dl 12 = 0 → wX_fillDelays_2 post (nI N) dg sv mv (k + 1) (nI d) fo vs wm dl cu := by
  intro k
  induction k with
  | zero =>
    intro d dl hi ha hz
    have e : d = 12 := by omega
    subst e
    exact br_t (nI_le (a := 12) (b := 12) (by omega) (by omega)) (HP dl ha hz)
  | succ k ih =>
    intro d dl hi ha hz
    exact br_f (nI_ge (b := 12) (by omega) (by omega)) ⟨N + 1, zx_fd10 hK hF hVs hV (by omega) (fun dl' h1 h2 => ih (d + 1) dl' (by omega) h1 h2) N 0 dl (by omega) (fun u hu => absurd hu (by omega)) (fun u _ hu => ha u hu) hz⟩
theorem zx_fillDelays {post : SX → Prop} (hK : ga_LN N L) (hF : zx_F fo L) (hVs : zx_V N vs V) (hV : ∀ u, V u ≤ 4) (ha : ∀ u, u < N → dl u = -1) (hz : dl 12 = 0)
    (HP : ∀ dl, (∀ u, u < N → ga_D L V 12 dl u) → dl 12 = 0 → post (nI N, dg, sv, mv, fo, vs, wm, dl, cu)) :
    wpX_fillDelays post (nI N, dg, sv, mv, fo, vs, wm, dl, cu) :=
  ⟨13, zx_fd2 hK hF hVs hV HP 12 0 dl rfl (fun u hu => ⟨fun z => z.elim, fun _ => ha u hu⟩) hz⟩
def ga_fin (V : Nat → Nat) (u : Nat) : Bool := !decide (V u = 4)
theorem zx_cf4 {post : Int32 → Prop} (hN : N ≤ 12) (hVs : zx_V N vs V) (hV : ∀ u, V u ≤ 4) (h : post (nI (ga_cnt (ga_fin V) N))) : ∀ k i, i + k = N →
    wX_countFinite_4 post (nI N) dg sv mv fo vs wm dl cu (k + 1) (nI (ga_cnt (ga_fin V) i)) (nI i) := by
  intro k
  induction k with
  | zero =>
    intro i hi
    have e : i = N := by omega
    subst e
    exact br_t (nI_le (by omega) (by omega)) h
  | succ k ih =>
    intro i hi
    have ev : vs (nI i).toNatClampNeg = nI (V i) := by rw [nI_clamp (by omega)]; exact hVs i (Or.inl (by omega))
    have h4 := hV i
    have hi1 := ih (i + 1) (by omega)
    have es : ga_cnt (ga_fin V) (i + 1) = ga_cnt (ga_fin V) i + (if ga_fin V i then 1 else 0) := rfl
    rw [es] at hi1
    refine br_f (nI_ge (by omega) (by omega)) ⟨vp_in_nI (by omega) (by omega), pk_eq (V i) 4 (fun e => nm_r (nI_1 i) ?_) (fun e => nm_r (nI_1 _) (nm_r (nI_1 i) ?_)) ev rfl⟩
    · rw [if_neg (by unfold ga_fin; simp [e])] at hi1
      exact hi1
    · rw [if_pos (by unfold ga_fin; simp [e])] at hi1
      exact hi1
theorem zx_countFinite {post : Int32 → Prop} (hN : N ≤ 12) (hVs : zx_V N vs V) (hV : ∀ u, V u ≤ 4) (h : post (nI (ga_cnt (ga_fin V) N))) :
    wpX_countFinite post (nI N, dg, sv, mv, fo, vs, wm, dl, cu) := ⟨N + 1, zx_cf4 hN hVs hV h N 0 (by omega)⟩
theorem zx_solve1 {post : Int32 → SX → Prop} (hs : ¬ sv = 0) (hN : N ≤ 12) (hVs : zx_V N vs V) (hV : ∀ u, V u ≤ 4)
    (h : post (nI (ga_cnt (ga_fin V) N)) (nI N, dg, sv, mv, fo, vs, wm, dl, cu)) : wpX_solve post (nI N, dg, sv, mv, fo, vs, wm, dl, cu) := by
  unfold wpX_solve
  dsimp only
  refine br_f hs ?_
  unfold wX_solve_28
  exact zx_countFinite hN hVs hV h
theorem zx_solve0 {post : Int32 → SX → Prop} (hs : sv = 0) (hK : ga_LN N L) (hF : zx_F fo L)
    (h : ∀ V dd vs wm dl, ga_Good N L V → ga_DD L V dd → zx_S N L V dd vs wm dl → post (nI (ga_cnt (ga_fin V) N)) (nI N, dg, 1, mv, fo, vs, wm, dl, cu)) :
    wpX_solve post (nI N, dg, sv, mv, fo, vs, wm, dl, cu) := by
  have hN := hK.1
  unfold wpX_solve
  dsimp only
  refine br_t hs ?_
  refine zx_clearLabels (fun vs1 dl1 c1 c2 c3 => ?_)
  dsimp only
  have hv0 : zx_V N vs1 (fun u => if u < N then 4 else 0) := by
    intro u hu
    show vs1 u = nI (if u < N then 4 else 0)
    by_cases e : u < N
    · rw [if_pos e]; exact (c1 u (by omega)).1
    · rw [if_neg e, show u = 12 by omega]; exact c2
  refine zx_labelNodes hK hF hv0 (ga_lab0 hK) (fun vs2 V hVs hg => ?_)
  dsimp only
  refine zx_fillWinMasks hK hF hVs hg.1 (fun wm2 hW => ?_)
  dsimp only
  refine zx_fillDelays hK hF hVs hg.1.1 (fun u hu => (c1 u (by omega)).2) c3 (fun dl2 hD hz => ?_)
  dsimp only
  unfold wX_solve_28
  obtain ⟨dd, hdd⟩ := ga_DD_ex hK hg.1
  refine zx_countFinite hN hVs hg.1.1 (h V dd vs2 wm2 dl2 hg hdd ⟨hVs, hW, fun u hu => ?_⟩)
  by_cases e : u < N
  · exact ga_D_dd hK hg.1 hdd (Nat.le_refl 12) (hD u e)
  · have e2 : u = 12 := by omega
    subst e2
    have hz0 : V 12 = 0 := hg.1.2.1 12 (by omega)
    refine ⟨fun h4 => ?_, fun h4 => by omega⟩
    obtain ⟨_, _, g3⟩ := hdd 12 h4
    have e0 : dd 12 = 0 := by
      refine Classical.byContradiction fun hn => g3 (ga_E_mono (d := 1) (by omega) (Or.inr ⟨h4, fun v l => absurd (hK.2.1 12 v l).1 e⟩))
    rw [hz, e0]
    rfl
end
end
section
/-! ===== Y: readers, marks ===== -/
def zy_F (N : Nat) (lk : Nat → Int32) (L : Nat → Nat → Bool) : Prop := ∀ u v, u < N → v < N → (lk (u * 12 + v) = 0 ↔ L u v = false)
def ga_mv (L : Nat → Nat → Bool) (a b h c t : Nat) : Bool := if c = 0 then L a t else if c = 1 then L b t else decide (t < h)
def ga_af (a b h c t : Nat) : Nat := if c = 0 then t * 52 + b * 4 + h else if c = 1 then a * 52 + t * 4 + h else a * 52 + b * 4 + t
def ga_Qm (L : Nat → Nat → Bool) (ou : Nat → Int32) (a b h : Nat) (q : Int32) (c t : Nat) : Bool := ga_mv L a b h c t && (decide (q = -1) || decide (ou (ga_af a b h c t) = q))
def ga_rows (Q : Nat → Nat → Bool) : Nat → Nat
  | 0 => 0
  | c + 1 => ga_rows Q c + ga_cnt (Q c) 12
theorem zy_lin (u v k : Nat) : nI u * nI k + nI v = nI (u * k + v) := by rw [pk_mul, nI_add]
theorem zy_n01 : (narrow .boolean (.int 0) = .int 0) ∧ (narrow .boolean (.int 1) = .int 1) := ⟨rfl, rfl⟩
section
variable {N : Nat} {dg sv mv : Int32} {lk cu ou lt : Nat → Int32} {L : Nat → Nat → Bool} {V : Nat → Nat}
theorem zy_isNode {post : Int32 → Prop} (hN : N ≤ 12) (p : Int32) (h1 : ∀ j, j < N → p = nI j → post 1) (h0 : (∀ j, j < N → p ≠ nI j) → post 0) :
    wpY_isNode post (nI N, dg, sv, mv, lk, cu, ou, lt) p := by
  refine br_c (fun h => h0 fun j hj e => ?_) (fun h => br_c (fun h2 => h0 fun j hj e => ?_) (fun h2 => ?_))
  · subst e; exact nI_pos (by omega) h
  · subst e; exact nI_ge hj (by omega) h2
  · obtain ⟨j, hj, rfl⟩ := nI_of h
    rw [nI_leI (by omega) hj] at h2
    exact h1 j (by omega) rfl
theorem zy_linkedG {post : Int32 → Prop} (hK : ga_LN N L) (hF : zy_F N lk L) (p q : Int32)
    (h1 : ∀ u v, u < N → v < N → p = nI u → q = nI v → L u v = true → post 1)
    (h0 : (∀ u v, u < N → v < N → p = nI u → q = nI v → L u v = false) → post 0) :
    wpY_linked post (nI N, dg, sv, mv, lk, cu, ou, lt) p q := by
  have hN := hK.1
  unfold wpY_linked
  dsimp only
  refine zy_isNode hN p (fun u hu eu => br_f (by decide) ?_) (fun hn => br_t rfl (h0 fun u v hu hv eu => absurd eu (hn u hu)))
  refine zy_isNode hN q (fun v hv ev => br_f (by decide) ?_) (fun hn => br_t rfl (h0 fun u v hu hv eu ev => absurd ev (hn v hv)))
  subst eu ev
  have ei : nI u * 12 + nI v = nI (u * 12 + v) := zy_lin u v 12
  rw [ei, nI_clamp (by omega)]
  refine ⟨vp_in_nI (by omega) (by omega), br_c (fun z => h0 fun u' v' hu' hv' eu ev => ?_) (fun z => h1 u v hu hv rfl rfl (ts_nf fun y => z ((hF u v hu hv).mpr y)))⟩
  rw [nI_eq (by omega) (by omega)] at eu ev
  subst eu ev
  exact (hF u v hu hv).mp z
theorem zy_linked {post : Int32 → Prop} (hK : ga_LN N L) (hF : zy_F N lk L) {u v : Nat} (hu : u < 100) (hv : v < 100) (h1 : L u v = true → post 1) (h0 : L u v = false → post 0) :
    wpY_linked post (nI N, dg, sv, mv, lk, cu, ou, lt) (nI u) (nI v) := by
  have hN := hK.1
  refine zy_linkedG hK hF _ _ (fun u' v' hu' hv' eu ev l => ?_) (fun hn => h0 ?_)
  · rw [nI_eq (by omega) (by omega)] at eu ev
    subst eu ev
    exact h1 l
  · refine ts_nt fun l => ?_
    have hb := hK.2.1 u v l
    have := hn u v hb.1 hb.2 rfl rfl
    rw [l] at this
    exact absurd this (by decide)
theorem zy_isMoveG {post : Int32 → Prop} (hK : ga_LN N L) (hF : zy_F N lk L) {a b h c : Nat} (ha : a < 13) (hb : b < 13) (hh : h < 4) (hc : c < 3) (p : Int32)
    (h1 : ∀ t, t < 12 → p = nI t → ga_mv L a b h c t = true → post 1) (h0 : (∀ t, t < 12 → p = nI t → ga_mv L a b h c t = false) → post 0) :
    wpY_isMove post (nI N, dg, sv, mv, lk, cu, ou, lt) (nI a) (nI b) (nI h) (nI c) p := by
  have hN := hK.1
  have lnk : ∀ a, a < 13 → (∀ t, t < 12 → p = nI t → L a t = true → post 1) → ((∀ t, t < 12 → p = nI t → L a t = false) → post 0) →
      wpY_linked (fun r => narrow .boolean (.int r) = .int r ∧ post r) (nI N, dg, sv, mv, lk, cu, ou, lt) (nI a) p := by
    intro a ha k1 k0
    refine zy_linkedG hK hF _ _ (fun u v hu hv eu ev l => ⟨rfl, k1 v (by omega) ev ?_⟩) (fun hn => ⟨rfl, k0 fun t ht et => ts_nt fun l => ?_⟩)
    · rw [nI_eq (by omega) (by omega)] at eu
      subst eu
      exact l
    · have hb := hK.2.1 a t l
      have := hn a t hb.1 hb.2 rfl et
      rw [l] at this
      exact absurd this (by decide)
  rcases (by omega : c = 0 ∨ c = 1 ∨ c = 2) with e | e | e
  · subst e
    exact br_t rfl (lnk a ha h1 h0)
  · subst e
    exact br_f (by decide) (br_t rfl (lnk b hb h1 h0))
  · subst e
    refine br_f (by decide) (br_f (by decide) (br_t rfl (br_c (fun z => h0 fun t ht et => ?_) (fun z => br_c (fun z2 => h0 fun t ht et => ?_) (fun z2 => ?_)))))
    · subst et
      exact absurd z (nI_pos (by omega))
    · subst et
      rw [nI_leI (by omega) (by omega)] at z2
      exact decide_eq_false (by omega)
    · obtain ⟨t, ht, rfl⟩ := nI_of z
      rw [nI_leI (by omega) (by omega)] at z2
      exact h1 t (by omega) rfl (decide_eq_true (by omega))
theorem zy_isMove {post : Int32 → Prop} (hK : ga_LN N L) (hF : zy_F N lk L) {a b h c t : Nat} (ha : a < 13) (hb : b < 13) (hh : h < 4) (hc : c < 3) (ht : t < 12)
    (h1 : ga_mv L a b h c t = true → post 1) (h0 : ga_mv L a b h c t = false → post 0) :
    wpY_isMove post (nI N, dg, sv, mv, lk, cu, ou, lt) (nI a) (nI b) (nI h) (nI c) (nI t) := by
  refine zy_isMoveG hK hF ha hb hh hc (nI t) (fun t' ht' e l => ?_) (fun hn => h0 (hn t ht rfl))
  rw [nI_eq (by omega) (by omega)] at e
  subst e
  exact h1 l
theorem zy_after {post : Int32 → Prop} {nd : Int32} {a b h c t : Nat} (hc : c < 3) (hp : post (nI (ga_af a b h c t))) :
    wpY_after post (nd, dg, sv, mv, lk, cu, ou, lt) (nI a) (nI b) (nI h) (nI c) (nI t) := by
  have key : ∀ x y z : Nat, nI x * 52 + nI y * 4 + nI z = nI (x * 52 + y * 4 + z) := by
    intro x y z
    show nI x * nI 52 + nI y * nI 4 + nI z = _
    rw [pk_mul, pk_mul, nI_add, nI_add]
  unfold wpY_after
  dsimp only
  rw [key, key, key]
  rcases (by omega : c = 0 ∨ c = 1 ∨ c = 2) with e | e | e
  · subst e
    exact br_t rfl hp
  · subst e
    exact br_f (by decide) (br_t rfl hp)
  · subst e
    exact br_f (by decide) (br_f (by decide) hp)
theorem ga_af_lt {a b h c t : Nat} (ha : a < 13) (hb : b < 13) (hh : h < 4) (hm : ga_mv L a b h c t = true) (ht : t < 12) : ga_af a b h c t < 676 := by
  unfold ga_af
  unfold ga_mv at hm
  split
  · omega
  · split
    · omega
    · rw [if_neg (by assumption), if_neg (by assumption), decide_eq_true_eq] at hm
      omega
theorem zy_cm15 {post : Int32 → Prop} {J6 : Int32 → Int32 → Prop} (hK : ga_LN N L) (hF : zy_F N lk L) {a b h c base : Nat} {q : Int32} (ha : a < 13) (hb : b < 13) (hh : h < 4) (hc : c < 3)
    (HJ : J6 (nI (base + ga_cnt (ga_Qm L ou a b h q c) 12)) (nI (c + 1))) :
    ∀ k t, t + k = 12 → wY_countMoves_15 post J6 (nI a) (nI b) (nI h) q (nI c) (nI N) dg sv mv lk cu ou lt (k + 1) (nI (base + ga_cnt (ga_Qm L ou a b h q c) t)) (nI t) := by
  intro k
  induction k with
  | zero =>
    intro t ht
    have e : t = 12 := by omega
    subst e
    exact br_t (nI_le (a := 12) (b := 12) (by omega) (by omega)) (nm_r (nI_1 c) HJ)
  | succ k ih =>
    intro t ht
    have hi := ih (t + 1) (by omega)
    have es : ga_cnt (ga_Qm L ou a b h q c) (t + 1) = ga_cnt (ga_Qm L ou a b h q c) t + (if ga_Qm L ou a b h q c t then 1 else 0) := rfl
    rw [es] at hi
    have hT : ga_Qm L ou a b h q c t = true → wY_countMoves_15 post J6 (nI a) (nI b) (nI h) q (nI c) (nI N) dg sv mv lk cu ou lt (k + 1) (nI (base + ga_cnt (ga_Qm L ou a b h q c) t + 1)) (nI (t + 1)) := by
      intro e
      rw [if_pos e, ← Nat.add_assoc] at hi
      exact hi
    have hFf : ga_Qm L ou a b h q c t = false → wY_countMoves_15 post J6 (nI a) (nI b) (nI h) q (nI c) (nI N) dg sv mv lk cu ou lt (k + 1) (nI (base + ga_cnt (ga_Qm L ou a b h q c) t)) (nI (t + 1)) := by
      intro e
      rw [if_neg (by rw [e]; decide), Nat.add_zero] at hi
      exact hi
    refine br_f (nI_ge (b := 12) (by omega) (by omega)) (zy_isMove hK hF ha hb hh hc (by omega) (fun m => br_f (by decide) ?_) (fun m => br_t rfl (nm_r (nI_1 t) (hFf ?_))))
    · have hlt := ga_af_lt ha hb hh m (by omega)
      have ecl : (nI (ga_af a b h c t)).toNatClampNeg = ga_af a b h c t := nI_clamp (by omega)
      refine zy_after hc (br_c (fun z => nm_r (nI_1 _) (nm_r (nI_1 t) (hT ?_))) (fun z => ?_))
      · unfold ga_Qm
        rw [m, decide_eq_true z]; rfl
      · rw [ecl]
        refine ⟨vp_in_nI hlt (by omega), br_c (fun z2 => nm_r (nI_1 _) (nm_r (nI_1 t) (hT ?_))) (fun z2 => nm_r (nI_1 t) (hFf ?_))⟩
        · unfold ga_Qm
          rw [m, decide_eq_true z2, Bool.or_true]; rfl
        · unfold ga_Qm
          rw [decide_eq_false z, decide_eq_false z2, Bool.or_false, Bool.and_false]
    · unfold ga_Qm
      rw [m, Bool.false_and]
theorem zy_cm6 {post : Int32 → Prop} (hK : ga_LN N L) (hF : zy_F N lk L) {a b h : Nat} {q : Int32} (ha : a < 13) (hb : b < 13) (hh : h < 4)
    (hp : post (nI (ga_rows (ga_Qm L ou a b h q) 3))) :
    ∀ k c, c + k = 3 → wY_countMoves_6 post (nI a) (nI b) (nI h) q (nI N) dg sv mv lk cu ou lt (k + 1) (nI (ga_rows (ga_Qm L ou a b h q) c)) (nI c) := by
  intro k
  induction k with
  | zero =>
    intro c hc
    have e : c = 3 := by omega
    subst e
    exact br_t (nI_le (a := 3) (b := 3) (by omega) (by omega)) hp
  | succ k ih =>
    intro c hc
    exact br_f (nI_ge (b := 3) (by omega) (by omega)) ⟨13, zy_cm15 (base := ga_rows (ga_Qm L ou a b h q) c) hK hF ha hb hh (by omega) (ih (c + 1) (by omega)) 12 0 rfl⟩
theorem zy_countMoves {post : Int32 → Prop} (hK : ga_LN N L) (hF : zy_F N lk L) {a b h : Nat} {q : Int32} (ha : a < 13) (hb : b < 13) (hh : h < 4)
    (hp : post (nI (ga_rows (ga_Qm L ou a b h q) 3))) : wpY_countMoves post (nI N, dg, sv, mv, lk, cu, ou, lt) (nI a) (nI b) (nI h) q :=
  ⟨4, zy_cm6 hK hF ha hb hh hp 3 0 rfl⟩
theorem ga_rows3 (Q : Nat → Nat → Bool) : ga_rows Q 3 = ga_cnt (Q 0) 12 + ga_cnt (Q 1) 12 + ga_cnt (Q 2) 12 := by
  show 0 + ga_cnt (Q 0) 12 + ga_cnt (Q 1) 12 + ga_cnt (Q 2) 12 = _
  omega
theorem ga_rows_le (Q : Nat → Nat → Bool) : ga_rows Q 3 ≤ 36 := by
  have h0 := ga_cnt_le (Q 0) 12
  have h1 := ga_cnt_le (Q 1) 12
  have h2 := ga_cnt_le (Q 2) 12
  rw [ga_rows3]
  omega
theorem ga_rows_some (hK : ga_LN N L) {a b h : Nat} (hh : h < 4) : 0 < ga_rows (ga_Qm L ou a b h 0) 3 ↔ ga_some L a b h (fun x y z => ou (ga_ix x y z) = 0) := by
  have e1 : ∀ c t, ga_Qm L ou a b h 0 c t = true ↔ ga_mv L a b h c t = true ∧ ou (ga_af a b h c t) = 0 := by
    intro c t
    unfold ga_Qm
    rw [Bool.and_eq_true, Bool.or_eq_true, decide_eq_true_eq, decide_eq_true_eq]
    exact ⟨fun z => ⟨z.1, z.2.elim (fun y => absurd y (by decide)) id⟩, fun z => ⟨z.1, Or.inr z.2⟩⟩
  have hN := hK.1
  rw [ga_rows3]
  constructor
  · intro hp
    by_cases c0 : 0 < ga_cnt (ga_Qm L ou a b h 0 0) 12
    · obtain ⟨t, _, k⟩ := ga_cnt_pos.mp c0
      exact Or.inl ⟨t, (e1 0 t).mp k⟩
    · by_cases c1 : 0 < ga_cnt (ga_Qm L ou a b h 0 1) 12
      · obtain ⟨t, _, k⟩ := ga_cnt_pos.mp c1
        exact Or.inr (Or.inl ⟨t, (e1 1 t).mp k⟩)
      · obtain ⟨t, _, k⟩ := (ga_cnt_pos (p := ga_Qm L ou a b h 0 2) (n := 12)).mp (by omega)
        have k2 := (e1 2 t).mp k
        exact Or.inr (Or.inr ⟨t, of_decide_eq_true k2.1, k2.2⟩)
  · intro hs
    rcases hs with ⟨t, l, k⟩ | ⟨t, l, k⟩ | ⟨t, l, k⟩
    · have hb := hK.2.1 a t l
      have : 0 < ga_cnt (ga_Qm L ou a b h 0 0) 12 := ga_cnt_pos.mpr ⟨t, by omega, (e1 0 t).mpr ⟨l, k⟩⟩
      omega
    · have hb := hK.2.1 b t l
      have : 0 < ga_cnt (ga_Qm L ou a b h 0 1) 12 := ga_cnt_pos.mpr ⟨t, by omega, (e1 1 t).mpr ⟨l, k⟩⟩
      omega
    · have : 0 < ga_cnt (ga_Qm L ou a b h 0 2) 12 := ga_cnt_pos.mpr ⟨t, by omega, (e1 2 t).mpr ⟨decide_eq_true l, k⟩⟩
      omega
theorem ga_rows_all (hK : ga_LN N L) {a b h : Nat} (hh : h < 4) : ga_rows (ga_Qm L ou a b h 2) 3 = ga_rows (ga_Qm L ou a b h (-1)) 3 ↔ ga_all L a b h (fun x y z => ou (ga_ix x y z) = 2) := by
  have e1 : ∀ c t, ga_Qm L ou a b h 2 c t = true ↔ ga_mv L a b h c t = true ∧ ou (ga_af a b h c t) = 2 := by
    intro c t
    unfold ga_Qm
    rw [Bool.and_eq_true, Bool.or_eq_true, decide_eq_true_eq, decide_eq_true_eq]
    exact ⟨fun z => ⟨z.1, z.2.elim (fun y => absurd y (by decide)) id⟩, fun z => ⟨z.1, Or.inr z.2⟩⟩
  have e2 : ∀ c t, ga_Qm L ou a b h (-1) c t = true ↔ ga_mv L a b h c t = true := by
    intro c t
    unfold ga_Qm
    rw [Bool.and_eq_true, Bool.or_eq_true, decide_eq_true_eq]
    exact ⟨fun z => z.1, fun z => ⟨z, Or.inl rfl⟩⟩
  have hN := hK.1
  have m : ∀ c, ∀ i, i < 12 → ga_Qm L ou a b h 2 c i = true → ga_Qm L ou a b h (-1) c i = true := fun c i _ z => (e2 c i).mpr ((e1 c i).mp z).1
  have l0 := ga_cnt_mono (m 0)
  have l1 := ga_cnt_mono (m 1)
  have l2 := ga_cnt_mono (m 2)
  rw [ga_rows3, ga_rows3]
  constructor
  · intro e
    have q0 := (ga_cnt_eq (m 0)).mp (by omega)
    have q1 := (ga_cnt_eq (m 1)).mp (by omega)
    have q2 := (ga_cnt_eq (m 2)).mp (by omega)
    refine ⟨fun t l => ?_, fun t l => ?_, fun t l => ?_⟩
    · have hb := hK.2.1 a t l
      exact ((e1 0 t).mp (q0 t (by omega) ((e2 0 t).mpr l))).2
    · have hb := hK.2.1 b t l
      exact ((e1 1 t).mp (q1 t (by omega) ((e2 1 t).mpr l))).2
    · exact ((e1 2 t).mp (q2 t (by omega) ((e2 2 t).mpr (decide_eq_true l)))).2
  · intro ⟨k0, k1, k2⟩
    have q0 := (ga_cnt_eq (m 0)).mpr (fun t _ z => (e1 0 t).mpr ⟨(e2 0 t).mp z, k0 t ((e2 0 t).mp z)⟩)
    have q1 := (ga_cnt_eq (m 1)).mpr (fun t _ z => (e1 1 t).mpr ⟨(e2 1 t).mp z, k1 t ((e2 1 t).mp z)⟩)
    have q2 := (ga_cnt_eq (m 2)).mpr (fun t _ z => (e1 2 t).mpr ⟨(e2 2 t).mp z, k2 t (of_decide_eq_true ((e2 2 t).mp z))⟩)
    omega
theorem zy_markFor {post : Int32 → Prop} (hK : ga_LN N L) (hF : zy_F N lk L) {s : Nat} (hs : s < 676)
    (h2 : ga_some L (s / 52) (s / 4 % 13) (s % 4) (fun x y z => ou (ga_ix x y z) = 0) → post 2)
    (h0 : ga_all L (s / 52) (s / 4 % 13) (s % 4) (fun x y z => ou (ga_ix x y z) = 2) → post 0)
    (h1 : ga_Des L ou (s / 52) (s / 4 % 13) (s % 4) → post 1) : wpY_markFor post (nI N, dg, sv, mv, lk, cu, ou, lt) (nI s) := by
  have e1 : nI s / 52 = nI (s / 52) := pk_div (d := 52) (by omega) (by omega) (by omega)
  have e2 : nI s / 4 - nI s / 4 / 13 * 13 = nI (s / 4 % 13) := by
    have e : nI s / 4 = nI (s / 4) := pk_div (d := 4) (by omega) (by omega) (by omega)
    rw [e]
    exact pk_rem (d := 13) (by omega) (by omega) (by omega)
  have e3 : nI s - nI s / 4 * 4 = nI (s % 4) := pk_rem (d := 4) (by omega) (by omega) (by omega)
  have ha : s / 52 < 13 := by omega
  have hb : s / 4 % 13 < 13 := by omega
  have hh : s % 4 < 4 := by omega
  refine ⟨by decide, nm_r e1 ⟨by decide, by decide, nm_r e2 ⟨by decide, nm_r e3 ?_⟩⟩⟩
  generalize s / 52 = a at *
  generalize s / 4 % 13 = b at *
  generalize s % 4 = h at *
  refine zy_countMoves hK hF ha hb hh ?_
  refine pk_le (ga_rows (ga_Qm L ou a b h 0) 3) 0 (fun z => ?_) (fun z => h2 ((ga_rows_some hK hh).mp z)) rfl rfl (by have := ga_rows_le (ga_Qm L ou a b h 0); omega)
  refine zy_countMoves hK hF ha hb hh ?_
  refine zy_countMoves hK hF ha hb hh ?_
  refine pk_eq (ga_rows (ga_Qm L ou a b h 2) 3) (ga_rows (ga_Qm L ou a b h (-1)) 3) (fun z2 => h0 ((ga_rows_all hK hh).mp z2)) (fun z2 => h1 ⟨fun y => ?_, fun y => z2 ((ga_rows_all hK hh).mpr y)⟩) rfl rfl (by have := ga_rows_le (ga_Qm L ou a b h 2); omega) (by have := ga_rows_le (ga_Qm L ou a b h (-1)); omega)
  have := (ga_rows_some hK hh).mpr y
  omega
end
end
section
/-! ===== Y: the marking passes, values, delays, solve ===== -/
def ga_UO (ou : Nat → Int32) : Nat := ga_cnt (fun s => decide (ou s = 1)) 676
def zy_pass (L : Nat → Nat → Bool) (ou0 ou : Nat → Int32) (x1 : Int32) (i : Nat) : Prop :=
  (x1 = 0 ∧ ou = ou0 ∧ ∀ s, s < i → ou s = 1 → ga_Des L ou (s / 52) (s / 4 % 13) (s % 4)) ∨ (x1 = 1 ∧ ga_UO ou < ga_UO ou0)
def zy_Lt (N : Nat) (V dd : Nat → Nat) (lt : Nat → Int32) : Prop := ∀ u, u < N ∨ u = 12 → (V u < 4 → lt u = nI (dd u)) ∧ (V u = 4 → lt u = -1)
section
variable {N : Nat} {dg sv mv : Int32} {lk cu ou lt : Nat → Int32} {L : Nat → Nat → Bool} {V : Nat → Nat}
theorem zy_put {i : Nat} {r : Int32} (hi : i < 676) (hT : ga_Tri ou) (hS : ga_Snd L V ou)
    (hr : (r = 0 ∧ ga_J L V (i / 52) (i / 4 % 13) (i % 4) = 0) ∨ (r = 2 ∧ ga_J L V (i / 52) (i / 4 % 13) (i % 4) = 2)) : ga_Tri (upd ou i r) ∧ ga_Snd L V (upd ou i r) := by
  constructor
  · intro s hs
    by_cases e : s = i
    · subst e
      rw [pk_us]
      rcases hr with ⟨e, _⟩ | ⟨e, _⟩
      · exact Or.inl e
      · exact Or.inr (Or.inr e)
    · rw [pk_un e]; exact hT s hs
  · intro a b h ha hb hh
    by_cases e : ga_ix a b h = i
    · rw [e, pk_us]
      have ea : i / 52 = a := by rw [← e]; unfold ga_ix; omega
      have eb : i / 4 % 13 = b := by rw [← e]; unfold ga_ix; omega
      have eh : i % 4 = h := by rw [← e]; unfold ga_ix; omega
      rw [ea, eb, eh] at hr
      rcases hr with ⟨e1, e2⟩ | ⟨e1, e2⟩
      · subst e1
        exact ⟨fun _ => e2, fun z => absurd z (by decide)⟩
      · subst e1
        exact ⟨fun z => absurd z (by decide), fun _ => e2⟩
    · rw [pk_un e]
      exact hS a b h ha hb hh
theorem zy_UO_lt {i : Nat} {r : Int32} (hi : i < 676) (h1 : ou i = 1) (hr : ¬ r = 1) : ga_UO (upd ou i r) < ga_UO ou := by
  unfold ga_UO
  refine ga_cnt_lt (fun s hs hp => ?_) ⟨i, hi, decide_eq_true h1, decide_eq_false (by rw [pk_us]; exact hr)⟩
  rw [decide_eq_true_eq] at hp ⊢
  by_cases e : s = i
  · subst e; exact h1
  · rw [pk_un e] at hp; exact hp
theorem zy_upd_same {i : Nat} {r : Int32} (h : ou i = r) : upd ou i r = ou := by
  funext s
  by_cases e : s = i
  · subst e
    rw [pk_us]; exact h.symm
  · exact pk_un e
theorem zy_ma41 {post : SY → Prop} {J26 : Int32 → Int32 → (Nat → Int32) → (Nat → Int32) → (Nat → Int32) → (Nat → Int32) → Prop} {p : Nat} {ou0 : Nat → Int32}
    (hK : ga_LN N L) (hF : zy_F N lk L) (hg : ga_Good N L V)
    (HJ : ∀ x1 ou, ga_Tri ou → ga_Snd L V ou → zy_pass L ou0 ou x1 676 → J26 x1 (nI (p + 1)) lk cu ou lt) :
    ∀ k i x1 ou, i + k = 676 → ga_Tri ou → ga_Snd L V ou → zy_pass L ou0 ou x1 i → wY_markAll_41 post J26 (nI p) (nI N) dg sv mv (k + 1) x1 (nI i) lk cu ou lt := by
  intro k
  induction k with
  | zero =>
    intro i x1 ou hi hT hS hp
    have e : i = 676 := by omega
    subst e
    exact br_t (nI_le (a := 676) (b := 676) (by omega) (by omega)) (nm_r (nI_1 p) (HJ x1 ou hT hS hp))
  | succ k ih =>
    intro i x1 ou hi hT hS hp
    have ei : (nI i).toNatClampNeg = i := nI_clamp (by omega)
    have st : (ou i = 1 → ga_Des L ou (i / 52) (i / 4 % 13) (i % 4)) → zy_pass L ou0 ou x1 (i + 1) := by
      intro hi2
      rcases hp with ⟨a, b, c⟩ | h
      · refine Or.inl ⟨a, b, fun s hs => ?_⟩
        by_cases e : s = i
        · subst e; exact hi2
        · exact c s (by omega)
      · exact Or.inr h
    have hle : ga_UO ou ≤ ga_UO ou0 := by
      rcases hp with ⟨_, b, _⟩ | ⟨_, b⟩
      · rw [b]; exact Nat.le_refl _
      · omega
    have set : ∀ r : Int32, ou i = 1 → ¬ r = 1 → ((r = 0 ∧ ga_J L V (i / 52) (i / 4 % 13) (i % 4) = 0) ∨ (r = 2 ∧ ga_J L V (i / 52) (i / 4 % 13) (i % 4) = 2)) →
        wY_markAll_41 post J26 (nI p) (nI N) dg sv mv (k + 1) 1 (nI (i + 1)) lk cu (upd ou i r) lt := by
      intro r h1 hr hj
      obtain ⟨hT', hS'⟩ := zy_put (by omega) hT hS hj
      have := zy_UO_lt (by omega) h1 hr
      exact ih (i + 1) 1 _ (by omega) hT' hS' (Or.inr ⟨rfl, by omega⟩)
    refine br_f (nI_ge (b := 676) (by omega) (by omega)) ⟨vp_in_nI (by omega) (by omega), ?_⟩
    rw [ei]
    refine br_c (fun z => ?_) (fun z => nm_r (nI_1 i) (ih (i + 1) x1 ou (by omega) hT hS (st fun y => absurd y z)))
    refine zy_markFor hK hF (by omega) (fun hs => ⟨vp_in_nI (by omega) (by omega), nm_e ⟨vp_in_nI (by omega) (by omega), br_f ?_ (nm_r (nI_1 i) ?_)⟩⟩) (fun hs => ⟨vp_in_nI (by omega) (by omega), nm_e ⟨vp_in_nI (by omega) (by omega), br_f ?_ (nm_r (nI_1 i) ?_)⟩⟩) (fun hs => ⟨vp_in_nI (by omega) (by omega), nm_r (e' := ou) (zy_upd_same z) ⟨vp_in_nI (by omega) (by omega), br_t z (nm_r (nI_1 i) (ih (i + 1) x1 ou (by omega) hT hS (st fun _ => hs)))⟩⟩)
    · rw [pk_us]; decide
    · exact set 2 z (by decide) (Or.inr ⟨rfl, ga_put2 hK hg hS (by omega) (by omega) (by omega) hs⟩)
    · rw [pk_us]; decide
    · exact set 0 z (by decide) (Or.inl ⟨rfl, ga_put0 hK hg hS (by omega) (by omega) (by omega) hs⟩)
theorem zy_ma26 {post : SY → Prop} (hK : ga_LN N L) (hF : zy_F N lk L) (hg : ga_Good N L V) (HP : ∀ ou, ga_Out L V ou → post (nI N, dg, sv, mv, lk, cu, ou, lt)) :
    ∀ k p x1 ou, p + k = 677 → ga_Tri ou → ga_Snd L V ou → ((x1 = 1 ∧ p + ga_UO ou ≤ 676) ∨ (x1 = 0 ∧ ga_Stb L ou)) → wY_markAll_26 post (nI N) dg sv mv (k + 1) x1 (nI p) lk cu ou lt := by
  intro k
  induction k with
  | zero =>
    intro p x1 ou hi hT hS hp
    refine br_t (nI_lt (a := 676) (by omega) (by omega)) (HP ou (ga_fix hK hg hT hS ?_))
    rcases hp with ⟨_, h⟩ | ⟨_, h⟩
    · omega
    · exact h
  | succ k ih =>
    intro p x1 ou hi hT hS hp
    refine br_f (nI_nlt (a := 676) (by omega) (by omega)) ?_
    rcases hp with ⟨e, h⟩ | ⟨e, h⟩
    · subst e
      refine br_f (by decide) ⟨676 + 1, zy_ma41 (ou0 := ou) hK hF hg ?_ 676 0 0 ou rfl hT hS (Or.inl ⟨rfl, rfl, fun s hs => absurd hs (by omega)⟩)⟩
      intro x1' ou' hT' hS' hp'
      refine ih (p + 1) x1' ou' (by omega) hT' hS' ?_
      rcases hp' with ⟨a, b, c⟩ | ⟨a, b⟩
      · refine Or.inr ⟨a, fun x y z hx hy hz h1 => ?_⟩
        have hd := c (ga_ix x y z) (ga_ix_lt hx hy hz) h1
        rw [show ga_ix x y z / 52 = x by unfold ga_ix; omega, show ga_ix x y z / 4 % 13 = y by unfold ga_ix; omega, show ga_ix x y z % 4 = z by unfold ga_ix; omega] at hd
        exact hd
      · exact Or.inl ⟨a, by omega⟩
    · exact br_t e (HP ou (ga_fix hK hg hT hS h))
theorem zy_ma2 {post : SY → Prop} (hK : ga_LN N L) (hF : zy_F N lk L) (hg : ga_Good N L V) (HP : ∀ ou, ga_Out L V ou → post (nI N, dg, sv, mv, lk, cu, ou, lt)) :
    ∀ k i ou, i + k = 676 → (∀ s, s < i → ou s = 1) → wY_markAll_2 post (nI N) dg sv mv (k + 1) (nI i) lk cu ou lt := by
  intro k
  induction k with
  | zero =>
    intro i ou hi ha
    have h1 : ∀ s, s < 676 → ou s = 1 := fun s hs => ha s (by omega)
    refine br_t (nI_le (a := 676) (by omega) (by omega)) ⟨677 + 1, zy_ma26 hK hF hg HP 677 0 1 ou rfl (fun s hs => Or.inr (Or.inl (h1 s hs))) (fun a b h ha hb hh => ?_) (Or.inl ⟨rfl, ?_⟩)⟩
    · rw [h1 _ (ga_ix_lt ha hb hh)]
      exact ⟨fun z => absurd z (by decide), fun z => absurd z (by decide)⟩
    · have := ga_cnt_le (fun s => decide (ou s = 1)) 676
      unfold ga_UO
      omega
  | succ k ih =>
    intro i ou hi ha
    refine br_f (nI_ge (b := 676) (by omega) (by omega)) ⟨vp_in_nI (by omega) (by omega), nm_e (nm_r (nI_1 i) (ih (i + 1) _ (by omega) fun s hs => ?_))⟩
    rw [nI_clamp (by omega)]
    by_cases e : s = i
    · subst e; exact pk_us
    · rw [pk_un e]; exact ha s (by omega)
theorem zy_markAll {post : SY → Prop} (hK : ga_LN N L) (hF : zy_F N lk L) (hg : ga_Good N L V) (HP : ∀ ou, ga_Out L V ou → post (nI N, dg, sv, mv, lk, cu, ou, lt)) :
    wpY_markAll post (nI N, dg, sv, mv, lk, cu, ou, lt) := ⟨676 + 1, zy_ma2 hK hF hg HP 676 0 ou rfl (fun s hs => absurd hs (by omega))⟩
theorem ga_J_off (hz : V 12 = 0) {u m : Nat} (hm : m < 4) (h4 : V u ≤ 4) : ga_J L V u 12 m = 0 ↔ V u = m := by
  rw [ga_J_0, hz]
  constructor
  · intro ⟨h1, _, h3⟩
    rw [ga_x0 _ (by omega) _ (by omega) _ hm, Nat.zero_xor] at h3
    exact h3
  · intro e
    refine ⟨by omega, by omega, ?_⟩
    rw [e, Nat.xor_zero, Nat.xor_self]
theorem zy_ix12 (u m : Nat) : nI u * 52 + 48 + nI m = nI (ga_ix u 12 m) := by
  show nI u * nI 52 + nI 48 + nI m = _
  rw [pk_mul, nI_add, nI_add]
  rfl
theorem zy_J0 {a b h : Nat} : nI (ga_J L V a b h) = 0 ↔ ga_J L V a b h = 0 := by
  rw [← nI_0]
  have := ga_J_3 (L := L) (V := V) a b h
  exact nI_eq (by omega) (by omega)
theorem zy_J1 {a b h : Nat} : nI (ga_J L V a b h) = 1 ↔ ga_J L V a b h = 1 := by
  have := ga_J_3 (L := L) (V := V) a b h
  exact nI_eq (b := 1) (by omega) (by omega)
theorem zy_J2 {a b h : Nat} : nI (ga_J L V a b h) = 2 ↔ ga_J L V a b h = 2 := by
  have := ga_J_3 (L := L) (V := V) a b h
  exact nI_eq (b := 2) (by omega) (by omega)
theorem zy_vo2 {post : Int32 → Prop} {nd : Int32} (hO : ga_Out L V ou) (hV : ∀ u, V u ≤ 4) (hz : V 12 = 0) {u : Nat} (hu : u < 13) (hp : post (nI (V u))) :
    ∀ k i, i + k = 4 → (∀ m, m < i → V u ≠ m) → wY_valueOf_2 post (nI u) nd dg sv mv lk cu ou lt (k + 1) (nI i) := by
  have h4 := hV u
  intro k
  induction k with
  | zero =>
    intro i hi ha
    have e : V u = 4 := by
      refine Classical.byContradiction fun hn => ha (V u) (by omega) rfl
    rw [e] at hp
    exact br_t (nI_le (a := 4) (by omega) (by omega)) hp
  | succ k ih =>
    intro i hi ha
    refine br_f (nI_ge (b := 4) (by omega) (by omega)) ?_
    have hlt := ga_ix_lt hu (by omega : 12 < 13) (by omega : i < 4)
    rw [zy_ix12, nI_clamp (by omega), hO u 12 i hu (by omega) (by omega)]
    refine ⟨vp_in_nI hlt (by omega), br_c (fun z => ?_) (fun z => nm_r (nI_1 i) (ih (i + 1) (by omega) fun m hm e => ?_))⟩
    · rw [zy_J0, ga_J_off hz (by omega) h4] at z
      rw [z] at hp
      exact hp
    · rw [zy_J0, ga_J_off hz (by omega) h4] at z
      by_cases e2 : m = i
      · subst e2; exact z e
      · exact ha m (by omega) e
theorem zy_valueOf {post : Int32 → Prop} {nd : Int32} (hO : ga_Out L V ou) (hV : ∀ u, V u ≤ 4) (hz : V 12 = 0) {u : Nat} (hu : u < 13) (hp : post (nI (V u))) :
    wpY_valueOf post (nd, dg, sv, mv, lk, cu, ou, lt) (nI u) := ⟨5, zy_vo2 hO hV hz hu hp 4 0 rfl (fun m hm => absurd hm (by omega))⟩
theorem zy_an3 {post : Int32 → Prop} {E : Nat → Prop} (hK : ga_LN N L) (hF : zy_F N lk L) (hO : ga_Out L V ou) (hV : ∀ u, V u ≤ 4) (hz : V 12 = 0) {v m d : Nat} (hv : v < 13) (hm : m ≤ 4)
    (hD : ∀ w, w < N → ((¬ lt w < 0 ∧ ¬ nI d ≤ lt w) ↔ E w))
    (h1 : (∃ w, L v w = true ∧ V w = m ∧ E w) → post 1) (h0 : ¬ (∃ w, L v w = true ∧ V w = m ∧ E w) → post 0) :
    ∀ k i, i + k = N → (¬ ∃ w, w < i ∧ L v w = true ∧ V w = m ∧ E w) → wY_answered_3 post (nI v) (nI m) (nI d) (nI N) dg sv mv lk cu ou lt (k + 1) (nI i) := by
  have hN := hK.1
  intro k
  induction k with
  | zero =>
    intro i hi ha
    exact br_t (nI_le (by omega) (by omega)) (h0 fun ⟨w, lw, h⟩ => ha ⟨w, by have := hK.2.1 v w lw; omega, lw, h⟩)
  | succ k ih =>
    intro i hi ha
    have ed : lt (nI i).toNatClampNeg = lt i := by rw [nI_clamp (by omega)]
    have h4 := hV i
    have hDi := hD i (by omega)
    have st : ¬ (L v i = true ∧ V i = m ∧ E i) → wY_answered_3 post (nI v) (nI m) (nI d) (nI N) dg sv mv lk cu ou lt (k + 1) (nI (i + 1)) := by
      intro hi2
      refine ih (i + 1) (by omega) fun h => ?_
      rcases ga_ex_s.mp h with h | h
      · exact ha h
      · exact hi2 h
    refine br_f (nI_ge (by omega) (by omega)) (zy_linked hK hF (by omega) (by omega) (fun l => br_f (by decide) ?_) (fun l => br_t rfl (nm_r (nI_1 i) (st fun z => absurd z.1 (by rw [l]; decide)))))
    refine zy_valueOf hO hV hz (by omega) (pk_eq (V i) m (fun e => ?_) (fun e => nm_r (nI_1 i) (st fun z => e z.2.1)) rfl rfl)
    rw [ed]
    refine ⟨vp_in_nI (by omega) (by omega), br_c (fun z => nm_r (nI_1 i) (st fun y => (hDi.mpr y.2.2).1 z)) (fun z => ⟨vp_in_nI (by omega) (by omega), br_c (fun z2 => nm_r (nI_1 i) (st fun y => (hDi.mpr y.2.2).2 z2)) (fun z2 => h1 ⟨i, l, e, hDi.mp ⟨z, z2⟩⟩)⟩)⟩
theorem zy_answered {post : Int32 → Prop} {E : Nat → Prop} (hK : ga_LN N L) (hF : zy_F N lk L) (hO : ga_Out L V ou) (hV : ∀ u, V u ≤ 4) (hz : V 12 = 0) {v m d : Nat} (hv : v < 13) (hm : m ≤ 4)
    (hD : ∀ w, w < N → ((¬ lt w < 0 ∧ ¬ nI d ≤ lt w) ↔ E w))
    (h1 : (∃ w, L v w = true ∧ V w = m ∧ E w) → post 1) (h0 : ¬ (∃ w, L v w = true ∧ V w = m ∧ E w) → post 0) :
    wpY_answered post (nI N, dg, sv, mv, lk, cu, ou, lt) (nI v) (nI m) (nI d) :=
  ⟨N + 1, zy_an3 hK hF hO hV hz hv hm hD h1 h0 N 0 (by omega) (fun ⟨w, hw, _⟩ => absurd hw (by omega))⟩
theorem zy_is9 {post : Int32 → Prop} {E : Nat → Prop} (hK : ga_LN N L) (hF : zy_F N lk L) (hO : ga_Out L V ou) (hV : ∀ u, V u ≤ 4) (hz : V 12 = 0) {u d : Nat} (hu : u < 13)
    (hD : ∀ w, w < N → ((¬ lt w < 0 ∧ ¬ nI d ≤ lt w) ↔ E w)) (h1 : ga_T L V E u → post 1) (h0 : ¬ ga_T L V E u → post 0) :
    ∀ k i, i + k = N → (∀ v, v < i → L u v = true → V u < V v → ∃ w, L v w = true ∧ V w = V u ∧ E w) → wY_inS_9 post (nI u) (nI d) (nI (V u)) (nI N) dg sv mv lk cu ou lt (k + 1) (nI i) := by
  have hN := hK.1
  intro k
  induction k with
  | zero =>
    intro i hi ha
    exact br_t (nI_le (by omega) (by omega)) (h1 fun v l => ha v (by have := hK.2.1 u v l; omega) l)
  | succ k ih =>
    intro i hi ha
    have h4 := hV i
    have h5 := hV u
    have st : (L u i = true → V u < V i → ∃ w, L i w = true ∧ V w = V u ∧ E w) → wY_inS_9 post (nI u) (nI d) (nI (V u)) (nI N) dg sv mv lk cu ou lt (k + 1) (nI (i + 1)) := by
      intro hi2
      refine ih (i + 1) (by omega) fun v hv => ?_
      by_cases e : v = i
      · subst e; exact hi2
      · exact ha v (by omega)
    refine br_f (nI_ge (by omega) (by omega)) (zy_linked hK hF (by omega) (by omega) (fun l => br_f (by decide) ?_) (fun l => br_t rfl (nm_r (nI_1 i) (st fun z => absurd z (by rw [l]; decide)))))
    refine zy_valueOf hO hV hz (by omega) (pk_le (V i) (V u) (fun h => nm_r (nI_1 i) (st fun _ z => by omega)) (fun h => ?_) rfl rfl)
    exact zy_answered hK hF hO hV hz (by omega) (hV u) hD (fun hx => br_f (by decide) (nm_r (nI_1 i) (st fun _ _ => hx))) (fun hx => br_t rfl (h0 fun ht => hx (ht i l h)))
theorem zy_inS {post : Int32 → Prop} {E : Nat → Prop} (hK : ga_LN N L) (hF : zy_F N lk L) (hO : ga_Out L V ou) (hV : ∀ u, V u ≤ 4) (hz : V 12 = 0) {u d : Nat} (hu : u < 13)
    (hD : ∀ w, w < N → ((¬ lt w < 0 ∧ ¬ nI d ≤ lt w) ↔ E w)) (h1 : ga_T L V E u → post 1) (h0 : ¬ ga_T L V E u → post 0) :
    wpY_inS post (nI N, dg, sv, mv, lk, cu, ou, lt) (nI u) (nI d) := by
  unfold wpY_inS
  dsimp only
  exact zy_valueOf hO hV hz hu ⟨N + 1, zy_is9 hK hF hO hV hz hu hD h1 h0 N 0 (by omega) (fun v hv => absurd hv (by omega))⟩
theorem zy_fd31 {post : SY → Prop} {J23 : Int32 → (Nat → Int32) → (Nat → Int32) → (Nat → Int32) → (Nat → Int32) → Prop} (hK : ga_LN N L) (hF : zy_F N lk L) (hO : ga_Out L V ou) (hV : ∀ u, V u ≤ 4) (hz : V 12 = 0) {d : Nat} (hd : d < 900)
    (HJ : ∀ lt, (∀ u, u < 13 → ga_D L V (d + 1) lt u) → J23 (nI (d + 1)) lk cu ou lt) :
    ∀ k i lt, i + k = 13 → (∀ u, u < i → ga_D L V (d + 1) lt u) → (∀ u, i ≤ u → u < 13 → ga_D L V d lt u) → wY_findDelays_31 post J23 (nI d) (nI N) dg sv mv (k + 1) (nI i) lk cu ou lt := by
  have hN := hK.1
  intro k
  induction k with
  | zero =>
    intro i lt hi ha hb
    exact br_t (nI_le (a := 13) (by omega) (by omega)) (nm_r (nI_1 d) (HJ lt (fun u hu => ha u (by omega))))
  | succ k ih =>
    intro i lt hi ha hb
    have ed : lt (nI i).toNatClampNeg = lt i := by rw [nI_clamp (by omega)]
    have h4 := hV i
    have hDi := hb i (by omega) (by omega)
    have st : ga_D L V (d + 1) lt i → wY_findDelays_31 post J23 (nI d) (nI N) dg sv mv (k + 1) (nI (i + 1)) lk cu ou lt := by
      intro hi2
      refine ih (i + 1) lt (by omega) (fun u hu => ?_) (fun u h1 h2 => hb u (by omega) h2)
      by_cases e : u = i
      · subst e; exact hi2
      · exact ha u (by omega)
    refine br_f (nI_ge (b := 13) (by omega) (by omega)) ⟨vp_in_nI (by omega) (by omega), ?_⟩
    rw [ed]
    refine br_c (fun z => nm_r (nI_1 i) (st (ga_D_skip2 hd hDi z))) (fun z => ?_)
    refine zy_valueOf hO hV hz (by omega) (pk_eq (V i) 4 (fun e => nm_r (nI_1 i) (st (ga_D_skip1 e hDi))) (fun e => ?_) rfl rfl)
    refine zy_inS (E := ga_E L V d) hK hF hO hV hz (by omega) ?_ (fun ht => br_f (by decide) ⟨vp_in_nI (by omega) (by omega), nm_r (e' := upd lt i (nI d)) (by rw [nI_clamp (by omega)]) (nm_r (nI_1 i) ?_)⟩) (fun ht => br_t rfl (nm_r (nI_1 i) (st (ga_D_skip3 hd hDi z ht))))
    · intro w hw
      refine ga_D_read hd ?_
      by_cases e : w < i
      · exact Or.inr (ha w e)
      · exact Or.inl (hb w (by omega) (by omega))
    · refine ih (i + 1) _ (by omega) (fun u hu => ?_) (fun u h1 h2 => ga_D_congr (pk_un (by omega)) (hb u (by omega) h2))
      by_cases e : u = i
      · subst e
        exact ga_D_set hd hDi z (by omega) ht pk_us
      · exact ga_D_congr (pk_un e) (ha u (by omega))
theorem zy_fd23 {post : SY → Prop} (hK : ga_LN N L) (hF : zy_F N lk L) (hO : ga_Out L V ou) (hV : ∀ u, V u ≤ 4) (hz : V 12 = 0)
    (HP : ∀ lt, (∀ u, u < 13 → ga_D L V 13 lt u) → post (nI N, dg, sv, mv, lk, cu, ou, lt)) :
    ∀ k d lt, d + k = 13 → (∀ u, u < 13 → ga_D L V d lt u) → wY_findDelays_23 post (nI N) dg sv mv (k + 1) (nI d) lk cu ou lt := by
  intro k
  induction k with
  | zero =>
    intro d lt hi ha
    have e : d = 13 := by omega
    subst e
    exact br_t (nI_lt (a := 12) (b := 13) (by omega) (by omega)) (HP lt ha)
  | succ k ih =>
    intro d lt hi ha
    exact br_f (nI_nlt (a := 12) (by omega) (by omega)) ⟨13 + 1, zy_fd31 hK hF hO hV hz (by omega) (fun lt' h1 => ih (d + 1) lt' (by omega) h1) 13 0 lt (by omega) (fun u hu => absurd hu (by omega)) (fun u _ hu => ha u hu)⟩
theorem zy_fd2 {post : SY → Prop} (hK : ga_LN N L) (hF : zy_F N lk L) (hO : ga_Out L V ou) (hV : ∀ u, V u ≤ 4) (hz : V 12 = 0)
    (HP : ∀ lt, (∀ u, u < 13 → ga_D L V 13 lt u) → post (nI N, dg, sv, mv, lk, cu, ou, lt)) :
    ∀ k i lt, i + k = 13 → (∀ u, u < i → lt u = -1) → wY_findDelays_2 post (nI N) dg sv mv (k + 1) (nI i) lk cu ou lt := by
  intro k
  induction k with
  | zero =>
    intro i lt hi ha
    exact br_t (nI_le (a := 13) (by omega) (by omega)) ⟨13 + 1, zy_fd23 hK hF hO hV hz HP 13 0 lt rfl (fun u hu => ⟨fun z => z.elim, fun _ => ha u (by omega)⟩)⟩
  | succ k ih =>
    intro i lt hi ha
    refine br_f (nI_ge (b := 13) (by omega) (by omega)) ⟨vp_in_nI (by omega) (by omega), nm_e (nm_r (nI_1 i) (ih (i + 1) _ (by omega) fun s hs => ?_))⟩
    rw [nI_clamp (by omega)]
    by_cases e : s = i
    · subst e; exact pk_us
    · rw [pk_un e]; exact ha s (by omega)
theorem zy_findDelays {post : SY → Prop} (hK : ga_LN N L) (hF : zy_F N lk L) (hO : ga_Out L V ou) (hV : ∀ u, V u ≤ 4) (hz : V 12 = 0)
    (HP : ∀ lt, (∀ u, u < 13 → ga_D L V 13 lt u) → post (nI N, dg, sv, mv, lk, cu, ou, lt)) : wpY_findDelays post (nI N, dg, sv, mv, lk, cu, ou, lt) :=
  ⟨13 + 1, zy_fd2 hK hF hO hV hz HP 13 0 lt rfl (fun u hu => absurd hu (by omega))⟩
theorem zy_so17 {post : Int32 → SY → Prop} (hN : N ≤ 12) (hO : ga_Out L V ou) (hV : ∀ u, V u ≤ 4) (hz : V 12 = 0)
    (h : post (nI (ga_cnt (ga_fin V) N)) (nI N, dg, sv, mv, lk, cu, ou, lt)) : ∀ k i, i + k = N →
    wY_solve_17 post (nI N) dg sv mv lk cu ou lt (k + 1) (nI (ga_cnt (ga_fin V) i)) (nI i) := by
  intro k
  induction k with
  | zero =>
    intro i hi
    have e : i = N := by omega
    subst e
    exact br_t (nI_le (by omega) (by omega)) h
  | succ k ih =>
    intro i hi
    have h4 := hV i
    have hi1 := ih (i + 1) (by omega)
    have es : ga_cnt (ga_fin V) (i + 1) = ga_cnt (ga_fin V) i + (if ga_fin V i then 1 else 0) := rfl
    rw [es] at hi1
    refine br_f (nI_ge (by omega) (by omega)) (zy_valueOf hO hV hz (by omega) (pk_eq (V i) 4 (fun e => nm_r (nI_1 i) ?_) (fun e => nm_r (nI_1 _) (nm_r (nI_1 i) ?_)) rfl rfl))
    · rw [if_neg (by unfold ga_fin; simp [e])] at hi1
      exact hi1
    · rw [if_pos (by unfold ga_fin; simp [e])] at hi1
      exact hi1
theorem zy_solve {post : Int32 → SY → Prop} {dd : Nat → Nat} (hK : ga_LN N L) (hF : zy_F N lk L) (hg : ga_Good N L V) (hdd : ga_DD L V dd)
    (h : ∀ ou lt, ga_Out L V ou → zy_Lt N V dd lt → post (nI (ga_cnt (ga_fin V) N)) (nI N, dg, 1, mv, lk, cu, ou, lt)) :
    wpY_solve post (nI N, dg, sv, mv, lk, cu, ou, lt) := by
  have hN := hK.1
  have hz : V 12 = 0 := hg.1.2.1 12 (by omega)
  unfold wpY_solve
  dsimp only
  refine zy_markAll hK hF hg (fun ou2 hO => ?_)
  dsimp only
  refine zy_findDelays hK hF hO hg.1.1 hz (fun lt2 hD => ?_)
  dsimp only
  exact ⟨N + 1, zy_so17 hN hO hg.1.1 hz (h ou2 lt2 hO fun u hu => ga_D_dd hK hg.1 hdd (by omega) (hD u (by omega))) N 0 (by omega)⟩
end
end
section
/-! ===== the choice of a move: one pure fold ===== -/
def ga_up (cd : Bool) (code tot s : Nat) : Option (Nat × Nat × Nat) → Option (Nat × Nat × Nat)
  | none => if cd then some (code, tot, s) else none
  | some (c0, t0, s0) => if cd && decide (tot * 64 + s < t0 * 64 + s0) then some (code, tot, s) else some (c0, t0, s0)
def ga_row (cd : Nat → Nat → Bool) (tot sm : Nat → Nat → Nat) (c : Nat) (st : Option (Nat × Nat × Nat)) : Nat → Option (Nat × Nat × Nat)
  | 0 => st
  | t + 1 => ga_up (cd c t) (c * 16 + t) (tot c t) (sm c t) (ga_row cd tot sm c st t)
def ga_best (cd : Nat → Nat → Bool) (tot sm : Nat → Nat → Nat) : Nat → Option (Nat × Nat × Nat)
  | 0 => none
  | c + 1 => ga_row cd tot sm c (ga_best cd tot sm c) 12
def ga_ans (st : Option (Nat × Nat × Nat)) : Int32 := match st with
  | none => -5
  | some (c, _, _) => nI c
theorem ga_up_f {cd : Bool} {code tot s : Nat} (h : cd = false) (st : Option (Nat × Nat × Nat)) : ga_up cd code tot s st = st := by
  subst h
  cases st <;> rfl
theorem ga_up_n {cd : Bool} {code tot s : Nat} (h : cd = true) : ga_up cd code tot s none = some (code, tot, s) := by
  subst h
  rfl
theorem ga_up_l {cd : Bool} {code tot s c0 t0 s0 : Nat} (h : cd = true) (hl : tot * 64 + s < t0 * 64 + s0) : ga_up cd code tot s (some (c0, t0, s0)) = some (code, tot, s) := by
  subst h
  show (if (true && decide (tot * 64 + s < t0 * 64 + s0)) = true then some (code, tot, s) else some (c0, t0, s0)) = some (code, tot, s)
  rw [decide_eq_true hl]
  rfl
theorem ga_up_g {cd : Bool} {code tot s c0 t0 s0 : Nat} (hl : ¬ tot * 64 + s < t0 * 64 + s0) : ga_up cd code tot s (some (c0, t0, s0)) = some (c0, t0, s0) := by
  show (if (cd && decide (tot * 64 + s < t0 * 64 + s0)) = true then some (code, tot, s) else some (c0, t0, s0)) = some (c0, t0, s0)
  rw [decide_eq_false hl, Bool.and_false]
  rfl
theorem ga_row_s (cd : Nat → Nat → Bool) (tot sm : Nat → Nat → Nat) (c : Nat) (st : Option (Nat × Nat × Nat)) (t : Nat) :
    ga_row cd tot sm c st (t + 1) = ga_up (cd c t) (c * 16 + t) (tot c t) (sm c t) (ga_row cd tot sm c st t) := rfl
theorem ga_best_none {cd : Nat → Nat → Bool} {tot sm : Nat → Nat → Nat} (h : ∀ c t, c < 3 → t < 12 → cd c t = false) : ∀ c, c ≤ 3 → ga_best cd tot sm c = none := by
  intro c
  induction c with
  | zero => intro _; rfl
  | succ c ih =>
    intro hc
    have hr : ∀ t, t ≤ 12 → ga_row cd tot sm c (ga_best cd tot sm c) t = none := by
      intro t
      induction t with
      | zero => intro _; exact ih (by omega)
      | succ t iht =>
        intro ht
        rw [ga_row_s, ga_up_f (h c t (by omega) (by omega)), iht (by omega)]
    exact hr 12 (by omega)
section
variable {cd : Nat → Nat → Bool}
theorem ga_row_stay {c x : Nat} {st : Option (Nat × Nat × Nat)} {t : Nat} (h : ga_row cd (fun _ _ => 0) (fun _ _ => 0) c st t = some (x, 0, 0)) :
    ∀ d, ga_row cd (fun _ _ => 0) (fun _ _ => 0) c st (t + d) = some (x, 0, 0) := by
  intro d
  induction d with
  | zero => exact h
  | succ d ih =>
    rw [← Nat.add_assoc, ga_row_s, ih]
    exact ga_up_g (by omega)
theorem ga_best_stay {c x : Nat} (h : ga_best cd (fun _ _ => 0) (fun _ _ => 0) c = some (x, 0, 0)) : ∀ d, ga_best cd (fun _ _ => 0) (fun _ _ => 0) (c + d) = some (x, 0, 0) := by
  intro d
  induction d with
  | zero => exact h
  | succ d ih =>
    show ga_row cd (fun _ _ => 0) (fun _ _ => 0) (c + d) (ga_best cd (fun _ _ => 0) (fun _ _ => 0) (c + d)) 12 = some (x, 0, 0)
    have := ga_row_stay (cd := cd) (c := c + d) (st := ga_best cd (fun _ _ => 0) (fun _ _ => 0) (c + d)) (t := 0) ih 12
    exact this
theorem ga_stay {c t x : Nat} (hc : c < 3) (ht : t ≤ 12) (h : ga_row cd (fun _ _ => 0) (fun _ _ => 0) c (ga_best cd (fun _ _ => 0) (fun _ _ => 0) c) t = some (x, 0, 0)) :
    ga_best cd (fun _ _ => 0) (fun _ _ => 0) 3 = some (x, 0, 0) := by
  have h1 := ga_row_stay h (12 - t)
  rw [show t + (12 - t) = 12 by omega] at h1
  have h2 := ga_best_stay (c := c + 1) h1 (3 - (c + 1))
  rw [show c + 1 + (3 - (c + 1)) = 3 by omega] at h2
  exact h2
end
def ga_Ja (L : Nat → Nat → Bool) (V : Nat → Nat) (a b h c t : Nat) : Nat := if c = 0 then ga_J L V t b h else if c = 1 then ga_J L V a t h else ga_J L V a b t
def ga_tot (V : Nat → Nat) (a b h c t : Nat) : Nat := if c = 0 then V t + V b + h else if c = 1 then V a + V t + h else V a + V b + t
def ga_sum (dd : Nat → Nat) (a b c t : Nat) : Nat := if c = 0 then dd t + dd b else if c = 1 then dd a + dd t else dd a + dd b
/-- which moves are looked at when the outcome is now, and by which key -/
def ga_cd (L : Nat → Nat → Bool) (V : Nat → Nat) (a b h now c t : Nat) : Bool :=
  ga_mv L a b h c t && (if now = 2 then decide (ga_Ja L V a b h c t = 0) else if now = 1 then decide (ga_Ja L V a b h c t = 1) else true)
def ga_fT (V : Nat → Nat) (a b h now : Nat) : Nat → Nat → Nat := if now = 2 then ga_tot V a b h else fun _ _ => 0
def ga_fS (dd : Nat → Nat) (a b now : Nat) : Nat → Nat → Nat := if now = 2 then ga_sum dd a b else fun _ _ => 0
def ga_choice (L : Nat → Nat → Bool) (V dd : Nat → Nat) (a b h : Nat) : Int32 :=
  ga_ans (ga_best (ga_cd L V a b h (ga_J L V a b h)) (ga_fT V a b h (ga_J L V a b h)) (ga_fS dd a b (ga_J L V a b h)) 3)
def zx_R (st : Option (Nat × Nat × Nat)) (x1 x2 : Int32) : Prop :=
  (st = none ∧ x1 = -5) ∨ ∃ c t s, c < 48 ∧ t < 16 ∧ s < 64 ∧ st = some (c, t, s) ∧ x1 = nI c ∧ x2 = nI (t * 64 + s)
def zy_R (st : Option (Nat × Nat × Nat)) (x2 x3 : Int32) : Prop :=
  (st = none ∧ x2 = -5 ∧ x3 = nI 1000000) ∨ ∃ c t s, c < 48 ∧ t < 16 ∧ s < 64 ∧ st = some (c, t, s) ∧ x2 = nI c ∧ x3 = nI (t * 1000 + s)
theorem ga_n5 : ∀ c, c < 48 → ¬ nI c = -5 := by decide +kernel
theorem zx_R_ans {st : Option (Nat × Nat × Nat)} {x1 x2 : Int32} (h : zx_R st x1 x2) : x1 = ga_ans st := by
  rcases h with ⟨e, h⟩ | ⟨c, t, s, _, _, _, e, h, _⟩
  · rw [e]; exact h
  · rw [e]; exact h
theorem zy_R_ans {st : Option (Nat × Nat × Nat)} {x2 x3 : Int32} (h : zy_R st x2 x3) : x2 = ga_ans st := by
  rcases h with ⟨e, h, _⟩ | ⟨c, t, s, _, _, _, e, h, _⟩
  · rw [e]; exact h
  · rw [e]; exact h
/-- the keys order alike -/
theorem ga_keys {t s t0 s0 : Nat} (hs : s < 64) (hs0 : s0 < 64) : t * 64 + s < t0 * 64 + s0 ↔ t * 1000 + s < t0 * 1000 + s0 := by
  rcases Nat.lt_trichotomy t t0 with h | h | h <;> omega
section
variable {N : Nat} {L : Nat → Nat → Bool} {V dd : Nat → Nat} {a b h : Nat}
theorem ga_rows_mv (hK : ga_LN N L) (hh : h < 4) : ga_rows (ga_mv L a b h) 3 = ga_cnt (L a) 12 + ga_cnt (L b) 12 + h := by
  rw [ga_rows3]
  have e : ga_cnt (ga_mv L a b h 2) 12 = h := ga_cnt_id (n := 12) (k := h) (by omega)
  rw [e]
  rfl
theorem ga_rows_m1 {ou : Nat → Int32} : ga_rows (ga_Qm L ou a b h (-1)) 3 = ga_rows (ga_mv L a b h) 3 := by
  have e : ∀ c, ga_cnt (ga_Qm L ou a b h (-1) c) 12 = ga_cnt (ga_mv L a b h c) 12 := by
    intro c
    refine ga_cnt_congr fun t _ => ?_
    unfold ga_Qm
    rw [decide_eq_true rfl, Bool.true_or, Bool.and_true]
  rw [ga_rows3, ga_rows3, e, e, e]
theorem ga_mv0 (hm : ga_rows (ga_mv L a b h) 3 = 0) : ∀ c t, c < 3 → t < 12 → ga_mv L a b h c t = false := by
  intro c t hc ht
  rw [ga_rows3] at hm
  refine ts_nt fun l => ?_
  have : 0 < ga_cnt (ga_mv L a b h c) 12 := ga_cnt_pos.mpr ⟨t, ht, l⟩
  rcases (by omega : c = 0 ∨ c = 1 ∨ c = 2) with e | e | e
  · subst e; omega
  · subst e; omega
  · subst e; omega
theorem ga_af_Ja {ou : Nat → Int32} (hK : ga_LN N L) (hO : ga_Out L V ou) {c t : Nat} (ha : a < 13) (hb : b < 13) (hh : h < 4) (ht : t < 12) (hm : ga_mv L a b h c t = true) :
    ou (ga_af a b h c t) = nI (ga_Ja L V a b h c t) := by
  unfold ga_af ga_Ja
  unfold ga_mv at hm
  split
  · exact hO t b h (by omega) hb hh
  · split
    · exact hO a t h ha (by omega) hh
    · rw [if_neg (by assumption), if_neg (by assumption), decide_eq_true_eq] at hm
      exact hO a b t ha hb (by omega)
theorem ga_Ja_3 (c t : Nat) : ga_Ja L V a b h c t = 0 ∨ ga_Ja L V a b h c t = 1 ∨ ga_Ja L V a b h c t = 2 := by
  unfold ga_Ja
  split
  · exact ga_J_3 _ _ _
  · split
    · exact ga_J_3 _ _ _
    · exact ga_J_3 _ _ _
theorem ga_tot_lt (hV : ∀ u, V u ≤ 4) {c t : Nat} (hh : h < 4) (hm : ga_mv L a b h c t = true) : ga_tot V a b h c t < 16 := by
  have h1 := hV a
  have h2 := hV b
  have h3 := hV t
  unfold ga_tot
  unfold ga_mv at hm
  split
  · omega
  · split
    · omega
    · rw [if_neg (by assumption), if_neg (by assumption), decide_eq_true_eq] at hm
      omega
theorem ga_sum_lt (hV : ∀ u, V u ≤ 4) (hd : ga_DD L V dd) {c t : Nat} (hJ : ga_Ja L V a b h c t = 0) : ga_sum dd a b c t < 64 := by
  have k : ∀ u, V u ≠ 4 → dd u < 12 := by
    intro u hu
    have := hV u
    exact (hd u (by omega)).1
  unfold ga_Ja at hJ
  unfold ga_sum
  split
  · rw [if_pos (by assumption)] at hJ
    obtain ⟨h1, h2, _⟩ := ga_J_0.mp hJ
    have := k _ h1
    have := k _ h2
    omega
  · rw [if_neg (by assumption)] at hJ
    split
    · rw [if_pos (by assumption)] at hJ
      obtain ⟨h1, h2, _⟩ := ga_J_0.mp hJ
      have := k _ h1
      have := k _ h2
      omega
    · rw [if_neg (by assumption)] at hJ
      obtain ⟨h1, h2, _⟩ := ga_J_0.mp hJ
      have := k _ h1
      have := k _ h2
      omega
end
end
section
/-! ===== X: queries on a solved state, the choice of a move ===== -/
def ga_pl (N u : Nat) : Prop := u < N ∨ u = 12
def ga_cu (N : Nat) (cu : Nat → Int32) (a b h : Nat) : Prop := ga_pl N a ∧ ga_pl N b ∧ h < 4 ∧ cu 0 = nI a ∧ cu 1 = nI b ∧ cu 2 = nI h
section
variable {N : Nat} {dg sv mv : Int32} {fo vs wm dl cu : Nat → Int32} {L : Nat → Nat → Bool} {V dd : Nat → Nat} {a b h : Nat}
theorem ga_pl13 (hN : N ≤ 12) {u : Nat} (h : ga_pl N u) : u < 13 := by
  rcases h with h | h <;> omega
theorem zx_isPlace {post : Int32 → Prop} (hN : N ≤ 12) (p : Int32) (h1 : ∀ j, ga_pl N j → p = nI j → post 1) (h0 : (∀ j, ga_pl N j → p ≠ nI j) → post 0) :
    wpX_isPlace post (nI N, dg, sv, mv, fo, vs, wm, dl, cu) p := by
  unfold wpX_isPlace
  dsimp only
  refine br_c (fun z => h1 12 (Or.inr rfl) z) (fun z => ?_)
  refine zx_isNode hN p (fun j hj e => br_f (by decide) (h1 j (Or.inl hj) e)) (fun hn => br_t rfl (h0 fun j hj e => ?_))
  rcases hj with hj | hj
  · exact hn j hj e
  · subst hj; exact z e
theorem zx_jInf {post : Int32 → Prop} {nd : Int32} {u x : Nat} (hu : u < 13) (hx : x < 4) (h4 : V u = 4) (hW : zx_W1 L V (wm u) u)
    (h2 : ga_K L V u x = true → post 2) (h1 : ¬ ga_K L V u x = true → post 1) : wpX_judgeInfinite post (nd, dg, sv, mv, fo, vs, wm, dl, cu) (nI u) (nI x) := by
  refine ⟨vp_in_nI hu (by omega), ?_⟩
  have e : bt (wm u) x = ga_K L V u x := by
    rw [hW x (by omega), decide_eq_true hx, Bool.true_and]
    exact if_pos h4
  rw [nI_clamp (by omega), zb_bit _ _ (by omega), e]
  exact ⟨fun z => h1 (by rw [z]; decide), fun z => h2 (ts_nf z)⟩
theorem zx_j30 {post : Int32 → Prop} (hN : N ≤ 12) (hV : ∀ u, V u ≤ 4) (hX : zx_S N L V dd vs wm dl) (pa : ga_pl N a) (pb : ga_pl N b) (hh : h < 4) (hne : ¬ (V a = 4 ∧ V b = 4))
    (hp : post (nI (ga_J L V a b h))) : wX_judge_30 post (nI a) (nI b) (nI h) (nI (V a)) (nI (V b)) (nI N) dg sv mv fo vs wm dl cu := by
  have h1 := hV a
  have h2 := hV b
  unfold wX_judge_30
  rw [nx_xor, nx_xor, nx_xor, nx_xor]
  refine pk_eq (V a) 4 (fun ea => ?_) (fun ea => ?_) rfl rfl
  · have eb : V b ≠ 4 := fun e => hne ⟨ea, e⟩
    refine zx_jInf (L := L) (ga_pl13 hN pa) (ga_xlt _ (by omega) _ hh) ea (hX.2.1 a pa) (fun k => ?_) (fun k => ?_)
    · rw [ga_J_2.mpr (Or.inl ⟨ea, eb, k⟩)] at hp
      exact hp
    · rw [ga_J_1.mpr (Or.inr (Or.inl ⟨ea, eb, k⟩))] at hp
      exact hp
  · refine pk_eq (V b) 4 (fun eb => ?_) (fun eb => ?_) rfl rfl
    · refine zx_jInf (L := L) (ga_pl13 hN pb) (ga_xlt _ (by omega) _ hh) eb (hX.2.1 b pb) (fun k => ?_) (fun k => ?_)
      · rw [ga_J_2.mpr (Or.inr (Or.inl ⟨ea, eb, k⟩))] at hp
        exact hp
      · rw [ga_J_1.mpr (Or.inr (Or.inr ⟨ea, eb, k⟩))] at hp
        exact hp
    · have hx : V a ^^^ V b ^^^ h < 4 := ga_xlt _ (ga_xlt _ (by omega) _ (by omega)) _ hh
      refine pk_eq (V a ^^^ V b ^^^ h) 0 (fun k => ?_) (fun k => ?_) rfl rfl
      · rw [ga_J_0.mpr ⟨ea, eb, k⟩] at hp
        exact hp
      · rw [ga_J_2.mpr (Or.inr (Or.inr ⟨ea, eb, k⟩))] at hp
        exact hp
theorem zx_judge {post : Int32 → Prop} (hN : N ≤ 12) (hV : ∀ u, V u ≤ 4) (hX : zx_S N L V dd vs wm dl) (pa : ga_pl N a) (pb : ga_pl N b) (hh : h < 4)
    (hp : post (nI (ga_J L V a b h))) : wpX_judge post (nI N, dg, sv, mv, fo, vs, wm, dl, cu) (nI a) (nI b) (nI h) := by
  have h1 := hV a
  have h2 := hV b
  have a13 := ga_pl13 hN pa
  have b13 := ga_pl13 hN pb
  have ea : vs (nI a).toNatClampNeg = nI (V a) := by rw [nI_clamp (by omega)]; exact hX.1 a pa
  have eb : vs (nI b).toNatClampNeg = nI (V b) := by rw [nI_clamp (by omega)]; exact hX.1 b pb
  refine ⟨vp_in_nI a13 (by omega), nm_r ea ⟨vp_in_nI b13 (by omega), nm_r eb ?_⟩⟩
  refine pk_eq (V a) 4 (fun e => pk_eq (V b) 4 (fun e2 => ?_) (fun e2 => ?_) rfl rfl) (fun e => ?_) rfl rfl
  · rw [ga_J_1.mpr (Or.inl ⟨e, e2⟩)] at hp
    exact hp
  · exact zx_j30 hN hV hX pa pb hh (fun z => e2 z.2) hp
  · exact zx_j30 hN hV hX pa pb hh (fun z => e z.1) hp
theorem zx_isMoveG {post : Int32 → Prop} (hK : ga_LN N L) (hF : zx_F fo L) (hc3 : ga_cu N cu a b h) {c : Nat} (hc : c < 3) (p : Int32)
    (h1 : ∀ t, t < 12 → p = nI t → ga_mv L a b h c t = true → post 1) (h0 : (∀ t, t < 12 → p = nI t → ga_mv L a b h c t = false) → post 0) :
    wpX_isMove post (nI N, dg, sv, mv, fo, vs, wm, dl, cu) (nI c) p := by
  have hN := hK.1
  obtain ⟨pa, pb, hh, e0, e1, e2⟩ := hc3
  have lnk : ∀ x, x < 13 → (∀ t, t < 12 → p = nI t → L x t = true → post 1) → ((∀ t, t < 12 → p = nI t → L x t = false) → post 0) → vp_in (nI c) 3 → cu (nI c).toNatClampNeg = nI x →
      wpX_isNode (fun r_2 => ((r_2 = 0 → post 0) ∧ (¬ r_2 = 0 → (vp_in (nI c) 3 ∧ wpX_hasLink (fun r_14 => ((r_14 = 0 → post 0) ∧ (¬ r_14 = 0 → post 1))) (nI N, dg, sv, mv, fo, vs, wm, dl, cu) (cu (nI c).toNatClampNeg) p)))) (nI N, dg, sv, mv, fo, vs, wm, dl, cu) p := by
    intro x hx k1 k0 hv ec
    refine zx_isNode hN p (fun j hj ej => br_f (by decide) ⟨hv, ?_⟩) (fun hn => br_t rfl (k0 fun t ht et => ts_nt fun l => hn t (hK.2.1 x t l).2 et))
    rw [ec, ej]
    refine zx_hasLink hF hx (by omega) (fun l => br_f (by decide) (k1 j (by omega) ej l)) (fun l => br_t rfl (k0 fun t ht et => ?_))
    rw [ej, nI_eq (by omega) (by omega)] at et
    subst et
    exact l
  unfold wpX_isMove
  dsimp only
  rcases (by omega : c = 0 ∨ c = 1 ∨ c = 2) with e | e | e
  · subst e
    exact br_f (by decide) (lnk a (ga_pl13 hN pa) h1 h0 (vp_in_nI (by omega) (by omega)) e0)
  · subst e
    exact br_f (by decide) (lnk b (ga_pl13 hN pb) h1 h0 (vp_in_nI (by omega) (by omega)) e1)
  · subst e
    rw [e2]
    refine br_t rfl (br_c (fun z => h0 fun t ht et => ?_) (fun z => br_c (fun z2 => h0 fun t ht et => ?_) (fun z2 => ?_)))
    · subst et
      exact absurd z (nI_pos (by omega))
    · subst et
      rw [nI_leI (by omega) (by omega)] at z2
      exact decide_eq_false (by omega)
    · obtain ⟨t, ht, rfl⟩ := nI_of z
      rw [nI_leI (by omega) (by omega)] at z2
      exact h1 t (by omega) rfl (decide_eq_true (by omega))
theorem zx_isMove {post : Int32 → Prop} (hK : ga_LN N L) (hF : zx_F fo L) (hc3 : ga_cu N cu a b h) {c t : Nat} (hc : c < 3) (ht : t < 12)
    (h1 : ga_mv L a b h c t = true → post 1) (h0 : ga_mv L a b h c t = false → post 0) : wpX_isMove post (nI N, dg, sv, mv, fo, vs, wm, dl, cu) (nI c) (nI t) := by
  refine zx_isMoveG hK hF hc3 hc (nI t) (fun t' ht' e l => ?_) (fun hn => h0 (hn t ht rfl))
  rw [nI_eq (by omega) (by omega)] at e
  subst e
  exact h1 l
theorem zx_ca_e {post : Int32 → Prop} {nd x t : Int32} (hp : post t) : wpX_componentAfter post (nd, dg, sv, mv, fo, vs, wm, dl, cu) x x t := br_t rfl hp
theorem zx_ca_n {post : Int32 → Prop} {nd y t : Int32} {k : Nat} (hk : k < 3) (hne : ¬ nI k = y) (hp : post (cu k)) : wpX_componentAfter post (nd, dg, sv, mv, fo, vs, wm, dl, cu) (nI k) y t := by
  refine br_f hne ⟨vp_in_nI hk (by omega), ?_⟩
  rw [nI_clamp (by omega)]
  exact hp
theorem zx_outcomeAfter {post : Int32 → Prop} (hK : ga_LN N L) (hV : ∀ u, V u ≤ 4) (hX : zx_S N L V dd vs wm dl) (hc3 : ga_cu N cu a b h) {c t : Nat} (hc : c < 3) (hm : ga_mv L a b h c t = true)
    (hp : post (nI (ga_Ja L V a b h c t))) : wpX_outcomeAfter post (nI N, dg, sv, mv, fo, vs, wm, dl, cu) (nI c) (nI t) := by
  have hN := hK.1
  obtain ⟨pa, pb, hh, e0, e1, e2⟩ := hc3
  unfold wpX_outcomeAfter
  dsimp only
  rcases (by omega : c = 0 ∨ c = 1 ∨ c = 2) with e | e | e
  · subst e
    refine zx_ca_e (zx_ca_n (k := 1) (by omega) (by decide) (zx_ca_n (k := 2) (by omega) (by decide) ?_))
    rw [e1, e2]
    exact zx_judge hN hV hX (Or.inl (hK.2.1 a t hm).2) pb hh hp
  · subst e
    refine zx_ca_n (k := 0) (by omega) (by decide) (zx_ca_e (zx_ca_n (k := 2) (by omega) (by decide) ?_))
    rw [e0, e2]
    exact zx_judge hN hV hX pa (Or.inl (hK.2.1 b t hm).2) hh hp
  · subst e
    have ht : t < h := of_decide_eq_true hm
    refine zx_ca_n (k := 0) (by omega) (by decide) (zx_ca_n (k := 1) (by omega) (by decide) (zx_ca_e ?_))
    rw [e0, e1]
    exact zx_judge hN hV hX pa pb (by omega) hp
theorem zx_rank0 {post : Int32 → Prop} (hN : N ≤ 12) (hX : zx_S N L V dd vs wm dl) {x y z : Nat} (px : ga_pl N x) (py : ga_pl N y) (fx : V x < 4) (fy : V y < 4)
    (hp : post (nI ((V x + V y + z) * 64 + (dd x + dd y)))) :
    vp_in (nI x) 13 ∧ (vp_in (nI y) 13 ∧ (∀ w : Int32, w = (vs (nI x).toNatClampNeg + vs (nI y).toNatClampNeg) + nI z → (vp_in (nI x) 13 ∧ (vp_in (nI y) 13 ∧ post (((w * 64) + dl (nI x).toNatClampNeg) + dl (nI y).toNatClampNeg))))) := by
  have x13 := ga_pl13 hN px
  have y13 := ga_pl13 hN py
  have cx : (nI x).toNatClampNeg = x := nI_clamp (by omega)
  have cy : (nI y).toNatClampNeg = y := nI_clamp (by omega)
  have vx : vp_in (nI x) 13 := vp_in_nI x13 (by omega)
  have vy : vp_in (nI y) 13 := vp_in_nI y13 (by omega)
  rw [cx, cy, hX.1 x px, hX.1 y py, (hX.2.2 x px).1 fx, (hX.2.2 y py).1 fy]
  refine ⟨vx, vy, nm_r (e' := nI (V x + V y + z)) (by rw [nI_add, nI_add]) ⟨vx, vy, ?_⟩⟩
  have e : nI (V x + V y + z) * 64 + nI (dd x) + nI (dd y) = nI ((V x + V y + z) * 64 + (dd x + dd y)) := by
    show nI (V x + V y + z) * nI 64 + nI (dd x) + nI (dd y) = _
    rw [pk_mul, nI_add, nI_add, Nat.add_assoc]
  rw [e]
  exact hp
theorem zx_rankAfter {post : Int32 → Prop} (hK : ga_LN N L) (hV : ∀ u, V u ≤ 4) (hX : zx_S N L V dd vs wm dl) (hc3 : ga_cu N cu a b h) {c t : Nat} (hc : c < 3) (hm : ga_mv L a b h c t = true)
    (hJ : ga_Ja L V a b h c t = 0) (hp : post (nI (ga_tot V a b h c t * 64 + ga_sum dd a b c t))) : wpX_rankAfter post (nI N, dg, sv, mv, fo, vs, wm, dl, cu) (nI c) (nI t) := by
  have hN := hK.1
  obtain ⟨pa, pb, hh, e0, e1, e2⟩ := hc3
  have fin : ∀ u, V u ≠ 4 → V u < 4 := by
    intro u hu
    have := hV u
    omega
  unfold wpX_rankAfter
  dsimp only
  rcases (by omega : c = 0 ∨ c = 1 ∨ c = 2) with e | e | e
  · subst e
    have hJ' : ga_J L V t b h = 0 := hJ
    obtain ⟨j1, j2, _⟩ := ga_J_0.mp hJ'
    refine zx_ca_e (zx_ca_n (k := 1) (by omega) (by decide) (zx_ca_n (k := 2) (by omega) (by decide) ?_))
    rw [e1, e2]
    exact zx_rank0 hN hX (Or.inl (hK.2.1 a t hm).2) pb (fin _ j1) (fin _ j2) hp
  · subst e
    have hJ' : ga_J L V a t h = 0 := hJ
    obtain ⟨j1, j2, _⟩ := ga_J_0.mp hJ'
    refine zx_ca_n (k := 0) (by omega) (by decide) (zx_ca_e (zx_ca_n (k := 2) (by omega) (by decide) ?_))
    rw [e0, e2]
    exact zx_rank0 hN hX pa (Or.inl (hK.2.1 b t hm).2) (fin _ j1) (fin _ j2) hp
  · subst e
    have hJ' : ga_J L V a b t = 0 := hJ
    obtain ⟨j1, j2, _⟩ := ga_J_0.mp hJ'
    refine zx_ca_n (k := 0) (by omega) (by decide) (zx_ca_n (k := 1) (by omega) (by decide) (zx_ca_e ?_))
    rw [e0, e1]
    exact zx_rank0 hN hX pa pb (fin _ j1) (fin _ j2) hp
theorem zx_wm15 {post : Int32 → Prop} {J7 : Int32 → Int32 → Int32 → Prop} (hK : ga_LN N L) (hF : zx_F fo L) (hV : ∀ u, V u ≤ 4) (hd : ga_DD L V dd) (hX : zx_S N L V dd vs wm dl) (hc3 : ga_cu N cu a b h)
    {c : Nat} (hc : c < 3) {st : Option (Nat × Nat × Nat)}
    (HJ : ∀ x1 x2, zx_R (ga_row (ga_cd L V a b h 2) (ga_tot V a b h) (ga_sum dd a b) c st 12) x1 x2 → J7 x1 x2 (nI (c + 1))) :
    ∀ k t x1 x2, t + k = 12 → zx_R (ga_row (ga_cd L V a b h 2) (ga_tot V a b h) (ga_sum dd a b) c st t) x1 x2 →
      wX_winningMove_15 post J7 (nI c) (nI N) dg sv mv fo vs wm dl cu (k + 1) x1 x2 (nI t) := by
  have hh := hc3.2.2.1
  intro k
  induction k with
  | zero =>
    intro t x1 x2 ht hR
    have e : t = 12 := by omega
    subst e
    exact br_t (nI_le (a := 12) (b := 12) (by omega) (by omega)) (nm_r (nI_1 c) (HJ x1 x2 hR))
  | succ k ih =>
    intro t x1 x2 ht hR
    have skip : ga_cd L V a b h 2 c t = false → wX_winningMove_15 post J7 (nI c) (nI N) dg sv mv fo vs wm dl cu (k + 1) x1 x2 (nI (t + 1)) := by
      intro e
      refine ih (t + 1) x1 x2 (by omega) ?_
      rw [ga_row_s, ga_up_f e]
      exact hR
    refine br_f (nI_ge (b := 12) (by omega) (by omega)) (zx_isMove hK hF hc3 hc (by omega) (fun m => br_f (by decide) ?_) (fun m => br_t rfl (nm_r (nI_1 t) (skip ?_))))
    · refine zx_outcomeAfter hK hV hX hc3 hc m ?_
      have h3 := ga_Ja_3 (L := L) (V := V) (a := a) (b := b) (h := h) c t
      refine pk_eq (ga_Ja L V a b h c t) 0 (fun hJ => ?_) (fun hJ => nm_r (nI_1 t) (skip ?_)) rfl rfl
      · have hcd : ga_cd L V a b h 2 c t = true := by
          unfold ga_cd
          rw [m, if_pos rfl, decide_eq_true hJ]; rfl
        have ht16 := ga_tot_lt (a := a) (b := b) hV hh m
        have hs64 := ga_sum_lt hV hd hJ
        have take : ga_row (ga_cd L V a b h 2) (ga_tot V a b h) (ga_sum dd a b) c st (t + 1) = some (c * 16 + t, ga_tot V a b h c t, ga_sum dd a b c t) →
            wX_winningMove_63 post J7 (wX_winningMove_15 post J7 (nI c) (nI N) dg sv mv fo vs wm dl cu (k + 1)) (nI c) (nI t) (nI (ga_tot V a b h c t * 64 + ga_sum dd a b c t)) (nI N) dg sv mv fo vs wm dl cu := by
          intro e
          unfold wX_winningMove_63
          refine nm_r (e' := nI (c * 16 + t)) (zy_lin c t 16) (nm_r (nI_1 t) (ih (t + 1) _ _ (by omega) ?_))
          rw [e]
          exact Or.inr ⟨_, _, _, by omega, ht16, hs64, rfl, rfl, rfl⟩
        refine zx_rankAfter hK hV hX hc3 hc m hJ ?_
        rcases hR with ⟨en, e1⟩ | ⟨c0, t0, s0, hc0, ht0, hs0, es, e1, e2⟩
        · refine br_t e1 (take ?_)
          rw [ga_row_s, en, ga_up_n hcd]
        · subst e1 e2
          refine br_f (ga_n5 c0 hc0) (pk_le (t0 * 64 + s0) (ga_tot V a b h c t * 64 + ga_sum dd a b c t) (fun hle => nm_r (nI_1 t) (ih (t + 1) _ _ (by omega) ?_)) (fun hlt => take ?_) rfl rfl)
          · rw [ga_row_s, es, ga_up_g (by omega)]
            exact Or.inr ⟨_, _, _, hc0, ht0, hs0, rfl, rfl, rfl⟩
          · rw [ga_row_s, es, ga_up_l hcd hlt]
      · unfold ga_cd
        rw [if_pos rfl, decide_eq_false hJ, Bool.and_false]
    · unfold ga_cd
      rw [m, Bool.false_and]
theorem zx_wm7 {post : Int32 → Prop} (hK : ga_LN N L) (hF : zx_F fo L) (hV : ∀ u, V u ≤ 4) (hd : ga_DD L V dd) (hX : zx_S N L V dd vs wm dl) (hc3 : ga_cu N cu a b h)
    (hp : post (ga_ans (ga_best (ga_cd L V a b h 2) (ga_tot V a b h) (ga_sum dd a b) 3))) :
    ∀ k c x1 x2, c + k = 3 → zx_R (ga_best (ga_cd L V a b h 2) (ga_tot V a b h) (ga_sum dd a b) c) x1 x2 →
      wX_winningMove_7 post (nI N) dg sv mv fo vs wm dl cu (k + 1) x1 x2 (nI c) := by
  intro k
  induction k with
  | zero =>
    intro c x1 x2 hc hR
    have e : c = 3 := by omega
    subst e
    rw [← zx_R_ans hR] at hp
    exact br_t (nI_le (a := 3) (b := 3) (by omega) (by omega)) hp
  | succ k ih =>
    intro c x1 x2 hc hR
    exact br_f (nI_ge (b := 3) (by omega) (by omega)) ⟨12 + 1, zx_wm15 hK hF hV hd hX hc3 (by omega) (fun y1 y2 hR' => ih (c + 1) y1 y2 (by omega) hR') 12 0 x1 x2 rfl hR⟩
theorem zx_winningMove {post : Int32 → Prop} (hK : ga_LN N L) (hF : zx_F fo L) (hV : ∀ u, V u ≤ 4) (hd : ga_DD L V dd) (hX : zx_S N L V dd vs wm dl) (hc3 : ga_cu N cu a b h)
    (hp : post (ga_ans (ga_best (ga_cd L V a b h 2) (ga_tot V a b h) (ga_sum dd a b) 3))) : wpX_winningMove post (nI N, dg, sv, mv, fo, vs, wm, dl, cu) :=
  ⟨3 + 1, zx_wm7 hK hF hV hd hX hc3 hp 3 0 (-5) 0 rfl (Or.inl ⟨rfl, rfl⟩)⟩
theorem zx_fm9 {post : Int32 → Prop} {J2 : Int32 → Prop} {now : Nat} {x1 : Int32} (hK : ga_LN N L) (hF : zx_F fo L) (hV : ∀ u, V u ≤ 4) (hX : zx_S N L V dd vs wm dl) (hc3 : ga_cu N cu a b h)
    (hnow : (now = 0 ∧ x1 = 0) ∨ (now = 1 ∧ x1 = 1)) {c : Nat} (hc : c < 3)
    (hp : post (ga_ans (ga_best (ga_cd L V a b h now) (fun _ _ => 0) (fun _ _ => 0) 3)))
    (HJ : ga_row (ga_cd L V a b h now) (fun _ _ => 0) (fun _ _ => 0) c (ga_best (ga_cd L V a b h now) (fun _ _ => 0) (fun _ _ => 0) c) 12 = none → J2 (nI (c + 1))) :
    ∀ k t, t + k = 12 → ga_row (ga_cd L V a b h now) (fun _ _ => 0) (fun _ _ => 0) c (ga_best (ga_cd L V a b h now) (fun _ _ => 0) (fun _ _ => 0) c) t = none →
      wX_firstMove_9 post J2 x1 (nI c) (nI N) dg sv mv fo vs wm dl cu (k + 1) (nI t) := by
  intro k
  induction k with
  | zero =>
    intro t ht hR
    have e : t = 12 := by omega
    subst e
    exact br_t (nI_le (a := 12) (b := 12) (by omega) (by omega)) (nm_r (nI_1 c) (HJ hR))
  | succ k ih =>
    intro t ht hR
    have skip : ga_cd L V a b h now c t = false → wX_firstMove_9 post J2 x1 (nI c) (nI N) dg sv mv fo vs wm dl cu (k + 1) (nI (t + 1)) := by
      intro e
      refine ih (t + 1) (by omega) ?_
      rw [ga_row_s, ga_up_f e]
      exact hR
    have take : ga_cd L V a b h now c t = true → post (nI c * 16 + nI t) := by
      intro e
      have h1 : ga_row (ga_cd L V a b h now) (fun _ _ => 0) (fun _ _ => 0) c (ga_best (ga_cd L V a b h now) (fun _ _ => 0) (fun _ _ => 0) c) (t + 1) = some (c * 16 + t, 0, 0) := by
        rw [ga_row_s, hR, ga_up_n e]
      rw [ga_stay hc (by omega) h1] at hp
      have e2 : nI c * 16 + nI t = nI (c * 16 + t) := zy_lin c t 16
      rw [e2]
      exact hp
    refine br_f (nI_ge (b := 12) (by omega) (by omega)) (zx_isMove hK hF hc3 hc (by omega) (fun m => br_f (by decide) ?_) (fun m => br_t rfl (nm_r (nI_1 t) (skip ?_))))
    · rcases hnow with ⟨e1, e2⟩ | ⟨e1, e2⟩
      · subst e1 e2
        refine br_t rfl (take ?_)
        unfold ga_cd
        rw [m, if_neg (by decide), if_neg (by decide)]; rfl
      · subst e1 e2
        refine br_f (by decide) (zx_outcomeAfter hK hV hX hc3 hc m ?_)
        have h3 := ga_Ja_3 (L := L) (V := V) (a := a) (b := b) (h := h) c t
        refine pk_eq (ga_Ja L V a b h c t) 1 (fun hJ => take ?_) (fun hJ => nm_r (nI_1 t) (skip ?_)) rfl rfl
        · unfold ga_cd
          rw [m, if_neg (by decide), if_pos rfl, decide_eq_true hJ]; rfl
        · unfold ga_cd
          rw [if_neg (by decide), if_pos rfl, decide_eq_false hJ, Bool.and_false]
    · unfold ga_cd
      rw [m, Bool.false_and]
theorem zx_fm2 {post : Int32 → Prop} {now : Nat} {x1 : Int32} (hK : ga_LN N L) (hF : zx_F fo L) (hV : ∀ u, V u ≤ 4) (hX : zx_S N L V dd vs wm dl) (hc3 : ga_cu N cu a b h)
    (hnow : (now = 0 ∧ x1 = 0) ∨ (now = 1 ∧ x1 = 1))
    (hp : post (ga_ans (ga_best (ga_cd L V a b h now) (fun _ _ => 0) (fun _ _ => 0) 3))) :
    ∀ k c, c + k = 3 → ga_best (ga_cd L V a b h now) (fun _ _ => 0) (fun _ _ => 0) c = none → wX_firstMove_2 post x1 (nI N) dg sv mv fo vs wm dl cu (k + 1) (nI c) := by
  intro k
  induction k with
  | zero =>
    intro c hc hR
    have e : c = 3 := by omega
    subst e
    rw [hR] at hp
    exact br_t (nI_le (a := 3) (b := 3) (by omega) (by omega)) hp
  | succ k ih =>
    intro c hc hR
    exact br_f (nI_ge (b := 3) (by omega) (by omega)) ⟨12 + 1, zx_fm9 hK hF hV hX hc3 hnow (by omega) hp (fun hR' => ih (c + 1) (by omega) hR') 12 0 rfl hR⟩
theorem zx_firstMove {post : Int32 → Prop} {now : Nat} {x1 : Int32} (hK : ga_LN N L) (hF : zx_F fo L) (hV : ∀ u, V u ≤ 4) (hX : zx_S N L V dd vs wm dl) (hc3 : ga_cu N cu a b h)
    (hnow : (now = 0 ∧ x1 = 0) ∨ (now = 1 ∧ x1 = 1))
    (hp : post (ga_ans (ga_best (ga_cd L V a b h now) (fun _ _ => 0) (fun _ _ => 0) 3))) : wpX_firstMove post (nI N, dg, sv, mv, fo, vs, wm, dl, cu) x1 :=
  ⟨3 + 1, zx_fm2 hK hF hV hX hc3 hnow hp 3 0 rfl rfl⟩
theorem zx_moveCount {post : Int32 → Prop} (hK : ga_LN N L) (hF : zx_F fo L) (hc3 : ga_cu N cu a b h) (hp : post (nI (ga_rows (ga_mv L a b h) 3))) :
    wpX_moveCount post (nI N, dg, sv, mv, fo, vs, wm, dl, cu) := by
  have hN := hK.1
  obtain ⟨pa, pb, hh, e0, e1, e2⟩ := hc3
  have a13 := ga_pl13 hN pa
  have b13 := ga_pl13 hN pb
  have ec : ∀ u, u < 13 → ga_cnt (bt (fo u)) 12 = ga_cnt (L u) 12 := fun u hu => ga_cnt_congr fun i hi => hF u hu i (by omega)
  rw [ga_rows_mv hK hh, ← nI_add, ← nI_add] at hp
  unfold wpX_moveCount
  dsimp only
  rw [e0, e1, e2, nI_clamp (by omega), nI_clamp (by omega)]
  refine ⟨vp_in_nI a13 (by omega), zx_countBits ⟨vp_in_nI b13 (by omega), zx_countBits ?_⟩⟩
  rw [ec a a13, ec b b13]
  exact hp
theorem zx_outcome {post : Int32 → Prop} (hs : ¬ sv = 0) (hN : N ≤ 12) (hV : ∀ u, V u ≤ 4) (hX : zx_S N L V dd vs wm dl) (hc3 : ga_cu N cu a b h) (hp : post (nI (ga_J L V a b h))) :
    wpX_outcome post (nI N, dg, sv, mv, fo, vs, wm, dl, cu) := by
  obtain ⟨pa, pb, hh, e0, e1, e2⟩ := hc3
  unfold wpX_outcome
  dsimp only
  rw [e0, e1, e2]
  exact br_f hs (zx_judge hN hV hX pa pb hh hp)
theorem zx_best {post : Int32 → Prop} (hs : ¬ sv = 0) (hK : ga_LN N L) (hF : zx_F fo L) (hV : ∀ u, V u ≤ 4) (hd : ga_DD L V dd) (hX : zx_S N L V dd vs wm dl) (hc3 : ga_cu N cu a b h)
    (hp : post (ga_choice L V dd a b h)) : wpX_best post (nI N, dg, sv, mv, fo, vs, wm, dl, cu) := by
  have hN := hK.1
  unfold wpX_best
  dsimp only
  refine br_f hs (zx_moveCount hK hF hc3 ?_)
  have hle := ga_rows_le (ga_mv L a b h)
  unfold ga_choice at hp
  refine pk_eq (ga_rows (ga_mv L a b h) 3) 0 (fun e => ?_) (fun e => ?_) rfl rfl
  · rw [ga_best_none (fun c t hc ht => by unfold ga_cd; rw [ga_mv0 e c t hc ht, Bool.false_and]) 3 (by omega)] at hp
    exact hp
  · refine zx_outcome hs hN hV hX hc3 ?_
    have h3 := ga_J_3 (L := L) (V := V) a b h
    refine pk_eq (ga_J L V a b h) 2 (fun e2 => ?_) (fun e2 => pk_eq (ga_J L V a b h) 1 (fun e1 => ?_) (fun e1 => ?_) rfl rfl) rfl rfl
    · rw [e2] at hp
      exact zx_winningMove hK hF hV hd hX hc3 hp
    · rw [e1] at hp
      unfold wX_best_45
      exact zx_firstMove (now := 1) hK hF hV hX hc3 (Or.inr ⟨rfl, rfl⟩) hp
    · have e0 : ga_J L V a b h = 0 := by omega
      rw [e0] at hp
      unfold wX_best_45
      exact zx_firstMove (now := 0) hK hF hV hX hc3 (Or.inl ⟨rfl, rfl⟩) hp
end
end
section
/-! ===== Y: queries on a solved state, the choice of a move ===== -/
def ga_ok (now j : Nat) : Bool := if now = 2 then decide (j = 0) else if now = 1 then decide (j = 1) else true
section
variable {N : Nat} {dg sv mv : Int32} {lk cu ou lt : Nat → Int32} {L : Nat → Nat → Bool} {V dd : Nat → Nat} {a b h : Nat}
theorem zy_isPlace {post : Int32 → Prop} (hN : N ≤ 12) (p : Int32) (h1 : ∀ j, ga_pl N j → p = nI j → post 1) (h0 : (∀ j, ga_pl N j → p ≠ nI j) → post 0) :
    wpY_isPlace post (nI N, dg, sv, mv, lk, cu, ou, lt) p := by
  unfold wpY_isPlace
  dsimp only
  refine br_c (fun z => h1 12 (Or.inr rfl) z) (fun z => ?_)
  refine zy_isNode hN p (fun j hj e => br_f (by decide) (h1 j (Or.inl hj) e)) (fun hn => br_t rfl (h0 fun j hj e => ?_))
  rcases hj with hj | hj
  · exact hn j hj e
  · subst hj; exact z e
theorem zy_place1 {post : Int32 → Prop} (hN : N ≤ 12) {j : Nat} (hj : ga_pl N j) (hp : post 1) : wpY_isPlace post (nI N, dg, sv, mv, lk, cu, ou, lt) (nI j) :=
  zy_isPlace hN _ (fun _ _ _ => hp) (fun hn => absurd rfl (hn j hj))
theorem zx_place1 {post : Int32 → Prop} {fo vs wm dl : Nat → Int32} (hN : N ≤ 12) {j : Nat} (hj : ga_pl N j) (hp : post 1) : wpX_isPlace post (nI N, dg, sv, mv, fo, vs, wm, dl, cu) (nI j) :=
  zx_isPlace hN _ (fun _ _ _ => hp) (fun hn => absurd rfl (hn j hj))
theorem zy_ix (a b h : Nat) : nI a * 52 + nI b * 4 + nI h = nI (ga_ix a b h) := by
  show nI a * nI 52 + nI b * nI 4 + nI h = _
  rw [pk_mul, pk_mul, nI_add, nI_add]
  rfl
theorem zy_outcomeOf {post : Int32 → Prop} (hN : N ≤ 12) (pa : ga_pl N a) (pb : ga_pl N b) (hh : h < 4) (h0 : sv = 0 → post (-1)) (h1 : ¬ sv = 0 → post (ou (ga_ix a b h))) :
    wpY_outcomeOf post (nI N, dg, sv, mv, lk, cu, ou, lt) (nI a) (nI b) (nI h) := by
  have a13 := ga_pl13 hN pa
  have b13 := ga_pl13 hN pb
  have hlt := ga_ix_lt a13 b13 hh
  unfold wpY_outcomeOf
  dsimp only
  refine zy_place1 hN pa (br_f (by decide) (zy_place1 hN pb (br_f (by decide) (br_f (nI_pos (by omega)) (br_t (nI_le (b := 3) (by omega) (by omega)) (br_c h0 (fun z => ?_)))))))
  rw [zy_ix, nI_clamp (by omega)]
  exact ⟨vp_in_nI hlt (by omega), h1 z⟩
theorem zy_outcome {post : Int32 → Prop} (hs : ¬ sv = 0) (hN : N ≤ 12) (hO : ga_Out L V ou) (hc3 : ga_cu N cu a b h) (hp : post (nI (ga_J L V a b h))) : wpY_outcome post (nI N, dg, sv, mv, lk, cu, ou, lt) := by
  obtain ⟨pa, pb, hh, e0, e1, e2⟩ := hc3
  unfold wpY_outcome
  dsimp only
  rw [e0, e1, e2]
  refine zy_outcomeOf hN pa pb hh (fun z => absurd z hs) (fun _ => ?_)
  rw [hO a b h (ga_pl13 hN pa) (ga_pl13 hN pb) hh]
  exact hp
theorem zy_rank {post : Int32 → Prop} (hN : N ≤ 12) (hO : ga_Out L V ou) (hV : ∀ u, V u ≤ 4) (hz : V 12 = 0) (hlt : zy_Lt N V dd lt) {now x y z T S : Nat} (px : ga_pl N x) (py : ga_pl N y) (hz4 : z < 4)
    (hnow : now = 0 ∨ now = 1 ∨ now = 2) (h2 : now = 2 → T = V x + V y + z ∧ S = dd x + dd y) (h0 : now ≠ 2 → T = 0 ∧ S = 0)
    (kf : ga_ok now (ga_J L V x y z) = false → post (-1)) (kt : ga_ok now (ga_J L V x y z) = true → post (nI (T * 1000 + S))) :
    wpY_rank post (nI N, dg, sv, mv, lk, cu, ou, lt) (nI now) (nI (ga_ix x y z)) := by
  have x13 := ga_pl13 hN px
  have y13 := ga_pl13 hN py
  have hs := ga_ix_lt x13 y13 hz4
  have cl : (nI (ga_ix x y z)).toNatClampNeg = ga_ix x y z := nI_clamp (by omega)
  have h3 := ga_J_3 (L := L) (V := V) x y z
  have vs : vp_in (nI (ga_ix x y z)) 676 := vp_in_nI hs (by omega)
  unfold wpY_rank
  dsimp only
  rw [cl, hO x y z x13 y13 hz4]
  rcases hnow with e | e | e
  · subst e
    obtain ⟨eT, eS⟩ := h0 (by omega)
    subst eT eS
    refine br_f (by decide) ?_
    unfold wY_rank_17
    exact br_f (by decide) (kt rfl)
  · subst e
    obtain ⟨eT, eS⟩ := h0 (by omega)
    subst eT eS
    refine br_t rfl ⟨vs, pk_eq (ga_J L V x y z) 1 (fun e => ?_) (fun e => kf (decide_eq_false e)) rfl rfl⟩
    unfold wY_rank_17
    exact br_f (by decide) (kt (decide_eq_true e))
  · subst e
    obtain ⟨eT, eS⟩ := h2 rfl
    refine br_f (by decide) ?_
    unfold wY_rank_17
    rw [cl, hO x y z x13 y13 hz4]
    refine br_t rfl ⟨vs, pk_eq (ga_J L V x y z) 0 (fun e => ?_) (fun e => kf (decide_eq_false e)) rfl rfl⟩
    obtain ⟨j1, j2, _⟩ := ga_J_0.mp e
    have v1 := hV x
    have v2 := hV y
    have e1 : nI (ga_ix x y z) / 52 = nI x := by
      have q : nI (ga_ix x y z) / 52 = nI (ga_ix x y z / 52) := pk_div (d := 52) (by omega) (by omega) (by omega)
      rw [q]
      exact congrArg nI (by unfold ga_ix; omega)
    have e2 : nI (ga_ix x y z) / 4 - nI (ga_ix x y z) / 4 / 13 * 13 = nI y := by
      have q : nI (ga_ix x y z) / 4 = nI (ga_ix x y z / 4) := pk_div (d := 4) (by omega) (by omega) (by omega)
      rw [q]
      have q2 : nI (ga_ix x y z / 4) - nI (ga_ix x y z / 4) / 13 * 13 = nI (ga_ix x y z / 4 % 13) := pk_rem (d := 13) (by omega) (by omega) (by omega)
      rw [q2]
      exact congrArg nI (by unfold ga_ix; omega)
    have e3 : nI (ga_ix x y z) - nI (ga_ix x y z) / 4 * 4 = nI z := by
      have q : nI (ga_ix x y z) - nI (ga_ix x y z) / 4 * 4 = nI (ga_ix x y z % 4) := pk_rem (d := 4) (by omega) (by omega) (by omega)
      rw [q]
      exact congrArg nI (by unfold ga_ix; omega)
    refine ⟨by decide, nm_r e1 ⟨by decide, by decide, nm_r e2 (zy_valueOf hO hV hz x13 (zy_valueOf hO hV hz y13 ⟨by decide, ?_⟩))⟩⟩
    rw [e3]
    refine nm_r (e' := nI T) (by rw [nI_add, nI_add, eT]) ⟨vp_in_nI x13 (by omega), vp_in_nI y13 (by omega), ?_⟩
    rw [nI_clamp (by omega), nI_clamp (by omega), (hlt x px).1 (by omega), (hlt y py).1 (by omega)]
    have e4 : nI T * 1000 + nI (dd x) + nI (dd y) = nI (T * 1000 + S) := by
      show nI T * nI 1000 + nI (dd x) + nI (dd y) = _
      rw [pk_mul, nI_add, nI_add, eS, Nat.add_assoc]
    rw [e4]
    exact kt (decide_eq_true e)
theorem zy_rankM {post : Int32 → Prop} (hK : ga_LN N L) (hO : ga_Out L V ou) (hV : ∀ u, V u ≤ 4) (hz : V 12 = 0) (hlt : zy_Lt N V dd lt) {now c t : Nat} (hc : c < 3) (pa : ga_pl N a) (pb : ga_pl N b) (hh : h < 4)
    (hnow : now = 0 ∨ now = 1 ∨ now = 2) (hm : ga_mv L a b h c t = true)
    (kf : ga_cd L V a b h now c t = false → post (-1)) (kt : ga_cd L V a b h now c t = true → post (nI (ga_fT V a b h now c t * 1000 + ga_fS dd a b now c t))) :
    wpY_rank post (nI N, dg, sv, mv, lk, cu, ou, lt) (nI now) (nI (ga_af a b h c t)) := by
  have hN := hK.1
  have ecd : ga_cd L V a b h now c t = ga_ok now (ga_Ja L V a b h c t) := by
    unfold ga_cd ga_ok
    rw [hm, Bool.true_and]
  rw [ecd] at kf kt
  have eT2 : now = 2 → ga_fT V a b h now c t = ga_tot V a b h c t ∧ ga_fS dd a b now c t = ga_sum dd a b c t := by
    intro e
    unfold ga_fT ga_fS
    rw [if_pos e, if_pos e]
    exact ⟨rfl, rfl⟩
  have eT0 : now ≠ 2 → ga_fT V a b h now c t = 0 ∧ ga_fS dd a b now c t = 0 := by
    intro e
    unfold ga_fT ga_fS
    rw [if_neg e, if_neg e]
    exact ⟨rfl, rfl⟩
  rcases (by omega : c = 0 ∨ c = 1 ∨ c = 2) with e | e | e
  · subst e
    exact zy_rank (x := t) (y := b) (z := h) hN hO hV hz hlt (Or.inl (hK.2.1 a t hm).2) pb hh hnow eT2 eT0 kf kt
  · subst e
    exact zy_rank (x := a) (y := t) (z := h) hN hO hV hz hlt pa (Or.inl (hK.2.1 b t hm).2) hh hnow eT2 eT0 kf kt
  · subst e
    have ht : t < h := of_decide_eq_true hm
    exact zy_rank (x := a) (y := b) (z := t) hN hO hV hz hlt pa pb (by omega) hnow eT2 eT0 kf kt
theorem ga_fT_lt (hV : ∀ u, V u ≤ 4) (hd : ga_DD L V dd) {now c t : Nat} (hh : h < 4) (hcd : ga_cd L V a b h now c t = true) : ga_fT V a b h now c t < 16 ∧ ga_fS dd a b now c t < 64 := by
  unfold ga_cd at hcd
  rw [Bool.and_eq_true] at hcd
  unfold ga_fT ga_fS
  by_cases e : now = 2
  · rw [if_pos e, if_pos e]
    have h2 := hcd.2
    rw [if_pos e, decide_eq_true_eq] at h2
    exact ⟨ga_tot_lt hV hh hcd.1, ga_sum_lt hV hd h2⟩
  · rw [if_neg e, if_neg e]
    exact ⟨by decide, by decide⟩
theorem zy_be32 {post : Int32 → Prop} {J23 : Int32 → Int32 → Int32 → Prop} (hK : ga_LN N L) (hF : zy_F N lk L) (hV : ∀ u, V u ≤ 4) (hz : V 12 = 0) (hd : ga_DD L V dd) (hO : ga_Out L V ou) (hlt : zy_Lt N V dd lt) (hc3 : ga_cu N cu a b h)
    {now : Nat} (hnow : now = 0 ∨ now = 1 ∨ now = 2) {c : Nat} (hc : c < 3) {st : Option (Nat × Nat × Nat)}
    (HJ : ∀ x2 x3, zy_R (ga_row (ga_cd L V a b h now) (ga_fT V a b h now) (ga_fS dd a b now) c st 12) x2 x3 → J23 x2 x3 (nI (c + 1))) :
    ∀ k t x2 x3, t + k = 12 → zy_R (ga_row (ga_cd L V a b h now) (ga_fT V a b h now) (ga_fS dd a b now) c st t) x2 x3 →
      wY_best_32 post J23 (nI now) (nI c) (nI N) dg sv mv lk cu ou lt (k + 1) x2 x3 (nI t) := by
  have hN := hK.1
  obtain ⟨pa, pb, hh, e0, e1, e2⟩ := hc3
  have a13 := ga_pl13 hN pa
  have b13 := ga_pl13 hN pb
  intro k
  induction k with
  | zero =>
    intro t x2 x3 ht hR
    have e : t = 12 := by omega
    subst e
    exact br_t (nI_le (a := 12) (b := 12) (by omega) (by omega)) (nm_r (nI_1 c) (HJ x2 x3 hR))
  | succ k ih =>
    intro t x2 x3 ht hR
    have skip : ga_cd L V a b h now c t = false → wY_best_32 post J23 (nI now) (nI c) (nI N) dg sv mv lk cu ou lt (k + 1) x2 x3 (nI (t + 1)) := by
      intro e
      refine ih (t + 1) x2 x3 (by omega) ?_
      rw [ga_row_s, ga_up_f e]
      exact hR
    refine br_f (nI_ge (b := 12) (by omega) (by omega)) ?_
    rw [e0, e1, e2]
    refine zy_isMove hK hF a13 b13 hh hc (by omega) (fun m => br_f (by decide) (zy_after hc ?_)) (fun m => br_t rfl (nm_r (nI_1 t) (skip ?_)))
    · refine zy_rankM hK hO hV hz hlt hc pa pb hh hnow m (fun hcd => br_t (by decide) (nm_r (nI_1 t) (skip hcd))) (fun hcd => ?_)
      obtain ⟨hT, hS⟩ := ga_fT_lt hV hd hh hcd
      refine br_f (nI_pos (by omega)) ?_
      have take : ga_row (ga_cd L V a b h now) (ga_fT V a b h now) (ga_fS dd a b now) c st (t + 1) = some (c * 16 + t, ga_fT V a b h now c t, ga_fS dd a b now c t) →
          wY_best_32 post J23 (nI now) (nI c) (nI N) dg sv mv lk cu ou lt (k + 1) (nI (c * 16 + t)) (nI (ga_fT V a b h now c t * 1000 + ga_fS dd a b now c t)) (nI (t + 1)) := by
        intro e
        refine ih (t + 1) _ _ (by omega) ?_
        rw [e]
        exact Or.inr ⟨_, _, _, by omega, hT, hS, rfl, rfl, rfl⟩
      rcases hR with ⟨en, q1, q2⟩ | ⟨c0, t0, s0, hc0, ht0, hs0, es, q1, q2⟩
      · subst q2
        refine br_f (nI_ge (b := 1000000) (by omega) (by omega)) (nm_r (e' := nI (c * 16 + t)) (zy_lin c t 16) (nm_r (nI_1 t) (take ?_)))
        rw [ga_row_s, en, ga_up_n hcd]
      · subst q1 q2
        refine pk_le (t0 * 1000 + s0) (ga_fT V a b h now c t * 1000 + ga_fS dd a b now c t) (fun hle => nm_r (nI_1 t) (ih (t + 1) _ _ (by omega) ?_)) (fun hl => nm_r (e' := nI (c * 16 + t)) (zy_lin c t 16) (nm_r (nI_1 t) (take ?_))) rfl rfl
        · rw [ga_row_s, es, ga_up_g (by rw [ga_keys hS hs0]; omega)]
          exact Or.inr ⟨_, _, _, hc0, ht0, hs0, rfl, rfl, rfl⟩
        · rw [ga_row_s, es, ga_up_l hcd (by rw [ga_keys hS hs0]; exact hl)]
    · unfold ga_cd
      rw [m, Bool.false_and]
theorem zy_be23 {post : Int32 → Prop} (hK : ga_LN N L) (hF : zy_F N lk L) (hV : ∀ u, V u ≤ 4) (hz : V 12 = 0) (hd : ga_DD L V dd) (hO : ga_Out L V ou) (hlt : zy_Lt N V dd lt) (hc3 : ga_cu N cu a b h)
    {now : Nat} (hnow : now = 0 ∨ now = 1 ∨ now = 2) (hp : post (ga_ans (ga_best (ga_cd L V a b h now) (ga_fT V a b h now) (ga_fS dd a b now) 3))) :
    ∀ k c x2 x3, c + k = 3 → zy_R (ga_best (ga_cd L V a b h now) (ga_fT V a b h now) (ga_fS dd a b now) c) x2 x3 →
      wY_best_23 post (nI now) (nI N) dg sv mv lk cu ou lt (k + 1) x2 x3 (nI c) := by
  intro k
  induction k with
  | zero =>
    intro c x2 x3 hc hR
    have e : c = 3 := by omega
    subst e
    rw [← zy_R_ans hR] at hp
    exact br_t (nI_le (a := 3) (b := 3) (by omega) (by omega)) hp
  | succ k ih =>
    intro c x2 x3 hc hR
    exact br_f (nI_ge (b := 3) (by omega) (by omega)) ⟨12 + 1, zy_be32 hK hF hV hz hd hO hlt hc3 hnow (by omega) (fun y2 y3 hR' => ih (c + 1) y2 y3 (by omega) hR') 12 0 x2 x3 rfl hR⟩
theorem zy_best {post : Int32 → Prop} (hs : ¬ sv = 0) (hK : ga_LN N L) (hF : zy_F N lk L) (hV : ∀ u, V u ≤ 4) (hz : V 12 = 0) (hd : ga_DD L V dd) (hO : ga_Out L V ou) (hlt : zy_Lt N V dd lt) (hc3 : ga_cu N cu a b h)
    (hp : post (ga_choice L V dd a b h)) : wpY_best post (nI N, dg, sv, mv, lk, cu, ou, lt) := by
  unfold wpY_best
  dsimp only
  refine br_f hs (zy_outcome hs hK.1 hO hc3 ?_)
  exact ⟨3 + 1, zy_be23 hK hF hV hz hd hO hlt hc3 (ga_J_3 a b h) hp 3 0 (-5) (nI 1000000) rfl (Or.inl ⟨rfl, rfl, rfl⟩)⟩
theorem zy_moveCount {post : Int32 → Prop} (hK : ga_LN N L) (hF : zy_F N lk L) (hc3 : ga_cu N cu a b h) (hp : post (nI (ga_rows (ga_mv L a b h) 3))) :
    wpY_moveCount post (nI N, dg, sv, mv, lk, cu, ou, lt) := by
  have hN := hK.1
  obtain ⟨pa, pb, hh, e0, e1, e2⟩ := hc3
  unfold wpY_moveCount
  dsimp only
  rw [e0, e1, e2]
  refine zy_countMoves hK hF (ga_pl13 hN pa) (ga_pl13 hN pb) hh ?_
  rw [ga_rows_m1]
  exact hp
/-- the four bits of a win mask as a number -/
def ga_ms (g : Nat → Bool) : Nat → Nat
  | 0 => 0
  | m + 1 => ga_ms g m + (if g m then 2 ^ m else 0)
theorem ga_ms_bits (g0 g1 g2 g3 : Bool) : ∀ j, j < 32 → bt (nI ((if g0 then 1 else 0) + (if g1 then 2 else 0) + (if g2 then 4 else 0) + (if g3 then 8 else 0))) j =
    (decide (j < 4) && (if j = 0 then g0 else if j = 1 then g1 else if j = 2 then g2 else g3)) := by
  cases g0 <;> cases g1 <;> cases g2 <;> cases g3 <;> decide +kernel
theorem ga_ms_eq {x : Int32} {g : Nat → Bool} (h : ∀ j, j < 32 → bt x j = (decide (j < 4) && g j)) : x = nI (ga_ms g 4) := by
  have e : ga_ms g 4 = (if g 0 then 1 else 0) + (if g 1 then 2 else 0) + (if g 2 then 4 else 0) + (if g 3 then 8 else 0) := by
    show 0 + (if g 0 then 1 else 0) + (if g 1 then 2 else 0) + (if g 2 then 4 else 0) + (if g 3 then 8 else 0) = _
    omega
  rw [e]
  apply b_ext
  intro j hj
  rw [ga_ms_bits _ _ _ _ j hj, h j hj]
  by_cases h4 : j < 4
  · rcases (by omega : j = 0 ∨ j = 1 ∨ j = 2 ∨ j = 3) with e | e | e | e <;> subst e <;> rfl
  · rw [decide_eq_false h4, Bool.false_and, Bool.false_and]
theorem ga_J_win (hz : V 12 = 0) {u m : Nat} (hm : m < 4) (h4 : V u ≤ 4) : ga_J L V u 12 m = 2 ↔ ga_G L V u m = true := by
  unfold ga_G
  rw [ga_J_2, hz]
  by_cases e : V u = 4
  · rw [if_pos e, Nat.zero_xor]
    exact ⟨fun z => z.elim (fun y => y.2.2) (fun y => y.elim (fun w => absurd e w.1) (fun w => absurd e w.1)), fun z => Or.inl ⟨e, by omega, z⟩⟩
  · rw [if_neg e]
    have hx := ga_x0 (V u) (by omega) 0 (by omega) m hm
    rw [Nat.zero_xor] at hx
    constructor
    · intro z
      rcases z with z | z | z
      · exact absurd z.1 e
      · exact absurd z.2.1 (by omega)
      · have : ¬ m = V u := fun y => z.2.2 (hx.mpr y.symm)
        rw [decide_eq_false this]; rfl
    · intro z
      refine Or.inr (Or.inr ⟨e, by omega, fun y => ?_⟩)
      rw [decide_eq_true (hx.mp y).symm] at z
      exact absurd z (by decide)
theorem zy_sh : ∀ m, m < 4 → (1 : Int32) <<< (nI m &&& 31) = nI (2 ^ m) := by decide +kernel
theorem zy_wi24 {post : Int32 → Prop} {nd : Int32} (hO : ga_Out L V ou) (hV : ∀ u, V u ≤ 4) (hz : V 12 = 0) {u : Nat} (hu : u < 13) (hp : post (nI (ga_ms (ga_G L V u) 4))) :
    ∀ k m, m + k = 4 → wY_wins_24 post (nI u) nd dg sv mv lk cu ou lt (k + 1) (nI (ga_ms (ga_G L V u) m)) (nI m) := by
  intro k
  induction k with
  | zero =>
    intro m hm
    have e : m = 4 := by omega
    subst e
    exact br_t (nI_le (a := 4) (b := 4) (by omega) (by omega)) hp
  | succ k ih =>
    intro m hm
    have hi := ih (m + 1) (by omega)
    have es : ga_ms (ga_G L V u) (m + 1) = ga_ms (ga_G L V u) m + (if ga_G L V u m then 2 ^ m else 0) := rfl
    rw [es] at hi
    refine br_f (nI_ge (b := 4) (by omega) (by omega)) ?_
    have hlt := ga_ix_lt hu (by omega : 12 < 13) (by omega : m < 4)
    rw [zy_ix12, nI_clamp (by omega), hO u 12 m hu (by omega) (by omega), zy_sh m (by omega)]
    refine ⟨vp_in_nI hlt (by omega), br_c (fun z => ?_) (fun z => nm_r (nI_1 m) ?_)⟩
    · rw [zy_J2, ga_J_win hz (by omega) (hV u)] at z
      rw [if_pos z] at hi
      exact nm_r (nI_add _ _) (nm_r (nI_1 m) hi)
    · rw [zy_J2, ga_J_win hz (by omega) (hV u)] at z
      rw [if_neg z, Nat.add_zero] at hi
      exact hi
end
end
section
/-! ===== the relation; link, unlink, place, move on both sides ===== -/
def zr_I (N D : Nat) (L : Nat → Nat → Bool) (fo lk cu : Nat → Int32) (a b h : Nat) : Prop :=
  ga_LN N L ∧ D ≤ 3 ∧ (∀ u, ga_cnt (L u) 12 ≤ D) ∧ zx_F fo L ∧ zy_F N lk L ∧ ga_cu N cu a b h
def zr_V (N : Nat) (L : Nat → Nat → Bool) (sv : Int32) (vs wm dl ou lt : Nat → Int32) : Prop :=
  sv = 0 ∨ (sv = 1 ∧ ∃ V dd, ga_Good N L V ∧ ga_DD L V dd ∧ zx_S N L V dd vs wm dl ∧ ga_Out L V ou ∧ zy_Lt N V dd lt)
/-- the relation at the head of a turn -/
def i_Rel (_k : Nat) (u : SX) (v : SY) : Prop := ∃ (N D : Nat) (sv mv : Int32) (fo vs wm dl cu lk ou lt : Nat → Int32) (L : Nat → Nat → Bool) (a b h : Nat),
  u = (nI N, nI D, sv, mv, fo, vs, wm, dl, cu) ∧ v = (nI N, nI D, sv, mv, lk, cu, ou, lt) ∧ zr_I N D L fo lk cu a b h ∧ zr_V N L sv vs wm dl ou lt
theorem ga_cnt_add {p : Nat → Bool} {v : Nat} : ∀ n, ga_cnt (fun j => p j || decide (j = v)) n ≤ ga_cnt p n + (if v < n then 1 else 0) := by
  intro n
  induction n with
  | zero => show 0 ≤ _; omega
  | succ n ih =>
    show ga_cnt (fun j => p j || decide (j = v)) n + (if (p n || decide (n = v)) = true then 1 else 0) ≤ ga_cnt p n + (if p n = true then 1 else 0) + (if v < n + 1 then 1 else 0)
    by_cases e : n = v
    · subst e
      rw [if_neg (by omega)] at ih
      rw [if_pos (by omega : n < n + 1)]
      cases p n
      · simp; omega
      · simp; omega
    · rw [decide_eq_false e, Bool.or_false]
      by_cases l : v < n
      · rw [if_pos l] at ih
        rw [if_pos (by omega : v < n + 1)]
        omega
      · rw [if_neg l] at ih
        rw [if_neg (by omega : ¬ v < n + 1)]
        omega
section
variable {N D : Nat} {dg sv mv : Int32} {fo vs wm dl cu lk ou lt : Nat → Int32} {L : Nat → Nat → Bool} {V dd : Nat → Nat} {a b h u v : Nat} {p q : Int32}
/-- not both are nodes -/
def zr_no (N : Nat) (p q : Int32) : Prop := ∀ u v, u < N → v < N → p = nI u → q = nI v → False
theorem zx_linkR {post : Int32 → SX → Prop} (hN : N ≤ 12) (hn : zr_no N p q) (hp : post (-2) (nI N, dg, sv, mv, fo, vs, wm, dl, cu)) : wpX_link post (nI N, dg, sv, mv, fo, vs, wm, dl, cu) p q := by
  unfold wpX_link
  dsimp only
  refine zx_isNode hN p (fun u hu eu => br_f (by decide) ?_) (fun _ => br_t rfl hp)
  exact zx_isNode hN q (fun v hv ev => (hn u v hu hv eu ev).elim) (fun _ => br_t rfl hp)
theorem zy_linkR {post : Int32 → SY → Prop} (hN : N ≤ 12) (hn : zr_no N p q) (hp : post (-2) (nI N, dg, sv, mv, lk, cu, ou, lt)) : wpY_link post (nI N, dg, sv, mv, lk, cu, ou, lt) p q := by
  unfold wpY_link
  dsimp only
  refine zy_isNode hN p (fun u hu eu => br_f (by decide) ?_) (fun _ => br_t rfl hp)
  exact zy_isNode hN q (fun v hv ev => (hn u v hu hv eu ev).elim) (fun _ => br_t rfl hp)
theorem zx_node1 {post : Int32 → Prop} (hN : N ≤ 12) (hu : u < N) (hp : post 1) : wpX_isNode post (nI N, dg, sv, mv, fo, vs, wm, dl, cu) (nI u) :=
  zx_isNode hN _ (fun _ _ _ => hp) (fun hn => absurd rfl (hn u hu))
theorem zy_node1 {post : Int32 → Prop} (hN : N ≤ 12) (hu : u < N) (hp : post 1) : wpY_isNode post (nI N, dg, sv, mv, lk, cu, ou, lt) (nI u) :=
  zy_isNode hN _ (fun _ _ _ => hp) (fun hn => absurd rfl (hn u hu))
theorem zx_linkN {post : Int32 → SX → Prop} (hK : ga_LN N L) (hF : zx_F fo L) (hD : D ≤ 3) (hu : u < N) (hv : v < N)
    (h4 : L u v = true → post (-4) (nI N, nI D, sv, mv, fo, vs, wm, dl, cu))
    (h3 : L u v = false → ¬ ga_cnt (L u) 12 < D → post (-3) (nI N, nI D, sv, mv, fo, vs, wm, dl, cu))
    (h0 : L u v = false → ga_cnt (L u) 12 < D → post 0 (nI N, nI D, 0, mv, upd fo u (fo u ||| ((1 : Int32) <<< (nI v &&& 31))), vs, wm, dl, cu)) :
    wpX_link post (nI N, nI D, sv, mv, fo, vs, wm, dl, cu) (nI u) (nI v) := by
  have hN := hK.1
  have hle := ga_cnt_le (L u) 12
  have ec : ga_cnt (bt (fo u)) 12 = ga_cnt (L u) 12 := ga_cnt_congr fun i hi => hF u (by omega) i (by omega)
  unfold wpX_link
  dsimp only
  rw [nI_clamp (by omega)]
  refine zx_node1 hN hu (br_f (by decide) (zx_node1 hN hv (br_f (by decide) ?_)))
  refine zx_hasLink hF (by omega) (by omega) (fun l => br_f (by decide) (h4 l)) (fun l => br_t rfl ⟨vp_in_nI (by omega) (by omega), zx_countBits ?_⟩)
  rw [ec]
  exact pk_lt (ga_cnt (L u) 12) D (fun z => ⟨vp_in_nI (by omega) (by omega), vp_in_nI (by omega) (by omega), nm_e (h0 l z)⟩) (fun z => h3 l (by omega)) rfl rfl
theorem zy_li36 {post : Int32 → SY → Prop} (hK : ga_LN N L) (hF : zy_F N lk L) (hD : D ≤ 3) (hu : u < N) (hv : v < N)
    (h3 : ¬ ga_cnt (L u) 12 < D → post (-3) (nI N, nI D, sv, mv, lk, cu, ou, lt))
    (h0 : ga_cnt (L u) 12 < D → post 0 (nI N, nI D, 0, mv, upd lk (u * 12 + v) 1, cu, ou, lt)) :
    ∀ k i, i + k = 12 → wY_link_36 post (nI u) (nI v) (nI N) (nI D) sv mv lk cu ou lt (k + 1) (nI (ga_cnt (L u) i)) (nI i) := by
  have hN := hK.1
  intro k
  induction k with
  | zero =>
    intro i hi
    have e : i = 12 := by omega
    subst e
    have hle := ga_cnt_le (L u) 12
    have ei : nI u * 12 + nI v = nI (u * 12 + v) := zy_lin u v 12
    refine br_t (nI_le (a := 12) (b := 12) (by omega) (by omega)) ?_
    rw [ei, nI_clamp (by omega)]
    exact pk_lt (ga_cnt (L u) 12) D (fun z => ⟨vp_in_nI (by omega) (by omega), nm_e (h0 z)⟩) (fun z => h3 (by omega)) rfl rfl
  | succ k ih =>
    intro i hi
    have hi1 := ih (i + 1) (by omega)
    have es : ga_cnt (L u) (i + 1) = ga_cnt (L u) i + (if L u i then 1 else 0) := rfl
    rw [es] at hi1
    refine br_f (nI_ge (b := 12) (by omega) (by omega)) (zy_linked hK hF (by omega) (by omega) (fun l => br_f (by decide) ?_) (fun l => br_t rfl (nm_r (nI_1 i) ?_)))
    · rw [if_pos l] at hi1
      exact nm_r (nI_1 _) (nm_r (nI_1 i) hi1)
    · rw [if_neg (by rw [l]; decide)] at hi1
      exact hi1
theorem zy_linkN {post : Int32 → SY → Prop} (hK : ga_LN N L) (hF : zy_F N lk L) (hD : D ≤ 3) (hu : u < N) (hv : v < N)
    (h4 : L u v = true → post (-4) (nI N, nI D, sv, mv, lk, cu, ou, lt))
    (h3 : L u v = false → ¬ ga_cnt (L u) 12 < D → post (-3) (nI N, nI D, sv, mv, lk, cu, ou, lt))
    (h0 : L u v = false → ga_cnt (L u) 12 < D → post 0 (nI N, nI D, 0, mv, upd lk (u * 12 + v) 1, cu, ou, lt)) :
    wpY_link post (nI N, nI D, sv, mv, lk, cu, ou, lt) (nI u) (nI v) := by
  have hN := hK.1
  unfold wpY_link
  dsimp only
  refine zy_node1 hN hu (br_f (by decide) (zy_node1 hN hv (br_f (by decide) ?_)))
  exact zy_linked hK hF (by omega) (by omega) (fun l => br_f (by decide) (h4 l)) (fun l => br_t rfl ⟨12 + 1, zy_li36 hK hF hD hu hv (h3 l) (h0 l) 12 0 rfl⟩)
theorem zr_link_keep (hI : zr_I N D L fo lk cu a b h) (hu : u < N) (hv : v < N) (hc : ga_cnt (L u) 12 < D) :
    zr_I N D (fun x y => L x y || (decide (x = u) && decide (y = v))) (upd fo u (fo u ||| ((1 : Int32) <<< (nI v &&& 31)))) (upd lk (u * 12 + v) 1) cu a b h := by
  obtain ⟨⟨hN, hK1, hK2⟩, hD, hcnt, hF, hG, hcu⟩ := hI
  have hcnt' : ∀ x, ga_cnt (fun y => L x y || (decide (x = u) && decide (y = v))) 12 ≤ D := by
    intro x
    by_cases e : x = u
    · subst e
      rw [ga_cnt_congr (q := fun y => L x y || decide (y = v)) (fun i _ => by rw [decide_eq_true rfl, Bool.true_and])]
      have := ga_cnt_add (p := L x) (v := v) 12
      rw [if_pos (by omega)] at this
      omega
    · rw [ga_cnt_congr (q := L x) (fun i _ => by rw [decide_eq_false e, Bool.false_and, Bool.or_false])]
      exact hcnt x
  refine ⟨⟨hN, fun x y hxy => ?_, fun x => Nat.le_trans (hcnt' x) hD⟩, hD, hcnt', fun x hx y hy => ?_, fun x y hx hy => ?_, hcu⟩
  · have hxy' : (L x y || (decide (x = u) && decide (y = v))) = true := hxy
    rw [Bool.or_eq_true, Bool.and_eq_true, decide_eq_true_eq, decide_eq_true_eq] at hxy'
    rcases hxy' with z | ⟨z1, z2⟩
    · exact hK1 x y z
    · subst z1 z2
      exact ⟨hu, hv⟩
  · show bt (upd fo u (fo u ||| ((1 : Int32) <<< (nI v &&& 31))) x) y = (L x y || (decide (x = u) && decide (y = v)))
    by_cases e : x = u
    · subst e
      rw [pk_us, b_or, zb_sh v (by omega) y hy, hF x hx y hy, decide_eq_true rfl, Bool.true_and]
    · rw [pk_un e, hF x hx y hy, decide_eq_false e, Bool.false_and, Bool.or_false]
  · show upd lk (u * 12 + v) 1 (x * 12 + y) = 0 ↔ (L x y || (decide (x = u) && decide (y = v))) = false
    by_cases e : x = u ∧ y = v
    · obtain ⟨e1, e2⟩ := e
      subst e1 e2
      rw [pk_us, decide_eq_true rfl, decide_eq_true rfl, Bool.true_and, Bool.or_true]
      exact ⟨fun z => absurd z (by decide), fun z => absurd z (by decide)⟩
    · rw [pk_un (by omega), hG x y hx hy]
      have : (decide (x = u) && decide (y = v)) = false := by
        refine ts_nt fun z => e ?_
        rw [Bool.and_eq_true, decide_eq_true_eq, decide_eq_true_eq] at z
        exact z
      rw [this, Bool.or_false]
theorem zx_unlinkR {post : Int32 → SX → Prop} (hN : N ≤ 12) (hn : zr_no N p q) (hp : post (-2) (nI N, dg, sv, mv, fo, vs, wm, dl, cu)) : wpX_unlink post (nI N, dg, sv, mv, fo, vs, wm, dl, cu) p q := by
  unfold wpX_unlink
  dsimp only
  refine zx_isNode hN p (fun u hu eu => br_f (by decide) ?_) (fun _ => br_t rfl hp)
  exact zx_isNode hN q (fun v hv ev => (hn u v hu hv eu ev).elim) (fun _ => br_t rfl hp)
theorem zy_unlinkR {post : Int32 → SY → Prop} (hN : N ≤ 12) (hn : zr_no N p q) (hp : post (-2) (nI N, dg, sv, mv, lk, cu, ou, lt)) : wpY_unlink post (nI N, dg, sv, mv, lk, cu, ou, lt) p q := by
  unfold wpY_unlink
  dsimp only
  refine zy_isNode hN p (fun u hu eu => br_f (by decide) ?_) (fun _ => br_t rfl hp)
  exact zy_isNode hN q (fun v hv ev => (hn u v hu hv eu ev).elim) (fun _ => br_t rfl hp)
theorem zx_unlinkN {post : Int32 → SX → Prop} (hK : ga_LN N L) (hF : zx_F fo L) (hu : u < N) (hv : v < N)
    (h4 : L u v = false → post (-4) (nI N, dg, sv, mv, fo, vs, wm, dl, cu))
    (h0 : L u v = true → post 0 (nI N, dg, 0, mv, upd fo u (fo u &&& (((1 : Int32) <<< (nI v &&& 31)) ^^^ (-1))), vs, wm, dl, cu)) :
    wpX_unlink post (nI N, dg, sv, mv, fo, vs, wm, dl, cu) (nI u) (nI v) := by
  have hN := hK.1
  unfold wpX_unlink
  dsimp only
  rw [nI_clamp (by omega)]
  refine zx_node1 hN hu (br_f (by decide) (zx_node1 hN hv (br_f (by decide) ?_)))
  exact zx_hasLink hF (by omega) (by omega) (fun l => br_f (by decide) ⟨vp_in_nI (by omega) (by omega), vp_in_nI (by omega) (by omega), nm_e (h0 l)⟩) (fun l => br_t rfl (h4 l))
theorem zy_unlinkN {post : Int32 → SY → Prop} (hK : ga_LN N L) (hF : zy_F N lk L) (hu : u < N) (hv : v < N)
    (h4 : L u v = false → post (-4) (nI N, dg, sv, mv, lk, cu, ou, lt))
    (h0 : L u v = true → post 0 (nI N, dg, 0, mv, upd lk (u * 12 + v) 0, cu, ou, lt)) :
    wpY_unlink post (nI N, dg, sv, mv, lk, cu, ou, lt) (nI u) (nI v) := by
  have hN := hK.1
  have ei : nI u * 12 + nI v = nI (u * 12 + v) := zy_lin u v 12
  unfold wpY_unlink
  dsimp only
  rw [ei, nI_clamp (by omega)]
  refine zy_node1 hN hu (br_f (by decide) (zy_node1 hN hv (br_f (by decide) ?_)))
  exact zy_linked hK hF (by omega) (by omega) (fun l => br_f (by decide) ⟨vp_in_nI (by omega) (by omega), nm_e (h0 l)⟩) (fun l => br_t rfl (h4 l))
theorem zr_unlink_keep (hI : zr_I N D L fo lk cu a b h) (hu : u < N) (hv : v < N) :
    zr_I N D (fun x y => L x y && !(decide (x = u) && decide (y = v))) (upd fo u (fo u &&& (((1 : Int32) <<< (nI v &&& 31)) ^^^ (-1)))) (upd lk (u * 12 + v) 0) cu a b h := by
  obtain ⟨⟨hN, hK1, hK2⟩, hD, hcnt, hF, hG, hcu⟩ := hI
  have hcnt' : ∀ x, ga_cnt (fun y => L x y && !(decide (x = u) && decide (y = v))) 12 ≤ D := by
    intro x
    refine Nat.le_trans (ga_cnt_mono fun i _ z => ?_) (hcnt x)
    rw [Bool.and_eq_true] at z
    exact z.1
  refine ⟨⟨hN, fun x y hxy => ?_, fun x => Nat.le_trans (hcnt' x) hD⟩, hD, hcnt', fun x hx y hy => ?_, fun x y hx hy => ?_, hcu⟩
  · have hxy' : (L x y && !(decide (x = u) && decide (y = v))) = true := hxy
    rw [Bool.and_eq_true] at hxy'
    exact hK1 x y hxy'.1
  · show bt (upd fo u (fo u &&& (((1 : Int32) <<< (nI v &&& 31)) ^^^ (-1))) x) y = (L x y && !(decide (x = u) && decide (y = v)))
    by_cases e : x = u
    · subst e
      rw [pk_us, b_and, b_xor, zb_sh v (by omega) y hy, b_m1 y hy, hF x hx y hy, decide_eq_true rfl, Bool.true_and, Bool.xor_true]
    · rw [pk_un e, hF x hx y hy, decide_eq_false e, Bool.false_and, Bool.not_false, Bool.and_true]
  · show upd lk (u * 12 + v) 0 (x * 12 + y) = 0 ↔ (L x y && !(decide (x = u) && decide (y = v))) = false
    by_cases e : x = u ∧ y = v
    · obtain ⟨e1, e2⟩ := e
      subst e1 e2
      rw [pk_us, decide_eq_true rfl, decide_eq_true rfl, Bool.true_and, Bool.not_true, Bool.and_false]
      exact ⟨fun _ => rfl, fun _ => rfl⟩
    · rw [pk_un (by omega), hG x y hx hy]
      have : (decide (x = u) && decide (y = v)) = false := by
        refine ts_nt fun z => e ?_
        rw [Bool.and_eq_true, decide_eq_true_eq, decide_eq_true_eq] at z
        exact z
      rw [this, Bool.not_false, Bool.and_true]
theorem zr_em (N : Nat) (p q : Int32) : zr_no N p q ∨ ∃ u v, u < N ∧ v < N ∧ p = nI u ∧ q = nI v := by
  refine (Classical.em (∃ u v, u < N ∧ v < N ∧ p = nI u ∧ q = nI v)).elim Or.inr (fun hn => Or.inl fun u v hu hv eu ev => hn ⟨u, v, hu, hv, eu, ev⟩)
end
end
section
/-! ===== what is owed ===== -/
section
variable {N D : Nat} {dg sv mv : Int32} {fo vs wm dl cu lk ou lt : Nat → Int32} {L : Nat → Nat → Bool} {V dd : Nat → Nat} {a b h u v : Nat} {p q : Int32}
theorem zr_mk {k : Nat} (hI : zr_I N D L fo lk cu a b h) (hV : zr_V N L sv vs wm dl ou lt) : i_Rel k (nI N, nI D, sv, mv, fo, vs, wm, dl, cu) (nI N, nI D, sv, mv, lk, cu, ou, lt) :=
  ⟨N, D, sv, mv, fo, vs, wm, dl, cu, lk, ou, lt, L, a, b, h, rfl, rfl, hI, hV⟩
theorem zr_clamp (p : Int32) (M : Nat) (h1 : 1 ≤ M) (hM : M < 100) : ∃ n, n ≤ M ∧ ∀ P : Int32 → Prop, P (nI n) → (1 ≤ p → ((p ≤ nI M → P p) ∧ (¬ p ≤ nI M → P (nI M)))) ∧ (¬ 1 ≤ p → P 1) := by
  by_cases g : 1 ≤ p
  · obtain ⟨j, hj, rfl⟩ := nI_of (x := p) (fun z => absurd (Int32.lt_of_le_of_lt g z) (by decide))
    by_cases g2 : nI j ≤ nI M
    · have g3 := g2
      rw [nI_leI hj (by omega)] at g3
      exact ⟨j, g3, fun P hP => br_t g (br_t g2 hP)⟩
    · exact ⟨M, Nat.le_refl M, fun P hP => br_t g (br_f g2 hP)⟩
  · exact ⟨1, h1, fun P hP => br_f g hP⟩
theorem zx_clamp {post : Int32 → Prop} {nd : Int32} {n M : Nat} (k : ∀ P : Int32 → Prop, P (nI n) → (1 ≤ p → ((p ≤ nI M → P p) ∧ (¬ p ≤ nI M → P (nI M)))) ∧ (¬ 1 ≤ p → P 1)) (hp : post (nI n)) :
    wpX_clamp post (nd, dg, sv, mv, fo, vs, wm, dl, cu) p (nI M) := k post hp
theorem zx_isComp {post : Int32 → Prop} {nd : Int32} (p : Int32) (h1 : ∀ c, c < 3 → p = nI c → post 1) (h0 : (∀ c, c < 3 → p ≠ nI c) → post 0) :
    wpX_isComponent post (nd, dg, sv, mv, fo, vs, wm, dl, cu) p := by
  refine br_c (fun z => h0 fun c hc e => ?_) (fun z => br_c (fun z2 => h0 fun c hc e => ?_) (fun z2 => ?_))
  · subst e; exact nI_pos (by omega) z
  · subst e
    exact nI_nlt (a := 2) (b := c) (by omega) (by omega) z2
  · obtain ⟨j, hj, rfl⟩ := nI_of z
    have z3 : ¬ nI 2 < nI j := z2
    rw [nI_ltI (by omega) hj] at z3
    exact h1 j (by omega) rfl
theorem zx_isHeap {post : Int32 → Prop} {nd : Int32} (p : Int32) (h1 : ∀ c, c < 4 → p = nI c → post 1) (h0 : (∀ c, c < 4 → p ≠ nI c) → post 0) :
    wpX_isHeap post (nd, dg, sv, mv, fo, vs, wm, dl, cu) p := by
  refine br_c (fun z => h0 fun c hc e => ?_) (fun z => br_c (fun z2 => h0 fun c hc e => ?_) (fun z2 => ?_))
  · subst e; exact nI_pos (by omega) z
  · subst e
    exact nI_nlt (a := 3) (b := c) (by omega) (by omega) z2
  · obtain ⟨j, hj, rfl⟩ := nI_of z
    have z3 : ¬ nI 3 < nI j := z2
    rw [nI_ltI (by omega) hj] at z3
    exact h1 j (by omega) rfl
/-- the same two checks as Y writes them out -/
theorem zy_comp {A B : Prop} (M : Nat) (hM : M < 100) (p : Int32) (h1 : ∀ c, c < M + 1 → p = nI c → B) (h0 : (∀ c, c < M + 1 → p ≠ nI c) → A) : (p < 0 → A) ∧ (¬ p < 0 → ((p ≤ nI M → B) ∧ (¬ p ≤ nI M → A))) := by
  refine br_c (fun z => h0 fun c hc e => ?_) (fun z => br_c (fun z2 => ?_) (fun z2 => h0 fun c hc e => ?_))
  · subst e; exact nI_pos (by omega) z
  · obtain ⟨j, hj, rfl⟩ := nI_of z
    rw [nI_leI hj (by omega)] at z2
    exact h1 j (by omega) rfl
  · subst e
    exact z2 (nI_le (by omega) (by omega))
theorem zr_cu_upd {c t : Nat} (hc : c < 3) (hcu : ga_cu N cu a b h) (h01 : c < 2 → ga_pl N t) (h2 : c = 2 → t < 4) : ∃ a' b' h', ga_cu N (upd cu c (nI t)) a' b' h' := by
  obtain ⟨pa, pb, hh, e0, e1, e2⟩ := hcu
  rcases (by omega : c = 0 ∨ c = 1 ∨ c = 2) with e | e | e
  · subst e
    exact ⟨t, b, h, h01 (by omega), pb, hh, pk_us, by rw [pk_un (by omega)]; exact e1, by rw [pk_un (by omega)]; exact e2⟩
  · subst e
    exact ⟨a, t, h, pa, h01 (by omega), hh, by rw [pk_un (by omega)]; exact e0, pk_us, by rw [pk_un (by omega)]; exact e2⟩
  · subst e
    exact ⟨a, b, t, pa, pb, h2 rfl, by rw [pk_un (by omega)]; exact e0, by rw [pk_un (by omega)]; exact e1, pk_us⟩
end
theorem i_up {k : Nat} {u : SX} {v : SY} (h : i_Rel k u v) : i_Rel (k + 4) u v := h
theorem i_vc0 (k0 : Int32) (k1 : Int32) : wpX_init (fun u => wpY_init (fun v => i_Rel 2 u v) k0 k1) k0 k1 := by
  obtain ⟨n, hn, kn⟩ := zr_clamp k0 12 (by omega) (by omega)
  obtain ⟨d, hd, kd⟩ := zr_clamp k1 3 (by omega) (by omega)
  have hcur : upd (upd (upd (fun _ => (0 : Int32)) 0 12) 1 12) 2 0 = upd (upd (fun _ => 0) 0 12) 1 12 := zy_upd_same (by rw [pk_un (by omega), pk_un (by omega)])
  have hI : zr_I n d (fun _ _ => false) (fun _ => 0) (fun _ => 0) (upd (upd (fun _ => (0 : Int32)) 0 12) 1 12) 12 12 0 := by
    have h0 : ∀ m, ga_cnt (fun _ => false) m = 0 := by
      intro m
      induction m with
      | zero => rfl
      | succ m ih =>
        show ga_cnt (fun _ => false) m + (if false = true then 1 else 0) = 0
        rw [ih]; rfl
    refine ⟨⟨hn, fun u v z => absurd (show false = true from z) (by decide), fun u => ?_⟩, hd, fun u => ?_, fun u _ v _ => b_0 v, fun u v _ _ => ⟨fun _ => rfl, fun _ => rfl⟩, Or.inr rfl, Or.inr rfl, by omega, rfl, rfl, rfl⟩
    · rw [h0]; omega
    · rw [h0]; omega
  unfold wpX_init
  refine zx_clamp kn (zx_clamp kd (nm_e (nm_e (nm_r hcur ?_))))
  unfold wpY_init
  refine kn (fun r => wY_init_59 _ k1 r 0 0 0 0 _ _ _ _) ?_
  unfold wY_init_59
  refine kd (fun r => wY_init_82 _ r _ _ _ _ _ _ _ _) ?_
  unfold wY_init_82
  exact nm_e (nm_e (zr_mk hI (Or.inl rfl)))
end
section
/-! ===== what is owed, method by method ===== -/
theorem i_vc_link {k : Nat} {u : SX} {v : SY} (I : i_Rel k u v) (hk : k + 4 ≤ 2050) (v1 : Int32) (v2 : Int32) : wpX_link (fun r u' => wpY_link (fun r' v' => r' = r ∧ i_Rel (k + 4) u' v') v v1 v2) u v1 v2 := by
  obtain ⟨N, D, sv, mv, fo, vs, wm, dl, cu, lk, ou, lt, L, a, b, h, rfl, rfl, hI, hV⟩ := I
  obtain ⟨hK, hD, hcnt, hF, hG, hcu⟩ := hI
  rcases zr_em N v1 v2 with hn | ⟨x, y, hx, hy, rfl, rfl⟩
  · exact zx_linkR hK.1 hn (zy_linkR hK.1 hn ⟨rfl, zr_mk ⟨hK, hD, hcnt, hF, hG, hcu⟩ hV⟩)
  · refine zx_linkN hK hF hD hx hy (fun l => ?_) (fun l g => ?_) (fun l g => ?_)
    · exact zy_linkN hK hG hD hx hy (fun _ => ⟨rfl, zr_mk ⟨hK, hD, hcnt, hF, hG, hcu⟩ hV⟩) (fun l2 => absurd l2 (by rw [l]; decide)) (fun l2 => absurd l2 (by rw [l]; decide))
    · exact zy_linkN hK hG hD hx hy (fun l2 => absurd l2 (by rw [l]; decide)) (fun _ _ => ⟨rfl, zr_mk ⟨hK, hD, hcnt, hF, hG, hcu⟩ hV⟩) (fun _ g2 => absurd g2 g)
    · exact zy_linkN hK hG hD hx hy (fun l2 => absurd l2 (by rw [l]; decide)) (fun _ g2 => absurd g g2) (fun _ _ => ⟨rfl, zr_mk (zr_link_keep ⟨hK, hD, hcnt, hF, hG, hcu⟩ hx hy g) (Or.inl rfl)⟩)
theorem i_vc_unlink {k : Nat} {u : SX} {v : SY} (I : i_Rel k u v) (hk : k + 4 ≤ 2050) (v1 : Int32) (v2 : Int32) : wpX_unlink (fun r u' => wpY_unlink (fun r' v' => r' = r ∧ i_Rel (k + 4) u' v') v v1 v2) u v1 v2 := by
  obtain ⟨N, D, sv, mv, fo, vs, wm, dl, cu, lk, ou, lt, L, a, b, h, rfl, rfl, hI, hV⟩ := I
  obtain ⟨hK, hD, hcnt, hF, hG, hcu⟩ := hI
  rcases zr_em N v1 v2 with hn | ⟨x, y, hx, hy, rfl, rfl⟩
  · exact zx_unlinkR hK.1 hn (zy_unlinkR hK.1 hn ⟨rfl, zr_mk ⟨hK, hD, hcnt, hF, hG, hcu⟩ hV⟩)
  · refine zx_unlinkN hK hF hx hy (fun l => ?_) (fun l => ?_)
    · exact zy_unlinkN hK hG hx hy (fun _ => ⟨rfl, zr_mk ⟨hK, hD, hcnt, hF, hG, hcu⟩ hV⟩) (fun l2 => absurd l2 (by rw [l]; decide))
    · exact zy_unlinkN hK hG hx hy (fun l2 => absurd l2 (by rw [l]; decide)) (fun _ => ⟨rfl, zr_mk (zr_unlink_keep ⟨hK, hD, hcnt, hF, hG, hcu⟩ hx hy) (Or.inl rfl)⟩)
theorem i_vc_linked {k : Nat} {u : SX} {v : SY} (I : i_Rel k u v) (hk : k + 4 ≤ 2050) (v1 : Int32) (v2 : Int32) : wpX_linked (fun r => wpY_linked (fun r' => r' = r ∧ i_Rel (k + 4) u v) v v1 v2) u v1 v2 := by
  have I' : i_Rel (k + 4) u v := i_up I
  obtain ⟨N, D, sv, mv, fo, vs, wm, dl, cu, lk, ou, lt, L, a, b, h, rfl, rfl, hI, hV⟩ := I
  obtain ⟨hK, hD, hcnt, hF, hG, hcu⟩ := hI
  have hN := hK.1
  have no : (∀ x y, x < N → y < N → v1 = nI x → v2 = nI y → L x y = false) → wpY_linked (fun r' => r' = 0 ∧ i_Rel (k + 4) (nI N, nI D, sv, mv, fo, vs, wm, dl, cu) (nI N, nI D, sv, mv, lk, cu, ou, lt)) (nI N, nI D, sv, mv, lk, cu, ou, lt) v1 v2 := by
    intro hn
    refine zy_linkedG hK hG v1 v2 (fun x y hx hy ex ey l => absurd (hn x y hx hy ex ey) (by rw [l]; decide)) (fun _ => ⟨rfl, I'⟩)
  unfold wpX_linked
  dsimp only
  refine zx_isNode hN v1 (fun x hx ex => br_f (by decide) ?_) (fun hn => br_t rfl (no fun x y hx hy ex ey => absurd ex (hn x hx)))
  refine zx_isNode hN v2 (fun y hy ey => br_f (by decide) ?_) (fun hn => br_t rfl (no fun x y hx hy ex ey => absurd ey (hn y hy)))
  subst ex ey
  refine zx_hasLink hF (by omega) (by omega) (fun l => br_f (by decide) ?_) (fun l => br_t rfl (no fun x' y' hx' hy' ex ey => ?_))
  · exact zy_linked hK hG (by omega) (by omega) (fun _ => ⟨rfl, I'⟩) (fun l2 => absurd l2 (by rw [l]; decide))
  · rw [nI_eq (by omega) (by omega)] at ex ey
    subst ex ey
    exact l
theorem i_vc_solve {k : Nat} {u : SX} {v : SY} (I : i_Rel k u v) (hk : k + 4 ≤ 2050) : wpX_solve (fun r u' => wpY_solve (fun r' v' => r' = r ∧ i_Rel (k + 4) u' v') v) u := by
  obtain ⟨N, D, sv, mv, fo, vs, wm, dl, cu, lk, ou, lt, L, a, b, h, rfl, rfl, hI, hV⟩ := I
  obtain ⟨hK, hD, hcnt, hF, hG, hcu⟩ := hI
  rcases hV with e | ⟨e, V, dd, hg, hdd, hX, hO, hlt⟩
  · refine zx_solve0 e hK hF (fun V dd vs2 wm2 dl2 hg hdd hX => ?_)
    exact zy_solve hK hG hg hdd (fun ou2 lt2 hO hlt => ⟨rfl, zr_mk ⟨hK, hD, hcnt, hF, hG, hcu⟩ (Or.inr ⟨rfl, V, dd, hg, hdd, hX, hO, hlt⟩)⟩)
  · subst e
    refine zx_solve1 (by decide) hK.1 hX.1 hg.1.1 ?_
    exact zy_solve hK hG hg hdd (fun ou2 lt2 hO hlt => ⟨rfl, zr_mk ⟨hK, hD, hcnt, hF, hG, hcu⟩ (Or.inr ⟨rfl, V, dd, hg, hdd, hX, hO, hlt⟩)⟩)
theorem i_vc_value {k : Nat} {u : SX} {v : SY} (I : i_Rel k u v) (hk : k + 4 ≤ 2050) (v1 : Int32) : wpX_value (fun r => wpY_value (fun r' => r' = r ∧ i_Rel (k + 4) u v) v v1) u v1 := by
  have I' : i_Rel (k + 4) u v := i_up I
  obtain ⟨N, D, sv, mv, fo, vs, wm, dl, cu, lk, ou, lt, L, a, b, h, rfl, rfl, hI, hV⟩ := I
  obtain ⟨hK, hD, hcnt, hF, hG, hcu⟩ := hI
  have hN := hK.1
  unfold wpX_value wpY_value
  dsimp only
  refine zx_isPlace hN v1 (fun x px ex => br_f (by decide) ?_) (fun hn => br_t rfl (zy_isPlace hN v1 (fun x px ex => absurd ex (hn x px)) (fun _ => br_t rfl ⟨rfl, I'⟩)))
  subst ex
  have x13 := ga_pl13 hN px
  rcases hV with e | ⟨e, V, dd, hg, hdd, hX, hO, hlt⟩
  · exact br_t e (zy_place1 hN px (br_f (by decide) (br_t e ⟨rfl, I'⟩)))
  · subst e
    have hz : V 12 = 0 := hg.1.2.1 12 (by omega)
    refine br_f (by decide) ⟨vp_in_nI x13 (by omega), zy_place1 hN px (br_f (by decide) (br_f (by decide) (zy_valueOf hO hg.1.1 hz x13 ⟨?_, I'⟩)))⟩
    rw [nI_clamp (by omega), hX.1 x px]
theorem i_vc_wins {k : Nat} {u : SX} {v : SY} (I : i_Rel k u v) (hk : k + 4 ≤ 2050) (v1 : Int32) : wpX_wins (fun r => wpY_wins (fun r' => r' = r ∧ i_Rel (k + 4) u v) v v1) u v1 := by
  have I' : i_Rel (k + 4) u v := i_up I
  obtain ⟨N, D, sv, mv, fo, vs, wm, dl, cu, lk, ou, lt, L, a, b, h, rfl, rfl, hI, hV⟩ := I
  obtain ⟨hK, hD, hcnt, hF, hG, hcu⟩ := hI
  have hN := hK.1
  unfold wpX_wins wpY_wins
  dsimp only
  refine zx_isPlace hN v1 (fun x px ex => br_f (by decide) ?_) (fun hn => br_t rfl (zy_isPlace hN v1 (fun x px ex => absurd ex (hn x px)) (fun _ => br_t rfl ⟨rfl, I'⟩)))
  subst ex
  have x13 := ga_pl13 hN px
  rcases hV with e | ⟨e, V, dd, hg, hdd, hX, hO, hlt⟩
  · exact br_t e (zy_place1 hN px (br_f (by decide) (br_t e ⟨rfl, I'⟩)))
  · subst e
    have hz : V 12 = 0 := hg.1.2.1 12 (by omega)
    refine br_f (by decide) ⟨vp_in_nI x13 (by omega), zy_place1 hN px (br_f (by decide) (br_f (by decide) ⟨4 + 1, zy_wi24 hO hg.1.1 hz x13 ⟨?_, I'⟩ 4 0 rfl⟩))⟩
    rw [nI_clamp (by omega)]
    exact (ga_ms_eq (hX.2.1 x px)).symm
theorem i_vc_delay {k : Nat} {u : SX} {v : SY} (I : i_Rel k u v) (hk : k + 4 ≤ 2050) (v1 : Int32) : wpX_delay (fun r => wpY_delay (fun r' => r' = r ∧ i_Rel (k + 4) u v) v v1) u v1 := by
  have I' : i_Rel (k + 4) u v := i_up I
  obtain ⟨N, D, sv, mv, fo, vs, wm, dl, cu, lk, ou, lt, L, a, b, h, rfl, rfl, hI, hV⟩ := I
  obtain ⟨hK, hD, hcnt, hF, hG, hcu⟩ := hI
  have hN := hK.1
  unfold wpX_delay wpY_delay
  dsimp only
  refine zx_isPlace hN v1 (fun x px ex => br_f (by decide) ?_) (fun hn => br_t rfl (zy_isPlace hN v1 (fun x px ex => absurd ex (hn x px)) (fun _ => br_t rfl ⟨rfl, I'⟩)))
  subst ex
  have x13 := ga_pl13 hN px
  rcases hV with e | ⟨e, V, dd, hg, hdd, hX, hO, hlt⟩
  · exact br_t e (zy_place1 hN px (br_f (by decide) (br_t e ⟨rfl, I'⟩)))
  · subst e
    have hz : V 12 = 0 := hg.1.2.1 12 (by omega)
    have h4 := hg.1.1 x
    have ev : vs (nI x).toNatClampNeg = nI (V x) := by rw [nI_clamp (by omega)]; exact hX.1 x px
    refine br_f (by decide) ⟨vp_in_nI x13 (by omega), pk_eq (V x) 4 (fun e4 => ?_) (fun e4 => ⟨vp_in_nI x13 (by omega), ?_⟩) ev rfl⟩
    · exact zy_place1 hN px (br_f (by decide) (br_f (by decide) (zy_valueOf hO hg.1.1 hz x13 (br_t (by rw [e4]; rfl) ⟨rfl, I'⟩))))
    · refine zy_place1 hN px (br_f (by decide) (br_f (by decide) (zy_valueOf hO hg.1.1 hz x13 (br_f (by rw [zb_n4 h4]; exact e4) ⟨vp_in_nI x13 (by omega), ?_, I'⟩))))
      rw [nI_clamp (by omega), (hlt x px).1 (by omega), (hX.2.2 x px).1 (by omega)]
theorem i_vc_outcomeOf {k : Nat} {u : SX} {v : SY} (I : i_Rel k u v) (hk : k + 4 ≤ 2050) (v1 : Int32) (v2 : Int32) (v3 : Int32) : wpX_outcomeOf (fun r => wpY_outcomeOf (fun r' => r' = r ∧ i_Rel (k + 4) u v) v v1 v2 v3) u v1 v2 v3 := by
  have I' : i_Rel (k + 4) u v := i_up I
  obtain ⟨N, D, sv, mv, fo, vs, wm, dl, cu, lk, ou, lt, L, a, b, h, rfl, rfl, hI, hV⟩ := I
  obtain ⟨hK, hD, hcnt, hF, hG, hcu⟩ := hI
  have hN := hK.1
  have no : (¬ ∃ x y z, ga_pl N x ∧ ga_pl N y ∧ z < 4 ∧ v1 = nI x ∧ v2 = nI y ∧ v3 = nI z) → wpY_outcomeOf (fun r' => r' = -2 ∧ i_Rel (k + 4) (nI N, nI D, sv, mv, fo, vs, wm, dl, cu) (nI N, nI D, sv, mv, lk, cu, ou, lt)) (nI N, nI D, sv, mv, lk, cu, ou, lt) v1 v2 v3 := by
    intro hn
    unfold wpY_outcomeOf
    dsimp only
    refine zy_isPlace hN v1 (fun x px ex => br_f (by decide) ?_) (fun _ => br_t rfl ⟨rfl, I'⟩)
    refine zy_isPlace hN v2 (fun y py ey => br_f (by decide) ?_) (fun _ => br_t rfl ⟨rfl, I'⟩)
    exact zy_comp 3 (by omega) v3 (fun z hz ez => absurd ⟨x, y, z, px, py, hz, ex, ey, ez⟩ hn) (fun _ => ⟨rfl, I'⟩)
  unfold wpX_outcomeOf
  dsimp only
  refine zx_isPlace hN v1 (fun x px ex => br_f (by decide) ?_) (fun hn => br_t rfl (no fun ⟨x, y, z, px, _, _, ex, _⟩ => hn x px ex))
  refine zx_isPlace hN v2 (fun y py ey => br_f (by decide) ?_) (fun hn => br_t rfl (no fun ⟨x, y, z, _, py, _, _, ey, _⟩ => hn y py ey))
  refine zx_isHeap v3 (fun z hz ez => br_f (by decide) ?_) (fun hn => br_t rfl (no fun ⟨x, y, z, _, _, hz, _, _, ez⟩ => hn z hz ez))
  subst ex ey ez
  rcases hV with e | ⟨e, V, dd, hg, hdd, hX, hO, hlt⟩
  · exact br_t e (zy_outcomeOf hN px py hz (fun _ => ⟨rfl, I'⟩) (fun n => absurd e n))
  · subst e
    refine br_f (by decide) (zx_judge hN hg.1.1 hX px py hz (zy_outcomeOf hN px py hz (fun n => absurd n (by decide)) (fun _ => ⟨?_, I'⟩)))
    exact hO x y z (ga_pl13 hN px) (ga_pl13 hN py) hz
theorem i_vc_place {k : Nat} {u : SX} {v : SY} (I : i_Rel k u v) (hk : k + 4 ≤ 2050) (v1 : Int32) (v2 : Int32) : wpX_place (fun r u' => wpY_place (fun r' v' => r' = r ∧ i_Rel (k + 4) u' v') v v1 v2) u v1 v2 := by
  have I' : i_Rel (k + 4) u v := i_up I
  obtain ⟨N, D, sv, mv, fo, vs, wm, dl, cu, lk, ou, lt, L, a, b, h, rfl, rfl, hI, hV⟩ := I
  obtain ⟨hK, hD, hcnt, hF, hG, hcu⟩ := hI
  have hN := hK.1
  have fin : ∀ c t, c < 3 → (c < 2 → ga_pl N t) → (c = 2 → t < 4) → i_Rel (k + 4) (nI N, nI D, sv, 0, fo, vs, wm, dl, upd cu c (nI t)) (nI N, nI D, sv, 0, lk, upd cu c (nI t), ou, lt) := by
    intro c t hc h01 h2
    obtain ⟨a', b', h', hcu'⟩ := zr_cu_upd hc hcu h01 h2
    exact zr_mk ⟨hK, hD, hcnt, hF, hG, hcu'⟩ hV
  unfold wpX_place wpY_place
  dsimp only
  refine zx_isComp v1 (fun c hc ec => br_f (by decide) ?_) (fun hn => br_t rfl (zy_comp 2 (by omega) v1 (fun c hc ec => absurd ec (hn c hc)) (fun _ => ⟨rfl, I'⟩)))
  subst ec
  have ycomp : ∀ A B : Prop, B → ((nI c < 0 → A) ∧ (¬ nI c < 0 → ((nI c ≤ 2 → B) ∧ (¬ nI c ≤ 2 → A)))) := fun A B hB => br_f (nI_pos (by omega)) (br_t (nI_le (b := 2) (by omega) (by omega)) hB)
  have ci : vp_in (nI c) 3 := vp_in_nI hc (by omega)
  by_cases e2 : c = 2
  · have c2 : (2 : Int32) ≤ nI c := nI_le (a := 2) (by omega) (by omega)
    have c2' : nI c = 2 := by rw [e2]; rfl
    refine br_t c2 ?_
    unfold wX_place_27 wX_place_43
    refine br_t c2' (zx_isHeap v2 (fun t ht et => br_f (by decide) ?_) (fun hn => br_t rfl ?_))
    · subst et
      refine ⟨ci, nm_r (e' := upd cu c (nI t)) (by rw [nI_clamp (by omega)]) (ycomp _ _ (br_t c2 ?_))⟩
      unfold wY_place_28 wY_place_45
      exact br_t c2' (br_f (nI_pos (by omega)) (br_t (nI_le (b := 3) (by omega) (by omega)) ⟨ci, nm_r (e' := upd cu c (nI t)) (by rw [nI_clamp (by omega)]) ⟨rfl, fin c t hc (by omega) (fun _ => ht)⟩⟩))
    · refine ycomp _ _ (br_t c2 ?_)
      unfold wY_place_28
      exact br_t c2' (zy_comp 3 (by omega) v2 (fun t ht et => absurd et (hn t ht)) (fun _ => ⟨rfl, I'⟩))
  · have c2 : ¬ (2 : Int32) ≤ nI c := nI_ge (b := 2) (by omega) (by omega)
    have c2' : ¬ nI c = 2 := fun z => e2 ((nI_eq (b := 2) (by omega) (by omega)).mp z)
    refine br_f c2 ?_
    unfold wX_place_27 wX_place_43
    refine zx_isPlace hN v2 (fun t ht et => br_f (by decide) (br_f c2' ?_)) (fun hn => br_t rfl ?_)
    · subst et
      have t13 := ga_pl13 hN ht
      refine ⟨ci, nm_r (e' := upd cu c (nI t)) (by rw [nI_clamp (by omega)]) (ycomp _ _ (br_f c2 (zy_place1 hN ht (br_f (by decide) ?_))))⟩
      unfold wY_place_28 wY_place_45
      exact br_f c2' ⟨ci, nm_r (e' := upd cu c (nI t)) (by rw [nI_clamp (by omega)]) ⟨rfl, fin c t hc (fun _ => ht) (fun z => absurd z e2)⟩⟩
    · exact ycomp _ _ (br_f c2 (zy_isPlace hN v2 (fun t ht et => absurd et (hn t ht)) (fun _ => br_t rfl ⟨rfl, I'⟩)))
theorem i_vc_at {k : Nat} {u : SX} {v : SY} (I : i_Rel k u v) (hk : k + 4 ≤ 2050) (v1 : Int32) : wpX_at (fun r => wpY_at (fun r' => r' = r ∧ i_Rel (k + 4) u v) v v1) u v1 := by
  have I' : i_Rel (k + 4) u v := i_up I
  obtain ⟨N, D, sv, mv, fo, vs, wm, dl, cu, lk, ou, lt, L, a, b, h, rfl, rfl, hI, hV⟩ := I
  unfold wpX_at wpY_at
  dsimp only
  refine zx_isComp v1 (fun c hc ec => br_f (by decide) ?_) (fun hn => br_t rfl (zy_comp 2 (by omega) v1 (fun c hc ec => absurd ec (hn c hc)) (fun _ => ⟨rfl, I'⟩)))
  subst ec
  have ci : vp_in (nI c) 3 := vp_in_nI hc (by omega)
  exact ⟨ci, br_f (nI_pos (by omega)) (br_t (nI_le (b := 2) (by omega) (by omega)) ⟨ci, rfl, I'⟩)⟩
theorem i_vc_mover {k : Nat} {u : SX} {v : SY} (I : i_Rel k u v) (hk : k + 4 ≤ 2050) : wpX_mover (fun r => wpY_mover (fun r' => r' = r ∧ i_Rel (k + 4) u v) v) u := by
  have I' : i_Rel (k + 4) u v := i_up I
  obtain ⟨N, D, sv, mv, fo, vs, wm, dl, cu, lk, ou, lt, L, a, b, h, rfl, rfl, hI, hV⟩ := I
  exact ⟨rfl, I'⟩
theorem i_vc_moveCount {k : Nat} {u : SX} {v : SY} (I : i_Rel k u v) (hk : k + 4 ≤ 2050) : wpX_moveCount (fun r => wpY_moveCount (fun r' => r' = r ∧ i_Rel (k + 4) u v) v) u := by
  have I' : i_Rel (k + 4) u v := i_up I
  obtain ⟨N, D, sv, mv, fo, vs, wm, dl, cu, lk, ou, lt, L, a, b, h, rfl, rfl, hI, hV⟩ := I
  obtain ⟨hK, hD, hcnt, hF, hG, hcu⟩ := hI
  exact zx_moveCount hK hF hcu (zy_moveCount hK hG hcu ⟨rfl, I'⟩)
theorem i_vc_outcome {k : Nat} {u : SX} {v : SY} (I : i_Rel k u v) (hk : k + 4 ≤ 2050) : wpX_outcome (fun r => wpY_outcome (fun r' => r' = r ∧ i_Rel (k + 4) u v) v) u := by
  have I' : i_Rel (k + 4) u v := i_up I
  obtain ⟨N, D, sv, mv, fo, vs, wm, dl, cu, lk, ou, lt, L, a, b, h, rfl, rfl, hI, hV⟩ := I
  obtain ⟨hK, hD, hcnt, hF, hG, hcu⟩ := hI
  have hN := hK.1
  rcases hV with e | ⟨e, V, dd, hg, hdd, hX, hO, hlt⟩
  · obtain ⟨pa, pb, hh, e0, e1, e2⟩ := hcu
    unfold wpX_outcome wpY_outcome
    dsimp only
    rw [e0, e1, e2]
    exact br_t e (zy_outcomeOf hN pa pb hh (fun _ => ⟨rfl, I'⟩) (fun n => absurd e n))
  · subst e
    exact zx_outcome (by decide) hN hg.1.1 hX hcu (zy_outcome (by decide) hN hO hcu ⟨rfl, I'⟩)
theorem zr_best {k : Nat} {u : SX} {v : SY} (I : i_Rel k u v) : ∃ r : Int32, (∀ post : Int32 → Prop, post r → wpX_best post u) ∧ (∀ post : Int32 → Prop, post r → wpY_best post v) := by
  obtain ⟨N, D, sv, mv, fo, vs, wm, dl, cu, lk, ou, lt, L, a, b, h, rfl, rfl, hI, hV⟩ := I
  obtain ⟨hK, hD, hcnt, hF, hG, hcu⟩ := hI
  have hN := hK.1
  rcases hV with e | ⟨e, V, dd, hg, hdd, hX, hO, hlt⟩
  · exact ⟨-1, fun post hp => br_t e hp, fun post hp => br_t e hp⟩
  · subst e
    have hz : V 12 = 0 := hg.1.2.1 12 (by omega)
    exact ⟨ga_choice L V dd a b h, fun post hp => zx_best (by decide) hK hF hg.1.1 hdd hX hcu hp, fun post hp => zy_best (by decide) hK hG hg.1.1 hz hdd hO hlt hcu hp⟩
theorem i_vc_best {k : Nat} {u : SX} {v : SY} (I : i_Rel k u v) (hk : k + 4 ≤ 2050) : wpX_best (fun r => wpY_best (fun r' => r' = r ∧ i_Rel (k + 4) u v) v) u := by
  obtain ⟨r, hX, hY⟩ := zr_best I
  exact hX _ (hY _ ⟨rfl, i_up I⟩)
theorem zr_move {k : Nat} {u : SX} {v : SY} (I : i_Rel k u v) (v1 v2 : Int32) : ∃ (r : Int32) (u' : SX) (v' : SY), i_Rel (k + 4) u' v' ∧
    (∀ post : Int32 → SX → Prop, post r u' → wpX_move post u v1 v2) ∧ (∀ post : Int32 → SY → Prop, post r v' → wpY_move post v v1 v2) := by
  have I' : i_Rel (k + 4) u v := i_up I
  obtain ⟨N, D, sv, mv, fo, vs, wm, dl, cu, lk, ou, lt, L, a, b, h, rfl, rfl, hI, hV⟩ := I
  obtain ⟨hK, hD, hcnt, hF, hG, hcu⟩ := hI
  have hN := hK.1
  have hcu0 := hcu
  obtain ⟨pa, pb, hh, e0, e1, e2⟩ := hcu0
  have a13 := ga_pl13 hN pa
  have b13 := ga_pl13 hN pb
  rcases Classical.em (∃ c t, c < 3 ∧ t < 12 ∧ v1 = nI c ∧ v2 = nI t ∧ ga_mv L a b h c t = true) with ⟨c, t, hc, ht, rfl, rfl, hm⟩ | hn
  · have ci : vp_in (nI c) 3 := vp_in_nI hc (by omega)
    have hx : i_Rel (k + 4) (nI N, nI D, sv, 1 - mv, fo, vs, wm, dl, upd cu c (nI t)) (nI N, nI D, sv, 1 - mv, lk, upd cu c (nI t), ou, lt) := by
      have h01 : c < 2 → ga_pl N t := by
        intro hc2
        rcases (by omega : c = 0 ∨ c = 1) with e | e
        · subst e
          exact Or.inl (hK.2.1 a t hm).2
        · subst e
          exact Or.inl (hK.2.1 b t hm).2
      have h2 : c = 2 → t < 4 := by
        intro e
        subst e
        have : t < h := of_decide_eq_true hm
        omega
      obtain ⟨a', b', h', hcu'⟩ := zr_cu_upd hc hcu h01 h2
      exact zr_mk ⟨hK, hD, hcnt, hF, hG, hcu'⟩ hV
    refine ⟨0, _, _, hx, fun post hp => ?_, fun post hp => ?_⟩
    · unfold wpX_move
      dsimp only
      refine zx_isComp (nI c) (fun _ _ _ => br_f (by decide) ?_) (fun hn => absurd rfl (hn c hc))
      exact zx_isMove hK hF hcu hc ht (fun _ => br_f (by decide) ⟨ci, nm_r (e' := upd cu c (nI t)) (by rw [nI_clamp (by omega)]) (nm_e hp)⟩) (fun m => absurd m (by rw [hm]; decide))
    · unfold wpY_move
      dsimp only
      rw [e0, e1, e2]
      refine br_f (nI_pos (by omega)) (br_t (nI_le (b := 2) (by omega) (by omega)) ?_)
      exact zy_isMove hK hG a13 b13 hh hc ht (fun _ => br_f (by decide) ⟨ci, nm_r (e' := upd cu c (nI t)) (by rw [nI_clamp (by omega)]) (nm_e hp)⟩) (fun m => absurd m (by rw [hm]; decide))
  · refine ⟨-2, _, _, I', fun post hp => ?_, fun post hp => ?_⟩
    · unfold wpX_move
      dsimp only
      refine zx_isComp v1 (fun c hc ec => br_f (by decide) ?_) (fun _ => br_t rfl hp)
      subst ec
      exact zx_isMoveG hK hF hcu hc v2 (fun t ht et hm => absurd ⟨c, t, hc, ht, rfl, et, hm⟩ hn) (fun _ => br_t rfl hp)
    · unfold wpY_move
      dsimp only
      rw [e0, e1, e2]
      refine zy_comp 2 (by omega) v1 (fun c hc ec => ?_) (fun _ => hp)
      subst ec
      exact zy_isMoveG hK hG a13 b13 hh hc v2 (fun t ht et hm => absurd ⟨c, t, hc, ht, rfl, et, hm⟩ hn) (fun _ => br_t rfl hp)
theorem i_vc_move {k : Nat} {u : SX} {v : SY} (I : i_Rel k u v) (hk : k + 4 ≤ 2050) (v1 : Int32) (v2 : Int32) : wpX_move (fun r u' => wpY_move (fun r' v' => r' = r ∧ i_Rel (k + 4) u' v') v v1 v2) u v1 v2 := by
  obtain ⟨r, u', v', hR, hX, hY⟩ := zr_move I v1 v2
  exact hX _ (hY _ ⟨rfl, hR⟩)
theorem i_vc_playBest {k : Nat} {u : SX} {v : SY} (I : i_Rel k u v) (hk : k + 4 ≤ 2050) : wpX_playBest (fun r u' => wpY_playBest (fun r' v' => r' = r ∧ i_Rel (k + 4) u' v') v) u := by
  have I' : i_Rel (k + 4) u v := i_up I
  obtain ⟨r, bX, bY⟩ := zr_best I
  have mv0 := fun (p q : Int32) => zr_move I p q
  obtain ⟨N, D, sv, mv, fo, vs, wm, dl, cu, lk, ou, lt, L, a, b, h, rfl, rfl, hI, hV⟩ := I
  unfold wpX_playBest wpY_playBest
  dsimp only
  refine bX _ ?_
  by_cases hr : r < 0
  · exact br_t hr (bY _ (br_t hr ⟨rfl, I'⟩))
  · obtain ⟨j, hj, rfl⟩ := nI_of hr
    have s1 : nI j >>> ((4 : Int32) &&& 31) = nI (j / 16) := pk_shrN hj _ 4 (by decide)
    have s2 : nI j &&& 15 = nI (j % 16) := pk_andN (by omega) 4 (by decide)
    have s3 : nI j / 16 = nI (j / 16) := pk_div (d := 16) hj (by omega) (by omega)
    have s4 : nI j - nI j / 16 * 16 = nI (j % 16) := pk_rem (d := 16) hj (by omega) (by omega)
    obtain ⟨r2, u', v', hR, hX, hY⟩ := mv0 (nI (j / 16)) (nI (j % 16))
    have hR2 := hR
    obtain ⟨N2, D2, sv2, mv2, fo2, vs2, wm2, dl2, cu2, lk2, ou2, lt2, L2, a2, b2, h2, rfl, rfl, _, _⟩ := hR2
    refine br_f hr ?_
    rw [s1, s2]
    refine hX _ (bY _ (br_f hr ⟨by decide, by decide, ?_⟩))
    rw [s4, s3]
    exact hY _ ⟨rfl, hR⟩
end
