section
/-! rows of kit/rows/PURE-ROWS (pasted) -/
theorem pk_us {f : Nat → Int32} {k : Nat} {x : Int32} : upd f k x k = x := if_pos rfl
theorem pk_un {f : Nat → Int32} {k j : Nat} {x : Int32} (h : j ≠ k) : upd f k x j = f j := if_neg h
theorem pk_sub {a b : Nat} (h : b ≤ a) : nI a - nI b = nI (a - b) := by
  obtain ⟨c, rfl⟩ : ∃ c, a = c + b := ⟨a - b, by omega⟩
  rw [← nI_add, Int32.add_sub_cancel, Nat.add_sub_cancel]
theorem pk_m1 (n : Nat) : nI (n + 1) + (-1) = nI n := by
  rw [← nI_1, Int32.add_assoc, show (1 : Int32) + (-1) = 0 from rfl, Int32.add_zero]
theorem pk_mul (a b : Nat) : nI a * nI b = nI (a * b) := (Int32.ofNat_mul a b).symm
theorem pk_ix (x : Int32) {n : Nat} (hn : n < 2 ^ 31) : x < 0 ∨ nI n ≤ x ∨ ∃ j : Nat, j < n ∧ x = nI j := by
  by_cases h : x < 0
  · exact Or.inl h
  · obtain ⟨j, hj, rfl⟩ := nI_of h
    by_cases h2 : j < n
    · exact Or.inr (Or.inr ⟨j, h2, rfl⟩)
    · exact Or.inr (Or.inl (nI_le (by omega) hj))
theorem pk_le {x y : Int32} {A B : Prop} (a b : Nat) (f : a ≤ b → A) (g : b < a → B) (hx : x = nI a := by rfl) (hy : y = nI b := by rfl) (ha : a < 2 ^ 31 := by omega) (hb : b < 2 ^ 31 := by omega) : (x ≤ y → A) ∧ (¬ x ≤ y → B) := by
  subst hx hy
  rw [nI_leI ha hb]
  exact ⟨f, fun z => g (by omega)⟩
theorem pk_lt {x y : Int32} {A B : Prop} (a b : Nat) (f : a < b → A) (g : b ≤ a → B) (hx : x = nI a := by rfl) (hy : y = nI b := by rfl) (ha : a < 2 ^ 31 := by omega) (hb : b < 2 ^ 31 := by omega) : (x < y → A) ∧ (¬ x < y → B) := by
  subst hx hy
  rw [nI_ltI ha hb]
  exact ⟨f, fun z => g (by omega)⟩
theorem pk_eq {x y : Int32} {A B : Prop} (a b : Nat) (f : a = b → A) (g : a ≠ b → B) (hx : x = nI a := by rfl) (hy : y = nI b := by rfl) (ha : a < 2 ^ 31 := by omega) (hb : b < 2 ^ 31 := by omega) : (x = y → A) ∧ (¬ x = y → B) := by
  subst hx hy
  rw [nI_eq ha hb]
  exact ⟨f, g⟩
theorem pk_in {x : Int32} (n N : Nat) (h : n < N) (hx : x = nI n := by rfl) (hN : N < 2 ^ 31 := by omega) : vp_in x N := by
  subst hx
  exact vp_in_nI h hN
theorem pk_cl {x : Int32} (n : Nat) (hx : x = nI n := by rfl) (h : n < 2 ^ 31 := by omega) : x.toNatClampNeg = n := by
  subst hx
  exact nI_clamp h
theorem pk_tn {n : Nat} (h : n < 2 ^ 32) : (nI n).toBitVec.toNat = n := Nat.mod_eq_of_lt h
theorem pk_and (x : Int32) {m : Int32} (k : Nat) (hm : m.toBitVec.toNat = 2 ^ k - 1) : x &&& m = nI (x.toBitVec.toNat % 2 ^ k) := by
  apply Int32.toBitVec_inj.mp
  apply BitVec.eq_of_toNat_eq
  rw [Int32.toBitVec_and, BitVec.toNat_and, hm, Nat.and_two_pow_sub_one_eq_mod]
  show _ = (BitVec.ofNat 32 _).toNat
  rw [BitVec.toNat_ofNat]
  exact (Nat.mod_eq_of_lt (Nat.lt_of_le_of_lt (Nat.mod_le _ _) x.toBitVec.isLt)).symm
theorem pk_andN {n : Nat} (h : n < 2 ^ 32) {m : Int32} (k : Nat) (hm : m.toBitVec.toNat = 2 ^ k - 1) : nI n &&& m = nI (n % 2 ^ k) := by
  rw [pk_and _ k hm, pk_tn h]
theorem pk_shr (a s : Int32) (k : Nat) (hs : (s.toBitVec.smod 32).toNat = k) : (a >>> s).toInt = a.toInt >>> k := by
  show (a.toBitVec.sshiftRight (s.toBitVec.smod 32).toNat).toInt = _
  rw [hs, BitVec.toInt_sshiftRight]
  rfl
theorem pk_shrN {n : Nat} (h : n < 2 ^ 31) (s : Int32) (k : Nat) (hs : (s.toBitVec.smod 32).toNat = k) : nI n >>> s = nI (n / 2 ^ k) := by
  apply Int32.toInt_inj.mp
  have h2 : n / 2 ^ k ≤ n := Nat.div_le_self _ _
  rw [pk_shr _ _ k hs, nI_toInt h, nI_toInt (by omega), Int.shiftRight_eq_div_pow]
  rfl
theorem pk_loop {σ : Type} (W : Nat → Nat → σ → Prop) (I : Nat → σ → Prop) (e i0 : Nat) (s : σ) (hi : i0 ≤ e) (h0 : I i0 s) (hx : ∀ n s, I e s → W (n + 1) e s)
    (hs : ∀ n i s, i < e → I i s → (∀ s', I (i + 1) s' → W n (i + 1) s') → W (n + 1) i s) : ∃ n, W n i0 s :=
  ⟨e + 1, loop_i W I e hx hs (e + 1) i0 s hi (by omega) h0⟩
end
section
section RING
/-! A commutative semiring as a tuple: sum, product, zero, one -/
abbrev sr_T (S : Type) : Type := (S → S → S) × (S → S → S) × S × S
def sr_a {S : Type} (K : sr_T S) (a b : S) : S := K.1 a b
def sr_m {S : Type} (K : sr_T S) (a b : S) : S := K.2.1 a b
def sr_z {S : Type} (K : sr_T S) : S := K.2.2.1
def sr_o {S : Type} (K : sr_T S) : S := K.2.2.2
def sr_Law {S : Type} (K : sr_T S) : Prop :=
  (∀ a b : S, sr_a K a b = sr_a K b a) ∧ (∀ a b c : S, sr_a K (sr_a K a b) c = sr_a K a (sr_a K b c)) ∧ (∀ a : S, sr_a K (sr_z K) a = a) ∧
  (∀ a b : S, sr_m K a b = sr_m K b a) ∧ (∀ a b c : S, sr_m K (sr_m K a b) c = sr_m K a (sr_m K b c)) ∧ (∀ a : S, sr_m K (sr_o K) a = a) ∧
  (∀ a : S, sr_m K (sr_z K) a = sr_z K) ∧ (∀ a b c : S, sr_m K a (sr_a K b c) = sr_a K (sr_m K a b) (sr_m K a c))
variable {S : Type} {K : sr_T S}
theorem sr_ac (H : sr_Law K) (a b : S) : sr_a K a b = sr_a K b a := H.1 a b
theorem sr_aa (H : sr_Law K) (a b c : S) : sr_a K (sr_a K a b) c = sr_a K a (sr_a K b c) := H.2.1 a b c
theorem sr_za (H : sr_Law K) (a : S) : sr_a K (sr_z K) a = a := H.2.2.1 a
theorem sr_az (H : sr_Law K) (a : S) : sr_a K a (sr_z K) = a := by rw [sr_ac H, sr_za H]
theorem sr_mc (H : sr_Law K) (a b : S) : sr_m K a b = sr_m K b a := H.2.2.2.1 a b
theorem sr_ma (H : sr_Law K) (a b c : S) : sr_m K (sr_m K a b) c = sr_m K a (sr_m K b c) := H.2.2.2.2.1 a b c
theorem sr_om (H : sr_Law K) (a : S) : sr_m K (sr_o K) a = a := H.2.2.2.2.2.1 a
theorem sr_mo (H : sr_Law K) (a : S) : sr_m K a (sr_o K) = a := by rw [sr_mc H, sr_om H]
theorem sr_zm (H : sr_Law K) (a : S) : sr_m K (sr_z K) a = sr_z K := H.2.2.2.2.2.2.1 a
theorem sr_mz (H : sr_Law K) (a : S) : sr_m K a (sr_z K) = sr_z K := by rw [sr_mc H, sr_zm H]
theorem sr_d (H : sr_Law K) (a b c : S) : sr_m K a (sr_a K b c) = sr_a K (sr_m K a b) (sr_m K a c) := H.2.2.2.2.2.2.2 a b c
theorem sr_dr (H : sr_Law K) (a b c : S) : sr_m K (sr_a K b c) a = sr_a K (sr_m K b a) (sr_m K c a) := by
  rw [sr_mc H, sr_d H, sr_mc H a b, sr_mc H a c]
theorem sr_a4 (H : sr_Law K) (a b c d : S) : sr_a K (sr_a K a b) (sr_a K c d) = sr_a K (sr_a K a c) (sr_a K b d) := by
  rw [sr_aa H, sr_aa H, ← sr_aa H b c d, sr_ac H b c, sr_aa H c b d]
theorem sr_mlc (H : sr_Law K) (a b c : S) : sr_m K a (sr_m K b c) = sr_m K b (sr_m K a c) := by
  rw [← sr_ma H, sr_mc H a b, sr_ma H]

/-! sums -/
def sr_s {S : Type} (K : sr_T S) (f : Nat → S) (a : Nat) : Nat → S
  | 0 => sr_z K
  | n + 1 => sr_a K (sr_s K f a n) (f (a + n))
theorem sr_s0 {f : Nat → S} {a : Nat} : sr_s K f a 0 = sr_z K := rfl
theorem sr_s1 {f : Nat → S} {a n : Nat} : sr_s K f a (n + 1) = sr_a K (sr_s K f a n) (f (a + n)) := rfl
theorem sr_sc {f g : Nat → S} {a : Nat} : ∀ n, (∀ i, a ≤ i → i < a + n → f i = g i) → sr_s K f a n = sr_s K g a n
  | 0, _ => rfl
  | n + 1, h => by
    rw [sr_s1, sr_s1, sr_sc n (fun i h1 h2 => h i h1 (by omega)), h (a + n) (by omega) (by omega)]
theorem sr_sz (H : sr_Law K) {f : Nat → S} {a : Nat} : ∀ n, (∀ i, a ≤ i → i < a + n → f i = sr_z K) → sr_s K f a n = sr_z K
  | 0, _ => rfl
  | n + 1, h => by
    rw [sr_s1, sr_sz H n (fun i h1 h2 => h i h1 (by omega)), h (a + n) (by omega) (by omega), sr_za H]
theorem sr_sa (H : sr_Law K) {f g : Nat → S} {a : Nat} : ∀ n, sr_s K (fun i => sr_a K (f i) (g i)) a n = sr_a K (sr_s K f a n) (sr_s K g a n)
  | 0 => (sr_za H _).symm
  | n + 1 => by
    rw [sr_s1, sr_s1, sr_s1, sr_sa H n, sr_a4 H]
theorem sr_sm (H : sr_Law K) {f : Nat → S} {a : Nat} (c : S) : ∀ n, sr_m K c (sr_s K f a n) = sr_s K (fun i => sr_m K c (f i)) a n
  | 0 => sr_mz H c
  | n + 1 => by
    rw [sr_s1, sr_s1, sr_d H, sr_sm H c n]
theorem sr_smr (H : sr_Law K) {f : Nat → S} {a : Nat} (c : S) (n : Nat) : sr_m K (sr_s K f a n) c = sr_s K (fun i => sr_m K (f i) c) a n := by
  rw [sr_mc H, sr_sm H]
  exact sr_sc n (fun i _ _ => sr_mc H _ _)
theorem sr_sp (H : sr_Law K) {f : Nat → S} {a n : Nat} : ∀ m, sr_s K f a (n + m) = sr_a K (sr_s K f a n) (sr_s K f (a + n) m)
  | 0 => (sr_az H _).symm
  | m + 1 => by
    rw [sr_s1, ← Nat.add_assoc, sr_s1, sr_sp H m, sr_aa H, Nat.add_assoc]
theorem sr_ss (H : sr_Law K) {f : Nat → S} {a : Nat} (n : Nat) : sr_s K f a (n + 1) = sr_a K (f a) (sr_s K f (a + 1) n) := by
  rw [Nat.add_comm n 1, sr_sp H n, sr_s1, sr_s0, sr_za H, Nat.add_zero]
theorem sr_sh {f : Nat → S} {a : Nat} : ∀ n, sr_s K f (a + 1) n = sr_s K (fun e => f (e + 1)) a n
  | 0 => rfl
  | n + 1 => by
    rw [sr_s1, sr_s1, sr_sh n, show a + 1 + n = a + n + 1 from by omega]
theorem sr_sx (H : sr_Law K) {f : Nat → Nat → S} {a b : Nat} (m : Nat) : ∀ n, sr_s K (fun i => sr_s K (fun j => f i j) b m) a n = sr_s K (fun j => sr_s K (fun i => f i j) a n) b m
  | 0 => (sr_sz H m (fun _ _ _ => rfl)).symm
  | n + 1 => by
    rw [sr_s1, sr_sx H m n]
    exact (sr_sa H m).symm
/-- the one exchange that all the automaton's laws use -/
theorem sr_lin (H : sr_Law K) {c w : Nat → S} {r : Nat → Nat → S} {y : Nat → S} {a b : Nat} (n N : Nat) :
    sr_s K (fun q => sr_m K (c q) (sr_m K (w q) (sr_s K (fun e => sr_m K (r e q) (y e)) b N))) a n
      = sr_s K (fun e => sr_m K (sr_s K (fun q => sr_m K (c q) (sr_m K (w q) (r e q))) a n) (y e)) b N := by
  have h1 : sr_s K (fun q => sr_m K (c q) (sr_m K (w q) (sr_s K (fun e => sr_m K (r e q) (y e)) b N))) a n
      = sr_s K (fun q => sr_s K (fun e => sr_m K (sr_m K (c q) (sr_m K (w q) (r e q))) (y e)) b N) a n := by
    refine sr_sc n (fun q _ _ => ?_)
    rw [sr_sm H, sr_sm H]
    refine sr_sc N (fun e _ _ => ?_)
    rw [sr_ma H, sr_ma H]
  rw [h1, sr_sx H N n]
  refine sr_sc N (fun e _ _ => ?_)
  rw [sr_smr H]
end RING
end
section
section AUTO
variable {S : Type} {K : sr_T S}
def sr_ft {S : Type} (K : sr_T S) (k c : Int32) : S := if k = 3 ∨ k = c then sr_o K else sr_z K
/-- from place p, d letters left, the next one at i -/
def gl_R {S : Type} (K : sr_T S) (G : Nat → Nat → S) (L : Nat → S) (kd t : Nat → Int32) (a n : Nat) : Nat → Nat → Nat → S
  | 0, p, _ => L p
  | d + 1, p, i => sr_s K (fun q => sr_m K (G p q) (sr_m K (sr_ft K (kd q) (t i)) (gl_R K G L kd t a n d q (i + 1)))) a n
/-- the window of length d that begins at i -/
def gl_A {S : Type} (K : sr_T S) (E : S) (F : Nat → S) (G : Nat → Nat → S) (L : Nat → S) (kd t : Nat → Int32) (a n : Nat) : Nat → Nat → S
  | 0, _ => E
  | d + 1, i => sr_s K (fun q => sr_m K (F q) (sr_m K (sr_ft K (kd q) (t i)) (gl_R K G L kd t a n d q (i + 1)))) a n
theorem gl_R0 {G : Nat → Nat → S} {L : Nat → S} {kd t : Nat → Int32} {a n p i : Nat} : gl_R K G L kd t a n 0 p i = L p := rfl
theorem gl_R1 {G : Nat → Nat → S} {L : Nat → S} {kd t : Nat → Int32} {a n d p i : Nat} : gl_R K G L kd t a n (d + 1) p i = sr_s K (fun q => sr_m K (G p q) (sr_m K (sr_ft K (kd q) (t i)) (gl_R K G L kd t a n d q (i + 1)))) a n := rfl
theorem gl_A0 {E : S} {F : Nat → S} {G : Nat → Nat → S} {L : Nat → S} {kd t : Nat → Int32} {a n i : Nat} : gl_A K E F G L kd t a n 0 i = E := rfl
theorem gl_A1 {E : S} {F : Nat → S} {G : Nat → Nat → S} {L : Nat → S} {kd t : Nat → Int32} {a n d i : Nat} : gl_A K E F G L kd t a n (d + 1) i = sr_s K (fun q => sr_m K (F q) (sr_m K (sr_ft K (kd q) (t i)) (gl_R K G L kd t a n d q (i + 1)))) a n := rfl
theorem gl_Rc {G G' : Nat → Nat → S} {L L' : Nat → S} {kd kd' t : Nat → Int32} {a n : Nat}
    (hG : ∀ p q, a ≤ p → p < a + n → a ≤ q → q < a + n → G p q = G' p q) (hL : ∀ p, a ≤ p → p < a + n → L p = L' p) (hk : ∀ p, a ≤ p → p < a + n → kd p = kd' p) :
    ∀ d p i, a ≤ p → p < a + n → gl_R K G L kd t a n d p i = gl_R K G' L' kd' t a n d p i := by
  intro d
  induction d with
  | zero => intro p i h1 h2; exact hL p h1 h2
  | succ d ih =>
    intro p i h1 h2
    rw [gl_R1, gl_R1]
    refine sr_sc n (fun q h3 h4 => ?_)
    rw [hG p q h1 h2 h3 h4, hk q h3 h4, ih q (i + 1) h3 h4]
theorem gl_Ac {E E' : S} {F F' : Nat → S} {G G' : Nat → Nat → S} {L L' : Nat → S} {kd kd' t : Nat → Int32} {a n : Nat}
    (hE : E = E') (hF : ∀ p, a ≤ p → p < a + n → F p = F' p)
    (hG : ∀ p q, a ≤ p → p < a + n → a ≤ q → q < a + n → G p q = G' p q) (hL : ∀ p, a ≤ p → p < a + n → L p = L' p) (hk : ∀ p, a ≤ p → p < a + n → kd p = kd' p) (d i : Nat) :
    gl_A K E F G L kd t a n d i = gl_A K E' F' G' L' kd' t a n d i := by
  cases d with
  | zero => exact hE
  | succ d =>
    rw [gl_A1, gl_A1]
    refine sr_sc n (fun q h3 h4 => ?_)
    rw [hF q h3 h4, hk q h3 h4, gl_Rc hG hL hk d q (i + 1) h3 h4]

/-! one letter, none -/
theorem gl_leaf (H : sr_Law K) {F : Nat → S} {G : Nat → Nat → S} {L : Nat → S} {kd t : Nat → Int32} {p : Nat} (c : S)
    (hF : F p = c) (hL : L p = sr_o K) (hG : G p p = sr_z K) (d i : Nat) :
    gl_A K (sr_z K) F G L kd t p 1 d i = if d = 1 ∧ (kd p = 3 ∨ kd p = t i) then c else sr_z K := by
  cases d with
  | zero => rw [gl_A0, if_neg (by omega)]
  | succ d =>
    rw [gl_A1, sr_s1, sr_s0, sr_za H, Nat.add_zero, hF]
    cases d with
    | zero =>
      rw [gl_R0, hL, sr_mo H]
      unfold sr_ft
      by_cases h : kd p = 3 ∨ kd p = t i
      · rw [if_pos h, if_pos ⟨rfl, h⟩, sr_mo H]
      · rw [if_neg h, if_neg (fun z => h z.2), sr_mz H]
    | succ d =>
      rw [gl_R1, sr_s1, sr_s0, sr_za H, Nat.add_zero, hG, sr_zm H, sr_mz H, sr_mz H, if_neg (by omega)]
theorem gl_unit {E : S} {F : Nat → S} {G : Nat → Nat → S} {L : Nat → S} {kd t : Nat → Int32} {a : Nat} (d i : Nat) :
    gl_A K E F G L kd t a 0 d i = if d = 0 then E else sr_z K := by
  cases d with
  | zero => rfl
  | succ d => rw [gl_A1, sr_s0, if_neg (by omega)]

/-! either -/
theorem gl_altR1 (H : sr_Law K) {G : Nat → Nat → S} {L : Nat → S} {kd t : Nat → Int32} {a n m : Nat}
    (h0 : ∀ p q, a ≤ p → p < a + n → a + n ≤ q → q < a + n + m → G p q = sr_z K) :
    ∀ d p i, a ≤ p → p < a + n → gl_R K G L kd t a (n + m) d p i = gl_R K G L kd t a n d p i := by
  intro d
  induction d with
  | zero => intro p i _ _; rfl
  | succ d ih =>
    intro p i h1 h2
    rw [gl_R1, gl_R1, sr_sp H, sr_sz H m (fun q h3 h4 => by rw [h0 p q h1 h2 h3 h4, sr_zm H]), sr_az H]
    refine sr_sc n (fun q h3 h4 => ?_)
    rw [ih q (i + 1) h3 h4]
theorem gl_altR2 (H : sr_Law K) {G : Nat → Nat → S} {L : Nat → S} {kd t : Nat → Int32} {a n m : Nat}
    (h0 : ∀ p q, a + n ≤ p → p < a + n + m → a ≤ q → q < a + n → G p q = sr_z K) :
    ∀ d p i, a + n ≤ p → p < a + n + m → gl_R K G L kd t a (n + m) d p i = gl_R K G L kd t (a + n) m d p i := by
  intro d
  induction d with
  | zero => intro p i _ _; rfl
  | succ d ih =>
    intro p i h1 h2
    rw [gl_R1, gl_R1, sr_sp H, sr_sz H n (fun q h3 h4 => by rw [h0 p q h1 h2 h3 h4, sr_zm H]), sr_za H]
    refine sr_sc m (fun q h3 h4 => ?_)
    rw [ih q (i + 1) h3 h4]
theorem gl_alt (H : sr_Law K) {Ex Ey : S} {F : Nat → S} {G : Nat → Nat → S} {L : Nat → S} {kd t : Nat → Int32} {a n m : Nat}
    (hxy : ∀ p q, a ≤ p → p < a + n → a + n ≤ q → q < a + n + m → G p q = sr_z K)
    (hyx : ∀ p q, a + n ≤ p → p < a + n + m → a ≤ q → q < a + n → G p q = sr_z K) (d i : Nat) :
    gl_A K (sr_a K Ex Ey) F G L kd t a (n + m) d i = sr_a K (gl_A K Ex F G L kd t a n d i) (gl_A K Ey F G L kd t (a + n) m d i) := by
  cases d with
  | zero => rfl
  | succ d =>
    rw [gl_A1, gl_A1, gl_A1, sr_sp H]
    congr 1
    · refine sr_sc n (fun q h3 h4 => ?_)
      rw [gl_altR1 H hxy d q (i + 1) h3 h4]
    · refine sr_sc m (fun q h3 h4 => ?_)
      rw [gl_altR2 H hyx d q (i + 1) h3 h4]

/-! one behind the other. Primes: the joined automaton -/
theorem gl_seqR (H : sr_Law K) {Ey : S} {F L L' : Nat → S} {G G' : Nat → Nat → S} {kd t : Nat → Int32} {a n m : Nat}
    (hxx : ∀ p q, a ≤ p → p < a + n → a ≤ q → q < a + n → G' p q = G p q)
    (hxy : ∀ p q, a ≤ p → p < a + n → a + n ≤ q → q < a + n + m → G' p q = sr_m K (L p) (F q))
    (hyx : ∀ p q, a + n ≤ p → p < a + n + m → a ≤ q → q < a + n → G' p q = sr_z K)
    (hyy : ∀ p q, a + n ≤ p → p < a + n + m → a + n ≤ q → q < a + n + m → G' p q = G p q)
    (hLx : ∀ p, a ≤ p → p < a + n → L' p = sr_m K (L p) Ey) (hLy : ∀ p, a + n ≤ p → p < a + n + m → L' p = L p) :
    (∀ d p i, a + n ≤ p → p < a + n + m → gl_R K G' L' kd t a (n + m) d p i = gl_R K G L kd t (a + n) m d p i) ∧
    (∀ d p i, a ≤ p → p < a + n → gl_R K G' L' kd t a (n + m) d p i = sr_s K (fun e => sr_m K (gl_R K G L kd t a n e p i) (gl_A K Ey F G L kd t (a + n) m (d - e) (i + e))) 0 (d + 1)) := by
  have hy : ∀ d p i, a + n ≤ p → p < a + n + m → gl_R K G' L' kd t a (n + m) d p i = gl_R K G L kd t (a + n) m d p i := by
    intro d p i h1 h2
    rw [gl_altR2 H hyx d p i h1 h2]
    exact gl_Rc hyy hLy (fun _ _ _ => rfl) d p i h1 h2
  refine ⟨hy, ?_⟩
  intro d
  induction d with
  | zero =>
    intro p i h1 h2
    rw [gl_R0, sr_s1, sr_s0, sr_za H, Nat.add_zero, Nat.sub_zero, gl_A0, gl_R0, hLx p h1 h2]
  | succ d ih =>
    intro p i h1 h2
    rw [gl_R1, sr_sp H, sr_ss H, sr_sh, sr_ac H]
    congr 1
    · rw [gl_R0, Nat.sub_zero, show i + 0 = i from rfl, gl_A1, sr_sm H]
      refine sr_sc m (fun q h3 h4 => ?_)
      rw [hxy p q h1 h2 h3 h4, hy d q (i + 1) h3 h4, sr_ma H]
    · have e1 : sr_s K (fun q => sr_m K (G' p q) (sr_m K (sr_ft K (kd q) (t i)) (gl_R K G' L' kd t a (n + m) d q (i + 1)))) a n
          = sr_s K (fun q => sr_m K (G p q) (sr_m K (sr_ft K (kd q) (t i)) (sr_s K (fun e => sr_m K (gl_R K G L kd t a n e q (i + 1)) (gl_A K Ey F G L kd t (a + n) m (d - e) (i + 1 + e))) 0 (d + 1)))) a n := by
        refine sr_sc n (fun q h3 h4 => ?_)
        rw [hxx p q h1 h2 h3 h4, ih q (i + 1) h3 h4]
      rw [e1, sr_lin H (r := fun e q => gl_R K G L kd t a n e q (i + 1))]
      refine sr_sc (d + 1) (fun e _ _ => ?_)
      rw [gl_R1, show d + 1 - (e + 1) = d - e from by omega, show i + (e + 1) = i + 1 + e from by omega]
theorem gl_seq (H : sr_Law K) {Ex Ey : S} {F F' L L' : Nat → S} {G G' : Nat → Nat → S} {kd t : Nat → Int32} {a n m : Nat}
    (hxx : ∀ p q, a ≤ p → p < a + n → a ≤ q → q < a + n → G' p q = G p q)
    (hxy : ∀ p q, a ≤ p → p < a + n → a + n ≤ q → q < a + n + m → G' p q = sr_m K (L p) (F q))
    (hyx : ∀ p q, a + n ≤ p → p < a + n + m → a ≤ q → q < a + n → G' p q = sr_z K)
    (hyy : ∀ p q, a + n ≤ p → p < a + n + m → a + n ≤ q → q < a + n + m → G' p q = G p q)
    (hLx : ∀ p, a ≤ p → p < a + n → L' p = sr_m K (L p) Ey) (hLy : ∀ p, a + n ≤ p → p < a + n + m → L' p = L p)
    (hFx : ∀ p, a ≤ p → p < a + n → F' p = F p) (hFy : ∀ p, a + n ≤ p → p < a + n + m → F' p = sr_m K (F p) Ex) (d i : Nat) :
    gl_A K (sr_m K Ex Ey) F' G' L' kd t a (n + m) d i = sr_s K (fun e => sr_m K (gl_A K Ex F G L kd t a n e i) (gl_A K Ey F G L kd t (a + n) m (d - e) (i + e))) 0 (d + 1) := by
  obtain ⟨hy, hx⟩ := gl_seqR (Ey := Ey) (kd := kd) (t := t) H hxx hxy hyx hyy hLx hLy
  cases d with
  | zero => rw [gl_A0, sr_s1, sr_s0, sr_za H, Nat.add_zero, Nat.sub_zero, gl_A0, gl_A0]
  | succ d =>
    rw [gl_A1, sr_sp H, sr_ss H, sr_sh, sr_ac H]
    congr 1
    · rw [gl_A0, Nat.sub_zero, show i + 0 = i from rfl, gl_A1, sr_sm H]
      refine sr_sc m (fun q h3 h4 => ?_)
      rw [hFy q h3 h4, hy d q (i + 1) h3 h4, sr_mc H (F q), sr_ma H]
    · have e1 : sr_s K (fun q => sr_m K (F' q) (sr_m K (sr_ft K (kd q) (t i)) (gl_R K G' L' kd t a (n + m) d q (i + 1)))) a n
          = sr_s K (fun q => sr_m K (F q) (sr_m K (sr_ft K (kd q) (t i)) (sr_s K (fun e => sr_m K (gl_R K G L kd t a n e q (i + 1)) (gl_A K Ey F G L kd t (a + n) m (d - e) (i + 1 + e))) 0 (d + 1)))) a n := by
        refine sr_sc n (fun q h3 h4 => ?_)
        rw [hFx q h3 h4, hx d q (i + 1) h3 h4]
      rw [e1, sr_lin H (r := fun e q => gl_R K G L kd t a n e q (i + 1))]
      refine sr_sc (d + 1) (fun e _ _ => ?_)
      rw [gl_A1, show d + 1 - (e + 1) = d - e from by omega, show i + (e + 1) = i + 1 + e from by omega]

/-! the loop: first piece, then the loop again -/
def lp_F {S : Type} (K : sr_T S) (f : Nat → Nat → S) (c : S) : Nat → Nat → Nat → S
  | 0, _, _ => sr_o K
  | n + 1, d, i => if d = 0 then sr_o K else sr_s K (fun e => sr_m K (sr_m K (f e i) (lp_F K f c n (d - e) (i + e))) c) 1 d
def lp_v {S : Type} (K : sr_T S) (f : Nat → Nat → S) (c : S) (d i : Nat) : S := lp_F K f c d d i
theorem lp_Fn {f : Nat → Nat → S} {c : S} : ∀ n m d i, d ≤ n → d ≤ m → lp_F K f c n d i = lp_F K f c m d i := by
  intro n
  induction n with
  | zero =>
    intro m d i h1 h2
    cases m with
    | zero => rfl
    | succ m => unfold lp_F; rw [if_pos (by omega)]
  | succ n ih =>
    intro m d i h1 h2
    cases m with
    | zero => unfold lp_F; rw [if_pos (by omega)]
    | succ m =>
      unfold lp_F
      by_cases hd : d = 0
      · rw [if_pos hd, if_pos hd]
      · rw [if_neg hd, if_neg hd]
        refine sr_sc d (fun e h3 h4 => ?_)
        rw [ih m (d - e) (i + e) (by omega) (by omega)]
theorem lp_v0 {f : Nat → Nat → S} {c : S} {i : Nat} : lp_v K f c 0 i = sr_o K := rfl
theorem lp_v1 {f : Nat → Nat → S} {c : S} {d i : Nat} : lp_v K f c (d + 1) i = sr_s K (fun e => sr_m K (sr_m K (f e i) (lp_v K f c (d + 1 - e) (i + e))) c) 1 (d + 1) := by
  unfold lp_v
  rw [lp_F, if_neg (by omega)]
  refine sr_sc (d + 1) (fun e h3 h4 => ?_)
  rw [lp_Fn d (d + 1 - e) (d + 1 - e) (i + e) (by omega) (by omega)]
theorem lp_u {f g : Nat → Nat → S} {c : S} (h0 : ∀ i, g 0 i = sr_o K)
    (h1 : ∀ d i, g (d + 1) i = sr_s K (fun e => sr_m K (sr_m K (f e i) (g (d + 1 - e) (i + e))) c) 1 (d + 1)) : ∀ n d i, d ≤ n → g d i = lp_v K f c d i := by
  intro n
  induction n with
  | zero =>
    intro d i hd
    obtain rfl : d = 0 := by omega
    rw [h0, lp_v0]
  | succ n ih =>
    intro d i hd
    cases d with
    | zero => rw [h0, lp_v0]
    | succ d =>
      rw [h1, lp_v1]
      refine sr_sc (d + 1) (fun e h3 h4 => ?_)
      rw [ih (d + 1 - e) (i + e) (by omega)]
theorem gl_loopR (H : sr_Law K) {c : S} {F F' L L' : Nat → S} {G G' : Nat → Nat → S} {kd t : Nat → Int32} {a n : Nat}
    (hG : ∀ p q, a ≤ p → p < a + n → a ≤ q → q < a + n → G' p q = sr_a K (G p q) (sr_m K (sr_m K (L p) c) (F q)))
    (hL : ∀ p, a ≤ p → p < a + n → L' p = L p) (hF : ∀ p, a ≤ p → p < a + n → F' p = sr_m K (F p) c) :
    ∀ d p i, a ≤ p → p < a + n → gl_R K G' L' kd t a n d p i = sr_s K (fun e => sr_m K (gl_R K G L kd t a n e p i) (gl_A K (sr_o K) F' G' L' kd t a n (d - e) (i + e))) 0 (d + 1) := by
  intro d
  induction d with
  | zero =>
    intro p i h1 h2
    rw [gl_R0, sr_s1, sr_s0, sr_za H, Nat.add_zero, Nat.sub_zero, gl_A0, gl_R0, hL p h1 h2, sr_mo H]
  | succ d ih =>
    intro p i h1 h2
    rw [gl_R1, sr_ss H, sr_sh]
    have e0 : sr_s K (fun q => sr_m K (G' p q) (sr_m K (sr_ft K (kd q) (t i)) (gl_R K G' L' kd t a n d q (i + 1)))) a n
        = sr_s K (fun q => sr_a K (sr_m K (L p) (sr_m K (F' q) (sr_m K (sr_ft K (kd q) (t i)) (gl_R K G' L' kd t a n d q (i + 1))))) (sr_m K (G p q) (sr_m K (sr_ft K (kd q) (t i)) (gl_R K G' L' kd t a n d q (i + 1))))) a n := by
      refine sr_sc n (fun q h3 h4 => ?_)
      rw [hG p q h1 h2 h3 h4, hF q h3 h4, sr_dr H, sr_ac H]
      congr 1
      rw [sr_mc H (F q) c, sr_ma H, sr_ma H, sr_ma H]
    rw [e0, sr_sa H]
    congr 1
    · rw [gl_R0, Nat.sub_zero, show i + 0 = i from rfl, gl_A1, sr_sm H]
    · have e1 : sr_s K (fun q => sr_m K (G p q) (sr_m K (sr_ft K (kd q) (t i)) (gl_R K G' L' kd t a n d q (i + 1)))) a n
          = sr_s K (fun q => sr_m K (G p q) (sr_m K (sr_ft K (kd q) (t i)) (sr_s K (fun e => sr_m K (gl_R K G L kd t a n e q (i + 1)) (gl_A K (sr_o K) F' G' L' kd t a n (d - e) (i + 1 + e))) 0 (d + 1)))) a n := by
        refine sr_sc n (fun q h3 h4 => ?_)
        rw [ih q (i + 1) h3 h4]
      rw [e1, sr_lin H (r := fun e q => gl_R K G L kd t a n e q (i + 1))]
      refine sr_sc (d + 1) (fun e _ _ => ?_)
      rw [gl_R1, show d + 1 - (e + 1) = d - e from by omega, show i + (e + 1) = i + 1 + e from by omega]
theorem gl_loop (H : sr_Law K) {c E : S} {F F' L L' : Nat → S} {G G' : Nat → Nat → S} {kd t : Nat → Int32} {a n : Nat}
    (hG : ∀ p q, a ≤ p → p < a + n → a ≤ q → q < a + n → G' p q = sr_a K (G p q) (sr_m K (sr_m K (L p) c) (F q)))
    (hL : ∀ p, a ≤ p → p < a + n → L' p = L p) (hF : ∀ p, a ≤ p → p < a + n → F' p = sr_m K (F p) c) (d i : Nat) :
    gl_A K (sr_o K) F' G' L' kd t a n d i = lp_v K (fun d i => gl_A K E F G L kd t a n d i) c d i := by
  refine lp_u (g := fun d i => gl_A K (sr_o K) F' G' L' kd t a n d i) (fun i => rfl) ?_ d d i (Nat.le_refl d)
  intro d i
  show gl_A K (sr_o K) F' G' L' kd t a n (d + 1) i = _
  rw [gl_A1, sr_sh]
  have e1 : sr_s K (fun q => sr_m K (F' q) (sr_m K (sr_ft K (kd q) (t i)) (gl_R K G' L' kd t a n d q (i + 1)))) a n
      = sr_m K c (sr_s K (fun q => sr_m K (F q) (sr_m K (sr_ft K (kd q) (t i)) (sr_s K (fun e => sr_m K (gl_R K G L kd t a n e q (i + 1)) (gl_A K (sr_o K) F' G' L' kd t a n (d - e) (i + 1 + e))) 0 (d + 1)))) a n) := by
    rw [sr_sm H]
    refine sr_sc n (fun q h3 h4 => ?_)
    rw [hF q h3 h4, gl_loopR H hG hL hF d q (i + 1) h3 h4, sr_mc H (F q) c, sr_ma H]
  rw [e1, sr_lin H (r := fun e q => gl_R K G L kd t a n e q (i + 1)), sr_mc H, sr_smr H]
  refine sr_sc (d + 1) (fun e _ _ => ?_)
  show _ = sr_m K (sr_m K (gl_A K E F G L kd t a n (e + 1) i) (gl_A K (sr_o K) F' G' L' kd t a n (d + 1 - (e + 1)) (i + (e + 1)))) c
  rw [gl_A1, show d + 1 - (e + 1) = d - e from by omega, show i + (e + 1) = i + 1 + e from by omega]

/-! forward: what the sweep reckons -/
def gl_N {S : Type} (K : sr_T S) (F : Nat → S) (G : Nat → Nat → S) (kd t : Nat → Int32) (n i : Nat) : Nat → Nat → S
  | 0, q => sr_m K (F q) (sr_ft K (kd q) (t i))
  | e + 1, q => sr_m K (sr_s K (fun p => sr_m K (gl_N K F G kd t n i e p) (G p q)) 0 n) (sr_ft K (kd q) (t (i + e + 1)))
theorem gl_NR (H : sr_Law K) {E : S} {F L : Nat → S} {G : Nat → Nat → S} {kd t : Nat → Int32} {n i : Nat} :
    ∀ e d, sr_s K (fun p => sr_m K (gl_N K F G kd t n i e p) (gl_R K G L kd t 0 n d p (i + e + 1))) 0 n = gl_A K E F G L kd t 0 n (e + d + 1) i := by
  intro e
  induction e with
  | zero =>
    intro d
    rw [Nat.zero_add, gl_A1, Nat.add_zero]
    refine sr_sc n (fun q _ _ => ?_)
    rw [gl_N, sr_ma H]
  | succ e ih =>
    intro d
    rw [show e + 1 + d + 1 = e + (d + 1) + 1 from by omega, ← ih (d + 1)]
    have e1 : sr_s K (fun q => sr_m K (gl_N K F G kd t n i (e + 1) q) (gl_R K G L kd t 0 n d q (i + (e + 1) + 1))) 0 n
        = sr_s K (fun q => sr_s K (fun p => sr_m K (gl_N K F G kd t n i e p) (sr_m K (G p q) (sr_m K (sr_ft K (kd q) (t (i + e + 1))) (gl_R K G L kd t 0 n d q (i + e + 1 + 1))))) 0 n) 0 n := by
      refine sr_sc n (fun q _ _ => ?_)
      rw [gl_N, sr_ma H, sr_smr H]
      refine sr_sc n (fun p _ _ => ?_)
      rw [sr_ma H, ← Nat.add_assoc i e 1]
    rw [e1, sr_sx H n n]
    refine sr_sc n (fun p _ _ => ?_)
    rw [gl_R1, sr_sm H]
theorem gl_NL (H : sr_Law K) {E : S} {F L : Nat → S} {G : Nat → Nat → S} {kd t : Nat → Int32} {n i : Nat} (e : Nat) :
    sr_s K (fun p => sr_m K (gl_N K F G kd t n i e p) (L p)) 0 n = gl_A K E F G L kd t 0 n (e + 1) i := gl_NR H e 0
end AUTO
end
section
section MEAN
variable {S : Type} {K : sr_T S}
/-! the meaning of a written expression: heights, values of the stack's levels -/
def ye_h (dop : Nat → Int32) : Nat → Nat
  | 0 => 0
  | s + 1 => if dop s = 5 then ye_h dop s else if dop s = 3 ∨ dop s = 4 then ye_h dop s - 1 else ye_h dop s + 1
def ye_at {S : Type} (K : sr_T S) (cst : Int32 → S) (op lt co : Int32) (t : Nat → Int32) (d i : Nat) : S :=
  if op = 2 then (if d = 0 then cst co else sr_z K) else (if d = 1 ∧ (op = 1 ∨ t i = lt) then cst co else sr_z K)
def ye_st {S : Type} (K : sr_T S) (cst : Int32 → S) (op lt co : Int32) (t : Nat → Int32) (h : Nat) (f : Nat → Nat → Nat → S) (k d i : Nat) : S :=
  if op = 5 then (if k = h - 1 then lp_v K (f (h - 1)) (cst co) d i else f k d i)
  else if op = 3 then (if k = h - 2 then sr_s K (fun e => sr_m K (f (h - 2) e i) (f (h - 1) (d - e) (i + e))) 0 (d + 1) else f k d i)
  else if op = 4 then (if k = h - 2 then sr_a K (f (h - 2) d i) (f (h - 1) d i) else f k d i)
  else (if k = h then ye_at K cst op lt co t d i else f k d i)
def ye_D {S : Type} (K : sr_T S) (cst : Int32 → S) (dop dlt dco t : Nat → Int32) : Nat → Nat → Nat → Nat → S
  | 0 => fun _ _ _ => sr_z K
  | s + 1 => ye_st K cst (dop s) (dlt s) (dco s) t (ye_h dop s) (ye_D K cst dop dlt dco t s)
theorem ye_h1 {dop : Nat → Int32} {s : Nat} : ye_h dop (s + 1) = if dop s = 5 then ye_h dop s else if dop s = 3 ∨ dop s = 4 then ye_h dop s - 1 else ye_h dop s + 1 := rfl
theorem ye_D1 {cst : Int32 → S} {dop dlt dco t : Nat → Int32} {s k d i : Nat} : ye_D K cst dop dlt dco t (s + 1) k d i = ye_st K cst (dop s) (dlt s) (dco s) t (ye_h dop s) (ye_D K cst dop dlt dco t s) k d i := rfl
theorem ye_hc {dop dop' : Nat → Int32} : ∀ m, (∀ s, s < m → dop' s = dop s) → ye_h dop' m = ye_h dop m
  | 0, _ => rfl
  | m + 1, h => by
    rw [ye_h1, ye_h1, ye_hc m (fun s hs => h s (by omega)), h m (by omega)]
theorem ye_Dc {cst : Int32 → S} {dop dlt dco dop' dlt' dco' t : Nat → Int32} : ∀ m, (∀ s, s < m → dop' s = dop s) → (∀ s, s < m → dlt' s = dlt s) → (∀ s, s < m → dco' s = dco s) →
    ye_D K cst dop' dlt' dco' t m = ye_D K cst dop dlt dco t m
  | 0, _, _, _ => rfl
  | m + 1, h1, h2, h3 => by
    show ye_st K cst (dop' m) (dlt' m) (dco' m) t (ye_h dop' m) (ye_D K cst dop' dlt' dco' t m) = ye_st K cst (dop m) (dlt m) (dco m) t (ye_h dop m) (ye_D K cst dop dlt dco t m)
    rw [ye_Dc m (fun s hs => h1 s (by omega)) (fun s hs => h2 s (by omega)) (fun s hs => h3 s (by omega)), ye_hc m (fun s hs => h1 s (by omega)), h1 m (by omega), h2 m (by omega), h3 m (by omega)]

/-! the draft: each level's automaton means what the program means there -/
def dr_M {S : Type} (K : sr_T S) (cst : Int32 → S) (h m : Nat) (lo : Nat → Nat) (E F L : Nat → S) (G : Nat → Nat → S) (kd dop dlt dco : Nat → Int32) : Prop :=
  (∀ k, k < h → ∀ (t : Nat → Int32) (d i : Nat), gl_A K (E k) F G L kd t (lo k) (lo (k + 1) - lo k) d i = ye_D K cst dop dlt dco t m k d i) ∧
  (∀ k p q, k < h → p < lo k → lo k ≤ q → q < lo h → G p q = sr_z K ∧ G q p = sr_z K)
variable {cst : Int32 → S} {h m : Nat} {lo lo' : Nat → Nat} {E E' F F' L L' : Nat → S} {G G' : Nat → Nat → S} {kd kd' dop dlt dco dop' dlt' dco' : Nat → Int32}
theorem dr_0 : dr_M K cst 0 0 lo E F L G kd dop dlt dco := ⟨fun k hk => absurd hk (by omega), fun k p q hk => absurd hk (by omega)⟩
theorem dr_leaf (H : sr_Law K) (M : dr_M K cst h m lo E F L G kd dop dlt dco) (hm : ∀ j k, j ≤ k → k ≤ h → lo j ≤ lo k) (hh : ye_h dop m = h)
    (hlo : ∀ k, k ≤ h → lo' k = lo k) (hlo1 : lo' (h + 1) = lo h + 1)
    (h1 : ∀ s, s < m → dop' s = dop s) (h2 : ∀ s, s < m → dlt' s = dlt s) (h3 : ∀ s, s < m → dco' s = dco s)
    (ho : (dop' m = 0 ∧ kd' (lo h) = dlt' m ∧ ¬ dlt' m = 3) ∨ (dop' m = 1 ∧ kd' (lo h) = 3))
    (hE : ∀ k, k < h → E' k = E k) (hEh : E' h = sr_z K)
    (hF : ∀ p, p < lo h → F' p = F p) (hFh : F' (lo h) = cst (dco' m)) (hL : ∀ p, p < lo h → L' p = L p) (hLh : L' (lo h) = sr_o K)
    (hG : ∀ p q, p < lo h → q < lo h → G' p q = G p q) (hGr : ∀ q, q ≤ lo h → G' (lo h) q = sr_z K) (hGc : ∀ q, q ≤ lo h → G' q (lo h) = sr_z K)
    (hk : ∀ p, p < lo h → kd' p = kd p) : dr_M K cst (h + 1) (m + 1) lo' E' F' L' G' kd' dop' dlt' dco' := by
  have hh' : ye_h dop' m = h := by rw [ye_hc m h1, hh]
  have n5 : ¬ dop' m = 5 := by rcases ho with ⟨e, _⟩ | ⟨e, _⟩ <;> rw [e] <;> decide
  have n3 : ¬ dop' m = 3 := by rcases ho with ⟨e, _⟩ | ⟨e, _⟩ <;> rw [e] <;> decide
  have n4 : ¬ dop' m = 4 := by rcases ho with ⟨e, _⟩ | ⟨e, _⟩ <;> rw [e] <;> decide
  have n2 : ¬ dop' m = 2 := by rcases ho with ⟨e, _⟩ | ⟨e, _⟩ <;> rw [e] <;> decide
  refine ⟨fun k hkh t d i => ?_, fun k p q hkh hp hq hq' => ?_⟩
  · rw [ye_D1, hh']
    unfold ye_st
    rw [if_neg n5, if_neg n3, if_neg n4]
    by_cases e : k = h
    · subst e
      rw [if_pos rfl, hlo1, hlo k (Nat.le_refl k), hEh, show lo k + 1 - lo k = 1 from by omega]
      rw [gl_leaf H (cst (dco' m)) hFh hLh (hGr _ (Nat.le_refl _)) d i]
      unfold ye_at
      rw [if_neg n2]
      rcases ho with ⟨e0, e1, e2⟩ | ⟨e0, e1⟩
      · have c : (d = 1 ∧ (kd' (lo k) = 3 ∨ kd' (lo k) = t i)) ↔ (d = 1 ∧ (dop' m = 1 ∨ t i = dlt' m)) := by
          rw [e1, e0]
          constructor
          · rintro ⟨a, b | b⟩
            · exact absurd b e2
            · exact ⟨a, Or.inr b.symm⟩
          · rintro ⟨a, b | b⟩
            · exact absurd b (by decide)
            · exact ⟨a, Or.inr b.symm⟩
        by_cases z : d = 1 ∧ (dop' m = 1 ∨ t i = dlt' m)
        · rw [if_pos z, if_pos (c.mpr z)]
        · rw [if_neg z, if_neg (fun y => z (c.mp y))]
      · by_cases z : d = 1
        · rw [if_pos ⟨z, Or.inl e1⟩, if_pos ⟨z, Or.inl e0⟩]
        · rw [if_neg (fun y => z y.1), if_neg (fun y => z y.1)]
    · have k1 : k < h := by omega
      have a1 := hm k (k + 1) (by omega) (by omega)
      have a2 := hm (k + 1) h (by omega) (by omega)
      rw [if_neg e, hlo k (by omega), hlo (k + 1) (by omega), ye_Dc m h1 h2 h3, ← M.1 k k1 t d i]
      exact gl_Ac (hE k k1) (fun p _ _ => hF p (by omega)) (fun p q _ _ _ _ => hG p q (by omega) (by omega)) (fun p _ _ => hL p (by omega)) (fun p _ _ => hk p (by omega)) d i
  · rw [hlo k (by omega)] at hp hq
    rw [hlo1] at hq'
    have a2 := hm k h (by omega) (by omega)
    by_cases e : q = lo h
    · subst e
      exact ⟨hGc p (by omega), hGr p (by omega)⟩
    · have k1 : k < h := by
        rcases Nat.lt_or_ge k h with z | z
        · exact z
        · exfalso
          have : k = h := by omega
          subst this
          omega
      rw [hG p q (by omega) (by omega), hG q p (by omega) (by omega)]
      exact M.2 k p q k1 hp hq (by omega)
theorem dr_unit (M : dr_M K cst h m lo E F L G kd dop dlt dco) (hh : ye_h dop m = h)
    (hlo : ∀ k, k ≤ h → lo' k = lo k) (hlo1 : lo' (h + 1) = lo h)
    (h1 : ∀ s, s < m → dop' s = dop s) (h2 : ∀ s, s < m → dlt' s = dlt s) (h3 : ∀ s, s < m → dco' s = dco s)
    (ho : dop' m = 2) (hE : ∀ k, k < h → E' k = E k) (hEh : E' h = cst (dco' m)) : dr_M K cst (h + 1) (m + 1) lo' E' F L G kd dop' dlt' dco' := by
  have hh' : ye_h dop' m = h := by rw [ye_hc m h1, hh]
  refine ⟨fun k hkh t d i => ?_, fun k p q hkh hp hq hq' => ?_⟩
  · rw [ye_D1, hh']
    unfold ye_st
    rw [ho, if_neg (by decide), if_neg (by decide), if_neg (by decide)]
    by_cases e : k = h
    · subst e
      rw [if_pos rfl, hlo1, hlo k (Nat.le_refl k), hEh, Nat.sub_self, gl_unit]
      unfold ye_at
      rw [if_pos rfl]
    · have k1 : k < h := by omega
      rw [if_neg e, hlo k (by omega), hlo (k + 1) (by omega), ye_Dc m h1 h2 h3, ← M.1 k k1 t d i, hE k k1]
  · rw [hlo k (by omega)] at hp hq
    rw [hlo1] at hq'
    have k1 : k < h := by
      rcases Nat.lt_or_ge k h with z | z
      · exact z
      · exfalso
        have : k = h := by omega
        subst this
        omega
    exact M.2 k p q k1 hp hq hq'
theorem dr_alt (H : sr_Law K) (M : dr_M K cst (h + 2) m lo E F L G kd dop dlt dco) (hm : ∀ j k, j ≤ k → k ≤ h + 2 → lo j ≤ lo k) (hh : ye_h dop m = h + 2)
    (hlo : ∀ k, k ≤ h → lo' k = lo k) (hlo1 : lo' (h + 1) = lo (h + 2))
    (h1 : ∀ s, s < m → dop' s = dop s) (h2 : ∀ s, s < m → dlt' s = dlt s) (h3 : ∀ s, s < m → dco' s = dco s)
    (ho : dop' m = 4) (hE : ∀ k, k < h → E' k = E k) (hEh : E' h = sr_a K (E h) (E (h + 1))) : dr_M K cst (h + 1) (m + 1) lo' E' F L G kd dop' dlt' dco' := by
  have hh' : ye_h dop' m = h + 2 := by rw [ye_hc m h1, hh]
  refine ⟨fun k hkh t d i => ?_, fun k p q hkh hp hq hq' => ?_⟩
  · rw [ye_D1, hh']
    unfold ye_st
    rw [ho, if_neg (by decide), if_neg (by decide), if_pos rfl, show h + 2 - 2 = h from by omega, show h + 2 - 1 = h + 1 from by omega, ye_Dc m h1 h2 h3]
    by_cases e : k = h
    · subst e
      have a1 := hm k (k + 1) (by omega) (by omega)
      have a2 := hm (k + 1) (k + 2) (by omega) (by omega)
      rw [if_pos rfl, hlo1, hlo k (Nat.le_refl k), hEh, ← M.1 k (by omega) t d i, ← M.1 (k + 1) (by omega) t d i,
        show lo (k + 2) - lo k = (lo (k + 1) - lo k) + (lo (k + 2) - lo (k + 1)) from by omega]
      rw [gl_alt H (fun p q _ _ _ _ => (M.2 (k + 1) p q (by omega) (by omega) (by omega) (by omega)).1) (fun p q _ _ _ _ => (M.2 (k + 1) q p (by omega) (by omega) (by omega) (by omega)).2) d i,
        show lo k + (lo (k + 1) - lo k) = lo (k + 1) from by omega]
    · rw [if_neg e, hlo k (by omega), hlo (k + 1) (by omega), ← M.1 k (by omega) t d i, hE k (by omega)]
  · rw [hlo k (by omega)] at hp hq
    rw [hlo1] at hq'
    exact M.2 k p q (by omega) hp hq hq'
theorem dr_seq (H : sr_Law K) (M : dr_M K cst (h + 2) m lo E F L G kd dop dlt dco) (hm : ∀ j k, j ≤ k → k ≤ h + 2 → lo j ≤ lo k) (hh : ye_h dop m = h + 2)
    (hlo : ∀ k, k ≤ h → lo' k = lo k) (hlo1 : lo' (h + 1) = lo (h + 2))
    (h1 : ∀ s, s < m → dop' s = dop s) (h2 : ∀ s, s < m → dlt' s = dlt s) (h3 : ∀ s, s < m → dco' s = dco s)
    (ho : dop' m = 3) (hE : ∀ k, k < h → E' k = E k) (hEh : E' h = sr_m K (E h) (E (h + 1)))
    (hG0 : ∀ p q, p < lo (h + 2) → q < lo (h + 2) → ¬ (lo h ≤ p ∧ p < lo (h + 1) ∧ lo (h + 1) ≤ q) → G' p q = G p q)
    (hG1 : ∀ p q, lo h ≤ p → p < lo (h + 1) → lo (h + 1) ≤ q → q < lo (h + 2) → G' p q = sr_a K (G p q) (sr_m K (L p) (F q)))
    (hL0 : ∀ p, p < lo (h + 2) → ¬ (lo h ≤ p ∧ p < lo (h + 1)) → L' p = L p) (hL1 : ∀ p, lo h ≤ p → p < lo (h + 1) → L' p = sr_m K (L p) (E (h + 1)))
    (hF0 : ∀ p, p < lo (h + 1) → F' p = F p) (hF1 : ∀ p, lo (h + 1) ≤ p → p < lo (h + 2) → F' p = sr_m K (F p) (E h)) : dr_M K cst (h + 1) (m + 1) lo' E' F' L' G' kd dop' dlt' dco' := by
  have hh' : ye_h dop' m = h + 2 := by rw [ye_hc m h1, hh]
  have b1 := hm h (h + 1) (by omega) (by omega)
  have b2 := hm (h + 1) (h + 2) (by omega) (by omega)
  refine ⟨fun k hkh t d i => ?_, fun k p q hkh hp hq hq' => ?_⟩
  · rw [ye_D1, hh']
    unfold ye_st
    rw [ho, if_neg (by decide), if_pos rfl, show h + 2 - 2 = h from by omega, show h + 2 - 1 = h + 1 from by omega, ye_Dc m h1 h2 h3]
    by_cases e : k = h
    · subst e
      rw [if_pos rfl, hlo1, hlo k (Nat.le_refl k), hEh, show lo (k + 2) - lo k = (lo (k + 1) - lo k) + (lo (k + 2) - lo (k + 1)) from by omega]
      have aa : lo k + (lo (k + 1) - lo k) = lo (k + 1) := by omega
      have ab : lo (k + 1) + (lo (k + 2) - lo (k + 1)) = lo (k + 2) := by omega
      have X := gl_seq (Ex := E k) (Ey := E (k + 1)) (F := F) (F' := F') (L := L) (L' := L') (G := G) (G' := G') (kd := kd) (t := t) (a := lo k) (n := lo (k + 1) - lo k) (m := lo (k + 2) - lo (k + 1)) H
      rw [aa, ab] at X
      rw [X (fun p q _ _ _ _ => hG0 p q (by omega) (by omega) (by omega)) (fun p q z1 z2 z3 z4 => by rw [hG1 p q z1 z2 z3 z4, (M.2 (k + 1) p q (by omega) z2 z3 z4).1, sr_za H])
        (fun p q z1 z2 z3 z4 => by rw [hG0 p q (by omega) (by omega) (by omega), (M.2 (k + 1) q p (by omega) z4 z1 z2).2])
        (fun p q _ _ _ _ => hG0 p q (by omega) (by omega) (by omega)) hL1 (fun p _ _ => hL0 p (by omega) (by omega)) (fun p _ z => hF0 p z) hF1 d i]
      refine sr_sc (d + 1) (fun e _ _ => ?_)
      rw [M.1 k (by omega) t e i, M.1 (k + 1) (by omega) t (d - e) (i + e)]
    · have a1 := hm k (k + 1) (by omega) (by omega)
      have a2 := hm (k + 1) h (by omega) (by omega)
      rw [if_neg e, hlo k (by omega), hlo (k + 1) (by omega), ← M.1 k (by omega) t d i]
      exact gl_Ac (hE k (by omega)) (fun p _ _ => hF0 p (by omega)) (fun p q _ _ _ _ => hG0 p q (by omega) (by omega) (by omega)) (fun p _ _ => hL0 p (by omega) (by omega)) (fun p _ _ => rfl) d i
  · rw [hlo k (by omega)] at hp hq
    rw [hlo1] at hq'
    have a2 := hm k h (by omega) (by omega)
    rw [hG0 p q (by omega) hq' (by omega), hG0 q p hq' (by omega) (by omega)]
    exact M.2 k p q (by omega) hp hq hq'
theorem dr_loop (H : sr_Law K) (M : dr_M K cst (h + 1) m lo E F L G kd dop dlt dco) (hm : ∀ j k, j ≤ k → k ≤ h + 1 → lo j ≤ lo k) (hh : ye_h dop m = h + 1)
    (h1 : ∀ s, s < m → dop' s = dop s) (h2 : ∀ s, s < m → dlt' s = dlt s) (h3 : ∀ s, s < m → dco' s = dco s)
    (ho : dop' m = 5) (hE : ∀ k, k < h → E' k = E k) (hEh : E' h = sr_o K)
    (hG0 : ∀ p q, p < lo (h + 1) → q < lo (h + 1) → ¬ (lo h ≤ p ∧ lo h ≤ q) → G' p q = G p q)
    (hG1 : ∀ p q, lo h ≤ p → p < lo (h + 1) → lo h ≤ q → q < lo (h + 1) → G' p q = sr_a K (G p q) (sr_m K (sr_m K (L p) (cst (dco' m))) (F q)))
    (hF0 : ∀ p, p < lo h → F' p = F p) (hF1 : ∀ p, lo h ≤ p → p < lo (h + 1) → F' p = sr_m K (F p) (cst (dco' m))) : dr_M K cst (h + 1) (m + 1) lo E' F' L G' kd dop' dlt' dco' := by
  have hh' : ye_h dop' m = h + 1 := by rw [ye_hc m h1, hh]
  have b1 := hm h (h + 1) (by omega) (by omega)
  refine ⟨fun k hkh t d i => ?_, fun k p q hkh hp hq hq' => ?_⟩
  · rw [ye_D1, hh']
    unfold ye_st
    rw [ho, if_pos rfl, show h + 1 - 1 = h from by omega, ye_Dc m h1 h2 h3]
    by_cases e : k = h
    · subst e
      have aa : lo k + (lo (k + 1) - lo k) = lo (k + 1) := by omega
      have X := gl_loop (c := cst (dco' m)) (E := E k) (F := F) (F' := F') (L := L) (L' := L) (G := G) (G' := G') (kd := kd) (t := t) (a := lo k) (n := lo (k + 1) - lo k) H
      rw [aa] at X
      rw [if_pos rfl, hEh, X hG1 (fun p _ _ => rfl) hF1 d i]
      congr 1
      funext d i
      exact M.1 k (by omega) t d i
    · have a1 := hm k (k + 1) (by omega) (by omega)
      have a2 := hm (k + 1) h (by omega) (by omega)
      rw [if_neg e, ← M.1 k (by omega) t d i]
      exact gl_Ac (hE k (by omega)) (fun p _ _ => hF0 p (by omega)) (fun p q _ _ _ _ => hG0 p q (by omega) (by omega) (by omega)) (fun p _ _ => rfl) (fun p _ _ => rfl) d i
  · have a2 := hm k h (by omega) (by omega)
    rw [hG0 p q (by omega) hq' (by omega), hG0 q p hq' (by omega) (by omega)]
    exact M.2 k p q (by omega) hp hq hq'
end MEAN
end
section
section NUMS
/-! the three semirings -/
def om_n : Option Nat → Option Nat → Option Nat
  | none, b => b
  | some a, none => some a
  | some a, some b => some (if a ≤ b then a else b)
def om_x : Option Nat → Option Nat → Option Nat
  | none, b => b
  | some a, none => some a
  | some a, some b => some (if a ≤ b then b else a)
def om_p : Option Nat → Option Nat → Option Nat
  | none, _ => none
  | some _, none => none
  | some a, some b => some (a + b)
abbrev kr_0 : sr_T Int32 := (fun a b => a + b, fun a b => a * b, 0, 1)
abbrev kr_n : sr_T (Option Nat) := (om_n, om_p, none, some 0)
abbrev kr_x : sr_T (Option Nat) := (om_x, om_p, none, some 0)
theorem kr_L0 : sr_Law kr_0 := by
  refine ⟨fun a b => Int32.add_comm a b, fun a b c => Int32.add_assoc a b c, fun a => Int32.zero_add a, fun a b => Int32.mul_comm a b, fun a b c => Int32.mul_assoc a b c, fun a => Int32.one_mul a, fun a => Int32.zero_mul, fun a b c => Int32.mul_add⟩
theorem kr_Ln : sr_Law kr_n := by
  refine ⟨fun a b => ?_, fun a b c => ?_, fun a => ?_, fun a b => ?_, fun a b c => ?_, fun a => ?_, fun a => ?_, fun a b c => ?_⟩
  · show om_n a b = om_n b a
    cases a <;> cases b <;> simp only [om_n, Option.some.injEq]
    repeat' split
    all_goals omega
  · show om_n (om_n a b) c = om_n a (om_n b c)
    cases a <;> cases b <;> cases c <;> simp only [om_n, Option.some.injEq]
    repeat' split
    all_goals omega
  · rfl
  · show om_p a b = om_p b a
    cases a <;> cases b <;> simp only [om_p, Option.some.injEq]
    omega
  · show om_p (om_p a b) c = om_p a (om_p b c)
    cases a <;> cases b <;> cases c <;> simp only [om_p, Option.some.injEq]
    omega
  · show om_p (some 0) a = a
    cases a <;> simp only [om_p, Option.some.injEq]
    omega
  · rfl
  · show om_p a (om_n b c) = om_n (om_p a b) (om_p a c)
    cases a <;> cases b <;> cases c <;> simp only [om_n, om_p, Option.some.injEq]
    repeat' split
    all_goals omega
theorem kr_Lx : sr_Law kr_x := by
  refine ⟨fun a b => ?_, fun a b c => ?_, fun a => ?_, fun a b => ?_, fun a b c => ?_, fun a => ?_, fun a => ?_, fun a b c => ?_⟩
  · show om_x a b = om_x b a
    cases a <;> cases b <;> simp only [om_x, Option.some.injEq]
    repeat' split
    all_goals omega
  · show om_x (om_x a b) c = om_x a (om_x b c)
    cases a <;> cases b <;> cases c <;> simp only [om_x, Option.some.injEq]
    repeat' split
    all_goals omega
  · rfl
  · exact kr_Ln.2.2.2.1 a b
  · exact kr_Ln.2.2.2.2.1 a b c
  · exact kr_Ln.2.2.2.2.2.1 a
  · rfl
  · show om_p a (om_x b c) = om_x (om_p a b) (om_p a c)
    cases a <;> cases b <;> cases c <;> simp only [om_x, om_p, Option.some.injEq]
    repeat' split
    all_goals omega

/-! costs as ints: -1 or a small natural -/
def nu_B (B : Nat) (x : Int32) : Prop := x = -1 ∨ ∃ n, n ≤ B ∧ x = nI n
def nu_d (x : Int32) : Option Nat := if x < 0 then none else some x.toNatClampNeg
def nu_e (o : Option Nat) : Int32 := match o with
  | none => -1
  | some n => nI n
def nu_p (a b : Int32) : Int32 := if a < 0 then -1 else if 0 ≤ b then a + b else -1
def nu_l (a b : Int32) : Int32 := if 0 ≤ a then (if 0 ≤ b then (if b ≤ a then b else a) else a) else b
def nu_g (a b : Int32) : Int32 := if a ≤ b then b else a
theorem nu_m1 : (-1 : Int32) < 0 := by decide
theorem nu_m1' : ¬ (0 : Int32) ≤ -1 := by decide
theorem nu_d0 : nu_d (-1) = none := by unfold nu_d; rw [if_pos nu_m1]
theorem nu_d1 {n : Nat} (h : n < 2 ^ 31) : nu_d (nI n) = some n := by
  unfold nu_d; rw [if_neg (nI_pos h), nI_clamp h]
theorem nu_ed {B : Nat} {x : Int32} (hB : B < 2 ^ 31) (h : nu_B B x) : nu_e (nu_d x) = x := by
  rcases h with rfl | ⟨n, hn, rfl⟩
  · rw [nu_d0]; rfl
  · rw [nu_d1 (by omega)]; rfl
theorem nu_Bm {A B : Nat} {x : Int32} (h : nu_B A x) (hAB : A ≤ B) : nu_B B x := by
  rcases h with rfl | ⟨n, hn, rfl⟩
  · exact Or.inl rfl
  · exact Or.inr ⟨n, by omega, rfl⟩
theorem nu_B1 {B : Nat} : nu_B B (-1) := Or.inl rfl
theorem nu_Bn {B n : Nat} (h : n ≤ B) : nu_B B (nI n) := Or.inr ⟨n, h, rfl⟩
theorem nu_p1 {A B : Nat} {a b : Int32} (h : A + B < 2 ^ 31) (ha : nu_B A a) (hb : nu_B B b) : nu_B (A + B) (nu_p a b) ∧ nu_d (nu_p a b) = om_p (nu_d a) (nu_d b) := by
  unfold nu_p
  rcases ha with rfl | ⟨n, hn, rfl⟩
  · rw [if_pos nu_m1, nu_d0]; exact ⟨nu_B1, rfl⟩
  · rw [if_neg (nI_pos (by omega))]
    rcases hb with rfl | ⟨k, hk, rfl⟩
    · rw [if_neg nu_m1', nu_d0, nu_d1 (by omega)]; exact ⟨nu_B1, rfl⟩
    · rw [if_pos (nI_pos' (by omega)), nI_add, nu_d1 (by omega), nu_d1 (by omega), nu_d1 (by omega)]
      exact ⟨nu_Bn (by omega), rfl⟩
theorem nu_l1 {B : Nat} {a b : Int32} (h : B < 2 ^ 31) (ha : nu_B B a) (hb : nu_B B b) : nu_B B (nu_l a b) ∧ nu_d (nu_l a b) = om_n (nu_d a) (nu_d b) := by
  unfold nu_l
  rcases ha with rfl | ⟨n, hn, rfl⟩
  · rw [if_neg nu_m1', nu_d0]; exact ⟨hb, rfl⟩
  · rw [if_pos (nI_pos' (by omega))]
    rcases hb with rfl | ⟨k, hk, rfl⟩
    · rw [if_neg nu_m1', nu_d0, nu_d1 (by omega)]; exact ⟨nu_Bn hn, rfl⟩
    · rw [if_pos (nI_pos' (by omega)), nu_d1 (by omega), nu_d1 (by omega)]
      by_cases z : k ≤ n
      · rw [if_pos (nI_le z (by omega)), nu_d1 (by omega)]
        refine ⟨nu_Bn hk, ?_⟩
        simp only [om_n, Option.some.injEq]
        split <;> omega
      · rw [if_neg (nI_ge (by omega) (by omega)), nu_d1 (by omega)]
        refine ⟨nu_Bn hn, ?_⟩
        simp only [om_n, Option.some.injEq]
        split <;> omega
theorem nu_g1 {B : Nat} {a b : Int32} (h : B < 2 ^ 31) (ha : nu_B B a) (hb : nu_B B b) : nu_B B (nu_g a b) ∧ nu_d (nu_g a b) = om_x (nu_d a) (nu_d b) := by
  have hle : ∀ n, n < 2 ^ 31 → (-1 : Int32) ≤ nI n := fun n hn => by
    rw [Int32.le_iff_toInt_le, nI_toInt hn, show (-1 : Int32).toInt = -1 from by decide]; omega
  have hnle : ∀ n, n < 2 ^ 31 → ¬ nI n ≤ (-1 : Int32) := fun n hn => by
    rw [Int32.le_iff_toInt_le, nI_toInt hn, show (-1 : Int32).toInt = -1 from by decide]; omega
  unfold nu_g
  rcases ha with rfl | ⟨n, hn, rfl⟩
  · rw [nu_d0]
    rcases hb with rfl | ⟨k, hk, rfl⟩
    · rw [if_pos (by decide)]; exact ⟨nu_B1, rfl⟩
    · rw [if_pos (hle k (by omega))]; exact ⟨nu_Bn hk, rfl⟩
  · rcases hb with rfl | ⟨k, hk, rfl⟩
    · rw [if_neg (hnle n (by omega)), nu_d0, nu_d1 (by omega)]; exact ⟨nu_Bn hn, rfl⟩
    · rw [nu_d1 (by omega), nu_d1 (by omega)]
      by_cases z : n ≤ k
      · rw [if_pos (nI_le z (by omega)), nu_d1 (by omega)]
        refine ⟨nu_Bn hk, ?_⟩
        simp only [om_x, Option.some.injEq]
        split <;> omega
      · rw [if_neg (nI_ge (by omega) (by omega)), nu_d1 (by omega)]
        refine ⟨nu_Bn hn, ?_⟩
        simp only [om_x, Option.some.injEq]
        split <;> omega

/-! folds as X makes them, against the sums -/
def fo_ (op : Int32 → Int32 → Int32) (z : Int32) (f : Nat → Int32) : Nat → Int32
  | 0 => z
  | n + 1 => op (fo_ op z f n) (f n)
theorem fo_1 {op : Int32 → Int32 → Int32} {z : Int32} {f : Nat → Int32} {n : Nat} : fo_ op z f (n + 1) = op (fo_ op z f n) (f n) := rfl
theorem fo_w (f : Nat → Int32) : ∀ n, fo_ (fun a b => a + b) 0 f n = sr_s kr_0 f 0 n
  | 0 => rfl
  | n + 1 => by
    rw [fo_1, sr_s1, fo_w f n, Nat.zero_add]; rfl
theorem fo_n {B : Nat} (hB : B < 2 ^ 31) (f : Nat → Int32) : ∀ n, (∀ p, p < n → nu_B B (f p)) → nu_B B (fo_ nu_l (-1) f n) ∧ nu_d (fo_ nu_l (-1) f n) = sr_s kr_n (fun p => nu_d (f p)) 0 n
  | 0, _ => ⟨nu_B1, nu_d0⟩
  | n + 1, h => by
    have ⟨a, b⟩ := fo_n hB f n (fun p hp => h p (by omega))
    have ⟨c, d⟩ := nu_l1 hB a (h n (by omega))
    refine ⟨c, ?_⟩
    rw [fo_1, d, b, sr_s1, Nat.zero_add]; rfl
theorem fo_x {B : Nat} (hB : B < 2 ^ 31) (f : Nat → Int32) : ∀ n, (∀ p, p < n → nu_B B (f p)) → nu_B B (fo_ nu_g (-1) f n) ∧ nu_d (fo_ nu_g (-1) f n) = sr_s kr_x (fun p => nu_d (f p)) 0 n
  | 0, _ => ⟨nu_B1, nu_d0⟩
  | n + 1, h => by
    have ⟨a, b⟩ := fo_x hB f n (fun p hp => h p (by omega))
    have ⟨c, d⟩ := nu_g1 hB a (h n (by omega))
    refine ⟨c, ?_⟩
    rw [fo_1, d, b, sr_s1, Nat.zero_add]; rfl

/-! the empty word -/
def nu_v (x : Int32) : Option Nat := if x = 0 then none else some 0
def nu_and (a b : Int32) : Int32 := if a = 0 then 0 else if b = 0 then 0 else 1
def nu_or (a b : Int32) : Int32 := if a = 0 then (if b = 0 then 0 else 1) else 1
theorem nu_v0 : nu_v 0 = none := rfl
theorem nu_v1 : nu_v 1 = some 0 := rfl
theorem nu_va (a b : Int32) : nu_v (nu_and a b) = om_p (nu_v a) (nu_v b) := by
  unfold nu_and nu_v
  by_cases h : a = 0
  · rw [if_pos h, if_pos rfl, if_pos h]; rfl
  · rw [if_neg h, if_neg h]
    by_cases h2 : b = 0
    · rw [if_pos h2, if_pos rfl, if_pos h2]; rfl
    · rw [if_neg h2, if_neg (by decide), if_neg h2]; rfl
theorem nu_von (a b : Int32) : nu_v (nu_or a b) = om_n (nu_v a) (nu_v b) := by
  unfold nu_or nu_v
  by_cases h : a = 0
  · rw [if_pos h, if_pos h]
    by_cases h2 : b = 0
    · rw [if_pos h2, if_pos rfl, if_pos h2]; rfl
    · rw [if_neg h2, if_neg (by decide), if_neg h2]; rfl
  · rw [if_neg h, if_neg h, if_neg (by decide)]
    by_cases h2 : b = 0
    · rw [if_pos h2]; rfl
    · rw [if_neg h2]; rfl
theorem nu_vox (a b : Int32) : nu_v (nu_or a b) = om_x (nu_v a) (nu_v b) := by
  unfold nu_or nu_v
  by_cases h : a = 0
  · rw [if_pos h, if_pos h]
    by_cases h2 : b = 0
    · rw [if_pos h2, if_pos rfl, if_pos h2]; rfl
    · rw [if_neg h2, if_neg (by decide), if_neg h2]; rfl
  · rw [if_neg h, if_neg h, if_neg (by decide)]
    by_cases h2 : b = 0
    · rw [if_pos h2]; rfl
    · rw [if_neg h2]; rfl
theorem nu_and01 (a b : Int32) : nu_and a b = 0 ∨ nu_and a b = 1 := by
  unfold nu_and; split
  · exact Or.inl rfl
  · split
    · exact Or.inl rfl
    · exact Or.inr rfl
theorem nu_or01 (a b : Int32) : nu_or a b = 0 ∨ nu_or a b = 1 := by
  unfold nu_or; split
  · split
    · exact Or.inl rfl
    · exact Or.inr rfl
  · exact Or.inr rfl
/-- a cost that is kept only where the other part reads the empty word -/
def nu_k (e x : Int32) : Int32 := if e = 0 then -1 else x
theorem nu_k1 {B : Nat} {e x : Int32} (hx : nu_B B x) : nu_B B (nu_k e x) ∧ nu_d (nu_k e x) = om_p (nu_d x) (nu_v e) := by
  unfold nu_k nu_v
  by_cases h : e = 0
  · rw [if_pos h, if_pos h, nu_d0]
    refine ⟨nu_B1, ?_⟩
    cases nu_d x <;> rfl
  · rw [if_neg h, if_neg h]
    refine ⟨hx, ?_⟩
    cases nu_d x <;> rfl
end NUMS
end
section
section XPRIM
/-! small terms for stores -/
theorem xs_ {f : Nat → Int32} {i v : Int32} {N : Nat} {P : (Nat → Int32) → Prop} (k : Nat) (w : Int32) (hk : k < N) (h : P (upd f k w)) (hi : i = nI k := by rfl) (hv : v = w := by rfl) (hN : N < 2 ^ 31 := by decide) :
    vp_in i N ∧ ∀ z, z = upd f i.toNatClampNeg v → P z := by
  subst hi hv
  refine ⟨vp_in_nI hk hN, fun z ez => ?_⟩
  rw [ez, nI_clamp (by omega)]
  exact h
theorem xi_10 (p q : Nat) : nI p * 10 + nI q = nI (p * 10 + q) := by
  rw [show (10 : Int32) = nI 10 from rfl, pk_mul, nI_add]
theorem xi_c {n : Nat} (h : n < 1000) : (nI n).toNatClampNeg = n := nI_clamp (by omega)
/-! arrays changed on a region -/
def mx_ (P : Nat → Bool) (f g : Nat → Int32) : Nat → Int32 := fun j => if P j = true then g j else f j
def rc_ (a c b e : Nat) : Nat → Bool := fun j => decide (a ≤ j / 10 ∧ j / 10 < c ∧ b ≤ j % 10 ∧ j % 10 < e)
def r1_ (a b : Nat) : Nat → Bool := fun j => decide (a ≤ j ∧ j < b)
theorem mx_t {P : Nat → Bool} {f g : Nat → Int32} {j : Nat} (h : P j = true) : mx_ P f g j = g j := if_pos h
theorem mx_f {P : Nat → Bool} {f g : Nat → Int32} {j : Nat} (h : ¬ P j = true) : mx_ P f g j = f j := if_neg h
theorem mx_same {P : Nat → Bool} {f g : Nat → Int32} (h : ∀ j, g j = f j) : mx_ P f g = f := by
  funext j
  by_cases c : P j = true
  · rw [mx_t c, h]
  · rw [mx_f c]
theorem mx_none {P : Nat → Bool} {f g : Nat → Int32} (h : ∀ j, ¬ P j = true) : mx_ P f g = f := by
  funext j
  rw [mx_f (h j)]
theorem rc_t {a c b e j : Nat} : rc_ a c b e j = true ↔ (a ≤ j / 10 ∧ j / 10 < c ∧ b ≤ j % 10 ∧ j % 10 < e) := decide_eq_true_iff
theorem r1_t {a b j : Nat} : r1_ a b j = true ↔ (a ≤ j ∧ j < b) := decide_eq_true_iff
theorem mx_up {p b q : Nat} {f g : Nat → Int32} (hq : q < 10) (hb : b ≤ q) : upd (mx_ (rc_ p (p + 1) b q) f g) (p * 10 + q) (g (p * 10 + q)) = mx_ (rc_ p (p + 1) b (q + 1)) f g := by
  funext j
  by_cases e : j = p * 10 + q
  · rw [e, pk_us, mx_t (rc_t.mpr (by omega))]
  · rw [pk_un e]
    by_cases c : rc_ p (p + 1) b q j = true
    · rw [mx_t c, mx_t (rc_t.mpr (by have := rc_t.mp c; omega))]
    · rw [mx_f c, mx_f (fun z => c (rc_t.mpr (by have := rc_t.mp z; omega)))]
theorem mx_at {p b q : Nat} {f g : Nat → Int32} (hq : q < 10) : mx_ (rc_ p (p + 1) b q) f g (p * 10 + q) = f (p * 10 + q) :=
  mx_f (fun z => by have := rc_t.mp z; omega)
theorem mx_row {a p b e : Nat} {f : Nat → Int32} {g : (Nat → Int32) → Nat → Int32} (hg : ∀ (u v : Nat → Int32) j, u j = v j → g u j = g v j) (hap : a ≤ p) :
    mx_ (rc_ p (p + 1) b e) (mx_ (rc_ a p b e) f (g f)) (g (mx_ (rc_ a p b e) f (g f))) = mx_ (rc_ a (p + 1) b e) f (g f) := by
  funext j
  by_cases c : rc_ p (p + 1) b e j = true
  · rw [mx_t c, mx_t (rc_t.mpr (by have := rc_t.mp c; omega))]
    exact hg _ _ j (mx_f (fun z => by have := rc_t.mp z; have := rc_t.mp c; omega))
  · rw [mx_f c]
    by_cases c2 : rc_ a p b e j = true
    · rw [mx_t c2, mx_t (rc_t.mpr (by have := rc_t.mp c2; omega))]
    · rw [mx_f c2, mx_f (fun z => by
        have z1 := rc_t.mp z
        have z2 : ¬ (p ≤ j / 10 ∧ j / 10 < p + 1 ∧ b ≤ j % 10 ∧ j % 10 < e) := fun y => c (rc_t.mpr y)
        have z3 : ¬ (a ≤ j / 10 ∧ j / 10 < p ∧ b ≤ j % 10 ∧ j % 10 < e) := fun y => c2 (rc_t.mpr y)
        omega)]
theorem mx_row0 {a b e : Nat} {f g : Nat → Int32} : mx_ (rc_ a a b e) f g = f := mx_none (fun j z => by have := rc_t.mp z; omega)
theorem mx_col0 {a c b : Nat} {f g : Nat → Int32} : mx_ (rc_ a c b b) f g = f := mx_none (fun j z => by have := rc_t.mp z; omega)
theorem mx_up1 {a q : Nat} {f g : Nat → Int32} (ha : a ≤ q) : upd (mx_ (r1_ a q) f g) q (g q) = mx_ (r1_ a (q + 1)) f g := by
  funext j
  by_cases e : j = q
  · rw [e, pk_us, mx_t (r1_t.mpr (by omega))]
  · rw [pk_un e]
    by_cases c : r1_ a q j = true
    · rw [mx_t c, mx_t (r1_t.mpr (by have := r1_t.mp c; omega))]
    · rw [mx_f c, mx_f (fun z => c (r1_t.mpr (by have := r1_t.mp z; omega)))]
theorem mx_at1 {a q : Nat} {f g : Nat → Int32} : mx_ (r1_ a q) f g q = f q := mx_f (fun z => by have := r1_t.mp z; omega)
theorem mx_one0 {a : Nat} {f g : Nat → Int32} : mx_ (r1_ a a) f g = f := mx_none (fun j z => by have := r1_t.mp z; omega)
theorem up_up {f : Nat → Int32} {k : Nat} {x y : Int32} : upd (upd f k x) k y = upd f k y := by
  funext j
  by_cases e : j = k
  · rw [e, pk_us, pk_us]
  · rw [pk_un e, pk_un e, pk_un e]
variable {f_height f_made f_places f_count f_useEmpty f_useEmptyWays f_length : Int32} {a_low a_hasEmpty a_emptyWays a_kind a_firstWays a_firstMin a_firstMax a_lastWays a_lastMin a_lastMax a_followWays a_followMin a_followMax a_useKind a_inWays a_inMin a_inMax a_outWays a_outMin a_outMax a_goWays a_goMin a_goMax a_text a_nowWays a_nowMin a_nowMax a_thenWays a_thenMin a_thenMax a_gotWays a_gotMin a_gotMax a_paid : Nat → Int32}
theorem wx_plus {post : Int32 → Prop} {a b : Int32} (h : post (nu_p a b)) : wpX_plus post (f_height, f_made, f_places, f_count, f_useEmpty, f_useEmptyWays, f_length, a_low, a_hasEmpty, a_emptyWays, a_kind, a_firstWays, a_firstMin, a_firstMax, a_lastWays, a_lastMin, a_lastMax, a_followWays, a_followMin, a_followMax, a_useKind, a_inWays, a_inMin, a_inMax, a_outWays, a_outMin, a_outMax, a_goWays, a_goMin, a_goMax, a_text, a_nowWays, a_nowMin, a_nowMax, a_thenWays, a_thenMin, a_thenMax, a_gotWays, a_gotMin, a_gotMax, a_paid) a b := by
  unfold nu_p at h
  by_cases h1 : a < 0
  · rw [if_pos h1] at h; exact br_t h1 h
  · rw [if_neg h1] at h
    by_cases h2 : 0 ≤ b
    · rw [if_pos h2] at h; exact br_f h1 (br_t h2 h)
    · rw [if_neg h2] at h; exact br_f h1 (br_f h2 h)
theorem wx_lesser {post : Int32 → Prop} {a b : Int32} (h : post (nu_l a b)) : wpX_lesser post (f_height, f_made, f_places, f_count, f_useEmpty, f_useEmptyWays, f_length, a_low, a_hasEmpty, a_emptyWays, a_kind, a_firstWays, a_firstMin, a_firstMax, a_lastWays, a_lastMin, a_lastMax, a_followWays, a_followMin, a_followMax, a_useKind, a_inWays, a_inMin, a_inMax, a_outWays, a_outMin, a_outMax, a_goWays, a_goMin, a_goMax, a_text, a_nowWays, a_nowMin, a_nowMax, a_thenWays, a_thenMin, a_thenMax, a_gotWays, a_gotMin, a_gotMax, a_paid) a b := by
  unfold nu_l at h
  by_cases h1 : 0 ≤ a
  · rw [if_pos h1] at h
    by_cases h2 : 0 ≤ b
    · rw [if_pos h2] at h
      by_cases h3 : b ≤ a
      · rw [if_pos h3] at h; exact br_t h1 (br_t h2 (br_t h3 h))
      · rw [if_neg h3] at h; exact br_t h1 (br_t h2 (br_f h3 h))
    · rw [if_neg h2] at h; exact br_t h1 (br_f h2 h)
  · rw [if_neg h1] at h; exact br_f h1 h
theorem wx_greater {post : Int32 → Prop} {a b : Int32} (h : post (nu_g a b)) : wpX_greater post (f_height, f_made, f_places, f_count, f_useEmpty, f_useEmptyWays, f_length, a_low, a_hasEmpty, a_emptyWays, a_kind, a_firstWays, a_firstMin, a_firstMax, a_lastWays, a_lastMin, a_lastMax, a_followWays, a_followMin, a_followMax, a_useKind, a_inWays, a_inMin, a_inMax, a_outWays, a_outMin, a_outMax, a_goWays, a_goMin, a_goMax, a_text, a_nowWays, a_nowMin, a_nowMax, a_thenWays, a_thenMin, a_thenMax, a_gotWays, a_gotMin, a_gotMax, a_paid) a b := by
  unfold nu_g at h
  by_cases h1 : a ≤ b
  · rw [if_pos h1] at h; exact br_t h1 h
  · rw [if_neg h1] at h; exact br_f h1 h
theorem wx_push {post : SX → Prop} {h m pl : Nat} (hh : h < 8) {p0 p1 : Int32}
    (H : post (nI (h + 1), nI (m + 1), nI pl, f_count, f_useEmpty, f_useEmptyWays, f_length, upd a_low h (nI pl), upd a_hasEmpty h (vp_nar .boolean p0), upd a_emptyWays h p1, a_kind, a_firstWays, a_firstMin, a_firstMax, a_lastWays, a_lastMin, a_lastMax, a_followWays, a_followMin, a_followMax, a_useKind, a_inWays, a_inMin, a_inMax, a_outWays, a_outMin, a_outMax, a_goWays, a_goMin, a_goMax, a_text, a_nowWays, a_nowMin, a_nowMax, a_thenWays, a_thenMin, a_thenMax, a_gotWays, a_gotMin, a_gotMax, a_paid)) :
    wpX_push post (nI h, nI m, nI pl, f_count, f_useEmpty, f_useEmptyWays, f_length, a_low, a_hasEmpty, a_emptyWays, a_kind, a_firstWays, a_firstMin, a_firstMax, a_lastWays, a_lastMin, a_lastMax, a_followWays, a_followMin, a_followMax, a_useKind, a_inWays, a_inMin, a_inMax, a_outWays, a_outMin, a_outMax, a_goWays, a_goMin, a_goMax, a_text, a_nowWays, a_nowMin, a_nowMax, a_thenWays, a_thenMin, a_thenMax, a_gotWays, a_gotMin, a_gotMax, a_paid) p0 p1 := by
  unfold wpX_push
  exact xs_ h _ (by omega) (xs_ h _ hh (xs_ h _ hh (nm_r (nI_1 h) (nm_r (nI_1 m) H))))
theorem wx_cut {post : SX → Prop} {p q : Nat} (hp : p < 10) (hq : q < 10)
    (H : post (f_height, f_made, f_places, f_count, f_useEmpty, f_useEmptyWays, f_length, a_low, a_hasEmpty, a_emptyWays, a_kind, a_firstWays, a_firstMin, a_firstMax, a_lastWays, a_lastMin, a_lastMax, upd a_followWays (p * 10 + q) 0, upd a_followMin (p * 10 + q) (-1), upd a_followMax (p * 10 + q) (-1), a_useKind, a_inWays, a_inMin, a_inMax, a_outWays, a_outMin, a_outMax, a_goWays, a_goMin, a_goMax, a_text, a_nowWays, a_nowMin, a_nowMax, a_thenWays, a_thenMin, a_thenMax, a_gotWays, a_gotMin, a_gotMax, a_paid)) :
    wpX_cut post (f_height, f_made, f_places, f_count, f_useEmpty, f_useEmptyWays, f_length, a_low, a_hasEmpty, a_emptyWays, a_kind, a_firstWays, a_firstMin, a_firstMax, a_lastWays, a_lastMin, a_lastMax, a_followWays, a_followMin, a_followMax, a_useKind, a_inWays, a_inMin, a_inMax, a_outWays, a_outMin, a_outMax, a_goWays, a_goMin, a_goMax, a_text, a_nowWays, a_nowMin, a_nowMax, a_thenWays, a_thenMin, a_thenMax, a_gotWays, a_gotMin, a_gotMax, a_paid) (nI p) (nI q) := by
  unfold wpX_cut
  exact xs_ (p * 10 + q) _ (by omega) (xs_ (p * 10 + q) _ (by omega) (xs_ (p * 10 + q) _ (by omega) H (xi_10 p q)) (xi_10 p q)) (xi_10 p q)
theorem wx_refused {post : Int32 → Prop} {h m : Nat} (hh : h ≤ 8) (hm : m ≤ 20) (need : Nat) (hn : need ≤ 8)
    (H : post (if m = 20 then -2 else if need ≤ h then 0 else -3)) : wpX_refused post (nI h, nI m, f_places, f_count, f_useEmpty, f_useEmptyWays, f_length, a_low, a_hasEmpty, a_emptyWays, a_kind, a_firstWays, a_firstMin, a_firstMax, a_lastWays, a_lastMin, a_lastMax, a_followWays, a_followMin, a_followMax, a_useKind, a_inWays, a_inMin, a_inMax, a_outWays, a_outMin, a_outMax, a_goWays, a_goMin, a_goMax, a_text, a_nowWays, a_nowMin, a_nowMax, a_thenWays, a_thenMin, a_thenMax, a_gotWays, a_gotMin, a_gotMax, a_paid) (nI need) := by
  unfold wpX_refused
  by_cases h1 : m = 20
  · rw [if_pos h1] at H; subst h1; exact br_t rfl H
  · rw [if_neg h1] at H
    refine br_f (fun z => h1 ((nI_eq (b := 20) (by omega) (by decide)).mp z)) ?_
    by_cases h2 : need ≤ h
    · rw [if_pos h2] at H; exact br_t (nI_le h2 (by omega)) H
    · rw [if_neg h2] at H; exact br_f (nI_ge (by omega) (by omega)) H

/-! link: the ways from the end at p to the begins at b, b + 1 .. -/
def xg_w (fw lw iw : Nat → Int32) : Nat → Int32 := fun j => fw j + lw (j / 10) * iw (j % 10)
def xg_c (g : Int32 → Int32 → Int32) (fm lm im : Nat → Int32) (ex : Int32) : Nat → Int32 := fun j => g (fm j) (nu_p (nu_p (lm (j / 10)) ex) (im (j % 10)))
theorem xg_wa {fw lw iw : Nat → Int32} {p q : Nat} (hq : q < 10) : xg_w fw lw iw (p * 10 + q) = fw (p * 10 + q) + lw p * iw q := by
  unfold xg_w
  rw [show (p * 10 + q) / 10 = p from by omega, show (p * 10 + q) % 10 = q from by omega]
theorem xg_ca {g : Int32 → Int32 → Int32} {fm lm im : Nat → Int32} {ex : Int32} {p q : Nat} (hq : q < 10) : xg_c g fm lm im ex (p * 10 + q) = g (fm (p * 10 + q)) (nu_p (nu_p (lm p) ex) (im q)) := by
  unfold xg_c
  rw [show (p * 10 + q) / 10 = p from by omega, show (p * 10 + q) % 10 = q from by omega]
theorem wx_link29 {post : SX → Prop} {p b pl : Nat} {ex : Int32} (hp : p < 10) (hpl : pl ≤ 10)
    (H : post (f_height, f_made, nI pl, f_count, f_useEmpty, f_useEmptyWays, f_length, a_low, a_hasEmpty, a_emptyWays, a_kind, a_firstWays, a_firstMin, a_firstMax, a_lastWays, a_lastMin, a_lastMax, mx_ (rc_ p (p + 1) b pl) a_followWays (xg_w a_followWays a_lastWays a_firstWays), mx_ (rc_ p (p + 1) b pl) a_followMin (xg_c nu_l a_followMin a_lastMin a_firstMin ex), mx_ (rc_ p (p + 1) b pl) a_followMax (xg_c nu_g a_followMax a_lastMax a_firstMax ex), a_useKind, a_inWays, a_inMin, a_inMax, a_outWays, a_outMin, a_outMax, a_goWays, a_goMin, a_goMax, a_text, a_nowWays, a_nowMin, a_nowMax, a_thenWays, a_thenMin, a_thenMax, a_gotWays, a_gotMin, a_gotMax, a_paid)) :
    ∀ n q : Nat, b ≤ q → q ≤ pl → pl - q < n → wX_link_29 post (nI p) (nu_p (a_lastMin p) ex) (nu_p (a_lastMax p) ex) f_height f_made (nI pl) f_count f_useEmpty f_useEmptyWays f_length n (nI q) a_low a_hasEmpty a_emptyWays a_kind a_firstWays a_firstMin a_firstMax a_lastWays a_lastMin a_lastMax (mx_ (rc_ p (p + 1) b q) a_followWays (xg_w a_followWays a_lastWays a_firstWays)) (mx_ (rc_ p (p + 1) b q) a_followMin (xg_c nu_l a_followMin a_lastMin a_firstMin ex)) (mx_ (rc_ p (p + 1) b q) a_followMax (xg_c nu_g a_followMax a_lastMax a_firstMax ex)) a_useKind a_inWays a_inMin a_inMax a_outWays a_outMin a_outMax a_goWays a_goMin a_goMax a_text a_nowWays a_nowMin a_nowMax a_thenWays a_thenMin a_thenMax a_gotWays a_gotMin a_gotMax a_paid := by
  intro n
  induction n with
  | zero => intro q _ _ h; omega
  | succ n ih =>
    intro q hb hq hn
    unfold wX_link_29
    by_cases e : q = pl
    · subst e
      exact br_t (nI_le (Nat.le_refl q) (by omega)) H
    · have hq10 : q < 10 := by omega
      have c1 : (nI p).toNatClampNeg = p := xi_c (by omega)
      have c2 : (nI q).toNatClampNeg = q := xi_c (by omega)
      have c3 : (nI (p * 10 + q)).toNatClampNeg = p * 10 + q := xi_c (by omega)
      have i100 : p * 10 + q < 100 := by omega
      have ih' := ih (q + 1) (by omega) (by omega) (by omega)
      rw [← mx_up hq10 hb, ← mx_up hq10 hb, ← mx_up hq10 hb, xg_wa hq10, xg_ca hq10, xg_ca hq10] at ih'
      refine br_f (nI_ge (by omega) (by omega)) (nm_r (xi_10 p q) ?_)
      refine And.intro (vp_in_nI i100 (by decide)) (And.intro (vp_in_nI hp (by decide)) (And.intro (vp_in_nI hq10 (by decide)) ?_))
      refine xs_ (p * 10 + q) _ i100 ?_ rfl (by rw [c1, c2, c3, mx_at hq10])
      refine And.intro (vp_in_nI hq10 (by decide)) (wx_plus (And.intro (vp_in_nI hq10 (by decide)) (wx_plus (And.intro (vp_in_nI i100 (by decide)) (wx_lesser ?_)))))
      refine xs_ (p * 10 + q) _ i100 ?_ rfl (by rw [c2, c3, mx_at hq10])
      refine And.intro (vp_in_nI i100 (by decide)) (wx_greater ?_)
      refine xs_ (p * 10 + q) _ i100 (nm_r (nI_1 q) ih') rfl (by rw [c2, c3, mx_at hq10])
theorem wx_link {post : SX → Prop} {p b pl : Nat} {ex : Int32} (hp : p < 10) (hb : b ≤ pl) (hpl : pl ≤ 10)
    (H : post (f_height, f_made, nI pl, f_count, f_useEmpty, f_useEmptyWays, f_length, a_low, a_hasEmpty, a_emptyWays, a_kind, a_firstWays, a_firstMin, a_firstMax, a_lastWays, a_lastMin, a_lastMax, mx_ (rc_ p (p + 1) b pl) a_followWays (xg_w a_followWays a_lastWays a_firstWays), mx_ (rc_ p (p + 1) b pl) a_followMin (xg_c nu_l a_followMin a_lastMin a_firstMin ex), mx_ (rc_ p (p + 1) b pl) a_followMax (xg_c nu_g a_followMax a_lastMax a_firstMax ex), a_useKind, a_inWays, a_inMin, a_inMax, a_outWays, a_outMin, a_outMax, a_goWays, a_goMin, a_goMax, a_text, a_nowWays, a_nowMin, a_nowMax, a_thenWays, a_thenMin, a_thenMax, a_gotWays, a_gotMin, a_gotMax, a_paid)) :
    wpX_link post (f_height, f_made, nI pl, f_count, f_useEmpty, f_useEmptyWays, f_length, a_low, a_hasEmpty, a_emptyWays, a_kind, a_firstWays, a_firstMin, a_firstMax, a_lastWays, a_lastMin, a_lastMax, a_followWays, a_followMin, a_followMax, a_useKind, a_inWays, a_inMin, a_inMax, a_outWays, a_outMin, a_outMax, a_goWays, a_goMin, a_goMax, a_text, a_nowWays, a_nowMin, a_nowMax, a_thenWays, a_thenMin, a_thenMax, a_gotWays, a_gotMin, a_gotMax, a_paid) (nI p) (nI b) ex := by
  have c1 : (nI p).toNatClampNeg = p := xi_c (by omega)
  have R := wx_link29 hp hpl H (pl - b + 1) b (Nat.le_refl b) hb (by omega)
  rw [mx_col0, mx_col0, mx_col0] at R
  unfold wpX_link
  refine And.intro (vp_in_nI hp (by decide)) (wx_plus (And.intro (vp_in_nI hp (by decide)) (wx_plus ⟨pl - b + 1, ?_⟩)))
  rw [c1]
  exact R
end XPRIM
end
section
section XBUILD
theorem vb_0 : vp_nar .boolean 0 = 0 := by decide
theorem vb_1 : vp_nar .boolean 1 = 1 := by decide
def lc_ (p q : Nat) : Nat → Bool := fun j => decide ((j / 10 = p ∧ j % 10 < q) ∨ (j % 10 = p ∧ j / 10 < q))
theorem lc_t {p q j : Nat} : lc_ p q j = true ↔ ((j / 10 = p ∧ j % 10 < q) ∨ (j % 10 = p ∧ j / 10 < q)) := decide_eq_true_iff
theorem mx_lc {p q : Nat} {f : Nat → Int32} {v : Int32} (hp : p < 10) (hq : q < 10) : upd (upd (mx_ (lc_ p q) f (fun _ => v)) (p * 10 + q) v) (q * 10 + p) v = mx_ (lc_ p (q + 1)) f (fun _ => v) := by
  funext j
  by_cases e : j = q * 10 + p
  · rw [e, pk_us, mx_t (lc_t.mpr (by omega))]
  · rw [pk_un e]
    by_cases e2 : j = p * 10 + q
    · rw [e2, pk_us, mx_t (lc_t.mpr (by omega))]
    · rw [pk_un e2]
      by_cases c : lc_ p q j = true
      · rw [mx_t c, mx_t (lc_t.mpr (by have := lc_t.mp c; omega))]
      · rw [mx_f c, mx_f (fun z => c (lc_t.mpr (by have := lc_t.mp z; omega)))]
theorem mx_lc0 {p : Nat} {f g : Nat → Int32} : mx_ (lc_ p 0) f g = f := mx_none (fun j z => by have := lc_t.mp z; omega)
variable {f_height f_made f_places f_count f_useEmpty f_useEmptyWays f_length : Int32} {a_low a_hasEmpty a_emptyWays a_kind a_firstWays a_firstMin a_firstMax a_lastWays a_lastMin a_lastMax a_followWays a_followMin a_followMax a_useKind a_inWays a_inMin a_inMax a_outWays a_outMin a_outMax a_goWays a_goMin a_goMax a_text a_nowWays a_nowMin a_nowMax a_thenWays a_thenMin a_thenMax a_gotWays a_gotMin a_gotMax a_paid : Nat → Int32}
theorem wx_leaf105 {post : Int32 → SX → Prop} {p : Nat} (hp : p < 10)
    (H : post f_height (f_height, f_made, nI (p + 1), f_count, f_useEmpty, f_useEmptyWays, f_length, a_low, a_hasEmpty, a_emptyWays, a_kind, a_firstWays, a_firstMin, a_firstMax, a_lastWays, a_lastMin, a_lastMax, mx_ (lc_ p 10) a_followWays (fun _ => 0), mx_ (lc_ p 10) a_followMin (fun _ => -1), mx_ (lc_ p 10) a_followMax (fun _ => -1), a_useKind, a_inWays, a_inMin, a_inMax, a_outWays, a_outMin, a_outMax, a_goWays, a_goMin, a_goMax, a_text, a_nowWays, a_nowMin, a_nowMax, a_thenWays, a_thenMin, a_thenMax, a_gotWays, a_gotMin, a_gotMax, a_paid)) :
    ∀ n q : Nat, q ≤ 10 → 10 - q < n → wX_leaf_105 post (nI p) n (nI q) f_height f_made f_places f_count f_useEmpty f_useEmptyWays f_length a_low a_hasEmpty a_emptyWays a_kind a_firstWays a_firstMin a_firstMax a_lastWays a_lastMin a_lastMax (mx_ (lc_ p q) a_followWays (fun _ => 0)) (mx_ (lc_ p q) a_followMin (fun _ => -1)) (mx_ (lc_ p q) a_followMax (fun _ => -1)) a_useKind a_inWays a_inMin a_inMax a_outWays a_outMin a_outMax a_goWays a_goMin a_goMax a_text a_nowWays a_nowMin a_nowMax a_thenWays a_thenMin a_thenMax a_gotWays a_gotMin a_gotMax a_paid := by
  intro n
  induction n with
  | zero => intro q _ h; omega
  | succ n ih =>
    intro q hq hn
    unfold wX_leaf_105
    by_cases e : q = 10
    · subst e
      exact br_t (nI_le (a := 10) (Nat.le_refl 10) (by decide)) (nm_r (nI_1 p) H)
    · have hq10 : q < 10 := by omega
      have ih' := ih (q + 1) (by omega) (by omega)
      rw [← mx_lc hp hq10, ← mx_lc hp hq10, ← mx_lc hp hq10] at ih'
      exact br_f (nI_ge (b := 10) (by omega) (by decide)) (wx_cut hp hq10 (wx_cut hq10 hp (nm_r (nI_1 q) ih')))
theorem wx_leaf {post : Int32 → SX → Prop} {h m pl w : Nat} {c : Int32} (hh : h ≤ 8) (hm : m ≤ 20) (hpl : pl ≤ 10) (hw : w ≤ 9)
    (H1 : (m = 20 ∨ h = 8 ∨ pl = 10) → post (-2) (nI h, nI m, nI pl, f_count, f_useEmpty, f_useEmptyWays, f_length, a_low, a_hasEmpty, a_emptyWays, a_kind, a_firstWays, a_firstMin, a_firstMax, a_lastWays, a_lastMin, a_lastMax, a_followWays, a_followMin, a_followMax, a_useKind, a_inWays, a_inMin, a_inMax, a_outWays, a_outMin, a_outMax, a_goWays, a_goMin, a_goMax, a_text, a_nowWays, a_nowMin, a_nowMax, a_thenWays, a_thenMin, a_thenMax, a_gotWays, a_gotMin, a_gotMax, a_paid))
    (H2 : m < 20 → h < 8 → pl < 10 → post (nI (h + 1)) (nI (h + 1), nI (m + 1), nI (pl + 1), f_count, f_useEmpty, f_useEmptyWays, f_length, upd a_low h (nI pl), upd a_hasEmpty h 0, upd a_emptyWays h 0, upd a_kind pl c, upd a_firstWays pl 1, upd a_firstMin pl (nI w), upd a_firstMax pl (nI w), upd a_lastWays pl 1, upd a_lastMin pl 0, upd a_lastMax pl 0, mx_ (lc_ pl 10) a_followWays (fun _ => 0), mx_ (lc_ pl 10) a_followMin (fun _ => -1), mx_ (lc_ pl 10) a_followMax (fun _ => -1), a_useKind, a_inWays, a_inMin, a_inMax, a_outWays, a_outMin, a_outMax, a_goWays, a_goMin, a_goMax, a_text, a_nowWays, a_nowMin, a_nowMax, a_thenWays, a_thenMin, a_thenMax, a_gotWays, a_gotMin, a_gotMax, a_paid)) :
    wpX_leaf post (nI h, nI m, nI pl, f_count, f_useEmpty, f_useEmptyWays, f_length, a_low, a_hasEmpty, a_emptyWays, a_kind, a_firstWays, a_firstMin, a_firstMax, a_lastWays, a_lastMin, a_lastMax, a_followWays, a_followMin, a_followMax, a_useKind, a_inWays, a_inMin, a_inMax, a_outWays, a_outMin, a_outMax, a_goWays, a_goMin, a_goMax, a_text, a_nowWays, a_nowMin, a_nowMax, a_thenWays, a_thenMin, a_thenMax, a_gotWays, a_gotMin, a_gotMax, a_paid) c (nI w) := by
  unfold wpX_leaf
  refine br_f (nI_pos (by omega)) (br_t (nI_le (b := 9) hw (by decide)) ?_)
  by_cases e1 : m = 20
  · subst e1; exact br_t rfl (H1 (Or.inl rfl))
  · refine br_f (fun z => e1 ((nI_eq (b := 20) (by omega) (by decide)).mp z)) ?_
    by_cases e2 : h = 8
    · subst e2; exact br_t rfl (H1 (Or.inr (Or.inl rfl)))
    · refine br_f (fun z => e2 ((nI_eq (b := 8) (by omega) (by decide)).mp z)) ?_
      by_cases e3 : pl = 10
      · subst e3; exact br_t rfl (H1 (Or.inr (Or.inr rfl)))
      · refine br_f (fun z => e3 ((nI_eq (b := 10) (by omega) (by decide)).mp z)) ?_
        have hp : pl < 10 := by omega
        have R := wx_leaf105 (f_places := nI pl) hp (H2 (by omega) (by omega) hp) 11 0 (by omega) (by omega)
        rw [mx_lc0, mx_lc0, mx_lc0] at R
        refine wx_push (by omega) ?_
        rw [vb_0]
        exact xs_ pl _ hp (xs_ pl _ hp (xs_ pl _ hp (xs_ pl _ hp (xs_ pl _ hp (xs_ pl _ hp (xs_ pl _ hp ⟨11, R⟩))))))
theorem wx_unit {post : Int32 → SX → Prop} {h m pl : Nat} (hh : h ≤ 8) (hm : m ≤ 20)
    (H1 : (m = 20 ∨ h = 8) → post (-2) (nI h, nI m, nI pl, f_count, f_useEmpty, f_useEmptyWays, f_length, a_low, a_hasEmpty, a_emptyWays, a_kind, a_firstWays, a_firstMin, a_firstMax, a_lastWays, a_lastMin, a_lastMax, a_followWays, a_followMin, a_followMax, a_useKind, a_inWays, a_inMin, a_inMax, a_outWays, a_outMin, a_outMax, a_goWays, a_goMin, a_goMax, a_text, a_nowWays, a_nowMin, a_nowMax, a_thenWays, a_thenMin, a_thenMax, a_gotWays, a_gotMin, a_gotMax, a_paid))
    (H2 : m < 20 → h < 8 → post (nI (h + 1)) (nI (h + 1), nI (m + 1), nI pl, f_count, f_useEmpty, f_useEmptyWays, f_length, upd a_low h (nI pl), upd a_hasEmpty h 1, upd a_emptyWays h 1, a_kind, a_firstWays, a_firstMin, a_firstMax, a_lastWays, a_lastMin, a_lastMax, a_followWays, a_followMin, a_followMax, a_useKind, a_inWays, a_inMin, a_inMax, a_outWays, a_outMin, a_outMax, a_goWays, a_goMin, a_goMax, a_text, a_nowWays, a_nowMin, a_nowMax, a_thenWays, a_thenMin, a_thenMax, a_gotWays, a_gotMin, a_gotMax, a_paid)) :
    wpX_unit post (nI h, nI m, nI pl, f_count, f_useEmpty, f_useEmptyWays, f_length, a_low, a_hasEmpty, a_emptyWays, a_kind, a_firstWays, a_firstMin, a_firstMax, a_lastWays, a_lastMin, a_lastMax, a_followWays, a_followMin, a_followMax, a_useKind, a_inWays, a_inMin, a_inMax, a_outWays, a_outMin, a_outMax, a_goWays, a_goMin, a_goMax, a_text, a_nowWays, a_nowMin, a_nowMax, a_thenWays, a_thenMin, a_thenMax, a_gotWays, a_gotMin, a_gotMax, a_paid) := by
  unfold wpX_unit
  by_cases e1 : m = 20
  · subst e1; exact br_t rfl (H1 (Or.inl rfl))
  · refine br_f (fun z => e1 ((nI_eq (b := 20) (by omega) (by decide)).mp z)) ?_
    by_cases e2 : h = 8
    · subst e2; exact br_t rfl (H1 (Or.inr rfl))
    · refine br_f (fun z => e2 ((nI_eq (b := 8) (by omega) (by decide)).mp z)) ?_
      refine wx_push (by omega) ?_
      rw [vb_1]
      exact H2 (by omega) (by omega)
end XBUILD
end
section
section XSEQ
variable {f_height f_made f_places f_count f_useEmpty f_useEmptyWays f_length : Int32} {a_low a_hasEmpty a_emptyWays a_kind a_firstWays a_firstMin a_firstMax a_lastWays a_lastMin a_lastMax a_followWays a_followMin a_followMax a_useKind a_inWays a_inMin a_inMax a_outWays a_outMin a_outMax a_goWays a_goMin a_goMax a_text a_nowWays a_nowMin a_nowMax a_thenWays a_thenMin a_thenMax a_gotWays a_gotMin a_gotMax a_paid : Nat → Int32}
theorem wx_seqend {post : Int32 → SX → Prop} {x y m : Nat} (hx : x < 8) (hy : y < 8)
    (H : post (nI y) (nI y, nI (m + 1), f_places, f_count, f_useEmpty, f_useEmptyWays, f_length, a_low, upd a_hasEmpty x (nu_and (a_hasEmpty x) (a_hasEmpty y)), upd a_emptyWays x (a_emptyWays x * a_emptyWays y), a_kind, a_firstWays, a_firstMin, a_firstMax, a_lastWays, a_lastMin, a_lastMax, a_followWays, a_followMin, a_followMax, a_useKind, a_inWays, a_inMin, a_inMax, a_outWays, a_outMin, a_outMax, a_goWays, a_goMin, a_goMax, a_text, a_nowWays, a_nowMin, a_nowMax, a_thenWays, a_thenMin, a_thenMax, a_gotWays, a_gotMin, a_gotMax, a_paid)) :
    vp_in (nI x) 8 ∧ (vp_in (nI y) 8 ∧ (vp_in (nI x) 8 ∧ ∀ ew : Nat → Int32, ew = upd a_emptyWays (nI x).toNatClampNeg ((a_emptyWays (nI x).toNatClampNeg) * (a_emptyWays (nI y).toNatClampNeg)) → (vp_in (nI x) 8 ∧ ((((a_hasEmpty (nI x).toNatClampNeg) = 0 → (wX_seq_250 post (nI y) (nI x) f_height (nI m) f_places f_count f_useEmpty f_useEmptyWays f_length a_low a_hasEmpty ew a_kind a_firstWays a_firstMin a_firstMax a_lastWays a_lastMin a_lastMax a_followWays a_followMin a_followMax a_useKind a_inWays a_inMin a_inMax a_outWays a_outMin a_outMax a_goWays a_goMin a_goMax a_text a_nowWays a_nowMin a_nowMax a_thenWays a_thenMin a_thenMax a_gotWays a_gotMin a_gotMax a_paid)) ∧ (¬ (a_hasEmpty (nI x).toNatClampNeg) = 0 → (vp_in (nI y) 8 ∧ ((((a_hasEmpty (nI y).toNatClampNeg) = 0 → (wX_seq_250 post (nI y) (nI x) f_height (nI m) f_places f_count f_useEmpty f_useEmptyWays f_length a_low a_hasEmpty ew a_kind a_firstWays a_firstMin a_firstMax a_lastWays a_lastMin a_lastMax a_followWays a_followMin a_followMax a_useKind a_inWays a_inMin a_inMax a_outWays a_outMin a_outMax a_goWays a_goMin a_goMax a_text a_nowWays a_nowMin a_nowMax a_thenWays a_thenMin a_thenMax a_gotWays a_gotMin a_gotMax a_paid)) ∧ (¬ (a_hasEmpty (nI y).toNatClampNeg) = 0 → (wX_seq_251 post (nI y) 1 (nI x) f_height (nI m) f_places f_count f_useEmpty f_useEmptyWays f_length a_low a_hasEmpty ew a_kind a_firstWays a_firstMin a_firstMax a_lastWays a_lastMin a_lastMax a_followWays a_followMin a_followMax a_useKind a_inWays a_inMin a_inMax a_outWays a_outMin a_outMax a_goWays a_goMin a_goMax a_text a_nowWays a_nowMin a_nowMax a_thenWays a_thenMin a_thenMax a_gotWays a_gotMin a_gotMax a_paid))))))))))) := by
  have c1 : (nI x).toNatClampNeg = x := xi_c (by omega)
  have c2 : (nI y).toNatClampNeg = y := xi_c (by omega)
  rw [c1, c2]
  refine And.intro (vp_in_nI hx (by decide)) (And.intro (vp_in_nI hy (by decide)) (And.intro (vp_in_nI hx (by decide)) (nm_e (And.intro (vp_in_nI hx (by decide)) ?_))))
  unfold nu_and at H
  by_cases h1 : a_hasEmpty x = 0
  · rw [if_pos h1] at H
    refine br_t h1 ?_
    unfold wX_seq_250 wX_seq_251
    exact xs_ x _ hx (nm_r (nI_1 m) H) rfl vb_0
  · rw [if_neg h1] at H
    refine br_f h1 (And.intro (vp_in_nI hy (by decide)) ?_)
    by_cases h2 : a_hasEmpty y = 0
    · rw [if_pos h2] at H
      refine br_t h2 ?_
      unfold wX_seq_250 wX_seq_251
      exact xs_ x _ hx (nm_r (nI_1 m) H) rfl vb_0
    · rw [if_neg h2] at H
      refine br_f h2 ?_
      unfold wX_seq_251
      exact xs_ x _ hx (nm_r (nI_1 m) H) rfl vb_1
theorem wx_seq143 {post : Int32 → SX → Prop} {x y m b pl : Nat} (hx : x < 8) (hy : y < 8) (hpl : pl ≤ 10)
    (H : post (nI y) (nI y, nI (m + 1), nI pl, f_count, f_useEmpty, f_useEmptyWays, f_length, a_low, upd a_hasEmpty x (nu_and (a_hasEmpty x) (a_hasEmpty y)), upd a_emptyWays x (a_emptyWays x * a_emptyWays y), a_kind, mx_ (r1_ b pl) a_firstWays (fun j => a_firstWays j * a_emptyWays x), mx_ (r1_ b pl) a_firstMin (fun j => nu_k (a_hasEmpty x) (a_firstMin j)), mx_ (r1_ b pl) a_firstMax (fun j => nu_k (a_hasEmpty x) (a_firstMax j)), a_lastWays, a_lastMin, a_lastMax, a_followWays, a_followMin, a_followMax, a_useKind, a_inWays, a_inMin, a_inMax, a_outWays, a_outMin, a_outMax, a_goWays, a_goMin, a_goMax, a_text, a_nowWays, a_nowMin, a_nowMax, a_thenWays, a_thenMin, a_thenMax, a_gotWays, a_gotMin, a_gotMax, a_paid)) :
    ∀ n q : Nat, b ≤ q → q ≤ pl → pl - q < n → wX_seq_143 post (nI x) (nI y) f_height (nI m) (nI pl) f_count f_useEmpty f_useEmptyWays f_length n (nI q) a_low a_hasEmpty a_emptyWays a_kind (mx_ (r1_ b q) a_firstWays (fun j => a_firstWays j * a_emptyWays x)) (mx_ (r1_ b q) a_firstMin (fun j => nu_k (a_hasEmpty x) (a_firstMin j))) (mx_ (r1_ b q) a_firstMax (fun j => nu_k (a_hasEmpty x) (a_firstMax j))) a_lastWays a_lastMin a_lastMax a_followWays a_followMin a_followMax a_useKind a_inWays a_inMin a_inMax a_outWays a_outMin a_outMax a_goWays a_goMin a_goMax a_text a_nowWays a_nowMin a_nowMax a_thenWays a_thenMin a_thenMax a_gotWays a_gotMin a_gotMax a_paid := by
  intro n
  induction n with
  | zero => intro q _ _ h; omega
  | succ n ih =>
    intro q hb hq hn
    unfold wX_seq_143
    by_cases e : q = pl
    · subst e
      exact br_t (nI_le (Nat.le_refl q) (by omega)) (wx_seqend hx hy H)
    · have hq10 : q < 10 := by omega
      have c1 : (nI x).toNatClampNeg = x := xi_c (by omega)
      have c2 : (nI q).toNatClampNeg = q := xi_c (by omega)
      have ih' := ih (q + 1) (by omega) (by omega) (by omega)
      rw [← mx_up1 (f := a_firstWays) hb] at ih'
      refine br_f (nI_ge (by omega) (by omega)) (And.intro (vp_in_nI hq10 (by decide)) (And.intro (vp_in_nI hx (by decide)) ?_))
      refine xs_ q _ hq10 ?_ rfl (by rw [c1, c2, mx_at1])
      refine And.intro (vp_in_nI hx (by decide)) ?_
      rw [c1]
      by_cases h1 : a_hasEmpty x = 0
      · rw [← mx_up1 (f := a_firstMin) hb, ← mx_up1 (f := a_firstMax) hb] at ih'
        have k1 : ∀ z : Int32, nu_k (a_hasEmpty x) z = -1 := fun z => if_pos h1
        rw [k1, k1] at ih'
        refine br_t h1 ?_
        exact xs_ q _ hq10 (xs_ q _ hq10 (nm_r (nI_1 q) ih'))
      · have k1 : ∀ z : Int32, nu_k (a_hasEmpty x) z = z := fun z => if_neg h1
        rw [mx_same (f := a_firstMin) (fun j => k1 _), mx_same (f := a_firstMax) (fun j => k1 _)] at ih'
        rw [mx_same (f := a_firstMin) (fun j => k1 _), mx_same (f := a_firstMax) (fun j => k1 _)]
        exact br_f h1 (nm_r (nI_1 q) ih')
theorem wx_seq72 {post : Int32 → SX → Prop} {x y a b : Nat} (hx : x < 8) (hy : y < 8) (hb10 : b ≤ 10) (hl : a_low y = nI b)
    (H : ∃ n, wX_seq_143 post (nI x) (nI y) f_height f_made f_places f_count f_useEmpty f_useEmptyWays f_length n (nI b) a_low a_hasEmpty a_emptyWays a_kind a_firstWays a_firstMin a_firstMax (mx_ (r1_ a b) a_lastWays (fun j => a_lastWays j * a_emptyWays y)) (mx_ (r1_ a b) a_lastMin (fun j => nu_k (a_hasEmpty y) (a_lastMin j))) (mx_ (r1_ a b) a_lastMax (fun j => nu_k (a_hasEmpty y) (a_lastMax j))) a_followWays a_followMin a_followMax a_useKind a_inWays a_inMin a_inMax a_outWays a_outMin a_outMax a_goWays a_goMin a_goMax a_text a_nowWays a_nowMin a_nowMax a_thenWays a_thenMin a_thenMax a_gotWays a_gotMin a_gotMax a_paid) :
    ∀ n q : Nat, a ≤ q → q ≤ b → b - q < n → wX_seq_72 post (nI x) (nI y) f_height f_made f_places f_count f_useEmpty f_useEmptyWays f_length n (nI q) a_low a_hasEmpty a_emptyWays a_kind a_firstWays a_firstMin a_firstMax (mx_ (r1_ a q) a_lastWays (fun j => a_lastWays j * a_emptyWays y)) (mx_ (r1_ a q) a_lastMin (fun j => nu_k (a_hasEmpty y) (a_lastMin j))) (mx_ (r1_ a q) a_lastMax (fun j => nu_k (a_hasEmpty y) (a_lastMax j))) a_followWays a_followMin a_followMax a_useKind a_inWays a_inMin a_inMax a_outWays a_outMin a_outMax a_goWays a_goMin a_goMax a_text a_nowWays a_nowMin a_nowMax a_thenWays a_thenMin a_thenMax a_gotWays a_gotMin a_gotMax a_paid := by
  intro n
  induction n with
  | zero => intro q _ _ h; omega
  | succ n ih =>
    intro q hb hq hn
    have c1 : (nI y).toNatClampNeg = y := xi_c (by omega)
    unfold wX_seq_72
    rw [c1, hl]
    refine And.intro (vp_in_nI (by omega) (by decide)) ?_
    by_cases e : q = b
    · subst e
      exact br_t (nI_le (Nat.le_refl q) (by omega)) (And.intro (vp_in_nI (by omega) (by decide)) (nm_e H))
    · have hq10 : q < 10 := by omega
      have c2 : (nI q).toNatClampNeg = q := xi_c (by omega)
      have ih' := ih (q + 1) (by omega) (by omega) (by omega)
      rw [← mx_up1 (f := a_lastWays) hb] at ih'
      refine br_f (nI_ge (by omega) (by omega)) (And.intro (vp_in_nI hq10 (by decide)) (And.intro (vp_in_nI hy (by decide)) ?_))
      refine xs_ q _ hq10 ?_ rfl (by rw [c2, mx_at1])
      refine And.intro (vp_in_nI hy (by decide)) ?_
      by_cases h1 : a_hasEmpty y = 0
      · rw [← mx_up1 (f := a_lastMin) hb, ← mx_up1 (f := a_lastMax) hb] at ih'
        have k1 : ∀ z : Int32, nu_k (a_hasEmpty y) z = -1 := fun z => if_pos h1
        rw [k1, k1] at ih'
        refine br_t h1 ?_
        exact xs_ q _ hq10 (xs_ q _ hq10 (nm_r (nI_1 q) ih'))
      · have k1 : ∀ z : Int32, nu_k (a_hasEmpty y) z = z := fun z => if_neg h1
        rw [mx_same (f := a_lastMin) (fun j => k1 _), mx_same (f := a_lastMax) (fun j => k1 _)] at ih'
        rw [mx_same (f := a_lastMin) (fun j => k1 _), mx_same (f := a_lastMax) (fun j => k1 _)]
        exact br_f h1 (nm_r (nI_1 q) ih')
theorem wx_seq34 {post : Int32 → SX → Prop} {x y a b pl : Nat} (hx : x < 8) (hy : y < 8) (hbp : b ≤ pl) (hpl : pl ≤ 10) (hla : a_low x = nI a) (hl : a_low y = nI b)
    (H : ∃ n, wX_seq_72 post (nI x) (nI y) f_height f_made (nI pl) f_count f_useEmpty f_useEmptyWays f_length n (nI a) a_low a_hasEmpty a_emptyWays a_kind a_firstWays a_firstMin a_firstMax a_lastWays a_lastMin a_lastMax (mx_ (rc_ a b b pl) a_followWays (xg_w a_followWays a_lastWays a_firstWays)) (mx_ (rc_ a b b pl) a_followMin (xg_c nu_l a_followMin a_lastMin a_firstMin 0)) (mx_ (rc_ a b b pl) a_followMax (xg_c nu_g a_followMax a_lastMax a_firstMax 0)) a_useKind a_inWays a_inMin a_inMax a_outWays a_outMin a_outMax a_goWays a_goMin a_goMax a_text a_nowWays a_nowMin a_nowMax a_thenWays a_thenMin a_thenMax a_gotWays a_gotMin a_gotMax a_paid) :
    ∀ n p : Nat, a ≤ p → p ≤ b → b - p < n → wX_seq_34 post (nI x) (nI y) n (nI p) f_height f_made (nI pl) f_count f_useEmpty f_useEmptyWays f_length a_low a_hasEmpty a_emptyWays a_kind a_firstWays a_firstMin a_firstMax a_lastWays a_lastMin a_lastMax (mx_ (rc_ a p b pl) a_followWays (xg_w a_followWays a_lastWays a_firstWays)) (mx_ (rc_ a p b pl) a_followMin (xg_c nu_l a_followMin a_lastMin a_firstMin 0)) (mx_ (rc_ a p b pl) a_followMax (xg_c nu_g a_followMax a_lastMax a_firstMax 0)) a_useKind a_inWays a_inMin a_inMax a_outWays a_outMin a_outMax a_goWays a_goMin a_goMax a_text a_nowWays a_nowMin a_nowMax a_thenWays a_thenMin a_thenMax a_gotWays a_gotMin a_gotMax a_paid := by
  intro n
  induction n with
  | zero => intro q _ _ h; omega
  | succ n ih =>
    intro p ha hp hn
    have c1 : (nI y).toNatClampNeg = y := xi_c (by omega)
    have c2 : (nI x).toNatClampNeg = x := xi_c (by omega)
    unfold wX_seq_34
    rw [c1, hl, c2, hla]
    refine And.intro (vp_in_nI (by omega) (by decide)) ?_
    by_cases e : p = b
    · subst e
      exact br_t (nI_le (Nat.le_refl p) (by omega)) (And.intro (vp_in_nI (by omega) (by decide)) (nm_e H))
    · have ih' := ih (p + 1) (by omega) (by omega) (by omega)
      rw [← mx_row (f := a_followWays) (g := fun u => xg_w u a_lastWays a_firstWays) (fun u v j h => by unfold xg_w; rw [h]) ha,
        ← mx_row (f := a_followMin) (g := fun u => xg_c nu_l u a_lastMin a_firstMin 0) (fun u v j h => by unfold xg_c; rw [h]) ha,
        ← mx_row (f := a_followMax) (g := fun u => xg_c nu_g u a_lastMax a_firstMax 0) (fun u v j h => by unfold xg_c; rw [h]) ha] at ih'
      exact br_f (nI_ge (by omega) (by omega)) (And.intro (vp_in_nI (by omega) (by decide)) (wx_link (by omega) hbp hpl (nm_r (nI_1 p) ih')))
theorem wx_seq {post : Int32 → SX → Prop} {h m a b pl : Nat} (hh : h + 2 ≤ 8) (hm : m < 20) (hab : a ≤ b) (hbp : b ≤ pl) (hpl : pl ≤ 10) (hla : a_low h = nI a) (hl : a_low (h + 1) = nI b)
    (H : post (nI (h + 1)) (nI (h + 1), nI (m + 1), nI pl, f_count, f_useEmpty, f_useEmptyWays, f_length, a_low, upd a_hasEmpty h (nu_and (a_hasEmpty h) (a_hasEmpty (h + 1))), upd a_emptyWays h (a_emptyWays h * a_emptyWays (h + 1)), a_kind, mx_ (r1_ b pl) a_firstWays (fun j => a_firstWays j * a_emptyWays h), mx_ (r1_ b pl) a_firstMin (fun j => nu_k (a_hasEmpty h) (a_firstMin j)), mx_ (r1_ b pl) a_firstMax (fun j => nu_k (a_hasEmpty h) (a_firstMax j)), mx_ (r1_ a b) a_lastWays (fun j => a_lastWays j * a_emptyWays (h + 1)), mx_ (r1_ a b) a_lastMin (fun j => nu_k (a_hasEmpty (h + 1)) (a_lastMin j)), mx_ (r1_ a b) a_lastMax (fun j => nu_k (a_hasEmpty (h + 1)) (a_lastMax j)), mx_ (rc_ a b b pl) a_followWays (xg_w a_followWays a_lastWays a_firstWays), mx_ (rc_ a b b pl) a_followMin (xg_c nu_l a_followMin a_lastMin a_firstMin 0), mx_ (rc_ a b b pl) a_followMax (xg_c nu_g a_followMax a_lastMax a_firstMax 0), a_useKind, a_inWays, a_inMin, a_inMax, a_outWays, a_outMin, a_outMax, a_goWays, a_goMin, a_goMax, a_text, a_nowWays, a_nowMin, a_nowMax, a_thenWays, a_thenMin, a_thenMax, a_gotWays, a_gotMin, a_gotMax, a_paid)) :
    wpX_seq post (nI (h + 2), nI m, nI pl, f_count, f_useEmpty, f_useEmptyWays, f_length, a_low, a_hasEmpty, a_emptyWays, a_kind, a_firstWays, a_firstMin, a_firstMax, a_lastWays, a_lastMin, a_lastMax, a_followWays, a_followMin, a_followMax, a_useKind, a_inWays, a_inMin, a_inMax, a_outWays, a_outMin, a_outMax, a_goWays, a_goMin, a_goMax, a_text, a_nowWays, a_nowMin, a_nowMax, a_thenWays, a_thenMin, a_thenMax, a_gotWays, a_gotMin, a_gotMax, a_paid) := by
  have c2 : (nI h).toNatClampNeg = h := xi_c (by omega)
  have s2 : nI (h + 2) - 2 = nI h := pk_sub (a := h + 2) (b := 2) (by omega)
  have s1 : nI (h + 2) - 1 = nI (h + 1) := pk_sub (a := h + 2) (b := 1) (by omega)
  have R1 := wx_seq143 (f_height := nI (h + 2)) (by omega) (by omega) hpl H (pl - b + 1) b (Nat.le_refl b) hbp (by omega)
  rw [mx_one0, mx_one0, mx_one0] at R1
  have R2 := wx_seq72 (by omega) (by omega) (by omega) hl ⟨_, R1⟩ (b - a + 1) a (Nat.le_refl a) hab (by omega)
  rw [mx_one0, mx_one0, mx_one0] at R2
  have R3 := wx_seq34 (by omega) (by omega) hbp hpl hla hl ⟨_, R2⟩ (b - a + 1) a (Nat.le_refl a) hab (by omega)
  rw [mx_row0, mx_row0, mx_row0] at R3
  unfold wpX_seq
  refine wx_refused hh (by omega) 2 (by omega) ?_
  rw [if_neg (by omega), if_pos (by omega), s2, s1]
  exact br_t (by decide) (nm_e (nm_e (And.intro (vp_in_nI (by omega) (by decide)) (nm_r (e' := nI a) (by rw [c2, hla]) ⟨_, R3⟩))))
end XSEQ
end
section
section XLOOP
variable {f_height f_made f_places f_count f_useEmpty f_useEmptyWays f_length : Int32} {a_low a_hasEmpty a_emptyWays a_kind a_firstWays a_firstMin a_firstMax a_lastWays a_lastMin a_lastMax a_followWays a_followMin a_followMax a_useKind a_inWays a_inMin a_inMax a_outWays a_outMin a_outMax a_goWays a_goMin a_goMax a_text a_nowWays a_nowMin a_nowMax a_thenWays a_thenMin a_thenMax a_gotWays a_gotMin a_gotMax a_paid : Nat → Int32}
theorem wx_alt {post : Int32 → SX → Prop} {h m : Nat} (hh : h + 2 ≤ 8) (hm : m < 20)
    (H : post (nI (h + 1)) (nI (h + 1), nI (m + 1), f_places, f_count, f_useEmpty, f_useEmptyWays, f_length, a_low, upd a_hasEmpty h (nu_or (a_hasEmpty h) (a_hasEmpty (h + 1))), upd a_emptyWays h (a_emptyWays h + a_emptyWays (h + 1)), a_kind, a_firstWays, a_firstMin, a_firstMax, a_lastWays, a_lastMin, a_lastMax, a_followWays, a_followMin, a_followMax, a_useKind, a_inWays, a_inMin, a_inMax, a_outWays, a_outMin, a_outMax, a_goWays, a_goMin, a_goMax, a_text, a_nowWays, a_nowMin, a_nowMax, a_thenWays, a_thenMin, a_thenMax, a_gotWays, a_gotMin, a_gotMax, a_paid)) :
    wpX_alt post (nI (h + 2), nI m, f_places, f_count, f_useEmpty, f_useEmptyWays, f_length, a_low, a_hasEmpty, a_emptyWays, a_kind, a_firstWays, a_firstMin, a_firstMax, a_lastWays, a_lastMin, a_lastMax, a_followWays, a_followMin, a_followMax, a_useKind, a_inWays, a_inMin, a_inMax, a_outWays, a_outMin, a_outMax, a_goWays, a_goMin, a_goMax, a_text, a_nowWays, a_nowMin, a_nowMax, a_thenWays, a_thenMin, a_thenMax, a_gotWays, a_gotMin, a_gotMax, a_paid) := by
  have c1 : (nI h).toNatClampNeg = h := xi_c (by omega)
  have c2 : (nI (h + 1)).toNatClampNeg = h + 1 := xi_c (by omega)
  have s2 : nI (h + 2) - 2 = nI h := pk_sub (a := h + 2) (b := 2) (by omega)
  have s1 : nI (h + 2) - 1 = nI (h + 1) := pk_sub (a := h + 2) (b := 1) (by omega)
  have hx : h < 8 := by omega
  have hy : h + 1 < 8 := by omega
  unfold wpX_alt
  refine wx_refused hh (by omega) 2 (by omega) ?_
  rw [if_neg (by omega), if_pos (by omega), s2, s1]
  refine br_t (by decide) (nm_e (nm_e ?_))
  rw [c1, c2]
  refine And.intro (vp_in_nI hx (by decide)) (And.intro (vp_in_nI hy (by decide)) (And.intro (vp_in_nI hx (by decide)) (nm_e (And.intro (vp_in_nI hx (by decide)) ?_))))
  unfold nu_or at H
  by_cases h1 : a_hasEmpty h = 0
  · rw [if_pos h1] at H
    refine br_t h1 (And.intro (vp_in_nI hy (by decide)) ?_)
    by_cases h2 : a_hasEmpty (h + 1) = 0
    · rw [if_pos h2] at H
      refine br_t h2 ?_
      unfold wX_alt_73
      exact xs_ h _ hx (nm_r (nI_1 m) H) rfl vb_0
    · rw [if_neg h2] at H
      refine br_f h2 ?_
      unfold wX_alt_68 wX_alt_73
      exact xs_ h _ hx (nm_r (nI_1 m) H) rfl vb_1
  · rw [if_neg h1] at H
    refine br_f h1 ?_
    unfold wX_alt_68 wX_alt_73
    exact xs_ h _ hx (nm_r (nI_1 m) H) rfl vb_1
theorem wx_loop75 {post : Int32 → SX → Prop} {x m a pl : Nat} {ex : Int32} (hx : x < 8) (hpl : pl ≤ 10)
    (H : post f_height (f_height, nI (m + 1), nI pl, f_count, f_useEmpty, f_useEmptyWays, f_length, a_low, upd a_hasEmpty x 1, upd a_emptyWays x 1, a_kind, a_firstWays, mx_ (r1_ a pl) a_firstMin (fun j => nu_p (a_firstMin j) ex), mx_ (r1_ a pl) a_firstMax (fun j => nu_p (a_firstMax j) ex), a_lastWays, a_lastMin, a_lastMax, a_followWays, a_followMin, a_followMax, a_useKind, a_inWays, a_inMin, a_inMax, a_outWays, a_outMin, a_outMax, a_goWays, a_goMin, a_goMax, a_text, a_nowWays, a_nowMin, a_nowMax, a_thenWays, a_thenMin, a_thenMax, a_gotWays, a_gotMin, a_gotMax, a_paid)) :
    ∀ n q : Nat, a ≤ q → q ≤ pl → pl - q < n → wX_loop_75 post ex (nI x) f_height (nI m) (nI pl) f_count f_useEmpty f_useEmptyWays f_length n (nI q) a_low a_hasEmpty a_emptyWays a_kind a_firstWays (mx_ (r1_ a q) a_firstMin (fun j => nu_p (a_firstMin j) ex)) (mx_ (r1_ a q) a_firstMax (fun j => nu_p (a_firstMax j) ex)) a_lastWays a_lastMin a_lastMax a_followWays a_followMin a_followMax a_useKind a_inWays a_inMin a_inMax a_outWays a_outMin a_outMax a_goWays a_goMin a_goMax a_text a_nowWays a_nowMin a_nowMax a_thenWays a_thenMin a_thenMax a_gotWays a_gotMin a_gotMax a_paid := by
  intro n
  induction n with
  | zero => intro q _ _ h; omega
  | succ n ih =>
    intro q hb hq hn
    unfold wX_loop_75
    by_cases e : q = pl
    · subst e
      refine br_t (nI_le (Nat.le_refl q) (by omega)) ?_
      exact xs_ x _ hx (xs_ x _ hx (nm_r (nI_1 m) H) rfl vb_1)
    · have hq10 : q < 10 := by omega
      have c2 : (nI q).toNatClampNeg = q := xi_c (by omega)
      have ih' := ih (q + 1) (by omega) (by omega) (by omega)
      rw [← mx_up1 (f := a_firstMin) hb, ← mx_up1 (f := a_firstMax) hb] at ih'
      refine br_f (nI_ge (by omega) (by omega)) (And.intro (vp_in_nI hq10 (by decide)) (wx_plus ?_))
      refine xs_ q _ hq10 ?_ rfl (by rw [c2, mx_at1])
      refine And.intro (vp_in_nI hq10 (by decide)) (wx_plus ?_)
      exact xs_ q _ hq10 (nm_r (nI_1 q) ih') rfl (by rw [c2, mx_at1])
theorem wx_loop39 {post : Int32 → SX → Prop} {x a pl : Nat} {ex : Int32} (hx : x < 8) (hap : a ≤ pl) (hpl : pl ≤ 10) (hla : a_low x = nI a)
    (H : ∃ n, wX_loop_75 post ex (nI x) f_height f_made (nI pl) f_count f_useEmpty f_useEmptyWays f_length n (nI a) a_low a_hasEmpty a_emptyWays a_kind a_firstWays a_firstMin a_firstMax a_lastWays a_lastMin a_lastMax (mx_ (rc_ a pl a pl) a_followWays (xg_w a_followWays a_lastWays a_firstWays)) (mx_ (rc_ a pl a pl) a_followMin (xg_c nu_l a_followMin a_lastMin a_firstMin ex)) (mx_ (rc_ a pl a pl) a_followMax (xg_c nu_g a_followMax a_lastMax a_firstMax ex)) a_useKind a_inWays a_inMin a_inMax a_outWays a_outMin a_outMax a_goWays a_goMin a_goMax a_text a_nowWays a_nowMin a_nowMax a_thenWays a_thenMin a_thenMax a_gotWays a_gotMin a_gotMax a_paid) :
    ∀ n p : Nat, a ≤ p → p ≤ pl → pl - p < n → wX_loop_39 post ex (nI x) n (nI p) f_height f_made (nI pl) f_count f_useEmpty f_useEmptyWays f_length a_low a_hasEmpty a_emptyWays a_kind a_firstWays a_firstMin a_firstMax a_lastWays a_lastMin a_lastMax (mx_ (rc_ a p a pl) a_followWays (xg_w a_followWays a_lastWays a_firstWays)) (mx_ (rc_ a p a pl) a_followMin (xg_c nu_l a_followMin a_lastMin a_firstMin ex)) (mx_ (rc_ a p a pl) a_followMax (xg_c nu_g a_followMax a_lastMax a_firstMax ex)) a_useKind a_inWays a_inMin a_inMax a_outWays a_outMin a_outMax a_goWays a_goMin a_goMax a_text a_nowWays a_nowMin a_nowMax a_thenWays a_thenMin a_thenMax a_gotWays a_gotMin a_gotMax a_paid := by
  intro n
  induction n with
  | zero => intro q _ _ h; omega
  | succ n ih =>
    intro p ha hp hn
    have c2 : (nI x).toNatClampNeg = x := xi_c (by omega)
    unfold wX_loop_39
    rw [c2, hla]
    by_cases e : p = pl
    · subst e
      exact br_t (nI_le (Nat.le_refl p) (by omega)) (And.intro (vp_in_nI (by omega) (by decide)) (nm_e H))
    · have ih' := ih (p + 1) (by omega) (by omega) (by omega)
      rw [← mx_row (f := a_followWays) (g := fun u => xg_w u a_lastWays a_firstWays) (fun u v j h => by unfold xg_w; rw [h]) ha,
        ← mx_row (f := a_followMin) (g := fun u => xg_c nu_l u a_lastMin a_firstMin ex) (fun u v j h => by unfold xg_c; rw [h]) ha,
        ← mx_row (f := a_followMax) (g := fun u => xg_c nu_g u a_lastMax a_firstMax ex) (fun u v j h => by unfold xg_c; rw [h]) ha] at ih'
      exact br_f (nI_ge (by omega) (by omega)) (And.intro (vp_in_nI (by omega) (by decide)) (wx_link (by omega) hap hpl (nm_r (nI_1 p) ih')))
theorem wx_loop {post : Int32 → SX → Prop} {h m a pl w : Nat} (hw : w ≤ 9) (hh : h + 1 ≤ 8) (hm : m < 20) (hap : a ≤ pl) (hpl : pl ≤ 10) (hla : a_low h = nI a)
    (H : post (nI (h + 1)) (nI (h + 1), nI (m + 1), nI pl, f_count, f_useEmpty, f_useEmptyWays, f_length, a_low, upd a_hasEmpty h 1, upd a_emptyWays h 1, a_kind, a_firstWays, mx_ (r1_ a pl) a_firstMin (fun j => nu_p (a_firstMin j) (nI w)), mx_ (r1_ a pl) a_firstMax (fun j => nu_p (a_firstMax j) (nI w)), a_lastWays, a_lastMin, a_lastMax, mx_ (rc_ a pl a pl) a_followWays (xg_w a_followWays a_lastWays a_firstWays), mx_ (rc_ a pl a pl) a_followMin (xg_c nu_l a_followMin a_lastMin a_firstMin (nI w)), mx_ (rc_ a pl a pl) a_followMax (xg_c nu_g a_followMax a_lastMax a_firstMax (nI w)), a_useKind, a_inWays, a_inMin, a_inMax, a_outWays, a_outMin, a_outMax, a_goWays, a_goMin, a_goMax, a_text, a_nowWays, a_nowMin, a_nowMax, a_thenWays, a_thenMin, a_thenMax, a_gotWays, a_gotMin, a_gotMax, a_paid)) :
    wpX_loop post (nI (h + 1), nI m, nI pl, f_count, f_useEmpty, f_useEmptyWays, f_length, a_low, a_hasEmpty, a_emptyWays, a_kind, a_firstWays, a_firstMin, a_firstMax, a_lastWays, a_lastMin, a_lastMax, a_followWays, a_followMin, a_followMax, a_useKind, a_inWays, a_inMin, a_inMax, a_outWays, a_outMin, a_outMax, a_goWays, a_goMin, a_goMax, a_text, a_nowWays, a_nowMin, a_nowMax, a_thenWays, a_thenMin, a_thenMax, a_gotWays, a_gotMin, a_gotMax, a_paid) (nI w) := by
  have c2 : (nI h).toNatClampNeg = h := xi_c (by omega)
  have s1 : nI (h + 1) - 1 = nI h := nI_pred h
  have R2 := wx_loop75 (by omega) hpl H (pl - a + 1) a (Nat.le_refl a) hap (by omega)
  rw [mx_one0, mx_one0] at R2
  have R3 := wx_loop39 (by omega) hap hpl hla ⟨_, R2⟩ (pl - a + 1) a (Nat.le_refl a) hap (by omega)
  rw [mx_row0, mx_row0, mx_row0] at R3
  unfold wpX_loop
  refine br_f (nI_pos (by omega)) (br_t (nI_le (b := 9) hw (by decide)) ?_)
  refine wx_refused hh (by omega) 1 (by omega) ?_
  rw [if_neg (by omega), if_pos (by omega), s1]
  exact br_t (by decide) (nm_e (And.intro (vp_in_nI (by omega) (by decide)) (nm_r (e' := nI a) (by rw [c2, hla]) ⟨_, R3⟩)))
end XLOOP
end
section
section XDEF
variable {f_height f_made f_places f_count f_useEmpty f_useEmptyWays f_length : Int32} {a_low a_hasEmpty a_emptyWays a_kind a_firstWays a_firstMin a_firstMax a_lastWays a_lastMin a_lastMax a_followWays a_followMin a_followMax a_useKind a_inWays a_inMin a_inMax a_outWays a_outMin a_outMax a_goWays a_goMin a_goMax a_text a_nowWays a_nowMin a_nowMax a_thenWays a_thenMin a_thenMax a_gotWays a_gotMin a_gotMax a_paid : Nat → Int32}
theorem wx_take86 {post : SX → Prop} {p cn : Nat} (hp : p < 10) (hcn : cn ≤ 10)
    (H : post (f_height, f_made, f_places, nI cn, f_useEmpty, f_useEmptyWays, f_length, a_low, a_hasEmpty, a_emptyWays, a_kind, a_firstWays, a_firstMin, a_firstMax, a_lastWays, a_lastMin, a_lastMax, a_followWays, a_followMin, a_followMax, a_useKind, a_inWays, a_inMin, a_inMax, a_outWays, a_outMin, a_outMax, mx_ (rc_ p (p + 1) 0 cn) a_goWays a_followWays, mx_ (rc_ p (p + 1) 0 cn) a_goMin a_followMin, mx_ (rc_ p (p + 1) 0 cn) a_goMax a_followMax, a_text, a_nowWays, a_nowMin, a_nowMax, a_thenWays, a_thenMin, a_thenMax, a_gotWays, a_gotMin, a_gotMax, a_paid)) :
    ∀ n q : Nat, q ≤ cn → cn - q < n → wX_take_86 post (nI p) f_height f_made f_places (nI cn) f_useEmpty f_useEmptyWays f_length n (nI q) a_low a_hasEmpty a_emptyWays a_kind a_firstWays a_firstMin a_firstMax a_lastWays a_lastMin a_lastMax a_followWays a_followMin a_followMax a_useKind a_inWays a_inMin a_inMax a_outWays a_outMin a_outMax (mx_ (rc_ p (p + 1) 0 q) a_goWays a_followWays) (mx_ (rc_ p (p + 1) 0 q) a_goMin a_followMin) (mx_ (rc_ p (p + 1) 0 q) a_goMax a_followMax) a_text a_nowWays a_nowMin a_nowMax a_thenWays a_thenMin a_thenMax a_gotWays a_gotMin a_gotMax a_paid := by
  intro n
  induction n with
  | zero => intro q _ h; omega
  | succ n ih =>
    intro q hq hn
    unfold wX_take_86
    by_cases e : q = cn
    · subst e
      exact br_t (nI_le (Nat.le_refl q) (by omega)) H
    · have hq10 : q < 10 := by omega
      have i100 : p * 10 + q < 100 := by omega
      have c3 : (nI (p * 10 + q)).toNatClampNeg = p * 10 + q := xi_c (by omega)
      have ih' := ih (q + 1) (by omega) (by omega)
      rw [← mx_up hq10 (by omega), ← mx_up hq10 (by omega), ← mx_up hq10 (by omega)] at ih'
      refine br_f (nI_ge (by omega) (by omega)) ?_
      rw [xi_10]
      refine And.intro (vp_in_nI i100 (by decide)) (xs_ (p * 10 + q) _ i100 ?_ rfl (by rw [c3]))
      refine And.intro (vp_in_nI i100 (by decide)) (xs_ (p * 10 + q) _ i100 ?_ rfl (by rw [c3]))
      exact And.intro (vp_in_nI i100 (by decide)) (xs_ (p * 10 + q) _ i100 (nm_r (nI_1 q) ih') rfl (by rw [c3]))
theorem wx_take {post : SX → Prop} {p cn : Nat} (hp : p < 10) (hcn : cn ≤ 10)
    (H : post (f_height, f_made, f_places, nI cn, f_useEmpty, f_useEmptyWays, f_length, a_low, a_hasEmpty, a_emptyWays, a_kind, a_firstWays, a_firstMin, a_firstMax, a_lastWays, a_lastMin, a_lastMax, a_followWays, a_followMin, a_followMax, upd a_useKind p (a_kind p), upd a_inWays p (a_firstWays p), upd a_inMin p (a_firstMin p), upd a_inMax p (a_firstMax p), upd a_outWays p (a_lastWays p), upd a_outMin p (a_lastMin p), upd a_outMax p (a_lastMax p), mx_ (rc_ p (p + 1) 0 cn) a_goWays a_followWays, mx_ (rc_ p (p + 1) 0 cn) a_goMin a_followMin, mx_ (rc_ p (p + 1) 0 cn) a_goMax a_followMax, a_text, a_nowWays, a_nowMin, a_nowMax, a_thenWays, a_thenMin, a_thenMax, a_gotWays, a_gotMin, a_gotMax, a_paid)) :
    wpX_take post (f_height, f_made, f_places, nI cn, f_useEmpty, f_useEmptyWays, f_length, a_low, a_hasEmpty, a_emptyWays, a_kind, a_firstWays, a_firstMin, a_firstMax, a_lastWays, a_lastMin, a_lastMax, a_followWays, a_followMin, a_followMax, a_useKind, a_inWays, a_inMin, a_inMax, a_outWays, a_outMin, a_outMax, a_goWays, a_goMin, a_goMax, a_text, a_nowWays, a_nowMin, a_nowMax, a_thenWays, a_thenMin, a_thenMax, a_gotWays, a_gotMin, a_gotMax, a_paid) (nI p) := by
  have c1 : (nI p).toNatClampNeg = p := xi_c (by omega)
  have R := wx_take86 hp hcn H (cn + 1) 0 (by omega) (by omega)
  rw [mx_col0, mx_col0, mx_col0] at R
  have v := vp_in_nI (n := p) (N := 10) hp (by decide)
  unfold wpX_take
  refine And.intro v (xs_ p _ hp (And.intro v (xs_ p _ hp (And.intro v (xs_ p _ hp (And.intro v (xs_ p _ hp (And.intro v (xs_ p _ hp (And.intro v (xs_ p _ hp (And.intro v (xs_ p _ hp ⟨cn + 1, R⟩ rfl ?_)) rfl ?_)) rfl ?_)) rfl ?_)) rfl ?_)) rfl ?_)) rfl ?_) <;> rw [c1]
/-- the rows below p copied -/
def tk_ (p cn : Nat) : Nat → Bool := rc_ 0 p 0 cn
theorem wx_define41 {post : Int32 → SX → Prop} {cn : Nat} (hcn : cn ≤ 10)
    (H : post 0 (0, 0, 0, nI cn, f_useEmpty, f_useEmptyWays, f_length, a_low, a_hasEmpty, a_emptyWays, a_kind, a_firstWays, a_firstMin, a_firstMax, a_lastWays, a_lastMin, a_lastMax, a_followWays, a_followMin, a_followMax, mx_ (r1_ 0 cn) a_useKind a_kind, mx_ (r1_ 0 cn) a_inWays a_firstWays, mx_ (r1_ 0 cn) a_inMin a_firstMin, mx_ (r1_ 0 cn) a_inMax a_firstMax, mx_ (r1_ 0 cn) a_outWays a_lastWays, mx_ (r1_ 0 cn) a_outMin a_lastMin, mx_ (r1_ 0 cn) a_outMax a_lastMax, mx_ (rc_ 0 cn 0 cn) a_goWays a_followWays, mx_ (rc_ 0 cn 0 cn) a_goMin a_followMin, mx_ (rc_ 0 cn 0 cn) a_goMax a_followMax, a_text, a_nowWays, a_nowMin, a_nowMax, a_thenWays, a_thenMin, a_thenMax, a_gotWays, a_gotMin, a_gotMax, a_paid)) :
    ∀ n p : Nat, p ≤ cn → cn - p < n → wX_define_41 post n (nI p) f_height f_made f_places (nI cn) f_useEmpty f_useEmptyWays f_length a_low a_hasEmpty a_emptyWays a_kind a_firstWays a_firstMin a_firstMax a_lastWays a_lastMin a_lastMax a_followWays a_followMin a_followMax (mx_ (r1_ 0 p) a_useKind a_kind) (mx_ (r1_ 0 p) a_inWays a_firstWays) (mx_ (r1_ 0 p) a_inMin a_firstMin) (mx_ (r1_ 0 p) a_inMax a_firstMax) (mx_ (r1_ 0 p) a_outWays a_lastWays) (mx_ (r1_ 0 p) a_outMin a_lastMin) (mx_ (r1_ 0 p) a_outMax a_lastMax) (mx_ (rc_ 0 p 0 cn) a_goWays a_followWays) (mx_ (rc_ 0 p 0 cn) a_goMin a_followMin) (mx_ (rc_ 0 p 0 cn) a_goMax a_followMax) a_text a_nowWays a_nowMin a_nowMax a_thenWays a_thenMin a_thenMax a_gotWays a_gotMin a_gotMax a_paid := by
  intro n
  induction n with
  | zero => intro q _ h; omega
  | succ n ih =>
    intro p hp hn
    unfold wX_define_41
    by_cases e : p = cn
    · subst e
      exact br_t (nI_le (Nat.le_refl p) (by omega)) H
    · have ih' := ih (p + 1) (by omega) (by omega)
      rw [← mx_row (f := a_goWays) (g := fun _ => a_followWays) (fun u v j h => rfl) (Nat.zero_le p), ← mx_row (f := a_goMin) (g := fun _ => a_followMin) (fun u v j h => rfl) (Nat.zero_le p), ← mx_row (f := a_goMax) (g := fun _ => a_followMax) (fun u v j h => rfl) (Nat.zero_le p),
        ← mx_up1 (f := a_useKind) (Nat.zero_le p), ← mx_up1 (f := a_inWays) (Nat.zero_le p), ← mx_up1 (f := a_inMin) (Nat.zero_le p), ← mx_up1 (f := a_inMax) (Nat.zero_le p), ← mx_up1 (f := a_outWays) (Nat.zero_le p), ← mx_up1 (f := a_outMin) (Nat.zero_le p), ← mx_up1 (f := a_outMax) (Nat.zero_le p)] at ih'
      exact br_f (nI_ge (by omega) (by omega)) (wx_take (by omega) hcn (nm_r (nI_1 p) ih'))
theorem fb_01 {x : Int32} (h : x = 0 ∨ x = 1) : narrow .boolean (.int x) = .int x ∧ fits .boolean (.int x) = true := by
  rcases h with rfl | rfl
  · exact ⟨narrow_b0, by decide⟩
  · exact ⟨narrow_b1, by decide⟩
theorem wx_define {post : Int32 → SX → Prop} {cn : Nat} (hcn : cn ≤ 10) (h01 : a_hasEmpty 0 = 0 ∨ a_hasEmpty 0 = 1)
    (H : post 0 (0, 0, 0, nI cn, a_hasEmpty 0, a_emptyWays 0, f_length, a_low, a_hasEmpty, a_emptyWays, a_kind, a_firstWays, a_firstMin, a_firstMax, a_lastWays, a_lastMin, a_lastMax, a_followWays, a_followMin, a_followMax, mx_ (r1_ 0 cn) a_useKind a_kind, mx_ (r1_ 0 cn) a_inWays a_firstWays, mx_ (r1_ 0 cn) a_inMin a_firstMin, mx_ (r1_ 0 cn) a_inMax a_firstMax, mx_ (r1_ 0 cn) a_outWays a_lastWays, mx_ (r1_ 0 cn) a_outMin a_lastMin, mx_ (r1_ 0 cn) a_outMax a_lastMax, mx_ (rc_ 0 cn 0 cn) a_goWays a_followWays, mx_ (rc_ 0 cn 0 cn) a_goMin a_followMin, mx_ (rc_ 0 cn 0 cn) a_goMax a_followMax, a_text, a_nowWays, a_nowMin, a_nowMax, a_thenWays, a_thenMin, a_thenMax, a_gotWays, a_gotMin, a_gotMax, a_paid)) :
    wpX_define post (1, f_made, nI cn, f_count, f_useEmpty, f_useEmptyWays, f_length, a_low, a_hasEmpty, a_emptyWays, a_kind, a_firstWays, a_firstMin, a_firstMax, a_lastWays, a_lastMin, a_lastMax, a_followWays, a_followMin, a_followMax, a_useKind, a_inWays, a_inMin, a_inMax, a_outWays, a_outMin, a_outMax, a_goWays, a_goMin, a_goMax, a_text, a_nowWays, a_nowMin, a_nowMax, a_thenWays, a_thenMin, a_thenMax, a_gotWays, a_gotMin, a_gotMax, a_paid) := by
  have R := wx_define41 (f_height := 1) (f_places := nI cn) (f_made := f_made) hcn H (cn + 1) 0 (by omega) (by omega)
  rw [mx_row0, mx_row0, mx_row0, mx_one0, mx_one0, mx_one0, mx_one0, mx_one0, mx_one0, mx_one0] at R
  unfold wpX_define
  exact br_t rfl (nm_e (And.intro (fb_01 h01).1 (And.intro (fb_01 h01).2 (nm_e ⟨cn + 1, R⟩))))
end XDEF
end
section
section XADV
def ef_ (uk : Nat → Int32) (c : Int32) (f : Nat → Int32) (z : Int32) : Nat → Int32 := fun p => if uk p = 3 ∨ uk p = c then f p else z
theorem ef_t {uk : Nat → Int32} {c : Int32} {f : Nat → Int32} {z : Int32} {p : Nat} (h : uk p = 3 ∨ uk p = c) : ef_ uk c f z p = f p := if_pos h
theorem ef_f {uk : Nat → Int32} {c : Int32} {f : Nat → Int32} {z : Int32} {p : Nat} (h : ¬ (uk p = 3 ∨ uk p = c)) : ef_ uk c f z p = z := if_neg h
abbrev ga_w (now go : Nat → Int32) (q : Nat) : Nat → Int32 := fo_ (fun a b => a + b) 0 (fun p => now p * go (p * 10 + q))
abbrev ga_n (now go : Nat → Int32) (q : Nat) : Nat → Int32 := fo_ nu_l (-1) (fun p => nu_p (now p) (go (p * 10 + q)))
abbrev ga_x (now go : Nat → Int32) (q : Nat) : Nat → Int32 := fo_ nu_g (-1) (fun p => nu_p (now p) (go (p * 10 + q)))
variable {f_height f_made f_places f_count f_useEmpty f_useEmptyWays f_length : Int32} {a_low a_hasEmpty a_emptyWays a_kind a_firstWays a_firstMin a_firstMax a_lastWays a_lastMin a_lastMax a_followWays a_followMin a_followMax a_useKind a_inWays a_inMin a_inMax a_outWays a_outMin a_outMax a_goWays a_goMin a_goMax a_text a_nowWays a_nowMin a_nowMax a_thenWays a_thenMin a_thenMax a_gotWays a_gotMin a_gotMax a_paid : Nat → Int32}
theorem wx_fits {post : Int32 → Prop} {p : Nat} {c : Int32} (hp : p < 10) (H : post (if a_useKind p = 3 ∨ a_useKind p = c then 1 else 0)) : wpX_fits post (f_height, f_made, f_places, f_count, f_useEmpty, f_useEmptyWays, f_length, a_low, a_hasEmpty, a_emptyWays, a_kind, a_firstWays, a_firstMin, a_firstMax, a_lastWays, a_lastMin, a_lastMax, a_followWays, a_followMin, a_followMax, a_useKind, a_inWays, a_inMin, a_inMax, a_outWays, a_outMin, a_outMax, a_goWays, a_goMin, a_goMax, a_text, a_nowWays, a_nowMin, a_nowMax, a_thenWays, a_thenMin, a_thenMax, a_gotWays, a_gotMin, a_gotMax, a_paid) (nI p) c := by
  have c1 : (nI p).toNatClampNeg = p := xi_c (by omega)
  have v := vp_in_nI (n := p) (N := 10) hp (by decide)
  unfold wpX_fits
  rw [c1]
  refine And.intro v ?_
  by_cases h1 : a_useKind p = 3
  · rw [if_pos (Or.inl h1)] at H
    exact br_t h1 H
  · refine br_f h1 (And.intro v ?_)
    by_cases h2 : a_useKind p = c
    · rw [if_pos (Or.inr h2)] at H
      exact br_t h2 H
    · rw [if_neg (fun z => z.elim h1 h2)] at H
      exact br_f h2 H
theorem wx_enter2 {post : SX → Prop} {cn : Nat} {c : Int32} (hcn : cn ≤ 10)
    (H : post (f_height, f_made, f_places, nI cn, f_useEmpty, f_useEmptyWays, f_length, a_low, a_hasEmpty, a_emptyWays, a_kind, a_firstWays, a_firstMin, a_firstMax, a_lastWays, a_lastMin, a_lastMax, a_followWays, a_followMin, a_followMax, a_useKind, a_inWays, a_inMin, a_inMax, a_outWays, a_outMin, a_outMax, a_goWays, a_goMin, a_goMax, a_text, mx_ (r1_ 0 cn) a_nowWays (ef_ a_useKind c a_inWays 0), mx_ (r1_ 0 cn) a_nowMin (ef_ a_useKind c a_inMin (-1)), mx_ (r1_ 0 cn) a_nowMax (ef_ a_useKind c a_inMax (-1)), a_thenWays, a_thenMin, a_thenMax, a_gotWays, a_gotMin, a_gotMax, a_paid)) :
    ∀ n q : Nat, q ≤ cn → cn - q < n → wX_enter_2 post c f_height f_made f_places (nI cn) f_useEmpty f_useEmptyWays f_length n (nI q) a_low a_hasEmpty a_emptyWays a_kind a_firstWays a_firstMin a_firstMax a_lastWays a_lastMin a_lastMax a_followWays a_followMin a_followMax a_useKind a_inWays a_inMin a_inMax a_outWays a_outMin a_outMax a_goWays a_goMin a_goMax a_text (mx_ (r1_ 0 q) a_nowWays (ef_ a_useKind c a_inWays 0)) (mx_ (r1_ 0 q) a_nowMin (ef_ a_useKind c a_inMin (-1))) (mx_ (r1_ 0 q) a_nowMax (ef_ a_useKind c a_inMax (-1))) a_thenWays a_thenMin a_thenMax a_gotWays a_gotMin a_gotMax a_paid := by
  intro n
  induction n with
  | zero => intro q _ h; omega
  | succ n ih =>
    intro q hq hn
    unfold wX_enter_2
    by_cases e : q = cn
    · subst e
      exact br_t (nI_le (Nat.le_refl q) (by omega)) H
    · have hq10 : q < 10 := by omega
      have c3 : (nI q).toNatClampNeg = q := xi_c (by omega)
      have v := vp_in_nI (n := q) (N := 10) hq10 (by decide)
      have ih' := ih (q + 1) (by omega) (by omega)
      rw [← mx_up1 (f := a_nowWays) (Nat.zero_le q), ← mx_up1 (f := a_nowMin) (Nat.zero_le q), ← mx_up1 (f := a_nowMax) (Nat.zero_le q)] at ih'
      refine br_f (nI_ge (by omega) (by omega)) (wx_fits hq10 ?_)
      by_cases h1 : a_useKind q = 3 ∨ a_useKind q = c
      · rw [if_pos h1]
        rw [ef_t h1, ef_t h1, ef_t h1] at ih'
        refine br_f (by decide) ?_
        refine And.intro v (xs_ q _ hq10 (And.intro v (xs_ q _ hq10 (And.intro v (xs_ q _ hq10 (nm_r (nI_1 q) ih') rfl ?_)) rfl ?_)) rfl ?_) <;> rw [c3]
      · rw [if_neg h1]
        rw [ef_f h1, ef_f h1, ef_f h1] at ih'
        refine br_t rfl ?_
        exact xs_ q _ hq10 (xs_ q _ hq10 (xs_ q _ hq10 (nm_r (nI_1 q) ih')))
theorem wx_enter {post : SX → Prop} {cn : Nat} {c : Int32} (hcn : cn ≤ 10)
    (H : post (f_height, f_made, f_places, nI cn, f_useEmpty, f_useEmptyWays, f_length, a_low, a_hasEmpty, a_emptyWays, a_kind, a_firstWays, a_firstMin, a_firstMax, a_lastWays, a_lastMin, a_lastMax, a_followWays, a_followMin, a_followMax, a_useKind, a_inWays, a_inMin, a_inMax, a_outWays, a_outMin, a_outMax, a_goWays, a_goMin, a_goMax, a_text, mx_ (r1_ 0 cn) a_nowWays (ef_ a_useKind c a_inWays 0), mx_ (r1_ 0 cn) a_nowMin (ef_ a_useKind c a_inMin (-1)), mx_ (r1_ 0 cn) a_nowMax (ef_ a_useKind c a_inMax (-1)), a_thenWays, a_thenMin, a_thenMax, a_gotWays, a_gotMin, a_gotMax, a_paid)) :
    wpX_enter post (f_height, f_made, f_places, nI cn, f_useEmpty, f_useEmptyWays, f_length, a_low, a_hasEmpty, a_emptyWays, a_kind, a_firstWays, a_firstMin, a_firstMax, a_lastWays, a_lastMin, a_lastMax, a_followWays, a_followMin, a_followMax, a_useKind, a_inWays, a_inMin, a_inMax, a_outWays, a_outMin, a_outMax, a_goWays, a_goMin, a_goMax, a_text, a_nowWays, a_nowMin, a_nowMax, a_thenWays, a_thenMin, a_thenMax, a_gotWays, a_gotMin, a_gotMax, a_paid) c := by
  have R := wx_enter2 hcn H (cn + 1) 0 (by omega) (by omega)
  rw [mx_one0, mx_one0, mx_one0] at R
  unfold wpX_enter
  exact ⟨cn + 1, R⟩
theorem wx_gather2 {post : SX → Prop} {cn q : Nat} (hcn : cn ≤ 10) (hq : q < 10)
    (H : post (f_height, f_made, f_places, nI cn, f_useEmpty, f_useEmptyWays, f_length, a_low, a_hasEmpty, a_emptyWays, a_kind, a_firstWays, a_firstMin, a_firstMax, a_lastWays, a_lastMin, a_lastMax, a_followWays, a_followMin, a_followMax, a_useKind, a_inWays, a_inMin, a_inMax, a_outWays, a_outMin, a_outMax, a_goWays, a_goMin, a_goMax, a_text, a_nowWays, a_nowMin, a_nowMax, upd a_thenWays q (ga_w a_nowWays a_goWays q cn), upd a_thenMin q (ga_n a_nowMin a_goMin q cn), upd a_thenMax q (ga_x a_nowMax a_goMax q cn), a_gotWays, a_gotMin, a_gotMax, a_paid)) :
    ∀ n p : Nat, p ≤ cn → cn - p < n → wX_gather_2 post (nI q) f_height f_made f_places (nI cn) f_useEmpty f_useEmptyWays f_length n (nI p) a_low a_hasEmpty a_emptyWays a_kind a_firstWays a_firstMin a_firstMax a_lastWays a_lastMin a_lastMax a_followWays a_followMin a_followMax a_useKind a_inWays a_inMin a_inMax a_outWays a_outMin a_outMax a_goWays a_goMin a_goMax a_text a_nowWays a_nowMin a_nowMax (upd a_thenWays q (ga_w a_nowWays a_goWays q p)) (upd a_thenMin q (ga_n a_nowMin a_goMin q p)) (upd a_thenMax q (ga_x a_nowMax a_goMax q p)) a_gotWays a_gotMin a_gotMax a_paid := by
  intro n
  induction n with
  | zero => intro q _ h; omega
  | succ n ih =>
    intro p hp hn
    unfold wX_gather_2
    by_cases e : p = cn
    · subst e
      exact br_t (nI_le (Nat.le_refl p) (by omega)) H
    · have hp10 : p < 10 := by omega
      have i100 : p * 10 + q < 100 := by omega
      have c1 : (nI p).toNatClampNeg = p := xi_c (by omega)
      have c2 : (nI q).toNatClampNeg = q := xi_c (by omega)
      have c3 : (nI (p * 10 + q)).toNatClampNeg = p * 10 + q := xi_c (by omega)
      have v1 := vp_in_nI (n := p) (N := 10) hp10 (by decide)
      have v2 := vp_in_nI (n := q) (N := 10) hq (by decide)
      have v3 := vp_in_nI (n := p * 10 + q) (N := 100) i100 (by decide)
      have ih' := ih (p + 1) (by omega) (by omega)
      rw [← up_up (f := a_thenWays) (x := ga_w a_nowWays a_goWays q p), ← up_up (f := a_thenMin) (x := ga_n a_nowMin a_goMin q p), ← up_up (f := a_thenMax) (x := ga_x a_nowMax a_goMax q p)] at ih'
      refine br_f (nI_ge (by omega) (by omega)) (nm_r (xi_10 p q) ?_)
      refine And.intro v2 (And.intro v1 (And.intro v3 ?_))
      refine xs_ q (ga_w a_nowWays a_goWays q (p + 1)) hq ?_ rfl (by rw [c1, c2, c3, pk_us]; rfl)
      refine And.intro v1 (And.intro v3 (wx_plus (And.intro v1 (And.intro v3 (wx_plus (And.intro v2 (wx_lesser ?_)))))))
      refine xs_ q (ga_n a_nowMin a_goMin q (p + 1)) hq ?_ rfl (by rw [c1, c2, c3, pk_us]; rfl)
      refine And.intro v2 (wx_greater ?_)
      exact xs_ q (ga_x a_nowMax a_goMax q (p + 1)) hq (nm_r (nI_1 p) ih') rfl (by rw [c1, c2, c3, pk_us]; rfl)
theorem wx_gather {post : SX → Prop} {cn q : Nat} (hcn : cn ≤ 10) (hq : q < 10)
    (H : post (f_height, f_made, f_places, nI cn, f_useEmpty, f_useEmptyWays, f_length, a_low, a_hasEmpty, a_emptyWays, a_kind, a_firstWays, a_firstMin, a_firstMax, a_lastWays, a_lastMin, a_lastMax, a_followWays, a_followMin, a_followMax, a_useKind, a_inWays, a_inMin, a_inMax, a_outWays, a_outMin, a_outMax, a_goWays, a_goMin, a_goMax, a_text, a_nowWays, a_nowMin, a_nowMax, upd a_thenWays q (ga_w a_nowWays a_goWays q cn), upd a_thenMin q (ga_n a_nowMin a_goMin q cn), upd a_thenMax q (ga_x a_nowMax a_goMax q cn), a_gotWays, a_gotMin, a_gotMax, a_paid)) :
    wpX_gather post (f_height, f_made, f_places, nI cn, f_useEmpty, f_useEmptyWays, f_length, a_low, a_hasEmpty, a_emptyWays, a_kind, a_firstWays, a_firstMin, a_firstMax, a_lastWays, a_lastMin, a_lastMax, a_followWays, a_followMin, a_followMax, a_useKind, a_inWays, a_inMin, a_inMax, a_outWays, a_outMin, a_outMax, a_goWays, a_goMin, a_goMax, a_text, a_nowWays, a_nowMin, a_nowMax, upd a_thenWays q 0, upd a_thenMin q (-1), upd a_thenMax q (-1), a_gotWays, a_gotMin, a_gotMax, a_paid) (nI q) := by
  have R := wx_gather2 hcn hq H (cn + 1) 0 (by omega) (by omega)
  unfold wpX_gather
  exact ⟨cn + 1, R⟩
theorem wx_advance53 {post : SX → Prop} {cn : Nat} (hcn : cn ≤ 10)
    (H : post (f_height, f_made, f_places, nI cn, f_useEmpty, f_useEmptyWays, f_length, a_low, a_hasEmpty, a_emptyWays, a_kind, a_firstWays, a_firstMin, a_firstMax, a_lastWays, a_lastMin, a_lastMax, a_followWays, a_followMin, a_followMax, a_useKind, a_inWays, a_inMin, a_inMax, a_outWays, a_outMin, a_outMax, a_goWays, a_goMin, a_goMax, a_text, mx_ (r1_ 0 cn) a_nowWays a_thenWays, mx_ (r1_ 0 cn) a_nowMin a_thenMin, mx_ (r1_ 0 cn) a_nowMax a_thenMax, a_thenWays, a_thenMin, a_thenMax, a_gotWays, a_gotMin, a_gotMax, a_paid)) :
    ∀ n q : Nat, q ≤ cn → cn - q < n → wX_advance_53 post f_height f_made f_places (nI cn) f_useEmpty f_useEmptyWays f_length n (nI q) a_low a_hasEmpty a_emptyWays a_kind a_firstWays a_firstMin a_firstMax a_lastWays a_lastMin a_lastMax a_followWays a_followMin a_followMax a_useKind a_inWays a_inMin a_inMax a_outWays a_outMin a_outMax a_goWays a_goMin a_goMax a_text (mx_ (r1_ 0 q) a_nowWays a_thenWays) (mx_ (r1_ 0 q) a_nowMin a_thenMin) (mx_ (r1_ 0 q) a_nowMax a_thenMax) a_thenWays a_thenMin a_thenMax a_gotWays a_gotMin a_gotMax a_paid := by
  intro n
  induction n with
  | zero => intro q _ h; omega
  | succ n ih =>
    intro q hq hn
    unfold wX_advance_53
    by_cases e : q = cn
    · subst e
      exact br_t (nI_le (Nat.le_refl q) (by omega)) H
    · have hq10 : q < 10 := by omega
      have c3 : (nI q).toNatClampNeg = q := xi_c (by omega)
      have v := vp_in_nI (n := q) (N := 10) hq10 (by decide)
      have ih' := ih (q + 1) (by omega) (by omega)
      rw [← mx_up1 (f := a_nowWays) (Nat.zero_le q), ← mx_up1 (f := a_nowMin) (Nat.zero_le q), ← mx_up1 (f := a_nowMax) (Nat.zero_le q)] at ih'
      refine br_f (nI_ge (by omega) (by omega)) ?_
      refine And.intro v (xs_ q _ hq10 (And.intro v (xs_ q _ hq10 (And.intro v (xs_ q _ hq10 (nm_r (nI_1 q) ih') rfl ?_)) rfl ?_)) rfl ?_) <;> rw [c3]
theorem wx_advance2 {post : SX → Prop} {cn : Nat} {c : Int32} (hcn : cn ≤ 10)
    (H : ∃ n, wX_advance_53 post f_height f_made f_places (nI cn) f_useEmpty f_useEmptyWays f_length n 0 a_low a_hasEmpty a_emptyWays a_kind a_firstWays a_firstMin a_firstMax a_lastWays a_lastMin a_lastMax a_followWays a_followMin a_followMax a_useKind a_inWays a_inMin a_inMax a_outWays a_outMin a_outMax a_goWays a_goMin a_goMax a_text a_nowWays a_nowMin a_nowMax (mx_ (r1_ 0 cn) a_thenWays (ef_ a_useKind c (fun q => ga_w a_nowWays a_goWays q cn) 0)) (mx_ (r1_ 0 cn) a_thenMin (ef_ a_useKind c (fun q => ga_n a_nowMin a_goMin q cn) (-1))) (mx_ (r1_ 0 cn) a_thenMax (ef_ a_useKind c (fun q => ga_x a_nowMax a_goMax q cn) (-1))) a_gotWays a_gotMin a_gotMax a_paid) :
    ∀ n q : Nat, q ≤ cn → cn - q < n → wX_advance_2 post c n (nI q) f_height f_made f_places (nI cn) f_useEmpty f_useEmptyWays f_length a_low a_hasEmpty a_emptyWays a_kind a_firstWays a_firstMin a_firstMax a_lastWays a_lastMin a_lastMax a_followWays a_followMin a_followMax a_useKind a_inWays a_inMin a_inMax a_outWays a_outMin a_outMax a_goWays a_goMin a_goMax a_text a_nowWays a_nowMin a_nowMax (mx_ (r1_ 0 q) a_thenWays (ef_ a_useKind c (fun q => ga_w a_nowWays a_goWays q cn) 0)) (mx_ (r1_ 0 q) a_thenMin (ef_ a_useKind c (fun q => ga_n a_nowMin a_goMin q cn) (-1))) (mx_ (r1_ 0 q) a_thenMax (ef_ a_useKind c (fun q => ga_x a_nowMax a_goMax q cn) (-1))) a_gotWays a_gotMin a_gotMax a_paid := by
  intro n
  induction n with
  | zero => intro q _ h; omega
  | succ n ih =>
    intro q hq hn
    unfold wX_advance_2
    by_cases e : q = cn
    · subst e
      exact br_t (nI_le (Nat.le_refl q) (by omega)) H
    · have hq10 : q < 10 := by omega
      have ih' := ih (q + 1) (by omega) (by omega)
      rw [← mx_up1 (f := a_thenWays) (Nat.zero_le q), ← mx_up1 (f := a_thenMin) (Nat.zero_le q), ← mx_up1 (f := a_thenMax) (Nat.zero_le q)] at ih'
      refine br_f (nI_ge (by omega) (by omega)) ?_
      refine xs_ q _ hq10 (xs_ q _ hq10 (xs_ q _ hq10 (wx_fits hq10 ?_)))
      by_cases h1 : a_useKind q = 3 ∨ a_useKind q = c
      · rw [if_pos h1]
        rw [ef_t h1, ef_t h1, ef_t h1] at ih'
        exact br_f (by decide) (wx_gather hcn hq10 (nm_r (nI_1 q) ih'))
      · rw [if_neg h1]
        rw [ef_f h1, ef_f h1, ef_f h1] at ih'
        exact br_t rfl (nm_r (nI_1 q) ih')
theorem wx_advance {post : SX → Prop} {cn : Nat} {c : Int32} (hcn : cn ≤ 10)
    (H : post (f_height, f_made, f_places, nI cn, f_useEmpty, f_useEmptyWays, f_length, a_low, a_hasEmpty, a_emptyWays, a_kind, a_firstWays, a_firstMin, a_firstMax, a_lastWays, a_lastMin, a_lastMax, a_followWays, a_followMin, a_followMax, a_useKind, a_inWays, a_inMin, a_inMax, a_outWays, a_outMin, a_outMax, a_goWays, a_goMin, a_goMax, a_text, mx_ (r1_ 0 cn) a_nowWays (mx_ (r1_ 0 cn) a_thenWays (ef_ a_useKind c (fun q => ga_w a_nowWays a_goWays q cn) 0)), mx_ (r1_ 0 cn) a_nowMin (mx_ (r1_ 0 cn) a_thenMin (ef_ a_useKind c (fun q => ga_n a_nowMin a_goMin q cn) (-1))), mx_ (r1_ 0 cn) a_nowMax (mx_ (r1_ 0 cn) a_thenMax (ef_ a_useKind c (fun q => ga_x a_nowMax a_goMax q cn) (-1))), mx_ (r1_ 0 cn) a_thenWays (ef_ a_useKind c (fun q => ga_w a_nowWays a_goWays q cn) 0), mx_ (r1_ 0 cn) a_thenMin (ef_ a_useKind c (fun q => ga_n a_nowMin a_goMin q cn) (-1)), mx_ (r1_ 0 cn) a_thenMax (ef_ a_useKind c (fun q => ga_x a_nowMax a_goMax q cn) (-1)), a_gotWays, a_gotMin, a_gotMax, a_paid)) :
    wpX_advance post (f_height, f_made, f_places, nI cn, f_useEmpty, f_useEmptyWays, f_length, a_low, a_hasEmpty, a_emptyWays, a_kind, a_firstWays, a_firstMin, a_firstMax, a_lastWays, a_lastMin, a_lastMax, a_followWays, a_followMin, a_followMax, a_useKind, a_inWays, a_inMin, a_inMax, a_outWays, a_outMin, a_outMax, a_goWays, a_goMin, a_goMax, a_text, a_nowWays, a_nowMin, a_nowMax, a_thenWays, a_thenMin, a_thenMax, a_gotWays, a_gotMin, a_gotMax, a_paid) c := by
  have R0 := wx_advance53 hcn H (cn + 1) 0 (by omega) (by omega)
  rw [mx_one0, mx_one0, mx_one0] at R0
  have R := wx_advance2 hcn ⟨_, R0⟩ (cn + 1) 0 (by omega) (by omega)
  rw [mx_one0, mx_one0, mx_one0] at R
  unfold wpX_advance
  exact ⟨cn + 1, R⟩
abbrev le_w (now out : Nat → Int32) : Nat → Int32 := fo_ (fun a b => a + b) 0 (fun p => now p * out p)
abbrev le_n (now out : Nat → Int32) : Nat → Int32 := fo_ nu_l (-1) (fun p => nu_p (now p) (out p))
abbrev le_x (now out : Nat → Int32) : Nat → Int32 := fo_ nu_g (-1) (fun p => nu_p (now p) (out p))
theorem wx_leave10 {post : SX → Prop} {cn j : Nat} (hcn : cn ≤ 10) (hj : j < 9)
    (H : post (f_height, f_made, f_places, nI cn, f_useEmpty, f_useEmptyWays, f_length, a_low, a_hasEmpty, a_emptyWays, a_kind, a_firstWays, a_firstMin, a_firstMax, a_lastWays, a_lastMin, a_lastMax, a_followWays, a_followMin, a_followMax, a_useKind, a_inWays, a_inMin, a_inMax, a_outWays, a_outMin, a_outMax, a_goWays, a_goMin, a_goMax, a_text, a_nowWays, a_nowMin, a_nowMax, a_thenWays, a_thenMin, a_thenMax, upd a_gotWays j (le_w a_nowWays a_outWays cn), upd a_gotMin j (le_n a_nowMin a_outMin cn), upd a_gotMax j (le_x a_nowMax a_outMax cn), a_paid)) :
    ∀ n p : Nat, p ≤ cn → cn - p < n → wX_leave_10 post (nI j) f_height f_made f_places (nI cn) f_useEmpty f_useEmptyWays f_length a_low a_hasEmpty a_emptyWays a_kind a_firstWays a_firstMin a_firstMax a_lastWays a_lastMin a_lastMax a_followWays a_followMin a_followMax a_useKind a_inWays a_inMin a_inMax a_outWays a_outMin a_outMax a_goWays a_goMin a_goMax a_text a_nowWays a_nowMin a_nowMax a_thenWays a_thenMin a_thenMax a_gotWays a_gotMin a_gotMax a_paid n (le_w a_nowWays a_outWays p) (le_n a_nowMin a_outMin p) (le_x a_nowMax a_outMax p) (nI p) := by
  intro n
  induction n with
  | zero => intro q _ h; omega
  | succ n ih =>
    intro p hp hn
    unfold wX_leave_10
    by_cases e : p = cn
    · subst e
      exact br_t (nI_le (Nat.le_refl p) (by omega)) (xs_ j _ hj (xs_ j _ hj (xs_ j _ hj H)))
    · have hp10 : p < 10 := by omega
      have c1 : (nI p).toNatClampNeg = p := xi_c (by omega)
      have v1 := vp_in_nI (n := p) (N := 10) hp10 (by decide)
      have ih' := ih (p + 1) (by omega) (by omega)
      rw [c1]
      refine br_f (nI_ge (by omega) (by omega)) (And.intro v1 (And.intro v1 (nm_e ?_)))
      exact And.intro v1 (And.intro v1 (wx_plus (And.intro v1 (And.intro v1 (wx_plus (wx_lesser (wx_greater (nm_r (nI_1 p) ih'))))))))
theorem wx_leave {post : SX → Prop} {cn j : Nat} (hcn : cn ≤ 10) (hj : j < 9)
    (H : post (f_height, f_made, f_places, nI cn, f_useEmpty, f_useEmptyWays, f_length, a_low, a_hasEmpty, a_emptyWays, a_kind, a_firstWays, a_firstMin, a_firstMax, a_lastWays, a_lastMin, a_lastMax, a_followWays, a_followMin, a_followMax, a_useKind, a_inWays, a_inMin, a_inMax, a_outWays, a_outMin, a_outMax, a_goWays, a_goMin, a_goMax, a_text, a_nowWays, a_nowMin, a_nowMax, a_thenWays, a_thenMin, a_thenMax, upd a_gotWays j (le_w a_nowWays a_outWays cn), upd a_gotMin j (le_n a_nowMin a_outMin cn), upd a_gotMax j (le_x a_nowMax a_outMax cn), a_paid)) :
    wpX_leave post (f_height, f_made, f_places, nI cn, f_useEmpty, f_useEmptyWays, f_length, a_low, a_hasEmpty, a_emptyWays, a_kind, a_firstWays, a_firstMin, a_firstMax, a_lastWays, a_lastMin, a_lastMax, a_followWays, a_followMin, a_followMax, a_useKind, a_inWays, a_inMin, a_inMax, a_outWays, a_outMin, a_outMax, a_goWays, a_goMin, a_goMax, a_text, a_nowWays, a_nowMin, a_nowMax, a_thenWays, a_thenMin, a_thenMax, a_gotWays, a_gotMin, a_gotMax, a_paid) (nI j) := by
  have R := wx_leave10 hcn hj H (cn + 1) 0 (by omega) (by omega)
  unfold wpX_leave
  exact ⟨cn + 1, R⟩
end XADV
end
section
section XSWEEP
/-! the expression in use: its three weights of the window of length d from i -/
def us_w (uw : Int32) (iw ow gw uk t : Nat → Int32) (cn d i : Nat) : Int32 := gl_A kr_0 uw iw (fun p q => gw (p * 10 + q)) ow uk t 0 cn d i
def us_c (K : sr_T (Option Nat)) (ue : Int32) (im om gm uk t : Nat → Int32) (cn d i : Nat) : Option Nat := gl_A K (nu_v ue) (fun p => nu_d (im p)) (fun p q => nu_d (gm (p * 10 + q))) (fun p => nu_d (om p)) uk t 0 cn d i
/-- the bounds of one cost of the expression in use -/
def us_B (cn : Nat) (im om gm : Nat → Int32) : Prop := ∀ p, p < cn → nu_B 180 (im p) ∧ nu_B 0 (om p) ∧ ∀ q, q < cn → nu_B 180 (gm (p * 10 + q))
/-! the places' weights e + 1 letters behind i -/
def sw_w (iw gw uk t : Nat → Int32) (cn i e : Nat) (nw : Nat → Int32) : Prop := ∀ p, p < cn → nw p = gl_N kr_0 iw (fun p q => gw (p * 10 + q)) uk t cn i e p
def sw_c (K : sr_T (Option Nat)) (im gm uk t : Nat → Int32) (cn i e : Nat) (nw : Nat → Int32) : Prop := ∀ p, p < cn → nu_B (180 * (e + 1)) (nw p) ∧ nu_d (nw p) = gl_N K (fun p => nu_d (im p)) (fun p q => nu_d (gm (p * 10 + q))) uk t cn i e p
variable {iw ow gw uk t nw tw im om gm : Nat → Int32} {cn i e : Nat} {ue uw : Int32}
theorem ft_t {S : Type} {K : sr_T S} {k c : Int32} (h : k = 3 ∨ k = c) : sr_ft K k c = sr_o K := if_pos h
theorem ft_f {S : Type} {K : sr_T S} {k c : Int32} (h : ¬ (k = 3 ∨ k = c)) : sr_ft K k c = sr_z K := if_neg h
theorem sw_we : sw_w iw gw uk t cn i 0 (mx_ (r1_ 0 cn) nw (ef_ uk (t i) iw 0)) := by
  intro p hp
  rw [mx_t (r1_t.mpr ⟨by omega, hp⟩), gl_N]
  by_cases h : uk p = 3 ∨ uk p = t i
  · rw [ef_t h, ft_t h, sr_mo kr_L0]
  · rw [ef_f h, ft_f h, sr_mz kr_L0]; rfl
theorem sw_ce {K : sr_T (Option Nat)} (HK : sr_Law K) (hz : sr_z K = none) (HB : us_B cn im om gm) : sw_c K im gm uk t cn i 0 (mx_ (r1_ 0 cn) nw (ef_ uk (t i) im (-1))) := by
  intro p hp
  rw [mx_t (r1_t.mpr ⟨by omega, hp⟩), gl_N]
  by_cases h : uk p = 3 ∨ uk p = t i
  · rw [ef_t h, ft_t h, sr_mo HK]
    exact ⟨(HB p hp).1, rfl⟩
  · rw [ef_f h, ft_f h, sr_mz HK, hz, nu_d0]
    exact ⟨nu_B1, rfl⟩
theorem sw_wa (h : sw_w iw gw uk t cn i e nw) : sw_w iw gw uk t cn i (e + 1) (mx_ (r1_ 0 cn) nw (mx_ (r1_ 0 cn) tw (ef_ uk (t (i + e + 1)) (fun q => ga_w nw gw q cn) 0))) := by
  intro p hp
  rw [mx_t (r1_t.mpr ⟨by omega, hp⟩), mx_t (r1_t.mpr ⟨by omega, hp⟩), gl_N]
  by_cases h1 : uk p = 3 ∨ uk p = t (i + e + 1)
  · rw [ef_t h1, ft_t h1, sr_mo kr_L0]
    show fo_ (fun a b => a + b) 0 (fun r => nw r * gw (r * 10 + p)) cn = _
    rw [fo_w]
    refine sr_sc cn (fun r _ hr => ?_)
    rw [h r (by omega)]; rfl
  · rw [ef_f h1, ft_f h1, sr_mz kr_L0]; rfl
theorem sw_ca {K : sr_T (Option Nat)} (HK : sr_Law K) (hz : sr_z K = none) (hm : ∀ a b, sr_m K a b = om_p a b) (f : (Nat → Int32) → (Nat → Int32) → Nat → Nat → Int32)
    (hf : ∀ (B : Nat) (a b : Nat → Int32) (q n : Nat), B < 2 ^ 31 → (∀ p, p < n → nu_B B (nu_p (a p) (b (p * 10 + q)))) → nu_B B (f a b q n) ∧ nu_d (f a b q n) = sr_s K (fun p => nu_d (nu_p (a p) (b (p * 10 + q)))) 0 n)
    (HB : us_B cn im om gm) (he : e ≤ 20) (h : sw_c K im gm uk t cn i e nw) : sw_c K im gm uk t cn i (e + 1) (mx_ (r1_ 0 cn) nw (mx_ (r1_ 0 cn) tw (ef_ uk (t (i + e + 1)) (fun q => f nw gm q cn) (-1)))) := by
  intro p hp
  rw [mx_t (r1_t.mpr ⟨by omega, hp⟩), mx_t (r1_t.mpr ⟨by omega, hp⟩), gl_N]
  by_cases h1 : uk p = 3 ∨ uk p = t (i + e + 1)
  · rw [ef_t h1, ft_t h1, sr_mo HK]
    have b : ∀ r, r < cn → nu_B (180 * (e + 1) + 180) (nu_p (nw r) (gm (r * 10 + p))) ∧ nu_d (nu_p (nw r) (gm (r * 10 + p))) = om_p (nu_d (nw r)) (nu_d (gm (r * 10 + p))) :=
      fun r hr => nu_p1 (by omega) (h r hr).1 ((HB r hr).2.2 p hp)
    have ⟨g1, g2⟩ := hf (180 * (e + 1) + 180) nw gm p cn (by omega) (fun r hr => (b r hr).1)
    refine ⟨nu_Bm g1 (by omega), ?_⟩
    rw [g2]
    refine sr_sc cn (fun r _ hr => ?_)
    rw [(b r (by omega)).2, (h r (by omega)).2, hm]
  · rw [ef_f h1, ft_f h1, sr_mz HK, hz, nu_d0]
    exact ⟨nu_B1, rfl⟩
theorem sw_wl (h : sw_w iw gw uk t cn i e nw) : le_w nw ow cn = us_w uw iw ow gw uk t cn (e + 1) i := by
  show fo_ (fun a b => a + b) 0 (fun r => nw r * ow r) cn = _
  unfold us_w
  rw [fo_w, ← gl_NL kr_L0]
  refine sr_sc cn (fun r _ hr => ?_)
  rw [h r (by omega)]; rfl
theorem sw_cl {K : sr_T (Option Nat)} (HK : sr_Law K) (hm : ∀ a b, sr_m K a b = om_p a b) (f : (Nat → Int32) → (Nat → Int32) → Nat → Int32)
    (hf : ∀ (B : Nat) (a b : Nat → Int32) (n : Nat), B < 2 ^ 31 → (∀ p, p < n → nu_B B (nu_p (a p) (b p))) → nu_B B (f a b n) ∧ nu_d (f a b n) = sr_s K (fun p => nu_d (nu_p (a p) (b p))) 0 n)
    (HB : us_B cn im om gm) (he : e ≤ 20) (h : sw_c K im gm uk t cn i e nw) : f nw om cn = nu_e (us_c K ue im om gm uk t cn (e + 1) i) := by
  have b : ∀ r, r < cn → nu_B (180 * (e + 1) + 0) (nu_p (nw r) (om r)) ∧ nu_d (nu_p (nw r) (om r)) = om_p (nu_d (nw r)) (nu_d (om r)) :=
    fun r hr => nu_p1 (by omega) (h r hr).1 (HB r hr).2.1
  have ⟨g1, g2⟩ := hf (180 * (e + 1) + 0) nw om cn (by omega) (fun r hr => (b r hr).1)
  rw [← nu_ed (by omega) g1, g2]
  congr 1
  unfold us_c
  rw [← gl_NL HK]
  refine sr_sc cn (fun r _ hr => ?_)
  rw [(b r (by omega)).2, (h r (by omega)).2, hm]
theorem ga_nf (B : Nat) (a b : Nat → Int32) (q n : Nat) (hB : B < 2 ^ 31) (h : ∀ p, p < n → nu_B B (nu_p (a p) (b (p * 10 + q)))) : nu_B B (ga_n a b q n) ∧ nu_d (ga_n a b q n) = sr_s kr_n (fun p => nu_d (nu_p (a p) (b (p * 10 + q)))) 0 n := fo_n hB _ n h
theorem ga_xf (B : Nat) (a b : Nat → Int32) (q n : Nat) (hB : B < 2 ^ 31) (h : ∀ p, p < n → nu_B B (nu_p (a p) (b (p * 10 + q)))) : nu_B B (ga_x a b q n) ∧ nu_d (ga_x a b q n) = sr_s kr_x (fun p => nu_d (nu_p (a p) (b (p * 10 + q)))) 0 n := fo_x hB _ n h
theorem le_nf (B : Nat) (a b : Nat → Int32) (n : Nat) (hB : B < 2 ^ 31) (h : ∀ p, p < n → nu_B B (nu_p (a p) (b p))) : nu_B B (le_n a b n) ∧ nu_d (le_n a b n) = sr_s kr_n (fun p => nu_d (nu_p (a p) (b p))) 0 n := fo_n hB _ n h
theorem le_xf (B : Nat) (a b : Nat → Int32) (n : Nat) (hB : B < 2 ^ 31) (h : ∀ p, p < n → nu_B B (nu_p (a p) (b p))) : nu_B B (le_x a b n) ∧ nu_d (le_x a b n) = sr_s kr_x (fun p => nu_d (nu_p (a p) (b p))) 0 n := fo_x hB _ n h
end XSWEEP
section XSWEEP2
variable {f_height f_made f_places f_count f_useEmpty f_useEmptyWays f_length : Int32} {a_low a_hasEmpty a_emptyWays a_kind a_firstWays a_firstMin a_firstMax a_lastWays a_lastMin a_lastMax a_followWays a_followMin a_followMax a_useKind a_inWays a_inMin a_inMax a_outWays a_outMin a_outMax a_goWays a_goMin a_goMax a_text a_nowWays a_nowMin a_nowMax a_thenWays a_thenMin a_thenMax a_gotWays a_gotMin a_gotMax a_paid : Nat → Int32}
/-- what the windows from i hold up to j -/
def sw_got (W0 W1 W2 : Nat → Int32) (i j : Nat) (g0 g1 g2 : Nat → Int32) : Prop := ∀ k, i ≤ k → k ≤ j → g0 k = W0 (k - i) ∧ g1 k = W1 (k - i) ∧ g2 k = W2 (k - i)
theorem sw_gs {W0 W1 W2 : Nat → Int32} {i j : Nat} {g0 g1 g2 : Nat → Int32} {x0 x1 x2 : Int32} (h : sw_got W0 W1 W2 i j g0 g1 g2) (h0 : x0 = W0 (j + 1 - i)) (h1 : x1 = W1 (j + 1 - i)) (h2 : x2 = W2 (j + 1 - i)) :
    sw_got W0 W1 W2 i (j + 1) (upd g0 (j + 1) x0) (upd g1 (j + 1) x1) (upd g2 (j + 1) x2) := by
  intro k hk hk2
  by_cases e : k = j + 1
  · subst e
    rw [pk_us, pk_us, pk_us]; exact ⟨h0, h1, h2⟩
  · rw [pk_un e, pk_un e, pk_un e]
    exact h k hk (by omega)
theorem wx_sweep42 {post : SX → Prop} {cn ln i : Nat} (hcn : cn ≤ 10) (hln : ln ≤ 8)
    (B1 : us_B cn a_inMin a_outMin a_goMin) (B2 : us_B cn a_inMax a_outMax a_goMax)
    (H : ∀ nw nm nx tw tm tx gw gm gx : Nat → Int32, sw_got (fun d => us_w f_useEmptyWays a_inWays a_outWays a_goWays a_useKind a_text cn d i) (fun d => nu_e (us_c kr_n f_useEmpty a_inMin a_outMin a_goMin a_useKind a_text cn d i)) (fun d => nu_e (us_c kr_x f_useEmpty a_inMax a_outMax a_goMax a_useKind a_text cn d i)) i ln gw gm gx →
      post (f_height, f_made, f_places, nI cn, f_useEmpty, f_useEmptyWays, nI ln, a_low, a_hasEmpty, a_emptyWays, a_kind, a_firstWays, a_firstMin, a_firstMax, a_lastWays, a_lastMin, a_lastMax, a_followWays, a_followMin, a_followMax, a_useKind, a_inWays, a_inMin, a_inMax, a_outWays, a_outMin, a_outMax, a_goWays, a_goMin, a_goMax, a_text, nw, nm, nx, tw, tm, tx, gw, gm, gx, a_paid)) :
    ∀ (n j : Nat) (nw nm nx tw tm tx gw gm gx : Nat → Int32), i ≤ j → j ≤ ln → ln - j < n →
      sw_got (fun d => us_w f_useEmptyWays a_inWays a_outWays a_goWays a_useKind a_text cn d i) (fun d => nu_e (us_c kr_n f_useEmpty a_inMin a_outMin a_goMin a_useKind a_text cn d i)) (fun d => nu_e (us_c kr_x f_useEmpty a_inMax a_outMax a_goMax a_useKind a_text cn d i)) i j gw gm gx →
      (∀ e, j = i + e + 1 → sw_w a_inWays a_goWays a_useKind a_text cn i e nw ∧ sw_c kr_n a_inMin a_goMin a_useKind a_text cn i e nm ∧ sw_c kr_x a_inMax a_goMax a_useKind a_text cn i e nx) →
      wX_sweep_42 post (nI i) n (nI j) f_height f_made f_places (nI cn) f_useEmpty f_useEmptyWays (nI ln) a_low a_hasEmpty a_emptyWays a_kind a_firstWays a_firstMin a_firstMax a_lastWays a_lastMin a_lastMax a_followWays a_followMin a_followMax a_useKind a_inWays a_inMin a_inMax a_outWays a_outMin a_outMax a_goWays a_goMin a_goMax a_text nw nm nx tw tm tx gw gm gx a_paid := by
  intro n
  induction n with
  | zero => intro j _ _ _ _ _ _ _ _ _ _ _ h; omega
  | succ n ih =>
    intro j nw nm nx tw tm tx gw gm gx hij hj hn hg hN
    unfold wX_sweep_42
    by_cases e : j = ln
    · subst e
      exact br_t (nI_le (Nat.le_refl j) (by omega)) (H nw nm nx tw tm tx gw gm gx hg)
    · have c1 : (nI j).toNatClampNeg = j := xi_c (by omega)
      have v1 := vp_in_nI (n := j) (N := 8) (by omega) (by decide)
      refine br_f (nI_ge (by omega) (by omega)) ?_
      rw [c1]
      by_cases e1 : j = i
      · subst e1
        refine br_t rfl (And.intro v1 (wx_enter hcn ?_))
        show wX_sweep_78 post _ _ _ f_height f_made f_places (nI cn) f_useEmpty f_useEmptyWays (nI ln) a_low a_hasEmpty a_emptyWays a_kind a_firstWays a_firstMin a_firstMax a_lastWays a_lastMin a_lastMax a_followWays a_followMin a_followMax a_useKind a_inWays a_inMin a_inMax a_outWays a_outMin a_outMax a_goWays a_goMin a_goMax a_text (mx_ (r1_ 0 cn) nw (ef_ a_useKind (a_text j) a_inWays 0)) (mx_ (r1_ 0 cn) nm (ef_ a_useKind (a_text j) a_inMin (-1))) (mx_ (r1_ 0 cn) nx (ef_ a_useKind (a_text j) a_inMax (-1))) tw tm tx gw gm gx a_paid
        unfold wX_sweep_78
        rw [nI_1 j]
        have s0 := sw_we (iw := a_inWays) (gw := a_goWays) (uk := a_useKind) (t := a_text) (nw := nw) (cn := cn) (i := j)
        have s1 := sw_ce (im := a_inMin) (om := a_outMin) (gm := a_goMin) (uk := a_useKind) (t := a_text) (nw := nm) (cn := cn) (i := j) kr_Ln rfl B1
        have s2 := sw_ce (im := a_inMax) (om := a_outMax) (gm := a_goMax) (uk := a_useKind) (t := a_text) (nw := nx) (cn := cn) (i := j) kr_Lx rfl B2
        refine wx_leave hcn (by omega) (nm_e ?_)
        refine ih (j + 1) _ _ _ _ _ _ _ _ _ (by omega) (by omega) (by omega) (sw_gs hg ?_ ?_ ?_) ?_
        · rw [show j + 1 - j = 0 + 1 from by omega]; exact sw_wl s0
        · rw [show j + 1 - j = 0 + 1 from by omega]; exact sw_cl kr_Ln (fun _ _ => rfl) le_n le_nf B1 (by omega) s1
        · rw [show j + 1 - j = 0 + 1 from by omega]; exact sw_cl kr_Lx (fun _ _ => rfl) le_x le_xf B2 (by omega) s2
        · intro e he
          obtain rfl : e = 0 := by omega
          exact ⟨s0, s1, s2⟩
      · obtain ⟨e2, rfl⟩ : ∃ e2, j = i + e2 + 1 := ⟨j - i - 1, by omega⟩
        obtain ⟨n0, n1, n2⟩ := hN e2 rfl
        refine br_f (fun z => e1 ((nI_eq (by omega) (by omega)).mp z)) (And.intro v1 (wx_advance hcn ?_))
        show wX_sweep_78 post _ _ _ f_height f_made f_places (nI cn) f_useEmpty f_useEmptyWays (nI ln) a_low a_hasEmpty a_emptyWays a_kind a_firstWays a_firstMin a_firstMax a_lastWays a_lastMin a_lastMax a_followWays a_followMin a_followMax a_useKind a_inWays a_inMin a_inMax a_outWays a_outMin a_outMax a_goWays a_goMin a_goMax a_text (mx_ (r1_ 0 cn) nw (mx_ (r1_ 0 cn) tw (ef_ a_useKind (a_text (i + e2 + 1)) (fun q => ga_w nw a_goWays q cn) 0))) (mx_ (r1_ 0 cn) nm (mx_ (r1_ 0 cn) tm (ef_ a_useKind (a_text (i + e2 + 1)) (fun q => ga_n nm a_goMin q cn) (-1)))) (mx_ (r1_ 0 cn) nx (mx_ (r1_ 0 cn) tx (ef_ a_useKind (a_text (i + e2 + 1)) (fun q => ga_x nx a_goMax q cn) (-1)))) (mx_ (r1_ 0 cn) tw (ef_ a_useKind (a_text (i + e2 + 1)) (fun q => ga_w nw a_goWays q cn) 0)) (mx_ (r1_ 0 cn) tm (ef_ a_useKind (a_text (i + e2 + 1)) (fun q => ga_n nm a_goMin q cn) (-1))) (mx_ (r1_ 0 cn) tx (ef_ a_useKind (a_text (i + e2 + 1)) (fun q => ga_x nx a_goMax q cn) (-1))) gw gm gx a_paid
        unfold wX_sweep_78
        rw [nI_1 (i + e2 + 1)]
        have s0 := sw_wa (tw := tw) n0
        have s1 := sw_ca (tw := tm) kr_Ln rfl (fun _ _ => rfl) ga_n ga_nf B1 (by omega) n1
        have s2 := sw_ca (tw := tx) kr_Lx rfl (fun _ _ => rfl) ga_x ga_xf B2 (by omega) n2
        refine wx_leave hcn (by omega) (nm_e ?_)
        refine ih (i + e2 + 1 + 1) _ _ _ _ _ _ _ _ _ (by omega) (by omega) (by omega) (sw_gs hg ?_ ?_ ?_) ?_
        · rw [show i + e2 + 1 + 1 - i = e2 + 1 + 1 from by omega]; exact sw_wl s0
        · rw [show i + e2 + 1 + 1 - i = e2 + 1 + 1 from by omega]; exact sw_cl kr_Ln (fun _ _ => rfl) le_n le_nf B1 (by omega) s1
        · rw [show i + e2 + 1 + 1 - i = e2 + 1 + 1 from by omega]; exact sw_cl kr_Lx (fun _ _ => rfl) le_x le_xf B2 (by omega) s2
        · intro e he
          obtain rfl : e = e2 + 1 := by omega
          exact ⟨s0, s1, s2⟩
theorem wx_sweep {post : SX → Prop} {cn ln i : Nat} (hcn : cn ≤ 10) (hln : ln ≤ 8) (hi : i ≤ ln)
    (B1 : us_B cn a_inMin a_outMin a_goMin) (B2 : us_B cn a_inMax a_outMax a_goMax)
    (H : ∀ nw nm nx tw tm tx gw gm gx : Nat → Int32, sw_got (fun d => us_w f_useEmptyWays a_inWays a_outWays a_goWays a_useKind a_text cn d i) (fun d => nu_e (us_c kr_n f_useEmpty a_inMin a_outMin a_goMin a_useKind a_text cn d i)) (fun d => nu_e (us_c kr_x f_useEmpty a_inMax a_outMax a_goMax a_useKind a_text cn d i)) i ln gw gm gx →
      post (f_height, f_made, f_places, nI cn, f_useEmpty, f_useEmptyWays, nI ln, a_low, a_hasEmpty, a_emptyWays, a_kind, a_firstWays, a_firstMin, a_firstMax, a_lastWays, a_lastMin, a_lastMax, a_followWays, a_followMin, a_followMax, a_useKind, a_inWays, a_inMin, a_inMax, a_outWays, a_outMin, a_outMax, a_goWays, a_goMin, a_goMax, a_text, nw, nm, nx, tw, tm, tx, gw, gm, gx, a_paid)) :
    wpX_sweep post (f_height, f_made, f_places, nI cn, f_useEmpty, f_useEmptyWays, nI ln, a_low, a_hasEmpty, a_emptyWays, a_kind, a_firstWays, a_firstMin, a_firstMax, a_lastWays, a_lastMin, a_lastMax, a_followWays, a_followMin, a_followMax, a_useKind, a_inWays, a_inMin, a_inMax, a_outWays, a_outMin, a_outMax, a_goWays, a_goMin, a_goMax, a_text, a_nowWays, a_nowMin, a_nowMax, a_thenWays, a_thenMin, a_thenMax, a_gotWays, a_gotMin, a_gotMax, a_paid) (nI i) := by
  have c1 : (nI i).toNatClampNeg = i := xi_c (by omega)
  have hi9 : i < 9 := by omega
  have v1 := vp_in_nI (n := i) (N := 9) hi9 (by decide)
  have key : ∀ z : Int32, z = nu_e (nu_v f_useEmpty) → wX_sweep_27 post (nI i) z (nI i) f_height f_made f_places (nI cn) f_useEmpty f_useEmptyWays (nI ln) a_low a_hasEmpty a_emptyWays a_kind a_firstWays a_firstMin a_firstMax a_lastWays a_lastMin a_lastMax a_followWays a_followMin a_followMax a_useKind a_inWays a_inMin a_inMax a_outWays a_outMin a_outMax a_goWays a_goMin a_goMax a_text a_nowWays a_nowMin a_nowMax a_thenWays a_thenMin a_thenMax (upd a_gotWays i f_useEmptyWays) a_gotMin a_gotMax a_paid := by
    intro z hz
    unfold wX_sweep_27
    rw [c1]
    refine And.intro v1 (nm_e (And.intro v1 (And.intro v1 (nm_r (congrArg (upd a_gotMax i) pk_us) ?_))))
    refine ⟨ln - i + 1, wx_sweep42 hcn hln B1 B2 H (ln - i + 1) i _ _ _ _ _ _ _ _ _ (Nat.le_refl i) hi (by omega) ?_ (fun e he => by omega)⟩
    intro k hk hk2
    obtain rfl : k = i := by omega
    rw [pk_us, pk_us, pk_us, Nat.sub_self]
    refine ⟨rfl, hz, ?_⟩
    rw [hz]; rfl
  unfold wpX_sweep
  refine xs_ i _ hi9 ?_
  by_cases h : f_useEmpty = 0
  · exact br_t h (key (-1) (by unfold nu_v; rw [if_pos h]; rfl))
  · exact br_f h (key 0 (by unfold nu_v; rw [if_neg h]; rfl))
end XSWEEP2
end
section
section YPURE
def yi_z (mode : Int32) : Int32 := if mode = 0 then 0 else -1
def yi_o (mode c : Int32) : Int32 := if mode = 0 then 1 else c
def yi_e (mode a b : Int32) : Int32 := if mode = 0 then a + b else if a < 0 then b else if 0 ≤ b then (if mode = 1 then (if b ≤ a then b else a) else (if a ≤ b then b else a)) else a
def yi_t (mode a b w : Int32) : Int32 := if mode = 0 then a * b else if a < 0 then -1 else if 0 ≤ b then a + b + w else -1
/-- one mode of the reference: its semiring, its costs, its ints, its bounds -/
def yk_ {S : Type} (mode : Int32) (K : sr_T S) (cst : Int32 → S) (en : S → Int32) (bd : S → Nat → Prop) : Prop :=
  sr_Law K ∧ cst 0 = sr_o K ∧ en (sr_z K) = yi_z mode ∧ (∀ w, w ≤ 9 → en (cst (nI w)) = yi_o mode (nI w)) ∧
  (∀ (a b : S) (A : Nat), A ≤ 2000 → bd a A → bd b A → yi_e mode (en a) (en b) = en (sr_a K a b)) ∧
  (∀ (a b : S) (A B w : Nat), A ≤ 2000 → B ≤ 2000 → w ≤ 9 → bd a A → bd b B → yi_t mode (en a) (en b) (nI w) = en (sr_m K (sr_m K a b) (cst (nI w)))) ∧
  (∀ A, bd (sr_z K) A) ∧ (∀ w, w ≤ 9 → bd (cst (nI w)) w) ∧ (∀ (a b : S) (A : Nat), bd a A → bd b A → bd (sr_a K a b) A) ∧
  (∀ (a b : S) (A B : Nat), bd a A → bd b B → bd (sr_m K a b) (A + B)) ∧ (∀ (a : S) (A B : Nat), bd a A → A ≤ B → bd a B)
def bo_ (o : Option Nat) (B : Nat) : Prop := ∀ n, o = some n → n ≤ B
theorem bo_none {B : Nat} : bo_ none B := fun n h => by cases h
theorem bo_some {n B : Nat} (h : n ≤ B) : bo_ (some n) B := fun k hk => by cases hk; exact h
theorem bo_get {n B : Nat} (h : bo_ (some n) B) : n ≤ B := h n rfl
theorem yk_0 : yk_ 0 kr_0 (fun _ => 1) (fun x => x) (fun _ _ => True) := by
  refine ⟨kr_L0, rfl, rfl, fun w hw => rfl, fun a b A _ _ _ => rfl, fun a b A B w _ _ _ _ _ => ?_, fun _ => trivial, fun _ _ => trivial, fun _ _ _ _ _ => trivial, fun _ _ _ _ _ _ => trivial, fun _ _ _ _ _ => trivial⟩
  show a * b = a * b * 1
  rw [Int32.mul_one]
theorem yk_t (mode : Int32) (hm : ¬ mode = 0) (a b : Option Nat) (A B w : Nat) (hA : A ≤ 2000) (hB : B ≤ 2000) (hw : w ≤ 9) (ha : bo_ a A) (hb : bo_ b B) : yi_t mode (nu_e a) (nu_e b) (nI w) = nu_e (om_p (om_p a b) (nu_d (nI w))) := by
  unfold yi_t
  rw [if_neg hm, nu_d1 (by omega)]
  cases a with
  | none => exact if_pos nu_m1
  | some x =>
    have := bo_get ha
    show (if nI x < 0 then _ else _) = _
    rw [if_neg (nI_pos (by omega))]
    cases b with
    | none => exact if_neg nu_m1'
    | some y =>
      have := bo_get hb
      show (if 0 ≤ nI y then _ else _) = nI (x + y + w)
      rw [if_pos (nI_pos' (by omega))]
      show nI x + nI y + nI w = _
      rw [nI_add, nI_add]
theorem yk_e (mode : Int32) (hm : ¬ mode = 0) (f : Option Nat → Option Nat → Option Nat) (h0 : ∀ b, f none b = b) (h1 : ∀ a, f (some a) none = some a)
    (h2 : ∀ a b, a ≤ 2000 → b ≤ 2000 → (if mode = 1 then (if nI b ≤ nI a then nI b else nI a) else (if nI a ≤ nI b then nI b else nI a)) = nu_e (f (some a) (some b)))
    (a b : Option Nat) (A : Nat) (hA : A ≤ 2000) (ha : bo_ a A) (hb : bo_ b A) : yi_e mode (nu_e a) (nu_e b) = nu_e (f a b) := by
  unfold yi_e
  rw [if_neg hm]
  cases a with
  | none => rw [h0]; exact if_pos nu_m1
  | some x =>
    have := bo_get ha
    show (if nI x < 0 then _ else _) = _
    rw [if_neg (nI_pos (by omega))]
    cases b with
    | none => rw [h1]; exact if_neg nu_m1'
    | some y =>
      have := bo_get hb
      show (if 0 ≤ nI y then _ else _) = _
      rw [if_pos (nI_pos' (by omega))]
      exact h2 x y (by omega) (by omega)
theorem bo_n (a b : Option Nat) (A : Nat) (ha : bo_ a A) (hb : bo_ b A) : bo_ (om_n a b) A := by
  cases a with
  | none => exact hb
  | some x =>
    cases b with
    | none => exact ha
    | some y =>
      have := bo_get ha
      have := bo_get hb
      refine bo_some ?_
      split <;> omega
theorem bo_x (a b : Option Nat) (A : Nat) (ha : bo_ a A) (hb : bo_ b A) : bo_ (om_x a b) A := by
  cases a with
  | none => exact hb
  | some x =>
    cases b with
    | none => exact ha
    | some y =>
      have := bo_get ha
      have := bo_get hb
      refine bo_some ?_
      split <;> omega
theorem bo_p (a b : Option Nat) (A B : Nat) (ha : bo_ a A) (hb : bo_ b B) : bo_ (om_p a b) (A + B) := by
  cases a with
  | none => exact bo_none
  | some x =>
    cases b with
    | none => exact bo_none
    | some y =>
      have := bo_get ha
      have := bo_get hb
      exact bo_some (by omega)
theorem bo_w (w : Nat) (hw : w ≤ 9) : bo_ (nu_d (nI w)) w := by
  rw [nu_d1 (by omega)]; exact bo_some (Nat.le_refl w)
theorem en_w (mode : Int32) (hm : ¬ mode = 0) (w : Nat) (hw : w ≤ 9) : nu_e (nu_d (nI w)) = yi_o mode (nI w) := by
  rw [nu_d1 (by omega)]
  unfold yi_o
  rw [if_neg hm]; rfl
theorem yk_n : yk_ 1 kr_n nu_d nu_e bo_ := by
  refine ⟨kr_Ln, nu_d1 (n := 0) (by omega), rfl, en_w 1 (by decide), ?_, yk_t 1 (by decide), fun _ => bo_none, bo_w, bo_n, bo_p, fun a A B h hAB n hn => Nat.le_trans (h n hn) hAB⟩
  refine yk_e 1 (by decide) om_n (fun _ => rfl) (fun _ => rfl) (fun a b ha hb => ?_)
  rw [if_pos rfl]
  show _ = nI (if a ≤ b then a else b)
  by_cases z : b ≤ a
  · rw [if_pos (nI_le z (by omega))]
    congr 1
    split <;> omega
  · rw [if_neg (nI_ge (by omega) (by omega)), if_pos (by omega)]
theorem yk_x : yk_ 2 kr_x nu_d nu_e bo_ := by
  refine ⟨kr_Lx, nu_d1 (n := 0) (by omega), rfl, en_w 2 (by decide), ?_, yk_t 2 (by decide), fun _ => bo_none, bo_w, bo_x, bo_p, fun a A B h hAB n hn => Nat.le_trans (h n hn) hAB⟩
  refine yk_e 2 (by decide) om_x (fun _ => rfl) (fun _ => rfl) (fun a b ha hb => ?_)
  rw [if_neg (by decide)]
  show _ = nI (if a ≤ b then b else a)
  by_cases z : a ≤ b
  · rw [if_pos (nI_le z (by omega)), if_pos z]
  · rw [if_neg (nI_ge (by omega) (by omega)), if_neg z]
section GEN
variable {S : Type} {mode : Int32} {K : sr_T S} {cst : Int32 → S} {en : S → Int32} {bd : S → Nat → Prop}
theorem yk_L (Y : yk_ mode K cst en bd) : sr_Law K := Y.1
theorem yk_c0 (Y : yk_ mode K cst en bd) : cst 0 = sr_o K := Y.2.1
theorem yk_ez (Y : yk_ mode K cst en bd) : en (sr_z K) = yi_z mode := Y.2.2.1
theorem yk_ew (Y : yk_ mode K cst en bd) {w : Nat} (h : w ≤ 9) : en (cst (nI w)) = yi_o mode (nI w) := Y.2.2.2.1 w h
theorem yk_ea (Y : yk_ mode K cst en bd) {a b : S} {A : Nat} (hA : A ≤ 2000) (ha : bd a A) (hb : bd b A) : yi_e mode (en a) (en b) = en (sr_a K a b) := Y.2.2.2.2.1 a b A hA ha hb
theorem yk_em (Y : yk_ mode K cst en bd) {a b : S} {A B w : Nat} (hA : A ≤ 2000) (hB : B ≤ 2000) (hw : w ≤ 9) (ha : bd a A) (hb : bd b B) : yi_t mode (en a) (en b) (nI w) = en (sr_m K (sr_m K a b) (cst (nI w))) := Y.2.2.2.2.2.1 a b A B w hA hB hw ha hb
theorem yk_bz (Y : yk_ mode K cst en bd) {A : Nat} : bd (sr_z K) A := Y.2.2.2.2.2.2.1 A
theorem yk_bw (Y : yk_ mode K cst en bd) {w : Nat} (h : w ≤ 9) : bd (cst (nI w)) w := Y.2.2.2.2.2.2.2.1 w h
theorem yk_ba (Y : yk_ mode K cst en bd) {a b : S} {A : Nat} (ha : bd a A) (hb : bd b A) : bd (sr_a K a b) A := Y.2.2.2.2.2.2.2.2.1 a b A ha hb
theorem yk_bm (Y : yk_ mode K cst en bd) {a b : S} {A B : Nat} (ha : bd a A) (hb : bd b B) : bd (sr_m K a b) (A + B) := Y.2.2.2.2.2.2.2.2.2.1 a b A B ha hb
theorem yk_bl (Y : yk_ mode K cst en bd) {a : S} {A B : Nat} (ha : bd a A) (h : A ≤ B) : bd a B := Y.2.2.2.2.2.2.2.2.2.2 a A B ha h
theorem yb_s (Y : yk_ mode K cst en bd) {f : Nat → S} {a B : Nat} : ∀ n, (∀ i, a ≤ i → i < a + n → bd (f i) B) → bd (sr_s K f a n) B
  | 0, _ => yk_bz Y
  | n + 1, h => yk_ba Y (yb_s Y n (fun i h1 h2 => h i h1 (by omega))) (h (a + n) (by omega) (by omega))
theorem yb_l (Y : yk_ mode K cst en bd) {f : Nat → Nat → S} {C w : Nat} (hw : w ≤ 9) (hf : ∀ e i, bd (f e i) (C * e)) : ∀ n d i, d ≤ n → bd (lp_v K f (cst (nI w)) d i) ((C + 9) * d) := by
  intro n
  induction n with
  | zero =>
    intro d i hd
    obtain rfl : d = 0 := by omega
    rw [lp_v0, ← yk_c0 Y]
    exact yk_bw Y (w := 0) (by omega)
  | succ n ih =>
    intro d i hd
    cases d with
    | zero =>
      rw [lp_v0, ← yk_c0 Y]
      exact yk_bw Y (w := 0) (by omega)
    | succ d =>
      rw [lp_v1]
      refine yb_s Y (d + 1) (fun e h1 h2 => ?_)
      refine yk_bl Y (yk_bm Y (yk_bm Y (hf e i) (ih (d + 1 - e) (i + e) (by omega))) (yk_bw Y hw)) ?_
      obtain ⟨r, hr⟩ : ∃ r, d + 1 = e + r := ⟨d + 1 - e, by omega⟩
      rw [hr, show e + r - e = r from by omega, Nat.add_mul, Nat.add_mul, Nat.mul_add]
      generalize C * e = u
      generalize C * r = v
      omega
/-- a program that the reference can hold -/
def ye_ok (op co : Nat → Int32) (m : Nat) : Prop := ∀ s, s < m → (∃ w, w ≤ 9 ∧ co s = nI w) ∧ (op s = 0 ∨ op s = 1 ∨ op s = 2 ∨ op s = 3 ∨ op s = 4 ∨ op s = 5) ∧ (op s = 5 → 1 ≤ ye_h op s) ∧ (op s = 3 ∨ op s = 4 → 2 ≤ ye_h op s) ∧ (op s = 2 → co s = 0)
def yt_ (op : Int32) (h : Nat) : Nat := if op = 5 then h - 1 else if op = 3 ∨ op = 4 then h - 2 else h
def yn_ {S : Type} (K : sr_T S) (cst : Int32 → S) (op lt co : Int32) (t : Nat → Int32) (h : Nat) (f : Nat → Nat → Nat → S) (d i : Nat) : S :=
  if op = 5 then lp_v K (f (h - 1)) (cst co) d i
  else if op = 3 then sr_s K (fun e => sr_m K (f (h - 2) e i) (f (h - 1) (d - e) (i + e))) 0 (d + 1)
  else if op = 4 then sr_a K (f (h - 2) d i) (f (h - 1) d i)
  else ye_at K cst op lt co t d i
theorem yn_st {op lt co : Int32} {t : Nat → Int32} {h : Nat} {f : Nat → Nat → Nat → S} {k d i : Nat} : ye_st K cst op lt co t h f k d i = if k = yt_ op h then yn_ K cst op lt co t h f d i else f k d i := by
  unfold ye_st yt_ yn_
  by_cases h5 : op = 5
  · rw [if_pos h5, if_pos h5, if_pos h5]
  · rw [if_neg h5, if_neg h5, if_neg h5]
    by_cases h3 : op = 3
    · rw [if_pos h3, if_pos (Or.inl h3), if_pos h3]
    · rw [if_neg h3, if_neg h3]
      by_cases h4 : op = 4
      · rw [if_pos h4, if_pos (Or.inr h4), if_pos h4]
      · rw [if_neg h4, if_neg (show ¬ (op = 3 ∨ op = 4) from fun z => z.elim h3 h4), if_neg h4]
theorem yt_h {op : Nat → Int32} {s : Nat} : ye_h op (s + 1) = if op s = 5 then ye_h op s else if op s = 3 ∨ op s = 4 then ye_h op s - 1 else ye_h op s + 1 := rfl
theorem yt_1 {op co : Nat → Int32} {m s : Nat} (O : ye_ok op co m) (hs : s < m) : ye_h op (s + 1) = yt_ (op s) (ye_h op s) + 1 := by
  obtain ⟨_, _, o5, o34, _⟩ := O s hs
  rw [yt_h]
  unfold yt_
  by_cases h5 : op s = 5
  · rw [if_pos h5, if_pos h5]; have := o5 h5; omega
  · rw [if_neg h5, if_neg h5]
    by_cases h3 : op s = 3 ∨ op s = 4
    · rw [if_pos h3, if_pos h3]; have := o34 h3; omega
    · rw [if_neg h3, if_neg h3]
theorem yt_le {op co : Nat → Int32} {m s : Nat} (O : ye_ok op co m) (hs : s < m) : yt_ (op s) (ye_h op s) ≤ ye_h op s := by
  unfold yt_
  repeat' split
  all_goals omega
theorem yh_le {op : Nat → Int32} : ∀ s, ye_h op s ≤ s
  | 0 => Nat.le_refl 0
  | s + 1 => by
    have := yh_le (op := op) s
    rw [yt_h]
    repeat' split
    all_goals omega
theorem yb_at (Y : yk_ mode K cst en bd) {op lt co : Int32} {t : Nat → Int32} {w s d i : Nat} (hw : w ≤ 9) (hco : co = nI w) (h2 : op = 2 → co = 0) : bd (ye_at K cst op lt co t d i) (9 * (s + 1) * d) := by
  unfold ye_at
  by_cases e2 : op = 2
  · rw [if_pos e2]
    split
    · rw [h2 e2]
      exact yk_bl Y (yk_bw Y (w := 0) (by omega)) (by omega)
    · exact yk_bz Y
  · rw [if_neg e2]
    split
    · rename_i z
      rw [hco, z.1]
      exact yk_bl Y (yk_bw Y hw) (by omega)
    · exact yk_bz Y
theorem yb_D (Y : yk_ mode K cst en bd) {op lt co t : Nat → Int32} {m : Nat} (O : ye_ok op co m) : ∀ s, s ≤ m → ∀ k, k < ye_h op s → ∀ d i, bd (ye_D K cst op lt co t s k d i) (9 * s * d) := by
  intro s
  induction s with
  | zero => intro _ k hk; exact absurd hk (by show ¬ k < 0; omega)
  | succ s ih =>
    intro hs k hk d i
    have I := ih (by omega)
    have k1 := yt_1 O (s := s) (by omega)
    have k2 := yt_le O (s := s) (by omega)
    obtain ⟨⟨w, hw, hco⟩, _, o5, o34, o2⟩ := O s (by omega)
    have mono : 9 * s * d ≤ 9 * (s + 1) * d := Nat.mul_le_mul_right d (by omega)
    rw [ye_D1, yn_st]
    by_cases e : k = yt_ (op s) (ye_h op s)
    · rw [if_pos e]
      unfold yn_
      by_cases h5 : op s = 5
      · rw [if_pos h5, hco]
        have := o5 h5
        exact yb_l Y hw (fun e i => I _ (by omega) e i) d d i (Nat.le_refl d)
      · rw [if_neg h5]
        by_cases h3 : op s = 3
        · rw [if_pos h3]
          have := o34 (Or.inl h3)
          refine yb_s Y (d + 1) (fun e h1 h2 => ?_)
          refine yk_bl Y (yk_bm Y (I _ (by omega) e i) (I _ (by omega) (d - e) (i + e))) ?_
          rw [← Nat.mul_add, show e + (d - e) = d from by omega]
          exact mono
        · rw [if_neg h3]
          by_cases h4 : op s = 4
          · rw [if_pos h4]
            have := o34 (Or.inr h4)
            exact yk_bl Y (yk_ba Y (I _ (by omega) d i) (I _ (by omega) d i)) mono
          · rw [if_neg h4]
            exact yb_at Y hw hco o2
    · rw [if_neg e]
      exact yk_bl Y (I k (by omega) d i) mono
end GEN
end YPURE
end
section
section YWALK
theorem yi_ix (x i j : Nat) : nI x * 81 + nI i * 9 + nI j = nI (x * 81 + i * 9 + j) := by
  rw [show (81 : Int32) = nI 81 from rfl, show (9 : Int32) = nI 9 from rfl, pk_mul, pk_mul, nI_add, nI_add]
theorem yi_c {n : Nat} (h : n < 2000) : (nI n).toNatClampNeg = n := nI_clamp (by omega)
variable {a_text : Nat → Int32}
variable {f_steps f_depth f_atoms f_size f_n : Int32} {a_draftOp a_draftLetter a_draftCost a_op a_letterOf a_costOf a_value a_open : Nat → Int32}
theorem wy_one {post : Int32 → Prop} {mode c : Int32} (h : post (yi_o mode c)) : wpY_one post (f_steps, f_depth, f_atoms, f_size, f_n, a_draftOp, a_draftLetter, a_draftCost, a_op, a_letterOf, a_costOf, a_text, a_value, a_open) mode c := by
  unfold yi_o at h
  by_cases h1 : mode = 0
  · rw [if_pos h1] at h; exact br_t h1 h
  · rw [if_neg h1] at h; exact br_f h1 h
theorem wy_either {post : Int32 → Prop} {mode a b : Int32} (h : post (yi_e mode a b)) : wpY_either post (f_steps, f_depth, f_atoms, f_size, f_n, a_draftOp, a_draftLetter, a_draftCost, a_op, a_letterOf, a_costOf, a_text, a_value, a_open) mode a b := by
  unfold yi_e at h
  unfold wpY_either
  by_cases h1 : mode = 0
  · rw [if_pos h1] at h; exact br_t h1 h
  · rw [if_neg h1] at h
    refine br_f h1 ?_
    by_cases h2 : a < 0
    · rw [if_pos h2] at h
      refine br_t h2 ?_
      unfold wY_either_16
      exact br_f (Int32.not_le.mpr h2) h
    · rw [if_neg h2] at h
      refine br_f h2 ?_
      by_cases h3 : 0 ≤ b
      · rw [if_pos h3] at h
        refine br_t h3 ?_
        by_cases h4 : mode = 1
        · rw [if_pos h4] at h
          refine br_t h4 ?_
          by_cases h5 : b ≤ a
          · rw [if_pos h5] at h; exact br_t h5 h
          · rw [if_neg h5] at h; exact br_f h5 h
        · rw [if_neg h4] at h
          refine br_f h4 ?_
          by_cases h5 : a ≤ b
          · rw [if_pos h5] at h; exact br_t h5 h
          · rw [if_neg h5] at h; exact br_f h5 h
      · rw [if_neg h3] at h
        refine br_f h3 ?_
        unfold wY_either_16
        exact br_t (Int32.not_lt.mp h2) h
theorem wy_together {post : Int32 → Prop} {mode a b w : Int32} (h : post (yi_t mode a b w)) : wpY_together post (f_steps, f_depth, f_atoms, f_size, f_n, a_draftOp, a_draftLetter, a_draftCost, a_op, a_letterOf, a_costOf, a_text, a_value, a_open) mode a b w := by
  unfold yi_t at h
  unfold wpY_together
  by_cases h1 : mode = 0
  · rw [if_pos h1] at h; exact br_t h1 h
  · rw [if_neg h1] at h
    refine br_f h1 ?_
    by_cases h2 : a < 0
    · rw [if_pos h2] at h; exact br_t h2 h
    · rw [if_neg h2] at h
      refine br_f h2 ?_
      by_cases h3 : 0 ≤ b
      · rw [if_pos h3] at h; exact br_t h3 h
      · rw [if_neg h3] at h; exact br_f h3 h
section GEN
variable {S : Type} {mode : Int32} {K : sr_T S} {cst : Int32 → S} {en : S → Int32} {bd : S → Nat → Prop}
theorem wy_atom62 (Y : yk_ mode K cst en bd) {post : Int32 → Prop} {s w : Nat} {z : Int32} (hs : s < 20) (hw : w ≤ 9) (hco : a_costOf s = nI w)
    (H : post (if z = 0 then en (sr_z K) else en (cst (a_costOf s)))) : wY_atomValue_62 post mode (nI s) z f_steps f_depth f_atoms f_size f_n a_draftOp a_draftLetter a_draftCost a_op a_letterOf a_costOf a_text a_value a_open := by
  have c1 : (nI s).toNatClampNeg = s := yi_c (by omega)
  unfold wY_atomValue_62
  by_cases h : z = 0
  · rw [if_pos h, yk_ez Y] at H
    unfold yi_z at H
    refine br_t h ?_
    by_cases h1 : mode = 0
    · rw [if_pos h1] at H; exact br_t h1 H
    · rw [if_neg h1] at H; exact br_f h1 H
  · rw [if_neg h, hco, yk_ew Y hw] at H
    refine br_f h (And.intro (vp_in_nI hs (by decide)) (wy_one ?_))
    rw [c1, hco]
    exact H
theorem wy_atomv (Y : yk_ mode K cst en bd) {post : Int32 → Prop} {s w i j : Nat} (hs : s < 20) (hw : w ≤ 9) (hco : a_costOf s = nI w) (hij : i ≤ j) (hj : j ≤ 8)
    (H : post (en (ye_at K cst (a_op s) (a_letterOf s) (a_costOf s) a_text (j - i) i))) : wpY_atomValue post (f_steps, f_depth, f_atoms, f_size, f_n, a_draftOp, a_draftLetter, a_draftCost, a_op, a_letterOf, a_costOf, a_text, a_value, a_open) mode (nI s) (nI i) (nI j) := by
  have c1 : (nI s).toNatClampNeg = s := yi_c (by omega)
  have c2 : (nI i).toNatClampNeg = i := yi_c (by omega)
  have v := vp_in_nI (n := s) (N := 20) hs (by decide)
  unfold ye_at at H
  unfold wpY_atomValue
  rw [c1, c2]
  refine And.intro v ?_
  by_cases h2 : a_op s = 2
  · rw [if_pos h2] at H
    refine br_t h2 ?_
    by_cases e : i = j
    · subst e
      rw [if_pos (by omega)] at H
      exact br_t rfl (wy_atom62 Y hs hw hco (by rw [if_neg (by decide)]; exact H))
    · rw [if_neg (by omega)] at H
      exact br_f (fun z => e ((nI_eq (by omega) (by omega)).mp z)) (wy_atom62 Y hs hw hco (by rw [if_pos rfl]; exact H))
  · rw [if_neg h2] at H
    refine br_f h2 ?_
    by_cases e : j = i + 1
    · refine br_t (by rw [nI_1, e]) (And.intro v ?_)
      by_cases h1 : a_op s = 1
      · rw [if_pos ⟨by omega, Or.inl h1⟩] at H
        refine br_t h1 ?_
        unfold wY_atomValue_57
        exact wy_atom62 Y hs hw hco (by rw [if_neg (by decide)]; exact H)
      · refine br_f h1 (And.intro (vp_in_nI (by omega) (by decide)) (And.intro v ?_))
        by_cases h3 : a_text i = a_letterOf s
        · rw [if_pos ⟨by omega, Or.inr h3⟩] at H
          refine br_t h3 ?_
          unfold wY_atomValue_57
          exact wy_atom62 Y hs hw hco (by rw [if_neg (by decide)]; exact H)
        · rw [if_neg (fun z => z.2.elim h1 h3)] at H
          refine br_f h3 ?_
          unfold wY_atomValue_61
          exact wy_atom62 Y hs hw hco (by rw [if_pos rfl]; exact H)
    · rw [if_neg (fun z => e (by have := z.1; omega))] at H
      refine br_f (by rw [nI_1, nI_eq (by omega) (by omega)]; exact e) ?_
      unfold wY_atomValue_61
      exact wy_atom62 Y hs hw hco (by rw [if_pos rfl]; exact H)
theorem wy_seq15 (Y : yk_ mode K cst en bd) {post : Int32 → Prop} {x y i j C : Nat} (hx : x < 20) (hy : y < 20) (hij : i ≤ j) (hj : j ≤ 8) (hC : C ≤ 180) (f g : Nat → Nat → S)
    (hf : ∀ k, i ≤ k → k ≤ j → a_value (x * 81 + i * 9 + k) = en (f (k - i) i)) (hg : ∀ k, i ≤ k → k ≤ j → a_value (y * 81 + k * 9 + j) = en (g (j - k) k))
    (bf : ∀ d i, bd (f d i) (C * d)) (bg : ∀ d i, bd (g d i) (C * d))
    (H : post (en (sr_s K (fun e => sr_m K (f e i) (g (j - i - e) (i + e))) 0 (j - i + 1)))) :
    ∀ n d : Nat, i + d ≤ j + 1 → j + 1 - (i + d) < n → wY_seqValue_15 post mode (nI x) (nI y) (nI i) (nI j) f_steps f_depth f_atoms f_size f_n a_draftOp a_draftLetter a_draftCost a_op a_letterOf a_costOf a_text a_value a_open n (en (sr_s K (fun e => sr_m K (f e i) (g (j - i - e) (i + e))) 0 d)) (nI (i + d)) := by
  have bt : ∀ e, e ≤ j - i → bd (sr_m K (f e i) (g (j - i - e) (i + e))) (C * (j - i)) := fun e he => by
    refine yk_bl Y (yk_bm Y (bf e i) (bg (j - i - e) (i + e))) ?_
    rw [← Nat.mul_add, show e + (j - i - e) = j - i from by omega]
    exact Nat.le_refl _
  have bC : ∀ e, e ≤ 8 → C * e ≤ 2000 := fun e he => Nat.le_trans (Nat.mul_le_mul hC he) (by decide)
  intro n
  induction n with
  | zero => intro d _ h; omega
  | succ n ih =>
    intro d hd hn
    unfold wY_seqValue_15
    by_cases e : i + d = j + 1
    · obtain rfl : d = j - i + 1 := by omega
      exact br_t (nI_lt (by omega) (by omega)) H
    · have i1 : x * 81 + i * 9 + (i + d) < 1620 := by omega
      have i2 : y * 81 + (i + d) * 9 + j < 1620 := by omega
      have k1 := yk_em Y (w := 0) (bC d (by omega)) (bC (j - i - d) (by omega)) (by omega) (bf d i) (bg (j - i - d) (i + d))
      rw [nI_0, yk_c0 Y, sr_mo (yk_L Y)] at k1
      have k2 := yk_ea Y (bC (j - i) (by omega)) (yb_s (a := 0) Y d (fun e _ he => bt e (by omega))) (bt d (by omega))
      have ih' := ih (d + 1) (by omega) (by omega)
      rw [sr_s1, Nat.zero_add, ← k2, ← k1] at ih'
      refine br_f (nI_nlt (by omega) (by omega)) ?_
      rw [yi_ix, yi_ix, yi_c (by omega), yi_c (by omega), hf (i + d) (by omega) (by omega), hg (i + d) (by omega) (by omega), show i + d - i = d from by omega, show j - (i + d) = j - i - d from by omega]
      refine And.intro (vp_in_nI i1 (by decide)) (And.intro (vp_in_nI i2 (by decide)) (wy_together (wy_either (nm_r (nI_1 (i + d)) ?_))))
      rw [Nat.add_assoc]
      exact ih'
theorem wy_seqv (Y : yk_ mode K cst en bd) {post : Int32 → Prop} {x y i j C : Nat} (hx : x < 20) (hy : y < 20) (hij : i ≤ j) (hj : j ≤ 8) (hC : C ≤ 180) (f g : Nat → Nat → S)
    (hf : ∀ k, i ≤ k → k ≤ j → a_value (x * 81 + i * 9 + k) = en (f (k - i) i)) (hg : ∀ k, i ≤ k → k ≤ j → a_value (y * 81 + k * 9 + j) = en (g (j - k) k))
    (bf : ∀ d i, bd (f d i) (C * d)) (bg : ∀ d i, bd (g d i) (C * d))
    (H : post (en (sr_s K (fun e => sr_m K (f e i) (g (j - i - e) (i + e))) 0 (j - i + 1)))) : wpY_seqValue post (f_steps, f_depth, f_atoms, f_size, f_n, a_draftOp, a_draftLetter, a_draftCost, a_op, a_letterOf, a_costOf, a_text, a_value, a_open) mode (nI x) (nI y) (nI i) (nI j) := by
  have R : wY_seqValue_15 post mode (nI x) (nI y) (nI i) (nI j) f_steps f_depth f_atoms f_size f_n a_draftOp a_draftLetter a_draftCost a_op a_letterOf a_costOf a_text a_value a_open (j + 2) (en (sr_s K (fun e => sr_m K (f e i) (g (j - i - e) (i + e))) 0 0)) (nI (i + 0)) := wy_seq15 Y hx hy hij hj hC f g hf hg bf bg H (j + 2) 0 (by omega) (by omega)
  rw [sr_s0, yk_ez Y] at R
  unfold yi_z at R
  unfold wpY_seqValue
  by_cases h1 : mode = 0
  · rw [if_pos h1] at R; exact br_t h1 ⟨_, R⟩
  · rw [if_neg h1] at R; exact br_f h1 ⟨_, R⟩
theorem wy_loop31 (Y : yk_ mode K cst en bd) {post : Int32 → Prop} {s x i j w C : Nat} (hs : s < 20) (hx : x < 20) (hij : i ≤ j) (hj : j ≤ 8) (hC : C + 9 ≤ 180) (hw : w ≤ 9) (hco : a_costOf s = nI w) (f : Nat → Nat → S)
    (hf : ∀ k, i ≤ k → k ≤ j → a_value (x * 81 + i * 9 + k) = en (f (k - i) i)) (hg : ∀ k, i < k → k ≤ j → a_value (s * 81 + k * 9 + j) = en (lp_v K f (cst (nI w)) (j - k) k))
    (bf : ∀ d i, bd (f d i) (C * d))
    (H : post (en (sr_s K (fun e => sr_m K (sr_m K (f e i) (lp_v K f (cst (nI w)) (j - i - e) (i + e))) (cst (nI w))) 1 (j - i)))) :
    ∀ n d : Nat, i + 1 + d ≤ j + 1 → j + 1 - (i + 1 + d) < n → wY_loopValue_31 post mode (nI s) (nI x) (nI i) (nI j) f_steps f_depth f_atoms f_size f_n a_draftOp a_draftLetter a_draftCost a_op a_letterOf a_costOf a_text a_value a_open n (en (sr_s K (fun e => sr_m K (sr_m K (f e i) (lp_v K f (cst (nI w)) (j - i - e) (i + e))) (cst (nI w))) 1 d)) (nI (i + 1 + d)) := by
  have bC : ∀ e, e ≤ 8 → (C + 9) * e ≤ 2000 := fun e he => Nat.le_trans (Nat.mul_le_mul hC he) (by decide)
  have bC' : ∀ e, e ≤ 8 → C * e ≤ 2000 := fun e he => Nat.le_trans (Nat.mul_le_mul (show C ≤ 180 by omega) he) (by decide)
  have bl : ∀ d i, bd (lp_v K f (cst (nI w)) d i) ((C + 9) * d) := fun d i => yb_l Y hw bf d d i (Nat.le_refl d)
  have bt : ∀ e, 1 ≤ e → e ≤ j - i → bd (sr_m K (sr_m K (f e i) (lp_v K f (cst (nI w)) (j - i - e) (i + e))) (cst (nI w))) ((C + 9) * (j - i)) := fun e h1 he => by
    refine yk_bl Y (yk_bm Y (yk_bm Y (bf e i) (bl (j - i - e) (i + e))) (yk_bw Y hw)) ?_
    obtain ⟨r, hr⟩ : ∃ r, j - i = e + r := ⟨j - i - e, by omega⟩
    rw [hr, show e + r - e = r from by omega, Nat.add_mul, Nat.add_mul, Nat.mul_add]
    generalize C * e = u
    generalize C * r = v
    omega
  intro n
  induction n with
  | zero => intro d _ h; omega
  | succ n ih =>
    intro d hd hn
    unfold wY_loopValue_31
    by_cases e : i + 1 + d = j + 1
    · obtain rfl : d = j - i := by omega
      exact br_t (nI_lt (by omega) (by omega)) H
    · have i1 : x * 81 + i * 9 + (i + 1 + d) < 1620 := by omega
      have i2 : s * 81 + (i + 1 + d) * 9 + j < 1620 := by omega
      have k1 := yk_em Y (bC' (1 + d) (by omega)) (bC (j - i - (1 + d)) (by omega)) hw (bf (1 + d) i) (bl (j - i - (1 + d)) (i + (1 + d)))
      have k2 := yk_ea Y (bC (j - i) (by omega)) (yb_s (a := 1) Y d (fun e h1 he => bt e h1 (by omega))) (bt (1 + d) (by omega) (by omega))
      have ih' := ih (d + 1) (by omega) (by omega)
      rw [sr_s1, ← k2, ← k1] at ih'
      refine br_f (nI_nlt (by omega) (by omega)) ?_
      rw [yi_ix, yi_ix, yi_c (n := x * 81 + i * 9 + (i + 1 + d)) (by omega), yi_c (n := s * 81 + (i + 1 + d) * 9 + j) (by omega), yi_c (n := s) (by omega), hf (i + 1 + d) (by omega) (by omega), hg (i + 1 + d) (by omega) (by omega), hco,
        show i + 1 + d - i = 1 + d from by omega, show j - (i + 1 + d) = j - i - (1 + d) from by omega, show i + 1 + d = i + (1 + d) from by omega]
      rw [show i + 1 + d = i + (1 + d) from by omega] at i1 i2
      refine And.intro (vp_in_nI i1 (by decide)) (And.intro (vp_in_nI i2 (by decide)) (And.intro (vp_in_nI hs (by decide)) (wy_together (wy_either (nm_r (nI_1 (i + (1 + d))) ?_)))))
      rw [show i + (1 + d) + 1 = i + 1 + (d + 1) from by omega]
      exact ih'
theorem wy_loopv (Y : yk_ mode K cst en bd) {post : Int32 → Prop} {s x i j w C : Nat} (hs : s < 20) (hx : x < 20) (hij : i ≤ j) (hj : j ≤ 8) (hC : C + 9 ≤ 180) (hw : w ≤ 9) (hco : a_costOf s = nI w) (f : Nat → Nat → S)
    (hf : ∀ k, i ≤ k → k ≤ j → a_value (x * 81 + i * 9 + k) = en (f (k - i) i)) (hg : ∀ k, i < k → k ≤ j → a_value (s * 81 + k * 9 + j) = en (lp_v K f (cst (nI w)) (j - k) k))
    (bf : ∀ d i, bd (f d i) (C * d))
    (H : post (en (lp_v K f (cst (nI w)) (j - i) i))) : wpY_loopValue post (f_steps, f_depth, f_atoms, f_size, f_n, a_draftOp, a_draftLetter, a_draftCost, a_op, a_letterOf, a_costOf, a_text, a_value, a_open) mode (nI s) (nI x) (nI i) (nI j) := by
  unfold wpY_loopValue
  by_cases e : i = j
  · subst e
    rw [Nat.sub_self, lp_v0, ← yk_c0 Y, ← nI_0, yk_ew Y (by omega)] at H
    exact br_t rfl (wy_one H)
  · obtain ⟨d, hd⟩ : ∃ d, j - i = d + 1 := ⟨j - i - 1, by omega⟩
    rw [hd, lp_v1, ← hd] at H
    have R : wY_loopValue_31 post mode (nI s) (nI x) (nI i) (nI j) f_steps f_depth f_atoms f_size f_n a_draftOp a_draftLetter a_draftCost a_op a_letterOf a_costOf a_text a_value a_open (j + 2) (en (sr_s K (fun e => sr_m K (sr_m K (f e i) (lp_v K f (cst (nI w)) (j - i - e) (i + e))) (cst (nI w))) 1 0)) (nI (i + 1 + 0)) := wy_loop31 Y hs hx hij hj hC hw hco f hf hg bf H (j + 2) 0 (by omega) (by omega)
    rw [sr_s0, yk_ez Y] at R
    unfold yi_z at R
    refine br_f (fun z => e ((nI_eq (by omega) (by omega)).mp z)) ?_
    by_cases h1 : mode = 0
    · rw [if_pos h1] at R; exact br_t h1 (nm_r (nI_1 i) ⟨_, R⟩)
    · rw [if_neg h1] at R; exact br_f h1 (nm_r (nI_1 i) ⟨_, R⟩)
/-- what the reference knows of the parts that wait on its stack -/
def yo_ {S : Type} (en : S → Int32) (n s h : Nat) (f : Nat → Nat → Nat → S) (op v : Nat → Int32) : Prop :=
  ∀ k, k < h → ∃ x, x < s ∧ op k = nI x ∧ ∀ i j, i ≤ j → j ≤ n → v (x * 81 + i * 9 + j) = en (f k (j - i) i)
theorem wy_node (Y : yk_ mode K cst en bd) {post : Int32 → Prop} {s h i j n m : Nat} (f : Nat → Nat → Nat → S) (hs : s < m) (hm : m ≤ 20) (hh : h = ye_h a_op s) (O : ye_ok a_op a_costOf m) (hij : i ≤ j) (hj : j ≤ n) (hn : n ≤ 8)
    (ho : yo_ en n s h f a_open a_value) (bf : ∀ k, k < h → ∀ d i, bd (f k d i) (9 * s * d))
    (hl : a_op s = 5 → ∀ k, i < k → k ≤ j → a_value (s * 81 + k * 9 + j) = en (yn_ K cst (a_op s) (a_letterOf s) (a_costOf s) a_text h f (j - k) k))
    (H : post (en (yn_ K cst (a_op s) (a_letterOf s) (a_costOf s) a_text h f (j - i) i))) : wpY_nodeValue post (f_steps, f_depth, f_atoms, f_size, f_n, a_draftOp, a_draftLetter, a_draftCost, a_op, a_letterOf, a_costOf, a_text, a_value, a_open) mode (nI s) (nI h) (nI i) (nI j) := by
  obtain ⟨⟨w, hw, hco⟩, ops, o5, o34, o2⟩ := O s hs
  rw [← hh] at o5 o34
  have hh20 : h ≤ 20 := by have := yh_le (op := a_op) s; omega
  have c1 : (nI s).toNatClampNeg = s := yi_c (by omega)
  have vs := vp_in_nI (n := s) (N := 20) (by omega) (by decide)
  unfold wpY_nodeValue
  rw [c1]
  refine And.intro vs ?_
  unfold yn_ at H hl
  by_cases h5 : a_op s = 5
  · have h1 := o5 h5
    obtain ⟨x, hx, ex, hv⟩ := ho (h - 1) (by omega)
    refine br_t (by rw [h5]; decide) ?_
    rw [show nI h - 1 = nI (h - 1) from pk_sub (b := 1) h1, yi_c (n := h - 1) (by omega), ex]
    refine And.intro (vp_in_nI (by omega) (by decide)) (nm_e (And.intro vs (br_t h5 ?_)))
    rw [if_pos h5, hco] at H
    simp only [if_pos h5, hco] at hl
    exact wy_loopv Y (by omega) (by omega) hij (by omega) (by omega) hw hco (f (h - 1)) (fun k h1 h2 => hv i k h1 (by omega)) (fun k h1 h2 => hl h5 k h1 h2) (fun d i => bf (h - 1) (by omega) d i) H
  · rw [if_neg h5] at H
    by_cases h34 : a_op s = 3 ∨ a_op s = 4
    · have h2 := o34 h34
      obtain ⟨x, hx, ex, hvx⟩ := ho (h - 2) (by omega)
      obtain ⟨y, hy, ey, hvy⟩ := ho (h - 1) (by omega)
      refine br_t (by rcases h34 with z | z <;> rw [z] <;> decide) ?_
      rw [show nI h - 1 = nI (h - 1) from pk_sub (b := 1) (by omega), show nI h - 2 = nI (h - 2) from pk_sub (b := 2) (by omega), yi_c (n := h - 1) (by omega), yi_c (n := h - 2) (by omega), ex, ey]
      refine And.intro (vp_in_nI (by omega) (by decide)) (nm_e (And.intro vs (br_f h5 (And.intro (vp_in_nI (by omega) (by decide)) (nm_e (And.intro vs ?_))))))
      by_cases h3 : a_op s = 3
      · rw [if_pos h3] at H
        refine br_t h3 ?_
        exact wy_seqv Y (by omega) (by omega) hij (by omega) (C := 9 * s) (by omega) (f (h - 2)) (f (h - 1)) (fun k h1 h2 => hvx i k h1 (by omega)) (fun k h1 h2 => hvy k j h2 hj) (fun d i => bf (h - 2) (by omega) d i) (fun d i => bf (h - 1) (by omega) d i) H
      · rw [if_neg h3, if_pos (h34.resolve_left h3)] at H
        have bC : 9 * s * (j - i) ≤ 2000 := Nat.le_trans (Nat.mul_le_mul (show 9 * s ≤ 180 by omega) (show j - i ≤ 8 by omega)) (by decide)
        rw [← yk_ea Y bC (bf (h - 2) (by omega) (j - i) i) (bf (h - 1) (by omega) (j - i) i), ← hvx i j hij hj, ← hvy i j hij hj] at H
        refine br_f h3 ?_
        have i1 : x * 81 + i * 9 + j < 1620 := by omega
        have i2 : y * 81 + i * 9 + j < 1620 := by omega
        rw [yi_ix, yi_ix, yi_c (n := x * 81 + i * 9 + j) (by omega), yi_c (n := y * 81 + i * 9 + j) (by omega)]
        exact And.intro (vp_in_nI i1 (by decide)) (And.intro (vp_in_nI i2 (by decide)) (wy_either H))
    · rw [if_neg (fun z => h34 (Or.inl z)), if_neg (fun z => h34 (Or.inr z))] at H
      refine br_f ?_ (wy_atomv Y (by omega) hw hco hij (by omega) H)
      rcases ops with z | z | z | z | z | z
      · rw [z]; decide
      · rw [z]; decide
      · rw [z]; decide
      · exact absurd (Or.inl z) h34
      · exact absurd (Or.inr z) h34
      · exact absurd z h5
theorem wy_fill15 (Y : yk_ mode K cst en bd) {post : SY → Prop} {J : Int32 → (Nat → Int32) → (Nat → Int32) → (Nat → Int32) → (Nat → Int32) → (Nat → Int32) → (Nat → Int32) → (Nat → Int32) → (Nat → Int32) → (Nat → Int32) → Prop} {s h i n m : Nat} (f : Nat → Nat → Nat → S) (hs : s < m) (hm : m ≤ 20) (hh : h = ye_h a_op s) (O : ye_ok a_op a_costOf m) (hi : i ≤ n) (hn : n ≤ 8)
    (bf : ∀ k, k < h → ∀ d i, bd (f k d i) (9 * s * d))
    (H : ∀ v : Nat → Int32, yo_ en n s h f a_open v → (∀ i' j', i ≤ i' → i' ≤ j' → j' ≤ n → v (s * 81 + i' * 9 + j') = en (yn_ K cst (a_op s) (a_letterOf s) (a_costOf s) a_text h f (j' - i') i')) → J (nI i + (-1)) a_draftOp a_draftLetter a_draftCost a_op a_letterOf a_costOf a_text v a_open) :
    ∀ (N j : Nat) (v : Nat → Int32), i ≤ j → j ≤ n + 1 → n + 1 - j < N → yo_ en n s h f a_open v →
      (∀ i' j', i < i' → i' ≤ j' → j' ≤ n → v (s * 81 + i' * 9 + j') = en (yn_ K cst (a_op s) (a_letterOf s) (a_costOf s) a_text h f (j' - i') i')) →
      (∀ j', i ≤ j' → j' < j → v (s * 81 + i * 9 + j') = en (yn_ K cst (a_op s) (a_letterOf s) (a_costOf s) a_text h f (j' - i) i)) →
      wY_fill_15 post J mode (nI s) (nI h) (nI i) f_steps f_depth f_atoms f_size (nI n) N (nI j) a_draftOp a_draftLetter a_draftCost a_op a_letterOf a_costOf a_text v a_open := by
  intro N
  induction N with
  | zero => intro j v _ _ h; omega
  | succ N ih =>
    intro j v hij hj hN ho hrows hcols
    unfold wY_fill_15
    by_cases e : j = n + 1
    · subst e
      refine br_t (nI_lt (by omega) (by omega)) (nm_e (H v ho (fun i' j' h1 h2 h3 => ?_)))
      by_cases e1 : i' = i
      · subst e1
        exact hcols j' h2 (by omega)
      · exact hrows i' j' (by omega) h2 h3
    · have ix : s * 81 + i * 9 + j < 1620 := by omega
      refine br_f (nI_nlt (by omega) (by omega)) ?_
      refine wy_node Y f hs hm hh O hij (by omega) hn ho bf (fun _ k h1 h2 => hrows k j h1 h2 (by omega)) ?_
      refine xs_ (s * 81 + i * 9 + j) _ ix (nm_r (nI_1 j) ?_) (yi_ix s i j)
      refine ih (j + 1) _ (by omega) (by omega) (by omega) ?_ ?_ ?_
      · intro k hk
        obtain ⟨x, hx, ex, hv⟩ := ho k hk
        refine ⟨x, hx, ex, fun i' j' h1 h2 => ?_⟩
        rw [pk_un (by omega)]
        exact hv i' j' h1 h2
      · intro i' j' h1 h2 h3
        rw [pk_un (by omega)]
        exact hrows i' j' h1 h2 h3
      · intro j' h1 h2
        by_cases e1 : j' = j
        · subst e1
          rw [pk_us]
        · rw [pk_un (by omega)]
          exact hcols j' h1 (by omega)
theorem wy_fill6 (Y : yk_ mode K cst en bd) {post : SY → Prop} {s h n m : Nat} (f : Nat → Nat → Nat → S) (hs : s < m) (hm : m ≤ 20) (hh : h = ye_h a_op s) (O : ye_ok a_op a_costOf m) (hn : n ≤ 8)
    (bf : ∀ k, k < h → ∀ d i, bd (f k d i) (9 * s * d))
    (H : ∀ v : Nat → Int32, yo_ en n s h f a_open v → (∀ i' j', i' ≤ j' → j' ≤ n → v (s * 81 + i' * 9 + j') = en (yn_ K cst (a_op s) (a_letterOf s) (a_costOf s) a_text h f (j' - i') i')) → post (f_steps, f_depth, f_atoms, f_size, nI n, a_draftOp, a_draftLetter, a_draftCost, a_op, a_letterOf, a_costOf, a_text, v, a_open)) :
    ∀ (r : Nat) (v : Nat → Int32), r ≤ n + 1 → yo_ en n s h f a_open v →
      (∀ i' j', r ≤ i' → i' ≤ j' → j' ≤ n → v (s * 81 + i' * 9 + j') = en (yn_ K cst (a_op s) (a_letterOf s) (a_costOf s) a_text h f (j' - i') i')) →
      wY_fill_6 post mode (nI s) (nI h) f_steps f_depth f_atoms f_size (nI n) (r + 1) (nI r + (-1)) a_draftOp a_draftLetter a_draftCost a_op a_letterOf a_costOf a_text v a_open := by
  intro r
  induction r with
  | zero =>
    intro v _ ho hrows
    unfold wY_fill_6
    exact br_t (by decide) (H v ho (fun i' j' h1 h2 => hrows i' j' (by omega) h1 h2))
  | succ r ih =>
    intro v hr ho hrows
    unfold wY_fill_6
    rw [pk_m1]
    refine br_f (nI_pos (by omega)) ⟨n + 2 - r, ?_⟩
    refine wy_fill15 Y f hs hm hh O (by omega) hn bf (fun v' ho' hr' => ih v' (by omega) ho' hr') (n + 2 - r) r v (Nat.le_refl r) (by omega) (by omega) ho (fun i' j' h1 h2 h3 => hrows i' j' (by omega) h2 h3) (fun j' h1 h2 => by omega)
theorem wy_fill (Y : yk_ mode K cst en bd) {post : SY → Prop} {s h n m : Nat} (f : Nat → Nat → Nat → S) (hs : s < m) (hm : m ≤ 20) (hh : h = ye_h a_op s) (O : ye_ok a_op a_costOf m) (hn : n ≤ 8)
    (bf : ∀ k, k < h → ∀ d i, bd (f k d i) (9 * s * d)) (ho : yo_ en n s h f a_open a_value)
    (H : ∀ v : Nat → Int32, yo_ en n s h f a_open v → (∀ i' j', i' ≤ j' → j' ≤ n → v (s * 81 + i' * 9 + j') = en (yn_ K cst (a_op s) (a_letterOf s) (a_costOf s) a_text h f (j' - i') i')) → post (f_steps, f_depth, f_atoms, f_size, nI n, a_draftOp, a_draftLetter, a_draftCost, a_op, a_letterOf, a_costOf, a_text, v, a_open)) :
    wpY_fill post (f_steps, f_depth, f_atoms, f_size, nI n, a_draftOp, a_draftLetter, a_draftCost, a_op, a_letterOf, a_costOf, a_text, a_value, a_open) mode (nI s) (nI h) := by
  have R := wy_fill6 Y f hs hm hh O hn bf H (n + 1) a_value (Nat.le_refl _) ho (fun i' j' h1 h2 h3 => by omega)
  rw [pk_m1] at R
  unfold wpY_fill
  exact ⟨n + 1 + 1, R⟩
theorem wy_read4 (Y : yk_ mode K cst en bd) {post : SY → Prop} {n m : Nat} (hm : m ≤ 20) (h1m : 1 ≤ m) (O : ye_ok a_op a_costOf m) (hn : n ≤ 8)
    (H : ∀ v o : Nat → Int32, (∀ i j, i ≤ j → j ≤ n → v ((m - 1) * 81 + i * 9 + j) = en (ye_D K cst a_op a_letterOf a_costOf a_text m (ye_h a_op m - 1) (j - i) i)) → post (f_steps, f_depth, f_atoms, nI m, nI n, a_draftOp, a_draftLetter, a_draftCost, a_op, a_letterOf, a_costOf, a_text, v, o)) :
    ∀ (N s : Nat) (v o : Nat → Int32), s ≤ m → m - s < N → yo_ en n s (ye_h a_op s) (ye_D K cst a_op a_letterOf a_costOf a_text s) o v → (1 ≤ s → 1 ≤ ye_h a_op s ∧ o (ye_h a_op s - 1) = nI (s - 1)) →
      wY_read_4 post mode N (nI (ye_h a_op s)) (nI s) f_steps f_depth f_atoms (nI m) (nI n) a_draftOp a_draftLetter a_draftCost a_op a_letterOf a_costOf a_text v o := by
  intro N
  induction N with
  | zero => intro s v o _ h; omega
  | succ N ih =>
    intro s v o hs hN ho htop
    unfold wY_read_4
    by_cases e : s = m
    · subst e
      refine br_t (nI_le (Nat.le_refl s) (by omega)) (H v o (fun i j h1 h2 => ?_))
      obtain ⟨t1, t2⟩ := htop h1m
      obtain ⟨x, hx, ex, hv⟩ := ho (ye_h a_op s - 1) (by omega)
      rw [t2] at ex
      have : s - 1 = x := (nI_eq (by omega) (by omega)).mp ex
      subst this
      exact hv i j h1 h2
    · have hs' : s < m := by omega
      obtain ⟨_, ops, o5, o34, _⟩ := O s hs'
      have k1 := yt_1 O hs'
      have k2 := yt_le O hs'
      have k3 := yh_le (op := a_op) s
      have c1 : (nI s).toNatClampNeg = s := yi_c (by omega)
      have vs := vp_in_nI (n := s) (N := 20) (by omega) (by decide)
      refine br_f (nI_ge (by omega) (by omega)) ?_
      refine wy_fill Y (ye_D K cst a_op a_letterOf a_costOf a_text s) hs' hm rfl O hn (fun k hk d i => yb_D Y O s hs k hk d i) ho (fun v' ho' hb' => ?_)
      have key : wY_read_52 post (wY_read_4 post mode N) mode (nI s) (nI (ye_h a_op (s + 1))) f_steps f_depth f_atoms (nI m) (nI n) a_draftOp a_draftLetter a_draftCost a_op a_letterOf a_costOf a_text v' o := by
        unfold wY_read_52
        refine xs_ (yt_ (a_op s) (ye_h a_op s)) (nI s) (by omega) (nm_r (nI_1 s) ?_) (by rw [k1]; exact nI_pred _)
        refine ih (s + 1) v' _ (by omega) (by omega) ?_ ?_
        · intro k hk
          by_cases e1 : k = yt_ (a_op s) (ye_h a_op s)
          · refine ⟨s, by omega, by rw [e1, pk_us], fun i j h1 h2 => ?_⟩
            rw [ye_D1, yn_st, if_pos e1]
            exact hb' i j h1 h2
          · obtain ⟨x, hx, ex, hv⟩ := ho' k (by omega)
            refine ⟨x, by omega, by rw [pk_un e1, ex], fun i j h1 h2 => ?_⟩
            rw [ye_D1, yn_st, if_neg e1]
            exact hv i j h1 h2
        · intro _
          refine ⟨by omega, ?_⟩
          rw [k1, Nat.add_sub_cancel, pk_us, Nat.add_sub_cancel]
      rw [yt_h] at key
      show vp_in (nI s) 20 ∧ _
      rw [c1]
      refine And.intro vs ?_
      by_cases h5 : a_op s = 5
      · rw [if_pos h5] at key
        exact br_t (by rw [h5]; decide) (And.intro vs (br_t (by rw [h5]; decide) key))
      · rw [if_neg h5] at key
        by_cases h34 : a_op s = 3 ∨ a_op s = 4
        · rw [if_pos h34] at key
          have h2 := o34 h34
          refine br_t (by rcases h34 with z | z <;> rw [z] <;> decide) (And.intro vs (br_f (by rcases h34 with z | z <;> rw [z] <;> decide) ?_))
          rw [show nI (ye_h a_op s) - 1 = nI (ye_h a_op s - 1) from pk_sub (b := 1) (by omega)]
          exact key
        · rw [if_neg h34] at key
          refine br_f ?_ ?_
          · rcases ops with z | z | z | z | z | z
            · rw [z]; decide
            · rw [z]; decide
            · rw [z]; decide
            · exact absurd (Or.inl z) h34
            · exact absurd (Or.inr z) h34
            · exact absurd z h5
          · rw [nI_1]
            exact key
theorem wy_read (Y : yk_ mode K cst en bd) {post : SY → Prop} {n m : Nat} (hm : m ≤ 20) (h1m : 1 ≤ m) (O : ye_ok a_op a_costOf m) (hh : ye_h a_op m = 1) (hn : n ≤ 8)
    (H : ∀ v o : Nat → Int32, (∀ i j, i ≤ j → j ≤ n → v ((m - 1) * 81 + i * 9 + j) = en (ye_D K cst a_op a_letterOf a_costOf a_text m 0 (j - i) i)) → post (f_steps, f_depth, f_atoms, nI m, nI n, a_draftOp, a_draftLetter, a_draftCost, a_op, a_letterOf, a_costOf, a_text, v, o)) :
    wpY_read post (f_steps, f_depth, f_atoms, nI m, nI n, a_draftOp, a_draftLetter, a_draftCost, a_op, a_letterOf, a_costOf, a_text, a_value, a_open) mode := by
  have R := wy_read4 Y hm h1m O hn (post := post) (fun v o h => H v o (by rw [hh] at h; exact h)) (m + 1) 0 a_value a_open (by omega) (by omega) (fun k hk => absurd hk (by show ¬ k < 0; omega)) (fun h => by omega)
  unfold wpY_read
  exact ⟨m + 1, R⟩
end GEN
end YWALK
end
section
section REL
/-! what a cost's semiring and its int operations share -/
def ck_ (K : sr_T (Option Nat)) (g : Int32 → Int32 → Int32) : Prop :=
  sr_Law K ∧ sr_z K = none ∧ sr_o K = some 0 ∧ (∀ a b, sr_m K a b = om_p a b) ∧
  (∀ (B : Nat) (a b : Int32), B < 2 ^ 31 → nu_B B a → nu_B B b → nu_B B (g a b) ∧ nu_d (g a b) = sr_a K (nu_d a) (nu_d b)) ∧
  (∀ a b, nu_v (nu_or a b) = sr_a K (nu_v a) (nu_v b))
theorem ck_n : ck_ kr_n nu_l := ⟨kr_Ln, rfl, rfl, fun _ _ => rfl, fun _ _ _ h ha hb => nu_l1 h ha hb, nu_von⟩
theorem ck_x : ck_ kr_x nu_g := ⟨kr_Lx, rfl, rfl, fun _ _ => rfl, fun _ _ _ h ha hb => nu_g1 h ha hb, nu_vox⟩
/-- bounds of one cost -/
def db_ (B pl : Nat) (im lm fm : Nat → Int32) : Prop := ∀ p, p < pl → nu_B B (im p) ∧ nu_B 0 (lm p) ∧ ∀ q, q < pl → nu_B B (fm (p * 10 + q))
def rl_C (K : sr_T (Option Nat)) (lo : Nat → Nat) (h m pl : Nat) (he kd im lm fm dop dlt dco : Nat → Int32) : Prop :=
  db_ (9 * m) pl im lm fm ∧ dr_M K nu_d h m lo (fun k => nu_v (he k)) (fun p => nu_d (im p)) (fun p => nu_d (lm p)) (fun p q => nu_d (fm (p * 10 + q))) kd dop dlt dco
def rl_W (lo : Nat → Nat) (h m : Nat) (ew kd iw lw fw dop dlt dco : Nat → Int32) : Prop :=
  dr_M kr_0 (fun _ => 1) h m lo ew iw lw (fun p q => fw (p * 10 + q)) kd dop dlt dco
def sh_ (lo : Nat → Nat) (h m pl : Nat) (low he dop dco : Nat → Int32) : Prop :=
  lo 0 = 0 ∧ (∀ j k, j ≤ k → k ≤ h → lo j ≤ lo k) ∧ lo h = pl ∧ (∀ k, k < h → low k = nI (lo k)) ∧ pl ≤ 10 ∧ m ≤ 20 ∧ h ≤ 8 ∧
  (∀ k, k < h → he k = 0 ∨ he k = 1) ∧ ye_ok dop dco m ∧ ye_h dop m = h
def lu_ (lo : Nat → Nat) (h x : Nat) : Nat → Nat := fun k => if k ≤ h then lo k else x
theorem lu_l {lo : Nat → Nat} {h x k : Nat} (hk : k ≤ h) : lu_ lo h x k = lo k := if_pos hk
theorem lu_g {lo : Nat → Nat} {h x k : Nat} (hk : h < k) : lu_ lo h x k = x := if_neg (by omega)
theorem lu_m {lo : Nat → Nat} {h x : Nat} (hm : ∀ j k, j ≤ k → k ≤ h → lo j ≤ lo k) (hx : lo h ≤ x) : ∀ j k, j ≤ k → k ≤ h + 1 → lu_ lo h x j ≤ lu_ lo h x k := by
  intro j k hjk hk
  by_cases e : k ≤ h
  · rw [lu_l e, lu_l (by omega)]; exact hm j k hjk e
  · rw [lu_g (k := k) (by omega)]
    by_cases e2 : j ≤ h
    · rw [lu_l e2]; exact Nat.le_trans (hm j h e2 (Nat.le_refl h)) hx
    · rw [lu_g (by omega)]; exact Nat.le_refl x
theorem up_lt {f : Nat → Int32} {m : Nat} {x : Int32} : ∀ s, s < m → upd f m x s = f s := fun s hs => pk_un (by omega)
theorem ok_up {dop dco : Nat → Int32} {m w : Nat} {op : Int32} (O : ye_ok dop dco m) (hw : w ≤ 9) (ho : op = 0 ∨ op = 1 ∨ op = 2 ∨ op = 3 ∨ op = 4 ∨ op = 5) (h5 : op = 5 → 1 ≤ ye_h dop m) (h34 : op = 3 ∨ op = 4 → 2 ≤ ye_h dop m) (h2 : op = 2 → w = 0) :
    ye_ok (upd dop m op) (upd dco m (nI w)) (m + 1) := by
  intro s hs
  by_cases e : s = m
  · subst e
    rw [pk_us, pk_us, ye_hc s up_lt]
    exact ⟨⟨w, hw, rfl⟩, ho, h5, h34, fun z => by rw [h2 z, nI_0]⟩
  · have hs' : s < m := by omega
    rw [up_lt s hs', up_lt s hs', ye_hc s (fun r hr => up_lt r (by omega))]
    exact O s hs'
theorem db_m {A B pl : Nat} {im lm fm : Nat → Int32} (h : db_ A pl im lm fm) (hAB : A ≤ B) : db_ B pl im lm fm :=
  fun p hp => ⟨nu_Bm (h p hp).1 hAB, (h p hp).2.1, fun q hq => nu_Bm ((h p hp).2.2 q hq) hAB⟩
variable {lo : Nat → Nat} {h m pl : Nat} {low he ew kd iw im ix lw lm lx fw fm fx dop dlt dco : Nat → Int32}
/-! nothing built -/
theorem sh_0 : sh_ (fun _ => 0) 0 0 0 low he dop dco :=
  ⟨rfl, fun _ _ _ _ => Nat.le_refl 0, rfl, fun k hk => absurd hk (by omega), by omega, by omega, by omega, fun k hk => absurd hk (by omega), fun s hs => absurd hs (by omega), rfl⟩
theorem rl_C0 {K : sr_T (Option Nat)} : rl_C K (fun _ => 0) 0 0 0 he kd im lm fm dop dlt dco := ⟨fun p hp => absurd hp (by omega), dr_0⟩
theorem rl_W0 : rl_W (fun _ => 0) 0 0 ew kd iw lw fw dop dlt dco := dr_0
/-! a letter -/
theorem sh_leaf {op : Int32} {w : Nat} (R : sh_ lo h m pl low he dop dco) (hm : m < 20) (hh : h < 8) (hpl : pl < 10) (hw : w ≤ 9) (ho : op = 0 ∨ op = 1) :
    sh_ (lu_ lo h (pl + 1)) (h + 1) (m + 1) (pl + 1) (upd low h (nI pl)) (upd he h 0) (upd dop m op) (upd dco m (nI w)) := by
  obtain ⟨r0, r1, r2, r3, r4, r5, r6, r7, r8, r9⟩ := R
  have n5 : ¬ op = 5 := by rcases ho with z | z <;> rw [z] <;> decide
  have n34 : ¬ (op = 3 ∨ op = 4) := by rcases ho with z | z <;> rw [z] <;> decide
  have n2 : ¬ op = 2 := by rcases ho with z | z <;> rw [z] <;> decide
  refine ⟨by rw [lu_l (by omega), r0], lu_m r1 (by omega), lu_g (by omega), fun k hk => ?_, by omega, by omega, by omega, fun k hk => ?_, ok_up r8 hw (ho.elim Or.inl (fun z => Or.inr (Or.inl z))) (fun z => absurd z n5) (fun z => absurd z n34) (fun z => absurd z n2), ?_⟩
  · rw [lu_l (by omega)]
    by_cases e : k = h
    · subst e; rw [pk_us, r2]
    · rw [pk_un e]; exact r3 k (by omega)
  · by_cases e : k = h
    · subst e; rw [pk_us]; exact Or.inl rfl
    · rw [pk_un e]; exact r7 k (by omega)
  · rw [ye_h1, pk_us, if_neg n5, if_neg n34, ye_hc m up_lt, r9]
theorem mx_lcn {f g : Nat → Int32} {p q : Nat} (hp : p < pl) (hq : q < pl) (hpl : pl < 10) : mx_ (lc_ pl 10) f g (p * 10 + q) = f (p * 10 + q) := mx_f (fun z => by have := lc_t.mp z; omega)
theorem mx_lcr {f g : Nat → Int32} {q : Nat} (hq : q ≤ pl) (hpl : pl < 10) : mx_ (lc_ pl 10) f g (pl * 10 + q) = g (pl * 10 + q) := mx_t (lc_t.mpr (by omega))
theorem mx_lcc {f g : Nat → Int32} {q : Nat} (hq : q ≤ pl) (hpl : pl < 10) : mx_ (lc_ pl 10) f g (q * 10 + pl) = g (q * 10 + pl) := mx_t (lc_t.mpr (by omega))
theorem rl_Wleaf {op c lt : Int32} {w : Nat} (R : sh_ lo h m pl low he dop dco) (hpl : pl < 10) (ho : (op = 0 ∧ c = lt ∧ ¬ lt = 3) ∨ (op = 1 ∧ c = 3)) (W : rl_W lo h m ew kd iw lw fw dop dlt dco) :
    rl_W (lu_ lo h (pl + 1)) (h + 1) (m + 1) (upd ew h 0) (upd kd pl c) (upd iw pl 1) (upd lw pl 1) (mx_ (lc_ pl 10) fw (fun _ => 0)) (upd dop m op) (upd dlt m lt) (upd dco m (nI w)) := by
  obtain ⟨r0, r1, r2, r3, r4, r5, r6, r7, r8, r9⟩ := R
  subst r2
  refine dr_leaf kr_L0 W r1 r9 (fun k hk => lu_l hk) (lu_g (by omega)) up_lt up_lt up_lt ?_ (fun k hk => pk_un (by omega)) pk_us (fun p hp => pk_un (by omega)) pk_us (fun p hp => pk_un (by omega)) pk_us
    (fun p q hp hq => mx_lcn hp hq hpl) (fun q hq => mx_lcr hq hpl) (fun q hq => mx_lcc hq hpl) (fun p hp => pk_un (by omega))
  rw [pk_us, pk_us, pk_us]
  exact ho
theorem rl_Cleaf {K : sr_T (Option Nat)} {g : Int32 → Int32 → Int32} (Q : ck_ K g) {op c lt : Int32} {w : Nat} (hw : w ≤ 9) (R : sh_ lo h m pl low he dop dco) (hpl : pl < 10) (ho : (op = 0 ∧ c = lt ∧ ¬ lt = 3) ∨ (op = 1 ∧ c = 3)) (W : rl_C K lo h m pl he kd im lm fm dop dlt dco) :
    rl_C K (lu_ lo h (pl + 1)) (h + 1) (m + 1) (pl + 1) (upd he h 0) (upd kd pl c) (upd im pl (nI w)) (upd lm pl 0) (mx_ (lc_ pl 10) fm (fun _ => -1)) (upd dop m op) (upd dlt m lt) (upd dco m (nI w)) := by
  obtain ⟨r0, r1, r2, r3, r4, r5, r6, r7, r8, r9⟩ := R
  obtain ⟨q1, q2, q3, q4, q5, q6⟩ := Q
  obtain ⟨D, M⟩ := W
  subst r2
  refine ⟨fun p hp => ?_, ?_⟩
  · refine ⟨?_, ?_, fun q hq => ?_⟩
    · by_cases e : p = lo h
      · rw [e, pk_us]; exact nu_Bn (by omega)
      · rw [pk_un e]; exact nu_Bm (D p (by omega)).1 (by omega)
    · by_cases e : p = lo h
      · rw [e, pk_us]; exact nu_Bn (n := 0) (by omega)
      · rw [pk_un e]; exact (D p (by omega)).2.1
    · by_cases c1 : lc_ (lo h) 10 (p * 10 + q) = true
      · rw [mx_t c1]; exact nu_B1
      · rw [mx_f c1]
        have : ¬ (((p * 10 + q) / 10 = lo h ∧ (p * 10 + q) % 10 < 10) ∨ ((p * 10 + q) % 10 = lo h ∧ (p * 10 + q) / 10 < 10)) := fun z => c1 (lc_t.mpr z)
        exact nu_Bm ((D p (by omega)).2.2 q (by omega)) (by omega)
  · refine dr_leaf q1 M r1 r9 (fun k hk => lu_l hk) (lu_g (by omega)) up_lt up_lt up_lt ?_ (fun k hk => ?_) ?_ (fun p hp => ?_) ?_ (fun p hp => ?_) ?_ (fun p q hp hq => ?_) (fun q hq => ?_) (fun q hq => ?_) (fun p hp => pk_un (by omega))
    · rw [pk_us, pk_us, pk_us]; exact ho
    · rw [pk_un (by omega)]
    · rw [pk_us, nu_v0, q2]
    · rw [pk_un (by omega)]
    · rw [pk_us, pk_us]
    · rw [pk_un (by omega)]
    · rw [pk_us, q3]; exact nu_d1 (n := 0) (by omega)
    · rw [mx_lcn hp hq hpl]
    · rw [mx_lcr hq hpl, nu_d0, q2]
    · rw [mx_lcc hq hpl, nu_d0, q2]
/-! nothing to read -/
theorem sh_unit (R : sh_ lo h m pl low he dop dco) (hm : m < 20) (hh : h < 8) :
    sh_ (lu_ lo h pl) (h + 1) (m + 1) pl (upd low h (nI pl)) (upd he h 1) (upd dop m 2) (upd dco m 0) := by
  obtain ⟨r0, r1, r2, r3, r4, r5, r6, r7, r8, r9⟩ := R
  refine ⟨by rw [lu_l (by omega), r0], lu_m r1 (by omega), lu_g (by omega), fun k hk => ?_, by omega, by omega, by omega, fun k hk => ?_, ?_, ?_⟩
  · rw [lu_l (by omega)]
    by_cases e : k = h
    · subst e; rw [pk_us, r2]
    · rw [pk_un e]; exact r3 k (by omega)
  · by_cases e : k = h
    · subst e; rw [pk_us]; exact Or.inr rfl
    · rw [pk_un e]; exact r7 k (by omega)
  · rw [← nI_0]
    exact ok_up r8 (by omega) (Or.inr (Or.inr (Or.inl rfl))) (fun z => absurd z (by decide)) (fun z => absurd z (by decide)) (fun _ => rfl)
  · rw [ye_h1, pk_us, if_neg (by decide), if_neg (by decide), ye_hc m up_lt, r9]
theorem rl_Wunit (R : sh_ lo h m pl low he dop dco) (W : rl_W lo h m ew kd iw lw fw dop dlt dco) :
    rl_W (lu_ lo h pl) (h + 1) (m + 1) (upd ew h 1) kd iw lw fw (upd dop m 2) (upd dlt m 0) (upd dco m 0) := by
  obtain ⟨r0, r1, r2, r3, r4, r5, r6, r7, r8, r9⟩ := R
  exact dr_unit W r9 (fun k hk => lu_l hk) (by rw [lu_g (by omega), r2]) up_lt up_lt up_lt pk_us (fun k hk => pk_un (by omega)) pk_us
theorem rl_Cunit {K : sr_T (Option Nat)} (R : sh_ lo h m pl low he dop dco) (W : rl_C K lo h m pl he kd im lm fm dop dlt dco) :
    rl_C K (lu_ lo h pl) (h + 1) (m + 1) pl (upd he h 1) kd im lm fm (upd dop m 2) (upd dlt m 0) (upd dco m 0) := by
  obtain ⟨r0, r1, r2, r3, r4, r5, r6, r7, r8, r9⟩ := R
  refine ⟨db_m W.1 (by omega), dr_unit W.2 r9 (fun k hk => lu_l hk) (by rw [lu_g (by omega), r2]) up_lt up_lt up_lt pk_us (fun k hk => ?_) ?_⟩
  · rw [pk_un (by omega)]
  · rw [pk_us, pk_us, nu_v1]; exact (nu_d1 (n := 0) (by omega)).symm
/-! either -/
theorem sh_pair {op e : Int32} (R : sh_ lo (h + 2) m pl low he dop dco) (hm : m < 20) (ho : op = 3 ∨ op = 4) (he1 : e = 0 ∨ e = 1) :
    sh_ (lu_ lo h pl) (h + 1) (m + 1) pl low (upd he h e) (upd dop m op) (upd dco m 0) := by
  obtain ⟨r0, r1, r2, r3, r4, r5, r6, r7, r8, r9⟩ := R
  refine ⟨by rw [lu_l (by omega), r0], lu_m (fun j k hjk hk => r1 j k hjk (by omega)) (by rw [← r2]; exact r1 h (h + 2) (by omega) (by omega)), lu_g (by omega), fun k hk => ?_, by omega, by omega, by omega, fun k hk => ?_, ?_, ?_⟩
  · rw [lu_l (by omega)]; exact r3 k (by omega)
  · by_cases e : k = h
    · subst e; rw [pk_us]; exact he1
    · rw [pk_un e]; exact r7 k (by omega)
  · rw [← nI_0]
    exact ok_up r8 (by omega) (ho.elim (fun z => Or.inr (Or.inr (Or.inr (Or.inl z)))) (fun z => Or.inr (Or.inr (Or.inr (Or.inr (Or.inl z)))))) (fun z => by rw [r9]; omega) (fun z => by rw [r9]; omega) (fun _ => rfl)
  · rw [ye_h1, pk_us, if_neg (by rcases ho with z | z <;> rw [z] <;> decide), if_pos ho, ye_hc m up_lt, r9]; omega
theorem rl_Walt (R : sh_ lo (h + 2) m pl low he dop dco) (W : rl_W lo (h + 2) m ew kd iw lw fw dop dlt dco) :
    rl_W (lu_ lo h pl) (h + 1) (m + 1) (upd ew h (ew h + ew (h + 1))) kd iw lw fw (upd dop m 4) (upd dlt m 0) (upd dco m 0) := by
  obtain ⟨r0, r1, r2, r3, r4, r5, r6, r7, r8, r9⟩ := R
  exact dr_alt kr_L0 W r1 r9 (fun k hk => lu_l hk) (by rw [lu_g (by omega), r2]) up_lt up_lt up_lt pk_us (fun k hk => pk_un (by omega)) pk_us
theorem rl_Calt {K : sr_T (Option Nat)} {g : Int32 → Int32 → Int32} (Q : ck_ K g) (R : sh_ lo (h + 2) m pl low he dop dco) (W : rl_C K lo (h + 2) m pl he kd im lm fm dop dlt dco) :
    rl_C K (lu_ lo h pl) (h + 1) (m + 1) pl (upd he h (nu_or (he h) (he (h + 1)))) kd im lm fm (upd dop m 4) (upd dlt m 0) (upd dco m 0) := by
  obtain ⟨r0, r1, r2, r3, r4, r5, r6, r7, r8, r9⟩ := R
  obtain ⟨q1, q2, q3, q4, q5, q6⟩ := Q
  refine ⟨db_m W.1 (by omega), dr_alt q1 W.2 r1 r9 (fun k hk => lu_l hk) (by rw [lu_g (by omega), r2]) up_lt up_lt up_lt pk_us (fun k hk => ?_) ?_⟩
  · rw [pk_un (by omega)]
  · rw [pk_us, q6]
/-! one behind the other -/
theorem mx_rc {f g : Nat → Int32} {a c b e p q : Nat} (hq : q < 10) (h1 : a ≤ p) (h2 : p < c) (h3 : b ≤ q) (h4 : q < e) : mx_ (rc_ a c b e) f g (p * 10 + q) = g (p * 10 + q) := mx_t (rc_t.mpr (by omega))
theorem mx_rn {f g : Nat → Int32} {a c b e p q : Nat} (hq : q < 10) (hn : ¬ (a ≤ p ∧ p < c ∧ b ≤ q ∧ q < e)) : mx_ (rc_ a c b e) f g (p * 10 + q) = f (p * 10 + q) := mx_f (fun z => hn (by have := rc_t.mp z; omega))
theorem mx_1t {f g : Nat → Int32} {a b p : Nat} (h1 : a ≤ p) (h2 : p < b) : mx_ (r1_ a b) f g p = g p := mx_t (r1_t.mpr ⟨h1, h2⟩)
theorem mx_1n {f g : Nat → Int32} {a b p : Nat} (hn : ¬ (a ≤ p ∧ p < b)) : mx_ (r1_ a b) f g p = f p := mx_f (fun z => hn (r1_t.mp z))
theorem rl_Wseq (R : sh_ lo (h + 2) m pl low he dop dco) (W : rl_W lo (h + 2) m ew kd iw lw fw dop dlt dco) :
    rl_W (lu_ lo h pl) (h + 1) (m + 1) (upd ew h (ew h * ew (h + 1))) kd (mx_ (r1_ (lo (h + 1)) pl) iw (fun j => iw j * ew h)) (mx_ (r1_ (lo h) (lo (h + 1))) lw (fun j => lw j * ew (h + 1))) (mx_ (rc_ (lo h) (lo (h + 1)) (lo (h + 1)) pl) fw (xg_w fw lw iw)) (upd dop m 3) (upd dlt m 0) (upd dco m 0) := by
  obtain ⟨r0, r1, r2, r3, r4, r5, r6, r7, r8, r9⟩ := R
  subst r2
  refine dr_seq kr_L0 W r1 r9 (fun k hk => lu_l hk) (by rw [lu_g (by omega)]) up_lt up_lt up_lt pk_us (fun k hk => pk_un (by omega)) pk_us
    (fun p q hp hq hn => mx_rn (by omega) (by omega)) (fun p q h1 h2 h3 h4 => ?_) (fun p hp hn => mx_1n hn) (fun p h1 h2 => mx_1t h1 h2) (fun p hp => mx_1n (by omega)) (fun p h1 h2 => mx_1t h1 h2)
  rw [mx_rc (by omega) h1 h2 h3 h4, xg_wa (by omega)]; rfl
/-- the entries that link writes -/
theorem xg_cd {K : sr_T (Option Nat)} {g : Int32 → Int32 → Int32} (Q : ck_ K g) {B w p q : Nat} (hB : B ≤ 1000) (hw : w ≤ 9) (hq : q < 10) (h1 : nu_B B (fm (p * 10 + q))) (h2 : nu_B 0 (lm p)) (h3 : nu_B B (im q)) :
    nu_B (B + w) (xg_c g fm lm im (nI w) (p * 10 + q)) ∧ nu_d (xg_c g fm lm im (nI w) (p * 10 + q)) = sr_a K (nu_d (fm (p * 10 + q))) (sr_m K (sr_m K (nu_d (lm p)) (nu_d (nI w))) (nu_d (im q))) := by
  obtain ⟨q1, q2, q3, q4, q5, q6⟩ := Q
  have ⟨a1, a2⟩ := nu_p1 (A := 0) (B := w) (by omega) h2 (nu_Bn (Nat.le_refl w))
  have ⟨b1, b2⟩ := nu_p1 (A := 0 + w) (B := B) (by omega) a1 h3
  have ⟨c1, c2⟩ := q5 (B + w) _ _ (by omega) (nu_Bm h1 (by omega)) (nu_Bm b1 (by omega))
  rw [xg_ca hq]
  refine ⟨c1, ?_⟩
  rw [c2, b2, a2, q4, q4]
theorem rl_Cseq {K : sr_T (Option Nat)} {g : Int32 → Int32 → Int32} (Q : ck_ K g) (R : sh_ lo (h + 2) m pl low he dop dco) (hm : m < 20) (W : rl_C K lo (h + 2) m pl he kd im lm fm dop dlt dco) :
    rl_C K (lu_ lo h pl) (h + 1) (m + 1) pl (upd he h (nu_and (he h) (he (h + 1)))) kd (mx_ (r1_ (lo (h + 1)) pl) im (fun j => nu_k (he h) (im j))) (mx_ (r1_ (lo h) (lo (h + 1))) lm (fun j => nu_k (he (h + 1)) (lm j))) (mx_ (rc_ (lo h) (lo (h + 1)) (lo (h + 1)) pl) fm (xg_c g fm lm im 0)) (upd dop m 3) (upd dlt m 0) (upd dco m 0) := by
  obtain ⟨r0, r1, r2, r3, r4, r5, r6, r7, r8, r9⟩ := R
  obtain ⟨D, M⟩ := W
  have X : ∀ p q, p < pl → q < pl → nu_B (9 * m + 0) (xg_c g fm lm im 0 (p * 10 + q)) ∧ nu_d (xg_c g fm lm im 0 (p * 10 + q)) = sr_a K (nu_d (fm (p * 10 + q))) (sr_m K (sr_m K (nu_d (lm p)) (nu_d (nI 0))) (nu_d (im q))) :=
    fun p q hp hq => xg_cd (w := 0) Q (by omega) (by omega) (by omega) ((D p hp).2.2 q hq) (D p hp).2.1 (D q hq).1
  obtain ⟨q1, q2, q3, q4, q5, q6⟩ := Q
  subst r2
  refine ⟨fun p hp => ⟨?_, ?_, fun q hq => ?_⟩, ?_⟩
  · by_cases c : lo (h + 1) ≤ p ∧ p < lo (h + 2)
    · rw [mx_1t c.1 c.2]; exact nu_Bm (nu_k1 (D p hp).1).1 (by omega)
    · rw [mx_1n c]; exact nu_Bm (D p hp).1 (by omega)
  · by_cases c : lo h ≤ p ∧ p < lo (h + 1)
    · rw [mx_1t c.1 c.2]; exact (nu_k1 (D p hp).2.1).1
    · rw [mx_1n c]; exact (D p hp).2.1
  · by_cases c : lo h ≤ p ∧ p < lo (h + 1) ∧ lo (h + 1) ≤ q ∧ q < lo (h + 2)
    · rw [mx_rc (by omega) c.1 c.2.1 c.2.2.1 c.2.2.2]; exact nu_Bm (X p q hp hq).1 (by omega)
    · rw [mx_rn (by omega) c]; exact nu_Bm ((D p hp).2.2 q hq) (by omega)
  · refine dr_seq q1 M r1 r9 (fun k hk => lu_l hk) (by rw [lu_g (by omega)]) up_lt up_lt up_lt pk_us (fun k hk => ?_) ?_ (fun p q hp hq hn => ?_) (fun p q h1 h2 h3 h4 => ?_) (fun p hp hn => ?_) (fun p h1 h2 => ?_) (fun p hp => ?_) (fun p h1 h2 => ?_)
    · rw [pk_un (by omega)]
    · rw [pk_us, nu_va, q4]
    · rw [mx_rn (by omega) (by omega)]
    · skip
      rw [mx_rc (by omega) h1 h2 h3 h4, (X p q (by omega) h4).2, nu_d1 (n := 0) (by omega), ← q3, sr_mo q1]
    · rw [mx_1n hn]
    · skip
      have b := r1 (h + 1) (h + 2) (by omega) (by omega)
      rw [mx_1t h1 h2, (nu_k1 (D p (by omega)).2.1).2, q4]
    · rw [mx_1n (by omega)]
    · rw [mx_1t h1 h2, (nu_k1 (D p h2).1).2, q4]
/-! the loop -/
theorem sh_loop {w : Nat} (R : sh_ lo (h + 1) m pl low he dop dco) (hm : m < 20) (hw : w ≤ 9) :
    sh_ lo (h + 1) (m + 1) pl low (upd he h 1) (upd dop m 5) (upd dco m (nI w)) := by
  obtain ⟨r0, r1, r2, r3, r4, r5, r6, r7, r8, r9⟩ := R
  refine ⟨r0, r1, r2, r3, r4, by omega, r6, fun k hk => ?_, ?_, ?_⟩
  · by_cases e : k = h
    · subst e; rw [pk_us]; exact Or.inr rfl
    · rw [pk_un e]; exact r7 k (by omega)
  · exact ok_up r8 hw (Or.inr (Or.inr (Or.inr (Or.inr (Or.inr rfl))))) (fun z => by rw [r9]; omega) (fun z => absurd z (by decide)) (fun z => absurd z (by decide))
  · rw [ye_h1, pk_us, if_pos rfl, ye_hc m up_lt, r9]
theorem rl_Wloop {w : Nat} (R : sh_ lo (h + 1) m pl low he dop dco) (W : rl_W lo (h + 1) m ew kd iw lw fw dop dlt dco) :
    rl_W lo (h + 1) (m + 1) (upd ew h 1) kd iw lw (mx_ (rc_ (lo h) pl (lo h) pl) fw (xg_w fw lw iw)) (upd dop m 5) (upd dlt m 0) (upd dco m (nI w)) := by
  obtain ⟨r0, r1, r2, r3, r4, r5, r6, r7, r8, r9⟩ := R
  subst r2
  refine dr_loop kr_L0 W r1 r9 up_lt up_lt up_lt pk_us (fun k hk => pk_un (by omega)) pk_us (fun p q hp hq hn => mx_rn (by omega) (by omega)) (fun p q h1 h2 h3 h4 => ?_) (fun p hp => rfl) (fun p h1 h2 => (sr_mo kr_L0 _).symm)
  rw [mx_rc (by omega) h1 h2 h3 h4, xg_wa (by omega)]
  show _ = fw (p * 10 + q) + lw p * 1 * iw q
  rw [Int32.mul_one]
theorem rl_Cloop {K : sr_T (Option Nat)} {g : Int32 → Int32 → Int32} (Q : ck_ K g) {w : Nat} (hw : w ≤ 9) (R : sh_ lo (h + 1) m pl low he dop dco) (hm : m < 20) (W : rl_C K lo (h + 1) m pl he kd im lm fm dop dlt dco) :
    rl_C K lo (h + 1) (m + 1) pl (upd he h 1) kd (mx_ (r1_ (lo h) pl) im (fun j => nu_p (im j) (nI w))) lm (mx_ (rc_ (lo h) pl (lo h) pl) fm (xg_c g fm lm im (nI w))) (upd dop m 5) (upd dlt m 0) (upd dco m (nI w)) := by
  obtain ⟨r0, r1, r2, r3, r4, r5, r6, r7, r8, r9⟩ := R
  obtain ⟨D, M⟩ := W
  have X : ∀ p q, p < pl → q < pl → nu_B (9 * m + w) (xg_c g fm lm im (nI w) (p * 10 + q)) ∧ nu_d (xg_c g fm lm im (nI w) (p * 10 + q)) = sr_a K (nu_d (fm (p * 10 + q))) (sr_m K (sr_m K (nu_d (lm p)) (nu_d (nI w))) (nu_d (im q))) :=
    fun p q hp hq => xg_cd Q (by omega) hw (by omega) ((D p hp).2.2 q hq) (D p hp).2.1 (D q hq).1
  have P : ∀ p, p < pl → nu_B (9 * m + w) (nu_p (im p) (nI w)) ∧ nu_d (nu_p (im p) (nI w)) = om_p (nu_d (im p)) (nu_d (nI w)) :=
    fun p hp => nu_p1 (by omega) (D p hp).1 (nu_Bn (Nat.le_refl w))
  obtain ⟨q1, q2, q3, q4, q5, q6⟩ := Q
  subst r2
  refine ⟨fun p hp => ⟨?_, (D p hp).2.1, fun q hq => ?_⟩, ?_⟩
  · by_cases c : lo h ≤ p ∧ p < lo (h + 1)
    · rw [mx_1t c.1 c.2]; exact nu_Bm (P p hp).1 (by omega)
    · rw [mx_1n c]; exact nu_Bm (D p hp).1 (by omega)
  · by_cases c : lo h ≤ p ∧ p < lo (h + 1) ∧ lo h ≤ q ∧ q < lo (h + 1)
    · rw [mx_rc (by omega) c.1 c.2.1 c.2.2.1 c.2.2.2]; exact nu_Bm (X p q hp hq).1 (by omega)
    · rw [mx_rn (by omega) c]; exact nu_Bm ((D p hp).2.2 q hq) (by omega)
  · refine dr_loop q1 M r1 r9 up_lt up_lt up_lt pk_us (fun k hk => ?_) ?_ (fun p q hp hq hn => ?_) (fun p q h1 h2 h3 h4 => ?_) (fun p hp => ?_) (fun p h1 h2 => ?_)
    · rw [pk_un (by omega)]
    · rw [pk_us, q3]; rfl
    · rw [mx_rn (by omega) (by omega)]
    · rw [mx_rc (by omega) h1 h2 h3 h4, (X p q h2 h4).2, pk_us]
    · rw [mx_1n (by omega)]
    · rw [mx_1t h1 h2, (P p h2).2, q4, pk_us]
end REL
end
section
section BUILD
variable {f_height f_made f_places f_count f_useEmpty f_useEmptyWays f_length : Int32} {a_low a_hasEmpty a_emptyWays a_kind a_firstWays a_firstMin a_firstMax a_lastWays a_lastMin a_lastMax a_followWays a_followMin a_followMax a_useKind a_inWays a_inMin a_inMax a_outWays a_outMin a_outMax a_goWays a_goMin a_goMax a_text a_nowWays a_nowMin a_nowMax a_thenWays a_thenMin a_thenMax a_gotWays a_gotMin a_gotMax a_paid : Nat → Int32}
variable {f_steps f_depth f_atoms f_size f_n : Int32} {a_draftOp a_draftLetter a_draftCost a_op a_letterOf a_costOf a_value a_open : Nat → Int32}
variable {h m pl cn ln sz : Nat}
/-- the drafts of both sides -/
def rl_D (h m pl : Nat) (low he ew kd iw im ix lw lm lx fw fm fx dop dlt dco : Nat → Int32) : Prop :=
  ∃ lo : Nat → Nat, sh_ lo h m pl low he dop dco ∧ rl_W lo h m ew kd iw lw fw dop dlt dco ∧ rl_C kr_n lo h m pl he kd im lm fm dop dlt dco ∧ rl_C kr_x lo h m pl he kd ix lx fx dop dlt dco
/-- the expression in use on both sides -/
def rl_U (cn sz : Nat) (ue uw : Int32) (uk iw im ix ow om ox gw gm gx op lt co : Nat → Int32) : Prop :=
  cn ≤ 10 ∧ 1 ≤ sz ∧ sz ≤ 20 ∧ us_B cn im om gm ∧ us_B cn ix ox gx ∧ ye_ok op co sz ∧ ye_h op sz = 1 ∧
  (∀ (t : Nat → Int32) (d i : Nat), us_w uw iw ow gw uk t cn d i = ye_D kr_0 (fun _ => 1) op lt co t sz 0 d i) ∧
  (∀ (t : Nat → Int32) (d i : Nat), us_c kr_n ue im om gm uk t cn d i = ye_D kr_n nu_d op lt co t sz 0 d i) ∧
  (∀ (t : Nat → Int32) (d i : Nat), us_c kr_x ue ix ox gx uk t cn d i = ye_D kr_x nu_d op lt co t sz 0 d i)
/-- the relation -/
def i_Rel (_ : Nat) (u : SX) (v : SY) : Prop := match u with
  | (f_height, f_made, f_places, f_count, f_useEmpty, f_useEmptyWays, f_length, a_low, a_hasEmpty, a_emptyWays, a_kind, a_firstWays, a_firstMin, a_firstMax, a_lastWays, a_lastMin, a_lastMax, a_followWays, a_followMin, a_followMax, a_useKind, a_inWays, a_inMin, a_inMax, a_outWays, a_outMin, a_outMax, a_goWays, a_goMin, a_goMax, a_text, a_nowWays, a_nowMin, a_nowMax, a_thenWays, a_thenMin, a_thenMax, a_gotWays, a_gotMin, a_gotMax, a_paid) => match v with
    | (f_steps, f_depth, f_atoms, f_size, f_n, a_draftOp, a_draftLetter, a_draftCost, a_op, a_letterOf, a_costOf, b_text, a_value, a_open) => ∃ h m pl cn ln sz : Nat, (f_height = nI h ∧ f_made = nI m ∧ f_places = nI pl ∧ f_count = nI cn ∧ f_length = nI ln ∧ f_steps = nI m ∧ f_depth = nI h ∧ f_atoms = nI pl ∧ f_size = nI sz ∧ f_n = nI ln ∧ a_text = b_text) ∧ ln ≤ 8 ∧ rl_D h m pl a_low a_hasEmpty a_emptyWays a_kind a_firstWays a_firstMin a_firstMax a_lastWays a_lastMin a_lastMax a_followWays a_followMin a_followMax a_draftOp a_draftLetter a_draftCost ∧ rl_U cn sz f_useEmpty f_useEmptyWays a_useKind a_inWays a_inMin a_inMax a_outWays a_outMin a_outMax a_goWays a_goMin a_goMax a_op a_letterOf a_costOf
theorem i_up {k : Nat} {u : SX} {v : SY} (h : i_Rel k u v) : i_Rel (k + 3) u v := h
theorem zz_in {k : Nat} (hl : ln ≤ 8) (D : rl_D h m pl a_low a_hasEmpty a_emptyWays a_kind a_firstWays a_firstMin a_firstMax a_lastWays a_lastMin a_lastMax a_followWays a_followMin a_followMax a_draftOp a_draftLetter a_draftCost) (U : rl_U cn sz f_useEmpty f_useEmptyWays a_useKind a_inWays a_inMin a_inMax a_outWays a_outMin a_outMax a_goWays a_goMin a_goMax a_op a_letterOf a_costOf) : i_Rel k (nI h, nI m, nI pl, nI cn, f_useEmpty, f_useEmptyWays, nI ln, a_low, a_hasEmpty, a_emptyWays, a_kind, a_firstWays, a_firstMin, a_firstMax, a_lastWays, a_lastMin, a_lastMax, a_followWays, a_followMin, a_followMax, a_useKind, a_inWays, a_inMin, a_inMax, a_outWays, a_outMin, a_outMax, a_goWays, a_goMin, a_goMax, a_text, a_nowWays, a_nowMin, a_nowMax, a_thenWays, a_thenMin, a_thenMax, a_gotWays, a_gotMin, a_gotMax, a_paid) (nI m, nI h, nI pl, nI sz, nI ln, a_draftOp, a_draftLetter, a_draftCost, a_op, a_letterOf, a_costOf, a_text, a_value, a_open) :=
  ⟨h, m, pl, cn, ln, sz, ⟨rfl, rfl, rfl, rfl, rfl, rfl, rfl, rfl, rfl, rfl, rfl⟩, hl, D, U⟩
theorem zz_el {k : Nat} {u : SX} {v : SY} {P : SX → SY → Prop}
    (H : ∀ (h m pl cn ln sz : Nat) (f_useEmpty f_useEmptyWays : Int32) (a_low a_hasEmpty a_emptyWays a_kind a_firstWays a_firstMin a_firstMax a_lastWays a_lastMin a_lastMax a_followWays a_followMin a_followMax a_useKind a_inWays a_inMin a_inMax a_outWays a_outMin a_outMax a_goWays a_goMin a_goMax a_text a_nowWays a_nowMin a_nowMax a_thenWays a_thenMin a_thenMax a_gotWays a_gotMin a_gotMax a_paid a_draftOp a_draftLetter a_draftCost a_op a_letterOf a_costOf a_value a_open : Nat → Int32), ln ≤ 8 → rl_D h m pl a_low a_hasEmpty a_emptyWays a_kind a_firstWays a_firstMin a_firstMax a_lastWays a_lastMin a_lastMax a_followWays a_followMin a_followMax a_draftOp a_draftLetter a_draftCost → rl_U cn sz f_useEmpty f_useEmptyWays a_useKind a_inWays a_inMin a_inMax a_outWays a_outMin a_outMax a_goWays a_goMin a_goMax a_op a_letterOf a_costOf → P (nI h, nI m, nI pl, nI cn, f_useEmpty, f_useEmptyWays, nI ln, a_low, a_hasEmpty, a_emptyWays, a_kind, a_firstWays, a_firstMin, a_firstMax, a_lastWays, a_lastMin, a_lastMax, a_followWays, a_followMin, a_followMax, a_useKind, a_inWays, a_inMin, a_inMax, a_outWays, a_outMin, a_outMax, a_goWays, a_goMin, a_goMax, a_text, a_nowWays, a_nowMin, a_nowMax, a_thenWays, a_thenMin, a_thenMax, a_gotWays, a_gotMin, a_gotMax, a_paid) (nI m, nI h, nI pl, nI sz, nI ln, a_draftOp, a_draftLetter, a_draftCost, a_op, a_letterOf, a_costOf, a_text, a_value, a_open)) (I : i_Rel k u v) : P u v := by
  obtain ⟨f_height, f_made, f_places, f_count, f_useEmpty, f_useEmptyWays, f_length, a_low, a_hasEmpty, a_emptyWays, a_kind, a_firstWays, a_firstMin, a_firstMax, a_lastWays, a_lastMin, a_lastMax, a_followWays, a_followMin, a_followMax, a_useKind, a_inWays, a_inMin, a_inMax, a_outWays, a_outMin, a_outMax, a_goWays, a_goMin, a_goMax, a_text, a_nowWays, a_nowMin, a_nowMax, a_thenWays, a_thenMin, a_thenMax, a_gotWays, a_gotMin, a_gotMax, a_paid⟩ := u
  obtain ⟨f_steps, f_depth, f_atoms, f_size, f_n, a_draftOp, a_draftLetter, a_draftCost, a_op, a_letterOf, a_costOf, b_text, a_value, a_open⟩ := v
  obtain ⟨h, m, pl, cn, ln, sz, ⟨e1, e2, e3, e4, e5, e6, e7, e8, e9, e10, e11⟩, h1, h2, h3⟩ := I
  subst e1 e2 e3 e4 e5 e6 e7 e8 e9 e10 e11
  exact H h m pl cn ln sz f_useEmpty f_useEmptyWays a_low a_hasEmpty a_emptyWays a_kind a_firstWays a_firstMin a_firstMax a_lastWays a_lastMin a_lastMax a_followWays a_followMin a_followMax a_useKind a_inWays a_inMin a_inMax a_outWays a_outMin a_outMax a_goWays a_goMin a_goMax a_text a_nowWays a_nowMin a_nowMax a_thenWays a_thenMin a_thenMax a_gotWays a_gotMin a_gotMax a_paid a_draftOp a_draftLetter a_draftCost a_op a_letterOf a_costOf a_value a_open h1 h2 h3
theorem ye_u {S : Type} {K : sr_T S} {cst : Int32 → S} {op lt co t : Nat → Int32} (h2 : op 0 = 2) {d i : Nat} : ye_D K cst op lt co t 1 0 d i = if d = 0 then cst (co 0) else sr_z K := by
  rw [ye_D1, yn_st, h2, if_pos (show 0 = yt_ 2 (ye_h op 0) from rfl)]
  unfold yn_
  rw [if_neg (by decide), if_neg (by decide), if_neg (by decide)]
  unfold ye_at
  rw [if_pos rfl]
theorem i_vc0 : wpX_init (fun u => wpY_init (fun v => i_Rel 0 u v)) := by
  unfold wpX_init wpY_init
  intro op hop
  refine ⟨0, 0, 0, 0, 0, 1, ⟨rfl, rfl, rfl, rfl, rfl, rfl, rfl, rfl, rfl, rfl, rfl⟩, by omega, ⟨fun _ => 0, sh_0, rl_W0, rl_C0, rl_C0⟩, ?_⟩
  subst hop
  have o0 : upd (fun _ => (0 : Int32)) 0 2 0 = 2 := pk_us
  refine ⟨by omega, by omega, by omega, fun p hp => absurd hp (by omega), fun p hp => absurd hp (by omega), ?_, ?_, ?_, ?_, ?_⟩
  · intro s hs
    obtain rfl : s = 0 := by omega
    rw [o0]
    exact ⟨⟨0, by omega, rfl⟩, Or.inr (Or.inr (Or.inl rfl)), fun z => absurd z (by decide), fun z => absurd z (by decide), fun _ => rfl⟩
  · rw [ye_h1, o0, if_neg (by decide), if_neg (by decide)]; rfl
  · intro t d i
    unfold us_w
    rw [gl_unit, ye_u o0]
  · intro t d i
    unfold us_c
    rw [gl_unit, ye_u o0]; rfl
  · intro t d i
    unfold us_c
    rw [gl_unit, ye_u o0]; rfl
/-! the reference's notes -/
theorem wy_note {post : Int32 → SY → Prop} {d' : Nat} {p0 p1 p2 p3 : Int32} (hm : m < 20) (hd : nI h + p3 = nI d')
    (H : post (nI d') (nI (m + 1), nI d', f_atoms, f_size, f_n, upd a_draftOp m p0, upd a_draftLetter m p1, upd a_draftCost m p2, a_op, a_letterOf, a_costOf, a_text, a_value, a_open)) :
    wpY_note post (nI m, nI h, f_atoms, f_size, f_n, a_draftOp, a_draftLetter, a_draftCost, a_op, a_letterOf, a_costOf, a_text, a_value, a_open) p0 p1 p2 p3 := by
  unfold wpY_note
  exact xs_ m _ hm (xs_ m _ hm (xs_ m _ hm (nm_r (nI_1 m) (nm_r hd H))))
theorem n20 (e : ¬ m = 20) (hm : m ≤ 20) : ¬ nI m = 20 := fun z => e ((nI_eq (b := 20) (by omega) (by decide)).mp z)
theorem n8 (e : ¬ h = 8) (hh : h ≤ 8) : ¬ nI h = 8 := fun z => e ((nI_eq (b := 8) (by omega) (by decide)).mp z)
theorem n10 (e : ¬ pl = 10) (hp : pl ≤ 10) : ¬ nI pl = 10 := fun z => e ((nI_eq (b := 10) (by omega) (by decide)).mp z)
theorem wy_atom {post : Int32 → SY → Prop} {op lt co : Int32} (hh : h ≤ 8) (hm : m ≤ 20) (hpl : pl ≤ 10)
    (H1 : (m = 20 ∨ h = 8 ∨ pl = 10) → post (-2) (nI m, nI h, nI pl, f_size, f_n, a_draftOp, a_draftLetter, a_draftCost, a_op, a_letterOf, a_costOf, a_text, a_value, a_open))
    (H2 : m < 20 → h < 8 → pl < 10 → post (nI (h + 1)) (nI (m + 1), nI (h + 1), nI (pl + 1), f_size, f_n, upd a_draftOp m op, upd a_draftLetter m lt, upd a_draftCost m co, a_op, a_letterOf, a_costOf, a_text, a_value, a_open)) :
    wpY_atom post (nI m, nI h, nI pl, f_size, f_n, a_draftOp, a_draftLetter, a_draftCost, a_op, a_letterOf, a_costOf, a_text, a_value, a_open) op lt co := by
  unfold wpY_atom
  by_cases e1 : m = 20
  · subst e1; exact br_t rfl (H1 (Or.inl rfl))
  · refine br_f (n20 e1 hm) ?_
    by_cases e2 : h = 8
    · subst e2; exact br_t rfl (H1 (Or.inr (Or.inl rfl)))
    · refine br_f (n8 e2 hh) ?_
      by_cases e3 : pl = 10
      · subst e3; exact br_t rfl (H1 (Or.inr (Or.inr rfl)))
      · exact br_f (n10 e3 hpl) (nm_r (nI_1 pl) (wy_note (by omega) (nI_1 h) (H2 (by omega) (by omega) (by omega))))
theorem wx_leafbad {post : Int32 → SX → Prop} {c w : Int32} (hw : w < 0 ∨ ¬ w ≤ 9) (H : post (-1) (f_height, f_made, f_places, f_count, f_useEmpty, f_useEmptyWays, f_length, a_low, a_hasEmpty, a_emptyWays, a_kind, a_firstWays, a_firstMin, a_firstMax, a_lastWays, a_lastMin, a_lastMax, a_followWays, a_followMin, a_followMax, a_useKind, a_inWays, a_inMin, a_inMax, a_outWays, a_outMin, a_outMax, a_goWays, a_goMin, a_goMax, a_text, a_nowWays, a_nowMin, a_nowMax, a_thenWays, a_thenMin, a_thenMax, a_gotWays, a_gotMin, a_gotMax, a_paid)) : wpX_leaf post (f_height, f_made, f_places, f_count, f_useEmpty, f_useEmptyWays, f_length, a_low, a_hasEmpty, a_emptyWays, a_kind, a_firstWays, a_firstMin, a_firstMax, a_lastWays, a_lastMin, a_lastMax, a_followWays, a_followMin, a_followMax, a_useKind, a_inWays, a_inMin, a_inMax, a_outWays, a_outMin, a_outMax, a_goWays, a_goMin, a_goMax, a_text, a_nowWays, a_nowMin, a_nowMax, a_thenWays, a_thenMin, a_thenMax, a_gotWays, a_gotMin, a_gotMax, a_paid) c w := by
  unfold wpX_leaf
  by_cases h0 : w < 0
  · exact br_t h0 H
  · exact br_f h0 (br_f (hw.resolve_left h0) H)
theorem vc_leaf {k w : Nat} {op c lt : Int32} {postX : Int32 → SX → Prop} (hw : w ≤ 9) (ho : (op = 0 ∧ c = lt ∧ ¬ lt = 3) ∨ (op = 1 ∧ c = 3)) (hl : ln ≤ 8) (D : rl_D h m pl a_low a_hasEmpty a_emptyWays a_kind a_firstWays a_firstMin a_firstMax a_lastWays a_lastMin a_lastMax a_followWays a_followMin a_followMax a_draftOp a_draftLetter a_draftCost) (U : rl_U cn sz f_useEmpty f_useEmptyWays a_useKind a_inWays a_inMin a_inMax a_outWays a_outMin a_outMax a_goWays a_goMin a_goMax a_op a_letterOf a_costOf)
    (hp : ∀ (r : Int32) (u' : SX), (∀ Q : Int32 → SY → Prop, (∀ v' : SY, i_Rel k u' v' → Q r v') → wpY_atom Q (nI m, nI h, nI pl, nI sz, nI ln, a_draftOp, a_draftLetter, a_draftCost, a_op, a_letterOf, a_costOf, a_text, a_value, a_open) op lt (nI w)) → postX r u') :
    wpX_leaf postX (nI h, nI m, nI pl, nI cn, f_useEmpty, f_useEmptyWays, nI ln, a_low, a_hasEmpty, a_emptyWays, a_kind, a_firstWays, a_firstMin, a_firstMax, a_lastWays, a_lastMin, a_lastMax, a_followWays, a_followMin, a_followMax, a_useKind, a_inWays, a_inMin, a_inMax, a_outWays, a_outMin, a_outMax, a_goWays, a_goMin, a_goMax, a_text, a_nowWays, a_nowMin, a_nowMax, a_thenWays, a_thenMin, a_thenMax, a_gotWays, a_gotMin, a_gotMax, a_paid) c (nI w) := by
  obtain ⟨lo, S, W, N, M⟩ := D
  have S' := S
  obtain ⟨r0, r1, r2, r3, r4, r5, r6, r7, r8, r9⟩ := S'
  refine wx_leaf r6 r5 r4 hw (fun hf => hp _ _ (fun Q HQ => ?_)) (fun hm hh hpl => hp _ _ (fun Q HQ => ?_))
  · refine wy_atom r6 r5 r4 (fun _ => HQ _ (zz_in hl ⟨lo, S, W, N, M⟩ U)) (fun a b c => ?_)
    omega
  · refine wy_atom r6 r5 r4 (fun hf => ?_) (fun _ _ _ => HQ _ (zz_in hl ⟨_, sh_leaf S hm hh hpl hw (ho.imp (fun z => z.1) (fun z => z.1)), rl_Wleaf S hpl ho W, rl_Cleaf ck_n hw S hpl ho N, rl_Cleaf ck_x hw S hpl ho M⟩ U))
    omega
theorem vc_letter {k : Nat} (hl : ln ≤ 8) (D : rl_D h m pl a_low a_hasEmpty a_emptyWays a_kind a_firstWays a_firstMin a_firstMax a_lastWays a_lastMin a_lastMax a_followWays a_followMin a_followMax a_draftOp a_draftLetter a_draftCost) (U : rl_U cn sz f_useEmpty f_useEmptyWays a_useKind a_inWays a_inMin a_inMax a_outWays a_outMin a_outMax a_goWays a_goMin a_goMax a_op a_letterOf a_costOf) (v1 v2 : Int32) :
    wpX_letter (fun r u' => wpY_letter (fun r' v' => r' = r ∧ i_Rel k u' v') (nI m, nI h, nI pl, nI sz, nI ln, a_draftOp, a_draftLetter, a_draftCost, a_op, a_letterOf, a_costOf, a_text, a_value, a_open) v1 v2) (nI h, nI m, nI pl, nI cn, f_useEmpty, f_useEmptyWays, nI ln, a_low, a_hasEmpty, a_emptyWays, a_kind, a_firstWays, a_firstMin, a_firstMax, a_lastWays, a_lastMin, a_lastMax, a_followWays, a_followMin, a_followMax, a_useKind, a_inWays, a_inMin, a_inMax, a_outWays, a_outMin, a_outMax, a_goWays, a_goMin, a_goMax, a_text, a_nowWays, a_nowMin, a_nowMax, a_thenWays, a_thenMin, a_thenMax, a_gotWays, a_gotMin, a_gotMax, a_paid) v1 v2 := by
  have I := zz_in (k := k) (a_text := a_text) (a_value := a_value) (a_open := a_open) (a_nowWays := a_nowWays) (a_nowMin := a_nowMin) (a_nowMax := a_nowMax) (a_thenWays := a_thenWays) (a_thenMin := a_thenMin) (a_thenMax := a_thenMax) (a_gotWays := a_gotWays) (a_gotMin := a_gotMin) (a_gotMax := a_gotMax) (a_paid := a_paid) hl D U
  unfold wpX_letter
  by_cases c0 : v1 < 0
  · exact br_t c0 (br_t c0 ⟨rfl, I⟩)
  · refine br_f c0 ?_
    by_cases c2 : v1 ≤ 2
    · refine br_t c2 ?_
      by_cases hw : v2 < 0 ∨ ¬ v2 ≤ 9
      · refine wx_leafbad hw (br_f c0 (br_f (Int32.not_lt.mpr c2) ?_))
        by_cases h0 : v2 < 0
        · exact br_t h0 ⟨rfl, I⟩
        · exact br_f h0 (br_f (hw.resolve_left h0) ⟨rfl, I⟩)
      · have w0 : ¬ v2 < 0 := fun z => hw (Or.inl z)
        have w9 : v2 ≤ 9 := Classical.byContradiction (fun z => hw (Or.inr z))
        obtain ⟨w, hw', rfl⟩ := nI_of2 (M := 9) (n := 9) rfl w0 w9
        refine vc_leaf (k := k) (a_text := a_text) (a_value := a_value) (a_open := a_open) (op := 0) (lt := v1) hw' (Or.inl ⟨rfl, rfl, ?_⟩) hl D U (fun r u' hY => ?_)
        · intro z
          rw [z] at c2
          exact absurd c2 (by decide)
        · exact br_f c0 (br_f (Int32.not_lt.mpr c2) (br_f w0 (br_t w9 (hY _ (fun v' I' => ⟨rfl, I'⟩)))))
    · exact br_f c2 (br_f c0 (br_t (Int32.not_le.mp c2) ⟨rfl, I⟩))
theorem vc_any {k : Nat} (hl : ln ≤ 8) (D : rl_D h m pl a_low a_hasEmpty a_emptyWays a_kind a_firstWays a_firstMin a_firstMax a_lastWays a_lastMin a_lastMax a_followWays a_followMin a_followMax a_draftOp a_draftLetter a_draftCost) (U : rl_U cn sz f_useEmpty f_useEmptyWays a_useKind a_inWays a_inMin a_inMax a_outWays a_outMin a_outMax a_goWays a_goMin a_goMax a_op a_letterOf a_costOf) (v2 : Int32) :
    wpX_any (fun r u' => wpY_any (fun r' v' => r' = r ∧ i_Rel k u' v') (nI m, nI h, nI pl, nI sz, nI ln, a_draftOp, a_draftLetter, a_draftCost, a_op, a_letterOf, a_costOf, a_text, a_value, a_open) v2) (nI h, nI m, nI pl, nI cn, f_useEmpty, f_useEmptyWays, nI ln, a_low, a_hasEmpty, a_emptyWays, a_kind, a_firstWays, a_firstMin, a_firstMax, a_lastWays, a_lastMin, a_lastMax, a_followWays, a_followMin, a_followMax, a_useKind, a_inWays, a_inMin, a_inMax, a_outWays, a_outMin, a_outMax, a_goWays, a_goMin, a_goMax, a_text, a_nowWays, a_nowMin, a_nowMax, a_thenWays, a_thenMin, a_thenMax, a_gotWays, a_gotMin, a_gotMax, a_paid) v2 := by
  have I := zz_in (k := k) (a_text := a_text) (a_value := a_value) (a_open := a_open) (a_nowWays := a_nowWays) (a_nowMin := a_nowMin) (a_nowMax := a_nowMax) (a_thenWays := a_thenWays) (a_thenMin := a_thenMin) (a_thenMax := a_thenMax) (a_gotWays := a_gotWays) (a_gotMin := a_gotMin) (a_gotMax := a_gotMax) (a_paid := a_paid) hl D U
  unfold wpX_any
  by_cases hw : v2 < 0 ∨ ¬ v2 ≤ 9
  · refine wx_leafbad hw ?_
    by_cases h0 : v2 < 0
    · exact br_t h0 ⟨rfl, I⟩
    · exact br_f h0 (br_f (hw.resolve_left h0) ⟨rfl, I⟩)
  · have w0 : ¬ v2 < 0 := fun z => hw (Or.inl z)
    have w9 : v2 ≤ 9 := Classical.byContradiction (fun z => hw (Or.inr z))
    obtain ⟨w, hw', rfl⟩ := nI_of2 (M := 9) (n := 9) rfl w0 w9
    exact vc_leaf (k := k) (a_text := a_text) (a_value := a_value) (a_open := a_open) (op := 1) (lt := 0) hw' (Or.inr ⟨rfl, rfl⟩) hl D U (fun r u' hY => br_f w0 (br_t w9 (hY _ (fun v' I' => ⟨rfl, I'⟩))))
theorem vc_unit {k : Nat} (hl : ln ≤ 8) (D : rl_D h m pl a_low a_hasEmpty a_emptyWays a_kind a_firstWays a_firstMin a_firstMax a_lastWays a_lastMin a_lastMax a_followWays a_followMin a_followMax a_draftOp a_draftLetter a_draftCost) (U : rl_U cn sz f_useEmpty f_useEmptyWays a_useKind a_inWays a_inMin a_inMax a_outWays a_outMin a_outMax a_goWays a_goMin a_goMax a_op a_letterOf a_costOf) :
    wpX_unit (fun r u' => wpY_unit (fun r' v' => r' = r ∧ i_Rel k u' v') (nI m, nI h, nI pl, nI sz, nI ln, a_draftOp, a_draftLetter, a_draftCost, a_op, a_letterOf, a_costOf, a_text, a_value, a_open)) (nI h, nI m, nI pl, nI cn, f_useEmpty, f_useEmptyWays, nI ln, a_low, a_hasEmpty, a_emptyWays, a_kind, a_firstWays, a_firstMin, a_firstMax, a_lastWays, a_lastMin, a_lastMax, a_followWays, a_followMin, a_followMax, a_useKind, a_inWays, a_inMin, a_inMax, a_outWays, a_outMin, a_outMax, a_goWays, a_goMin, a_goMax, a_text, a_nowWays, a_nowMin, a_nowMax, a_thenWays, a_thenMin, a_thenMax, a_gotWays, a_gotMin, a_gotMax, a_paid) := by
  obtain ⟨lo, S, W, N, M⟩ := D
  have S' := S
  obtain ⟨r0, r1, r2, r3, r4, r5, r6, r7, r8, r9⟩ := S'
  refine wx_unit r6 r5 (fun hf => ?_) (fun hm hh => ?_)
  · have I : i_Rel k (nI h, nI m, nI pl, nI cn, f_useEmpty, f_useEmptyWays, nI ln, a_low, a_hasEmpty, a_emptyWays, a_kind, a_firstWays, a_firstMin, a_firstMax, a_lastWays, a_lastMin, a_lastMax, a_followWays, a_followMin, a_followMax, a_useKind, a_inWays, a_inMin, a_inMax, a_outWays, a_outMin, a_outMax, a_goWays, a_goMin, a_goMax, a_text, a_nowWays, a_nowMin, a_nowMax, a_thenWays, a_thenMin, a_thenMax, a_gotWays, a_gotMin, a_gotMax, a_paid) (nI m, nI h, nI pl, nI sz, nI ln, a_draftOp, a_draftLetter, a_draftCost, a_op, a_letterOf, a_costOf, a_text, a_value, a_open) := zz_in hl ⟨lo, S, W, N, M⟩ U
    show wpY_unit _ _
    unfold wpY_unit
    by_cases e1 : m = 20
    · subst e1; exact br_t rfl ⟨rfl, I⟩
    · have e2 : h = 8 := hf.resolve_left e1
      subst e2
      exact br_f (n20 e1 r5) (br_t rfl ⟨rfl, I⟩)
  · show wpY_unit _ _
    unfold wpY_unit
    exact br_f (n20 (by omega) r5) (br_f (n8 (by omega) r6) (wy_note hm (nI_1 h) ⟨rfl, zz_in hl ⟨_, sh_unit S hm hh, rl_Wunit S W, rl_Cunit S N, rl_Cunit S M⟩ U⟩))
end BUILD
end
section
section BUILD2
variable {f_height f_made f_places f_count f_useEmpty f_useEmptyWays f_length : Int32} {a_low a_hasEmpty a_emptyWays a_kind a_firstWays a_firstMin a_firstMax a_lastWays a_lastMin a_lastMax a_followWays a_followMin a_followMax a_useKind a_inWays a_inMin a_inMax a_outWays a_outMin a_outMax a_goWays a_goMin a_goMax a_text a_nowWays a_nowMin a_nowMax a_thenWays a_thenMin a_thenMax a_gotWays a_gotMin a_gotMax a_paid : Nat → Int32}
variable {f_steps f_depth f_atoms f_size f_n : Int32} {a_draftOp a_draftLetter a_draftCost a_op a_letterOf a_costOf a_value a_open : Nat → Int32}
variable {h m pl cn ln sz : Nat}
theorem wx_seqbad {post : Int32 → SX → Prop} (hh : h ≤ 8) (hm : m ≤ 20) (hb : m = 20 ∨ h < 2) (H : post (if m = 20 then -2 else -3) (nI h, nI m, f_places, f_count, f_useEmpty, f_useEmptyWays, f_length, a_low, a_hasEmpty, a_emptyWays, a_kind, a_firstWays, a_firstMin, a_firstMax, a_lastWays, a_lastMin, a_lastMax, a_followWays, a_followMin, a_followMax, a_useKind, a_inWays, a_inMin, a_inMax, a_outWays, a_outMin, a_outMax, a_goWays, a_goMin, a_goMax, a_text, a_nowWays, a_nowMin, a_nowMax, a_thenWays, a_thenMin, a_thenMax, a_gotWays, a_gotMin, a_gotMax, a_paid)) : wpX_seq post (nI h, nI m, f_places, f_count, f_useEmpty, f_useEmptyWays, f_length, a_low, a_hasEmpty, a_emptyWays, a_kind, a_firstWays, a_firstMin, a_firstMax, a_lastWays, a_lastMin, a_lastMax, a_followWays, a_followMin, a_followMax, a_useKind, a_inWays, a_inMin, a_inMax, a_outWays, a_outMin, a_outMax, a_goWays, a_goMin, a_goMax, a_text, a_nowWays, a_nowMin, a_nowMax, a_thenWays, a_thenMin, a_thenMax, a_gotWays, a_gotMin, a_gotMax, a_paid) := by
  unfold wpX_seq
  refine wx_refused hh hm 2 (by omega) ?_
  by_cases e : m = 20
  · rw [if_pos e] at H ⊢
    exact br_f (by decide) H
  · rw [if_neg e] at H ⊢
    rw [if_neg (by omega)]
    exact br_f (by decide) H
theorem wx_altbad {post : Int32 → SX → Prop} (hh : h ≤ 8) (hm : m ≤ 20) (hb : m = 20 ∨ h < 2) (H : post (if m = 20 then -2 else -3) (nI h, nI m, f_places, f_count, f_useEmpty, f_useEmptyWays, f_length, a_low, a_hasEmpty, a_emptyWays, a_kind, a_firstWays, a_firstMin, a_firstMax, a_lastWays, a_lastMin, a_lastMax, a_followWays, a_followMin, a_followMax, a_useKind, a_inWays, a_inMin, a_inMax, a_outWays, a_outMin, a_outMax, a_goWays, a_goMin, a_goMax, a_text, a_nowWays, a_nowMin, a_nowMax, a_thenWays, a_thenMin, a_thenMax, a_gotWays, a_gotMin, a_gotMax, a_paid)) : wpX_alt post (nI h, nI m, f_places, f_count, f_useEmpty, f_useEmptyWays, f_length, a_low, a_hasEmpty, a_emptyWays, a_kind, a_firstWays, a_firstMin, a_firstMax, a_lastWays, a_lastMin, a_lastMax, a_followWays, a_followMin, a_followMax, a_useKind, a_inWays, a_inMin, a_inMax, a_outWays, a_outMin, a_outMax, a_goWays, a_goMin, a_goMax, a_text, a_nowWays, a_nowMin, a_nowMax, a_thenWays, a_thenMin, a_thenMax, a_gotWays, a_gotMin, a_gotMax, a_paid) := by
  unfold wpX_alt
  refine wx_refused hh hm 2 (by omega) ?_
  by_cases e : m = 20
  · rw [if_pos e] at H ⊢
    exact br_f (by decide) H
  · rw [if_neg e] at H ⊢
    rw [if_neg (by omega)]
    exact br_f (by decide) H
theorem wx_loopbad {post : Int32 → SX → Prop} {w : Nat} (hw : w ≤ 9) (hh : h ≤ 8) (hm : m ≤ 20) (hb : m = 20 ∨ h < 1) (H : post (if m = 20 then -2 else -3) (nI h, nI m, f_places, f_count, f_useEmpty, f_useEmptyWays, f_length, a_low, a_hasEmpty, a_emptyWays, a_kind, a_firstWays, a_firstMin, a_firstMax, a_lastWays, a_lastMin, a_lastMax, a_followWays, a_followMin, a_followMax, a_useKind, a_inWays, a_inMin, a_inMax, a_outWays, a_outMin, a_outMax, a_goWays, a_goMin, a_goMax, a_text, a_nowWays, a_nowMin, a_nowMax, a_thenWays, a_thenMin, a_thenMax, a_gotWays, a_gotMin, a_gotMax, a_paid)) : wpX_loop post (nI h, nI m, f_places, f_count, f_useEmpty, f_useEmptyWays, f_length, a_low, a_hasEmpty, a_emptyWays, a_kind, a_firstWays, a_firstMin, a_firstMax, a_lastWays, a_lastMin, a_lastMax, a_followWays, a_followMin, a_followMax, a_useKind, a_inWays, a_inMin, a_inMax, a_outWays, a_outMin, a_outMax, a_goWays, a_goMin, a_goMax, a_text, a_nowWays, a_nowMin, a_nowMax, a_thenWays, a_thenMin, a_thenMax, a_gotWays, a_gotMin, a_gotMax, a_paid) (nI w) := by
  unfold wpX_loop
  refine br_f (nI_pos (by omega)) (br_t (nI_le (b := 9) hw (by decide)) ?_)
  refine wx_refused hh hm 1 (by omega) ?_
  by_cases e : m = 20
  · rw [if_pos e] at H ⊢
    exact br_f (by decide) H
  · rw [if_neg e] at H ⊢
    rw [if_neg (by omega)]
    exact br_f (by decide) H
theorem wy_pairbad {post : Int32 → SY → Prop} {op : Int32} (hh : h ≤ 8) (hm : m ≤ 20) (hb : m = 20 ∨ h < 2) (H : post (if m = 20 then -2 else -3) (nI m, nI h, f_atoms, f_size, f_n, a_draftOp, a_draftLetter, a_draftCost, a_op, a_letterOf, a_costOf, a_text, a_value, a_open)) : wpY_pair post (nI m, nI h, f_atoms, f_size, f_n, a_draftOp, a_draftLetter, a_draftCost, a_op, a_letterOf, a_costOf, a_text, a_value, a_open) op := by
  unfold wpY_pair
  by_cases e : m = 20
  · rw [if_pos e] at H; subst e
    exact br_t rfl H
  · rw [if_neg e] at H
    exact br_f (n20 e hm) (br_f (nI_ge (b := 2) (by omega) (by decide)) H)
theorem wy_pair {post : Int32 → SY → Prop} {op : Int32} (hh : h + 2 ≤ 8) (hm : m < 20) (H : post (nI (h + 1)) (nI (m + 1), nI (h + 1), f_atoms, f_size, f_n, upd a_draftOp m op, upd a_draftLetter m 0, upd a_draftCost m 0, a_op, a_letterOf, a_costOf, a_text, a_value, a_open)) : wpY_pair post (nI m, nI (h + 2), f_atoms, f_size, f_n, a_draftOp, a_draftLetter, a_draftCost, a_op, a_letterOf, a_costOf, a_text, a_value, a_open) op := by
  unfold wpY_pair
  exact br_f (n20 (by omega) (by omega)) (br_t (nI_le (a := 2) (by omega) (by omega)) (wy_note hm (pk_m1 (h + 1)) H))
theorem vc_seq {k : Nat} (hl : ln ≤ 8) (D : rl_D h m pl a_low a_hasEmpty a_emptyWays a_kind a_firstWays a_firstMin a_firstMax a_lastWays a_lastMin a_lastMax a_followWays a_followMin a_followMax a_draftOp a_draftLetter a_draftCost) (U : rl_U cn sz f_useEmpty f_useEmptyWays a_useKind a_inWays a_inMin a_inMax a_outWays a_outMin a_outMax a_goWays a_goMin a_goMax a_op a_letterOf a_costOf) :
    wpX_seq (fun r u' => wpY_seq (fun r' v' => r' = r ∧ i_Rel k u' v') (nI m, nI h, nI pl, nI sz, nI ln, a_draftOp, a_draftLetter, a_draftCost, a_op, a_letterOf, a_costOf, a_text, a_value, a_open)) (nI h, nI m, nI pl, nI cn, f_useEmpty, f_useEmptyWays, nI ln, a_low, a_hasEmpty, a_emptyWays, a_kind, a_firstWays, a_firstMin, a_firstMax, a_lastWays, a_lastMin, a_lastMax, a_followWays, a_followMin, a_followMax, a_useKind, a_inWays, a_inMin, a_inMax, a_outWays, a_outMin, a_outMax, a_goWays, a_goMin, a_goMax, a_text, a_nowWays, a_nowMin, a_nowMax, a_thenWays, a_thenMin, a_thenMax, a_gotWays, a_gotMin, a_gotMax, a_paid) := by
  obtain ⟨lo, S, W, N, M⟩ := D
  have S' := S
  obtain ⟨r0, r1, r2, r3, r4, r5, r6, r7, r8, r9⟩ := S'
  by_cases hb : m = 20 ∨ h < 2
  · refine wx_seqbad r6 r5 hb ?_
    show wpY_seq _ _
    unfold wpY_seq
    exact wy_pairbad r6 r5 hb ⟨rfl, zz_in hl ⟨lo, S, W, N, M⟩ U⟩
  · obtain ⟨h, rfl⟩ : ∃ h', h = h' + 2 := ⟨h - 2, by omega⟩
    have b1 := r1 h (h + 1) (by omega) (by omega)
    have b2 := r1 (h + 1) (h + 2) (by omega) (by omega)
    refine wx_seq r6 (by omega) b1 (by omega) r4 (r3 h (by omega)) (r3 (h + 1) (by omega)) ?_
    show wpY_seq _ _
    unfold wpY_seq
    exact wy_pair r6 (by omega) ⟨rfl, zz_in hl ⟨_, sh_pair S (by omega) (Or.inl rfl) (nu_and01 _ _), rl_Wseq S W, rl_Cseq ck_n S (by omega) N, rl_Cseq ck_x S (by omega) M⟩ U⟩
theorem vc_alt {k : Nat} (hl : ln ≤ 8) (D : rl_D h m pl a_low a_hasEmpty a_emptyWays a_kind a_firstWays a_firstMin a_firstMax a_lastWays a_lastMin a_lastMax a_followWays a_followMin a_followMax a_draftOp a_draftLetter a_draftCost) (U : rl_U cn sz f_useEmpty f_useEmptyWays a_useKind a_inWays a_inMin a_inMax a_outWays a_outMin a_outMax a_goWays a_goMin a_goMax a_op a_letterOf a_costOf) :
    wpX_alt (fun r u' => wpY_alt (fun r' v' => r' = r ∧ i_Rel k u' v') (nI m, nI h, nI pl, nI sz, nI ln, a_draftOp, a_draftLetter, a_draftCost, a_op, a_letterOf, a_costOf, a_text, a_value, a_open)) (nI h, nI m, nI pl, nI cn, f_useEmpty, f_useEmptyWays, nI ln, a_low, a_hasEmpty, a_emptyWays, a_kind, a_firstWays, a_firstMin, a_firstMax, a_lastWays, a_lastMin, a_lastMax, a_followWays, a_followMin, a_followMax, a_useKind, a_inWays, a_inMin, a_inMax, a_outWays, a_outMin, a_outMax, a_goWays, a_goMin, a_goMax, a_text, a_nowWays, a_nowMin, a_nowMax, a_thenWays, a_thenMin, a_thenMax, a_gotWays, a_gotMin, a_gotMax, a_paid) := by
  obtain ⟨lo, S, W, N, M⟩ := D
  have S' := S
  obtain ⟨r0, r1, r2, r3, r4, r5, r6, r7, r8, r9⟩ := S'
  by_cases hb : m = 20 ∨ h < 2
  · refine wx_altbad r6 r5 hb ?_
    show wpY_alt _ _
    unfold wpY_alt
    exact wy_pairbad r6 r5 hb ⟨rfl, zz_in hl ⟨lo, S, W, N, M⟩ U⟩
  · obtain ⟨h, rfl⟩ : ∃ h', h = h' + 2 := ⟨h - 2, by omega⟩
    refine wx_alt r6 (by omega) ?_
    show wpY_alt _ _
    unfold wpY_alt
    exact wy_pair r6 (by omega) ⟨rfl, zz_in hl ⟨_, sh_pair S (by omega) (Or.inr rfl) (nu_or01 _ _), rl_Walt S W, rl_Calt ck_n S N, rl_Calt ck_x S M⟩ U⟩
theorem vc_loop {k : Nat} (hl : ln ≤ 8) (D : rl_D h m pl a_low a_hasEmpty a_emptyWays a_kind a_firstWays a_firstMin a_firstMax a_lastWays a_lastMin a_lastMax a_followWays a_followMin a_followMax a_draftOp a_draftLetter a_draftCost) (U : rl_U cn sz f_useEmpty f_useEmptyWays a_useKind a_inWays a_inMin a_inMax a_outWays a_outMin a_outMax a_goWays a_goMin a_goMax a_op a_letterOf a_costOf) (v1 : Int32) :
    wpX_loop (fun r u' => wpY_loop (fun r' v' => r' = r ∧ i_Rel k u' v') (nI m, nI h, nI pl, nI sz, nI ln, a_draftOp, a_draftLetter, a_draftCost, a_op, a_letterOf, a_costOf, a_text, a_value, a_open) v1) (nI h, nI m, nI pl, nI cn, f_useEmpty, f_useEmptyWays, nI ln, a_low, a_hasEmpty, a_emptyWays, a_kind, a_firstWays, a_firstMin, a_firstMax, a_lastWays, a_lastMin, a_lastMax, a_followWays, a_followMin, a_followMax, a_useKind, a_inWays, a_inMin, a_inMax, a_outWays, a_outMin, a_outMax, a_goWays, a_goMin, a_goMax, a_text, a_nowWays, a_nowMin, a_nowMax, a_thenWays, a_thenMin, a_thenMax, a_gotWays, a_gotMin, a_gotMax, a_paid) v1 := by
  obtain ⟨lo, S, W, N, M⟩ := D
  have S' := S
  obtain ⟨r0, r1, r2, r3, r4, r5, r6, r7, r8, r9⟩ := S'
  have I : i_Rel k (nI h, nI m, nI pl, nI cn, f_useEmpty, f_useEmptyWays, nI ln, a_low, a_hasEmpty, a_emptyWays, a_kind, a_firstWays, a_firstMin, a_firstMax, a_lastWays, a_lastMin, a_lastMax, a_followWays, a_followMin, a_followMax, a_useKind, a_inWays, a_inMin, a_inMax, a_outWays, a_outMin, a_outMax, a_goWays, a_goMin, a_goMax, a_text, a_nowWays, a_nowMin, a_nowMax, a_thenWays, a_thenMin, a_thenMax, a_gotWays, a_gotMin, a_gotMax, a_paid) (nI m, nI h, nI pl, nI sz, nI ln, a_draftOp, a_draftLetter, a_draftCost, a_op, a_letterOf, a_costOf, a_text, a_value, a_open) := zz_in hl ⟨lo, S, W, N, M⟩ U
  by_cases w0 : v1 < 0
  · unfold wpX_loop
    exact br_t w0 (br_t w0 ⟨rfl, I⟩)
  · by_cases w9 : v1 ≤ 9
    · obtain ⟨w, hw, rfl⟩ := nI_of2 (M := 9) (n := 9) rfl w0 w9
      by_cases hb : m = 20 ∨ h < 1
      · refine wx_loopbad hw r6 r5 hb ?_
        show wpY_loop _ _ _
        unfold wpY_loop
        refine br_f w0 (br_t w9 ?_)
        by_cases e : m = 20
        · subst e
          exact br_t rfl ⟨rfl, I⟩
        · have e0 : h = 0 := by omega
          subst e0
          exact br_f (n20 e r5) (br_t rfl ⟨by rw [if_neg e], I⟩)
      · obtain ⟨h, rfl⟩ : ∃ h', h = h' + 1 := ⟨h - 1, by omega⟩
        have b1 := r1 h (h + 1) (by omega) (by omega)
        refine wx_loop hw r6 (by omega) (by omega) r4 (r3 h (by omega)) ?_
        show wpY_loop _ _ _
        unfold wpY_loop
        exact br_f w0 (br_t w9 (br_f (n20 (by omega) r5) (br_f (nI_ne0 (by omega) (by omega)) (wy_note (by omega) (Int32.add_zero _) ⟨rfl, zz_in hl ⟨_, sh_loop S (by omega) hw, rl_Wloop S W, rl_Cloop ck_n hw S (by omega) N, rl_Cloop ck_x hw S (by omega) M⟩ U⟩))))
    · unfold wpX_loop
      exact br_f w0 (br_f w9 (br_f w0 (br_f w9 ⟨rfl, I⟩)))
theorem rl_D0 : rl_D 0 0 0 a_low a_hasEmpty a_emptyWays a_kind a_firstWays a_firstMin a_firstMax a_lastWays a_lastMin a_lastMax a_followWays a_followMin a_followMax a_draftOp a_draftLetter a_draftCost := ⟨fun _ => 0, sh_0, rl_W0, rl_C0, rl_C0⟩
theorem vc_discard {k : Nat} (hl : ln ≤ 8) (U : rl_U cn sz f_useEmpty f_useEmptyWays a_useKind a_inWays a_inMin a_inMax a_outWays a_outMin a_outMax a_goWays a_goMin a_goMax a_op a_letterOf a_costOf) :
    wpX_discard (fun u' => wpY_discard (fun v' => i_Rel k u' v') (nI m, nI h, nI pl, nI sz, nI ln, a_draftOp, a_draftLetter, a_draftCost, a_op, a_letterOf, a_costOf, a_text, a_value, a_open)) (nI h, nI m, nI pl, nI cn, f_useEmpty, f_useEmptyWays, nI ln, a_low, a_hasEmpty, a_emptyWays, a_kind, a_firstWays, a_firstMin, a_firstMax, a_lastWays, a_lastMin, a_lastMax, a_followWays, a_followMin, a_followMax, a_useKind, a_inWays, a_inMin, a_inMax, a_outWays, a_outMin, a_outMax, a_goWays, a_goMin, a_goMax, a_text, a_nowWays, a_nowMin, a_nowMax, a_thenWays, a_thenMin, a_thenMax, a_gotWays, a_gotMin, a_gotMax, a_paid) := by
  unfold wpX_discard
  show wpY_discard _ _
  unfold wpY_discard
  exact zz_in (h := 0) (m := 0) (pl := 0) hl rl_D0 U
/-! define -/
theorem wy_define13 {post : Int32 → SY → Prop} (hm : m ≤ 20)
    (H : post 0 (0, 0, 0, nI m, f_n, a_draftOp, a_draftLetter, a_draftCost, mx_ (r1_ 0 m) a_op a_draftOp, mx_ (r1_ 0 m) a_letterOf a_draftLetter, mx_ (r1_ 0 m) a_costOf a_draftCost, a_text, a_value, a_open)) :
    ∀ n s : Nat, s ≤ m → m - s < n → wY_define_13 post (nI m) f_depth f_atoms f_size f_n n (nI s) a_draftOp a_draftLetter a_draftCost (mx_ (r1_ 0 s) a_op a_draftOp) (mx_ (r1_ 0 s) a_letterOf a_draftLetter) (mx_ (r1_ 0 s) a_costOf a_draftCost) a_text a_value a_open := by
  intro n
  induction n with
  | zero => intro q _ h; omega
  | succ n ih =>
    intro s hs hn
    unfold wY_define_13
    by_cases e : s = m
    · subst e
      exact br_t (nI_le (Nat.le_refl s) (by omega)) H
    · have hs' : s < 20 := by omega
      have c1 : (nI s).toNatClampNeg = s := yi_c (by omega)
      have v := vp_in_nI (n := s) (N := 20) hs' (by decide)
      have ih' := ih (s + 1) (by omega) (by omega)
      rw [← mx_up1 (f := a_op) (Nat.zero_le s), ← mx_up1 (f := a_letterOf) (Nat.zero_le s), ← mx_up1 (f := a_costOf) (Nat.zero_le s)] at ih'
      refine br_f (nI_ge (by omega) (by omega)) ?_
      refine And.intro v (xs_ s _ hs' (And.intro v (xs_ s _ hs' (And.intro v (xs_ s _ hs' (nm_r (nI_1 s) ih') rfl ?_)) rfl ?_)) rfl ?_) <;> rw [c1]
theorem wy_define {post : Int32 → SY → Prop} (hm : m ≤ 20)
    (H : post 0 (0, 0, 0, nI m, f_n, a_draftOp, a_draftLetter, a_draftCost, mx_ (r1_ 0 m) a_op a_draftOp, mx_ (r1_ 0 m) a_letterOf a_draftLetter, mx_ (r1_ 0 m) a_costOf a_draftCost, a_text, a_value, a_open)) :
    wpY_define post (nI m, 1, f_atoms, f_size, f_n, a_draftOp, a_draftLetter, a_draftCost, a_op, a_letterOf, a_costOf, a_text, a_value, a_open) := by
  have R := wy_define13 (f_depth := 1) (f_atoms := f_atoms) (f_size := f_size) hm H (m + 1) 0 (by omega) (by omega)
  rw [mx_one0, mx_one0, mx_one0] at R
  unfold wpY_define
  exact br_t rfl ⟨m + 1, R⟩
theorem mx_10 {n j : Nat} {f g : Nat → Int32} (h : j < n) : mx_ (r1_ 0 n) f g j = g j := mx_t (r1_t.mpr ⟨by omega, h⟩)
theorem mx_20 {n p q : Nat} {f g : Nat → Int32} (hn : n ≤ 10) (hp : p < n) (hq : q < n) : mx_ (rc_ 0 n 0 n) f g (p * 10 + q) = g (p * 10 + q) := mx_rc (by omega) (by omega) hp (by omega) hq
theorem us_def {im lm fm x1 x2 x3 : Nat → Int32} {B : Nat} (hB : B ≤ 180) (hpl : pl ≤ 10) (D : db_ B pl im lm fm) : us_B pl (mx_ (r1_ 0 pl) x1 im) (mx_ (r1_ 0 pl) x2 lm) (mx_ (rc_ 0 pl 0 pl) x3 fm) := by
  intro p hp
  rw [mx_10 hp, mx_10 hp]
  refine ⟨nu_Bm (D p hp).1 hB, (D p hp).2.1, fun q hq => ?_⟩
  rw [mx_20 hpl hp hq]
  exact nu_Bm ((D p hp).2.2 q hq) hB
theorem us_cdef {K : sr_T (Option Nat)} {lo : Nat → Nat} {he kd im lm fm dop dlt dco x0 x1 x2 x3 y1 y2 y3 : Nat → Int32} (h0 : lo 0 = 0) (h1 : lo 1 = pl) (hpl : pl ≤ 10) (C : rl_C K lo 1 m pl he kd im lm fm dop dlt dco) (t : Nat → Int32) (d i : Nat) :
    us_c K (he 0) (mx_ (r1_ 0 pl) x1 im) (mx_ (r1_ 0 pl) x2 lm) (mx_ (rc_ 0 pl 0 pl) x3 fm) (mx_ (r1_ 0 pl) x0 kd) t pl d i
      = ye_D K nu_d (mx_ (r1_ 0 m) y1 dop) (mx_ (r1_ 0 m) y2 dlt) (mx_ (r1_ 0 m) y3 dco) t m 0 d i := by
  rw [ye_Dc m (fun s hs => mx_10 hs) (fun s hs => mx_10 hs) (fun s hs => mx_10 hs)]
  have M := C.2.1 0 (by omega) t d i
  rw [h0, h1, Nat.sub_zero] at M
  rw [← M]
  unfold us_c
  exact gl_Ac rfl (fun p _ hp => congrArg nu_d (mx_10 (by omega))) (fun p q _ hp _ hq => congrArg nu_d (mx_20 hpl (by omega) (by omega))) (fun p _ hp => congrArg nu_d (mx_10 (by omega))) (fun p _ hp => mx_10 (by omega)) d i
theorem us_wdef {lo : Nat → Nat} {ew kd iw lw fw dop dlt dco x0 x1 x2 x3 y1 y2 y3 : Nat → Int32} (h0 : lo 0 = 0) (h1 : lo 1 = pl) (hpl : pl ≤ 10) (C : rl_W lo 1 m ew kd iw lw fw dop dlt dco) (t : Nat → Int32) (d i : Nat) :
    us_w (ew 0) (mx_ (r1_ 0 pl) x1 iw) (mx_ (r1_ 0 pl) x2 lw) (mx_ (rc_ 0 pl 0 pl) x3 fw) (mx_ (r1_ 0 pl) x0 kd) t pl d i
      = ye_D kr_0 (fun _ => 1) (mx_ (r1_ 0 m) y1 dop) (mx_ (r1_ 0 m) y2 dlt) (mx_ (r1_ 0 m) y3 dco) t m 0 d i := by
  rw [ye_Dc m (fun s hs => mx_10 hs) (fun s hs => mx_10 hs) (fun s hs => mx_10 hs)]
  have M := C.1 0 (by omega) t d i
  rw [h0, h1, Nat.sub_zero] at M
  rw [← M]
  unfold us_w
  exact gl_Ac rfl (fun p _ hp => mx_10 (by omega)) (fun p q _ hp _ hq => mx_20 hpl (by omega) (by omega)) (fun p _ hp => mx_10 (by omega)) (fun p _ hp => mx_10 (by omega)) d i
theorem vc_define {k : Nat} (hl : ln ≤ 8) (D : rl_D h m pl a_low a_hasEmpty a_emptyWays a_kind a_firstWays a_firstMin a_firstMax a_lastWays a_lastMin a_lastMax a_followWays a_followMin a_followMax a_draftOp a_draftLetter a_draftCost) (U : rl_U cn sz f_useEmpty f_useEmptyWays a_useKind a_inWays a_inMin a_inMax a_outWays a_outMin a_outMax a_goWays a_goMin a_goMax a_op a_letterOf a_costOf) :
    wpX_define (fun r u' => wpY_define (fun r' v' => r' = r ∧ i_Rel k u' v') (nI m, nI h, nI pl, nI sz, nI ln, a_draftOp, a_draftLetter, a_draftCost, a_op, a_letterOf, a_costOf, a_text, a_value, a_open)) (nI h, nI m, nI pl, nI cn, f_useEmpty, f_useEmptyWays, nI ln, a_low, a_hasEmpty, a_emptyWays, a_kind, a_firstWays, a_firstMin, a_firstMax, a_lastWays, a_lastMin, a_lastMax, a_followWays, a_followMin, a_followMax, a_useKind, a_inWays, a_inMin, a_inMax, a_outWays, a_outMin, a_outMax, a_goWays, a_goMin, a_goMax, a_text, a_nowWays, a_nowMin, a_nowMax, a_thenWays, a_thenMin, a_thenMax, a_gotWays, a_gotMin, a_gotMax, a_paid) := by
  have D' := D
  obtain ⟨lo, S, W, N, M⟩ := D'
  obtain ⟨r0, r1, r2, r3, r4, r5, r6, r7, r8, r9⟩ := S
  by_cases e : h = 1
  · subst e
    have m1 : 1 ≤ m := by
      rcases Nat.eq_zero_or_pos m with z | z
      · rw [z] at r9; exact absurd r9 (show ¬ (0 : Nat) = 1 from by decide)
      · exact z
    refine wx_define r4 (r7 0 (by omega)) (wy_define r5 ⟨rfl, zz_in (h := 0) (m := 0) (pl := 0) hl rl_D0 ?_⟩)
    refine ⟨r4, m1, r5, us_def (by omega) r4 N.1, us_def (by omega) r4 M.1, ?_, ?_, us_wdef r0 r2 r4 W, us_cdef r0 r2 r4 N, us_cdef r0 r2 r4 M⟩
    · intro s hs
      rw [mx_10 hs, mx_10 hs, ye_hc s (fun r hr => mx_10 (by omega))]
      exact r8 s hs
    · rw [ye_hc m (fun r hr => mx_10 hr)]; exact r9
  · have n1 : ¬ nI h = 1 := fun z => e ((nI_eq (b := 1) (by omega) (by decide)).mp z)
    unfold wpX_define
    exact br_f n1 (br_f n1 ⟨rfl, zz_in hl D U⟩)
/-! the text -/
theorem vc_type {k : Nat} (hl : ln ≤ 8) (D : rl_D h m pl a_low a_hasEmpty a_emptyWays a_kind a_firstWays a_firstMin a_firstMax a_lastWays a_lastMin a_lastMax a_followWays a_followMin a_followMax a_draftOp a_draftLetter a_draftCost) (U : rl_U cn sz f_useEmpty f_useEmptyWays a_useKind a_inWays a_inMin a_inMax a_outWays a_outMin a_outMax a_goWays a_goMin a_goMax a_op a_letterOf a_costOf) (v1 : Int32) :
    wpX_type (fun r u' => wpY_type (fun r' v' => r' = r ∧ i_Rel k u' v') (nI m, nI h, nI pl, nI sz, nI ln, a_draftOp, a_draftLetter, a_draftCost, a_op, a_letterOf, a_costOf, a_text, a_value, a_open) v1) (nI h, nI m, nI pl, nI cn, f_useEmpty, f_useEmptyWays, nI ln, a_low, a_hasEmpty, a_emptyWays, a_kind, a_firstWays, a_firstMin, a_firstMax, a_lastWays, a_lastMin, a_lastMax, a_followWays, a_followMin, a_followMax, a_useKind, a_inWays, a_inMin, a_inMax, a_outWays, a_outMin, a_outMax, a_goWays, a_goMin, a_goMax, a_text, a_nowWays, a_nowMin, a_nowMax, a_thenWays, a_thenMin, a_thenMax, a_gotWays, a_gotMin, a_gotMax, a_paid) v1 := by
  have I : i_Rel k (nI h, nI m, nI pl, nI cn, f_useEmpty, f_useEmptyWays, nI ln, a_low, a_hasEmpty, a_emptyWays, a_kind, a_firstWays, a_firstMin, a_firstMax, a_lastWays, a_lastMin, a_lastMax, a_followWays, a_followMin, a_followMax, a_useKind, a_inWays, a_inMin, a_inMax, a_outWays, a_outMin, a_outMax, a_goWays, a_goMin, a_goMax, a_text, a_nowWays, a_nowMin, a_nowMax, a_thenWays, a_thenMin, a_thenMax, a_gotWays, a_gotMin, a_gotMax, a_paid) (nI m, nI h, nI pl, nI sz, nI ln, a_draftOp, a_draftLetter, a_draftCost, a_op, a_letterOf, a_costOf, a_text, a_value, a_open) := zz_in hl D U
  unfold wpX_type
  by_cases c0 : v1 < 0
  · exact br_t c0 (br_t c0 ⟨rfl, I⟩)
  · by_cases c2 : v1 ≤ 2
    · by_cases e : ln = 8
      · subst e
        exact br_f c0 (br_t c2 (br_t rfl (br_f c0 (br_t c2 (br_t rfl ⟨rfl, I⟩)))))
      · exact br_f c0 (br_t c2 (br_f (n8 e hl) (xs_ ln _ (by omega) (nm_r (nI_1 ln) (br_f c0 (br_t c2 (br_f (n8 e hl) (xs_ ln _ (by omega) (nm_r (nI_1 ln) ⟨rfl, zz_in (by omega) D U⟩)))))))))
    · exact br_f c0 (br_f c2 (br_f c0 (br_f c2 ⟨rfl, I⟩)))
theorem vc_put {k : Nat} (hl : ln ≤ 8) (D : rl_D h m pl a_low a_hasEmpty a_emptyWays a_kind a_firstWays a_firstMin a_firstMax a_lastWays a_lastMin a_lastMax a_followWays a_followMin a_followMax a_draftOp a_draftLetter a_draftCost) (U : rl_U cn sz f_useEmpty f_useEmptyWays a_useKind a_inWays a_inMin a_inMax a_outWays a_outMin a_outMax a_goWays a_goMin a_goMax a_op a_letterOf a_costOf) (v1 v2 : Int32) :
    wpX_put (fun r u' => wpY_put (fun r' v' => r' = r ∧ i_Rel k u' v') (nI m, nI h, nI pl, nI sz, nI ln, a_draftOp, a_draftLetter, a_draftCost, a_op, a_letterOf, a_costOf, a_text, a_value, a_open) v1 v2) (nI h, nI m, nI pl, nI cn, f_useEmpty, f_useEmptyWays, nI ln, a_low, a_hasEmpty, a_emptyWays, a_kind, a_firstWays, a_firstMin, a_firstMax, a_lastWays, a_lastMin, a_lastMax, a_followWays, a_followMin, a_followMax, a_useKind, a_inWays, a_inMin, a_inMax, a_outWays, a_outMin, a_outMax, a_goWays, a_goMin, a_goMax, a_text, a_nowWays, a_nowMin, a_nowMax, a_thenWays, a_thenMin, a_thenMax, a_gotWays, a_gotMin, a_gotMax, a_paid) v1 v2 := by
  have I : i_Rel k (nI h, nI m, nI pl, nI cn, f_useEmpty, f_useEmptyWays, nI ln, a_low, a_hasEmpty, a_emptyWays, a_kind, a_firstWays, a_firstMin, a_firstMax, a_lastWays, a_lastMin, a_lastMax, a_followWays, a_followMin, a_followMax, a_useKind, a_inWays, a_inMin, a_inMax, a_outWays, a_outMin, a_outMax, a_goWays, a_goMin, a_goMax, a_text, a_nowWays, a_nowMin, a_nowMax, a_thenWays, a_thenMin, a_thenMax, a_gotWays, a_gotMin, a_gotMax, a_paid) (nI m, nI h, nI pl, nI sz, nI ln, a_draftOp, a_draftLetter, a_draftCost, a_op, a_letterOf, a_costOf, a_text, a_value, a_open) := zz_in hl D U
  unfold wpX_put
  by_cases i0 : v1 < 0
  · exact br_t i0 (br_t i0 ⟨rfl, I⟩)
  · by_cases i1 : nI ln ≤ v1
    · exact br_f i0 (br_t i1 (br_f i0 (br_t i1 ⟨rfl, I⟩)))
    · by_cases c0 : v2 < 0
      · exact br_f i0 (br_f i1 (br_t c0 (br_f i0 (br_f i1 (br_t c0 ⟨rfl, I⟩)))))
      · by_cases c2 : v2 ≤ 2
        · obtain ⟨i, hi, rfl⟩ := nI_of i0
          rw [nI_leI (by omega) hi] at i1
          have i8 : i < 8 := by omega
          have v := vp_in_nI (n := i) (N := 8) i8 (by decide)
          have i1' : ¬ nI ln ≤ nI i := nI_ge (by omega) (by omega)
          have c1 : (nI i).toNatClampNeg = i := xi_c (by omega)
          refine br_f i0 (br_f i1' (br_f c0 (br_t c2 (And.intro v (nm_e (xs_ i _ i8 ?_))))))
          exact br_f i0 (br_f i1' (br_f c0 (br_t c2 (And.intro v (nm_e (xs_ i _ i8 ⟨rfl, zz_in hl D U⟩))))))
        · exact br_f i0 (br_f i1 (br_f c0 (br_f c2 (br_f i0 (br_f i1 (br_f c0 (br_f c2 ⟨rfl, I⟩)))))))
theorem wx_shift29 {post : Int32 → SX → Prop} {x : Int32} (hl : ln < 8)
    (H : post x (f_height, f_made, f_places, f_count, f_useEmpty, f_useEmptyWays, nI ln, a_low, a_hasEmpty, a_emptyWays, a_kind, a_firstWays, a_firstMin, a_firstMax, a_lastWays, a_lastMin, a_lastMax, a_followWays, a_followMin, a_followMax, a_useKind, a_inWays, a_inMin, a_inMax, a_outWays, a_outMin, a_outMax, a_goWays, a_goMin, a_goMax, mx_ (r1_ 0 ln) a_text (fun j => a_text (j + 1)), a_nowWays, a_nowMin, a_nowMax, a_thenWays, a_thenMin, a_thenMax, a_gotWays, a_gotMin, a_gotMax, a_paid)) :
    ∀ n q : Nat, q ≤ ln → ln - q < n → wX_shift_29 post x f_height f_made f_places f_count f_useEmpty f_useEmptyWays (nI ln) n (nI q) a_low a_hasEmpty a_emptyWays a_kind a_firstWays a_firstMin a_firstMax a_lastWays a_lastMin a_lastMax a_followWays a_followMin a_followMax a_useKind a_inWays a_inMin a_inMax a_outWays a_outMin a_outMax a_goWays a_goMin a_goMax (mx_ (r1_ 0 q) a_text (fun j => a_text (j + 1))) a_nowWays a_nowMin a_nowMax a_thenWays a_thenMin a_thenMax a_gotWays a_gotMin a_gotMax a_paid := by
  intro n
  induction n with
  | zero => intro q _ h; omega
  | succ n ih =>
    intro q hq hn
    unfold wX_shift_29
    by_cases e : q = ln
    · subst e
      exact br_t (nI_le (Nat.le_refl q) (by omega)) H
    · have ih' := ih (q + 1) (by omega) (by omega)
      rw [← mx_up1 (f := a_text) (Nat.zero_le q)] at ih'
      refine br_f (nI_ge (by omega) (by omega)) ?_
      rw [nI_1 q]
      refine And.intro (vp_in_nI (by omega) (by decide)) (xs_ q _ (by omega) (nm_e ih') rfl ?_)
      rw [xi_c (by omega)]
      exact mx_f (fun z => by have := r1_t.mp z; omega)
theorem wy_shift19 {post : Int32 → SY → Prop} {x : Int32} (hl : ln < 8)
    (H : post x (f_steps, f_depth, f_atoms, f_size, nI ln, a_draftOp, a_draftLetter, a_draftCost, a_op, a_letterOf, a_costOf, mx_ (r1_ 0 ln) a_text (fun j => a_text (j + 1)), a_value, a_open)) :
    ∀ n q : Nat, q ≤ ln → ln - q < n → wY_shift_19 post x f_steps f_depth f_atoms f_size (nI (ln + 1)) n (nI (q + 1)) a_draftOp a_draftLetter a_draftCost a_op a_letterOf a_costOf (mx_ (r1_ 0 q) a_text (fun j => a_text (j + 1))) a_value a_open := by
  intro n
  induction n with
  | zero => intro q _ h; omega
  | succ n ih =>
    intro q hq hn
    unfold wY_shift_19
    by_cases e : q = ln
    · subst e
      exact br_t (nI_le (Nat.le_refl (q + 1)) (by omega)) (nm_r (nI_pred q) H)
    · have ih' := ih (q + 1) (by omega) (by omega)
      rw [← mx_up1 (f := a_text) (Nat.zero_le q)] at ih'
      refine br_f (nI_ge (by omega) (by omega)) ?_
      rw [nI_pred q]
      refine And.intro (vp_in_nI (by omega) (by decide)) (xs_ q _ (by omega) (nm_r (nI_1 (q + 1)) ih') rfl ?_)
      rw [xi_c (by omega)]
      exact mx_f (fun z => by have := r1_t.mp z; omega)
theorem vc_shift {k : Nat} (hl : ln ≤ 8) (D : rl_D h m pl a_low a_hasEmpty a_emptyWays a_kind a_firstWays a_firstMin a_firstMax a_lastWays a_lastMin a_lastMax a_followWays a_followMin a_followMax a_draftOp a_draftLetter a_draftCost) (U : rl_U cn sz f_useEmpty f_useEmptyWays a_useKind a_inWays a_inMin a_inMax a_outWays a_outMin a_outMax a_goWays a_goMin a_goMax a_op a_letterOf a_costOf) :
    wpX_shift (fun r u' => wpY_shift (fun r' v' => r' = r ∧ i_Rel k u' v') (nI m, nI h, nI pl, nI sz, nI ln, a_draftOp, a_draftLetter, a_draftCost, a_op, a_letterOf, a_costOf, a_text, a_value, a_open)) (nI h, nI m, nI pl, nI cn, f_useEmpty, f_useEmptyWays, nI ln, a_low, a_hasEmpty, a_emptyWays, a_kind, a_firstWays, a_firstMin, a_firstMax, a_lastWays, a_lastMin, a_lastMax, a_followWays, a_followMin, a_followMax, a_useKind, a_inWays, a_inMin, a_inMax, a_outWays, a_outMin, a_outMax, a_goWays, a_goMin, a_goMax, a_text, a_nowWays, a_nowMin, a_nowMax, a_thenWays, a_thenMin, a_thenMax, a_gotWays, a_gotMin, a_gotMax, a_paid) := by
  unfold wpX_shift
  by_cases e : ln = 0
  · subst e
    exact br_t rfl (br_t rfl ⟨rfl, zz_in hl D U⟩)
  · obtain ⟨ln, rfl⟩ : ∃ l, ln = l + 1 := ⟨ln - 1, by omega⟩
    have n0 : ¬ nI (ln + 1) = 0 := nI_ne0 (by omega) (by omega)
    have RY : ∀ post : Int32 → SY → Prop, post (a_text 0) (nI m, nI h, nI pl, nI sz, nI ln, a_draftOp, a_draftLetter, a_draftCost, a_op, a_letterOf, a_costOf, mx_ (r1_ 0 ln) a_text (fun j => a_text (j + 1)), a_value, a_open) → wpY_shift post (nI m, nI h, nI pl, nI sz, nI (ln + 1), a_draftOp, a_draftLetter, a_draftCost, a_op, a_letterOf, a_costOf, a_text, a_value, a_open) := by
      intro post H
      have R := wy_shift19 (by omega) H (ln + 1) 0 (by omega) (by omega)
      rw [mx_one0] at R
      unfold wpY_shift
      exact br_f n0 (nm_e ⟨_, R⟩)
    have RX : ∀ post : Int32 → SX → Prop, post (a_text 0) (nI h, nI m, nI pl, nI cn, f_useEmpty, f_useEmptyWays, nI ln, a_low, a_hasEmpty, a_emptyWays, a_kind, a_firstWays, a_firstMin, a_firstMax, a_lastWays, a_lastMin, a_lastMax, a_followWays, a_followMin, a_followMax, a_useKind, a_inWays, a_inMin, a_inMax, a_outWays, a_outMin, a_outMax, a_goWays, a_goMin, a_goMax, mx_ (r1_ 0 ln) a_text (fun j => a_text (j + 1)), a_nowWays, a_nowMin, a_nowMax, a_thenWays, a_thenMin, a_thenMax, a_gotWays, a_gotMin, a_gotMax, a_paid) → ∃ n, wX_shift_29 post (a_text 0) (nI h) (nI m) (nI pl) (nI cn) f_useEmpty f_useEmptyWays (nI ln) n 0 a_low a_hasEmpty a_emptyWays a_kind a_firstWays a_firstMin a_firstMax a_lastWays a_lastMin a_lastMax a_followWays a_followMin a_followMax a_useKind a_inWays a_inMin a_inMax a_outWays a_outMin a_outMax a_goWays a_goMin a_goMax a_text a_nowWays a_nowMin a_nowMax a_thenWays a_thenMin a_thenMax a_gotWays a_gotMin a_gotMax a_paid := by
      intro post H
      have R := wx_shift29 (by omega) H (ln + 1) 0 (by omega) (by omega)
      rw [mx_one0] at R
      exact ⟨_, R⟩
    exact br_f n0 (nm_e (nm_r (nI_pred ln) (RX _ (RY _ ⟨rfl, zz_in (by omega) D U⟩))))
end BUILD2
end
section
section QUEST
/-! the three answers of the expression in use to the window of length d from i -/
def vv_0 (op lt co t : Nat → Int32) (sz d i : Nat) : Int32 := ye_D kr_0 (fun _ => 1) op lt co t sz 0 d i
def vv_n (op lt co t : Nat → Int32) (sz d i : Nat) : Int32 := nu_e (ye_D kr_n nu_d op lt co t sz 0 d i)
def vv_x (op lt co t : Nat → Int32) (sz d i : Nat) : Int32 := nu_e (ye_D kr_x nu_d op lt co t sz 0 d i)
def qw_ (ln : Nat) (p0 p1 : Int32) : Int32 := if p0 < 0 then 0 else if p1 < p0 then 0 else if nI ln < p1 then 0 else 1
theorem qw_c {ln : Nat} (hl : ln ≤ 8) (p0 p1 : Int32) : qw_ ln p0 p1 = 0 ∨ (qw_ ln p0 p1 = 1 ∧ ∃ i j, i ≤ j ∧ j ≤ ln ∧ p0 = nI i ∧ p1 = nI j) := by
  unfold qw_
  by_cases h0 : p0 < 0
  · exact Or.inl (if_pos h0)
  · rw [if_neg h0]
    by_cases h1 : p1 < p0
    · exact Or.inl (if_pos h1)
    · rw [if_neg h1]
      by_cases h2 : nI ln < p1
      · exact Or.inl (if_pos h2)
      · rw [if_neg h2]
        refine Or.inr ⟨rfl, ?_⟩
        obtain ⟨i, hi, rfl⟩ := nI_of h0
        have h3 : ¬ p1 < 0 := fun z => h1 (Int32.lt_of_lt_of_le z (nI_pos' hi))
        obtain ⟨j, hj, rfl⟩ := nI_of h3
        rw [nI_ltI hj hi] at h1
        rw [nI_ltI (by omega) hj] at h2
        exact ⟨i, j, by omega, by omega, rfl, rfl⟩
def qf_ (g : Nat → Int32 → Int32) : Nat → Nat → Int32 → Int32
  | 0, _, a => a
  | c + 1, j, a => qf_ g c (j + 1) (g j a)
def qi_ (st : Int32 → Int32 → Int32) (V : Nat → Nat → Int32) (ln i : Nat) (a : Int32) : Int32 := qf_ (fun j a => st (V (j - i) i) a) (ln + 1 - i) i a
def qo_ (st : Int32 → Int32 → Int32) (V : Nat → Nat → Int32) (ln : Nat) : Nat → Nat → Int32 → Int32 := qf_ (qi_ st V ln)
abbrev st_w (v a : Int32) : Int32 := if v < 0 then a else a + 1
abbrev st_a (v a : Int32) : Int32 := a + v
def ql_ (V : Nat → Nat → Int32) (i : Nat) : Nat → Int32
  | 0 => -4
  | c + 1 => if V c i < 0 then ql_ V i c else nI (i + c)
theorem qf_0 {g : Nat → Int32 → Int32} {j : Nat} {a : Int32} : qf_ g 0 j a = a := rfl
theorem qf_1 {g : Nat → Int32 → Int32} {c j : Nat} {a : Int32} : qf_ g (c + 1) j a = qf_ g c (j + 1) (g j a) := rfl
theorem qf_s {g : Nat → Int32 → Int32} {n j : Nat} {a : Int32} (h : j ≤ n) : qf_ g (n + 1 - j) j a = qf_ g (n + 1 - (j + 1)) (j + 1) (g j a) := by
  rw [show n + 1 - j = (n + 1 - (j + 1)) + 1 from by omega, qf_1]
variable {f_height f_made f_places f_count f_useEmpty f_useEmptyWays f_length : Int32} {a_low a_hasEmpty a_emptyWays a_kind a_firstWays a_firstMin a_firstMax a_lastWays a_lastMin a_lastMax a_followWays a_followMin a_followMax a_useKind a_inWays a_inMin a_inMax a_outWays a_outMin a_outMax a_goWays a_goMin a_goMax a_text a_nowWays a_nowMin a_nowMax a_thenWays a_thenMin a_thenMax a_gotWays a_gotMin a_gotMax a_paid : Nat → Int32}
variable {f_steps f_depth f_atoms f_size f_n : Int32} {a_draftOp a_draftLetter a_draftCost a_op a_letterOf a_costOf a_value a_open : Nat → Int32}
variable {h m pl cn ln sz : Nat}
theorem wx_window {post : Int32 → Prop} {p0 p1 : Int32} (H : post (qw_ ln p0 p1)) : wpX_window post (f_height, f_made, f_places, f_count, f_useEmpty, f_useEmptyWays, nI ln, a_low, a_hasEmpty, a_emptyWays, a_kind, a_firstWays, a_firstMin, a_firstMax, a_lastWays, a_lastMin, a_lastMax, a_followWays, a_followMin, a_followMax, a_useKind, a_inWays, a_inMin, a_inMax, a_outWays, a_outMin, a_outMax, a_goWays, a_goMin, a_goMax, a_text, a_nowWays, a_nowMin, a_nowMax, a_thenWays, a_thenMin, a_thenMax, a_gotWays, a_gotMin, a_gotMax, a_paid) p0 p1 := by
  unfold qw_ at H
  unfold wpX_window
  by_cases h0 : p0 < 0
  · rw [if_pos h0] at H; exact br_t h0 H
  · rw [if_neg h0] at H
    by_cases h1 : p1 < p0
    · rw [if_pos h1] at H; exact br_f h0 (br_t h1 H)
    · rw [if_neg h1] at H
      by_cases h2 : nI ln < p1
      · rw [if_pos h2] at H; exact br_f h0 (br_f h1 (br_t h2 H))
      · rw [if_neg h2] at H; exact br_f h0 (br_f h1 (br_f h2 H))
theorem wy_window {post : Int32 → Prop} {p0 p1 : Int32} (H : post (qw_ ln p0 p1)) : wpY_window post (f_steps, f_depth, f_atoms, f_size, nI ln, a_draftOp, a_draftLetter, a_draftCost, a_op, a_letterOf, a_costOf, a_text, a_value, a_open) p0 p1 := by
  unfold qw_ at H
  unfold wpY_window
  by_cases h0 : p0 < 0
  · rw [if_pos h0] at H; exact br_t h0 H
  · rw [if_neg h0] at H
    by_cases h1 : p1 < p0
    · rw [if_pos h1] at H; exact br_f h0 (br_t h1 H)
    · rw [if_neg h1] at H
      by_cases h2 : nI ln < p1
      · rw [if_pos h2] at H; exact br_f h0 (br_f h1 (br_t h2 H))
      · rw [if_neg h2] at H; exact br_f h0 (br_f h1 (br_f h2 H))
theorem wx_sweepU {post : SX → Prop} {i : Nat} (hl : ln ≤ 8) (hi : i ≤ ln) (U : rl_U cn sz f_useEmpty f_useEmptyWays a_useKind a_inWays a_inMin a_inMax a_outWays a_outMin a_outMax a_goWays a_goMin a_goMax a_op a_letterOf a_costOf)
    (H : ∀ nw nm nx tw tm tx gw gm gx : Nat → Int32, sw_got (fun d => vv_0 a_op a_letterOf a_costOf a_text sz d i) (fun d => vv_n a_op a_letterOf a_costOf a_text sz d i) (fun d => vv_x a_op a_letterOf a_costOf a_text sz d i) i ln gw gm gx →
      post (f_height, f_made, f_places, nI cn, f_useEmpty, f_useEmptyWays, nI ln, a_low, a_hasEmpty, a_emptyWays, a_kind, a_firstWays, a_firstMin, a_firstMax, a_lastWays, a_lastMin, a_lastMax, a_followWays, a_followMin, a_followMax, a_useKind, a_inWays, a_inMin, a_inMax, a_outWays, a_outMin, a_outMax, a_goWays, a_goMin, a_goMax, a_text, nw, nm, nx, tw, tm, tx, gw, gm, gx, a_paid)) :
    wpX_sweep post (f_height, f_made, f_places, nI cn, f_useEmpty, f_useEmptyWays, nI ln, a_low, a_hasEmpty, a_emptyWays, a_kind, a_firstWays, a_firstMin, a_firstMax, a_lastWays, a_lastMin, a_lastMax, a_followWays, a_followMin, a_followMax, a_useKind, a_inWays, a_inMin, a_inMax, a_outWays, a_outMin, a_outMax, a_goWays, a_goMin, a_goMax, a_text, a_nowWays, a_nowMin, a_nowMax, a_thenWays, a_thenMin, a_thenMax, a_gotWays, a_gotMin, a_gotMax, a_paid) (nI i) := by
  obtain ⟨u0, u1, u2, u3, u4, u5, u6, u7, u8, u9⟩ := U
  refine wx_sweep u0 hl hi u3 u4 (fun nw nm nx tw tm tx gw gm gx g => H nw nm nx tw tm tx gw gm gx ?_)
  intro k h1 h2
  have G := g k h1 h2
  dsimp only at G
  rw [u7 a_text, u8 a_text, u9 a_text] at G
  exact G
theorem wy_whole {post : Int32 → Prop} {i j : Nat} (h1 : 1 ≤ sz) (h2 : sz ≤ 20) (hi : i ≤ 8) (hj : j ≤ 8) (H : post (a_value ((sz - 1) * 81 + i * 9 + j))) : wpY_whole post (f_steps, f_depth, f_atoms, nI sz, f_n, a_draftOp, a_draftLetter, a_draftCost, a_op, a_letterOf, a_costOf, a_text, a_value, a_open) (nI i) (nI j) := by
  show vp_in ((((nI sz - 1) * 81) + (nI i * 9)) + nI j) 1620 ∧ (post (a_value ((((nI sz - 1) * 81) + (nI i * 9)) + nI j).toNatClampNeg))
  rw [show nI sz - 1 = nI (sz - 1) from pk_sub (b := 1) h1, yi_ix, yi_c (by omega)]
  exact And.intro (vp_in_nI (by omega) (by decide)) H
theorem wy_read0 {post : SY → Prop} (hl : ln ≤ 8) (U : rl_U cn sz f_useEmpty f_useEmptyWays a_useKind a_inWays a_inMin a_inMax a_outWays a_outMin a_outMax a_goWays a_goMin a_goMax a_op a_letterOf a_costOf)
    (H : ∀ v o : Nat → Int32, (∀ i j, i ≤ j → j ≤ ln → v ((sz - 1) * 81 + i * 9 + j) = vv_0 a_op a_letterOf a_costOf a_text sz (j - i) i) → post (f_steps, f_depth, f_atoms, nI sz, nI ln, a_draftOp, a_draftLetter, a_draftCost, a_op, a_letterOf, a_costOf, a_text, v, o)) :
    wpY_read post (f_steps, f_depth, f_atoms, nI sz, nI ln, a_draftOp, a_draftLetter, a_draftCost, a_op, a_letterOf, a_costOf, a_text, a_value, a_open) 0 := by
  obtain ⟨u0, u1, u2, u3, u4, u5, u6, u7, u8, u9⟩ := U
  exact wy_read yk_0 u2 u1 u5 u6 hl H
theorem wy_readn {post : SY → Prop} (hl : ln ≤ 8) (U : rl_U cn sz f_useEmpty f_useEmptyWays a_useKind a_inWays a_inMin a_inMax a_outWays a_outMin a_outMax a_goWays a_goMin a_goMax a_op a_letterOf a_costOf)
    (H : ∀ v o : Nat → Int32, (∀ i j, i ≤ j → j ≤ ln → v ((sz - 1) * 81 + i * 9 + j) = vv_n a_op a_letterOf a_costOf a_text sz (j - i) i) → post (f_steps, f_depth, f_atoms, nI sz, nI ln, a_draftOp, a_draftLetter, a_draftCost, a_op, a_letterOf, a_costOf, a_text, v, o)) :
    wpY_read post (f_steps, f_depth, f_atoms, nI sz, nI ln, a_draftOp, a_draftLetter, a_draftCost, a_op, a_letterOf, a_costOf, a_text, a_value, a_open) 1 := by
  obtain ⟨u0, u1, u2, u3, u4, u5, u6, u7, u8, u9⟩ := U
  exact wy_read yk_n u2 u1 u5 u6 hl H
theorem wy_readx {post : SY → Prop} (hl : ln ≤ 8) (U : rl_U cn sz f_useEmpty f_useEmptyWays a_useKind a_inWays a_inMin a_inMax a_outWays a_outMin a_outMax a_goWays a_goMin a_goMax a_op a_letterOf a_costOf)
    (H : ∀ v o : Nat → Int32, (∀ i j, i ≤ j → j ≤ ln → v ((sz - 1) * 81 + i * 9 + j) = vv_x a_op a_letterOf a_costOf a_text sz (j - i) i) → post (f_steps, f_depth, f_atoms, nI sz, nI ln, a_draftOp, a_draftLetter, a_draftCost, a_op, a_letterOf, a_costOf, a_text, v, o)) :
    wpY_read post (f_steps, f_depth, f_atoms, nI sz, nI ln, a_draftOp, a_draftLetter, a_draftCost, a_op, a_letterOf, a_costOf, a_text, a_value, a_open) 2 := by
  obtain ⟨u0, u1, u2, u3, u4, u5, u6, u7, u8, u9⟩ := U
  exact wy_read yk_x u2 u1 u5 u6 hl H
theorem vc_ways {k : Nat} (hl : ln ≤ 8) (D : rl_D h m pl a_low a_hasEmpty a_emptyWays a_kind a_firstWays a_firstMin a_firstMax a_lastWays a_lastMin a_lastMax a_followWays a_followMin a_followMax a_draftOp a_draftLetter a_draftCost) (U : rl_U cn sz f_useEmpty f_useEmptyWays a_useKind a_inWays a_inMin a_inMax a_outWays a_outMin a_outMax a_goWays a_goMin a_goMax a_op a_letterOf a_costOf) (v1 v2 : Int32) :
    wpX_ways (fun r u' => wpY_ways (fun r' v' => r' = r ∧ i_Rel k u' v') (nI m, nI h, nI pl, nI sz, nI ln, a_draftOp, a_draftLetter, a_draftCost, a_op, a_letterOf, a_costOf, a_text, a_value, a_open) v1 v2) (nI h, nI m, nI pl, nI cn, f_useEmpty, f_useEmptyWays, nI ln, a_low, a_hasEmpty, a_emptyWays, a_kind, a_firstWays, a_firstMin, a_firstMax, a_lastWays, a_lastMin, a_lastMax, a_followWays, a_followMin, a_followMax, a_useKind, a_inWays, a_inMin, a_inMax, a_outWays, a_outMin, a_outMax, a_goWays, a_goMin, a_goMax, a_text, a_nowWays, a_nowMin, a_nowMax, a_thenWays, a_thenMin, a_thenMax, a_gotWays, a_gotMin, a_gotMax, a_paid) v1 v2 := by
  unfold wpX_ways
  refine wx_window ?_
  rcases qw_c hl v1 v2 with e | ⟨e, i, j, hij, hj, rfl, rfl⟩
  · rw [e]
    refine br_t rfl ?_
    show wpY_ways _ _ _ _
    unfold wpY_ways
    refine wy_window ?_
    rw [e]
    exact br_t rfl ⟨rfl, zz_in hl D U⟩
  · rw [e]
    refine br_f (by decide) (wx_sweepU hl (by omega) U (fun nw nm nx tw tm tx gw gm gx g => And.intro (vp_in_nI (by omega) (by decide)) ?_))
    show wpY_ways _ _ _ _
    unfold wpY_ways
    refine wy_window ?_
    rw [e]
    refine br_f (by decide) (wy_read0 hl U (fun v o hv => wy_whole U.2.1 U.2.2.1 (by omega) (by omega) ⟨?_, zz_in hl D U⟩))
    rw [xi_c (by omega), hv i j hij hj, (g j hij hj).1]
theorem wy_cost {post : Int32 → SY → Prop} {mode : Int32} {i j : Nat} {V : Nat → Nat → Int32} (hl : ln ≤ 8) (hij : i ≤ j) (hj : j ≤ ln) (h1 : 1 ≤ sz) (h2 : sz ≤ 20)
    (HR : ∀ P : SY → Prop, (∀ v o : Nat → Int32, (∀ i j, i ≤ j → j ≤ ln → v ((sz - 1) * 81 + i * 9 + j) = V (j - i) i) → P (f_steps, f_depth, f_atoms, nI sz, nI ln, a_draftOp, a_draftLetter, a_draftCost, a_op, a_letterOf, a_costOf, a_text, v, o)) → wpY_read P (f_steps, f_depth, f_atoms, nI sz, nI ln, a_draftOp, a_draftLetter, a_draftCost, a_op, a_letterOf, a_costOf, a_text, a_value, a_open) mode)
    (e : qw_ ln (nI i) (nI j) = 1)
    (H : ∀ v o : Nat → Int32, post (if 0 ≤ V (j - i) i then V (j - i) i else -4) (f_steps, f_depth, f_atoms, nI sz, nI ln, a_draftOp, a_draftLetter, a_draftCost, a_op, a_letterOf, a_costOf, a_text, v, o)) :
    wpY_cost post (f_steps, f_depth, f_atoms, nI sz, nI ln, a_draftOp, a_draftLetter, a_draftCost, a_op, a_letterOf, a_costOf, a_text, a_value, a_open) mode (nI i) (nI j) := by
  unfold wpY_cost
  refine wy_window ?_
  rw [e]
  refine br_f (by decide) (HR _ (fun v o hv => wy_whole h1 h2 (by omega) (by omega) ?_))
  have H' := H v o
  rw [← hv i j hij hj] at H'
  by_cases z : 0 ≤ v ((sz - 1) * 81 + i * 9 + j)
  · rw [if_pos z] at H'; exact br_t z H'
  · rw [if_neg z] at H'; exact br_f z H'
theorem wy_cost0 {post : Int32 → SY → Prop} {mode p0 p1 : Int32} (e : qw_ ln p0 p1 = 0) (H : post (-1) (f_steps, f_depth, f_atoms, f_size, nI ln, a_draftOp, a_draftLetter, a_draftCost, a_op, a_letterOf, a_costOf, a_text, a_value, a_open)) : wpY_cost post (f_steps, f_depth, f_atoms, f_size, nI ln, a_draftOp, a_draftLetter, a_draftCost, a_op, a_letterOf, a_costOf, a_text, a_value, a_open) mode p0 p1 := by
  unfold wpY_cost
  refine wy_window ?_
  rw [e]
  exact br_t rfl H
theorem vc_least {k : Nat} (hl : ln ≤ 8) (D : rl_D h m pl a_low a_hasEmpty a_emptyWays a_kind a_firstWays a_firstMin a_firstMax a_lastWays a_lastMin a_lastMax a_followWays a_followMin a_followMax a_draftOp a_draftLetter a_draftCost) (U : rl_U cn sz f_useEmpty f_useEmptyWays a_useKind a_inWays a_inMin a_inMax a_outWays a_outMin a_outMax a_goWays a_goMin a_goMax a_op a_letterOf a_costOf) (v1 v2 : Int32) :
    wpX_least (fun r u' => wpY_least (fun r' v' => r' = r ∧ i_Rel k u' v') (nI m, nI h, nI pl, nI sz, nI ln, a_draftOp, a_draftLetter, a_draftCost, a_op, a_letterOf, a_costOf, a_text, a_value, a_open) v1 v2) (nI h, nI m, nI pl, nI cn, f_useEmpty, f_useEmptyWays, nI ln, a_low, a_hasEmpty, a_emptyWays, a_kind, a_firstWays, a_firstMin, a_firstMax, a_lastWays, a_lastMin, a_lastMax, a_followWays, a_followMin, a_followMax, a_useKind, a_inWays, a_inMin, a_inMax, a_outWays, a_outMin, a_outMax, a_goWays, a_goMin, a_goMax, a_text, a_nowWays, a_nowMin, a_nowMax, a_thenWays, a_thenMin, a_thenMax, a_gotWays, a_gotMin, a_gotMax, a_paid) v1 v2 := by
  unfold wpX_least
  refine wx_window ?_
  rcases qw_c hl v1 v2 with e | ⟨e, i, j, hij, hj, rfl, rfl⟩
  · rw [e]
    refine br_t rfl ?_
    show wpY_least _ _ _ _
    unfold wpY_least
    exact wy_cost0 e ⟨rfl, zz_in hl D U⟩
  · rw [e]
    refine br_f (by decide) (wx_sweepU hl (by omega) U (fun nw nm nx tw tm tx gw gm gx g => And.intro (vp_in_nI (by omega) (by decide)) ?_))
    rw [xi_c (by omega), (g j hij hj).2.1]
    by_cases z : 0 ≤ vv_n a_op a_letterOf a_costOf a_text sz (j - i) i
    · refine br_t z (And.intro (vp_in_nI (by omega) (by decide)) ?_)
      show wpY_least _ _ _ _
      unfold wpY_least
      exact wy_cost hl hij hj U.2.1 U.2.2.1 (fun P HP => wy_readn hl U HP) e (fun v o => ⟨if_pos z, zz_in hl D U⟩)
    · refine br_f z ?_
      show wpY_least _ _ _ _
      unfold wpY_least
      exact wy_cost hl hij hj U.2.1 U.2.2.1 (fun P HP => wy_readn hl U HP) e (fun v o => ⟨if_neg z, zz_in hl D U⟩)
theorem vc_most {k : Nat} (hl : ln ≤ 8) (D : rl_D h m pl a_low a_hasEmpty a_emptyWays a_kind a_firstWays a_firstMin a_firstMax a_lastWays a_lastMin a_lastMax a_followWays a_followMin a_followMax a_draftOp a_draftLetter a_draftCost) (U : rl_U cn sz f_useEmpty f_useEmptyWays a_useKind a_inWays a_inMin a_inMax a_outWays a_outMin a_outMax a_goWays a_goMin a_goMax a_op a_letterOf a_costOf) (v1 v2 : Int32) :
    wpX_most (fun r u' => wpY_most (fun r' v' => r' = r ∧ i_Rel k u' v') (nI m, nI h, nI pl, nI sz, nI ln, a_draftOp, a_draftLetter, a_draftCost, a_op, a_letterOf, a_costOf, a_text, a_value, a_open) v1 v2) (nI h, nI m, nI pl, nI cn, f_useEmpty, f_useEmptyWays, nI ln, a_low, a_hasEmpty, a_emptyWays, a_kind, a_firstWays, a_firstMin, a_firstMax, a_lastWays, a_lastMin, a_lastMax, a_followWays, a_followMin, a_followMax, a_useKind, a_inWays, a_inMin, a_inMax, a_outWays, a_outMin, a_outMax, a_goWays, a_goMin, a_goMax, a_text, a_nowWays, a_nowMin, a_nowMax, a_thenWays, a_thenMin, a_thenMax, a_gotWays, a_gotMin, a_gotMax, a_paid) v1 v2 := by
  unfold wpX_most
  refine wx_window ?_
  rcases qw_c hl v1 v2 with e | ⟨e, i, j, hij, hj, rfl, rfl⟩
  · rw [e]
    refine br_t rfl ?_
    show wpY_most _ _ _ _
    unfold wpY_most
    exact wy_cost0 e ⟨rfl, zz_in hl D U⟩
  · rw [e]
    refine br_f (by decide) (wx_sweepU hl (by omega) U (fun nw nm nx tw tm tx gw gm gx g => And.intro (vp_in_nI (by omega) (by decide)) ?_))
    rw [xi_c (by omega), (g j hij hj).2.2]
    by_cases z : 0 ≤ vv_x a_op a_letterOf a_costOf a_text sz (j - i) i
    · refine br_t z (And.intro (vp_in_nI (by omega) (by decide)) ?_)
      show wpY_most _ _ _ _
      unfold wpY_most
      exact wy_cost hl hij hj U.2.1 U.2.2.1 (fun P HP => wy_readx hl U HP) e (fun v o => ⟨if_pos z, zz_in hl D U⟩)
    · refine br_f z ?_
      show wpY_most _ _ _ _
      unfold wpY_most
      exact wy_cost hl hij hj U.2.1 U.2.2.1 (fun P HP => wy_readx hl U HP) e (fun v o => ⟨if_neg z, zz_in hl D U⟩)
end QUEST
end
section
section COUNT
variable {f_height f_made f_places f_count f_useEmpty f_useEmptyWays f_length : Int32} {a_low a_hasEmpty a_emptyWays a_kind a_firstWays a_firstMin a_firstMax a_lastWays a_lastMin a_lastMax a_followWays a_followMin a_followMax a_useKind a_inWays a_inMin a_inMax a_outWays a_outMin a_outMax a_goWays a_goMin a_goMax a_text a_nowWays a_nowMin a_nowMax a_thenWays a_thenMin a_thenMax a_gotWays a_gotMin a_gotMax a_paid : Nat → Int32}
variable {f_steps f_depth f_atoms f_size f_n : Int32} {a_draftOp a_draftLetter a_draftCost a_op a_letterOf a_costOf a_value a_open : Nat → Int32}
variable {h m pl cn ln sz : Nat}
theorem wx_win19 {post : Int32 → SX → Prop} {J : Int32 → Int32 → Int32 → Int32 → Int32 → Int32 → Int32 → Int32 → Int32 → (Nat → Int32) → (Nat → Int32) → (Nat → Int32) → (Nat → Int32) → (Nat → Int32) → (Nat → Int32) → (Nat → Int32) → (Nat → Int32) → (Nat → Int32) → (Nat → Int32) → (Nat → Int32) → (Nat → Int32) → (Nat → Int32) → (Nat → Int32) → (Nat → Int32) → (Nat → Int32) → (Nat → Int32) → (Nat → Int32) → (Nat → Int32) → (Nat → Int32) → (Nat → Int32) → (Nat → Int32) → (Nat → Int32) → (Nat → Int32) → (Nat → Int32) → (Nat → Int32) → (Nat → Int32) → (Nat → Int32) → (Nat → Int32) → (Nat → Int32) → (Nat → Int32) → (Nat → Int32) → (Nat → Int32) → (Nat → Int32) → Prop} {i : Nat} {V : Nat → Nat → Int32} (hl : ln ≤ 8) (hg : ∀ j, i ≤ j → j ≤ ln → a_gotMin j = V (j - i) i) :
    ∀ (n j : Nat) (a : Int32), i ≤ j → j ≤ ln + 1 → ln + 1 - j < n → J (qf_ (fun j a => st_w (V (j - i) i) a) (ln + 1 - j) j a) (nI (i + 1)) f_height f_made f_places f_count f_useEmpty f_useEmptyWays (nI ln) a_low a_hasEmpty a_emptyWays a_kind a_firstWays a_firstMin a_firstMax a_lastWays a_lastMin a_lastMax a_followWays a_followMin a_followMax a_useKind a_inWays a_inMin a_inMax a_outWays a_outMin a_outMax a_goWays a_goMin a_goMax a_text a_nowWays a_nowMin a_nowMax a_thenWays a_thenMin a_thenMax a_gotWays a_gotMin a_gotMax a_paid → wX_windows_19 post J (nI i) f_height f_made f_places f_count f_useEmpty f_useEmptyWays (nI ln) a_low a_hasEmpty a_emptyWays a_kind a_firstWays a_firstMin a_firstMax a_lastWays a_lastMin a_lastMax a_followWays a_followMin a_followMax a_useKind a_inWays a_inMin a_inMax a_outWays a_outMin a_outMax a_goWays a_goMin a_goMax a_text a_nowWays a_nowMin a_nowMax a_thenWays a_thenMin a_thenMax a_gotWays a_gotMin a_gotMax a_paid n a (nI j) := by
  intro n
  induction n with
  | zero => intro j a _ _ h; omega
  | succ n ih =>
    intro j a hij hj hn H
    unfold wX_windows_19
    by_cases e : j = ln + 1
    · subst e
      rw [Nat.sub_self, qf_0] at H
      exact br_t (nI_lt (by omega) (by omega)) (nm_r (nI_1 i) H)
    · rw [qf_s (by omega)] at H
      have ih' := ih (j + 1) _ (by omega) (by omega) (by omega) H
      refine br_f (nI_nlt (by omega) (by omega)) (And.intro (vp_in_nI (by omega) (by decide)) ?_)
      rw [xi_c (by omega), hg j hij (by omega)]
      by_cases z : V (j - i) i < 0
      · rw [show st_w (V (j - i) i) a = a from if_pos z] at ih'
        exact br_t z (nm_r (nI_1 j) ih')
      · rw [show st_w (V (j - i) i) a = a + 1 from if_neg z] at ih'
        exact br_f z (nm_e (nm_r (nI_1 j) ih'))
theorem wx_win4 {post : Int32 → SX → Prop} {R : Int32} (hl : ln ≤ 8) (U : rl_U cn sz f_useEmpty f_useEmptyWays a_useKind a_inWays a_inMin a_inMax a_outWays a_outMin a_outMax a_goWays a_goMin a_goMax a_op a_letterOf a_costOf)
    (H : ∀ nw nm nx tw tm tx gw gm gx : Nat → Int32, post R (f_height, f_made, f_places, nI cn, f_useEmpty, f_useEmptyWays, nI ln, a_low, a_hasEmpty, a_emptyWays, a_kind, a_firstWays, a_firstMin, a_firstMax, a_lastWays, a_lastMin, a_lastMax, a_followWays, a_followMin, a_followMax, a_useKind, a_inWays, a_inMin, a_inMax, a_outWays, a_outMin, a_outMax, a_goWays, a_goMin, a_goMax, a_text, nw, nm, nx, tw, tm, tx, gw, gm, gx, a_paid)) :
    ∀ (n i : Nat) (a : Int32) (nw nm nx tw tm tx gw gm gx : Nat → Int32), i ≤ ln + 1 → ln + 1 - i < n → qo_ st_w (vv_n a_op a_letterOf a_costOf a_text sz) ln (ln + 1 - i) i a = R →
      wX_windows_4 post n a (nI i) f_height f_made f_places (nI cn) f_useEmpty f_useEmptyWays (nI ln) a_low a_hasEmpty a_emptyWays a_kind a_firstWays a_firstMin a_firstMax a_lastWays a_lastMin a_lastMax a_followWays a_followMin a_followMax a_useKind a_inWays a_inMin a_inMax a_outWays a_outMin a_outMax a_goWays a_goMin a_goMax a_text nw nm nx tw tm tx gw gm gx a_paid := by
  intro n
  induction n with
  | zero => intro i a _ _ _ _ _ _ _ _ _ _ h; omega
  | succ n ih =>
    intro i a nw nm nx tw tm tx gw gm gx hi hn hR
    unfold wX_windows_4
    by_cases e : i = ln + 1
    · subst e
      rw [Nat.sub_self] at hR
      exact br_t (nI_lt (by omega) (by omega)) (by rw [show a = R from hR]; exact H nw nm nx tw tm tx gw gm gx)
    · unfold qo_ at hR
      rw [qf_s (by omega)] at hR
      refine br_f (nI_nlt (by omega) (by omega)) (wx_sweepU hl (by omega) U (fun nw' nm' nx' tw' tm' tx' gw' gm' gx' g => ?_))
      exact ⟨ln + 2 - i, wx_win19 hl (fun j h1 h2 => (g j h1 h2).2.1) (ln + 2 - i) i a (Nat.le_refl i) (by omega) (by omega) (ih (i + 1) _ nw' nm' nx' tw' tm' tx' gw' gm' gx' (by omega) (by omega) hR)⟩
theorem wy_win19 {post : Int32 → SY → Prop} {J : Int32 → Int32 → Prop} {i : Nat} {V : Nat → Nat → Int32} (hl : ln ≤ 8) (h1 : 1 ≤ sz) (h2 : sz ≤ 20) (hi : i ≤ ln) (hg : ∀ j, i ≤ j → j ≤ ln → a_value ((sz - 1) * 81 + i * 9 + j) = V (j - i) i) :
    ∀ (n j : Nat) (a : Int32), i ≤ j → j ≤ ln + 1 → ln + 1 - j < n → J (qf_ (fun j a => st_w (V (j - i) i) a) (ln + 1 - j) j a) (nI (i + 1)) → wY_windows_19 post J (nI i) f_steps f_depth f_atoms (nI sz) (nI ln) a_draftOp a_draftLetter a_draftCost a_op a_letterOf a_costOf a_text a_value a_open n a (nI j) := by
  intro n
  induction n with
  | zero => intro j a _ _ h; omega
  | succ n ih =>
    intro j a hij hj hn H
    unfold wY_windows_19
    by_cases e : j = ln + 1
    · subst e
      rw [Nat.sub_self, qf_0] at H
      exact br_t (nI_lt (by omega) (by omega)) (nm_r (nI_1 i) H)
    · rw [qf_s (by omega)] at H
      have ih' := ih (j + 1) _ (by omega) (by omega) (by omega) H
      refine br_f (nI_nlt (by omega) (by omega)) (wy_whole h1 h2 (by omega) (by omega) ?_)
      rw [hg j hij (by omega)]
      by_cases z : V (j - i) i < 0
      · rw [show st_w (V (j - i) i) a = a from if_pos z] at ih'
        exact br_t z (nm_r (nI_1 j) ih')
      · rw [show st_w (V (j - i) i) a = a + 1 from if_neg z] at ih'
        exact br_f z (nm_e (nm_r (nI_1 j) ih'))
theorem wy_win9 {post : Int32 → SY → Prop} {R : Int32} {V : Nat → Nat → Int32} (hl : ln ≤ 8) (h1 : 1 ≤ sz) (h2 : sz ≤ 20) (hg : ∀ i j, i ≤ j → j ≤ ln → a_value ((sz - 1) * 81 + i * 9 + j) = V (j - i) i) (H : post R (f_steps, f_depth, f_atoms, nI sz, nI ln, a_draftOp, a_draftLetter, a_draftCost, a_op, a_letterOf, a_costOf, a_text, a_value, a_open)) :
    ∀ (n i : Nat) (a : Int32), i ≤ ln + 1 → ln + 1 - i < n → qo_ st_w V ln (ln + 1 - i) i a = R → wY_windows_9 post f_steps f_depth f_atoms (nI sz) (nI ln) a_draftOp a_draftLetter a_draftCost a_op a_letterOf a_costOf a_text a_value a_open n a (nI i) := by
  intro n
  induction n with
  | zero => intro i a _ h; omega
  | succ n ih =>
    intro i a hi hn hR
    unfold wY_windows_9
    by_cases e : i = ln + 1
    · subst e
      rw [Nat.sub_self] at hR
      exact br_t (nI_lt (by omega) (by omega)) (by rw [show a = R from hR]; exact H)
    · unfold qo_ at hR
      rw [qf_s (by omega)] at hR
      refine br_f (nI_nlt (by omega) (by omega)) ?_
      exact ⟨ln + 2 - i, wy_win19 hl h1 h2 (by omega) (fun j h1 h2 => hg i j h1 h2) (ln + 2 - i) i a (Nat.le_refl i) (by omega) (by omega) (ih (i + 1) _ (by omega) (by omega) hR)⟩
theorem vc_windows {k : Nat} (hl : ln ≤ 8) (D : rl_D h m pl a_low a_hasEmpty a_emptyWays a_kind a_firstWays a_firstMin a_firstMax a_lastWays a_lastMin a_lastMax a_followWays a_followMin a_followMax a_draftOp a_draftLetter a_draftCost) (U : rl_U cn sz f_useEmpty f_useEmptyWays a_useKind a_inWays a_inMin a_inMax a_outWays a_outMin a_outMax a_goWays a_goMin a_goMax a_op a_letterOf a_costOf) :
    wpX_windows (fun r u' => wpY_windows (fun r' v' => r' = r ∧ i_Rel k u' v') (nI m, nI h, nI pl, nI sz, nI ln, a_draftOp, a_draftLetter, a_draftCost, a_op, a_letterOf, a_costOf, a_text, a_value, a_open)) (nI h, nI m, nI pl, nI cn, f_useEmpty, f_useEmptyWays, nI ln, a_low, a_hasEmpty, a_emptyWays, a_kind, a_firstWays, a_firstMin, a_firstMax, a_lastWays, a_lastMin, a_lastMax, a_followWays, a_followMin, a_followMax, a_useKind, a_inWays, a_inMin, a_inMax, a_outWays, a_outMin, a_outMax, a_goWays, a_goMin, a_goMax, a_text, a_nowWays, a_nowMin, a_nowMax, a_thenWays, a_thenMin, a_thenMax, a_gotWays, a_gotMin, a_gotMax, a_paid) := by
  unfold wpX_windows
  refine ⟨ln + 2, wx_win4 (R := qo_ st_w (vv_n a_op a_letterOf a_costOf a_text sz) ln (ln + 1 - 0) 0 0) hl U (fun nw nm nx tw tm tx gw gm gx => ?_) (ln + 2) 0 0 _ _ _ _ _ _ _ _ _ (by omega) (by omega) rfl⟩
  show wpY_windows _ _
  unfold wpY_windows
  exact wy_readn hl U (fun v o hv => ⟨ln + 2, wy_win9 hl U.2.1 U.2.2.1 hv ⟨rfl, zz_in hl D U⟩ (ln + 2) 0 0 (by omega) (by omega) rfl⟩)
/-! the sum -/
theorem wx_all19 {post : Int32 → SX → Prop} {J : Int32 → Int32 → Int32 → Int32 → Int32 → Int32 → Int32 → Int32 → Int32 → (Nat → Int32) → (Nat → Int32) → (Nat → Int32) → (Nat → Int32) → (Nat → Int32) → (Nat → Int32) → (Nat → Int32) → (Nat → Int32) → (Nat → Int32) → (Nat → Int32) → (Nat → Int32) → (Nat → Int32) → (Nat → Int32) → (Nat → Int32) → (Nat → Int32) → (Nat → Int32) → (Nat → Int32) → (Nat → Int32) → (Nat → Int32) → (Nat → Int32) → (Nat → Int32) → (Nat → Int32) → (Nat → Int32) → (Nat → Int32) → (Nat → Int32) → (Nat → Int32) → (Nat → Int32) → (Nat → Int32) → (Nat → Int32) → (Nat → Int32) → (Nat → Int32) → (Nat → Int32) → (Nat → Int32) → (Nat → Int32) → Prop} {i : Nat} {V : Nat → Nat → Int32} (hl : ln ≤ 8) (hg : ∀ j, i ≤ j → j ≤ ln → a_gotWays j = V (j - i) i) :
    ∀ (n j : Nat) (a : Int32), i ≤ j → j ≤ ln + 1 → ln + 1 - j < n → J (qf_ (fun j a => st_a (V (j - i) i) a) (ln + 1 - j) j a) (nI (i + 1)) f_height f_made f_places f_count f_useEmpty f_useEmptyWays (nI ln) a_low a_hasEmpty a_emptyWays a_kind a_firstWays a_firstMin a_firstMax a_lastWays a_lastMin a_lastMax a_followWays a_followMin a_followMax a_useKind a_inWays a_inMin a_inMax a_outWays a_outMin a_outMax a_goWays a_goMin a_goMax a_text a_nowWays a_nowMin a_nowMax a_thenWays a_thenMin a_thenMax a_gotWays a_gotMin a_gotMax a_paid → wX_allWays_19 post J (nI i) f_height f_made f_places f_count f_useEmpty f_useEmptyWays (nI ln) a_low a_hasEmpty a_emptyWays a_kind a_firstWays a_firstMin a_firstMax a_lastWays a_lastMin a_lastMax a_followWays a_followMin a_followMax a_useKind a_inWays a_inMin a_inMax a_outWays a_outMin a_outMax a_goWays a_goMin a_goMax a_text a_nowWays a_nowMin a_nowMax a_thenWays a_thenMin a_thenMax a_gotWays a_gotMin a_gotMax a_paid n a (nI j) := by
  intro n
  induction n with
  | zero => intro j a _ _ h; omega
  | succ n ih =>
    intro j a hij hj hn H
    unfold wX_allWays_19
    by_cases e : j = ln + 1
    · subst e
      rw [Nat.sub_self, qf_0] at H
      exact br_t (nI_lt (by omega) (by omega)) (nm_r (nI_1 i) H)
    · rw [qf_s (by omega)] at H
      have ih' := ih (j + 1) _ (by omega) (by omega) (by omega) H
      refine br_f (nI_nlt (by omega) (by omega)) (And.intro (vp_in_nI (by omega) (by decide)) ?_)
      rw [xi_c (by omega), hg j hij (by omega)]
      exact nm_e (nm_r (nI_1 j) ih')
theorem wx_all4 {post : Int32 → SX → Prop} {R : Int32} (hl : ln ≤ 8) (U : rl_U cn sz f_useEmpty f_useEmptyWays a_useKind a_inWays a_inMin a_inMax a_outWays a_outMin a_outMax a_goWays a_goMin a_goMax a_op a_letterOf a_costOf)
    (H : ∀ nw nm nx tw tm tx gw gm gx : Nat → Int32, post R (f_height, f_made, f_places, nI cn, f_useEmpty, f_useEmptyWays, nI ln, a_low, a_hasEmpty, a_emptyWays, a_kind, a_firstWays, a_firstMin, a_firstMax, a_lastWays, a_lastMin, a_lastMax, a_followWays, a_followMin, a_followMax, a_useKind, a_inWays, a_inMin, a_inMax, a_outWays, a_outMin, a_outMax, a_goWays, a_goMin, a_goMax, a_text, nw, nm, nx, tw, tm, tx, gw, gm, gx, a_paid)) :
    ∀ (n i : Nat) (a : Int32) (nw nm nx tw tm tx gw gm gx : Nat → Int32), i ≤ ln + 1 → ln + 1 - i < n → qo_ st_a (vv_0 a_op a_letterOf a_costOf a_text sz) ln (ln + 1 - i) i a = R →
      wX_allWays_4 post n a (nI i) f_height f_made f_places (nI cn) f_useEmpty f_useEmptyWays (nI ln) a_low a_hasEmpty a_emptyWays a_kind a_firstWays a_firstMin a_firstMax a_lastWays a_lastMin a_lastMax a_followWays a_followMin a_followMax a_useKind a_inWays a_inMin a_inMax a_outWays a_outMin a_outMax a_goWays a_goMin a_goMax a_text nw nm nx tw tm tx gw gm gx a_paid := by
  intro n
  induction n with
  | zero => intro i a _ _ _ _ _ _ _ _ _ _ h; omega
  | succ n ih =>
    intro i a nw nm nx tw tm tx gw gm gx hi hn hR
    unfold wX_allWays_4
    by_cases e : i = ln + 1
    · subst e
      rw [Nat.sub_self] at hR
      exact br_t (nI_lt (by omega) (by omega)) (by rw [show a = R from hR]; exact H nw nm nx tw tm tx gw gm gx)
    · unfold qo_ at hR
      rw [qf_s (by omega)] at hR
      refine br_f (nI_nlt (by omega) (by omega)) (wx_sweepU hl (by omega) U (fun nw' nm' nx' tw' tm' tx' gw' gm' gx' g => ?_))
      exact ⟨ln + 2 - i, wx_all19 hl (fun j h1 h2 => (g j h1 h2).1) (ln + 2 - i) i a (Nat.le_refl i) (by omega) (by omega) (ih (i + 1) _ nw' nm' nx' tw' tm' tx' gw' gm' gx' (by omega) (by omega) hR)⟩
theorem wy_all19 {post : Int32 → SY → Prop} {J : Int32 → Int32 → Prop} {i : Nat} {V : Nat → Nat → Int32} (hl : ln ≤ 8) (h1 : 1 ≤ sz) (h2 : sz ≤ 20) (hi : i ≤ ln) (hg : ∀ j, i ≤ j → j ≤ ln → a_value ((sz - 1) * 81 + i * 9 + j) = V (j - i) i) :
    ∀ (n j : Nat) (a : Int32), i ≤ j → j ≤ ln + 1 → ln + 1 - j < n → J (qf_ (fun j a => st_a (V (j - i) i) a) (ln + 1 - j) j a) (nI (i + 1)) → wY_allWays_19 post J (nI i) f_steps f_depth f_atoms (nI sz) (nI ln) a_draftOp a_draftLetter a_draftCost a_op a_letterOf a_costOf a_text a_value a_open n a (nI j) := by
  intro n
  induction n with
  | zero => intro j a _ _ h; omega
  | succ n ih =>
    intro j a hij hj hn H
    unfold wY_allWays_19
    by_cases e : j = ln + 1
    · subst e
      rw [Nat.sub_self, qf_0] at H
      exact br_t (nI_lt (by omega) (by omega)) (nm_r (nI_1 i) H)
    · rw [qf_s (by omega)] at H
      have ih' := ih (j + 1) _ (by omega) (by omega) (by omega) H
      refine br_f (nI_nlt (by omega) (by omega)) (wy_whole h1 h2 (by omega) (by omega) ?_)
      rw [hg j hij (by omega)]
      exact nm_e (nm_r (nI_1 j) ih')
theorem wy_all9 {post : Int32 → SY → Prop} {R : Int32} {V : Nat → Nat → Int32} (hl : ln ≤ 8) (h1 : 1 ≤ sz) (h2 : sz ≤ 20) (hg : ∀ i j, i ≤ j → j ≤ ln → a_value ((sz - 1) * 81 + i * 9 + j) = V (j - i) i) (H : post R (f_steps, f_depth, f_atoms, nI sz, nI ln, a_draftOp, a_draftLetter, a_draftCost, a_op, a_letterOf, a_costOf, a_text, a_value, a_open)) :
    ∀ (n i : Nat) (a : Int32), i ≤ ln + 1 → ln + 1 - i < n → qo_ st_a V ln (ln + 1 - i) i a = R → wY_allWays_9 post f_steps f_depth f_atoms (nI sz) (nI ln) a_draftOp a_draftLetter a_draftCost a_op a_letterOf a_costOf a_text a_value a_open n a (nI i) := by
  intro n
  induction n with
  | zero => intro i a _ h; omega
  | succ n ih =>
    intro i a hi hn hR
    unfold wY_allWays_9
    by_cases e : i = ln + 1
    · subst e
      rw [Nat.sub_self] at hR
      exact br_t (nI_lt (by omega) (by omega)) (by rw [show a = R from hR]; exact H)
    · unfold qo_ at hR
      rw [qf_s (by omega)] at hR
      refine br_f (nI_nlt (by omega) (by omega)) ?_
      exact ⟨ln + 2 - i, wy_all19 hl h1 h2 (by omega) (fun j h1 h2 => hg i j h1 h2) (ln + 2 - i) i a (Nat.le_refl i) (by omega) (by omega) (ih (i + 1) _ (by omega) (by omega) hR)⟩
theorem vc_allWays {k : Nat} (hl : ln ≤ 8) (D : rl_D h m pl a_low a_hasEmpty a_emptyWays a_kind a_firstWays a_firstMin a_firstMax a_lastWays a_lastMin a_lastMax a_followWays a_followMin a_followMax a_draftOp a_draftLetter a_draftCost) (U : rl_U cn sz f_useEmpty f_useEmptyWays a_useKind a_inWays a_inMin a_inMax a_outWays a_outMin a_outMax a_goWays a_goMin a_goMax a_op a_letterOf a_costOf) :
    wpX_allWays (fun r u' => wpY_allWays (fun r' v' => r' = r ∧ i_Rel k u' v') (nI m, nI h, nI pl, nI sz, nI ln, a_draftOp, a_draftLetter, a_draftCost, a_op, a_letterOf, a_costOf, a_text, a_value, a_open)) (nI h, nI m, nI pl, nI cn, f_useEmpty, f_useEmptyWays, nI ln, a_low, a_hasEmpty, a_emptyWays, a_kind, a_firstWays, a_firstMin, a_firstMax, a_lastWays, a_lastMin, a_lastMax, a_followWays, a_followMin, a_followMax, a_useKind, a_inWays, a_inMin, a_inMax, a_outWays, a_outMin, a_outMax, a_goWays, a_goMin, a_goMax, a_text, a_nowWays, a_nowMin, a_nowMax, a_thenWays, a_thenMin, a_thenMax, a_gotWays, a_gotMin, a_gotMax, a_paid) := by
  unfold wpX_allWays
  refine ⟨ln + 2, wx_all4 (R := qo_ st_a (vv_0 a_op a_letterOf a_costOf a_text sz) ln (ln + 1 - 0) 0 0) hl U (fun nw nm nx tw tm tx gw gm gx => ?_) (ln + 2) 0 0 _ _ _ _ _ _ _ _ _ (by omega) (by omega) rfl⟩
  show wpY_allWays _ _
  unfold wpY_allWays
  exact wy_read0 hl U (fun v o hv => ⟨ln + 2, wy_all9 hl U.2.1 U.2.2.1 hv ⟨rfl, zz_in hl D U⟩ (ln + 2) 0 0 (by omega) (by omega) rfl⟩)
/-! the longest window from i -/
theorem lg_lt (i : Nat) (hi : i < 2 ^ 31) : nI i + (-1) < nI i := by
  cases i with
  | zero => decide
  | succ i => rw [pk_m1]; exact nI_lt (by omega) hi
theorem wx_long24 {post : Int32 → SX → Prop} {i : Nat} {V : Nat → Nat → Int32} (hi : i ≤ 8) (hl : ln ≤ 8) (hg : ∀ j, i ≤ j → j ≤ ln → a_gotMin j = V (j - i) i) :
    ∀ c : Nat, i + c ≤ ln + 1 → post (ql_ V i c) (f_height, f_made, f_places, f_count, f_useEmpty, f_useEmptyWays, nI ln, a_low, a_hasEmpty, a_emptyWays, a_kind, a_firstWays, a_firstMin, a_firstMax, a_lastWays, a_lastMin, a_lastMax, a_followWays, a_followMin, a_followMax, a_useKind, a_inWays, a_inMin, a_inMax, a_outWays, a_outMin, a_outMax, a_goWays, a_goMin, a_goMax, a_text, a_nowWays, a_nowMin, a_nowMax, a_thenWays, a_thenMin, a_thenMax, a_gotWays, a_gotMin, a_gotMax, a_paid) → wX_longest_24 post (nI i) f_height f_made f_places f_count f_useEmpty f_useEmptyWays (nI ln) a_low a_hasEmpty a_emptyWays a_kind a_firstWays a_firstMin a_firstMax a_lastWays a_lastMin a_lastMax a_followWays a_followMin a_followMax a_useKind a_inWays a_inMin a_inMax a_outWays a_outMin a_outMax a_goWays a_goMin a_goMax a_text a_nowWays a_nowMin a_nowMax a_thenWays a_thenMin a_thenMax a_gotWays a_gotMin a_gotMax a_paid (c + 1) (nI (i + c) + (-1)) := by
  intro c
  induction c with
  | zero =>
    intro _ H
    unfold wX_longest_24
    exact br_t (lg_lt i (by omega)) H
  | succ c ih =>
    intro hc H
    unfold wX_longest_24
    rw [show i + (c + 1) = i + c + 1 from rfl, pk_m1]
    refine br_f (nI_nlt (by omega) (by omega)) (And.intro (vp_in_nI (by omega) (by decide)) ?_)
    rw [xi_c (by omega), hg (i + c) (by omega) (by omega), show i + c - i = c from by omega]
    unfold ql_ at H
    by_cases z : V c i < 0
    · rw [if_pos z] at H
      exact br_t z (nm_e (ih (by omega) H))
    · rw [if_neg z] at H
      exact br_f z H
theorem wy_long24 {post : Int32 → SY → Prop} {i : Nat} {V : Nat → Nat → Int32} (hi : i ≤ 8) (hl : ln ≤ 8) (h1 : 1 ≤ sz) (h2 : sz ≤ 20) (hg : ∀ i j, i ≤ j → j ≤ ln → a_value ((sz - 1) * 81 + i * 9 + j) = V (j - i) i) :
    ∀ c : Nat, i + c ≤ ln + 1 → post (ql_ V i c) (f_steps, f_depth, f_atoms, nI sz, nI ln, a_draftOp, a_draftLetter, a_draftCost, a_op, a_letterOf, a_costOf, a_text, a_value, a_open) → wY_longest_24 post (nI i) f_steps f_depth f_atoms (nI sz) (nI ln) a_draftOp a_draftLetter a_draftCost a_op a_letterOf a_costOf a_text a_value a_open (c + 1) (nI (i + c) + (-1)) := by
  intro c
  induction c with
  | zero =>
    intro _ H
    unfold wY_longest_24
    exact br_t (lg_lt i (by omega)) H
  | succ c ih =>
    intro hc H
    unfold wY_longest_24
    rw [show i + (c + 1) = i + c + 1 from rfl, pk_m1]
    refine br_f (nI_nlt (by omega) (by omega)) (wy_whole h1 h2 (by omega) (by omega) ?_)
    rw [hg i (i + c) (by omega) (by omega), show i + c - i = c from by omega]
    unfold ql_ at H
    by_cases z : V c i < 0
    · rw [if_pos z] at H
      exact br_t z (nm_e (ih (by omega) H))
    · rw [if_neg z] at H
      exact br_f z H
theorem vc_longest {k : Nat} (hl : ln ≤ 8) (D : rl_D h m pl a_low a_hasEmpty a_emptyWays a_kind a_firstWays a_firstMin a_firstMax a_lastWays a_lastMin a_lastMax a_followWays a_followMin a_followMax a_draftOp a_draftLetter a_draftCost) (U : rl_U cn sz f_useEmpty f_useEmptyWays a_useKind a_inWays a_inMin a_inMax a_outWays a_outMin a_outMax a_goWays a_goMin a_goMax a_op a_letterOf a_costOf) (v1 : Int32) :
    wpX_longest (fun r u' => wpY_longest (fun r' v' => r' = r ∧ i_Rel k u' v') (nI m, nI h, nI pl, nI sz, nI ln, a_draftOp, a_draftLetter, a_draftCost, a_op, a_letterOf, a_costOf, a_text, a_value, a_open) v1) (nI h, nI m, nI pl, nI cn, f_useEmpty, f_useEmptyWays, nI ln, a_low, a_hasEmpty, a_emptyWays, a_kind, a_firstWays, a_firstMin, a_firstMax, a_lastWays, a_lastMin, a_lastMax, a_followWays, a_followMin, a_followMax, a_useKind, a_inWays, a_inMin, a_inMax, a_outWays, a_outMin, a_outMax, a_goWays, a_goMin, a_goMax, a_text, a_nowWays, a_nowMin, a_nowMax, a_thenWays, a_thenMin, a_thenMax, a_gotWays, a_gotMin, a_gotMax, a_paid) v1 := by
  have I : i_Rel k (nI h, nI m, nI pl, nI cn, f_useEmpty, f_useEmptyWays, nI ln, a_low, a_hasEmpty, a_emptyWays, a_kind, a_firstWays, a_firstMin, a_firstMax, a_lastWays, a_lastMin, a_lastMax, a_followWays, a_followMin, a_followMax, a_useKind, a_inWays, a_inMin, a_inMax, a_outWays, a_outMin, a_outMax, a_goWays, a_goMin, a_goMax, a_text, a_nowWays, a_nowMin, a_nowMax, a_thenWays, a_thenMin, a_thenMax, a_gotWays, a_gotMin, a_gotMax, a_paid) (nI m, nI h, nI pl, nI sz, nI ln, a_draftOp, a_draftLetter, a_draftCost, a_op, a_letterOf, a_costOf, a_text, a_value, a_open) := zz_in hl D U
  unfold wpX_longest
  by_cases i0 : v1 < 0
  · exact br_t i0 (br_t i0 ⟨rfl, I⟩)
  · by_cases i1 : v1 ≤ nI ln
    · obtain ⟨i, hi, rfl⟩ := nI_of i0
      have i2 := i1
      rw [nI_leI hi (by omega)] at i2
      have el : nI ln = nI (i + (ln + 1 - i)) + (-1) := by rw [show i + (ln + 1 - i) = ln + 1 from by omega, pk_m1]
      refine br_f i0 (br_t i1 (wx_sweepU hl (by omega) U (fun nw nm nx tw tm tx gw gm gx g => ?_)))
      have X : ∀ post : Int32 → SX → Prop, post (ql_ (vv_n a_op a_letterOf a_costOf a_text sz) i (ln + 1 - i)) (nI h, nI m, nI pl, nI cn, f_useEmpty, f_useEmptyWays, nI ln, a_low, a_hasEmpty, a_emptyWays, a_kind, a_firstWays, a_firstMin, a_firstMax, a_lastWays, a_lastMin, a_lastMax, a_followWays, a_followMin, a_followMax, a_useKind, a_inWays, a_inMin, a_inMax, a_outWays, a_outMin, a_outMax, a_goWays, a_goMin, a_goMax, a_text, nw, nm, nx, tw, tm, tx, gw, gm, gx, a_paid) → wX_longest_24 post (nI i) (nI h) (nI m) (nI pl) (nI cn) f_useEmpty f_useEmptyWays (nI ln) a_low a_hasEmpty a_emptyWays a_kind a_firstWays a_firstMin a_firstMax a_lastWays a_lastMin a_lastMax a_followWays a_followMin a_followMax a_useKind a_inWays a_inMin a_inMax a_outWays a_outMin a_outMax a_goWays a_goMin a_goMax a_text nw nm nx tw tm tx gw gm gx a_paid (ln + 1 - i + 1) (nI (i + (ln + 1 - i)) + (-1)) :=
        fun post H => wx_long24 (by omega) hl (fun j h1 h2 => (g j h1 h2).2.1) (ln + 1 - i) (by omega) H
      have Y : ∀ (v o : Nat → Int32) (post : Int32 → SY → Prop), (∀ i j, i ≤ j → j ≤ ln → v ((sz - 1) * 81 + i * 9 + j) = vv_n a_op a_letterOf a_costOf a_text sz (j - i) i) → post (ql_ (vv_n a_op a_letterOf a_costOf a_text sz) i (ln + 1 - i)) (nI m, nI h, nI pl, nI sz, nI ln, a_draftOp, a_draftLetter, a_draftCost, a_op, a_letterOf, a_costOf, a_text, v, o) → wY_longest_24 post (nI i) (nI m) (nI h) (nI pl) (nI sz) (nI ln) a_draftOp a_draftLetter a_draftCost a_op a_letterOf a_costOf a_text v o (ln + 1 - i + 1) (nI (i + (ln + 1 - i)) + (-1)) :=
        fun v o post hv H => wy_long24 (by omega) hl U.2.1 U.2.2.1 hv (ln + 1 - i) (by omega) H
      rw [← el] at X Y
      refine ⟨_, X _ ?_⟩
      exact br_f i0 (br_t i1 (wy_readn hl U (fun v o hv => ⟨_, Y v o _ hv ⟨rfl, zz_in hl D U⟩⟩)))
    · exact br_f i0 (br_f i1 (br_f i0 (br_f i1 ⟨rfl, I⟩)))
end COUNT
end
section
section CPURE
/-! covers: the dynamic programme against all the cuts -/
def cm_ (o : Option Nat) : Nat := match o with
  | none => 12
  | some c => if c ≤ 12 then c else 12
theorem cm_le (o : Option Nat) : cm_ o ≤ 12 := by
  cases o with
  | none => exact Nat.le_refl 12
  | some c =>
    show (if c ≤ 12 then c else 12) ≤ 12
    split <;> omega
def pc_ (W : Nat → Nat → Option Nat) (i j : Nat) : Option Nat := if j = i + 1 then some (cm_ (W i j)) else W i j
def cv_ (pc : Nat → Nat → Option Nat) (n i : Nat) (P : Nat → Nat) : Prop :=
  P 0 = 0 ∧ (∀ j, j ≤ n → P j ≤ 12 * j) ∧ (∀ i' j c, i' < i → i' < j → j ≤ n → pc i' j = some c → P j ≤ P i' + c) ∧
  (∀ j, 0 < j → j ≤ n → P j = 12 * j ∨ ∃ i' c, i' < j ∧ i' ≤ i ∧ pc i' j = some c ∧ P i' + c ≤ P j)
def rx_ (P : Nat → Nat) (i j c : Nat) : Nat → Nat := fun k => if k = j ∧ P i + c < P j then P i + c else P k
theorem rx_le (P : Nat → Nat) (i j c k : Nat) : rx_ P i j c k ≤ P k := by
  unfold rx_
  by_cases h : k = j ∧ P i + c < P j
  · rw [if_pos h, h.1]; omega
  · rw [if_neg h]; exact Nat.le_refl _
theorem rx_n {P : Nat → Nat} {i j c k : Nat} (h : k ≠ j) : rx_ P i j c k = P k := if_neg (fun z => h z.1)
theorem rx_j (P : Nat → Nat) (i j c : Nat) : rx_ P i j c j ≤ P i + c := by
  unfold rx_
  by_cases h : j = j ∧ P i + c < P j
  · rw [if_pos h]; exact Nat.le_refl _
  · rw [if_neg h]
    have : ¬ P i + c < P j := fun z => h ⟨rfl, z⟩
    omega
theorem rx_e (P : Nat → Nat) (i j c : Nat) : rx_ P i j c j = P j ∨ rx_ P i j c j = P i + c := by
  unfold rx_
  by_cases h : j = j ∧ P i + c < P j
  · rw [if_pos h]; exact Or.inr rfl
  · rw [if_neg h]; exact Or.inl rfl
variable {pc : Nat → Nat → Option Nat} {W : Nat → Nat → Option Nat} {n i j : Nat} {P : Nat → Nat}
theorem cv_0 : cv_ pc n 0 (fun j => 12 * j) := ⟨rfl, fun j _ => Nat.le_refl _, fun i' j c h => absurd h (by omega), fun j _ _ => Or.inl rfl⟩
theorem rx_cv {c c' : Nat} (C : cv_ pc n i P) (hij : i < j) (hj : j ≤ n) (hp : pc i j = some c') (hc : c' ≤ c) : cv_ pc n i (rx_ P i j c) := by
  obtain ⟨c0, c1, c2, c3⟩ := C
  refine ⟨?_, fun k hk => Nat.le_trans (rx_le P i j c k) (c1 k hk), fun i' k d h1 h2 h3 h4 => ?_, fun k h1 h2 => ?_⟩
  · rw [rx_n (by omega)]; exact c0
  · rw [rx_n (k := i') (by omega)]
    exact Nat.le_trans (rx_le P i j c k) (c2 i' k d h1 h2 h3 h4)
  · by_cases e : k = j
    · subst e
      rcases rx_e P i k c with z | z
      · rw [z]
        rcases c3 k h1 h2 with y | ⟨i', d, y1, y2, y3, y4⟩
        · exact Or.inl y
        · exact Or.inr ⟨i', d, y1, y2, y3, by rw [rx_n (by omega)]; exact y4⟩
      · exact Or.inr ⟨i, c', hij, Nat.le_refl i, hp, by rw [z, rx_n (by omega)]; omega⟩
    · rw [rx_n e]
      rcases c3 k h1 h2 with y | ⟨i', d, y1, y2, y3, y4⟩
      · exact Or.inl y
      · exact Or.inr ⟨i', d, y1, y2, y3, by rw [rx_n (by omega)]; exact y4⟩
def cj_ (pc : Nat → Nat → Option Nat) (n i j : Nat) (P : Nat → Nat) : Prop := cv_ pc n i P ∧ P (i + 1) ≤ P i + 12 ∧ ∀ j' c, i < j' → j' < j → pc i j' = some c → P j' ≤ P i + c
theorem pc_1 (i : Nat) : pc_ W i (i + 1) = some (cm_ (W i (i + 1))) := if_pos rfl
theorem pc_2 (h : j ≠ i + 1) : pc_ W i j = W i j := if_neg h
theorem cj_0 (C : cv_ (pc_ W) n i P) (hi : i < n) : cj_ (pc_ W) n i (i + 1) (rx_ P i (i + 1) 12) :=
  ⟨rx_cv C (by omega) (by omega) (pc_1 i) (cm_le _), by rw [rx_n (k := i) (by omega)]; exact rx_j P i (i + 1) 12, fun j' c h1 h2 => by omega⟩
theorem cj_n (C : cj_ (pc_ W) n i j P) (h : W i j = none) : cj_ (pc_ W) n i (j + 1) P := by
  obtain ⟨c0, c1, c2⟩ := C
  refine ⟨c0, c1, fun j' c h1 h2 h3 => ?_⟩
  by_cases e : j' = j
  · subst e
    by_cases e2 : j' = i + 1
    · subst e2
      rw [pc_1, h] at h3
      have : 12 = c := Option.some.inj h3
      omega
    · rw [pc_2 e2, h] at h3
      exact absurd h3 (by simp)
  · exact c2 j' c h1 (by omega) h3
theorem cj_s {c : Nat} (C : cj_ (pc_ W) n i j P) (hij : i < j) (hj : j ≤ n) (h : W i j = some c) : cj_ (pc_ W) n i (j + 1) (rx_ P i j c) := by
  obtain ⟨c0, c1, c2⟩ := C
  have hp : ∃ c', pc_ W i j = some c' ∧ c' ≤ c := by
    by_cases e2 : j = i + 1
    · subst e2
      refine ⟨_, pc_1 i, ?_⟩
      rw [h]
      show (if c ≤ 12 then c else 12) ≤ c
      split <;> omega
    · exact ⟨c, by rw [pc_2 e2, h], Nat.le_refl c⟩
  obtain ⟨c', hp1, hp2⟩ := hp
  have ei : rx_ P i j c i = P i := rx_n (by omega)
  refine ⟨rx_cv c0 hij hj hp1 hp2, ?_, fun j' d h1 h2 h3 => ?_⟩
  · rw [ei]; exact Nat.le_trans (rx_le P i j c _) c1
  · rw [ei]
    by_cases e : j' = j
    · subst e
      by_cases e2 : j' = i + 1
      · subst e2
        rw [pc_1, h] at h3
        have h4 : (if c ≤ 12 then c else 12) = d := Option.some.inj h3
        have h5 := rx_j P i (i + 1) c
        have h6 := rx_le P i (i + 1) c (i + 1)
        split at h4 <;> omega
      · rw [pc_2 e2, h] at h3
        have : c = d := Option.some.inj h3
        subst this
        exact rx_j P i j' c
    · exact Nat.le_trans (rx_le P i j c j') (c2 j' d h1 (by omega) h3)
theorem cj_e (C : cj_ (pc_ W) n i (n + 1) P) : cv_ (pc_ W) n (i + 1) P := by
  obtain ⟨⟨c0, c1, c2, c3⟩, _, c4⟩ := C
  refine ⟨c0, c1, fun i' j c h1 h2 h3 h4 => ?_, fun j h1 h2 => ?_⟩
  · by_cases e : i' = i
    · subst e; exact c4 j c h2 (by omega) h4
    · exact c2 i' j c (by omega) h2 h3 h4
  · rcases c3 j h1 h2 with y | ⟨i', d, y1, y2, y3, y4⟩
    · exact Or.inl y
    · exact Or.inr ⟨i', d, y1, by omega, y3, y4⟩
/-! one set of cuts -/
def ct_ (pc : Nat → Nat → Option Nat) (n : Nat) (b : Nat → Bool) : Nat → Nat → Nat → Nat → Option Nat
  | 0, _, s, _ => some s
  | c + 1, k, s, st => if k + 1 = n ∨ b k = true then (match pc st (k + 1) with
    | none => none
    | some x => ct_ pc n b c (k + 1) (s + x) (k + 1)) else ct_ pc n b c (k + 1) s st
variable {b b' : Nat → Bool}
theorem ct_n {c k s st : Nat} (h : ¬ (k + 1 = n ∨ b k = true)) : ct_ pc n b (c + 1) k s st = ct_ pc n b c (k + 1) s st := by
  rw [ct_, if_neg h]
theorem ct_y {c k s st x : Nat} (h : k + 1 = n ∨ b k = true) (hx : pc st (k + 1) = some x) : ct_ pc n b (c + 1) k s st = ct_ pc n b c (k + 1) (s + x) (k + 1) := by
  rw [ct_, if_pos h, hx]
theorem ct_z {c k s st : Nat} (h : k + 1 = n ∨ b k = true) (hx : pc st (k + 1) = none) : ct_ pc n b (c + 1) k s st = none := by
  rw [ct_, if_pos h, hx]
theorem ct_c (hb : ∀ k, k + 1 < n → b k = b' k) : ∀ c k s st, k + c ≤ n → ct_ pc n b c k s st = ct_ pc n b' c k s st := by
  intro c
  induction c with
  | zero => intro k s st _; rfl
  | succ c ih =>
    intro k s st hk
    have e : (k + 1 = n ∨ b k = true) ↔ (k + 1 = n ∨ b' k = true) := by
      by_cases h : k + 1 = n
      · exact ⟨fun _ => Or.inl h, fun _ => Or.inl h⟩
      · rw [hb k (by omega)]
    by_cases h : k + 1 = n ∨ b k = true
    · cases hx : pc st (k + 1) with
      | none => rw [ct_z h hx, ct_z (e.mp h) hx]
      | some x => rw [ct_y h hx, ct_y (e.mp h) hx]; exact ih _ _ _ (by omega)
    · rw [ct_n h, ct_n (fun z => h (e.mpr z))]; exact ih _ _ _ (by omega)
theorem ct_s (C : cv_ pc n n P) : ∀ c k s st r, k + c = n → st ≤ k → (c = 0 → st = k) → P st ≤ s → ct_ pc n b c k s st = some r → P n ≤ r := by
  intro c
  induction c with
  | zero =>
    intro k s st r hk h1 h2 h3 h4
    have e : s = r := Option.some.inj h4
    have e2 := h2 rfl
    subst e e2
    rw [show n = st from by omega]; exact h3
  | succ c ih =>
    intro k s st r hk h1 h2 h3 h4
    by_cases h : k + 1 = n ∨ b k = true
    · cases hx : pc st (k + 1) with
      | none => rw [ct_z h hx] at h4; exact absurd h4 (by simp)
      | some x =>
        rw [ct_y h hx] at h4
        have := C.2.2.1 st (k + 1) x (by omega) (by omega) (by omega) hx
        exact ih (k + 1) (s + x) (k + 1) r (by omega) (Nat.le_refl _) (fun _ => rfl) (by omega) h4
    · rw [ct_n h] at h4
      have : ¬ k + 1 = n := fun z => h (Or.inl z)
      exact ih (k + 1) s st r (by omega) (by omega) (fun z => by omega) h3 h4
theorem ct_skip {i : Nat} : ∀ e k s, (∀ q, k ≤ q → q < k + e → b q = false) → k + e < n → ct_ pc n b (n - k) k s i = ct_ pc n b (n - (k + e)) (k + e) s i := by
  intro e
  induction e with
  | zero => intro k s _ _; rfl
  | succ e ih =>
    intro k s hb hk
    have hk2 := hb k (Nat.le_refl k) (by omega)
    rw [show n - k = (n - (k + 1)) + 1 from by omega, ct_n (by rw [hk2]; rintro (z | z); omega; exact absurd z (by decide)), ih (k + 1) s (fun q h1 h2 => hb q (by omega) (by omega)) (by omega), show k + 1 + e = k + (e + 1) from by omega]
theorem ct_e (C : cv_ (pc_ W) n n P) : ∀ N j, j ≤ N → j ≤ n → ∃ (s : Nat) (b : Nat → Bool), s ≤ P j ∧ ∀ b' : Nat → Bool, (∀ k, k < j → b' k = b k) → ct_ (pc_ W) n b' n 0 0 0 = ct_ (pc_ W) n b' (n - j) j s j := by
  intro N
  induction N with
  | zero =>
    intro j hj _
    obtain rfl : j = 0 := by omega
    exact ⟨0, fun _ => false, by omega, fun b' _ => rfl⟩
  | succ N ih =>
    intro j hj hjn
    rcases Nat.eq_zero_or_pos j with z | z
    · subst z
      exact ⟨0, fun _ => false, by omega, fun b' _ => rfl⟩
    · have w : ∃ i x, i < j ∧ pc_ W i j = some x ∧ P i + x ≤ P j := by
        rcases C.2.2.2 j z hjn with y | ⟨i', d, y1, y2, y3, y4⟩
        · obtain ⟨q, rfl⟩ : ∃ q, j = q + 1 := ⟨j - 1, by omega⟩
          refine ⟨q, _, by omega, pc_1 q, ?_⟩
          have := C.2.1 q (by omega)
          have := cm_le (W q (q + 1))
          omega
        · exact ⟨i', d, y1, y3, y4⟩
      obtain ⟨i, x, hij, hp, hle⟩ := w
      obtain ⟨s, b, hs, hb⟩ := ih i (by omega) (by omega)
      refine ⟨s + x, fun k => if k < i then b k else decide (k + 1 = j), by omega, fun b' hb' => ?_⟩
      have q1 : ∀ k, k < i → b' k = b k := fun k hk => by
        rw [hb' k (by omega)]; exact if_pos hk
      have q2 : ∀ k, i ≤ k → k < j → b' k = decide (k + 1 = j) := fun k h1 h2 => by
        rw [hb' k h2]; exact if_neg (by omega)
      rw [hb b' q1, ct_skip (j - 1 - i) i s (fun q h1 h2 => by rw [q2 q h1 (by omega)]; exact decide_eq_false (by omega)) (by omega)]
      rw [show i + (j - 1 - i) = j - 1 from by omega, show n - (j - 1) = (n - j) + 1 from by omega]
      rw [ct_y (x := x) (Or.inr (by rw [q2 (j - 1) (by omega) (by omega)]; exact decide_eq_true (by omega))) (by rw [show j - 1 + 1 = j from by omega]; exact hp), show j - 1 + 1 = j from by omega]
theorem tb_ex (b : Nat → Bool) : ∀ n, ∃ c, c < 2 ^ n ∧ ∀ k, k < n → c.testBit k = b k := by
  intro n
  induction n with
  | zero => exact ⟨0, by omega, fun k hk => by omega⟩
  | succ n ih =>
    obtain ⟨c, hc, h⟩ := ih
    cases hb : b n with
    | false =>
      refine ⟨c, by rw [Nat.pow_succ]; omega, fun k hk => ?_⟩
      by_cases e : k = n
      · subst e
        rw [hb, Nat.testBit_lt_two_pow hc]
      · exact h k (by omega)
    | true =>
      refine ⟨2 ^ n + c, by rw [Nat.pow_succ]; omega, fun k hk => ?_⟩
      by_cases e : k = n
      · subst e
        rw [hb, Nat.testBit_two_pow_add_eq, Nat.testBit_lt_two_pow hc]; rfl
      · rw [Nat.testBit_two_pow_add_gt (by omega)]
        exact h k (by omega)
theorem ct_ex (hn : n ≤ 8) (C : cv_ (pc_ W) n n P) : ∃ x r, x < 128 ∧ ct_ (pc_ W) n (fun k => x.testBit k) n 0 0 0 = some r ∧ r ≤ P n := by
  obtain ⟨s, b, hs, hb⟩ := ct_e C n n (Nat.le_refl n) (Nat.le_refl n)
  obtain ⟨x, hx, hxb⟩ := tb_ex b 7
  refine ⟨x, s, hx, ?_, hs⟩
  rw [ct_c (b' := b) (fun k hk => hxb k (by omega)) n 0 0 0 (by omega), hb b (fun _ _ => rfl), Nat.sub_self]; rfl
/-- the least of them -/
theorem cv_eq {B : Nat} (hn : n ≤ 8) (C : cv_ (pc_ W) n n P) (h1 : B ≤ 12 * n) (h2 : ∀ x, x < 128 → ∀ r, ct_ (pc_ W) n (fun k => x.testBit k) n 0 0 0 = some r → B ≤ r)
    (h3 : B = 12 * n ∨ ∃ x : Nat, ct_ (pc_ W) n (fun k => x.testBit k) n 0 0 0 = some B) : B = P n := by
  obtain ⟨x, r, hx, hr, hle⟩ := ct_ex hn C
  have a := h2 x hx r hr
  have c := C.2.1 n (Nat.le_refl n)
  rcases h3 with z | ⟨y, hy⟩
  · omega
  · have := ct_s C n 0 0 0 B (by omega) (Nat.le_refl 0) (fun _ => rfl) (by rw [C.1]; omega) hy
    omega
end CPURE
end
section
section COVER
variable {f_height f_made f_places f_count f_useEmpty f_useEmptyWays f_length : Int32} {a_low a_hasEmpty a_emptyWays a_kind a_firstWays a_firstMin a_firstMax a_lastWays a_lastMin a_lastMax a_followWays a_followMin a_followMax a_useKind a_inWays a_inMin a_inMax a_outWays a_outMin a_outMax a_goWays a_goMin a_goMax a_text a_nowWays a_nowMin a_nowMax a_thenWays a_thenMin a_thenMax a_gotWays a_gotMin a_gotMax a_paid : Nat → Int32}
variable {f_steps f_depth f_atoms f_size f_n : Int32} {a_draftOp a_draftLetter a_draftCost a_op a_letterOf a_costOf a_value a_open : Nat → Int32}
variable {h m pl cn ln sz : Nat}
/-- the costs that X has paid -/
def pd_ (n : Nat) (pd : Nat → Int32) (P : Nat → Nat) : Prop := ∀ j, j ≤ n → pd j = nI (P j)
theorem wx_relaxs {post : SX → Prop} {i j c : Nat} {P : Nat → Nat} (hi : i ≤ ln) (hj : j ≤ ln) (hl : ln ≤ 8) (hP : pd_ ln a_paid P) (bi : P i ≤ 12 * i) (bj : P j ≤ 12 * j) (hc : c ≤ 2000)
    (H : ∀ pd : Nat → Int32, pd_ ln pd (rx_ P i j c) → post (f_height, f_made, f_places, f_count, f_useEmpty, f_useEmptyWays, f_length, a_low, a_hasEmpty, a_emptyWays, a_kind, a_firstWays, a_firstMin, a_firstMax, a_lastWays, a_lastMin, a_lastMax, a_followWays, a_followMin, a_followMax, a_useKind, a_inWays, a_inMin, a_inMax, a_outWays, a_outMin, a_outMax, a_goWays, a_goMin, a_goMax, a_text, a_nowWays, a_nowMin, a_nowMax, a_thenWays, a_thenMin, a_thenMax, a_gotWays, a_gotMin, a_gotMax, pd)) : wpX_relax post (f_height, f_made, f_places, f_count, f_useEmpty, f_useEmptyWays, f_length, a_low, a_hasEmpty, a_emptyWays, a_kind, a_firstWays, a_firstMin, a_firstMax, a_lastWays, a_lastMin, a_lastMax, a_followWays, a_followMin, a_followMax, a_useKind, a_inWays, a_inMin, a_inMax, a_outWays, a_outMin, a_outMax, a_goWays, a_goMin, a_goMax, a_text, a_nowWays, a_nowMin, a_nowMax, a_thenWays, a_thenMin, a_thenMax, a_gotWays, a_gotMin, a_gotMax, a_paid) (nI i) (nI j) (nI c) := by
  have c1 : (nI i).toNatClampNeg = i := xi_c (by omega)
  have c2 : (nI j).toNatClampNeg = j := xi_c (by omega)
  have v1 := vp_in_nI (n := i) (N := 9) (by omega) (by decide)
  have v2 := vp_in_nI (n := j) (N := 9) (by omega) (by decide)
  unfold wpX_relax
  refine br_f (nI_pos (by omega)) (And.intro v1 (And.intro v2 ?_))
  rw [c1, c2, hP i hi, hP j hj, nI_add]
  by_cases z : P j ≤ P i + c
  · refine br_t (nI_le z (by omega)) (H a_paid (fun k hk => ?_))
    unfold rx_
    rw [if_neg (fun y => by have := y.2; omega)]
    exact hP k hk
  · refine br_f (nI_ge (by omega) (by omega)) (And.intro v1 (And.intro v2 (nm_e (H _ (fun k hk => ?_)))))
    unfold rx_
    by_cases e : k = j
    · subst e
      rw [pk_us, if_pos ⟨rfl, by omega⟩]
    · rw [pk_un e, if_neg (fun y => e y.1)]
      exact hP k hk
theorem wx_relaxn {post : SX → Prop} {i j : Int32} (H : post (f_height, f_made, f_places, f_count, f_useEmpty, f_useEmptyWays, f_length, a_low, a_hasEmpty, a_emptyWays, a_kind, a_firstWays, a_firstMin, a_firstMax, a_lastWays, a_lastMin, a_lastMax, a_followWays, a_followMin, a_followMax, a_useKind, a_inWays, a_inMin, a_inMax, a_outWays, a_outMin, a_outMax, a_goWays, a_goMin, a_goMax, a_text, a_nowWays, a_nowMin, a_nowMax, a_thenWays, a_thenMin, a_thenMax, a_gotWays, a_gotMin, a_gotMax, a_paid)) : wpX_relax post (f_height, f_made, f_places, f_count, f_useEmpty, f_useEmptyWays, f_length, a_low, a_hasEmpty, a_emptyWays, a_kind, a_firstWays, a_firstMin, a_firstMax, a_lastWays, a_lastMin, a_lastMax, a_followWays, a_followMin, a_followMax, a_useKind, a_inWays, a_inMin, a_inMax, a_outWays, a_outMin, a_outMax, a_goWays, a_goMin, a_goMax, a_text, a_nowWays, a_nowMin, a_nowMax, a_thenWays, a_thenMin, a_thenMax, a_gotWays, a_gotMin, a_gotMax, a_paid) i j (-1) := by
  unfold wpX_relax
  exact br_t nu_m1 H
theorem wx_cover55 {post : Int32 → SX → Prop} {J : Int32 → Int32 → Int32 → Int32 → Int32 → Int32 → Int32 → Int32 → (Nat → Int32) → (Nat → Int32) → (Nat → Int32) → (Nat → Int32) → (Nat → Int32) → (Nat → Int32) → (Nat → Int32) → (Nat → Int32) → (Nat → Int32) → (Nat → Int32) → (Nat → Int32) → (Nat → Int32) → (Nat → Int32) → (Nat → Int32) → (Nat → Int32) → (Nat → Int32) → (Nat → Int32) → (Nat → Int32) → (Nat → Int32) → (Nat → Int32) → (Nat → Int32) → (Nat → Int32) → (Nat → Int32) → (Nat → Int32) → (Nat → Int32) → (Nat → Int32) → (Nat → Int32) → (Nat → Int32) → (Nat → Int32) → (Nat → Int32) → (Nat → Int32) → (Nat → Int32) → (Nat → Int32) → (Nat → Int32) → Prop} {i : Nat} {W : Nat → Nat → Option Nat} (hl : ln ≤ 8) (hi : i < ln) (hB : ∀ i j c, j ≤ 8 → W i j = some c → c ≤ 1440) (hg : ∀ j, i ≤ j → j ≤ ln → a_gotMin j = nu_e (W i j))
    (H : ∀ (pd : Nat → Int32) (P : Nat → Nat), pd_ ln pd P → cv_ (pc_ W) ln (i + 1) P → J (nI (i + 1)) f_height f_made f_places f_count f_useEmpty f_useEmptyWays (nI ln) a_low a_hasEmpty a_emptyWays a_kind a_firstWays a_firstMin a_firstMax a_lastWays a_lastMin a_lastMax a_followWays a_followMin a_followMax a_useKind a_inWays a_inMin a_inMax a_outWays a_outMin a_outMax a_goWays a_goMin a_goMax a_text a_nowWays a_nowMin a_nowMax a_thenWays a_thenMin a_thenMax a_gotWays a_gotMin a_gotMax pd) :
    ∀ (n j : Nat) (pd : Nat → Int32) (P : Nat → Nat), i < j → j ≤ ln + 1 → ln + 1 - j < n → pd_ ln pd P → cj_ (pc_ W) ln i j P → wX_cover_55 post J (nI i) n (nI j) f_height f_made f_places f_count f_useEmpty f_useEmptyWays (nI ln) a_low a_hasEmpty a_emptyWays a_kind a_firstWays a_firstMin a_firstMax a_lastWays a_lastMin a_lastMax a_followWays a_followMin a_followMax a_useKind a_inWays a_inMin a_inMax a_outWays a_outMin a_outMax a_goWays a_goMin a_goMax a_text a_nowWays a_nowMin a_nowMax a_thenWays a_thenMin a_thenMax a_gotWays a_gotMin a_gotMax pd := by
  intro n
  induction n with
  | zero => intro j pd P _ _ h; omega
  | succ n ih =>
    intro j pd P hij hj hn hP C
    unfold wX_cover_55
    by_cases e : j = ln + 1
    · subst e
      exact br_t (nI_lt (by omega) (by omega)) (nm_r (nI_1 i) (H pd P hP (cj_e C)))
    · refine br_f (nI_nlt (by omega) (by omega)) (And.intro (vp_in_nI (by omega) (by decide)) ?_)
      rw [xi_c (by omega), hg j (by omega) (by omega)]
      cases hw : W i j with
      | none => exact wx_relaxn (nm_r (nI_1 j) (ih (j + 1) pd P (by omega) (by omega) (by omega) hP (cj_n C hw)))
      | some c =>
        have hc := hB i j c (by omega) hw
        exact wx_relaxs (P := P) (by omega) (by omega) hl hP (C.1.2.1 i (by omega)) (C.1.2.1 j (by omega)) (by omega) (fun pd' hP' => nm_r (nI_1 j) (ih (j + 1) pd' _ (by omega) (by omega) (by omega) hP' (cj_s C hij (by omega) hw)))
theorem wx_cover28 {post : Int32 → SX → Prop} {W : Nat → Nat → Option Nat} (hl : ln ≤ 8) (U : rl_U cn sz f_useEmpty f_useEmptyWays a_useKind a_inWays a_inMin a_inMax a_outWays a_outMin a_outMax a_goWays a_goMin a_goMax a_op a_letterOf a_costOf) (hB : ∀ i j c, j ≤ 8 → W i j = some c → c ≤ 1440) (hW : ∀ i j, vv_n a_op a_letterOf a_costOf a_text sz (j - i) i = nu_e (W i j))
    (H : ∀ (nw nm nx tw tm tx gw gm gx pd : Nat → Int32) (P : Nat → Nat), cv_ (pc_ W) ln ln P → post (nI (P ln)) (f_height, f_made, f_places, nI cn, f_useEmpty, f_useEmptyWays, nI ln, a_low, a_hasEmpty, a_emptyWays, a_kind, a_firstWays, a_firstMin, a_firstMax, a_lastWays, a_lastMin, a_lastMax, a_followWays, a_followMin, a_followMax, a_useKind, a_inWays, a_inMin, a_inMax, a_outWays, a_outMin, a_outMax, a_goWays, a_goMin, a_goMax, a_text, nw, nm, nx, tw, tm, tx, gw, gm, gx, pd)) :
    ∀ (n i : Nat) (nw nm nx tw tm tx gw gm gx pd : Nat → Int32) (P : Nat → Nat), i ≤ ln → ln - i < n → pd_ ln pd P → cv_ (pc_ W) ln i P →
      wX_cover_28 post n (nI i) f_height f_made f_places (nI cn) f_useEmpty f_useEmptyWays (nI ln) a_low a_hasEmpty a_emptyWays a_kind a_firstWays a_firstMin a_firstMax a_lastWays a_lastMin a_lastMax a_followWays a_followMin a_followMax a_useKind a_inWays a_inMin a_inMax a_outWays a_outMin a_outMax a_goWays a_goMin a_goMax a_text nw nm nx tw tm tx gw gm gx pd := by
  intro n
  induction n with
  | zero => intro i _ _ _ _ _ _ _ _ _ _ _ _ h; omega
  | succ n ih =>
    intro i nw nm nx tw tm tx gw gm gx pd P hi hn hP C
    unfold wX_cover_28
    by_cases e : i = ln
    · subst e
      refine br_t (nI_le (Nat.le_refl i) (by omega)) (And.intro (vp_in_nI (by omega) (by decide)) ?_)
      rw [xi_c (by omega), hP i (Nat.le_refl i)]
      exact H nw nm nx tw tm tx gw gm gx pd P C
    · refine br_f (nI_ge (by omega) (by omega)) (wx_sweepU hl hi U (fun nw' nm' nx' tw' tm' tx' gw' gm' gx' g => ?_))
      rw [nI_1 i]
      refine wx_relaxs (c := 12) (P := P) hi (by omega) hl hP (C.2.1 i hi) (C.2.1 (i + 1) (by omega)) (by omega) (fun pd' hP' => nm_e ⟨ln + 1 - i, ?_⟩)
      exact wx_cover55 hl (by omega) hB (fun j h1 h2 => by rw [(g j h1 h2).2.1]; exact hW i j) (fun pd2 P2 hP2 C2 => ih (i + 1) nw' nm' nx' tw' tm' tx' gw' gm' gx' pd2 P2 (by omega) (by omega) hP2 C2) (ln + 1 - i) (i + 1) pd' _ (by omega) (by omega) (by omega) hP' (cj_0 C (by omega))
theorem wx_cover2 {post : Int32 → SX → Prop} (hl : ln ≤ 8)
    (H : ∃ n, wX_cover_28 post n 0 f_height f_made f_places f_count f_useEmpty f_useEmptyWays (nI ln) a_low a_hasEmpty a_emptyWays a_kind a_firstWays a_firstMin a_firstMax a_lastWays a_lastMin a_lastMax a_followWays a_followMin a_followMax a_useKind a_inWays a_inMin a_inMax a_outWays a_outMin a_outMax a_goWays a_goMin a_goMax a_text a_nowWays a_nowMin a_nowMax a_thenWays a_thenMin a_thenMax a_gotWays a_gotMin a_gotMax (mx_ (r1_ 0 (ln + 1)) a_paid (fun j => nI (12 * j)))) :
    ∀ n q : Nat, q ≤ ln + 1 → ln + 1 - q < n → wX_cover_2 post f_height f_made f_places f_count f_useEmpty f_useEmptyWays (nI ln) n (nI q) a_low a_hasEmpty a_emptyWays a_kind a_firstWays a_firstMin a_firstMax a_lastWays a_lastMin a_lastMax a_followWays a_followMin a_followMax a_useKind a_inWays a_inMin a_inMax a_outWays a_outMin a_outMax a_goWays a_goMin a_goMax a_text a_nowWays a_nowMin a_nowMax a_thenWays a_thenMin a_thenMax a_gotWays a_gotMin a_gotMax (mx_ (r1_ 0 q) a_paid (fun j => nI (12 * j))) := by
  intro n
  induction n with
  | zero => intro q _ h; omega
  | succ n ih =>
    intro q hq hn
    unfold wX_cover_2
    by_cases e : q = ln + 1
    · subst e
      exact br_t (nI_lt (by omega) (by omega)) H
    · have ih' := ih (q + 1) (by omega) (by omega)
      rw [← mx_up1 (f := a_paid) (Nat.zero_le q)] at ih'
      refine br_f (nI_nlt (by omega) (by omega)) (xs_ q _ (by omega) (nm_r (nI_1 q) ih') rfl ?_)
      show nI q * nI 12 = nI (12 * q)
      rw [pk_mul, Nat.mul_comm]
theorem wx_cover {post : Int32 → SX → Prop} {W : Nat → Nat → Option Nat} (hl : ln ≤ 8) (U : rl_U cn sz f_useEmpty f_useEmptyWays a_useKind a_inWays a_inMin a_inMax a_outWays a_outMin a_outMax a_goWays a_goMin a_goMax a_op a_letterOf a_costOf) (hB : ∀ i j c, j ≤ 8 → W i j = some c → c ≤ 1440) (hW : ∀ i j, vv_n a_op a_letterOf a_costOf a_text sz (j - i) i = nu_e (W i j))
    (H : ∀ (nw nm nx tw tm tx gw gm gx pd : Nat → Int32) (P : Nat → Nat), cv_ (pc_ W) ln ln P → post (nI (P ln)) (f_height, f_made, f_places, nI cn, f_useEmpty, f_useEmptyWays, nI ln, a_low, a_hasEmpty, a_emptyWays, a_kind, a_firstWays, a_firstMin, a_firstMax, a_lastWays, a_lastMin, a_lastMax, a_followWays, a_followMin, a_followMax, a_useKind, a_inWays, a_inMin, a_inMax, a_outWays, a_outMin, a_outMax, a_goWays, a_goMin, a_goMax, a_text, nw, nm, nx, tw, tm, tx, gw, gm, gx, pd)) :
    wpX_cover post (f_height, f_made, f_places, nI cn, f_useEmpty, f_useEmptyWays, nI ln, a_low, a_hasEmpty, a_emptyWays, a_kind, a_firstWays, a_firstMin, a_firstMax, a_lastWays, a_lastMin, a_lastMax, a_followWays, a_followMin, a_followMax, a_useKind, a_inWays, a_inMin, a_inMax, a_outWays, a_outMin, a_outMax, a_goWays, a_goMin, a_goMax, a_text, a_nowWays, a_nowMin, a_nowMax, a_thenWays, a_thenMin, a_thenMax, a_gotWays, a_gotMin, a_gotMax, a_paid) := by
  have R := wx_cover2 hl ⟨ln + 1, wx_cover28 hl U hB hW H (ln + 1) 0 a_nowWays a_nowMin a_nowMax a_thenWays a_thenMin a_thenMax a_gotWays a_gotMin a_gotMax (mx_ (r1_ 0 (ln + 1)) a_paid (fun j => nI (12 * j))) (fun j => 12 * j) (by omega) (by omega) (fun j hj => mx_10 (by omega)) cv_0⟩ (ln + 2) 0 (by omega) (by omega)
  rw [mx_one0] at R
  unfold wpX_cover
  exact ⟨ln + 2, R⟩
/-! the reference -/
theorem wy_piece {post : Int32 → Prop} {i j : Nat} {W : Nat → Nat → Option Nat} (hl : ln ≤ 8) (h1 : 1 ≤ sz) (h2 : sz ≤ 20) (hij : i ≤ j) (hj : j ≤ ln) (hB : ∀ i j c, j ≤ 8 → W i j = some c → c ≤ 1440)
    (hg : ∀ i j, i ≤ j → j ≤ ln → a_value ((sz - 1) * 81 + i * 9 + j) = nu_e (W i j)) (H : post (nu_e (pc_ W i j))) : wpY_pieceCost post (f_steps, f_depth, f_atoms, nI sz, nI ln, a_draftOp, a_draftLetter, a_draftCost, a_op, a_letterOf, a_costOf, a_text, a_value, a_open) (nI i) (nI j) := by
  unfold wpY_pieceCost
  refine wy_whole h1 h2 (by omega) (by omega) ?_
  rw [hg i j hij hj]
  by_cases e : j = i + 1
  · refine br_t (by rw [nI_1, e]) ?_
    rw [e] at H
    rw [pc_1, ← e] at H
    cases hw : W i j with
    | none =>
      rw [hw] at H
      exact br_t nu_m1 H
    | some c =>
      have hc := hB i j c (by omega) hw
      rw [hw] at H
      have H' : post (nI (if c ≤ 12 then c else 12)) := H
      refine br_f (nI_pos (by omega)) ?_
      by_cases z : c ≤ 12
      · rw [if_pos z] at H'
        exact br_t (nI_le (b := 12) z (by decide)) H'
      · rw [if_neg z] at H'
        exact br_f (nI_ge (a := 12) (by omega) (by omega)) H'
  · rw [pc_2 e] at H
    exact br_f (by rw [nI_1, nI_eq (by omega) (by omega)]; exact e) H
theorem pc_B {W : Nat → Nat → Option Nat} (hB : ∀ i j c, j ≤ 8 → W i j = some c → c ≤ 1440) {i j c : Nat} (hj : j ≤ 8) (h : pc_ W i j = some c) : c ≤ 1440 := by
  by_cases e : j = i + 1
  · subst e
    rw [pc_1] at h
    have : cm_ (W i (i + 1)) = c := Option.some.inj h
    have := cm_le (W i (i + 1))
    omega
  · rw [pc_2 e] at h
    exact hB i j c hj h
theorem tb_and : ∀ k, k < 8 → ((nI k &&& 31).toBitVec.smod 32).toNat = k := by decide
theorem tb_ {x k : Nat} (hx : x < 128) (hk : k < 8) : ((nI x >>> (nI k &&& 31)) &&& 1) = 1 ↔ x.testBit k = true := by
  rw [pk_shrN (by omega) _ k (tb_and k hk), pk_andN (by have := Nat.div_le_self x (2 ^ k); omega) 1 (by decide), Nat.testBit_eq_decide_div_mod_eq, decide_eq_true_iff]
  exact nI_eq (b := 1) (by have := Nat.mod_lt (x / 2 ^ k) (show 0 < 2 ^ 1 by decide); omega) (by decide)
theorem wy_cc7 {post : Int32 → Prop} {x : Nat} {W : Nat → Nat → Option Nat} (hx : x < 128) (hl : ln ≤ 8) (h1 : 1 ≤ sz) (h2 : sz ≤ 20) (hB : ∀ i j c, j ≤ 8 → W i j = some c → c ≤ 1440)
    (hg : ∀ i j, i ≤ j → j ≤ ln → a_value ((sz - 1) * 81 + i * 9 + j) = nu_e (W i j)) :
    ∀ c k s st, k + c = ln → st ≤ k → (∀ o : Option Nat, (∀ r, o = some r → r ≤ 1440 * ln) → o = ct_ (pc_ W) ln (fun k => x.testBit k) c k s st → post (nu_e o)) → s ≤ 1440 * k → wY_coverCost_7 post (nI x) f_steps f_depth f_atoms (nI sz) (nI ln) a_draftOp a_draftLetter a_draftCost a_op a_letterOf a_costOf a_text a_value a_open (c + 1) (nI s) (nI st) (nI k) := by
  intro c
  induction c with
  | zero =>
    intro k s st hk hst H hs
    obtain rfl : k = ln := by omega
    unfold wY_coverCost_7
    exact br_t (nI_le (Nat.le_refl k) (by omega)) (H (some s) (fun r hr => by cases hr; exact hs) rfl)
  | succ c ih =>
    intro k s st hk hst H hs
    unfold wY_coverCost_7
    refine br_f (nI_ge (by omega) (by omega)) ?_
    rw [show nI ln - 1 = nI (ln - 1) from pk_sub (b := 1) (by omega)]
    have key : (k + 1 = ln ∨ x.testBit k = true) → wY_coverCost_37 post (wY_coverCost_7 post (nI x) f_steps f_depth f_atoms (nI sz) (nI ln) a_draftOp a_draftLetter a_draftCost a_op a_letterOf a_costOf a_text a_value a_open (c + 1)) (nI x) (nI s) (nI st) (nI k) f_steps f_depth f_atoms (nI sz) (nI ln) a_draftOp a_draftLetter a_draftCost a_op a_letterOf a_costOf a_text a_value a_open := by
      intro hc
      unfold wY_coverCost_37
      rw [nI_1 k]
      refine wy_piece (W := W) hl h1 h2 (by omega) (by omega) hB hg ?_
      cases hp : pc_ W st (k + 1) with
      | none => exact br_f nu_m1' (H none (fun r hr => by cases hr) (ct_z hc hp).symm)
      | some y =>
        have hy := pc_B hB (by omega) hp
        refine br_t (nI_pos' (by omega)) (nm_r (nI_add s y) (nm_e (nm_e ?_)))
        exact ih (k + 1) (s + y) (k + 1) (by omega) (Nat.le_refl _) (fun o ho he => H o ho (by rw [he, ct_y hc hp])) (by omega)
    by_cases e : k + 1 = ln
    · exact br_t (by rw [← e]; rfl) (key (Or.inl e))
    · refine br_f (by rw [nI_eq (by omega) (by omega)]; omega) ?_
      by_cases z : x.testBit k = true
      · exact br_t ((tb_ hx (by omega)).mpr z) (key (Or.inr z))
      · refine br_f (fun y => z ((tb_ hx (by omega)).mp y)) (nm_r (nI_1 k) ?_)
        exact ih (k + 1) s st (by omega) (by omega) (fun o ho he => H o ho (by rw [he, ct_n (fun y => y.elim e z)])) (by omega)
theorem wy_cc {post : Int32 → Prop} {x : Nat} {W : Nat → Nat → Option Nat} (hx : x < 128) (hl : ln ≤ 8) (h1 : 1 ≤ sz) (h2 : sz ≤ 20) (hB : ∀ i j c, j ≤ 8 → W i j = some c → c ≤ 1440)
    (hg : ∀ i j, i ≤ j → j ≤ ln → a_value ((sz - 1) * 81 + i * 9 + j) = nu_e (W i j))
    (H : ∀ o : Option Nat, (∀ r, o = some r → r ≤ 1440 * ln) → o = ct_ (pc_ W) ln (fun k => x.testBit k) ln 0 0 0 → post (nu_e o)) : wpY_coverCost post (f_steps, f_depth, f_atoms, nI sz, nI ln, a_draftOp, a_draftLetter, a_draftCost, a_op, a_letterOf, a_costOf, a_text, a_value, a_open) (nI x) := by
  unfold wpY_coverCost
  exact ⟨ln + 1, wy_cc7 hx hl h1 h2 hB hg ln 0 0 0 (by omega) (Nat.le_refl 0) H (by omega)⟩
theorem wy_cover15 {post : Int32 → SY → Prop} {W : Nat → Nat → Option Nat} (hl : ln ≤ 8) (h1 : 1 ≤ sz) (h2 : sz ≤ 20) (hB : ∀ i j c, j ≤ 8 → W i j = some c → c ≤ 1440)
    (hg : ∀ i j, i ≤ j → j ≤ ln → a_value ((sz - 1) * 81 + i * 9 + j) = nu_e (W i j))
    (H : ∀ B : Nat, B ≤ 12 * ln → (∀ x, x < 128 → ∀ r, ct_ (pc_ W) ln (fun k => x.testBit k) ln 0 0 0 = some r → B ≤ r) → (B = 12 * ln ∨ ∃ x : Nat, ct_ (pc_ W) ln (fun k => x.testBit k) ln 0 0 0 = some B) → post (nI B) (f_steps, f_depth, f_atoms, nI sz, nI ln, a_draftOp, a_draftLetter, a_draftCost, a_op, a_letterOf, a_costOf, a_text, a_value, a_open)) :
    ∀ (n c B : Nat), c ≤ 128 → 128 - c < n → B ≤ 12 * ln → (∀ x, x < c → ∀ r, ct_ (pc_ W) ln (fun k => x.testBit k) ln 0 0 0 = some r → B ≤ r) → (B = 12 * ln ∨ ∃ x : Nat, ct_ (pc_ W) ln (fun k => x.testBit k) ln 0 0 0 = some B) →
      wY_cover_15 post f_steps f_depth f_atoms (nI sz) (nI ln) a_draftOp a_draftLetter a_draftCost a_op a_letterOf a_costOf a_text a_value a_open n (nI B) (nI c) := by
  intro n
  induction n with
  | zero => intro c B _ h; omega
  | succ n ih =>
    intro c B hc hn hB1 hB2 hB3
    unfold wY_cover_15
    by_cases e : c = 128
    · subst e
      exact br_t (nI_le (a := 128) (Nat.le_refl 128) (by decide)) (H B hB1 hB2 hB3)
    · refine br_f (nI_ge (b := 128) (by omega) (by decide)) (wy_cc (by omega) hl h1 h2 hB hg (fun o ho he => ?_))
      cases o with
      | none =>
        refine br_t nu_m1 (nm_r (nI_1 c) (ih (c + 1) B (by omega) (by omega) hB1 (fun x hx r hr => ?_) hB3))
        by_cases e2 : x = c
        · subst e2; rw [hr] at he; exact absurd he (by simp)
        · exact hB2 x (by omega) r hr
      | some s =>
        have hs := ho s rfl
        refine br_f (nI_pos (by omega)) ?_
        by_cases z : B ≤ s
        · refine br_t (nI_le z (by omega)) (nm_r (nI_1 c) (ih (c + 1) B (by omega) (by omega) hB1 (fun x hx r hr => ?_) hB3))
          by_cases e2 : x = c
          · subst e2; rw [hr] at he
            have : s = r := Option.some.inj he
            omega
          · exact hB2 x (by omega) r hr
        · refine br_f (nI_ge (by omega) (by omega)) (nm_r (nI_1 c) (ih (c + 1) s (by omega) (by omega) (by omega) (fun x hx r hr => ?_) (Or.inr ⟨c, he.symm⟩)))
          by_cases e2 : x = c
          · subst e2; rw [hr] at he
            have : s = r := Option.some.inj he
            omega
          · have := hB2 x (by omega) r hr
            omega
theorem vc_cover {k : Nat} (hl : ln ≤ 8) (D : rl_D h m pl a_low a_hasEmpty a_emptyWays a_kind a_firstWays a_firstMin a_firstMax a_lastWays a_lastMin a_lastMax a_followWays a_followMin a_followMax a_draftOp a_draftLetter a_draftCost) (U : rl_U cn sz f_useEmpty f_useEmptyWays a_useKind a_inWays a_inMin a_inMax a_outWays a_outMin a_outMax a_goWays a_goMin a_goMax a_op a_letterOf a_costOf) :
    wpX_cover (fun r u' => wpY_cover (fun r' v' => r' = r ∧ i_Rel k u' v') (nI m, nI h, nI pl, nI sz, nI ln, a_draftOp, a_draftLetter, a_draftCost, a_op, a_letterOf, a_costOf, a_text, a_value, a_open)) (nI h, nI m, nI pl, nI cn, f_useEmpty, f_useEmptyWays, nI ln, a_low, a_hasEmpty, a_emptyWays, a_kind, a_firstWays, a_firstMin, a_firstMax, a_lastWays, a_lastMin, a_lastMax, a_followWays, a_followMin, a_followMax, a_useKind, a_inWays, a_inMin, a_inMax, a_outWays, a_outMin, a_outMax, a_goWays, a_goMin, a_goMax, a_text, a_nowWays, a_nowMin, a_nowMax, a_thenWays, a_thenMin, a_thenMax, a_gotWays, a_gotMin, a_gotMax, a_paid) := by
  have hB : ∀ i j c, j ≤ 8 → (fun i j => ye_D kr_n nu_d a_op a_letterOf a_costOf a_text sz 0 (j - i) i) i j = some c → c ≤ 1440 := by
    intro i j c hj hc
    have b := yb_D (lt := a_letterOf) (t := a_text) yk_n U.2.2.2.2.2.1 sz (Nat.le_refl sz) 0 (by rw [U.2.2.2.2.2.2.1]; omega) (j - i) i c hc
    exact Nat.le_trans b (Nat.le_trans (Nat.mul_le_mul (show 9 * sz ≤ 180 by have := U.2.2.1; omega) (show j - i ≤ 8 by omega)) (by decide))
  refine wx_cover hl U hB (fun i j => rfl) (fun nw nm nx tw tm tx gw gm gx pd P C => ?_)
  show wpY_cover _ _
  unfold wpY_cover
  refine wy_readn hl U (fun v o hv => nm_r (e' := nI (12 * ln)) (pk_mul 12 ln) ⟨129, ?_⟩)
  refine wy_cover15 hl U.2.1 U.2.2.1 hB hv (fun B h1 h2 h3 => ⟨?_, zz_in hl D U⟩) 129 0 (12 * ln) (by omega) (by omega) (Nat.le_refl _) (fun x hx => by omega) (Or.inl rfl)
  rw [cv_eq hl C h1 h2 h3]
end COVER
end
section
section OWED
theorem i_vc_letter {k : Nat} {u : SX} {v : SY} (I : i_Rel k u v) (hk : k + 3 ≤ 1536) (v1 : Int32) (v2 : Int32) : wpX_letter (fun r u' => wpY_letter (fun r' v' => r' = r ∧ i_Rel (k + 3) u' v') v v1 v2) u v1 v2 := by
  refine zz_el (P := fun u v => wpX_letter (fun r u' => wpY_letter (fun r' v' => r' = r ∧ i_Rel (k + 3) u' v') v v1 v2) u v1 v2) ?_ I
  intro h m pl cn ln sz _ _ _ _ _ _ _ _ _ _ _ _ _ _ _ _ _ _ _ _ _ _ _ _ _ _ _ _ _ _ _ _ _ _ _ _ _ _ _ _ _ _ _ _ hl D U
  exact vc_letter hl D U v1 v2
theorem i_vc_any {k : Nat} {u : SX} {v : SY} (I : i_Rel k u v) (hk : k + 3 ≤ 1536) (v1 : Int32) : wpX_any (fun r u' => wpY_any (fun r' v' => r' = r ∧ i_Rel (k + 3) u' v') v v1) u v1 := by
  refine zz_el (P := fun u v => wpX_any (fun r u' => wpY_any (fun r' v' => r' = r ∧ i_Rel (k + 3) u' v') v v1) u v1) ?_ I
  intro h m pl cn ln sz _ _ _ _ _ _ _ _ _ _ _ _ _ _ _ _ _ _ _ _ _ _ _ _ _ _ _ _ _ _ _ _ _ _ _ _ _ _ _ _ _ _ _ _ hl D U
  exact vc_any hl D U v1
theorem i_vc_unit {k : Nat} {u : SX} {v : SY} (I : i_Rel k u v) (hk : k + 3 ≤ 1536) : wpX_unit (fun r u' => wpY_unit (fun r' v' => r' = r ∧ i_Rel (k + 3) u' v') v) u := by
  refine zz_el (P := fun u v => wpX_unit (fun r u' => wpY_unit (fun r' v' => r' = r ∧ i_Rel (k + 3) u' v') v) u) ?_ I
  intro h m pl cn ln sz _ _ _ _ _ _ _ _ _ _ _ _ _ _ _ _ _ _ _ _ _ _ _ _ _ _ _ _ _ _ _ _ _ _ _ _ _ _ _ _ _ _ _ _ hl D U
  exact vc_unit hl D U
theorem i_vc_seq {k : Nat} {u : SX} {v : SY} (I : i_Rel k u v) (hk : k + 3 ≤ 1536) : wpX_seq (fun r u' => wpY_seq (fun r' v' => r' = r ∧ i_Rel (k + 3) u' v') v) u := by
  refine zz_el (P := fun u v => wpX_seq (fun r u' => wpY_seq (fun r' v' => r' = r ∧ i_Rel (k + 3) u' v') v) u) ?_ I
  intro h m pl cn ln sz _ _ _ _ _ _ _ _ _ _ _ _ _ _ _ _ _ _ _ _ _ _ _ _ _ _ _ _ _ _ _ _ _ _ _ _ _ _ _ _ _ _ _ _ hl D U
  exact vc_seq hl D U
theorem i_vc_alt {k : Nat} {u : SX} {v : SY} (I : i_Rel k u v) (hk : k + 3 ≤ 1536) : wpX_alt (fun r u' => wpY_alt (fun r' v' => r' = r ∧ i_Rel (k + 3) u' v') v) u := by
  refine zz_el (P := fun u v => wpX_alt (fun r u' => wpY_alt (fun r' v' => r' = r ∧ i_Rel (k + 3) u' v') v) u) ?_ I
  intro h m pl cn ln sz _ _ _ _ _ _ _ _ _ _ _ _ _ _ _ _ _ _ _ _ _ _ _ _ _ _ _ _ _ _ _ _ _ _ _ _ _ _ _ _ _ _ _ _ hl D U
  exact vc_alt hl D U
theorem i_vc_loop {k : Nat} {u : SX} {v : SY} (I : i_Rel k u v) (hk : k + 3 ≤ 1536) (v1 : Int32) : wpX_loop (fun r u' => wpY_loop (fun r' v' => r' = r ∧ i_Rel (k + 3) u' v') v v1) u v1 := by
  refine zz_el (P := fun u v => wpX_loop (fun r u' => wpY_loop (fun r' v' => r' = r ∧ i_Rel (k + 3) u' v') v v1) u v1) ?_ I
  intro h m pl cn ln sz _ _ _ _ _ _ _ _ _ _ _ _ _ _ _ _ _ _ _ _ _ _ _ _ _ _ _ _ _ _ _ _ _ _ _ _ _ _ _ _ _ _ _ _ hl D U
  exact vc_loop hl D U v1
theorem i_vc_steps {k : Nat} {u : SX} {v : SY} (I : i_Rel k u v) (hk : k + 3 ≤ 1536) : wpX_steps (fun r => wpY_steps (fun r' => r' = r ∧ i_Rel (k + 3) u v) v) u := by
  refine zz_el (P := fun u v => wpX_steps (fun r => wpY_steps (fun r' => r' = r ∧ i_Rel (k + 3) u v) v) u) ?_ I
  intro h m pl cn ln sz _ _ _ _ _ _ _ _ _ _ _ _ _ _ _ _ _ _ _ _ _ _ _ _ _ _ _ _ _ _ _ _ _ _ _ _ _ _ _ _ _ _ _ _ hl D U
  exact ⟨rfl, zz_in hl D U⟩
theorem i_vc_depth {k : Nat} {u : SX} {v : SY} (I : i_Rel k u v) (hk : k + 3 ≤ 1536) : wpX_depth (fun r => wpY_depth (fun r' => r' = r ∧ i_Rel (k + 3) u v) v) u := by
  refine zz_el (P := fun u v => wpX_depth (fun r => wpY_depth (fun r' => r' = r ∧ i_Rel (k + 3) u v) v) u) ?_ I
  intro h m pl cn ln sz _ _ _ _ _ _ _ _ _ _ _ _ _ _ _ _ _ _ _ _ _ _ _ _ _ _ _ _ _ _ _ _ _ _ _ _ _ _ _ _ _ _ _ _ hl D U
  exact ⟨rfl, zz_in hl D U⟩
theorem i_vc_discard {k : Nat} {u : SX} {v : SY} (I : i_Rel k u v) (hk : k + 3 ≤ 1536) : wpX_discard (fun u' => wpY_discard (fun v' => i_Rel (k + 3) u' v') v) u := by
  refine zz_el (P := fun u v => wpX_discard (fun u' => wpY_discard (fun v' => i_Rel (k + 3) u' v') v) u) ?_ I
  intro h m pl cn ln sz _ _ _ _ _ _ _ _ _ _ _ _ _ _ _ _ _ _ _ _ _ _ _ _ _ _ _ _ _ _ _ _ _ _ _ _ _ _ _ _ _ _ _ _ hl D U
  exact vc_discard hl U
theorem i_vc_define {k : Nat} {u : SX} {v : SY} (I : i_Rel k u v) (hk : k + 3 ≤ 1536) : wpX_define (fun r u' => wpY_define (fun r' v' => r' = r ∧ i_Rel (k + 3) u' v') v) u := by
  refine zz_el (P := fun u v => wpX_define (fun r u' => wpY_define (fun r' v' => r' = r ∧ i_Rel (k + 3) u' v') v) u) ?_ I
  intro h m pl cn ln sz _ _ _ _ _ _ _ _ _ _ _ _ _ _ _ _ _ _ _ _ _ _ _ _ _ _ _ _ _ _ _ _ _ _ _ _ _ _ _ _ _ _ _ _ hl D U
  exact vc_define hl D U
theorem i_vc_type {k : Nat} {u : SX} {v : SY} (I : i_Rel k u v) (hk : k + 3 ≤ 1536) (v1 : Int32) : wpX_type (fun r u' => wpY_type (fun r' v' => r' = r ∧ i_Rel (k + 3) u' v') v v1) u v1 := by
  refine zz_el (P := fun u v => wpX_type (fun r u' => wpY_type (fun r' v' => r' = r ∧ i_Rel (k + 3) u' v') v v1) u v1) ?_ I
  intro h m pl cn ln sz _ _ _ _ _ _ _ _ _ _ _ _ _ _ _ _ _ _ _ _ _ _ _ _ _ _ _ _ _ _ _ _ _ _ _ _ _ _ _ _ _ _ _ _ hl D U
  exact vc_type hl D U v1
theorem i_vc_put {k : Nat} {u : SX} {v : SY} (I : i_Rel k u v) (hk : k + 3 ≤ 1536) (v1 : Int32) (v2 : Int32) : wpX_put (fun r u' => wpY_put (fun r' v' => r' = r ∧ i_Rel (k + 3) u' v') v v1 v2) u v1 v2 := by
  refine zz_el (P := fun u v => wpX_put (fun r u' => wpY_put (fun r' v' => r' = r ∧ i_Rel (k + 3) u' v') v v1 v2) u v1 v2) ?_ I
  intro h m pl cn ln sz _ _ _ _ _ _ _ _ _ _ _ _ _ _ _ _ _ _ _ _ _ _ _ _ _ _ _ _ _ _ _ _ _ _ _ _ _ _ _ _ _ _ _ _ hl D U
  exact vc_put hl D U v1 v2
theorem i_vc_shift {k : Nat} {u : SX} {v : SY} (I : i_Rel k u v) (hk : k + 3 ≤ 1536) : wpX_shift (fun r u' => wpY_shift (fun r' v' => r' = r ∧ i_Rel (k + 3) u' v') v) u := by
  refine zz_el (P := fun u v => wpX_shift (fun r u' => wpY_shift (fun r' v' => r' = r ∧ i_Rel (k + 3) u' v') v) u) ?_ I
  intro h m pl cn ln sz _ _ _ _ _ _ _ _ _ _ _ _ _ _ _ _ _ _ _ _ _ _ _ _ _ _ _ _ _ _ _ _ _ _ _ _ _ _ _ _ _ _ _ _ hl D U
  exact vc_shift hl D U
theorem i_vc_length {k : Nat} {u : SX} {v : SY} (I : i_Rel k u v) (hk : k + 3 ≤ 1536) : wpX_length (fun r => wpY_length (fun r' => r' = r ∧ i_Rel (k + 3) u v) v) u := by
  refine zz_el (P := fun u v => wpX_length (fun r => wpY_length (fun r' => r' = r ∧ i_Rel (k + 3) u v) v) u) ?_ I
  intro h m pl cn ln sz _ _ _ _ _ _ _ _ _ _ _ _ _ _ _ _ _ _ _ _ _ _ _ _ _ _ _ _ _ _ _ _ _ _ _ _ _ _ _ _ _ _ _ _ hl D U
  exact ⟨rfl, zz_in hl D U⟩
theorem i_vc_ways {k : Nat} {u : SX} {v : SY} (I : i_Rel k u v) (hk : k + 3 ≤ 1536) (v1 : Int32) (v2 : Int32) : wpX_ways (fun r u' => wpY_ways (fun r' v' => r' = r ∧ i_Rel (k + 3) u' v') v v1 v2) u v1 v2 := by
  refine zz_el (P := fun u v => wpX_ways (fun r u' => wpY_ways (fun r' v' => r' = r ∧ i_Rel (k + 3) u' v') v v1 v2) u v1 v2) ?_ I
  intro h m pl cn ln sz _ _ _ _ _ _ _ _ _ _ _ _ _ _ _ _ _ _ _ _ _ _ _ _ _ _ _ _ _ _ _ _ _ _ _ _ _ _ _ _ _ _ _ _ hl D U
  exact vc_ways hl D U v1 v2
theorem i_vc_least {k : Nat} {u : SX} {v : SY} (I : i_Rel k u v) (hk : k + 3 ≤ 1536) (v1 : Int32) (v2 : Int32) : wpX_least (fun r u' => wpY_least (fun r' v' => r' = r ∧ i_Rel (k + 3) u' v') v v1 v2) u v1 v2 := by
  refine zz_el (P := fun u v => wpX_least (fun r u' => wpY_least (fun r' v' => r' = r ∧ i_Rel (k + 3) u' v') v v1 v2) u v1 v2) ?_ I
  intro h m pl cn ln sz _ _ _ _ _ _ _ _ _ _ _ _ _ _ _ _ _ _ _ _ _ _ _ _ _ _ _ _ _ _ _ _ _ _ _ _ _ _ _ _ _ _ _ _ hl D U
  exact vc_least hl D U v1 v2
theorem i_vc_most {k : Nat} {u : SX} {v : SY} (I : i_Rel k u v) (hk : k + 3 ≤ 1536) (v1 : Int32) (v2 : Int32) : wpX_most (fun r u' => wpY_most (fun r' v' => r' = r ∧ i_Rel (k + 3) u' v') v v1 v2) u v1 v2 := by
  refine zz_el (P := fun u v => wpX_most (fun r u' => wpY_most (fun r' v' => r' = r ∧ i_Rel (k + 3) u' v') v v1 v2) u v1 v2) ?_ I
  intro h m pl cn ln sz _ _ _ _ _ _ _ _ _ _ _ _ _ _ _ _ _ _ _ _ _ _ _ _ _ _ _ _ _ _ _ _ _ _ _ _ _ _ _ _ _ _ _ _ hl D U
  exact vc_most hl D U v1 v2
theorem i_vc_windows {k : Nat} {u : SX} {v : SY} (I : i_Rel k u v) (hk : k + 3 ≤ 1536) : wpX_windows (fun r u' => wpY_windows (fun r' v' => r' = r ∧ i_Rel (k + 3) u' v') v) u := by
  refine zz_el (P := fun u v => wpX_windows (fun r u' => wpY_windows (fun r' v' => r' = r ∧ i_Rel (k + 3) u' v') v) u) ?_ I
  intro h m pl cn ln sz _ _ _ _ _ _ _ _ _ _ _ _ _ _ _ _ _ _ _ _ _ _ _ _ _ _ _ _ _ _ _ _ _ _ _ _ _ _ _ _ _ _ _ _ hl D U
  exact vc_windows hl D U
theorem i_vc_allWays {k : Nat} {u : SX} {v : SY} (I : i_Rel k u v) (hk : k + 3 ≤ 1536) : wpX_allWays (fun r u' => wpY_allWays (fun r' v' => r' = r ∧ i_Rel (k + 3) u' v') v) u := by
  refine zz_el (P := fun u v => wpX_allWays (fun r u' => wpY_allWays (fun r' v' => r' = r ∧ i_Rel (k + 3) u' v') v) u) ?_ I
  intro h m pl cn ln sz _ _ _ _ _ _ _ _ _ _ _ _ _ _ _ _ _ _ _ _ _ _ _ _ _ _ _ _ _ _ _ _ _ _ _ _ _ _ _ _ _ _ _ _ hl D U
  exact vc_allWays hl D U
theorem i_vc_longest {k : Nat} {u : SX} {v : SY} (I : i_Rel k u v) (hk : k + 3 ≤ 1536) (v1 : Int32) : wpX_longest (fun r u' => wpY_longest (fun r' v' => r' = r ∧ i_Rel (k + 3) u' v') v v1) u v1 := by
  refine zz_el (P := fun u v => wpX_longest (fun r u' => wpY_longest (fun r' v' => r' = r ∧ i_Rel (k + 3) u' v') v v1) u v1) ?_ I
  intro h m pl cn ln sz _ _ _ _ _ _ _ _ _ _ _ _ _ _ _ _ _ _ _ _ _ _ _ _ _ _ _ _ _ _ _ _ _ _ _ _ _ _ _ _ _ _ _ _ hl D U
  exact vc_longest hl D U v1
theorem i_vc_cover {k : Nat} {u : SX} {v : SY} (I : i_Rel k u v) (hk : k + 3 ≤ 1536) : wpX_cover (fun r u' => wpY_cover (fun r' v' => r' = r ∧ i_Rel (k + 3) u' v') v) u := by
  refine zz_el (P := fun u v => wpX_cover (fun r u' => wpY_cover (fun r' v' => r' = r ∧ i_Rel (k + 3) u' v') v) u) ?_ I
  intro h m pl cn ln sz _ _ _ _ _ _ _ _ _ _ _ _ _ _ _ _ _ _ _ _ _ _ _ _ _ _ _ _ _ _ _ _ _ _ _ _ _ _ _ _ _ _ _ _ hl D U
  exact vc_cover hl D U
end OWED
end
