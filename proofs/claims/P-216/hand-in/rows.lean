section
/-! rows pasted of PURE-ROWS -/
theorem pk_us {f : Nat → Int32} {k : Nat} {x : Int32} : upd f k x k = x := if_pos rfl
theorem pk_un {f : Nat → Int32} {k j : Nat} {x : Int32} (h : j ≠ k) : upd f k x j = f j := if_neg h
theorem pk_uLs {f : Nat → Int64} {k : Nat} {x : Int64} : vp_updL f k x k = x := if_pos rfl
theorem pk_uLn {f : Nat → Int64} {k j : Nat} {x : Int64} (h : j ≠ k) : vp_updL f k x j = f j := if_neg h
theorem pk_m1 (n : Nat) : nI (n + 1) + (-1) = nI n := by
  rw [← nI_1, Int32.add_assoc, show (1 : Int32) + (-1) = 0 from rfl, Int32.add_zero]
theorem pk_ix (x : Int32) {n : Nat} (hn : n < 2 ^ 31) : x < 0 ∨ nI n ≤ x ∨ ∃ j : Nat, j < n ∧ x = nI j := by
  by_cases h : x < 0
  · exact Or.inl h
  · obtain ⟨j, hj, rfl⟩ := nI_of h
    by_cases h2 : j < n
    · exact Or.inr (Or.inr ⟨j, h2, rfl⟩)
    · exact Or.inr (Or.inl (nI_le (by omega) hj))
theorem pk_le {x y : Int32} {A B : Prop} (a b : Nat) (f : a ≤ b → A) (g : b < a → B) (hx : x = nI a := by rfl) (hy : y = nI b := by rfl) (ha : a < 2 ^ 31 := by omega) (hb : b < 2 ^ 31 := by omega) : (x ≤ y → A) ∧ (¬ x ≤ y → B) := by
  subst hx hy
  rw [nI_leI ha hb]
  exact ⟨f, fun z => g (by omega)⟩
theorem pk_lt {x y : Int32} {A B : Prop} (a b : Nat) (f : a < b → A) (g : b ≤ a → B) (hx : x = nI a := by rfl) (hy : y = nI b := by rfl) (ha : a < 2 ^ 31 := by omega) (hb : b < 2 ^ 31 := by omega) : (x < y → A) ∧ (¬ x < y → B) := by
  subst hx hy
  rw [nI_ltI ha hb]
  exact ⟨f, fun z => g (by omega)⟩
theorem pk_eq {x y : Int32} {A B : Prop} (a b : Nat) (f : a = b → A) (g : a ≠ b → B) (hx : x = nI a := by rfl) (hy : y = nI b := by rfl) (ha : a < 2 ^ 31 := by omega) (hb : b < 2 ^ 31 := by omega) : (x = y → A) ∧ (¬ x = y → B) := by
  subst hx hy
  rw [nI_eq ha hb]
  exact ⟨f, g⟩
theorem pk_in {x : Int32} (n N : Nat) (h : n < N) (hx : x = nI n := by rfl) (hN : N < 2 ^ 31 := by omega) : vp_in x N := by
  subst hx
  exact vp_in_nI h hN
theorem pk_cl {x : Int32} (n : Nat) (hx : x = nI n := by rfl) (h : n < 2 ^ 31 := by omega) : x.toNatClampNeg = n := by
  subst hx
  exact nI_clamp h
theorem pk_tn {n : Nat} (h : n < 2 ^ 32) : (nI n).toBitVec.toNat = n := Nat.mod_eq_of_lt h
theorem pk_charN {q : Nat} (hq : q < 65536) : narrow .char (.int (nI q)) = .int (nI q) ∧ fits .char (.int (nI q)) = true := by
  constructor
  · have e : (nI q).toUInt32.toUInt16.toUInt32.toInt32 = nI q := by
      apply Int32.toBitVec_inj.mp
      apply BitVec.eq_of_toNat_eq
      show (nI q).toUInt32.toUInt16.toUInt32.toNat = q % 2 ^ 32
      rw [UInt16.toNat_toUInt32, UInt32.toNat_toUInt16, show (nI q).toUInt32.toNat = q % 2 ^ 32 from rfl]
      omega
    exact congrArg Value.int e
  · have a : (0 : Int32) ≤ nI q := nI_pos' (by omega)
    have b : nI q ≤ 65535 := nI_le (b := 65535) (by omega) (by decide)
    show (decide ((0 : Int32) ≤ nI q) && decide (nI q ≤ 65535)) = true
    rw [decide_eq_true a, decide_eq_true b]
    rfl
theorem pk_char (x : Int32) : (x.toUInt32 % 65536).toInt32 = nI (x.toBitVec.toNat % 65536) := by
  apply Int32.toBitVec_inj.mp
  apply BitVec.eq_of_toNat_eq
  rw [pk_tn (by omega)]
  show (x.toUInt32 % 65536).toNat = _
  rw [UInt32.toNat_mod]
  rfl
theorem pk_nc (x : Int32) : narrow .char (.int (x.toUInt32 % 65536).toInt32) = .int (x.toUInt32 % 65536).toInt32 := by
  rw [pk_char]
  exact (pk_charN (Nat.mod_lt _ (by decide))).1
theorem pk_vb (z : Int32) : vp_nar .byte z.toInt8.toInt32 = z.toInt8.toInt32 := by rw [vp_nar_byte]; simp
theorem pk_vs (z : Int32) : vp_nar .short z.toInt16.toInt32 = z.toInt16.toInt32 := by rw [vp_nar_short]; simp
theorem pk_vc (z : Int32) : vp_nar .char (z.toUInt32 % 65536).toInt32 = (z.toUInt32 % 65536).toInt32 := Value.int.inj (pk_nc z)
theorem pk_lT {n : Nat} (h : n < 2 ^ 63) : (lN n).toInt = (n : Int) := lg_ofNat_toInt h
theorem pk_lLT {a b : Nat} (ha : a < 2 ^ 63) (hb : b < 2 ^ 63) : lN a < lN b ↔ a < b := by
  rw [Int64.lt_iff_toInt_lt, pk_lT ha, pk_lT hb]; omega
theorem pk_lLE {a b : Nat} (ha : a < 2 ^ 63) (hb : b < 2 ^ 63) : lN a ≤ lN b ↔ a ≤ b := by
  rw [Int64.le_iff_toInt_le, pk_lT ha, pk_lT hb]; omega
theorem pk_lOf {x : Int64} (h : ¬ x < 0) : ∃ k : Nat, k < 2 ^ 63 ∧ x = lN k := by
  rw [Int64.lt_iff_toInt_lt] at h
  have h0 : (0 : Int64).toInt = 0 := by decide
  have hx := Int64.toInt_lt x
  refine ⟨x.toInt.toNat, by omega, Int64.toInt_inj.mp ?_⟩
  rw [pk_lT (by omega)]
  omega
end
section
/-! pure laws: sums, counts, the first empty slot, the arrays behind a collect -/
/-- what a collect of the slots below n frees -/
def hb_G (s : Nat → Int32) (z : Nat → Int64) : Nat → Int64
  | 0 => 0
  | n + 1 => hb_G s z n + (if s n = 2 then z n else 0)
/-- what the slots below n hold -/
def hb_U (s : Nat → Int32) (z : Nat → Int64) : Nat → Int64
  | 0 => 0
  | n + 1 => hb_U s z n + (if s n = 0 then 0 else z n)
/-- what the first n errors cost -/
def hb_C (c : Nat → Int64) : Nat → Int64
  | 0 => 0
  | n + 1 => hb_C c n + c n
/-- fresh errors among the first n -/
def hb_F (c : Nat → Int64) : Nat → Nat
  | 0 => 0
  | n + 1 => if c n = 0 then hb_F c n else hb_F c n + 1
/-- preallocated errors among the first n -/
def hb_P (c : Nat → Int64) : Nat → Nat
  | 0 => 0
  | n + 1 => if c n = 0 then hb_P c n + 1 else hb_P c n
/-- the identity of error i -/
def hb_id (r : Int32) (c : Nat → Int64) (i : Nat) : Int32 := if c i = 0 then nI (hb_P c i) - nI (hb_P c i) / r * r else 4 + nI (hb_F c i)
/-- the first empty slot among the last d of five -/
def hb_E (s : Nat → Int32) : Nat → Int32
  | 0 => -1
  | d + 1 => if s (4 - d) = 0 then nI (4 - d) else hb_E s d
/-- the states, sizes behind a collect of the slots below n -/
def hb_s (s : Nat → Int32) (n : Nat) : Nat → Int32 := fun j => if j < n ∧ s j = 2 then 0 else s j
def hb_z (s : Nat → Int32) (z : Nat → Int64) (n : Nat) : Nat → Int64 := fun j => if j < n ∧ s j = 2 then 0 else z j
/-- zero below n -/
def hb_0 (s : Nat → Int32) (n : Nat) : Nat → Int32 := fun j => if j < n then 0 else s j
def hb_0L (z : Nat → Int64) (n : Nat) : Nat → Int64 := fun j => if j < n then 0 else z j
def hb_r (p : Int32) : Int32 := if 1 ≤ p then (if p ≤ 4 then p else 4) else 1
def hb_l (p : Int64) : Int64 := if 0 ≤ p then p else 0

theorem hb_s_0 (s : Nat → Int32) : hb_s s 0 = s := by
  funext j; simp [hb_s]
theorem hb_z_0 (s : Nat → Int32) (z : Nat → Int64) : hb_z s z 0 = z := by
  funext j; simp [hb_z]
theorem hb_0_0 (s : Nat → Int32) : hb_0 s 0 = s := by
  funext j; simp [hb_0]
theorem hb_0L_0 (z : Nat → Int64) : hb_0L z 0 = z := by
  funext j; simp [hb_0L]
theorem hb_s_at (s : Nat → Int32) (n : Nat) : hb_s s n n = s n := by simp [hb_s]
theorem hb_z_at (s : Nat → Int32) (z : Nat → Int64) (n : Nat) : hb_z s z n n = z n := by simp [hb_z]
theorem hb_s_t {s : Nat → Int32} {n : Nat} (h : s n = 2) : upd (hb_s s n) n 0 = hb_s s (n + 1) := by
  funext j
  by_cases e : j = n
  · subst e
    rw [pk_us]
    simp [hb_s, h]
  · rw [pk_un e]
    have q : j < n + 1 ↔ j < n := by omega
    simp only [hb_s, q]
theorem hb_s_f {s : Nat → Int32} {n : Nat} (h : ¬ s n = 2) : hb_s s n = hb_s s (n + 1) := by
  funext j
  by_cases e : j = n
  · subst e
    simp [hb_s, h]
  · have q : j < n + 1 ↔ j < n := by omega
    simp only [hb_s, q]
theorem hb_z_t {s : Nat → Int32} {z : Nat → Int64} {n : Nat} (h : s n = 2) : vp_updL (hb_z s z n) n 0 = hb_z s z (n + 1) := by
  funext j
  by_cases e : j = n
  · subst e
    rw [pk_uLs]
    simp [hb_z, h]
  · rw [pk_uLn e]
    have q : j < n + 1 ↔ j < n := by omega
    simp only [hb_z, q]
theorem hb_z_f {s : Nat → Int32} {z : Nat → Int64} {n : Nat} (h : ¬ s n = 2) : hb_z s z n = hb_z s z (n + 1) := by
  funext j
  by_cases e : j = n
  · subst e
    simp [hb_z, h]
  · have q : j < n + 1 ↔ j < n := by omega
    simp only [hb_z, q]
theorem hb_0_s (s : Nat → Int32) (n : Nat) : upd (hb_0 s n) n 0 = hb_0 s (n + 1) := by
  funext j
  by_cases e : j = n
  · subst e
    rw [pk_us]
    simp [hb_0]
  · rw [pk_un e]
    have q : j < n + 1 ↔ j < n := by omega
    simp only [hb_0, q]
theorem hb_0L_s (z : Nat → Int64) (n : Nat) : vp_updL (hb_0L z n) n 0 = hb_0L z (n + 1) := by
  funext j
  by_cases e : j = n
  · subst e
    rw [pk_uLs]
    simp [hb_0L]
  · rw [pk_uLn e]
    have q : j < n + 1 ↔ j < n := by omega
    simp only [hb_0L, q]
theorem hb_G_t {s : Nat → Int32} {z : Nat → Int64} {n : Nat} (h : s n = 2) : hb_G s z (n + 1) = hb_G s z n + z n := by
  show hb_G s z n + (if s n = 2 then z n else 0) = _
  rw [if_pos h]
theorem hb_G_f {s : Nat → Int32} {z : Nat → Int64} {n : Nat} (h : ¬ s n = 2) : hb_G s z (n + 1) = hb_G s z n := by
  show hb_G s z n + (if s n = 2 then z n else 0) = _
  rw [if_neg h, Int64.add_zero]
theorem hb_U_t {s : Nat → Int32} {z : Nat → Int64} {n : Nat} (h : s n = 0) : hb_U s z (n + 1) = hb_U s z n := by
  show hb_U s z n + (if s n = 0 then 0 else z n) = _
  rw [if_pos h, Int64.add_zero]
theorem hb_U_f {s : Nat → Int32} {z : Nat → Int64} {n : Nat} (h : ¬ s n = 0) : hb_U s z (n + 1) = hb_U s z n + z n := by
  show hb_U s z n + (if s n = 0 then 0 else z n) = _
  rw [if_neg h]
theorem hb_F_t {c : Nat → Int64} {n : Nat} (h : c n = 0) : hb_F c (n + 1) = hb_F c n := if_pos h
theorem hb_F_f {c : Nat → Int64} {n : Nat} (h : ¬ c n = 0) : hb_F c (n + 1) = hb_F c n + 1 := if_neg h
theorem hb_P_t {c : Nat → Int64} {n : Nat} (h : c n = 0) : hb_P c (n + 1) = hb_P c n + 1 := if_pos h
theorem hb_P_f {c : Nat → Int64} {n : Nat} (h : ¬ c n = 0) : hb_P c (n + 1) = hb_P c n := if_neg h
theorem hb_E_t {s : Nat → Int32} {d i : Nat} (hi : i = 4 - d) (h : s i = 0) : hb_E s (d + 1) = nI i := by
  subst hi; exact if_pos h
theorem hb_E_f {s : Nat → Int32} {d i : Nat} (hi : i = 4 - d) (h : ¬ s i = 0) : hb_E s (d + 1) = hb_E s d := by
  subst hi; exact if_neg h
theorem hb_E_c (s : Nat → Int32) (d : Nat) : hb_E s d = -1 ∨ ∃ i, i < 5 ∧ hb_E s d = nI i ∧ s i = 0 := by
  induction d with
  | zero => exact Or.inl rfl
  | succ d ih =>
    by_cases h : s (4 - d) = 0
    · exact Or.inr ⟨4 - d, by omega, hb_E_t rfl h, h⟩
    · rw [hb_E_f rfl h]; exact ih

theorem hb_U_z {s : Nat → Int32} {z : Nat → Int64} : ∀ n, (∀ j, j < n → s j = 0) → hb_U s z n = 0 := by
  intro n
  induction n with
  | zero => exact fun _ => rfl
  | succ n ih => exact fun h => (hb_U_t (h n (by omega))).trans (ih fun j hj => h j (by omega))
theorem hb_U_c {s s' : Nat → Int32} {z z' : Nat → Int64} : ∀ n, (∀ j, j < n → ((s j = 0 ↔ s' j = 0) ∧ z j = z' j)) → hb_U s z n = hb_U s' z' n := by
  intro n
  induction n with
  | zero => exact fun _ => rfl
  | succ n ih =>
    intro h
    have e := ih fun j hj => h j (by omega)
    obtain ⟨a, b⟩ := h n (by omega)
    by_cases q : s n = 0
    · rw [hb_U_t q, hb_U_t (a.mp q), e]
    · rw [hb_U_f q, hb_U_f (fun y => q (a.mpr y)), e, b]
theorem hb_G_c {s : Nat → Int32} {z z' : Nat → Int64} : ∀ n, (∀ j, j < n → s j = 2 → z j = z' j) → hb_G s z n = hb_G s z' n := by
  intro n
  induction n with
  | zero => exact fun _ => rfl
  | succ n ih =>
    intro h
    have e := ih fun j hj => h j (by omega)
    by_cases q : s n = 2
    · rw [hb_G_t q, hb_G_t q, e, h n (by omega) q]
    · rw [hb_G_f q, hb_G_f q, e]
/-- a store into an empty slot -/
theorem hb_U_p {s : Nat → Int32} {z : Nat → Int64} {i : Nat} {w : Int32} {x : Int64} (h0 : s i = 0) (hw : ¬ w = 0) : ∀ n, i < n → hb_U (upd s i w) (vp_updL z i x) n = hb_U s z n + x := by
  intro n
  induction n with
  | zero => exact fun h => absurd h (by omega)
  | succ n ih =>
    intro h
    by_cases e : i = n
    · subst e
      have c : hb_U (upd s i w) (vp_updL z i x) i = hb_U s z i := hb_U_c i fun j hj => by
        have q : j ≠ i := by omega
        rw [pk_un q, pk_uLn q]
        exact ⟨Iff.rfl, rfl⟩
      rw [hb_U_f (by rw [pk_us]; exact hw), hb_U_t h0, pk_uLs, c]
    · have q : n ≠ i := by omega
      have g := ih (by omega)
      by_cases y : s n = 0
      · rw [hb_U_t (by rw [pk_un q]; exact y), hb_U_t y, g]
      · rw [hb_U_f (by rw [pk_un q]; exact y), hb_U_f y, g, pk_uLn q]
        grind
/-- a drop -/
theorem hb_U_d {s : Nat → Int32} {z : Nat → Int64} {i : Nat} {w : Int32} (h0 : ¬ s i = 0) (hw : ¬ w = 0) (n : Nat) : hb_U (upd s i w) z n = hb_U s z n := by
  refine hb_U_c n fun j _ => ⟨?_, rfl⟩
  by_cases e : j = i
  · subst e
    rw [pk_us]
    exact ⟨fun q => absurd q hw, fun q => absurd q h0⟩
  · rw [pk_un e]
/-- a collect -/
theorem hb_U_s {s : Nat → Int32} {z : Nat → Int64} (m : Nat) : ∀ n, n ≤ m → hb_U s z n = hb_U (hb_s s m) z n + hb_G s z n := by
  intro n
  induction n with
  | zero => exact fun _ => rfl
  | succ n ih =>
    intro h
    have g := ih (by omega)
    by_cases q : s n = 2
    · have a : hb_s s m n = 0 := if_pos ⟨by omega, q⟩
      rw [hb_U_t a, hb_G_t q, hb_U_f (by rw [q]; decide), g]
      grind
    · have a : hb_s s m n = s n := if_neg fun y => q y.2
      rw [hb_G_f q]
      by_cases y : s n = 0
      · rw [hb_U_t y, hb_U_t (a.trans y), g]
      · rw [hb_U_f y, hb_U_f (by rw [a]; exact y), g]
        grind
theorem hb_C_c {a b : Nat → Int64} : ∀ n, (∀ j, j < n → a j = b j) → hb_C a n = hb_C b n := by
  intro n
  induction n with
  | zero => exact fun _ => rfl
  | succ n ih =>
    intro h
    show hb_C a n + a n = hb_C b n + b n
    rw [ih fun j hj => h j (by omega), h n (by omega)]
theorem hb_F_c {a b : Nat → Int64} : ∀ n, (∀ j, j < n → a j = b j) → hb_F a n = hb_F b n := by
  intro n
  induction n with
  | zero => exact fun _ => rfl
  | succ n ih =>
    intro h
    have e := ih fun j hj => h j (by omega)
    have q := h n (by omega)
    by_cases y : b n = 0
    · rw [hb_F_t y, hb_F_t (q.trans y), e]
    · rw [hb_F_f y, hb_F_f (by rw [q]; exact y), e]
theorem hb_P_c {a b : Nat → Int64} : ∀ n, (∀ j, j < n → a j = b j) → hb_P a n = hb_P b n := by
  intro n
  induction n with
  | zero => exact fun _ => rfl
  | succ n ih =>
    intro h
    have e := ih fun j hj => h j (by omega)
    have q := h n (by omega)
    by_cases y : b n = 0
    · rw [hb_P_t y, hb_P_t (q.trans y), e]
    · rw [hb_P_f y, hb_P_f (by rw [q]; exact y), e]
theorem hb_id_c {r : Int32} {a b : Nat → Int64} (n : Nat) (h : ∀ j, j < n + 1 → a j = b j) : hb_id r a n = hb_id r b n := by
  unfold hb_id
  rw [h n (by omega), hb_P_c n fun j hj => h j (by omega), hb_F_c n fun j hj => h j (by omega)]
theorem hb_b0 : vp_nar .byte 0 = 0 := by rw [vp_nar_byte]; decide
theorem hb_h0 : vp_nar .short 0 = 0 := by rw [vp_nar_short]; decide
theorem hb_h1 : vp_nar .short 1 = 1 := by rw [vp_nar_short]; decide
theorem hb_c0 : vp_nar .char 0 = 0 := by rw [vp_nar_char]; decide
theorem hb_b1 : vp_nar .byte ((1 : Int32).toInt8.toInt32) = 1 := by rw [vp_nar_byte]; decide
theorem hb_b2 : vp_nar .byte ((2 : Int32).toInt8.toInt32) = 2 := by rw [vp_nar_byte]; decide
theorem hb_bd : vp_nar .byte (((1 : Int32) + 1).toInt8.toInt32) = 2 := by rw [vp_nar_byte]; decide
theorem hb_L0 : ((0 : Int32).toInt64) = 0 := by decide
/-- a trace length survives its char -/
theorem hb_tr {x : Int64} (h0 : ¬ x < 0) (h1 : x ≤ 1024) : (vp_nar .char ((x.toInt32.toUInt32 % 65536).toInt32)).toInt64 = x := by
  obtain ⟨m, hm, rfl⟩ := pk_lOf h0
  have h2 : m ≤ 1024 := (pk_lLE (b := 1024) hm (by decide)).mp h1
  rw [pk_vc, lN_i, pk_char, pk_tn (by omega), Nat.mod_eq_of_lt (by omega), nI_l (by omega)]
theorem hb_pr {x : Int64} (h : 1 ≤ x) : ¬ x - 1 < 0 ∧ ¬ x = 0 := by
  have h0 : ¬ x < 0 := fun q => absurd (Int64.lt_of_le_of_lt h q) (by decide)
  obtain ⟨m, hm, rfl⟩ := pk_lOf h0
  have h2 : 1 ≤ m := (pk_lLE (a := 1) (by decide) hm).mp h
  refine ⟨?_, ?_⟩
  · rw [show lN m - 1 = lN (m - 1) from lN_sub (b := 1) h2]
    exact fun q => absurd ((pk_lLT (b := 0) (by omega) (by decide)).mp q) (by omega)
  · intro q
    rw [q] at h
    exact absurd h (by decide)
end
section
/-! the loops of the component -/
section
variable {f l : Int64} {r lg fc pc : Int32} {s lc li : Nat → Int32} {z : Nat → Int64}
theorem hb_xc {post : SX → Prop} (hp : post (f + hb_G s z 5, r, lg, fc, pc, hb_s s 5, hb_z s z 5, lc, li)) :
    ∀ d i : Nat, i + d = 5 → wX_collect_2 post r lg fc pc (d + 1) (nI i) (f + hb_G s z i) (hb_s s i) (hb_z s z i) lc li := by
  intro d
  induction d with
  | zero =>
    intro i hi
    obtain rfl : i = 5 := hi
    exact br_t (nI_le (Nat.le_refl 5) (by decide)) hp
  | succ d ih =>
    intro i hi
    have h : ¬ (5 : Int32) ≤ nI i := nI_ge (b := 5) (by omega) (by decide)
    have hv : vp_in (nI i) 5 := vp_in_nI (by omega) (by omega)
    have g := ih (i + 1) (by omega)
    refine br_f h ⟨hv, ?_⟩
    rw [nI_clamp (by omega)]
    by_cases q : s i = 2
    · rw [hb_G_t q] at g
      exact br_t ((hb_s_at s i).trans q) ⟨hv, nm_r (hb_s_t q) ⟨hv, nm_r (e' := f + (hb_G s z i + z i)) (by rw [hb_z_at, Int64.add_assoc]) ⟨hv, nm_r (hb_z_t q) (nm_r (nI_1 i) g)⟩⟩⟩
    · rw [hb_G_f q, ← hb_s_f q, ← hb_z_f q] at g
      exact br_f (fun y => q ((hb_s_at s i).symm.trans y)) (nm_r (nI_1 i) g)
theorem hb_wxc {post : SX → Prop} (hp : post (f + hb_G s z 5, r, lg, fc, pc, hb_s s 5, hb_z s z 5, lc, li)) :
    wpX_collect post (f, r, lg, fc, pc, s, z, lc, li) := by
  have h := hb_xc hp 5 0 rfl
  rw [show hb_G s z 0 = 0 from rfl, Int64.add_zero, hb_s_0, hb_z_0, nI_0] at h
  exact Exists.intro 6 h
theorem hb_xe {post : Int32 → Prop} : ∀ d i : Nat, i + d = 5 → post (hb_E s d) → wX_firstEmpty_2 post f r lg fc pc s z lc li (d + 1) (nI i) := by
  intro d
  induction d with
  | zero =>
    intro i hi hp
    obtain rfl : i = 5 := hi
    exact br_t (nI_le (Nat.le_refl 5) (by decide)) hp
  | succ d ih =>
    intro i hi hp
    have h : ¬ (5 : Int32) ≤ nI i := nI_ge (b := 5) (by omega) (by decide)
    have hv : vp_in (nI i) 5 := vp_in_nI (by omega) (by omega)
    have g := ih (i + 1) (by omega)
    refine br_f h ⟨hv, ?_⟩
    rw [nI_clamp (by omega)]
    by_cases q : s i = 0
    · rw [hb_E_t (i := i) (by omega) q] at hp
      exact br_t q hp
    · rw [hb_E_f (i := i) (by omega) q] at hp
      exact br_f q (nm_r (nI_1 i) (g hp))
theorem hb_wxe {post : Int32 → Prop} (hp : post (hb_E s 5)) : wpX_firstEmpty post (f, r, lg, fc, pc, s, z, lc, li) := by
  have h := hb_xe (f := f) (r := r) (lg := lg) (fc := fc) (pc := pc) (z := z) (lc := lc) (li := li) 5 0 rfl hp
  rw [nI_0] at h
  exact Exists.intro 6 h
theorem hb_x80 {post : Int64 → SX → Prop} (hp : post l (f, r, 0, 0, 0, s, z, hb_0 lc 6, hb_0 li 6)) :
    ∀ d i : Nat, i + d = 6 → wX_limit_80 post l f r lg fc pc (d + 1) (nI i) s z (hb_0 lc i) (hb_0 li i) := by
  intro d
  induction d with
  | zero =>
    intro i hi
    obtain rfl : i = 6 := hi
    exact br_t (nI_le (Nat.le_refl 6) (by decide)) hp
  | succ d ih =>
    intro i hi
    have h : ¬ (6 : Int32) ≤ nI i := nI_ge (b := 6) (by omega) (by decide)
    have hv : vp_in (nI i) 6 := vp_in_nI (by omega) (by omega)
    have g := ih (i + 1) (by omega)
    refine br_f h ?_
    rw [nI_clamp (by omega), hb_h0]
    exact ⟨hv, nm_r (hb_0_s lc i) ⟨hv, nm_r (hb_0_s li i) (nm_r (nI_1 i) g)⟩⟩
theorem hb_x49 {post : Int64 → SX → Prop} (hp : post l (f, r, 0, 0, 0, hb_0 s 5, hb_0L z 5, hb_0 lc 6, hb_0 li 6)) :
    ∀ d i : Nat, i + d = 5 → wX_limit_49 post l f r lg fc pc (d + 1) (nI i) (hb_0 s i) (hb_0L z i) lc li := by
  intro d
  induction d with
  | zero =>
    intro i hi
    obtain rfl : i = 5 := hi
    have h := hb_x80 (lg := lg) (fc := fc) (pc := pc) hp 6 0 rfl
    rw [hb_0_0, hb_0_0, nI_0] at h
    exact br_t (nI_le (Nat.le_refl 5) (by decide)) ⟨7, h⟩
  | succ d ih =>
    intro i hi
    have h : ¬ (5 : Int32) ≤ nI i := nI_ge (b := 5) (by omega) (by decide)
    have hv : vp_in (nI i) 5 := vp_in_nI (by omega) (by omega)
    have g := ih (i + 1) (by omega)
    refine br_f h ?_
    rw [nI_clamp (by omega)]
    exact ⟨hv, nm_r (hb_0_s s i) ⟨hv, nm_r (hb_0L_s z i) (nm_r (nI_1 i) g)⟩⟩
theorem hb_x34 {post : Int64 → SX → Prop} {q : Int32} (hp : post l (l, q, 0, 0, 0, hb_0 s 5, hb_0L z 5, hb_0 lc 6, hb_0 li 6)) :
    wX_limit_34 post l q f r lg fc pc s z lc li := by
  have h := hb_x49 (lg := lg) (fc := fc) (pc := pc) hp 5 0 rfl
  rw [hb_0_0, hb_0L_0, nI_0] at h
  exact Exists.intro 6 h
theorem hb_x13 {post : Int64 → SX → Prop} {q : Int32} (hp : post l (l, hb_r q, 0, 0, 0, hb_0 s 5, hb_0L z 5, hb_0 lc 6, hb_0 li 6)) :
    wX_limit_13 post q l f r lg fc pc s z lc li := by
  unfold hb_r at hp
  by_cases h1 : 1 ≤ q
  · rw [if_pos h1] at hp
    by_cases h4 : q ≤ 4
    · rw [if_pos h4] at hp
      exact br_t h1 (br_t h4 (hb_x34 hp))
    · rw [if_neg h4] at hp
      exact br_t h1 (br_f h4 (hb_x34 hp))
  · rw [if_neg h1] at hp
    exact br_f h1 (br_t (by decide) (hb_x34 hp))
theorem hb_wxl {post : Int64 → SX → Prop} {p : Int64} {q : Int32} (hp : post (hb_l p) (hb_l p, hb_r q, 0, 0, 0, hb_0 s 5, hb_0L z 5, hb_0 lc 6, hb_0 li 6)) :
    wpX_limit post (f, r, lg, fc, pc, s, z, lc, li) p q := by
  unfold hb_l at hp
  by_cases h0 : 0 ≤ p
  · rw [if_pos h0] at hp
    exact br_t h0 (hb_x13 hp)
  · rw [if_neg h0] at hp
    exact br_f h0 (hb_x13 hp)
end
end
section
/-! the loops of the reference -/
section
variable {lim m : Int64} {r cn : Int32} {z eco : Nat → Int64} {s ec el : Nat → Int32}
theorem hb_y31 {post : Int64 → SY → Prop} {p : Int64} (hp : post (hb_l p) (hb_l p, r, cn, hb_0L z 5, hb_0 s 5, ec, eco, el)) :
    ∀ d i : Nat, i + d = 5 → wY_limit_31 post p lim r cn (d + 1) (nI i) (hb_0L z i) (hb_0 s i) ec eco el := by
  intro d
  induction d with
  | zero =>
    intro i hi
    obtain rfl : i = 5 := hi
    unfold hb_l at hp
    refine br_t (nI_le (Nat.le_refl 5) (by decide)) ?_
    by_cases h0 : 0 ≤ p
    · rw [if_pos h0] at hp
      exact br_t h0 hp
    · rw [if_neg h0] at hp
      exact br_f h0 hp
  | succ d ih =>
    intro i hi
    have h : ¬ (5 : Int32) ≤ nI i := nI_ge (b := 5) (by omega) (by decide)
    have hv : vp_in (nI i) 5 := vp_in_nI (by omega) (by omega)
    have g := ih (i + 1) (by omega)
    refine br_f h ?_
    rw [nI_clamp (by omega), hb_b0, hb_L0]
    exact ⟨hv, nm_r (hb_0_s s i) ⟨hv, nm_r (hb_0L_s z i) (nm_r (nI_1 i) g)⟩⟩
theorem hb_y31e {post : Int64 → SY → Prop} {p : Int64} (hp : post (hb_l p) (hb_l p, r, cn, hb_0L z 5, hb_0 s 5, ec, eco, el)) :
    ∃ n : Nat, wY_limit_31 post p lim r cn n 0 z s ec eco el := by
  have h := hb_y31 (lim := lim) hp 5 0 rfl
  rw [hb_0_0, hb_0L_0, nI_0] at h
  exact Exists.intro 6 h
theorem hb_wyl {post : Int64 → SY → Prop} {p : Int64} {q : Int32} (hp : post (hb_l p) (hb_l p, hb_r q, 0, hb_0L z 5, hb_0 s 5, ec, eco, el)) :
    wpY_limit post (lim, r, cn, z, s, ec, eco, el) p q := by
  unfold hb_r at hp
  by_cases h1 : 1 ≤ q
  · rw [if_pos h1] at hp
    by_cases h4 : q ≤ 4
    · rw [if_pos h4] at hp
      exact br_t h1 (br_t h4 (hb_y31e hp))
    · rw [if_neg h4] at hp
      exact br_t h1 (br_f h4 (hb_y31e hp))
  · rw [if_neg h1] at hp
    exact br_f h1 (hb_y31e hp)
theorem hb_ye {post : Int32 → Prop} (hp : post (hb_E s 5)) : ∀ k d : Nat, k + d = 5 → wY_firstEmpty_4 post lim r cn z s ec eco el (k + 1) (hb_E s d) (nI k + (-1)) := by
  intro k
  induction k with
  | zero =>
    intro d hd
    obtain rfl : d = 5 := by omega
    exact br_t (by decide) hp
  | succ k ih =>
    intro d hd
    have g := ih (d + 1) (by omega)
    have hv : vp_in (nI k) 5 := vp_in_nI (by omega) (by omega)
    rw [pk_m1]
    refine br_f (nI_pos (by omega)) ⟨hv, ?_⟩
    rw [nI_clamp (by omega)]
    by_cases q : s k = 0
    · rw [hb_E_t (i := k) (by omega) q] at g
      exact br_t q (nm_e g)
    · rw [hb_E_f (i := k) (by omega) q] at g
      exact br_f q (nm_e g)
theorem hb_wye {post : Int32 → Prop} (hp : post (hb_E s 5)) : wpY_firstEmpty post (lim, r, cn, z, s, ec, eco, el) := by
  have h := hb_ye (lim := lim) (r := r) (cn := cn) (z := z) (ec := ec) (eco := eco) (el := el) hp 5 0 rfl
  rw [pk_m1 4] at h
  exact Exists.intro 6 h
theorem hb_ys {post : Int64 → SY → Prop} (hp : post (hb_G s z 5) (lim, r, cn, z, hb_s s 5, ec, eco, el)) :
    ∀ d i : Nat, i + d = 5 → wY_sweep_4 post lim r cn (d + 1) (hb_G s z i) (nI i) z (hb_s s i) ec eco el := by
  intro d
  induction d with
  | zero =>
    intro i hi
    obtain rfl : i = 5 := hi
    exact br_t (nI_le (Nat.le_refl 5) (by decide)) hp
  | succ d ih =>
    intro i hi
    have h : ¬ (5 : Int32) ≤ nI i := nI_ge (b := 5) (by omega) (by decide)
    have hv : vp_in (nI i) 5 := vp_in_nI (by omega) (by omega)
    have g := ih (i + 1) (by omega)
    refine br_f h ⟨hv, ?_⟩
    rw [nI_clamp (by omega), hb_b0]
    by_cases q : s i = 2
    · rw [hb_G_t q] at g
      exact br_t ((hb_s_at s i).trans q) ⟨hv, nm_r (hb_s_t q) ⟨hv, nm_e (nm_r (nI_1 i) g)⟩⟩
    · rw [hb_G_f q, ← hb_s_f q] at g
      exact br_f (fun y => q ((hb_s_at s i).symm.trans y)) (nm_r (nI_1 i) g)
theorem hb_wys {post : Int64 → SY → Prop} (hp : post (hb_G s z 5) (lim, r, cn, z, hb_s s 5, ec, eco, el)) :
    wpY_sweep post (lim, r, cn, z, s, ec, eco, el) := by
  have h := hb_ys hp 5 0 rfl
  rw [show hb_G s z 0 = 0 from rfl, hb_s_0, nI_0] at h
  exact Exists.intro 6 h
theorem hb_y38 {post : Int64 → Prop} {c : Nat} (hc : c ≤ 6) (hp : post (m - hb_C eco c)) :
    ∀ d i : Nat, i + d = c → wY_free_38 post lim r (nI c) z s ec eco el (d + 1) (m - hb_C eco i) (nI i) := by
  intro d
  induction d with
  | zero =>
    intro i hi
    obtain rfl : i = c := hi
    exact br_t (nI_le (Nat.le_refl i) (by omega)) hp
  | succ d ih =>
    intro i hi
    have h : ¬ nI c ≤ nI i := nI_ge (by omega) (by omega)
    have hv : vp_in (nI i) 6 := vp_in_nI (by omega) (by omega)
    have g := ih (i + 1) (by omega)
    refine br_f h ⟨hv, ?_⟩
    rw [nI_clamp (by omega)]
    refine nm_r (e' := m - hb_C eco (i + 1)) ?_ (nm_r (nI_1 i) g)
    show _ = m - (hb_C eco i + eco i)
    grind
theorem hb_y7 {post : Int64 → Prop} {c : Nat} (hc : c ≤ 6) (hp : post (lim - hb_U s z 5 - hb_C eco c)) :
    ∀ d i : Nat, i + d = 5 → wY_free_7 post lim r (nI c) z s ec eco el (d + 1) (lim - hb_U s z i) (nI i) := by
  intro d
  induction d with
  | zero =>
    intro i hi
    obtain rfl : i = 5 := hi
    have h := hb_y38 (lim := lim) (r := r) (z := z) (s := s) (ec := ec) (el := el) hc hp c 0 (by omega)
    rw [show hb_C eco 0 = 0 from rfl, Int64.sub_zero, nI_0] at h
    exact br_t (nI_le (Nat.le_refl 5) (by decide)) ⟨c + 1, h⟩
  | succ d ih =>
    intro i hi
    have h : ¬ (5 : Int32) ≤ nI i := nI_ge (b := 5) (by omega) (by decide)
    have hv : vp_in (nI i) 5 := vp_in_nI (by omega) (by omega)
    have g := ih (i + 1) (by omega)
    refine br_f h ⟨hv, ?_⟩
    rw [nI_clamp (by omega)]
    by_cases q : s i = 0
    · rw [hb_U_t q] at g
      exact br_t q (nm_r (nI_1 i) g)
    · rw [hb_U_f q] at g
      refine br_f q ⟨hv, nm_r (e' := lim - (hb_U s z i + z i)) ?_ (nm_r (nI_1 i) g)⟩
      grind
theorem hb_wyf {post : Int64 → Prop} {c : Nat} (hc : c ≤ 6) (hp : post (lim - hb_U s z 5 - hb_C eco c)) :
    wpY_free post (lim, r, nI c, z, s, ec, eco, el) := by
  have h := hb_y7 (r := r) (ec := ec) (el := el) hc hp 5 0 rfl
  rw [show hb_U s z 0 = 0 from rfl, Int64.sub_zero, nI_0] at h
  exact Exists.intro 6 h
theorem hb_yi0 {post : Int32 → Prop} {c : Nat} (hc : c < 6) (hr : ¬ r = 0) (hp : post (nI (hb_P eco c) - nI (hb_P eco c) / r * r)) :
    ∀ d i : Nat, i + d = c → wY_idOf_22 post (nI c) 0 lim r cn z s ec eco el (d + 1) (nI (hb_P eco i)) (nI i) := by
  intro d
  induction d with
  | zero =>
    intro i hi
    obtain rfl : i = c := hi
    exact br_t (nI_le (Nat.le_refl i) (by omega)) (br_t rfl ⟨hr, hp⟩)
  | succ d ih =>
    intro i hi
    have h : ¬ nI c ≤ nI i := nI_ge (by omega) (by omega)
    have hv : vp_in (nI i) 6 := vp_in_nI (by omega) (by omega)
    have g := ih (i + 1) (by omega)
    refine br_f h ⟨hv, ?_⟩
    rw [nI_clamp (by omega)]
    by_cases q : eco i = 0
    · rw [hb_P_t q] at g
      exact br_t q (br_t rfl (nm_r (nI_1 _) (nm_r (nI_1 i) g)))
    · rw [hb_P_f q] at g
      exact br_f q (br_f (by decide) (nm_r (nI_1 i) g))
theorem hb_yi1 {post : Int32 → Prop} {c : Nat} (hc : c < 6) (hp : post (4 + nI (hb_F eco c))) :
    ∀ d i : Nat, i + d = c → wY_idOf_22 post (nI c) 1 lim r cn z s ec eco el (d + 1) (nI (hb_F eco i)) (nI i) := by
  intro d
  induction d with
  | zero =>
    intro i hi
    obtain rfl : i = c := hi
    exact br_t (nI_le (Nat.le_refl i) (by omega)) (br_f (by decide) hp)
  | succ d ih =>
    intro i hi
    have h : ¬ nI c ≤ nI i := nI_ge (by omega) (by omega)
    have hv : vp_in (nI i) 6 := vp_in_nI (by omega) (by omega)
    have g := ih (i + 1) (by omega)
    refine br_f h ⟨hv, ?_⟩
    rw [nI_clamp (by omega)]
    by_cases q : eco i = 0
    · rw [hb_F_t q] at g
      exact br_t q (br_f (by decide) (nm_r (nI_1 i) g))
    · rw [hb_F_f q] at g
      exact br_f q (br_t rfl (nm_r (nI_1 _) (nm_r (nI_1 i) g)))
theorem hb_wyi {post : Int32 → Prop} {c : Nat} (hc : c < 6) (hr : ¬ r = 0) (hp : post (hb_id r eco c)) :
    wpY_idOf post (lim, r, cn, z, s, ec, eco, el) (nI c) := by
  refine And.intro (vp_in_nI hc (by omega)) ?_
  rw [nI_clamp (by omega)]
  unfold hb_id at hp
  by_cases q : eco c = 0
  · rw [if_pos q] at hp
    have h := hb_yi0 (lim := lim) (cn := cn) (z := z) (s := s) (ec := ec) (el := el) hc hr hp c 0 (by omega)
    rw [show hb_P eco 0 = 0 from rfl, nI_0] at h
    exact br_t q ⟨c + 1, h⟩
  · rw [if_neg q] at hp
    have h := hb_yi1 (lim := lim) (r := r) (cn := cn) (z := z) (s := s) (ec := ec) (el := el) hc hp c 0 (by omega)
    rw [show hb_F eco 0 = 0 from rfl, nI_0] at h
    exact br_f q ⟨c + 1, h⟩
end
end
section
/-! the relation, and what the storing calls do to it -/
def hb_I (c : Nat) (r : Int32) (s : Nat → Int32) (zx zy : Nat → Int64) (lc li ec : Nat → Int32) (eco : Nat → Int64) : Prop :=
  c ≤ 6 ∧ ¬ r = 0 ∧ (∀ i, i < 5 → s i = 0 ∨ s i = 1 ∨ s i = 2) ∧ (∀ i, i < 5 → ¬ s i = 0 → zx i = zy i) ∧ (∀ i, i < c → lc i = ec i ∧ li i = hb_id r eco i)
/-- the relation at the head of a turn: X's free counter is Y's count, the states are one array, the log is Y's log -/
def i_Rel (k : Nat) (u : SX) (v : SY) : Prop :=
  ∃ (c : Nat) (lim : Int64) (r : Int32) (s : Nat → Int32) (zx zy : Nat → Int64) (lc li ec : Nat → Int32) (eco : Nat → Int64) (el : Nat → Int32),
    u = (lim - hb_U s zy 5 - hb_C eco c, r, nI c, nI (hb_F eco c), nI (hb_P eco c), s, zx, lc, li) ∧ v = (lim, r, nI c, zy, s, ec, eco, el) ∧ hb_I c r s zx zy lc li ec eco
section
variable {k c : Nat} {lim f x : Int64} {r : Int32} {s lc li ec el : Nat → Int32} {zx zy eco : Nat → Int64}
theorem hb_keep (hI : hb_I c r s zx zy lc li ec eco) (hf : f = lim - hb_U s zy 5 - hb_C eco c) :
    i_Rel k (f, r, nI c, nI (hb_F eco c), nI (hb_P eco c), s, zx, lc, li) (lim, r, nI c, zy, s, ec, eco, el) := by
  subst hf
  exact ⟨c, lim, r, s, zx, zy, lc, li, ec, eco, el, rfl, rfl, hI⟩
theorem hb_put (hI : hb_I c r s zx zy lc li ec eco) (hf : f = lim - hb_U s zy 5 - hb_C eco c) {i : Nat} (hi : i < 5) (h0 : s i = 0) {w : Int32} (hw : w = 1 ∨ w = 2) :
    i_Rel k (f - x, r, nI c, nI (hb_F eco c), nI (hb_P eco c), upd s i w, vp_updL zx i x, lc, li) (lim, r, nI c, vp_updL zy i x, upd s i w, ec, eco, el) := by
  obtain ⟨h1, h2, h3, h4, h5⟩ := hI
  have w0 : ¬ w = 0 := by rcases hw with e | e <;> rw [e] <;> decide
  refine hb_keep ⟨h1, h2, ?_, ?_, h5⟩ ?_
  · intro j hj
    by_cases e : j = i
    · subst e
      rw [pk_us]
      exact Or.inr hw
    · rw [pk_un e]
      exact h3 j hj
  · intro j hj
    by_cases e : j = i
    · subst e
      rw [pk_uLs, pk_uLs]
      exact fun _ => rfl
    · rw [pk_un e, pk_uLn e, pk_uLn e]
      exact h4 j hj
  · rw [hb_U_p h0 w0 5 hi, hf]
    grind
theorem hb_col (hI : hb_I c r s zx zy lc li ec eco) (hf : f = lim - hb_U s zy 5 - hb_C eco c) :
    hb_I c r (hb_s s 5) (hb_z s zx 5) zy lc li ec eco ∧ f + hb_G s zx 5 = lim - hb_U (hb_s s 5) zy 5 - hb_C eco c ∧ f + hb_G s zy 5 = f + hb_G s zx 5 := by
  obtain ⟨h1, h2, h3, h4, h5⟩ := hI
  have g : hb_G s zx 5 = hb_G s zy 5 := hb_G_c 5 fun j hj e => h4 j hj (by rw [e]; decide)
  refine ⟨⟨h1, h2, ?_, ?_, h5⟩, ?_, by rw [g]⟩
  · intro j hj
    by_cases e : j < 5 ∧ s j = 2
    · exact Or.inl (if_pos e)
    · rw [show hb_s s 5 j = s j from if_neg e]
      exact h3 j hj
  · intro j hj
    by_cases e : j < 5 ∧ s j = 2
    · exact fun q => absurd (if_pos e) q
    · rw [show hb_s s 5 j = s j from if_neg e, show hb_z s zx 5 j = zx j from if_neg e]
      exact h4 j hj
  · rw [g, hf, hb_U_s (s := s) (z := zy) 5 5 (Nat.le_refl 5)]
    grind
theorem hb_C_p : hb_C (vp_updL eco c x) (c + 1) = hb_C eco c + x := by
  show hb_C (vp_updL eco c x) c + vp_updL eco c x c = _
  rw [pk_uLs, hb_C_c c fun j hj => pk_uLn (by omega)]
theorem hb_F_q : hb_F (vp_updL eco c x) c = hb_F eco c := hb_F_c c fun j hj => pk_uLn (by omega)
theorem hb_P_q : hb_P (vp_updL eco c x) c = hb_P eco c := hb_P_c c fun j hj => pk_uLn (by omega)
theorem hb_F_0 : hb_F (vp_updL eco c 0) (c + 1) = hb_F eco c := by rw [hb_F_t pk_uLs, hb_F_q]
theorem hb_P_0 : hb_P (vp_updL eco c 0) (c + 1) = hb_P eco c + 1 := by rw [hb_P_t pk_uLs, hb_P_q]
theorem hb_F_1 (h : ¬ x = 0) : hb_F (vp_updL eco c x) (c + 1) = hb_F eco c + 1 := by rw [hb_F_f (by rw [pk_uLs]; exact h), hb_F_q]
theorem hb_P_1 (h : ¬ x = 0) : hb_P (vp_updL eco c x) (c + 1) = hb_P eco c := by rw [hb_P_f (by rw [pk_uLs]; exact h), hb_P_q]
theorem hb_id_0 : hb_id r (vp_updL eco c 0) c = nI (hb_P eco c) - nI (hb_P eco c) / r * r := by
  unfold hb_id
  rw [if_pos pk_uLs, hb_P_q]
theorem hb_id_1 (h : ¬ x = 0) : hb_id r (vp_updL eco c x) c = 4 + nI (hb_F eco c) := by
  unfold hb_id
  rw [if_neg (by rw [pk_uLs]; exact h), hb_F_q]
theorem hb_push (hI : hb_I c r s zx zy lc li ec eco) (hc : c < 6) {q y : Int32} (hy : y = hb_id r (vp_updL eco c x) c) :
    hb_I (c + 1) r s zx zy (upd lc c q) (upd li c y) (upd ec c q) (vp_updL eco c x) := by
  obtain ⟨h1, h2, h3, h4, h5⟩ := hI
  refine ⟨by omega, h2, h3, h4, ?_⟩
  intro i hi
  by_cases e : i = c
  · subst e
    simp only [pk_us]
    exact ⟨trivial, hy⟩
  · simp only [pk_un e]
    obtain ⟨a, b⟩ := h5 i (by omega)
    exact ⟨a, b.trans (hb_id_c i fun j hj => (pk_uLn (by omega)).symm)⟩
end
theorem i_up {k : Nat} {u : SX} {v : SY} (h : i_Rel k u v) : i_Rel (k + 4) u v := h
end
section
/-! alloc -/
section
variable {k c : Nat} {lim f x : Int64} {r cn lg fc pc y : Int32} {s lc li ec el : Nat → Int32} {z zx zy eco : Nat → Int64}
theorem hb_x25 {post : Int32 → SX → Prop} (h : wX_alloc_29 post x y (f + hb_G s z 5) r lg fc pc (hb_s s 5) (hb_z s z 5) lc li) :
    wX_alloc_25 post x y f r lg fc pc s z lc li := by
  unfold wX_alloc_25
  exact hb_wxc h
theorem hb_y33 {post : Int32 → SY → Prop} (h : wY_alloc_48 post x y (hb_E (hb_s s 5) 5) (f + hb_G s z 5) lim r cn z (hb_s s 5) ec eco el) :
    wY_alloc_33 post x y f lim r cn z s ec eco el := by
  unfold wY_alloc_33
  exact hb_wys (nm_e (hb_wye h))
theorem hb_a29 (hI : hb_I c r s zx zy lc li ec eco) (hf : f = lim - hb_U s zy 5 - hb_C eco c) (x : Int64) (y : Int32) :
    ∃ (a : Int32) (u' : SX) (v' : SY), i_Rel k u' v' ∧
      (∀ post : Int32 → SX → Prop, post a u' → wX_alloc_29 post x y f r (nI c) (nI (hb_F eco c)) (nI (hb_P eco c)) s zx lc li) ∧
      (∀ post : Int32 → SY → Prop, post a v' → wY_alloc_48 post x y (hb_E s 5) f lim r (nI c) zy s ec eco el) := by
  by_cases h1 : x ≤ f
  · rcases hb_E_c s 5 with e | ⟨i, hi, e, h0⟩
    · refine ⟨-3, _, _, hb_keep (el := el) hI hf, fun post hp => br_t h1 (hb_wxe ?_), fun post hp => ?_⟩
      · rw [e]
        exact br_f (by decide) hp
      · rw [e]
        exact br_t h1 (br_f (by decide) hp)
    · have hv : vp_in (nI i) 5 := vp_in_nI hi (by omega)
      have h9 : 0 ≤ nI i := nI_pos' (by omega)
      have hcl : (nI i).toNatClampNeg = i := nI_clamp (by omega)
      by_cases h3 : y = 0
      · refine ⟨nI i, _, _, hb_put (el := el) (x := x) hI hf hi h0 (w := 2) (Or.inr rfl), fun post hp => br_t h1 (hb_wxe ?_), fun post hp => ?_⟩
        · rw [e, hcl]
          exact br_t h9 ⟨hv, nm_e (br_t h3 (And.intro hv (nm_r (e' := upd s i 2) (by rw [hcl]) (nm_e hp))))⟩
        · rw [e]
          exact br_t h1 (br_t h9 ⟨hv, nm_r (e' := vp_updL zy i x) (by rw [hcl]) (br_t h3 ⟨hv, nm_r (e' := upd s i 2) (by rw [hcl, hb_b2]) hp⟩)⟩)
      · refine ⟨nI i, _, _, hb_put (el := el) (x := x) hI hf hi h0 (w := 1) (Or.inl rfl), fun post hp => br_t h1 (hb_wxe ?_), fun post hp => ?_⟩
        · rw [e, hcl]
          exact br_t h9 ⟨hv, nm_e (br_f h3 (And.intro hv (nm_r (e' := upd s i 1) (by rw [hcl]) (nm_e hp))))⟩
        · rw [e]
          exact br_t h1 (br_t h9 ⟨hv, nm_r (e' := vp_updL zy i x) (by rw [hcl]) (br_f h3 ⟨hv, nm_r (e' := upd s i 1) (by rw [hcl, hb_b1]) hp⟩)⟩)
  · exact ⟨-1, _, _, hb_keep (el := el) hI hf, fun post hp => br_f h1 hp, fun post hp => br_f h1 hp⟩
theorem hb_alloc {u : SX} {v : SY} (I : i_Rel k u v) (x : Int64) (y : Int32) :
    ∃ (a : Int32) (u' : SX) (v' : SY), i_Rel (k + 4) u' v' ∧ (∀ post : Int32 → SX → Prop, post a u' → wpX_alloc post u x y) ∧ (∀ post : Int32 → SY → Prop, post a v' → wpY_alloc post v x y) := by
  obtain ⟨c, lim, r, s, zx, zy, lc, li, ec, eco, el, rfl, rfl, hI⟩ := I
  by_cases h0 : 0 ≤ x
  · obtain ⟨f, hf⟩ : ∃ f, f = lim - hb_U s zy 5 - hb_C eco c := ⟨_, rfl⟩
    rw [← hf]
    have hc := hI.1
    obtain ⟨hI', hf', hg⟩ := hb_col hI hf
    obtain ⟨a, u', v', R, hX, hY⟩ := hb_a29 (k := k + 4) (el := el) hI' hf' x y
    have hY' : ∀ post : Int32 → SY → Prop, post a v' → wY_alloc_33 post x y f lim r (nI c) zy s ec eco el := fun post hp => hb_y33 (by rw [hg]; exact hY post hp)
    by_cases h1 : f < x
    · refine ⟨a, u', v', R, fun post hp => br_t h0 (br_t h1 (hb_x25 (hX post hp))), fun post hp => br_t h0 (hb_wye (hb_wyf hc ?_))⟩
      rw [← hf]
      exact br_t h1 (hY' post hp)
    · by_cases h2 : 0 ≤ hb_E s 5
      · obtain ⟨a, u', v', R, hX, hY⟩ := hb_a29 (k := k + 4) (el := el) hI hf x y
        refine ⟨a, u', v', R, fun post hp => br_t h0 (br_f h1 (hb_wxe (br_t h2 (hX post hp)))), fun post hp => br_t h0 (hb_wye (hb_wyf hc ?_))⟩
        rw [← hf]
        exact br_f h1 (br_t h2 (hY post hp))
      · refine ⟨a, u', v', R, fun post hp => br_t h0 (br_f h1 (hb_wxe (br_f h2 (hb_x25 (hX post hp))))), fun post hp => br_t h0 (hb_wye (hb_wyf hc ?_))⟩
        rw [← hf]
        exact br_f h1 (br_f h2 (hY' post hp))
  · exact ⟨-2, _, _, hb_keep (el := el) hI rfl, fun post hp => br_f h0 hp, fun post hp => br_f h0 hp⟩
end
end
section
/-! raise -/
def hb_ans (q y : Int32) (t : Int64) : Int64 := ((((q &&& 65535).toInt64) <<< ((32 : Int32).toInt64 &&& 63)) ||| (y.toInt64 <<< ((16 : Int32).toInt64 &&& 63))) ||| t
def hb_t (t : Int64) : Int64 := if t ≤ 1024 then t else 1024
theorem hb_t_c {x : Int64} (h : 1 ≤ x) : (vp_nar .char (((hb_t (x - 1)).toInt32.toUInt32 % 65536).toInt32)).toInt64 = hb_t (x - 1) := by
  unfold hb_t
  by_cases q : x - 1 ≤ 1024
  · rw [if_pos q]
    exact hb_tr (hb_pr h).1 q
  · rw [if_neg q]
    exact hb_tr (by decide) (by decide)
section
variable {k c : Nat} {lim f x t : Int64} {r cn lg fc pc q y : Int32} {s lc li ec el : Nat → Int32} {z zx zy eco : Nat → Int64}
theorem hb_x126 {post : Int64 → SX → Prop} (hc : c < 6) (hp : post (hb_ans q y t) (f, r, nI (c + 1), fc, pc, s, z, upd lc c (vp_nar .short q), upd li c y)) :
    wX_raise_126 post q y t f r (nI c) fc pc s z lc li := by
  have hv : vp_in (nI c) 6 := vp_in_nI hc (by omega)
  have hcl : (nI c).toNatClampNeg = c := nI_clamp (by omega)
  exact And.intro hv (nm_r (e' := upd lc c (vp_nar .short q)) (by rw [hcl]) ⟨hv, nm_r (e' := upd li c y) (by rw [hcl]) (nm_r (nI_1 c) hp)⟩)
theorem hb_y147 {post : Int64 → SY → Prop} (hc : c < 6) (hr : ¬ r = 0) (hp : post (hb_ans (ec c) (hb_id r eco c) (el c).toInt64) (lim, r, cn, z, s, ec, eco, el)) :
    wY_raise_147 post (nI c) lim r cn z s ec eco el := by
  have hv : vp_in (nI c) 6 := vp_in_nI hc (by omega)
  have hcl : (nI c).toNatClampNeg = c := nI_clamp (by omega)
  refine And.intro hv (hb_wyi hc hr (And.intro hv ?_))
  rw [hcl]
  exact hp
theorem hb_y51p {post : Int64 → SY → Prop} (hc : c < 6) (hr : ¬ r = 0)
    (hp : post (hb_ans 1 (hb_id r (vp_updL eco c 0) c) 0) (lim, r, nI (c + 1), z, s, upd ec c 1, vp_updL eco c 0, upd el c 0)) :
    wY_raise_51 post q x 0 lim r (nI c) z s ec eco el := by
  have hv : vp_in (nI c) 6 := vp_in_nI hc (by omega)
  have hcl : (nI c).toNatClampNeg = c := nI_clamp (by omega)
  unfold wY_raise_51
  rw [hcl, hb_h1, hb_c0, hb_L0]
  refine nm_r (nI_1 c) (br_t rfl ⟨hv, nm_e ⟨hv, nm_e ⟨hv, nm_e (hb_y147 hc hr ?_)⟩⟩⟩)
  rw [pk_us, pk_us, hb_L0]
  exact hp
theorem hb_y116 {post : Int64 → SY → Prop} (hc : c < 6) (hr : ¬ r = 0)
    (hp : post (hb_ans (ec c) (hb_id r eco c) (vp_nar .char ((t.toInt32.toUInt32 % 65536).toInt32)).toInt64) (lim, r, cn, z, s, ec, eco, upd el c (vp_nar .char ((t.toInt32.toUInt32 % 65536).toInt32)))) :
    wY_raise_116 post (nI c) t (nI c) lim r cn z s ec eco el := by
  have hv : vp_in (nI c) 6 := vp_in_nI hc (by omega)
  have hcl : (nI c).toNatClampNeg = c := nI_clamp (by omega)
  refine And.intro hv (nm_r (e' := upd el c (vp_nar .char ((t.toInt32.toUInt32 % 65536).toInt32))) (by rw [hcl]) (hb_y147 hc hr ?_))
  rw [pk_us]
  exact hp
theorem hb_y51f {post : Int64 → SY → Prop} (hc : c < 6) (hr : ¬ r = 0) (hx : 1 ≤ x)
    (hp : post (hb_ans q.toInt16.toInt32 (hb_id r (vp_updL eco c x) c) (hb_t (x - 1))) (lim, r, nI (c + 1), z, s, upd ec c q.toInt16.toInt32, vp_updL eco c x, upd el c (vp_nar .char (((hb_t (x - 1)).toInt32.toUInt32 % 65536).toInt32)))) :
    wY_raise_51 post q x 1 lim r (nI c) z s ec eco el := by
  have hv : vp_in (nI c) 6 := vp_in_nI hc (by omega)
  have hcl : (nI c).toNatClampNeg = c := nI_clamp (by omega)
  have ht := hb_t_c hx
  unfold wY_raise_51
  rw [hcl, pk_vs]
  refine nm_r (nI_1 c) (br_f (by decide) ⟨hv, nm_e ⟨hv, nm_e (nm_e ?_)⟩⟩)
  unfold hb_t at hp ht
  by_cases h : x - 1 ≤ 1024
  · rw [if_pos h] at hp ht
    refine br_t h (hb_y116 hc hr ?_)
    rw [pk_us, ht]
    exact hp
  · rw [if_neg h] at hp ht
    refine br_f h (hb_y116 hc hr ?_)
    rw [pk_us, ht]
    exact hp
theorem hb_x36f {post : Int64 → SX → Prop} (hc : c < 6) (hl : ¬ f < x) {b : Nat}
    (hp : post (hb_ans q.toInt16.toInt32 (4 + nI b) (hb_t (x - 1))) (f - x, r, nI (c + 1), nI (b + 1), pc, s, z, upd lc c q.toInt16.toInt32, upd li c (4 + nI b))) :
    wX_raise_36 post q x f r (nI c) (nI b) pc s z lc li := by
  unfold hb_t at hp
  refine br_f hl (nm_e (nm_e ?_))
  by_cases h : x - 1 ≤ 1024
  · rw [if_pos h] at hp
    exact br_t h (nm_e (nm_r (nI_1 b) (hb_x126 hc (by rw [pk_vs]; exact hp))))
  · rw [if_neg h] at hp
    exact br_f h (nm_e (nm_r (nI_1 b) (hb_x126 hc (by rw [pk_vs]; exact hp))))
theorem hb_x36p {post : Int64 → SX → Prop} (hc : c < 6) (hr : ¬ r = 0) (hl : f < x) {b : Nat}
    (hp : post (hb_ans 1 (nI b - nI b / r * r) 0) (f, r, nI (c + 1), fc, nI (b + 1), s, z, upd lc c 1, upd li c (nI b - nI b / r * r))) :
    wX_raise_36 post q x f r (nI c) fc (nI b) s z lc li :=
  br_t hl ⟨hr, nm_e (nm_r (nI_1 b) (hb_x126 hc (by rw [hb_h1]; exact hp)))⟩
theorem hb_r36 (hI : hb_I c r s zx zy lc li ec eco) (hc : c < 6) (hf : f = lim - hb_U s zy 5 - hb_C eco c) (q : Int32) {x : Int64} (hx : 1 ≤ x) :
    ∃ (a : Int64) (u' : SX) (v' : SY), i_Rel k u' v' ∧
      (∀ post : Int64 → SX → Prop, post a u' → wX_raise_36 post q x f r (nI c) (nI (hb_F eco c)) (nI (hb_P eco c)) s zx lc li) ∧
      (∀ post : Int64 → SY → Prop, post a v' → wY_raise_37 post q x lim r (nI c) zy s ec eco el) := by
  have hr := hI.2.1
  by_cases h : f < x
  · have hK : hb_I (c + 1) r s zx zy (upd lc c 1) (upd li c (nI (hb_P eco c) - nI (hb_P eco c) / r * r)) (upd ec c 1) (vp_updL eco c 0) := hb_push hI hc hb_id_0.symm
    have R := hb_keep (k := k) (f := f) (lim := lim) (el := upd el c 0) hK (by rw [hb_C_p, Int64.add_zero, hf])
    rw [hb_F_0, hb_P_0] at R
    refine ⟨_, _, _, R, fun post hp => hb_x36p hc hr h hp, fun post hp => ?_⟩
    unfold wY_raise_37
    refine hb_wyf hI.1 ?_
    rw [← hf]
    exact br_t h (hb_y51p hc hr (by rw [hb_id_0]; exact hp))
  · have x0 := (hb_pr hx).2
    have hK : hb_I (c + 1) r s zx zy (upd lc c q.toInt16.toInt32) (upd li c (4 + nI (hb_F eco c))) (upd ec c q.toInt16.toInt32) (vp_updL eco c x) := hb_push hI hc (hb_id_1 x0).symm
    have R := hb_keep (k := k) (f := f - x) (lim := lim) (el := upd el c (vp_nar .char (((hb_t (x - 1)).toInt32.toUInt32 % 65536).toInt32))) hK (by rw [hb_C_p, hf]; grind)
    rw [hb_F_1 x0, hb_P_1 x0] at R
    refine ⟨_, _, _, R, fun post hp => hb_x36f hc h hp, fun post hp => ?_⟩
    unfold wY_raise_37
    refine hb_wyf hI.1 ?_
    rw [← hf]
    exact br_f h (hb_y51f hc hr hx (by rw [hb_id_1 x0]; exact hp))
theorem hb_raise {u : SX} {v : SY} (I : i_Rel k u v) (q : Int32) (x : Int64) :
    ∃ (a : Int64) (u' : SX) (v' : SY), i_Rel (k + 4) u' v' ∧ (∀ post : Int64 → SX → Prop, post a u' → wpX_raise post u q x) ∧ (∀ post : Int64 → SY → Prop, post a v' → wpY_raise post v q x) := by
  obtain ⟨c, lim, r, s, zx, zy, lc, li, ec, eco, el, rfl, rfl, hI⟩ := I
  have hc6 := hI.1
  by_cases hc : c < 6
  · have h6 : nI c < 6 := nI_lt (b := 6) hc (by decide)
    by_cases hx : 1 ≤ x
    · obtain ⟨f, hf⟩ : ∃ f, f = lim - hb_U s zy 5 - hb_C eco c := ⟨_, rfl⟩
      rw [← hf]
      by_cases h : x ≤ f
      · obtain ⟨a, u', v', R, hX, hY⟩ := hb_r36 (k := k + 4) (el := el) hI hc hf q hx
        refine ⟨a, u', v', R, fun post hp => br_t h6 (br_t hx (br_t h (hX post hp))), fun post hp => br_t h6 (br_t hx (hb_wyf hc6 ?_))⟩
        rw [← hf]
        exact br_t h (hY post hp)
      · obtain ⟨hI', hf', hg⟩ := hb_col hI hf
        obtain ⟨a, u', v', R, hX, hY⟩ := hb_r36 (k := k + 4) (el := el) hI' hc hf' q hx
        refine ⟨a, u', v', R, fun post hp => br_t h6 (br_t hx (br_f h (hb_wxc (hX post hp)))), fun post hp => br_t h6 (br_t hx (hb_wyf hc6 ?_))⟩
        rw [← hf]
        exact br_f h (hb_wys (hY post hp))
    · exact ⟨-2, _, _, hb_keep (el := el) hI rfl, fun post hp => br_t h6 (br_f hx hp), fun post hp => br_t h6 (br_f hx hp)⟩
  · have h6 : ¬ nI c < 6 := nI_nlt (b := 6) (by omega) (by omega)
    exact ⟨-1, _, _, hb_keep (el := el) hI rfl, fun post hp => br_f h6 hp, fun post hp => br_f h6 hp⟩
end
end
section
/-! limit, drop, same -/
theorem hb_r_0 (q : Int32) : ¬ hb_r q = 0 := by
  unfold hb_r
  by_cases h1 : 1 ≤ q
  · rw [if_pos h1]
    by_cases h4 : q ≤ 4
    · rw [if_pos h4]
      intro e
      rw [e] at h1
      exact absurd h1 (by decide)
    · rw [if_neg h4]
      decide
  · rw [if_neg h1]
    decide
section
variable {k c : Nat} {lim f x : Int64} {r cn lg fc pc y : Int32} {s lc li ec el : Nat → Int32} {z zx zy eco : Nat → Int64}
theorem hb_new (hr : ¬ r = 0) (h0 : ∀ i, i < 5 → s i = 0) : i_Rel k (lim, r, 0, 0, 0, s, zx, lc, li) (lim, r, 0, zy, s, ec, eco, el) := by
  have hK : hb_I 0 r s zx zy lc li ec eco := ⟨by omega, hr, fun i hi => Or.inl (h0 i hi), fun i hi q => absurd (h0 i hi) q, fun i hi => absurd hi (by omega)⟩
  have R := hb_keep (k := k) (f := lim) (lim := lim) (el := el) hK (by rw [hb_U_z 5 h0, show hb_C eco 0 = 0 from rfl, Int64.sub_zero, Int64.sub_zero])
  rw [show hb_F eco 0 = 0 from rfl, show hb_P eco 0 = 0 from rfl, nI_0] at R
  exact R
theorem hb_drp (hI : hb_I c r s zx zy lc li ec eco) (hf : f = lim - hb_U s zy 5 - hb_C eco c) {i : Nat} (h1 : s i = 1) :
    i_Rel k (f, r, nI c, nI (hb_F eco c), nI (hb_P eco c), upd s i 2, zx, lc, li) (lim, r, nI c, zy, upd s i 2, ec, eco, el) := by
  have g0 : ¬ s i = 0 := by rw [h1]; decide
  obtain ⟨a1, a2, a3, a4, a5⟩ := hI
  refine hb_keep ⟨a1, a2, ?_, ?_, a5⟩ ?_
  · intro j hj
    by_cases e : j = i
    · subst e
      rw [pk_us]
      exact Or.inr (Or.inr rfl)
    · rw [pk_un e]
      exact a3 j hj
  · intro j hj
    by_cases e : j = i
    · subst e
      exact fun _ => a4 j hj g0
    · rw [pk_un e]
      exact a4 j hj
  · rw [hb_U_d g0 (by decide), hf]
theorem hb_drop {u : SX} {v : SY} (I : i_Rel k u v) (p : Int32) :
    ∃ (a : Int32) (u' : SX) (v' : SY), i_Rel (k + 4) u' v' ∧ (∀ post : Int32 → SX → Prop, post a u' → wpX_drop post u p) ∧ (∀ post : Int32 → SY → Prop, post a v' → wpY_drop post v p) := by
  obtain ⟨c, lim, r, s, zx, zy, lc, li, ec, eco, el, rfl, rfl, hI⟩ := I
  by_cases h0 : p < 0
  · exact ⟨-1, _, _, hb_keep (el := el) hI rfl, fun post hp => br_t h0 hp, fun post hp => br_t h0 hp⟩
  · obtain ⟨j, hj, rfl⟩ := nI_of h0
    by_cases h5 : j < 5
    · have g4 : nI j ≤ 4 := nI_le (b := 4) (by omega) (by decide)
      have g5 : nI j < 5 := nI_lt (b := 5) (by omega) (by decide)
      have hv : vp_in (nI j) 5 := vp_in_nI h5 (by omega)
      have hcl : (nI j).toNatClampNeg = j := nI_clamp hj
      rcases hI.2.2.1 j h5 with e | e | e
      · have es : s (nI j).toNatClampNeg = 0 := by rw [hcl]; exact e
        exact ⟨-1, _, _, hb_keep (el := el) hI rfl, fun post hp => br_f h0 (br_t g4 ⟨hv, nm_r es (br_t rfl hp)⟩), fun post hp => br_f h0 (br_t g5 ⟨hv, br_t es hp⟩)⟩
      · have es : s (nI j).toNatClampNeg = 1 := by rw [hcl]; exact e
        have e0 : ¬ s (nI j).toNatClampNeg = 0 := by rw [es]; decide
        have e2 : ¬ s (nI j).toNatClampNeg = 2 := by rw [es]; decide
        exact ⟨0, _, _, hb_drp (el := el) hI rfl e, fun post hp => br_f h0 (br_t g4 ⟨hv, nm_r es (br_f (by decide) (br_f (by decide) ⟨hv, nm_r (e' := upd s j 2) (by rw [hcl]) hp⟩))⟩),
          fun post hp => br_f h0 (br_t g5 ⟨hv, br_f e0 ⟨hv, br_f e2 ⟨hv, hv, nm_r (e' := upd s j 2) (by rw [es, hb_bd, hcl]) hp⟩⟩⟩)⟩
      · have es : s (nI j).toNatClampNeg = 2 := by rw [hcl]; exact e
        have e0 : ¬ s (nI j).toNatClampNeg = 0 := by rw [es]; decide
        exact ⟨1, _, _, hb_keep (el := el) hI rfl, fun post hp => br_f h0 (br_t g4 ⟨hv, nm_r es (br_f (by decide) (br_t rfl hp))⟩), fun post hp => br_f h0 (br_t g5 ⟨hv, br_f e0 ⟨hv, br_t es hp⟩⟩)⟩
    · have g4 : ¬ nI j ≤ 4 := nI_ge (a := 4) (by omega) hj
      have g5 : ¬ nI j < 5 := nI_nlt (b := 5) (by omega) hj
      exact ⟨-1, _, _, hb_keep (el := el) hI rfl, fun post hp => br_f h0 (br_f g4 hp), fun post hp => br_f h0 (br_f g5 hp)⟩
theorem hb_x47 {post : Int32 → Prop} {i j : Nat} (hi : i < 6) (hj : j < 6) (hp : post (if lc i = lc j then y ||| 2 else y)) :
    wX_same_47 post (nI i) (nI j) y f r lg fc pc s z lc li := by
  refine And.intro (vp_in_nI hi (by omega)) ⟨vp_in_nI hj (by omega), ?_⟩
  rw [nI_clamp (n := i) (by omega), nI_clamp (n := j) (by omega)]
  by_cases e : lc i = lc j
  · rw [if_pos e] at hp
    exact br_t e (nm_e hp)
  · rw [if_neg e] at hp
    exact br_f e hp
theorem hb_y45 {post : Int32 → Prop} {i j : Nat} (hi : i < 6) (hj : j < 6) (hp : post (if ec i = ec j then y ||| 2 else y)) :
    wY_same_45 post (nI i) (nI j) y lim r cn z s ec eco el := by
  refine And.intro (vp_in_nI hi (by omega)) ⟨vp_in_nI hj (by omega), ?_⟩
  rw [nI_clamp (n := i) (by omega), nI_clamp (n := j) (by omega)]
  by_cases e : ec i = ec j
  · rw [if_pos e] at hp
    exact br_t e (nm_e hp)
  · rw [if_neg e] at hp
    exact br_f e hp
theorem hb_same {u : SX} {v : SY} (I : i_Rel k u v) (p q : Int32) :
    ∃ (a : Int32), (∀ post : Int32 → Prop, post a → wpX_same post u p q) ∧ (∀ post : Int32 → Prop, post a → wpY_same post v p q) := by
  obtain ⟨c, lim, r, s, zx, zy, lc, li, ec, eco, el, rfl, rfl, hI⟩ := I
  obtain ⟨h1, h2, h3, h4, h5⟩ := hI
  by_cases hp0 : p < 0
  · exact ⟨-1, fun post hp => br_t hp0 hp, fun post hp => br_t hp0 hp⟩
  by_cases hq0 : q < 0
  · refine ⟨-1, fun post hp => br_f hp0 (br_t hq0 hp), fun post hp => br_f hp0 ?_⟩
    exact br_c (fun _ => hp) (fun _ => br_t hq0 hp)
  obtain ⟨i, hi, rfl⟩ := nI_of hp0
  obtain ⟨j, hj, rfl⟩ := nI_of hq0
  by_cases hic : i < c
  · have gi : ¬ nI c ≤ nI i := nI_ge hic (by omega)
    by_cases hjc : j < c
    · have gj : nI j < nI c := nI_lt hjc (by omega)
      have hvi : vp_in (nI i) 6 := vp_in_nI (by omega) (by omega)
      have hvj : vp_in (nI j) 6 := vp_in_nI (by omega) (by omega)
      have ci : (nI i).toNatClampNeg = i := nI_clamp hi
      have cj : (nI j).toNatClampNeg = j := nI_clamp hj
      obtain ⟨a1, b1⟩ := h5 i hic
      obtain ⟨a2, b2⟩ := h5 j hjc
      by_cases e : li i = li j
      · have e' : hb_id r eco i = hb_id r eco j := b1.symm.trans (e.trans b2)
        refine ⟨if lc i = lc j then ((0 : Int32) ||| 1) ||| 2 else (0 : Int32) ||| 1, fun post hp => br_f hp0 (br_f hq0 (br_f gi (br_t gj ⟨hvi, hvj, ?_⟩))), fun post hp => br_f hp0 (br_f gi (br_f hq0 (br_t gj (hb_wyi (by omega) h2 (hb_wyi (by omega) h2 (br_t e' (nm_e (hb_y45 (by omega) (by omega) ?_))))))))⟩
        · rw [ci, cj]
          exact br_t e (nm_e (hb_x47 (by omega) (by omega) hp))
        · rw [← a1, ← a2]
          exact hp
      · have e' : ¬ hb_id r eco i = hb_id r eco j := fun w => e (b1.trans (w.trans b2.symm))
        refine ⟨if lc i = lc j then (0 : Int32) ||| 2 else (0 : Int32), fun post hp => br_f hp0 (br_f hq0 (br_f gi (br_t gj ⟨hvi, hvj, ?_⟩))), fun post hp => br_f hp0 (br_f gi (br_f hq0 (br_t gj (hb_wyi (by omega) h2 (hb_wyi (by omega) h2 (br_f e' (hb_y45 (by omega) (by omega) ?_)))))))⟩
        · rw [ci, cj]
          exact br_f e (hb_x47 (by omega) (by omega) hp)
        · rw [← a1, ← a2]
          exact hp
    · have gj : ¬ nI j < nI c := nI_nlt (by omega) hj
      exact ⟨-1, fun post hp => br_f hp0 (br_f hq0 (br_f gi (br_f gj hp))), fun post hp => br_f hp0 (br_f gi (br_f hq0 (br_f gj hp)))⟩
  · have gi : nI c ≤ nI i := nI_le (by omega) hi
    exact ⟨-1, fun post hp => br_f hp0 (br_f hq0 (br_t gi hp)), fun post hp => br_f hp0 (br_t gi hp)⟩
end
end
section
/-! what is owed -/
theorem i_vc0 : wpX_init (fun u => wpY_init (fun v => i_Rel 0 u v)) := hb_new (k := 0) (by decide) (fun _ _ => rfl)
theorem i_vc_limit {k : Nat} {u : SX} {v : SY} (I : i_Rel k u v) (hk : k + 4 ≤ 2048) (a0 : Int64) (v3 : Int32) : wpX_limit (fun r u' => wpY_limit (fun r' v' => r' = r ∧ i_Rel (k + 4) u' v') v a0 v3) u a0 v3 := by
  obtain ⟨c, lim, r, s, zx, zy, lc, li, ec, eco, el, rfl, rfl, hI⟩ := I
  exact hb_wxl (hb_wyl ⟨rfl, hb_new (hb_r_0 v3) (fun i hi => if_pos hi)⟩)
theorem i_vc_alloc {k : Nat} {u : SX} {v : SY} (I : i_Rel k u v) (hk : k + 4 ≤ 2048) (a0 : Int64) (v3 : Int32) : wpX_alloc (fun r u' => wpY_alloc (fun r' v' => r' = r ∧ i_Rel (k + 4) u' v') v a0 (lw_bz v3)) u a0 (lw_bz v3) := by
  obtain ⟨a, u', v', R, hX, hY⟩ := hb_alloc I a0 (lw_bz v3)
  exact hX _ (hY _ ⟨rfl, R⟩)
theorem i_vc_drop {k : Nat} {u : SX} {v : SY} (I : i_Rel k u v) (hk : k + 4 ≤ 2048) (v1 : Int32) : wpX_drop (fun r u' => wpY_drop (fun r' v' => r' = r ∧ i_Rel (k + 4) u' v') v v1) u v1 := by
  obtain ⟨a, u', v', R, hX, hY⟩ := hb_drop I v1
  exact hX _ (hY _ ⟨rfl, R⟩)
theorem i_vc_raise {k : Nat} {u : SX} {v : SY} (I : i_Rel k u v) (hk : k + 4 ≤ 2048) (v1 : Int32) (a1 : Int64) : wpX_raise (fun r u' => wpY_raise (fun r' v' => r' = r ∧ i_Rel (k + 4) u' v') v v1 a1) u v1 a1 := by
  obtain ⟨a, u', v', R, hX, hY⟩ := hb_raise I v1 a1
  exact hX _ (hY _ ⟨rfl, R⟩)
theorem i_vc_same {k : Nat} {u : SX} {v : SY} (I : i_Rel k u v) (hk : k + 4 ≤ 2048) (v1 : Int32) (v2 : Int32) : wpX_same (fun r => wpY_same (fun r' => r' = r ∧ i_Rel (k + 4) u v) v v1 v2) u v1 v2 := by
  obtain ⟨a, hX, hY⟩ := hb_same I v1 v2
  exact hX _ (hY _ ⟨rfl, i_up I⟩)
theorem i_vc_free {k : Nat} {u : SX} {v : SY} (I : i_Rel k u v) (hk : k + 4 ≤ 2048) : wpX_free (fun r => wpY_free (fun r' => r' = r ∧ i_Rel (k + 4) u v) v) u := by
  obtain ⟨c, lim, r, s, zx, zy, lc, li, ec, eco, el, rfl, rfl, hI⟩ := I
  exact hb_wyf hI.1 ⟨rfl, hb_keep hI rfl⟩
end
