section
theorem pk_us {f : Nat → Int32} {k : Nat} {x : Int32} : upd f k x k = x := if_pos rfl
theorem pk_un {f : Nat → Int32} {k j : Nat} {x : Int32} (h : j ≠ k) : upd f k x j = f j := if_neg h
theorem pk_uLs {f : Nat → Int64} {k : Nat} {x : Int64} : vp_updL f k x k = x := if_pos rfl
theorem pk_uLn {f : Nat → Int64} {k j : Nat} {x : Int64} (h : j ≠ k) : vp_updL f k x j = f j := if_neg h
theorem pk_sub {a b : Nat} (h : b ≤ a) : nI a - nI b = nI (a - b) := by
  obtain ⟨c, rfl⟩ : ∃ c, a = c + b := ⟨a - b, by omega⟩
  rw [← nI_add, Int32.add_sub_cancel, Nat.add_sub_cancel]
theorem pk_m1 (n : Nat) : nI (n + 1) + (-1) = nI n := by
  rw [← nI_1, Int32.add_assoc, show (1 : Int32) + (-1) = 0 from rfl, Int32.add_zero]
theorem pk_mul (a b : Nat) : nI a * nI b = nI (a * b) := (Int32.ofNat_mul a b).symm
theorem pk_div {a d : Nat} (ha : a < 2 ^ 31) (h0 : 0 < d) (hd : d < 2 ^ 31) : nI a / nI d = nI (a / d) := by
  apply Int32.toInt_inj.mp
  rw [lg_idiv_nonneg (by rw [nI_toInt ha]; omega) (by rw [nI_toInt hd]; omega), nI_toInt ha, nI_toInt hd, nI_toInt (Nat.lt_of_le_of_lt (Nat.div_le_self a d) ha)]
  first | rfl | exact (Int.natCast_ediv _ _).symm
theorem pk_rem {a d : Nat} (ha : a < 2 ^ 31) (h0 : 0 < d) (hd : d < 2 ^ 31) : nI a - nI a / nI d * nI d = nI (a % d) := by
  rw [pk_div ha h0 hd, pk_mul, pk_sub (Nat.div_mul_le_self a d)]
  exact congrArg nI (by have := Nat.div_add_mod' a d; omega)
theorem pk_sub_toInt {a b : Nat} (ha : a < 2 ^ 30) (hb : b < 2 ^ 30) : (nI a - nI b).toInt = (a : Int) - b := by
  rw [Int32.toInt_sub, nI_toInt (by omega), nI_toInt (by omega)]
  exact Int.bmod_eq_of_le (by omega) (by omega)
theorem pk_sneg {a b : Nat} (hb : b < 2 ^ 30) (h : a < b) : nI a - nI b < 0 := by
  rw [Int32.lt_iff_toInt_lt, pk_sub_toInt (by omega) hb, show (0 : Int32).toInt = 0 from by decide]
  omega
theorem pk_ix (x : Int32) {n : Nat} (hn : n < 2 ^ 31) : x < 0 ∨ nI n ≤ x ∨ ∃ j : Nat, j < n ∧ x = nI j := by
  by_cases h : x < 0
  · exact Or.inl h
  · obtain ⟨j, hj, rfl⟩ := nI_of h
    by_cases h2 : j < n
    · exact Or.inr (Or.inr ⟨j, h2, rfl⟩)
    · exact Or.inr (Or.inl (nI_le (by omega) hj))
theorem pk_le {x y : Int32} {A B : Prop} (a b : Nat) (f : a ≤ b → A) (g : b < a → B) (hx : x = nI a := by rfl) (hy : y = nI b := by rfl) (ha : a < 2 ^ 31 := by omega) (hb : b < 2 ^ 31 := by omega) : (x ≤ y → A) ∧ (¬ x ≤ y → B) := by
  subst hx hy
  rw [nI_leI ha hb]
  exact ⟨f, fun z => g (by omega)⟩
theorem pk_lt {x y : Int32} {A B : Prop} (a b : Nat) (f : a < b → A) (g : b ≤ a → B) (hx : x = nI a := by rfl) (hy : y = nI b := by rfl) (ha : a < 2 ^ 31 := by omega) (hb : b < 2 ^ 31 := by omega) : (x < y → A) ∧ (¬ x < y → B) := by
  subst hx hy
  rw [nI_ltI ha hb]
  exact ⟨f, fun z => g (by omega)⟩
theorem pk_eq {x y : Int32} {A B : Prop} (a b : Nat) (f : a = b → A) (g : a ≠ b → B) (hx : x = nI a := by rfl) (hy : y = nI b := by rfl) (ha : a < 2 ^ 31 := by omega) (hb : b < 2 ^ 31 := by omega) : (x = y → A) ∧ (¬ x = y → B) := by
  subst hx hy
  rw [nI_eq ha hb]
  exact ⟨f, g⟩
theorem pk_in {x : Int32} (n N : Nat) (h : n < N) (hx : x = nI n := by rfl) (hN : N < 2 ^ 31 := by omega) : vp_in x N := by
  subst hx
  exact vp_in_nI h hN
theorem pk_cl {x : Int32} (n : Nat) (hx : x = nI n := by rfl) (h : n < 2 ^ 31 := by omega) : x.toNatClampNeg = n := by
  subst hx
  exact nI_clamp h
theorem pk_tn {n : Nat} (h : n < 2 ^ 32) : (nI n).toBitVec.toNat = n := Nat.mod_eq_of_lt h
theorem pk_and (x : Int32) {m : Int32} (k : Nat) (hm : m.toBitVec.toNat = 2 ^ k - 1) : x &&& m = nI (x.toBitVec.toNat % 2 ^ k) := by
  apply Int32.toBitVec_inj.mp
  apply BitVec.eq_of_toNat_eq
  rw [Int32.toBitVec_and, BitVec.toNat_and, hm, Nat.and_two_pow_sub_one_eq_mod]
  show _ = (BitVec.ofNat 32 _).toNat
  rw [BitVec.toNat_ofNat]
  exact (Nat.mod_eq_of_lt (Nat.lt_of_le_of_lt (Nat.mod_le _ _) x.toBitVec.isLt)).symm
theorem pk_andN {n : Nat} (h : n < 2 ^ 32) {m : Int32} (k : Nat) (hm : m.toBitVec.toNat = 2 ^ k - 1) : nI n &&& m = nI (n % 2 ^ k) := by
  rw [pk_and _ k hm, pk_tn h]
end
section
abbrev xs_ (φ ι ω κ p : Nat) (ls : Int32) (P C : Nat → Nat → Int32) : SX := (nI φ, nI ι, nI ω, nI κ, nI p, ls, P 0, P 1, P 2, P 3, P 4, P 5, C 0, C 1, C 2, C 3, C 4, C 5, C 6, C 7, C 8, C 9, C 10, C 11, C 12, C 13, C 14, C 15, C 16, C 17, C 18, C 19, C 20, C 21, C 22, C 23)
abbrev ys_ (φ ι ω κ p : Nat) (ls : Int32) (Q C : Nat → Nat → Int32) (ch : Nat → Int32) : SY := (nI φ, nI ι, nI ω, nI κ, nI p, ls, Q 0, Q 1, Q 2, Q 3, Q 4, Q 5, C 0, C 1, C 2, C 3, C 4, C 5, C 6, C 7, C 8, C 9, C 10, C 11, C 12, C 13, C 14, C 15, C 16, C 17, C 18, C 19, C 20, C 21, C 22, C 23, ch)

/-! lockstep: one outcome for both walks -/
def lk_ {A B : Type} (E : (A → Prop) → (B → Prop) → Prop) (WX : A → Prop) (WY : B → Prop) : Prop :=
  ∃ eX eY, E eX eY ∧ (∀ q, eX q → WX q) ∧ (∀ q, eY q → WY q)
abbrev ev_ (T : SX → SY → Prop) (eX : (SX → Prop) → Prop) (eY : (SY → Prop) → Prop) : Prop :=
  ∃ u v, T u v ∧ eX = (fun q => q u) ∧ eY = (fun q => q v)
abbrev er_ (T : SX → SY → Prop) (eX : (Int32 → SX → Prop) → Prop) (eY : (Int32 → SY → Prop) → Prop) : Prop :=
  ∃ r u v, T u v ∧ eX = (fun q => q r u) ∧ eY = (fun q => q r v)
abbrev ea_ (T : Int32 → Prop) (eX : (Int32 → Prop) → Prop) (eY : (Int32 → Prop) → Prop) : Prop :=
  ∃ r, T r ∧ eX = (fun q => q r) ∧ eY = (fun q => q r)
section
variable {A B : Type} {E : (A → Prop) → (B → Prop) → Prop}
theorem lk_i {eX WX : A → Prop} {eY WY : B → Prop} (a : E eX eY) (b : ∀ q, eX q → WX q) (c : ∀ q, eY q → WY q) : lk_ E WX WY := Exists.intro eX (Exists.intro eY ⟨a, b, c⟩)
theorem lk_mono {MX WX : A → Prop} {MY WY : B → Prop} (hx : ∀ q, MX q → WX q) (hy : ∀ q, MY q → WY q) (h : lk_ E MX MY) : lk_ E WX WY := by
  obtain ⟨eX, eY, he, h1, h2⟩ := h
  exact lk_i he (fun q z => hx q (h1 q z)) (fun q z => hy q (h2 q z))
theorem lk_mx {MX WX : A → Prop} {WY : B → Prop} (hx : ∀ q, MX q → WX q) (h : lk_ E MX WY) : lk_ E WX WY := lk_mono hx (fun _ z => z) h
theorem lk_my {WX : A → Prop} {MY WY : B → Prop} (hy : ∀ q, MY q → WY q) (h : lk_ E WX MY) : lk_ E WX WY := lk_mono (fun _ z => z) hy h
theorem lk_bv {T : SX → SY → Prop} {WX : (SX → Prop) → Prop} {WY : (SY → Prop) → Prop} {KX : A → SX → Prop} {KY : B → SY → Prop} (h : lk_ (ev_ T) WX WY) (k : ∀ u v, T u v → lk_ E (fun q => KX q u) (fun q => KY q v)) : lk_ E (fun q => WX (KX q)) (fun q => WY (KY q)) := by
  obtain ⟨_, _, ⟨u, v, t, rfl, rfl⟩, h1, h2⟩ := h
  obtain ⟨eX, eY, he, k1, k2⟩ := k u v t
  exact lk_i he (fun q z => h1 _ (k1 q z)) (fun q z => h2 _ (k2 q z))
theorem lk_br {T : SX → SY → Prop} {WX : (Int32 → SX → Prop) → Prop} {WY : (Int32 → SY → Prop) → Prop} {KX : A → Int32 → SX → Prop} {KY : B → Int32 → SY → Prop} (h : lk_ (er_ T) WX WY) (k : ∀ r u v, T u v → lk_ E (fun q => KX q r u) (fun q => KY q r v)) : lk_ E (fun q => WX (KX q)) (fun q => WY (KY q)) := by
  obtain ⟨_, _, ⟨r, u, v, t, rfl, rfl⟩, h1, h2⟩ := h
  obtain ⟨eX, eY, he, k1, k2⟩ := k r u v t
  exact lk_i he (fun q z => h1 _ (k1 q z)) (fun q z => h2 _ (k2 q z))
theorem lk_ba {T : Int32 → Prop} {WX : (Int32 → Prop) → Prop} {WY : (Int32 → Prop) → Prop} {KX : A → Int32 → Prop} {KY : B → Int32 → Prop} (h : lk_ (ea_ T) WX WY) (k : ∀ r, T r → lk_ E (fun q => KX q r) (fun q => KY q r)) : lk_ E (fun q => WX (KX q)) (fun q => WY (KY q)) := by
  obtain ⟨_, _, ⟨r, t, rfl, rfl⟩, h1, h2⟩ := h
  obtain ⟨eX, eY, he, k1, k2⟩ := k r t
  exact lk_i he (fun q z => h1 _ (k1 q z)) (fun q z => h2 _ (k2 q z))
theorem lk_rv {T : SX → SY → Prop} {u : SX} {v : SY} (t : T u v) : lk_ (ev_ T) (fun q => q u) (fun q => q v) := lk_i (E := ev_ T) ⟨u, v, t, rfl, rfl⟩ (fun _ z => z) (fun _ z => z)
theorem lk_rr {T : SX → SY → Prop} {r : Int32} {u : SX} {v : SY} (t : T u v) : lk_ (er_ T) (fun q => q r u) (fun q => q r v) := lk_i (E := er_ T) ⟨r, u, v, t, rfl, rfl⟩ (fun _ z => z) (fun _ z => z)
theorem lk_ra {T : Int32 → Prop} {r : Int32} (t : T r) : lk_ (ea_ T) (fun q => q r) (fun q => q r) := lk_i (E := ea_ T) ⟨r, t, rfl, rfl⟩ (fun _ z => z) (fun _ z => z)
/-- steps of one side -/
theorem sx_t {c : Prop} {M N : A → Prop} {WY : B → Prop} (hc : c) (h : lk_ E M WY) : lk_ E (fun q => (c → M q) ∧ (¬ c → N q)) WY := lk_mx (fun _ z => br_t hc z) h
theorem sx_f {c : Prop} {M N : A → Prop} {WY : B → Prop} (hc : ¬ c) (h : lk_ E N WY) : lk_ E (fun q => (c → M q) ∧ (¬ c → N q)) WY := lk_mx (fun _ z => br_f hc z) h
theorem sx_c {c : Prop} {M N : A → Prop} {WY : B → Prop} (h : c → lk_ E M WY) (k : ¬ c → lk_ E N WY) : lk_ E (fun q => (c → M q) ∧ (¬ c → N q)) WY := by
  by_cases hc : c
  · exact sx_t hc (h hc)
  · exact sx_f hc (k hc)
theorem sx_i {c : Prop} {M : A → Prop} {WY : B → Prop} (hc : c) (h : lk_ E M WY) : lk_ E (fun q => c ∧ M q) WY := lk_mx (fun _ z => ⟨hc, z⟩) h
theorem sx_n {α : Type} {e : α} {M : A → α → Prop} {WY : B → Prop} (h : lk_ E (fun q => M q e) WY) : lk_ E (fun q => ∀ x, x = e → M q x) WY := lk_mx (fun _ z => nm_e z) h
theorem sx_r {α : Type} {e e' : α} {M : A → α → Prop} {WY : B → Prop} (he : e = e') (h : lk_ E (fun q => M q e') WY) : lk_ E (fun q => ∀ x, x = e → M q x) WY := lk_mx (fun _ z => nm_r he z) h
theorem sx_e {M : A → Nat → Prop} {WY : B → Prop} (n : Nat) (h : lk_ E (fun q => M q n) WY) : lk_ E (fun q => ∃ n, M q n) WY := lk_mx (fun _ z => ⟨n, z⟩) h
theorem sy_t {c : Prop} {M N : B → Prop} {WX : A → Prop} (hc : c) (h : lk_ E WX M) : lk_ E WX (fun q => (c → M q) ∧ (¬ c → N q)) := lk_my (fun _ z => br_t hc z) h
theorem sy_f {c : Prop} {M N : B → Prop} {WX : A → Prop} (hc : ¬ c) (h : lk_ E WX N) : lk_ E WX (fun q => (c → M q) ∧ (¬ c → N q)) := lk_my (fun _ z => br_f hc z) h
theorem sy_c {c : Prop} {M N : B → Prop} {WX : A → Prop} (h : c → lk_ E WX M) (k : ¬ c → lk_ E WX N) : lk_ E WX (fun q => (c → M q) ∧ (¬ c → N q)) := by
  by_cases hc : c
  · exact sy_t hc (h hc)
  · exact sy_f hc (k hc)
theorem sy_i {c : Prop} {M : B → Prop} {WX : A → Prop} (hc : c) (h : lk_ E WX M) : lk_ E WX (fun q => c ∧ M q) := lk_my (fun _ z => ⟨hc, z⟩) h
theorem sy_n {α : Type} {e : α} {M : B → α → Prop} {WX : A → Prop} (h : lk_ E WX (fun q => M q e)) : lk_ E WX (fun q => ∀ x, x = e → M q x) := lk_my (fun _ z => nm_e z) h
theorem sy_r {α : Type} {e e' : α} {M : B → α → Prop} {WX : A → Prop} (he : e = e') (h : lk_ E WX (fun q => M q e')) : lk_ E WX (fun q => ∀ x, x = e → M q x) := lk_my (fun _ z => nm_r he z) h
theorem sy_e {M : B → Nat → Prop} {WX : A → Prop} (n : Nat) (h : lk_ E WX (fun q => M q n)) : lk_ E WX (fun q => ∃ n, M q n) := lk_my (fun _ z => ⟨n, z⟩) h
end
/-! the invariant -/
abbrev bd_ (b : Nat) (x : Int32) : Prop := ∃ v, v < b ∧ x = nI v
abbrev b1_ (x : Int32) : Prop := ∃ n, 1 ≤ n ∧ n ≤ 8 ∧ x = nI n
abbrev bw_ (x : Int32) : Prop := ∃ w, 1 ≤ w ∧ w < 8 ∧ x = nI w
abbrev ga_ (b : Nat) (a : Nat → Int32) : Prop := ∀ i, bd_ b (a i)
abbrev gn_ (b : Nat) (a : Nat → Int32) : Prop := ∀ c, a c = -1 ∨ bd_ b (a c)
abbrev ge_ (a b : Nat → Int32) : Prop := ∀ c, a c = -1 ∨ (bd_ 8 (a c) ∧ bd_ 10 (b c))
abbrev gd_ (ds dv dh dt ew : Nat → Int32) : Prop := ∀ d, d < 32 → (ds d = 0 ∧ dv d = -1 ∧ dh d = -1 ∧ dt d = -1 ∧ ∀ n, 1 ≤ n → n ≤ 8 → ew (d * 9 + n) = -1) ∨ (¬ ds d = 0 ∧ bw_ (dv d) ∧ bd_ 9 (dh d))
abbrev gv_ (φ : Nat) (vo ac hl dv : Nat → Int32) : Prop := ∀ i, i < 4 → i ≠ φ → ac i = 0 → ∃ w, 1 ≤ w ∧ w < 8 ∧ vo i = nI w ∧ hl (i * 4 + i) = nI w ∧ dv (i * 8 + w) = nI w
abbrev gc_ (φ : Nat) (C : Nat → Nat → Int32) : Prop :=
  ga_ 8 (C 0) ∧ ga_ 9 (C 2) ∧ ga_ 9 (C 4) ∧ gn_ 10 (C 7) ∧ ge_ (C 8) (C 9) ∧ gn_ 8 (C 16) ∧ ge_ (C 22) (C 23) ∧ gd_ (C 18) (C 19) (C 20) (C 21) (C 22) ∧ gv_ φ (C 0) (C 1) (C 16) (C 19)
abbrev mk_ (φ : Nat) (kd fr tt vw sq vl : Int32) : Prop :=
  ∃ a b, a < 4 ∧ b < 4 ∧ a ≠ b ∧ b ≠ φ ∧ fr = nI a ∧ tt = nI b ∧
    ((kd = 1 ∨ kd = 2 ∨ kd = 3) → bd_ 8 vw ∧ b1_ sq ∧ bd_ 10 vl) ∧ (kd = 4 → b1_ sq) ∧ (kd = 5 → bd_ 8 sq) ∧
    (¬ kd = 1 → ¬ kd = 2 → ¬ kd = 3 → ¬ kd = 4 → ¬ kd = 5 → bw_ vw ∧ (∃ m, 1 ≤ m ∧ m < 16 ∧ sq = nI m) ∧ bd_ 8 vl)
abbrev gp_ (φ κ p : Nat) (P Q : Nat → Nat → Int32) : Prop :=
  p ≤ κ ∧ ∀ s, s < p → (∀ k, k < 6 → P k s = Q k s) ∧ mk_ φ (P 0 s) (P 1 s) (P 2 s) (P 3 s) (P 4 s) (P 5 s)
abbrev kk_ (φ ι ω κ : Nat) : Prop := φ < 4 ∧ 1 ≤ ι ∧ ι ≤ 4 ∧ 1 ≤ ω ∧ ω ≤ 16 ∧ 8 ≤ κ ∧ κ ≤ 64
abbrev tm_ (φ ι ω κ : Nat) (C : Nat → Nat → Int32) (ch : Nat → Int32) (u : SX) (v : SY) : Prop :=
  ∃ p ls P Q, u = (xs_ φ ι ω κ p ls P C) ∧ v = (ys_ φ ι ω κ p ls Q C ch) ∧ gp_ φ κ p P Q
abbrev tt_ (φ ι ω κ : Nat) (R : (Nat → Nat → Int32) → (Nat → Int32) → Prop) (u : SX) (v : SY) : Prop :=
  ∃ C ch, gc_ φ C ∧ R C ch ∧ tm_ φ ι ω κ C ch u v
abbrev t0_ (φ ι ω κ : Nat) : SX → SY → Prop := tt_ φ ι ω κ (fun _ _ => True)
/-- writes -/
def cs_ (C : Nat → Nat → Int32) (a : Nat) (f : Nat → Int32) : Nat → Nat → Int32 := fun j => if j = a then f else C j
def cw_ (C : Nat → Nat → Int32) (a k : Nat) (v : Int32) : Nat → Nat → Int32 := cs_ C a (upd (C a) k v)
def pw_ (P : Nat → Nat → Int32) (s : Nat) (a0 a1 a2 a3 a4 a5 : Int32) : Nat → Nat → Int32 := fun k =>
  match k with
  | 0 => upd (P 0) s a0
  | 1 => upd (P 1) s a1
  | 2 => upd (P 2) s a2
  | 3 => upd (P 3) s a3
  | 4 => upd (P 4) s a4
  | 5 => upd (P 5) s a5
  | k + 6 => P (k + 6)
theorem mk_1 {φ a b : Nat} {kd vw sq vl : Int32} (ha : a < 4) (hb : b < 4) (hab : a ≠ b) (hbf : b ≠ φ) (hk : kd = 1 ∨ kd = 2 ∨ kd = 3) (h1 : bd_ 8 vw) (h2 : b1_ sq) (h3 : bd_ 10 vl) : mk_ φ kd (nI a) (nI b) vw sq vl := by
  refine ⟨a, b, ha, hb, hab, hbf, rfl, rfl, fun _ => ⟨h1, h2, h3⟩, fun _ => h2, fun h => ?_, fun n1 n2 n3 => ?_⟩
  · rcases hk with h' | h' | h' <;> rw [h'] at h <;> exact absurd h (by decide)
  · rcases hk with h' | h' | h'
    · exact absurd h' n1
    · exact absurd h' n2
    · exact absurd h' n3
theorem mk_4 {φ a b : Nat} {vw sq vl : Int32} (ha : a < 4) (hb : b < 4) (hab : a ≠ b) (hbf : b ≠ φ) (h2 : b1_ sq) : mk_ φ 4 (nI a) (nI b) vw sq vl := by
  refine ⟨a, b, ha, hb, hab, hbf, rfl, rfl, fun h => ?_, fun _ => h2, fun h => absurd h (by decide), fun _ _ _ n4 => absurd rfl n4⟩
  rcases h with h | h | h <;> exact absurd h (by decide)
theorem mk_5 {φ a b : Nat} {vw sq vl : Int32} (ha : a < 4) (hb : b < 4) (hab : a ≠ b) (hbf : b ≠ φ) (h2 : bd_ 8 sq) : mk_ φ 5 (nI a) (nI b) vw sq vl := by
  refine ⟨a, b, ha, hb, hab, hbf, rfl, rfl, fun h => ?_, fun h => absurd h (by decide), fun _ => h2, fun _ _ _ _ n5 => absurd rfl n5⟩
  rcases h with h | h | h <;> exact absurd h (by decide)
theorem mk_6 {φ a b : Nat} {vw sq vl : Int32} (ha : a < 4) (hb : b < 4) (hab : a ≠ b) (hbf : b ≠ φ) (h1 : bw_ vw) (h2 : ∃ m, 1 ≤ m ∧ m < 16 ∧ sq = nI m) (h3 : bd_ 8 vl) : mk_ φ 6 (nI a) (nI b) vw sq vl := by
  refine ⟨a, b, ha, hb, hab, hbf, rfl, rfl, fun h => ?_, fun h => absurd h (by decide), fun h => absurd h (by decide), fun _ _ _ _ _ => ⟨h1, h2, h3⟩⟩
  rcases h with h | h | h <;> exact absurd h (by decide)
theorem gp_add {φ κ p : Nat} {P Q : Nat → Nat → Int32} {a0 a1 a2 a3 a4 a5 : Int32} (h : gp_ φ κ p P Q) (hp : p < κ) (hm : mk_ φ a0 a1 a2 a3 a4 a5) : gp_ φ κ (p + 1) (pw_ P p a0 a1 a2 a3 a4 a5) (pw_ Q p a0 a1 a2 a3 a4 a5) := by
  refine ⟨hp, fun s hs => ?_⟩
  by_cases e : s = p
  · subst e
    refine ⟨fun k hk => ?_, ?_⟩
    · match k, hk with
      | 0, _ => exact pk_us.trans pk_us.symm
      | 1, _ => exact pk_us.trans pk_us.symm
      | 2, _ => exact pk_us.trans pk_us.symm
      | 3, _ => exact pk_us.trans pk_us.symm
      | 4, _ => exact pk_us.trans pk_us.symm
      | 5, _ => exact pk_us.trans pk_us.symm
      | k + 6, hk => exact absurd hk (by omega)
    · show mk_ φ (upd (P 0) s a0 s) (upd (P 1) s a1 s) (upd (P 2) s a2 s) (upd (P 3) s a3 s) (upd (P 4) s a4 s) (upd (P 5) s a5 s)
      rw [pk_us, pk_us, pk_us, pk_us, pk_us, pk_us]
      exact hm
  · obtain ⟨h1, h2⟩ := h.2 s (by omega)
    refine ⟨fun k hk => ?_, ?_⟩
    · match k, hk with
      | 0, hk => exact (pk_un e).trans ((h1 _ hk).trans (pk_un e).symm)
      | 1, hk => exact (pk_un e).trans ((h1 _ hk).trans (pk_un e).symm)
      | 2, hk => exact (pk_un e).trans ((h1 _ hk).trans (pk_un e).symm)
      | 3, hk => exact (pk_un e).trans ((h1 _ hk).trans (pk_un e).symm)
      | 4, hk => exact (pk_un e).trans ((h1 _ hk).trans (pk_un e).symm)
      | 5, hk => exact (pk_un e).trans ((h1 _ hk).trans (pk_un e).symm)
      | k + 6, hk => exact absurd hk (by omega)
    · show mk_ φ (upd (P 0) p a0 s) (upd (P 1) p a1 s) (upd (P 2) p a2 s) (upd (P 3) p a3 s) (upd (P 4) p a4 s) (upd (P 5) p a5 s)
      rw [pk_un e, pk_un e, pk_un e, pk_un e, pk_un e, pk_un e]
      exact h2
/-- writes keep the invariant -/
theorem ga_u {b k : Nat} {a : Nat → Int32} {x : Int32} (h : ga_ b a) (hx : bd_ b x) : ga_ b (upd a k x) := by
  intro i
  by_cases e : i = k
  · rw [e, pk_us]; exact hx
  · rw [pk_un e]; exact h i
theorem gn_u {b k : Nat} {a : Nat → Int32} {x : Int32} (h : gn_ b a) (hx : x = -1 ∨ bd_ b x) : gn_ b (upd a k x) := by
  intro i
  by_cases e : i = k
  · rw [e, pk_us]; exact hx
  · rw [pk_un e]; exact h i
theorem ge_u {k : Nat} {a b : Nat → Int32} {x y : Int32} (h : ge_ a b) (hx : x = -1 ∨ (bd_ 8 x ∧ bd_ 10 y)) : ge_ (upd a k x) (upd b k y) := by
  intro i
  by_cases e : i = k
  · rw [e, pk_us, pk_us]; exact hx
  · rw [pk_un e, pk_un e]; exact h i
theorem ni_x4 (a : Nat) : nI a * 4 = nI (a * 4) := pk_mul a 4
theorem ni_x8 (a : Nat) : nI a * 8 = nI (a * 8) := pk_mul a 8
theorem ni_x9 (a : Nat) : nI a * 9 = nI (a * 9) := pk_mul a 9
theorem ni_lit4 {j : Nat} (h : j < 4) : ¬ (4 : Int32) ≤ nI j := nI_ge (b := 4) h (by decide)
theorem ni_ge4 : (4 : Int32) ≤ nI 4 := by decide
theorem ni_lit8 {j : Nat} (h : j < 9) : ¬ (8 : Int32) < nI j := nI_nlt (b := j) (a := 8) (by omega) (by decide)
theorem ni_gt8 : (8 : Int32) < nI 9 := by decide
theorem ni_lit32 {j : Nat} (h : j < 32) : ¬ (32 : Int32) ≤ nI j := nI_ge (b := 32) h (by decide)
theorem ni_ge32 : (32 : Int32) ≤ nI 32 := by decide
theorem ni_m1 {n : Nat} (h : n < 2 ^ 31) : ¬ nI n = -1 := by
  intro e
  have := congrArg Int32.toInt e
  rw [nI_toInt h] at this
  have h2 : (-1 : Int32).toInt = -1 := by decide
  omega
theorem ni_m1' {n : Nat} (h : n < 2 ^ 31) : ¬ (-1 : Int32) = nI n := fun e => ni_m1 h e.symm
theorem ni_lm1 {n : Nat} (h : n < 2 ^ 31) : (-1 : Int32) ≤ nI n := by
  rw [Int32.le_iff_toInt_le, nI_toInt h, show (-1 : Int32).toInt = -1 from by decide]
  omega
end
section
section
variable {φ ι ω κ p : Nat} {ls : Int32} {P Q C : Nat → Nat → Int32} {ch : Nat → Int32}
theorem ad_x {post : SX → Prop} {a0 a1 a2 a3 a4 a5 : Int32} (hK : κ ≤ 64) (hp : p < κ) (h : post (xs_ φ ι ω κ (p + 1) ls (pw_ P p a0 a1 a2 a3 a4 a5) C)) : wpX_add post (xs_ φ ι ω κ p ls P C) a0 a1 a2 a3 a4 a5 := by
  have hin : vp_in (nI p) 64 := vp_in_nI (by omega) (by omega)
  have hc : (nI p).toNatClampNeg = p := nI_clamp (by omega)
  have hn : ¬ nI κ ≤ nI p := nI_ge hp (by omega)
  unfold wpX_add
  dsimp only
  rw [hc]
  exact br_f hn ⟨hin, nm_e ⟨hin, nm_e ⟨hin, nm_e ⟨hin, nm_e ⟨hin, nm_e ⟨hin, nm_e (nm_r (nI_1 p) h)⟩⟩⟩⟩⟩⟩
theorem ad_y {post : Int32 → SY → Prop} {a0 a1 a2 a3 a4 a5 : Int32} (hK : κ ≤ 64) (hp : p < κ) (h : post 1 (ys_ φ ι ω κ (p + 1) ls (pw_ Q p a0 a1 a2 a3 a4 a5) C ch)) : wpY_add post (ys_ φ ι ω κ p ls Q C ch) a0 a1 a2 a3 a4 a5 := by
  have hin : vp_in (nI p) 64 := vp_in_nI (by omega) (by omega)
  have hc : (nI p).toNatClampNeg = p := nI_clamp (by omega)
  have hn : nI p < nI κ := nI_lt hp (by omega)
  unfold wpY_add
  dsimp only
  rw [hc]
  exact br_t hn ⟨hin, nm_e ⟨hin, nm_e ⟨hin, nm_e ⟨hin, nm_e ⟨hin, nm_e ⟨hin, nm_e (nm_r (nI_1 p) h)⟩⟩⟩⟩⟩⟩
theorem ad_y0 {post : Int32 → SY → Prop} {a0 a1 a2 a3 a4 a5 : Int32} (hk : p ≤ 64) (hp : ¬ p < κ) (h : post 0 (ys_ φ ι ω κ p ls Q C ch)) : wpY_add post (ys_ φ ι ω κ p ls Q C ch) a0 a1 a2 a3 a4 a5 := by
  have hn : ¬ nI p < nI κ := nI_nlt (by omega) (by omega)
  unfold wpY_add
  exact br_f hn h
end
section
variable {φ ι ω κ : Nat} {C : Nat → Nat → Int32} {ch : Nat → Int32}
theorem mc_loop (hK : kk_ φ ι ω κ) {i : Nat} (hi : i < 4) {kd vw sq vl : Int32} (hm : ∀ j, j < 4 → i ≠ j → j ≠ φ → mk_ φ kd (nI i) (nI j) vw sq vl) : ∀ (d j p : Nat) (ls : Int32) (P Q : Nat → Nat → Int32), j + d = 4 → gp_ φ κ p P Q → lk_ (ev_ (tm_ φ ι ω κ C ch)) (fun q => wX_multicast_3 q (nI i) kd vw sq vl (d + 1) (nI j) (nI φ) (nI ι) (nI ω) (nI κ) (nI p) ls (P 0) (P 1) (P 2) (P 3) (P 4) (P 5) (C 0) (C 1) (C 2) (C 3) (C 4) (C 5) (C 6) (C 7) (C 8) (C 9) (C 10) (C 11) (C 12) (C 13) (C 14) (C 15) (C 16) (C 17) (C 18) (C 19) (C 20) (C 21) (C 22) (C 23)) (fun q => wY_multicast_3 q (nI i) kd vw sq vl (d + 1) (nI j) (nI φ) (nI ι) (nI ω) (nI κ) (nI p) ls (Q 0) (Q 1) (Q 2) (Q 3) (Q 4) (Q 5) (C 0) (C 1) (C 2) (C 3) (C 4) (C 5) (C 6) (C 7) (C 8) (C 9) (C 10) (C 11) (C 12) (C 13) (C 14) (C 15) (C 16) (C 17) (C 18) (C 19) (C 20) (C 21) (C 22) (C 23) ch) := by
  obtain ⟨k0, k1, k2, k3, k4, k5, k6⟩ := hK
  intro d
  induction d with
  | zero =>
    intro j p ls P Q hj gp
    obtain rfl : j = 4 := by omega
    exact lk_mono (fun q h => br_t ni_ge4 h) (fun q h => br_t ni_ge4 h) (lk_rv ⟨p, ls, P, Q, rfl, rfl, gp⟩)
  | succ d ih =>
    intro j p ls P Q hj gp
    have hpk := gp.1
    have h4 := ni_lit4 (j := j) (by omega)
    refine lk_mono (fun q h => br_f h4 h) (fun q h => br_f h4 h) ?_
    by_cases e1 : j = i
    · have e1' : nI j = nI i := congrArg nI e1
      refine sx_t e1' (sx_r (nI_1 j) (sy_t e1' (sy_r (nI_1 j) ?_)))
      exact ih (j + 1) p ls P Q (by omega) gp
    · have n1 : ¬ nI j = nI i := fun e => e1 ((nI_eq (by omega) (by omega)).mp e)
      refine sx_f n1 (sy_f n1 ?_)
      by_cases e2 : j = φ
      · have e2' : nI j = nI φ := congrArg nI e2
        refine sx_t e2' (sx_r (nI_1 j) (sy_t e2' (sy_r (nI_1 j) ?_)))
        exact ih (j + 1) p ls P Q (by omega) gp
      · have n2 : ¬ nI j = nI φ := fun e => e2 ((nI_eq (by omega) (by omega)).mp e)
        refine sx_f n2 (sy_f n2 ?_)
        by_cases hp : p < κ
        · refine sx_t (nI_lt hp (by omega)) ?_
          refine lk_mono (fun q h => ad_x (P := P) (C := C) (by omega) hp h) (fun q h => ad_y (Q := Q) (C := C) (ch := ch) (by omega) hp h) ?_
          dsimp only
          refine sx_r (nI_1 j) (sy_f (by decide) (sy_r (nI_1 j) ?_))
          exact ih (j + 1) (p + 1) ls (pw_ P p kd (nI i) (nI j) vw sq vl) (pw_ Q p kd (nI i) (nI j) vw sq vl) (by omega) (gp_add gp hp (hm j (by omega) (fun e => e1 e.symm) e2))
        · refine sx_f (nI_nlt (by omega) (by omega)) ?_
          refine lk_my (fun q h => ad_y0 (Q := Q) (C := C) (ch := ch) (by omega) hp h) ?_
          dsimp only
          refine sx_n (sx_r (nI_1 j) (sy_t rfl (sy_n (sy_r (nI_1 j) ?_))))
          exact ih (j + 1) p (ls + 1) P Q (by omega) gp
theorem mc_lk (hK : kk_ φ ι ω κ) {i : Nat} (hi : i < 4) {kd vw sq vl : Int32} (hm : ∀ j, j < 4 → i ≠ j → j ≠ φ → mk_ φ kd (nI i) (nI j) vw sq vl) {p : Nat} {ls : Int32} {P Q : Nat → Nat → Int32} (gp : gp_ φ κ p P Q) : lk_ (ev_ (tm_ φ ι ω κ C ch)) (fun q => wpX_multicast q (xs_ φ ι ω κ p ls P C) (nI i) kd vw sq vl) (fun q => wpY_multicast q (ys_ φ ι ω κ p ls Q C ch) (nI i) kd vw sq vl) :=
  lk_mono (fun _ h => Exists.intro 5 h) (fun _ h => Exists.intro 5 h) (mc_loop hK hi hm 4 0 p ls P Q rfl gp)
end
/-! taking a slot out -/
def sh_ (P : Nat → Nat → Int32) (s t : Nat) : Nat → Nat → Int32 := fun k u => if s ≤ u ∧ u < t then P k (u + 1) else P k u
theorem sh_0 (P : Nat → Nat → Int32) (s : Nat) : sh_ P s s = P := by
  funext k u
  exact if_neg (by omega)
theorem sh_s {P : Nat → Nat → Int32} {s t k : Nat} (hs : s ≤ t) : upd (sh_ P s t k) t (sh_ P s t k (t + 1)) = sh_ P s (t + 1) k := by
  funext u
  by_cases e : u = t
  · subst e
    rw [pk_us]
    show (if s ≤ u + 1 ∧ u + 1 < u then P k (u + 1 + 1) else P k (u + 1)) = (if s ≤ u ∧ u < u + 1 then P k (u + 1) else P k u)
    rw [if_neg (by omega), if_pos (by omega)]
  · rw [pk_un e]
    show (if s ≤ u ∧ u < t then P k (u + 1) else P k u) = (if s ≤ u ∧ u < t + 1 then P k (u + 1) else P k u)
    by_cases h : s ≤ u ∧ u < t
    · rw [if_pos h, if_pos (by omega)]
    · rw [if_neg h, if_neg (by omega)]
def cy_ (P : Nat → Nat → Int32) (a b : Nat) : Nat → Nat → Int32 := fun k => upd (P k) b (P k a)
theorem sh_c {P : Nat → Nat → Int32} {s t : Nat} (hs : s ≤ t) : sh_ P s (t + 1) = cy_ (sh_ P s t) (t + 1) t := by
  funext k
  exact (sh_s hs).symm
theorem gp_rm {φ κ r s : Nat} {P Q : Nat → Nat → Int32} (h : gp_ φ κ (r + 1) P Q) (hs : s ≤ r) : gp_ φ κ r (sh_ P s r) (sh_ Q s r) := by
  have h1 := h.1
  refine ⟨by omega, fun t ht => ?_⟩
  by_cases e : s ≤ t
  · have z : ∀ (R : Nat → Nat → Int32) (k : Nat), sh_ R s r k t = R k (t + 1) := fun R k => if_pos (by omega)
    simp only [z]
    exact h.2 (t + 1) (by omega)
  · have z : ∀ (R : Nat → Nat → Int32) (k : Nat), sh_ R s r k t = R k t := fun R k => if_neg (by omega)
    simp only [z]
    exact h.2 t (by omega)
section
variable {φ ι ω κ p r s : Nat} {ls : Int32} {P P' Q C : Nat → Nat → Int32} {ch : Nat → Int32}
theorem cy_x {post : SX → Prop} {a b : Nat} {y : Int32} (ha : a < 64) (hb : b < 64) (hy : y = nI b) (hP : P' = cy_ P a b) (h : post (xs_ φ ι ω κ p ls P' C)) : wpX_copySlot post (xs_ φ ι ω κ p ls P C) (nI a) y := by
  subst hP hy
  have h1 : vp_in (nI a) 64 := vp_in_nI ha (by omega)
  have h2 : vp_in (nI b) 64 := vp_in_nI hb (by omega)
  have c1 : (nI a).toNatClampNeg = a := nI_clamp (by omega)
  have c2 : (nI b).toNatClampNeg = b := nI_clamp (by omega)
  unfold wpX_copySlot
  dsimp only
  rw [c1, c2]
  exact ⟨h1, h2, nm_e ⟨h1, h2, nm_e ⟨h1, h2, nm_e ⟨h1, h2, nm_e ⟨h1, h2, nm_e ⟨h1, h2, nm_e h⟩⟩⟩⟩⟩⟩
theorem rm_xl (hp : r + 1 ≤ 64) {post : SX → Prop} (h : post (xs_ φ ι ω κ r ls (sh_ P s r) C)) : ∀ d t, s ≤ t → t + d = r → wX_removeSlot_4 post (d + 1) (nI (t + 1)) (nI φ) (nI ι) (nI ω) (nI κ) (nI (r + 1)) ls ((sh_ P s t) 0) ((sh_ P s t) 1) ((sh_ P s t) 2) ((sh_ P s t) 3) ((sh_ P s t) 4) ((sh_ P s t) 5) (C 0) (C 1) (C 2) (C 3) (C 4) (C 5) (C 6) (C 7) (C 8) (C 9) (C 10) (C 11) (C 12) (C 13) (C 14) (C 15) (C 16) (C 17) (C 18) (C 19) (C 20) (C 21) (C 22) (C 23) := by
  intro d
  induction d with
  | zero =>
    intro t hst htr
    obtain rfl : t = r := by omega
    exact br_t (nI_le (by omega) (by omega)) (nm_r (nI_pred t) h)
  | succ d ih =>
    intro t hst htr
    have hn : ¬ nI (r + 1) ≤ nI (t + 1) := nI_ge (by omega) (by omega)
    refine br_f hn (cy_x (P := sh_ P s t) (P' := sh_ P s (t + 1)) (C := C) (by omega) (by omega) (nI_pred t) (sh_c hst) ?_)
    intro x hx
    subst hx
    rw [nI_1 (t + 1)]
    exact ih (t + 1) (by omega) (by omega)
theorem rm_x (hp : r + 1 ≤ 64) (hs : s ≤ r) {post : SX → Prop} (h : post (xs_ φ ι ω κ r ls (sh_ P s r) C)) : wpX_removeSlot post (xs_ φ ι ω κ (r + 1) ls P C) (nI s) := by
  have k := rm_xl hp h (r - s) s (Nat.le_refl s) (by omega)
  rw [sh_0] at k
  exact nm_r (nI_1 s) (Exists.intro _ k)
theorem rm_yl (hp : r + 1 ≤ 64) {post : SY → Prop} (h : post (ys_ φ ι ω κ r ls (sh_ Q s r) C ch)) : ∀ d t, s ≤ t → t + d = r → wY_remove_2 post (nI φ) (nI ι) (nI ω) (nI κ) (nI (r + 1)) ls (d + 1) (nI t) ((sh_ Q s t) 0) ((sh_ Q s t) 1) ((sh_ Q s t) 2) ((sh_ Q s t) 3) ((sh_ Q s t) 4) ((sh_ Q s t) 5) (C 0) (C 1) (C 2) (C 3) (C 4) (C 5) (C 6) (C 7) (C 8) (C 9) (C 10) (C 11) (C 12) (C 13) (C 14) (C 15) (C 16) (C 17) (C 18) (C 19) (C 20) (C 21) (C 22) (C 23) ch := by
  intro d
  induction d with
  | zero =>
    intro t hst htr
    obtain rfl : t = r := by omega
    refine br_t ?_ (nm_r (nI_pred t) h)
    rw [nI_1]
    exact nI_le (by omega) (by omega)
  | succ d ih =>
    intro t hst htr
    have hn : ¬ nI (r + 1) ≤ nI t + 1 := by rw [nI_1]; exact nI_ge (by omega) (by omega)
    have h0 : vp_in (nI t) 64 := vp_in_nI (by omega) (by omega)
    have h1 : vp_in (nI t + 1) 64 := by rw [nI_1]; exact vp_in_nI (by omega) (by omega)
    have c0 : (nI t).toNatClampNeg = t := nI_clamp (by omega)
    have c1 : (nI t + 1).toNatClampNeg = t + 1 := by rw [nI_1]; exact nI_clamp (by omega)
    have e : ∀ k, upd (sh_ Q s t k) (nI t).toNatClampNeg (sh_ Q s t k (nI t + 1).toNatClampNeg) = sh_ Q s (t + 1) k := fun k => by rw [c0, c1]; exact sh_s hst
    exact br_f hn ⟨h1, h0, nm_r (e 0) ⟨h1, h0, nm_r (e 1) ⟨h1, h0, nm_r (e 2) ⟨h1, h0, nm_r (e 3) ⟨h1, h0, nm_r (e 4) ⟨h1, h0, nm_r (e 5) (nm_r (nI_1 t) (ih (t + 1) (by omega) (by omega)))⟩⟩⟩⟩⟩⟩
theorem rm_y (hp : r + 1 ≤ 64) (hs : s ≤ r) {post : SY → Prop} (h : post (ys_ φ ι ω κ r ls (sh_ Q s r) C ch)) : wpY_remove post (ys_ φ ι ω κ (r + 1) ls Q C ch) (nI s) := by
  have k := rm_yl hp h (r - s) s (Nat.le_refl s) (by omega)
  rw [sh_0] at k
  exact Exists.intro _ k
end
section
variable {φ ι ω κ p s : Nat} {ls : Int32} {P C : Nat → Nat → Int32}
theorem cq_x {post : SX → Prop} (hs : s < 64) (hp : p < 64) (h : post (xs_ φ ι ω κ p ls (pw_ P p (P 0 s) (P 1 s) (P 2 s) (P 3 s) (P 4 s) (P 5 s)) C)) : wpX_copySlot post (xs_ φ ι ω κ p ls P C) (nI s) (nI p) :=
  cy_x (P' := cy_ P s p) hs hp rfl rfl h
end
end
section
/-! cells -/
theorem cl_l {post : Int32 → Prop} {u : SX} {i n : Nat} (h : post (nI (i * 9 + n))) : wpX_logCell post u (nI i) (nI n) := by
  obtain ⟨_, _, _, _, _, _, _, _, _, _, _, _, _, _, _, _, _, _, _, _, _, _, _, _, _, _, _, _, _, _, _, _, _, _, _, _⟩ := u
  show post (nI i * 9 + nI n)
  rw [ni_x9, nI_add]
  exact h
theorem cl_v {post : Int32 → Prop} {u : SX} {i n j : Nat} (h : post (nI ((i * 9 + n) * 4 + j))) : wpX_voteCell post u (nI i) (nI n) (nI j) := by
  obtain ⟨_, _, _, _, _, _, _, _, _, _, _, _, _, _, _, _, _, _, _, _, _, _, _, _, _, _, _, _, _, _, _, _, _, _, _, _⟩ := u
  show post ((nI i * 9 + nI n) * 4 + nI j)
  rw [ni_x9, nI_add, ni_x4, nI_add]
  exact h
theorem cl_s {post : Int32 → Prop} {u : SX} {i v n : Nat} (h : post (nI ((i * 8 + v) * 9 + n))) : wpX_signCell post u (nI i) (nI v) (nI n) := by
  obtain ⟨_, _, _, _, _, _, _, _, _, _, _, _, _, _, _, _, _, _, _, _, _, _, _, _, _, _, _, _, _, _, _, _, _, _, _, _⟩ := u
  show post ((nI i * 8 + nI v) * 9 + nI n)
  rw [ni_x8, nI_add, ni_x9, nI_add]
  exact h
theorem cl_p {post : Int32 → Prop} {u : SX} {x : Int32} (h : post (x - x / 4 * 4)) : wpX_primaryOf post u x := by
  obtain ⟨_, _, _, _, _, _, _, _, _, _, _, _, _, _, _, _, _, _, _, _, _, _, _, _, _, _, _, _, _, _, _, _, _, _, _, _⟩ := u
  exact And.intro (by decide) h
theorem ix_9 (i n : Nat) : nI i * 9 + nI n = nI (i * 9 + n) := by rw [ni_x9, nI_add]
theorem ix_8 (i n : Nat) : nI i * 8 + nI n = nI (i * 8 + n) := by rw [ni_x8, nI_add]
theorem ix_4 (i n : Nat) : nI i * 4 + nI n = nI (i * 4 + n) := by rw [ni_x4, nI_add]
theorem ix_v (i n j : Nat) : (nI i * 9 + nI n) * 4 + nI j = nI ((i * 9 + n) * 4 + j) := by rw [ix_9, ix_4]
theorem ix_s (i v n : Nat) : (nI i * 8 + nI v) * 9 + nI n = nI ((i * 8 + v) * 9 + n) := by rw [ix_8, ix_9]
section
variable {φ ι ω κ p : Nat} {ls : Int32} {P C : Nat → Nat → Int32} {n : Nat}
abbrev cq_ (ι n : Nat) : Prop := nI n - nI n / nI ι * nI ι = 0
theorem ic_1 {post : Int32 → Prop} (hι : ¬ nI ι = 0) (hc : cq_ ι n) (h : post 1) : wpX_isCheckpoint post (xs_ φ ι ω κ p ls P C) (nI n) := And.intro hι (br_t hc h)
theorem ic_0 {post : Int32 → Prop} (hι : ¬ nI ι = 0) (hc : ¬ cq_ ι n) (h : post 0) : wpX_isCheckpoint post (xs_ φ ι ω κ p ls P C) (nI n) := And.intro hι (br_f hc h)
end
theorem cw_n {C : Nat → Nat → Int32} {a x k : Nat} {v : Int32} (h : k ≠ a) : cw_ C a x v k = C k := if_neg h
/-! cutting the log -/
def vz_ (C : Nat → Nat → Int32) (b : Nat) : Nat → (Nat → Nat → Int32)
  | 0 => C
  | j + 1 => cw_ (cw_ (cw_ (vz_ C b j) 13 (b + j) (-1)) 14 (b + j) (-1)) 15 (b + j) (-1)
theorem vz_n {C : Nat → Nat → Int32} {b k : Nat} (h1 : k ≠ 13) (h2 : k ≠ 14) (h3 : k ≠ 15) : ∀ j, vz_ C b j k = C k := by
  intro j
  induction j with
  | zero => rfl
  | succ j ih =>
    show cw_ (cw_ (cw_ (vz_ C b j) 13 (b + j) (-1)) 14 (b + j) (-1)) 15 (b + j) (-1) k = C k
    rw [cw_n h3, cw_n h2, cw_n h1]
    exact ih
def cu_ (C : Nat → Nat → Int32) (i m : Nat) : Nat → Nat → Int32 :=
  vz_ (cw_ (cw_ (cw_ (cw_ C 7 (i * 9 + m) (-1)) 8 (i * 9 + m) (-1)) 9 (i * 9 + m) (-1)) 10 (i * 9 + m) (-1)) ((i * 9 + m) * 4) 4
theorem cu_n {C : Nat → Nat → Int32} {i m k : Nat} (h : k < 2 ∨ 16 ≤ k) : cu_ C i m k = C k := by
  unfold cu_
  rw [vz_n (by omega) (by omega) (by omega), cw_n (by omega), cw_n (by omega), cw_n (by omega), cw_n (by omega)]
theorem gc_cu {φ i m : Nat} {C : Nat → Nat → Int32} (h : gc_ φ C) : gc_ φ (cu_ C i m) := by
  obtain ⟨h0, h2, h4, h7, h8, h16, h22, hd, hv⟩ := h
  exact ⟨h0, h2, h4, gn_u h7 (Or.inl rfl), ge_u h8 (Or.inl rfl), h16, h22, hd, hv⟩
section
variable {φ ι ω κ p i m : Nat} {ls : Int32} {P Q C : Nat → Nat → Int32} {ch : Nat → Int32}
theorem cu_xl (hi : i < 4) (hm : m ≤ 8) {post : SX → Prop} (h : post (xs_ φ ι ω κ p ls P (vz_ C ((i * 9 + m) * 4) 4))) : ∀ d j, j + d = 4 → wX_cutLog_38 post (nI i) (nI m) (nI φ) (nI ι) (nI ω) (nI κ) (nI p) ls (d + 1) (nI j) (P 0) (P 1) (P 2) (P 3) (P 4) (P 5) ((vz_ C ((i * 9 + m) * 4) j) 0) ((vz_ C ((i * 9 + m) * 4) j) 1) ((vz_ C ((i * 9 + m) * 4) j) 2) ((vz_ C ((i * 9 + m) * 4) j) 3) ((vz_ C ((i * 9 + m) * 4) j) 4) ((vz_ C ((i * 9 + m) * 4) j) 5) ((vz_ C ((i * 9 + m) * 4) j) 6) ((vz_ C ((i * 9 + m) * 4) j) 7) ((vz_ C ((i * 9 + m) * 4) j) 8) ((vz_ C ((i * 9 + m) * 4) j) 9) ((vz_ C ((i * 9 + m) * 4) j) 10) ((vz_ C ((i * 9 + m) * 4) j) 11) ((vz_ C ((i * 9 + m) * 4) j) 12) ((vz_ C ((i * 9 + m) * 4) j) 13) ((vz_ C ((i * 9 + m) * 4) j) 14) ((vz_ C ((i * 9 + m) * 4) j) 15) ((vz_ C ((i * 9 + m) * 4) j) 16) ((vz_ C ((i * 9 + m) * 4) j) 17) ((vz_ C ((i * 9 + m) * 4) j) 18) ((vz_ C ((i * 9 + m) * 4) j) 19) ((vz_ C ((i * 9 + m) * 4) j) 20) ((vz_ C ((i * 9 + m) * 4) j) 21) ((vz_ C ((i * 9 + m) * 4) j) 22) ((vz_ C ((i * 9 + m) * 4) j) 23) := by
  intro d
  induction d with
  | zero =>
    intro j hj
    obtain rfl : j = 4 := by omega
    exact br_t ni_ge4 h
  | succ d ih =>
    intro j hj
    have h4 := ni_lit4 (j := j) (by omega)
    have hin : vp_in (nI ((i * 9 + m) * 4 + j)) 144 := vp_in_nI (by omega) (by omega)
    have hc : (nI ((i * 9 + m) * 4 + j)).toNatClampNeg = (i * 9 + m) * 4 + j := nI_clamp (by omega)
    have e13 : upd (vz_ C ((i * 9 + m) * 4) j 13) (nI ((i * 9 + m) * 4 + j)).toNatClampNeg (-1) = vz_ C ((i * 9 + m) * 4) (j + 1) 13 := by rw [hc]; rfl
    have e14 : upd (vz_ C ((i * 9 + m) * 4) j 14) (nI ((i * 9 + m) * 4 + j)).toNatClampNeg (-1) = vz_ C ((i * 9 + m) * 4) (j + 1) 14 := by rw [hc]; rfl
    have e15 : upd (vz_ C ((i * 9 + m) * 4) j 15) (nI ((i * 9 + m) * 4 + j)).toNatClampNeg (-1) = vz_ C ((i * 9 + m) * 4) (j + 1) 15 := by rw [hc]; rfl
    exact br_f h4 (cl_v ⟨hin, nm_r e13 ⟨hin, nm_r e14 ⟨hin, nm_r e15 (nm_r (nI_1 j) (ih (j + 1) (by omega)))⟩⟩⟩)
theorem cu_x (hi : i < 4) (hm : m ≤ 8) {post : SX → Prop} (h : post (xs_ φ ι ω κ p ls P (cu_ C i m))) : wpX_cutLog post (xs_ φ ι ω κ p ls P C) (nI i) (nI m) := by
  have hin : vp_in (nI (i * 9 + m)) 36 := vp_in_nI (by omega) (by omega)
  have hc : (nI (i * 9 + m)).toNatClampNeg = i * 9 + m := nI_clamp (by omega)
  have e : ∀ a, upd a (nI (i * 9 + m)).toNatClampNeg (-1) = upd a (i * 9 + m) (-1) := fun a => by rw [hc]
  unfold wpX_cutLog
  dsimp only
  refine cl_l ⟨hin, nm_r (e _) ⟨hin, nm_r (e _) ⟨hin, nm_r (e _) ⟨hin, nm_r (e _) ⟨5, ?_⟩⟩⟩⟩⟩
  exact cu_xl (C := cw_ (cw_ (cw_ (cw_ C 7 (i * 9 + m) (-1)) 8 (i * 9 + m) (-1)) 9 (i * 9 + m) (-1)) 10 (i * 9 + m) (-1)) hi hm h 4 0 rfl
theorem cu_yl (hi : i < 4) (hm : m ≤ 8) {post : SY → Prop} {J : Int32 → (Nat → Int32) → (Nat → Int32) → (Nat → Int32) → (Nat → Int32) → (Nat → Int32) → (Nat → Int32) → (Nat → Int32) → (Nat → Int32) → (Nat → Int32) → (Nat → Int32) → (Nat → Int32) → (Nat → Int32) → (Nat → Int32) → (Nat → Int32) → (Nat → Int32) → (Nat → Int32) → (Nat → Int32) → (Nat → Int32) → (Nat → Int32) → (Nat → Int32) → (Nat → Int32) → (Nat → Int32) → (Nat → Int32) → (Nat → Int32) → (Nat → Int32) → (Nat → Int32) → (Nat → Int32) → (Nat → Int32) → (Nat → Int32) → (Nat → Int32) → (Nat → Int32) → Prop} {x2 : Int32} (h : J (nI (m + 1)) (Q 0) (Q 1) (Q 2) (Q 3) (Q 4) (Q 5) ((vz_ C ((i * 9 + m) * 4) 4) 0) ((vz_ C ((i * 9 + m) * 4) 4) 1) ((vz_ C ((i * 9 + m) * 4) 4) 2) ((vz_ C ((i * 9 + m) * 4) 4) 3) ((vz_ C ((i * 9 + m) * 4) 4) 4) ((vz_ C ((i * 9 + m) * 4) 4) 5) ((vz_ C ((i * 9 + m) * 4) 4) 6) ((vz_ C ((i * 9 + m) * 4) 4) 7) ((vz_ C ((i * 9 + m) * 4) 4) 8) ((vz_ C ((i * 9 + m) * 4) 4) 9) ((vz_ C ((i * 9 + m) * 4) 4) 10) ((vz_ C ((i * 9 + m) * 4) 4) 11) ((vz_ C ((i * 9 + m) * 4) 4) 12) ((vz_ C ((i * 9 + m) * 4) 4) 13) ((vz_ C ((i * 9 + m) * 4) 4) 14) ((vz_ C ((i * 9 + m) * 4) 4) 15) ((vz_ C ((i * 9 + m) * 4) 4) 16) ((vz_ C ((i * 9 + m) * 4) 4) 17) ((vz_ C ((i * 9 + m) * 4) 4) 18) ((vz_ C ((i * 9 + m) * 4) 4) 19) ((vz_ C ((i * 9 + m) * 4) 4) 20) ((vz_ C ((i * 9 + m) * 4) 4) 21) ((vz_ C ((i * 9 + m) * 4) 4) 22) ((vz_ C ((i * 9 + m) * 4) 4) 23) ch) : ∀ d j, j + d = 4 → wY_stable_108 post J (nI i) x2 (nI m) (nI (i * 9 + m)) (nI φ) (nI ι) (nI ω) (nI κ) (nI p) ls (d + 1) (nI j) (Q 0) (Q 1) (Q 2) (Q 3) (Q 4) (Q 5) ((vz_ C ((i * 9 + m) * 4) j) 0) ((vz_ C ((i * 9 + m) * 4) j) 1) ((vz_ C ((i * 9 + m) * 4) j) 2) ((vz_ C ((i * 9 + m) * 4) j) 3) ((vz_ C ((i * 9 + m) * 4) j) 4) ((vz_ C ((i * 9 + m) * 4) j) 5) ((vz_ C ((i * 9 + m) * 4) j) 6) ((vz_ C ((i * 9 + m) * 4) j) 7) ((vz_ C ((i * 9 + m) * 4) j) 8) ((vz_ C ((i * 9 + m) * 4) j) 9) ((vz_ C ((i * 9 + m) * 4) j) 10) ((vz_ C ((i * 9 + m) * 4) j) 11) ((vz_ C ((i * 9 + m) * 4) j) 12) ((vz_ C ((i * 9 + m) * 4) j) 13) ((vz_ C ((i * 9 + m) * 4) j) 14) ((vz_ C ((i * 9 + m) * 4) j) 15) ((vz_ C ((i * 9 + m) * 4) j) 16) ((vz_ C ((i * 9 + m) * 4) j) 17) ((vz_ C ((i * 9 + m) * 4) j) 18) ((vz_ C ((i * 9 + m) * 4) j) 19) ((vz_ C ((i * 9 + m) * 4) j) 20) ((vz_ C ((i * 9 + m) * 4) j) 21) ((vz_ C ((i * 9 + m) * 4) j) 22) ((vz_ C ((i * 9 + m) * 4) j) 23) ch := by
  intro d
  induction d with
  | zero =>
    intro j hj
    obtain rfl : j = 4 := by omega
    exact br_t ni_ge4 (nm_r (nI_1 m) h)
  | succ d ih =>
    intro j hj
    have h4 := ni_lit4 (j := j) (by omega)
    have hin : vp_in (nI (i * 9 + m) * 4 + nI j) 144 := by rw [ix_4]; exact vp_in_nI (by omega) (by omega)
    have hc : (nI (i * 9 + m) * 4 + nI j).toNatClampNeg = (i * 9 + m) * 4 + j := by rw [ix_4]; exact nI_clamp (by omega)
    have e13 : upd (vz_ C ((i * 9 + m) * 4) j 13) (nI (i * 9 + m) * 4 + nI j).toNatClampNeg (-1) = vz_ C ((i * 9 + m) * 4) (j + 1) 13 := by rw [hc]; rfl
    have e14 : upd (vz_ C ((i * 9 + m) * 4) j 14) (nI (i * 9 + m) * 4 + nI j).toNatClampNeg (-1) = vz_ C ((i * 9 + m) * 4) (j + 1) 14 := by rw [hc]; rfl
    have e15 : upd (vz_ C ((i * 9 + m) * 4) j 15) (nI (i * 9 + m) * 4 + nI j).toNatClampNeg (-1) = vz_ C ((i * 9 + m) * 4) (j + 1) 15 := by rw [hc]; rfl
    exact br_f h4 ⟨hin, nm_r e13 ⟨hin, nm_r e14 ⟨hin, nm_r e15 (nm_r (nI_1 j) (ih (j + 1) (by omega)))⟩⟩⟩
end
abbrev fr_ (D : Nat → Nat → Int32) (ch : Nat → Int32) (C' : Nat → Nat → Int32) (ch' : Nat → Int32) : Prop := (∀ k, k < 2 ∨ 16 ≤ k → C' k = D k) ∧ ch' = ch
section
variable {φ ι ω κ p i n : Nat} {ls : Int32} {P Q : Nat → Nat → Int32} {ch : Nat → Int32} {D : Nat → Nat → Int32}
theorem st_loop (hi : i < 4) (hn : n ≤ 8) (gp : gp_ φ κ p P Q) : ∀ (d m : Nat) (C : Nat → Nat → Int32), m + d = 9 → 1 ≤ m → gc_ φ C → fr_ D ch C ch → lk_ (ev_ (tt_ φ ι ω κ (fr_ D ch))) (fun q => wX_makeStable_51 q (nI i) (nI n) (d + 1) (nI m) (nI φ) (nI ι) (nI ω) (nI κ) (nI p) ls (P 0) (P 1) (P 2) (P 3) (P 4) (P 5) (C 0) (C 1) (C 2) (C 3) (C 4) (C 5) (C 6) (C 7) (C 8) (C 9) (C 10) (C 11) (C 12) (C 13) (C 14) (C 15) (C 16) (C 17) (C 18) (C 19) (C 20) (C 21) (C 22) (C 23)) (fun q => wY_stable_51 q (nI i) (nI n) (nI φ) (nI ι) (nI ω) (nI κ) (nI p) ls (d + 1) (nI m) (Q 0) (Q 1) (Q 2) (Q 3) (Q 4) (Q 5) (C 0) (C 1) (C 2) (C 3) (C 4) (C 5) (C 6) (C 7) (C 8) (C 9) (C 10) (C 11) (C 12) (C 13) (C 14) (C 15) (C 16) (C 17) (C 18) (C 19) (C 20) (C 21) (C 22) (C 23) ch) := by
  intro d
  induction d with
  | zero =>
    intro m C hm h1 gc fr
    obtain rfl : m = 9 := by omega
    exact lk_mono (fun q h => br_t ni_gt8 h) (fun q h => br_t ni_gt8 h) (lk_rv ⟨C, ch, gc, fr, p, ls, P, Q, rfl, rfl, gp⟩)
  | succ d ih =>
    intro m C hm h1 gc fr
    have h8 := ni_lit8 (j := m) (by omega)
    refine lk_mono (fun q h => br_f h8 h) (fun q h => br_f h8 h) ?_
    by_cases e : n < m
    · have e' : nI n < nI m := nI_lt e (by omega)
      refine sx_t e' (sx_r (nI_1 m) (sy_t e' (sy_r (nI_1 m) ?_)))
      exact ih (m + 1) C (by omega) (by omega) gc fr
    · have e' : ¬ nI n < nI m := nI_nlt (by omega) (by omega)
      have hin : vp_in (nI (i * 9 + m)) 36 := vp_in_nI (by omega) (by omega)
      have hc : (nI (i * 9 + m)).toNatClampNeg = i * 9 + m := nI_clamp (by omega)
      have eu : ∀ a, upd a (nI (i * 9 + m)).toNatClampNeg (-1) = upd a (i * 9 + m) (-1) := fun a => by rw [hc]
      refine sx_f e' (sy_f e' ?_)
      refine sy_r (ix_9 i m) (sy_i hin (sy_r (eu _) (sy_i hin (sy_r (eu _) (sy_i hin (sy_r (eu _) (sy_i hin (sy_r (eu _) (sy_e 5 ?_)))))))))
      refine lk_mono (fun q h => cu_x (P := P) (C := C) hi (by omega) h) (fun q h => cu_yl (Q := Q) (ch := ch) (C := cw_ (cw_ (cw_ (cw_ C 7 (i * 9 + m) (-1)) 8 (i * 9 + m) (-1)) 9 (i * 9 + m) (-1)) 10 (i * 9 + m) (-1)) hi (by omega) h 4 0 rfl) ?_
      dsimp only
      refine sx_r (nI_1 m) ?_
      exact ih (m + 1) (cu_ C i m) (by omega) (by omega) (gc_cu gc) ⟨fun k hk => (cu_n hk).trans (fr.1 k hk), rfl⟩
theorem st_lk {C : Nat → Nat → Int32} {s : Int32} (hi : i < 4) (hn : n ≤ 8) (gp : gp_ φ κ p P Q) (gc : gc_ φ C) : lk_ (ev_ (tt_ φ ι ω κ (fr_ C ch))) (fun q => wpX_makeStable q (xs_ φ ι ω κ p ls P C) (nI i) (nI n) s) (fun q => wpY_stable q (ys_ φ ι ω κ p ls Q C ch) (nI i) (nI n) s) := by
  have hin : vp_in (nI i) 4 := vp_in_nI hi (by omega)
  have hc : (nI i).toNatClampNeg = i := nI_clamp (by omega)
  obtain ⟨h0, h2, h4, h7, h8, h16, h22, hd, hv⟩ := gc
  have bn : bd_ 9 (nI n) := ⟨n, by omega, rfl⟩
  unfold wpX_makeStable wpY_stable
  dsimp only
  simp only [hc]
  refine sx_i hin (sx_n (sx_i hin (sx_n (sx_i hin (sy_i hin (sy_n (sy_i hin (sy_n (sy_i hin ?_)))))))))
  refine sx_c (fun c => ?_) (fun c => ?_)
  · refine sy_t c (sx_e 9 (sy_e 9 ?_))
    exact st_loop hi hn gp 8 1 (cw_ (cw_ C 2 i (nI n)) 3 i s) rfl (by omega) ⟨h0, ga_u h2 bn, h4, h7, h8, h16, h22, hd, hv⟩ ⟨fun k hk => by rw [cw_n (by omega), cw_n (by omega)], rfl⟩
  · refine sy_f c ?_
    refine sx_i hin (sx_n (sx_i hin (sx_n (sx_i hin (sx_i hin (sx_n (sx_e 9 ?_)))))))
    refine sy_i hin (sy_n (sy_i hin (sy_n (sy_i hin (sy_i hin (sy_n (sy_e 9 ?_)))))))
    exact st_loop hi hn gp 8 1 (cw_ (cw_ (cw_ (cw_ (cw_ C 2 i (nI n)) 3 i s) 4 i (nI n)) 5 i s) 6 i (C 6 i + 1)) rfl (by omega) ⟨h0, ga_u h2 bn, ga_u h4 bn, h7, h8, h16, h22, hd, hv⟩ ⟨fun k hk => by rw [cw_n (by omega), cw_n (by omega), cw_n (by omega), cw_n (by omega), cw_n (by omega)], rfl⟩
end
end
section
/-! the agreed state, the least agreed number -/
def cn_ (g : Nat → Int32) (s : Int32) : Nat → Nat
  | 0 => 0
  | k + 1 => if g k = s then cn_ g s k + 1 else cn_ g s k
theorem cn_t {g : Nat → Int32} {s : Int32} {k : Nat} (h : g k = s) : cn_ g s (k + 1) = cn_ g s k + 1 := if_pos h
theorem cn_f {g : Nat → Int32} {s : Int32} {k : Nat} (h : ¬ g k = s) : cn_ g s (k + 1) = cn_ g s k := if_neg h
theorem cn_le (g : Nat → Int32) (s : Int32) : ∀ k, cn_ g s k ≤ k := by
  intro k
  induction k with
  | zero => exact Nat.le_refl 0
  | succ k ih =>
    by_cases h : g k = s
    · rw [cn_t h]; omega
    · rw [cn_f h]; omega
def ag_ (g : Nat → Int32) : Nat → Nat → Int32
  | 0, _ => -1
  | d + 1, a => if ¬ g a = -1 ∧ 3 ≤ cn_ g (g a) 4 then g a else ag_ g d (a + 1)
theorem ag_t {g : Nat → Int32} {d a : Nat} (h : ¬ g a = -1) (h3 : 3 ≤ cn_ g (g a) 4) : ag_ g (d + 1) a = g a := if_pos ⟨h, h3⟩
theorem ag_f {g : Nat → Int32} {d a : Nat} (h : g a = -1 ∨ cn_ g (g a) 4 < 3) : ag_ g (d + 1) a = ag_ g d (a + 1) := if_neg (fun z => by
  rcases h with h | h
  · exact z.1 h
  · omega)
theorem ni_lt3 {c : Nat} (h : c < 3) : nI c < 3 := nI_lt (b := 3) h (by decide)
theorem ni_ge3 {c : Nat} (h : 3 ≤ c) (h' : c < 2 ^ 31) : ¬ nI c < 3 := nI_nlt (b := 3) h h'
theorem ni_lt2 {c : Nat} (h : c < 2) : nI c < 2 := nI_lt (b := 2) h (by decide)
theorem ni_ge2 {c : Nat} (h : 2 ≤ c) (h' : c < 2 ^ 31) : ¬ nI c < 2 := nI_nlt (b := 2) h h'
def rw_ (C : Nat → Nat → Int32) (i n : Nat) : Nat → Int32 := fun j => C 15 ((i * 9 + n) * 4 + j)
def as_ (C : Nat → Nat → Int32) (i n : Nat) : Int32 := ag_ (rw_ C i n) 4 0
section
variable {φ ι ω κ p i n : Nat} {ls : Int32} {P Q C : Nat → Nat → Int32} {ch : Nat → Int32}
theorem ag_xi (hi : i < 4) (hn : n ≤ 8) {post J : Int32 → Prop} {a : Nat} {s : Int32} (h1 : cn_ (rw_ C i n) s 4 < 3 → J (nI (a + 1))) (h2 : 3 ≤ cn_ (rw_ C i n) s 4 → post s) : ∀ d m, m + d = 4 → wX_agreedState_33 post J (nI i) (nI n) (nI a) s (nI φ) (nI ι) (nI ω) (nI κ) (nI p) ls (P 0) (P 1) (P 2) (P 3) (P 4) (P 5) (C 0) (C 1) (C 2) (C 3) (C 4) (C 5) (C 6) (C 7) (C 8) (C 9) (C 10) (C 11) (C 12) (C 13) (C 14) (C 15) (C 16) (C 17) (C 18) (C 19) (C 20) (C 21) (C 22) (C 23) (d + 1) (nI (cn_ (rw_ C i n) s m)) (nI m) := by
  intro d
  induction d with
  | zero =>
    intro m hm
    obtain rfl : m = 4 := by omega
    have hl := cn_le (rw_ C i n) s 4
    by_cases h : cn_ (rw_ C i n) s 4 < 3
    · exact br_t ni_ge4 (br_t (ni_lt3 h) (nm_r (nI_1 a) (h1 h)))
    · exact br_t ni_ge4 (br_f (ni_ge3 (by omega) (by omega)) (h2 (by omega)))
  | succ d ih =>
    intro m hm
    have h4 := ni_lit4 (j := m) (by omega)
    have hin : vp_in (nI ((i * 9 + n) * 4 + m)) 144 := vp_in_nI (by omega) (by omega)
    have hc : (nI ((i * 9 + n) * 4 + m)).toNatClampNeg = (i * 9 + n) * 4 + m := nI_clamp (by omega)
    have k := ih (m + 1) (by omega)
    by_cases e : rw_ C i n m = s
    · have e' : C 15 (nI ((i * 9 + n) * 4 + m)).toNatClampNeg = s := by rw [hc]; exact e
      rw [cn_t e] at k
      exact br_f h4 (cl_v ⟨hin, br_t e' (nm_r (nI_1 _) (nm_r (nI_1 m) k))⟩)
    · have e' : ¬ C 15 (nI ((i * 9 + n) * 4 + m)).toNatClampNeg = s := by rw [hc]; exact e
      rw [cn_f e] at k
      exact br_f h4 (cl_v ⟨hin, br_f e' (nm_r (nI_1 m) k)⟩)
theorem ag_xo (hi : i < 4) (hn : n ≤ 8) {post : Int32 → Prop} : ∀ d a, a + d = 4 → post (ag_ (rw_ C i n) d a) → wX_agreedState_2 post (nI i) (nI n) (nI φ) (nI ι) (nI ω) (nI κ) (nI p) ls (P 0) (P 1) (P 2) (P 3) (P 4) (P 5) (C 0) (C 1) (C 2) (C 3) (C 4) (C 5) (C 6) (C 7) (C 8) (C 9) (C 10) (C 11) (C 12) (C 13) (C 14) (C 15) (C 16) (C 17) (C 18) (C 19) (C 20) (C 21) (C 22) (C 23) (d + 1) (nI a) := by
  intro d
  induction d with
  | zero =>
    intro a ha h
    obtain rfl : a = 4 := by omega
    exact br_t ni_ge4 h
  | succ d ih =>
    intro a ha h
    have h4 := ni_lit4 (j := a) (by omega)
    have hin : vp_in (nI ((i * 9 + n) * 4 + a)) 144 := vp_in_nI (by omega) (by omega)
    have hc : (nI ((i * 9 + n) * 4 + a)).toNatClampNeg = (i * 9 + n) * 4 + a := nI_clamp (by omega)
    have e : C 15 (nI ((i * 9 + n) * 4 + a)).toNatClampNeg = rw_ C i n a := by rw [hc]; rfl
    by_cases z : rw_ C i n a = -1
    · rw [ag_f (Or.inl z)] at h
      exact br_f h4 (cl_v ⟨hin, nm_r e (br_t z (nm_r (nI_1 a) (ih (a + 1) (by omega) h)))⟩)
    · have k := ag_xi (φ := φ) (ι := ι) (ω := ω) (κ := κ) (p := p) (ls := ls) (P := P) (C := C) hi hn (post := post) (J := wX_agreedState_2 post (nI i) (nI n) (nI φ) (nI ι) (nI ω) (nI κ) (nI p) ls (P 0) (P 1) (P 2) (P 3) (P 4) (P 5) (C 0) (C 1) (C 2) (C 3) (C 4) (C 5) (C 6) (C 7) (C 8) (C 9) (C 10) (C 11) (C 12) (C 13) (C 14) (C 15) (C 16) (C 17) (C 18) (C 19) (C 20) (C 21) (C 22) (C 23) (d + 1)) (a := a) (s := rw_ C i n a) (fun hl => ih (a + 1) (by omega) (by rw [ag_f (Or.inr hl)] at h; exact h)) (fun hl => by rw [ag_t z hl] at h; exact h) 4 0 rfl
      exact br_f h4 (cl_v ⟨hin, nm_r e (br_f z ⟨5, k⟩)⟩)
theorem as_x (hi : i < 4) (hn : n ≤ 8) {post : Int32 → Prop} (h : post (as_ C i n)) : wpX_agreedState post (xs_ φ ι ω κ p ls P C) (nI i) (nI n) := Exists.intro 5 (ag_xo hi hn 4 0 rfl h)
theorem ag_yi (hi : i < 4) (hn : n ≤ 8) {post J : Int32 → Prop} {a : Nat} {s : Int32} (h1 : (s = -1 ∨ cn_ (rw_ C i n) s 4 < 3) → J (nI (a + 1))) (h2 : ¬ s = -1 → 3 ≤ cn_ (rw_ C i n) s 4 → post s) : ∀ d m, m + d = 4 → wY_agreedState_30 post J (nI i) (nI n) (nI a) s (nI φ) (nI ι) (nI ω) (nI κ) (nI p) ls (Q 0) (Q 1) (Q 2) (Q 3) (Q 4) (Q 5) (C 0) (C 1) (C 2) (C 3) (C 4) (C 5) (C 6) (C 7) (C 8) (C 9) (C 10) (C 11) (C 12) (C 13) (C 14) (C 15) (C 16) (C 17) (C 18) (C 19) (C 20) (C 21) (C 22) (C 23) ch (d + 1) (nI (cn_ (rw_ C i n) s m)) (nI m) := by
  intro d
  induction d with
  | zero =>
    intro m hm
    obtain rfl : m = 4 := by omega
    have hl := cn_le (rw_ C i n) s 4
    by_cases z : s = -1
    · exact br_t ni_ge4 (br_t z (nm_r (nI_1 a) (h1 (Or.inl z))))
    · by_cases h : cn_ (rw_ C i n) s 4 < 3
      · exact br_t ni_ge4 (br_f z (br_t (ni_lt3 h) (nm_r (nI_1 a) (h1 (Or.inr h)))))
      · exact br_t ni_ge4 (br_f z (br_f (ni_ge3 (by omega) (by omega)) (h2 z (by omega))))
  | succ d ih =>
    intro m hm
    have h4 := ni_lit4 (j := m) (by omega)
    have hin : vp_in ((nI i * 9 + nI n) * 4 + nI m) 144 := by rw [ix_v]; exact vp_in_nI (by omega) (by omega)
    have hc : ((nI i * 9 + nI n) * 4 + nI m).toNatClampNeg = (i * 9 + n) * 4 + m := by rw [ix_v]; exact nI_clamp (by omega)
    have k := ih (m + 1) (by omega)
    by_cases e : rw_ C i n m = s
    · have e' : C 15 ((nI i * 9 + nI n) * 4 + nI m).toNatClampNeg = s := by rw [hc]; exact e
      rw [cn_t e] at k
      exact br_f h4 ⟨hin, br_t e' (nm_r (nI_1 _) (nm_r (nI_1 m) k))⟩
    · have e' : ¬ C 15 ((nI i * 9 + nI n) * 4 + nI m).toNatClampNeg = s := by rw [hc]; exact e
      rw [cn_f e] at k
      exact br_f h4 ⟨hin, br_f e' (nm_r (nI_1 m) k)⟩
theorem ag_yo (hi : i < 4) (hn : n ≤ 8) {post : Int32 → Prop} : ∀ d a, a + d = 4 → post (ag_ (rw_ C i n) d a) → wY_agreedState_2 post (nI i) (nI n) (nI φ) (nI ι) (nI ω) (nI κ) (nI p) ls (Q 0) (Q 1) (Q 2) (Q 3) (Q 4) (Q 5) (C 0) (C 1) (C 2) (C 3) (C 4) (C 5) (C 6) (C 7) (C 8) (C 9) (C 10) (C 11) (C 12) (C 13) (C 14) (C 15) (C 16) (C 17) (C 18) (C 19) (C 20) (C 21) (C 22) (C 23) ch (d + 1) (nI a) := by
  intro d
  induction d with
  | zero =>
    intro a ha h
    obtain rfl : a = 4 := by omega
    exact br_t ni_ge4 h
  | succ d ih =>
    intro a ha h
    have h4 := ni_lit4 (j := a) (by omega)
    have hin : vp_in ((nI i * 9 + nI n) * 4 + nI a) 144 := by rw [ix_v]; exact vp_in_nI (by omega) (by omega)
    have hc : ((nI i * 9 + nI n) * 4 + nI a).toNatClampNeg = (i * 9 + n) * 4 + a := by rw [ix_v]; exact nI_clamp (by omega)
    have e : C 15 ((nI i * 9 + nI n) * 4 + nI a).toNatClampNeg = rw_ C i n a := by rw [hc]; rfl
    have k := ag_yi (φ := φ) (ι := ι) (ω := ω) (κ := κ) (p := p) (ls := ls) (Q := Q) (C := C) (ch := ch) hi hn (post := post) (J := wY_agreedState_2 post (nI i) (nI n) (nI φ) (nI ι) (nI ω) (nI κ) (nI p) ls (Q 0) (Q 1) (Q 2) (Q 3) (Q 4) (Q 5) (C 0) (C 1) (C 2) (C 3) (C 4) (C 5) (C 6) (C 7) (C 8) (C 9) (C 10) (C 11) (C 12) (C 13) (C 14) (C 15) (C 16) (C 17) (C 18) (C 19) (C 20) (C 21) (C 22) (C 23) ch (d + 1)) (a := a) (s := rw_ C i n a) (fun hl => ih (a + 1) (by omega) (by rw [ag_f hl] at h; exact h)) (fun z hl => by rw [ag_t z hl] at h; exact h) 4 0 rfl
    exact br_f h4 ⟨hin, nm_r e ⟨5, k⟩⟩
theorem as_y (hi : i < 4) (hn : n ≤ 8) {post : Int32 → Prop} (h : post (as_ C i n)) : wpY_agreedState post (ys_ φ ι ω κ p ls Q C ch) (nI i) (nI n) := Exists.intro 5 (ag_yo hi hn 4 0 rfl h)
end
def lc_ (ι : Nat) (C : Nat → Nat → Int32) (i n : Nat) : Prop := cq_ ι n ∧ ¬ as_ C i n = -1
section
variable {φ ι ω κ p i n h : Nat} {ls : Int32} {P Q C : Nat → Nat → Int32} {ch : Nat → Int32}
theorem la_skip (hi : i < 4) (hι : ¬ nI ι = 0) {post : Int32 → Prop} {m d : Nat} (hm : m ≤ 8) (hl : ¬ lc_ ι C i m) (k : wX_leastAgreed_9 post (nI i) (nI φ) (nI ι) (nI ω) (nI κ) (nI p) ls (P 0) (P 1) (P 2) (P 3) (P 4) (P 5) (C 0) (C 1) (C 2) (C 3) (C 4) (C 5) (C 6) (C 7) (C 8) (C 9) (C 10) (C 11) (C 12) (C 13) (C 14) (C 15) (C 16) (C 17) (C 18) (C 19) (C 20) (C 21) (C 22) (C 23) (d + 1) (nI (m + 1))) : wX_leastAgreed_9 post (nI i) (nI φ) (nI ι) (nI ω) (nI κ) (nI p) ls (P 0) (P 1) (P 2) (P 3) (P 4) (P 5) (C 0) (C 1) (C 2) (C 3) (C 4) (C 5) (C 6) (C 7) (C 8) (C 9) (C 10) (C 11) (C 12) (C 13) (C 14) (C 15) (C 16) (C 17) (C 18) (C 19) (C 20) (C 21) (C 22) (C 23) (d + 1 + 1) (nI m) := by
  have h8 := ni_lit8 (j := m) (by omega)
  by_cases c : cq_ ι m
  · by_cases z : as_ C i m = -1
    · exact br_f h8 (ic_1 hι c (br_f (by decide) (as_x hi hm (br_t z (nm_r (nI_1 m) k)))))
    · exact absurd ⟨c, z⟩ hl
  · exact br_f h8 (ic_0 hι c (br_t rfl (nm_r (nI_1 m) k)))
theorem la_x1 (hi : i < 4) (hι : ¬ nI ι = 0) (hh : C 2 i = nI h) (h1 : h < n) (h2 : n ≤ 8) (hl : lc_ ι C i n) (hm : ∀ m, h < m → m < n → ¬ lc_ ι C i m) {post : Int32 → Prop} (hp : post (nI n)) : wpX_leastAgreed post (xs_ φ ι ω κ p ls P C) (nI i) := by
  have L : ∀ d m, m + d = n → h < m → wX_leastAgreed_9 post (nI i) (nI φ) (nI ι) (nI ω) (nI κ) (nI p) ls (P 0) (P 1) (P 2) (P 3) (P 4) (P 5) (C 0) (C 1) (C 2) (C 3) (C 4) (C 5) (C 6) (C 7) (C 8) (C 9) (C 10) (C 11) (C 12) (C 13) (C 14) (C 15) (C 16) (C 17) (C 18) (C 19) (C 20) (C 21) (C 22) (C 23) (d + 1) (nI m) := by
    intro d
    induction d with
    | zero =>
      intro m e1 e2
      obtain rfl : m = n := by omega
      have h8 := ni_lit8 (j := m) (by omega)
      exact br_f h8 (ic_1 hι hl.1 (br_f (by decide) (as_x hi h2 (br_f hl.2 hp))))
    | succ d ih =>
      intro m e1 e2
      exact la_skip hi hι (by omega) (hm m e2 (by omega)) (ih (m + 1) (by omega) (by omega))
  have hin : vp_in (nI i) 4 := vp_in_nI hi (by omega)
  have hc : C 2 (nI i).toNatClampNeg + 1 = nI (h + 1) := by rw [nI_clamp (by omega), hh, nI_1]
  exact And.intro hin (nm_r hc (Exists.intro _ (L (n - (h + 1)) (h + 1) (by omega) (by omega))))
theorem la_x0 (hi : i < 4) (hι : ¬ nI ι = 0) (hh : C 2 i = nI h) (h2 : h ≤ 8) (hm : ∀ m, h < m → m ≤ 8 → ¬ lc_ ι C i m) {post : Int32 → Prop} (hp : post (-1)) : wpX_leastAgreed post (xs_ φ ι ω κ p ls P C) (nI i) := by
  have L : ∀ d m, m + d = 9 → h < m → wX_leastAgreed_9 post (nI i) (nI φ) (nI ι) (nI ω) (nI κ) (nI p) ls (P 0) (P 1) (P 2) (P 3) (P 4) (P 5) (C 0) (C 1) (C 2) (C 3) (C 4) (C 5) (C 6) (C 7) (C 8) (C 9) (C 10) (C 11) (C 12) (C 13) (C 14) (C 15) (C 16) (C 17) (C 18) (C 19) (C 20) (C 21) (C 22) (C 23) (d + 1) (nI m) := by
    intro d
    induction d with
    | zero =>
      intro m e1 e2
      obtain rfl : m = 9 := by omega
      exact br_t ni_gt8 hp
    | succ d ih =>
      intro m e1 e2
      exact la_skip hi hι (by omega) (hm m e2 (by omega)) (ih (m + 1) (by omega) (by omega))
  have hin : vp_in (nI i) 4 := vp_in_nI hi (by omega)
  have hc : C 2 (nI i).toNatClampNeg + 1 = nI (h + 1) := by rw [nI_clamp (by omega), hh, nI_1]
  exact And.intro hin (nm_r hc (Exists.intro _ (L (9 - (h + 1)) (h + 1) (by omega) (by omega))))
end
end
section
/-! settle -/
theorem lc_least (P : Nat → Prop) (h : ∃ k, P k) : ∃ k, P k ∧ ∀ j, j < k → ¬ P j := by
  obtain ⟨k, hk⟩ := h
  have G : ∀ k, P k → ∃ k, P k ∧ ∀ j, j < k → ¬ P j := by
    intro k
    induction k using Nat.strongRecOn with
    | ind k ih =>
      intro hk
      by_cases h : ∃ j, j < k ∧ P j
      · obtain ⟨j, hj, hP⟩ := h
        exact ih j hj hP
      · exact ⟨k, hk, fun j hj hP => h ⟨j, hj, hP⟩⟩
  exact G k hk
section
variable {φ ι ω κ p i n h : Nat} {ls : Int32} {P Q C : Nat → Nat → Int32} {ch : Nat → Int32} {post : SY → Prop} {J : Int32 → Int32 → Int32 → Int32 → Int32 → Int32 → Int32 → (Nat → Int32) → (Nat → Int32) → (Nat → Int32) → (Nat → Int32) → (Nat → Int32) → (Nat → Int32) → (Nat → Int32) → (Nat → Int32) → (Nat → Int32) → (Nat → Int32) → (Nat → Int32) → (Nat → Int32) → (Nat → Int32) → (Nat → Int32) → (Nat → Int32) → (Nat → Int32) → (Nat → Int32) → (Nat → Int32) → (Nat → Int32) → (Nat → Int32) → (Nat → Int32) → (Nat → Int32) → (Nat → Int32) → (Nat → Int32) → (Nat → Int32) → (Nat → Int32) → (Nat → Int32) → (Nat → Int32) → (Nat → Int32) → (Nat → Int32) → (Nat → Int32) → Prop} {x2 : Int32}
theorem ys_skip (hi : i < 4) (hι : ¬ nI ι = 0) (hh : C 2 i = nI h) (hh8 : h < 9) {m N : Nat} (hm : m ≤ 8) (hl : h < m → ¬ lc_ ι C i m) (k : wY_settle_16 post J (nI i) x2 (nI φ) (nI ι) (nI ω) (nI κ) (nI p) ls (Q 0) (Q 1) (Q 2) (Q 3) (Q 4) (Q 5) (C 0) (C 1) (C 2) (C 3) (C 4) (C 5) (C 6) (C 7) (C 8) (C 9) (C 10) (C 11) (C 12) (C 13) (C 14) (C 15) (C 16) (C 17) (C 18) (C 19) (C 20) (C 21) (C 22) (C 23) ch N 0 (-1) (nI (m + 1))) : wY_settle_16 post J (nI i) x2 (nI φ) (nI ι) (nI ω) (nI κ) (nI p) ls (Q 0) (Q 1) (Q 2) (Q 3) (Q 4) (Q 5) (C 0) (C 1) (C 2) (C 3) (C 4) (C 5) (C 6) (C 7) (C 8) (C 9) (C 10) (C 11) (C 12) (C 13) (C 14) (C 15) (C 16) (C 17) (C 18) (C 19) (C 20) (C 21) (C 22) (C 23) ch (N + 1) 0 (-1) (nI m) := by
  have h8 := ni_lit8 (j := m) (by omega)
  have hin : vp_in (nI i) 4 := vp_in_nI hi (by omega)
  have hst : C 2 (nI i).toNatClampNeg = nI h := by rw [nI_clamp (by omega), hh]
  by_cases e : h < m
  · have hn : ¬ nI m ≤ C 2 (nI i).toNatClampNeg := by rw [hst]; exact nI_ge e (by omega)
    by_cases c : cq_ ι m
    · by_cases z : as_ C i m = -1
      · exact br_f h8 (br_t rfl ⟨hin, br_f hn ⟨hι, br_t c (as_y hi hm (br_t z (nm_r (nI_1 m) k)))⟩⟩)
      · exact absurd ⟨c, z⟩ (hl e)
    · exact br_f h8 (br_t rfl ⟨hin, br_f hn ⟨hι, br_f c (nm_r (nI_1 m) k)⟩⟩)
  · have hn : nI m ≤ C 2 (nI i).toNatClampNeg := by rw [hst]; exact nI_le (by omega) (by omega)
    exact br_f h8 (br_t rfl ⟨hin, br_t hn (nm_r (nI_1 m) k)⟩)
theorem ys_0 (hi : i < 4) (hι : ¬ nI ι = 0) (hh : C 2 i = nI h) (hh8 : h < 9) (hl : ∀ m, h < m → m ≤ 8 → ¬ lc_ ι C i m) (k : wY_settle_16 post J (nI i) x2 (nI φ) (nI ι) (nI ω) (nI κ) (nI p) ls (Q 0) (Q 1) (Q 2) (Q 3) (Q 4) (Q 5) (C 0) (C 1) (C 2) (C 3) (C 4) (C 5) (C 6) (C 7) (C 8) (C 9) (C 10) (C 11) (C 12) (C 13) (C 14) (C 15) (C 16) (C 17) (C 18) (C 19) (C 20) (C 21) (C 22) (C 23) ch 1 0 (-1) (nI 9)) : ∀ N m, m + N = 10 → m ≤ 9 → wY_settle_16 post J (nI i) x2 (nI φ) (nI ι) (nI ω) (nI κ) (nI p) ls (Q 0) (Q 1) (Q 2) (Q 3) (Q 4) (Q 5) (C 0) (C 1) (C 2) (C 3) (C 4) (C 5) (C 6) (C 7) (C 8) (C 9) (C 10) (C 11) (C 12) (C 13) (C 14) (C 15) (C 16) (C 17) (C 18) (C 19) (C 20) (C 21) (C 22) (C 23) ch N 0 (-1) (nI m) := by
  intro N
  induction N with
  | zero => intro m e1 e2; omega
  | succ N ih =>
    intro m e1 e2
    by_cases e : m = 9
    · subst e
      obtain rfl : N = 0 := by omega
      exact k
    · exact ys_skip hi hι hh hh8 (by omega) (fun e3 => hl m e3 (by omega)) (ih (m + 1) (by omega) (by omega))
theorem ys_2 (hn : 1 ≤ n) (hn8 : n ≤ 8) {s : Int32} (k : wY_settle_16 post J (nI i) x2 (nI φ) (nI ι) (nI ω) (nI κ) (nI p) ls (Q 0) (Q 1) (Q 2) (Q 3) (Q 4) (Q 5) (C 0) (C 1) (C 2) (C 3) (C 4) (C 5) (C 6) (C 7) (C 8) (C 9) (C 10) (C 11) (C 12) (C 13) (C 14) (C 15) (C 16) (C 17) (C 18) (C 19) (C 20) (C 21) (C 22) (C 23) ch 1 (nI n) s (nI 9)) : ∀ N m, m + N = 10 → m ≤ 9 → wY_settle_16 post J (nI i) x2 (nI φ) (nI ι) (nI ω) (nI κ) (nI p) ls (Q 0) (Q 1) (Q 2) (Q 3) (Q 4) (Q 5) (C 0) (C 1) (C 2) (C 3) (C 4) (C 5) (C 6) (C 7) (C 8) (C 9) (C 10) (C 11) (C 12) (C 13) (C 14) (C 15) (C 16) (C 17) (C 18) (C 19) (C 20) (C 21) (C 22) (C 23) ch N (nI n) s (nI m) := by
  intro N
  induction N with
  | zero => intro m e1 e2; omega
  | succ N ih =>
    intro m e1 e2
    by_cases e : m = 9
    · subst e
      obtain rfl : N = 0 := by omega
      exact k
    · exact br_f (ni_lit8 (j := m) (by omega)) (br_f (nI_ne0 (by omega) (by omega)) (nm_r (nI_1 m) (ih (m + 1) (by omega) (by omega))))
theorem ys_1 (hi : i < 4) (hι : ¬ nI ι = 0) (hh : C 2 i = nI h) (h1 : h < n) (h2 : n ≤ 8) (hl : lc_ ι C i n) (hm : ∀ m, h < m → m < n → ¬ lc_ ι C i m) (k : wY_settle_16 post J (nI i) x2 (nI φ) (nI ι) (nI ω) (nI κ) (nI p) ls (Q 0) (Q 1) (Q 2) (Q 3) (Q 4) (Q 5) (C 0) (C 1) (C 2) (C 3) (C 4) (C 5) (C 6) (C 7) (C 8) (C 9) (C 10) (C 11) (C 12) (C 13) (C 14) (C 15) (C 16) (C 17) (C 18) (C 19) (C 20) (C 21) (C 22) (C 23) ch 1 (nI n) (as_ C i n) (nI 9)) : ∀ N m, m + N = 10 → m ≤ n → wY_settle_16 post J (nI i) x2 (nI φ) (nI ι) (nI ω) (nI κ) (nI p) ls (Q 0) (Q 1) (Q 2) (Q 3) (Q 4) (Q 5) (C 0) (C 1) (C 2) (C 3) (C 4) (C 5) (C 6) (C 7) (C 8) (C 9) (C 10) (C 11) (C 12) (C 13) (C 14) (C 15) (C 16) (C 17) (C 18) (C 19) (C 20) (C 21) (C 22) (C 23) ch N 0 (-1) (nI m) := by
  intro N
  induction N with
  | zero => intro m e1 e2; omega
  | succ N ih =>
    intro m e1 e2
    by_cases e : m = n
    · subst e
      have h8 := ni_lit8 (j := m) (by omega)
      have hin : vp_in (nI i) 4 := vp_in_nI hi (by omega)
      have hn : ¬ nI m ≤ C 2 (nI i).toNatClampNeg := by rw [nI_clamp (by omega), hh]; exact nI_ge h1 (by omega)
      have k2 := ys_2 (by omega) h2 k N (m + 1) (by omega) (by omega)
      exact br_f h8 (br_t rfl ⟨hin, br_f hn ⟨hι, br_t hl.1 (as_y hi h2 (br_f hl.2 (nm_r (nI_1 m) k2)))⟩⟩)
    · exact ys_skip hi hι hh (by omega) (by omega) (fun e3 => hm m e3 (by omega)) (ih (m + 1) (by omega) (by omega))
end
section
variable {φ ι ω κ i : Nat} {ch : Nat → Int32} {D : Nat → Nat → Int32}
theorem se_loop (hK : kk_ φ ι ω κ) (hi : i < 4) : ∀ (d r : Nat) (C : Nat → Nat → Int32) (p : Nat) (ls : Int32) (P Q : Nat → Nat → Int32), r + d = 32 → gc_ φ C → fr_ D ch C ch → gp_ φ κ p P Q → lk_ (ev_ (tt_ φ ι ω κ (fr_ D ch))) (fun q => wX_settle_2 q (nI i) (d + 1) (nI r) (nI φ) (nI ι) (nI ω) (nI κ) (nI p) ls (P 0) (P 1) (P 2) (P 3) (P 4) (P 5) (C 0) (C 1) (C 2) (C 3) (C 4) (C 5) (C 6) (C 7) (C 8) (C 9) (C 10) (C 11) (C 12) (C 13) (C 14) (C 15) (C 16) (C 17) (C 18) (C 19) (C 20) (C 21) (C 22) (C 23)) (fun q => wY_settle_2 q (nI i) (d + 1) (nI r) (nI φ) (nI ι) (nI ω) (nI κ) (nI p) ls (Q 0) (Q 1) (Q 2) (Q 3) (Q 4) (Q 5) (C 0) (C 1) (C 2) (C 3) (C 4) (C 5) (C 6) (C 7) (C 8) (C 9) (C 10) (C 11) (C 12) (C 13) (C 14) (C 15) (C 16) (C 17) (C 18) (C 19) (C 20) (C 21) (C 22) (C 23) ch) := by
  have hK' := hK
  obtain ⟨k0, k1, k2, k3, k4, k5, k6⟩ := hK
  have hι : ¬ nI ι = 0 := nI_ne0 (by omega) (by omega)
  intro d
  induction d with
  | zero =>
    intro r C p ls P Q hr gc fr gp
    obtain rfl : r = 32 := by omega
    exact lk_mono (fun q h => br_t ni_ge32 h) (fun q h => br_t ni_ge32 h) (lk_rv ⟨C, ch, gc, fr, p, ls, P, Q, rfl, rfl, gp⟩)
  | succ d ih =>
    intro r C p ls P Q hr gc fr gp
    have h32 := ni_lit32 (j := r) (by omega)
    refine lk_mono (fun q h => br_f h32 h) (fun q h => br_f h32 h) ?_
    obtain ⟨h, hh8, hh⟩ := gc.2.1 i
    by_cases F : ∃ n, h < n ∧ n ≤ 8 ∧ lc_ ι C i n
    · obtain ⟨n, ⟨a1, a2, a3⟩, hmin⟩ := lc_least _ F
      have hm : ∀ m, h < m → m < n → ¬ lc_ ι C i m := fun m e1 e2 c => hmin m e2 ⟨e1, by omega, c⟩
      refine lk_mx (fun q z => la_x1 (P := P) (C := C) hi hι hh a1 a2 a3 hm z) ?_
      refine sx_f (ni_m1 (by omega)) (lk_mx (fun q z => as_x (P := P) (C := C) hi a2 z) ?_)
      refine sy_e 9 (lk_my (fun q z => ys_1 (Q := Q) (C := C) (ch := ch) hi hι hh a1 a2 a3 hm (br_t ni_gt8 (br_f (nI_nle (by omega) (by omega)) z)) 9 1 rfl (by omega)) ?_)
      refine lk_bv (st_lk (ch := ch) (ls := ls) hi a2 gp gc) ?_
      rintro u v ⟨C', ch', gc', ⟨fr1, fr2⟩, p', ls', P', Q', rfl, rfl, gp'⟩
      subst fr2
      dsimp only
      refine sx_r (nI_1 r) (sy_r (nI_1 r) ?_)
      exact ih (r + 1) C' p' ls' P' Q' (by omega) gc' ⟨fun k hk => (fr1 k hk).trans (fr.1 k hk), rfl⟩ gp'
    · have hm : ∀ m, h < m → m ≤ 8 → ¬ lc_ ι C i m := fun m e1 e2 c => F ⟨m, e1, e2, c⟩
      refine lk_mx (fun q z => la_x0 (P := P) (C := C) hi hι hh (by omega) hm z) ?_
      refine sx_t rfl ?_
      refine sy_e 9 (lk_my (fun q z => ys_0 (Q := Q) (C := C) (ch := ch) hi hι hh hh8 hm (br_t ni_gt8 (br_t (by decide) z)) 9 1 rfl (by omega)) ?_)
      obtain ⟨l, hl9, hl⟩ := gc.2.2.1 i
      have hin : vp_in (nI i) 4 := vp_in_nI hi (by omega)
      have hc : (nI i).toNatClampNeg = i := nI_clamp (by omega)
      have o0 : (0 : Int32) = 0 := rfl
      have o1 : ¬ (1 : Int32) = 0 := by decide
      by_cases h8 : 8 ≤ l
      · have h8' : (8 : Int32) ≤ nI l := nI_le (a := 8) h8 (by omega)
        dsimp only [wpX_canExecute]
        simp only [hc, hl]
        repeat' (first
          | with_reducible refine sx_i (by first | with_reducible assumption | decide) ?_
          | with_reducible refine sy_i (by first | with_reducible assumption | decide) ?_
          | with_reducible refine sx_n ?_
          | with_reducible refine sy_n ?_
          | with_reducible refine sx_t (by first | with_reducible assumption | exact trivial) ?_
          | with_reducible refine sx_f (by with_reducible assumption) ?_
          | with_reducible refine sy_t (by first | with_reducible assumption | exact trivial) ?_
          | with_reducible refine sy_f (by with_reducible assumption) ?_ | fail)
        exact lk_rv ⟨C, ch, gc, fr, p, ls, P, Q, rfl, rfl, gp⟩
      · have h8' : ¬ (8 : Int32) ≤ nI l := nI_ge (b := 8) (by omega) (by omega)
        have hin2 : vp_in (nI (i * 9 + (l + 1))) 36 := vp_in_nI (by omega) (by omega)
        have hc2 : (nI (i * 9 + (l + 1))).toNatClampNeg = i * 9 + (l + 1) := nI_clamp (by omega)
        have hin3 : vp_in (nI ((i * 9 + (l + 1)) * 4 + i)) 144 := vp_in_nI (by omega) (by omega)
        have hc3 : (nI ((i * 9 + (l + 1)) * 4 + i)).toNatClampNeg = (i * 9 + (l + 1)) * 4 + i := nI_clamp (by omega)
        dsimp only [wpX_canExecute, wpX_executeNext, wpX_logCell, wpX_voteCell, wpX_isCheckpoint]
        simp only [forall_eq, hc, hl, nI_1, ix_9, ix_4, Nat.add_assoc, hc2, hc3, pk_us]
        by_cases z : C 10 (i * 9 + (l + 1)) = -1
        · (repeat' (first | with_reducible refine sx_i (by first | with_reducible assumption | decide) ?_ | with_reducible refine sy_i (by first | with_reducible assumption | decide) ?_ | with_reducible refine sx_n ?_ | with_reducible refine sy_n ?_ | with_reducible refine sx_t (by first | with_reducible assumption | exact trivial) ?_ | with_reducible refine sx_f (by with_reducible assumption) ?_ | with_reducible refine sy_t (by first | with_reducible assumption | exact trivial) ?_ | with_reducible refine sy_f (by with_reducible assumption) ?_ | fail))
          exact lk_rv ⟨C, ch, gc, fr, p, ls, P, Q, rfl, rfl, gp⟩
        · by_cases c : nI (l + 1) - nI (l + 1) / nI ι * nI ι = 0
          · (repeat' (first | with_reducible refine sx_i (by first | with_reducible assumption | decide) ?_ | with_reducible refine sy_i (by first | with_reducible assumption | decide) ?_ | with_reducible refine sx_n ?_ | with_reducible refine sy_n ?_ | with_reducible refine sx_t (by first | with_reducible assumption | exact trivial) ?_ | with_reducible refine sx_f (by with_reducible assumption) ?_ | with_reducible refine sy_t (by first | with_reducible assumption | exact trivial) ?_ | with_reducible refine sy_f (by with_reducible assumption) ?_ | fail))
            refine lk_bv (mc_lk (C := cw_ (cw_ (cw_ (cw_ (cw_ C 11 (i * 9 + (l + 1)) (C 10 (i * 9 + (l + 1)))) 4 i (nI (l + 1))) 5 i (C 5 i * 10 + C 10 (i * 9 + (l + 1)))) 12 (i * 9 + (l + 1)) (C 5 i * 10 + C 10 (i * 9 + (l + 1)))) 15 ((i * 9 + (l + 1)) * 4 + i) (C 5 i * 10 + C 10 (i * 9 + (l + 1)))) (ch := ch) hK' hi (fun j e1 e2 e3 => mk_4 hi e1 e2 e3 ⟨l + 1, by omega, by omega, rfl⟩) gp) ?_
            rintro u v ⟨p', ls', P', Q', rfl, rfl, gp'⟩
            dsimp only
            refine ih (r + 1) (cw_ (cw_ (cw_ (cw_ (cw_ C 11 (i * 9 + (l + 1)) (C 10 (i * 9 + (l + 1)))) 4 i (nI (l + 1))) 5 i (C 5 i * 10 + C 10 (i * 9 + (l + 1)))) 12 (i * 9 + (l + 1)) (C 5 i * 10 + C 10 (i * 9 + (l + 1)))) 15 ((i * 9 + (l + 1)) * 4 + i) (C 5 i * 10 + C 10 (i * 9 + (l + 1)))) p' ls' P' Q' (by omega) ?_ ⟨fun k hk => ?_, rfl⟩ gp'
            · obtain ⟨h0, h2, h4, h7, h8, h16, h22, hd, hv⟩ := gc
              exact ⟨h0, h2, ga_u h4 ⟨l + 1, by omega, rfl⟩, h7, h8, h16, h22, hd, hv⟩
            · rw [cw_n (by omega), cw_n (by omega), cw_n (by omega), cw_n (by omega), cw_n (by omega)]
              exact fr.1 k hk
          · (repeat' (first | with_reducible refine sx_i (by first | with_reducible assumption | decide) ?_ | with_reducible refine sy_i (by first | with_reducible assumption | decide) ?_ | with_reducible refine sx_n ?_ | with_reducible refine sy_n ?_ | with_reducible refine sx_t (by first | with_reducible assumption | exact trivial) ?_ | with_reducible refine sx_f (by with_reducible assumption) ?_ | with_reducible refine sy_t (by first | with_reducible assumption | exact trivial) ?_ | with_reducible refine sy_f (by with_reducible assumption) ?_ | fail))
            refine ih (r + 1) (cw_ (cw_ (cw_ C 11 (i * 9 + (l + 1)) (C 10 (i * 9 + (l + 1)))) 4 i (nI (l + 1))) 5 i (C 5 i * 10 + C 10 (i * 9 + (l + 1)))) p ls P Q (by omega) ?_ ⟨fun k hk => ?_, rfl⟩ gp
            · obtain ⟨h0, h2, h4, h7, h8, h16, h22, hd, hv⟩ := gc
              exact ⟨h0, h2, ga_u h4 ⟨l + 1, by omega, rfl⟩, h7, h8, h16, h22, hd, hv⟩
            · rw [cw_n (by omega), cw_n (by omega), cw_n (by omega)]
              exact fr.1 k hk
theorem se_lk (hK : kk_ φ ι ω κ) (hi : i < 4) {C : Nat → Nat → Int32} {p : Nat} {ls : Int32} {P Q : Nat → Nat → Int32} (gc : gc_ φ C) (gp : gp_ φ κ p P Q) : lk_ (ev_ (tt_ φ ι ω κ (fr_ C ch))) (fun q => wpX_settle q (xs_ φ ι ω κ p ls P C) (nI i)) (fun q => wpY_settle q (ys_ φ ι ω κ p ls Q C ch) (nI i)) :=
  lk_mono (fun _ h => Exists.intro 33 h) (fun _ h => Exists.intro 33 h) (se_loop hK hi 32 0 C p ls P Q rfl gc ⟨fun _ _ => rfl, rfl⟩ gp)
end
end
section
/-! progress -/
def rv_ (a : Nat → Int32) (i n : Nat) : Nat → Int32 := fun j => a ((i * 9 + n) * 4 + j)
def cp_ (g : Nat → Int32) (s pr : Int32) : Nat → Nat
  | 0 => 0
  | k + 1 => if ¬ nI k = pr ∧ g k = s then cp_ g s pr k + 1 else cp_ g s pr k
theorem cp_t {g : Nat → Int32} {s pr : Int32} {k : Nat} (h0 : ¬ nI k = pr) (h : g k = s) : cp_ g s pr (k + 1) = cp_ g s pr k + 1 := if_pos ⟨h0, h⟩
theorem cp_f {g : Nat → Int32} {s pr : Int32} {k : Nat} (h : nI k = pr ∨ ¬ g k = s) : cp_ g s pr (k + 1) = cp_ g s pr k := if_neg (fun z => by
  rcases h with h | h
  · exact z.1 h
  · exact h z.2)
theorem cp_le (g : Nat → Int32) (s pr : Int32) : ∀ k, cp_ g s pr k ≤ k := by
  intro k
  induction k with
  | zero => exact Nat.le_refl 0
  | succ k ih =>
    by_cases h : ¬ nI k = pr ∧ g k = s
    · rw [cp_t h.1 h.2]; omega
    · have : cp_ g s pr (k + 1) = cp_ g s pr k := if_neg h
      omega
section
variable {φ ι ω κ p i n : Nat} {ls : Int32} {P Q C : Nat → Nat → Int32} {ch : Nat → Int32}
theorem cp_xl (hi : i < 4) (hn : n ≤ 8) {s pr : Int32} {post : Int32 → Prop} (h : post (nI (cp_ (rv_ (C 13) i n) s pr 4))) : ∀ d m, m + d = 4 → wX_countPrepares_30 post (nI i) (nI n) s pr (nI φ) (nI ι) (nI ω) (nI κ) (nI p) ls (P 0) (P 1) (P 2) (P 3) (P 4) (P 5) (C 0) (C 1) (C 2) (C 3) (C 4) (C 5) (C 6) (C 7) (C 8) (C 9) (C 10) (C 11) (C 12) (C 13) (C 14) (C 15) (C 16) (C 17) (C 18) (C 19) (C 20) (C 21) (C 22) (C 23) (d + 1) (nI (cp_ (rv_ (C 13) i n) s pr m)) (nI m) := by
  intro d
  induction d with
  | zero =>
    intro m hm
    obtain rfl : m = 4 := by omega
    exact br_t ni_ge4 h
  | succ d ih =>
    intro m hm
    have h4 := ni_lit4 (j := m) (by omega)
    have hin : vp_in (nI ((i * 9 + n) * 4 + m)) 144 := vp_in_nI (by omega) (by omega)
    have hc : (nI ((i * 9 + n) * 4 + m)).toNatClampNeg = (i * 9 + n) * 4 + m := nI_clamp (by omega)
    have k := ih (m + 1) (by omega)
    by_cases e0 : nI m = pr
    · rw [cp_f (Or.inl e0)] at k
      exact br_f h4 (br_t e0 (nm_r (nI_1 m) k))
    · by_cases e : rv_ (C 13) i n m = s
      · have e' : C 13 (nI ((i * 9 + n) * 4 + m)).toNatClampNeg = s := by rw [hc]; exact e
        rw [cp_t e0 e] at k
        exact br_f h4 (br_f e0 (cl_v ⟨hin, br_t e' (nm_r (nI_1 _) (nm_r (nI_1 m) k))⟩))
      · have e' : ¬ C 13 (nI ((i * 9 + n) * 4 + m)).toNatClampNeg = s := by rw [hc]; exact e
        rw [cp_f (Or.inr e)] at k
        exact br_f h4 (br_f e0 (cl_v ⟨hin, br_f e' (nm_r (nI_1 m) k)⟩))
theorem cp_x (hi : i < 4) (hn : n ≤ 8) {post : Int32 → Prop} {x : Int32} (hx : C 0 i = x) (h : post (nI (cp_ (rv_ (C 13) i n) (C 7 (i * 9 + n)) (x - x / 4 * 4) 4))) : wpX_countPrepares post (xs_ φ ι ω κ p ls P C) (nI i) (nI n) := by
  have hin : vp_in (nI (i * 9 + n)) 36 := vp_in_nI (by omega) (by omega)
  have hin4 : vp_in (nI i) 4 := vp_in_nI (by omega) (by omega)
  have hc : C 7 (nI (i * 9 + n)).toNatClampNeg = C 7 (i * 9 + n) := by rw [nI_clamp (by omega)]
  have hc4 : (nI i).toNatClampNeg = i := nI_clamp (by omega)
  unfold wpX_countPrepares
  dsimp only
  rw [hc4, hx]
  exact cl_l ⟨hin, nm_r hc ⟨hin4, cl_p ⟨5, cp_xl hi hn h 4 0 rfl⟩⟩⟩
theorem cp_yl (hi : i < 4) (hn : n ≤ 8) {x4 : Int32} {post : SY → Prop} (k : wY_progress_42 post (nI i) (nI n) (nI (i * 9 + n)) x4 (nI φ) (nI ι) (nI ω) (nI κ) (nI p) ls (Q 0) (Q 1) (Q 2) (Q 3) (Q 4) (Q 5) (C 0) (C 1) (C 2) (C 3) (C 4) (C 5) (C 6) (C 7) (C 8) (C 9) (C 10) (C 11) (C 12) (C 13) (C 14) (C 15) (C 16) (C 17) (C 18) (C 19) (C 20) (C 21) (C 22) (C 23) ch 1 (nI (cp_ (rv_ (C 13) i n) (C 7 (i * 9 + n)) (x4 - x4 / 4 * 4) 4)) (nI 4)) : ∀ d m, m + d = 4 → wY_progress_42 post (nI i) (nI n) (nI (i * 9 + n)) x4 (nI φ) (nI ι) (nI ω) (nI κ) (nI p) ls (Q 0) (Q 1) (Q 2) (Q 3) (Q 4) (Q 5) (C 0) (C 1) (C 2) (C 3) (C 4) (C 5) (C 6) (C 7) (C 8) (C 9) (C 10) (C 11) (C 12) (C 13) (C 14) (C 15) (C 16) (C 17) (C 18) (C 19) (C 20) (C 21) (C 22) (C 23) ch (d + 1) (nI (cp_ (rv_ (C 13) i n) (C 7 (i * 9 + n)) (x4 - x4 / 4 * 4) m)) (nI m) := by
  intro d
  induction d with
  | zero =>
    intro m hm
    obtain rfl : m = 4 := by omega
    exact k
  | succ d ih =>
    intro m hm
    have h4 := ni_lit4 (j := m) (by omega)
    have hin : vp_in (nI (i * 9 + n) * 4 + nI m) 144 := by rw [ix_4]; exact vp_in_nI (by omega) (by omega)
    have hin36 : vp_in (nI (i * 9 + n)) 36 := vp_in_nI (by omega) (by omega)
    have hc : (nI (i * 9 + n) * 4 + nI m).toNatClampNeg = (i * 9 + n) * 4 + m := by rw [ix_4]; exact nI_clamp (by omega)
    have hc36 : (nI (i * 9 + n)).toNatClampNeg = i * 9 + n := nI_clamp (by omega)
    have k := ih (m + 1) (by omega)
    by_cases e0 : nI m = x4 - x4 / 4 * 4
    · rw [cp_f (Or.inl e0)] at k
      exact br_f h4 ⟨by decide, br_t e0 (nm_r (nI_1 m) k)⟩
    · by_cases e : rv_ (C 13) i n m = C 7 (i * 9 + n)
      · have e' : C 13 (nI (i * 9 + n) * 4 + nI m).toNatClampNeg = C 7 (nI (i * 9 + n)).toNatClampNeg := by rw [hc, hc36]; exact e
        rw [cp_t e0 e] at k
        exact br_f h4 ⟨by decide, br_f e0 ⟨hin, hin36, br_t e' (nm_r (nI_1 _) (nm_r (nI_1 m) k))⟩⟩
      · have e' : ¬ C 13 (nI (i * 9 + n) * 4 + nI m).toNatClampNeg = C 7 (nI (i * 9 + n)).toNatClampNeg := by rw [hc, hc36]; exact e
        rw [cp_f (Or.inr e)] at k
        exact br_f h4 ⟨by decide, br_f e0 ⟨hin, hin36, br_f e' (nm_r (nI_1 m) k)⟩⟩
theorem cc_xl (hi : i < 4) (hn : n ≤ 8) {s : Int32} {post : Int32 → Prop} (h : post (nI (cn_ (rv_ (C 14) i n) s 4))) : ∀ d m, m + d = 4 → wX_countCommits_18 post (nI i) (nI n) s (nI φ) (nI ι) (nI ω) (nI κ) (nI p) ls (P 0) (P 1) (P 2) (P 3) (P 4) (P 5) (C 0) (C 1) (C 2) (C 3) (C 4) (C 5) (C 6) (C 7) (C 8) (C 9) (C 10) (C 11) (C 12) (C 13) (C 14) (C 15) (C 16) (C 17) (C 18) (C 19) (C 20) (C 21) (C 22) (C 23) (d + 1) (nI (cn_ (rv_ (C 14) i n) s m)) (nI m) := by
  intro d
  induction d with
  | zero =>
    intro m hm
    obtain rfl : m = 4 := by omega
    exact br_t ni_ge4 h
  | succ d ih =>
    intro m hm
    have h4 := ni_lit4 (j := m) (by omega)
    have hin : vp_in (nI ((i * 9 + n) * 4 + m)) 144 := vp_in_nI (by omega) (by omega)
    have hc : (nI ((i * 9 + n) * 4 + m)).toNatClampNeg = (i * 9 + n) * 4 + m := nI_clamp (by omega)
    have k := ih (m + 1) (by omega)
    by_cases e : rv_ (C 14) i n m = s
    · have e' : C 14 (nI ((i * 9 + n) * 4 + m)).toNatClampNeg = s := by rw [hc]; exact e
      rw [cn_t e] at k
      exact br_f h4 (cl_v ⟨hin, br_t e' (nm_r (nI_1 _) (nm_r (nI_1 m) k))⟩)
    · have e' : ¬ C 14 (nI ((i * 9 + n) * 4 + m)).toNatClampNeg = s := by rw [hc]; exact e
      rw [cn_f e] at k
      exact br_f h4 (cl_v ⟨hin, br_f e' (nm_r (nI_1 m) k)⟩)
theorem cc_x (hi : i < 4) (hn : n ≤ 8) {post : Int32 → Prop} (h : post (nI (cn_ (rv_ (C 14) i n) (C 9 (i * 9 + n)) 4))) : wpX_countCommits post (xs_ φ ι ω κ p ls P C) (nI i) (nI n) := by
  have hin : vp_in (nI (i * 9 + n)) 36 := vp_in_nI (by omega) (by omega)
  have hc : C 9 (nI (i * 9 + n)).toNatClampNeg = C 9 (i * 9 + n) := by rw [nI_clamp (by omega)]
  unfold wpX_countCommits
  dsimp only
  exact cl_l ⟨hin, nm_r hc ⟨5, cc_xl hi hn h 4 0 rfl⟩⟩
theorem cc_yl (hi : i < 4) (hn : n ≤ 8) {post : SY → Prop} (k : wY_progress_170 post (nI i) (nI (i * 9 + n)) (nI φ) (nI ι) (nI ω) (nI κ) (nI p) ls (Q 0) (Q 1) (Q 2) (Q 3) (Q 4) (Q 5) (C 0) (C 1) (C 2) (C 3) (C 4) (C 5) (C 6) (C 7) (C 8) (C 9) (C 10) (C 11) (C 12) (C 13) (C 14) (C 15) (C 16) (C 17) (C 18) (C 19) (C 20) (C 21) (C 22) (C 23) ch 1 (nI (cn_ (rv_ (C 14) i n) (C 9 (i * 9 + n)) 4)) (nI 4)) : ∀ d m, m + d = 4 → wY_progress_170 post (nI i) (nI (i * 9 + n)) (nI φ) (nI ι) (nI ω) (nI κ) (nI p) ls (Q 0) (Q 1) (Q 2) (Q 3) (Q 4) (Q 5) (C 0) (C 1) (C 2) (C 3) (C 4) (C 5) (C 6) (C 7) (C 8) (C 9) (C 10) (C 11) (C 12) (C 13) (C 14) (C 15) (C 16) (C 17) (C 18) (C 19) (C 20) (C 21) (C 22) (C 23) ch (d + 1) (nI (cn_ (rv_ (C 14) i n) (C 9 (i * 9 + n)) m)) (nI m) := by
  intro d
  induction d with
  | zero =>
    intro m hm
    obtain rfl : m = 4 := by omega
    exact k
  | succ d ih =>
    intro m hm
    have h4 := ni_lit4 (j := m) (by omega)
    have hin : vp_in (nI (i * 9 + n) * 4 + nI m) 144 := by rw [ix_4]; exact vp_in_nI (by omega) (by omega)
    have hin36 : vp_in (nI (i * 9 + n)) 36 := vp_in_nI (by omega) (by omega)
    have hc : (nI (i * 9 + n) * 4 + nI m).toNatClampNeg = (i * 9 + n) * 4 + m := by rw [ix_4]; exact nI_clamp (by omega)
    have hc36 : (nI (i * 9 + n)).toNatClampNeg = i * 9 + n := nI_clamp (by omega)
    have k := ih (m + 1) (by omega)
    by_cases e : rv_ (C 14) i n m = C 9 (i * 9 + n)
    · have e' : C 14 (nI (i * 9 + n) * 4 + nI m).toNatClampNeg = C 9 (nI (i * 9 + n)).toNatClampNeg := by rw [hc, hc36]; exact e
      rw [cn_t e] at k
      exact br_f h4 ⟨hin, hin36, br_t e' (nm_r (nI_1 _) (nm_r (nI_1 m) k))⟩
    · have e' : ¬ C 14 (nI (i * 9 + n) * 4 + nI m).toNatClampNeg = C 9 (nI (i * 9 + n)).toNatClampNeg := by rw [hc, hc36]; exact e
      rw [cn_f e] at k
      exact br_f h4 ⟨hin, hin36, br_f e' (nm_r (nI_1 m) k)⟩
end
section
variable {φ ι ω κ i n v : Nat} {ch : Nat → Int32} {C : Nat → Nat → Int32} {p : Nat} {ls : Int32} {P Q : Nat → Nat → Int32}
theorem pr_3 (hK : kk_ φ ι ω κ) (hi : i < 4) (gc : gc_ φ C) (gp : gp_ φ κ p P Q) : lk_ (ev_ (t0_ φ ι ω κ)) (fun q => wX_progress_154 q (nI i) (nI φ) (nI ι) (nI ω) (nI κ) (nI p) ls (P 0) (P 1) (P 2) (P 3) (P 4) (P 5) (C 0) (C 1) (C 2) (C 3) (C 4) (C 5) (C 6) (C 7) (C 8) (C 9) (C 10) (C 11) (C 12) (C 13) (C 14) (C 15) (C 16) (C 17) (C 18) (C 19) (C 20) (C 21) (C 22) (C 23)) (fun q => wY_progress_223 q (nI i) (nI φ) (nI ι) (nI ω) (nI κ) (nI p) ls (Q 0) (Q 1) (Q 2) (Q 3) (Q 4) (Q 5) (C 0) (C 1) (C 2) (C 3) (C 4) (C 5) (C 6) (C 7) (C 8) (C 9) (C 10) (C 11) (C 12) (C 13) (C 14) (C 15) (C 16) (C 17) (C 18) (C 19) (C 20) (C 21) (C 22) (C 23) ch) := by
  unfold wX_progress_154 wY_progress_223
  refine lk_bv (se_lk (ch := ch) (ls := ls) hK hi gc gp) ?_
  rintro u v ⟨C', ch', gc', fr', p', ls', P', Q', rfl, rfl, gp'⟩
  dsimp only
  exact lk_rv ⟨C', ch', gc', trivial, p', ls', P', Q', rfl, rfl, gp'⟩
theorem pr_2 (hK : kk_ φ ι ω κ) (hi : i < 4) (hn : n ≤ 8) (hv : C 0 i = nI v) (gc : gc_ φ C) (gp : gp_ φ κ p P Q) : lk_ (ev_ (t0_ φ ι ω κ)) (fun q => wX_progress_103 q (nI i) (nI n) (nI (i * 9 + n)) (nI φ) (nI ι) (nI ω) (nI κ) (nI p) ls (P 0) (P 1) (P 2) (P 3) (P 4) (P 5) (C 0) (C 1) (C 2) (C 3) (C 4) (C 5) (C 6) (C 7) (C 8) (C 9) (C 10) (C 11) (C 12) (C 13) (C 14) (C 15) (C 16) (C 17) (C 18) (C 19) (C 20) (C 21) (C 22) (C 23)) (fun q => wY_progress_143 q (nI i) (nI (i * 9 + n)) (nI v) (nI φ) (nI ι) (nI ω) (nI κ) (nI p) ls (Q 0) (Q 1) (Q 2) (Q 3) (Q 4) (Q 5) (C 0) (C 1) (C 2) (C 3) (C 4) (C 5) (C 6) (C 7) (C 8) (C 9) (C 10) (C 11) (C 12) (C 13) (C 14) (C 15) (C 16) (C 17) (C 18) (C 19) (C 20) (C 21) (C 22) (C 23) ch) := by
  have hin : vp_in (nI i) 4 := vp_in_nI hi (by omega)
  have hc : (nI i).toNatClampNeg = i := nI_clamp (by omega)
  have hin2 : vp_in (nI (i * 9 + n)) 36 := vp_in_nI (by omega) (by omega)
  have hc2 : (nI (i * 9 + n)).toNatClampNeg = i * 9 + n := nI_clamp (by omega)
  unfold wX_progress_103 wY_progress_143
  simp only [hc, hc2, hv]
  by_cases c1 : C 8 (i * 9 + n) = nI v
  · by_cases c2 : C 10 (i * 9 + n) = -1
    · (repeat' (first | with_reducible refine sx_i (by first | with_reducible assumption | decide) ?_ | with_reducible refine sy_i (by first | with_reducible assumption | decide) ?_ | with_reducible refine sx_n ?_ | with_reducible refine sy_n ?_ | with_reducible refine sx_t (by first | with_reducible assumption | exact trivial) ?_ | with_reducible refine sx_f (by with_reducible assumption) ?_ | with_reducible refine sy_t (by first | with_reducible assumption | exact trivial) ?_ | with_reducible refine sy_f (by with_reducible assumption) ?_ | fail))
      have hl := cn_le (rv_ (C 14) i n) (C 9 (i * 9 + n)) 4
      refine sy_e 5 (lk_mono (fun q z => cc_x (P := P) (C := C) hi hn z) (fun q z => cc_yl (Q := Q) (C := C) (ch := ch) hi hn (br_t ni_ge4 z) 4 0 rfl) ?_)
      by_cases c3 : cn_ (rv_ (C 14) i n) (C 9 (i * 9 + n)) 4 < 3
      · exact sx_t (ni_lt3 c3) (sy_t (ni_lt3 c3) (pr_3 hK hi gc gp))
      · have c3' := ni_ge3 (c := cn_ (rv_ (C 14) i n) (C 9 (i * 9 + n)) 4) (by omega) (by omega)
        refine sx_f c3' (sy_f c3' ?_)
        simp only [hc2]
        repeat' (first
          | with_reducible refine sx_i (by first | with_reducible assumption | decide) ?_
          | with_reducible refine sy_i (by first | with_reducible assumption | decide) ?_
          | with_reducible refine sx_n ?_
          | with_reducible refine sy_n ?_
          | with_reducible refine sx_t (by first | with_reducible assumption | exact trivial) ?_
          | with_reducible refine sx_f (by with_reducible assumption) ?_
          | with_reducible refine sy_t (by first | with_reducible assumption | exact trivial) ?_
          | with_reducible refine sy_f (by with_reducible assumption) ?_ | fail)
        exact pr_3 (C := cw_ C 10 (i * 9 + n) (C 9 (i * 9 + n))) hK hi gc gp
    · (repeat' (first | with_reducible refine sx_i (by first | with_reducible assumption | decide) ?_ | with_reducible refine sy_i (by first | with_reducible assumption | decide) ?_ | with_reducible refine sx_n ?_ | with_reducible refine sy_n ?_ | with_reducible refine sx_t (by first | with_reducible assumption | exact trivial) ?_ | with_reducible refine sx_f (by with_reducible assumption) ?_ | with_reducible refine sy_t (by first | with_reducible assumption | exact trivial) ?_ | with_reducible refine sy_f (by with_reducible assumption) ?_ | fail))
      exact pr_3 hK hi gc gp
  · (repeat' (first | with_reducible refine sx_i (by first | with_reducible assumption | decide) ?_ | with_reducible refine sy_i (by first | with_reducible assumption | decide) ?_ | with_reducible refine sx_n ?_ | with_reducible refine sy_n ?_ | with_reducible refine sx_t (by first | with_reducible assumption | exact trivial) ?_ | with_reducible refine sx_f (by with_reducible assumption) ?_ | with_reducible refine sy_t (by first | with_reducible assumption | exact trivial) ?_ | with_reducible refine sy_f (by with_reducible assumption) ?_ | fail))
    exact pr_3 hK hi gc gp
theorem pr_lk (hK : kk_ φ ι ω κ) (hi : i < 4) (hn1 : 1 ≤ n) (hn : n ≤ 8) (gc : gc_ φ C) (gp : gp_ φ κ p P Q) : lk_ (ev_ (t0_ φ ι ω κ)) (fun q => wpX_progress q (xs_ φ ι ω κ p ls P C) (nI i) (nI n)) (fun q => wpY_progress q (ys_ φ ι ω κ p ls Q C ch) (nI i) (nI n)) := by
  have hin : vp_in (nI i) 4 := vp_in_nI hi (by omega)
  have hc : (nI i).toNatClampNeg = i := nI_clamp (by omega)
  have hin2 : vp_in (nI (i * 9 + n)) 36 := vp_in_nI (by omega) (by omega)
  have hc2 : (nI (i * 9 + n)).toNatClampNeg = i * 9 + n := nI_clamp (by omega)
  have hin3 : vp_in (nI ((i * 9 + n) * 4 + i)) 144 := vp_in_nI (by omega) (by omega)
  have hc3 : (nI ((i * 9 + n) * 4 + i)).toNatClampNeg = (i * 9 + n) * 4 + i := nI_clamp (by omega)
  obtain ⟨v, hv8, hv⟩ := gc.1 i
  dsimp only [wpX_progress, wpY_progress, wpX_logCell, wpX_voteCell]
  simp only [forall_eq, ix_9, ix_4, hc, hc2, hv]
  by_cases a1 : C 7 (i * 9 + n) = -1
  · (repeat' (first | with_reducible refine sx_i (by first | with_reducible assumption | decide) ?_ | with_reducible refine sy_i (by first | with_reducible assumption | decide) ?_ | with_reducible refine sx_n ?_ | with_reducible refine sy_n ?_ | with_reducible refine sx_t (by first | with_reducible assumption | exact trivial) ?_ | with_reducible refine sx_f (by with_reducible assumption) ?_ | with_reducible refine sy_t (by first | with_reducible assumption | exact trivial) ?_ | with_reducible refine sy_f (by with_reducible assumption) ?_ | fail))
    exact pr_2 hK hi hn hv gc gp
  · by_cases a2 : C 8 (i * 9 + n) = nI v
    · (repeat' (first | with_reducible refine sx_i (by first | with_reducible assumption | decide) ?_ | with_reducible refine sy_i (by first | with_reducible assumption | decide) ?_ | with_reducible refine sx_n ?_ | with_reducible refine sy_n ?_ | with_reducible refine sx_t (by first | with_reducible assumption | exact trivial) ?_ | with_reducible refine sx_f (by with_reducible assumption) ?_ | with_reducible refine sy_t (by first | with_reducible assumption | exact trivial) ?_ | with_reducible refine sy_f (by with_reducible assumption) ?_ | fail))
      exact pr_2 hK hi hn hv gc gp
    · (repeat' (first | with_reducible refine sx_i (by first | with_reducible assumption | decide) ?_ | with_reducible refine sy_i (by first | with_reducible assumption | decide) ?_ | with_reducible refine sx_n ?_ | with_reducible refine sy_n ?_ | with_reducible refine sx_t (by first | with_reducible assumption | exact trivial) ?_ | with_reducible refine sx_f (by with_reducible assumption) ?_ | with_reducible refine sy_t (by first | with_reducible assumption | exact trivial) ?_ | with_reducible refine sy_f (by with_reducible assumption) ?_ | fail))
      have hl := cp_le (rv_ (C 13) i n) (C 7 (i * 9 + n)) (nI v - nI v / 4 * 4) 4
      refine sy_e 5 (lk_mono (fun q z => cp_x (P := P) (C := C) hi hn hv z) (fun q z => cp_yl (Q := Q) (C := C) (ch := ch) hi hn (br_t ni_ge4 z) 4 0 rfl) ?_)
      by_cases c3 : cp_ (rv_ (C 13) i n) (C 7 (i * 9 + n)) (nI v - nI v / 4 * 4) 4 < 2
      · exact sx_t (ni_lt2 c3) (sy_t (ni_lt2 c3) (pr_2 hK hi hn hv gc gp))
      · have c3' := ni_ge2 (c := cp_ (rv_ (C 13) i n) (C 7 (i * 9 + n)) (nI v - nI v / 4 * 4) 4) (by omega) (by omega)
        refine sx_f c3' (sy_f c3' ?_)
        simp only [forall_eq, ix_9, ix_4, hc, hc2, hc3, hv]
        have hd : bd_ 10 (C 7 (i * 9 + n)) := (gc.2.2.2.1 (i * 9 + n)).resolve_left a1
        repeat' (first
          | with_reducible refine sx_i (by first | with_reducible assumption | decide) ?_
          | with_reducible refine sy_i (by first | with_reducible assumption | decide) ?_
          | with_reducible refine sx_n ?_
          | with_reducible refine sy_n ?_
          | with_reducible refine sx_t (by first | with_reducible assumption | exact trivial) ?_
          | with_reducible refine sx_f (by with_reducible assumption) ?_
          | with_reducible refine sy_t (by first | with_reducible assumption | exact trivial) ?_
          | with_reducible refine sy_f (by with_reducible assumption) ?_ | fail)
        refine lk_bv (mc_lk (C := cw_ (cw_ (cw_ C 8 (i * 9 + n) (nI v)) 9 (i * 9 + n) (C 7 (i * 9 + n))) 14 ((i * 9 + n) * 4 + i) (C 7 (i * 9 + n))) (ch := ch) hK hi (fun j e1 e2 e3 => mk_1 hi e1 e2 e3 (Or.inr (Or.inr rfl)) ⟨v, hv8, rfl⟩ ⟨n, hn1, hn, rfl⟩ hd) gp) ?_
        rintro u w ⟨p', ls', P', Q', rfl, rfl, gp'⟩
        dsimp only
        refine pr_2 hK hi hn hv ?_ gp'
        obtain ⟨h0, h2, h4, h7, h8, h16, h22, hdd, hvv⟩ := gc
        exact ⟨h0, h2, h4, h7, ge_u h8 (Or.inr ⟨⟨v, hv8, rfl⟩, hd⟩), h16, h22, hdd, hvv⟩
end
end
section
/-! a view change begins -/
def en_ (a : Nat → Int32) (q lo hi : Nat) (f : Nat → Int32) : Nat → Int32 := fun c => if q * 9 + lo ≤ c ∧ c < q * 9 + hi then f (c - q * 9) else a c
theorem en_0 (a : Nat → Int32) (q lo : Nat) (f : Nat → Int32) : en_ a q lo lo f = a := by
  funext c
  exact if_neg (by omega)
theorem en_s {a : Nat → Int32} {q lo n : Nat} {f : Nat → Int32} (h : lo ≤ n) : upd (en_ a q lo n f) (q * 9 + n) (f n) = en_ a q lo (n + 1) f := by
  funext c
  by_cases e : c = q * 9 + n
  · subst e
    rw [pk_us]
    unfold en_
    rw [if_pos (by omega), show q * 9 + n - q * 9 = n from by omega]
  · rw [pk_un e]
    unfold en_
    by_cases h1 : q * 9 + lo ≤ c ∧ c < q * 9 + n
    · rw [if_pos h1, if_pos (by omega)]
    · rw [if_neg h1, if_neg (by omega)]
theorem en_k {a : Nat → Int32} {q lo n : Nat} {f : Nat → Int32} (h : a (q * 9 + n) = f n) : en_ a q lo (n + 1) f = en_ a q lo n f := by
  funext c
  unfold en_
  by_cases h1 : q * 9 + lo ≤ c ∧ c < q * 9 + n
  · rw [if_pos h1, if_pos (by omega)]
  · rw [if_neg h1]
    by_cases h2 : q * 9 + lo ≤ c ∧ c < q * 9 + (n + 1)
    · rw [if_pos h2, show c - q * 9 = n from by omega, ← h, show c = q * 9 + n from by omega]
    · rw [if_neg h2]
theorem en_2 {a : Nat → Int32} {q h : Nat} {f : Nat → Int32} (hh : h ≤ 8) : en_ (en_ a q 1 9 (fun _ => -1)) q (h + 1) 9 f = en_ a q 1 9 (fun n => if n ≤ h then -1 else f n) := by
  funext c
  unfold en_
  by_cases h1 : q * 9 + 1 ≤ c ∧ c < q * 9 + 9
  · by_cases h2 : q * 9 + (h + 1) ≤ c ∧ c < q * 9 + 9
    · rw [if_pos h2, if_pos h1]
      exact (if_neg (by omega)).symm
    · rw [if_neg h2, if_pos h1, if_pos h1]
      exact (if_pos (by omega)).symm
  · rw [if_neg (by omega), if_neg h1, if_neg h1]
theorem en_in {a : Nat → Int32} {q lo hi n : Nat} {f : Nat → Int32} (h1 : lo ≤ n) (h2 : n < hi) : en_ a q lo hi f (q * 9 + n) = f n := by
  unfold en_
  rw [if_pos (by omega), show q * 9 + n - q * 9 = n from by omega]
theorem en_out {a : Nat → Int32} {q d n : Nat} {f : Nat → Int32} (h : d ≠ q) (h1 : 1 ≤ n) (h2 : n ≤ 8) : en_ a q 1 9 f (d * 9 + n) = a (d * 9 + n) := if_neg (by omega)
theorem ge_en {a b f g : Nat → Int32} {q : Nat} (h : ge_ a b) (hf : ∀ n, 1 ≤ n → n ≤ 8 → f n = -1 ∨ (bd_ 8 (f n) ∧ bd_ 10 (g n))) : ge_ (en_ a q 1 9 f) (en_ b q 1 9 g) := by
  intro c
  unfold en_
  by_cases h1 : q * 9 + 1 ≤ c ∧ c < q * 9 + 9
  · rw [if_pos h1, if_pos h1]
    exact hf (c - q * 9) (by omega) (by omega)
  · rw [if_neg h1, if_neg h1]
    exact h c
theorem uu_ (a : Nat → Int32) (k : Nat) (x y : Int32) : upd (upd a k x) k y = upd a k y := by
  funext c
  by_cases e : c = k
  · rw [e, pk_us, pk_us]
  · rw [pk_un e, pk_un e, pk_un e]
def ew_ (C : Nat → Nat → Int32) (q lo n : Nat) (f g : Nat → Int32) : Nat → Nat → Int32 := cs_ (cs_ C 22 (en_ (C 22) q lo n f)) 23 (en_ (C 23) q lo n g)
theorem cs_s (C : Nat → Nat → Int32) (k : Nat) : cs_ C k (C k) = C := by
  funext j
  by_cases e : j = k
  · rw [e]; exact if_pos rfl
  · exact if_neg e
theorem ew_0 (C : Nat → Nat → Int32) (q lo : Nat) (f g : Nat → Int32) : ew_ C q lo lo f g = C := by
  unfold ew_
  rw [en_0, en_0, cs_s]
  exact cs_s C 23
theorem ew_k {C : Nat → Nat → Int32} {q lo n : Nat} {f g : Nat → Int32} (h1 : C 22 (q * 9 + n) = f n) (h2 : C 23 (q * 9 + n) = g n) : ew_ C q lo (n + 1) f g = ew_ C q lo n f g := by
  unfold ew_
  rw [en_k h1, en_k h2]
theorem ew_ew (B : Nat → Nat → Int32) (e1 e2 E1 E2 : Nat → Int32) : cs_ (cs_ (cs_ (cs_ B 22 e1) 23 e2) 22 E1) 23 E2 = cs_ (cs_ B 22 E1) 23 E2 := by
  funext j
  by_cases h3 : j = 23 <;> by_cases h2 : j = 22 <;> simp [cs_, h3, h2]
section
variable {φ ι ω κ p q i w : Nat} {ls : Int32} {P Q C : Nat → Nat → Int32} {ch : Nat → Int32}
theorem op_xl (hq : q < 32) {post : SX → Prop} (h : post (xs_ φ ι ω κ p ls P (ew_ C q 1 9 (fun _ => -1) (fun _ => -1)))) : ∀ d n, n + d = 9 → 1 ≤ n → wX_openDocument_32 post (nI q) (nI φ) (nI ι) (nI ω) (nI κ) (nI p) ls (d + 1) (nI n) (P 0) (P 1) (P 2) (P 3) (P 4) (P 5) ((ew_ C q 1 n (fun _ => -1) (fun _ => -1)) 0) ((ew_ C q 1 n (fun _ => -1) (fun _ => -1)) 1) ((ew_ C q 1 n (fun _ => -1) (fun _ => -1)) 2) ((ew_ C q 1 n (fun _ => -1) (fun _ => -1)) 3) ((ew_ C q 1 n (fun _ => -1) (fun _ => -1)) 4) ((ew_ C q 1 n (fun _ => -1) (fun _ => -1)) 5) ((ew_ C q 1 n (fun _ => -1) (fun _ => -1)) 6) ((ew_ C q 1 n (fun _ => -1) (fun _ => -1)) 7) ((ew_ C q 1 n (fun _ => -1) (fun _ => -1)) 8) ((ew_ C q 1 n (fun _ => -1) (fun _ => -1)) 9) ((ew_ C q 1 n (fun _ => -1) (fun _ => -1)) 10) ((ew_ C q 1 n (fun _ => -1) (fun _ => -1)) 11) ((ew_ C q 1 n (fun _ => -1) (fun _ => -1)) 12) ((ew_ C q 1 n (fun _ => -1) (fun _ => -1)) 13) ((ew_ C q 1 n (fun _ => -1) (fun _ => -1)) 14) ((ew_ C q 1 n (fun _ => -1) (fun _ => -1)) 15) ((ew_ C q 1 n (fun _ => -1) (fun _ => -1)) 16) ((ew_ C q 1 n (fun _ => -1) (fun _ => -1)) 17) ((ew_ C q 1 n (fun _ => -1) (fun _ => -1)) 18) ((ew_ C q 1 n (fun _ => -1) (fun _ => -1)) 19) ((ew_ C q 1 n (fun _ => -1) (fun _ => -1)) 20) ((ew_ C q 1 n (fun _ => -1) (fun _ => -1)) 21) ((ew_ C q 1 n (fun _ => -1) (fun _ => -1)) 22) ((ew_ C q 1 n (fun _ => -1) (fun _ => -1)) 23) := by
  intro d
  induction d with
  | zero =>
    intro n hn h1
    obtain rfl : n = 9 := by omega
    exact br_t ni_gt8 h
  | succ d ih =>
    intro n hn h1
    have h8 := ni_lit8 (j := n) (by omega)
    have hin : vp_in (nI q * 9 + nI n) 288 := by rw [ix_9]; exact vp_in_nI (by omega) (by omega)
    have hc : (nI q * 9 + nI n).toNatClampNeg = q * 9 + n := by rw [ix_9]; exact nI_clamp (by omega)
    have e22 : upd (en_ (C 22) q 1 n (fun _ => -1)) (nI q * 9 + nI n).toNatClampNeg (-1) = en_ (C 22) q 1 (n + 1) (fun _ => -1) := by rw [hc]; exact en_s h1
    have e23 : upd (en_ (C 23) q 1 n (fun _ => -1)) (nI q * 9 + nI n).toNatClampNeg (-1) = en_ (C 23) q 1 (n + 1) (fun _ => -1) := by rw [hc]; exact en_s h1
    exact br_f h8 ⟨hin, nm_r e22 ⟨hin, nm_r e23 (nm_r (nI_1 n) (ih (n + 1) (by omega) (by omega)))⟩⟩
def ob_ (C : Nat → Nat → Int32) (q : Nat) (st v h s : Int32) : Nat → Nat → Int32 := cw_ (cw_ (cw_ (cw_ C 18 q st) 19 q v) 20 q h) 21 q s
theorem op_x (hq : q < 32) {post : SX → Prop} {v h s : Int32} (hp : post (xs_ φ ι ω κ p ls P (ew_ (ob_ C q 1 v h s) q 1 9 (fun _ => -1) (fun _ => -1)))) : wpX_openDocument post (xs_ φ ι ω κ p ls P C) (nI q) v h s := by
  have hin : vp_in (nI q) 32 := vp_in_nI hq (by omega)
  have hc : (nI q).toNatClampNeg = q := nI_clamp (by omega)
  have e : ∀ a x, upd a (nI q).toNatClampNeg x = upd a q x := fun a x => by rw [hc]
  unfold wpX_openDocument
  dsimp only
  have k := op_xl hq hp 8 1 rfl (Nat.le_refl 1)
  rw [ew_0] at k
  exact ⟨hin, nm_r (e _ _) ⟨hin, nm_r (e _ _) ⟨hin, nm_r (e _ _) ⟨hin, nm_r (e _ _) ⟨9, k⟩⟩⟩⟩⟩
def fe_ (C : Nat → Nat → Int32) (i : Nat) : Nat → Int32 := fun n => C 8 (i * 9 + n)
def fg_ (C : Nat → Nat → Int32) (i : Nat) : Nat → Int32 := fun n => if C 8 (i * 9 + n) = -1 then -1 else C 9 (i * 9 + n)
theorem sv_xl (hq : q < 32) (hi : i < 4) {C2 : Nat → Nat → Int32} {h : Nat} (hh : h ≤ 8) (H1 : ∀ n, 1 ≤ n → n ≤ 8 → C 22 (q * 9 + n) = -1) (H2 : ∀ n, 1 ≤ n → n ≤ 8 → C 23 (q * 9 + n) = -1) (hE : ew_ C q (h + 1) 9 (fe_ C i) (fg_ C i) = C2) {post : SX → Prop} (k : wX_startViewChange_49 post (nI i) (nI w) (nI q) (nI φ) (nI ι) (nI ω) (nI κ) (nI p) ls 1 (nI 9) (P 0) (P 1) (P 2) (P 3) (P 4) (P 5) (C2 0) (C2 1) (C2 2) (C2 3) (C2 4) (C2 5) (C2 6) (C2 7) (C2 8) (C2 9) (C2 10) (C2 11) (C2 12) (C2 13) (C2 14) (C2 15) (C2 16) (C2 17) (C2 18) (C2 19) (C2 20) (C2 21) (C2 22) (C2 23)) : ∀ N m, m + N = 10 → h + 1 ≤ m → m ≤ 9 → wX_startViewChange_49 post (nI i) (nI w) (nI q) (nI φ) (nI ι) (nI ω) (nI κ) (nI p) ls N (nI m) (P 0) (P 1) (P 2) (P 3) (P 4) (P 5) ((ew_ C q (h + 1) m (fe_ C i) (fg_ C i)) 0) ((ew_ C q (h + 1) m (fe_ C i) (fg_ C i)) 1) ((ew_ C q (h + 1) m (fe_ C i) (fg_ C i)) 2) ((ew_ C q (h + 1) m (fe_ C i) (fg_ C i)) 3) ((ew_ C q (h + 1) m (fe_ C i) (fg_ C i)) 4) ((ew_ C q (h + 1) m (fe_ C i) (fg_ C i)) 5) ((ew_ C q (h + 1) m (fe_ C i) (fg_ C i)) 6) ((ew_ C q (h + 1) m (fe_ C i) (fg_ C i)) 7) ((ew_ C q (h + 1) m (fe_ C i) (fg_ C i)) 8) ((ew_ C q (h + 1) m (fe_ C i) (fg_ C i)) 9) ((ew_ C q (h + 1) m (fe_ C i) (fg_ C i)) 10) ((ew_ C q (h + 1) m (fe_ C i) (fg_ C i)) 11) ((ew_ C q (h + 1) m (fe_ C i) (fg_ C i)) 12) ((ew_ C q (h + 1) m (fe_ C i) (fg_ C i)) 13) ((ew_ C q (h + 1) m (fe_ C i) (fg_ C i)) 14) ((ew_ C q (h + 1) m (fe_ C i) (fg_ C i)) 15) ((ew_ C q (h + 1) m (fe_ C i) (fg_ C i)) 16) ((ew_ C q (h + 1) m (fe_ C i) (fg_ C i)) 17) ((ew_ C q (h + 1) m (fe_ C i) (fg_ C i)) 18) ((ew_ C q (h + 1) m (fe_ C i) (fg_ C i)) 19) ((ew_ C q (h + 1) m (fe_ C i) (fg_ C i)) 20) ((ew_ C q (h + 1) m (fe_ C i) (fg_ C i)) 21) ((ew_ C q (h + 1) m (fe_ C i) (fg_ C i)) 22) ((ew_ C q (h + 1) m (fe_ C i) (fg_ C i)) 23) := by
  intro N
  induction N with
  | zero => intro m e1 e2 e3; omega
  | succ N ih =>
    intro m e1 e2 e3
    by_cases e : m = 9
    · subst e
      obtain rfl : N = 0 := by omega
      rw [hE]
      exact k
    · have h8 := ni_lit8 (j := m) (by omega)
      have hin : vp_in (nI (i * 9 + m)) 36 := vp_in_nI (by omega) (by omega)
      have hc : (nI (i * 9 + m)).toNatClampNeg = i * 9 + m := nI_clamp (by omega)
      have hinq : vp_in (nI q * 9 + nI m) 288 := by rw [ix_9]; exact vp_in_nI (by omega) (by omega)
      have hcq : (nI q * 9 + nI m).toNatClampNeg = q * 9 + m := by rw [ix_9]; exact nI_clamp (by omega)
      have kk := ih (m + 1) (by omega) (by omega) (by omega)
      by_cases z : C 8 (i * 9 + m) = -1
      · have z' : C 8 (nI (i * 9 + m)).toNatClampNeg = -1 := by rw [hc]; exact z
        rw [ew_k ((H1 m (by omega) (by omega)).trans z.symm) ((H2 m (by omega) (by omega)).trans (if_pos z).symm)] at kk
        exact br_f h8 (cl_l ⟨hin, br_t z' (nm_r (nI_1 m) kk)⟩)
      · have z' : ¬ C 8 (nI (i * 9 + m)).toNatClampNeg = -1 := by rw [hc]; exact z
        have e22 : upd (en_ (C 22) q (h + 1) m (fe_ C i)) (nI q * 9 + nI m).toNatClampNeg (C 8 (nI (i * 9 + m)).toNatClampNeg) = en_ (C 22) q (h + 1) (m + 1) (fe_ C i) := by rw [hcq, hc]; exact en_s e2
        have e23 : upd (en_ (C 23) q (h + 1) m (fg_ C i)) (nI q * 9 + nI m).toNatClampNeg (C 9 (nI (i * 9 + m)).toNatClampNeg) = en_ (C 23) q (h + 1) (m + 1) (fg_ C i) := by
          rw [hcq, hc, show C 9 (i * 9 + m) = fg_ C i m from (if_neg z).symm]
          exact en_s e2
        exact br_f h8 (cl_l ⟨hin, br_f z' ⟨hin, hinq, nm_r e22 ⟨hin, hinq, nm_r e23 (nm_r (nI_1 m) kk)⟩⟩⟩)
theorem sv_yl (hq : q < 32) (hi : i < 4) {h : Nat} (hh : h ≤ 8) (hst : C 2 i = nI h) {post : SY → Prop} (k : wY_start_62 post (nI i) (nI w) (nI q) (nI φ) (nI ι) (nI ω) (nI κ) (nI p) ls 1 (nI 9) (Q 0) (Q 1) (Q 2) (Q 3) (Q 4) (Q 5) ((ew_ C q 1 9 (fun n => if n ≤ h then -1 else fe_ C i n) (fun n => if n ≤ h then -1 else fg_ C i n)) 0) ((ew_ C q 1 9 (fun n => if n ≤ h then -1 else fe_ C i n) (fun n => if n ≤ h then -1 else fg_ C i n)) 1) ((ew_ C q 1 9 (fun n => if n ≤ h then -1 else fe_ C i n) (fun n => if n ≤ h then -1 else fg_ C i n)) 2) ((ew_ C q 1 9 (fun n => if n ≤ h then -1 else fe_ C i n) (fun n => if n ≤ h then -1 else fg_ C i n)) 3) ((ew_ C q 1 9 (fun n => if n ≤ h then -1 else fe_ C i n) (fun n => if n ≤ h then -1 else fg_ C i n)) 4) ((ew_ C q 1 9 (fun n => if n ≤ h then -1 else fe_ C i n) (fun n => if n ≤ h then -1 else fg_ C i n)) 5) ((ew_ C q 1 9 (fun n => if n ≤ h then -1 else fe_ C i n) (fun n => if n ≤ h then -1 else fg_ C i n)) 6) ((ew_ C q 1 9 (fun n => if n ≤ h then -1 else fe_ C i n) (fun n => if n ≤ h then -1 else fg_ C i n)) 7) ((ew_ C q 1 9 (fun n => if n ≤ h then -1 else fe_ C i n) (fun n => if n ≤ h then -1 else fg_ C i n)) 8) ((ew_ C q 1 9 (fun n => if n ≤ h then -1 else fe_ C i n) (fun n => if n ≤ h then -1 else fg_ C i n)) 9) ((ew_ C q 1 9 (fun n => if n ≤ h then -1 else fe_ C i n) (fun n => if n ≤ h then -1 else fg_ C i n)) 10) ((ew_ C q 1 9 (fun n => if n ≤ h then -1 else fe_ C i n) (fun n => if n ≤ h then -1 else fg_ C i n)) 11) ((ew_ C q 1 9 (fun n => if n ≤ h then -1 else fe_ C i n) (fun n => if n ≤ h then -1 else fg_ C i n)) 12) ((ew_ C q 1 9 (fun n => if n ≤ h then -1 else fe_ C i n) (fun n => if n ≤ h then -1 else fg_ C i n)) 13) ((ew_ C q 1 9 (fun n => if n ≤ h then -1 else fe_ C i n) (fun n => if n ≤ h then -1 else fg_ C i n)) 14) ((ew_ C q 1 9 (fun n => if n ≤ h then -1 else fe_ C i n) (fun n => if n ≤ h then -1 else fg_ C i n)) 15) ((ew_ C q 1 9 (fun n => if n ≤ h then -1 else fe_ C i n) (fun n => if n ≤ h then -1 else fg_ C i n)) 16) ((ew_ C q 1 9 (fun n => if n ≤ h then -1 else fe_ C i n) (fun n => if n ≤ h then -1 else fg_ C i n)) 17) ((ew_ C q 1 9 (fun n => if n ≤ h then -1 else fe_ C i n) (fun n => if n ≤ h then -1 else fg_ C i n)) 18) ((ew_ C q 1 9 (fun n => if n ≤ h then -1 else fe_ C i n) (fun n => if n ≤ h then -1 else fg_ C i n)) 19) ((ew_ C q 1 9 (fun n => if n ≤ h then -1 else fe_ C i n) (fun n => if n ≤ h then -1 else fg_ C i n)) 20) ((ew_ C q 1 9 (fun n => if n ≤ h then -1 else fe_ C i n) (fun n => if n ≤ h then -1 else fg_ C i n)) 21) ((ew_ C q 1 9 (fun n => if n ≤ h then -1 else fe_ C i n) (fun n => if n ≤ h then -1 else fg_ C i n)) 22) ((ew_ C q 1 9 (fun n => if n ≤ h then -1 else fe_ C i n) (fun n => if n ≤ h then -1 else fg_ C i n)) 23) ch) : ∀ N m, m + N = 10 → 1 ≤ m → m ≤ 9 → wY_start_62 post (nI i) (nI w) (nI q) (nI φ) (nI ι) (nI ω) (nI κ) (nI p) ls N (nI m) (Q 0) (Q 1) (Q 2) (Q 3) (Q 4) (Q 5) ((ew_ C q 1 m (fun n => if n ≤ h then -1 else fe_ C i n) (fun n => if n ≤ h then -1 else fg_ C i n)) 0) ((ew_ C q 1 m (fun n => if n ≤ h then -1 else fe_ C i n) (fun n => if n ≤ h then -1 else fg_ C i n)) 1) ((ew_ C q 1 m (fun n => if n ≤ h then -1 else fe_ C i n) (fun n => if n ≤ h then -1 else fg_ C i n)) 2) ((ew_ C q 1 m (fun n => if n ≤ h then -1 else fe_ C i n) (fun n => if n ≤ h then -1 else fg_ C i n)) 3) ((ew_ C q 1 m (fun n => if n ≤ h then -1 else fe_ C i n) (fun n => if n ≤ h then -1 else fg_ C i n)) 4) ((ew_ C q 1 m (fun n => if n ≤ h then -1 else fe_ C i n) (fun n => if n ≤ h then -1 else fg_ C i n)) 5) ((ew_ C q 1 m (fun n => if n ≤ h then -1 else fe_ C i n) (fun n => if n ≤ h then -1 else fg_ C i n)) 6) ((ew_ C q 1 m (fun n => if n ≤ h then -1 else fe_ C i n) (fun n => if n ≤ h then -1 else fg_ C i n)) 7) ((ew_ C q 1 m (fun n => if n ≤ h then -1 else fe_ C i n) (fun n => if n ≤ h then -1 else fg_ C i n)) 8) ((ew_ C q 1 m (fun n => if n ≤ h then -1 else fe_ C i n) (fun n => if n ≤ h then -1 else fg_ C i n)) 9) ((ew_ C q 1 m (fun n => if n ≤ h then -1 else fe_ C i n) (fun n => if n ≤ h then -1 else fg_ C i n)) 10) ((ew_ C q 1 m (fun n => if n ≤ h then -1 else fe_ C i n) (fun n => if n ≤ h then -1 else fg_ C i n)) 11) ((ew_ C q 1 m (fun n => if n ≤ h then -1 else fe_ C i n) (fun n => if n ≤ h then -1 else fg_ C i n)) 12) ((ew_ C q 1 m (fun n => if n ≤ h then -1 else fe_ C i n) (fun n => if n ≤ h then -1 else fg_ C i n)) 13) ((ew_ C q 1 m (fun n => if n ≤ h then -1 else fe_ C i n) (fun n => if n ≤ h then -1 else fg_ C i n)) 14) ((ew_ C q 1 m (fun n => if n ≤ h then -1 else fe_ C i n) (fun n => if n ≤ h then -1 else fg_ C i n)) 15) ((ew_ C q 1 m (fun n => if n ≤ h then -1 else fe_ C i n) (fun n => if n ≤ h then -1 else fg_ C i n)) 16) ((ew_ C q 1 m (fun n => if n ≤ h then -1 else fe_ C i n) (fun n => if n ≤ h then -1 else fg_ C i n)) 17) ((ew_ C q 1 m (fun n => if n ≤ h then -1 else fe_ C i n) (fun n => if n ≤ h then -1 else fg_ C i n)) 18) ((ew_ C q 1 m (fun n => if n ≤ h then -1 else fe_ C i n) (fun n => if n ≤ h then -1 else fg_ C i n)) 19) ((ew_ C q 1 m (fun n => if n ≤ h then -1 else fe_ C i n) (fun n => if n ≤ h then -1 else fg_ C i n)) 20) ((ew_ C q 1 m (fun n => if n ≤ h then -1 else fe_ C i n) (fun n => if n ≤ h then -1 else fg_ C i n)) 21) ((ew_ C q 1 m (fun n => if n ≤ h then -1 else fe_ C i n) (fun n => if n ≤ h then -1 else fg_ C i n)) 22) ((ew_ C q 1 m (fun n => if n ≤ h then -1 else fe_ C i n) (fun n => if n ≤ h then -1 else fg_ C i n)) 23) ch := by
  intro N
  induction N with
  | zero => intro m e1 e2 e3; omega
  | succ N ih =>
    intro m e1 e2 e3
    by_cases e : m = 9
    · subst e
      obtain rfl : N = 0 := by omega
      exact k
    · have h8 := ni_lit8 (j := m) (by omega)
      have hin4 : vp_in (nI i) 4 := vp_in_nI hi (by omega)
      have hin : vp_in (nI (i * 9 + m)) 36 := vp_in_nI (by omega) (by omega)
      have hc : (nI (i * 9 + m)).toNatClampNeg = i * 9 + m := nI_clamp (by omega)
      have hinq : vp_in (nI q * 9 + nI m) 288 := by rw [ix_9]; exact vp_in_nI (by omega) (by omega)
      have hcq : (nI q * 9 + nI m).toNatClampNeg = q * 9 + m := by rw [ix_9]; exact nI_clamp (by omega)
      have hst' : C 2 (nI i).toNatClampNeg = nI h := by rw [nI_clamp (by omega), hst]
      have kk := ih (m + 1) (by omega) (by omega) (by omega)
      have s22 : ∀ x, x = (if m ≤ h then -1 else fe_ C i m) → upd (en_ (C 22) q 1 m (fun n => if n ≤ h then -1 else fe_ C i n)) (nI q * 9 + nI m).toNatClampNeg x = en_ (C 22) q 1 (m + 1) (fun n => if n ≤ h then -1 else fe_ C i n) := fun x hx => by
        rw [hcq, hx]
        exact en_s (f := fun n => if n ≤ h then -1 else fe_ C i n) e2
      have s23 : ∀ x, x = (if m ≤ h then -1 else fg_ C i m) → upd (en_ (C 23) q 1 m (fun n => if n ≤ h then -1 else fg_ C i n)) (nI q * 9 + nI m).toNatClampNeg x = en_ (C 23) q 1 (m + 1) (fun n => if n ≤ h then -1 else fg_ C i n) := fun x hx => by
        rw [hcq, hx]
        exact en_s (f := fun n => if n ≤ h then -1 else fg_ C i n) e2
      by_cases hm : m ≤ h
      · have hm' : nI m ≤ C 2 (nI i).toNatClampNeg := by rw [hst']; exact nI_le hm (by omega)
        refine br_f h8 (nm_r (ix_9 i m) ⟨hin4, br_t hm' ?_⟩)
        exact And.intro hinq (nm_r (s22 (-1) (if_pos hm).symm) ⟨hinq, nm_r (s23 (-1) (if_pos hm).symm) (nm_r (nI_1 m) kk)⟩)
      · have hm' : ¬ nI m ≤ C 2 (nI i).toNatClampNeg := by rw [hst']; exact nI_ge (by omega) (by omega)
        by_cases z : C 8 (i * 9 + m) = -1
        · have z' : C 8 (nI (i * 9 + m)).toNatClampNeg = -1 := by rw [hc]; exact z
          refine br_f h8 (nm_r (ix_9 i m) ⟨hin4, br_f hm' ⟨hin, br_t z' ?_⟩⟩)
          exact And.intro hinq (nm_r (s22 (-1) (by rw [if_neg hm]; exact z.symm)) ⟨hinq, nm_r (s23 (-1) (by rw [if_neg hm]; exact (if_pos z).symm)) (nm_r (nI_1 m) kk)⟩)
        · have z' : ¬ C 8 (nI (i * 9 + m)).toNatClampNeg = -1 := by rw [hc]; exact z
          exact br_f h8 (nm_r (ix_9 i m) ⟨hin4, br_f hm' ⟨hin, br_f z' ⟨hin, hinq, nm_r (s22 _ (by rw [if_neg hm, hc]; rfl)) ⟨hin, hinq, nm_r (s23 _ (by rw [if_neg hm, hc]; exact (if_neg z).symm)) (nm_r (nI_1 m) kk)⟩⟩⟩⟩)
end
/-- the arrays behind a started view change -/
def sf_ (C : Nat → Nat → Int32) (i w h : Nat) : Nat → Nat → Int32 :=
  cw_ (cs_ (cs_ (ob_ (cw_ (cw_ C 0 i (nI w)) 1 i (vp_nar .boolean 0)) (i * 8 + w) 2 (nI w) (C 2 i) (C 3 i)) 22 (en_ (C 22) (i * 8 + w) 1 9 (fun n => if n ≤ h then -1 else fe_ C i n))) 23 (en_ (C 23) (i * 8 + w) 1 9 (fun n => if n ≤ h then -1 else fg_ C i n))) 16 (i * 4 + i) (nI w)
theorem gc_sf {φ i w h : Nat} {C : Nat → Nat → Int32} (gc : gc_ φ C) (hi : i < 4) (h1 : 1 ≤ w) (h7 : w < 8) : gc_ φ (sf_ C i w h) := by
  obtain ⟨g0, g2, g4, g7, g8, g16, g22, gd, gv⟩ := gc
  refine ⟨ga_u g0 ⟨w, h7, rfl⟩, g2, g4, g7, g8, gn_u g16 (Or.inr ⟨w, h7, rfl⟩), ge_en (q := i * 8 + w) (f := fun n => if n ≤ h then -1 else fe_ C i n) (g := fun n => if n ≤ h then -1 else fg_ C i n) g22 (fun n n1 n8 => ?_), ?_, ?_⟩
  · by_cases hn : n ≤ h
    · exact Or.inl (if_pos hn)
    · rw [if_neg hn, if_neg hn]
      rcases g8 (i * 9 + n) with z | ⟨z1, z2⟩
      · exact Or.inl z
      · refine Or.inr ⟨z1, ?_⟩
        by_cases z : C 8 (i * 9 + n) = -1
        · obtain ⟨v, hv, e⟩ := z1
          exact absurd (e.symm.trans z) (ni_m1 (by omega))
        · rw [show fg_ C i n = C 9 (i * 9 + n) from if_neg z]
          exact z2
  · intro d hd
    by_cases e : d = i * 8 + w
    · refine Or.inr ?_
      subst e
      refine ⟨?_, ?_, ?_⟩
      · show ¬ upd (C 18) (i * 8 + w) 2 (i * 8 + w) = 0
        rw [pk_us]
        decide
      · show bw_ (upd (C 19) (i * 8 + w) (nI w) (i * 8 + w))
        rw [pk_us]
        exact ⟨w, h1, h7, rfl⟩
      · show bd_ 9 (upd (C 20) (i * 8 + w) (C 2 i) (i * 8 + w))
        rw [pk_us]
        exact g2 i
    · have k := gd d hd
      have a18 : sf_ C i w h 18 d = C 18 d := pk_un e
      have a19 : sf_ C i w h 19 d = C 19 d := pk_un e
      have a20 : sf_ C i w h 20 d = C 20 d := pk_un e
      have a21 : sf_ C i w h 21 d = C 21 d := pk_un e
      have a22 : ∀ n, 1 ≤ n → n ≤ 8 → sf_ C i w h 22 (d * 9 + n) = C 22 (d * 9 + n) := fun n n1 n8 => en_out (a := C 22) (f := fun n => if n ≤ h then -1 else fe_ C i n) e n1 n8
      rw [a18, a19, a20, a21]
      rcases k with ⟨k1, k2, k3, k4, k5⟩ | k
      · exact Or.inl ⟨k1, k2, k3, k4, fun n n1 n8 => (a22 n n1 n8).trans (k5 n n1 n8)⟩
      · exact Or.inr k
  · intro j hj hjf ha
    by_cases e : j = i
    · subst e
      exact ⟨w, h1, h7, pk_us, pk_us, pk_us⟩
    · have ha' : C 1 j = 0 := (pk_un (f := C 1) e).symm.trans ha
      obtain ⟨w', b1, b2, b3, b4, b5⟩ := gv j hj hjf ha'
      exact ⟨w', b1, b2, (pk_un e).trans b3, (pk_un (by omega)).trans b4, (pk_un (by omega)).trans b5⟩
section
variable {φ ι ω κ p i w : Nat} {ls : Int32} {P Q C : Nat → Nat → Int32} {ch : Nat → Int32}
theorem sv_lk (hK : kk_ φ ι ω κ) (hi : i < 4) (h1 : 1 ≤ w) (h7 : w < 8) (gc : gc_ φ C) (gp : gp_ φ κ p P Q) : lk_ (ev_ (t0_ φ ι ω κ)) (fun q => wpX_startViewChange q (xs_ φ ι ω κ p ls P C) (nI i) (nI w)) (fun q => wpY_start q (ys_ φ ι ω κ p ls Q C ch) (nI i) (nI w)) := by
  have hin : vp_in (nI i) 4 := vp_in_nI hi (by omega)
  have hc : (nI i).toNatClampNeg = i := nI_clamp (by omega)
  have hq : i * 8 + w < 32 := by omega
  have hinq : vp_in (nI (i * 8 + w)) 32 := vp_in_nI hq (by omega)
  have hcq : (nI (i * 8 + w)).toNatClampNeg = i * 8 + w := nI_clamp (by omega)
  have hin16 : vp_in (nI (i * 4 + i)) 16 := vp_in_nI (by omega) (by omega)
  have hc16 : (nI (i * 4 + i)).toNatClampNeg = i * 4 + i := nI_clamp (by omega)
  obtain ⟨h, hh9, hst⟩ := gc.2.1 i
  dsimp only [wpX_startViewChange, wpY_start]
  simp only [forall_eq, ix_8, hc, hcq]
  repeat' (first
    | with_reducible refine sx_i (by first | with_reducible assumption | decide) ?_
    | with_reducible refine sy_i (by first | with_reducible assumption | decide) ?_
    | with_reducible refine sx_n ?_
    | with_reducible refine sy_n ?_
    | with_reducible refine sx_t (by first | with_reducible assumption | exact trivial) ?_
    | with_reducible refine sx_f (by with_reducible assumption) ?_
    | with_reducible refine sy_t (by first | with_reducible assumption | exact trivial) ?_
    | with_reducible refine sy_f (by with_reducible assumption) ?_ | fail)
  refine sy_e 9 ?_
  have hE : ew_ (ew_ (ob_ (cw_ (cw_ C 0 i (nI w)) 1 i (vp_nar .boolean 0)) (i * 8 + w) 1 (nI w) (C 2 i) (C 3 i)) (i * 8 + w) 1 9 (fun _ => -1) (fun _ => -1)) (i * 8 + w) (h + 1) 9 (fe_ C i) (fg_ C i) = cs_ (cs_ (ob_ (cw_ (cw_ C 0 i (nI w)) 1 i (vp_nar .boolean 0)) (i * 8 + w) 1 (nI w) (C 2 i) (C 3 i)) 22 (en_ (C 22) (i * 8 + w) 1 9 (fun n => if n ≤ h then -1 else fe_ C i n))) 23 (en_ (C 23) (i * 8 + w) 1 9 (fun n => if n ≤ h then -1 else fg_ C i n)) := by
    refine (ew_ew _ _ _ _ _).trans ?_
    rw [← en_2 (a := C 22) (by omega), ← en_2 (a := C 23) (by omega)]
    rfl
  refine lk_mx (fun q z => op_x (P := P) (C := cw_ (cw_ C 0 i (nI w)) 1 i (vp_nar .boolean 0)) hq z) ?_
  dsimp only
  have e1 : ew_ (ob_ (cw_ (cw_ C 0 i (nI w)) 1 i (vp_nar .boolean 0)) (i * 8 + w) 1 (nI w) (C 2 i) (C 3 i)) (i * 8 + w) 1 9 (fun _ => -1) (fun _ => -1) 2 i + 1 = nI (h + 1) := by
    show C 2 i + 1 = _
    rw [hst, nI_1]
  refine sx_i hin (sx_e (9 - h) ?_)
  rw [e1]
  have kX := fun (q : SX → Prop) z => sv_xl (φ := φ) (ι := ι) (ω := ω) (κ := κ) (p := p) (ls := ls) (P := P) (w := w) hq hi (by omega) (fun n n1 n8 => en_in (a := C 22) (q := i * 8 + w) (lo := 1) (hi := 9) (f := fun _ => -1) n1 (by omega)) (fun n n1 n8 => en_in (a := C 23) (q := i * 8 + w) (lo := 1) (hi := 9) (f := fun _ => -1) n1 (by omega)) hE (post := q) z (9 - h) (h + 1) (by omega) (by omega) (by omega)
  rw [ew_0] at kX
  have kY := fun (q : SY → Prop) z => sv_yl (φ := φ) (ι := ι) (ω := ω) (κ := κ) (p := p) (ls := ls) (Q := Q) (w := w) (C := ob_ (cw_ (cw_ C 0 i (nI w)) 1 i (vp_nar .boolean 0)) (i * 8 + w) 2 (nI w) (C 2 i) (C 3 i)) (ch := ch) hq hi (h := h) (by omega) hst (post := q) z 9 1 rfl (by omega) (by omega)
  rw [ew_0] at kY
  refine lk_mono kX kY ?_
  refine lk_mono (fun q z => br_t ni_gt8 z) (fun q z => br_t ni_gt8 z) ?_
  simp only [ix_4]
  refine sx_i hinq (sx_r (e' := upd (C 18) (i * 8 + w) 2) ?_ (sx_i hin16 (sx_r (e' := upd (C 16) (i * 4 + i) (nI w)) ?_ ?_)))
  · rw [hcq]; exact uu_ (C 18) (i * 8 + w) 1 2
  · rw [hc16]; rfl
  refine sy_i hin16 (sy_r (e' := upd (C 16) (i * 4 + i) (nI w)) ?_ ?_)
  · rw [hc16]; rfl
  refine lk_bv (mc_lk (C := sf_ C i w h) (ch := ch) hK hi (fun j e1 e2 e3 => mk_5 hi e1 e2 e3 ⟨w, h7, rfl⟩) gp) ?_
  rintro u v ⟨p', ls', P', Q', rfl, rfl, gp'⟩
  dsimp only
  exact lk_rv ⟨sf_ C i w h, ch, gc_sf gc hi h1 h7, trivial, p', ls', P', Q', rfl, rfl, gp'⟩
end
end
section
/-! masks and listed documents -/
theorem hb_x : ∀ m, m < 16 → ∀ j, j < 4 → ((nI m &&& ((1 : Int32) <<< (nI j &&& 31))) = 0 ↔ m.testBit j = false) := by decide +kernel
theorem hb_y : ∀ m, m < 16 → ∀ j, j < 4 → (((nI m >>> (nI j &&& 31)) &&& 1) = 0 ↔ m.testBit j = false) := by decide +kernel
theorem or_m : ∀ m, m < 16 → ∀ j, j < 4 → (nI m ||| ((1 : Int32) <<< (nI j &&& 31)) = nI (m ||| (1 <<< j)) ∧ m ||| (1 <<< j) < 16) := by decide +kernel
theorem or_s : ∀ i, i < 4 → ((1 : Int32) <<< (nI i &&& 31) = nI (1 <<< i) ∧ 1 <<< i < 16) := by decide +kernel
theorem or_t : ∀ m, m < 16 → ∀ j, j < 4 → ∀ l, l < 4 → (m ||| (1 <<< j)).testBit l = (m.testBit l || decide (l = j)) := by decide +kernel
theorem or_u : ∀ i, i < 4 → ∀ l, l < 4 → (1 <<< i).testBit l = decide (l = i) := by decide +kernel
theorem or_1 : ∀ m, m < 16 → 1 ≤ m → (m.testBit 0 = true ∨ m.testBit 1 = true ∨ m.testBit 2 = true ∨ m.testBit 3 = true) := by decide +kernel
section
variable {m j : Nat} {post : Int32 → Prop}
theorem hx_0 {u : SX} (hm : m < 16) (hj : j < 4) (h : m.testBit j = false) (k : post 0) : wpX_hasBit post u (nI m) (nI j) := by
  obtain ⟨_, _, _, _, _, _, _, _, _, _, _, _, _, _, _, _, _, _, _, _, _, _, _, _, _, _, _, _, _, _, _, _, _, _, _, _⟩ := u
  exact br_t ((hb_x m hm j hj).mpr h) k
theorem hx_1 {u : SX} (hm : m < 16) (hj : j < 4) (h : m.testBit j = true) (k : post 1) : wpX_hasBit post u (nI m) (nI j) := by
  obtain ⟨_, _, _, _, _, _, _, _, _, _, _, _, _, _, _, _, _, _, _, _, _, _, _, _, _, _, _, _, _, _, _, _, _, _, _, _⟩ := u
  exact br_f (fun z => by rw [(hb_x m hm j hj).mp z] at h; exact absurd h (by decide)) k
theorem hy_0 {u : SY} (hm : m < 16) (hj : j < 4) (h : m.testBit j = false) (k : post 0) : wpY_inMask post u (nI m) (nI j) := by
  obtain ⟨_, _, _, _, _, _, _, _, _, _, _, _, _, _, _, _, _, _, _, _, _, _, _, _, _, _, _, _, _, _, _, _, _, _, _, _, _⟩ := u
  exact br_t ((hb_y m hm j hj).mpr h) k
theorem hy_1 {u : SY} (hm : m < 16) (hj : j < 4) (h : m.testBit j = true) (k : post 1) : wpY_inMask post u (nI m) (nI j) := by
  obtain ⟨_, _, _, _, _, _, _, _, _, _, _, _, _, _, _, _, _, _, _, _, _, _, _, _, _, _, _, _, _, _, _, _, _, _, _, _, _⟩ := u
  exact br_f (fun z => by rw [(hb_y m hm j hj).mp z] at h; exact absurd h (by decide)) k
end
def dn_ (φ w k j : Nat) : Nat := if j = φ then k else w
def dj_ (φ w k j : Nat) : Nat := j * 8 + dn_ φ w k j
theorem dn_lt {φ w k j : Nat} (hw : w < 8) (hk : k < 8) : dn_ φ w k j < 8 := by
  unfold dn_
  by_cases h : j = φ
  · rw [if_pos h]; exact hk
  · rw [if_neg h]; exact hw
theorem dj_lt {φ w k j : Nat} (hw : w < 8) (hk : k < 8) (hj : j < 4) : dj_ φ w k j < 32 := by
  have := dn_lt (φ := φ) (j := j) hw hk
  unfold dj_
  omega
section
variable {φ ι ω κ p w k j : Nat} {ls : Int32} {P Q C : Nat → Nat → Int32} {ch : Nat → Int32} {post : Int32 → Prop}
theorem ld_x (hf : φ < 4) (hj : j < 4) (h : post (nI (dj_ φ w k j))) : wpX_listedDocument post (xs_ φ ι ω κ p ls P C) (nI j) (nI w) (nI k) := by
  unfold dj_ dn_ at h
  by_cases e : j = φ
  · rw [if_pos e] at h
    refine br_t (congrArg nI e) ?_
    rw [ix_8]
    exact h
  · rw [if_neg e] at h
    refine br_f (fun z => e ((nI_eq (by omega) (by omega)).mp z)) ?_
    rw [ix_8]
    exact h
theorem ld_y (hf : φ < 4) (hj : j < 4) (h : post (nI (dn_ φ w k j))) : wpY_listed post (ys_ φ ι ω κ p ls Q C ch) (nI j) (nI w) (nI k) := by
  unfold dn_ at h
  by_cases e : j = φ
  · rw [if_pos e] at h
    exact br_t (congrArg nI e) h
  · rw [if_neg e] at h
    exact br_f (fun z => e ((nI_eq (by omega) (by omega)).mp z)) h
end
end
section
/-! the low document, the top entry, the choices: plain functions -/
def lb_ (C : Nat → Nat → Int32) (D : Nat → Nat) (m : Nat) : Nat → Nat × Int32 × Int32
  | 0 => (0, -1, 0)
  | j + 1 => if m.testBit j = true ∧ ¬ C 20 (D j) ≤ (lb_ C D m j).2.1 then (D j, C 20 (D j), C 21 (D j)) else lb_ C D m j
def ti_ (e : Nat → Int32) (t : Nat) : Nat → Nat
  | 0 => t
  | n + 1 => if ti_ e t n < n + 1 ∧ ¬ e (n + 1) = -1 then n + 1 else ti_ e t n
def et_ (C : Nat → Nat → Int32) (D : Nat → Nat) (j n : Nat) : Int32 := C 22 (D j * 9 + n)
def to_ (C : Nat → Nat → Int32) (D : Nat → Nat) (m low : Nat) : Nat → Nat
  | 0 => low
  | j + 1 => if m.testBit j = true then ti_ (et_ C D j) (to_ C D m low j) 8 else to_ C D m low j
def yi_ (C : Nat → Nat → Int32) (D : Nat → Nat) (m low n t : Nat) : Nat → Nat
  | 0 => t
  | j + 1 => if m.testBit j = true ∧ ¬ et_ C D j n = -1 ∧ low < n then n else yi_ C D m low n t j
def yo_ (C : Nat → Nat → Int32) (D : Nat → Nat) (m low : Nat) : Nat → Nat
  | 0 => low
  | n + 1 => yi_ C D m low (n + 1) (yo_ C D m low n) 4
def cf_ (C : Nat → Nat → Int32) (D : Nat → Nat) (m n : Nat) : Nat → Int32 × Int32
  | 0 => (-1, 0)
  | j + 1 => if m.testBit j = true ∧ ¬ C 22 (D j * 9 + n) ≤ (cf_ C D m n j).1 then (C 22 (D j * 9 + n), C 23 (D j * 9 + n)) else cf_ C D m n j
def cz_ (C : Nat → Nat → Int32) (D : Nat → Nat) (m : Nat) (ch : Nat → Int32) : Nat → (Nat → Int32)
  | 0 => ch
  | n + 1 => upd (cz_ C D m ch n) (n + 1) (cf_ C D m (n + 1) 4).2
section
variable {C : Nat → Nat → Int32} {D : Nat → Nat} {m low n : Nat} {ch : Nat → Int32}
theorem cz_at : ∀ k, 1 ≤ n → n ≤ k → cz_ C D m ch k n = (cf_ C D m n 4).2 := by
  intro k
  induction k with
  | zero => intro h1 h2; omega
  | succ k ih =>
    intro h1 h2
    show upd (cz_ C D m ch k) (k + 1) (cf_ C D m (k + 1) 4).2 n = _
    by_cases e : n = k + 1
    · rw [e, pk_us]
    · rw [pk_un e]
      exact ih h1 (by omega)
theorem cf_ok (ge : ge_ (C 22) (C 23)) : ∀ j, ((cf_ C D m n j).1 = -1 ∨ bd_ 8 (cf_ C D m n j).1) ∧ bd_ 10 (cf_ C D m n j).2 := by
  intro j
  induction j with
  | zero => exact ⟨Or.inl rfl, 0, by omega, rfl⟩
  | succ j ih =>
    by_cases h : m.testBit j = true ∧ ¬ C 22 (D j * 9 + n) ≤ (cf_ C D m n j).1
    · have e : cf_ C D m n (j + 1) = (C 22 (D j * 9 + n), C 23 (D j * 9 + n)) := if_pos h
      rw [e]
      rcases ge (D j * 9 + n) with z | z
      · exfalso
        apply h.2
        rw [z]
        rcases ih.1 with y | ⟨v, hv, y⟩
        · rw [y]; exact Int32.le_refl _
        · rw [y]; exact ni_lm1 (by omega)
      · exact ⟨Or.inr z.1, z.2⟩
    · have e : cf_ C D m n (j + 1) = cf_ C D m n j := if_neg h
      rw [e]
      exact ih
theorem cf_m1 (ge : ge_ (C 22) (C 23)) (j : Nat) : (-1 : Int32) ≤ (cf_ C D m n j).1 := by
  rcases (cf_ok (D := D) (m := m) (n := n) ge j).1 with y | ⟨v, hv, y⟩
  · rw [y]; exact Int32.le_refl _
  · rw [y]; exact ni_lm1 (by omega)
/-- the low document -/
theorem lb_ok (hD : ∀ j, j < 4 → D j < 32) (gd : ∀ d, d < 32 → C 20 d = -1 ∨ bd_ 9 (C 20 d)) : ∀ j, j ≤ 4 → (lb_ C D m j).1 < 32 ∧ ((lb_ C D m j).2.1 = -1 ∨ (bd_ 9 (lb_ C D m j).2.1 ∧ (lb_ C D m j).2.1 = C 20 (lb_ C D m j).1 ∧ (lb_ C D m j).2.2 = C 21 (lb_ C D m j).1)) ∧ ∀ l, l < j → m.testBit l = true → C 20 (D l) ≤ (lb_ C D m j).2.1 := by
  intro j
  induction j with
  | zero =>
    intro _
    exact ⟨by show 0 < 32; omega, Or.inl rfl, fun l hl => absurd hl (by omega)⟩
  | succ j ih =>
    intro hj
    obtain ⟨i1, i2, i3⟩ := ih (by omega)
    have m1 : (-1 : Int32) ≤ (lb_ C D m j).2.1 := by
      rcases i2 with y | ⟨⟨v, hv, y⟩, _⟩
      · rw [y]; exact Int32.le_refl _
      · rw [y]; exact ni_lm1 (by omega)
    by_cases h : m.testBit j = true ∧ ¬ C 20 (D j) ≤ (lb_ C D m j).2.1
    · have e : lb_ C D m (j + 1) = (D j, C 20 (D j), C 21 (D j)) := if_pos h
      rw [e]
      refine ⟨hD j (by omega), Or.inr ⟨?_, rfl, rfl⟩, fun l hl hb => ?_⟩
      · rcases gd (D j) (hD j (by omega)) with z | z
        · exact absurd (by rw [z]; exact m1) h.2
        · exact z
      · by_cases el : l = j
        · rw [el]; exact Int32.le_refl _
        · have k1 := i3 l (by omega) hb
          have k2 := h.2
          show C 20 (D l) ≤ C 20 (D j)
          rw [Int32.le_iff_toInt_le] at *
          omega
    · have e : lb_ C D m (j + 1) = lb_ C D m j := if_neg h
      rw [e]
      refine ⟨i1, i2, fun l hl hb => ?_⟩
      by_cases el : l = j
      · subst el
        by_cases h2 : C 20 (D l) ≤ (lb_ C D m l).2.1
        · exact h2
        · exact absurd ⟨hb, h2⟩ h
      · exact i3 l (by omega) hb
theorem lb_fin (hD : ∀ j, j < 4 → D j < 32) (gd : ∀ d, d < 32 → C 20 d = -1 ∨ bd_ 9 (C 20 d)) (hx : ∃ j, j < 4 ∧ m.testBit j = true ∧ bd_ 9 (C 20 (D j))) : ∃ b h, b < 32 ∧ h ≤ 8 ∧ lb_ C D m 4 = (b, nI h, C 21 b) ∧ C 20 b = nI h := by
  obtain ⟨i1, i2, i3⟩ := lb_ok (m := m) hD gd 4 (by omega)
  obtain ⟨j, hj, hb, v, hv, e⟩ := hx
  have k := i3 j hj hb
  rcases i2 with y | ⟨⟨h, hh, y⟩, y2, y3⟩
  · rw [y, e] at k
    exfalso
    rw [Int32.le_iff_toInt_le, nI_toInt (by omega), show (-1 : Int32).toInt = -1 from by decide] at k
    omega
  · refine ⟨(lb_ C D m 4).1, h, i1, by omega, ?_, y2.symm.trans y⟩
    rw [← y3, ← y]
/-- the top entry -/
def ts_ (C : Nat → Nat → Int32) (D : Nat → Nat) (m low t : Nat) : Prop :=
  low ≤ t ∧ (t = low ∨ (1 ≤ t ∧ t ≤ 8 ∧ ∃ j, j < 4 ∧ m.testBit j = true ∧ ¬ et_ C D j t = -1)) ∧ ∀ j, j < 4 → m.testBit j = true → ∀ n, 1 ≤ n → n ≤ 8 → ¬ et_ C D j n = -1 → n ≤ t
theorem ts_le {t t' : Nat} (h : ts_ C D m low t) (h' : ts_ C D m low t') : t ≤ t' := by
  obtain ⟨a1, a2, a3⟩ := h
  obtain ⟨b1, b2, b3⟩ := h'
  rcases a2 with e | ⟨c1, c2, j, hj, hb, he⟩
  · omega
  · exact b3 j hj hb t c1 c2 he
theorem ti_ok {e : Nat → Int32} {t : Nat} : ∀ n, t ≤ ti_ e t n ∧ (ti_ e t n = t ∨ (1 ≤ ti_ e t n ∧ ti_ e t n ≤ n ∧ ¬ e (ti_ e t n) = -1)) ∧ ∀ l, 1 ≤ l → l ≤ n → ¬ e l = -1 → l ≤ ti_ e t n := by
  intro n
  induction n with
  | zero => exact ⟨Nat.le_refl t, Or.inl rfl, fun l h1 h2 => absurd h2 (by omega)⟩
  | succ n ih =>
    obtain ⟨i1, i2, i3⟩ := ih
    by_cases h : ti_ e t n < n + 1 ∧ ¬ e (n + 1) = -1
    · have q : ti_ e t (n + 1) = n + 1 := if_pos h
      rw [q]
      exact ⟨by omega, Or.inr ⟨by omega, by omega, h.2⟩, fun l h1 h2 _ => h2⟩
    · have q : ti_ e t (n + 1) = ti_ e t n := if_neg h
      rw [q]
      refine ⟨i1, ?_, fun l h1 h2 he => ?_⟩
      · rcases i2 with y | ⟨y1, y2, y3⟩
        · exact Or.inl y
        · exact Or.inr ⟨y1, by omega, y3⟩
      · by_cases el : l = n + 1
        · subst el
          by_cases h3 : ti_ e t n < n + 1
          · exact absurd ⟨h3, he⟩ h
          · omega
        · exact i3 l h1 (by omega) he
theorem to_ok : ∀ j, j ≤ 4 → low ≤ to_ C D m low j ∧ (to_ C D m low j = low ∨ (1 ≤ to_ C D m low j ∧ to_ C D m low j ≤ 8 ∧ ∃ l, l < 4 ∧ m.testBit l = true ∧ ¬ et_ C D l (to_ C D m low j) = -1)) ∧ ∀ l, l < j → m.testBit l = true → ∀ n, 1 ≤ n → n ≤ 8 → ¬ et_ C D l n = -1 → n ≤ to_ C D m low j := by
  intro j
  induction j with
  | zero => intro _; exact ⟨Nat.le_refl low, Or.inl rfl, fun l hl => absurd hl (by omega)⟩
  | succ j ih =>
    intro hj
    obtain ⟨i1, i2, i3⟩ := ih (by omega)
    by_cases hb : m.testBit j = true
    · have q : to_ C D m low (j + 1) = ti_ (et_ C D j) (to_ C D m low j) 8 := if_pos hb
      rw [q]
      obtain ⟨c1, c2, c3⟩ := ti_ok (e := et_ C D j) (t := to_ C D m low j) 8
      refine ⟨by omega, ?_, fun l hl hb' n n1 n8 he => ?_⟩
      · rcases c2 with y | ⟨y1, y2, y3⟩
        · rw [y]; exact i2
        · exact Or.inr ⟨y1, y2, j, by omega, hb, y3⟩
      · by_cases el : l = j
        · subst el
          exact c3 n n1 n8 he
        · have := i3 l (by omega) hb' n n1 n8 he
          omega
    · have q : to_ C D m low (j + 1) = to_ C D m low j := if_neg hb
      rw [q]
      refine ⟨i1, i2, fun l hl hb' n n1 n8 he => ?_⟩
      by_cases el : l = j
      · subst el
        exact absurd hb' hb
      · exact i3 l (by omega) hb' n n1 n8 he
theorem to_ts : ts_ C D m low (to_ C D m low 4) := to_ok 4 (by omega)
theorem yi_ok {t : Nat} (hn1 : 1 ≤ n) (hn8 : n ≤ 8) (ht : t < n ∨ t = low) (hl : low ≤ t) : ∀ j, j ≤ 4 → (yi_ C D m low n t j = t ∨ (yi_ C D m low n t j = n ∧ low < n ∧ ∃ l, l < 4 ∧ m.testBit l = true ∧ ¬ et_ C D l n = -1)) ∧ ∀ l, l < j → m.testBit l = true → ¬ et_ C D l n = -1 → n ≤ yi_ C D m low n t j := by
  intro j
  induction j with
  | zero => intro _; exact ⟨Or.inl rfl, fun l hl => absurd hl (by omega)⟩
  | succ j ih =>
    intro hj
    obtain ⟨i1, i2⟩ := ih (by omega)
    by_cases h : m.testBit j = true ∧ ¬ et_ C D j n = -1 ∧ low < n
    · have q : yi_ C D m low n t (j + 1) = n := if_pos h
      rw [q]
      exact ⟨Or.inr ⟨rfl, h.2.2, j, by omega, h.1, h.2.1⟩, fun l _ _ _ => Nat.le_refl n⟩
    · have q : yi_ C D m low n t (j + 1) = yi_ C D m low n t j := if_neg h
      rw [q]
      refine ⟨i1, fun l hl' hb he => ?_⟩
      by_cases el : l = j
      · subst el
        by_cases h3 : low < n
        · exact absurd ⟨hb, he, h3⟩ h
        · rcases i1 with y | ⟨y, y2, _⟩
          · rw [y]; omega
          · omega
      · exact i2 l (by omega) hb he
theorem yo_ok : ∀ n, n ≤ 8 → low ≤ yo_ C D m low n ∧ (yo_ C D m low n = low ∨ (1 ≤ yo_ C D m low n ∧ yo_ C D m low n ≤ n ∧ ∃ l, l < 4 ∧ m.testBit l = true ∧ ¬ et_ C D l (yo_ C D m low n) = -1)) ∧ ∀ l, l < 4 → m.testBit l = true → ∀ n', 1 ≤ n' → n' ≤ n → ¬ et_ C D l n' = -1 → n' ≤ yo_ C D m low n := by
  intro n
  induction n with
  | zero => intro _; exact ⟨Nat.le_refl low, Or.inl rfl, fun l _ _ n' h1 h2 => absurd h2 (by omega)⟩
  | succ n ih =>
    intro hn
    obtain ⟨i1, i2, i3⟩ := ih (by omega)
    have q : yo_ C D m low (n + 1) = yi_ C D m low (n + 1) (yo_ C D m low n) 4 := rfl
    obtain ⟨c1, c2⟩ := yi_ok (C := C) (D := D) (m := m) (low := low) (n := n + 1) (t := yo_ C D m low n) (by omega) (by omega) (by rcases i2 with y | ⟨_, y, _⟩ <;> omega) i1 4 (by omega)
    rw [q]
    refine ⟨?_, ?_, fun l hl hb n' h1 h2 he => ?_⟩
    · rcases c1 with y | ⟨y, y2, _⟩ <;> omega
    · rcases c1 with y | ⟨y, y2, l, hl, hb, he⟩
      · rw [y]
        rcases i2 with z | ⟨z1, z2, z3⟩
        · exact Or.inl z
        · exact Or.inr ⟨z1, by omega, z3⟩
      · rw [y]
        exact Or.inr ⟨by omega, by omega, l, hl, hb, he⟩
    · by_cases en : n' = n + 1
      · subst en
        exact c2 l hl hb he
      · have k := i3 l hl hb n' h1 (by omega) he
        rcases c1 with y | ⟨y, y2, _⟩ <;> omega
theorem yo_ts : ts_ C D m low (yo_ C D m low 8) := yo_ok 8 (by omega)
theorem to_yo : yo_ C D m low 8 = to_ C D m low 4 := Nat.le_antisymm (ts_le yo_ts to_ts) (ts_le to_ts yo_ts)
theorem to_8 (h : low ≤ 8) : to_ C D m low 4 ≤ 8 := by
  rcases (to_ts (C := C) (D := D) (m := m) (low := low)).2.1 with y | ⟨_, y, _⟩ <;> omega
theorem to_j8 (h : low ≤ 8) {j : Nat} (hj : j ≤ 4) : to_ C D m low j ≤ 8 := by
  rcases (to_ok (C := C) (D := D) (m := m) (low := low) j hj).2.1 with y | ⟨_, y, _⟩ <;> omega
end
end
section
/-! the walks of the searches of enter -/
theorem tb_f {m j : Nat} (h : ¬ m.testBit j = true) : m.testBit j = false := (Bool.not_eq_true _).mp h
theorem dj_ix (φ w k j : Nat) : nI j * 8 + nI (dn_ φ w k j) = nI (dj_ φ w k j) := ix_8 _ _
theorem dj_ie (φ w k j n : Nat) : (nI j * 8 + nI (dn_ φ w k j)) * 9 + nI n = nI (dj_ φ w k j * 9 + n) := ix_s _ _ _
section
variable {φ ι ω κ p i w m k n low : Nat} {ls : Int32} {P Q C : Nat → Nat → Int32} {ch : Nat → Int32}
theorem lo_xl (hf : φ < 4) (hw : w < 8) (hk : k < 8) (hm : m < 16) {post : Int32 → Prop} (h : post (nI (lb_ C (dj_ φ w k) m 4).1)) : ∀ d j, j + d = 4 → wX_lowDocument_9 post (nI w) (nI m) (nI k) (nI φ) (nI ι) (nI ω) (nI κ) (nI p) ls (P 0) (P 1) (P 2) (P 3) (P 4) (P 5) (C 0) (C 1) (C 2) (C 3) (C 4) (C 5) (C 6) (C 7) (C 8) (C 9) (C 10) (C 11) (C 12) (C 13) (C 14) (C 15) (C 16) (C 17) (C 18) (C 19) (C 20) (C 21) (C 22) (C 23) (d + 1) (nI (lb_ C (dj_ φ w k) m j).1) (lb_ C (dj_ φ w k) m j).2.1 (nI j) := by
  intro d
  induction d with
  | zero =>
    intro j hj
    obtain rfl : j = 4 := by omega
    exact br_t ni_ge4 h
  | succ d ih =>
    intro j hj
    have h4 := ni_lit4 (j := j) (by omega)
    have hd := dj_lt (φ := φ) hw hk (j := j) (by omega)
    have hin : vp_in (nI (dj_ φ w k j)) 32 := vp_in_nI hd (by omega)
    have hc : (nI (dj_ φ w k j)).toNatClampNeg = dj_ φ w k j := nI_clamp (by omega)
    have kk := ih (j + 1) (by omega)
    by_cases b : m.testBit j = true
    · by_cases c : C 20 (dj_ φ w k j) ≤ (lb_ C (dj_ φ w k) m j).2.1
      · rw [show lb_ C (dj_ φ w k) m (j + 1) = lb_ C (dj_ φ w k) m j from if_neg (fun z => z.2 c)] at kk
        have c' : C 20 (nI (dj_ φ w k j)).toNatClampNeg ≤ (lb_ C (dj_ φ w k) m j).2.1 := by rw [hc]; exact c
        exact br_f h4 (hx_1 hm (by omega) b (br_f (by decide) (ld_x hf (by omega) ⟨hin, br_t c' (nm_r (nI_1 j) kk)⟩)))
      · rw [show lb_ C (dj_ φ w k) m (j + 1) = (dj_ φ w k j, C 20 (dj_ φ w k j), C 21 (dj_ φ w k j)) from if_pos ⟨b, c⟩] at kk
        have c' : ¬ C 20 (nI (dj_ φ w k j)).toNatClampNeg ≤ (lb_ C (dj_ φ w k) m j).2.1 := by rw [hc]; exact c
        have e20 : C 20 (nI (dj_ φ w k j)).toNatClampNeg = C 20 (dj_ φ w k j) := by rw [hc]
        exact br_f h4 (hx_1 hm (by omega) b (br_f (by decide) (ld_x hf (by omega) ⟨hin, br_f c' ⟨hin, nm_r e20 (nm_r (nI_1 j) kk)⟩⟩)))
    · rw [show lb_ C (dj_ φ w k) m (j + 1) = lb_ C (dj_ φ w k) m j from if_neg (fun z => b z.1)] at kk
      exact br_f h4 (hx_0 hm (by omega) (tb_f b) (br_t rfl (nm_r (nI_1 j) kk)))
theorem lo_x (hf : φ < 4) (hw : w < 8) (hk : k < 8) (hm : m < 16) {post : Int32 → Prop} (h : post (nI (lb_ C (dj_ φ w k) m 4).1)) : wpX_lowDocument post (xs_ φ ι ω κ p ls P C) (nI w) (nI m) (nI k) := Exists.intro 5 (lo_xl hf hw hk hm h 4 0 rfl)
theorem lo_yl (hf : φ < 4) (hw : w < 8) (hk : k < 8) (hm : m < 16) {post : SY → Prop} (h : wY_enter_9 post (nI i) (nI w) (nI m) (nI k) (nI φ) (nI ι) (nI ω) (nI κ) (nI p) ls (Q 0) (Q 1) (Q 2) (Q 3) (Q 4) (Q 5) (C 0) (C 1) (C 2) (C 3) (C 4) (C 5) (C 6) (C 7) (C 8) (C 9) (C 10) (C 11) (C 12) (C 13) (C 14) (C 15) (C 16) (C 17) (C 18) (C 19) (C 20) (C 21) (C 22) (C 23) ch 1 (lb_ C (dj_ φ w k) m 4).2.1 (lb_ C (dj_ φ w k) m 4).2.2 (nI 4)) : ∀ d j, j + d = 4 → wY_enter_9 post (nI i) (nI w) (nI m) (nI k) (nI φ) (nI ι) (nI ω) (nI κ) (nI p) ls (Q 0) (Q 1) (Q 2) (Q 3) (Q 4) (Q 5) (C 0) (C 1) (C 2) (C 3) (C 4) (C 5) (C 6) (C 7) (C 8) (C 9) (C 10) (C 11) (C 12) (C 13) (C 14) (C 15) (C 16) (C 17) (C 18) (C 19) (C 20) (C 21) (C 22) (C 23) ch (d + 1) (lb_ C (dj_ φ w k) m j).2.1 (lb_ C (dj_ φ w k) m j).2.2 (nI j) := by
  intro d
  induction d with
  | zero =>
    intro j hj
    obtain rfl : j = 4 := by omega
    exact h
  | succ d ih =>
    intro j hj
    have h4 := ni_lit4 (j := j) (by omega)
    have hd := dj_lt (φ := φ) hw hk (j := j) (by omega)
    have hin : vp_in (nI (dj_ φ w k j)) 32 := vp_in_nI hd (by omega)
    have hc : (nI (dj_ φ w k j)).toNatClampNeg = dj_ φ w k j := nI_clamp (by omega)
    have kk := ih (j + 1) (by omega)
    by_cases b : m.testBit j = true
    · by_cases c : C 20 (dj_ φ w k j) ≤ (lb_ C (dj_ φ w k) m j).2.1
      · rw [show lb_ C (dj_ φ w k) m (j + 1) = lb_ C (dj_ φ w k) m j from if_neg (fun z => z.2 c)] at kk
        have c' : C 20 (nI (dj_ φ w k j)).toNatClampNeg ≤ (lb_ C (dj_ φ w k) m j).2.1 := by rw [hc]; exact c
        exact br_f h4 (hy_1 hm (by omega) b (br_f (by decide) (ld_y hf (by omega) (nm_r (dj_ix φ w k j) ⟨hin, br_t c' (nm_r (nI_1 j) kk)⟩))))
      · rw [show lb_ C (dj_ φ w k) m (j + 1) = (dj_ φ w k j, C 20 (dj_ φ w k j), C 21 (dj_ φ w k j)) from if_pos ⟨b, c⟩] at kk
        have c' : ¬ C 20 (nI (dj_ φ w k j)).toNatClampNeg ≤ (lb_ C (dj_ φ w k) m j).2.1 := by rw [hc]; exact c
        have e20 : C 20 (nI (dj_ φ w k j)).toNatClampNeg = C 20 (dj_ φ w k j) := by rw [hc]
        have e21 : C 21 (nI (dj_ φ w k j)).toNatClampNeg = C 21 (dj_ φ w k j) := by rw [hc]
        exact br_f h4 (hy_1 hm (by omega) b (br_f (by decide) (ld_y hf (by omega) (nm_r (dj_ix φ w k j) ⟨hin, br_f c' ⟨hin, nm_r e20 ⟨hin, nm_r e21 (nm_r (nI_1 j) kk)⟩⟩⟩))))
    · rw [show lb_ C (dj_ φ w k) m (j + 1) = lb_ C (dj_ φ w k) m j from if_neg (fun z => b z.1)] at kk
      exact br_f h4 (hy_0 hm (by omega) (tb_f b) (br_t rfl (nm_r (nI_1 j) kk)))
theorem te_xi {d0 t j : Nat} (hd0 : d0 < 32) (ht : t ≤ 8) {post : Int32 → Prop} {J : Int32 → Int32 → Prop} (h : J (nI (ti_ (fun n => C 22 (d0 * 9 + n)) t 8)) (nI (j + 1))) : ∀ d l, l + d = 8 → wX_topEntry_36 post J (nI w) (nI m) (nI k) (nI j) (nI d0) (nI φ) (nI ι) (nI ω) (nI κ) (nI p) ls (P 0) (P 1) (P 2) (P 3) (P 4) (P 5) (C 0) (C 1) (C 2) (C 3) (C 4) (C 5) (C 6) (C 7) (C 8) (C 9) (C 10) (C 11) (C 12) (C 13) (C 14) (C 15) (C 16) (C 17) (C 18) (C 19) (C 20) (C 21) (C 22) (C 23) (d + 1) (nI (ti_ (fun n => C 22 (d0 * 9 + n)) t l)) (nI (l + 1)) := by
  intro d
  induction d with
  | zero =>
    intro l hl
    obtain rfl : l = 8 := by omega
    exact br_t ni_gt8 (nm_r (nI_1 j) h)
  | succ d ih =>
    intro l hl
    have h8 := ni_lit8 (j := l + 1) (by omega)
    have hin : vp_in (nI d0 * 9 + nI (l + 1)) 288 := by rw [ix_9]; exact vp_in_nI (by omega) (by omega)
    have hc : (nI d0 * 9 + nI (l + 1)).toNatClampNeg = d0 * 9 + (l + 1) := by rw [ix_9]; exact nI_clamp (by omega)
    have kk := ih (l + 1) (by omega)
    obtain ⟨_, b2, _⟩ := ti_ok (e := fun n => C 22 (d0 * 9 + n)) (t := t) l
    have bl : ti_ (fun n => C 22 (d0 * 9 + n)) t l ≤ 8 := by rcases b2 with y | ⟨_, y, _⟩ <;> omega
    by_cases c : l + 1 ≤ ti_ (fun n => C 22 (d0 * 9 + n)) t l
    · rw [show ti_ (fun n => C 22 (d0 * 9 + n)) t (l + 1) = ti_ (fun n => C 22 (d0 * 9 + n)) t l from if_neg (fun z => by omega)] at kk
      exact br_f h8 (br_t (nI_le c (by omega)) (nm_r (nI_1 (l + 1)) kk))
    · have c' : ¬ nI (l + 1) ≤ nI (ti_ (fun n => C 22 (d0 * 9 + n)) t l) := nI_ge (by omega) (by omega)
      by_cases z : C 22 (d0 * 9 + (l + 1)) = -1
      · rw [show ti_ (fun n => C 22 (d0 * 9 + n)) t (l + 1) = ti_ (fun n => C 22 (d0 * 9 + n)) t l from if_neg (fun y => y.2 z)] at kk
        have z' : C 22 (nI d0 * 9 + nI (l + 1)).toNatClampNeg = -1 := by rw [hc]; exact z
        exact br_f h8 (br_f c' ⟨hin, br_t z' (nm_r (nI_1 (l + 1)) kk)⟩)
      · rw [show ti_ (fun n => C 22 (d0 * 9 + n)) t (l + 1) = l + 1 from if_pos ⟨by omega, z⟩] at kk
        have z' : ¬ C 22 (nI d0 * 9 + nI (l + 1)).toNatClampNeg = -1 := by rw [hc]; exact z
        exact br_f h8 (br_f c' ⟨hin, br_f z' (nm_r (nI_1 (l + 1)) kk)⟩)
theorem te_xo (hf : φ < 4) (hw : w < 8) (hk : k < 8) (hm : m < 16) (hl : low ≤ 8) {post : Int32 → Prop} (h : post (nI (to_ C (dj_ φ w k) m low 4))) : ∀ d j, j + d = 4 → wX_topEntry_7 post (nI w) (nI m) (nI k) (nI φ) (nI ι) (nI ω) (nI κ) (nI p) ls (P 0) (P 1) (P 2) (P 3) (P 4) (P 5) (C 0) (C 1) (C 2) (C 3) (C 4) (C 5) (C 6) (C 7) (C 8) (C 9) (C 10) (C 11) (C 12) (C 13) (C 14) (C 15) (C 16) (C 17) (C 18) (C 19) (C 20) (C 21) (C 22) (C 23) (d + 1) (nI (to_ C (dj_ φ w k) m low j)) (nI j) := by
  intro d
  induction d with
  | zero =>
    intro j hj
    obtain rfl : j = 4 := by omega
    exact br_t ni_ge4 h
  | succ d ih =>
    intro j hj
    have h4 := ni_lit4 (j := j) (by omega)
    have hd := dj_lt (φ := φ) hw hk (j := j) (by omega)
    have kk := ih (j + 1) (by omega)
    by_cases b : m.testBit j = true
    · rw [show to_ C (dj_ φ w k) m low (j + 1) = ti_ (et_ C (dj_ φ w k) j) (to_ C (dj_ φ w k) m low j) 8 from if_pos b] at kk
      have ki := te_xi (φ := φ) (ι := ι) (ω := ω) (κ := κ) (p := p) (ls := ls) (P := P) (C := C) (w := w) (m := m) (k := k) (t := to_ C (dj_ φ w k) m low j) (j := j) hd (to_j8 hl (by omega)) (post := post) (J := wX_topEntry_7 post (nI w) (nI m) (nI k) (nI φ) (nI ι) (nI ω) (nI κ) (nI p) ls (P 0) (P 1) (P 2) (P 3) (P 4) (P 5) (C 0) (C 1) (C 2) (C 3) (C 4) (C 5) (C 6) (C 7) (C 8) (C 9) (C 10) (C 11) (C 12) (C 13) (C 14) (C 15) (C 16) (C 17) (C 18) (C 19) (C 20) (C 21) (C 22) (C 23) (d + 1)) kk 8 0 rfl
      exact br_f h4 (hx_1 hm (by omega) b (br_f (by decide) (ld_x hf (by omega) ⟨9, ki⟩)))
    · rw [show to_ C (dj_ φ w k) m low (j + 1) = to_ C (dj_ φ w k) m low j from if_neg b] at kk
      exact br_f h4 (hx_0 hm (by omega) (tb_f b) (br_t rfl (nm_r (nI_1 j) kk)))
theorem te_x (hf : φ < 4) (hw : w < 8) (hk : k < 8) (hm : m < 16) (hl : low ≤ 8) {post : Int32 → Prop} (h : post (nI (to_ C (dj_ φ w k) m low 4))) : wpX_topEntry post (xs_ φ ι ω κ p ls P C) (nI w) (nI m) (nI k) (nI low) := Exists.intro 5 (te_xo hf hw hk hm hl h 4 0 rfl)
theorem ch_xl (hf : φ < 4) (hw : w < 8) (hk : k < 8) (hm : m < 16) (hn : n ≤ 8) {post : Int32 → Prop} (h : post (cf_ C (dj_ φ w k) m n 4).2) : ∀ d j, j + d = 4 → wX_choice_9 post (nI n) (nI w) (nI m) (nI k) (nI φ) (nI ι) (nI ω) (nI κ) (nI p) ls (P 0) (P 1) (P 2) (P 3) (P 4) (P 5) (C 0) (C 1) (C 2) (C 3) (C 4) (C 5) (C 6) (C 7) (C 8) (C 9) (C 10) (C 11) (C 12) (C 13) (C 14) (C 15) (C 16) (C 17) (C 18) (C 19) (C 20) (C 21) (C 22) (C 23) (d + 1) (cf_ C (dj_ φ w k) m n j).1 (cf_ C (dj_ φ w k) m n j).2 (nI j) := by
  intro d
  induction d with
  | zero =>
    intro j hj
    obtain rfl : j = 4 := by omega
    exact br_t ni_ge4 h
  | succ d ih =>
    intro j hj
    have h4 := ni_lit4 (j := j) (by omega)
    have hd := dj_lt (φ := φ) hw hk (j := j) (by omega)
    have hin : vp_in (nI (dj_ φ w k j) * 9 + nI n) 288 := by rw [ix_9]; exact vp_in_nI (by omega) (by omega)
    have hc : (nI (dj_ φ w k j) * 9 + nI n).toNatClampNeg = dj_ φ w k j * 9 + n := by rw [ix_9]; exact nI_clamp (by omega)
    have kk := ih (j + 1) (by omega)
    by_cases b : m.testBit j = true
    · by_cases c : C 22 (dj_ φ w k j * 9 + n) ≤ (cf_ C (dj_ φ w k) m n j).1
      · rw [show cf_ C (dj_ φ w k) m n (j + 1) = cf_ C (dj_ φ w k) m n j from if_neg (fun z => z.2 c)] at kk
        have c' : C 22 (nI (dj_ φ w k j) * 9 + nI n).toNatClampNeg ≤ (cf_ C (dj_ φ w k) m n j).1 := by rw [hc]; exact c
        exact br_f h4 (hx_1 hm (by omega) b (br_f (by decide) (ld_x hf (by omega) ⟨hin, br_t c' (nm_r (nI_1 j) kk)⟩)))
      · rw [show cf_ C (dj_ φ w k) m n (j + 1) = (C 22 (dj_ φ w k j * 9 + n), C 23 (dj_ φ w k j * 9 + n)) from if_pos ⟨b, c⟩] at kk
        have c' : ¬ C 22 (nI (dj_ φ w k j) * 9 + nI n).toNatClampNeg ≤ (cf_ C (dj_ φ w k) m n j).1 := by rw [hc]; exact c
        have e22 : C 22 (nI (dj_ φ w k j) * 9 + nI n).toNatClampNeg = C 22 (dj_ φ w k j * 9 + n) := by rw [hc]
        have e23 : C 23 (nI (dj_ φ w k j) * 9 + nI n).toNatClampNeg = C 23 (dj_ φ w k j * 9 + n) := by rw [hc]
        exact br_f h4 (hx_1 hm (by omega) b (br_f (by decide) (ld_x hf (by omega) ⟨hin, br_f c' ⟨hin, nm_r e22 ⟨hin, nm_r e23 (nm_r (nI_1 j) kk)⟩⟩⟩)))
    · rw [show cf_ C (dj_ φ w k) m n (j + 1) = cf_ C (dj_ φ w k) m n j from if_neg (fun z => b z.1)] at kk
      exact br_f h4 (hx_0 hm (by omega) (tb_f b) (br_t rfl (nm_r (nI_1 j) kk)))
theorem ch_x (hf : φ < 4) (hw : w < 8) (hk : k < 8) (hm : m < 16) (hn : n ≤ 8) {post : Int32 → Prop} (h : post (cf_ C (dj_ φ w k) m n 4).2) : wpX_choice post (xs_ φ ι ω κ p ls P C) (nI n) (nI w) (nI m) (nI k) := Exists.intro 5 (ch_xl hf hw hk hm hn h 4 0 rfl)
/-- Y: the join behind the top of an entry -/
theorem ch_yj (hw : w < 8) (hk : k < 8) (hn : n ≤ 8) {j : Nat} (hj : j < 4) (b : m.testBit j = true) {x1 x2 x3 x4 x5 x6 T : Int32} {post : SY → Prop} {J1 : Int32 → Int32 → (Nat → Int32) → (Nat → Int32) → (Nat → Int32) → (Nat → Int32) → (Nat → Int32) → (Nat → Int32) → (Nat → Int32) → (Nat → Int32) → (Nat → Int32) → (Nat → Int32) → (Nat → Int32) → (Nat → Int32) → (Nat → Int32) → (Nat → Int32) → (Nat → Int32) → (Nat → Int32) → (Nat → Int32) → (Nat → Int32) → (Nat → Int32) → (Nat → Int32) → (Nat → Int32) → (Nat → Int32) → (Nat → Int32) → (Nat → Int32) → (Nat → Int32) → (Nat → Int32) → (Nat → Int32) → (Nat → Int32) → (Nat → Int32) → (Nat → Int32) → (Nat → Int32) → Prop} {J2 : Int32 → Int32 → Int32 → (Nat → Int32) → (Nat → Int32) → (Nat → Int32) → (Nat → Int32) → (Nat → Int32) → (Nat → Int32) → (Nat → Int32) → (Nat → Int32) → (Nat → Int32) → (Nat → Int32) → (Nat → Int32) → (Nat → Int32) → (Nat → Int32) → (Nat → Int32) → (Nat → Int32) → (Nat → Int32) → (Nat → Int32) → (Nat → Int32) → (Nat → Int32) → (Nat → Int32) → (Nat → Int32) → (Nat → Int32) → (Nat → Int32) → (Nat → Int32) → (Nat → Int32) → (Nat → Int32) → (Nat → Int32) → (Nat → Int32) → (Nat → Int32) → (Nat → Int32) → (Nat → Int32) → Prop} (kk : J2 T (cf_ C (dj_ φ w k) m n (j + 1)).1 (nI (j + 1)) (Q 0) (Q 1) (Q 2) (Q 3) (Q 4) (Q 5) (C 0) (C 1) (C 2) (C 3) (C 4) (C 5) (C 6) (C 7) (C 8) (C 9) (C 10) (C 11) (C 12) (C 13) (C 14) (C 15) (C 16) (C 17) (C 18) (C 19) (C 20) (C 21) (C 22) (C 23) (upd ch n (cf_ C (dj_ φ w k) m n (j + 1)).2)) : wY_enter_167 post J1 J2 x1 x2 x3 x4 x5 x6 T (nI n) (cf_ C (dj_ φ w k) m n j).1 (nI j) (nI (dj_ φ w k j * 9 + n)) (nI φ) (nI ι) (nI ω) (nI κ) (nI p) ls (Q 0) (Q 1) (Q 2) (Q 3) (Q 4) (Q 5) (C 0) (C 1) (C 2) (C 3) (C 4) (C 5) (C 6) (C 7) (C 8) (C 9) (C 10) (C 11) (C 12) (C 13) (C 14) (C 15) (C 16) (C 17) (C 18) (C 19) (C 20) (C 21) (C 22) (C 23) (upd ch n (cf_ C (dj_ φ w k) m n j).2) := by
  have hd := dj_lt (φ := φ) hw hk (j := j) (by omega)
  have hin : vp_in (nI (dj_ φ w k j * 9 + n)) 288 := vp_in_nI (by omega) (by omega)
  have hc : (nI (dj_ φ w k j * 9 + n)).toNatClampNeg = dj_ φ w k j * 9 + n := nI_clamp (by omega)
  have hin9 : vp_in (nI n) 9 := vp_in_nI (by omega) (by omega)
  have hc9 : (nI n).toNatClampNeg = n := nI_clamp (by omega)
  by_cases c : C 22 (dj_ φ w k j * 9 + n) ≤ (cf_ C (dj_ φ w k) m n j).1
  · rw [show cf_ C (dj_ φ w k) m n (j + 1) = cf_ C (dj_ φ w k) m n j from if_neg (fun z => z.2 c)] at kk
    have c' : C 22 (nI (dj_ φ w k j * 9 + n)).toNatClampNeg ≤ (cf_ C (dj_ φ w k) m n j).1 := by rw [hc]; exact c
    exact And.intro hin (br_t c' (nm_r (nI_1 j) kk))
  · rw [show cf_ C (dj_ φ w k) m n (j + 1) = (C 22 (dj_ φ w k j * 9 + n), C 23 (dj_ φ w k j * 9 + n)) from if_pos ⟨b, c⟩] at kk
    have c' : ¬ C 22 (nI (dj_ φ w k j * 9 + n)).toNatClampNeg ≤ (cf_ C (dj_ φ w k) m n j).1 := by rw [hc]; exact c
    have e22 : C 22 (nI (dj_ φ w k j * 9 + n)).toNatClampNeg = C 22 (dj_ φ w k j * 9 + n) := by rw [hc]
    have eu : upd (upd ch n (cf_ C (dj_ φ w k) m n j).2) (nI n).toNatClampNeg (C 23 (nI (dj_ φ w k j * 9 + n)).toNatClampNeg) = upd ch n (C 23 (dj_ φ w k j * 9 + n)) := by rw [hc, hc9]; exact uu_ _ _ _ _
    exact And.intro hin (br_f c' ⟨hin, nm_r e22 ⟨hin, hin9, nm_r eu (nm_r (nI_1 j) kk)⟩⟩)
theorem ch_yi (hf : φ < 4) (hw : w < 8) (hk : k < 8) (hm : m < 16) (hn1 : 1 ≤ n) (hn : n ≤ 8) {h t : Nat} (hh : h ≤ 8) (ge : ge_ (C 22) (C 23)) {s : Int32} {post : SY → Prop} {J : Int32 → Int32 → (Nat → Int32) → (Nat → Int32) → (Nat → Int32) → (Nat → Int32) → (Nat → Int32) → (Nat → Int32) → (Nat → Int32) → (Nat → Int32) → (Nat → Int32) → (Nat → Int32) → (Nat → Int32) → (Nat → Int32) → (Nat → Int32) → (Nat → Int32) → (Nat → Int32) → (Nat → Int32) → (Nat → Int32) → (Nat → Int32) → (Nat → Int32) → (Nat → Int32) → (Nat → Int32) → (Nat → Int32) → (Nat → Int32) → (Nat → Int32) → (Nat → Int32) → (Nat → Int32) → (Nat → Int32) → (Nat → Int32) → (Nat → Int32) → (Nat → Int32) → (Nat → Int32) → Prop} (hJ : J (nI (yi_ C (dj_ φ w k) m h n t 4)) (nI (n + 1)) (Q 0) (Q 1) (Q 2) (Q 3) (Q 4) (Q 5) (C 0) (C 1) (C 2) (C 3) (C 4) (C 5) (C 6) (C 7) (C 8) (C 9) (C 10) (C 11) (C 12) (C 13) (C 14) (C 15) (C 16) (C 17) (C 18) (C 19) (C 20) (C 21) (C 22) (C 23) (upd ch n (cf_ C (dj_ φ w k) m n 4).2)) : ∀ d j, j + d = 4 → wY_enter_106 post J (nI i) (nI w) (nI m) (nI k) (nI h) s (nI n) (nI φ) (nI ι) (nI ω) (nI κ) (nI p) ls (d + 1) (nI (yi_ C (dj_ φ w k) m h n t j)) (cf_ C (dj_ φ w k) m n j).1 (nI j) (Q 0) (Q 1) (Q 2) (Q 3) (Q 4) (Q 5) (C 0) (C 1) (C 2) (C 3) (C 4) (C 5) (C 6) (C 7) (C 8) (C 9) (C 10) (C 11) (C 12) (C 13) (C 14) (C 15) (C 16) (C 17) (C 18) (C 19) (C 20) (C 21) (C 22) (C 23) (upd ch n (cf_ C (dj_ φ w k) m n j).2) := by
  intro d
  induction d with
  | zero =>
    intro j hj
    obtain rfl : j = 4 := by omega
    exact br_t ni_ge4 (nm_r (nI_1 n) hJ)
  | succ d ih =>
    intro j hj
    have h4 := ni_lit4 (j := j) (by omega)
    have hd := dj_lt (φ := φ) hw hk (j := j) (by omega)
    have hin : vp_in (nI (dj_ φ w k j * 9 + n)) 288 := vp_in_nI (by omega) (by omega)
    have hc : (nI (dj_ φ w k j * 9 + n)).toNatClampNeg = dj_ φ w k j * 9 + n := nI_clamp (by omega)
    have kk := ih (j + 1) (by omega)
    by_cases b : m.testBit j = true
    · by_cases z : C 22 (dj_ φ w k j * 9 + n) = -1
      · rw [show yi_ C (dj_ φ w k) m h n t (j + 1) = yi_ C (dj_ φ w k) m h n t j from if_neg (fun y => y.2.1 z), show cf_ C (dj_ φ w k) m n (j + 1) = cf_ C (dj_ φ w k) m n j from if_neg (fun y => y.2 (by rw [z]; exact cf_m1 ge j))] at kk
        have z' : C 22 (nI (dj_ φ w k j * 9 + n)).toNatClampNeg = -1 := by rw [hc]; exact z
        exact br_f h4 (hy_1 hm (by omega) b (br_f (by decide) (ld_y hf (by omega) (nm_r (dj_ie φ w k j n) ⟨hin, br_t z' (nm_r (nI_1 j) kk)⟩))))
      · have z' : ¬ C 22 (nI (dj_ φ w k j * 9 + n)).toNatClampNeg = -1 := by rw [hc]; exact z
        by_cases c : n ≤ h
        · rw [show yi_ C (dj_ φ w k) m h n t (j + 1) = yi_ C (dj_ φ w k) m h n t j from if_neg (fun y => by omega)] at kk
          exact br_f h4 (hy_1 hm (by omega) b (br_f (by decide) (ld_y hf (by omega) (nm_r (dj_ie φ w k j n) ⟨hin, br_f z' (br_t (nI_le c (by omega)) (ch_yj hw hk hn (by omega) b kk))⟩))))
        · rw [show yi_ C (dj_ φ w k) m h n t (j + 1) = n from if_pos ⟨b, z, by omega⟩] at kk
          exact br_f h4 (hy_1 hm (by omega) b (br_f (by decide) (ld_y hf (by omega) (nm_r (dj_ie φ w k j n) ⟨hin, br_f z' (br_f (nI_ge (by omega) (by omega)) (ch_yj hw hk hn (by omega) b kk))⟩))))
    · rw [show yi_ C (dj_ φ w k) m h n t (j + 1) = yi_ C (dj_ φ w k) m h n t j from if_neg (fun y => b y.1), show cf_ C (dj_ φ w k) m n (j + 1) = cf_ C (dj_ φ w k) m n j from if_neg (fun y => b y.1)] at kk
      exact br_f h4 (hy_0 hm (by omega) (tb_f b) (br_t rfl (nm_r (nI_1 j) kk)))
theorem ch_yo (hf : φ < 4) (hw : w < 8) (hk : k < 8) (hm : m < 16) {h : Nat} (hh : h ≤ 8) (ge : ge_ (C 22) (C 23)) {s : Int32} {post : SY → Prop} (k0 : wY_enter_85 post (nI i) (nI w) (nI m) (nI k) (nI h) s (nI φ) (nI ι) (nI ω) (nI κ) (nI p) ls 1 (nI (yo_ C (dj_ φ w k) m h 8)) (nI 9) (Q 0) (Q 1) (Q 2) (Q 3) (Q 4) (Q 5) (C 0) (C 1) (C 2) (C 3) (C 4) (C 5) (C 6) (C 7) (C 8) (C 9) (C 10) (C 11) (C 12) (C 13) (C 14) (C 15) (C 16) (C 17) (C 18) (C 19) (C 20) (C 21) (C 22) (C 23) (cz_ C (dj_ φ w k) m ch 8)) : ∀ N l, l + N = 9 → l ≤ 8 → wY_enter_85 post (nI i) (nI w) (nI m) (nI k) (nI h) s (nI φ) (nI ι) (nI ω) (nI κ) (nI p) ls N (nI (yo_ C (dj_ φ w k) m h l)) (nI (l + 1)) (Q 0) (Q 1) (Q 2) (Q 3) (Q 4) (Q 5) (C 0) (C 1) (C 2) (C 3) (C 4) (C 5) (C 6) (C 7) (C 8) (C 9) (C 10) (C 11) (C 12) (C 13) (C 14) (C 15) (C 16) (C 17) (C 18) (C 19) (C 20) (C 21) (C 22) (C 23) (cz_ C (dj_ φ w k) m ch l) := by
  intro N
  induction N with
  | zero => intro l e1 e2; omega
  | succ N ih =>
    intro l e1 e2
    by_cases e : l = 8
    · subst e
      obtain rfl : N = 0 := by omega
      exact k0
    · have h8 := ni_lit8 (j := l + 1) (by omega)
      have hin : vp_in (nI (l + 1)) 9 := vp_in_nI (by omega) (by omega)
      have hc : (nI (l + 1)).toNatClampNeg = l + 1 := nI_clamp (by omega)
      have kk := ih (l + 1) (by omega) (by omega)
      have eu : upd (cz_ C (dj_ φ w k) m ch l) (nI (l + 1)).toNatClampNeg 0 = upd (cz_ C (dj_ φ w k) m ch l) (l + 1) (cf_ C (dj_ φ w k) m (l + 1) 0).2 := by rw [hc]; rfl
      have ki := ch_yi (φ := φ) (ι := ι) (ω := ω) (κ := κ) (p := p) (ls := ls) (Q := Q) (C := C) (ch := cz_ C (dj_ φ w k) m ch l) (i := i) (w := w) (m := m) (k := k) (n := l + 1) hf hw hk hm (by omega) (by omega) (h := h) (t := yo_ C (dj_ φ w k) m h l) hh ge (s := s) (post := post) (J := wY_enter_85 post (nI i) (nI w) (nI m) (nI k) (nI h) s (nI φ) (nI ι) (nI ω) (nI κ) (nI p) ls N) kk 4 0 rfl
      exact br_f h8 ⟨hin, nm_r eu ⟨5, ki⟩⟩
end
end
section
/-! clearing the ordering -/
def vo_ (C : Nat → Nat → Int32) (b : Nat) : Nat → (Nat → Nat → Int32)
  | 0 => C
  | j + 1 => cw_ (cw_ (vo_ C b j) 13 (b + j) (-1)) 14 (b + j) (-1)
theorem vo_n {C : Nat → Nat → Int32} {b k : Nat} (h1 : k ≠ 13) (h2 : k ≠ 14) : ∀ j, vo_ C b j k = C k := by
  intro j
  induction j with
  | zero => rfl
  | succ j ih =>
    show cw_ (cw_ (vo_ C b j) 13 (b + j) (-1)) 14 (b + j) (-1) k = C k
    rw [cw_n h2, cw_n h1]
    exact ih
def co_ (C : Nat → Nat → Int32) (i : Nat) : Nat → (Nat → Nat → Int32)
  | 0 => C
  | n + 1 => vo_ (cw_ (co_ C i n) 7 (i * 9 + (n + 1)) (-1)) ((i * 9 + (n + 1)) * 4) 4
theorem co_n {C : Nat → Nat → Int32} {i k : Nat} (h1 : k ≠ 13) (h2 : k ≠ 14) (h3 : k ≠ 7) : ∀ n, co_ C i n k = C k := by
  intro n
  induction n with
  | zero => rfl
  | succ n ih =>
    show vo_ (cw_ (co_ C i n) 7 (i * 9 + (n + 1)) (-1)) ((i * 9 + (n + 1)) * 4) 4 k = C k
    rw [vo_n h1 h2, cw_n h3]
    exact ih
theorem co_7 {C : Nat → Nat → Int32} {i : Nat} (h : gn_ 10 (C 7)) : ∀ n, gn_ 10 (co_ C i n 7) := by
  intro n
  induction n with
  | zero => exact h
  | succ n ih =>
    show gn_ 10 (vo_ (cw_ (co_ C i n) 7 (i * 9 + (n + 1)) (-1)) ((i * 9 + (n + 1)) * 4) 4 7)
    rw [vo_n (by decide) (by decide)]
    exact gn_u ih (Or.inl rfl)
theorem gc_co {φ i : Nat} {C : Nat → Nat → Int32} (h : gc_ φ C) (n : Nat) : gc_ φ (co_ C i n) := by
  obtain ⟨h0, h2, h4, h7, h8, h16, h22, hd, hv⟩ := h
  unfold gc_
  rw [co_n (k := 0) (by decide) (by decide) (by decide), co_n (k := 1) (by decide) (by decide) (by decide), co_n (k := 2) (by decide) (by decide) (by decide), co_n (k := 4) (by decide) (by decide) (by decide), co_n (k := 8) (by decide) (by decide) (by decide), co_n (k := 9) (by decide) (by decide) (by decide), co_n (k := 16) (by decide) (by decide) (by decide), co_n (k := 18) (by decide) (by decide) (by decide), co_n (k := 19) (by decide) (by decide) (by decide), co_n (k := 20) (by decide) (by decide) (by decide), co_n (k := 21) (by decide) (by decide) (by decide), co_n (k := 22) (by decide) (by decide) (by decide), co_n (k := 23) (by decide) (by decide) (by decide)]
  exact ⟨h0, h2, h4, co_7 h7 n, h8, h16, h22, hd, hv⟩
section
variable {φ ι ω κ p i n w : Nat} {ls : Int32} {P Q C : Nat → Nat → Int32} {ch : Nat → Int32}
theorem co_xi (hi : i < 4) (hn : n ≤ 8) {post : SX → Prop} {J : Int32 → (Nat → Int32) → (Nat → Int32) → (Nat → Int32) → (Nat → Int32) → (Nat → Int32) → (Nat → Int32) → (Nat → Int32) → (Nat → Int32) → (Nat → Int32) → (Nat → Int32) → (Nat → Int32) → (Nat → Int32) → (Nat → Int32) → (Nat → Int32) → (Nat → Int32) → (Nat → Int32) → (Nat → Int32) → (Nat → Int32) → (Nat → Int32) → (Nat → Int32) → (Nat → Int32) → (Nat → Int32) → (Nat → Int32) → (Nat → Int32) → (Nat → Int32) → (Nat → Int32) → (Nat → Int32) → (Nat → Int32) → (Nat → Int32) → (Nat → Int32) → Prop} (h : J (nI (n + 1)) (P 0) (P 1) (P 2) (P 3) (P 4) (P 5) ((vo_ C ((i * 9 + n) * 4) 4) 0) ((vo_ C ((i * 9 + n) * 4) 4) 1) ((vo_ C ((i * 9 + n) * 4) 4) 2) ((vo_ C ((i * 9 + n) * 4) 4) 3) ((vo_ C ((i * 9 + n) * 4) 4) 4) ((vo_ C ((i * 9 + n) * 4) 4) 5) ((vo_ C ((i * 9 + n) * 4) 4) 6) ((vo_ C ((i * 9 + n) * 4) 4) 7) ((vo_ C ((i * 9 + n) * 4) 4) 8) ((vo_ C ((i * 9 + n) * 4) 4) 9) ((vo_ C ((i * 9 + n) * 4) 4) 10) ((vo_ C ((i * 9 + n) * 4) 4) 11) ((vo_ C ((i * 9 + n) * 4) 4) 12) ((vo_ C ((i * 9 + n) * 4) 4) 13) ((vo_ C ((i * 9 + n) * 4) 4) 14) ((vo_ C ((i * 9 + n) * 4) 4) 15) ((vo_ C ((i * 9 + n) * 4) 4) 16) ((vo_ C ((i * 9 + n) * 4) 4) 17) ((vo_ C ((i * 9 + n) * 4) 4) 18) ((vo_ C ((i * 9 + n) * 4) 4) 19) ((vo_ C ((i * 9 + n) * 4) 4) 20) ((vo_ C ((i * 9 + n) * 4) 4) 21) ((vo_ C ((i * 9 + n) * 4) 4) 22) ((vo_ C ((i * 9 + n) * 4) 4) 23)) : ∀ d j, j + d = 4 → wX_clearOrdering_22 post J (nI i) (nI n) (nI φ) (nI ι) (nI ω) (nI κ) (nI p) ls (d + 1) (nI j) (P 0) (P 1) (P 2) (P 3) (P 4) (P 5) ((vo_ C ((i * 9 + n) * 4) j) 0) ((vo_ C ((i * 9 + n) * 4) j) 1) ((vo_ C ((i * 9 + n) * 4) j) 2) ((vo_ C ((i * 9 + n) * 4) j) 3) ((vo_ C ((i * 9 + n) * 4) j) 4) ((vo_ C ((i * 9 + n) * 4) j) 5) ((vo_ C ((i * 9 + n) * 4) j) 6) ((vo_ C ((i * 9 + n) * 4) j) 7) ((vo_ C ((i * 9 + n) * 4) j) 8) ((vo_ C ((i * 9 + n) * 4) j) 9) ((vo_ C ((i * 9 + n) * 4) j) 10) ((vo_ C ((i * 9 + n) * 4) j) 11) ((vo_ C ((i * 9 + n) * 4) j) 12) ((vo_ C ((i * 9 + n) * 4) j) 13) ((vo_ C ((i * 9 + n) * 4) j) 14) ((vo_ C ((i * 9 + n) * 4) j) 15) ((vo_ C ((i * 9 + n) * 4) j) 16) ((vo_ C ((i * 9 + n) * 4) j) 17) ((vo_ C ((i * 9 + n) * 4) j) 18) ((vo_ C ((i * 9 + n) * 4) j) 19) ((vo_ C ((i * 9 + n) * 4) j) 20) ((vo_ C ((i * 9 + n) * 4) j) 21) ((vo_ C ((i * 9 + n) * 4) j) 22) ((vo_ C ((i * 9 + n) * 4) j) 23) := by
  intro d
  induction d with
  | zero =>
    intro j hj
    obtain rfl : j = 4 := by omega
    exact br_t ni_ge4 (nm_r (nI_1 n) h)
  | succ d ih =>
    intro j hj
    have h4 := ni_lit4 (j := j) (by omega)
    have hin : vp_in (nI ((i * 9 + n) * 4 + j)) 144 := vp_in_nI (by omega) (by omega)
    have hc : (nI ((i * 9 + n) * 4 + j)).toNatClampNeg = (i * 9 + n) * 4 + j := nI_clamp (by omega)
    have e13 : upd (vo_ C ((i * 9 + n) * 4) j 13) (nI ((i * 9 + n) * 4 + j)).toNatClampNeg (-1) = vo_ C ((i * 9 + n) * 4) (j + 1) 13 := by rw [hc]; rfl
    have e14 : upd (vo_ C ((i * 9 + n) * 4) j 14) (nI ((i * 9 + n) * 4 + j)).toNatClampNeg (-1) = vo_ C ((i * 9 + n) * 4) (j + 1) 14 := by rw [hc]; rfl
    exact br_f h4 (cl_v ⟨hin, nm_r e13 ⟨hin, nm_r e14 (nm_r (nI_1 j) (ih (j + 1) (by omega)))⟩⟩)
theorem co_xo (hi : i < 4) {post : SX → Prop} (h : post (xs_ φ ι ω κ p ls P (co_ C i 8))) : ∀ d l, l + d = 8 → wX_clearOrdering_2 post (nI i) (nI φ) (nI ι) (nI ω) (nI κ) (nI p) ls (d + 1) (nI (l + 1)) (P 0) (P 1) (P 2) (P 3) (P 4) (P 5) ((co_ C i l) 0) ((co_ C i l) 1) ((co_ C i l) 2) ((co_ C i l) 3) ((co_ C i l) 4) ((co_ C i l) 5) ((co_ C i l) 6) ((co_ C i l) 7) ((co_ C i l) 8) ((co_ C i l) 9) ((co_ C i l) 10) ((co_ C i l) 11) ((co_ C i l) 12) ((co_ C i l) 13) ((co_ C i l) 14) ((co_ C i l) 15) ((co_ C i l) 16) ((co_ C i l) 17) ((co_ C i l) 18) ((co_ C i l) 19) ((co_ C i l) 20) ((co_ C i l) 21) ((co_ C i l) 22) ((co_ C i l) 23) := by
  intro d
  induction d with
  | zero =>
    intro l hl
    obtain rfl : l = 8 := by omega
    exact br_t ni_gt8 h
  | succ d ih =>
    intro l hl
    have h8 := ni_lit8 (j := l + 1) (by omega)
    have hin : vp_in (nI (i * 9 + (l + 1))) 36 := vp_in_nI (by omega) (by omega)
    have hc : (nI (i * 9 + (l + 1))).toNatClampNeg = i * 9 + (l + 1) := nI_clamp (by omega)
    have e7 : upd (co_ C i l 7) (nI (i * 9 + (l + 1))).toNatClampNeg (-1) = upd (co_ C i l 7) (i * 9 + (l + 1)) (-1) := by rw [hc]
    have ki := co_xi (φ := φ) (ι := ι) (ω := ω) (κ := κ) (p := p) (ls := ls) (P := P) (C := cw_ (co_ C i l) 7 (i * 9 + (l + 1)) (-1)) (i := i) (n := l + 1) hi (by omega) (post := post) (J := wX_clearOrdering_2 post (nI i) (nI φ) (nI ι) (nI ω) (nI κ) (nI p) ls (d + 1)) (ih (l + 1) (by omega)) 4 0 rfl
    exact br_f h8 (cl_l ⟨hin, nm_r e7 ⟨5, ki⟩⟩)
theorem co_x (hi : i < 4) {post : SX → Prop} (h : post (xs_ φ ι ω κ p ls P (co_ C i 8))) : wpX_clearOrdering post (xs_ φ ι ω κ p ls P C) (nI i) := Exists.intro 9 (co_xo hi h 8 0 rfl)
theorem co_yi (hi : i < 4) (hn : n ≤ 8) {post : SY → Prop} {J : Int32 → (Nat → Int32) → (Nat → Int32) → (Nat → Int32) → (Nat → Int32) → (Nat → Int32) → (Nat → Int32) → (Nat → Int32) → (Nat → Int32) → (Nat → Int32) → (Nat → Int32) → (Nat → Int32) → (Nat → Int32) → (Nat → Int32) → (Nat → Int32) → (Nat → Int32) → (Nat → Int32) → (Nat → Int32) → (Nat → Int32) → (Nat → Int32) → (Nat → Int32) → (Nat → Int32) → (Nat → Int32) → (Nat → Int32) → (Nat → Int32) → (Nat → Int32) → (Nat → Int32) → (Nat → Int32) → (Nat → Int32) → (Nat → Int32) → (Nat → Int32) → (Nat → Int32) → Prop} {x2 x5 x6 x7 : Int32} (h : J (nI (n + 1)) (Q 0) (Q 1) (Q 2) (Q 3) (Q 4) (Q 5) ((vo_ C ((i * 9 + n) * 4) 4) 0) ((vo_ C ((i * 9 + n) * 4) 4) 1) ((vo_ C ((i * 9 + n) * 4) 4) 2) ((vo_ C ((i * 9 + n) * 4) 4) 3) ((vo_ C ((i * 9 + n) * 4) 4) 4) ((vo_ C ((i * 9 + n) * 4) 4) 5) ((vo_ C ((i * 9 + n) * 4) 4) 6) ((vo_ C ((i * 9 + n) * 4) 4) 7) ((vo_ C ((i * 9 + n) * 4) 4) 8) ((vo_ C ((i * 9 + n) * 4) 4) 9) ((vo_ C ((i * 9 + n) * 4) 4) 10) ((vo_ C ((i * 9 + n) * 4) 4) 11) ((vo_ C ((i * 9 + n) * 4) 4) 12) ((vo_ C ((i * 9 + n) * 4) 4) 13) ((vo_ C ((i * 9 + n) * 4) 4) 14) ((vo_ C ((i * 9 + n) * 4) 4) 15) ((vo_ C ((i * 9 + n) * 4) 4) 16) ((vo_ C ((i * 9 + n) * 4) 4) 17) ((vo_ C ((i * 9 + n) * 4) 4) 18) ((vo_ C ((i * 9 + n) * 4) 4) 19) ((vo_ C ((i * 9 + n) * 4) 4) 20) ((vo_ C ((i * 9 + n) * 4) 4) 21) ((vo_ C ((i * 9 + n) * 4) 4) 22) ((vo_ C ((i * 9 + n) * 4) 4) 23) ch) : ∀ d j, j + d = 4 → wY_enter_258 post J (nI i) x2 x5 x6 x7 (nI n) (nI (i * 9 + n)) (nI φ) (nI ι) (nI ω) (nI κ) (nI p) ls (d + 1) (nI j) (Q 0) (Q 1) (Q 2) (Q 3) (Q 4) (Q 5) ((vo_ C ((i * 9 + n) * 4) j) 0) ((vo_ C ((i * 9 + n) * 4) j) 1) ((vo_ C ((i * 9 + n) * 4) j) 2) ((vo_ C ((i * 9 + n) * 4) j) 3) ((vo_ C ((i * 9 + n) * 4) j) 4) ((vo_ C ((i * 9 + n) * 4) j) 5) ((vo_ C ((i * 9 + n) * 4) j) 6) ((vo_ C ((i * 9 + n) * 4) j) 7) ((vo_ C ((i * 9 + n) * 4) j) 8) ((vo_ C ((i * 9 + n) * 4) j) 9) ((vo_ C ((i * 9 + n) * 4) j) 10) ((vo_ C ((i * 9 + n) * 4) j) 11) ((vo_ C ((i * 9 + n) * 4) j) 12) ((vo_ C ((i * 9 + n) * 4) j) 13) ((vo_ C ((i * 9 + n) * 4) j) 14) ((vo_ C ((i * 9 + n) * 4) j) 15) ((vo_ C ((i * 9 + n) * 4) j) 16) ((vo_ C ((i * 9 + n) * 4) j) 17) ((vo_ C ((i * 9 + n) * 4) j) 18) ((vo_ C ((i * 9 + n) * 4) j) 19) ((vo_ C ((i * 9 + n) * 4) j) 20) ((vo_ C ((i * 9 + n) * 4) j) 21) ((vo_ C ((i * 9 + n) * 4) j) 22) ((vo_ C ((i * 9 + n) * 4) j) 23) ch := by
  intro d
  induction d with
  | zero =>
    intro j hj
    obtain rfl : j = 4 := by omega
    exact br_t ni_ge4 (nm_r (nI_1 n) h)
  | succ d ih =>
    intro j hj
    have h4 := ni_lit4 (j := j) (by omega)
    have hin : vp_in (nI (i * 9 + n) * 4 + nI j) 144 := by rw [ix_4]; exact vp_in_nI (by omega) (by omega)
    have hc : (nI (i * 9 + n) * 4 + nI j).toNatClampNeg = (i * 9 + n) * 4 + j := by rw [ix_4]; exact nI_clamp (by omega)
    have e13 : upd (vo_ C ((i * 9 + n) * 4) j 13) (nI (i * 9 + n) * 4 + nI j).toNatClampNeg (-1) = vo_ C ((i * 9 + n) * 4) (j + 1) 13 := by rw [hc]; rfl
    have e14 : upd (vo_ C ((i * 9 + n) * 4) j 14) (nI (i * 9 + n) * 4 + nI j).toNatClampNeg (-1) = vo_ C ((i * 9 + n) * 4) (j + 1) 14 := by rw [hc]; rfl
    exact br_f h4 ⟨hin, nm_r e13 ⟨hin, nm_r e14 (nm_r (nI_1 j) (ih (j + 1) (by omega)))⟩⟩
theorem co_yo (hi : i < 4) {post : SY → Prop} {x2 x5 x6 x7 : Int32} (k0 : wY_enter_231 post (nI i) x2 x5 x6 x7 (nI φ) (nI ι) (nI ω) (nI κ) (nI p) ls 1 (nI 9) (Q 0) (Q 1) (Q 2) (Q 3) (Q 4) (Q 5) ((co_ C i 8) 0) ((co_ C i 8) 1) ((co_ C i 8) 2) ((co_ C i 8) 3) ((co_ C i 8) 4) ((co_ C i 8) 5) ((co_ C i 8) 6) ((co_ C i 8) 7) ((co_ C i 8) 8) ((co_ C i 8) 9) ((co_ C i 8) 10) ((co_ C i 8) 11) ((co_ C i 8) 12) ((co_ C i 8) 13) ((co_ C i 8) 14) ((co_ C i 8) 15) ((co_ C i 8) 16) ((co_ C i 8) 17) ((co_ C i 8) 18) ((co_ C i 8) 19) ((co_ C i 8) 20) ((co_ C i 8) 21) ((co_ C i 8) 22) ((co_ C i 8) 23) ch) : ∀ N l, l + N = 9 → l ≤ 8 → wY_enter_231 post (nI i) x2 x5 x6 x7 (nI φ) (nI ι) (nI ω) (nI κ) (nI p) ls N (nI (l + 1)) (Q 0) (Q 1) (Q 2) (Q 3) (Q 4) (Q 5) ((co_ C i l) 0) ((co_ C i l) 1) ((co_ C i l) 2) ((co_ C i l) 3) ((co_ C i l) 4) ((co_ C i l) 5) ((co_ C i l) 6) ((co_ C i l) 7) ((co_ C i l) 8) ((co_ C i l) 9) ((co_ C i l) 10) ((co_ C i l) 11) ((co_ C i l) 12) ((co_ C i l) 13) ((co_ C i l) 14) ((co_ C i l) 15) ((co_ C i l) 16) ((co_ C i l) 17) ((co_ C i l) 18) ((co_ C i l) 19) ((co_ C i l) 20) ((co_ C i l) 21) ((co_ C i l) 22) ((co_ C i l) 23) ch := by
  intro N
  induction N with
  | zero => intro l e1 e2; omega
  | succ N ih =>
    intro l e1 e2
    by_cases e : l = 8
    · subst e
      obtain rfl : N = 0 := by omega
      exact k0
    · have h8 := ni_lit8 (j := l + 1) (by omega)
      have hin : vp_in (nI (i * 9 + (l + 1))) 36 := vp_in_nI (by omega) (by omega)
      have hc : (nI (i * 9 + (l + 1))).toNatClampNeg = i * 9 + (l + 1) := nI_clamp (by omega)
      have e7 : upd (co_ C i l 7) (nI (i * 9 + (l + 1))).toNatClampNeg (-1) = upd (co_ C i l 7) (i * 9 + (l + 1)) (-1) := by rw [hc]
      have ki := co_yi (φ := φ) (ι := ι) (ω := ω) (κ := κ) (p := p) (ls := ls) (Q := Q) (C := cw_ (co_ C i l) 7 (i * 9 + (l + 1)) (-1)) (ch := ch) (i := i) (n := l + 1) hi (by omega) (post := post) (J := wY_enter_231 post (nI i) x2 x5 x6 x7 (nI φ) (nI ι) (nI ω) (nI κ) (nI p) ls N) (x2 := x2) (x5 := x5) (x6 := x6) (x7 := x7) (ih (l + 1) (by omega) (by omega)) 4 0 rfl
      exact br_f h8 (nm_r (ix_9 i (l + 1)) ⟨hin, nm_r e7 ⟨5, ki⟩⟩)
end
/-! the last loop of enter -/
section
variable {φ ι ω κ i w m k h t : Nat} {ch : Nat → Int32} {B : Nat → Nat → Int32}
theorem ef_loop (hK : kk_ φ ι ω κ) (hi : i < 4) (hw : w < 8) (hk : k < 8) (hm : m < 16) (ht : t ≤ 8) (hh : h ≤ 8) (hch : ∀ n, 1 ≤ n → n ≤ 8 → ch n = (cf_ B (dj_ φ w k) m n 4).2) (hB : ge_ (B 22) (B 23)) {x9 : Int32} (hx : (x9 = 0 ∧ ¬ nI w - nI w / 4 * 4 = nI i) ∨ (x9 = 1 ∧ nI w - nI w / 4 * 4 = nI i)) : ∀ (d n : Nat) (C : Nat → Nat → Int32) (p : Nat) (ls : Int32) (P Q : Nat → Nat → Int32), n + d = 9 → 1 ≤ n → gc_ φ C → C 22 = B 22 → C 23 = B 23 → gp_ φ κ p P Q → lk_ (ev_ (t0_ φ ι ω κ)) (fun q => wX_enter_103 q (nI i) (nI w) (nI m) (nI k) (nI h) (nI t) x9 (d + 1) (nI n) (nI φ) (nI ι) (nI ω) (nI κ) (nI p) ls (P 0) (P 1) (P 2) (P 3) (P 4) (P 5) (C 0) (C 1) (C 2) (C 3) (C 4) (C 5) (C 6) (C 7) (C 8) (C 9) (C 10) (C 11) (C 12) (C 13) (C 14) (C 15) (C 16) (C 17) (C 18) (C 19) (C 20) (C 21) (C 22) (C 23)) (fun q => wY_enter_330 q (nI i) (nI w) (nI h) (nI t) (d + 1) (nI n) (nI φ) (nI ι) (nI ω) (nI κ) (nI p) ls (Q 0) (Q 1) (Q 2) (Q 3) (Q 4) (Q 5) (C 0) (C 1) (C 2) (C 3) (C 4) (C 5) (C 6) (C 7) (C 8) (C 9) (C 10) (C 11) (C 12) (C 13) (C 14) (C 15) (C 16) (C 17) (C 18) (C 19) (C 20) (C 21) (C 22) (C 23) ch) := by
  have hK' := hK
  obtain ⟨k0, k1, k2, k3, k4, k5, k6⟩ := hK
  intro d
  induction d with
  | zero =>
    intro n C p ls P Q hn h1 gc _ _ gp
    obtain rfl : n = 9 := by omega
    exact lk_mono (fun q h => br_t ni_gt8 h) (fun q h => br_t ni_gt8 h) (lk_rv ⟨C, ch, gc, trivial, p, ls, P, Q, rfl, rfl, gp⟩)
  | succ d ih =>
    intro n C p ls P Q hn h1 gc e22 e23 gp
    have h8 := ni_lit8 (j := n) (by omega)
    refine lk_mono (fun q h => br_f h8 h) (fun q h => br_f h8 h) ?_
    by_cases c1 : n ≤ h
    · have c1' : nI n ≤ nI h := nI_le c1 (by omega)
      refine sx_t c1' (sx_r (nI_1 n) (sy_t c1' (sy_r (nI_1 n) ?_)))
      exact ih (n + 1) C p ls P Q (by omega) (by omega) gc e22 e23 gp
    have c1' : ¬ nI n ≤ nI h := nI_ge (by omega) (by omega)
    refine sx_f c1' (sy_f c1' ?_)
    by_cases c2 : t < n
    · have c2' : nI t < nI n := nI_lt c2 (by omega)
      refine sx_t c2' (sx_r (nI_1 n) (sy_t c2' (sy_r (nI_1 n) ?_)))
      exact ih (n + 1) C p ls P Q (by omega) (by omega) gc e22 e23 gp
    have c2' : ¬ nI t < nI n := nI_nlt (by omega) (by omega)
    refine sx_f c2' (sy_f c2' ?_)
    have ecf : (cf_ C (dj_ φ w k) m n 4).2 = ch n := by
      rw [hch n h1 (by omega)]
      have : ∀ j, cf_ C (dj_ φ w k) m n j = cf_ B (dj_ φ w k) m n j := by
        intro j
        induction j with
        | zero => rfl
        | succ j ihj =>
          show (if _ then _ else _) = (if _ then _ else _)
          rw [e22, e23, ihj]
      rw [this 4]
    have hd : bd_ 10 (ch n) := by rw [hch n h1 (by omega)]; exact (cf_ok hB 4).2
    refine lk_mx (fun q z => ch_x (P := P) (C := C) (by omega) hw hk hm (by omega) z) ?_
    rw [ecf]
    have hin : vp_in (nI i) 4 := vp_in_nI hi (by omega)
    have hc : (nI i).toNatClampNeg = i := nI_clamp (by omega)
    have hin9 : vp_in (nI n) 9 := vp_in_nI (by omega) (by omega)
    have hc9 : (nI n).toNatClampNeg = n := nI_clamp (by omega)
    have hin36 : vp_in (nI (i * 9 + n)) 36 := vp_in_nI (by omega) (by omega)
    have hc36 : (nI (i * 9 + n)).toNatClampNeg = i * 9 + n := nI_clamp (by omega)
    have hin288 : vp_in (nI ((i * 8 + w) * 9 + n)) 288 := vp_in_nI (by omega) (by omega)
    have hc288 : (nI ((i * 8 + w) * 9 + n)).toNatClampNeg = (i * 8 + w) * 9 + n := nI_clamp (by omega)
    have hin144 : vp_in (nI ((i * 9 + n) * 4 + i)) 144 := vp_in_nI (by omega) (by omega)
    have hc144 : (nI ((i * 9 + n) * 4 + i)).toNatClampNeg = (i * 9 + n) * 4 + i := nI_clamp (by omega)
    obtain ⟨hs, hs9, hst⟩ := gc.2.1 i
    dsimp only [wpX_prepareAgain, wpX_proposeAgain, wpX_logCell, wpX_voteCell, wpX_signCell]
    simp only [forall_eq, ix_9, ix_8, ix_4, hc, hc9, hc36, hc288, hc144, hst, nI_1]
    have o1 : ¬ (1 : Int32) = 0 := by decide
    have o0 : (0 : Int32) = 0 := rfl
    rcases hx with ⟨rfl, pr⟩ | ⟨rfl, pr⟩
    · by_cases c3 : n ≤ hs
      · have c3' : nI n ≤ nI hs := nI_le c3 (by omega)
        repeat' (first
          | with_reducible refine sx_i (by first | with_reducible assumption | decide) ?_
          | with_reducible refine sy_i (by first | with_reducible assumption | decide) ?_
          | with_reducible refine sx_n ?_
          | with_reducible refine sy_n ?_
          | with_reducible refine sx_t (by first | with_reducible assumption | exact trivial) ?_
          | with_reducible refine sx_f (by with_reducible assumption) ?_
          | with_reducible refine sy_t (by first | with_reducible assumption | exact trivial) ?_
          | with_reducible refine sy_f (by with_reducible assumption) ?_ | fail)
        exact ih (n + 1) C p ls P Q (by omega) (by omega) gc e22 e23 gp
      · have c3' : ¬ nI n ≤ nI hs := nI_ge (by omega) (by omega)
        repeat' (first
          | with_reducible refine sx_i (by first | with_reducible assumption | decide) ?_
          | with_reducible refine sy_i (by first | with_reducible assumption | decide) ?_
          | with_reducible refine sx_n ?_
          | with_reducible refine sy_n ?_
          | with_reducible refine sx_t (by first | with_reducible assumption | exact trivial) ?_
          | with_reducible refine sx_f (by with_reducible assumption) ?_
          | with_reducible refine sy_t (by first | with_reducible assumption | exact trivial) ?_
          | with_reducible refine sy_f (by with_reducible assumption) ?_ | fail)
        refine lk_bv (mc_lk (C := cw_ (cw_ (cw_ C 7 (i * 9 + n) (ch n)) 17 ((i * 8 + w) * 9 + n) (ch n)) 13 ((i * 9 + n) * 4 + i) (ch n)) (ch := ch) hK' hi (fun j e1 e2 e3 => mk_1 hi e1 e2 e3 (Or.inr (Or.inl rfl)) ⟨w, hw, rfl⟩ ⟨n, h1, by omega, rfl⟩ hd) gp) ?_
        rintro u v ⟨p', ls', P', Q', rfl, rfl, gp'⟩
        dsimp only
        repeat' (first
          | with_reducible refine sx_i (by first | with_reducible assumption | decide) ?_
          | with_reducible refine sy_i (by first | with_reducible assumption | decide) ?_
          | with_reducible refine sx_n ?_
          | with_reducible refine sy_n ?_
          | with_reducible refine sx_t (by first | with_reducible assumption | exact trivial) ?_
          | with_reducible refine sx_f (by with_reducible assumption) ?_
          | with_reducible refine sy_t (by first | with_reducible assumption | exact trivial) ?_
          | with_reducible refine sy_f (by with_reducible assumption) ?_ | fail)
        refine ih (n + 1) (cw_ (cw_ (cw_ C 7 (i * 9 + n) (ch n)) 17 ((i * 8 + w) * 9 + n) (ch n)) 13 ((i * 9 + n) * 4 + i) (ch n)) p' ls' P' Q' (by omega) (by omega) ?_ e22 e23 gp'
        obtain ⟨h0, h2, h4, h7, h8, h16, h22, hdd, hvv⟩ := gc
        exact ⟨h0, h2, h4, gn_u h7 (Or.inr hd), h8, h16, h22, hdd, hvv⟩
    · by_cases c3 : n ≤ hs
      · have c3' : nI n ≤ nI hs := nI_le c3 (by omega)
        repeat' (first
          | with_reducible refine sx_i (by first | with_reducible assumption | decide) ?_
          | with_reducible refine sy_i (by first | with_reducible assumption | decide) ?_
          | with_reducible refine sx_n ?_
          | with_reducible refine sy_n ?_
          | with_reducible refine sx_t (by first | with_reducible assumption | exact trivial) ?_
          | with_reducible refine sx_f (by with_reducible assumption) ?_
          | with_reducible refine sy_t (by first | with_reducible assumption | exact trivial) ?_
          | with_reducible refine sy_f (by with_reducible assumption) ?_ | fail)
        exact ih (n + 1) (cw_ C 17 ((i * 8 + w) * 9 + n) (ch n)) p ls P Q (by omega) (by omega) gc e22 e23 gp
      · have c3' : ¬ nI n ≤ nI hs := nI_ge (by omega) (by omega)
        repeat' (first
          | with_reducible refine sx_i (by first | with_reducible assumption | decide) ?_
          | with_reducible refine sy_i (by first | with_reducible assumption | decide) ?_
          | with_reducible refine sx_n ?_
          | with_reducible refine sy_n ?_
          | with_reducible refine sx_t (by first | with_reducible assumption | exact trivial) ?_
          | with_reducible refine sx_f (by with_reducible assumption) ?_
          | with_reducible refine sy_t (by first | with_reducible assumption | exact trivial) ?_
          | with_reducible refine sy_f (by with_reducible assumption) ?_ | fail)
        refine ih (n + 1) (cw_ (cw_ C 17 ((i * 8 + w) * 9 + n) (ch n)) 7 (i * 9 + n) (ch n)) p ls P Q (by omega) (by omega) ?_ e22 e23 gp
        obtain ⟨h0, h2, h4, h7, h8, h16, h22, hdd, hvv⟩ := gc
        exact ⟨h0, h2, h4, gn_u h7 (Or.inr hd), h8, h16, h22, hdd, hvv⟩
theorem ef_lk (hK : kk_ φ ι ω κ) (hi : i < 4) (hw : w < 8) (hk : k < 8) (hm : m < 16) (ht : t ≤ 8) (hh : h ≤ 8) (hch : ∀ n, 1 ≤ n → n ≤ 8 → ch n = (cf_ B (dj_ φ w k) m n 4).2) (hB : ge_ (B 22) (B 23)) {C : Nat → Nat → Int32} {p : Nat} {ls : Int32} {P Q : Nat → Nat → Int32} (gc : gc_ φ C) (e22 : C 22 = B 22) (e23 : C 23 = B 23) (gp : gp_ φ κ p P Q) : lk_ (ev_ (t0_ φ ι ω κ)) (fun q => wX_enter_84 q (nI i) (nI w) (nI m) (nI k) (nI h) (nI t) (nI φ) (nI ι) (nI ω) (nI κ) (nI p) ls (P 0) (P 1) (P 2) (P 3) (P 4) (P 5) (C 0) (C 1) (C 2) (C 3) (C 4) (C 5) (C 6) (C 7) (C 8) (C 9) (C 10) (C 11) (C 12) (C 13) (C 14) (C 15) (C 16) (C 17) (C 18) (C 19) (C 20) (C 21) (C 22) (C 23)) (fun q => ∃ n330, wY_enter_330 q (nI i) (nI w) (nI h) (nI t) n330 1 (nI φ) (nI ι) (nI ω) (nI κ) (nI p) ls (Q 0) (Q 1) (Q 2) (Q 3) (Q 4) (Q 5) (C 0) (C 1) (C 2) (C 3) (C 4) (C 5) (C 6) (C 7) (C 8) (C 9) (C 10) (C 11) (C 12) (C 13) (C 14) (C 15) (C 16) (C 17) (C 18) (C 19) (C 20) (C 21) (C 22) (C 23) ch) := by
  unfold wX_enter_84
  refine lk_mx (fun q z => cl_p z) (sy_e 9 ?_)
  refine sx_c (fun c => sx_e 9 ?_) (fun c => sx_e 9 ?_)
  · exact ef_loop hK hi hw hk hm ht hh hch hB (Or.inr ⟨rfl, c⟩) 8 1 C p ls P Q rfl (by omega) gc e22 e23 gp
  · exact ef_loop hK hi hw hk hm ht hh hch hB (Or.inl ⟨rfl, c⟩) 8 1 C p ls P Q rfl (by omega) gc e22 e23 gp
end
theorem vb_1 : ¬ vp_nar .boolean 1 = 0 := by
  rw [show vp_nar .boolean 1 = 1 from rfl]
  decide
theorem gv_en {φ i w : Nat} {vo ac hl dv : Nat → Int32} (hi : i < 4) (h : gv_ φ vo ac hl dv) : gv_ φ (upd vo i (nI w)) (upd ac i (vp_nar .boolean 1)) hl dv := by
  intro j hj hjf ha
  by_cases e : j = i
  · subst e
    rw [pk_us] at ha
    exact absurd ha vb_1
  · rw [pk_un e] at ha
    obtain ⟨w', b1, b2, b3, b4, b5⟩ := h j hj hjf ha
    exact ⟨w', b1, b2, (pk_un e).trans b3, b4, b5⟩
section
variable {φ ι ω κ p i w m k : Nat} {ls : Int32} {P Q C : Nat → Nat → Int32} {ch : Nat → Int32}
theorem en_lk (hK : kk_ φ ι ω κ) (hi : i < 4) (hw : w < 8) (hk : k < 8) (hm : m < 16) (hx : ∃ j, j < 4 ∧ m.testBit j = true ∧ bd_ 9 (C 20 (dj_ φ w k j))) (gc : gc_ φ C) (gp : gp_ φ κ p P Q) : lk_ (ev_ (t0_ φ ι ω κ)) (fun q => wpX_enter q (xs_ φ ι ω κ p ls P C) (nI i) (nI w) (nI m) (nI k)) (fun q => wpY_enter q (ys_ φ ι ω κ p ls Q C ch) (nI i) (nI w) (nI m) (nI k)) := by
  have hf : φ < 4 := hK.1
  have hge := gc.2.2.2.2.2.2.1
  have hgd : ∀ d, d < 32 → C 20 d = -1 ∨ bd_ 9 (C 20 d) := fun d hd => by
    rcases gc.2.2.2.2.2.2.2.1 d hd with ⟨_, _, z, _⟩ | ⟨_, _, z⟩
    · exact Or.inl z
    · exact Or.inr z
  obtain ⟨b, h, hb32, hh8, eb, e20⟩ := lb_fin (fun j hj => dj_lt hw hk hj) hgd hx
  have hin : vp_in (nI i) 4 := vp_in_nI hi (by omega)
  have hc : (nI i).toNatClampNeg = i := nI_clamp (by omega)
  have hinb : vp_in (nI b) 32 := vp_in_nI hb32 (by omega)
  have hcb : (nI b).toNatClampNeg = b := nI_clamp (by omega)
  have h20 : C 20 (nI b).toNatClampNeg = nI h := by rw [hcb, e20]
  have h21 : C 21 (nI b).toNatClampNeg = C 21 b := by rw [hcb]
  have ht8 := to_8 (C := C) (D := dj_ φ w k) (m := m) hh8
  unfold wpX_enter
  dsimp only
  refine lk_mx (fun q z => lo_x (P := P) (C := C) hf hw hk hm z) ?_
  rw [eb]
  refine sx_i hinb (sx_r h20 (sx_i hinb (sx_r h21 ?_)))
  refine lk_mx (fun q z => te_x (P := P) (C := C) hf hw hk hm hh8 z) ?_
  simp only [hc]
  refine sx_i hin (sx_n (sx_i hin (sx_n ?_)))
  refine lk_mx (fun q z => co_x (P := P) (C := cw_ (cw_ C 0 i (nI w)) 1 i (vp_nar .boolean 1)) hi z) ?_
  have kY := fun (q : SY → Prop) z => lo_yl (φ := φ) (ι := ι) (ω := ω) (κ := κ) (p := p) (ls := ls) (Q := Q) (C := C) (ch := ch) (i := i) hf hw hk hm (post := q) z 4 0 rfl
  rw [eb] at kY
  refine lk_my (fun q z => Exists.intro 5 (kY q (br_t ni_ge4 (Exists.intro 9 z)))) ?_
  have kZ := fun (q : SY → Prop) z => ch_yo (φ := φ) (ι := ι) (ω := ω) (κ := κ) (p := p) (ls := ls) (Q := Q) (C := C) (ch := ch) (i := i) hf hw hk hm hh8 hge (s := C 21 b) (post := q) z 9 0 rfl (by omega)
  rw [to_yo] at kZ
  refine lk_my (fun q z => kZ q (br_t ni_gt8 z)) ?_
  simp only [hc]
  refine sy_i hin (sy_n (sy_i hin (sy_n (sy_e 9 ?_))))
  refine lk_my (fun q z => co_yo (Q := Q) (C := cw_ (cw_ C 0 i (nI w)) 1 i (vp_nar .boolean 1)) hi (br_t ni_gt8 z) 9 0 rfl (by omega)) ?_
  have g1 : gc_ φ (cw_ (cw_ C 0 i (nI w)) 1 i (vp_nar .boolean 1)) := by
    obtain ⟨h0, h2, h4, h7, h8, h16, h22, hdd, hvv⟩ := gc
    exact ⟨ga_u h0 ⟨w, hw, rfl⟩, h2, h4, h7, h8, h16, h22, hdd, gv_en hi hvv⟩
  have g2 := gc_co (i := i) g1 8
  have f22 : co_ (cw_ (cw_ C 0 i (nI w)) 1 i (vp_nar .boolean 1)) i 8 22 = C 22 := (co_n (by decide) (by decide) (by decide) 8).trans rfl
  have f23 : co_ (cw_ (cw_ C 0 i (nI w)) 1 i (vp_nar .boolean 1)) i 8 23 = C 23 := (co_n (by decide) (by decide) (by decide) 8).trans rfl
  have hch : ∀ n, 1 ≤ n → n ≤ 8 → cz_ C (dj_ φ w k) m ch 8 n = (cf_ C (dj_ φ w k) m n 4).2 := fun n n1 n8 => cz_at 8 n1 n8
  generalize co_ (cw_ (cw_ C 0 i (nI w)) 1 i (vp_nar .boolean 1)) i 8 = C2 at *
  generalize cz_ C (dj_ φ w k) m ch 8 = ch2 at *
  dsimp only
  simp only [hc]
  refine sx_i hin (sy_i hin ?_)
  refine sx_c (fun c => ?_) (fun c => ?_)
  · refine sy_t c ?_
    exact ef_lk hK hi hw hk hm ht8 hh8 hch hge g2 f22 f23 gp
  · refine sy_f c ?_
    refine lk_bv (st_lk (ch := ch2) (ls := ls) hi hh8 gp g2) ?_
    rintro u v ⟨C', ch', gc', ⟨fr1, fr2⟩, p', ls', P', Q', rfl, rfl, gp'⟩
    subst fr2
    dsimp only
    refine lk_bv (se_lk (ch := ch') (ls := ls') hK hi gc' gp') ?_
    rintro u v ⟨C3, ch3, gc3, ⟨fr3, fr4⟩, p3, ls3, P3, Q3, rfl, rfl, gp3⟩
    subst fr4
    dsimp only
    exact ef_lk hK hi hw hk hm ht8 hh8 hch hge gc3 ((fr3 22 (by omega)).trans ((fr1 22 (by omega)).trans f22)) ((fr3 23 (by omega)).trans ((fr1 23 (by omega)).trans f23)) gp3
end
end
section
/-! ranges, certificates, valid documents -/
section
variable {post : Int32 → Prop} {x a b : Int32}
theorem wi_x1 {u : SX} (h1 : ¬ x < a) (h2 : ¬ b < x) (k : post 1) : wpX_within post u x a b := by
  obtain ⟨_, _, _, _, _, _, _, _, _, _, _, _, _, _, _, _, _, _, _, _, _, _, _, _, _, _, _, _, _, _, _, _, _, _, _, _⟩ := u
  exact br_f h1 (br_f h2 k)
theorem wi_x0 {u : SX} (h : x < a ∨ b < x) (k : post 0) : wpX_within post u x a b := by
  obtain ⟨_, _, _, _, _, _, _, _, _, _, _, _, _, _, _, _, _, _, _, _, _, _, _, _, _, _, _, _, _, _, _, _, _, _, _, _⟩ := u
  by_cases h1 : x < a
  · exact br_t h1 k
  · exact br_f h1 (br_t (h.resolve_left h1) k)
theorem wi_y1 {u : SY} (h1 : ¬ x < a) (h2 : ¬ b < x) (k : post 1) : wpY_within post u x a b := by
  obtain ⟨_, _, _, _, _, _, _, _, _, _, _, _, _, _, _, _, _, _, _, _, _, _, _, _, _, _, _, _, _, _, _, _, _, _, _, _, _⟩ := u
  exact br_f h1 (br_f h2 k)
theorem wi_y0 {u : SY} (h : x < a ∨ b < x) (k : post 0) : wpY_within post u x a b := by
  obtain ⟨_, _, _, _, _, _, _, _, _, _, _, _, _, _, _, _, _, _, _, _, _, _, _, _, _, _, _, _, _, _, _, _, _, _, _, _, _⟩ := u
  by_cases h1 : x < a
  · exact br_t h1 k
  · exact br_f h1 (br_t (h.resolve_left h1) k)
end
theorem wi_n {c lo hi : Nat} (h1 : lo ≤ c) (h2 : c ≤ hi) (h : hi < 2 ^ 31) : ¬ nI c < nI lo ∧ ¬ nI hi < nI c := ⟨nI_nlt h1 (by omega), nI_nlt h2 h⟩
def g17_ (C : Nat → Nat → Int32) (v n : Nat) : Nat → Int32 := fun r => C 17 ((r * 8 + v) * 9 + n)
def g12_ (C : Nat → Nat → Int32) (h : Nat) : Nat → Int32 := fun r => C 12 (r * 9 + h)
section
variable {φ ι ω κ p v n h : Nat} {ls : Int32} {P Q C : Nat → Nat → Int32} {ch : Nat → Int32} {s : Int32} {post : Int32 → Prop}
theorem ce_xl (hf : φ < 4) (hv : v < 8) (hn : n ≤ 8) (h0 : cp_ (g17_ C v n) s (nI φ) 4 < 2 → post 0) (h1 : 2 ≤ cp_ (g17_ C v n) s (nI φ) 4 → post 1) : ∀ d m, m + d = 4 → wX_isCertified_6 post (nI v) (nI n) s (nI φ) (nI ι) (nI ω) (nI κ) (nI p) ls (P 0) (P 1) (P 2) (P 3) (P 4) (P 5) (C 0) (C 1) (C 2) (C 3) (C 4) (C 5) (C 6) (C 7) (C 8) (C 9) (C 10) (C 11) (C 12) (C 13) (C 14) (C 15) (C 16) (C 17) (C 18) (C 19) (C 20) (C 21) (C 22) (C 23) (d + 1) (nI (cp_ (g17_ C v n) s (nI φ) m)) (nI m) := by
  intro d
  induction d with
  | zero =>
    intro m hm
    obtain rfl : m = 4 := by omega
    have hl := cp_le (g17_ C v n) s (nI φ) 4
    by_cases c : cp_ (g17_ C v n) s (nI φ) 4 < 2
    · exact br_t ni_ge4 (br_t (ni_lt2 c) (h0 c))
    · exact br_t ni_ge4 (br_f (ni_ge2 (by omega) (by omega)) (h1 (by omega)))
  | succ d ih =>
    intro m hm
    have h4 := ni_lit4 (j := m) (by omega)
    have hin : vp_in (nI ((m * 8 + v) * 9 + n)) 288 := vp_in_nI (by omega) (by omega)
    have hc : (nI ((m * 8 + v) * 9 + n)).toNatClampNeg = (m * 8 + v) * 9 + n := nI_clamp (by omega)
    have k := ih (m + 1) (by omega)
    by_cases e0 : nI m = nI φ
    · rw [cp_f (Or.inl e0)] at k
      exact br_f h4 (br_t e0 (nm_r (nI_1 m) k))
    · by_cases e : g17_ C v n m = s
      · have e' : C 17 (nI ((m * 8 + v) * 9 + n)).toNatClampNeg = s := by rw [hc]; exact e
        rw [cp_t e0 e] at k
        exact br_f h4 (br_f e0 (cl_s ⟨hin, br_t e' (nm_r (nI_1 _) (nm_r (nI_1 m) k))⟩))
      · have e' : ¬ C 17 (nI ((m * 8 + v) * 9 + n)).toNatClampNeg = s := by rw [hc]; exact e
        rw [cp_f (Or.inr e)] at k
        exact br_f h4 (br_f e0 (cl_s ⟨hin, br_f e' (nm_r (nI_1 m) k)⟩))
theorem ce_x (hf : φ < 4) (hv : v < 8) (hn : n ≤ 8) (h0 : cp_ (g17_ C v n) s (nI φ) 4 < 2 → post 0) (h1 : 2 ≤ cp_ (g17_ C v n) s (nI φ) 4 → post 1) : wpX_isCertified post (xs_ φ ι ω κ p ls P C) (nI v) (nI n) s := Exists.intro 5 (ce_xl hf hv hn h0 h1 4 0 rfl)
theorem ce_yl (hf : φ < 4) (hv : v < 8) (hn : n ≤ 8) (h0 : cp_ (g17_ C v n) s (nI φ) 4 < 2 → post 0) (h1 : 2 ≤ cp_ (g17_ C v n) s (nI φ) 4 → post 1) : ∀ d m, m + d = 4 → wY_certified_41 post (nI v) (nI n) s (nI φ) (nI ι) (nI ω) (nI κ) (nI p) ls (Q 0) (Q 1) (Q 2) (Q 3) (Q 4) (Q 5) (C 0) (C 1) (C 2) (C 3) (C 4) (C 5) (C 6) (C 7) (C 8) (C 9) (C 10) (C 11) (C 12) (C 13) (C 14) (C 15) (C 16) (C 17) (C 18) (C 19) (C 20) (C 21) (C 22) (C 23) ch (d + 1) (nI (cp_ (g17_ C v n) s (nI φ) m)) (nI m) := by
  intro d
  induction d with
  | zero =>
    intro m hm
    obtain rfl : m = 4 := by omega
    have hl := cp_le (g17_ C v n) s (nI φ) 4
    by_cases c : cp_ (g17_ C v n) s (nI φ) 4 < 2
    · exact br_t ni_ge4 (br_t (ni_lt2 c) (h0 c))
    · exact br_t ni_ge4 (br_f (ni_ge2 (by omega) (by omega)) (h1 (by omega)))
  | succ d ih =>
    intro m hm
    have h4 := ni_lit4 (j := m) (by omega)
    have hin : vp_in ((nI m * 8 + nI v) * 9 + nI n) 288 := by rw [ix_s]; exact vp_in_nI (by omega) (by omega)
    have hc : ((nI m * 8 + nI v) * 9 + nI n).toNatClampNeg = (m * 8 + v) * 9 + n := by rw [ix_s]; exact nI_clamp (by omega)
    have k := ih (m + 1) (by omega)
    by_cases e0 : nI m = nI φ
    · rw [cp_f (Or.inl e0)] at k
      exact br_f h4 (br_t e0 (nm_r (nI_1 m) k))
    · by_cases e : g17_ C v n m = s
      · have e' : C 17 ((nI m * 8 + nI v) * 9 + nI n).toNatClampNeg = s := by rw [hc]; exact e
        rw [cp_t e0 e] at k
        exact br_f h4 (br_f e0 ⟨hin, br_t e' (nm_r (nI_1 _) (nm_r (nI_1 m) k))⟩)
      · have e' : ¬ C 17 ((nI m * 8 + nI v) * 9 + nI n).toNatClampNeg = s := by rw [hc]; exact e
        rw [cp_f (Or.inr e)] at k
        exact br_f h4 (br_f e0 ⟨hin, br_f e' (nm_r (nI_1 m) k)⟩)
theorem ce_y (hf : φ < 4) (hv : v < 8) (hn1 : 1 ≤ n) (hn : n ≤ 8) (hs : bd_ 10 s) (h0 : cp_ (g17_ C v n) s (nI φ) 4 < 2 → post 0) (h1 : 2 ≤ cp_ (g17_ C v n) s (nI φ) 4 → post 1) : wpY_certified post (ys_ φ ι ω κ p ls Q C ch) (nI v) (nI n) s := by
  have k := ce_yl (φ := φ) (ι := ι) (ω := ω) (κ := κ) (p := p) (ls := ls) (Q := Q) (C := C) (ch := ch) (post := post) hf hv hn h0 h1 4 0 rfl
  obtain ⟨e, he, rfl⟩ := hs
  have w1 := wi_n (c := v) (lo := 0) (hi := 7) (by omega) (by omega) (by decide)
  have w2 := wi_n (c := n) (lo := 1) (hi := 8) (by omega) (by omega) (by decide)
  have w3 := wi_n (c := e) (lo := 0) (hi := 9) (by omega) (by omega) (by decide)
  have o1 : ¬ (1 : Int32) = 0 := by decide
  unfold wpY_certified
  dsimp only
  exact wi_y1 w1.1 w1.2 (br_f o1 (wi_y1 w2.1 w2.2 (br_f o1 (wi_y1 w3.1 w3.2 (br_f o1 (Exists.intro 5 k))))))
theorem sg_xl (hf : φ < 4) (hh : h ≤ 8) (h0 : cp_ (g12_ C h) s (nI φ) 4 < 2 → post 0) (h1 : 2 ≤ cp_ (g12_ C h) s (nI φ) 4 → post 1) : ∀ d m, m + d = 4 → wX_isSignedCheckpoint_5 post (nI h) s (nI φ) (nI ι) (nI ω) (nI κ) (nI p) ls (P 0) (P 1) (P 2) (P 3) (P 4) (P 5) (C 0) (C 1) (C 2) (C 3) (C 4) (C 5) (C 6) (C 7) (C 8) (C 9) (C 10) (C 11) (C 12) (C 13) (C 14) (C 15) (C 16) (C 17) (C 18) (C 19) (C 20) (C 21) (C 22) (C 23) (d + 1) (nI (cp_ (g12_ C h) s (nI φ) m)) (nI m) := by
  intro d
  induction d with
  | zero =>
    intro m hm
    obtain rfl : m = 4 := by omega
    have hl := cp_le (g12_ C h) s (nI φ) 4
    by_cases c : cp_ (g12_ C h) s (nI φ) 4 < 2
    · exact br_t ni_ge4 (br_t (ni_lt2 c) (h0 c))
    · exact br_t ni_ge4 (br_f (ni_ge2 (by omega) (by omega)) (h1 (by omega)))
  | succ d ih =>
    intro m hm
    have h4 := ni_lit4 (j := m) (by omega)
    have hin : vp_in (nI (m * 9 + h)) 36 := vp_in_nI (by omega) (by omega)
    have hc : (nI (m * 9 + h)).toNatClampNeg = m * 9 + h := nI_clamp (by omega)
    have k := ih (m + 1) (by omega)
    by_cases e0 : nI m = nI φ
    · rw [cp_f (Or.inl e0)] at k
      exact br_f h4 (br_t e0 (nm_r (nI_1 m) k))
    · by_cases e : g12_ C h m = s
      · have e' : C 12 (nI (m * 9 + h)).toNatClampNeg = s := by rw [hc]; exact e
        rw [cp_t e0 e] at k
        exact br_f h4 (br_f e0 (cl_l ⟨hin, br_t e' (nm_r (nI_1 _) (nm_r (nI_1 m) k))⟩))
      · have e' : ¬ C 12 (nI (m * 9 + h)).toNatClampNeg = s := by rw [hc]; exact e
        rw [cp_f (Or.inr e)] at k
        exact br_f h4 (br_f e0 (cl_l ⟨hin, br_f e' (nm_r (nI_1 m) k)⟩))
theorem sg_x (hf : φ < 4) (hh : h ≤ 8) (h0 : cp_ (g12_ C h) s (nI φ) 4 < 2 → post 0) (h1 : 2 ≤ cp_ (g12_ C h) s (nI φ) 4 → post 1) : wpX_isSignedCheckpoint post (xs_ φ ι ω κ p ls P C) (nI h) s := Exists.intro 5 (sg_xl hf hh h0 h1 4 0 rfl)
theorem sg_yl (hf : φ < 4) (hh : h ≤ 8) {x3 x4 : Int32} (k0 : wY_documentValid_112 post x3 x4 (nI h) s (nI φ) (nI ι) (nI ω) (nI κ) (nI p) ls (Q 0) (Q 1) (Q 2) (Q 3) (Q 4) (Q 5) (C 0) (C 1) (C 2) (C 3) (C 4) (C 5) (C 6) (C 7) (C 8) (C 9) (C 10) (C 11) (C 12) (C 13) (C 14) (C 15) (C 16) (C 17) (C 18) (C 19) (C 20) (C 21) (C 22) (C 23) ch 1 (nI (cp_ (g12_ C h) s (nI φ) 4)) (nI 4)) : ∀ d m, m + d = 4 → wY_documentValid_112 post x3 x4 (nI h) s (nI φ) (nI ι) (nI ω) (nI κ) (nI p) ls (Q 0) (Q 1) (Q 2) (Q 3) (Q 4) (Q 5) (C 0) (C 1) (C 2) (C 3) (C 4) (C 5) (C 6) (C 7) (C 8) (C 9) (C 10) (C 11) (C 12) (C 13) (C 14) (C 15) (C 16) (C 17) (C 18) (C 19) (C 20) (C 21) (C 22) (C 23) ch (d + 1) (nI (cp_ (g12_ C h) s (nI φ) m)) (nI m) := by
  intro d
  induction d with
  | zero =>
    intro m hm
    obtain rfl : m = 4 := by omega
    exact k0
  | succ d ih =>
    intro m hm
    have h4 := ni_lit4 (j := m) (by omega)
    have hin : vp_in (nI m * 9 + nI h) 36 := by rw [ix_9]; exact vp_in_nI (by omega) (by omega)
    have hc : (nI m * 9 + nI h).toNatClampNeg = m * 9 + h := by rw [ix_9]; exact nI_clamp (by omega)
    have k := ih (m + 1) (by omega)
    by_cases e0 : nI m = nI φ
    · rw [cp_f (Or.inl e0)] at k
      exact br_f h4 (br_t e0 (nm_r (nI_1 m) k))
    · by_cases e : g12_ C h m = s
      · have e' : C 12 (nI m * 9 + nI h).toNatClampNeg = s := by rw [hc]; exact e
        rw [cp_t e0 e] at k
        exact br_f h4 (br_f e0 ⟨hin, br_t e' (nm_r (nI_1 _) (nm_r (nI_1 m) k))⟩)
      · have e' : ¬ C 12 (nI m * 9 + nI h).toNatClampNeg = s := by rw [hc]; exact e
        rw [cp_f (Or.inr e)] at k
        exact br_f h4 (br_f e0 ⟨hin, br_f e' (nm_r (nI_1 m) k)⟩)
end
def o1_ (r : Int32) : Prop := r = 0 ∨ r = 1
section
variable {φ ι ω κ p h d0 : Nat} {ls : Int32} {P Q C : Nat → Nat → Int32} {ch : Nat → Int32}
theorem vd_loop (hf : φ < 4) (hd : d0 < 32) (hh : h ≤ 8) (ge : ge_ (C 22) (C 23)) : ∀ d n, n + d = 9 → 1 ≤ n → lk_ (ea_ o1_) (fun q => wX_isValid_59 q (nI d0) (nI h) (nI φ) (nI ι) (nI ω) (nI κ) (nI p) ls (P 0) (P 1) (P 2) (P 3) (P 4) (P 5) (C 0) (C 1) (C 2) (C 3) (C 4) (C 5) (C 6) (C 7) (C 8) (C 9) (C 10) (C 11) (C 12) (C 13) (C 14) (C 15) (C 16) (C 17) (C 18) (C 19) (C 20) (C 21) (C 22) (C 23) (d + 1) (nI n)) (fun q => wY_documentValid_165 q (nI d0) (C 19 d0) (nI h) (nI φ) (nI ι) (nI ω) (nI κ) (nI p) ls (Q 0) (Q 1) (Q 2) (Q 3) (Q 4) (Q 5) (C 0) (C 1) (C 2) (C 3) (C 4) (C 5) (C 6) (C 7) (C 8) (C 9) (C 10) (C 11) (C 12) (C 13) (C 14) (C 15) (C 16) (C 17) (C 18) (C 19) (C 20) (C 21) (C 22) (C 23) ch (d + 1) (nI n)) := by
  intro d
  induction d with
  | zero =>
    intro n hn h1
    obtain rfl : n = 9 := by omega
    exact lk_mono (fun q z => br_t ni_gt8 z) (fun q z => br_t ni_gt8 z) (lk_ra (Or.inr rfl))
  | succ d ih =>
    intro n hn h1
    have h8 := ni_lit8 (j := n) (by omega)
    have hin : vp_in (nI (d0 * 9 + n)) 288 := vp_in_nI (by omega) (by omega)
    have hc : (nI (d0 * 9 + n)).toNatClampNeg = d0 * 9 + n := nI_clamp (by omega)
    have hin32 : vp_in (nI d0) 32 := vp_in_nI (by omega) (by omega)
    have hc32 : (nI d0).toNatClampNeg = d0 := nI_clamp (by omega)
    have kk := ih (n + 1) (by omega) (by omega)
    refine lk_mono (fun q z => br_f h8 z) (fun q z => br_f h8 z) ?_
    simp only [forall_eq, ix_9, hc, hc32, nI_1]
    by_cases z : C 22 (d0 * 9 + n) = -1
    · (repeat' (first | with_reducible refine sx_i (by first | with_reducible assumption | decide) ?_ | with_reducible refine sy_i (by first | with_reducible assumption | decide) ?_ | with_reducible refine sx_n ?_ | with_reducible refine sy_n ?_ | with_reducible refine sx_t (by first | with_reducible assumption | exact trivial) ?_ | with_reducible refine sx_f (by with_reducible assumption) ?_ | with_reducible refine sy_t (by first | with_reducible assumption | exact trivial) ?_ | with_reducible refine sy_f (by with_reducible assumption) ?_ | fail))
      exact kk
    · obtain ⟨⟨v, hv, ev⟩, hs⟩ := (ge (d0 * 9 + n)).resolve_left z
      by_cases c1 : nI n ≤ nI h
      · (repeat' (first | with_reducible refine sx_i (by first | with_reducible assumption | decide) ?_ | with_reducible refine sy_i (by first | with_reducible assumption | decide) ?_ | with_reducible refine sx_n ?_ | with_reducible refine sy_n ?_ | with_reducible refine sx_t (by first | with_reducible assumption | exact trivial) ?_ | with_reducible refine sx_f (by with_reducible assumption) ?_ | with_reducible refine sy_t (by first | with_reducible assumption | exact trivial) ?_ | with_reducible refine sy_f (by with_reducible assumption) ?_ | fail))
        exact lk_ra (Or.inl rfl)
      by_cases c2 : nI h + nI ω < nI n
      · (repeat' (first | with_reducible refine sx_i (by first | with_reducible assumption | decide) ?_ | with_reducible refine sy_i (by first | with_reducible assumption | decide) ?_ | with_reducible refine sx_n ?_ | with_reducible refine sy_n ?_ | with_reducible refine sx_t (by first | with_reducible assumption | exact trivial) ?_ | with_reducible refine sx_f (by with_reducible assumption) ?_ | with_reducible refine sy_t (by first | with_reducible assumption | exact trivial) ?_ | with_reducible refine sy_f (by with_reducible assumption) ?_ | fail))
        exact lk_ra (Or.inl rfl)
      by_cases c3 : C 22 (d0 * 9 + n) < C 19 d0
      · (repeat' (first | with_reducible refine sx_i (by first | with_reducible assumption | decide) ?_ | with_reducible refine sy_i (by first | with_reducible assumption | decide) ?_ | with_reducible refine sx_n ?_ | with_reducible refine sy_n ?_ | with_reducible refine sx_t (by first | with_reducible assumption | exact trivial) ?_ | with_reducible refine sx_f (by with_reducible assumption) ?_ | with_reducible refine sy_t (by first | with_reducible assumption | exact trivial) ?_ | with_reducible refine sy_f (by with_reducible assumption) ?_ | fail))
        rw [ev]
        by_cases c4 : cp_ (g17_ C v n) (C 23 (d0 * 9 + n)) (nI φ) 4 < 2
        · refine lk_mono (fun q y => ce_x (P := P) (C := C) hf hv (by omega) (fun _ => br_t rfl y) (fun y' => absurd y' (by omega))) (fun q y => ce_y (Q := Q) (C := C) (ch := ch) hf hv h1 (by omega) hs (fun _ => br_t rfl y) (fun y' => absurd y' (by omega))) ?_
          exact lk_ra (Or.inl rfl)
        · exact lk_mono (fun q y => ce_x (P := P) (C := C) hf hv (by omega) (fun y' => absurd y' c4) (fun _ => br_f (by decide) y)) (fun q y => ce_y (Q := Q) (C := C) (ch := ch) hf hv h1 (by omega) hs (fun y' => absurd y' c4) (fun _ => br_f (by decide) y)) kk
      · (repeat' (first | with_reducible refine sx_i (by first | with_reducible assumption | decide) ?_ | with_reducible refine sy_i (by first | with_reducible assumption | decide) ?_ | with_reducible refine sx_n ?_ | with_reducible refine sy_n ?_ | with_reducible refine sx_t (by first | with_reducible assumption | exact trivial) ?_ | with_reducible refine sx_f (by with_reducible assumption) ?_ | with_reducible refine sy_t (by first | with_reducible assumption | exact trivial) ?_ | with_reducible refine sy_f (by with_reducible assumption) ?_ | fail))
        exact lk_ra (Or.inl rfl)
theorem vd_lk {j k : Nat} (hK : kk_ φ ι ω κ) (hj : j < 4) (hk : k < 8) (gc : gc_ φ C) : lk_ (ea_ o1_) (fun q => wpX_isValid q (xs_ φ ι ω κ p ls P C) (nI (j * 8 + k))) (fun q => wpY_documentValid q (ys_ φ ι ω κ p ls Q C ch) (nI j) (nI k)) := by
  have hK' := hK
  obtain ⟨k0, k1, k2, k3, k4, k5, k6⟩ := hK
  have hι : ¬ nI ι = 0 := nI_ne0 (by omega) (by omega)
  have hin : vp_in (nI (j * 8 + k)) 32 := vp_in_nI (by omega) (by omega)
  have hc : (nI (j * 8 + k)).toNatClampNeg = j * 8 + k := nI_clamp (by omega)
  have w1 := wi_n (c := j) (lo := 0) (hi := 3) (by omega) (by omega) (by decide)
  have w2 := wi_n (c := k) (lo := 0) (hi := 7) (by omega) (by omega) (by decide)
  have o1 : ¬ (1 : Int32) = 0 := by decide
  have o0 : (0 : Int32) = 0 := rfl
  have ge := gc.2.2.2.2.2.2.1
  unfold wpX_isValid wpY_documentValid
  dsimp only
  refine lk_my (fun q z => wi_y1 w1.1 w1.2 (br_f o1 (wi_y1 w2.1 w2.2 (br_f o1 z)))) ?_
  simp only [forall_eq, ix_8, hc]
  by_cases c0 : C 18 (j * 8 + k) = 0
  · (repeat' (first | with_reducible refine sx_i (by first | with_reducible assumption | decide) ?_ | with_reducible refine sy_i (by first | with_reducible assumption | decide) ?_ | with_reducible refine sx_n ?_ | with_reducible refine sy_n ?_ | with_reducible refine sx_t (by first | with_reducible assumption | exact trivial) ?_ | with_reducible refine sx_f (by with_reducible assumption) ?_ | with_reducible refine sy_t (by first | with_reducible assumption | exact trivial) ?_ | with_reducible refine sy_f (by with_reducible assumption) ?_ | fail))
    exact lk_ra (Or.inl rfl)
  rcases gc.2.2.2.2.2.2.2.1 (j * 8 + k) (by omega) with ⟨z, _⟩ | ⟨_, _, h, hh, eh⟩
  · exact absurd z c0
  have w3 := wi_n (c := h) (lo := 0) (hi := 8) (by omega) (by omega) (by decide)
  simp only [eh]
  repeat' (first
    | with_reducible refine sx_i (by first | with_reducible assumption | decide) ?_
    | with_reducible refine sy_i (by first | with_reducible assumption | decide) ?_
    | with_reducible refine sx_n ?_
    | with_reducible refine sy_n ?_
    | with_reducible refine sx_t (by first | with_reducible assumption | exact trivial) ?_
    | with_reducible refine sx_f (by with_reducible assumption) ?_
    | with_reducible refine sy_t (by first | with_reducible assumption | exact trivial) ?_
    | with_reducible refine sy_f (by with_reducible assumption) ?_ | fail)
  refine lk_my (fun q z => wi_y1 w3.1 w3.2 (br_f o1 z)) ?_
  refine sy_i hι ?_
  by_cases c1 : cq_ ι h
  · refine lk_mx (fun q z => ic_1 (P := P) (C := C) hι c1 (br_f o1 z)) (sy_t c1 ?_)
    by_cases c2 : nI h = 0
    · refine sx_t c2 (sy_t c2 ?_)
      by_cases c3 : C 21 (j * 8 + k) = 0
      · refine sx_t c3 (sy_t c3 ?_)
        refine lk_my (fun q z => br_t (by rw [c2]; exact Int32.le_refl _) (Exists.intro 9 z)) (sx_e 9 ?_)
        exact vd_loop k0 (by omega) (by omega) ge 8 1 rfl (by omega)
      · refine sx_f c3 (sy_f c3 ?_)
        exact lk_ra (Or.inl rfl)
    · refine sx_f c2 (sy_f c2 ?_)
      have h1 : ¬ h = 0 := fun e => c2 (by rw [e]; rfl)
      have c4 : ¬ nI h ≤ 0 := nI_nle (by omega) (by omega)
      have hl := cp_le (g12_ C h) (C 21 (j * 8 + k)) (nI φ) 4
      by_cases c5 : cp_ (g12_ C h) (C 21 (j * 8 + k)) (nI φ) 4 < 2
      · refine lk_mono (fun q z => sg_x (P := P) (C := C) k0 (by omega) (fun _ => br_t rfl z) (fun y => absurd y (by omega))) (fun q z => br_f c4 (Exists.intro 5 (sg_yl (Q := Q) (C := C) (ch := ch) k0 (by omega) (br_t ni_ge4 (br_f (nI_ge (b := 2) c5 (by decide)) z)) 4 0 rfl))) ?_
        exact lk_ra (Or.inl rfl)
      · refine lk_mono (fun q z => sg_x (P := P) (C := C) k0 (by omega) (fun y => absurd y c5) (fun _ => br_f o1 (Exists.intro 9 z))) (fun q z => br_f c4 (Exists.intro 5 (sg_yl (Q := Q) (C := C) (ch := ch) k0 (by omega) (br_t ni_ge4 (br_t (nI_le (a := 2) (by omega) (by omega)) (Exists.intro 9 z))) 4 0 rfl))) ?_
        exact vd_loop k0 (by omega) (by omega) ge 8 1 rfl (by omega)
  · refine lk_mx (fun q z => ic_0 (P := P) (C := C) hι c1 (br_t rfl z)) (sy_f c1 ?_)
    exact lk_ra (Or.inl rfl)
end
end
section
/-! held views, the lead of a new view -/
def hv_ (C : Nat → Nat → Int32) (i j : Nat) : Int32 := if C 16 (i * 4 + j) = -1 then -1 else C 19 (j * 8 + (C 16 (i * 4 + j)).toNatClampNeg)
section
variable {φ ι ω κ p i j : Nat} {ls : Int32} {P Q C : Nat → Nat → Int32} {ch : Nat → Int32} {post : Int32 → Prop}
theorem hv_x (hi : i < 4) (hj : j < 4) (g : gn_ 8 (C 16)) (h : post (hv_ C i j)) : wpX_heldView post (xs_ φ ι ω κ p ls P C) (nI i) (nI j) := by
  have hin : vp_in (nI (i * 4 + j)) 16 := vp_in_nI (by omega) (by omega)
  have hc : (nI (i * 4 + j)).toNatClampNeg = i * 4 + j := nI_clamp (by omega)
  unfold wpX_heldView
  dsimp only
  simp only [forall_eq, ix_4, hc]
  refine ⟨hin, ?_⟩
  by_cases z : C 16 (i * 4 + j) = -1
  · rw [show hv_ C i j = -1 from if_pos z] at h
    exact br_t z h
  · obtain ⟨k, hk, e⟩ := (g (i * 4 + j)).resolve_left z
    rw [show hv_ C i j = C 19 (j * 8 + (C 16 (i * 4 + j)).toNatClampNeg) from if_neg z, e, nI_clamp (by omega)] at h
    refine br_f z ?_
    rw [e, ix_8, nI_clamp (by omega)]
    exact ⟨vp_in_nI (by omega) (by omega), h⟩
theorem hv_y (hi : i < 4) (hj : j < 4) (g : gn_ 8 (C 16)) (h : post (hv_ C i j)) : wpY_heldView post (ys_ φ ι ω κ p ls Q C ch) (nI i) (nI j) := by
  have hin : vp_in (nI (i * 4 + j)) 16 := vp_in_nI (by omega) (by omega)
  have hc : (nI (i * 4 + j)).toNatClampNeg = i * 4 + j := nI_clamp (by omega)
  unfold wpY_heldView
  dsimp only
  simp only [forall_eq, ix_4, hc]
  refine ⟨hin, ?_⟩
  by_cases z : C 16 (i * 4 + j) = -1
  · rw [show hv_ C i j = -1 from if_pos z] at h
    refine br_t ?_ h
    rw [z]
    decide
  · obtain ⟨k, hk, e⟩ := (g (i * 4 + j)).resolve_left z
    rw [show hv_ C i j = C 19 (j * 8 + (C 16 (i * 4 + j)).toNatClampNeg) from if_neg z, e, nI_clamp (by omega)] at h
    rw [e, ix_8, nI_clamp (by omega)]
    exact br_f (nI_pos (by omega)) (br_t (nI_le (b := 7) (by omega) (by decide)) ⟨vp_in_nI (by omega) (by omega), h⟩)
end
section
variable {φ ι ω κ p i w m k : Nat} {ls : Int32} {P Q C : Nat → Nat → Int32} {ch : Nat → Int32}
theorem le_2 (hK : kk_ φ ι ω κ) (hi : i < 4) (hw1 : 1 ≤ w) (hw : w < 8) (hk : k < 8) (hm : m < 16) (hm1 : 1 ≤ m) (hx : ∃ j, j < 4 ∧ m.testBit j = true ∧ bd_ 9 (C 20 (dj_ φ w k j))) (gc : gc_ φ C) (gp : gp_ φ κ p P Q) : lk_ (ev_ (t0_ φ ι ω κ)) (fun q => wX_lead_127 q (nI i) (nI w) (nI m) (nI k) (nI φ) (nI ι) (nI ω) (nI κ) (nI p) ls (P 0) (P 1) (P 2) (P 3) (P 4) (P 5) (C 0) (C 1) (C 2) (C 3) (C 4) (C 5) (C 6) (C 7) (C 8) (C 9) (C 10) (C 11) (C 12) (C 13) (C 14) (C 15) (C 16) (C 17) (C 18) (C 19) (C 20) (C 21) (C 22) (C 23)) (fun q => wY_lead_128 q (nI i) (nI w) (nI m) (nI k) (nI φ) (nI ι) (nI ω) (nI κ) (nI p) ls (Q 0) (Q 1) (Q 2) (Q 3) (Q 4) (Q 5) (C 0) (C 1) (C 2) (C 3) (C 4) (C 5) (C 6) (C 7) (C 8) (C 9) (C 10) (C 11) (C 12) (C 13) (C 14) (C 15) (C 16) (C 17) (C 18) (C 19) (C 20) (C 21) (C 22) (C 23) ch) := by
  unfold wX_lead_127 wY_lead_128
  refine lk_bv (mc_lk (C := C) (ch := ch) hK hi (fun j e1 e2 e3 => mk_6 hi e1 e2 e3 ⟨w, hw1, hw, rfl⟩ ⟨m, hm1, hm, rfl⟩ ⟨k, hk, rfl⟩) gp) ?_
  rintro u v ⟨p', ls', P', Q', rfl, rfl, gp'⟩
  dsimp only
  refine lk_bv (en_lk (ch := ch) (ls := ls') hK hi hw hk hm hx gc gp') ?_
  rintro u v ⟨C', ch', gc', _, p', ls', P', Q', rfl, rfl, gp'⟩
  dsimp only
  exact lk_rv ⟨C', ch', gc', trivial, p', ls', P', Q', rfl, rfl, gp'⟩
theorem le_loop (hK : kk_ φ ι ω κ) (hi : i < 4) (hif : i ≠ φ) (hw1 : 1 ≤ w) (hw : w < 8) (hii : hv_ C i i = nI w) (h19 : C 19 (i * 8 + w) = nI w) (gc : gc_ φ C) (gp : gp_ φ κ p P Q) : ∀ d j o a c m, j + d = 4 → m < 16 → m.testBit i = true → (m.testBit φ = true → hv_ C i φ = nI w) → (c < 2 → o = c) → (2 ≤ c → o = 2) → (i < j → a = c + 1) → (¬ i < j → a = c) → c ≤ j → lk_ (ev_ (t0_ φ ι ω κ)) (fun q => wX_lead_46 q (nI i) (nI w) (nI φ) (nI ι) (nI ω) (nI κ) (nI p) ls (P 0) (P 1) (P 2) (P 3) (P 4) (P 5) (C 0) (C 1) (C 2) (C 3) (C 4) (C 5) (C 6) (C 7) (C 8) (C 9) (C 10) (C 11) (C 12) (C 13) (C 14) (C 15) (C 16) (C 17) (C 18) (C 19) (C 20) (C 21) (C 22) (C 23) (d + 1) (nI m) (nI o) (nI j)) (fun q => wY_lead_37 q (nI i) (nI w) (nI φ) (nI ι) (nI ω) (nI κ) (nI p) ls (Q 0) (Q 1) (Q 2) (Q 3) (Q 4) (Q 5) (C 0) (C 1) (C 2) (C 3) (C 4) (C 5) (C 6) (C 7) (C 8) (C 9) (C 10) (C 11) (C 12) (C 13) (C 14) (C 15) (C 16) (C 17) (C 18) (C 19) (C 20) (C 21) (C 22) (C 23) ch (d + 1) (nI a) (nI o) (nI m) (nI j)) := by
  have hK' := hK
  obtain ⟨k0, k1, k2, k3, k4, k5, k6⟩ := hK
  have g16 := gc.2.2.2.2.2.1
  intro d
  induction d with
  | zero =>
    intro j o a c m hj hm hmi hmf ho1 ho2 ha1 ha2 hcj
    obtain rfl : j = 4 := by omega
    refine lk_mono (fun q z => br_t ni_ge4 z) (fun q z => br_t ni_ge4 z) ?_
    by_cases h2 : 2 ≤ c
    · have x2 : (2 : Int32) ≤ nI o := nI_le (a := 2) (by omega) (by omega)
      have y3 : (3 : Int32) ≤ nI a := nI_le (a := 3) (by omega) (by omega)
      refine sx_t x2 (sy_t y3 ?_)
      have hm1 : 1 ≤ m := by
        rcases Nat.eq_zero_or_pos m with e | e
        · rw [e, Nat.zero_testBit] at hmi
          exact absurd hmi (by decide)
        · exact e
      have hx : ∀ k, ∃ j, j < 4 ∧ m.testBit j = true ∧ bd_ 9 (C 20 (dj_ φ w k j)) := fun k => by
        refine ⟨i, hi, hmi, ?_⟩
        rw [show dj_ φ w k i = i * 8 + w from by unfold dj_ dn_; rw [if_neg hif]]
        rcases gc.2.2.2.2.2.2.2.1 (i * 8 + w) (by omega) with ⟨_, z, _⟩ | ⟨_, _, z⟩
        · rw [h19] at z
          exact absurd z (ni_m1 (by omega))
        · exact z
      by_cases b : m.testBit φ = true
      · refine lk_mono (fun q z => hx_1 hm k0 b (br_f (by decide) z)) (fun q z => hy_1 hm k0 b (br_f (by decide) z)) ?_
        have hin : vp_in (nI (i * 4 + φ)) 16 := vp_in_nI (by omega) (by omega)
        have hc : (nI (i * 4 + φ)).toNatClampNeg = i * 4 + φ := nI_clamp (by omega)
        have hz : ¬ C 16 (i * 4 + φ) = -1 := fun e => by
          have := hmf b
          rw [show hv_ C i φ = -1 from if_pos e] at this
          exact ni_m1' (by omega) this
        obtain ⟨k, hk, e⟩ := (g16 (i * 4 + φ)).resolve_left hz
        simp only [forall_eq, ix_4, hc, e]
        refine sx_i hin (sy_i hin ?_)
        exact le_2 hK' hi hw1 hw hk hm hm1 (hx k) gc gp
      · refine lk_mono (fun q z => hx_0 hm k0 (tb_f b) (br_t rfl z)) (fun q z => hy_0 hm k0 (tb_f b) (br_t rfl z)) ?_
        exact le_2 (k := 0) hK' hi hw1 hw (by omega) hm hm1 (hx 0) gc gp
    · have x2 : ¬ (2 : Int32) ≤ nI o := nI_ge (b := 2) (by omega) (by decide)
      have y3 : ¬ (3 : Int32) ≤ nI a := nI_ge (b := 3) (by omega) (by decide)
      refine sx_f x2 (sy_f y3 ?_)
      exact lk_rv ⟨C, ch, gc, trivial, p, ls, P, Q, rfl, rfl, gp⟩
  | succ d ih =>
    intro j o a c m hj hm hmi hmf ho1 ho2 ha1 ha2 hcj
    have h4 := ni_lit4 (j := j) (by omega)
    refine lk_mono (fun q z => br_f h4 z) (fun q z => br_f h4 z) ?_
    refine lk_my (fun q z => hv_y (Q := Q) (C := C) (ch := ch) hi (by omega) g16 z) ?_
    by_cases e1 : j = i
    · have e1' : nI j = nI i := congrArg nI e1
      have e2 : hv_ C i j = nI w := by rw [e1]; exact hii
      refine sx_t e1' (sx_r (nI_1 j) (sy_t e2 (sy_r (nI_1 a) (sy_t e1' (sy_r (nI_1 j) ?_)))))
      exact ih (j + 1) o (a + 1) c m (by omega) hm hmi hmf ho1 ho2 (by omega) (by omega) (by omega)
    · have n1 : ¬ nI j = nI i := fun e => e1 ((nI_eq (by omega) (by omega)).mp e)
      refine sx_f n1 ?_
      by_cases e2 : hv_ C i j = nI w
      · refine sy_t e2 (sy_r (nI_1 a) (sy_f n1 ?_))
        by_cases h2 : 2 ≤ c
        · have x2 : (2 : Int32) ≤ nI o := nI_le (a := 2) (by omega) (by omega)
          refine sx_t x2 (sx_r (nI_1 j) (sy_t x2 (sy_r (nI_1 j) ?_)))
          exact ih (j + 1) o (a + 1) (c + 1) m (by omega) hm hmi hmf (by omega) (by omega) (by omega) (by omega) (by omega)
        · have x2 : ¬ (2 : Int32) ≤ nI o := nI_ge (b := 2) (by omega) (by decide)
          obtain ⟨om1, om2⟩ := or_m m hm j (by omega)
          refine sx_f x2 (sy_f x2 (sy_r (nI_1 o) (sy_r om1 (sy_r (nI_1 j) ?_))))
          refine lk_mx (fun q z => hv_x (P := P) (C := C) hi (by omega) g16 z) ?_
          refine sx_t e2 (sx_r om1 (sx_r (nI_1 o) (sx_r (nI_1 j) ?_)))
          refine ih (j + 1) (o + 1) (a + 1) (c + 1) (m ||| (1 <<< j)) (by omega) om2 ?_ ?_ (by omega) (by omega) (by omega) (by omega) (by omega)
          · rw [or_t m hm j (by omega) i hi, hmi]; rfl
          · intro hb
            rw [or_t m hm j (by omega) φ k0] at hb
            by_cases ef : φ = j
            · rw [ef]; exact e2
            · rw [decide_eq_false ef, Bool.or_false] at hb
              exact hmf hb
      · refine sy_f e2 (sy_r (nI_1 j) ?_)
        by_cases h2 : 2 ≤ c
        · have x2 : (2 : Int32) ≤ nI o := nI_le (a := 2) (by omega) (by omega)
          refine sx_t x2 (sx_r (nI_1 j) ?_)
          exact ih (j + 1) o a c m (by omega) hm hmi hmf ho1 ho2 (by omega) (by omega) (by omega)
        · have x2 : ¬ (2 : Int32) ≤ nI o := nI_ge (b := 2) (by omega) (by decide)
          refine sx_f x2 ?_
          refine lk_mx (fun q z => hv_x (P := P) (C := C) hi (by omega) g16 z) ?_
          refine sx_f e2 (sx_r (nI_1 j) ?_)
          exact ih (j + 1) o a c m (by omega) hm hmi hmf ho1 ho2 (by omega) (by omega) (by omega)
theorem le_lk (hK : kk_ φ ι ω κ) (hi : i < 4) (hif : i ≠ φ) (gc : gc_ φ C) (gp : gp_ φ κ p P Q) : lk_ (ev_ (t0_ φ ι ω κ)) (fun q => wpX_lead q (xs_ φ ι ω κ p ls P C) (nI i)) (fun q => wpY_lead q (ys_ φ ι ω κ p ls Q C ch) (nI i)) := by
  have hin : vp_in (nI i) 4 := vp_in_nI hi (by omega)
  have hc : (nI i).toNatClampNeg = i := nI_clamp (by omega)
  have g16 := gc.2.2.2.2.2.1
  have T0 : t0_ φ ι ω κ (xs_ φ ι ω κ p ls P C) (ys_ φ ι ω κ p ls Q C ch) := ⟨C, ch, gc, trivial, p, ls, P, Q, rfl, rfl, gp⟩
  dsimp only [wpX_lead, wpY_lead, wpX_primaryOf]
  simp only [forall_eq, hc]
  by_cases c1 : C 1 i = 0
  · by_cases c2 : C 0 i - C 0 i / 4 * 4 = nI i
    · (repeat' (first | with_reducible refine sx_i (by first | with_reducible assumption | decide) ?_ | with_reducible refine sy_i (by first | with_reducible assumption | decide) ?_ | with_reducible refine sx_n ?_ | with_reducible refine sy_n ?_ | with_reducible refine sx_t (by first | with_reducible assumption | exact trivial) ?_ | with_reducible refine sx_f (by with_reducible assumption) ?_ | with_reducible refine sy_t (by first | with_reducible assumption | exact trivial) ?_ | with_reducible refine sy_f (by with_reducible assumption) ?_ | fail))
      obtain ⟨w, w1, w8, b3, b4, b5⟩ := gc.2.2.2.2.2.2.2.2 i hi hif c1
      have hii : hv_ C i i = nI w := by
        unfold hv_
        rw [b4, if_neg (ni_m1 (by omega)), nI_clamp (by omega)]
        exact b5
      rw [b3]
      refine lk_mx (fun q z => hv_x (P := P) (C := C) hi hi g16 z) ?_
      obtain ⟨os1, os2⟩ := or_s i hi
      rw [os1]
      refine sx_t hii (sx_e 5 (sy_e 5 ?_))
      refine le_loop hK hi hif w1 w8 hii b5 gc gp 4 0 0 0 0 (1 <<< i) rfl os2 ?_ ?_ (by omega) (by omega) (by omega) (by omega) (by omega)
      · rw [or_u i hi i hi]; exact decide_eq_true rfl
      · intro hb
        rw [or_u i hi φ hK.1] at hb
        exact absurd (of_decide_eq_true hb).symm hif
    · (repeat' (first | with_reducible refine sx_i (by first | with_reducible assumption | decide) ?_ | with_reducible refine sy_i (by first | with_reducible assumption | decide) ?_ | with_reducible refine sx_n ?_ | with_reducible refine sy_n ?_ | with_reducible refine sx_t (by first | with_reducible assumption | exact trivial) ?_ | with_reducible refine sx_f (by with_reducible assumption) ?_ | with_reducible refine sy_t (by first | with_reducible assumption | exact trivial) ?_ | with_reducible refine sy_f (by with_reducible assumption) ?_ | fail))
      exact lk_rv T0
  · (repeat' (first | with_reducible refine sx_i (by first | with_reducible assumption | decide) ?_ | with_reducible refine sy_i (by first | with_reducible assumption | decide) ?_ | with_reducible refine sx_n ?_ | with_reducible refine sy_n ?_ | with_reducible refine sx_t (by first | with_reducible assumption | exact trivial) ?_ | with_reducible refine sx_f (by with_reducible assumption) ?_ | with_reducible refine sy_t (by first | with_reducible assumption | exact trivial) ?_ | with_reducible refine sy_f (by with_reducible assumption) ?_ | fail))
    exact lk_rv T0
end
end
section
/-! the window, the ordering messages -/
def hg_ (h ω : Nat) : Nat := if 8 ≤ h + ω then 8 else h + ω
theorem hg_8 (h ω : Nat) : hg_ h ω ≤ 8 := by
  unfold hg_
  by_cases c : 8 ≤ h + ω
  · rw [if_pos c]; omega
  · rw [if_neg c]; omega
section
variable {φ ι ω κ p i n h : Nat} {ls : Int32} {P Q C : Nat → Nat → Int32} {ch : Nat → Int32} {post : Int32 → Prop}
theorem hg_x (hi : i < 4) (hω : ω ≤ 16) (hh : h < 9) (hs : C 2 i = nI h) (k : post (nI (hg_ h ω))) : wpX_high post (xs_ φ ι ω κ p ls P C) (nI i) := by
  have hin : vp_in (nI i) 4 := vp_in_nI hi (by omega)
  have hc : (nI i).toNatClampNeg = i := nI_clamp (by omega)
  unfold hg_ at k
  unfold wpX_high
  dsimp only
  simp only [forall_eq, hc, hs, nI_add]
  by_cases c : 8 ≤ h + ω
  · rw [if_pos c] at k
    exact ⟨hin, br_t (nI_le (a := 8) c (by omega)) k⟩
  · rw [if_neg c] at k
    exact ⟨hin, br_f (nI_ge (b := 8) (by omega) (by decide)) k⟩
theorem hg_y (hi : i < 4) (hω : ω ≤ 16) (hh : h < 9) (hs : C 2 i = nI h) (k : post (nI (hg_ h ω))) : wpY_high post (ys_ φ ι ω κ p ls Q C ch) (nI i) := by
  have hin : vp_in (nI i) 4 := vp_in_nI hi (by omega)
  have hc : (nI i).toNatClampNeg = i := nI_clamp (by omega)
  unfold hg_ at k
  unfold wpY_high
  dsimp only
  simp only [forall_eq, hc, hs, nI_add]
  by_cases c : 8 ≤ h + ω
  · rw [if_pos c] at k
    by_cases c2 : h + ω = 8
    · refine ⟨hin, br_t (nI_le (b := 8) (by omega) (by decide)) ?_⟩
      rw [c2]
      exact k
    · exact ⟨hin, br_f (nI_ge (a := 8) (by omega) (by omega)) k⟩
  · rw [if_neg c] at k
    exact ⟨hin, br_t (nI_le (b := 8) (by omega) (by decide)) k⟩
theorem iw_x (hi : i < 4) (hω : ω ≤ 16) (hh : h < 9) (hn : n ≤ 8) (hs : C 2 i = nI h) (h1 : h < n ∧ n ≤ hg_ h ω → post 1) (h0 : ¬ (h < n ∧ n ≤ hg_ h ω) → post 0) : wpX_insideWindow post (xs_ φ ι ω κ p ls P C) (nI i) (nI n) := by
  have hin : vp_in (nI i) 4 := vp_in_nI hi (by omega)
  have hc : C 2 (nI i).toNatClampNeg = nI h := by rw [nI_clamp (by omega), hs]
  have h8 := hg_8 h ω
  unfold wpX_insideWindow
  dsimp only
  rw [hc]
  by_cases c : h < n
  · refine ⟨hin, br_f (nI_ge c (by omega)) (hg_x hi hω hh hs ?_)⟩
    by_cases c2 : n ≤ hg_ h ω
    · exact br_f (nI_nlt c2 (by omega)) (h1 ⟨c, c2⟩)
    · exact br_t (nI_lt (by omega) (by omega)) (h0 (fun z => c2 z.2))
  · exact ⟨hin, br_t (nI_le (by omega) (by omega)) (h0 (fun z => c z.1))⟩
theorem iw_y (hi : i < 4) (hω : ω ≤ 16) (hh : h < 9) (hn : n ≤ 8) (hs : C 2 i = nI h) (h1 : h < n ∧ n ≤ hg_ h ω → post 1) (h0 : ¬ (h < n ∧ n ≤ hg_ h ω) → post 0) : wpY_inside post (ys_ φ ι ω κ p ls Q C ch) (nI i) (nI n) := by
  have hin : vp_in (nI i) 4 := vp_in_nI hi (by omega)
  have hc : C 2 (nI i).toNatClampNeg = nI h := by rw [nI_clamp (by omega), hs]
  have h8 := hg_8 h ω
  unfold wpY_inside
  dsimp only
  rw [hc]
  refine hg_y hi hω hh hs ⟨hin, ?_⟩
  by_cases c : h < n
  · refine br_f (nI_ge c (by omega)) ?_
    by_cases c2 : n ≤ hg_ h ω
    · exact br_f (nI_nlt c2 (by omega)) (h1 ⟨c, c2⟩)
    · exact br_t (nI_lt (by omega) (by omega)) (h0 (fun z => c2 z.2))
  · exact br_t (nI_le (by omega) (by omega)) (h0 (fun z => c z.1))
end
section
variable {φ ι ω κ p a b v n : Nat} {ls d : Int32} {P Q C : Nat → Nat → Int32} {ch : Nat → Int32}
theorem on_1 (hK : kk_ φ ι ω κ) (hb : b < 4) (ha : a < 4) (hv : v < 8) (hn1 : 1 ≤ n) (hn : n ≤ 8) (hd : bd_ 10 d) (gc : gc_ φ C) (gp : gp_ φ κ p P Q) : lk_ (er_ (t0_ φ ι ω κ)) (fun q => wpX_onPrePrepare q (xs_ φ ι ω κ p ls P C) (nI b) (nI a) (nI v) (nI n) d) (fun q => wpY_onPrePrepare q (ys_ φ ι ω κ p ls Q C ch) (nI b) (nI a) (nI v) (nI n) d) := by
  have hK' := hK
  obtain ⟨k0, k1, k2, k3, k4, k5, k6⟩ := hK
  have T0 : t0_ φ ι ω κ (xs_ φ ι ω κ p ls P C) (ys_ φ ι ω κ p ls Q C ch) := ⟨C, ch, gc, trivial, p, ls, P, Q, rfl, rfl, gp⟩
  have hin : vp_in (nI b) 4 := vp_in_nI hb (by omega)
  have hc : (nI b).toNatClampNeg = b := nI_clamp (by omega)
  have hin36 : vp_in (nI (b * 9 + n)) 36 := vp_in_nI (by omega) (by omega)
  have hc36 : (nI (b * 9 + n)).toNatClampNeg = b * 9 + n := nI_clamp (by omega)
  have hin288 : vp_in (nI ((b * 8 + v) * 9 + n)) 288 := vp_in_nI (by omega) (by omega)
  have hc288 : (nI ((b * 8 + v) * 9 + n)).toNatClampNeg = (b * 8 + v) * 9 + n := nI_clamp (by omega)
  have hin144 : vp_in (nI ((b * 9 + n) * 4 + b)) 144 := vp_in_nI (by omega) (by omega)
  have hc144 : (nI ((b * 9 + n) * 4 + b)).toNatClampNeg = (b * 9 + n) * 4 + b := nI_clamp (by omega)
  have o1 : ¬ (1 : Int32) = 0 := by decide
  have o0 : (0 : Int32) = 0 := rfl
  obtain ⟨h, hh, hs⟩ := gc.2.1 b
  dsimp only [wpX_onPrePrepare, wpY_onPrePrepare, wpX_primaryOf, wpX_logCell, wpX_voteCell, wpX_signCell, wpX_prepareAgain]
  simp only [forall_eq, hc, ix_9, ix_8, ix_4, hc36, hc288, hc144]
  by_cases c1 : nI v = C 0 b
  · by_cases c2 : C 1 b = 0
    · (repeat' (first | with_reducible refine sx_i (by first | with_reducible assumption | decide) ?_ | with_reducible refine sy_i (by first | with_reducible assumption | decide) ?_ | with_reducible refine sx_n ?_ | with_reducible refine sy_n ?_ | with_reducible refine sx_t (by first | with_reducible assumption | exact trivial) ?_ | with_reducible refine sx_f (by with_reducible assumption) ?_ | with_reducible refine sy_t (by first | with_reducible assumption | exact trivial) ?_ | with_reducible refine sy_f (by with_reducible assumption) ?_ | fail))
      exact lk_rr T0
    · by_cases c3 : nI a = nI v - nI v / 4 * 4
      · (repeat' (first | with_reducible refine sx_i (by first | with_reducible assumption | decide) ?_ | with_reducible refine sy_i (by first | with_reducible assumption | decide) ?_ | with_reducible refine sx_n ?_ | with_reducible refine sy_n ?_ | with_reducible refine sx_t (by first | with_reducible assumption | exact trivial) ?_ | with_reducible refine sx_f (by with_reducible assumption) ?_ | with_reducible refine sy_t (by first | with_reducible assumption | exact trivial) ?_ | with_reducible refine sy_f (by with_reducible assumption) ?_ | fail))
        by_cases c4 : h < n ∧ n ≤ hg_ h ω
        · refine lk_mono (fun q z => iw_x (P := P) (C := C) hb k4 hh hn hs (fun _ => z) (fun y => absurd c4 y)) (fun q z => iw_y (Q := Q) (C := C) (ch := ch) hb k4 hh hn hs (fun _ => z) (fun y => absurd c4 y)) ?_
          by_cases c5 : C 7 (b * 9 + n) = -1
          · (repeat' (first | with_reducible refine sx_i (by first | with_reducible assumption | decide) ?_ | with_reducible refine sy_i (by first | with_reducible assumption | decide) ?_ | with_reducible refine sx_n ?_ | with_reducible refine sy_n ?_ | with_reducible refine sx_t (by first | with_reducible assumption | exact trivial) ?_ | with_reducible refine sx_f (by with_reducible assumption) ?_ | with_reducible refine sy_t (by first | with_reducible assumption | exact trivial) ?_ | with_reducible refine sy_f (by with_reducible assumption) ?_ | fail))
            refine lk_bv (mc_lk (C := cw_ (cw_ (cw_ C 7 (b * 9 + n) d) 17 ((b * 8 + v) * 9 + n) d) 13 ((b * 9 + n) * 4 + b) d) (ch := ch) hK' hb (fun j e1 e2 e3 => mk_1 hb e1 e2 e3 (Or.inr (Or.inl rfl)) ⟨v, hv, rfl⟩ ⟨n, hn1, hn, rfl⟩ hd) gp) ?_
            rintro u w ⟨p', ls', P', Q', rfl, rfl, gp'⟩
            dsimp only
            have g2 : gc_ φ (cw_ (cw_ (cw_ C 7 (b * 9 + n) d) 17 ((b * 8 + v) * 9 + n) d) 13 ((b * 9 + n) * 4 + b) d) := by
              obtain ⟨h0, h2, h4, h7, h8, h16, h22, hdd, hvv⟩ := gc
              exact ⟨h0, h2, h4, gn_u h7 (Or.inr hd), h8, h16, h22, hdd, hvv⟩
            refine lk_bv (pr_lk (ch := ch) (ls := ls') hK' hb hn1 hn g2 gp') ?_
            rintro u w ⟨C', ch', gc', _, p', ls', P', Q', rfl, rfl, gp'⟩
            dsimp only
            exact lk_rr ⟨C', ch', gc', trivial, p', ls', P', Q', rfl, rfl, gp'⟩
          · (repeat' (first | with_reducible refine sx_i (by first | with_reducible assumption | decide) ?_ | with_reducible refine sy_i (by first | with_reducible assumption | decide) ?_ | with_reducible refine sx_n ?_ | with_reducible refine sy_n ?_ | with_reducible refine sx_t (by first | with_reducible assumption | exact trivial) ?_ | with_reducible refine sx_f (by with_reducible assumption) ?_ | with_reducible refine sy_t (by first | with_reducible assumption | exact trivial) ?_ | with_reducible refine sy_f (by with_reducible assumption) ?_ | fail))
            exact lk_rr T0
        · refine lk_mono (fun q z => iw_x (P := P) (C := C) hb k4 hh hn hs (fun y => absurd y c4) (fun _ => z)) (fun q z => iw_y (Q := Q) (C := C) (ch := ch) hb k4 hh hn hs (fun y => absurd y c4) (fun _ => z)) ?_
          repeat' (first
            | with_reducible refine sx_i (by first | with_reducible assumption | decide) ?_
            | with_reducible refine sy_i (by first | with_reducible assumption | decide) ?_
            | with_reducible refine sx_n ?_
            | with_reducible refine sy_n ?_
            | with_reducible refine sx_t (by first | with_reducible assumption | exact trivial) ?_
            | with_reducible refine sx_f (by with_reducible assumption) ?_
            | with_reducible refine sy_t (by first | with_reducible assumption | exact trivial) ?_
            | with_reducible refine sy_f (by with_reducible assumption) ?_ | fail)
          exact lk_rr T0
      · (repeat' (first | with_reducible refine sx_i (by first | with_reducible assumption | decide) ?_ | with_reducible refine sy_i (by first | with_reducible assumption | decide) ?_ | with_reducible refine sx_n ?_ | with_reducible refine sy_n ?_ | with_reducible refine sx_t (by first | with_reducible assumption | exact trivial) ?_ | with_reducible refine sx_f (by with_reducible assumption) ?_ | with_reducible refine sy_t (by first | with_reducible assumption | exact trivial) ?_ | with_reducible refine sy_f (by with_reducible assumption) ?_ | fail))
        exact lk_rr T0
  · (repeat' (first | with_reducible refine sx_i (by first | with_reducible assumption | decide) ?_ | with_reducible refine sy_i (by first | with_reducible assumption | decide) ?_ | with_reducible refine sx_n ?_ | with_reducible refine sy_n ?_ | with_reducible refine sx_t (by first | with_reducible assumption | exact trivial) ?_ | with_reducible refine sx_f (by with_reducible assumption) ?_ | with_reducible refine sy_t (by first | with_reducible assumption | exact trivial) ?_ | with_reducible refine sy_f (by with_reducible assumption) ?_ | fail))
    exact lk_rr T0
theorem on_2 (hK : kk_ φ ι ω κ) (hb : b < 4) (ha : a < 4) (hv : v < 8) (hn1 : 1 ≤ n) (hn : n ≤ 8) (gc : gc_ φ C) (gp : gp_ φ κ p P Q) : lk_ (er_ (t0_ φ ι ω κ)) (fun q => wpX_onPrepare q (xs_ φ ι ω κ p ls P C) (nI b) (nI a) (nI v) (nI n) d) (fun q => wpY_onPrepare q (ys_ φ ι ω κ p ls Q C ch) (nI b) (nI a) (nI v) (nI n) d) := by
  have hK' := hK
  obtain ⟨k0, k1, k2, k3, k4, k5, k6⟩ := hK
  have T0 : t0_ φ ι ω κ (xs_ φ ι ω κ p ls P C) (ys_ φ ι ω κ p ls Q C ch) := ⟨C, ch, gc, trivial, p, ls, P, Q, rfl, rfl, gp⟩
  have hin : vp_in (nI b) 4 := vp_in_nI hb (by omega)
  have hc : (nI b).toNatClampNeg = b := nI_clamp (by omega)
  have hin144 : vp_in (nI ((b * 9 + n) * 4 + a)) 144 := vp_in_nI (by omega) (by omega)
  have hc144 : (nI ((b * 9 + n) * 4 + a)).toNatClampNeg = (b * 9 + n) * 4 + a := nI_clamp (by omega)
  have o1 : ¬ (1 : Int32) = 0 := by decide
  have o0 : (0 : Int32) = 0 := rfl
  obtain ⟨h, hh, hs⟩ := gc.2.1 b
  dsimp only [wpX_onPrepare, wpY_onPrepare, wpX_primaryOf, wpX_voteCell]
  simp only [forall_eq, hc, ix_9, ix_4, hc144]
  by_cases c1 : nI v = C 0 b
  · by_cases c2 : C 1 b = 0
    · (repeat' (first | with_reducible refine sx_i (by first | with_reducible assumption | decide) ?_ | with_reducible refine sy_i (by first | with_reducible assumption | decide) ?_ | with_reducible refine sx_n ?_ | with_reducible refine sy_n ?_ | with_reducible refine sx_t (by first | with_reducible assumption | exact trivial) ?_ | with_reducible refine sx_f (by with_reducible assumption) ?_ | with_reducible refine sy_t (by first | with_reducible assumption | exact trivial) ?_ | with_reducible refine sy_f (by with_reducible assumption) ?_ | fail))
      exact lk_rr T0
    · by_cases c3 : nI a = nI v - nI v / 4 * 4
      · (repeat' (first | with_reducible refine sx_i (by first | with_reducible assumption | decide) ?_ | with_reducible refine sy_i (by first | with_reducible assumption | decide) ?_ | with_reducible refine sx_n ?_ | with_reducible refine sy_n ?_ | with_reducible refine sx_t (by first | with_reducible assumption | exact trivial) ?_ | with_reducible refine sx_f (by with_reducible assumption) ?_ | with_reducible refine sy_t (by first | with_reducible assumption | exact trivial) ?_ | with_reducible refine sy_f (by with_reducible assumption) ?_ | fail))
        exact lk_rr T0
      · (repeat' (first | with_reducible refine sx_i (by first | with_reducible assumption | decide) ?_ | with_reducible refine sy_i (by first | with_reducible assumption | decide) ?_ | with_reducible refine sx_n ?_ | with_reducible refine sy_n ?_ | with_reducible refine sx_t (by first | with_reducible assumption | exact trivial) ?_ | with_reducible refine sx_f (by with_reducible assumption) ?_ | with_reducible refine sy_t (by first | with_reducible assumption | exact trivial) ?_ | with_reducible refine sy_f (by with_reducible assumption) ?_ | fail))
        by_cases c4 : h < n ∧ n ≤ hg_ h ω
        · refine lk_mono (fun q z => iw_x (P := P) (C := C) hb k4 hh hn hs (fun _ => z) (fun y => absurd c4 y)) (fun q z => iw_y (Q := Q) (C := C) (ch := ch) hb k4 hh hn hs (fun _ => z) (fun y => absurd c4 y)) ?_
          by_cases c5 : C 13 ((b * 9 + n) * 4 + a) = -1
          · (repeat' (first | with_reducible refine sx_i (by first | with_reducible assumption | decide) ?_ | with_reducible refine sy_i (by first | with_reducible assumption | decide) ?_ | with_reducible refine sx_n ?_ | with_reducible refine sy_n ?_ | with_reducible refine sx_t (by first | with_reducible assumption | exact trivial) ?_ | with_reducible refine sx_f (by with_reducible assumption) ?_ | with_reducible refine sy_t (by first | with_reducible assumption | exact trivial) ?_ | with_reducible refine sy_f (by with_reducible assumption) ?_ | fail))
            refine lk_bv (pr_lk (C := cw_ C 13 ((b * 9 + n) * 4 + a) d) (ch := ch) (ls := ls) hK' hb hn1 hn gc gp) ?_
            rintro u w ⟨C', ch', gc', _, p', ls', P', Q', rfl, rfl, gp'⟩
            dsimp only
            exact lk_rr ⟨C', ch', gc', trivial, p', ls', P', Q', rfl, rfl, gp'⟩
          · (repeat' (first | with_reducible refine sx_i (by first | with_reducible assumption | decide) ?_ | with_reducible refine sy_i (by first | with_reducible assumption | decide) ?_ | with_reducible refine sx_n ?_ | with_reducible refine sy_n ?_ | with_reducible refine sx_t (by first | with_reducible assumption | exact trivial) ?_ | with_reducible refine sx_f (by with_reducible assumption) ?_ | with_reducible refine sy_t (by first | with_reducible assumption | exact trivial) ?_ | with_reducible refine sy_f (by with_reducible assumption) ?_ | fail))
            exact lk_rr T0
        · refine lk_mono (fun q z => iw_x (P := P) (C := C) hb k4 hh hn hs (fun y => absurd y c4) (fun _ => z)) (fun q z => iw_y (Q := Q) (C := C) (ch := ch) hb k4 hh hn hs (fun y => absurd y c4) (fun _ => z)) ?_
          repeat' (first
            | with_reducible refine sx_i (by first | with_reducible assumption | decide) ?_
            | with_reducible refine sy_i (by first | with_reducible assumption | decide) ?_
            | with_reducible refine sx_n ?_
            | with_reducible refine sy_n ?_
            | with_reducible refine sx_t (by first | with_reducible assumption | exact trivial) ?_
            | with_reducible refine sx_f (by with_reducible assumption) ?_
            | with_reducible refine sy_t (by first | with_reducible assumption | exact trivial) ?_
            | with_reducible refine sy_f (by with_reducible assumption) ?_ | fail)
          exact lk_rr T0
  · (repeat' (first | with_reducible refine sx_i (by first | with_reducible assumption | decide) ?_ | with_reducible refine sy_i (by first | with_reducible assumption | decide) ?_ | with_reducible refine sx_n ?_ | with_reducible refine sy_n ?_ | with_reducible refine sx_t (by first | with_reducible assumption | exact trivial) ?_ | with_reducible refine sx_f (by with_reducible assumption) ?_ | with_reducible refine sy_t (by first | with_reducible assumption | exact trivial) ?_ | with_reducible refine sy_f (by with_reducible assumption) ?_ | fail))
    exact lk_rr T0
theorem on_3 (hK : kk_ φ ι ω κ) (hb : b < 4) (ha : a < 4) (hv : v < 8) (hn1 : 1 ≤ n) (hn : n ≤ 8) (gc : gc_ φ C) (gp : gp_ φ κ p P Q) : lk_ (er_ (t0_ φ ι ω κ)) (fun q => wpX_onCommit q (xs_ φ ι ω κ p ls P C) (nI b) (nI a) (nI v) (nI n) d) (fun q => wpY_onCommit q (ys_ φ ι ω κ p ls Q C ch) (nI b) (nI a) (nI v) (nI n) d) := by
  have hK' := hK
  obtain ⟨k0, k1, k2, k3, k4, k5, k6⟩ := hK
  have T0 : t0_ φ ι ω κ (xs_ φ ι ω κ p ls P C) (ys_ φ ι ω κ p ls Q C ch) := ⟨C, ch, gc, trivial, p, ls, P, Q, rfl, rfl, gp⟩
  have hin : vp_in (nI b) 4 := vp_in_nI hb (by omega)
  have hc : (nI b).toNatClampNeg = b := nI_clamp (by omega)
  have hin144 : vp_in (nI ((b * 9 + n) * 4 + a)) 144 := vp_in_nI (by omega) (by omega)
  have hc144 : (nI ((b * 9 + n) * 4 + a)).toNatClampNeg = (b * 9 + n) * 4 + a := nI_clamp (by omega)
  have o1 : ¬ (1 : Int32) = 0 := by decide
  have o0 : (0 : Int32) = 0 := rfl
  obtain ⟨h, hh, hs⟩ := gc.2.1 b
  dsimp only [wpX_onCommit, wpY_onCommit, wpX_voteCell]
  simp only [forall_eq, hc, ix_9, ix_4, hc144]
  by_cases c1 : nI v = C 0 b
  · by_cases c2 : C 1 b = 0
    · (repeat' (first | with_reducible refine sx_i (by first | with_reducible assumption | decide) ?_ | with_reducible refine sy_i (by first | with_reducible assumption | decide) ?_ | with_reducible refine sx_n ?_ | with_reducible refine sy_n ?_ | with_reducible refine sx_t (by first | with_reducible assumption | exact trivial) ?_ | with_reducible refine sx_f (by with_reducible assumption) ?_ | with_reducible refine sy_t (by first | with_reducible assumption | exact trivial) ?_ | with_reducible refine sy_f (by with_reducible assumption) ?_ | fail))
      exact lk_rr T0
    · (repeat' (first | with_reducible refine sx_i (by first | with_reducible assumption | decide) ?_ | with_reducible refine sy_i (by first | with_reducible assumption | decide) ?_ | with_reducible refine sx_n ?_ | with_reducible refine sy_n ?_ | with_reducible refine sx_t (by first | with_reducible assumption | exact trivial) ?_ | with_reducible refine sx_f (by with_reducible assumption) ?_ | with_reducible refine sy_t (by first | with_reducible assumption | exact trivial) ?_ | with_reducible refine sy_f (by with_reducible assumption) ?_ | fail))
      by_cases c4 : h < n ∧ n ≤ hg_ h ω
      · refine lk_mono (fun q z => iw_x (P := P) (C := C) hb k4 hh hn hs (fun _ => z) (fun y => absurd c4 y)) (fun q z => iw_y (Q := Q) (C := C) (ch := ch) hb k4 hh hn hs (fun _ => z) (fun y => absurd c4 y)) ?_
        by_cases c5 : C 14 ((b * 9 + n) * 4 + a) = -1
        · (repeat' (first | with_reducible refine sx_i (by first | with_reducible assumption | decide) ?_ | with_reducible refine sy_i (by first | with_reducible assumption | decide) ?_ | with_reducible refine sx_n ?_ | with_reducible refine sy_n ?_ | with_reducible refine sx_t (by first | with_reducible assumption | exact trivial) ?_ | with_reducible refine sx_f (by with_reducible assumption) ?_ | with_reducible refine sy_t (by first | with_reducible assumption | exact trivial) ?_ | with_reducible refine sy_f (by with_reducible assumption) ?_ | fail))
          refine lk_bv (pr_lk (C := cw_ C 14 ((b * 9 + n) * 4 + a) d) (ch := ch) (ls := ls) hK' hb hn1 hn gc gp) ?_
          rintro u w ⟨C', ch', gc', _, p', ls', P', Q', rfl, rfl, gp'⟩
          dsimp only
          exact lk_rr ⟨C', ch', gc', trivial, p', ls', P', Q', rfl, rfl, gp'⟩
        · (repeat' (first | with_reducible refine sx_i (by first | with_reducible assumption | decide) ?_ | with_reducible refine sy_i (by first | with_reducible assumption | decide) ?_ | with_reducible refine sx_n ?_ | with_reducible refine sy_n ?_ | with_reducible refine sx_t (by first | with_reducible assumption | exact trivial) ?_ | with_reducible refine sx_f (by with_reducible assumption) ?_ | with_reducible refine sy_t (by first | with_reducible assumption | exact trivial) ?_ | with_reducible refine sy_f (by with_reducible assumption) ?_ | fail))
          exact lk_rr T0
      · refine lk_mono (fun q z => iw_x (P := P) (C := C) hb k4 hh hn hs (fun y => absurd y c4) (fun _ => z)) (fun q z => iw_y (Q := Q) (C := C) (ch := ch) hb k4 hh hn hs (fun y => absurd y c4) (fun _ => z)) ?_
        repeat' (first
          | with_reducible refine sx_i (by first | with_reducible assumption | decide) ?_
          | with_reducible refine sy_i (by first | with_reducible assumption | decide) ?_
          | with_reducible refine sx_n ?_
          | with_reducible refine sy_n ?_
          | with_reducible refine sx_t (by first | with_reducible assumption | exact trivial) ?_
          | with_reducible refine sx_f (by with_reducible assumption) ?_
          | with_reducible refine sy_t (by first | with_reducible assumption | exact trivial) ?_
          | with_reducible refine sy_f (by with_reducible assumption) ?_ | fail)
        exact lk_rr T0
  · (repeat' (first | with_reducible refine sx_i (by first | with_reducible assumption | decide) ?_ | with_reducible refine sy_i (by first | with_reducible assumption | decide) ?_ | with_reducible refine sx_n ?_ | with_reducible refine sy_n ?_ | with_reducible refine sx_t (by first | with_reducible assumption | exact trivial) ?_ | with_reducible refine sx_f (by with_reducible assumption) ?_ | with_reducible refine sy_t (by first | with_reducible assumption | exact trivial) ?_ | with_reducible refine sy_f (by with_reducible assumption) ?_ | fail))
    exact lk_rr T0
theorem on_4 (hK : kk_ φ ι ω κ) (hb : b < 4) (ha : a < 4) (hn1 : 1 ≤ n) (hn : n ≤ 8) (gc : gc_ φ C) (gp : gp_ φ κ p P Q) : lk_ (er_ (t0_ φ ι ω κ)) (fun q => wpX_onCheckpoint q (xs_ φ ι ω κ p ls P C) (nI b) (nI a) (nI n) d) (fun q => wpY_onCheckpoint q (ys_ φ ι ω κ p ls Q C ch) (nI b) (nI a) (nI n) d) := by
  have T0 : t0_ φ ι ω κ (xs_ φ ι ω κ p ls P C) (ys_ φ ι ω κ p ls Q C ch) := ⟨C, ch, gc, trivial, p, ls, P, Q, rfl, rfl, gp⟩
  have hin : vp_in (nI b) 4 := vp_in_nI hb (by omega)
  have hc : (nI b).toNatClampNeg = b := nI_clamp (by omega)
  have hin144 : vp_in (nI ((b * 9 + n) * 4 + a)) 144 := vp_in_nI (by omega) (by omega)
  have hc144 : (nI ((b * 9 + n) * 4 + a)).toNatClampNeg = (b * 9 + n) * 4 + a := nI_clamp (by omega)
  dsimp only [wpX_onCheckpoint, wpY_onCheckpoint, wpX_voteCell]
  simp only [forall_eq, hc, ix_9, ix_4, hc144]
  by_cases c1 : C 2 b < nI n
  · by_cases c5 : C 15 ((b * 9 + n) * 4 + a) = -1
    · (repeat' (first | with_reducible refine sx_i (by first | with_reducible assumption | decide) ?_ | with_reducible refine sy_i (by first | with_reducible assumption | decide) ?_ | with_reducible refine sx_n ?_ | with_reducible refine sy_n ?_ | with_reducible refine sx_t (by first | with_reducible assumption | exact trivial) ?_ | with_reducible refine sx_f (by with_reducible assumption) ?_ | with_reducible refine sy_t (by first | with_reducible assumption | exact trivial) ?_ | with_reducible refine sy_f (by with_reducible assumption) ?_ | fail))
      refine lk_bv (se_lk (C := cw_ C 15 ((b * 9 + n) * 4 + a) d) (ch := ch) (ls := ls) hK hb gc gp) ?_
      rintro u w ⟨C', ch', gc', _, p', ls', P', Q', rfl, rfl, gp'⟩
      dsimp only
      exact lk_rr ⟨C', ch', gc', trivial, p', ls', P', Q', rfl, rfl, gp'⟩
    · (repeat' (first | with_reducible refine sx_i (by first | with_reducible assumption | decide) ?_ | with_reducible refine sy_i (by first | with_reducible assumption | decide) ?_ | with_reducible refine sx_n ?_ | with_reducible refine sy_n ?_ | with_reducible refine sx_t (by first | with_reducible assumption | exact trivial) ?_ | with_reducible refine sx_f (by with_reducible assumption) ?_ | with_reducible refine sy_t (by first | with_reducible assumption | exact trivial) ?_ | with_reducible refine sy_f (by with_reducible assumption) ?_ | fail))
      exact lk_rr T0
  · (repeat' (first | with_reducible refine sx_i (by first | with_reducible assumption | decide) ?_ | with_reducible refine sy_i (by first | with_reducible assumption | decide) ?_ | with_reducible refine sx_n ?_ | with_reducible refine sy_n ?_ | with_reducible refine sx_t (by first | with_reducible assumption | exact trivial) ?_ | with_reducible refine sx_f (by with_reducible assumption) ?_ | with_reducible refine sy_t (by first | with_reducible assumption | exact trivial) ?_ | with_reducible refine sy_f (by with_reducible assumption) ?_ | fail))
    exact lk_rr T0
end
end
section
/-! view change and new view messages -/
def jf_ (C : Nat → Nat → Int32) (i : Nat) : Nat → Nat × Int32
  | 0 => (0, 8)
  | j + 1 => if ¬ j = i ∧ ¬ hv_ C i j ≤ C 0 i then ((jf_ C i j).1 + 1, if (jf_ C i j).2 ≤ hv_ C i j then (jf_ C i j).2 else hv_ C i j) else jf_ C i j
section
variable {φ ι ω κ p i : Nat} {ls : Int32} {P Q C : Nat → Nat → Int32} {ch : Nat → Int32}
theorem hv_bw (gc : gc_ φ C) {j : Nat} (hj : j < 4) : hv_ C i j = -1 ∨ bw_ (hv_ C i j) := by
  unfold hv_
  by_cases z : C 16 (i * 4 + j) = -1
  · rw [if_pos z]; exact Or.inl rfl
  · rw [if_neg z]
    obtain ⟨k, hk, e⟩ := (gc.2.2.2.2.2.1 (i * 4 + j)).resolve_left z
    rw [e, nI_clamp (by omega)]
    rcases gc.2.2.2.2.2.2.2.1 (j * 8 + k) (by omega) with ⟨_, y, _⟩ | ⟨_, y, _⟩
    · exact Or.inl y
    · exact Or.inr y
theorem jf_ok (gc : gc_ φ C) : ∀ j, j ≤ 4 → (jf_ C i j).1 ≤ j ∧ ((jf_ C i j).2 = 8 ∨ bw_ (jf_ C i j).2) := by
  intro j
  induction j with
  | zero => intro _; exact ⟨Nat.le_refl 0, Or.inl rfl⟩
  | succ j ih =>
    intro hj
    obtain ⟨i1, i2⟩ := ih (by omega)
    by_cases h : ¬ j = i ∧ ¬ hv_ C i j ≤ C 0 i
    · have e : jf_ C i (j + 1) = ((jf_ C i j).1 + 1, if (jf_ C i j).2 ≤ hv_ C i j then (jf_ C i j).2 else hv_ C i j) := if_pos h
      rw [e]
      refine ⟨by show _ + 1 ≤ _; omega, ?_⟩
      by_cases c : (jf_ C i j).2 ≤ hv_ C i j
      · rw [if_pos c]; exact i2
      · rw [if_neg c]
        rcases hv_bw (i := i) gc (j := j) (by omega) with y | y
        · exfalso
          apply h.2
          obtain ⟨v, hv, ev⟩ := gc.1 i
          rw [y, ev]
          exact ni_lm1 (by omega)
        · exact Or.inr y
    · have e : jf_ C i (j + 1) = jf_ C i j := if_neg h
      rw [e]
      exact ⟨by omega, i2⟩
theorem jv_xl (hi : i < 4) (gc : gc_ φ C) {post : SX → Prop} (k0 : wX_joinViewChange_8 post (nI i) (nI φ) (nI ι) (nI ω) (nI κ) (nI p) ls (P 0) (P 1) (P 2) (P 3) (P 4) (P 5) (C 0) (C 1) (C 2) (C 3) (C 4) (C 5) (C 6) (C 7) (C 8) (C 9) (C 10) (C 11) (C 12) (C 13) (C 14) (C 15) (C 16) (C 17) (C 18) (C 19) (C 20) (C 21) (C 22) (C 23) 1 (nI (jf_ C i 4).1) (jf_ C i 4).2 (nI 4)) : ∀ d j, j + d = 4 → wX_joinViewChange_8 post (nI i) (nI φ) (nI ι) (nI ω) (nI κ) (nI p) ls (P 0) (P 1) (P 2) (P 3) (P 4) (P 5) (C 0) (C 1) (C 2) (C 3) (C 4) (C 5) (C 6) (C 7) (C 8) (C 9) (C 10) (C 11) (C 12) (C 13) (C 14) (C 15) (C 16) (C 17) (C 18) (C 19) (C 20) (C 21) (C 22) (C 23) (d + 1) (nI (jf_ C i j).1) (jf_ C i j).2 (nI j) := by
  have hin : vp_in (nI i) 4 := vp_in_nI hi (by omega)
  have hc : (nI i).toNatClampNeg = i := nI_clamp (by omega)
  intro d
  induction d with
  | zero =>
    intro j hj
    obtain rfl : j = 4 := by omega
    exact k0
  | succ d ih =>
    intro j hj
    have h4 := ni_lit4 (j := j) (by omega)
    have kk := ih (j + 1) (by omega)
    by_cases e1 : j = i
    · rw [show jf_ C i (j + 1) = jf_ C i j from if_neg (fun z => z.1 e1)] at kk
      exact br_f h4 (br_t (congrArg nI e1) (nm_r (nI_1 j) kk))
    · have n1 : ¬ nI j = nI i := fun e => e1 ((nI_eq (by omega) (by omega)).mp e)
      by_cases c : hv_ C i j ≤ C 0 i
      · rw [show jf_ C i (j + 1) = jf_ C i j from if_neg (fun z => z.2 c)] at kk
        have c' : hv_ C i j ≤ C 0 (nI i).toNatClampNeg := by rw [hc]; exact c
        exact br_f h4 (br_f n1 (hv_x hi (by omega) gc.2.2.2.2.2.1 ⟨hin, br_t c' (nm_r (nI_1 j) kk)⟩))
      · rw [show jf_ C i (j + 1) = ((jf_ C i j).1 + 1, if (jf_ C i j).2 ≤ hv_ C i j then (jf_ C i j).2 else hv_ C i j) from if_pos ⟨e1, c⟩] at kk
        have c' : ¬ hv_ C i j ≤ C 0 (nI i).toNatClampNeg := by rw [hc]; exact c
        by_cases c2 : (jf_ C i j).2 ≤ hv_ C i j
        · rw [if_pos c2] at kk
          exact br_f h4 (br_f n1 (hv_x hi (by omega) gc.2.2.2.2.2.1 ⟨hin, br_f c' (nm_r (nI_1 _) (br_t c2 (nm_r (nI_1 j) kk)))⟩))
        · rw [if_neg c2] at kk
          exact br_f h4 (br_f n1 (hv_x hi (by omega) gc.2.2.2.2.2.1 ⟨hin, br_f c' (nm_r (nI_1 _) (br_f c2 (nm_r (nI_1 j) kk)))⟩))
theorem jv_yl (hi : i < 4) (gc : gc_ φ C) {post : Int32 → SY → Prop} (k0 : wY_onViewChange_98 post (nI i) (nI φ) (nI ι) (nI ω) (nI κ) (nI p) ls (Q 0) (Q 1) (Q 2) (Q 3) (Q 4) (Q 5) (C 0) (C 1) (C 2) (C 3) (C 4) (C 5) (C 6) (C 7) (C 8) (C 9) (C 10) (C 11) (C 12) (C 13) (C 14) (C 15) (C 16) (C 17) (C 18) (C 19) (C 20) (C 21) (C 22) (C 23) ch 1 (nI (jf_ C i 4).1) (jf_ C i 4).2 (nI 4)) : ∀ d j, j + d = 4 → wY_onViewChange_98 post (nI i) (nI φ) (nI ι) (nI ω) (nI κ) (nI p) ls (Q 0) (Q 1) (Q 2) (Q 3) (Q 4) (Q 5) (C 0) (C 1) (C 2) (C 3) (C 4) (C 5) (C 6) (C 7) (C 8) (C 9) (C 10) (C 11) (C 12) (C 13) (C 14) (C 15) (C 16) (C 17) (C 18) (C 19) (C 20) (C 21) (C 22) (C 23) ch (d + 1) (nI (jf_ C i j).1) (jf_ C i j).2 (nI j) := by
  have hin : vp_in (nI i) 4 := vp_in_nI hi (by omega)
  have hc : (nI i).toNatClampNeg = i := nI_clamp (by omega)
  intro d
  induction d with
  | zero =>
    intro j hj
    obtain rfl : j = 4 := by omega
    exact k0
  | succ d ih =>
    intro j hj
    have h4 := ni_lit4 (j := j) (by omega)
    have kk := ih (j + 1) (by omega)
    by_cases e1 : j = i
    · rw [show jf_ C i (j + 1) = jf_ C i j from if_neg (fun z => z.1 e1)] at kk
      exact br_f h4 (br_t (congrArg nI e1) (nm_r (nI_1 j) kk))
    · have n1 : ¬ nI j = nI i := fun e => e1 ((nI_eq (by omega) (by omega)).mp e)
      by_cases z : hv_ C i j = -1
      · have c : hv_ C i j ≤ C 0 i := by
          obtain ⟨v, hv, ev⟩ := gc.1 i
          rw [z, ev]
          exact ni_lm1 (by omega)
        rw [show jf_ C i (j + 1) = jf_ C i j from if_neg (fun z => z.2 c)] at kk
        exact br_f h4 (br_f n1 (hv_y hi (by omega) gc.2.2.2.2.2.1 (br_t z (nm_r (nI_1 j) kk))))
      by_cases c : hv_ C i j ≤ C 0 i
      · rw [show jf_ C i (j + 1) = jf_ C i j from if_neg (fun z => z.2 c)] at kk
        have c' : hv_ C i j ≤ C 0 (nI i).toNatClampNeg := by rw [hc]; exact c
        exact br_f h4 (br_f n1 (hv_y hi (by omega) gc.2.2.2.2.2.1 (br_f z ⟨hin, br_t c' (nm_r (nI_1 j) kk)⟩)))
      · rw [show jf_ C i (j + 1) = ((jf_ C i j).1 + 1, if (jf_ C i j).2 ≤ hv_ C i j then (jf_ C i j).2 else hv_ C i j) from if_pos ⟨e1, c⟩] at kk
        have c' : ¬ hv_ C i j ≤ C 0 (nI i).toNatClampNeg := by rw [hc]; exact c
        by_cases c2 : (jf_ C i j).2 ≤ hv_ C i j
        · rw [if_pos c2] at kk
          exact br_f h4 (br_f n1 (hv_y hi (by omega) gc.2.2.2.2.2.1 (br_f z ⟨hin, br_f c' (nm_r (nI_1 _) (br_t c2 (nm_r (nI_1 j) kk)))⟩)))
        · rw [if_neg c2] at kk
          exact br_f h4 (br_f n1 (hv_y hi (by omega) gc.2.2.2.2.2.1 (br_f z ⟨hin, br_f c' (nm_r (nI_1 _) (br_f c2 (nm_r (nI_1 j) kk)))⟩)))
/-- join, then lead -/
theorem jv_lk (hK : kk_ φ ι ω κ) (hi : i < 4) (hif : i ≠ φ) (gc : gc_ φ C) (gp : gp_ φ κ p P Q) : lk_ (er_ (t0_ φ ι ω κ)) (fun q => wpX_joinViewChange (fun u => wpX_lead (fun u' => q 1 u') u (nI i)) (xs_ φ ι ω κ p ls P C) (nI i)) (fun q => ∃ n98, wY_onViewChange_98 q (nI i) (nI φ) (nI ι) (nI ω) (nI κ) (nI p) ls (Q 0) (Q 1) (Q 2) (Q 3) (Q 4) (Q 5) (C 0) (C 1) (C 2) (C 3) (C 4) (C 5) (C 6) (C 7) (C 8) (C 9) (C 10) (C 11) (C 12) (C 13) (C 14) (C 15) (C 16) (C 17) (C 18) (C 19) (C 20) (C 21) (C 22) (C 23) ch n98 0 8 0) := by
  obtain ⟨j1, j2⟩ := jf_ok (i := i) gc 4 (Nat.le_refl 4)
  have L : ∀ (C : Nat → Nat → Int32) (ch : Nat → Int32) (p : Nat) (ls : Int32) (P Q : Nat → Nat → Int32), gc_ φ C → gp_ φ κ p P Q → lk_ (er_ (t0_ φ ι ω κ)) (fun q => wpX_lead (fun u' => q 1 u') (xs_ φ ι ω κ p ls P C) (nI i)) (fun q => wY_onViewChange_176 q (nI i) (nI φ) (nI ι) (nI ω) (nI κ) (nI p) ls (Q 0) (Q 1) (Q 2) (Q 3) (Q 4) (Q 5) (C 0) (C 1) (C 2) (C 3) (C 4) (C 5) (C 6) (C 7) (C 8) (C 9) (C 10) (C 11) (C 12) (C 13) (C 14) (C 15) (C 16) (C 17) (C 18) (C 19) (C 20) (C 21) (C 22) (C 23) ch) := by
    intro C ch p ls P Q gc gp
    unfold wY_onViewChange_176
    refine lk_bv (KX := fun (q : Int32 → SX → Prop) u => q 1 u) (le_lk (ch := ch) (ls := ls) hK hi hif gc gp) ?_
    rintro u w ⟨C', ch', gc', _, p', ls', P', Q', rfl, rfl, gp'⟩
    dsimp only
    exact lk_rr ⟨C', ch', gc', trivial, p', ls', P', Q', rfl, rfl, gp'⟩
  refine lk_mono (fun q z => Exists.intro 5 (jv_xl (P := P) (C := C) hi gc (br_t ni_ge4 z) 4 0 rfl)) (fun q z => Exists.intro 5 (jv_yl (Q := Q) (C := C) (ch := ch) hi gc (br_t ni_ge4 z) 4 0 rfl)) ?_
  by_cases c1 : (jf_ C i 4).1 < 2
  · refine sx_t (ni_lt2 c1) (sy_t (ni_lt2 c1) ?_)
    exact L C ch p ls P Q gc gp
  · have c1' := ni_ge2 (c := (jf_ C i 4).1) (by omega) (by omega)
    refine sx_f c1' (sy_f c1' ?_)
    rcases j2 with e8 | ⟨w, w1, w8, e8⟩
    · rw [e8]
      refine sx_t (by decide) (sy_t (by decide) ?_)
      exact L C ch p ls P Q gc gp
    · rw [e8]
      have c2 : ¬ (7 : Int32) < nI w := nI_nlt (a := 7) (by omega) (by decide)
      refine sx_f c2 (sy_f c2 ?_)
      refine lk_bv (sv_lk (ch := ch) (ls := ls) hK hi w1 w8 gc gp) ?_
      rintro u v ⟨C', ch', gc', _, p', ls', P', Q', rfl, rfl, gp'⟩
      dsimp only
      exact L C' ch' p' ls' P' Q' gc' gp'
end
section
variable {φ ι ω κ p a b w k : Nat} {ls v : Int32} {P Q C : Nat → Nat → Int32} {ch : Nat → Int32}
theorem on_5b (hK : kk_ φ ι ω κ) (hb : b < 4) (hbf : b ≠ φ) (ha : a < 4) (hab : a ≠ b) (hk : k < 8) (gc : gc_ φ C) (gp : gp_ φ κ p P Q) : lk_ (er_ (t0_ φ ι ω κ)) (fun q => wX_onViewChange_59 q (nI b) (nI a) (nI k) (nI φ) (nI ι) (nI ω) (nI κ) (nI p) ls (P 0) (P 1) (P 2) (P 3) (P 4) (P 5) (C 0) (C 1) (C 2) (C 3) (C 4) (C 5) (C 6) (C 7) (C 8) (C 9) (C 10) (C 11) (C 12) (C 13) (C 14) (C 15) (C 16) (C 17) (C 18) (C 19) (C 20) (C 21) (C 22) (C 23)) (fun q => wY_onViewChange_63 q (nI b) (nI a) (nI k) (nI φ) (nI ι) (nI ω) (nI κ) (nI p) ls (Q 0) (Q 1) (Q 2) (Q 3) (Q 4) (Q 5) (C 0) (C 1) (C 2) (C 3) (C 4) (C 5) (C 6) (C 7) (C 8) (C 9) (C 10) (C 11) (C 12) (C 13) (C 14) (C 15) (C 16) (C 17) (C 18) (C 19) (C 20) (C 21) (C 22) (C 23) ch) := by
  have hin : vp_in (nI (b * 4 + a)) 16 := vp_in_nI (by omega) (by omega)
  have hc : (nI (b * 4 + a)).toNatClampNeg = b * 4 + a := nI_clamp (by omega)
  unfold wX_onViewChange_59 wY_onViewChange_63
  simp only [ix_8, ix_4, hc]
  refine lk_ba (vd_lk (ch := ch) (ls := ls) (p := p) (P := P) (Q := Q) hK ha hk gc) ?_
  intro r hr
  refine sx_c (fun c => sy_t c ?_) (fun c => sy_f c ?_)
  · exact lk_rr ⟨C, ch, gc, trivial, p, ls, P, Q, rfl, rfl, gp⟩
  · refine sx_i hin (sx_n (sy_i hin (sy_n ?_)))
    have g2 : gc_ φ (cw_ C 16 (b * 4 + a) (nI k)) := by
      obtain ⟨h0, h2, h4, h7, h8, h16, h22, hdd, hvv⟩ := gc
      refine ⟨h0, h2, h4, h7, h8, gn_u h16 (Or.inr ⟨k, hk, rfl⟩), h22, hdd, ?_⟩
      intro j hj hjf hac
      obtain ⟨w', b1, b2, b3, b4, b5⟩ := hvv j hj hjf hac
      exact ⟨w', b1, b2, b3, (pk_un (by omega)).trans b4, b5⟩
    exact jv_lk (C := cw_ C 16 (b * 4 + a) (nI k)) hK hb hbf g2 gp
theorem on_5a (hK : kk_ φ ι ω κ) (hb : b < 4) (hbf : b ≠ φ) (ha : a < 4) (hab : a ≠ b) (hk : k < 8) (gc : gc_ φ C) (gp : gp_ φ κ p P Q) : lk_ (er_ (t0_ φ ι ω κ)) (fun q => wX_onViewChange_32 q (nI b) (nI a) v (nI k) (nI φ) (nI ι) (nI ω) (nI κ) (nI p) ls (P 0) (P 1) (P 2) (P 3) (P 4) (P 5) (C 0) (C 1) (C 2) (C 3) (C 4) (C 5) (C 6) (C 7) (C 8) (C 9) (C 10) (C 11) (C 12) (C 13) (C 14) (C 15) (C 16) (C 17) (C 18) (C 19) (C 20) (C 21) (C 22) (C 23)) (fun q => wY_onViewChange_32 q (nI b) (nI a) v (nI k) (nI φ) (nI ι) (nI ω) (nI κ) (nI p) ls (Q 0) (Q 1) (Q 2) (Q 3) (Q 4) (Q 5) (C 0) (C 1) (C 2) (C 3) (C 4) (C 5) (C 6) (C 7) (C 8) (C 9) (C 10) (C 11) (C 12) (C 13) (C 14) (C 15) (C 16) (C 17) (C 18) (C 19) (C 20) (C 21) (C 22) (C 23) ch) := by
  have hin : vp_in (nI (b * 4 + a)) 16 := vp_in_nI (by omega) (by omega)
  have hc : (nI (b * 4 + a)).toNatClampNeg = b * 4 + a := nI_clamp (by omega)
  have g16 := gc.2.2.2.2.2.1
  unfold wX_onViewChange_32 wY_onViewChange_32
  refine lk_my (fun q z => hv_y (Q := Q) (C := C) (ch := ch) hb ha g16 z) ?_
  simp only [ix_4, hc]
  refine sx_i hin (sy_i hin ?_)
  refine sx_c (fun c => sy_t c ?_) (fun c => sy_f c ?_)
  · exact on_5b hK hb hbf ha hab hk gc gp
  · refine lk_mx (fun q z => hv_x (P := P) (C := C) hb ha g16 z) ?_
    refine sx_c (fun c => sy_t c ?_) (fun c => sy_f c ?_)
    · exact on_5b hK hb hbf ha hab hk gc gp
    · exact lk_rr ⟨C, ch, gc, trivial, p, ls, P, Q, rfl, rfl, gp⟩
theorem on_5 (hK : kk_ φ ι ω κ) (hb : b < 4) (hbf : b ≠ φ) (ha : a < 4) (hab : a ≠ b) (hk : k < 8) (gc : gc_ φ C) (gp : gp_ φ κ p P Q) : lk_ (er_ (t0_ φ ι ω κ)) (fun q => wpX_onViewChange q (xs_ φ ι ω κ p ls P C) (nI b) (nI a) v (nI k)) (fun q => wpY_onViewChange q (ys_ φ ι ω κ p ls Q C ch) (nI b) (nI a) v (nI k)) := by
  have hin : vp_in (nI b) 4 := vp_in_nI hb (by omega)
  have hc : (nI b).toNatClampNeg = b := nI_clamp (by omega)
  have T0 : t0_ φ ι ω κ (xs_ φ ι ω κ p ls P C) (ys_ φ ι ω κ p ls Q C ch) := ⟨C, ch, gc, trivial, p, ls, P, Q, rfl, rfl, gp⟩
  unfold wpX_onViewChange wpY_onViewChange
  dsimp only
  simp only [hc]
  refine sx_i hin (sy_i hin ?_)
  refine sx_c (fun c => sy_t c ?_) (fun c => sy_f c ?_)
  · exact lk_rr T0
  · refine sx_i hin (sy_i hin ?_)
    refine sx_c (fun c => sy_t c ?_) (fun c => sy_f c ?_)
    · refine sx_i hin (sy_i hin ?_)
      refine sx_c (fun c => sy_t c ?_) (fun c => sy_f c ?_)
      · exact on_5a hK hb hbf ha hab hk gc gp
      · exact lk_rr T0
    · exact on_5a hK hb hbf ha hab hk gc gp
end
section
variable {φ ι ω κ p a b w m k : Nat} {ls : Int32} {P Q C : Nat → Nat → Int32} {ch : Nat → Int32}
theorem on_6l (hK : kk_ φ ι ω κ) (hb : b < 4) (hw1 : 1 ≤ w) (hw : w < 8) (hk : k < 8) (hm : m < 16) (hm1 : 1 ≤ m) (gc : gc_ φ C) (gp : gp_ φ κ p P Q) : ∀ d j, j + d = 4 → (∀ l, l < j → m.testBit l = true → C 19 (dj_ φ w k l) = nI w) → lk_ (er_ (t0_ φ ι ω κ)) (fun q => wX_onNewView_47 q (nI b) (nI w) (nI m) (nI k) (nI φ) (nI ι) (nI ω) (nI κ) (nI p) ls (P 0) (P 1) (P 2) (P 3) (P 4) (P 5) (C 0) (C 1) (C 2) (C 3) (C 4) (C 5) (C 6) (C 7) (C 8) (C 9) (C 10) (C 11) (C 12) (C 13) (C 14) (C 15) (C 16) (C 17) (C 18) (C 19) (C 20) (C 21) (C 22) (C 23) (d + 1) (nI j)) (fun q => wY_onNewView_45 q (nI b) (nI w) (nI m) (nI k) (nI φ) (nI ι) (nI ω) (nI κ) (nI p) ls (Q 0) (Q 1) (Q 2) (Q 3) (Q 4) (Q 5) (C 0) (C 1) (C 2) (C 3) (C 4) (C 5) (C 6) (C 7) (C 8) (C 9) (C 10) (C 11) (C 12) (C 13) (C 14) (C 15) (C 16) (C 17) (C 18) (C 19) (C 20) (C 21) (C 22) (C 23) ch (d + 1) (nI j)) := by
  have hf := hK.1
  have T0 : t0_ φ ι ω κ (xs_ φ ι ω κ p ls P C) (ys_ φ ι ω κ p ls Q C ch) := ⟨C, ch, gc, trivial, p, ls, P, Q, rfl, rfl, gp⟩
  intro d
  induction d with
  | zero =>
    intro j hj hall
    obtain rfl : j = 4 := by omega
    refine lk_mono (fun q z => br_t ni_ge4 z) (fun q z => br_t ni_ge4 z) ?_
    have hx : ∃ j, j < 4 ∧ m.testBit j = true ∧ bd_ 9 (C 20 (dj_ φ w k j)) := by
      have hy : ∃ j, j < 4 ∧ m.testBit j = true := by
        rcases or_1 m hm hm1 with e | e | e | e
        · exact ⟨0, by omega, e⟩
        · exact ⟨1, by omega, e⟩
        · exact ⟨2, by omega, e⟩
        · exact ⟨3, by omega, e⟩
      obtain ⟨j, hj, e⟩ := hy
      refine ⟨j, hj, e, ?_⟩
      rcases gc.2.2.2.2.2.2.2.1 (dj_ φ w k j) (dj_lt hw hk hj) with ⟨_, z, _⟩ | ⟨_, _, z⟩
      · rw [hall j hj e] at z
        exact absurd z (ni_m1 (by omega))
      · exact z
    refine lk_bv (en_lk (ch := ch) (ls := ls) hK hb hw hk hm hx gc gp) ?_
    rintro u w ⟨C', ch', gc', _, p', ls', P', Q', rfl, rfl, gp'⟩
    dsimp only
    exact lk_rr ⟨C', ch', gc', trivial, p', ls', P', Q', rfl, rfl, gp'⟩
  | succ d ih =>
    intro j hj hall
    have h4 := ni_lit4 (j := j) (by omega)
    have hd := dj_lt (φ := φ) hw hk (j := j) (by omega)
    have hin : vp_in (nI (dj_ φ w k j)) 32 := vp_in_nI hd (by omega)
    have hc : (nI (dj_ φ w k j)).toNatClampNeg = dj_ φ w k j := nI_clamp (by omega)
    refine lk_mono (fun q z => br_f h4 z) (fun q z => br_f h4 z) ?_
    by_cases e : m.testBit j = true
    · refine lk_mono (fun q z => hx_1 hm (by omega) e (br_f (by decide) (ld_x (P := P) (C := C) hf (by omega) z))) (fun q z => hy_1 hm (by omega) e (br_f (by decide) (ld_y (Q := Q) (C := C) (ch := ch) hf (by omega) z))) ?_
      rw [dj_ix, hc]
      refine sx_i hin (sy_i hin ?_)
      refine sx_c (fun c => sy_t c ?_) (fun c => sy_f c ?_)
      · refine lk_ba (vd_lk (j := j) (k := dn_ φ w k j) (ch := ch) (ls := ls) (p := p) (P := P) (Q := Q) hK (by omega) (dn_lt hw hk) gc) ?_
        intro r hr
        refine sx_c (fun c2 => sy_t c2 ?_) (fun c2 => sy_f c2 ?_)
        · exact lk_rr T0
        · refine sx_r (nI_1 j) (sy_r (nI_1 j) ?_)
          refine ih (j + 1) (by omega) (fun l hl hb => ?_)
          by_cases el : l = j
          · rw [el]; exact c
          · exact hall l (by omega) hb
      · exact lk_rr T0
    · refine lk_mono (fun q z => hx_0 hm (by omega) (tb_f e) (br_t rfl z)) (fun q z => hy_0 hm (by omega) (tb_f e) (br_t rfl z)) ?_
      refine sx_r (nI_1 j) (sy_r (nI_1 j) ?_)
      refine ih (j + 1) (by omega) (fun l hl hb => ?_)
      by_cases el : l = j
      · rw [el] at hb; exact absurd hb e
      · exact hall l (by omega) hb
theorem on_6a (hK : kk_ φ ι ω κ) (hb : b < 4) (hw1 : 1 ≤ w) (hw : w < 8) (hk : k < 8) (hm : m < 16) (hm1 : 1 ≤ m) (gc : gc_ φ C) (gp : gp_ φ κ p P Q) : lk_ (er_ (t0_ φ ι ω κ)) (fun q => wX_onNewView_32 q (nI b) (nI a) (nI w) (nI m) (nI k) (nI φ) (nI ι) (nI ω) (nI κ) (nI p) ls (P 0) (P 1) (P 2) (P 3) (P 4) (P 5) (C 0) (C 1) (C 2) (C 3) (C 4) (C 5) (C 6) (C 7) (C 8) (C 9) (C 10) (C 11) (C 12) (C 13) (C 14) (C 15) (C 16) (C 17) (C 18) (C 19) (C 20) (C 21) (C 22) (C 23)) (fun q => wY_onNewView_32 q (nI b) (nI a) (nI w) (nI m) (nI k) (nI φ) (nI ι) (nI ω) (nI κ) (nI p) ls (Q 0) (Q 1) (Q 2) (Q 3) (Q 4) (Q 5) (C 0) (C 1) (C 2) (C 3) (C 4) (C 5) (C 6) (C 7) (C 8) (C 9) (C 10) (C 11) (C 12) (C 13) (C 14) (C 15) (C 16) (C 17) (C 18) (C 19) (C 20) (C 21) (C 22) (C 23) ch) := by
  unfold wX_onNewView_32 wY_onNewView_32
  refine lk_mx (fun q z => cl_p z) (sy_i (by decide) ?_)
  refine sx_c (fun c => sy_t c ?_) (fun c => sy_f c ?_)
  · refine sx_e 5 (sy_e 5 ?_)
    exact on_6l hK hb hw1 hw hk hm hm1 gc gp 4 0 rfl (fun l hl => absurd hl (by omega))
  · exact lk_rr ⟨C, ch, gc, trivial, p, ls, P, Q, rfl, rfl, gp⟩
theorem on_6 (hK : kk_ φ ι ω κ) (hb : b < 4) (hw1 : 1 ≤ w) (hw : w < 8) (hk : k < 8) (hm : m < 16) (hm1 : 1 ≤ m) (gc : gc_ φ C) (gp : gp_ φ κ p P Q) : lk_ (er_ (t0_ φ ι ω κ)) (fun q => wpX_onNewView q (xs_ φ ι ω κ p ls P C) (nI b) (nI a) (nI w) (nI m) (nI k)) (fun q => wpY_onNewView q (ys_ φ ι ω κ p ls Q C ch) (nI b) (nI a) (nI w) (nI m) (nI k)) := by
  have hin : vp_in (nI b) 4 := vp_in_nI hb (by omega)
  have hc : (nI b).toNatClampNeg = b := nI_clamp (by omega)
  have T0 : t0_ φ ι ω κ (xs_ φ ι ω κ p ls P C) (ys_ φ ι ω κ p ls Q C ch) := ⟨C, ch, gc, trivial, p, ls, P, Q, rfl, rfl, gp⟩
  unfold wpX_onNewView wpY_onNewView
  dsimp only
  simp only [hc]
  refine sx_i hin (sy_i hin ?_)
  refine sx_c (fun c => sy_t c ?_) (fun c => sy_f c ?_)
  · exact lk_rr T0
  · refine sx_i hin (sy_i hin ?_)
    refine sx_c (fun c => sy_t c ?_) (fun c => sy_f c ?_)
    · refine sx_i hin (sy_i hin ?_)
      refine sx_c (fun c => sy_t c ?_) (fun c => sy_f c ?_)
      · exact on_6a hK hb hw1 hw hk hm hm1 gc gp
      · exact lk_rr T0
    · exact on_6a hK hb hw1 hw hk hm hm1 gc gp
end
end
section
/-! the network -/
section
variable {φ ι ω κ p s : Nat} {ls : Int32} {P Q C : Nat → Nat → Int32} {ch : Nat → Int32}
theorem sl_no {x : Int32} (h : x < 0 ∨ nI p ≤ x) {post : Int32 → Prop} (k : post 0) : wpX_isSlot post (xs_ φ ι ω κ p ls P C) x := by
  by_cases c : x < 0
  · exact br_t c k
  · exact br_f c (br_t (h.resolve_left c) k)
theorem sl_ys (hs : s < p) (hp : p < 2 ^ 31) {post : Int32 → Prop} (k : post 1) : wpX_isSlot post (xs_ φ ι ω κ p ls P C) (nI s) := br_f (nI_pos (by omega)) (br_f (nI_ge hs hp) k)
theorem dv_lk (hK : kk_ φ ι ω κ) (hs : s < p) (gc : gc_ φ C) (gp : gp_ φ κ p P Q) : lk_ (er_ (t0_ φ ι ω κ)) (fun q => wpX_deliver q (xs_ φ ι ω κ p ls P C) (nI s)) (fun q => wpY_deliver q (ys_ φ ι ω κ p ls Q C ch) (nI s)) := by
  have hK' := hK
  obtain ⟨k0, k1, k2, k3, k4, k5, k6⟩ := hK
  have hpk := gp.1
  obtain ⟨r, rfl⟩ : ∃ r, p = r + 1 := ⟨p - 1, by omega⟩
  have gp2 := gp_rm gp (s := s) (by omega)
  obtain ⟨hPQ, a, b, ha, hb, hab, hbf, ea, eb, m1, m2, m3, m4⟩ := gp.2 s hs
  have q0 := hPQ 0 (by omega)
  have q1 := hPQ 1 (by omega)
  have q2 := hPQ 2 (by omega)
  have q3 := hPQ 3 (by omega)
  have q4 := hPQ 4 (by omega)
  have q5 := hPQ 5 (by omega)
  have hin : vp_in (nI s) 64 := vp_in_nI (by omega) (by omega)
  have hc : (nI s).toNatClampNeg = s := nI_clamp (by omega)
  have o1 : ¬ (1 : Int32) = 0 := by decide
  have n0 : ¬ nI s < 0 := nI_pos (by omega)
  have n1 : nI s < nI (r + 1) := nI_lt hs (by omega)
  unfold wpX_deliver wpY_deliver
  dsimp only
  refine lk_mx (fun q z => sl_ys (P := P) (C := C) hs (by omega) z) ?_
  simp only [hc, ← q0, ← q1, ← q2, ← q3, ← q4, ← q5]
  repeat' (first
    | with_reducible refine sx_i (by first | with_reducible assumption | decide) ?_
    | with_reducible refine sy_i (by first | with_reducible assumption | decide) ?_
    | with_reducible refine sx_n ?_
    | with_reducible refine sy_n ?_
    | with_reducible refine sx_t (by first | with_reducible assumption | exact trivial) ?_
    | with_reducible refine sx_f (by with_reducible assumption) ?_
    | with_reducible refine sy_t (by first | with_reducible assumption | exact trivial) ?_
    | with_reducible refine sy_f (by with_reducible assumption) ?_ | fail)
  refine lk_mono (fun q z => rm_x (P := P) (C := C) (by omega) (by omega) z) (fun q z => rm_y (Q := Q) (C := C) (ch := ch) (by omega) (by omega) z) ?_
  dsimp only
  rw [ea, eb]
  generalize P 0 s = kd at *
  generalize P 3 s = vw at *
  generalize P 4 s = sq at *
  generalize P 5 s = vl at *
  by_cases c1 : kd = 1
  · (repeat' (first | with_reducible refine sx_i (by first | with_reducible assumption | decide) ?_ | with_reducible refine sy_i (by first | with_reducible assumption | decide) ?_ | with_reducible refine sx_n ?_ | with_reducible refine sy_n ?_ | with_reducible refine sx_t (by first | with_reducible assumption | exact trivial) ?_ | with_reducible refine sx_f (by with_reducible assumption) ?_ | with_reducible refine sy_t (by first | with_reducible assumption | exact trivial) ?_ | with_reducible refine sy_f (by with_reducible assumption) ?_ | fail))
    obtain ⟨⟨v, hv, e1⟩, ⟨n, n1, n8, e2⟩, hd⟩ := m1 (Or.inl c1)
    subst e1 e2
    refine lk_br (on_1 (ch := ch) (ls := ls) hK' hb ha hv n1 n8 hd gc gp2) ?_
    rintro r u w ⟨C', ch', gc', _, p', ls', P', Q', rfl, rfl, gp'⟩
    dsimp only
    exact lk_rr ⟨C', ch', gc', trivial, p', ls', P', Q', rfl, rfl, gp'⟩
  by_cases c2 : kd = 2
  · (repeat' (first | with_reducible refine sx_i (by first | with_reducible assumption | decide) ?_ | with_reducible refine sy_i (by first | with_reducible assumption | decide) ?_ | with_reducible refine sx_n ?_ | with_reducible refine sy_n ?_ | with_reducible refine sx_t (by first | with_reducible assumption | exact trivial) ?_ | with_reducible refine sx_f (by with_reducible assumption) ?_ | with_reducible refine sy_t (by first | with_reducible assumption | exact trivial) ?_ | with_reducible refine sy_f (by with_reducible assumption) ?_ | fail))
    obtain ⟨⟨v, hv, e1⟩, ⟨n, n1, n8, e2⟩, hd⟩ := m1 (Or.inr (Or.inl c2))
    subst e1 e2
    refine lk_br (on_2 (ch := ch) (ls := ls) hK' hb ha hv n1 n8 gc gp2) ?_
    rintro r u w ⟨C', ch', gc', _, p', ls', P', Q', rfl, rfl, gp'⟩
    dsimp only
    exact lk_rr ⟨C', ch', gc', trivial, p', ls', P', Q', rfl, rfl, gp'⟩
  by_cases c3 : kd = 3
  · (repeat' (first | with_reducible refine sx_i (by first | with_reducible assumption | decide) ?_ | with_reducible refine sy_i (by first | with_reducible assumption | decide) ?_ | with_reducible refine sx_n ?_ | with_reducible refine sy_n ?_ | with_reducible refine sx_t (by first | with_reducible assumption | exact trivial) ?_ | with_reducible refine sx_f (by with_reducible assumption) ?_ | with_reducible refine sy_t (by first | with_reducible assumption | exact trivial) ?_ | with_reducible refine sy_f (by with_reducible assumption) ?_ | fail))
    obtain ⟨⟨v, hv, e1⟩, ⟨n, n1, n8, e2⟩, hd⟩ := m1 (Or.inr (Or.inr c3))
    subst e1 e2
    refine lk_br (on_3 (ch := ch) (ls := ls) hK' hb ha hv n1 n8 gc gp2) ?_
    rintro r u w ⟨C', ch', gc', _, p', ls', P', Q', rfl, rfl, gp'⟩
    dsimp only
    exact lk_rr ⟨C', ch', gc', trivial, p', ls', P', Q', rfl, rfl, gp'⟩
  by_cases c4 : kd = 4
  · (repeat' (first | with_reducible refine sx_i (by first | with_reducible assumption | decide) ?_ | with_reducible refine sy_i (by first | with_reducible assumption | decide) ?_ | with_reducible refine sx_n ?_ | with_reducible refine sy_n ?_ | with_reducible refine sx_t (by first | with_reducible assumption | exact trivial) ?_ | with_reducible refine sx_f (by with_reducible assumption) ?_ | with_reducible refine sy_t (by first | with_reducible assumption | exact trivial) ?_ | with_reducible refine sy_f (by with_reducible assumption) ?_ | fail))
    obtain ⟨n, n1, n8, e2⟩ := m2 c4
    subst e2
    refine lk_br (on_4 (ch := ch) (ls := ls) hK' hb ha n1 n8 gc gp2) ?_
    rintro r u w ⟨C', ch', gc', _, p', ls', P', Q', rfl, rfl, gp'⟩
    dsimp only
    exact lk_rr ⟨C', ch', gc', trivial, p', ls', P', Q', rfl, rfl, gp'⟩
  by_cases c5 : kd = 5
  · (repeat' (first | with_reducible refine sx_i (by first | with_reducible assumption | decide) ?_ | with_reducible refine sy_i (by first | with_reducible assumption | decide) ?_ | with_reducible refine sx_n ?_ | with_reducible refine sy_n ?_ | with_reducible refine sx_t (by first | with_reducible assumption | exact trivial) ?_ | with_reducible refine sx_f (by with_reducible assumption) ?_ | with_reducible refine sy_t (by first | with_reducible assumption | exact trivial) ?_ | with_reducible refine sy_f (by with_reducible assumption) ?_ | fail))
    obtain ⟨k, hk, e2⟩ := m3 c5
    subst e2
    refine lk_br (on_5 (ch := ch) (ls := ls) hK' hb hbf ha hab hk gc gp2) ?_
    rintro r u w ⟨C', ch', gc', _, p', ls', P', Q', rfl, rfl, gp'⟩
    dsimp only
    exact lk_rr ⟨C', ch', gc', trivial, p', ls', P', Q', rfl, rfl, gp'⟩
  · (repeat' (first | with_reducible refine sx_i (by first | with_reducible assumption | decide) ?_ | with_reducible refine sy_i (by first | with_reducible assumption | decide) ?_ | with_reducible refine sx_n ?_ | with_reducible refine sy_n ?_ | with_reducible refine sx_t (by first | with_reducible assumption | exact trivial) ?_ | with_reducible refine sx_f (by with_reducible assumption) ?_ | with_reducible refine sy_t (by first | with_reducible assumption | exact trivial) ?_ | with_reducible refine sy_f (by with_reducible assumption) ?_ | fail))
    obtain ⟨⟨w, w1, w8, e1⟩, ⟨m, mm1, mm, e2⟩, ⟨k, hk, e3⟩⟩ := m4 c1 c2 c3 c4 c5
    subst e1 e2 e3
    refine lk_br (on_6 (ch := ch) (ls := ls) hK' hb w1 w8 hk mm mm1 gc gp2) ?_
    rintro r u w ⟨C', ch', gc', _, p', ls', P', Q', rfl, rfl, gp'⟩
    dsimp only
    exact lk_rr ⟨C', ch', gc', trivial, p', ls', P', Q', rfl, rfl, gp'⟩
theorem dv_any (hK : kk_ φ ι ω κ) (x : Int32) (gc : gc_ φ C) (gp : gp_ φ κ p P Q) : lk_ (er_ (t0_ φ ι ω κ)) (fun q => wpX_deliver q (xs_ φ ι ω κ p ls P C) x) (fun q => wpY_deliver q (ys_ φ ι ω κ p ls Q C ch) x) := by
  have hpk := gp.1
  have k6 : κ ≤ 64 := hK.2.2.2.2.2.2
  have T0 : t0_ φ ι ω κ (xs_ φ ι ω κ p ls P C) (ys_ φ ι ω κ p ls Q C ch) := ⟨C, ch, gc, trivial, p, ls, P, Q, rfl, rfl, gp⟩
  rcases pk_ix x (n := p) (by omega) with h | h | ⟨s, hs, rfl⟩
  · unfold wpX_deliver wpY_deliver
    dsimp only
    refine lk_mx (fun q z => sl_no (P := P) (C := C) (Or.inl h) (br_t rfl z)) (sy_t h ?_)
    exact lk_rr T0
  · by_cases h0 : x < 0
    · unfold wpX_deliver wpY_deliver
      dsimp only
      refine lk_mx (fun q z => sl_no (P := P) (C := C) (Or.inl h0) (br_t rfl z)) (sy_t h0 ?_)
      exact lk_rr T0
    · unfold wpX_deliver wpY_deliver
      dsimp only
      refine lk_mx (fun q z => sl_no (P := P) (C := C) (Or.inr h) (br_t rfl z)) (sy_f h0 (sy_f (Int32.not_lt.mpr h) ?_))
      exact lk_rr T0
  · exact dv_lk hK hs gc gp
theorem dr_any (hK : kk_ φ ι ω κ) (x : Int32) (gc : gc_ φ C) (gp : gp_ φ κ p P Q) : lk_ (er_ (t0_ φ ι ω κ)) (fun q => wpX_drop q (xs_ φ ι ω κ p ls P C) x) (fun q => wpY_drop q (ys_ φ ι ω κ p ls Q C ch) x) := by
  have hpk := gp.1
  have k6 : κ ≤ 64 := hK.2.2.2.2.2.2
  have T0 : t0_ φ ι ω κ (xs_ φ ι ω κ p ls P C) (ys_ φ ι ω κ p ls Q C ch) := ⟨C, ch, gc, trivial, p, ls, P, Q, rfl, rfl, gp⟩
  unfold wpX_drop wpY_drop
  dsimp only
  rcases pk_ix x (n := p) (by omega) with h | h | ⟨s, hs, rfl⟩
  · refine lk_mx (fun q z => sl_no (P := P) (C := C) (Or.inl h) (br_t rfl z)) (sy_t h ?_)
    exact lk_rr T0
  · by_cases h0 : x < 0
    · refine lk_mx (fun q z => sl_no (P := P) (C := C) (Or.inl h0) (br_t rfl z)) (sy_t h0 ?_)
      exact lk_rr T0
    · refine lk_mx (fun q z => sl_no (P := P) (C := C) (Or.inr h) (br_t rfl z)) (sy_f h0 (sy_f (Int32.not_lt.mpr h) ?_))
      exact lk_rr T0
  · obtain ⟨r, rfl⟩ : ∃ r, p = r + 1 := ⟨p - 1, by omega⟩
    refine lk_mx (fun q z => sl_ys (P := P) (C := C) hs (by omega) (br_f (by decide) z)) (sy_f (nI_pos (by omega)) (sy_t (nI_lt hs (by omega)) ?_))
    refine lk_mono (fun q z => rm_x (P := P) (C := C) (by omega) (by omega) z) (fun q z => rm_y (Q := Q) (C := C) (ch := ch) (by omega) (by omega) z) ?_
    dsimp only
    exact lk_rr ⟨C, ch, gc, trivial, r, ls, _, _, rfl, rfl, gp_rm gp (by omega)⟩
theorem du_any (hK : kk_ φ ι ω κ) (x : Int32) (gc : gc_ φ C) (gp : gp_ φ κ p P Q) : lk_ (er_ (t0_ φ ι ω κ)) (fun q => wpX_duplicate q (xs_ φ ι ω κ p ls P C) x) (fun q => wpY_duplicate q (ys_ φ ι ω κ p ls Q C ch) x) := by
  have hpk := gp.1
  have k6 : κ ≤ 64 := hK.2.2.2.2.2.2
  have T0 : t0_ φ ι ω κ (xs_ φ ι ω κ p ls P C) (ys_ φ ι ω κ p ls Q C ch) := ⟨C, ch, gc, trivial, p, ls, P, Q, rfl, rfl, gp⟩
  unfold wpX_duplicate wpY_duplicate
  dsimp only
  rcases pk_ix x (n := p) (by omega) with h | h | ⟨s, hs, rfl⟩
  · refine lk_mx (fun q z => sl_no (P := P) (C := C) (Or.inl h) (br_t rfl z)) (sy_t h ?_)
    exact lk_rr T0
  · by_cases h0 : x < 0
    · refine lk_mx (fun q z => sl_no (P := P) (C := C) (Or.inl h0) (br_t rfl z)) (sy_t h0 ?_)
      exact lk_rr T0
    · refine lk_mx (fun q z => sl_no (P := P) (C := C) (Or.inr h) (br_t rfl z)) (sy_f h0 (sy_f (Int32.not_lt.mpr h) ?_))
      exact lk_rr T0
  · have hin : vp_in (nI s) 64 := vp_in_nI (by omega) (by omega)
    have hc : (nI s).toNatClampNeg = s := nI_clamp (by omega)
    obtain ⟨hPQ, hm⟩ := gp.2 s hs
    refine lk_mx (fun q z => sl_ys (P := P) (C := C) hs (by omega) (br_f (by decide) z)) (sy_f (nI_pos (by omega)) (sy_t (nI_lt hs (by omega)) ?_))
    simp only [hc, ← hPQ 0 (by omega), ← hPQ 1 (by omega), ← hPQ 2 (by omega), ← hPQ 3 (by omega), ← hPQ 4 (by omega), ← hPQ 5 (by omega)]
    refine sy_i hin (sy_i hin (sy_i hin (sy_i hin (sy_i hin (sy_i hin ?_)))))
    by_cases hp : p < κ
    · refine sx_t (nI_lt hp (by omega)) ?_
      refine lk_mono (fun q z => cq_x (P := P) (C := C) (by omega) (by omega) z) (fun q z => ad_y (Q := Q) (C := C) (ch := ch) (by omega) hp z) ?_
      dsimp only
      refine sx_r (nI_1 p) (sy_f (by decide) ?_)
      exact lk_rr ⟨C, ch, gc, trivial, p + 1, ls, _, _, rfl, rfl, gp_add gp hp hm⟩
    · refine sx_f (nI_nlt (by omega) (by omega)) ?_
      refine lk_my (fun q z => ad_y0 (Q := Q) (C := C) (ch := ch) (by omega) hp z) ?_
      dsimp only
      refine sy_t rfl ?_
      exact lk_rr T0
end
end
section
/-! runs -/
theorem cm_ (x : Int32) {lo hi : Nat} (hl : lo ≤ hi) (hh : hi < 2 ^ 31) : ∃ L, lo ≤ L ∧ L ≤ hi ∧ (∀ (post : Int32 → Prop) (u : SX), post (nI L) → wpX_clamp post u x (nI lo) (nI hi)) ∧ (∀ (post : Int32 → Prop) (u : SY), post (nI L) → wpY_clamp post u x (nI lo) (nI hi)) := by
  by_cases c1 : nI lo ≤ x
  · by_cases c2 : x ≤ nI hi
    · have c0 : ¬ x < 0 := by
        have := nI_pos' (n := lo) (by omega)
        rw [Int32.lt_iff_toInt_lt]
        rw [Int32.le_iff_toInt_le] at c1 this
        omega
      obtain ⟨j, hj, rfl⟩ := nI_of c0
      have d1 := (nI_leI (a := lo) (b := j) (by omega) hj).mp c1
      have d2 := (nI_leI (a := j) (b := hi) hj hh).mp c2
      refine ⟨j, d1, d2, fun post u k => ?_, fun post u k => ?_⟩
      · obtain ⟨_, _, _, _, _, _, _, _, _, _, _, _, _, _, _, _, _, _, _, _, _, _, _, _, _, _, _, _, _, _, _, _, _, _, _, _⟩ := u
        exact br_t c1 (br_t c2 k)
      · obtain ⟨_, _, _, _, _, _, _, _, _, _, _, _, _, _, _, _, _, _, _, _, _, _, _, _, _, _, _, _, _, _, _, _, _, _, _, _, _⟩ := u
        exact br_t c1 (br_t c2 k)
    · refine ⟨hi, hl, Nat.le_refl hi, fun post u k => ?_, fun post u k => ?_⟩
      · obtain ⟨_, _, _, _, _, _, _, _, _, _, _, _, _, _, _, _, _, _, _, _, _, _, _, _, _, _, _, _, _, _, _, _, _, _, _, _⟩ := u
        exact br_t c1 (br_f c2 k)
      · obtain ⟨_, _, _, _, _, _, _, _, _, _, _, _, _, _, _, _, _, _, _, _, _, _, _, _, _, _, _, _, _, _, _, _, _, _, _, _, _⟩ := u
        exact br_t c1 (br_f c2 k)
  · refine ⟨lo, Nat.le_refl lo, hl, fun post u k => ?_, fun post u k => ?_⟩
    · obtain ⟨_, _, _, _, _, _, _, _, _, _, _, _, _, _, _, _, _, _, _, _, _, _, _, _, _, _, _, _, _, _, _, _, _, _, _, _⟩ := u
      exact br_f c1 k
    · obtain ⟨_, _, _, _, _, _, _, _, _, _, _, _, _, _, _, _, _, _, _, _, _, _, _, _, _, _, _, _, _, _, _, _, _, _, _, _, _⟩ := u
      exact br_f c1 k
/-- the first slot with the value -/
def xv_ (g : Nat → Int32) (r : Int32) : Nat → Nat → Int32
  | 0, _ => -1
  | k + 1, t => if g t = r then nI t else xv_ g r k (t + 1)
def xd_ : Nat → Int32
  | 0 => -1
  | t + 1 => nI t
theorem xd_m (t : Nat) : nI t + (-1) = xd_ t := by
  cases t with
  | zero => decide
  | succ t => exact pk_m1 t
theorem xd_s (t : Nat) : nI t - 1 = xd_ t := by
  cases t with
  | zero => decide
  | succ t => exact nI_pred t
theorem xv_ok {g : Nat → Int32} {r : Int32} : ∀ k t, xv_ g r k t = -1 ∨ ∃ s, s < t + k ∧ xv_ g r k t = nI s := by
  intro k
  induction k with
  | zero => intro t; exact Or.inl rfl
  | succ k ih =>
    intro t
    by_cases h : g t = r
    · exact Or.inr ⟨t, by omega, if_pos h⟩
    · have e : xv_ g r (k + 1) t = xv_ g r k (t + 1) := if_neg h
      rw [e]
      rcases ih (t + 1) with y | ⟨s, hs, y⟩
      · exact Or.inl y
      · exact Or.inr ⟨s, by omega, y⟩
theorem xv_c {g g' : Nat → Int32} {r : Int32} : ∀ k t, (∀ s, s < t + k → g s = g' s) → xv_ g r k t = xv_ g' r k t := by
  intro k
  induction k with
  | zero => intro t _; rfl
  | succ k ih =>
    intro t h
    show (if g t = r then nI t else xv_ g r k (t + 1)) = (if g' t = r then nI t else xv_ g' r k (t + 1))
    rw [h t (by omega), ih (t + 1) (fun s hs => h s (by omega))]
section
variable {φ ι ω κ p : Nat} {ls r : Int32} {P Q C : Nat → Nat → Int32} {ch : Nat → Int32}
theorem ft_xl (hp : p ≤ 64) {post : Int32 → Prop} : ∀ d s, s + d = p → post (xv_ (P 2) r d s) → wX_findTo_2 post r (nI φ) (nI ι) (nI ω) (nI κ) (nI p) ls (P 0) (P 1) (P 2) (P 3) (P 4) (P 5) (C 0) (C 1) (C 2) (C 3) (C 4) (C 5) (C 6) (C 7) (C 8) (C 9) (C 10) (C 11) (C 12) (C 13) (C 14) (C 15) (C 16) (C 17) (C 18) (C 19) (C 20) (C 21) (C 22) (C 23) (d + 1) (nI s) := by
  intro d
  induction d with
  | zero =>
    intro s hs h
    exact br_t (nI_le (by omega) (by omega)) h
  | succ d ih =>
    intro s hs h
    have h4 : ¬ nI p ≤ nI s := nI_ge (by omega) (by omega)
    have hin : vp_in (nI s) 64 := vp_in_nI (by omega) (by omega)
    have hc : (nI s).toNatClampNeg = s := nI_clamp (by omega)
    by_cases e : P 2 s = r
    · rw [show xv_ (P 2) r (d + 1) s = nI s from if_pos e] at h
      exact br_f h4 ⟨hin, br_t (by rw [hc]; exact e) h⟩
    · rw [show xv_ (P 2) r (d + 1) s = xv_ (P 2) r d (s + 1) from if_neg e] at h
      exact br_f h4 ⟨hin, br_f (by rw [hc]; exact e) (nm_r (nI_1 s) (ih (s + 1) (by omega) h))⟩
theorem ft_x (hp : p ≤ 64) {post : Int32 → Prop} (h : post (xv_ (P 2) r p 0)) : wpX_findTo post (xs_ φ ι ω κ p ls P C) r := Exists.intro (p + 1) (ft_xl hp p 0 (by omega) h)
theorem fk_xl (hp : p ≤ 64) {post : Int32 → Prop} : ∀ d s, s + d = p → post (xv_ (P 0) r d s) → wX_findKind_2 post r (nI φ) (nI ι) (nI ω) (nI κ) (nI p) ls (P 0) (P 1) (P 2) (P 3) (P 4) (P 5) (C 0) (C 1) (C 2) (C 3) (C 4) (C 5) (C 6) (C 7) (C 8) (C 9) (C 10) (C 11) (C 12) (C 13) (C 14) (C 15) (C 16) (C 17) (C 18) (C 19) (C 20) (C 21) (C 22) (C 23) (d + 1) (nI s) := by
  intro d
  induction d with
  | zero =>
    intro s hs h
    exact br_t (nI_le (by omega) (by omega)) h
  | succ d ih =>
    intro s hs h
    have h4 : ¬ nI p ≤ nI s := nI_ge (by omega) (by omega)
    have hin : vp_in (nI s) 64 := vp_in_nI (by omega) (by omega)
    have hc : (nI s).toNatClampNeg = s := nI_clamp (by omega)
    by_cases e : P 0 s = r
    · rw [show xv_ (P 0) r (d + 1) s = nI s from if_pos e] at h
      exact br_f h4 ⟨hin, br_t (by rw [hc]; exact e) h⟩
    · rw [show xv_ (P 0) r (d + 1) s = xv_ (P 0) r d (s + 1) from if_neg e] at h
      exact br_f h4 ⟨hin, br_f (by rw [hc]; exact e) (nm_r (nI_1 s) (ih (s + 1) (by omega) h))⟩
theorem fk_x (hp : p ≤ 64) {post : Int32 → Prop} (h : post (xv_ (P 0) r p 0)) : wpX_findKind post (xs_ φ ι ω κ p ls P C) r := Exists.intro (p + 1) (fk_xl hp p 0 (by omega) h)
theorem rt_yl (hp : p ≤ 64) {post : Int32 → SY → Prop} {J : Int32 → Int32 → Int32 → Int32 → Int32 → Int32 → Int32 → Int32 → (Nat → Int32) → (Nat → Int32) → (Nat → Int32) → (Nat → Int32) → (Nat → Int32) → (Nat → Int32) → (Nat → Int32) → (Nat → Int32) → (Nat → Int32) → (Nat → Int32) → (Nat → Int32) → (Nat → Int32) → (Nat → Int32) → (Nat → Int32) → (Nat → Int32) → (Nat → Int32) → (Nat → Int32) → (Nat → Int32) → (Nat → Int32) → (Nat → Int32) → (Nat → Int32) → (Nat → Int32) → (Nat → Int32) → (Nat → Int32) → (Nat → Int32) → (Nat → Int32) → (Nat → Int32) → (Nat → Int32) → (Nat → Int32) → (Nat → Int32) → (Nat → Int32) → Prop} {x3 x4 x5 : Int32} (k0 : wY_runTo_57 post J r x3 x4 x5 (nI φ) (nI ι) (nI ω) (nI κ) (nI p) ls (Q 0) (Q 1) (Q 2) (Q 3) (Q 4) (Q 5) (C 0) (C 1) (C 2) (C 3) (C 4) (C 5) (C 6) (C 7) (C 8) (C 9) (C 10) (C 11) (C 12) (C 13) (C 14) (C 15) (C 16) (C 17) (C 18) (C 19) (C 20) (C 21) (C 22) (C 23) ch 1 (xv_ (Q 2) r p 0) (-1)) : ∀ t, t ≤ p → wY_runTo_57 post J r x3 x4 x5 (nI φ) (nI ι) (nI ω) (nI κ) (nI p) ls (Q 0) (Q 1) (Q 2) (Q 3) (Q 4) (Q 5) (C 0) (C 1) (C 2) (C 3) (C 4) (C 5) (C 6) (C 7) (C 8) (C 9) (C 10) (C 11) (C 12) (C 13) (C 14) (C 15) (C 16) (C 17) (C 18) (C 19) (C 20) (C 21) (C 22) (C 23) ch (t + 1) (xv_ (Q 2) r (p - t) t) (xd_ t) := by
  intro t
  induction t with
  | zero => intro _; exact k0
  | succ t ih =>
    intro ht
    have n0 : ¬ nI t < 0 := nI_pos (by omega)
    have hin : vp_in (nI t) 64 := vp_in_nI (by omega) (by omega)
    have hc : (nI t).toNatClampNeg = t := nI_clamp (by omega)
    have kk := ih (by omega)
    rw [show p - t = (p - (t + 1)) + 1 from by omega] at kk
    by_cases e : Q 2 t = r
    · rw [show xv_ (Q 2) r (p - (t + 1) + 1) t = nI t from if_pos e] at kk
      have e' : Q 2 (nI t).toNatClampNeg = r := by rw [hc]; exact e
      exact br_f n0 ⟨hin, br_t e' (nm_r (xd_m t) kk)⟩
    · have e' : ¬ Q 2 (nI t).toNatClampNeg = r := by rw [hc]; exact e
      rw [show xv_ (Q 2) r (p - (t + 1) + 1) t = xv_ (Q 2) r (p - (t + 1)) (t + 1) from if_neg e] at kk
      exact br_f n0 ⟨hin, br_f e' (nm_r (xd_m t) kk)⟩
theorem rt_y (hp : p ≤ 64) {post : Int32 → SY → Prop} {J : Int32 → Int32 → Int32 → Int32 → Int32 → Int32 → Int32 → Int32 → (Nat → Int32) → (Nat → Int32) → (Nat → Int32) → (Nat → Int32) → (Nat → Int32) → (Nat → Int32) → (Nat → Int32) → (Nat → Int32) → (Nat → Int32) → (Nat → Int32) → (Nat → Int32) → (Nat → Int32) → (Nat → Int32) → (Nat → Int32) → (Nat → Int32) → (Nat → Int32) → (Nat → Int32) → (Nat → Int32) → (Nat → Int32) → (Nat → Int32) → (Nat → Int32) → (Nat → Int32) → (Nat → Int32) → (Nat → Int32) → (Nat → Int32) → (Nat → Int32) → (Nat → Int32) → (Nat → Int32) → (Nat → Int32) → (Nat → Int32) → (Nat → Int32) → Prop} {x3 x4 x5 : Int32} (k0 : wY_runTo_57 post J r x3 x4 x5 (nI φ) (nI ι) (nI ω) (nI κ) (nI p) ls (Q 0) (Q 1) (Q 2) (Q 3) (Q 4) (Q 5) (C 0) (C 1) (C 2) (C 3) (C 4) (C 5) (C 6) (C 7) (C 8) (C 9) (C 10) (C 11) (C 12) (C 13) (C 14) (C 15) (C 16) (C 17) (C 18) (C 19) (C 20) (C 21) (C 22) (C 23) ch 1 (xv_ (Q 2) r p 0) (-1)) : wY_runTo_57 post J r x3 x4 x5 (nI φ) (nI ι) (nI ω) (nI κ) (nI p) ls (Q 0) (Q 1) (Q 2) (Q 3) (Q 4) (Q 5) (C 0) (C 1) (C 2) (C 3) (C 4) (C 5) (C 6) (C 7) (C 8) (C 9) (C 10) (C 11) (C 12) (C 13) (C 14) (C 15) (C 16) (C 17) (C 18) (C 19) (C 20) (C 21) (C 22) (C 23) ch (p + 1) (-1) (xd_ p) := by
  have k := rt_yl hp k0 p (Nat.le_refl p)
  rw [Nat.sub_self] at k
  exact k
theorem rk_yl (hp : p ≤ 64) {post : Int32 → SY → Prop} {J : Int32 → Int32 → Int32 → Int32 → Int32 → Int32 → Int32 → Int32 → (Nat → Int32) → (Nat → Int32) → (Nat → Int32) → (Nat → Int32) → (Nat → Int32) → (Nat → Int32) → (Nat → Int32) → (Nat → Int32) → (Nat → Int32) → (Nat → Int32) → (Nat → Int32) → (Nat → Int32) → (Nat → Int32) → (Nat → Int32) → (Nat → Int32) → (Nat → Int32) → (Nat → Int32) → (Nat → Int32) → (Nat → Int32) → (Nat → Int32) → (Nat → Int32) → (Nat → Int32) → (Nat → Int32) → (Nat → Int32) → (Nat → Int32) → (Nat → Int32) → (Nat → Int32) → (Nat → Int32) → (Nat → Int32) → (Nat → Int32) → (Nat → Int32) → Prop} {x3 x4 x5 : Int32} (k0 : wY_runKind_47 post J r x3 x4 x5 (nI φ) (nI ι) (nI ω) (nI κ) (nI p) ls (Q 0) (Q 1) (Q 2) (Q 3) (Q 4) (Q 5) (C 0) (C 1) (C 2) (C 3) (C 4) (C 5) (C 6) (C 7) (C 8) (C 9) (C 10) (C 11) (C 12) (C 13) (C 14) (C 15) (C 16) (C 17) (C 18) (C 19) (C 20) (C 21) (C 22) (C 23) ch 1 (xv_ (Q 0) r p 0) (-1)) : ∀ t, t ≤ p → wY_runKind_47 post J r x3 x4 x5 (nI φ) (nI ι) (nI ω) (nI κ) (nI p) ls (Q 0) (Q 1) (Q 2) (Q 3) (Q 4) (Q 5) (C 0) (C 1) (C 2) (C 3) (C 4) (C 5) (C 6) (C 7) (C 8) (C 9) (C 10) (C 11) (C 12) (C 13) (C 14) (C 15) (C 16) (C 17) (C 18) (C 19) (C 20) (C 21) (C 22) (C 23) ch (t + 1) (xv_ (Q 0) r (p - t) t) (xd_ t) := by
  intro t
  induction t with
  | zero => intro _; exact k0
  | succ t ih =>
    intro ht
    have n0 : ¬ nI t < 0 := nI_pos (by omega)
    have hin : vp_in (nI t) 64 := vp_in_nI (by omega) (by omega)
    have hc : (nI t).toNatClampNeg = t := nI_clamp (by omega)
    have kk := ih (by omega)
    rw [show p - t = (p - (t + 1)) + 1 from by omega] at kk
    by_cases e : Q 0 t = r
    · rw [show xv_ (Q 0) r (p - (t + 1) + 1) t = nI t from if_pos e] at kk
      have e' : Q 0 (nI t).toNatClampNeg = r := by rw [hc]; exact e
      exact br_f n0 ⟨hin, br_t e' (nm_r (xd_m t) kk)⟩
    · have e' : ¬ Q 0 (nI t).toNatClampNeg = r := by rw [hc]; exact e
      rw [show xv_ (Q 0) r (p - (t + 1) + 1) t = xv_ (Q 0) r (p - (t + 1)) (t + 1) from if_neg e] at kk
      exact br_f n0 ⟨hin, br_f e' (nm_r (xd_m t) kk)⟩
theorem rk_y (hp : p ≤ 64) {post : Int32 → SY → Prop} {J : Int32 → Int32 → Int32 → Int32 → Int32 → Int32 → Int32 → Int32 → (Nat → Int32) → (Nat → Int32) → (Nat → Int32) → (Nat → Int32) → (Nat → Int32) → (Nat → Int32) → (Nat → Int32) → (Nat → Int32) → (Nat → Int32) → (Nat → Int32) → (Nat → Int32) → (Nat → Int32) → (Nat → Int32) → (Nat → Int32) → (Nat → Int32) → (Nat → Int32) → (Nat → Int32) → (Nat → Int32) → (Nat → Int32) → (Nat → Int32) → (Nat → Int32) → (Nat → Int32) → (Nat → Int32) → (Nat → Int32) → (Nat → Int32) → (Nat → Int32) → (Nat → Int32) → (Nat → Int32) → (Nat → Int32) → (Nat → Int32) → (Nat → Int32) → Prop} {x3 x4 x5 : Int32} (k0 : wY_runKind_47 post J r x3 x4 x5 (nI φ) (nI ι) (nI ω) (nI κ) (nI p) ls (Q 0) (Q 1) (Q 2) (Q 3) (Q 4) (Q 5) (C 0) (C 1) (C 2) (C 3) (C 4) (C 5) (C 6) (C 7) (C 8) (C 9) (C 10) (C 11) (C 12) (C 13) (C 14) (C 15) (C 16) (C 17) (C 18) (C 19) (C 20) (C 21) (C 22) (C 23) ch 1 (xv_ (Q 0) r p 0) (-1)) : wY_runKind_47 post J r x3 x4 x5 (nI φ) (nI ι) (nI ω) (nI κ) (nI p) ls (Q 0) (Q 1) (Q 2) (Q 3) (Q 4) (Q 5) (C 0) (C 1) (C 2) (C 3) (C 4) (C 5) (C 6) (C 7) (C 8) (C 9) (C 10) (C 11) (C 12) (C 13) (C 14) (C 15) (C 16) (C 17) (C 18) (C 19) (C 20) (C 21) (C 22) (C 23) ch (p + 1) (-1) (xd_ p) := by
  have k := rk_yl hp k0 p (Nat.le_refl p)
  rw [Nat.sub_self] at k
  exact k
end
section
variable {φ ι ω κ L : Nat} {r : Int32}
theorem rn_loop (hK : kk_ φ ι ω κ) (hL : L ≤ 32) : ∀ (d j : Nat) (C : Nat → Nat → Int32) (ch : Nat → Int32) (p : Nat) (ls : Int32) (P Q : Nat → Nat → Int32), j + d = L → gc_ φ C → gp_ φ κ p P Q → lk_ (er_ (t0_ φ ι ω κ)) (fun q => wX_run_11 q (nI L) (d + 1) (nI j) (nI φ) (nI ι) (nI ω) (nI κ) (nI p) ls (P 0) (P 1) (P 2) (P 3) (P 4) (P 5) (C 0) (C 1) (C 2) (C 3) (C 4) (C 5) (C 6) (C 7) (C 8) (C 9) (C 10) (C 11) (C 12) (C 13) (C 14) (C 15) (C 16) (C 17) (C 18) (C 19) (C 20) (C 21) (C 22) (C 23)) (fun q => wY_run_14 q (nI L) (d + 1) (nI j) (nI j) (nI φ) (nI ι) (nI ω) (nI κ) (nI p) ls (Q 0) (Q 1) (Q 2) (Q 3) (Q 4) (Q 5) (C 0) (C 1) (C 2) (C 3) (C 4) (C 5) (C 6) (C 7) (C 8) (C 9) (C 10) (C 11) (C 12) (C 13) (C 14) (C 15) (C 16) (C 17) (C 18) (C 19) (C 20) (C 21) (C 22) (C 23) ch) := by
  intro d
  induction d with
  | zero =>
    intro j C ch p ls P Q hj gc gp
    obtain rfl : j = L := by omega
    have T0 : t0_ φ ι ω κ (xs_ φ ι ω κ p ls P C) (ys_ φ ι ω κ p ls Q C ch) := ⟨C, ch, gc, trivial, p, ls, P, Q, rfl, rfl, gp⟩
    have c1 : nI j ≤ nI j := Int32.le_refl _
    refine lk_mx (fun q z => br_t c1 z) ?_
    by_cases c : 32 ≤ j
    · refine lk_my (fun q z => br_t (nI_le (a := 32) c (by omega)) z) ?_
      exact lk_rr T0
    · refine lk_my (fun q z => br_f (ni_lit32 (by omega)) (br_t c1 z)) ?_
      exact lk_rr T0
  | succ d ih =>
    intro j C ch p ls P Q hj gc gp
    have c1 : ¬ nI L ≤ nI j := nI_ge (by omega) (by omega)
    refine lk_mono (fun q z => br_f c1 z) (fun q z => br_f (ni_lit32 (by omega)) (br_f c1 z)) ?_
    refine sx_c (fun c => sy_t c ?_) (fun c => sy_f c ?_)
    · exact lk_rr ⟨C, ch, gc, trivial, p, ls, P, Q, rfl, rfl, gp⟩
    · refine lk_br (dv_any (ch := ch) (ls := ls) hK 0 gc gp) ?_
      rintro r u w ⟨C', ch', gc', _, p', ls', P', Q', rfl, rfl, gp'⟩
      dsimp only
      refine sx_r (nI_1 j) (sy_r (nI_1 j) (sy_r (nI_1 j) ?_))
      exact ih (j + 1) C' ch' p' ls' P' Q' (by omega) gc' gp'
theorem ro_loop (hK : kk_ φ ι ω κ) (hL : L ≤ 32) : ∀ (d j : Nat) (C : Nat → Nat → Int32) (ch : Nat → Int32) (p : Nat) (ls : Int32) (P Q : Nat → Nat → Int32), j + d = L → gc_ φ C → gp_ φ κ p P Q → lk_ (er_ (t0_ φ ι ω κ)) (fun q => wX_runTo_36 q r (nI L) (d + 1) (nI j) (nI φ) (nI ι) (nI ω) (nI κ) (nI p) ls (P 0) (P 1) (P 2) (P 3) (P 4) (P 5) (C 0) (C 1) (C 2) (C 3) (C 4) (C 5) (C 6) (C 7) (C 8) (C 9) (C 10) (C 11) (C 12) (C 13) (C 14) (C 15) (C 16) (C 17) (C 18) (C 19) (C 20) (C 21) (C 22) (C 23)) (fun q => wY_runTo_39 q r (nI L) (d + 1) (nI j) (nI j) (nI φ) (nI ι) (nI ω) (nI κ) (nI p) ls (Q 0) (Q 1) (Q 2) (Q 3) (Q 4) (Q 5) (C 0) (C 1) (C 2) (C 3) (C 4) (C 5) (C 6) (C 7) (C 8) (C 9) (C 10) (C 11) (C 12) (C 13) (C 14) (C 15) (C 16) (C 17) (C 18) (C 19) (C 20) (C 21) (C 22) (C 23) ch) := by
  have k6 : κ ≤ 64 := hK.2.2.2.2.2.2
  intro d
  induction d with
  | zero =>
    intro j C ch p ls P Q hj gc gp
    have hpk := gp.1
    obtain rfl : j = L := by omega
    have T0 : t0_ φ ι ω κ (xs_ φ ι ω κ p ls P C) (ys_ φ ι ω κ p ls Q C ch) := ⟨C, ch, gc, trivial, p, ls, P, Q, rfl, rfl, gp⟩
    have c1 : nI j ≤ nI j := Int32.le_refl _
    refine lk_mx (fun q z => br_t c1 z) ?_
    by_cases c : 32 ≤ j
    · refine lk_my (fun q z => br_t (nI_le (a := 32) c (by omega)) z) ?_
      exact lk_rr T0
    · refine lk_my (fun q z => br_f (ni_lit32 (by omega)) (nm_r (xd_s p) (Exists.intro (p + 1) (rt_y (Q := Q) (C := C) (ch := ch) (by omega) (br_t (by decide) (br_t c1 z)))))) ?_
      exact lk_rr T0
  | succ d ih =>
    intro j C ch p ls P Q hj gc gp
    have hpk := gp.1
    have c1 : ¬ nI L ≤ nI j := nI_ge (by omega) (by omega)
    have T0 : t0_ φ ι ω κ (xs_ φ ι ω κ p ls P C) (ys_ φ ι ω κ p ls Q C ch) := ⟨C, ch, gc, trivial, p, ls, P, Q, rfl, rfl, gp⟩
    refine lk_mono (fun q z => br_f c1 (ft_x (P := P) (C := C) (by omega) z)) (fun q z => br_f (ni_lit32 (by omega)) (nm_r (xd_s p) (Exists.intro (p + 1) (rt_y (Q := Q) (C := C) (ch := ch) (by omega) (br_t (by decide) (br_f c1 z)))))) ?_
    rw [xv_c (g := Q 2) (g' := P 2) p 0 (fun s hs => ((gp.2 s (by omega)).1 2 (by omega)).symm)]
    rcases xv_ok (g := P 2) (r := r) p 0 with y | ⟨s, hs, y⟩
    · rw [y]
      refine sx_t rfl (sy_f (by decide) ?_)
      exact lk_rr T0
    · rw [y]
      refine sx_f (ni_m1 (by omega)) (sy_t (nI_pos' (by omega)) ?_)
      refine lk_br (dv_lk (ch := ch) (ls := ls) hK (by omega) gc gp) ?_
      rintro r' u w ⟨C', ch', gc', _, p', ls', P', Q', rfl, rfl, gp'⟩
      dsimp only
      refine sx_r (nI_1 j) (sy_r (nI_1 j) (sy_r (nI_1 j) ?_))
      exact ih (j + 1) C' ch' p' ls' P' Q' (by omega) gc' gp'
theorem rq_loop (hK : kk_ φ ι ω κ) (hL : L ≤ 32) : ∀ (d j : Nat) (C : Nat → Nat → Int32) (ch : Nat → Int32) (p : Nat) (ls : Int32) (P Q : Nat → Nat → Int32), j + d = L → gc_ φ C → gp_ φ κ p P Q → lk_ (er_ (t0_ φ ι ω κ)) (fun q => wX_runKind_26 q r (nI L) (d + 1) (nI j) (nI φ) (nI ι) (nI ω) (nI κ) (nI p) ls (P 0) (P 1) (P 2) (P 3) (P 4) (P 5) (C 0) (C 1) (C 2) (C 3) (C 4) (C 5) (C 6) (C 7) (C 8) (C 9) (C 10) (C 11) (C 12) (C 13) (C 14) (C 15) (C 16) (C 17) (C 18) (C 19) (C 20) (C 21) (C 22) (C 23)) (fun q => wY_runKind_29 q r (nI L) (d + 1) (nI j) (nI j) (nI φ) (nI ι) (nI ω) (nI κ) (nI p) ls (Q 0) (Q 1) (Q 2) (Q 3) (Q 4) (Q 5) (C 0) (C 1) (C 2) (C 3) (C 4) (C 5) (C 6) (C 7) (C 8) (C 9) (C 10) (C 11) (C 12) (C 13) (C 14) (C 15) (C 16) (C 17) (C 18) (C 19) (C 20) (C 21) (C 22) (C 23) ch) := by
  have k6 : κ ≤ 64 := hK.2.2.2.2.2.2
  intro d
  induction d with
  | zero =>
    intro j C ch p ls P Q hj gc gp
    have hpk := gp.1
    obtain rfl : j = L := by omega
    have T0 : t0_ φ ι ω κ (xs_ φ ι ω κ p ls P C) (ys_ φ ι ω κ p ls Q C ch) := ⟨C, ch, gc, trivial, p, ls, P, Q, rfl, rfl, gp⟩
    have c1 : nI j ≤ nI j := Int32.le_refl _
    refine lk_mx (fun q z => br_t c1 z) ?_
    by_cases c : 32 ≤ j
    · refine lk_my (fun q z => br_t (nI_le (a := 32) c (by omega)) z) ?_
      exact lk_rr T0
    · refine lk_my (fun q z => br_f (ni_lit32 (by omega)) (nm_r (xd_s p) (Exists.intro (p + 1) (rk_y (Q := Q) (C := C) (ch := ch) (by omega) (br_t (by decide) (br_t c1 z)))))) ?_
      exact lk_rr T0
  | succ d ih =>
    intro j C ch p ls P Q hj gc gp
    have hpk := gp.1
    have c1 : ¬ nI L ≤ nI j := nI_ge (by omega) (by omega)
    have T0 : t0_ φ ι ω κ (xs_ φ ι ω κ p ls P C) (ys_ φ ι ω κ p ls Q C ch) := ⟨C, ch, gc, trivial, p, ls, P, Q, rfl, rfl, gp⟩
    refine lk_mono (fun q z => br_f c1 (fk_x (P := P) (C := C) (by omega) z)) (fun q z => br_f (ni_lit32 (by omega)) (nm_r (xd_s p) (Exists.intro (p + 1) (rk_y (Q := Q) (C := C) (ch := ch) (by omega) (br_t (by decide) (br_f c1 z)))))) ?_
    rw [xv_c (g := Q 0) (g' := P 0) p 0 (fun s hs => ((gp.2 s (by omega)).1 0 (by omega)).symm)]
    rcases xv_ok (g := P 0) (r := r) p 0 with y | ⟨s, hs, y⟩
    · rw [y]
      refine sx_t rfl (sy_f (by decide) ?_)
      exact lk_rr T0
    · rw [y]
      refine sx_f (ni_m1 (by omega)) (sy_t (nI_pos' (by omega)) ?_)
      refine lk_br (dv_lk (ch := ch) (ls := ls) hK (by omega) gc gp) ?_
      rintro r' u w ⟨C', ch', gc', _, p', ls', P', Q', rfl, rfl, gp'⟩
      dsimp only
      refine sx_r (nI_1 j) (sy_r (nI_1 j) (sy_r (nI_1 j) ?_))
      exact ih (j + 1) C' ch' p' ls' P' Q' (by omega) gc' gp'
end
end
section
/-! dropping all messages to one replica -/
def kc_ (g : Nat → Int32) (r : Int32) : Nat → Nat
  | 0 => 0
  | s + 1 => if g s = r then kc_ g r s else kc_ g r s + 1
section
variable {g : Nat → Int32} {r : Int32}
theorem kc_t {s : Nat} (h : g s = r) : kc_ g r (s + 1) = kc_ g r s := if_pos h
theorem kc_f {s : Nat} (h : ¬ g s = r) : kc_ g r (s + 1) = kc_ g r s + 1 := if_neg h
theorem kc_le (s : Nat) : kc_ g r s ≤ s := by
  induction s with
  | zero => exact Nat.le_refl 0
  | succ s ih =>
    by_cases h : g s = r
    · rw [kc_t h]; omega
    · rw [kc_f h]; omega
theorem kc_st (s : Nat) : kc_ g r s ≤ kc_ g r (s + 1) ∧ kc_ g r (s + 1) ≤ kc_ g r s + 1 := by
  by_cases h : g s = r
  · rw [kc_t h]; omega
  · rw [kc_f h]; omega
theorem kc_mo : ∀ d s, kc_ g r s ≤ kc_ g r (s + d) := by
  intro d
  induction d with
  | zero => intro s; exact Nat.le_refl _
  | succ d ih =>
    intro s
    have h1 := ih s
    have h2 := kc_st (g := g) (r := r) (s + d)
    rw [show s + (d + 1) = s + d + 1 from by omega]
    omega
theorem kc_le2 {s t : Nat} (h : s ≤ t) : kc_ g r s ≤ kc_ g r t := by
  have := kc_mo (g := g) (r := r) (t - s) s
  rw [show s + (t - s) = t from by omega] at this
  exact this
theorem kc_lt {s t : Nat} (h : s < t) (hs : ¬ g s = r) : kc_ g r s < kc_ g r t := by
  have h1 := kc_f (g := g) (r := r) hs
  have h2 := kc_le2 (g := g) (r := r) (s := s + 1) (t := t) h
  omega
theorem kc_di {s t : Nat} (h : s ≤ t) : kc_ g r t - kc_ g r s ≤ t - s := by
  have G : ∀ d, kc_ g r (s + d) ≤ kc_ g r s + d := by
    intro d
    induction d with
    | zero => exact Nat.le_refl _
    | succ d ih =>
      have h2 := kc_st (g := g) (r := r) (s + d)
      rw [show s + (d + 1) = s + d + 1 from by omega]
      omega
  have := G (t - s)
  rw [show s + (t - s) = t from by omega] at this
  omega
theorem kc_su : ∀ p t, t < kc_ g r p → ∃ u, u < p ∧ ¬ g u = r ∧ kc_ g r u = t := by
  intro p
  induction p with
  | zero => intro t h; exact absurd h (by show ¬ t < 0; omega)
  | succ p ih =>
    intro t h
    by_cases e : g p = r
    · rw [kc_t e] at h
      obtain ⟨u, h1, h2⟩ := ih t h
      exact ⟨u, by omega, h2⟩
    · rw [kc_f e] at h
      by_cases e2 : t = kc_ g r p
      · exact ⟨p, by omega, e, e2.symm⟩
      · obtain ⟨u, h1, h2⟩ := ih t (by omega)
        exact ⟨u, by omega, h2⟩
end
section
variable {φ ι ω κ p : Nat} {ls r : Int32} {P Q C : Nat → Nat → Int32} {ch : Nat → Int32}
theorem dx_loop (hp : p ≤ 64) : ∀ (d s : Nat) (R : Nat → Nat → Int32), s + d = p → (∀ u, u < s → ¬ P 2 u = r → ∀ k, k < 6 → R k (kc_ (P 2) r u) = P k u) → (∀ u, s ≤ u → ∀ k, k < 6 → R k u = P k u) → ∃ R', (∀ u, u < p → ¬ P 2 u = r → ∀ k, k < 6 → R' k (kc_ (P 2) r u) = P k u) ∧ ∀ post : Int32 → SX → Prop, post (nI (p - kc_ (P 2) r p)) (xs_ φ ι ω κ (kc_ (P 2) r p) ls R' C) → wX_dropTo_28 post r (d + 1) (nI (kc_ (P 2) r s)) (nI s) (nI φ) (nI ι) (nI ω) (nI κ) (nI p) ls (R 0) (R 1) (R 2) (R 3) (R 4) (R 5) (C 0) (C 1) (C 2) (C 3) (C 4) (C 5) (C 6) (C 7) (C 8) (C 9) (C 10) (C 11) (C 12) (C 13) (C 14) (C 15) (C 16) (C 17) (C 18) (C 19) (C 20) (C 21) (C 22) (C 23) := by
  intro d
  induction d with
  | zero =>
    intro s R hs h1 h2
    obtain rfl : s = p := by omega
    refine ⟨R, h1, fun post h => ?_⟩
    have hk := kc_le (g := P 2) (r := r) s
    exact br_t (Int32.le_refl _) (nm_r (pk_sub hk) h)
  | succ d ih =>
    intro s R hs h1 h2
    have hn : ¬ nI p ≤ nI s := nI_ge (by omega) (by omega)
    have hin : vp_in (nI s) 64 := vp_in_nI (by omega) (by omega)
    have hc : (nI s).toNatClampNeg = s := nI_clamp (by omega)
    have hk := kc_le (g := P 2) (r := r) s
    have e2 : R 2 (nI s).toNatClampNeg = P 2 s := by rw [hc]; exact h2 s (Nat.le_refl s) 2 (by omega)
    by_cases e : P 2 s = r
    · obtain ⟨R', a1, a2⟩ := ih (s + 1) R (by omega) (fun u hu hg => by
        by_cases eu : u = s
        · rw [eu] at hg; exact absurd e hg
        · exact h1 u (by omega) hg) (fun u hu => h2 u (by omega))
      refine ⟨R', a1, fun post h => ?_⟩
      have k := a2 post h
      rw [kc_t e] at k
      exact br_f hn ⟨hin, br_t (e2.trans e) (nm_r (nI_1 s) k)⟩
    · obtain ⟨R', a1, a2⟩ := ih (s + 1) (cy_ R s (kc_ (P 2) r s)) (by omega) (fun u hu hg k hk6 => by
        show upd (R k) (kc_ (P 2) r s) (R k s) (kc_ (P 2) r u) = P k u
        by_cases eu : u = s
        · rw [eu, pk_us]
          exact h2 s (Nat.le_refl s) k hk6
        · have := kc_lt (g := P 2) (r := r) (s := u) (t := s) (by omega) hg
          rw [pk_un (by omega)]
          exact h1 u (by omega) hg k hk6) (fun u hu k hk6 => by
        show upd (R k) (kc_ (P 2) r s) (R k s) u = P k u
        rw [pk_un (by omega)]
        exact h2 u (by omega) k hk6)
      refine ⟨R', a1, fun post h => ?_⟩
      have k := a2 post h
      rw [kc_f e] at k
      refine br_f hn ⟨hin, br_f (fun z => e (e2.symm.trans z)) (cy_x (P := R) (P' := cy_ R s (kc_ (P 2) r s)) (C := C) (by omega) (by omega) rfl rfl ?_)⟩
      exact nm_r (nI_1 _) (nm_r (nI_1 s) k)
theorem dy_loop (hp : p ≤ 64) (hPQ : ∀ u, u < p → Q 2 u = P 2 u) : ∀ (t : Nat) (R : Nat → Nat → Int32), t ≤ p → (∀ u, u < t → ∀ k, k < 6 → R k u = Q k u) → (∀ u, t ≤ u → u < p → ¬ P 2 u = r → ∀ k, k < 6 → R k (t + (kc_ (P 2) r u - kc_ (P 2) r t)) = Q k u) → ∃ R', (∀ u, u < p → ¬ P 2 u = r → ∀ k, k < 6 → R' k (kc_ (P 2) r u) = Q k u) ∧ ∀ post : Int32 → SY → Prop, post (nI (p - kc_ (P 2) r p)) (ys_ φ ι ω κ (kc_ (P 2) r p) ls R' C ch) → wY_dropTo_33 post r (t + 1) (nI ((p - t) - (kc_ (P 2) r p - kc_ (P 2) r t))) (xd_ t) (nI φ) (nI ι) (nI ω) (nI κ) (nI (t + (kc_ (P 2) r p - kc_ (P 2) r t))) ls (R 0) (R 1) (R 2) (R 3) (R 4) (R 5) (C 0) (C 1) (C 2) (C 3) (C 4) (C 5) (C 6) (C 7) (C 8) (C 9) (C 10) (C 11) (C 12) (C 13) (C 14) (C 15) (C 16) (C 17) (C 18) (C 19) (C 20) (C 21) (C 22) (C 23) ch := by
  intro t
  induction t with
  | zero =>
    intro R ht h1 h2
    refine ⟨R, fun u hu hg k hk => ?_, fun post h => ?_⟩
    · have := h2 u (by omega) hu hg k hk
      rw [show (0 : Nat) + (kc_ (P 2) r u - kc_ (P 2) r 0) = kc_ (P 2) r u from by show 0 + (kc_ (P 2) r u - 0) = _; omega] at this
      exact this
    · rw [show p - 0 - (kc_ (P 2) r p - kc_ (P 2) r 0) = p - kc_ (P 2) r p from by show p - 0 - (kc_ (P 2) r p - 0) = _; omega, show (0 : Nat) + (kc_ (P 2) r p - kc_ (P 2) r 0) = kc_ (P 2) r p from by show 0 + (kc_ (P 2) r p - 0) = _; omega]
      exact br_t (by decide) h
  | succ t ih =>
    intro R ht h1 h2
    have n0 : ¬ nI t < 0 := nI_pos (by omega)
    have hin : vp_in (nI t) 64 := vp_in_nI (by omega) (by omega)
    have hc : (nI t).toNatClampNeg = t := nI_clamp (by omega)
    have e2 : R 2 (nI t).toNatClampNeg = P 2 t := by rw [hc]; exact (h1 t (by omega) 2 (by omega)).trans (hPQ t (by omega))
    have m1 := kc_le2 (g := P 2) (r := r) (s := t + 1) (t := p) ht
    have m2 := kc_di (g := P 2) (r := r) (s := t + 1) (t := p) ht
    by_cases e : P 2 t = r
    · have ek := kc_t (g := P 2) (r := r) e
      rw [ek] at m1 m2
      obtain ⟨R', a1, a2⟩ := ih (sh_ R t (t + (kc_ (P 2) r p - kc_ (P 2) r t))) (by omega) (fun u hu k hk => (if_neg (by omega)).trans (h1 u (by omega) k hk)) (fun u hu1 hu2 hg k hk => by
        by_cases eu : u = t
        · rw [eu] at hg; exact absurd e hg
        · have b := h2 u (by omega) hu2 hg k hk
          have c1 := kc_lt (g := P 2) (r := r) hu2 hg
          have c2 := kc_le2 (g := P 2) (r := r) (s := t) (t := u) hu1
          rw [ek] at b
          refine (if_pos (by omega)).trans ?_
          rw [show t + (kc_ (P 2) r u - kc_ (P 2) r t) + 1 = t + 1 + (kc_ (P 2) r u - kc_ (P 2) r t) from by omega]
          exact b)
      refine ⟨R', a1, fun post h => ?_⟩
      have k := a2 post h
      rw [ek]
      rw [show t + 1 + (kc_ (P 2) r p - kc_ (P 2) r t) = t + (kc_ (P 2) r p - kc_ (P 2) r t) + 1 from by omega]
      refine br_f n0 ⟨hin, br_t (e2.trans e) (rm_y (Q := R) (C := C) (ch := ch) (r := t + (kc_ (P 2) r p - kc_ (P 2) r t)) (s := t) (by omega) (by omega) ?_)⟩
      refine nm_r (e' := nI (p - t - (kc_ (P 2) r p - kc_ (P 2) r t))) ?_ (nm_r (xd_m t) k)
      rw [nI_1]
      exact congrArg nI (by omega)
    · have ek := kc_f (g := P 2) (r := r) e
      rw [ek] at m1 m2
      obtain ⟨R', a1, a2⟩ := ih R (by omega) (fun u hu k hk => h1 u (by omega) k hk) (fun u hu1 hu2 hg k hk => by
        by_cases eu : u = t
        · rw [eu, Nat.sub_self, Nat.add_zero]
          exact h1 t (by omega) k hk
        · have b := h2 u (by omega) hu2 hg k hk
          have c2 := kc_le2 (g := P 2) (r := r) (s := t + 1) (t := u) (by omega)
          rw [ek] at b c2
          rw [show t + (kc_ (P 2) r u - kc_ (P 2) r t) = t + 1 + (kc_ (P 2) r u - (kc_ (P 2) r t + 1)) from by omega]
          exact b)
      refine ⟨R', a1, fun post h => ?_⟩
      have k := a2 post h
      rw [ek]
      rw [show p - (t + 1) - (kc_ (P 2) r p - (kc_ (P 2) r t + 1)) = p - t - (kc_ (P 2) r p - kc_ (P 2) r t) from by omega, show t + 1 + (kc_ (P 2) r p - (kc_ (P 2) r t + 1)) = t + (kc_ (P 2) r p - kc_ (P 2) r t) from by omega]
      exact br_f n0 ⟨hin, br_f (fun z => e (e2.symm.trans z)) (nm_r (xd_m t) k)⟩
theorem dt_lk (hK : kk_ φ ι ω κ) (gc : gc_ φ C) (gp : gp_ φ κ p P Q) : lk_ (er_ (t0_ φ ι ω κ)) (fun q => ∃ n28, wX_dropTo_28 q r n28 0 0 (nI φ) (nI ι) (nI ω) (nI κ) (nI p) ls (P 0) (P 1) (P 2) (P 3) (P 4) (P 5) (C 0) (C 1) (C 2) (C 3) (C 4) (C 5) (C 6) (C 7) (C 8) (C 9) (C 10) (C 11) (C 12) (C 13) (C 14) (C 15) (C 16) (C 17) (C 18) (C 19) (C 20) (C 21) (C 22) (C 23)) (fun q => ∀ x3, x3 = nI p - 1 → ∃ n33, wY_dropTo_33 q r n33 0 x3 (nI φ) (nI ι) (nI ω) (nI κ) (nI p) ls (Q 0) (Q 1) (Q 2) (Q 3) (Q 4) (Q 5) (C 0) (C 1) (C 2) (C 3) (C 4) (C 5) (C 6) (C 7) (C 8) (C 9) (C 10) (C 11) (C 12) (C 13) (C 14) (C 15) (C 16) (C 17) (C 18) (C 19) (C 20) (C 21) (C 22) (C 23) ch) := by
  have k6 : κ ≤ 64 := hK.2.2.2.2.2.2
  have hpk := gp.1
  obtain ⟨R1, a1, b1⟩ := dx_loop (φ := φ) (ι := ι) (ω := ω) (κ := κ) (p := p) (ls := ls) (r := r) (P := P) (C := C) (by omega) p 0 P (by omega) (fun u hu => absurd hu (by omega)) (fun u _ k _ => rfl)
  obtain ⟨R2, a2, b2⟩ := dy_loop (φ := φ) (ι := ι) (ω := ω) (κ := κ) (p := p) (ls := ls) (r := r) (P := P) (Q := Q) (C := C) (ch := ch) (by omega) (fun u hu => ((gp.2 u hu).1 2 (by omega)).symm) p Q (Nat.le_refl p) (fun u _ k _ => rfl) (fun u h1 h2 => absurd h2 (by omega))
  rw [Nat.sub_self, Nat.sub_self, Nat.add_zero] at b2
  refine lk_mono (fun q z => Exists.intro (p + 1) (b1 q z)) (fun q z => nm_r (xd_s p) (Exists.intro (p + 1) (b2 q z))) ?_
  refine lk_rr ⟨C, ch, gc, trivial, kc_ (P 2) r p, ls, R1, R2, rfl, rfl, ?_, fun t ht => ?_⟩
  · have := kc_le (g := P 2) (r := r) p
    omega
  · obtain ⟨u, hu, hg, rfl⟩ := kc_su p t ht
    obtain ⟨c1, c2⟩ := gp.2 u hu
    refine ⟨fun k hk => ?_, ?_⟩
    · rw [a1 u hu hg k hk, a2 u hu hg k hk]
      exact c1 k hk
    · rw [a1 u hu hg 0 (by omega), a1 u hu hg 1 (by omega), a1 u hu hg 2 (by omega), a1 u hu hg 3 (by omega), a1 u hu hg 4 (by omega), a1 u hu hg 5 (by omega)]
      exact c2
end
end
section
/-! ranges on both sides, the calls of the fourth -/
theorem wi_c (x : Int32) {lo hi : Nat} (hl : lo ≤ hi) (hh : hi < 2 ^ 31) : (∃ n, lo ≤ n ∧ n ≤ hi ∧ x = nI n) ∨ (x < nI lo ∨ nI hi < x) := by
  by_cases c1 : x < nI lo
  · exact Or.inr (Or.inl c1)
  by_cases c2 : nI hi < x
  · exact Or.inr (Or.inr c2)
  have c0 : ¬ x < 0 := by
    have := nI_pos' (n := lo) (by omega)
    rw [Int32.lt_iff_toInt_lt] at c1
    rw [Int32.lt_iff_toInt_lt]
    rw [Int32.le_iff_toInt_le] at this
    omega
  obtain ⟨j, hj, rfl⟩ := nI_of c0
  rw [nI_ltI hj (by omega)] at c1
  rw [nI_ltI hh hj] at c2
  exact Or.inl ⟨j, by omega, by omega, rfl⟩
section
variable {A B : Type} {E : (A → Prop) → (B → Prop) → Prop} {MX NX : A → Prop} {MY NY : B → Prop} {u : SX} {v : SY}
theorem wi_lk (x : Int32) (lo hi : Nat) (hl : lo ≤ hi) (hh : hi < 2 ^ 31) (h0 : lk_ E MX MY) (h1 : ∀ n, lo ≤ n → n ≤ hi → x = nI n → lk_ E NX NY) : lk_ E (fun q => wpX_within (fun r => (r = 0 → MX q) ∧ (¬ r = 0 → NX q)) u x (nI lo) (nI hi)) (fun q => wpY_within (fun r => (r = 0 → MY q) ∧ (¬ r = 0 → NY q)) v x (nI lo) (nI hi)) := by
  rcases wi_c x hl hh with ⟨n, a1, a2, e⟩ | h
  · subst e
    have w := wi_n a1 a2 hh
    exact lk_mono (fun q z => wi_x1 w.1 w.2 (br_f (by decide) z)) (fun q z => wi_y1 w.1 w.2 (br_f (by decide) z)) (h1 n a1 a2 rfl)
  · exact lk_mono (fun q z => wi_x0 h (br_t rfl z)) (fun q z => wi_y0 h (br_t rfl z)) h0
end
section
variable {φ ι ω κ p : Nat} {ls : Int32} {P Q C : Nat → Nat → Int32} {ch : Nat → Int32}
/-- the add of a message of the fourth -/
theorem sc_lk (hK : kk_ φ ι ω κ) {b : Nat} {kd v sq vl : Int32} (hb : b < 4) (hm : b ≠ φ → mk_ φ kd (nI φ) (nI b) v sq vl) (gc : gc_ φ C) (gp : gp_ φ κ p P Q) : lk_ (er_ (t0_ φ ι ω κ)) (fun q => wpX_sendChecked q (xs_ φ ι ω κ p ls P C) kd (nI b) v sq vl) (fun q => (nI b = nI φ → q (-3) (ys_ φ ι ω κ p ls Q C ch)) ∧ (¬ nI b = nI φ → wpY_add (fun r u => (r = 0 → q (-4) u) ∧ (¬ r = 0 → q 1 u)) (ys_ φ ι ω κ p ls Q C ch) kd (nI φ) (nI b) v sq vl)) := by
  have k6 : κ ≤ 64 := hK.2.2.2.2.2.2
  have hpk := gp.1
  have hf := hK.1
  have T0 : t0_ φ ι ω κ (xs_ φ ι ω κ p ls P C) (ys_ φ ι ω κ p ls Q C ch) := ⟨C, ch, gc, trivial, p, ls, P, Q, rfl, rfl, gp⟩
  unfold wpX_sendChecked
  dsimp only
  refine sx_c (fun c => sy_t c ?_) (fun c => sy_f c ?_)
  · exact lk_rr T0
  · have hbf : b ≠ φ := fun e => c (congrArg nI e)
    by_cases hp : p < κ
    · refine sx_t (nI_lt hp (by omega)) ?_
      refine lk_mono (fun q z => ad_x (P := P) (C := C) k6 hp z) (fun q z => ad_y (Q := Q) (C := C) (ch := ch) k6 hp (br_f (by decide) z)) ?_
      dsimp only
      exact lk_rr ⟨C, ch, gc, trivial, p + 1, ls, _, _, rfl, rfl, gp_add gp hp (hm hbf)⟩
    · refine sx_f (nI_nlt (by omega) (by omega)) ?_
      refine lk_my (fun q z => ad_y0 (Q := Q) (C := C) (ch := ch) (by omega) hp (br_t rfl z)) ?_
      exact lk_rr T0
theorem so_lk (hK : kk_ φ ι ω κ) {kd : Int32} (hkd : kd = 1 ∨ kd = 2 ∨ kd = 3) {lo : Nat} (hlo : lo ≤ 9) (v1 v2 v3 v4 : Int32) (gc : gc_ φ C) (gp : gp_ φ κ p P Q) : lk_ (er_ (t0_ φ ι ω κ)) (fun q => wpX_sendOrder q (xs_ φ ι ω κ p ls P C) kd v1 v2 v3 v4 (nI lo)) (fun q => wpY_sendOrder q (ys_ φ ι ω κ p ls Q C ch) kd v1 v2 v3 v4 (nI lo)) := by
  have hf := hK.1
  have T0 : t0_ φ ι ω κ (xs_ φ ι ω κ p ls P C) (ys_ φ ι ω κ p ls Q C ch) := ⟨C, ch, gc, trivial, p, ls, P, Q, rfl, rfl, gp⟩
  unfold wpX_sendOrder wpY_sendOrder
  dsimp only
  refine wi_lk v1 0 3 (by decide) (by decide) (lk_rr T0) (fun b _ b3 e1 => ?_)
  refine wi_lk v2 0 7 (by decide) (by decide) (lk_rr T0) (fun v _ v7 e2 => ?_)
  refine wi_lk v3 1 8 (by decide) (by decide) (lk_rr T0) (fun n n1 n8 e3 => ?_)
  refine wi_lk v4 lo 9 (by omega) (by decide) (lk_rr T0) (fun d _ d9 e4 => ?_)
  subst e1 e2 e3 e4
  exact sc_lk (ch := ch) (ls := ls) hK (by omega) (fun hbf => mk_1 hf (by omega) (fun e => hbf e.symm) hbf hkd ⟨v, by omega, rfl⟩ ⟨n, n1, n8, rfl⟩ ⟨d, by omega, rfl⟩) gc gp
theorem sk_lk (hK : kk_ φ ι ω κ) (v1 v2 v3 : Int32) (gc : gc_ φ C) (gp : gp_ φ κ p P Q) : lk_ (er_ (t0_ φ ι ω κ)) (fun q => wpX_sendCheckpoint q (xs_ φ ι ω κ p ls P C) v1 v2 v3) (fun q => wpY_sendCheckpoint q (ys_ φ ι ω κ p ls Q C ch) v1 v2 v3) := by
  have hK' := hK
  obtain ⟨k0, k1, k2, k3, k4, k5, k6⟩ := hK
  have hι : ¬ nI ι = 0 := nI_ne0 (by omega) (by omega)
  have T0 : t0_ φ ι ω κ (xs_ φ ι ω κ p ls P C) (ys_ φ ι ω κ p ls Q C ch) := ⟨C, ch, gc, trivial, p, ls, P, Q, rfl, rfl, gp⟩
  unfold wpX_sendCheckpoint wpY_sendCheckpoint
  dsimp only
  refine wi_lk v1 0 3 (by decide) (by decide) (lk_rr T0) (fun b _ b3 e1 => ?_)
  refine wi_lk v2 1 8 (by decide) (by decide) (lk_rr T0) (fun n n1 n8 e3 => ?_)
  subst e1 e3
  refine sy_i hι ?_
  by_cases c : cq_ ι n
  · refine lk_mx (fun q z => ic_1 (P := P) (C := C) hι c (br_f (by decide) z)) (sy_t c ?_)
    refine wi_lk v3 0 99999999 (by decide) (by decide) (lk_rr T0) (fun d _ d9 e4 => ?_)
    exact sc_lk (ch := ch) (ls := ls) hK' (by omega) (fun hbf => mk_4 k0 (by omega) (fun e => hbf e.symm) hbf ⟨n, n1, n8, rfl⟩) gc gp
  · refine lk_mx (fun q z => ic_0 (P := P) (C := C) hι c (br_t rfl z)) (sy_f c ?_)
    exact lk_rr T0
end
/-! drafts -/
theorem gc_dr {φ k w h : Nat} {C : Nat → Nat → Int32} {s : Int32} (gc : gc_ φ C) (hk : k < 8) (hf : φ < 4) (h1 : 1 ≤ w) (h7 : w < 8) (h8 : h ≤ 8) : gc_ φ (ew_ (ob_ C (φ * 8 + k) 1 (nI w) (nI h) s) (φ * 8 + k) 1 9 (fun _ => -1) (fun _ => -1)) := by
  obtain ⟨g0, g2, g4, g7, g8, g16, g22, gd, gv⟩ := gc
  refine ⟨g0, g2, g4, g7, g8, g16, ge_en (q := φ * 8 + k) (f := fun _ => -1) (g := fun _ => -1) g22 (fun n n1 n8 => Or.inl rfl), ?_, ?_⟩
  · intro d hd
    by_cases e : d = φ * 8 + k
    · refine Or.inr ?_
      subst e
      refine ⟨?_, ?_, ?_⟩
      · show ¬ upd (C 18) (φ * 8 + k) 1 (φ * 8 + k) = 0
        rw [pk_us]
        decide
      · show bw_ (upd (C 19) (φ * 8 + k) (nI w) (φ * 8 + k))
        rw [pk_us]
        exact ⟨w, h1, h7, rfl⟩
      · show bd_ 9 (upd (C 20) (φ * 8 + k) (nI h) (φ * 8 + k))
        rw [pk_us]
        exact ⟨h, by omega, rfl⟩
    · have kd := gd d hd
      have a18 : upd (C 18) (φ * 8 + k) 1 d = C 18 d := pk_un e
      have a19 : upd (C 19) (φ * 8 + k) (nI w) d = C 19 d := pk_un e
      have a20 : upd (C 20) (φ * 8 + k) (nI h) d = C 20 d := pk_un e
      have a21 : upd (C 21) (φ * 8 + k) s d = C 21 d := pk_un e
      have a22 : ∀ n, 1 ≤ n → n ≤ 8 → en_ (C 22) (φ * 8 + k) 1 9 (fun _ => -1) (d * 9 + n) = C 22 (d * 9 + n) := fun n n1 n8 => en_out e n1 n8
      show (upd (C 18) (φ * 8 + k) 1 d = 0 ∧ upd (C 19) (φ * 8 + k) (nI w) d = -1 ∧ upd (C 20) (φ * 8 + k) (nI h) d = -1 ∧ upd (C 21) (φ * 8 + k) s d = -1 ∧ ∀ n, 1 ≤ n → n ≤ 8 → en_ (C 22) (φ * 8 + k) 1 9 (fun _ => -1) (d * 9 + n) = -1) ∨ (¬ upd (C 18) (φ * 8 + k) 1 d = 0 ∧ bw_ (upd (C 19) (φ * 8 + k) (nI w) d) ∧ bd_ 9 (upd (C 20) (φ * 8 + k) (nI h) d))
      rw [a18, a19, a20, a21]
      rcases kd with ⟨k1, k2, k3, k4, k5⟩ | kd
      · exact Or.inl ⟨k1, k2, k3, k4, fun n n1 n8 => (a22 n n1 n8).trans (k5 n n1 n8)⟩
      · exact Or.inr kd
  · intro j hj hjf ha
    obtain ⟨w', b1, b2, b3, b4, b5⟩ := gv j hj hjf ha
    exact ⟨w', b1, b2, b3, b4, (pk_un (by omega)).trans b5⟩
theorem gc_de {φ q n v d : Nat} {C : Nat → Nat → Int32} (gc : gc_ φ C) (hq : q < 32) (h1 : 1 ≤ n) (h8 : n ≤ 8) (hs : ¬ C 18 q = 0) (hv : v < 8) (hd : d < 10) : gc_ φ (cw_ (cw_ C 22 (q * 9 + n) (nI v)) 23 (q * 9 + n) (nI d)) := by
  obtain ⟨g0, g2, g4, g7, g8, g16, g22, gd, gv⟩ := gc
  refine ⟨g0, g2, g4, g7, g8, g16, ge_u g22 (Or.inr ⟨⟨v, hv, rfl⟩, ⟨d, hd, rfl⟩⟩), ?_, gv⟩
  intro e he
  rcases gd e he with ⟨k1, k2, k3, k4, k5⟩ | k
  · refine Or.inl ⟨k1, k2, k3, k4, fun m m1 m8 => ?_⟩
    have hne : e ≠ q := fun z => hs (by rw [← z]; exact k1)
    exact (pk_un (f := C 22) (by omega)).trans (k5 m m1 m8)
  · exact Or.inr k
theorem gc_st {φ q : Nat} {C : Nat → Nat → Int32} (gc : gc_ φ C) (hs : ¬ C 18 q = 0) : gc_ φ (cw_ C 18 q 2) := by
  obtain ⟨g0, g2, g4, g7, g8, g16, g22, gd, gv⟩ := gc
  refine ⟨g0, g2, g4, g7, g8, g16, g22, ?_, gv⟩
  intro e he
  by_cases z : e = q
  · subst z
    rcases gd e he with ⟨k1, _⟩ | ⟨_, k2, k3⟩
    · exact absurd k1 hs
    · refine Or.inr ⟨?_, k2, k3⟩
      show ¬ upd (C 18) e 2 e = 0
      rw [pk_us]
      decide
  · have a18 : upd (C 18) q 2 e = C 18 e := pk_un z
    show (upd (C 18) q 2 e = 0 ∧ _) ∨ (¬ upd (C 18) q 2 e = 0 ∧ _)
    rw [a18]
    exact gd e he
section
variable {φ ι ω κ p q : Nat} {ls : Int32} {P Q C : Nat → Nat → Int32} {ch : Nat → Int32}
theorem dr_yl (hq : q < 32) {post : Int32 → SY → Prop} (h : post 1 (ys_ φ ι ω κ p ls Q (ew_ C q 1 9 (fun _ => -1) (fun _ => -1)) ch)) : ∀ d n, n + d = 9 → 1 ≤ n → wY_draft_109 post (nI q) (nI φ) (nI ι) (nI ω) (nI κ) (nI p) ls (d + 1) (nI n) (Q 0) (Q 1) (Q 2) (Q 3) (Q 4) (Q 5) ((ew_ C q 1 n (fun _ => -1) (fun _ => -1)) 0) ((ew_ C q 1 n (fun _ => -1) (fun _ => -1)) 1) ((ew_ C q 1 n (fun _ => -1) (fun _ => -1)) 2) ((ew_ C q 1 n (fun _ => -1) (fun _ => -1)) 3) ((ew_ C q 1 n (fun _ => -1) (fun _ => -1)) 4) ((ew_ C q 1 n (fun _ => -1) (fun _ => -1)) 5) ((ew_ C q 1 n (fun _ => -1) (fun _ => -1)) 6) ((ew_ C q 1 n (fun _ => -1) (fun _ => -1)) 7) ((ew_ C q 1 n (fun _ => -1) (fun _ => -1)) 8) ((ew_ C q 1 n (fun _ => -1) (fun _ => -1)) 9) ((ew_ C q 1 n (fun _ => -1) (fun _ => -1)) 10) ((ew_ C q 1 n (fun _ => -1) (fun _ => -1)) 11) ((ew_ C q 1 n (fun _ => -1) (fun _ => -1)) 12) ((ew_ C q 1 n (fun _ => -1) (fun _ => -1)) 13) ((ew_ C q 1 n (fun _ => -1) (fun _ => -1)) 14) ((ew_ C q 1 n (fun _ => -1) (fun _ => -1)) 15) ((ew_ C q 1 n (fun _ => -1) (fun _ => -1)) 16) ((ew_ C q 1 n (fun _ => -1) (fun _ => -1)) 17) ((ew_ C q 1 n (fun _ => -1) (fun _ => -1)) 18) ((ew_ C q 1 n (fun _ => -1) (fun _ => -1)) 19) ((ew_ C q 1 n (fun _ => -1) (fun _ => -1)) 20) ((ew_ C q 1 n (fun _ => -1) (fun _ => -1)) 21) ((ew_ C q 1 n (fun _ => -1) (fun _ => -1)) 22) ((ew_ C q 1 n (fun _ => -1) (fun _ => -1)) 23) ch := by
  intro d
  induction d with
  | zero =>
    intro n hn h1
    obtain rfl : n = 9 := by omega
    exact br_t ni_gt8 h
  | succ d ih =>
    intro n hn h1
    have h8 := ni_lit8 (j := n) (by omega)
    have hin : vp_in (nI q * 9 + nI n) 288 := by rw [ix_9]; exact vp_in_nI (by omega) (by omega)
    have hc : (nI q * 9 + nI n).toNatClampNeg = q * 9 + n := by rw [ix_9]; exact nI_clamp (by omega)
    have e22 : upd (en_ (C 22) q 1 n (fun _ => -1)) (nI q * 9 + nI n).toNatClampNeg (-1) = en_ (C 22) q 1 (n + 1) (fun _ => -1) := by rw [hc]; exact en_s h1
    have e23 : upd (en_ (C 23) q 1 n (fun _ => -1)) (nI q * 9 + nI n).toNatClampNeg (-1) = en_ (C 23) q 1 (n + 1) (fun _ => -1) := by rw [hc]; exact en_s h1
    exact br_f h8 ⟨hin, nm_r e22 ⟨hin, nm_r e23 (nm_r (nI_1 n) (ih (n + 1) (by omega) (by omega)))⟩⟩
theorem df_lk (hK : kk_ φ ι ω κ) (v1 v2 v3 v4 : Int32) (gc : gc_ φ C) (gp : gp_ φ κ p P Q) : lk_ (er_ (t0_ φ ι ω κ)) (fun q => wpX_draft q (xs_ φ ι ω κ p ls P C) v1 v2 v3 v4) (fun q => wpY_draft q (ys_ φ ι ω κ p ls Q C ch) v1 v2 v3 v4) := by
  have hf := hK.1
  have T0 : t0_ φ ι ω κ (xs_ φ ι ω κ p ls P C) (ys_ φ ι ω κ p ls Q C ch) := ⟨C, ch, gc, trivial, p, ls, P, Q, rfl, rfl, gp⟩
  unfold wpX_draft wpY_draft
  dsimp only
  refine wi_lk v1 0 7 (by decide) (by decide) (lk_rr T0) (fun k _ k7 e1 => ?_)
  refine wi_lk v2 1 7 (by decide) (by decide) (lk_rr T0) (fun w w1 w7 e2 => ?_)
  refine wi_lk v3 0 8 (by decide) (by decide) (lk_rr T0) (fun h _ h8 e3 => ?_)
  refine wi_lk v4 0 99999999 (by decide) (by decide) (lk_rr T0) (fun s _ s9 e4 => ?_)
  subst e1 e2 e3
  have hq : φ * 8 + k < 32 := by omega
  have hin : vp_in (nI (φ * 8 + k)) 32 := vp_in_nI hq (by omega)
  have hc : (nI (φ * 8 + k)).toNatClampNeg = φ * 8 + k := nI_clamp (by omega)
  simp only [forall_eq, ix_8, hc]
  by_cases c : C 18 (φ * 8 + k) = 2
  · (repeat' (first | with_reducible refine sx_i (by first | with_reducible assumption | decide) ?_ | with_reducible refine sy_i (by first | with_reducible assumption | decide) ?_ | with_reducible refine sx_n ?_ | with_reducible refine sy_n ?_ | with_reducible refine sx_t (by first | with_reducible assumption | exact trivial) ?_ | with_reducible refine sx_f (by with_reducible assumption) ?_ | with_reducible refine sy_t (by first | with_reducible assumption | exact trivial) ?_ | with_reducible refine sy_f (by with_reducible assumption) ?_ | fail))
    exact lk_rr T0
  · (repeat' (first | with_reducible refine sx_i (by first | with_reducible assumption | decide) ?_ | with_reducible refine sy_i (by first | with_reducible assumption | decide) ?_ | with_reducible refine sx_n ?_ | with_reducible refine sy_n ?_ | with_reducible refine sx_t (by first | with_reducible assumption | exact trivial) ?_ | with_reducible refine sx_f (by with_reducible assumption) ?_ | with_reducible refine sy_t (by first | with_reducible assumption | exact trivial) ?_ | with_reducible refine sy_f (by with_reducible assumption) ?_ | fail))
    have ky := fun (q : Int32 → SY → Prop) z => dr_yl (φ := φ) (ι := ι) (ω := ω) (κ := κ) (p := p) (ls := ls) (Q := Q) (C := ob_ C (φ * 8 + k) 1 (nI w) (nI h) v4) (ch := ch) hq (post := q) z 8 1 rfl (by omega)
    rw [ew_0] at ky
    refine lk_mono (fun q z => op_x (P := P) (C := C) hq z) (fun q z => Exists.intro 9 (ky q z)) ?_
    dsimp only
    exact lk_rr ⟨_, ch, gc_dr (s := v4) gc (by omega) hf w1 (by omega) h8, trivial, p, ls, P, Q, rfl, rfl, gp⟩
theorem de_lk (hK : kk_ φ ι ω κ) (v1 v2 v3 v4 : Int32) (gc : gc_ φ C) (gp : gp_ φ κ p P Q) : lk_ (er_ (t0_ φ ι ω κ)) (fun q => wpX_draftEntry q (xs_ φ ι ω κ p ls P C) v1 v2 v3 v4) (fun q => wpY_draftEntry q (ys_ φ ι ω κ p ls Q C ch) v1 v2 v3 v4) := by
  have hf := hK.1
  have T0 : t0_ φ ι ω κ (xs_ φ ι ω κ p ls P C) (ys_ φ ι ω κ p ls Q C ch) := ⟨C, ch, gc, trivial, p, ls, P, Q, rfl, rfl, gp⟩
  unfold wpX_draftEntry wpY_draftEntry
  dsimp only
  refine wi_lk v1 0 7 (by decide) (by decide) (lk_rr T0) (fun k _ k7 e1 => ?_)
  refine wi_lk v2 1 8 (by decide) (by decide) (lk_rr T0) (fun n n1 n8 e2 => ?_)
  refine wi_lk v3 0 7 (by decide) (by decide) (lk_rr T0) (fun v _ v7 e3 => ?_)
  refine wi_lk v4 0 9 (by decide) (by decide) (lk_rr T0) (fun d _ d9 e4 => ?_)
  subst e1 e2 e3 e4
  have hq : φ * 8 + k < 32 := by omega
  have hin : vp_in (nI (φ * 8 + k)) 32 := vp_in_nI hq (by omega)
  have hc : (nI (φ * 8 + k)).toNatClampNeg = φ * 8 + k := nI_clamp (by omega)
  have hin2 : vp_in (nI ((φ * 8 + k) * 9 + n)) 288 := vp_in_nI (by omega) (by omega)
  have hc2 : (nI ((φ * 8 + k) * 9 + n)).toNatClampNeg = (φ * 8 + k) * 9 + n := nI_clamp (by omega)
  simp only [forall_eq, ix_8, ix_9, hc, hc2]
  by_cases c : C 18 (φ * 8 + k) = 0
  · (repeat' (first | with_reducible refine sx_i (by first | with_reducible assumption | decide) ?_ | with_reducible refine sy_i (by first | with_reducible assumption | decide) ?_ | with_reducible refine sx_n ?_ | with_reducible refine sy_n ?_ | with_reducible refine sx_t (by first | with_reducible assumption | exact trivial) ?_ | with_reducible refine sx_f (by with_reducible assumption) ?_ | with_reducible refine sy_t (by first | with_reducible assumption | exact trivial) ?_ | with_reducible refine sy_f (by with_reducible assumption) ?_ | fail))
    exact lk_rr T0
  by_cases c2 : C 18 (φ * 8 + k) = 2
  · (repeat' (first | with_reducible refine sx_i (by first | with_reducible assumption | decide) ?_ | with_reducible refine sy_i (by first | with_reducible assumption | decide) ?_ | with_reducible refine sx_n ?_ | with_reducible refine sy_n ?_ | with_reducible refine sx_t (by first | with_reducible assumption | exact trivial) ?_ | with_reducible refine sx_f (by with_reducible assumption) ?_ | with_reducible refine sy_t (by first | with_reducible assumption | exact trivial) ?_ | with_reducible refine sy_f (by with_reducible assumption) ?_ | fail))
    exact lk_rr T0
  · (repeat' (first | with_reducible refine sx_i (by first | with_reducible assumption | decide) ?_ | with_reducible refine sy_i (by first | with_reducible assumption | decide) ?_ | with_reducible refine sx_n ?_ | with_reducible refine sy_n ?_ | with_reducible refine sx_t (by first | with_reducible assumption | exact trivial) ?_ | with_reducible refine sx_f (by with_reducible assumption) ?_ | with_reducible refine sy_t (by first | with_reducible assumption | exact trivial) ?_ | with_reducible refine sy_f (by with_reducible assumption) ?_ | fail))
    exact lk_rr ⟨cw_ (cw_ C 22 ((φ * 8 + k) * 9 + n) (nI v)) 23 ((φ * 8 + k) * 9 + n) (nI d), ch, gc_de gc hq n1 n8 c (by omega) (by omega), trivial, p, ls, P, Q, rfl, rfl, gp⟩
theorem sw_lk (hK : kk_ φ ι ω κ) (v1 v2 : Int32) (gc : gc_ φ C) (gp : gp_ φ κ p P Q) : lk_ (er_ (t0_ φ ι ω κ)) (fun q => wpX_sendViewChange q (xs_ φ ι ω κ p ls P C) v1 v2) (fun q => wpY_sendViewChange q (ys_ φ ι ω κ p ls Q C ch) v1 v2) := by
  have hf := hK.1
  have k6 : κ ≤ 64 := hK.2.2.2.2.2.2
  have hpk := gp.1
  have T0 : t0_ φ ι ω κ (xs_ φ ι ω κ p ls P C) (ys_ φ ι ω κ p ls Q C ch) := ⟨C, ch, gc, trivial, p, ls, P, Q, rfl, rfl, gp⟩
  unfold wpX_sendViewChange wpY_sendViewChange
  dsimp only
  refine wi_lk v1 0 3 (by decide) (by decide) (lk_rr T0) (fun b _ b3 e1 => ?_)
  refine wi_lk v2 0 7 (by decide) (by decide) (lk_rr T0) (fun k _ k7 e2 => ?_)
  subst e1 e2
  have hq : φ * 8 + k < 32 := by omega
  have hin : vp_in (nI (φ * 8 + k)) 32 := vp_in_nI hq (by omega)
  have hc : (nI (φ * 8 + k)).toNatClampNeg = φ * 8 + k := nI_clamp (by omega)
  simp only [forall_eq, ix_8, hc]
  by_cases c1 : nI b = nI φ
  · (repeat' (first | with_reducible refine sx_i (by first | with_reducible assumption | decide) ?_ | with_reducible refine sy_i (by first | with_reducible assumption | decide) ?_ | with_reducible refine sx_n ?_ | with_reducible refine sy_n ?_ | with_reducible refine sx_t (by first | with_reducible assumption | exact trivial) ?_ | with_reducible refine sx_f (by with_reducible assumption) ?_ | with_reducible refine sy_t (by first | with_reducible assumption | exact trivial) ?_ | with_reducible refine sy_f (by with_reducible assumption) ?_ | fail))
    exact lk_rr T0
  have hbf : b ≠ φ := fun e => c1 (congrArg nI e)
  by_cases c2 : C 18 (φ * 8 + k) = 0
  · (repeat' (first | with_reducible refine sx_i (by first | with_reducible assumption | decide) ?_ | with_reducible refine sy_i (by first | with_reducible assumption | decide) ?_ | with_reducible refine sx_n ?_ | with_reducible refine sy_n ?_ | with_reducible refine sx_t (by first | with_reducible assumption | exact trivial) ?_ | with_reducible refine sx_f (by with_reducible assumption) ?_ | with_reducible refine sy_t (by first | with_reducible assumption | exact trivial) ?_ | with_reducible refine sy_f (by with_reducible assumption) ?_ | fail))
    exact lk_rr T0
  by_cases hp : p < κ
  · have hp' : nI p < nI κ := nI_lt hp (by omega)
    (repeat' (first | with_reducible refine sx_i (by first | with_reducible assumption | decide) ?_ | with_reducible refine sy_i (by first | with_reducible assumption | decide) ?_ | with_reducible refine sx_n ?_ | with_reducible refine sy_n ?_ | with_reducible refine sx_t (by first | with_reducible assumption | exact trivial) ?_ | with_reducible refine sx_f (by with_reducible assumption) ?_ | with_reducible refine sy_t (by first | with_reducible assumption | exact trivial) ?_ | with_reducible refine sy_f (by with_reducible assumption) ?_ | fail))
    refine lk_mono (fun q z => ad_x (P := P) (C := cw_ C 18 (φ * 8 + k) 2) k6 hp z) (fun q z => ad_y (Q := Q) (C := C) (ch := ch) k6 hp (br_f (by decide) z)) ?_
    dsimp only
    (repeat' (first | with_reducible refine sx_i (by first | with_reducible assumption | decide) ?_ | with_reducible refine sy_i (by first | with_reducible assumption | decide) ?_ | with_reducible refine sx_n ?_ | with_reducible refine sy_n ?_ | with_reducible refine sx_t (by first | with_reducible assumption | exact trivial) ?_ | with_reducible refine sx_f (by with_reducible assumption) ?_ | with_reducible refine sy_t (by first | with_reducible assumption | exact trivial) ?_ | with_reducible refine sy_f (by with_reducible assumption) ?_ | fail))
    exact lk_rr ⟨cw_ C 18 (φ * 8 + k) 2, ch, gc_st gc c2, trivial, p + 1, ls, _, _, rfl, rfl, gp_add gp hp (mk_5 hf (by omega) (fun e => hbf e.symm) hbf ⟨k, by omega, rfl⟩)⟩
  · have hp' : ¬ nI p < nI κ := nI_nlt (by omega) (by omega)
    (repeat' (first | with_reducible refine sx_i (by first | with_reducible assumption | decide) ?_ | with_reducible refine sy_i (by first | with_reducible assumption | decide) ?_ | with_reducible refine sx_n ?_ | with_reducible refine sy_n ?_ | with_reducible refine sx_t (by first | with_reducible assumption | exact trivial) ?_ | with_reducible refine sx_f (by with_reducible assumption) ?_ | with_reducible refine sy_t (by first | with_reducible assumption | exact trivial) ?_ | with_reducible refine sy_f (by with_reducible assumption) ?_ | fail))
    refine lk_my (fun q z => ad_y0 (Q := Q) (C := C) (ch := ch) (by omega) hp (br_t rfl z)) ?_
    exact lk_rr T0
end
end
section
/-! the new view message of the fourth -/
theorem tp_1 {post : Int32 → Prop} {u : SX} {x : Int32} (h : x = 7 ∨ x = 11 ∨ x = 13 ∨ x = 14) (k : post 1) : wpX_isTripleMask post u x := by
  obtain ⟨_, _, _, _, _, _, _, _, _, _, _, _, _, _, _, _, _, _, _, _, _, _, _, _, _, _, _, _, _, _, _, _, _, _, _, _⟩ := u
  rcases h with h | h | h | h
  · subst h; exact br_t rfl k
  · subst h; exact br_f (by decide) (br_t rfl k)
  · subst h; exact br_f (by decide) (br_f (by decide) (br_t rfl k))
  · subst h; exact br_f (by decide) (br_f (by decide) (br_f (by decide) (br_t rfl k)))
theorem tp_0 {post : Int32 → Prop} {u : SX} {x : Int32} (h7 : ¬ x = 7) (h11 : ¬ x = 11) (h13 : ¬ x = 13) (h14 : ¬ x = 14) (k : post 0) : wpX_isTripleMask post u x := by
  obtain ⟨_, _, _, _, _, _, _, _, _, _, _, _, _, _, _, _, _, _, _, _, _, _, _, _, _, _, _, _, _, _, _, _, _, _, _, _⟩ := u
  exact br_f h7 (br_f h11 (br_f h13 (br_f h14 k)))
section
variable {φ ι ω κ p b w m k : Nat} {ls : Int32} {P Q C : Nat → Nat → Int32} {ch : Nat → Int32}
theorem sn_loop (hK : kk_ φ ι ω κ) (hb : b < 4) (hbf : b ≠ φ) (hw1 : 1 ≤ w) (hw : w < 8) (hm1 : 1 ≤ m) (hm : m < 16) (hk : k < 8) (gc : gc_ φ C) (gp : gp_ φ κ p P Q) : ∀ d j, j + d = 4 → (∀ l, l < j → m.testBit l = true → ¬ C 18 (dj_ φ w k l) = 0) → lk_ (er_ (t0_ φ ι ω κ)) (fun q => wX_sendNewView_58 q (nI b) (nI w) (nI m) (nI k) (nI φ) (nI ι) (nI ω) (nI κ) (nI p) ls (P 0) (P 1) (P 2) (P 3) (P 4) (P 5) (C 0) (C 1) (C 2) (C 3) (C 4) (C 5) (C 6) (C 7) (C 8) (C 9) (C 10) (C 11) (C 12) (C 13) (C 14) (C 15) (C 16) (C 17) (C 18) (C 19) (C 20) (C 21) (C 22) (C 23) (d + 1) (nI j)) (fun q => wY_sendNewView_77 q (nI b) (nI w) (nI m) (nI k) (nI φ) (nI ι) (nI ω) (nI κ) (nI p) ls (Q 0) (Q 1) (Q 2) (Q 3) (Q 4) (Q 5) (C 0) (C 1) (C 2) (C 3) (C 4) (C 5) (C 6) (C 7) (C 8) (C 9) (C 10) (C 11) (C 12) (C 13) (C 14) (C 15) (C 16) (C 17) (C 18) (C 19) (C 20) (C 21) (C 22) (C 23) ch (d + 1) (nI j)) := by
  have hf := hK.1
  have k6 : κ ≤ 64 := hK.2.2.2.2.2.2
  have hpk := gp.1
  have T0 : t0_ φ ι ω κ (xs_ φ ι ω κ p ls P C) (ys_ φ ι ω κ p ls Q C ch) := ⟨C, ch, gc, trivial, p, ls, P, Q, rfl, rfl, gp⟩
  intro d
  induction d with
  | zero =>
    intro j hj hall
    obtain rfl : j = 4 := by omega
    refine lk_mono (fun q z => br_t ni_ge4 z) (fun q z => br_t ni_ge4 z) ?_
    by_cases hp : p < κ
    · refine sx_t (nI_lt hp (by omega)) ?_
      by_cases e : m.testBit φ = true
      · have hs : ¬ C 18 (φ * 8 + k) = 0 := by
          have := hall φ hf e
          rw [show dj_ φ w k φ = φ * 8 + k from by unfold dj_ dn_; rw [if_pos rfl]] at this
          exact this
        have hin : vp_in (nI (φ * 8 + k)) 32 := vp_in_nI (by omega) (by omega)
        have hc : (nI (φ * 8 + k)).toNatClampNeg = φ * 8 + k := nI_clamp (by omega)
        refine lk_mono (fun q z => hx_1 hm hf e (br_f (by decide) z)) (fun q z => hy_1 hm hf e (br_f (by decide) z)) ?_
        unfold wX_sendNewView_153 wY_sendNewView_152
        simp only [forall_eq, ix_8, hc]
        refine sx_i hin ?_
        refine lk_mono (fun q z => ad_x (P := P) (C := cw_ C 18 (φ * 8 + k) 2) k6 hp z) (fun q z => ad_y (Q := Q) (C := C) (ch := ch) k6 hp (br_f (by decide) (br_f (by decide) z))) ?_
        dsimp only
        simp only [forall_eq, ix_8, hc]
        refine sy_i hin ?_
        exact lk_rr ⟨cw_ C 18 (φ * 8 + k) 2, ch, gc_st gc hs, trivial, p + 1, ls, _, _, rfl, rfl, gp_add gp hp (mk_6 hf hb (fun e => hbf e.symm) hbf ⟨w, hw1, hw, rfl⟩ ⟨m, hm1, hm, rfl⟩ ⟨k, hk, rfl⟩)⟩
      · refine lk_mono (fun q z => hx_0 hm hf (tb_f e) (br_t rfl z)) (fun q z => hy_0 hm hf (tb_f e) (br_t rfl z)) ?_
        unfold wX_sendNewView_153 wY_sendNewView_152
        refine lk_mono (fun q z => ad_x (P := P) (C := C) k6 hp z) (fun q z => ad_y (Q := Q) (C := C) (ch := ch) k6 hp (br_f (by decide) (br_t rfl z))) ?_
        dsimp only
        exact lk_rr ⟨C, ch, gc, trivial, p + 1, ls, _, _, rfl, rfl, gp_add gp hp (mk_6 hf hb (fun e => hbf e.symm) hbf ⟨w, hw1, hw, rfl⟩ ⟨m, hm1, hm, rfl⟩ ⟨0, by omega, rfl⟩)⟩
    · refine sx_f (nI_nlt (by omega) (by omega)) ?_
      by_cases e : m.testBit φ = true
      · refine lk_my (fun q z => hy_1 hm hf e (br_f (by decide) (ad_y0 (Q := Q) (C := C) (ch := ch) (by omega) hp (br_t rfl z)))) ?_
        exact lk_rr T0
      · refine lk_my (fun q z => hy_0 hm hf (tb_f e) (br_t rfl (ad_y0 (Q := Q) (C := C) (ch := ch) (by omega) hp (br_t rfl z)))) ?_
        exact lk_rr T0
  | succ d ih =>
    intro j hj hall
    have h4 := ni_lit4 (j := j) (by omega)
    have hd := dj_lt (φ := φ) hw hk (j := j) (by omega)
    have hin : vp_in (nI (dj_ φ w k j)) 32 := vp_in_nI hd (by omega)
    have hc : (nI (dj_ φ w k j)).toNatClampNeg = dj_ φ w k j := nI_clamp (by omega)
    refine lk_mono (fun q z => br_f h4 z) (fun q z => br_f h4 z) ?_
    by_cases e : m.testBit j = true
    · refine lk_mono (fun q z => hx_1 hm (by omega) e (br_f (by decide) (ld_x (P := P) (C := C) hf (by omega) z))) (fun q z => hy_1 hm (by omega) e (br_f (by decide) (ld_y (Q := Q) (C := C) (ch := ch) hf (by omega) z))) ?_
      rw [dj_ix, hc]
      refine sx_i hin (sy_i hin ?_)
      refine sx_c (fun c => sy_t c ?_) (fun c => sy_f c ?_)
      · exact lk_rr T0
      · refine sx_r (nI_1 j) (sy_r (nI_1 j) ?_)
        refine ih (j + 1) (by omega) (fun l hl hb => ?_)
        by_cases el : l = j
        · rw [el]; exact c
        · exact hall l (by omega) hb
    · refine lk_mono (fun q z => hx_0 hm (by omega) (tb_f e) (br_t rfl z)) (fun q z => hy_0 hm (by omega) (tb_f e) (br_t rfl z)) ?_
      refine sx_r (nI_1 j) (sy_r (nI_1 j) ?_)
      refine ih (j + 1) (by omega) (fun l hl hb => ?_)
      by_cases el : l = j
      · rw [el] at hb; exact absurd hb e
      · exact hall l (by omega) hb
theorem sn_lk (hK : kk_ φ ι ω κ) (v1 v2 v3 v4 : Int32) (gc : gc_ φ C) (gp : gp_ φ κ p P Q) : lk_ (er_ (t0_ φ ι ω κ)) (fun q => wpX_sendNewView q (xs_ φ ι ω κ p ls P C) v1 v2 v3 v4) (fun q => wpY_sendNewView q (ys_ φ ι ω κ p ls Q C ch) v1 v2 v3 v4) := by
  have hf := hK.1
  have T0 : t0_ φ ι ω κ (xs_ φ ι ω κ p ls P C) (ys_ φ ι ω κ p ls Q C ch) := ⟨C, ch, gc, trivial, p, ls, P, Q, rfl, rfl, gp⟩
  have o1 : ¬ (1 : Int32) = 0 := by decide
  unfold wpX_sendNewView wpY_sendNewView
  dsimp only
  refine wi_lk v1 0 3 (by decide) (by decide) (lk_rr T0) (fun b _ b3 e1 => ?_)
  refine wi_lk v2 1 7 (by decide) (by decide) (lk_rr T0) (fun w w1 w7 e2 => ?_)
  subst e1 e2
  have wk := wi_c v4 (lo := 0) (hi := 7) (by decide) (by decide)
  by_cases hm : v3 = 7 ∨ v3 = 11 ∨ v3 = 13 ∨ v3 = 14
  · rcases wk with ⟨k, _, k7, e4⟩ | hk
    · subst e4
      have wb := wi_n (c := k) (lo := 0) (hi := 7) (by omega) k7 (by decide)
      have G : ∀ m, 1 ≤ m → m < 16 → v3 = nI m → lk_ (er_ (t0_ φ ι ω κ)) (fun q => (nI b = nI φ → q (-3) (xs_ φ ι ω κ p ls P C)) ∧ (¬ nI b = nI φ → ∃ n58, wX_sendNewView_58 q (nI b) (nI w) v3 (nI k) (nI φ) (nI ι) (nI ω) (nI κ) (nI p) ls (P 0) (P 1) (P 2) (P 3) (P 4) (P 5) (C 0) (C 1) (C 2) (C 3) (C 4) (C 5) (C 6) (C 7) (C 8) (C 9) (C 10) (C 11) (C 12) (C 13) (C 14) (C 15) (C 16) (C 17) (C 18) (C 19) (C 20) (C 21) (C 22) (C 23) n58 0)) (fun q => wY_sendNewView_63 q (nI b) (nI w) v3 (nI k) (nI φ) (nI ι) (nI ω) (nI κ) (nI p) ls (Q 0) (Q 1) (Q 2) (Q 3) (Q 4) (Q 5) (C 0) (C 1) (C 2) (C 3) (C 4) (C 5) (C 6) (C 7) (C 8) (C 9) (C 10) (C 11) (C 12) (C 13) (C 14) (C 15) (C 16) (C 17) (C 18) (C 19) (C 20) (C 21) (C 22) (C 23) ch) := by
        intro m m1 m2 e3
        subst e3
        unfold wY_sendNewView_63
        refine sx_c (fun c => sy_t c ?_) (fun c => sy_f c ?_)
        · exact lk_rr T0
        · refine sx_e 5 (sy_e 5 ?_)
          exact sn_loop hK (by omega) (fun e => c (congrArg nI e)) w1 (by omega) m1 m2 (by omega) gc gp 4 0 rfl (fun l hl => absurd hl (by omega))
      refine lk_mx (fun q z => tp_1 hm (br_f o1 (wi_x1 wb.1 wb.2 (br_f o1 z)))) (lk_my (fun q z => wi_y1 wb.1 wb.2 (br_f o1 z)) ?_)
      rcases hm with h | h | h | h
      · exact lk_my (fun q z => br_t h z) (G 7 (by omega) (by omega) h)
      · exact lk_my (fun q z => br_f (by rw [h]; decide) (br_t h z)) (G 11 (by omega) (by omega) h)
      · exact lk_my (fun q z => br_f (by rw [h]; decide) (br_f (by rw [h]; decide) (br_t h z))) (G 13 (by omega) (by omega) h)
      · exact lk_my (fun q z => br_f (by rw [h]; decide) (br_f (by rw [h]; decide) (br_f (by rw [h]; decide) (br_t h z)))) (G 14 (by omega) (by omega) h)
    · refine lk_mx (fun q z => tp_1 hm (br_f o1 (wi_x0 hk (br_t rfl z)))) (lk_my (fun q z => wi_y0 hk (br_t rfl z)) ?_)
      exact lk_rr T0
  · have n7 : ¬ v3 = 7 := fun h => hm (Or.inl h)
    have n11 : ¬ v3 = 11 := fun h => hm (Or.inr (Or.inl h))
    have n13 : ¬ v3 = 13 := fun h => hm (Or.inr (Or.inr (Or.inl h)))
    have n14 : ¬ v3 = 14 := fun h => hm (Or.inr (Or.inr (Or.inr h)))
    refine lk_mx (fun q z => tp_0 n7 n11 n13 n14 (br_t rfl z)) ?_
    rcases wk with ⟨k, _, k7, e4⟩ | hk
    · subst e4
      have wb := wi_n (c := k) (lo := 0) (hi := 7) (by omega) k7 (by decide)
      refine lk_my (fun q z => wi_y1 wb.1 wb.2 (br_f o1 (br_f n7 (br_f n11 (br_f n13 (br_f n14 z)))))) ?_
      exact lk_rr T0
    · refine lk_my (fun q z => wi_y0 hk (br_t rfl z)) ?_
      exact lk_rr T0
end
/-! request, timeout, the runs as calls -/
section
variable {φ ι ω κ p b h : Nat} {ls : Int32} {P Q C : Nat → Nat → Int32} {ch : Nat → Int32}
theorem rq_xl (hb : b < 4) (hh : h ≤ 8) {x2 x3 : Int32} {post : Int32 → SX → Prop} (k0 : wX_request_77 post (nI b) x2 x3 (nI φ) (nI ι) (nI ω) (nI κ) (nI p) ls (P 0) (P 1) (P 2) (P 3) (P 4) (P 5) (C 0) (C 1) (C 2) (C 3) (C 4) (C 5) (C 6) (C 7) (C 8) (C 9) (C 10) (C 11) (C 12) (C 13) (C 14) (C 15) (C 16) (C 17) (C 18) (C 19) (C 20) (C 21) (C 22) (C 23) 1 (nI (ti_ (fun m => C 7 (b * 9 + m)) h 8)) (nI 9)) : ∀ d l, l + d = 8 → wX_request_77 post (nI b) x2 x3 (nI φ) (nI ι) (nI ω) (nI κ) (nI p) ls (P 0) (P 1) (P 2) (P 3) (P 4) (P 5) (C 0) (C 1) (C 2) (C 3) (C 4) (C 5) (C 6) (C 7) (C 8) (C 9) (C 10) (C 11) (C 12) (C 13) (C 14) (C 15) (C 16) (C 17) (C 18) (C 19) (C 20) (C 21) (C 22) (C 23) (d + 1) (nI (ti_ (fun m => C 7 (b * 9 + m)) h l)) (nI (l + 1)) := by
  intro d
  induction d with
  | zero =>
    intro l hl
    obtain rfl : l = 8 := by omega
    exact k0
  | succ d ih =>
    intro l hl
    have h8 := ni_lit8 (j := l + 1) (by omega)
    have hin : vp_in (nI (b * 9 + (l + 1))) 36 := vp_in_nI (by omega) (by omega)
    have hc : (nI (b * 9 + (l + 1))).toNatClampNeg = b * 9 + (l + 1) := nI_clamp (by omega)
    have kk := ih (l + 1) (by omega)
    obtain ⟨_, b2, _⟩ := ti_ok (e := fun m => C 7 (b * 9 + m)) (t := h) l
    have bl : ti_ (fun m => C 7 (b * 9 + m)) h l ≤ 8 := by rcases b2 with y | ⟨_, y, _⟩ <;> omega
    by_cases c : l + 1 ≤ ti_ (fun m => C 7 (b * 9 + m)) h l
    · rw [show ti_ (fun m => C 7 (b * 9 + m)) h (l + 1) = ti_ (fun m => C 7 (b * 9 + m)) h l from if_neg (fun z => by omega)] at kk
      exact br_f h8 (br_t (nI_le c (by omega)) (nm_r (nI_1 (l + 1)) kk))
    · have c' : ¬ nI (l + 1) ≤ nI (ti_ (fun m => C 7 (b * 9 + m)) h l) := nI_ge (by omega) (by omega)
      by_cases z : C 7 (b * 9 + (l + 1)) = -1
      · rw [show ti_ (fun m => C 7 (b * 9 + m)) h (l + 1) = ti_ (fun m => C 7 (b * 9 + m)) h l from if_neg (fun y => y.2 z)] at kk
        have z' : C 7 (nI (b * 9 + (l + 1))).toNatClampNeg = -1 := by rw [hc]; exact z
        exact br_f h8 (br_f c' (cl_l ⟨hin, br_t z' (nm_r (nI_1 (l + 1)) kk)⟩))
      · rw [show ti_ (fun m => C 7 (b * 9 + m)) h (l + 1) = l + 1 from if_pos ⟨by omega, z⟩] at kk
        have z' : ¬ C 7 (nI (b * 9 + (l + 1))).toNatClampNeg = -1 := by rw [hc]; exact z
        exact br_f h8 (br_f c' (cl_l ⟨hin, br_f z' (nm_r (nI_1 (l + 1)) kk)⟩))
theorem rq_yl (hb : b < 4) (hh : h ≤ 8) {x2 x3 : Int32} {post : Int32 → SY → Prop} (k0 : wY_request_75 post (nI b) x2 x3 (nI φ) (nI ι) (nI ω) (nI κ) (nI p) ls (Q 0) (Q 1) (Q 2) (Q 3) (Q 4) (Q 5) (C 0) (C 1) (C 2) (C 3) (C 4) (C 5) (C 6) (C 7) (C 8) (C 9) (C 10) (C 11) (C 12) (C 13) (C 14) (C 15) (C 16) (C 17) (C 18) (C 19) (C 20) (C 21) (C 22) (C 23) ch 1 (nI (ti_ (fun m => C 7 (b * 9 + m)) h 8)) (nI 9)) : ∀ d l, l + d = 8 → wY_request_75 post (nI b) x2 x3 (nI φ) (nI ι) (nI ω) (nI κ) (nI p) ls (Q 0) (Q 1) (Q 2) (Q 3) (Q 4) (Q 5) (C 0) (C 1) (C 2) (C 3) (C 4) (C 5) (C 6) (C 7) (C 8) (C 9) (C 10) (C 11) (C 12) (C 13) (C 14) (C 15) (C 16) (C 17) (C 18) (C 19) (C 20) (C 21) (C 22) (C 23) ch (d + 1) (nI (ti_ (fun m => C 7 (b * 9 + m)) h l)) (nI (l + 1)) := by
  intro d
  induction d with
  | zero =>
    intro l hl
    obtain rfl : l = 8 := by omega
    exact k0
  | succ d ih =>
    intro l hl
    have h8 := ni_lit8 (j := l + 1) (by omega)
    have hin : vp_in (nI b * 9 + nI (l + 1)) 36 := by rw [ix_9]; exact vp_in_nI (by omega) (by omega)
    have hc : (nI b * 9 + nI (l + 1)).toNatClampNeg = b * 9 + (l + 1) := by rw [ix_9]; exact nI_clamp (by omega)
    have kk := ih (l + 1) (by omega)
    obtain ⟨_, b2, _⟩ := ti_ok (e := fun m => C 7 (b * 9 + m)) (t := h) l
    have bl : ti_ (fun m => C 7 (b * 9 + m)) h l ≤ 8 := by rcases b2 with y | ⟨_, y, _⟩ <;> omega
    by_cases z : C 7 (b * 9 + (l + 1)) = -1
    · rw [show ti_ (fun m => C 7 (b * 9 + m)) h (l + 1) = ti_ (fun m => C 7 (b * 9 + m)) h l from if_neg (fun y => y.2 z)] at kk
      have z' : C 7 (nI b * 9 + nI (l + 1)).toNatClampNeg = -1 := by rw [hc]; exact z
      exact br_f h8 ⟨hin, br_t z' (nm_r (nI_1 (l + 1)) kk)⟩
    · have z' : ¬ C 7 (nI b * 9 + nI (l + 1)).toNatClampNeg = -1 := by rw [hc]; exact z
      by_cases c : l + 1 ≤ ti_ (fun m => C 7 (b * 9 + m)) h l
      · rw [show ti_ (fun m => C 7 (b * 9 + m)) h (l + 1) = ti_ (fun m => C 7 (b * 9 + m)) h l from if_neg (fun z => by omega)] at kk
        exact br_f h8 ⟨hin, br_f z' (br_t (nI_le c (by omega)) (nm_r (nI_1 (l + 1)) kk))⟩
      · have c' : ¬ nI (l + 1) ≤ nI (ti_ (fun m => C 7 (b * 9 + m)) h l) := nI_ge (by omega) (by omega)
        rw [show ti_ (fun m => C 7 (b * 9 + m)) h (l + 1) = l + 1 from if_pos ⟨by omega, z⟩] at kk
        exact br_f h8 ⟨hin, br_f z' (br_f c' (nm_r (nI_1 (l + 1)) kk))⟩
theorem rq_lk (hK : kk_ φ ι ω κ) (v1 v2 : Int32) (gc : gc_ φ C) (gp : gp_ φ κ p P Q) : lk_ (er_ (t0_ φ ι ω κ)) (fun q => wpX_request q (xs_ φ ι ω κ p ls P C) v1 v2) (fun q => wpY_request q (ys_ φ ι ω κ p ls Q C ch) v1 v2) := by
  have hK' := hK
  obtain ⟨k0, k1, k2, k3, k4, k5, k6⟩ := hK
  have T0 : t0_ φ ι ω κ (xs_ φ ι ω κ p ls P C) (ys_ φ ι ω κ p ls Q C ch) := ⟨C, ch, gc, trivial, p, ls, P, Q, rfl, rfl, gp⟩
  unfold wpX_request wpY_request
  dsimp only
  refine wi_lk v1 0 3 (by decide) (by decide) (lk_rr T0) (fun b _ b3 e1 => ?_)
  refine wi_lk v2 1 9 (by decide) (by decide) (lk_rr T0) (fun d d1 d9 e2 => ?_)
  subst e1 e2
  have hb : b < 4 := by omega
  have hin : vp_in (nI b) 4 := vp_in_nI hb (by omega)
  have hc : (nI b).toNatClampNeg = b := nI_clamp (by omega)
  obtain ⟨v, hv8, hv⟩ := gc.1 b
  obtain ⟨h, hh9, hs⟩ := gc.2.1 b
  dsimp only [wpX_primaryOf]
  simp only [forall_eq, hc, hv, hs]
  by_cases c1 : nI b = nI φ
  · (repeat' (first | with_reducible refine sx_i (by first | with_reducible assumption | decide) ?_ | with_reducible refine sy_i (by first | with_reducible assumption | decide) ?_ | with_reducible refine sx_n ?_ | with_reducible refine sy_n ?_ | with_reducible refine sx_t (by first | with_reducible assumption | exact trivial) ?_ | with_reducible refine sx_f (by with_reducible assumption) ?_ | with_reducible refine sy_t (by first | with_reducible assumption | exact trivial) ?_ | with_reducible refine sy_f (by with_reducible assumption) ?_ | fail))
    exact lk_rr T0
  by_cases c2 : C 1 b = 0
  · (repeat' (first | with_reducible refine sx_i (by first | with_reducible assumption | decide) ?_ | with_reducible refine sy_i (by first | with_reducible assumption | decide) ?_ | with_reducible refine sx_n ?_ | with_reducible refine sy_n ?_ | with_reducible refine sx_t (by first | with_reducible assumption | exact trivial) ?_ | with_reducible refine sx_f (by with_reducible assumption) ?_ | with_reducible refine sy_t (by first | with_reducible assumption | exact trivial) ?_ | with_reducible refine sy_f (by with_reducible assumption) ?_ | fail))
    exact lk_rr T0
  by_cases c3 : nI v - nI v / 4 * 4 = nI b
  · (repeat' (first | with_reducible refine sx_i (by first | with_reducible assumption | decide) ?_ | with_reducible refine sy_i (by first | with_reducible assumption | decide) ?_ | with_reducible refine sx_n ?_ | with_reducible refine sy_n ?_ | with_reducible refine sx_t (by first | with_reducible assumption | exact trivial) ?_ | with_reducible refine sx_f (by with_reducible assumption) ?_ | with_reducible refine sy_t (by first | with_reducible assumption | exact trivial) ?_ | with_reducible refine sy_f (by with_reducible assumption) ?_ | fail))
    refine sx_e 9 (sy_e 9 ?_)
    obtain ⟨t1, t2, _⟩ := ti_ok (e := fun m => C 7 (b * 9 + m)) (t := h) 8
    refine lk_mono (fun q z => rq_xl (P := P) (C := C) hb (by omega) (br_t ni_gt8 z) 8 0 rfl) (fun q z => rq_yl (Q := Q) (C := C) (ch := ch) hb (by omega) (br_t ni_gt8 z) 8 0 rfl) ?_
    generalize ti_ (fun m => C 7 (b * 9 + m)) h 8 = t at *
    have t8 : t ≤ 8 := by rcases t2 with y | ⟨_, y, _⟩ <;> omega
    have ea : 1 + nI t = nI (t + 1) := by rw [Int32.add_comm, nI_1]
    refine sx_r (nI_1 t) (sy_r ea ?_)
    refine lk_mono (fun q z => hg_x (P := P) (C := C) hb k4 hh9 hs z) (fun q z => hg_y (Q := Q) (C := C) (ch := ch) hb k4 hh9 hs z) ?_
    have g8 := hg_8 h ω
    by_cases c4 : t + 1 ≤ hg_ h ω
    · have c4' : nI (t + 1) ≤ nI (hg_ h ω) := nI_le c4 (by omega)
      have hin36 : vp_in (nI (b * 9 + (t + 1))) 36 := vp_in_nI (by omega) (by omega)
      have hc36 : (nI (b * 9 + (t + 1))).toNatClampNeg = b * 9 + (t + 1) := nI_clamp (by omega)
      have hin288 : vp_in (nI ((b * 8 + v) * 9 + (t + 1))) 288 := vp_in_nI (by omega) (by omega)
      have hc288 : (nI ((b * 8 + v) * 9 + (t + 1))).toNatClampNeg = (b * 8 + v) * 9 + (t + 1) := nI_clamp (by omega)
      dsimp only [wpX_logCell, wpX_signCell]
      simp only [forall_eq, ix_9, ix_8, hc36, hc288]
      (repeat' (first | with_reducible refine sx_i (by first | with_reducible assumption | decide) ?_ | with_reducible refine sy_i (by first | with_reducible assumption | decide) ?_ | with_reducible refine sx_n ?_ | with_reducible refine sy_n ?_ | with_reducible refine sx_t (by first | with_reducible assumption | exact trivial) ?_ | with_reducible refine sx_f (by with_reducible assumption) ?_ | with_reducible refine sy_t (by first | with_reducible assumption | exact trivial) ?_ | with_reducible refine sy_f (by with_reducible assumption) ?_ | fail))
      have hd : bd_ 10 (nI d) := ⟨d, by omega, rfl⟩
      refine lk_bv (mc_lk (C := cw_ (cw_ C 7 (b * 9 + (t + 1)) (nI d)) 17 ((b * 8 + v) * 9 + (t + 1)) (nI d)) (ch := ch) hK' hb (fun j e1 e2 e3 => mk_1 hb e1 e2 e3 (Or.inl rfl) ⟨v, hv8, rfl⟩ ⟨t + 1, by omega, by omega, rfl⟩ hd) gp) ?_
      rintro u w ⟨p', ls', P', Q', rfl, rfl, gp'⟩
      dsimp only
      have g2 : gc_ φ (cw_ (cw_ C 7 (b * 9 + (t + 1)) (nI d)) 17 ((b * 8 + v) * 9 + (t + 1)) (nI d)) := by
        obtain ⟨h0, h2, h4, h7, h8, h16, h22, hdd, hvv⟩ := gc
        exact ⟨h0, h2, h4, gn_u h7 (Or.inr hd), h8, h16, h22, hdd, hvv⟩
      refine lk_bv (pr_lk (ch := ch) (ls := ls') hK' hb (by omega) (by omega) g2 gp') ?_
      rintro u w ⟨C', ch', gc', _, p', ls', P', Q', rfl, rfl, gp'⟩
      dsimp only
      exact lk_rr ⟨C', ch', gc', trivial, p', ls', P', Q', rfl, rfl, gp'⟩
    · have c4' : ¬ nI (t + 1) ≤ nI (hg_ h ω) := nI_ge (by omega) (by omega)
      (repeat' (first | with_reducible refine sx_i (by first | with_reducible assumption | decide) ?_ | with_reducible refine sy_i (by first | with_reducible assumption | decide) ?_ | with_reducible refine sx_n ?_ | with_reducible refine sy_n ?_ | with_reducible refine sx_t (by first | with_reducible assumption | exact trivial) ?_ | with_reducible refine sx_f (by with_reducible assumption) ?_ | with_reducible refine sy_t (by first | with_reducible assumption | exact trivial) ?_ | with_reducible refine sy_f (by with_reducible assumption) ?_ | fail))
      exact lk_rr T0
  · (repeat' (first | with_reducible refine sx_i (by first | with_reducible assumption | decide) ?_ | with_reducible refine sy_i (by first | with_reducible assumption | decide) ?_ | with_reducible refine sx_n ?_ | with_reducible refine sy_n ?_ | with_reducible refine sx_t (by first | with_reducible assumption | exact trivial) ?_ | with_reducible refine sx_f (by with_reducible assumption) ?_ | with_reducible refine sy_t (by first | with_reducible assumption | exact trivial) ?_ | with_reducible refine sy_f (by with_reducible assumption) ?_ | fail))
    exact lk_rr T0
theorem to_lk (hK : kk_ φ ι ω κ) (v1 : Int32) (gc : gc_ φ C) (gp : gp_ φ κ p P Q) : lk_ (er_ (t0_ φ ι ω κ)) (fun q => wpX_timeout q (xs_ φ ι ω κ p ls P C) v1) (fun q => wpY_timeout q (ys_ φ ι ω κ p ls Q C ch) v1) := by
  have T0 : t0_ φ ι ω κ (xs_ φ ι ω κ p ls P C) (ys_ φ ι ω κ p ls Q C ch) := ⟨C, ch, gc, trivial, p, ls, P, Q, rfl, rfl, gp⟩
  unfold wpX_timeout wpY_timeout
  dsimp only
  refine wi_lk v1 0 3 (by decide) (by decide) (lk_rr T0) (fun b _ b3 e1 => ?_)
  subst e1
  have hb : b < 4 := by omega
  have hin : vp_in (nI b) 4 := vp_in_nI hb (by omega)
  have hc : (nI b).toNatClampNeg = b := nI_clamp (by omega)
  obtain ⟨v, hv8, hv⟩ := gc.1 b
  simp only [forall_eq, hc, hv, nI_1]
  by_cases c1 : nI b = nI φ
  · (repeat' (first | with_reducible refine sx_i (by first | with_reducible assumption | decide) ?_ | with_reducible refine sy_i (by first | with_reducible assumption | decide) ?_ | with_reducible refine sx_n ?_ | with_reducible refine sy_n ?_ | with_reducible refine sx_t (by first | with_reducible assumption | exact trivial) ?_ | with_reducible refine sx_f (by with_reducible assumption) ?_ | with_reducible refine sy_t (by first | with_reducible assumption | exact trivial) ?_ | with_reducible refine sy_f (by with_reducible assumption) ?_ | fail))
    exact lk_rr T0
  by_cases c2 : v < 7
  · have c2' : nI v < 7 := nI_lt (b := 7) c2 (by decide)
    (repeat' (first | with_reducible refine sx_i (by first | with_reducible assumption | decide) ?_ | with_reducible refine sy_i (by first | with_reducible assumption | decide) ?_ | with_reducible refine sx_n ?_ | with_reducible refine sy_n ?_ | with_reducible refine sx_t (by first | with_reducible assumption | exact trivial) ?_ | with_reducible refine sx_f (by with_reducible assumption) ?_ | with_reducible refine sy_t (by first | with_reducible assumption | exact trivial) ?_ | with_reducible refine sy_f (by with_reducible assumption) ?_ | fail))
    refine lk_bv (sv_lk (ch := ch) (ls := ls) hK hb (by omega) (by omega) gc gp) ?_
    rintro u w ⟨C', ch', gc', _, p', ls', P', Q', rfl, rfl, gp'⟩
    dsimp only
    refine lk_bv (le_lk (ch := ch') (ls := ls') hK hb (fun e => c1 (congrArg nI e)) gc' gp') ?_
    rintro u w ⟨C', ch', gc', _, p', ls', P', Q', rfl, rfl, gp'⟩
    dsimp only
    exact lk_rr ⟨C', ch', gc', trivial, p', ls', P', Q', rfl, rfl, gp'⟩
  · have c2' : ¬ nI v < 7 := nI_nlt (b := 7) (by omega) (by omega)
    (repeat' (first | with_reducible refine sx_i (by first | with_reducible assumption | decide) ?_ | with_reducible refine sy_i (by first | with_reducible assumption | decide) ?_ | with_reducible refine sx_n ?_ | with_reducible refine sy_n ?_ | with_reducible refine sx_t (by first | with_reducible assumption | exact trivial) ?_ | with_reducible refine sx_f (by with_reducible assumption) ?_ | with_reducible refine sy_t (by first | with_reducible assumption | exact trivial) ?_ | with_reducible refine sy_f (by with_reducible assumption) ?_ | fail))
    exact lk_rr T0
theorem ru_lk (hK : kk_ φ ι ω κ) (v1 : Int32) (gc : gc_ φ C) (gp : gp_ φ κ p P Q) : lk_ (er_ (t0_ φ ι ω κ)) (fun q => wpX_run q (xs_ φ ι ω κ p ls P C) v1) (fun q => wpY_run q (ys_ φ ι ω κ p ls Q C ch) v1) := by
  obtain ⟨L, _, hL, hX, hY⟩ := cm_ v1 (lo := 0) (hi := 32) (by decide) (by decide)
  unfold wpX_run wpY_run
  dsimp only
  refine lk_mono (fun q z => hX _ _ (Exists.intro (L + 1) z)) (fun q z => hY _ _ (Exists.intro (L + 1) z)) ?_
  exact rn_loop hK hL L 0 C ch p ls P Q (by omega) gc gp
theorem rt_lk (hK : kk_ φ ι ω κ) (v1 v2 : Int32) (gc : gc_ φ C) (gp : gp_ φ κ p P Q) : lk_ (er_ (t0_ φ ι ω κ)) (fun q => wpX_runTo q (xs_ φ ι ω κ p ls P C) v1 v2) (fun q => wpY_runTo q (ys_ φ ι ω κ p ls Q C ch) v1 v2) := by
  have T0 : t0_ φ ι ω κ (xs_ φ ι ω κ p ls P C) (ys_ φ ι ω κ p ls Q C ch) := ⟨C, ch, gc, trivial, p, ls, P, Q, rfl, rfl, gp⟩
  obtain ⟨L, _, hL, hX, hY⟩ := cm_ v2 (lo := 0) (hi := 32) (by decide) (by decide)
  unfold wpX_runTo wpY_runTo
  dsimp only
  refine wi_lk v1 0 3 (by decide) (by decide) (lk_rr T0) (fun b _ b3 e1 => ?_)
  refine sx_c (fun c => sy_t c ?_) (fun c => sy_f c ?_)
  · exact lk_rr T0
  · refine lk_mono (fun q z => hX _ _ (Exists.intro (L + 1) z)) (fun q z => hY _ _ (Exists.intro (L + 1) z)) ?_
    exact ro_loop hK hL L 0 C ch p ls P Q (by omega) gc gp
theorem rk_lk (hK : kk_ φ ι ω κ) (v1 v2 : Int32) (gc : gc_ φ C) (gp : gp_ φ κ p P Q) : lk_ (er_ (t0_ φ ι ω κ)) (fun q => wpX_runKind q (xs_ φ ι ω κ p ls P C) v1 v2) (fun q => wpY_runKind q (ys_ φ ι ω κ p ls Q C ch) v1 v2) := by
  have T0 : t0_ φ ι ω κ (xs_ φ ι ω κ p ls P C) (ys_ φ ι ω κ p ls Q C ch) := ⟨C, ch, gc, trivial, p, ls, P, Q, rfl, rfl, gp⟩
  obtain ⟨L, _, hL, hX, hY⟩ := cm_ v2 (lo := 0) (hi := 32) (by decide) (by decide)
  unfold wpX_runKind wpY_runKind
  dsimp only
  refine wi_lk v1 1 6 (by decide) (by decide) (lk_rr T0) (fun b _ b3 e1 => ?_)
  refine lk_mono (fun q z => hX _ _ (Exists.intro (L + 1) z)) (fun q z => hY _ _ (Exists.intro (L + 1) z)) ?_
  exact rq_loop hK hL L 0 C ch p ls P Q (by omega) gc gp
theorem dp_lk (hK : kk_ φ ι ω κ) (v1 : Int32) (gc : gc_ φ C) (gp : gp_ φ κ p P Q) : lk_ (er_ (t0_ φ ι ω κ)) (fun q => wpX_dropTo q (xs_ φ ι ω κ p ls P C) v1) (fun q => wpY_dropTo q (ys_ φ ι ω κ p ls Q C ch) v1) := by
  have T0 : t0_ φ ι ω κ (xs_ φ ι ω κ p ls P C) (ys_ φ ι ω κ p ls Q C ch) := ⟨C, ch, gc, trivial, p, ls, P, Q, rfl, rfl, gp⟩
  unfold wpX_dropTo wpY_dropTo
  dsimp only
  refine wi_lk v1 0 3 (by decide) (by decide) (lk_rr T0) (fun b _ b3 e1 => ?_)
  refine sx_c (fun c => sy_t c ?_) (fun c => sy_f c ?_)
  · exact lk_rr T0
  · exact dt_lk hK gc gp
end
end
section
/-! getters -/
theorem wi_ne {x : Int32} {lo hi : Nat} (hh : hi < 2 ^ 31) (h : x < nI lo ∨ nI hi < x) (n : Nat) (h1 : lo ≤ n) (h2 : n ≤ hi) : ¬ x = nI n := by
  intro e
  subst e
  have w := wi_n h1 h2 hh
  rcases h with h | h
  · exact w.1 h
  · exact w.2 h
def tr_ (_ : Int32) : Prop := True
section
variable {φ ι ω κ p : Nat} {ls : Int32} {P Q C : Nat → Nat → Int32} {ch : Nat → Int32}
theorem ge_setting (v1 : Int32) : lk_ (ea_ tr_) (fun q => wpX_setting q (xs_ φ ι ω κ p ls P C) v1) (fun q => wpY_setting q (ys_ φ ι ω κ p ls Q C ch) v1) := by
  unfold wpX_setting wpY_setting
  dsimp only
  rcases wi_c v1 (lo := 1) (hi := 6) (by decide) (by decide) with ⟨n, n1, n6, rfl⟩ | h
  · obtain rfl | rfl | rfl | rfl | rfl | rfl : n = 1 ∨ n = 2 ∨ n = 3 ∨ n = 4 ∨ n = 5 ∨ n = 6 := by omega
    · (repeat' (first | with_reducible refine sx_i (by first | with_reducible assumption | decide) ?_ | with_reducible refine sy_i (by first | with_reducible assumption | decide) ?_ | with_reducible refine sx_n ?_ | with_reducible refine sy_n ?_ | with_reducible refine sx_t (by first | with_reducible assumption | exact trivial | decide) ?_ | with_reducible refine sx_f (by first | with_reducible assumption | decide) ?_ | with_reducible refine sy_t (by first | with_reducible assumption | exact trivial | decide) ?_ | with_reducible refine sy_f (by first | with_reducible assumption | decide) ?_ | fail))
      exact lk_ra trivial
    · (repeat' (first | with_reducible refine sx_i (by first | with_reducible assumption | decide) ?_ | with_reducible refine sy_i (by first | with_reducible assumption | decide) ?_ | with_reducible refine sx_n ?_ | with_reducible refine sy_n ?_ | with_reducible refine sx_t (by first | with_reducible assumption | exact trivial | decide) ?_ | with_reducible refine sx_f (by first | with_reducible assumption | decide) ?_ | with_reducible refine sy_t (by first | with_reducible assumption | exact trivial | decide) ?_ | with_reducible refine sy_f (by first | with_reducible assumption | decide) ?_ | fail))
      exact lk_ra trivial
    · (repeat' (first | with_reducible refine sx_i (by first | with_reducible assumption | decide) ?_ | with_reducible refine sy_i (by first | with_reducible assumption | decide) ?_ | with_reducible refine sx_n ?_ | with_reducible refine sy_n ?_ | with_reducible refine sx_t (by first | with_reducible assumption | exact trivial | decide) ?_ | with_reducible refine sx_f (by first | with_reducible assumption | decide) ?_ | with_reducible refine sy_t (by first | with_reducible assumption | exact trivial | decide) ?_ | with_reducible refine sy_f (by first | with_reducible assumption | decide) ?_ | fail))
      exact lk_ra trivial
    · (repeat' (first | with_reducible refine sx_i (by first | with_reducible assumption | decide) ?_ | with_reducible refine sy_i (by first | with_reducible assumption | decide) ?_ | with_reducible refine sx_n ?_ | with_reducible refine sy_n ?_ | with_reducible refine sx_t (by first | with_reducible assumption | exact trivial | decide) ?_ | with_reducible refine sx_f (by first | with_reducible assumption | decide) ?_ | with_reducible refine sy_t (by first | with_reducible assumption | exact trivial | decide) ?_ | with_reducible refine sy_f (by first | with_reducible assumption | decide) ?_ | fail))
      exact lk_ra trivial
    · (repeat' (first | with_reducible refine sx_i (by first | with_reducible assumption | decide) ?_ | with_reducible refine sy_i (by first | with_reducible assumption | decide) ?_ | with_reducible refine sx_n ?_ | with_reducible refine sy_n ?_ | with_reducible refine sx_t (by first | with_reducible assumption | exact trivial | decide) ?_ | with_reducible refine sx_f (by first | with_reducible assumption | decide) ?_ | with_reducible refine sy_t (by first | with_reducible assumption | exact trivial | decide) ?_ | with_reducible refine sy_f (by first | with_reducible assumption | decide) ?_ | fail))
      exact lk_ra trivial
    · (repeat' (first | with_reducible refine sx_i (by first | with_reducible assumption | decide) ?_ | with_reducible refine sy_i (by first | with_reducible assumption | decide) ?_ | with_reducible refine sx_n ?_ | with_reducible refine sy_n ?_ | with_reducible refine sx_t (by first | with_reducible assumption | exact trivial | decide) ?_ | with_reducible refine sx_f (by first | with_reducible assumption | decide) ?_ | with_reducible refine sy_t (by first | with_reducible assumption | exact trivial | decide) ?_ | with_reducible refine sy_f (by first | with_reducible assumption | decide) ?_ | fail))
      exact lk_ra trivial
  · have e1 : ¬ v1 = 1 := wi_ne (by decide) h 1 (by decide) (by decide)
    have e2 : ¬ v1 = 2 := wi_ne (by decide) h 2 (by decide) (by decide)
    have e3 : ¬ v1 = 3 := wi_ne (by decide) h 3 (by decide) (by decide)
    have e4 : ¬ v1 = 4 := wi_ne (by decide) h 4 (by decide) (by decide)
    have e5 : ¬ v1 = 5 := wi_ne (by decide) h 5 (by decide) (by decide)
    have e6 : ¬ v1 = 6 := wi_ne (by decide) h 6 (by decide) (by decide)
    refine sy_f e1 (sy_f e2 (sy_f e3 (sy_f e4 (sy_f e5 (sy_f e6 ?_)))))
    rcases h with h | h
    · exact sx_t h (lk_ra trivial)
    · by_cases h' : v1 < 1
      · exact sx_t h' (lk_ra trivial)
      · exact sx_f h' (sx_t h (lk_ra trivial))
theorem ge_message (hK : kk_ φ ι ω κ) (v1 v2 : Int32) (gp : gp_ φ κ p P Q) : lk_ (ea_ tr_) (fun q => wpX_message q (xs_ φ ι ω κ p ls P C) v1 v2) (fun q => wpY_message q (ys_ φ ι ω κ p ls Q C ch) v1 v2) := by
  have hpk := gp.1
  have k6 : κ ≤ 64 := hK.2.2.2.2.2.2
  unfold wpX_message wpY_message
  dsimp only
  rcases pk_ix v1 (n := p) (by omega) with h | h | ⟨s, hs, rfl⟩
  · refine lk_mx (fun q z => sl_no (P := P) (C := C) (Or.inl h) (br_t rfl z)) (sy_t h ?_)
    exact lk_ra trivial
  · by_cases h0 : v1 < 0
    · refine lk_mx (fun q z => sl_no (P := P) (C := C) (Or.inl h0) (br_t rfl z)) (sy_t h0 ?_)
      exact lk_ra trivial
    · refine lk_mx (fun q z => sl_no (P := P) (C := C) (Or.inr h) (br_t rfl z)) (sy_f h0 (sy_f (Int32.not_lt.mpr h) ?_))
      exact lk_ra trivial
  · have hin : vp_in (nI s) 64 := vp_in_nI (by omega) (by omega)
    have hc : (nI s).toNatClampNeg = s := nI_clamp (by omega)
    obtain ⟨hPQ, hm⟩ := gp.2 s hs
    refine lk_mx (fun q z => sl_ys (P := P) (C := C) hs (by omega) (br_f (by decide) z)) (sy_f (nI_pos (by omega)) (sy_t (nI_lt hs (by omega)) ?_))
    simp only [hc, ← hPQ 0 (by omega), ← hPQ 1 (by omega), ← hPQ 2 (by omega), ← hPQ 3 (by omega), ← hPQ 4 (by omega), ← hPQ 5 (by omega)]
    rcases wi_c v2 (lo := 1) (hi := 6) (by decide) (by decide) with ⟨n, n1, n6, rfl⟩ | h
    · obtain rfl | rfl | rfl | rfl | rfl | rfl : n = 1 ∨ n = 2 ∨ n = 3 ∨ n = 4 ∨ n = 5 ∨ n = 6 := by omega
      · (repeat' (first | with_reducible refine sx_i (by first | with_reducible assumption | decide) ?_ | with_reducible refine sy_i (by first | with_reducible assumption | decide) ?_ | with_reducible refine sx_n ?_ | with_reducible refine sy_n ?_ | with_reducible refine sx_t (by first | with_reducible assumption | exact trivial | decide) ?_ | with_reducible refine sx_f (by first | with_reducible assumption | decide) ?_ | with_reducible refine sy_t (by first | with_reducible assumption | exact trivial | decide) ?_ | with_reducible refine sy_f (by first | with_reducible assumption | decide) ?_ | fail))
        exact lk_ra trivial
      · (repeat' (first | with_reducible refine sx_i (by first | with_reducible assumption | decide) ?_ | with_reducible refine sy_i (by first | with_reducible assumption | decide) ?_ | with_reducible refine sx_n ?_ | with_reducible refine sy_n ?_ | with_reducible refine sx_t (by first | with_reducible assumption | exact trivial | decide) ?_ | with_reducible refine sx_f (by first | with_reducible assumption | decide) ?_ | with_reducible refine sy_t (by first | with_reducible assumption | exact trivial | decide) ?_ | with_reducible refine sy_f (by first | with_reducible assumption | decide) ?_ | fail))
        exact lk_ra trivial
      · (repeat' (first | with_reducible refine sx_i (by first | with_reducible assumption | decide) ?_ | with_reducible refine sy_i (by first | with_reducible assumption | decide) ?_ | with_reducible refine sx_n ?_ | with_reducible refine sy_n ?_ | with_reducible refine sx_t (by first | with_reducible assumption | exact trivial | decide) ?_ | with_reducible refine sx_f (by first | with_reducible assumption | decide) ?_ | with_reducible refine sy_t (by first | with_reducible assumption | exact trivial | decide) ?_ | with_reducible refine sy_f (by first | with_reducible assumption | decide) ?_ | fail))
        exact lk_ra trivial
      · (repeat' (first | with_reducible refine sx_i (by first | with_reducible assumption | decide) ?_ | with_reducible refine sy_i (by first | with_reducible assumption | decide) ?_ | with_reducible refine sx_n ?_ | with_reducible refine sy_n ?_ | with_reducible refine sx_t (by first | with_reducible assumption | exact trivial | decide) ?_ | with_reducible refine sx_f (by first | with_reducible assumption | decide) ?_ | with_reducible refine sy_t (by first | with_reducible assumption | exact trivial | decide) ?_ | with_reducible refine sy_f (by first | with_reducible assumption | decide) ?_ | fail))
        exact lk_ra trivial
      · (repeat' (first | with_reducible refine sx_i (by first | with_reducible assumption | decide) ?_ | with_reducible refine sy_i (by first | with_reducible assumption | decide) ?_ | with_reducible refine sx_n ?_ | with_reducible refine sy_n ?_ | with_reducible refine sx_t (by first | with_reducible assumption | exact trivial | decide) ?_ | with_reducible refine sx_f (by first | with_reducible assumption | decide) ?_ | with_reducible refine sy_t (by first | with_reducible assumption | exact trivial | decide) ?_ | with_reducible refine sy_f (by first | with_reducible assumption | decide) ?_ | fail))
        exact lk_ra trivial
      · (repeat' (first | with_reducible refine sx_i (by first | with_reducible assumption | decide) ?_ | with_reducible refine sy_i (by first | with_reducible assumption | decide) ?_ | with_reducible refine sx_n ?_ | with_reducible refine sy_n ?_ | with_reducible refine sx_t (by first | with_reducible assumption | exact trivial | decide) ?_ | with_reducible refine sx_f (by first | with_reducible assumption | decide) ?_ | with_reducible refine sy_t (by first | with_reducible assumption | exact trivial | decide) ?_ | with_reducible refine sy_f (by first | with_reducible assumption | decide) ?_ | fail))
        exact lk_ra trivial
    · have e1 : ¬ v2 = 1 := wi_ne (by decide) h 1 (by decide) (by decide)
      have e2 : ¬ v2 = 2 := wi_ne (by decide) h 2 (by decide) (by decide)
      have e3 : ¬ v2 = 3 := wi_ne (by decide) h 3 (by decide) (by decide)
      have e4 : ¬ v2 = 4 := wi_ne (by decide) h 4 (by decide) (by decide)
      have e5 : ¬ v2 = 5 := wi_ne (by decide) h 5 (by decide) (by decide)
      have e6 : ¬ v2 = 6 := wi_ne (by decide) h 6 (by decide) (by decide)
      refine sy_f e1 (sy_f e2 (sy_f e3 (sy_f e4 (sy_f e5 (sy_f e6 ?_)))))
      rcases h with h | h
      · exact sx_t h (lk_ra trivial)
      · by_cases h' : v2 < 1
        · exact sx_t h' (lk_ra trivial)
        · exact sx_f h' (sx_t h (lk_ra trivial))
theorem ge_replica (v1 v2 : Int32) : lk_ (ea_ tr_) (fun q => wpX_replica q (xs_ φ ι ω κ p ls P C) v1 v2) (fun q => wpY_replica q (ys_ φ ι ω κ p ls Q C ch) v1 v2) := by
  unfold wpX_replica wpY_replica
  dsimp only
  refine wi_lk v1 0 3 (by decide) (by decide) (lk_ra trivial) (fun b _ b3 e1 => ?_)
  refine wi_lk v2 1 7 (by decide) (by decide) (lk_ra trivial) (fun n n1 n7 e2 => ?_)
  subst e1 e2
  have hin : vp_in (nI b) 4 := vp_in_nI (by omega) (by omega)
  refine sx_c (fun c => sy_t c (lk_ra trivial)) (fun c => sy_f c ?_)
  obtain rfl | rfl | rfl | rfl | rfl | rfl | rfl : n = 1 ∨ n = 2 ∨ n = 3 ∨ n = 4 ∨ n = 5 ∨ n = 6 ∨ n = 7 := by omega
  · (repeat' (first | with_reducible refine sx_i (by first | with_reducible assumption | decide) ?_ | with_reducible refine sy_i (by first | with_reducible assumption | decide) ?_ | with_reducible refine sx_n ?_ | with_reducible refine sy_n ?_ | with_reducible refine sx_t (by first | with_reducible assumption | exact trivial | decide) ?_ | with_reducible refine sx_f (by first | with_reducible assumption | decide) ?_ | with_reducible refine sy_t (by first | with_reducible assumption | exact trivial | decide) ?_ | with_reducible refine sy_f (by first | with_reducible assumption | decide) ?_ | fail))
    exact lk_ra trivial
  · (repeat' (first | with_reducible refine sx_i (by first | with_reducible assumption | decide) ?_ | with_reducible refine sy_i (by first | with_reducible assumption | decide) ?_ | with_reducible refine sx_n ?_ | with_reducible refine sy_n ?_ | with_reducible refine sx_t (by first | with_reducible assumption | exact trivial | decide) ?_ | with_reducible refine sx_f (by first | with_reducible assumption | decide) ?_ | with_reducible refine sy_t (by first | with_reducible assumption | exact trivial | decide) ?_ | with_reducible refine sy_f (by first | with_reducible assumption | decide) ?_ | fail))
    refine sx_c (fun c => sy_t c (lk_ra trivial)) (fun c => sy_f c (lk_ra trivial))
  · (repeat' (first | with_reducible refine sx_i (by first | with_reducible assumption | decide) ?_ | with_reducible refine sy_i (by first | with_reducible assumption | decide) ?_ | with_reducible refine sx_n ?_ | with_reducible refine sy_n ?_ | with_reducible refine sx_t (by first | with_reducible assumption | exact trivial | decide) ?_ | with_reducible refine sx_f (by first | with_reducible assumption | decide) ?_ | with_reducible refine sy_t (by first | with_reducible assumption | exact trivial | decide) ?_ | with_reducible refine sy_f (by first | with_reducible assumption | decide) ?_ | fail))
    exact lk_ra trivial
  · (repeat' (first | with_reducible refine sx_i (by first | with_reducible assumption | decide) ?_ | with_reducible refine sy_i (by first | with_reducible assumption | decide) ?_ | with_reducible refine sx_n ?_ | with_reducible refine sy_n ?_ | with_reducible refine sx_t (by first | with_reducible assumption | exact trivial | decide) ?_ | with_reducible refine sx_f (by first | with_reducible assumption | decide) ?_ | with_reducible refine sy_t (by first | with_reducible assumption | exact trivial | decide) ?_ | with_reducible refine sy_f (by first | with_reducible assumption | decide) ?_ | fail))
    exact lk_ra trivial
  · (repeat' (first | with_reducible refine sx_i (by first | with_reducible assumption | decide) ?_ | with_reducible refine sy_i (by first | with_reducible assumption | decide) ?_ | with_reducible refine sx_n ?_ | with_reducible refine sy_n ?_ | with_reducible refine sx_t (by first | with_reducible assumption | exact trivial | decide) ?_ | with_reducible refine sx_f (by first | with_reducible assumption | decide) ?_ | with_reducible refine sy_t (by first | with_reducible assumption | exact trivial | decide) ?_ | with_reducible refine sy_f (by first | with_reducible assumption | decide) ?_ | fail))
    exact lk_ra trivial
  · (repeat' (first | with_reducible refine sx_i (by first | with_reducible assumption | decide) ?_ | with_reducible refine sy_i (by first | with_reducible assumption | decide) ?_ | with_reducible refine sx_n ?_ | with_reducible refine sy_n ?_ | with_reducible refine sx_t (by first | with_reducible assumption | exact trivial | decide) ?_ | with_reducible refine sx_f (by first | with_reducible assumption | decide) ?_ | with_reducible refine sy_t (by first | with_reducible assumption | exact trivial | decide) ?_ | with_reducible refine sy_f (by first | with_reducible assumption | decide) ?_ | fail))
    exact lk_ra trivial
  · (repeat' (first | with_reducible refine sx_i (by first | with_reducible assumption | decide) ?_ | with_reducible refine sy_i (by first | with_reducible assumption | decide) ?_ | with_reducible refine sx_n ?_ | with_reducible refine sy_n ?_ | with_reducible refine sx_t (by first | with_reducible assumption | exact trivial | decide) ?_ | with_reducible refine sx_f (by first | with_reducible assumption | decide) ?_ | with_reducible refine sy_t (by first | with_reducible assumption | exact trivial | decide) ?_ | with_reducible refine sy_f (by first | with_reducible assumption | decide) ?_ | fail))
    exact lk_ra trivial
theorem ge_log (v1 v2 v3 : Int32) : lk_ (ea_ tr_) (fun q => wpX_log q (xs_ φ ι ω κ p ls P C) v1 v2 v3) (fun q => wpY_log q (ys_ φ ι ω κ p ls Q C ch) v1 v2 v3) := by
  unfold wpX_log wpY_log
  dsimp only
  refine wi_lk v1 0 3 (by decide) (by decide) (lk_ra trivial) (fun b _ b3 e1 => ?_)
  refine wi_lk v2 1 8 (by decide) (by decide) (lk_ra trivial) (fun n n1 n8 e2 => ?_)
  refine wi_lk v3 1 5 (by decide) (by decide) (lk_ra trivial) (fun f f1 f5 e3 => ?_)
  subst e1 e2 e3
  have hin : vp_in (nI (b * 9 + n)) 36 := vp_in_nI (by omega) (by omega)
  have hc : (nI (b * 9 + n)).toNatClampNeg = b * 9 + n := nI_clamp (by omega)
  refine sx_c (fun c => sy_t c (lk_ra trivial)) (fun c => sy_f c ?_)
  dsimp only [wpX_logCell]
  rw [ix_9]
  refine sy_n ?_
  obtain rfl | rfl | rfl | rfl | rfl : f = 1 ∨ f = 2 ∨ f = 3 ∨ f = 4 ∨ f = 5 := by omega
  · (repeat' (first | with_reducible refine sx_i (by first | with_reducible assumption | decide) ?_ | with_reducible refine sy_i (by first | with_reducible assumption | decide) ?_ | with_reducible refine sx_n ?_ | with_reducible refine sy_n ?_ | with_reducible refine sx_t (by first | with_reducible assumption | exact trivial | decide) ?_ | with_reducible refine sx_f (by first | with_reducible assumption | decide) ?_ | with_reducible refine sy_t (by first | with_reducible assumption | exact trivial | decide) ?_ | with_reducible refine sy_f (by first | with_reducible assumption | decide) ?_ | fail))
    exact lk_ra trivial
  · (repeat' (first | with_reducible refine sx_i (by first | with_reducible assumption | decide) ?_ | with_reducible refine sy_i (by first | with_reducible assumption | decide) ?_ | with_reducible refine sx_n ?_ | with_reducible refine sy_n ?_ | with_reducible refine sx_t (by first | with_reducible assumption | exact trivial | decide) ?_ | with_reducible refine sx_f (by first | with_reducible assumption | decide) ?_ | with_reducible refine sy_t (by first | with_reducible assumption | exact trivial | decide) ?_ | with_reducible refine sy_f (by first | with_reducible assumption | decide) ?_ | fail))
    exact lk_ra trivial
  · (repeat' (first | with_reducible refine sx_i (by first | with_reducible assumption | decide) ?_ | with_reducible refine sy_i (by first | with_reducible assumption | decide) ?_ | with_reducible refine sx_n ?_ | with_reducible refine sy_n ?_ | with_reducible refine sx_t (by first | with_reducible assumption | exact trivial | decide) ?_ | with_reducible refine sx_f (by first | with_reducible assumption | decide) ?_ | with_reducible refine sy_t (by first | with_reducible assumption | exact trivial | decide) ?_ | with_reducible refine sy_f (by first | with_reducible assumption | decide) ?_ | fail))
    exact lk_ra trivial
  · (repeat' (first | with_reducible refine sx_i (by first | with_reducible assumption | decide) ?_ | with_reducible refine sy_i (by first | with_reducible assumption | decide) ?_ | with_reducible refine sx_n ?_ | with_reducible refine sy_n ?_ | with_reducible refine sx_t (by first | with_reducible assumption | exact trivial | decide) ?_ | with_reducible refine sx_f (by first | with_reducible assumption | decide) ?_ | with_reducible refine sy_t (by first | with_reducible assumption | exact trivial | decide) ?_ | with_reducible refine sy_f (by first | with_reducible assumption | decide) ?_ | fail))
    exact lk_ra trivial
  · (repeat' (first | with_reducible refine sx_i (by first | with_reducible assumption | decide) ?_ | with_reducible refine sy_i (by first | with_reducible assumption | decide) ?_ | with_reducible refine sx_n ?_ | with_reducible refine sy_n ?_ | with_reducible refine sx_t (by first | with_reducible assumption | exact trivial | decide) ?_ | with_reducible refine sx_f (by first | with_reducible assumption | decide) ?_ | with_reducible refine sy_t (by first | with_reducible assumption | exact trivial | decide) ?_ | with_reducible refine sy_f (by first | with_reducible assumption | decide) ?_ | fail))
    exact lk_ra trivial
theorem ge_vote (v1 v2 v3 v4 : Int32) : lk_ (ea_ tr_) (fun q => wpX_vote q (xs_ φ ι ω κ p ls P C) v1 v2 v3 v4) (fun q => wpY_vote q (ys_ φ ι ω κ p ls Q C ch) v1 v2 v3 v4) := by
  unfold wpX_vote wpY_vote wY_vote_55
  dsimp only
  refine wi_lk v1 0 3 (by decide) (by decide) (lk_ra trivial) (fun b _ b3 e1 => ?_)
  refine wi_lk v3 0 3 (by decide) (by decide) (lk_ra trivial) (fun j _ j3 e3 => ?_)
  refine wi_lk v2 1 8 (by decide) (by decide) (lk_ra trivial) (fun n n1 n8 e2 => ?_)
  subst e1 e2 e3
  have hin : vp_in (nI ((b * 9 + n) * 4 + j)) 144 := vp_in_nI (by omega) (by omega)
  have hc : (nI ((b * 9 + n) * 4 + j)).toNatClampNeg = (b * 9 + n) * 4 + j := nI_clamp (by omega)
  dsimp only [wpX_voteCell]
  rw [ix_v]
  rcases wi_c v4 (lo := 2) (hi := 4) (by decide) (by decide) with ⟨f, f1, f4, rfl⟩ | h
  · have wb := wi_n (c := f) (lo := 2) (hi := 4) f1 f4 (by decide)
    refine lk_mx (fun q z => wi_x1 wb.1 wb.2 (br_f (by decide) z)) ?_
    obtain rfl | rfl | rfl : f = 2 ∨ f = 3 ∨ f = 4 := by omega
    · refine sy_t rfl (sx_c (fun c => sy_t c (lk_ra trivial)) (fun c => sy_f c ?_))
      (repeat' (first | with_reducible refine sx_i (by first | with_reducible assumption | decide) ?_ | with_reducible refine sy_i (by first | with_reducible assumption | decide) ?_ | with_reducible refine sx_n ?_ | with_reducible refine sy_n ?_ | with_reducible refine sx_t (by first | with_reducible assumption | exact trivial | decide) ?_ | with_reducible refine sx_f (by first | with_reducible assumption | decide) ?_ | with_reducible refine sy_t (by first | with_reducible assumption | exact trivial | decide) ?_ | with_reducible refine sy_f (by first | with_reducible assumption | decide) ?_ | fail))
      exact lk_ra trivial
    · refine sy_f (by decide) (sy_t rfl (sx_c (fun c => sy_t c (lk_ra trivial)) (fun c => sy_f c ?_)))
      (repeat' (first | with_reducible refine sx_i (by first | with_reducible assumption | decide) ?_ | with_reducible refine sy_i (by first | with_reducible assumption | decide) ?_ | with_reducible refine sx_n ?_ | with_reducible refine sy_n ?_ | with_reducible refine sx_t (by first | with_reducible assumption | exact trivial | decide) ?_ | with_reducible refine sx_f (by first | with_reducible assumption | decide) ?_ | with_reducible refine sy_t (by first | with_reducible assumption | exact trivial | decide) ?_ | with_reducible refine sy_f (by first | with_reducible assumption | decide) ?_ | fail))
      exact lk_ra trivial
    · refine sy_f (by decide) (sy_f (by decide) (sy_t rfl (sx_c (fun c => sy_t c (lk_ra trivial)) (fun c => sy_f c ?_))))
      (repeat' (first | with_reducible refine sx_i (by first | with_reducible assumption | decide) ?_ | with_reducible refine sy_i (by first | with_reducible assumption | decide) ?_ | with_reducible refine sx_n ?_ | with_reducible refine sy_n ?_ | with_reducible refine sx_t (by first | with_reducible assumption | exact trivial | decide) ?_ | with_reducible refine sx_f (by first | with_reducible assumption | decide) ?_ | with_reducible refine sy_t (by first | with_reducible assumption | exact trivial | decide) ?_ | with_reducible refine sy_f (by first | with_reducible assumption | decide) ?_ | fail))
      exact lk_ra trivial
  · have e2 : ¬ v4 = 2 := wi_ne (by decide) h 2 (by decide) (by decide)
    have e3 : ¬ v4 = 3 := wi_ne (by decide) h 3 (by decide) (by decide)
    have e4 : ¬ v4 = 4 := wi_ne (by decide) h 4 (by decide) (by decide)
    refine lk_mx (fun q z => wi_x0 h (br_t rfl z)) (sy_f e2 (sy_f e3 (sy_f e4 ?_)))
    exact lk_ra trivial
theorem ge_signedValue (v1 v2 v3 : Int32) : lk_ (ea_ tr_) (fun q => wpX_signedValue q (xs_ φ ι ω κ p ls P C) v1 v2 v3) (fun q => wpY_signedValue q (ys_ φ ι ω κ p ls Q C ch) v1 v2 v3) := by
  unfold wpX_signedValue wpY_signedValue
  dsimp only
  refine wi_lk v1 0 3 (by decide) (by decide) (lk_ra trivial) (fun b _ b3 e1 => ?_)
  refine wi_lk v2 0 7 (by decide) (by decide) (lk_ra trivial) (fun v _ v7 e2 => ?_)
  refine wi_lk v3 1 8 (by decide) (by decide) (lk_ra trivial) (fun n n1 n8 e3 => ?_)
  subst e1 e2 e3
  have hin : vp_in (nI ((b * 8 + v) * 9 + n)) 288 := vp_in_nI (by omega) (by omega)
  dsimp only [wpX_signCell]
  rw [ix_s]
  refine sx_c (fun c => sy_t c (lk_ra trivial)) (fun c => sy_f c ?_)
  (repeat' (first | with_reducible refine sx_i (by first | with_reducible assumption | decide) ?_ | with_reducible refine sy_i (by first | with_reducible assumption | decide) ?_ | with_reducible refine sx_n ?_ | with_reducible refine sy_n ?_ | with_reducible refine sx_t (by first | with_reducible assumption | exact trivial | decide) ?_ | with_reducible refine sx_f (by first | with_reducible assumption | decide) ?_ | with_reducible refine sy_t (by first | with_reducible assumption | exact trivial | decide) ?_ | with_reducible refine sy_f (by first | with_reducible assumption | decide) ?_ | fail))
  exact lk_ra trivial
theorem ge_signedCheckpoint (v1 v2 : Int32) : lk_ (ea_ tr_) (fun q => wpX_signedCheckpoint q (xs_ φ ι ω κ p ls P C) v1 v2) (fun q => wpY_signedCheckpoint q (ys_ φ ι ω κ p ls Q C ch) v1 v2) := by
  unfold wpX_signedCheckpoint wpY_signedCheckpoint
  dsimp only
  refine wi_lk v1 0 3 (by decide) (by decide) (lk_ra trivial) (fun b _ b3 e1 => ?_)
  refine wi_lk v2 1 8 (by decide) (by decide) (lk_ra trivial) (fun n n1 n8 e3 => ?_)
  subst e1 e3
  have hin : vp_in (nI (b * 9 + n)) 36 := vp_in_nI (by omega) (by omega)
  dsimp only [wpX_logCell]
  rw [ix_9]
  refine sx_c (fun c => sy_t c (lk_ra trivial)) (fun c => sy_f c ?_)
  (repeat' (first | with_reducible refine sx_i (by first | with_reducible assumption | decide) ?_ | with_reducible refine sy_i (by first | with_reducible assumption | decide) ?_ | with_reducible refine sx_n ?_ | with_reducible refine sy_n ?_ | with_reducible refine sx_t (by first | with_reducible assumption | exact trivial | decide) ?_ | with_reducible refine sx_f (by first | with_reducible assumption | decide) ?_ | with_reducible refine sy_t (by first | with_reducible assumption | exact trivial | decide) ?_ | with_reducible refine sy_f (by first | with_reducible assumption | decide) ?_ | fail))
  exact lk_ra trivial
theorem ge_heldDocument (v1 v2 : Int32) : lk_ (ea_ tr_) (fun q => wpX_heldDocument q (xs_ φ ι ω κ p ls P C) v1 v2) (fun q => wpY_heldDocument q (ys_ φ ι ω κ p ls Q C ch) v1 v2) := by
  unfold wpX_heldDocument wpY_heldDocument
  dsimp only
  refine wi_lk v1 0 3 (by decide) (by decide) (lk_ra trivial) (fun b _ b3 e1 => ?_)
  refine wi_lk v2 0 3 (by decide) (by decide) (lk_ra trivial) (fun n _ n8 e3 => ?_)
  subst e1 e3
  have hin : vp_in (nI (b * 4 + n)) 16 := vp_in_nI (by omega) (by omega)
  rw [ix_4]
  refine sx_c (fun c => sy_t c (lk_ra trivial)) (fun c => sy_f c ?_)
  (repeat' (first | with_reducible refine sx_i (by first | with_reducible assumption | decide) ?_ | with_reducible refine sy_i (by first | with_reducible assumption | decide) ?_ | with_reducible refine sx_n ?_ | with_reducible refine sy_n ?_ | with_reducible refine sx_t (by first | with_reducible assumption | exact trivial | decide) ?_ | with_reducible refine sx_f (by first | with_reducible assumption | decide) ?_ | with_reducible refine sy_t (by first | with_reducible assumption | exact trivial | decide) ?_ | with_reducible refine sy_f (by first | with_reducible assumption | decide) ?_ | fail))
  exact lk_ra trivial
theorem ge_document (v1 v2 v3 : Int32) (gc : gc_ φ C) : lk_ (ea_ tr_) (fun q => wpX_document q (xs_ φ ι ω κ p ls P C) v1 v2 v3) (fun q => wpY_document q (ys_ φ ι ω κ p ls Q C ch) v1 v2 v3) := by
  unfold wpX_document wpY_document
  dsimp only
  refine wi_lk v1 0 3 (by decide) (by decide) (lk_ra trivial) (fun b _ b3 e1 => ?_)
  refine wi_lk v2 0 7 (by decide) (by decide) (lk_ra trivial) (fun k _ k7 e2 => ?_)
  subst e1 e2
  have hin : vp_in (nI (b * 8 + k)) 32 := vp_in_nI (by omega) (by omega)
  have hc : (nI (b * 8 + k)).toNatClampNeg = b * 8 + k := nI_clamp (by omega)
  simp only [forall_eq, ix_8, hc]
  rcases wi_c v3 (lo := 1) (hi := 4) (by decide) (by decide) with ⟨f, f1, f4, rfl⟩ | h
  · have wb := wi_n (c := f) (lo := 1) (hi := 4) f1 f4 (by decide)
    refine lk_my (fun q z => wi_y1 wb.1 wb.2 (br_f (by decide) z)) ?_
    by_cases c0 : C 18 (b * 8 + k) = 0
    · rcases gc.2.2.2.2.2.2.2.1 (b * 8 + k) (by omega) with ⟨_, z2, z3, z4, _⟩ | ⟨z, _⟩
      · obtain rfl | rfl | rfl | rfl : f = 1 ∨ f = 2 ∨ f = 3 ∨ f = 4 := by omega
        · (repeat' (first | with_reducible refine sx_i (by first | with_reducible assumption | decide) ?_ | with_reducible refine sy_i (by first | with_reducible assumption | decide) ?_ | with_reducible refine sx_n ?_ | with_reducible refine sy_n ?_ | with_reducible refine sx_t (by first | with_reducible assumption | exact trivial | decide) ?_ | with_reducible refine sx_f (by first | with_reducible assumption | decide) ?_ | with_reducible refine sy_t (by first | with_reducible assumption | exact trivial | decide) ?_ | with_reducible refine sy_f (by first | with_reducible assumption | decide) ?_ | fail))
          exact lk_ra trivial
        · (repeat' (first | with_reducible refine sx_i (by first | with_reducible assumption | decide) ?_ | with_reducible refine sy_i (by first | with_reducible assumption | decide) ?_ | with_reducible refine sx_n ?_ | with_reducible refine sy_n ?_ | with_reducible refine sx_t (by first | with_reducible assumption | exact trivial | decide) ?_ | with_reducible refine sx_f (by first | with_reducible assumption | decide) ?_ | with_reducible refine sy_t (by first | with_reducible assumption | exact trivial | decide) ?_ | with_reducible refine sy_f (by first | with_reducible assumption | decide) ?_ | fail))
          rw [z2]
          exact lk_ra trivial
        · (repeat' (first | with_reducible refine sx_i (by first | with_reducible assumption | decide) ?_ | with_reducible refine sy_i (by first | with_reducible assumption | decide) ?_ | with_reducible refine sx_n ?_ | with_reducible refine sy_n ?_ | with_reducible refine sx_t (by first | with_reducible assumption | exact trivial | decide) ?_ | with_reducible refine sx_f (by first | with_reducible assumption | decide) ?_ | with_reducible refine sy_t (by first | with_reducible assumption | exact trivial | decide) ?_ | with_reducible refine sy_f (by first | with_reducible assumption | decide) ?_ | fail))
          rw [z3]
          exact lk_ra trivial
        · (repeat' (first | with_reducible refine sx_i (by first | with_reducible assumption | decide) ?_ | with_reducible refine sy_i (by first | with_reducible assumption | decide) ?_ | with_reducible refine sx_n ?_ | with_reducible refine sy_n ?_ | with_reducible refine sx_t (by first | with_reducible assumption | exact trivial | decide) ?_ | with_reducible refine sx_f (by first | with_reducible assumption | decide) ?_ | with_reducible refine sy_t (by first | with_reducible assumption | exact trivial | decide) ?_ | with_reducible refine sy_f (by first | with_reducible assumption | decide) ?_ | fail))
          rw [z4]
          exact lk_ra trivial
      · exact absurd c0 z
    · obtain rfl | rfl | rfl | rfl : f = 1 ∨ f = 2 ∨ f = 3 ∨ f = 4 := by omega
      · (repeat' (first | with_reducible refine sx_i (by first | with_reducible assumption | decide) ?_ | with_reducible refine sy_i (by first | with_reducible assumption | decide) ?_ | with_reducible refine sx_n ?_ | with_reducible refine sy_n ?_ | with_reducible refine sx_t (by first | with_reducible assumption | exact trivial | decide) ?_ | with_reducible refine sx_f (by first | with_reducible assumption | decide) ?_ | with_reducible refine sy_t (by first | with_reducible assumption | exact trivial | decide) ?_ | with_reducible refine sy_f (by first | with_reducible assumption | decide) ?_ | fail))
        exact lk_ra trivial
      · (repeat' (first | with_reducible refine sx_i (by first | with_reducible assumption | decide) ?_ | with_reducible refine sy_i (by first | with_reducible assumption | decide) ?_ | with_reducible refine sx_n ?_ | with_reducible refine sy_n ?_ | with_reducible refine sx_t (by first | with_reducible assumption | exact trivial | decide) ?_ | with_reducible refine sx_f (by first | with_reducible assumption | decide) ?_ | with_reducible refine sy_t (by first | with_reducible assumption | exact trivial | decide) ?_ | with_reducible refine sy_f (by first | with_reducible assumption | decide) ?_ | fail))
        exact lk_ra trivial
      · (repeat' (first | with_reducible refine sx_i (by first | with_reducible assumption | decide) ?_ | with_reducible refine sy_i (by first | with_reducible assumption | decide) ?_ | with_reducible refine sx_n ?_ | with_reducible refine sy_n ?_ | with_reducible refine sx_t (by first | with_reducible assumption | exact trivial | decide) ?_ | with_reducible refine sx_f (by first | with_reducible assumption | decide) ?_ | with_reducible refine sy_t (by first | with_reducible assumption | exact trivial | decide) ?_ | with_reducible refine sy_f (by first | with_reducible assumption | decide) ?_ | fail))
        exact lk_ra trivial
      · (repeat' (first | with_reducible refine sx_i (by first | with_reducible assumption | decide) ?_ | with_reducible refine sy_i (by first | with_reducible assumption | decide) ?_ | with_reducible refine sx_n ?_ | with_reducible refine sy_n ?_ | with_reducible refine sx_t (by first | with_reducible assumption | exact trivial | decide) ?_ | with_reducible refine sx_f (by first | with_reducible assumption | decide) ?_ | with_reducible refine sy_t (by first | with_reducible assumption | exact trivial | decide) ?_ | with_reducible refine sy_f (by first | with_reducible assumption | decide) ?_ | fail))
        exact lk_ra trivial
  · refine lk_my (fun q z => wi_y0 h (br_t rfl z)) ?_
    rcases h with h | h
    · exact sx_t h (lk_ra trivial)
    · by_cases h' : v3 < 1
      · exact sx_t h' (lk_ra trivial)
      · exact sx_f h' (sx_t h (lk_ra trivial))
theorem ge_documentEntry (v1 v2 v3 : Int32) (gc : gc_ φ C) : lk_ (ea_ tr_) (fun q => wpX_documentEntry q (xs_ φ ι ω κ p ls P C) v1 v2 v3) (fun q => wpY_documentEntry q (ys_ φ ι ω κ p ls Q C ch) v1 v2 v3) := by
  unfold wpX_documentEntry wpY_documentEntry
  dsimp only
  refine wi_lk v1 0 3 (by decide) (by decide) (lk_ra trivial) (fun b _ b3 e1 => ?_)
  refine wi_lk v2 0 7 (by decide) (by decide) (lk_ra trivial) (fun k _ k7 e2 => ?_)
  refine wi_lk v3 1 8 (by decide) (by decide) (lk_ra trivial) (fun n n1 n8 e3 => ?_)
  subst e1 e2 e3
  have hin : vp_in (nI (b * 8 + k)) 32 := vp_in_nI (by omega) (by omega)
  have hc : (nI (b * 8 + k)).toNatClampNeg = b * 8 + k := nI_clamp (by omega)
  have hin2 : vp_in (nI ((b * 8 + k) * 9 + n)) 288 := vp_in_nI (by omega) (by omega)
  have hc2 : (nI ((b * 8 + k) * 9 + n)).toNatClampNeg = (b * 8 + k) * 9 + n := nI_clamp (by omega)
  simp only [forall_eq, ix_8, ix_9, hc, hc2]
  by_cases c0 : C 18 (b * 8 + k) = 0
  · rcases gc.2.2.2.2.2.2.2.1 (b * 8 + k) (by omega) with ⟨_, _, _, _, z5⟩ | ⟨z, _⟩
    · have z := z5 n n1 n8
      (repeat' (first | with_reducible refine sx_i (by first | with_reducible assumption | decide) ?_ | with_reducible refine sy_i (by first | with_reducible assumption | decide) ?_ | with_reducible refine sx_n ?_ | with_reducible refine sy_n ?_ | with_reducible refine sx_t (by first | with_reducible assumption | exact trivial) ?_ | with_reducible refine sx_f (by with_reducible assumption) ?_ | with_reducible refine sy_t (by first | with_reducible assumption | exact trivial) ?_ | with_reducible refine sy_f (by with_reducible assumption) ?_ | fail))
      exact lk_ra trivial
    · exact absurd c0 z
  · by_cases c1 : C 22 ((b * 8 + k) * 9 + n) = -1
    · (repeat' (first | with_reducible refine sx_i (by first | with_reducible assumption | decide) ?_ | with_reducible refine sy_i (by first | with_reducible assumption | decide) ?_ | with_reducible refine sx_n ?_ | with_reducible refine sy_n ?_ | with_reducible refine sx_t (by first | with_reducible assumption | exact trivial) ?_ | with_reducible refine sx_f (by with_reducible assumption) ?_ | with_reducible refine sy_t (by first | with_reducible assumption | exact trivial) ?_ | with_reducible refine sy_f (by with_reducible assumption) ?_ | fail))
      exact lk_ra trivial
    · (repeat' (first | with_reducible refine sx_i (by first | with_reducible assumption | decide) ?_ | with_reducible refine sy_i (by first | with_reducible assumption | decide) ?_ | with_reducible refine sx_n ?_ | with_reducible refine sy_n ?_ | with_reducible refine sx_t (by first | with_reducible assumption | exact trivial) ?_ | with_reducible refine sx_f (by with_reducible assumption) ?_ | with_reducible refine sy_t (by first | with_reducible assumption | exact trivial) ?_ | with_reducible refine sy_f (by with_reducible assumption) ?_ | fail))
      exact lk_ra trivial
theorem nb_o {r : Int32} (h : o1_ r) : narrow .boolean (.int r) = .int r := by
  rcases h with h | h
  · subst h; rfl
  · subst h; rfl
theorem ge_documentValid (hK : kk_ φ ι ω κ) (v1 v2 : Int32) (gc : gc_ φ C) : lk_ (ea_ tr_) (fun q => wpX_documentValid q (xs_ φ ι ω κ p ls P C) v1 v2) (fun q => wpY_documentValid q (ys_ φ ι ω κ p ls Q C ch) v1 v2) := by
  rcases wi_c v1 (lo := 0) (hi := 3) (by decide) (by decide) with ⟨b, b0, b3, rfl⟩ | h
  · have wb := wi_n (c := b) (lo := 0) (hi := 3) b0 b3 (by decide)
    rcases wi_c v2 (lo := 0) (hi := 7) (by decide) (by decide) with ⟨k, k0, k7, rfl⟩ | h
    · have wk := wi_n (c := k) (lo := 0) (hi := 7) k0 k7 (by decide)
      obtain ⟨eX, eY, ⟨r, hr, rfl, rfl⟩, h1, h2⟩ := vd_lk (ch := ch) (ls := ls) (p := p) (P := P) (Q := Q) (j := b) (k := k) hK (by omega) (by omega) gc
      refine lk_i (E := ea_ tr_) ⟨r, trivial, rfl, rfl⟩ (fun q z => ?_) (fun q z => h2 q z)
      unfold wpX_documentValid
      dsimp only
      refine wi_x1 wb.1 wb.2 (br_f (by decide) (wi_x1 wk.1 wk.2 (br_f (by decide) ?_)))
      rw [ix_8]
      exact h1 _ ⟨nb_o hr, z⟩
    · unfold wpX_documentValid wpY_documentValid
      dsimp only
      refine lk_mono (fun q z => wi_x1 wb.1 wb.2 (br_f (by decide) (wi_x0 h (br_t rfl z)))) (fun q z => wi_y1 wb.1 wb.2 (br_f (by decide) (wi_y0 h (br_t rfl z)))) ?_
      exact lk_ra trivial
  · unfold wpX_documentValid wpY_documentValid
    dsimp only
    refine lk_mono (fun q z => wi_x0 h (br_t rfl z)) (fun q z => wi_y0 h (br_t rfl z)) ?_
    exact lk_ra trivial
theorem ge_certified (hK : kk_ φ ι ω κ) (v1 v2 v3 : Int32) : lk_ (ea_ tr_) (fun q => wpX_certified q (xs_ φ ι ω κ p ls P C) v1 v2 v3) (fun q => wpY_certified q (ys_ φ ι ω κ p ls Q C ch) v1 v2 v3) := by
  have hf := hK.1
  unfold wpX_certified wpY_certified
  dsimp only
  refine wi_lk v1 0 7 (by decide) (by decide) (lk_ra trivial) (fun v _ v7 e1 => ?_)
  refine wi_lk v2 1 8 (by decide) (by decide) (lk_ra trivial) (fun n n1 n8 e2 => ?_)
  refine wi_lk v3 0 9 (by decide) (by decide) (lk_ra trivial) (fun d _ d9 e3 => ?_)
  subst e1 e2 e3
  by_cases c4 : cp_ (g17_ C v n) (nI d) (nI φ) 4 < 2
  · refine lk_mono (fun q y => ce_x (P := P) (C := C) hf (by omega) n8 (fun _ => ⟨nb_o (Or.inl rfl), y⟩) (fun y' => absurd y' (by omega))) (fun q y => Exists.intro 5 (ce_yl (Q := Q) (C := C) (ch := ch) hf (by omega) n8 (fun _ => y) (fun y' => absurd y' (by omega)) 4 0 rfl)) ?_
    exact lk_ra trivial
  · refine lk_mono (fun q y => ce_x (P := P) (C := C) hf (by omega) n8 (fun y' => absurd y' c4) (fun _ => ⟨nb_o (Or.inr rfl), y⟩)) (fun q y => Exists.intro 5 (ce_yl (Q := Q) (C := C) (ch := ch) hf (by omega) n8 (fun y' => absurd y' c4) (fun _ => y) 4 0 rfl)) ?_
    exact lk_ra trivial
end
end
section
/-! the constructors -/
def fi_ (n : Nat) (v : Int32) (a : Nat → Int32) : Nat → Int32 := fun c => if c < n then v else a c
theorem fi_0 (v : Int32) (a : Nat → Int32) : fi_ 0 v a = a := by
  funext c
  exact if_neg (by omega)
theorem fi_s (j : Nat) (v : Int32) (a : Nat → Int32) : upd (fi_ j v a) j v = fi_ (j + 1) v a := by
  funext c
  unfold fi_
  by_cases e : c = j
  · rw [e, pk_us, if_pos (by omega)]
  · rw [pk_un e]
    by_cases h : c < j
    · rw [if_pos h, if_pos (by omega)]
    · rw [if_neg h, if_neg (by omega)]
theorem fi_in {n c : Nat} {v : Int32} {a : Nat → Int32} (h : c < n) : fi_ n v a c = v := if_pos h
def ya_ (C : Nat → Nat → Int32) (j : Nat) : Nat → Nat → Int32 := cs_ C 1 (fi_ j (vp_nar .boolean 1) (C 1))
theorem ya_0 (C : Nat → Nat → Int32) : ya_ C 0 = C := by
  funext k
  unfold ya_
  simp only [fi_0]
  simp only [cs_]
  by_cases h1 : k = 1
  · subst h1; simp
  simp [h1]
def yb_ (C : Nat → Nat → Int32) (j : Nat) : Nat → Nat → Int32 := cs_ (cs_ (cs_ (cs_ (cs_ (cs_ C 7 (fi_ j (-1) (C 7))) 8 (fi_ j (-1) (C 8))) 9 (fi_ j (-1) (C 9))) 10 (fi_ j (-1) (C 10))) 11 (fi_ j (-1) (C 11))) 12 (fi_ j (-1) (C 12))
theorem yb_0 (C : Nat → Nat → Int32) : yb_ C 0 = C := by
  funext k
  unfold yb_
  simp only [fi_0]
  simp only [cs_]
  by_cases h12 : k = 12
  · subst h12; simp
  by_cases h11 : k = 11
  · subst h11; simp
  by_cases h10 : k = 10
  · subst h10; simp
  by_cases h9 : k = 9
  · subst h9; simp
  by_cases h8 : k = 8
  · subst h8; simp
  by_cases h7 : k = 7
  · subst h7; simp
  simp [h7, h8, h9, h10, h11, h12]
def yc_ (C : Nat → Nat → Int32) (j : Nat) : Nat → Nat → Int32 := cs_ (cs_ (cs_ C 13 (fi_ j (-1) (C 13))) 14 (fi_ j (-1) (C 14))) 15 (fi_ j (-1) (C 15))
theorem yc_0 (C : Nat → Nat → Int32) : yc_ C 0 = C := by
  funext k
  unfold yc_
  simp only [fi_0]
  simp only [cs_]
  by_cases h15 : k = 15
  · subst h15; simp
  by_cases h14 : k = 14
  · subst h14; simp
  by_cases h13 : k = 13
  · subst h13; simp
  simp [h13, h14, h15]
def yd_ (C : Nat → Nat → Int32) (j : Nat) : Nat → Nat → Int32 := cs_ C 16 (fi_ j (-1) (C 16))
theorem yd_0 (C : Nat → Nat → Int32) : yd_ C 0 = C := by
  funext k
  unfold yd_
  simp only [fi_0]
  simp only [cs_]
  by_cases h16 : k = 16
  · subst h16; simp
  simp [h16]
def ye_ (C : Nat → Nat → Int32) (j : Nat) : Nat → Nat → Int32 := cs_ (cs_ (cs_ C 17 (fi_ j (-1) (C 17))) 22 (fi_ j (-1) (C 22))) 23 (fi_ j (-1) (C 23))
theorem ye_0 (C : Nat → Nat → Int32) : ye_ C 0 = C := by
  funext k
  unfold ye_
  simp only [fi_0]
  simp only [cs_]
  by_cases h23 : k = 23
  · subst h23; simp
  by_cases h22 : k = 22
  · subst h22; simp
  by_cases h17 : k = 17
  · subst h17; simp
  simp [h17, h22, h23]
def yf_ (C : Nat → Nat → Int32) (j : Nat) : Nat → Nat → Int32 := cs_ (cs_ (cs_ (cs_ C 18 (fi_ j 0 (C 18))) 19 (fi_ j (-1) (C 19))) 20 (fi_ j (-1) (C 20))) 21 (fi_ j (-1) (C 21))
theorem yf_0 (C : Nat → Nat → Int32) : yf_ C 0 = C := by
  funext k
  unfold yf_
  simp only [fi_0]
  simp only [cs_]
  by_cases h21 : k = 21
  · subst h21; simp
  by_cases h20 : k = 20
  · subst h20; simp
  by_cases h19 : k = 19
  · subst h19; simp
  by_cases h18 : k = 18
  · subst h18; simp
  simp [h18, h19, h20, h21]
section
variable {φ ι ω κ p : Nat} {ls : Int32} {P Q C : Nat → Nat → Int32} {ch : Nat → Int32}
theorem ya_xl {post : SX → Prop} (k : ∃ n, wX_init_325 post (nI φ) (nI ι) (nI ω) (nI κ) (nI p) ls n 0 (P 0) (P 1) (P 2) (P 3) (P 4) (P 5) ((ya_ C 4) 0) ((ya_ C 4) 1) ((ya_ C 4) 2) ((ya_ C 4) 3) ((ya_ C 4) 4) ((ya_ C 4) 5) ((ya_ C 4) 6) ((ya_ C 4) 7) ((ya_ C 4) 8) ((ya_ C 4) 9) ((ya_ C 4) 10) ((ya_ C 4) 11) ((ya_ C 4) 12) ((ya_ C 4) 13) ((ya_ C 4) 14) ((ya_ C 4) 15) ((ya_ C 4) 16) ((ya_ C 4) 17) ((ya_ C 4) 18) ((ya_ C 4) 19) ((ya_ C 4) 20) ((ya_ C 4) 21) ((ya_ C 4) 22) ((ya_ C 4) 23)) : ∀ d j, j + d = 4 → wX_init_302 post (nI φ) (nI ι) (nI ω) (nI κ) (nI p) ls (d + 1) (nI j) (P 0) (P 1) (P 2) (P 3) (P 4) (P 5) ((ya_ C j) 0) ((ya_ C j) 1) ((ya_ C j) 2) ((ya_ C j) 3) ((ya_ C j) 4) ((ya_ C j) 5) ((ya_ C j) 6) ((ya_ C j) 7) ((ya_ C j) 8) ((ya_ C j) 9) ((ya_ C j) 10) ((ya_ C j) 11) ((ya_ C j) 12) ((ya_ C j) 13) ((ya_ C j) 14) ((ya_ C j) 15) ((ya_ C j) 16) ((ya_ C j) 17) ((ya_ C j) 18) ((ya_ C j) 19) ((ya_ C j) 20) ((ya_ C j) 21) ((ya_ C j) 22) ((ya_ C j) 23) := by
  intro d
  induction d with
  | zero =>
    intro j hj
    obtain rfl : j = 4 := by omega
    exact br_t (nI_le (a := 4) (b := 4) (by decide) (by decide)) k
  | succ d ih =>
    intro j hj
    have hn : ¬ (4 : Int32) ≤ nI j := nI_ge (b := 4) (by omega) (by decide)
    have hin : vp_in (nI j) 4 := vp_in_nI (by omega) (by decide)
    have hc : (nI j).toNatClampNeg = j := nI_clamp (by omega)
    have e : ∀ (v : Int32) (a : Nat → Int32), upd (fi_ j v a) (nI j).toNatClampNeg v = fi_ (j + 1) v a := fun v a => by rw [hc]; exact fi_s j v a
    exact br_f hn ⟨hin, nm_r (e (vp_nar .boolean 1) (C 1)) (nm_r (nI_1 j) (ih (j + 1) (by omega)))⟩
theorem ya_x {post : SX → Prop} (k : ∃ n, wX_init_325 post (nI φ) (nI ι) (nI ω) (nI κ) (nI p) ls n 0 (P 0) (P 1) (P 2) (P 3) (P 4) (P 5) ((ya_ C 4) 0) ((ya_ C 4) 1) ((ya_ C 4) 2) ((ya_ C 4) 3) ((ya_ C 4) 4) ((ya_ C 4) 5) ((ya_ C 4) 6) ((ya_ C 4) 7) ((ya_ C 4) 8) ((ya_ C 4) 9) ((ya_ C 4) 10) ((ya_ C 4) 11) ((ya_ C 4) 12) ((ya_ C 4) 13) ((ya_ C 4) 14) ((ya_ C 4) 15) ((ya_ C 4) 16) ((ya_ C 4) 17) ((ya_ C 4) 18) ((ya_ C 4) 19) ((ya_ C 4) 20) ((ya_ C 4) 21) ((ya_ C 4) 22) ((ya_ C 4) 23)) : ∃ n, wX_init_302 post (nI φ) (nI ι) (nI ω) (nI κ) (nI p) ls n 0 (P 0) (P 1) (P 2) (P 3) (P 4) (P 5) (C 0) (C 1) (C 2) (C 3) (C 4) (C 5) (C 6) (C 7) (C 8) (C 9) (C 10) (C 11) (C 12) (C 13) (C 14) (C 15) (C 16) (C 17) (C 18) (C 19) (C 20) (C 21) (C 22) (C 23) := by
  have h := ya_xl k 4 0 (by omega)
  rw [ya_0] at h
  exact ⟨5, h⟩
theorem yb_xl {post : SX → Prop} (k : ∃ n, wX_init_389 post (nI φ) (nI ι) (nI ω) (nI κ) (nI p) ls n 0 (P 0) (P 1) (P 2) (P 3) (P 4) (P 5) ((yb_ C 36) 0) ((yb_ C 36) 1) ((yb_ C 36) 2) ((yb_ C 36) 3) ((yb_ C 36) 4) ((yb_ C 36) 5) ((yb_ C 36) 6) ((yb_ C 36) 7) ((yb_ C 36) 8) ((yb_ C 36) 9) ((yb_ C 36) 10) ((yb_ C 36) 11) ((yb_ C 36) 12) ((yb_ C 36) 13) ((yb_ C 36) 14) ((yb_ C 36) 15) ((yb_ C 36) 16) ((yb_ C 36) 17) ((yb_ C 36) 18) ((yb_ C 36) 19) ((yb_ C 36) 20) ((yb_ C 36) 21) ((yb_ C 36) 22) ((yb_ C 36) 23)) : ∀ d j, j + d = 36 → wX_init_325 post (nI φ) (nI ι) (nI ω) (nI κ) (nI p) ls (d + 1) (nI j) (P 0) (P 1) (P 2) (P 3) (P 4) (P 5) ((yb_ C j) 0) ((yb_ C j) 1) ((yb_ C j) 2) ((yb_ C j) 3) ((yb_ C j) 4) ((yb_ C j) 5) ((yb_ C j) 6) ((yb_ C j) 7) ((yb_ C j) 8) ((yb_ C j) 9) ((yb_ C j) 10) ((yb_ C j) 11) ((yb_ C j) 12) ((yb_ C j) 13) ((yb_ C j) 14) ((yb_ C j) 15) ((yb_ C j) 16) ((yb_ C j) 17) ((yb_ C j) 18) ((yb_ C j) 19) ((yb_ C j) 20) ((yb_ C j) 21) ((yb_ C j) 22) ((yb_ C j) 23) := by
  intro d
  induction d with
  | zero =>
    intro j hj
    obtain rfl : j = 36 := by omega
    exact br_t (nI_le (a := 36) (b := 36) (by decide) (by decide)) k
  | succ d ih =>
    intro j hj
    have hn : ¬ (36 : Int32) ≤ nI j := nI_ge (b := 36) (by omega) (by decide)
    have hin : vp_in (nI j) 36 := vp_in_nI (by omega) (by decide)
    have hc : (nI j).toNatClampNeg = j := nI_clamp (by omega)
    have e : ∀ (v : Int32) (a : Nat → Int32), upd (fi_ j v a) (nI j).toNatClampNeg v = fi_ (j + 1) v a := fun v a => by rw [hc]; exact fi_s j v a
    exact br_f hn ⟨hin, nm_r (e (-1) (C 7)) ⟨hin, nm_r (e (-1) (C 8)) ⟨hin, nm_r (e (-1) (C 9)) ⟨hin, nm_r (e (-1) (C 10)) ⟨hin, nm_r (e (-1) (C 11)) ⟨hin, nm_r (e (-1) (C 12)) (nm_r (nI_1 j) (ih (j + 1) (by omega)))⟩⟩⟩⟩⟩⟩
theorem yb_x {post : SX → Prop} (k : ∃ n, wX_init_389 post (nI φ) (nI ι) (nI ω) (nI κ) (nI p) ls n 0 (P 0) (P 1) (P 2) (P 3) (P 4) (P 5) ((yb_ C 36) 0) ((yb_ C 36) 1) ((yb_ C 36) 2) ((yb_ C 36) 3) ((yb_ C 36) 4) ((yb_ C 36) 5) ((yb_ C 36) 6) ((yb_ C 36) 7) ((yb_ C 36) 8) ((yb_ C 36) 9) ((yb_ C 36) 10) ((yb_ C 36) 11) ((yb_ C 36) 12) ((yb_ C 36) 13) ((yb_ C 36) 14) ((yb_ C 36) 15) ((yb_ C 36) 16) ((yb_ C 36) 17) ((yb_ C 36) 18) ((yb_ C 36) 19) ((yb_ C 36) 20) ((yb_ C 36) 21) ((yb_ C 36) 22) ((yb_ C 36) 23)) : ∃ n, wX_init_325 post (nI φ) (nI ι) (nI ω) (nI κ) (nI p) ls n 0 (P 0) (P 1) (P 2) (P 3) (P 4) (P 5) (C 0) (C 1) (C 2) (C 3) (C 4) (C 5) (C 6) (C 7) (C 8) (C 9) (C 10) (C 11) (C 12) (C 13) (C 14) (C 15) (C 16) (C 17) (C 18) (C 19) (C 20) (C 21) (C 22) (C 23) := by
  have h := yb_xl k 36 0 (by omega)
  rw [yb_0] at h
  exact ⟨37, h⟩
theorem yc_xl {post : SX → Prop} (k : ∃ n, wX_init_430 post (nI φ) (nI ι) (nI ω) (nI κ) (nI p) ls n 0 (P 0) (P 1) (P 2) (P 3) (P 4) (P 5) ((yc_ C 144) 0) ((yc_ C 144) 1) ((yc_ C 144) 2) ((yc_ C 144) 3) ((yc_ C 144) 4) ((yc_ C 144) 5) ((yc_ C 144) 6) ((yc_ C 144) 7) ((yc_ C 144) 8) ((yc_ C 144) 9) ((yc_ C 144) 10) ((yc_ C 144) 11) ((yc_ C 144) 12) ((yc_ C 144) 13) ((yc_ C 144) 14) ((yc_ C 144) 15) ((yc_ C 144) 16) ((yc_ C 144) 17) ((yc_ C 144) 18) ((yc_ C 144) 19) ((yc_ C 144) 20) ((yc_ C 144) 21) ((yc_ C 144) 22) ((yc_ C 144) 23)) : ∀ d j, j + d = 144 → wX_init_389 post (nI φ) (nI ι) (nI ω) (nI κ) (nI p) ls (d + 1) (nI j) (P 0) (P 1) (P 2) (P 3) (P 4) (P 5) ((yc_ C j) 0) ((yc_ C j) 1) ((yc_ C j) 2) ((yc_ C j) 3) ((yc_ C j) 4) ((yc_ C j) 5) ((yc_ C j) 6) ((yc_ C j) 7) ((yc_ C j) 8) ((yc_ C j) 9) ((yc_ C j) 10) ((yc_ C j) 11) ((yc_ C j) 12) ((yc_ C j) 13) ((yc_ C j) 14) ((yc_ C j) 15) ((yc_ C j) 16) ((yc_ C j) 17) ((yc_ C j) 18) ((yc_ C j) 19) ((yc_ C j) 20) ((yc_ C j) 21) ((yc_ C j) 22) ((yc_ C j) 23) := by
  intro d
  induction d with
  | zero =>
    intro j hj
    obtain rfl : j = 144 := by omega
    exact br_t (nI_le (a := 144) (b := 144) (by decide) (by decide)) k
  | succ d ih =>
    intro j hj
    have hn : ¬ (144 : Int32) ≤ nI j := nI_ge (b := 144) (by omega) (by decide)
    have hin : vp_in (nI j) 144 := vp_in_nI (by omega) (by decide)
    have hc : (nI j).toNatClampNeg = j := nI_clamp (by omega)
    have e : ∀ (v : Int32) (a : Nat → Int32), upd (fi_ j v a) (nI j).toNatClampNeg v = fi_ (j + 1) v a := fun v a => by rw [hc]; exact fi_s j v a
    exact br_f hn ⟨hin, nm_r (e (-1) (C 13)) ⟨hin, nm_r (e (-1) (C 14)) ⟨hin, nm_r (e (-1) (C 15)) (nm_r (nI_1 j) (ih (j + 1) (by omega)))⟩⟩⟩
theorem yc_x {post : SX → Prop} (k : ∃ n, wX_init_430 post (nI φ) (nI ι) (nI ω) (nI κ) (nI p) ls n 0 (P 0) (P 1) (P 2) (P 3) (P 4) (P 5) ((yc_ C 144) 0) ((yc_ C 144) 1) ((yc_ C 144) 2) ((yc_ C 144) 3) ((yc_ C 144) 4) ((yc_ C 144) 5) ((yc_ C 144) 6) ((yc_ C 144) 7) ((yc_ C 144) 8) ((yc_ C 144) 9) ((yc_ C 144) 10) ((yc_ C 144) 11) ((yc_ C 144) 12) ((yc_ C 144) 13) ((yc_ C 144) 14) ((yc_ C 144) 15) ((yc_ C 144) 16) ((yc_ C 144) 17) ((yc_ C 144) 18) ((yc_ C 144) 19) ((yc_ C 144) 20) ((yc_ C 144) 21) ((yc_ C 144) 22) ((yc_ C 144) 23)) : ∃ n, wX_init_389 post (nI φ) (nI ι) (nI ω) (nI κ) (nI p) ls n 0 (P 0) (P 1) (P 2) (P 3) (P 4) (P 5) (C 0) (C 1) (C 2) (C 3) (C 4) (C 5) (C 6) (C 7) (C 8) (C 9) (C 10) (C 11) (C 12) (C 13) (C 14) (C 15) (C 16) (C 17) (C 18) (C 19) (C 20) (C 21) (C 22) (C 23) := by
  have h := yc_xl k 144 0 (by omega)
  rw [yc_0] at h
  exact ⟨145, h⟩
theorem yd_xl {post : SX → Prop} (k : ∃ n, wX_init_454 post (nI φ) (nI ι) (nI ω) (nI κ) (nI p) ls n 0 (P 0) (P 1) (P 2) (P 3) (P 4) (P 5) ((yd_ C 16) 0) ((yd_ C 16) 1) ((yd_ C 16) 2) ((yd_ C 16) 3) ((yd_ C 16) 4) ((yd_ C 16) 5) ((yd_ C 16) 6) ((yd_ C 16) 7) ((yd_ C 16) 8) ((yd_ C 16) 9) ((yd_ C 16) 10) ((yd_ C 16) 11) ((yd_ C 16) 12) ((yd_ C 16) 13) ((yd_ C 16) 14) ((yd_ C 16) 15) ((yd_ C 16) 16) ((yd_ C 16) 17) ((yd_ C 16) 18) ((yd_ C 16) 19) ((yd_ C 16) 20) ((yd_ C 16) 21) ((yd_ C 16) 22) ((yd_ C 16) 23)) : ∀ d j, j + d = 16 → wX_init_430 post (nI φ) (nI ι) (nI ω) (nI κ) (nI p) ls (d + 1) (nI j) (P 0) (P 1) (P 2) (P 3) (P 4) (P 5) ((yd_ C j) 0) ((yd_ C j) 1) ((yd_ C j) 2) ((yd_ C j) 3) ((yd_ C j) 4) ((yd_ C j) 5) ((yd_ C j) 6) ((yd_ C j) 7) ((yd_ C j) 8) ((yd_ C j) 9) ((yd_ C j) 10) ((yd_ C j) 11) ((yd_ C j) 12) ((yd_ C j) 13) ((yd_ C j) 14) ((yd_ C j) 15) ((yd_ C j) 16) ((yd_ C j) 17) ((yd_ C j) 18) ((yd_ C j) 19) ((yd_ C j) 20) ((yd_ C j) 21) ((yd_ C j) 22) ((yd_ C j) 23) := by
  intro d
  induction d with
  | zero =>
    intro j hj
    obtain rfl : j = 16 := by omega
    exact br_t (nI_le (a := 16) (b := 16) (by decide) (by decide)) k
  | succ d ih =>
    intro j hj
    have hn : ¬ (16 : Int32) ≤ nI j := nI_ge (b := 16) (by omega) (by decide)
    have hin : vp_in (nI j) 16 := vp_in_nI (by omega) (by decide)
    have hc : (nI j).toNatClampNeg = j := nI_clamp (by omega)
    have e : ∀ (v : Int32) (a : Nat → Int32), upd (fi_ j v a) (nI j).toNatClampNeg v = fi_ (j + 1) v a := fun v a => by rw [hc]; exact fi_s j v a
    exact br_f hn ⟨hin, nm_r (e (-1) (C 16)) (nm_r (nI_1 j) (ih (j + 1) (by omega)))⟩
theorem yd_x {post : SX → Prop} (k : ∃ n, wX_init_454 post (nI φ) (nI ι) (nI ω) (nI κ) (nI p) ls n 0 (P 0) (P 1) (P 2) (P 3) (P 4) (P 5) ((yd_ C 16) 0) ((yd_ C 16) 1) ((yd_ C 16) 2) ((yd_ C 16) 3) ((yd_ C 16) 4) ((yd_ C 16) 5) ((yd_ C 16) 6) ((yd_ C 16) 7) ((yd_ C 16) 8) ((yd_ C 16) 9) ((yd_ C 16) 10) ((yd_ C 16) 11) ((yd_ C 16) 12) ((yd_ C 16) 13) ((yd_ C 16) 14) ((yd_ C 16) 15) ((yd_ C 16) 16) ((yd_ C 16) 17) ((yd_ C 16) 18) ((yd_ C 16) 19) ((yd_ C 16) 20) ((yd_ C 16) 21) ((yd_ C 16) 22) ((yd_ C 16) 23)) : ∃ n, wX_init_430 post (nI φ) (nI ι) (nI ω) (nI κ) (nI p) ls n 0 (P 0) (P 1) (P 2) (P 3) (P 4) (P 5) (C 0) (C 1) (C 2) (C 3) (C 4) (C 5) (C 6) (C 7) (C 8) (C 9) (C 10) (C 11) (C 12) (C 13) (C 14) (C 15) (C 16) (C 17) (C 18) (C 19) (C 20) (C 21) (C 22) (C 23) := by
  have h := yd_xl k 16 0 (by omega)
  rw [yd_0] at h
  exact ⟨17, h⟩
theorem ye_xl {post : SX → Prop} (k : ∃ n, wX_init_495 post (nI φ) (nI ι) (nI ω) (nI κ) (nI p) ls n 0 (P 0) (P 1) (P 2) (P 3) (P 4) (P 5) ((ye_ C 288) 0) ((ye_ C 288) 1) ((ye_ C 288) 2) ((ye_ C 288) 3) ((ye_ C 288) 4) ((ye_ C 288) 5) ((ye_ C 288) 6) ((ye_ C 288) 7) ((ye_ C 288) 8) ((ye_ C 288) 9) ((ye_ C 288) 10) ((ye_ C 288) 11) ((ye_ C 288) 12) ((ye_ C 288) 13) ((ye_ C 288) 14) ((ye_ C 288) 15) ((ye_ C 288) 16) ((ye_ C 288) 17) ((ye_ C 288) 18) ((ye_ C 288) 19) ((ye_ C 288) 20) ((ye_ C 288) 21) ((ye_ C 288) 22) ((ye_ C 288) 23)) : ∀ d j, j + d = 288 → wX_init_454 post (nI φ) (nI ι) (nI ω) (nI κ) (nI p) ls (d + 1) (nI j) (P 0) (P 1) (P 2) (P 3) (P 4) (P 5) ((ye_ C j) 0) ((ye_ C j) 1) ((ye_ C j) 2) ((ye_ C j) 3) ((ye_ C j) 4) ((ye_ C j) 5) ((ye_ C j) 6) ((ye_ C j) 7) ((ye_ C j) 8) ((ye_ C j) 9) ((ye_ C j) 10) ((ye_ C j) 11) ((ye_ C j) 12) ((ye_ C j) 13) ((ye_ C j) 14) ((ye_ C j) 15) ((ye_ C j) 16) ((ye_ C j) 17) ((ye_ C j) 18) ((ye_ C j) 19) ((ye_ C j) 20) ((ye_ C j) 21) ((ye_ C j) 22) ((ye_ C j) 23) := by
  intro d
  induction d with
  | zero =>
    intro j hj
    obtain rfl : j = 288 := by omega
    exact br_t (nI_le (a := 288) (b := 288) (by decide) (by decide)) k
  | succ d ih =>
    intro j hj
    have hn : ¬ (288 : Int32) ≤ nI j := nI_ge (b := 288) (by omega) (by decide)
    have hin : vp_in (nI j) 288 := vp_in_nI (by omega) (by decide)
    have hc : (nI j).toNatClampNeg = j := nI_clamp (by omega)
    have e : ∀ (v : Int32) (a : Nat → Int32), upd (fi_ j v a) (nI j).toNatClampNeg v = fi_ (j + 1) v a := fun v a => by rw [hc]; exact fi_s j v a
    exact br_f hn ⟨hin, nm_r (e (-1) (C 17)) ⟨hin, nm_r (e (-1) (C 22)) ⟨hin, nm_r (e (-1) (C 23)) (nm_r (nI_1 j) (ih (j + 1) (by omega)))⟩⟩⟩
theorem ye_x {post : SX → Prop} (k : ∃ n, wX_init_495 post (nI φ) (nI ι) (nI ω) (nI κ) (nI p) ls n 0 (P 0) (P 1) (P 2) (P 3) (P 4) (P 5) ((ye_ C 288) 0) ((ye_ C 288) 1) ((ye_ C 288) 2) ((ye_ C 288) 3) ((ye_ C 288) 4) ((ye_ C 288) 5) ((ye_ C 288) 6) ((ye_ C 288) 7) ((ye_ C 288) 8) ((ye_ C 288) 9) ((ye_ C 288) 10) ((ye_ C 288) 11) ((ye_ C 288) 12) ((ye_ C 288) 13) ((ye_ C 288) 14) ((ye_ C 288) 15) ((ye_ C 288) 16) ((ye_ C 288) 17) ((ye_ C 288) 18) ((ye_ C 288) 19) ((ye_ C 288) 20) ((ye_ C 288) 21) ((ye_ C 288) 22) ((ye_ C 288) 23)) : ∃ n, wX_init_454 post (nI φ) (nI ι) (nI ω) (nI κ) (nI p) ls n 0 (P 0) (P 1) (P 2) (P 3) (P 4) (P 5) (C 0) (C 1) (C 2) (C 3) (C 4) (C 5) (C 6) (C 7) (C 8) (C 9) (C 10) (C 11) (C 12) (C 13) (C 14) (C 15) (C 16) (C 17) (C 18) (C 19) (C 20) (C 21) (C 22) (C 23) := by
  have h := ye_xl k 288 0 (by omega)
  rw [ye_0] at h
  exact ⟨289, h⟩
theorem yf_xl {post : SX → Prop} (k : post (xs_ φ ι ω κ p ls P (yf_ C 32))) : ∀ d j, j + d = 32 → wX_init_495 post (nI φ) (nI ι) (nI ω) (nI κ) (nI p) ls (d + 1) (nI j) (P 0) (P 1) (P 2) (P 3) (P 4) (P 5) ((yf_ C j) 0) ((yf_ C j) 1) ((yf_ C j) 2) ((yf_ C j) 3) ((yf_ C j) 4) ((yf_ C j) 5) ((yf_ C j) 6) ((yf_ C j) 7) ((yf_ C j) 8) ((yf_ C j) 9) ((yf_ C j) 10) ((yf_ C j) 11) ((yf_ C j) 12) ((yf_ C j) 13) ((yf_ C j) 14) ((yf_ C j) 15) ((yf_ C j) 16) ((yf_ C j) 17) ((yf_ C j) 18) ((yf_ C j) 19) ((yf_ C j) 20) ((yf_ C j) 21) ((yf_ C j) 22) ((yf_ C j) 23) := by
  intro d
  induction d with
  | zero =>
    intro j hj
    obtain rfl : j = 32 := by omega
    exact br_t (nI_le (a := 32) (b := 32) (by decide) (by decide)) k
  | succ d ih =>
    intro j hj
    have hn : ¬ (32 : Int32) ≤ nI j := nI_ge (b := 32) (by omega) (by decide)
    have hin : vp_in (nI j) 32 := vp_in_nI (by omega) (by decide)
    have hc : (nI j).toNatClampNeg = j := nI_clamp (by omega)
    have e : ∀ (v : Int32) (a : Nat → Int32), upd (fi_ j v a) (nI j).toNatClampNeg v = fi_ (j + 1) v a := fun v a => by rw [hc]; exact fi_s j v a
    exact br_f hn ⟨hin, nm_r (e 0 (C 18)) ⟨hin, nm_r (e (-1) (C 19)) ⟨hin, nm_r (e (-1) (C 20)) ⟨hin, nm_r (e (-1) (C 21)) (nm_r (nI_1 j) (ih (j + 1) (by omega)))⟩⟩⟩⟩
theorem yf_x {post : SX → Prop} (k : post (xs_ φ ι ω κ p ls P (yf_ C 32))) : ∃ n, wX_init_495 post (nI φ) (nI ι) (nI ω) (nI κ) (nI p) ls n 0 (P 0) (P 1) (P 2) (P 3) (P 4) (P 5) (C 0) (C 1) (C 2) (C 3) (C 4) (C 5) (C 6) (C 7) (C 8) (C 9) (C 10) (C 11) (C 12) (C 13) (C 14) (C 15) (C 16) (C 17) (C 18) (C 19) (C 20) (C 21) (C 22) (C 23) := by
  have h := yf_xl k 32 0 (by omega)
  rw [yf_0] at h
  exact ⟨33, h⟩
theorem ya_yl {post : SY → Prop} (k : ∃ n, wY_init_333 post (nI φ) (nI ι) (nI ω) (nI κ) (nI p) ls n 0 (Q 0) (Q 1) (Q 2) (Q 3) (Q 4) (Q 5) ((ya_ C 4) 0) ((ya_ C 4) 1) ((ya_ C 4) 2) ((ya_ C 4) 3) ((ya_ C 4) 4) ((ya_ C 4) 5) ((ya_ C 4) 6) ((ya_ C 4) 7) ((ya_ C 4) 8) ((ya_ C 4) 9) ((ya_ C 4) 10) ((ya_ C 4) 11) ((ya_ C 4) 12) ((ya_ C 4) 13) ((ya_ C 4) 14) ((ya_ C 4) 15) ((ya_ C 4) 16) ((ya_ C 4) 17) ((ya_ C 4) 18) ((ya_ C 4) 19) ((ya_ C 4) 20) ((ya_ C 4) 21) ((ya_ C 4) 22) ((ya_ C 4) 23) ch) : ∀ d j, j + d = 4 → wY_init_310 post (nI φ) (nI ι) (nI ω) (nI κ) (nI p) ls (d + 1) (nI j) (Q 0) (Q 1) (Q 2) (Q 3) (Q 4) (Q 5) ((ya_ C j) 0) ((ya_ C j) 1) ((ya_ C j) 2) ((ya_ C j) 3) ((ya_ C j) 4) ((ya_ C j) 5) ((ya_ C j) 6) ((ya_ C j) 7) ((ya_ C j) 8) ((ya_ C j) 9) ((ya_ C j) 10) ((ya_ C j) 11) ((ya_ C j) 12) ((ya_ C j) 13) ((ya_ C j) 14) ((ya_ C j) 15) ((ya_ C j) 16) ((ya_ C j) 17) ((ya_ C j) 18) ((ya_ C j) 19) ((ya_ C j) 20) ((ya_ C j) 21) ((ya_ C j) 22) ((ya_ C j) 23) ch := by
  intro d
  induction d with
  | zero =>
    intro j hj
    obtain rfl : j = 4 := by omega
    exact br_t (nI_le (a := 4) (b := 4) (by decide) (by decide)) k
  | succ d ih =>
    intro j hj
    have hn : ¬ (4 : Int32) ≤ nI j := nI_ge (b := 4) (by omega) (by decide)
    have hin : vp_in (nI j) 4 := vp_in_nI (by omega) (by decide)
    have hc : (nI j).toNatClampNeg = j := nI_clamp (by omega)
    have e : ∀ (v : Int32) (a : Nat → Int32), upd (fi_ j v a) (nI j).toNatClampNeg v = fi_ (j + 1) v a := fun v a => by rw [hc]; exact fi_s j v a
    exact br_f hn ⟨hin, nm_r (e (vp_nar .boolean 1) (C 1)) (nm_r (nI_1 j) (ih (j + 1) (by omega)))⟩
theorem ya_y {post : SY → Prop} (k : ∃ n, wY_init_333 post (nI φ) (nI ι) (nI ω) (nI κ) (nI p) ls n 0 (Q 0) (Q 1) (Q 2) (Q 3) (Q 4) (Q 5) ((ya_ C 4) 0) ((ya_ C 4) 1) ((ya_ C 4) 2) ((ya_ C 4) 3) ((ya_ C 4) 4) ((ya_ C 4) 5) ((ya_ C 4) 6) ((ya_ C 4) 7) ((ya_ C 4) 8) ((ya_ C 4) 9) ((ya_ C 4) 10) ((ya_ C 4) 11) ((ya_ C 4) 12) ((ya_ C 4) 13) ((ya_ C 4) 14) ((ya_ C 4) 15) ((ya_ C 4) 16) ((ya_ C 4) 17) ((ya_ C 4) 18) ((ya_ C 4) 19) ((ya_ C 4) 20) ((ya_ C 4) 21) ((ya_ C 4) 22) ((ya_ C 4) 23) ch) : ∃ n, wY_init_310 post (nI φ) (nI ι) (nI ω) (nI κ) (nI p) ls n 0 (Q 0) (Q 1) (Q 2) (Q 3) (Q 4) (Q 5) (C 0) (C 1) (C 2) (C 3) (C 4) (C 5) (C 6) (C 7) (C 8) (C 9) (C 10) (C 11) (C 12) (C 13) (C 14) (C 15) (C 16) (C 17) (C 18) (C 19) (C 20) (C 21) (C 22) (C 23) ch := by
  have h := ya_yl k 4 0 (by omega)
  rw [ya_0] at h
  exact ⟨5, h⟩
theorem yb_yl {post : SY → Prop} (k : ∃ n, wY_init_397 post (nI φ) (nI ι) (nI ω) (nI κ) (nI p) ls n 0 (Q 0) (Q 1) (Q 2) (Q 3) (Q 4) (Q 5) ((yb_ C 36) 0) ((yb_ C 36) 1) ((yb_ C 36) 2) ((yb_ C 36) 3) ((yb_ C 36) 4) ((yb_ C 36) 5) ((yb_ C 36) 6) ((yb_ C 36) 7) ((yb_ C 36) 8) ((yb_ C 36) 9) ((yb_ C 36) 10) ((yb_ C 36) 11) ((yb_ C 36) 12) ((yb_ C 36) 13) ((yb_ C 36) 14) ((yb_ C 36) 15) ((yb_ C 36) 16) ((yb_ C 36) 17) ((yb_ C 36) 18) ((yb_ C 36) 19) ((yb_ C 36) 20) ((yb_ C 36) 21) ((yb_ C 36) 22) ((yb_ C 36) 23) ch) : ∀ d j, j + d = 36 → wY_init_333 post (nI φ) (nI ι) (nI ω) (nI κ) (nI p) ls (d + 1) (nI j) (Q 0) (Q 1) (Q 2) (Q 3) (Q 4) (Q 5) ((yb_ C j) 0) ((yb_ C j) 1) ((yb_ C j) 2) ((yb_ C j) 3) ((yb_ C j) 4) ((yb_ C j) 5) ((yb_ C j) 6) ((yb_ C j) 7) ((yb_ C j) 8) ((yb_ C j) 9) ((yb_ C j) 10) ((yb_ C j) 11) ((yb_ C j) 12) ((yb_ C j) 13) ((yb_ C j) 14) ((yb_ C j) 15) ((yb_ C j) 16) ((yb_ C j) 17) ((yb_ C j) 18) ((yb_ C j) 19) ((yb_ C j) 20) ((yb_ C j) 21) ((yb_ C j) 22) ((yb_ C j) 23) ch := by
  intro d
  induction d with
  | zero =>
    intro j hj
    obtain rfl : j = 36 := by omega
    exact br_t (nI_le (a := 36) (b := 36) (by decide) (by decide)) k
  | succ d ih =>
    intro j hj
    have hn : ¬ (36 : Int32) ≤ nI j := nI_ge (b := 36) (by omega) (by decide)
    have hin : vp_in (nI j) 36 := vp_in_nI (by omega) (by decide)
    have hc : (nI j).toNatClampNeg = j := nI_clamp (by omega)
    have e : ∀ (v : Int32) (a : Nat → Int32), upd (fi_ j v a) (nI j).toNatClampNeg v = fi_ (j + 1) v a := fun v a => by rw [hc]; exact fi_s j v a
    exact br_f hn ⟨hin, nm_r (e (-1) (C 7)) ⟨hin, nm_r (e (-1) (C 8)) ⟨hin, nm_r (e (-1) (C 9)) ⟨hin, nm_r (e (-1) (C 10)) ⟨hin, nm_r (e (-1) (C 11)) ⟨hin, nm_r (e (-1) (C 12)) (nm_r (nI_1 j) (ih (j + 1) (by omega)))⟩⟩⟩⟩⟩⟩
theorem yb_y {post : SY → Prop} (k : ∃ n, wY_init_397 post (nI φ) (nI ι) (nI ω) (nI κ) (nI p) ls n 0 (Q 0) (Q 1) (Q 2) (Q 3) (Q 4) (Q 5) ((yb_ C 36) 0) ((yb_ C 36) 1) ((yb_ C 36) 2) ((yb_ C 36) 3) ((yb_ C 36) 4) ((yb_ C 36) 5) ((yb_ C 36) 6) ((yb_ C 36) 7) ((yb_ C 36) 8) ((yb_ C 36) 9) ((yb_ C 36) 10) ((yb_ C 36) 11) ((yb_ C 36) 12) ((yb_ C 36) 13) ((yb_ C 36) 14) ((yb_ C 36) 15) ((yb_ C 36) 16) ((yb_ C 36) 17) ((yb_ C 36) 18) ((yb_ C 36) 19) ((yb_ C 36) 20) ((yb_ C 36) 21) ((yb_ C 36) 22) ((yb_ C 36) 23) ch) : ∃ n, wY_init_333 post (nI φ) (nI ι) (nI ω) (nI κ) (nI p) ls n 0 (Q 0) (Q 1) (Q 2) (Q 3) (Q 4) (Q 5) (C 0) (C 1) (C 2) (C 3) (C 4) (C 5) (C 6) (C 7) (C 8) (C 9) (C 10) (C 11) (C 12) (C 13) (C 14) (C 15) (C 16) (C 17) (C 18) (C 19) (C 20) (C 21) (C 22) (C 23) ch := by
  have h := yb_yl k 36 0 (by omega)
  rw [yb_0] at h
  exact ⟨37, h⟩
theorem yc_yl {post : SY → Prop} (k : ∃ n, wY_init_438 post (nI φ) (nI ι) (nI ω) (nI κ) (nI p) ls n 0 (Q 0) (Q 1) (Q 2) (Q 3) (Q 4) (Q 5) ((yc_ C 144) 0) ((yc_ C 144) 1) ((yc_ C 144) 2) ((yc_ C 144) 3) ((yc_ C 144) 4) ((yc_ C 144) 5) ((yc_ C 144) 6) ((yc_ C 144) 7) ((yc_ C 144) 8) ((yc_ C 144) 9) ((yc_ C 144) 10) ((yc_ C 144) 11) ((yc_ C 144) 12) ((yc_ C 144) 13) ((yc_ C 144) 14) ((yc_ C 144) 15) ((yc_ C 144) 16) ((yc_ C 144) 17) ((yc_ C 144) 18) ((yc_ C 144) 19) ((yc_ C 144) 20) ((yc_ C 144) 21) ((yc_ C 144) 22) ((yc_ C 144) 23) ch) : ∀ d j, j + d = 144 → wY_init_397 post (nI φ) (nI ι) (nI ω) (nI κ) (nI p) ls (d + 1) (nI j) (Q 0) (Q 1) (Q 2) (Q 3) (Q 4) (Q 5) ((yc_ C j) 0) ((yc_ C j) 1) ((yc_ C j) 2) ((yc_ C j) 3) ((yc_ C j) 4) ((yc_ C j) 5) ((yc_ C j) 6) ((yc_ C j) 7) ((yc_ C j) 8) ((yc_ C j) 9) ((yc_ C j) 10) ((yc_ C j) 11) ((yc_ C j) 12) ((yc_ C j) 13) ((yc_ C j) 14) ((yc_ C j) 15) ((yc_ C j) 16) ((yc_ C j) 17) ((yc_ C j) 18) ((yc_ C j) 19) ((yc_ C j) 20) ((yc_ C j) 21) ((yc_ C j) 22) ((yc_ C j) 23) ch := by
  intro d
  induction d with
  | zero =>
    intro j hj
    obtain rfl : j = 144 := by omega
    exact br_t (nI_le (a := 144) (b := 144) (by decide) (by decide)) k
  | succ d ih =>
    intro j hj
    have hn : ¬ (144 : Int32) ≤ nI j := nI_ge (b := 144) (by omega) (by decide)
    have hin : vp_in (nI j) 144 := vp_in_nI (by omega) (by decide)
    have hc : (nI j).toNatClampNeg = j := nI_clamp (by omega)
    have e : ∀ (v : Int32) (a : Nat → Int32), upd (fi_ j v a) (nI j).toNatClampNeg v = fi_ (j + 1) v a := fun v a => by rw [hc]; exact fi_s j v a
    exact br_f hn ⟨hin, nm_r (e (-1) (C 13)) ⟨hin, nm_r (e (-1) (C 14)) ⟨hin, nm_r (e (-1) (C 15)) (nm_r (nI_1 j) (ih (j + 1) (by omega)))⟩⟩⟩
theorem yc_y {post : SY → Prop} (k : ∃ n, wY_init_438 post (nI φ) (nI ι) (nI ω) (nI κ) (nI p) ls n 0 (Q 0) (Q 1) (Q 2) (Q 3) (Q 4) (Q 5) ((yc_ C 144) 0) ((yc_ C 144) 1) ((yc_ C 144) 2) ((yc_ C 144) 3) ((yc_ C 144) 4) ((yc_ C 144) 5) ((yc_ C 144) 6) ((yc_ C 144) 7) ((yc_ C 144) 8) ((yc_ C 144) 9) ((yc_ C 144) 10) ((yc_ C 144) 11) ((yc_ C 144) 12) ((yc_ C 144) 13) ((yc_ C 144) 14) ((yc_ C 144) 15) ((yc_ C 144) 16) ((yc_ C 144) 17) ((yc_ C 144) 18) ((yc_ C 144) 19) ((yc_ C 144) 20) ((yc_ C 144) 21) ((yc_ C 144) 22) ((yc_ C 144) 23) ch) : ∃ n, wY_init_397 post (nI φ) (nI ι) (nI ω) (nI κ) (nI p) ls n 0 (Q 0) (Q 1) (Q 2) (Q 3) (Q 4) (Q 5) (C 0) (C 1) (C 2) (C 3) (C 4) (C 5) (C 6) (C 7) (C 8) (C 9) (C 10) (C 11) (C 12) (C 13) (C 14) (C 15) (C 16) (C 17) (C 18) (C 19) (C 20) (C 21) (C 22) (C 23) ch := by
  have h := yc_yl k 144 0 (by omega)
  rw [yc_0] at h
  exact ⟨145, h⟩
theorem yd_yl {post : SY → Prop} (k : ∃ n, wY_init_462 post (nI φ) (nI ι) (nI ω) (nI κ) (nI p) ls n 0 (Q 0) (Q 1) (Q 2) (Q 3) (Q 4) (Q 5) ((yd_ C 16) 0) ((yd_ C 16) 1) ((yd_ C 16) 2) ((yd_ C 16) 3) ((yd_ C 16) 4) ((yd_ C 16) 5) ((yd_ C 16) 6) ((yd_ C 16) 7) ((yd_ C 16) 8) ((yd_ C 16) 9) ((yd_ C 16) 10) ((yd_ C 16) 11) ((yd_ C 16) 12) ((yd_ C 16) 13) ((yd_ C 16) 14) ((yd_ C 16) 15) ((yd_ C 16) 16) ((yd_ C 16) 17) ((yd_ C 16) 18) ((yd_ C 16) 19) ((yd_ C 16) 20) ((yd_ C 16) 21) ((yd_ C 16) 22) ((yd_ C 16) 23) ch) : ∀ d j, j + d = 16 → wY_init_438 post (nI φ) (nI ι) (nI ω) (nI κ) (nI p) ls (d + 1) (nI j) (Q 0) (Q 1) (Q 2) (Q 3) (Q 4) (Q 5) ((yd_ C j) 0) ((yd_ C j) 1) ((yd_ C j) 2) ((yd_ C j) 3) ((yd_ C j) 4) ((yd_ C j) 5) ((yd_ C j) 6) ((yd_ C j) 7) ((yd_ C j) 8) ((yd_ C j) 9) ((yd_ C j) 10) ((yd_ C j) 11) ((yd_ C j) 12) ((yd_ C j) 13) ((yd_ C j) 14) ((yd_ C j) 15) ((yd_ C j) 16) ((yd_ C j) 17) ((yd_ C j) 18) ((yd_ C j) 19) ((yd_ C j) 20) ((yd_ C j) 21) ((yd_ C j) 22) ((yd_ C j) 23) ch := by
  intro d
  induction d with
  | zero =>
    intro j hj
    obtain rfl : j = 16 := by omega
    exact br_t (nI_le (a := 16) (b := 16) (by decide) (by decide)) k
  | succ d ih =>
    intro j hj
    have hn : ¬ (16 : Int32) ≤ nI j := nI_ge (b := 16) (by omega) (by decide)
    have hin : vp_in (nI j) 16 := vp_in_nI (by omega) (by decide)
    have hc : (nI j).toNatClampNeg = j := nI_clamp (by omega)
    have e : ∀ (v : Int32) (a : Nat → Int32), upd (fi_ j v a) (nI j).toNatClampNeg v = fi_ (j + 1) v a := fun v a => by rw [hc]; exact fi_s j v a
    exact br_f hn ⟨hin, nm_r (e (-1) (C 16)) (nm_r (nI_1 j) (ih (j + 1) (by omega)))⟩
theorem yd_y {post : SY → Prop} (k : ∃ n, wY_init_462 post (nI φ) (nI ι) (nI ω) (nI κ) (nI p) ls n 0 (Q 0) (Q 1) (Q 2) (Q 3) (Q 4) (Q 5) ((yd_ C 16) 0) ((yd_ C 16) 1) ((yd_ C 16) 2) ((yd_ C 16) 3) ((yd_ C 16) 4) ((yd_ C 16) 5) ((yd_ C 16) 6) ((yd_ C 16) 7) ((yd_ C 16) 8) ((yd_ C 16) 9) ((yd_ C 16) 10) ((yd_ C 16) 11) ((yd_ C 16) 12) ((yd_ C 16) 13) ((yd_ C 16) 14) ((yd_ C 16) 15) ((yd_ C 16) 16) ((yd_ C 16) 17) ((yd_ C 16) 18) ((yd_ C 16) 19) ((yd_ C 16) 20) ((yd_ C 16) 21) ((yd_ C 16) 22) ((yd_ C 16) 23) ch) : ∃ n, wY_init_438 post (nI φ) (nI ι) (nI ω) (nI κ) (nI p) ls n 0 (Q 0) (Q 1) (Q 2) (Q 3) (Q 4) (Q 5) (C 0) (C 1) (C 2) (C 3) (C 4) (C 5) (C 6) (C 7) (C 8) (C 9) (C 10) (C 11) (C 12) (C 13) (C 14) (C 15) (C 16) (C 17) (C 18) (C 19) (C 20) (C 21) (C 22) (C 23) ch := by
  have h := yd_yl k 16 0 (by omega)
  rw [yd_0] at h
  exact ⟨17, h⟩
theorem ye_yl {post : SY → Prop} (k : ∃ n, wY_init_503 post (nI φ) (nI ι) (nI ω) (nI κ) (nI p) ls n 0 (Q 0) (Q 1) (Q 2) (Q 3) (Q 4) (Q 5) ((ye_ C 288) 0) ((ye_ C 288) 1) ((ye_ C 288) 2) ((ye_ C 288) 3) ((ye_ C 288) 4) ((ye_ C 288) 5) ((ye_ C 288) 6) ((ye_ C 288) 7) ((ye_ C 288) 8) ((ye_ C 288) 9) ((ye_ C 288) 10) ((ye_ C 288) 11) ((ye_ C 288) 12) ((ye_ C 288) 13) ((ye_ C 288) 14) ((ye_ C 288) 15) ((ye_ C 288) 16) ((ye_ C 288) 17) ((ye_ C 288) 18) ((ye_ C 288) 19) ((ye_ C 288) 20) ((ye_ C 288) 21) ((ye_ C 288) 22) ((ye_ C 288) 23) ch) : ∀ d j, j + d = 288 → wY_init_462 post (nI φ) (nI ι) (nI ω) (nI κ) (nI p) ls (d + 1) (nI j) (Q 0) (Q 1) (Q 2) (Q 3) (Q 4) (Q 5) ((ye_ C j) 0) ((ye_ C j) 1) ((ye_ C j) 2) ((ye_ C j) 3) ((ye_ C j) 4) ((ye_ C j) 5) ((ye_ C j) 6) ((ye_ C j) 7) ((ye_ C j) 8) ((ye_ C j) 9) ((ye_ C j) 10) ((ye_ C j) 11) ((ye_ C j) 12) ((ye_ C j) 13) ((ye_ C j) 14) ((ye_ C j) 15) ((ye_ C j) 16) ((ye_ C j) 17) ((ye_ C j) 18) ((ye_ C j) 19) ((ye_ C j) 20) ((ye_ C j) 21) ((ye_ C j) 22) ((ye_ C j) 23) ch := by
  intro d
  induction d with
  | zero =>
    intro j hj
    obtain rfl : j = 288 := by omega
    exact br_t (nI_le (a := 288) (b := 288) (by decide) (by decide)) k
  | succ d ih =>
    intro j hj
    have hn : ¬ (288 : Int32) ≤ nI j := nI_ge (b := 288) (by omega) (by decide)
    have hin : vp_in (nI j) 288 := vp_in_nI (by omega) (by decide)
    have hc : (nI j).toNatClampNeg = j := nI_clamp (by omega)
    have e : ∀ (v : Int32) (a : Nat → Int32), upd (fi_ j v a) (nI j).toNatClampNeg v = fi_ (j + 1) v a := fun v a => by rw [hc]; exact fi_s j v a
    exact br_f hn ⟨hin, nm_r (e (-1) (C 17)) ⟨hin, nm_r (e (-1) (C 22)) ⟨hin, nm_r (e (-1) (C 23)) (nm_r (nI_1 j) (ih (j + 1) (by omega)))⟩⟩⟩
theorem ye_y {post : SY → Prop} (k : ∃ n, wY_init_503 post (nI φ) (nI ι) (nI ω) (nI κ) (nI p) ls n 0 (Q 0) (Q 1) (Q 2) (Q 3) (Q 4) (Q 5) ((ye_ C 288) 0) ((ye_ C 288) 1) ((ye_ C 288) 2) ((ye_ C 288) 3) ((ye_ C 288) 4) ((ye_ C 288) 5) ((ye_ C 288) 6) ((ye_ C 288) 7) ((ye_ C 288) 8) ((ye_ C 288) 9) ((ye_ C 288) 10) ((ye_ C 288) 11) ((ye_ C 288) 12) ((ye_ C 288) 13) ((ye_ C 288) 14) ((ye_ C 288) 15) ((ye_ C 288) 16) ((ye_ C 288) 17) ((ye_ C 288) 18) ((ye_ C 288) 19) ((ye_ C 288) 20) ((ye_ C 288) 21) ((ye_ C 288) 22) ((ye_ C 288) 23) ch) : ∃ n, wY_init_462 post (nI φ) (nI ι) (nI ω) (nI κ) (nI p) ls n 0 (Q 0) (Q 1) (Q 2) (Q 3) (Q 4) (Q 5) (C 0) (C 1) (C 2) (C 3) (C 4) (C 5) (C 6) (C 7) (C 8) (C 9) (C 10) (C 11) (C 12) (C 13) (C 14) (C 15) (C 16) (C 17) (C 18) (C 19) (C 20) (C 21) (C 22) (C 23) ch := by
  have h := ye_yl k 288 0 (by omega)
  rw [ye_0] at h
  exact ⟨289, h⟩
theorem yf_yl {post : SY → Prop} (k : post (ys_ φ ι ω κ p ls Q (yf_ C 32) ch)) : ∀ d j, j + d = 32 → wY_init_503 post (nI φ) (nI ι) (nI ω) (nI κ) (nI p) ls (d + 1) (nI j) (Q 0) (Q 1) (Q 2) (Q 3) (Q 4) (Q 5) ((yf_ C j) 0) ((yf_ C j) 1) ((yf_ C j) 2) ((yf_ C j) 3) ((yf_ C j) 4) ((yf_ C j) 5) ((yf_ C j) 6) ((yf_ C j) 7) ((yf_ C j) 8) ((yf_ C j) 9) ((yf_ C j) 10) ((yf_ C j) 11) ((yf_ C j) 12) ((yf_ C j) 13) ((yf_ C j) 14) ((yf_ C j) 15) ((yf_ C j) 16) ((yf_ C j) 17) ((yf_ C j) 18) ((yf_ C j) 19) ((yf_ C j) 20) ((yf_ C j) 21) ((yf_ C j) 22) ((yf_ C j) 23) ch := by
  intro d
  induction d with
  | zero =>
    intro j hj
    obtain rfl : j = 32 := by omega
    exact br_t (nI_le (a := 32) (b := 32) (by decide) (by decide)) k
  | succ d ih =>
    intro j hj
    have hn : ¬ (32 : Int32) ≤ nI j := nI_ge (b := 32) (by omega) (by decide)
    have hin : vp_in (nI j) 32 := vp_in_nI (by omega) (by decide)
    have hc : (nI j).toNatClampNeg = j := nI_clamp (by omega)
    have e : ∀ (v : Int32) (a : Nat → Int32), upd (fi_ j v a) (nI j).toNatClampNeg v = fi_ (j + 1) v a := fun v a => by rw [hc]; exact fi_s j v a
    exact br_f hn ⟨hin, nm_r (e 0 (C 18)) ⟨hin, nm_r (e (-1) (C 19)) ⟨hin, nm_r (e (-1) (C 20)) ⟨hin, nm_r (e (-1) (C 21)) (nm_r (nI_1 j) (ih (j + 1) (by omega)))⟩⟩⟩⟩
theorem yf_y {post : SY → Prop} (k : post (ys_ φ ι ω κ p ls Q (yf_ C 32) ch)) : ∃ n, wY_init_503 post (nI φ) (nI ι) (nI ω) (nI κ) (nI p) ls n 0 (Q 0) (Q 1) (Q 2) (Q 3) (Q 4) (Q 5) (C 0) (C 1) (C 2) (C 3) (C 4) (C 5) (C 6) (C 7) (C 8) (C 9) (C 10) (C 11) (C 12) (C 13) (C 14) (C 15) (C 16) (C 17) (C 18) (C 19) (C 20) (C 21) (C 22) (C 23) ch := by
  have h := yf_yl k 32 0 (by omega)
  rw [yf_0] at h
  exact ⟨33, h⟩
end
def zz_ : Nat → Nat → Int32 := fun _ _ => 0
def zf_ : Nat → Nat → Int32 := yf_ (ye_ (yd_ (yc_ (yb_ (ya_ zz_ 4) 36) 144) 16) 288) 32
theorem bd_0 {b : Nat} (h : 0 < b) : bd_ b 0 := ⟨0, h, rfl⟩
theorem fi_gn {n b : Nat} (h : 0 < b) : gn_ b (fi_ n (-1) (fun _ => 0)) := by
  intro c
  by_cases h1 : c < n
  · exact Or.inl (if_pos h1)
  · refine Or.inr ?_
    rw [show fi_ n (-1) (fun _ => 0) c = 0 from if_neg h1]
    exact bd_0 h
theorem fi_ge {n : Nat} : ge_ (fi_ n (-1) (fun _ => 0)) (fi_ n (-1) (fun _ => 0)) := by
  intro c
  by_cases h1 : c < n
  · exact Or.inl (if_pos h1)
  · refine Or.inr ?_
    rw [show fi_ n (-1) (fun _ => 0) c = 0 from if_neg h1]
    exact ⟨bd_0 (by decide), bd_0 (by decide)⟩
theorem gc_zf (φ : Nat) : gc_ φ zf_ := by
  refine ⟨fun i => bd_0 (by decide), fun i => bd_0 (by decide), fun i => bd_0 (by decide), fi_gn (n := 36) (by decide), fi_ge (n := 36), fi_gn (n := 16) (by decide), fi_ge (n := 288), ?_, ?_⟩
  · intro d hd
    refine Or.inl ⟨fi_in (n := 32) (v := 0) (a := fun _ => 0) hd, fi_in (n := 32) (v := -1) (a := fun _ => 0) hd, fi_in (n := 32) (v := -1) (a := fun _ => 0) hd, fi_in (n := 32) (v := -1) (a := fun _ => 0) hd, fun n n1 n8 => fi_in (n := 288) (v := -1) (a := fun _ => 0) (by omega)⟩
  · intro i hi _ ha
    have : fi_ 4 (vp_nar .boolean 1) (fun _ => 0) i = vp_nar .boolean 1 := fi_in hi
    exact absurd (this.symm.trans ha) vb_1
/-- the relation -/
def i_Rel (_ : Nat) (u : SX) (v : SY) : Prop := ∃ φ ι ω κ, kk_ φ ι ω κ ∧ t0_ φ ι ω κ u v
theorem i_up {k : Nat} {u : SX} {v : SY} (h : i_Rel k u v) : i_Rel (k + 5) u v := h
theorem i_vc0 (k0 : Int32) (k1 : Int32) (k2 : Int32) (k3 : Int32) : wpX_init (fun u => wpY_init (fun v => i_Rel 4 u v) k0 k1 k2 k3) k0 k1 k2 k3 := by
  obtain ⟨φ, _, a1, x0, y0⟩ := cm_ k0 (lo := 0) (hi := 3) (by decide) (by decide)
  obtain ⟨ι, b1, b2, x1, y1⟩ := cm_ k1 (lo := 1) (hi := 4) (by decide) (by decide)
  obtain ⟨c, c1, c2, x2, y2⟩ := cm_ k2 (lo := 1) (hi := 4) (by decide) (by decide)
  obtain ⟨κ, d1, d2, x3, y3⟩ := cm_ k3 (lo := 8) (hi := 64) (by decide) (by decide)
  have e := pk_mul ι c
  have w1 : 1 ≤ ι * c := Nat.mul_pos b1 c1
  have w2 : ι * c ≤ 4 * 4 := Nat.mul_le_mul b2 c2
  have hK : kk_ φ ι (ι * c) κ := ⟨by omega, b1, b2, w1, w2, d1, d2⟩
  have R : ∀ (u : SX) (v : SY), u = xs_ φ ι (ι * c) κ 0 0 zz_ zf_ → v = ys_ φ ι (ι * c) κ 0 0 zz_ zf_ (fun _ => 0) → i_Rel 4 u v := fun u v eu ev => ⟨φ, ι, ι * c, κ, hK, zf_, (fun _ => 0), gc_zf φ, trivial, 0, 0, zz_, zz_, eu, ev, by omega, fun s hs => absurd hs (by omega)⟩
  have HX : ∀ post : SX → Prop, post (xs_ φ ι (ι * c) κ 0 0 zz_ zf_) → wpX_init post k0 k1 k2 k3 := by
    intro post h
    unfold wpX_init
    refine x0 _ _ (x1 _ _ (x2 _ _ (nm_r e (x3 _ _ ?_))))
    exact ya_x (P := zz_) (C := zz_) (p := 0) (ls := 0) (yb_x (P := zz_) (p := 0) (ls := 0) (yc_x (P := zz_) (p := 0) (ls := 0) (yd_x (P := zz_) (p := 0) (ls := 0) (ye_x (P := zz_) (p := 0) (ls := 0) (yf_x (P := zz_) (p := 0) (ls := 0) h)))))
  have HY : ∀ post : SY → Prop, post (ys_ φ ι (ι * c) κ 0 0 zz_ zf_ (fun _ => 0)) → wpY_init post k0 k1 k2 k3 := by
    intro post h
    unfold wpY_init
    refine y0 _ _ (y1 _ _ (y2 _ _ (nm_r e (y3 _ _ ?_))))
    exact ya_y (Q := zz_) (C := zz_) (p := 0) (ls := 0) (yb_y (Q := zz_) (p := 0) (ls := 0) (yc_y (Q := zz_) (p := 0) (ls := 0) (yd_y (Q := zz_) (p := 0) (ls := 0) (ye_y (Q := zz_) (p := 0) (ls := 0) (yf_y (Q := zz_) (p := 0) (ls := 0) h)))))
  exact HX _ (HY _ (R _ _ rfl rfl))
end
section
/-! what is owed: one statement a call -/
theorem fn_r {φ ι ω κ k : Nat} {WX : (Int32 → SX → Prop) → Prop} {WY : (Int32 → SY → Prop) → Prop} (hK : kk_ φ ι ω κ) (h : lk_ (er_ (t0_ φ ι ω κ)) WX WY) : WX (fun r u' => WY (fun r' v' => r' = r ∧ i_Rel (k + 5) u' v')) := by
  obtain ⟨_, _, ⟨r, u, v, t, rfl, rfl⟩, h1, h2⟩ := h
  exact h1 _ (h2 _ ⟨rfl, φ, ι, ω, κ, hK, t⟩)
theorem fn_a {k : Nat} {u : SX} {v : SY} {WX : (Int32 → Prop) → Prop} {WY : (Int32 → Prop) → Prop} (I : i_Rel k u v) (h : lk_ (ea_ tr_) WX WY) : WX (fun r => WY (fun r' => r' = r ∧ i_Rel (k + 5) u v)) := by
  obtain ⟨_, _, ⟨r, t, rfl, rfl⟩, h1, h2⟩ := h
  exact h1 _ (h2 _ ⟨rfl, I⟩)
section
variable {φ ι ω κ p : Nat} {ls : Int32} {P Q C : Nat → Nat → Int32} {ch : Nat → Int32}
theorem s3_sendPrePrepare (hK : kk_ φ ι ω κ) (v1 v2 v3 v4 : Int32) (gc : gc_ φ C) (gp : gp_ φ κ p P Q) : lk_ (er_ (t0_ φ ι ω κ)) (fun q => wpX_sendPrePrepare q (xs_ φ ι ω κ p ls P C) v1 v2 v3 v4) (fun q => wpY_sendPrePrepare q (ys_ φ ι ω κ p ls Q C ch) v1 v2 v3 v4) := by
  unfold wpX_sendPrePrepare wpY_sendPrePrepare
  dsimp only
  refine lk_br (so_lk (ch := ch) (ls := ls) (lo := 1) hK (Or.inl rfl) (by decide) v1 v2 v3 v4 gc gp) ?_
  rintro r u w ⟨C', ch', gc', _, p', ls', P', Q', rfl, rfl, gp'⟩
  dsimp only
  exact lk_rr ⟨C', ch', gc', trivial, p', ls', P', Q', rfl, rfl, gp'⟩
theorem s3_sendPrepare (hK : kk_ φ ι ω κ) (v1 v2 v3 v4 : Int32) (gc : gc_ φ C) (gp : gp_ φ κ p P Q) : lk_ (er_ (t0_ φ ι ω κ)) (fun q => wpX_sendPrepare q (xs_ φ ι ω κ p ls P C) v1 v2 v3 v4) (fun q => wpY_sendPrepare q (ys_ φ ι ω κ p ls Q C ch) v1 v2 v3 v4) := by
  unfold wpX_sendPrepare wpY_sendPrepare
  dsimp only
  refine lk_br (so_lk (ch := ch) (ls := ls) (lo := 0) hK (Or.inr (Or.inl rfl)) (by decide) v1 v2 v3 v4 gc gp) ?_
  rintro r u w ⟨C', ch', gc', _, p', ls', P', Q', rfl, rfl, gp'⟩
  dsimp only
  exact lk_rr ⟨C', ch', gc', trivial, p', ls', P', Q', rfl, rfl, gp'⟩
theorem s3_sendCommit (hK : kk_ φ ι ω κ) (v1 v2 v3 v4 : Int32) (gc : gc_ φ C) (gp : gp_ φ κ p P Q) : lk_ (er_ (t0_ φ ι ω κ)) (fun q => wpX_sendCommit q (xs_ φ ι ω κ p ls P C) v1 v2 v3 v4) (fun q => wpY_sendCommit q (ys_ φ ι ω κ p ls Q C ch) v1 v2 v3 v4) := by
  unfold wpX_sendCommit wpY_sendCommit
  dsimp only
  refine lk_br (so_lk (ch := ch) (ls := ls) (lo := 0) hK (Or.inr (Or.inr rfl)) (by decide) v1 v2 v3 v4 gc gp) ?_
  rintro r u w ⟨C', ch', gc', _, p', ls', P', Q', rfl, rfl, gp'⟩
  dsimp only
  exact lk_rr ⟨C', ch', gc', trivial, p', ls', P', Q', rfl, rfl, gp'⟩
end
theorem i_vc_request {k : Nat} {u : SX} {v : SY} (I : i_Rel k u v) (hk : k + 5 ≤ 2564) (v1 : Int32) (v2 : Int32) : wpX_request (fun r u' => wpY_request (fun r' v' => r' = r ∧ i_Rel (k + 5) u' v') v v1 v2) u v1 v2 := by
  obtain ⟨φ, ι, ω, κ, hK, C, ch, gc, _, p, ls, P, Q, rfl, rfl, gp⟩ := I
  exact fn_r hK (rq_lk hK v1 v2 gc gp)
theorem i_vc_timeout {k : Nat} {u : SX} {v : SY} (I : i_Rel k u v) (hk : k + 5 ≤ 2564) (v1 : Int32) : wpX_timeout (fun r u' => wpY_timeout (fun r' v' => r' = r ∧ i_Rel (k + 5) u' v') v v1) u v1 := by
  obtain ⟨φ, ι, ω, κ, hK, C, ch, gc, _, p, ls, P, Q, rfl, rfl, gp⟩ := I
  exact fn_r hK (to_lk hK v1 gc gp)
theorem i_vc_deliver {k : Nat} {u : SX} {v : SY} (I : i_Rel k u v) (hk : k + 5 ≤ 2564) (v1 : Int32) : wpX_deliver (fun r u' => wpY_deliver (fun r' v' => r' = r ∧ i_Rel (k + 5) u' v') v v1) u v1 := by
  obtain ⟨φ, ι, ω, κ, hK, C, ch, gc, _, p, ls, P, Q, rfl, rfl, gp⟩ := I
  exact fn_r hK (dv_any hK v1 gc gp)
theorem i_vc_drop {k : Nat} {u : SX} {v : SY} (I : i_Rel k u v) (hk : k + 5 ≤ 2564) (v1 : Int32) : wpX_drop (fun r u' => wpY_drop (fun r' v' => r' = r ∧ i_Rel (k + 5) u' v') v v1) u v1 := by
  obtain ⟨φ, ι, ω, κ, hK, C, ch, gc, _, p, ls, P, Q, rfl, rfl, gp⟩ := I
  exact fn_r hK (dr_any hK v1 gc gp)
theorem i_vc_duplicate {k : Nat} {u : SX} {v : SY} (I : i_Rel k u v) (hk : k + 5 ≤ 2564) (v1 : Int32) : wpX_duplicate (fun r u' => wpY_duplicate (fun r' v' => r' = r ∧ i_Rel (k + 5) u' v') v v1) u v1 := by
  obtain ⟨φ, ι, ω, κ, hK, C, ch, gc, _, p, ls, P, Q, rfl, rfl, gp⟩ := I
  exact fn_r hK (du_any hK v1 gc gp)
theorem i_vc_run {k : Nat} {u : SX} {v : SY} (I : i_Rel k u v) (hk : k + 5 ≤ 2564) (v1 : Int32) : wpX_run (fun r u' => wpY_run (fun r' v' => r' = r ∧ i_Rel (k + 5) u' v') v v1) u v1 := by
  obtain ⟨φ, ι, ω, κ, hK, C, ch, gc, _, p, ls, P, Q, rfl, rfl, gp⟩ := I
  exact fn_r hK (ru_lk hK v1 gc gp)
theorem i_vc_runTo {k : Nat} {u : SX} {v : SY} (I : i_Rel k u v) (hk : k + 5 ≤ 2564) (v1 : Int32) (v2 : Int32) : wpX_runTo (fun r u' => wpY_runTo (fun r' v' => r' = r ∧ i_Rel (k + 5) u' v') v v1 v2) u v1 v2 := by
  obtain ⟨φ, ι, ω, κ, hK, C, ch, gc, _, p, ls, P, Q, rfl, rfl, gp⟩ := I
  exact fn_r hK (rt_lk hK v1 v2 gc gp)
theorem i_vc_runKind {k : Nat} {u : SX} {v : SY} (I : i_Rel k u v) (hk : k + 5 ≤ 2564) (v1 : Int32) (v2 : Int32) : wpX_runKind (fun r u' => wpY_runKind (fun r' v' => r' = r ∧ i_Rel (k + 5) u' v') v v1 v2) u v1 v2 := by
  obtain ⟨φ, ι, ω, κ, hK, C, ch, gc, _, p, ls, P, Q, rfl, rfl, gp⟩ := I
  exact fn_r hK (rk_lk hK v1 v2 gc gp)
theorem i_vc_dropTo {k : Nat} {u : SX} {v : SY} (I : i_Rel k u v) (hk : k + 5 ≤ 2564) (v1 : Int32) : wpX_dropTo (fun r u' => wpY_dropTo (fun r' v' => r' = r ∧ i_Rel (k + 5) u' v') v v1) u v1 := by
  obtain ⟨φ, ι, ω, κ, hK, C, ch, gc, _, p, ls, P, Q, rfl, rfl, gp⟩ := I
  exact fn_r hK (dp_lk hK v1 gc gp)
theorem i_vc_sendPrePrepare {k : Nat} {u : SX} {v : SY} (I : i_Rel k u v) (hk : k + 5 ≤ 2564) (v1 : Int32) (v2 : Int32) (v3 : Int32) (v4 : Int32) : wpX_sendPrePrepare (fun r u' => wpY_sendPrePrepare (fun r' v' => r' = r ∧ i_Rel (k + 5) u' v') v v1 v2 v3 v4) u v1 v2 v3 v4 := by
  obtain ⟨φ, ι, ω, κ, hK, C, ch, gc, _, p, ls, P, Q, rfl, rfl, gp⟩ := I
  exact fn_r hK (s3_sendPrePrepare hK v1 v2 v3 v4 gc gp)
theorem i_vc_sendPrepare {k : Nat} {u : SX} {v : SY} (I : i_Rel k u v) (hk : k + 5 ≤ 2564) (v1 : Int32) (v2 : Int32) (v3 : Int32) (v4 : Int32) : wpX_sendPrepare (fun r u' => wpY_sendPrepare (fun r' v' => r' = r ∧ i_Rel (k + 5) u' v') v v1 v2 v3 v4) u v1 v2 v3 v4 := by
  obtain ⟨φ, ι, ω, κ, hK, C, ch, gc, _, p, ls, P, Q, rfl, rfl, gp⟩ := I
  exact fn_r hK (s3_sendPrepare hK v1 v2 v3 v4 gc gp)
theorem i_vc_sendCommit {k : Nat} {u : SX} {v : SY} (I : i_Rel k u v) (hk : k + 5 ≤ 2564) (v1 : Int32) (v2 : Int32) (v3 : Int32) (v4 : Int32) : wpX_sendCommit (fun r u' => wpY_sendCommit (fun r' v' => r' = r ∧ i_Rel (k + 5) u' v') v v1 v2 v3 v4) u v1 v2 v3 v4 := by
  obtain ⟨φ, ι, ω, κ, hK, C, ch, gc, _, p, ls, P, Q, rfl, rfl, gp⟩ := I
  exact fn_r hK (s3_sendCommit hK v1 v2 v3 v4 gc gp)
theorem i_vc_sendCheckpoint {k : Nat} {u : SX} {v : SY} (I : i_Rel k u v) (hk : k + 5 ≤ 2564) (v1 : Int32) (v2 : Int32) (v3 : Int32) : wpX_sendCheckpoint (fun r u' => wpY_sendCheckpoint (fun r' v' => r' = r ∧ i_Rel (k + 5) u' v') v v1 v2 v3) u v1 v2 v3 := by
  obtain ⟨φ, ι, ω, κ, hK, C, ch, gc, _, p, ls, P, Q, rfl, rfl, gp⟩ := I
  exact fn_r hK (sk_lk hK v1 v2 v3 gc gp)
theorem i_vc_draft {k : Nat} {u : SX} {v : SY} (I : i_Rel k u v) (hk : k + 5 ≤ 2564) (v1 : Int32) (v2 : Int32) (v3 : Int32) (v4 : Int32) : wpX_draft (fun r u' => wpY_draft (fun r' v' => r' = r ∧ i_Rel (k + 5) u' v') v v1 v2 v3 v4) u v1 v2 v3 v4 := by
  obtain ⟨φ, ι, ω, κ, hK, C, ch, gc, _, p, ls, P, Q, rfl, rfl, gp⟩ := I
  exact fn_r hK (df_lk hK v1 v2 v3 v4 gc gp)
theorem i_vc_draftEntry {k : Nat} {u : SX} {v : SY} (I : i_Rel k u v) (hk : k + 5 ≤ 2564) (v1 : Int32) (v2 : Int32) (v3 : Int32) (v4 : Int32) : wpX_draftEntry (fun r u' => wpY_draftEntry (fun r' v' => r' = r ∧ i_Rel (k + 5) u' v') v v1 v2 v3 v4) u v1 v2 v3 v4 := by
  obtain ⟨φ, ι, ω, κ, hK, C, ch, gc, _, p, ls, P, Q, rfl, rfl, gp⟩ := I
  exact fn_r hK (de_lk hK v1 v2 v3 v4 gc gp)
theorem i_vc_sendViewChange {k : Nat} {u : SX} {v : SY} (I : i_Rel k u v) (hk : k + 5 ≤ 2564) (v1 : Int32) (v2 : Int32) : wpX_sendViewChange (fun r u' => wpY_sendViewChange (fun r' v' => r' = r ∧ i_Rel (k + 5) u' v') v v1 v2) u v1 v2 := by
  obtain ⟨φ, ι, ω, κ, hK, C, ch, gc, _, p, ls, P, Q, rfl, rfl, gp⟩ := I
  exact fn_r hK (sw_lk hK v1 v2 gc gp)
theorem i_vc_sendNewView {k : Nat} {u : SX} {v : SY} (I : i_Rel k u v) (hk : k + 5 ≤ 2564) (v1 : Int32) (v2 : Int32) (v3 : Int32) (v4 : Int32) : wpX_sendNewView (fun r u' => wpY_sendNewView (fun r' v' => r' = r ∧ i_Rel (k + 5) u' v') v v1 v2 v3 v4) u v1 v2 v3 v4 := by
  obtain ⟨φ, ι, ω, κ, hK, C, ch, gc, _, p, ls, P, Q, rfl, rfl, gp⟩ := I
  exact fn_r hK (sn_lk hK v1 v2 v3 v4 gc gp)
theorem i_vc_setting {k : Nat} {u : SX} {v : SY} (I : i_Rel k u v) (hk : k + 5 ≤ 2564) (v1 : Int32) : wpX_setting (fun r => wpY_setting (fun r' => r' = r ∧ i_Rel (k + 5) u v) v v1) u v1 := by
  have I' := I
  obtain ⟨φ, ι, ω, κ, hK, C, ch, gc, _, p, ls, P, Q, rfl, rfl, gp⟩ := I
  exact fn_a I' (ge_setting v1)
theorem i_vc_message {k : Nat} {u : SX} {v : SY} (I : i_Rel k u v) (hk : k + 5 ≤ 2564) (v1 : Int32) (v2 : Int32) : wpX_message (fun r => wpY_message (fun r' => r' = r ∧ i_Rel (k + 5) u v) v v1 v2) u v1 v2 := by
  have I' := I
  obtain ⟨φ, ι, ω, κ, hK, C, ch, gc, _, p, ls, P, Q, rfl, rfl, gp⟩ := I
  exact fn_a I' (ge_message hK v1 v2 gp)
theorem i_vc_replica {k : Nat} {u : SX} {v : SY} (I : i_Rel k u v) (hk : k + 5 ≤ 2564) (v1 : Int32) (v2 : Int32) : wpX_replica (fun r => wpY_replica (fun r' => r' = r ∧ i_Rel (k + 5) u v) v v1 v2) u v1 v2 := by
  have I' := I
  obtain ⟨φ, ι, ω, κ, hK, C, ch, gc, _, p, ls, P, Q, rfl, rfl, gp⟩ := I
  exact fn_a I' (ge_replica v1 v2)
theorem i_vc_log {k : Nat} {u : SX} {v : SY} (I : i_Rel k u v) (hk : k + 5 ≤ 2564) (v1 : Int32) (v2 : Int32) (v3 : Int32) : wpX_log (fun r => wpY_log (fun r' => r' = r ∧ i_Rel (k + 5) u v) v v1 v2 v3) u v1 v2 v3 := by
  have I' := I
  obtain ⟨φ, ι, ω, κ, hK, C, ch, gc, _, p, ls, P, Q, rfl, rfl, gp⟩ := I
  exact fn_a I' (ge_log v1 v2 v3)
theorem i_vc_vote {k : Nat} {u : SX} {v : SY} (I : i_Rel k u v) (hk : k + 5 ≤ 2564) (v1 : Int32) (v2 : Int32) (v3 : Int32) (v4 : Int32) : wpX_vote (fun r => wpY_vote (fun r' => r' = r ∧ i_Rel (k + 5) u v) v v1 v2 v3 v4) u v1 v2 v3 v4 := by
  have I' := I
  obtain ⟨φ, ι, ω, κ, hK, C, ch, gc, _, p, ls, P, Q, rfl, rfl, gp⟩ := I
  exact fn_a I' (ge_vote v1 v2 v3 v4)
theorem i_vc_signedValue {k : Nat} {u : SX} {v : SY} (I : i_Rel k u v) (hk : k + 5 ≤ 2564) (v1 : Int32) (v2 : Int32) (v3 : Int32) : wpX_signedValue (fun r => wpY_signedValue (fun r' => r' = r ∧ i_Rel (k + 5) u v) v v1 v2 v3) u v1 v2 v3 := by
  have I' := I
  obtain ⟨φ, ι, ω, κ, hK, C, ch, gc, _, p, ls, P, Q, rfl, rfl, gp⟩ := I
  exact fn_a I' (ge_signedValue v1 v2 v3)
theorem i_vc_signedCheckpoint {k : Nat} {u : SX} {v : SY} (I : i_Rel k u v) (hk : k + 5 ≤ 2564) (v1 : Int32) (v2 : Int32) : wpX_signedCheckpoint (fun r => wpY_signedCheckpoint (fun r' => r' = r ∧ i_Rel (k + 5) u v) v v1 v2) u v1 v2 := by
  have I' := I
  obtain ⟨φ, ι, ω, κ, hK, C, ch, gc, _, p, ls, P, Q, rfl, rfl, gp⟩ := I
  exact fn_a I' (ge_signedCheckpoint v1 v2)
theorem i_vc_heldDocument {k : Nat} {u : SX} {v : SY} (I : i_Rel k u v) (hk : k + 5 ≤ 2564) (v1 : Int32) (v2 : Int32) : wpX_heldDocument (fun r => wpY_heldDocument (fun r' => r' = r ∧ i_Rel (k + 5) u v) v v1 v2) u v1 v2 := by
  have I' := I
  obtain ⟨φ, ι, ω, κ, hK, C, ch, gc, _, p, ls, P, Q, rfl, rfl, gp⟩ := I
  exact fn_a I' (ge_heldDocument v1 v2)
theorem i_vc_document {k : Nat} {u : SX} {v : SY} (I : i_Rel k u v) (hk : k + 5 ≤ 2564) (v1 : Int32) (v2 : Int32) (v3 : Int32) : wpX_document (fun r => wpY_document (fun r' => r' = r ∧ i_Rel (k + 5) u v) v v1 v2 v3) u v1 v2 v3 := by
  have I' := I
  obtain ⟨φ, ι, ω, κ, hK, C, ch, gc, _, p, ls, P, Q, rfl, rfl, gp⟩ := I
  exact fn_a I' (ge_document v1 v2 v3 gc)
theorem i_vc_documentEntry {k : Nat} {u : SX} {v : SY} (I : i_Rel k u v) (hk : k + 5 ≤ 2564) (v1 : Int32) (v2 : Int32) (v3 : Int32) : wpX_documentEntry (fun r => wpY_documentEntry (fun r' => r' = r ∧ i_Rel (k + 5) u v) v v1 v2 v3) u v1 v2 v3 := by
  have I' := I
  obtain ⟨φ, ι, ω, κ, hK, C, ch, gc, _, p, ls, P, Q, rfl, rfl, gp⟩ := I
  exact fn_a I' (ge_documentEntry v1 v2 v3 gc)
theorem i_vc_documentValid {k : Nat} {u : SX} {v : SY} (I : i_Rel k u v) (hk : k + 5 ≤ 2564) (v1 : Int32) (v2 : Int32) : wpX_documentValid (fun r => wpY_documentValid (fun r' => r' = r ∧ i_Rel (k + 5) u v) v v1 v2) u v1 v2 := by
  have I' := I
  obtain ⟨φ, ι, ω, κ, hK, C, ch, gc, _, p, ls, P, Q, rfl, rfl, gp⟩ := I
  exact fn_a I' (ge_documentValid hK v1 v2 gc)
theorem i_vc_certified {k : Nat} {u : SX} {v : SY} (I : i_Rel k u v) (hk : k + 5 ≤ 2564) (v1 : Int32) (v2 : Int32) (v3 : Int32) : wpX_certified (fun r => wpY_certified (fun r' => r' = r ∧ i_Rel (k + 5) u v) v v1 v2 v3) u v1 v2 v3 := by
  have I' := I
  obtain ⟨φ, ι, ω, κ, hK, C, ch, gc, _, p, ls, P, Q, rfl, rfl, gp⟩ := I
  exact fn_a I' (ge_certified hK v1 v2 v3)
end
