section
/-! ===== ints by their integers ===== -/
def zz_I (z : Int) : Int32 := Int32.ofInt z
theorem zz_toInt {a : Int} (h1 : -2147483648 ≤ a) (h2 : a < 2147483648) : (zz_I a).toInt = a := Int32.toInt_ofInt_of_le (by omega) (by omega)
theorem zz_leI {a b : Int} (ha : -2147483648 ≤ a) (ha' : a < 2147483648) (hb : -2147483648 ≤ b) (hb' : b < 2147483648) : zz_I a ≤ zz_I b ↔ a ≤ b := by
  rw [Int32.le_iff_toInt_le, zz_toInt ha ha', zz_toInt hb hb']
theorem zz_ltI {a b : Int} (ha : -2147483648 ≤ a) (ha' : a < 2147483648) (hb : -2147483648 ≤ b) (hb' : b < 2147483648) : zz_I a < zz_I b ↔ a < b := by
  rw [Int32.lt_iff_toInt_lt, zz_toInt ha ha', zz_toInt hb hb']
theorem zz_eqI {a b : Int} (ha : -2147483648 ≤ a) (ha' : a < 2147483648) (hb : -2147483648 ≤ b) (hb' : b < 2147483648) : zz_I a = zz_I b ↔ a = b := by
  rw [← Int32.toInt_inj, zz_toInt ha ha', zz_toInt hb hb']
theorem zz_n (n : Nat) : zz_I (n : Int) = nI n := Int32.ofInt_eq_ofNat
theorem zz_add (a b : Int) : zz_I a + zz_I b = zz_I (a + b) := (Int32.ofInt_add a b).symm
theorem zz_sub (a b : Int) : zz_I a - zz_I b = zz_I (a - b) := (Int32.ofInt_sub a b).symm
theorem zz_mul (a b : Int) : zz_I a * zz_I b = zz_I (a * b) := (Int32.ofInt_mul a b).symm
theorem zz_N : (1000000 : Int32) = zz_I 1000000 := by decide
theorem zz_0 : (0 : Int32) = zz_I 0 := by decide
theorem zz_1 : (1 : Int32) = zz_I 1 := by decide
theorem zz_m1 : (-1 : Int32) = zz_I (-1) := by decide
theorem zz_le {x y : Int32} {A B : Prop} (a b : Int) (f : a ≤ b → A) (g : b < a → B) (hx : x = zz_I a := by rfl) (hy : y = zz_I b := by rfl) (ha : -2147483648 ≤ a := by omega) (ha' : a < 2147483648 := by omega) (hb : -2147483648 ≤ b := by omega) (hb' : b < 2147483648 := by omega) : (x ≤ y → A) ∧ (¬ x ≤ y → B) := by
  subst hx hy
  rw [zz_leI ha ha' hb hb']
  exact ⟨f, fun z => g (by omega)⟩
theorem zz_lt {x y : Int32} {A B : Prop} (a b : Int) (f : a < b → A) (g : b ≤ a → B) (hx : x = zz_I a := by rfl) (hy : y = zz_I b := by rfl) (ha : -2147483648 ≤ a := by omega) (ha' : a < 2147483648 := by omega) (hb : -2147483648 ≤ b := by omega) (hb' : b < 2147483648 := by omega) : (x < y → A) ∧ (¬ x < y → B) := by
  subst hx hy
  rw [zz_ltI ha ha' hb hb']
  exact ⟨f, fun z => g (by omega)⟩
theorem zz_eq {x y : Int32} {A B : Prop} (a b : Int) (f : a = b → A) (g : a ≠ b → B) (hx : x = zz_I a := by rfl) (hy : y = zz_I b := by rfl) (ha : -2147483648 ≤ a := by omega) (ha' : a < 2147483648 := by omega) (hb : -2147483648 ≤ b := by omega) (hb' : b < 2147483648 := by omega) : (x = y → A) ∧ (¬ x = y → B) := by
  subst hx hy
  rw [zz_eqI ha ha' hb hb']
  exact ⟨f, g⟩
/-! ===== the law's least, most, apart ===== -/
def zz_mn (a b : Int) : Int := if b ≤ a then b else a
def zz_mx (a b : Int) : Int := if a ≤ b then b else a
def zz_ap (a b : Int) : Int := if a ≤ b then b - a else a - b
theorem zz_mnO (a b : Int) : (zz_mn a b = b ∧ b ≤ a) ∨ (zz_mn a b = a ∧ a < b) := by
  unfold zz_mn
  split
  · exact Or.inl ⟨rfl, by assumption⟩
  · exact Or.inr ⟨rfl, by omega⟩
theorem zz_mxO (a b : Int) : (zz_mx a b = b ∧ a ≤ b) ∨ (zz_mx a b = a ∧ b < a) := by
  unfold zz_mx
  split
  · exact Or.inl ⟨rfl, by assumption⟩
  · exact Or.inr ⟨rfl, by omega⟩
theorem zz_apO (a b : Int) : (zz_ap a b = b - a ∧ a ≤ b) ∨ (zz_ap a b = a - b ∧ b < a) := by
  unfold zz_ap
  split
  · exact Or.inl ⟨rfl, by assumption⟩
  · exact Or.inr ⟨rfl, by omega⟩
def zz_ok (a : Int) : Prop := -1000000000 ≤ a ∧ a ≤ 1000000000
theorem zz_least {post : Int32 → Prop} {a b : Int} (ha : zz_ok a) (hb : zz_ok b) (h : post (zz_I (zz_mn a b))) : wpL_least post () (zz_I a) (zz_I b) := by
  unfold zz_ok at ha hb
  unfold zz_mn at h
  refine zz_le b a (fun z => ?_) (fun z => ?_)
  · rw [if_pos z] at h; exact h
  · rw [if_neg (by omega)] at h; exact h
theorem zz_most {post : Int32 → Prop} {a b : Int} (ha : zz_ok a) (hb : zz_ok b) (h : post (zz_I (zz_mx a b))) : wpL_most post () (zz_I a) (zz_I b) := by
  unfold zz_ok at ha hb
  unfold zz_mx at h
  refine zz_le a b (fun z => ?_) (fun z => ?_)
  · rw [if_pos z] at h; exact h
  · rw [if_neg (by omega)] at h; exact h
theorem zz_apart {post : Int32 → Prop} {a b : Int} (ha : zz_ok a) (hb : zz_ok b) (h : post (zz_I (zz_ap a b))) : wpL_apart post () (zz_I a) (zz_I b) := by
  unfold zz_ok at ha hb
  unfold zz_ap at h
  refine zz_le a b (fun z => ?_) (fun z => ?_)
  · rw [if_pos z] at h; rw [zz_sub]; exact h
  · rw [if_neg (by omega)] at h; rw [zz_sub]; exact h
/-! ===== bits ===== -/
theorem rq_and (a b : Nat) : nI a &&& nI b = nI (a &&& b) := by
  apply Int32.toBitVec_inj.1
  show BitVec.ofNat 32 a &&& BitVec.ofNat 32 b = BitVec.ofNat 32 (a &&& b)
  apply BitVec.eq_of_getLsbD_eq
  intro i hi
  simp [hi]
theorem rq_or (a b : Nat) : nI a ||| nI b = nI (a ||| b) := by
  apply Int32.toBitVec_inj.1
  show BitVec.ofNat 32 a ||| BitVec.ofNat 32 b = BitVec.ofNat 32 (a ||| b)
  apply BitVec.eq_of_getLsbD_eq
  intro i hi
  simp [hi]
theorem rq_sl : ∀ j, j < 8 → ((nI j &&& 31).toBitVec.smod 32).toNat = j := by decide +kernel
theorem rq_sh : ∀ j, j < 8 → (1 : Int32) <<< (nI j &&& 31) = nI (2 ^ j) := by decide +kernel
theorem rq_bit {m j : Nat} (hm : m < 256) (hj : j < 8) : (nI m >>> (nI j &&& 31)) &&& 1 = nI (m / 2 ^ j % 2) := by
  rw [pk_shrN (by omega) _ j (rq_sl j hj)]
  exact pk_andN (Nat.lt_of_le_of_lt (Nat.div_le_self _ _) (by omega)) 1 (by decide)
theorem rq_bit1 {m j : Nat} (hm : m < 256) (hj : j < 8) : ((nI m >>> (nI j &&& 31)) &&& 1) = 1 ↔ m.testBit j = true := by
  rw [rq_bit hm hj, Nat.testBit_eq_decide_div_mod_eq, decide_eq_true_iff]
  exact nI_eq (b := 1) (by omega) (by omega)
theorem rq_pow {j : Nat} (hj : j < 8) : 2 ^ j < 256 := Nat.pow_lt_pow_right (by omega) hj
theorem rq_pow2 {g h : Nat} (hg : g < 8) (hh : h < 8) : 2 ^ g ||| 2 ^ h < 256 := Nat.or_lt_two_pow (n := 8) (rq_pow hg) (rq_pow hh)
theorem rq_and8 {a : Nat} (m : Nat) (ha : a < 256) : a &&& m < 256 := Nat.lt_of_le_of_lt Nat.and_le_left ha
/-- the number of bits of m below i -/
def rq_pc (m : Nat) : Nat → Nat
  | 0 => 0
  | i + 1 => rq_pc m i + m / 2 ^ i % 2
theorem rq_pc_le (m i : Nat) : rq_pc m i ≤ i := by
  induction i with
  | zero => exact Nat.le_refl 0
  | succ i ih =>
    show rq_pc m i + m / 2 ^ i % 2 ≤ i + 1
    omega
theorem rq_pc1 : ∀ m, m < 256 → m ≠ 0 → 1 ≤ rq_pc m 8 := by decide +kernel
theorem rq_pc2d : ∀ i, i < 8 → ∀ j, j < 8 → ∀ m, m < 256 → (i = j ∨ 2 ^ i &&& m = 0 ∨ 2 ^ j &&& m = 0 ∨ 2 ≤ rq_pc m 8) := by decide +kernel
theorem rq_pc2 {i j m : Nat} (hi : i < 8) (hj : j < 8) (e : i ≠ j) (hm : m < 256) (h1 : 2 ^ i &&& m ≠ 0) (h2 : 2 ^ j &&& m ≠ 0) : 2 ≤ rq_pc m 8 := by
  rcases rq_pc2d i hi j hj m hm with z | z | z | z
  · exact absurd z e
  · exact absurd z h1
  · exact absurd z h2
  · exact z
theorem rq_up {f s : Nat → Int32} {N k : Nat} {x y : Int32} (h : ∀ j, j < N → s j = f j) (e : x = y) : ∀ j, j < N → upd s k x j = upd f k y j := by
  intro j hj
  unfold upd
  split
  · exact e
  · exact h j hj
theorem rq_fill {f s : Nat → Int32} {i : Nat} {x : Int32} (h : ∀ j, j < i → s j = f j) (hx : x = f i) : ∀ j, j < i + 1 → upd s i x j = f j := by
  intro j hj
  by_cases e : j = i
  · rw [e, pk_us, hx]
  · rw [pk_un e]
    exact h j (by omega)
end
section
/-! ===== what summarise works out: folds over the rows in use ===== -/
def rq_f5 (a1 a2 : Nat → Int32) : Nat → Nat → Int32
  | 0 => fun _ => 0
  | n + 1 => if a1 n = 0 then rq_f5 a1 a2 n else upd (rq_f5 a1 a2 n) (a2 n).toNatClampNeg (rq_f5 a1 a2 n (a2 n).toNatClampNeg + 1)
def rq_f6 (a1 a2 a3 : Nat → Int32) : Nat → Nat → Int32
  | 0 => fun _ => 0
  | n + 1 => if a1 n = 0 then rq_f6 a1 a2 a3 n else upd (rq_f6 a1 a2 a3 n) (a2 n).toNatClampNeg (rq_f6 a1 a2 a3 n (a2 n).toNatClampNeg ||| ((1 : Int32) <<< (a3 n &&& 31)))
def rq_f7 (a1 a2 a3 a4 : Nat → Int32) : Nat → Nat → Int32
  | 0 => fun _ => 1000000
  | n + 1 => if a1 n = 0 then rq_f7 a1 a2 a3 a4 n else
      if rq_f7 a1 a2 a3 a4 n (a2 n * 8 + a3 n).toNatClampNeg = 1000000 then upd (rq_f7 a1 a2 a3 a4 n) (a2 n * 8 + a3 n).toNatClampNeg (a4 n) else
      if a4 n ≤ rq_f7 a1 a2 a3 a4 n (a2 n * 8 + a3 n).toNatClampNeg then rq_f7 a1 a2 a3 a4 n else upd (rq_f7 a1 a2 a3 a4 n) (a2 n * 8 + a3 n).toNatClampNeg (a4 n)
/-- every row in use has a key and a group -/
def rq_W (a1 a2 a3 : Nat → Int32) : Prop := ∀ n, n < 14 → a1 n = 0 ∨ ∃ k g, k < 6 ∧ g < 8 ∧ a2 n = nI k ∧ a3 n = nI g
def rq_F (a1 a2 a3 a4 b5 b6 b7 : Nat → Int32) : Prop := (∀ k, k < 6 → b5 k = rq_f5 a1 a2 14 k) ∧ (∀ k, k < 6 → b6 k = rq_f6 a1 a2 a3 14 k) ∧ (∀ k, k < 48 → b7 k = rq_f7 a1 a2 a3 a4 14 k)
theorem rq_ix (k g : Nat) : nI k * 8 + nI g = nI (k * 8 + g) := by
  rw [show (8 : Int32) = nI 8 from rfl, pk_mul, nI_add]
section
variable {f0 : Int32} {a1 a2 a3 a4 a5 a6 a7 a8 a9 a10 a11 a12 a13 a14 a15 : Nat → Int32}
theorem rq_f5z {n : Nat} (e : a1 n = 0) : rq_f5 a1 a2 (n + 1) = rq_f5 a1 a2 n := if_pos e
theorem rq_f6z {n : Nat} (e : a1 n = 0) : rq_f6 a1 a2 a3 (n + 1) = rq_f6 a1 a2 a3 n := if_pos e
theorem rq_f7z {n : Nat} (e : a1 n = 0) : rq_f7 a1 a2 a3 a4 (n + 1) = rq_f7 a1 a2 a3 a4 n := if_pos e
theorem rq_f5u {n k : Nat} (e : ¬ a1 n = 0) (hk : k < 6) (e2 : a2 n = nI k) : rq_f5 a1 a2 (n + 1) = upd (rq_f5 a1 a2 n) k (rq_f5 a1 a2 n k + 1) := by
  show (if a1 n = 0 then _ else _) = _
  rw [if_neg e, e2, nI_clamp (by omega)]
theorem rq_f6u {n k : Nat} (e : ¬ a1 n = 0) (hk : k < 6) (e2 : a2 n = nI k) : rq_f6 a1 a2 a3 (n + 1) = upd (rq_f6 a1 a2 a3 n) k (rq_f6 a1 a2 a3 n k ||| ((1 : Int32) <<< (a3 n &&& 31))) := by
  show (if a1 n = 0 then _ else _) = _
  rw [if_neg e, e2, nI_clamp (by omega)]
theorem rq_atc {n k g : Nat} (hk : k < 6) (hg : g < 8) (e2 : a2 n = nI k) (e3 : a3 n = nI g) : (a2 n * 8 + a3 n).toNatClampNeg = k * 8 + g := by
  rw [e2, e3, rq_ix, nI_clamp (by omega)]
theorem rq_f7a {n k g : Nat} (e : ¬ a1 n = 0) (hk : k < 6) (hg : g < 8) (e2 : a2 n = nI k) (e3 : a3 n = nI g) (hz : rq_f7 a1 a2 a3 a4 n (k * 8 + g) = 1000000) : rq_f7 a1 a2 a3 a4 (n + 1) = upd (rq_f7 a1 a2 a3 a4 n) (k * 8 + g) (a4 n) := by
  show (if a1 n = 0 then _ else _) = _
  rw [if_neg e, rq_atc hk hg e2 e3, if_pos hz]
theorem rq_f7b {n k g : Nat} (e : ¬ a1 n = 0) (hk : k < 6) (hg : g < 8) (e2 : a2 n = nI k) (e3 : a3 n = nI g) (hz : ¬ rq_f7 a1 a2 a3 a4 n (k * 8 + g) = 1000000) (hy : a4 n ≤ rq_f7 a1 a2 a3 a4 n (k * 8 + g)) : rq_f7 a1 a2 a3 a4 (n + 1) = rq_f7 a1 a2 a3 a4 n := by
  show (if a1 n = 0 then _ else _) = _
  rw [if_neg e, rq_atc hk hg e2 e3, if_neg hz, if_pos hy]
theorem rq_f7c {n k g : Nat} (e : ¬ a1 n = 0) (hk : k < 6) (hg : g < 8) (e2 : a2 n = nI k) (e3 : a3 n = nI g) (hz : ¬ rq_f7 a1 a2 a3 a4 n (k * 8 + g) = 1000000) (hy : ¬ a4 n ≤ rq_f7 a1 a2 a3 a4 n (k * 8 + g)) : rq_f7 a1 a2 a3 a4 (n + 1) = upd (rq_f7 a1 a2 a3 a4 n) (k * 8 + g) (a4 n) := by
  show (if a1 n = 0 then _ else _) = _
  rw [if_neg e, rq_atc hk hg e2 e3, if_neg hz, if_neg hy]
theorem rq_f5s {n : Nat} (m : Nat) (h : ∀ j, n ≤ j → j < m → a1 j = 0) (hnm : n ≤ m) : rq_f5 a1 a2 m = rq_f5 a1 a2 n := by
  induction m with
  | zero => rw [show n = 0 by omega]
  | succ m ih =>
    by_cases e : n = m + 1
    · rw [e]
    · rw [rq_f5z (h m (by omega) (by omega))]
      exact ih (fun j a b => h j a (by omega)) (by omega)
theorem rq_f6s {n : Nat} (m : Nat) (h : ∀ j, n ≤ j → j < m → a1 j = 0) (hnm : n ≤ m) : rq_f6 a1 a2 a3 m = rq_f6 a1 a2 a3 n := by
  induction m with
  | zero => rw [show n = 0 by omega]
  | succ m ih =>
    by_cases e : n = m + 1
    · rw [e]
    · rw [rq_f6z (h m (by omega) (by omega))]
      exact ih (fun j a b => h j a (by omega)) (by omega)
theorem rq_f7s {n : Nat} (m : Nat) (h : ∀ j, n ≤ j → j < m → a1 j = 0) (hnm : n ≤ m) : rq_f7 a1 a2 a3 a4 m = rq_f7 a1 a2 a3 a4 n := by
  induction m with
  | zero => rw [show n = 0 by omega]
  | succ m ih =>
    by_cases e : n = m + 1
    · rw [e]
    · rw [rq_f7z (h m (by omega) (by omega))]
      exact ih (fun j a b => h j a (by omega)) (by omega)
/-! ===== summarise ===== -/
theorem rq_s52 {post : St2 → Prop} (hW : rq_W a1 a2 a3) (h5 : ∀ k, k < 6 → a5 k = 0) (h6 : ∀ k, k < 6 → a6 k = 0) (h7 : ∀ k, k < 48 → a7 k = 1000000)
    (H : ∀ b5 b6 b7, rq_F a1 a2 a3 a4 b5 b6 b7 → post (f0, a1, a2, a3, a4, b5, b6, b7, a8, a9, a10, a11, a12, a13, a14, a15)) : ∃ n, wX_summarise_52 post f0 n 0 a1 a2 a3 a4 a5 a6 a7 a8 a9 a10 a11 a12 a13 a14 a15 := by
  refine pk_loop (σ := (Nat → Int32) × (Nat → Int32) × (Nat → Int32)) (fun n i s => wX_summarise_52 post f0 n (nI i) a1 a2 a3 a4 s.1 s.2.1 s.2.2 a8 a9 a10 a11 a12 a13 a14 a15) (fun i s => (∀ k, k < 6 → s.1 k = rq_f5 a1 a2 i k) ∧ (∀ k, k < 6 → s.2.1 k = rq_f6 a1 a2 a3 i k) ∧ (∀ k, k < 48 → s.2.2 k = rq_f7 a1 a2 a3 a4 i k)) 14 0 (a5, a6, a7) (by omega) ⟨h5, h6, h7⟩ ?_ ?_
  · exact fun n s h => pk_le 14 14 (fun _ => H _ _ _ h) (fun z => absurd z (by omega))
  · intro n i s hi hI hw
    obtain ⟨i5, i6, i7⟩ := hI
    refine pk_le 14 i (fun z => absurd z (by omega)) (fun _ => ⟨pk_in i 14 hi, ?_⟩)
    rw [nI_clamp (show i < 2 ^ 31 by omega)]
    by_cases e : a1 i = 0
    · refine br_t e (nm_r (nI_1 i) (hw s ⟨?_, ?_, ?_⟩))
      · rw [rq_f5z e]; exact i5
      · rw [rq_f6z e]; exact i6
      · rw [rq_f7z e]; exact i7
    · rcases hW i hi with e' | ⟨k, g, hk, hg, e2, e3⟩
      · exact absurd e' e
      have K7 := i7 (k * 8 + g) (by omega)
      have T : ∀ b7, (∀ j, j < 48 → b7 j = rq_f7 a1 a2 a3 a4 (i + 1) j) → wX_summarise_52 post f0 n (nI (i + 1)) a1 a2 a3 a4 (upd s.1 k (s.1 k + 1)) (upd s.2.1 k (s.2.1 k ||| ((1 : Int32) <<< (a3 i &&& 31)))) b7 a8 a9 a10 a11 a12 a13 a14 a15 := fun b7 h7 =>
        hw (upd s.1 k (s.1 k + 1), upd s.2.1 k (s.2.1 k ||| ((1 : Int32) <<< (a3 i &&& 31))), b7) ⟨by rw [rq_f5u e hk e2]; exact rq_up i5 (by rw [i5 k hk]), by rw [rq_f6u e hk e2]; exact rq_up i6 (by rw [i6 k hk]), h7⟩
      have T139 : (∀ j, j < 48 → upd s.2.2 (k * 8 + g) (a4 i) j = rq_f7 a1 a2 a3 a4 (i + 1) j) → wX_summarise_139 post (wX_summarise_52 post f0 n) (nI i) (nI (k * 8 + g)) f0 a1 a2 a3 a4 (upd s.1 k (s.1 k + 1)) (upd s.2.1 k (s.2.1 k ||| ((1 : Int32) <<< (a3 i &&& 31)))) s.2.2 a8 a9 a10 a11 a12 a13 a14 a15 := fun h7 =>
        ⟨pk_in i 14 hi, pk_in (k * 8 + g) 48 (by omega), nm_r (e' := upd s.2.2 (k * 8 + g) (a4 i)) (by rw [nI_clamp (show i < 2 ^ 31 by omega), nI_clamp (show k * 8 + g < 2 ^ 31 by omega)]) (nm_r (nI_1 i) (T _ h7))⟩
      refine br_f e ⟨pk_in i 14 hi, nm_r e2 ⟨pk_in i 14 hi, nm_r (e' := nI (k * 8 + g)) (by rw [e3, rq_ix]) ⟨pk_in k 6 hk, pk_in k 6 hk, ?_⟩⟩⟩
      rw [nI_clamp (show k < 2 ^ 31 by omega), nI_clamp (show k * 8 + g < 2 ^ 31 by omega)]
      refine nm_e ⟨pk_in k 6 hk, pk_in i 14 hi, pk_in k 6 hk, nm_e ⟨pk_in (k * 8 + g) 48 (by omega), ?_⟩⟩
      rw [K7]
      by_cases z : rq_f7 a1 a2 a3 a4 i (k * 8 + g) = 1000000
      · refine br_t z (T139 ?_)
        rw [rq_f7a e hk hg e2 e3 z]
        exact rq_up i7 rfl
      · refine br_f z ⟨pk_in i 14 hi, pk_in (k * 8 + g) 48 (by omega), ?_⟩
        by_cases y : a4 i ≤ rq_f7 a1 a2 a3 a4 i (k * 8 + g)
        · refine br_t y (nm_r (nI_1 i) (T _ ?_))
          rw [rq_f7b e hk hg e2 e3 z y]
          exact i7
        · refine br_f y (T139 ?_)
          rw [rq_f7c e hk hg e2 e3 z y]
          exact rq_up i7 rfl
theorem rq_s30 {post : St2 → Prop} (hW : rq_W a1 a2 a3) (h5 : ∀ k, k < 6 → a5 k = 0) (h6 : ∀ k, k < 6 → a6 k = 0)
    (H : ∀ b5 b6 b7, rq_F a1 a2 a3 a4 b5 b6 b7 → post (f0, a1, a2, a3, a4, b5, b6, b7, a8, a9, a10, a11, a12, a13, a14, a15)) : ∃ n, wX_summarise_30 post f0 n 0 a1 a2 a3 a4 a5 a6 a7 a8 a9 a10 a11 a12 a13 a14 a15 :=
  pk_loop (σ := Nat → Int32) (fun n i s => wX_summarise_30 post f0 n (nI i) a1 a2 a3 a4 a5 a6 s a8 a9 a10 a11 a12 a13 a14 a15) (fun i s => ∀ j, j < i → s j = 1000000) 48 0 a7 (by omega) (fun j hj => absurd hj (by omega))
    (fun n s h => pk_le 48 48 (fun _ => rq_s52 hW h5 h6 h H) (fun z => absurd z (by omega)))
    (fun n i s hi h hw => pk_le 48 i (fun z => absurd z (by omega)) (fun _ => ⟨pk_in i 48 hi, nm_e (nm_r (nI_1 i) (hw _ (by rw [nI_clamp (show i < 2 ^ 31 by omega)]; exact rq_fill (f := fun _ => 1000000) h rfl)))⟩))
theorem rq_summ {post : St2 → Prop} (hW : rq_W a1 a2 a3) (H : ∀ b5 b6 b7, rq_F a1 a2 a3 a4 b5 b6 b7 → post (f0, a1, a2, a3, a4, b5, b6, b7, a8, a9, a10, a11, a12, a13, a14, a15)) : wpX_summarise post (f0, a1, a2, a3, a4, a5, a6, a7, a8, a9, a10, a11, a12, a13, a14, a15) :=
  pk_loop (σ := (Nat → Int32) × (Nat → Int32)) (fun n i s => wX_summarise_2 post f0 n (nI i) a1 a2 a3 a4 s.1 s.2 a7 a8 a9 a10 a11 a12 a13 a14 a15) (fun i s => (∀ j, j < i → s.1 j = 0) ∧ (∀ j, j < i → s.2 j = 0)) 6 0 (a5, a6) (by omega) ⟨fun j hj => absurd hj (by omega), fun j hj => absurd hj (by omega)⟩
    (fun n s h => pk_le 6 6 (fun _ => rq_s30 hW h.1 h.2 H) (fun z => absurd z (by omega)))
    (fun n i s hi h hw => pk_le 6 i (fun z => absurd z (by omega)) (fun _ => ⟨pk_in i 6 hi, nm_e ⟨pk_in i 6 hi, nm_e (nm_r (nI_1 i) (hw (_, _) (by rw [nI_clamp (show i < 2 ^ 31 by omega)]; exact ⟨rq_fill (f := fun _ => 0) h.1 rfl, rq_fill (f := fun _ => 0) h.2 rfl⟩)))⟩⟩))
/-! ===== a new object, add, remove ===== -/
theorem rq_init {post : St2 → Prop} (H : ∀ b5 b6 b7, post (0, (fun _ => 0), (fun _ => 0), (fun _ => 0), (fun _ => 0), b5, b6, b7, (fun _ => 0), (fun _ => 0), (fun _ => 0), (fun _ => 0), (fun _ => 0), (fun _ => 0), (fun _ => 0), (fun _ => 0))) : wpX_init post 15 182 0 := by
  unfold wpX_init
  refine ⟨by decide, by decide, by decide, by decide, by decide, by decide, by decide, by decide, by decide, by decide, by decide, by decide, by decide, by decide, by decide, by decide, by decide, by decide, by decide, by decide, by decide, by decide, by decide, by decide, by decide, by decide, by decide, by decide, by decide, by decide, ?_⟩
  exact rq_summ (fun n _ => Or.inl rfl) (fun b5 b6 b7 _ => H b5 b6 b7)
theorem rq_Wadd {n k g : Nat} (hk : k < 6) (hg : g < 8) (hW : rq_W a1 a2 a3) : rq_W (upd a1 n 1) (upd a2 n (nI k)) (upd a3 n (nI g)) := by
  intro j hj
  by_cases e : j = n
  · rw [e, pk_us, pk_us, pk_us]
    exact Or.inr ⟨k, g, hk, hg, rfl, rfl⟩
  · rw [pk_un e, pk_un e, pk_un e]
    exact hW j hj
theorem rq_add {post : Int32 → St2 → Prop} {n k g : Nat} {x : Int} (hn : n ≤ 12) (hk : k < 6) (hg : g < 8) (hx : -1000 ≤ x) (hx' : x ≤ 1000) (hW : rq_W a1 a2 a3) (h1 : ∀ j, j < n → a1 j = 1) (h0 : a1 n = 0)
    (H : ∀ b5 b6 b7, rq_F (upd a1 n 1) (upd a2 n (nI k)) (upd a3 n (nI g)) (upd a4 n (zz_I x)) b5 b6 b7 → post (nI n) (nI (n + 1), upd a1 n 1, upd a2 n (nI k), upd a3 n (nI g), upd a4 n (zz_I x), b5, b6, b7, a8, a9, a10, a11, a12, a13, a14, a15)) :
    wpX_add post (nI n, a1, a2, a3, a4, a5, a6, a7, a8, a9, a10, a11, a12, a13, a14, a15) (nI k) (nI g) (zz_I x) := by
  have c : (nI n).toNatClampNeg = n := nI_clamp (by omega)
  have i14 : vp_in (nI n) 14 := pk_in n 14 (by omega)
  have A80 : wX_add_80 post (nI k) (nI g) (zz_I x) (nI n) (nI n) a1 a2 a3 a4 a5 a6 a7 a8 a9 a10 a11 a12 a13 a14 a15 :=
    ⟨i14, nm_r (e' := upd a1 n 1) (by rw [c]) ⟨i14, nm_r (e' := upd a2 n (nI k)) (by rw [c]) ⟨i14, nm_r (e' := upd a3 n (nI g)) (by rw [c]) ⟨i14, nm_r (e' := upd a4 n (zz_I x)) (by rw [c]) (nm_r (nI_1 n) (rq_summ (rq_Wadd hk hg hW) H))⟩⟩⟩⟩
  have L57 : ∃ m, wX_add_57 post (nI k) (nI g) (zz_I x) (nI n) a1 a2 a3 a4 a5 a6 a7 a8 a9 a10 a11 a12 a13 a14 a15 m 0 :=
    pk_loop (σ := Unit) (fun m j _ => wX_add_57 post (nI k) (nI g) (zz_I x) (nI n) a1 a2 a3 a4 a5 a6 a7 a8 a9 a10 a11 a12 a13 a14 a15 m (nI j)) (fun _ _ => True) n 0 () (by omega) trivial
      (fun m _ _ => pk_le 13 n (fun z => absurd z (by omega)) (fun _ => ⟨i14, br_t (by rw [c]; exact h0) A80⟩))
      (fun m j _ hj _ hw => pk_le 13 j (fun z => absurd z (by omega)) (fun _ => ⟨pk_in j 14 (by omega), br_f (by rw [nI_clamp (show j < 2 ^ 31 by omega), h1 j hj]; decide) (nm_r (nI_1 j) (hw () trivial))⟩))
  exact pk_lt k 0 (fun z => absurd z (by omega)) (fun _ => pk_lt k 6 (fun _ => pk_lt g 0 (fun z => absurd z (by omega)) (fun _ => pk_lt g 8 (fun _ => zz_lt x (-1000) (fun z => absurd z (by omega)) (fun _ => zz_le x 1000 (fun _ => pk_lt n 14 (fun _ => L57) (fun z => absurd z (by omega))) (fun z => absurd z (by omega)))) (fun z => absurd z (by omega)))) (fun z => absurd z (by omega)))
theorem rq_Wrem {n : Nat} (hW : rq_W a1 a2 a3) : rq_W (upd a1 n 0) a2 a3 := by
  intro j hj
  by_cases e : j = n
  · rw [e, pk_us]
    exact Or.inl rfl
  · rw [pk_un e]
    exact hW j hj
theorem rq_remove {post : Int32 → St2 → Prop} (hW : rq_W a1 a2 a3) (h0 : a1 0 = 1)
    (H : ∀ b5 b6 b7, rq_F (upd a1 0 0) a2 a3 a4 b5 b6 b7 → post (nI 2) (nI 2, upd a1 0 0, a2, a3, a4, b5, b6, b7, a8, a9, a10, a11, a12, a13, a14, a15)) : wpX_remove post (nI 3, a1, a2, a3, a4, a5, a6, a7, a8, a9, a10, a11, a12, a13, a14, a15) 0 := by
  refine pk_lt 0 0 (fun z => absurd z (by omega)) (fun _ => pk_le 14 0 (fun z => absurd z (by omega)) (fun _ => ⟨pk_in 0 14 (by omega), ?_⟩))
  rw [show (0 : Int32).toNatClampNeg = 0 from rfl, h0]
  exact br_f (by decide) ⟨pk_in 0 14 (by omega), nm_e (nm_r (nI_pred 2) (rq_summ (rq_Wrem hW) H))⟩
end
/-! ===== the picture: three rows ===== -/
def rq_R5 (c k : Nat) : Nat := if k = 1 then 1 else if k = 4 then c else 0
def rq_R6 (A B k : Nat) : Nat := if k = 1 then A else if k = 4 then B else 0
/-- the greatest value of key 4 by group -/
def rq_B4 (g h : Nat) (U V : Int) (j : Nat) : Int := if j = h then (if g = h then zz_mx U V else V) else if j = g then U else 1000000
def rq_B1 (i : Nat) (W : Int) (j : Nat) : Int := if j = i then W else 1000000
def rq_R7 (g h i : Nat) (U V W : Int) (k j : Nat) : Int := if k = 1 then rq_B1 i W j else if k = 4 then rq_B4 g h U V j else 1000000
def rq_Q5 (c : Nat) (a5 : Nat → Int32) : Prop := ∀ k, k < 6 → a5 k = nI (rq_R5 c k)
def rq_Q6 (A B : Nat) (a6 : Nat → Int32) : Prop := ∀ k, k < 6 → a6 k = nI (rq_R6 A B k)
def rq_Q7 (g h i : Nat) (U V W : Int) (a7 : Nat → Int32) : Prop := ∀ k j, k < 6 → j < 8 → a7 (k * 8 + j) = zz_I (rq_R7 g h i U V W k j)
def rq_Q1 (a1 a2 : Nat → Int32) : Prop := (a1 0 = 1 ∧ a1 1 = 1 ∧ a1 2 = 1 ∧ ∀ j, 3 ≤ j → j < 14 → a1 j = 0) ∧ a2 0 = nI 4 ∧ a2 1 = nI 4 ∧ a2 2 = nI 1
def rq_Q3 (g h i : Nat) (a3 : Nat → Int32) : Prop := a3 0 = nI g ∧ a3 1 = nI h ∧ a3 2 = nI i
def rq_Q4 (U V W : Int) (a4 : Nat → Int32) : Prop := a4 0 = zz_I U ∧ a4 1 = zz_I V ∧ a4 2 = zz_I W
theorem rq_six {P : Nat → Prop} (h0 : P 0) (h1 : P 1) (h2 : P 2) (h3 : P 3) (h4 : P 4) (h5 : P 5) : ∀ k, k < 6 → P k := by
  intro k hk
  rcases (show k = 0 ∨ k = 1 ∨ k = 2 ∨ k = 3 ∨ k = 4 ∨ k = 5 by omega) with e | e | e | e | e | e
  · rw [e]; exact h0
  · rw [e]; exact h1
  · rw [e]; exact h2
  · rw [e]; exact h3
  · rw [e]; exact h4
  · rw [e]; exact h5
section
variable {f0 : Int32} {a1 a2 a3 a4 a5 a6 a7 a8 a9 a10 a11 a12 a13 a14 a15 : Nat → Int32}
theorem rq_W3 {g h i : Nat} (hg : g < 8) (hh : h < 8) (hi : i < 8) (q1 : rq_Q1 a1 a2) (q3 : rq_Q3 g h i a3) : rq_W a1 a2 a3 := by
  intro n hn
  obtain ⟨⟨_, _, _, z⟩, k0, k1, k2⟩ := q1
  obtain ⟨g0, g1, g2⟩ := q3
  rcases (show n = 0 ∨ n = 1 ∨ n = 2 ∨ 3 ≤ n by omega) with e | e | e | e
  · rw [e]; exact Or.inr ⟨4, g, by omega, hg, k0, g0⟩
  · rw [e]; exact Or.inr ⟨4, h, by omega, hh, k1, g1⟩
  · rw [e]; exact Or.inr ⟨1, i, by omega, hi, k2, g2⟩
  · exact Or.inl (z n e hn)
theorem rq_pic5 (q1 : rq_Q1 a1 a2) (hF : ∀ k, k < 6 → a5 k = rq_f5 a1 a2 14 k) : rq_Q5 2 a5 := by
  obtain ⟨⟨u0, u1, u2, z⟩, k0, k1, k2⟩ := q1
  intro k hk
  rw [hF k hk, rq_f5s (n := 3) 14 z (by omega), rq_f5u (n := 2) (k := 1) (by rw [u2]; decide) (by omega) k2, rq_f5u (n := 1) (k := 4) (by rw [u1]; decide) (by omega) k1, rq_f5u (n := 0) (k := 4) (by rw [u0]; decide) (by omega) k0]
  exact rq_six (P := fun k => upd (upd (upd (rq_f5 a1 a2 0) 4 _) 4 _) 1 _ k = nI (rq_R5 2 k)) rfl rfl rfl rfl rfl rfl k hk
theorem rq_pic6 {g h i : Nat} (hg : g < 8) (hh : h < 8) (hi : i < 8) (q1 : rq_Q1 a1 a2) (q3 : rq_Q3 g h i a3) (hF : ∀ k, k < 6 → a6 k = rq_f6 a1 a2 a3 14 k) : rq_Q6 (2 ^ i) (2 ^ g ||| 2 ^ h) a6 := by
  obtain ⟨⟨u0, u1, u2, z⟩, k0, k1, k2⟩ := q1
  obtain ⟨g0, g1, g2⟩ := q3
  intro k hk
  rw [hF k hk, rq_f6s (n := 3) 14 z (by omega), rq_f6u (n := 2) (k := 1) (by rw [u2]; decide) (by omega) k2, rq_f6u (n := 1) (k := 4) (by rw [u1]; decide) (by omega) k1, rq_f6u (n := 0) (k := 4) (by rw [u0]; decide) (by omega) k0, g0, g1, g2, rq_sh g hg, rq_sh h hh, rq_sh i hi]
  refine rq_six (P := fun k => upd (upd (upd (rq_f6 a1 a2 a3 0) 4 _) 4 _) 1 _ k = nI (rq_R6 (2 ^ i) (2 ^ g ||| 2 ^ h) k)) rfl ?_ rfl rfl ?_ rfl k hk
  · show nI 0 ||| nI (2 ^ i) = nI (2 ^ i)
    rw [rq_or, Nat.zero_or]
  · show (nI 0 ||| nI (2 ^ g)) ||| nI (2 ^ h) = nI (2 ^ g ||| 2 ^ h)
    rw [rq_or, rq_or, Nat.zero_or]
theorem rq_at7 {g h i k j : Nat} (hg : g < 8) (hh : h < 8) (hi : i < 8) (hk : k < 6) (hj : j < 8) (x y w N : Int32) : upd (upd (upd (fun _ => N) (4 * 8 + g) x) (4 * 8 + h) y) (1 * 8 + i) w (k * 8 + j) = if k = 1 then (if j = i then w else N) else if k = 4 then (if j = h then y else if j = g then x else N) else N := by
  unfold upd
  repeat' split
  all_goals first | rfl | (exfalso; omega)
theorem rq_up2 (f : Nat → Int32) (k : Nat) (x y : Int32) : upd (upd f k x) k y = upd f k y := by
  funext j
  unfold upd
  split <;> rfl
theorem rq_upS (f : Nat → Int32) (k : Nat) : upd f k (f k) = f := by
  funext j
  unfold upd
  split
  · rename_i e; rw [e]
  · rfl
theorem rq_pic7 {g h i : Nat} {U V W : Int} (hg : g < 8) (hh : h < 8) (hi : i < 8) (hU : -1000 ≤ U ∧ U ≤ 1000) (hV : -1000 ≤ V ∧ V ≤ 1000) (q1 : rq_Q1 a1 a2) (q3 : rq_Q3 g h i a3) (q4 : rq_Q4 U V W a4) (hF : ∀ k, k < 48 → a7 k = rq_f7 a1 a2 a3 a4 14 k) : rq_Q7 g h i U V W a7 := by
  obtain ⟨⟨u0, u1, u2, z⟩, k0, k1, k2⟩ := q1
  obtain ⟨g0, g1, g2⟩ := q3
  obtain ⟨v0, v1, v2⟩ := q4
  have n0 : ¬ a1 0 = 0 := by rw [u0]; decide
  have n1 : ¬ a1 1 = 0 := by rw [u1]; decide
  have n2 : ¬ a1 2 = 0 := by rw [u2]; decide
  have s1 : rq_f7 a1 a2 a3 a4 1 = upd (fun _ => 1000000) (4 * 8 + g) (zz_I U) := by
    rw [rq_f7a (n := 0) (k := 4) n0 (by omega) hg k0 g0 rfl, v0]; rfl
  have s2 : rq_f7 a1 a2 a3 a4 2 = upd (upd (fun _ => 1000000) (4 * 8 + g) (zz_I U)) (4 * 8 + h) (zz_I (if g = h then zz_mx U V else V)) := by
    by_cases e : g = h
    · have d : rq_f7 a1 a2 a3 a4 1 (4 * 8 + h) = zz_I U := by rw [s1, ← e, pk_us]
      have dn : ¬ rq_f7 a1 a2 a3 a4 1 (4 * 8 + h) = 1000000 := by
        rw [d, zz_N, zz_eqI (by omega) (by omega) (by omega) (by omega)]; omega
      rw [if_pos e]
      by_cases y : V ≤ U
      · rw [rq_f7b (n := 1) (k := 4) n1 (by omega) hh k1 g1 dn (by rw [d, v1, zz_leI (by omega) (by omega) (by omega) (by omega)]; exact y), s1, ← e, rq_up2]
        rcases zz_mxO U V with m | m
        · rw [m.1, show V = U by omega]
        · rw [m.1]
      · rw [rq_f7c (n := 1) (k := 4) n1 (by omega) hh k1 g1 dn (by rw [d, v1, zz_leI (by omega) (by omega) (by omega) (by omega)]; exact y), s1, v1]
        rcases zz_mxO U V with m | m
        · rw [m.1]
        · exact absurd m.2 (by omega)
    · rw [rq_f7a (n := 1) (k := 4) n1 (by omega) hh k1 g1 (by rw [s1, pk_un (by omega)]), s1, v1, if_neg e]
  have s3 : rq_f7 a1 a2 a3 a4 3 = upd (upd (upd (fun _ => 1000000) (4 * 8 + g) (zz_I U)) (4 * 8 + h) (zz_I (if g = h then zz_mx U V else V))) (1 * 8 + i) (zz_I W) := by
    rw [rq_f7a (n := 2) (k := 1) n2 (by omega) hi k2 g2 (by rw [s2, pk_un (by omega), pk_un (by omega)]), s2, v2]
  intro k j hk hj
  rw [hF (k * 8 + j) (by omega), rq_f7s (n := 3) 14 z (by omega), s3, rq_at7 hg hh hi hk hj, zz_N]
  unfold rq_R7 rq_B1 rq_B4
  repeat' split
  all_goals first | rfl | (exfalso; omega)
theorem rq_rem5 (q1 : rq_Q1 a1 a2) (hF : ∀ k, k < 6 → a5 k = rq_f5 (upd a1 0 0) a2 14 k) : rq_Q5 1 a5 := by
  obtain ⟨⟨u0, u1, u2, z⟩, k0, k1, k2⟩ := q1
  intro k hk
  have b1 : upd a1 0 0 1 = 1 := u1
  have b2 : upd a1 0 0 2 = 1 := u2
  rw [hF k hk, rq_f5s (n := 3) 14 (fun j a b => by rw [pk_un (by omega)]; exact z j a b) (by omega), rq_f5u (n := 2) (k := 1) (by rw [b2]; decide) (by omega) k2, rq_f5u (n := 1) (k := 4) (by rw [b1]; decide) (by omega) k1, rq_f5z (n := 0) pk_us]
  exact rq_six (P := fun k => upd (upd (rq_f5 (upd a1 0 0) a2 0) 4 _) 1 _ k = nI (rq_R5 1 k)) rfl rfl rfl rfl rfl rfl k hk
theorem rq_rem6 {g h i : Nat} (hh : h < 8) (hi : i < 8) (q1 : rq_Q1 a1 a2) (q3 : rq_Q3 g h i a3) (hF : ∀ k, k < 6 → a6 k = rq_f6 (upd a1 0 0) a2 a3 14 k) : rq_Q6 (2 ^ i) (2 ^ h ||| 2 ^ h) a6 := by
  obtain ⟨⟨u0, u1, u2, z⟩, k0, k1, k2⟩ := q1
  obtain ⟨g0, g1, g2⟩ := q3
  intro k hk
  have b1 : upd a1 0 0 1 = 1 := u1
  have b2 : upd a1 0 0 2 = 1 := u2
  rw [hF k hk, rq_f6s (n := 3) 14 (fun j a b => by rw [pk_un (by omega)]; exact z j a b) (by omega), rq_f6u (n := 2) (k := 1) (by rw [b2]; decide) (by omega) k2, rq_f6u (n := 1) (k := 4) (by rw [b1]; decide) (by omega) k1, rq_f6z (n := 0) pk_us, g1, g2, rq_sh h hh, rq_sh i hi, Nat.or_self]
  refine rq_six (P := fun k => upd (upd (rq_f6 (upd a1 0 0) a2 a3 0) 4 _) 1 _ k = nI (rq_R6 (2 ^ i) (2 ^ h) k)) rfl ?_ rfl rfl ?_ rfl k hk
  · show nI 0 ||| nI (2 ^ i) = nI (2 ^ i)
    rw [rq_or, Nat.zero_or]
  · show nI 0 ||| nI (2 ^ h) = nI (2 ^ h)
    rw [rq_or, Nat.zero_or]
end
end
section
theorem rq_bits {post : Int32 → Prop} {m : Nat} (hm : m < 256) (hp : post (nI (rq_pc m 8))) : wpX_bits post () (nI m) :=
  pk_loop (σ := Unit) (fun n i _ => wX_bits_4 post (nI m) n (nI (rq_pc m i)) (nI i)) (fun _ _ => True) 8 0 () (by omega) trivial
    (fun n _ _ => pk_le 8 8 (fun _ => hp) (fun z => absurd z (by omega)))
    (fun n i _ hi _ hw => pk_le 8 i (fun z => absurd z (by omega)) (fun _ => nm_r (e' := nI (rq_pc m (i + 1))) (by rw [rq_bit hm hi, nI_add]; rfl) (nm_r (nI_1 i) (hw () trivial))))
theorem rq_R5b {c : Nat} (hc : c < 100) (k : Nat) : rq_R5 c k < 100 := by
  unfold rq_R5
  split
  · omega
  · split <;> omega
theorem rq_R5z {c k : Nat} (hc : 0 < c) : rq_R5 c k = 0 ↔ k ≠ 1 ∧ k ≠ 4 := by
  unfold rq_R5
  repeat' split
  all_goals omega
theorem rq_R6b {A B : Nat} (hA : A < 256) (hB : B < 256) (k : Nat) : rq_R6 A B k < 256 := by
  unfold rq_R6
  repeat' split
  all_goals omega
def rq_pr (c : Nat) : Nat → Nat
  | 0 => 1
  | i + 1 => if rq_R5 c i = 0 then rq_pr c i else rq_pr c i * rq_R5 c i
def rq_ku (c : Nat) : Nat → Nat
  | 0 => 0
  | i + 1 => if rq_R5 c i = 0 then rq_ku c i else rq_ku c i + 1
def rq_cl (A B K : Nat) : Nat → Nat
  | 0 => 0
  | i + 1 => if rq_R6 A B i = K then rq_cl A B K i + 1 else rq_cl A B K i
def rq_cm (A B k : Nat) : Nat → Nat
  | 0 => 0
  | i + 1 => rq_cm A B k i + rq_R6 A B i / 2 ^ k % 2
section
variable {f0 : Int32} {a1 a2 a3 a4 a5 a6 a7 a8 a9 a10 a11 a12 a13 a14 a15 : Nat → Int32}
theorem rq_repairs {post : Int32 → Prop} {c : Nat} (hc : c < 100) (q5 : rq_Q5 c a5) (hp : post (nI (rq_pr c 6))) : wpX_repairs post (f0, a1, a2, a3, a4, a5, a6, a7, a8, a9, a10, a11, a12, a13, a14, a15) :=
  pk_loop (σ := Unit) (fun n i _ => wX_repairs_4 post f0 a1 a2 a3 a4 a5 a6 a7 a8 a9 a10 a11 a12 a13 a14 a15 n (nI (rq_pr c i)) (nI i)) (fun _ _ => True) 6 0 () (by omega) trivial
    (fun n _ _ => pk_le 6 6 (fun _ => hp) (fun z => absurd z (by omega)))
    (fun n i _ hi _ hw => by
      have hb := rq_R5b hc i
      have t : wX_repairs_4 post f0 a1 a2 a3 a4 a5 a6 a7 a8 a9 a10 a11 a12 a13 a14 a15 n (nI (rq_pr c (i + 1))) (nI (i + 1)) := hw () trivial
      refine pk_le 6 i (fun z => absurd z (by omega)) (fun _ => ⟨pk_in i 6 hi, ?_⟩)
      rw [nI_clamp (show i < 2 ^ 31 by omega), q5 i hi]
      refine pk_le (rq_R5 c i) 0 (fun z => nm_r (nI_1 i) ?_) (fun z => ⟨pk_in i 6 hi, nm_r (pk_mul _ _) (nm_r (nI_1 i) ?_)⟩)
      · rw [show rq_pr c (i + 1) = rq_pr c i from if_pos (by omega)] at t; exact t
      · rw [show rq_pr c (i + 1) = rq_pr c i * rq_R5 c i from if_neg (by omega)] at t; exact t)
theorem rq_keys {post : Int32 → Prop} {c : Nat} (hc : c < 100) (q5 : rq_Q5 c a5) (hp : post (nI (rq_ku c 6))) : wpX_keysInUse post (f0, a1, a2, a3, a4, a5, a6, a7, a8, a9, a10, a11, a12, a13, a14, a15) :=
  pk_loop (σ := Unit) (fun n i _ => wX_keysInUse_4 post f0 a1 a2 a3 a4 a5 a6 a7 a8 a9 a10 a11 a12 a13 a14 a15 n (nI (rq_ku c i)) (nI i)) (fun _ _ => True) 6 0 () (by omega) trivial
    (fun n _ _ => pk_le 6 6 (fun _ => hp) (fun z => absurd z (by omega)))
    (fun n i _ hi _ hw => by
      have hb := rq_R5b hc i
      have t : wX_keysInUse_4 post f0 a1 a2 a3 a4 a5 a6 a7 a8 a9 a10 a11 a12 a13 a14 a15 n (nI (rq_ku c (i + 1))) (nI (i + 1)) := hw () trivial
      refine pk_le 6 i (fun z => absurd z (by omega)) (fun _ => ⟨pk_in i 6 hi, ?_⟩)
      rw [nI_clamp (show i < 2 ^ 31 by omega), q5 i hi]
      refine pk_le (rq_R5 c i) 0 (fun z => nm_r (nI_1 i) ?_) (fun z => nm_r (nI_1 _) (nm_r (nI_1 i) ?_))
      · rw [show rq_ku c (i + 1) = rq_ku c i from if_pos (by omega)] at t; exact t
      · rw [show rq_ku c (i + 1) = rq_ku c i + 1 from if_neg (by omega)] at t; exact t)
theorem rq_cov {post : Int32 → Prop} {c A B m : Nat} (h0c : 0 < c) (hc : c < 100) (hA : A < 256) (hB : B < 256) (q5 : rq_Q5 c a5) (q6 : rq_Q6 A B a6)
    (h1 : A &&& m ≠ 0 → B &&& m ≠ 0 → post 1) (h0 : ¬ (A &&& m ≠ 0 ∧ B &&& m ≠ 0) → post 0) : wpX_coversAll post (f0, a1, a2, a3, a4, a5, a6, a7, a8, a9, a10, a11, a12, a13, a14, a15) (nI m) :=
  pk_loop (σ := Unit) (fun n i _ => wX_coversAll_2 post (nI m) f0 a1 a2 a3 a4 a5 a6 a7 a8 a9 a10 a11 a12 a13 a14 a15 n (nI i)) (fun i _ => (1 < i → A &&& m ≠ 0) ∧ (4 < i → B &&& m ≠ 0)) 6 0 () (by omega) ⟨fun z => absurd z (by omega), fun z => absurd z (by omega)⟩
    (fun n _ h => pk_le 6 6 (fun _ => h1 (h.1 (by omega)) (h.2 (by omega))) (fun z => absurd z (by omega)))
    (fun n i _ hi h hw => by
      have hb := rq_R5b hc i
      have h6 : rq_R6 A B i &&& m < 256 := rq_and8 m (rq_R6b hA hB i)
      refine pk_le 6 i (fun z => absurd z (by omega)) (fun _ => ⟨pk_in i 6 hi, ?_⟩)
      rw [nI_clamp (show i < 2 ^ 31 by omega), q5 i hi, q6 i hi, rq_and]
      refine pk_le (rq_R5 c i) 0 (fun z => nm_r (nI_1 i) (hw () ?_)) (fun z => ⟨pk_in i 6 hi, pk_eq (rq_R6 A B i &&& m) 0 (fun y => h0 (fun w => ?_)) (fun y => nm_r (nI_1 i) (hw () ?_))⟩)
      · have e := (rq_R5z (k := i) h0c).mp (by omega)
        exact ⟨fun y => h.1 (by omega), fun y => h.2 (by omega)⟩
      · have e : ¬ (i ≠ 1 ∧ i ≠ 4) := fun e => absurd ((rq_R5z h0c).mpr e) (by omega)
        rcases (show i = 1 ∨ i = 4 by omega) with d | d
        · rw [d] at y; exact w.1 y
        · rw [d] at y; exact w.2 y
      · have e : ¬ (i ≠ 1 ∧ i ≠ 4) := fun e => absurd ((rq_R5z h0c).mpr e) (by omega)
        rcases (show i = 1 ∨ i = 4 by omega) with d | d
        · rw [d] at y ⊢
          exact ⟨fun _ => y, fun v => absurd v (by omega)⟩
        · rw [d] at y ⊢
          exact ⟨fun _ => h.1 (by omega), fun _ => y⟩)
theorem rq_gl {post : Int32 → Prop} {c A B ans wit : Nat} (h0c : 0 < c) (hc : c < 100) (hA : A < 256) (hB : B < 256) (q5 : rq_Q5 c a5) (q6 : rq_Q6 A B a6)
    (F1 : ∀ m, m < 256 → A &&& m ≠ 0 → B &&& m ≠ 0 → ans ≤ rq_pc m 8) (hw1 : wit < 256) (hw2 : A &&& wit ≠ 0) (hw3 : B &&& wit ≠ 0) (hw4 : rq_pc wit 8 = ans)
    (hp : post (nI ans)) : wpX_groupsLeast post (f0, a1, a2, a3, a4, a5, a6, a7, a8, a9, a10, a11, a12, a13, a14, a15) :=
  pk_loop (σ := Nat) (fun n i s => wX_groupsLeast_5 post f0 a1 a2 a3 a4 a5 a6 a7 a8 a9 a10 a11 a12 a13 a14 a15 n (nI s) (nI i)) (fun i s => ans ≤ s ∧ s ≤ 8 ∧ (wit < i → s = ans)) 256 0 8 (by omega) ⟨by rw [← hw4]; exact rq_pc_le wit 8, by omega, fun z => absurd z (by omega)⟩
    (fun n s h => pk_le 256 256 (fun _ => by rw [h.2.2 hw1]; exact hp) (fun z => absurd z (by omega)))
    (fun n i s hi h hw => by
      obtain ⟨ha, h8, hs⟩ := h
      have hpc := rq_pc_le i 8
      refine pk_le 256 i (fun z => absurd z (by omega)) (fun _ => rq_bits hi (pk_le s (rq_pc i 8) (fun z => nm_r (nI_1 i) (hw s ⟨ha, h8, fun y => ?_⟩)) (fun z => rq_cov h0c hc hA hB q5 q6 (fun y1 y2 => br_f (by decide) (nm_r (nI_1 i) (hw (rq_pc i 8) ⟨F1 i hi y1 y2, hpc, fun y => ?_⟩))) (fun y0 => br_t rfl (nm_r (nI_1 i) (hw s ⟨ha, h8, fun y => ?_⟩))))))
      · by_cases e : wit = i
        · rw [e] at hw4; omega
        · exact hs (by omega)
      · by_cases e : wit = i
        · rw [← e]; exact hw4
        · have := hs (by omega)
          have := F1 i hi y1 y2
          omega
      · by_cases e : wit = i
        · exact absurd (by rw [← e]; exact ⟨hw2, hw3⟩) y0
        · exact hs (by omega))
end
/-! ===== the answer of groupsLeast ===== -/
def rq_ga (g h i : Nat) : Nat := if g = i ∨ h = i then 1 else 2
theorem rq_or0 {g h m : Nat} (z : (2 ^ g ||| 2 ^ h) &&& m ≠ 0) : 2 ^ g &&& m ≠ 0 ∨ 2 ^ h &&& m ≠ 0 := by
  by_cases a : 2 ^ g &&& m = 0
  · refine Or.inr (fun b => z ?_)
    rw [Nat.and_or_distrib_right, a, b]; rfl
  · exact Or.inl a
theorem rq_gaL {g h i : Nat} (hg : g < 8) (hh : h < 8) (hi : i < 8) : ∀ m, m < 256 → 2 ^ i &&& m ≠ 0 → (2 ^ g ||| 2 ^ h) &&& m ≠ 0 → rq_ga g h i ≤ rq_pc m 8 := by
  intro m hm h1 h2
  unfold rq_ga
  split
  · refine rq_pc1 m hm (fun e => h1 ?_)
    rw [e, Nat.and_zero]
  · rename_i z
    rcases rq_or0 h2 with y | y
    · exact rq_pc2 hg hi (fun e => z (Or.inl e)) hm y h1
    · exact rq_pc2 hh hi (fun e => z (Or.inr e)) hm y h1
theorem rq_gaW : ∀ g, g < 8 → ∀ h, h < 8 → ∀ i, i < 8 → 2 ^ i &&& (if g = i ∨ h = i then 2 ^ i else 2 ^ i ||| 2 ^ g) ≠ 0 ∧ (2 ^ g ||| 2 ^ h) &&& (if g = i ∨ h = i then 2 ^ i else 2 ^ i ||| 2 ^ g) ≠ 0 ∧ rq_pc (if g = i ∨ h = i then 2 ^ i else 2 ^ i ||| 2 ^ g) 8 = rq_ga g h i ∧ (if g = i ∨ h = i then 2 ^ i else 2 ^ i ||| 2 ^ g) < 256 := by decide +kernel
section
variable {f0 : Int32} {a1 a2 a3 a4 a5 a6 a7 a8 a9 a10 a11 a12 a13 a14 a15 : Nat → Int32}
theorem rq_groupsLeast {post : Int32 → Prop} {c g h i : Nat} (h0c : 0 < c) (hc : c < 100) (hg : g < 8) (hh : h < 8) (hi : i < 8) (q5 : rq_Q5 c a5) (q6 : rq_Q6 (2 ^ i) (2 ^ g ||| 2 ^ h) a6) (hp : post (nI (rq_ga g h i))) : wpX_groupsLeast post (f0, a1, a2, a3, a4, a5, a6, a7, a8, a9, a10, a11, a12, a13, a14, a15) :=
  have w := rq_gaW g hg h hh i hi
  rq_gl h0c hc (rq_pow hi) (rq_pow2 hg hh) q5 q6 (rq_gaL hg hh hi) w.2.2.2 w.1 w.2.1 w.2.2.1 hp
theorem rq_good {post : Int32 → Prop} {k : Nat} (hk : k < 8) (hp : post 0) : wpX_badGroup post () (nI k) :=
  pk_lt k 0 (fun z => absurd z (by omega)) (fun _ => pk_lt k 8 (fun _ => hp) (fun z => absurd z (by omega)))
theorem rq_countLeast {post : Int32 → Prop} {A B k : Nat} (hk : k < 8) (hA : A < 256) (hB : B < 256) (q6 : rq_Q6 A B a6) (hp : post (nI (rq_cl A B (2 ^ k) 6))) : wpX_countLeast post (f0, a1, a2, a3, a4, a5, a6, a7, a8, a9, a10, a11, a12, a13, a14, a15) (nI k) := by
  unfold wpX_countLeast
  dsimp only
  exact rq_good hk (br_t rfl (pk_loop (σ := Unit) (fun n i _ => wX_countLeast_14 post (nI k) f0 a1 a2 a3 a4 a5 a6 a7 a8 a9 a10 a11 a12 a13 a14 a15 n (nI (rq_cl A B (2 ^ k) i)) (nI i)) (fun _ _ => True) 6 0 () (by omega) trivial
    (fun n _ _ => pk_le 6 6 (fun _ => hp) (fun z => absurd z (by omega)))
    (fun n i _ hi _ hw => by
      have hb := rq_R6b hA hB i
      have hk2 := rq_pow hk
      have t : wX_countLeast_14 post (nI k) f0 a1 a2 a3 a4 a5 a6 a7 a8 a9 a10 a11 a12 a13 a14 a15 n (nI (rq_cl A B (2 ^ k) (i + 1))) (nI (i + 1)) := hw () trivial
      refine pk_le 6 i (fun z => absurd z (by omega)) (fun _ => ⟨pk_in i 6 hi, ?_⟩)
      rw [nI_clamp (show i < 2 ^ 31 by omega), q6 i hi, rq_sh k hk]
      refine pk_eq (rq_R6 A B i) (2 ^ k) (fun z => nm_r (nI_1 _) (nm_r (nI_1 i) ?_)) (fun z => nm_r (nI_1 i) ?_)
      · rw [show rq_cl A B (2 ^ k) (i + 1) = rq_cl A B (2 ^ k) i + 1 from if_pos z] at t; exact t
      · rw [show rq_cl A B (2 ^ k) (i + 1) = rq_cl A B (2 ^ k) i from if_neg z] at t; exact t)))
theorem rq_countMost {post : Int32 → Prop} {A B k : Nat} (hk : k < 8) (hA : A < 256) (hB : B < 256) (q6 : rq_Q6 A B a6) (hp : post (nI (rq_cm A B k 6))) : wpX_countMost post (f0, a1, a2, a3, a4, a5, a6, a7, a8, a9, a10, a11, a12, a13, a14, a15) (nI k) := by
  unfold wpX_countMost
  dsimp only
  exact rq_good hk (br_t rfl (pk_loop (σ := Unit) (fun n i _ => wX_countMost_14 post (nI k) f0 a1 a2 a3 a4 a5 a6 a7 a8 a9 a10 a11 a12 a13 a14 a15 n (nI (rq_cm A B k i)) (nI i)) (fun _ _ => True) 6 0 () (by omega) trivial
    (fun n _ _ => pk_le 6 6 (fun _ => hp) (fun z => absurd z (by omega)))
    (fun n i _ hi _ hw => pk_le 6 i (fun z => absurd z (by omega)) (fun _ => ⟨pk_in i 6 hi, nm_r (e' := nI (rq_cm A B k (i + 1))) (by rw [nI_clamp (show i < 2 ^ 31 by omega), q6 i hi, rq_bit (rq_R6b hA hB i) hk, nI_add]; rfl) (nm_r (nI_1 i) (hw () trivial))⟩))))
end
end
section
theorem rq_nb1 : vp_nar .boolean 1 = 1 := by decide
theorem rq_nb0 : vp_nar .boolean 0 = 0 := by decide
/-- the queue of place: the groups of c below i stand in it -/
def rq_L (c i e : Nat) (b10 b11 b12 : Nat → Int32) : Prop := e ≤ i ∧ (∀ j, j < i → b10 j = -1) ∧ (∀ j, j < i → c.testBit j = true → b11 j = 1) ∧ (∀ q, q < e → ∃ x, x < i ∧ b12 q = nI x ∧ c.testBit x = true) ∧ (∀ x, x < i → c.testBit x = true → ∃ q, q < e ∧ b12 q = nI x)
theorem rq_L0 {c : Nat} {b10 b11 b12 : Nat → Int32} : rq_L c 0 0 b10 b11 b12 :=
  ⟨Nat.le_refl 0, fun j h => absurd h (by omega), fun j h => absurd h (by omega), fun j h => absurd h (by omega), fun j h => absurd h (by omega)⟩
theorem rq_Lt {c i e : Nat} {b10 b11 b12 : Nat → Int32} (h : rq_L c i e b10 b11 b12) (z : c.testBit i = true) : rq_L c (i + 1) (e + 1) (upd b10 i (-1)) (upd b11 i 1) (upd b12 e (nI i)) := by
  obtain ⟨h1, h2, h3, h4, h5⟩ := h
  refine ⟨by omega, rq_fill (f := fun _ => -1) h2 rfl, fun j hj hc => ?_, fun q hq => ?_, fun x hx hc => ?_⟩
  · by_cases d : j = i
    · rw [d, pk_us]
    · rw [pk_un d]; exact h3 j (by omega) hc
  · by_cases d : q = e
    · exact ⟨i, by omega, by rw [d, pk_us], z⟩
    · obtain ⟨x, hx, ex, tx⟩ := h4 q (by omega)
      exact ⟨x, by omega, by rw [pk_un d]; exact ex, tx⟩
  · by_cases d : x = i
    · exact ⟨e, by omega, by rw [d, pk_us]⟩
    · obtain ⟨q, hq, eq⟩ := h5 x (by omega) hc
      exact ⟨q, by omega, by rw [pk_un (by omega)]; exact eq⟩
theorem rq_Lf {c i e : Nat} {b10 b11 b12 : Nat → Int32} (h : rq_L c i e b10 b11 b12) (z : ¬ c.testBit i = true) : rq_L c (i + 1) e (upd b10 i (-1)) (upd b11 i 0) b12 := by
  obtain ⟨h1, h2, h3, h4, h5⟩ := h
  refine ⟨by omega, rq_fill (f := fun _ => -1) h2 rfl, fun j hj hc => ?_, fun q hq => ?_, fun x hx hc => ?_⟩
  · by_cases d : j = i
    · rw [d] at hc; exact absurd hc z
    · rw [pk_un d]; exact h3 j (by omega) hc
  · obtain ⟨x, hx, ex, tx⟩ := h4 q hq
    exact ⟨x, by omega, ex, tx⟩
  · by_cases d : x = i
    · rw [d] at hc; exact absurd hc z
    · exact h5 x (by omega) hc
section
variable {f0 : Int32} {a1 a2 a3 a4 a5 a6 a7 a8 a9 a10 a11 a12 a13 a14 a15 : Nat → Int32}
theorem rq_shift {post : St2 → Prop} {x : Nat} {key : Int32} (hx : x < 8) (hb : a10 x = -1) (hp : post (f0, a1, a2, a3, a4, a5, a6, a7, upd a8 x key, a9, a10, a11, a12, a13, a14, a15)) : wpX_shift post (f0, a1, a2, a3, a4, a5, a6, a7, a8, a9, a10, a11, a12, a13, a14, a15) (nI x) key := by
  refine ⟨1, pk_le 8 0 (fun z => absurd z (by omega)) (fun _ => ⟨pk_in x 8 hx, ?_⟩)⟩
  rw [nI_clamp (show x < 2 ^ 31 by omega), hb]
  exact br_t (by decide) ⟨pk_in x 8 hx, nm_e hp⟩
theorem rq_p139 {post : Int32 → St2 → Prop} {J : Int32 → Int32 → (Nat → Int32) → (Nat → Int32) → (Nat → Int32) → (Nat → Int32) → (Nat → Int32) → (Nat → Int32) → (Nat → Int32) → (Nat → Int32) → (Nat → Int32) → (Nat → Int32) → (Nat → Int32) → (Nat → Int32) → (Nat → Int32) → (Nat → Int32) → (Nat → Int32) → Prop} {x1 x2 x3 x5 : Int32} {d p : Nat} (hd : d < 256) (ha : ∀ j, j < 8 → d.testBit j = true → a11 j = 1) (hJ : J x3 (nI (p + 1)) a1 a2 a3 a4 a5 a6 a7 a8 a9 a10 a11 a12 a13 a14 a15) : ∃ n, wX_place_139 post J x1 x2 (nI p) x5 (nI d) f0 n x3 0 a1 a2 a3 a4 a5 a6 a7 a8 a9 a10 a11 a12 a13 a14 a15 :=
  pk_loop (σ := Unit) (fun n i _ => wX_place_139 post J x1 x2 (nI p) x5 (nI d) f0 n x3 (nI i) a1 a2 a3 a4 a5 a6 a7 a8 a9 a10 a11 a12 a13 a14 a15) (fun _ _ => True) 8 0 () (by omega) trivial
    (fun n _ _ => pk_le 8 8 (fun _ => nm_r (nI_1 p) hJ) (fun z => absurd z (by omega)))
    (fun n i _ hi _ hw => pk_le 8 i (fun z => absurd z (by omega)) (fun _ => ek_if (rq_bit1 hd hi) (fun z => ⟨pk_in i 8 hi, br_f (by rw [nI_clamp (show i < 2 ^ 31 by omega), ha i hi z]; decide) (nm_r (nI_1 i) (hw () trivial))⟩) (fun z => nm_r (nI_1 i) (hw () trivial))))
theorem rq_p40t {post : Int32 → St2 → Prop} {J : Int32 → Int32 → (Nat → Int32) → (Nat → Int32) → (Nat → Int32) → (Nat → Int32) → (Nat → Int32) → (Nat → Int32) → (Nat → Int32) → (Nat → Int32) → (Nat → Int32) → (Nat → Int32) → (Nat → Int32) → (Nat → Int32) → (Nat → Int32) → (Nat → Int32) → (Nat → Int32) → Prop} {x1 x2 : Int32} {e i : Nat} (hi : i < 8) (he : e < 8) (h : J (nI (e + 1)) (nI (i + 1)) a1 a2 a3 a4 a5 a6 a7 a8 a9 (upd a10 i (-1)) (upd a11 i 1) (upd a12 e (nI i)) a13 a14 a15) : wX_place_40 post J x1 x2 (nI e) (nI i) 1 (nI i) f0 a1 a2 a3 a4 a5 a6 a7 a8 a9 a10 a11 a12 a13 a14 a15 := by
  have c : (nI i).toNatClampNeg = i := nI_clamp (by omega)
  exact ⟨pk_in i 8 hi, nm_r (e' := upd a11 i 1) (by rw [c, rq_nb1]) ⟨pk_in i 8 hi, nm_r (e' := upd a10 i (-1)) (by rw [c]) ⟨pk_in i 8 hi, br_f (by rw [c, pk_us]; decide) ⟨pk_in e 8 he, nm_r (e' := upd a12 e (nI i)) (by rw [nI_clamp (show e < 2 ^ 31 by omega)]) (nm_r (nI_1 e) (nm_r (nI_1 i) h))⟩⟩⟩⟩
theorem rq_p40f {post : Int32 → St2 → Prop} {J : Int32 → Int32 → (Nat → Int32) → (Nat → Int32) → (Nat → Int32) → (Nat → Int32) → (Nat → Int32) → (Nat → Int32) → (Nat → Int32) → (Nat → Int32) → (Nat → Int32) → (Nat → Int32) → (Nat → Int32) → (Nat → Int32) → (Nat → Int32) → (Nat → Int32) → (Nat → Int32) → Prop} {x1 x2 x3 : Int32} {i : Nat} (hi : i < 8) (h : J x3 (nI (i + 1)) a1 a2 a3 a4 a5 a6 a7 a8 a9 (upd a10 i (-1)) (upd a11 i 0) a12 a13 a14 a15) : wX_place_40 post J x1 x2 x3 (nI i) 0 (nI i) f0 a1 a2 a3 a4 a5 a6 a7 a8 a9 a10 a11 a12 a13 a14 a15 := by
  have c : (nI i).toNatClampNeg = i := nI_clamp (by omega)
  exact ⟨pk_in i 8 hi, nm_r (e' := upd a11 i 0) (by rw [c, rq_nb0]) ⟨pk_in i 8 hi, nm_r (e' := upd a10 i (-1)) (by rw [c]) ⟨pk_in i 8 hi, br_t (by rw [c, pk_us]) (nm_r (nI_1 i) h)⟩⟩⟩
theorem rq_p5 {post : Int32 → St2 → Prop} {key C m : Nat} (hkey : key < 6) (hC : C < 256) (e6 : a6 key = nI C)
    (H : ∀ e b10 b11 b12, rq_L (C &&& m) 8 e b10 b11 b12 → ∃ n, wX_place_79 post (nI key) (nI m) f0 n (nI e) 0 a1 a2 a3 a4 a5 a6 a7 a8 a9 b10 b11 b12 a13 a14 a15) : wpX_place post (f0, a1, a2, a3, a4, a5, a6, a7, a8, a9, a10, a11, a12, a13, a14, a15) (nI key) (nI m) :=
  pk_loop (σ := Nat × (Nat → Int32) × (Nat → Int32) × (Nat → Int32)) (fun n i s => wX_place_5 post (nI key) (nI m) f0 n (nI s.1) (nI i) a1 a2 a3 a4 a5 a6 a7 a8 a9 s.2.1 s.2.2.1 s.2.2.2 a13 a14 a15) (fun i s => rq_L (C &&& m) i s.1 s.2.1 s.2.2.1 s.2.2.2) 8 0 (0, a10, a11, a12) (by omega) rq_L0
    (fun n s h => pk_le 8 8 (fun _ => H _ _ _ _ h) (fun z => absurd z (by omega)))
    (fun n i s hi h hw => by
      have he : s.1 < 8 := Nat.lt_of_le_of_lt h.1 hi
      refine pk_le 8 i (fun z => absurd z (by omega)) (fun _ => ⟨pk_in key 6 hkey, ?_⟩)
      rw [nI_clamp (show key < 2 ^ 31 by omega), e6, rq_and]
      exact ek_if (rq_bit1 (rq_and8 m hC) hi) (fun z => rq_p40t hi he (hw (s.1 + 1, upd s.2.1 i (-1), upd s.2.2.1 i 1, upd s.2.2.2 s.1 (nI i)) (rq_Lt h z))) (fun z => rq_p40f hi (hw (s.1, upd s.2.1 i (-1), upd s.2.2.1 i 0, s.2.2.2) (rq_Lf h z))))
theorem rq_p79 {post : Int32 → St2 → Prop} {key m c e : Nat} (hL : rq_L c 8 e a10 a11 a12)
    (hold : ∀ x, x < 8 → c.testBit x = true → a8 x = -1 ∨ ∃ k D, k < 6 ∧ D < 256 ∧ a8 x = nI k ∧ a6 k = nI D ∧ ∀ y, y < 8 → (D &&& m).testBit y = true → c.testBit y = true)
    (H1 : ∀ x, x < 8 → c.testBit x = true → a8 x = -1 → post 1 (f0, a1, a2, a3, a4, a5, a6, a7, upd a8 x (nI key), a9, a10, a11, a12, a13, a14, a15)) (H0 : (∀ x, x < 8 → c.testBit x = true → a8 x ≠ -1) → post 0 (f0, a1, a2, a3, a4, a5, a6, a7, a8, a9, a10, a11, a12, a13, a14, a15)) : ∃ n, wX_place_79 post (nI key) (nI m) f0 n (nI e) 0 a1 a2 a3 a4 a5 a6 a7 a8 a9 a10 a11 a12 a13 a14 a15 := by
  obtain ⟨l1, l2, l3, l4, l5⟩ := hL
  refine pk_loop (σ := Unit) (fun n p _ => wX_place_79 post (nI key) (nI m) f0 n (nI e) (nI p) a1 a2 a3 a4 a5 a6 a7 a8 a9 a10 a11 a12 a13 a14 a15) (fun p _ => ∀ q, q < p → ∀ x, x < 8 → a12 q = nI x → a8 x ≠ -1) e 0 () (by omega) (fun q hq => absurd hq (by omega)) ?_ ?_
  · refine fun n _ h => pk_le e e (fun _ => H0 (fun x hx hc => ?_)) (fun z => absurd z (by omega))
    obtain ⟨q, hq, eq⟩ := l5 x hx hc
    exact h q hq x hx eq
  · intro n p _ hp h hw
    obtain ⟨x, hx, ex, hc⟩ := l4 p hp
    refine pk_le e p (fun z => absurd z (by omega)) (fun _ => pk_le 8 p (fun z => absurd z (by omega)) (fun _ => ⟨pk_in p 8 (by omega), nm_r (e' := nI x) (by rw [nI_clamp (show p < 2 ^ 31 by omega)]; exact ex) ⟨pk_in x 8 hx, ?_⟩⟩))
    rw [nI_clamp (show x < 2 ^ 31 by omega)]
    rcases hold x hx hc with z | ⟨k, D, hk, hD, ek, e6, sub⟩
    · rw [z]
      exact br_f (by decide) (rq_shift hx (l2 x hx) (H1 x hx hc z))
    · rw [ek]
      refine br_t (nI_pos' (by omega)) ⟨pk_in x 8 hx, pk_in k 6 hk, nm_r (e' := nI (D &&& m)) (by rw [nI_clamp (show k < 2 ^ 31 by omega), e6, rq_and]) (rq_p139 (rq_and8 m hD) (fun j hj hb => l3 j hj (sub j hj hb)) (hw () ?_))⟩
      intro q hq y hy ey
      by_cases d : q = p
      · rw [d, ex] at ey
        have : x = y := (nI_eq (by omega) (by omega)).mp ey
        rw [← this, ek]
        intro w
        have w2 : (nI k).toInt = (-1 : Int32).toInt := by rw [w]
        rw [nI_toInt (by omega), show (-1 : Int32).toInt = -1 from rfl] at w2
        omega
      · exact h q (by omega) y hy ey
theorem rq_place {post : Int32 → St2 → Prop} {key C m : Nat} (hkey : key < 6) (hC : C < 256) (e6 : a6 key = nI C)
    (hold : ∀ x, x < 8 → (C &&& m).testBit x = true → a8 x = -1 ∨ ∃ k D, k < 6 ∧ D < 256 ∧ a8 x = nI k ∧ a6 k = nI D ∧ ∀ y, y < 8 → (D &&& m).testBit y = true → (C &&& m).testBit y = true)
    (H1 : ∀ x, x < 8 → (C &&& m).testBit x = true → a8 x = -1 → ∀ b10 b11 b12, post 1 (f0, a1, a2, a3, a4, a5, a6, a7, upd a8 x (nI key), a9, b10, b11, b12, a13, a14, a15))
    (H0 : (∀ x, x < 8 → (C &&& m).testBit x = true → a8 x ≠ -1) → ∀ b10 b11 b12, post 0 (f0, a1, a2, a3, a4, a5, a6, a7, a8, a9, b10, b11, b12, a13, a14, a15)) : wpX_place post (f0, a1, a2, a3, a4, a5, a6, a7, a8, a9, a10, a11, a12, a13, a14, a15) (nI key) (nI m) :=
  rq_p5 hkey hC e6 (fun e b10 b11 b12 hL => rq_p79 hL hold (fun x a b c => H1 x a b c b10 b11 b12) (fun z => H0 z b10 b11 b12))
theorem rq_z (m x : Nat) : ¬ (0 &&& m).testBit x = true := by
  rw [Nat.zero_and, Nat.zero_testBit]; decide
theorem rq_tbA {i m x : Nat} : (2 ^ i &&& m).testBit x = true ↔ x = i ∧ m.testBit x = true := by
  rw [Nat.testBit_and, Nat.testBit_two_pow, Bool.and_eq_true, decide_eq_true_iff]
  exact ⟨fun h => ⟨h.1.symm, h.2⟩, fun h => ⟨h.1.symm, h.2⟩⟩
theorem rq_m0 {post : Int32 → St2 → Prop} {m n r k : Nat} (hk : k < 6) (e : a6 k = nI 0) (h : ∀ b10 b11 b12, wX_matching_25 post (nI m) n (nI r) (nI (k + 1)) f0 a1 a2 a3 a4 a5 a6 a7 a8 a9 b10 b11 b12 a13 a14 a15) : wX_matching_25 post (nI m) (n + 1) (nI r) (nI k) f0 a1 a2 a3 a4 a5 a6 a7 a8 a9 a10 a11 a12 a13 a14 a15 :=
  pk_le 6 k (fun z => absurd z (by omega)) (fun _ => rq_place hk (C := 0) (by omega) e (fun x _ hc => absurd hc (rq_z m x)) (fun x _ hc => absurd hc (rq_z m x)) (fun _ b10 b11 b12 => br_t rfl (nm_r (nI_1 k) (h b10 b11 b12))))
theorem rq_m1 {post : Int32 → St2 → Prop} {m n r i : Nat} (hi : i < 8) (hm : m.testBit i = true) (e : a6 1 = nI (2 ^ i)) (h8 : ∀ x, x < 8 → a8 x = -1) (h : ∀ b10 b11 b12, wX_matching_25 post (nI m) n (nI (r + 1)) (nI 2) f0 a1 a2 a3 a4 a5 a6 a7 (upd a8 i (nI 1)) a9 b10 b11 b12 a13 a14 a15) : wX_matching_25 post (nI m) (n + 1) (nI r) (nI 1) f0 a1 a2 a3 a4 a5 a6 a7 a8 a9 a10 a11 a12 a13 a14 a15 :=
  pk_le 6 1 (fun z => absurd z (by omega)) (fun _ => rq_place (by omega) (rq_pow hi) e (fun x hx _ => Or.inl (h8 x hx)) (fun x _ hc _ b10 b11 b12 => br_f (by decide) (nm_r (nI_1 r) (nm_r (nI_1 1) (by rw [(rq_tbA.mp hc).1]; exact h b10 b11 b12)))) (fun z => absurd (h8 i hi) (z i hi (rq_tbA.mpr ⟨rfl, hm⟩))))
theorem rq_m4 {post : Int32 → St2 → Prop} {m n r i B : Nat} (hB : B < 256) (e1 : a6 1 = nI (2 ^ i)) (e4 : a6 4 = nI B) (hi : i < 8) (h8 : ∀ x, x < 8 → x ≠ i → a8 x = -1) (h8i : a8 i = nI 1)
    (h1 : ¬ (∀ x, x < 8 → x ≠ i → (B &&& m).testBit x = false) → ∀ b8 b10 b11 b12, wX_matching_25 post (nI m) n (nI (r + 1)) (nI 5) f0 a1 a2 a3 a4 a5 a6 a7 b8 a9 b10 b11 b12 a13 a14 a15)
    (h0 : (∀ x, x < 8 → x ≠ i → (B &&& m).testBit x = false) → ∀ b8 b10 b11 b12, wX_matching_25 post (nI m) n (nI r) (nI 5) f0 a1 a2 a3 a4 a5 a6 a7 b8 a9 b10 b11 b12 a13 a14 a15) : wX_matching_25 post (nI m) (n + 1) (nI r) (nI 4) f0 a1 a2 a3 a4 a5 a6 a7 a8 a9 a10 a11 a12 a13 a14 a15 := by
  refine pk_le 6 4 (fun z => absurd z (by omega)) (fun _ => rq_place (by omega) hB e4 (fun x hx hc => ?_) (fun x hx hc hf b10 b11 b12 => br_f (by decide) (nm_r (nI_1 r) (nm_r (nI_1 4) (h1 (fun al => ?_) _ b10 b11 b12)))) (fun z b10 b11 b12 => br_t rfl (nm_r (nI_1 4) (h0 (fun x hx xi => ?_) _ b10 b11 b12))))
  · by_cases d : x = i
    · refine Or.inr ⟨1, 2 ^ i, by omega, rq_pow hi, by rw [d]; exact h8i, e1, fun y _ hy => ?_⟩
      rw [(rq_tbA.mp hy).1, ← d]; exact hc
    · exact Or.inl (h8 x hx d)
  · by_cases d : x = i
    · rw [d, h8i] at hf; exact absurd hf (by decide)
    · rw [al x hx d] at hc; exact absurd hc (by decide)
  · cases t : (B &&& m).testBit x with
    | false => rfl
    | true => exact absurd (h8 x hx xi) (z x hx t)
/-- the size of the matching -/
def rq_mt (i c : Nat) : Nat := if (List.range 8).all (fun x => x == i || !(c.testBit x)) = true then 1 else 2
theorem rq_mtA {i c : Nat} : (List.range 8).all (fun x => x == i || !(c.testBit x)) = true ↔ ∀ x, x < 8 → x ≠ i → c.testBit x = false := by
  rw [List.all_eq_true]
  constructor
  · intro h x hx xi
    have t := h x (List.mem_range.mpr hx)
    rw [Bool.or_eq_true, beq_iff_eq, Bool.not_eq_true'] at t
    exact t.resolve_left xi
  · intro h x hx
    rw [Bool.or_eq_true, beq_iff_eq, Bool.not_eq_true']
    by_cases e : x = i
    · exact Or.inl e
    · exact Or.inr (h x (List.mem_range.mp hx) e)
theorem rq_matching {post : Int32 → St2 → Prop} {m i B : Nat} (hB : B < 256) (hi : i < 8) (hm : m.testBit i = true) (q6 : rq_Q6 (2 ^ i) B a6)
    (H : ∀ b8 b10 b11 b12, post (nI (rq_mt i (B &&& m))) (f0, a1, a2, a3, a4, a5, a6, a7, b8, a9, b10, b11, b12, a13, a14, a15)) : wpX_matching post (f0, a1, a2, a3, a4, a5, a6, a7, a8, a9, a10, a11, a12, a13, a14, a15) (nI m) := by
  refine pk_loop (σ := Nat → Int32) (fun n j s => wX_matching_4 post (nI m) (nI 0) f0 n (nI j) a1 a2 a3 a4 a5 a6 a7 s a9 a10 a11 a12 a13 a14 a15) (fun j s => ∀ x, x < j → s x = -1) 8 0 a8 (by omega) (fun x hx => absurd hx (by omega)) ?_ ?_
  · refine fun n s h => pk_le 8 8 (fun _ => ⟨7, ?_⟩) (fun z => absurd z (by omega))
    have fin : ∀ r b8 b10 b11 b12, r = rq_mt i (B &&& m) → wX_matching_25 post (nI m) 2 (nI r) (nI 5) f0 a1 a2 a3 a4 a5 a6 a7 b8 a9 b10 b11 b12 a13 a14 a15 := fun r b8 b10 b11 b12 er =>
      rq_m0 (by omega) (q6 5 (by omega)) (fun c10 c11 c12 => pk_le 6 6 (fun _ => by rw [er]; exact H b8 c10 c11 c12) (fun z => absurd z (by omega)))
    refine rq_m0 (k := 0) (by omega) (q6 0 (by omega)) (fun c10 c11 c12 => rq_m1 hi hm (q6 1 (by omega)) h (fun d10 d11 d12 => rq_m0 (k := 2) (by omega) (q6 2 (by omega)) (fun e10 e11 e12 => rq_m0 (k := 3) (by omega) (q6 3 (by omega)) (fun g10 g11 g12 => rq_m4 hB (q6 1 (by omega)) (q6 4 (by omega)) hi (fun x hx xi => by rw [pk_un xi]; exact h x hx) pk_us (fun z b8 b10 b11 b12 => fin 2 b8 b10 b11 b12 ?_) (fun z b8 b10 b11 b12 => fin 1 b8 b10 b11 b12 ?_)))))
    · exact (if_neg (fun y => z (rq_mtA.mp y))).symm
    · exact (if_pos (rq_mtA.mpr z)).symm
  · exact fun n j s hj h hw => pk_le 8 j (fun z => absurd z (by omega)) (fun _ => ⟨pk_in j 8 hj, nm_r (e' := upd s j (-1)) (by rw [nI_clamp (show j < 2 ^ 31 by omega)]) (nm_r (nI_1 j) (hw _ (rq_fill (f := fun _ => -1) h rfl)))⟩)
theorem rq_t255 : ∀ i, i < 8 → (255 : Nat).testBit i = true := by decide
theorem rq_groupsMost {post : Int32 → St2 → Prop} {i B : Nat} (hB : B < 256) (hi : i < 8) (q6 : rq_Q6 (2 ^ i) B a6)
    (H : ∀ b8 b10 b11 b12, post (nI (rq_mt i (B &&& 255))) (f0, a1, a2, a3, a4, a5, a6, a7, b8, a9, b10, b11, b12, a13, a14, a15)) : wpX_groupsMost post (f0, a1, a2, a3, a4, a5, a6, a7, a8, a9, a10, a11, a12, a13, a14, a15) :=
  rq_matching (m := 255) hB hi (rq_t255 i hi) q6 H
theorem rq_255 {m : Nat} (h : m < 256) : nI m &&& 255 = nI m := by
  rw [pk_andN (by omega) 8 (by decide), Nat.mod_eq_of_lt (by omega)]
theorem rq_exactly {post : Int32 → St2 → Prop} {c m i B : Nat} (h0c : 0 < c) (hc : c < 100) (hB : B < 256) (hi : i < 8) (hm : m < 256) (hmi : m.testBit i = true) (q5 : rq_Q5 c a5) (q6 : rq_Q6 (2 ^ i) B a6)
    (H : ∀ b8 b10 b11 b12, post (if 2 ^ i &&& m ≠ 0 ∧ B &&& m ≠ 0 ∧ rq_mt i (B &&& m) = rq_pc m 8 then 1 else 0) (f0, a1, a2, a3, a4, a5, a6, a7, b8, a9, b10, b11, b12, a13, a14, a15)) : wpX_exactly post (f0, a1, a2, a3, a4, a5, a6, a7, a8, a9, a10, a11, a12, a13, a14, a15) (nI m) := by
  have hpc := rq_pc_le m 8
  have hmt : rq_mt i (B &&& m) ≤ 2 := by unfold rq_mt; split <;> omega
  refine nm_r (rq_255 hm) (rq_cov h0c hc (rq_pow hi) hB q5 q6 (fun y1 y2 => br_f (by decide) (rq_matching hB hi hmi q6 (fun b8 b10 b11 b12 => rq_bits hm (pk_eq (rq_mt i (B &&& m)) (rq_pc m 8) (fun z => ?_) (fun z => ?_))))) (fun y0 => br_t rfl ?_))
  · have t := H b8 b10 b11 b12
    rw [if_pos ⟨y1, y2, z⟩] at t; exact t
  · have t := H b8 b10 b11 b12
    rw [if_neg (fun y => z y.2.2)] at t; exact t
  · have t := H a8 a10 a11 a12
    rw [if_neg (fun y => y0 ⟨y.1, y.2.1⟩)] at t; exact t
end
end
section
section
variable {f0 : Int32} {a1 a2 a3 a4 a5 a6 a7 a8 a9 a10 a11 a12 a13 a14 a15 : Nat → Int32}
/-! ===== sortRows ===== -/
theorem rq_so67 {post : St2 → Prop} {J : Int32 → Int32 → (Nat → Int32) → (Nat → Int32) → (Nat → Int32) → (Nat → Int32) → (Nat → Int32) → (Nat → Int32) → (Nat → Int32) → (Nat → Int32) → (Nat → Int32) → (Nat → Int32) → (Nat → Int32) → (Nat → Int32) → (Nat → Int32) → (Nat → Int32) → (Nat → Int32) → Prop} {cn id t : Nat} (ht : t < 14) (h : J (nI (cn + 1)) (nI (id + 1)) a1 a2 a3 a4 a5 a6 a7 a8 a9 a10 a11 a12 (upd a13 t (nI id)) a14 a15) : wX_sortRows_67 post J (nI cn) (nI id) (nI t) f0 a1 a2 a3 a4 a5 a6 a7 a8 a9 a10 a11 a12 a13 a14 a15 :=
  ⟨pk_in t 14 ht, nm_r (e' := upd a13 t (nI id)) (by rw [nI_clamp (show t < 2 ^ 31 by omega)]) (nm_r (nI_1 cn) (nm_r (nI_1 id) h))⟩
theorem rq_so0 {post : St2 → Prop} {J : Int32 → Int32 → (Nat → Int32) → (Nat → Int32) → (Nat → Int32) → (Nat → Int32) → (Nat → Int32) → (Nat → Int32) → (Nat → Int32) → (Nat → Int32) → (Nat → Int32) → (Nat → Int32) → (Nat → Int32) → (Nat → Int32) → (Nat → Int32) → (Nat → Int32) → (Nat → Int32) → Prop} {cn id n : Nat} (h : J (nI (cn + 1)) (nI (id + 1)) a1 a2 a3 a4 a5 a6 a7 a8 a9 a10 a11 a12 (upd a13 0 (nI id)) a14 a15) : wX_sortRows_21 post J (nI cn) (nI id) f0 (n + 1) (nI 0) a1 a2 a3 a4 a5 a6 a7 a8 a9 a10 a11 a12 a13 a14 a15 :=
  pk_le 0 0 (fun _ => rq_so67 (by omega) h) (fun z => absurd z (by omega))
theorem rq_so1 {post : St2 → Prop} {J : Int32 → Int32 → (Nat → Int32) → (Nat → Int32) → (Nat → Int32) → (Nat → Int32) → (Nat → Int32) → (Nat → Int32) → (Nat → Int32) → (Nat → Int32) → (Nat → Int32) → (Nat → Int32) → (Nat → Int32) → (Nat → Int32) → (Nat → Int32) → (Nat → Int32) → (Nat → Int32) → Prop} {cn id n : Nat} {p q : Int} (t o : Nat) (ht : t < 13) (ho : o < 14) (hid : id < 14) (eo : a13 t = nI o) (ep : a4 o = zz_I p) (eq : a4 id = zz_I q) (hp : -1000 ≤ p ∧ p ≤ 1000) (hq : -1000 ≤ q ∧ q ≤ 1000)
    (hle : p ≤ q → J (nI (cn + 1)) (nI (id + 1)) a1 a2 a3 a4 a5 a6 a7 a8 a9 a10 a11 a12 (upd a13 (t + 1) (nI id)) a14 a15) (hgt : q < p → wX_sortRows_21 post J (nI cn) (nI id) f0 n (nI t) a1 a2 a3 a4 a5 a6 a7 a8 a9 a10 a11 a12 (upd a13 (t + 1) (nI o)) a14 a15) : wX_sortRows_21 post J (nI cn) (nI id) f0 (n + 1) (nI (t + 1)) a1 a2 a3 a4 a5 a6 a7 a8 a9 a10 a11 a12 a13 a14 a15 := by
  refine pk_le (t + 1) 0 (fun z => absurd z (by omega)) (fun _ => ?_)
  rw [nI_pred, nI_clamp (show t < 2 ^ 31 by omega), eo, nI_clamp (show o < 2 ^ 31 by omega), nI_clamp (show id < 2 ^ 31 by omega), ep, eq]
  exact ⟨pk_in t 14 (by omega), pk_in o 14 ho, pk_in id 14 hid, zz_le p q (fun z => rq_so67 (by omega) (hle z)) (fun z => ⟨pk_in t 14 (by omega), pk_in (t + 1) 14 (by omega), nm_r (e' := upd a13 (t + 1) (nI o)) (by rw [nI_clamp (show t + 1 < 2 ^ 31 by omega)]) (nm_r (pk_m1 t) (hgt z))⟩)⟩
theorem rq_so4 {post : St2 → Prop} {cn n : Nat} (id : Nat) (hid : id < 14) (u : a1 id = 1) (h : ∃ k, wX_sortRows_21 post (wX_sortRows_4 post f0 n) (nI cn) (nI id) f0 k (nI cn) a1 a2 a3 a4 a5 a6 a7 a8 a9 a10 a11 a12 a13 a14 a15) : wX_sortRows_4 post f0 (n + 1) (nI cn) (nI id) a1 a2 a3 a4 a5 a6 a7 a8 a9 a10 a11 a12 a13 a14 a15 :=
  pk_le 14 id (fun z => absurd z (by omega)) (fun _ => ⟨pk_in id 14 hid, br_f (by rw [nI_clamp (show id < 2 ^ 31 by omega), u]; decide) h⟩)
theorem rq_so3 {post : St2 → Prop} {cn : Nat} (z0 : ∀ j, 3 ≤ j → j < 14 → a1 j = 0) (hp : post (f0, a1, a2, a3, a4, a5, a6, a7, a8, a9, a10, a11, a12, a13, a14, a15)) : wX_sortRows_4 post f0 12 (nI cn) (nI 3) a1 a2 a3 a4 a5 a6 a7 a8 a9 a10 a11 a12 a13 a14 a15 :=
  loop_i (σ := Unit) (fun n i _ => wX_sortRows_4 post f0 n (nI cn) (nI i) a1 a2 a3 a4 a5 a6 a7 a8 a9 a10 a11 a12 a13 a14 a15) (fun i _ => 3 ≤ i) 14
    (fun n _ _ => pk_le 14 14 (fun _ => hp) (fun z => absurd z (by omega)))
    (fun n i _ hi h hw => pk_le 14 i (fun z => absurd z (by omega)) (fun _ => ⟨pk_in i 14 hi, br_t (by rw [nI_clamp (show i < 2 ^ 31 by omega)]; exact z0 i h hi) (nm_r (nI_1 i) (hw () (by omega)))⟩))
    12 3 () (by omega) (by omega) (by omega)
/-- how rows 0, 1 (as x, y by their values p ≤ q) and 2 (value W) stand in the order -/
def rq_So (x y : Nat) (p q W : Int) (b : Nat → Int32) : Prop := (b 0 = nI x ∧ b 1 = nI y ∧ b 2 = nI 2 ∧ q ≤ W) ∨ (b 0 = nI x ∧ b 1 = nI 2 ∧ b 2 = nI y ∧ p ≤ W ∧ W < q) ∨ (b 0 = nI 2 ∧ b 1 = nI x ∧ b 2 = nI y ∧ W < p)
theorem rq_so2 {post : St2 → Prop} {x y : Nat} {p q W : Int} (hx : x < 2) (hy : y < 2) (hp : -1000 ≤ p ∧ p ≤ 1000) (hq : -1000 ≤ q ∧ q ≤ 1000) (hW : -1000 ≤ W ∧ W ≤ 1000) (u2 : a1 2 = 1) (z0 : ∀ j, 3 ≤ j → j < 14 → a1 j = 0) (ep : a4 x = zz_I p) (eq : a4 y = zz_I q) (eW : a4 2 = zz_I W) (ex : a13 0 = nI x) (ey : a13 1 = nI y)
    (H : ∀ b, rq_So x y p q W b → post (f0, a1, a2, a3, a4, a5, a6, a7, a8, a9, a10, a11, a12, b, a14, a15)) : wX_sortRows_4 post f0 13 (nI 2) (nI 2) a1 a2 a3 a4 a5 a6 a7 a8 a9 a10 a11 a12 a13 a14 a15 := by
  refine rq_so4 2 (by omega) u2 ⟨3, rq_so1 1 y (by omega) (by omega) (by omega) ey eq eW hq hW (fun z => rq_so3 z0 (H _ (Or.inl ⟨?_, ?_, ?_, z⟩))) (fun z => rq_so1 0 x (by omega) (by omega) (by omega) ?_ ep eW hp hW (fun w => rq_so3 z0 (H _ (Or.inr (Or.inl ⟨?_, ?_, ?_, w, z⟩)))) (fun w => rq_so0 (rq_so3 z0 (H _ (Or.inr (Or.inr ⟨?_, ?_, ?_, w⟩))))))⟩
  · rw [pk_un (by omega)]; exact ex
  · rw [pk_un (by omega)]; exact ey
  · exact pk_us
  · rw [pk_un (by omega)]; exact ex
  · rw [pk_un (by omega), pk_un (by omega)]; exact ex
  · exact pk_us
  · rw [pk_un (by omega)]; exact pk_us
  · exact pk_us
  · rw [pk_un (by omega)]; exact pk_us
  · rw [pk_un (by omega), pk_un (by omega)]; exact pk_us
theorem rq_sort {post : St2 → Prop} {U V W : Int} (hU : -1000 ≤ U ∧ U ≤ 1000) (hV : -1000 ≤ V ∧ V ≤ 1000) (hW : -1000 ≤ W ∧ W ≤ 1000) (q1 : rq_Q1 a1 a2) (q4 : rq_Q4 U V W a4)
    (H : ∀ b x y p q, ((x = 0 ∧ y = 1 ∧ p = U ∧ q = V) ∨ (x = 1 ∧ y = 0 ∧ p = V ∧ q = U)) → p ≤ q → rq_So x y p q W b → post (f0, a1, a2, a3, a4, a5, a6, a7, a8, a9, a10, a11, a12, b, a14, a15)) : wpX_sortRows post (f0, a1, a2, a3, a4, a5, a6, a7, a8, a9, a10, a11, a12, a13, a14, a15) := by
  obtain ⟨⟨u0, u1, u2, z0⟩, _⟩ := q1
  obtain ⟨v0, v1, v2⟩ := q4
  refine ⟨15, rq_so4 0 (by omega) u0 ⟨1, rq_so0 (rq_so4 1 (by omega) u1 ⟨2, rq_so1 0 0 (by omega) (by omega) (by omega) pk_us v0 v1 hU hV (fun z => ?_) (fun z => rq_so0 ?_)⟩)⟩⟩
  · exact rq_so2 (x := 0) (y := 1) (by omega) (by omega) hU hV hW u2 z0 v0 v1 v2 (by rw [pk_un (by omega)]; exact pk_us) pk_us (fun b hb => H b 0 1 U V (Or.inl ⟨rfl, rfl, rfl, rfl⟩) z hb)
  · exact rq_so2 (x := 1) (y := 0) (by omega) (by omega) hV hU hW u2 z0 v1 v0 v2 pk_us (by rw [pk_un (by omega)]; exact pk_us) (fun b hb => H b 1 0 V U (Or.inr ⟨rfl, rfl, rfl, rfl⟩) (by omega) hb)
/-! ===== spreadLeast ===== -/
theorem rq_it0 {post : Int32 → St2 → Prop} {x1 x2 x3 : Int32} {n hv : Nat} (t o k : Nat) (ht : t < 3) (ho : o < 14) (hk : k < 6) (e13 : a13 t = nI o) (e2 : a2 o = nI k) (e14 : a14 k = nI 0)
    (h : ∃ m, wX_spreadLeast_98 post (wX_spreadLeast_51 post x1 (nI 3) n) x1 x2 (nI (hv + 1)) (nI t) (nI 3) m x3 a1 a2 a3 a4 a5 a6 a7 a8 a9 a10 a11 a12 a13 (upd a14 k (nI 1)) a15) : wX_spreadLeast_51 post x1 (nI 3) (n + 1) x2 x3 (nI hv) (nI t) a1 a2 a3 a4 a5 a6 a7 a8 a9 a10 a11 a12 a13 a14 a15 := by
  have ck : (nI k).toNatClampNeg = k := nI_clamp (by omega)
  refine pk_le 3 t (fun z => absurd z (by omega)) (fun _ => ?_)
  rw [nI_clamp (show t < 2 ^ 31 by omega), e13, nI_clamp (show o < 2 ^ 31 by omega)]
  refine ⟨pk_in t 14 (by omega), pk_in o 14 ho, nm_r e2 ⟨pk_in k 6 hk, br_t (by rw [ck]; exact e14) (nm_r (nI_1 hv) ⟨pk_in k 6 hk, pk_in k 6 hk, nm_r (e' := upd a14 k (nI 1)) ?_ h⟩)⟩⟩
  rw [ck, e14, nI_1]
theorem rq_it1 {post : Int32 → St2 → Prop} {x1 x2 x3 : Int32} {n hv : Nat} (t o k c : Nat) (ht : t < 3) (ho : o < 14) (hk : k < 6) (hc : 0 < c) (hc' : c < 100) (e13 : a13 t = nI o) (e2 : a2 o = nI k) (e14 : a14 k = nI c)
    (h : ∃ m, wX_spreadLeast_98 post (wX_spreadLeast_51 post x1 (nI 3) n) x1 x2 (nI hv) (nI t) (nI 3) m x3 a1 a2 a3 a4 a5 a6 a7 a8 a9 a10 a11 a12 a13 (upd a14 k (nI (c + 1))) a15) : wX_spreadLeast_51 post x1 (nI 3) (n + 1) x2 x3 (nI hv) (nI t) a1 a2 a3 a4 a5 a6 a7 a8 a9 a10 a11 a12 a13 a14 a15 := by
  have ck : (nI k).toNatClampNeg = k := nI_clamp (by omega)
  refine pk_le 3 t (fun z => absurd z (by omega)) (fun _ => ?_)
  rw [nI_clamp (show t < 2 ^ 31 by omega), e13, nI_clamp (show o < 2 ^ 31 by omega)]
  refine ⟨pk_in t 14 (by omega), pk_in o 14 ho, nm_r e2 ⟨pk_in k 6 hk, br_f (by rw [ck, e14]; exact nI_ne0 hc (by omega)) ⟨pk_in k 6 hk, pk_in k 6 hk, nm_r (e' := upd a14 k (nI (c + 1))) ?_ h⟩⟩⟩
  rw [ck, e14, nI_1]
theorem rq_98e {post : Int32 → St2 → Prop} {J : Int32 → Int32 → Int32 → Int32 → (Nat → Int32) → (Nat → Int32) → (Nat → Int32) → (Nat → Int32) → (Nat → Int32) → (Nat → Int32) → (Nat → Int32) → (Nat → Int32) → (Nat → Int32) → (Nat → Int32) → (Nat → Int32) → (Nat → Int32) → (Nat → Int32) → (Nat → Int32) → (Nat → Int32) → Prop} {x1 x2 x4 : Int32} {n t : Nat} (ht : t < 3) (h : wX_spreadLeast_150 post J x1 x2 (nI t) x4 (nI t) f0 a1 a2 a3 a4 a5 a6 a7 a8 a9 a10 a11 a12 a13 a14 a15) : wX_spreadLeast_98 post J x1 x2 x4 (nI t) f0 (n + 1) (nI t) a1 a2 a3 a4 a5 a6 a7 a8 a9 a10 a11 a12 a13 a14 a15 :=
  pk_le t t (fun _ => h) (fun z => absurd z (by omega))
theorem rq_98s {post : Int32 → St2 → Prop} {J : Int32 → Int32 → Int32 → Int32 → (Nat → Int32) → (Nat → Int32) → (Nat → Int32) → (Nat → Int32) → (Nat → Int32) → (Nat → Int32) → (Nat → Int32) → (Nat → Int32) → (Nat → Int32) → (Nat → Int32) → (Nat → Int32) → (Nat → Int32) → (Nat → Int32) → (Nat → Int32) → (Nat → Int32) → Prop} {x1 x2 x4 : Int32} {n f t : Nat} (o k c : Nat) (hf : f < t) (ht : t < 3) (ho : o < 14) (hk : k < 6) (hc : c ≤ 1) (e13 : a13 f = nI o) (e2 : a2 o = nI k) (e14 : a14 k = nI c) (h : wX_spreadLeast_150 post J x1 x2 (nI f) x4 (nI t) f0 a1 a2 a3 a4 a5 a6 a7 a8 a9 a10 a11 a12 a13 a14 a15) : wX_spreadLeast_98 post J x1 x2 x4 (nI t) f0 (n + 1) (nI f) a1 a2 a3 a4 a5 a6 a7 a8 a9 a10 a11 a12 a13 a14 a15 := by
  refine pk_le t f (fun z => absurd z (by omega)) (fun _ => ?_)
  rw [nI_clamp (show f < 2 ^ 31 by omega), e13, nI_clamp (show o < 2 ^ 31 by omega), e2, nI_clamp (show k < 2 ^ 31 by omega), e14]
  exact ⟨pk_in f 14 (by omega), pk_in o 14 ho, pk_in k 6 hk, br_t (nI_le (b := 1) hc (by decide)) h⟩
theorem rq_98m {post : Int32 → St2 → Prop} {J : Int32 → Int32 → Int32 → Int32 → (Nat → Int32) → (Nat → Int32) → (Nat → Int32) → (Nat → Int32) → (Nat → Int32) → (Nat → Int32) → (Nat → Int32) → (Nat → Int32) → (Nat → Int32) → (Nat → Int32) → (Nat → Int32) → (Nat → Int32) → (Nat → Int32) → (Nat → Int32) → (Nat → Int32) → Prop} {x1 x2 x4 : Int32} {n f t : Nat} (o k : Nat) (hf : f < t) (ht : t < 3) (ho : o < 14) (hk : k < 6) (e13 : a13 f = nI o) (e2 : a2 o = nI k) (e14 : a14 k = nI 2) (h : wX_spreadLeast_98 post J x1 x2 x4 (nI t) f0 n (nI (f + 1)) a1 a2 a3 a4 a5 a6 a7 a8 a9 a10 a11 a12 a13 (upd a14 k (nI 1)) a15) : wX_spreadLeast_98 post J x1 x2 x4 (nI t) f0 (n + 1) (nI f) a1 a2 a3 a4 a5 a6 a7 a8 a9 a10 a11 a12 a13 a14 a15 := by
  refine pk_le t f (fun z => absurd z (by omega)) (fun _ => ?_)
  rw [nI_clamp (show f < 2 ^ 31 by omega), e13, nI_clamp (show o < 2 ^ 31 by omega), e2, nI_clamp (show k < 2 ^ 31 by omega), e14]
  exact ⟨pk_in f 14 (by omega), pk_in o 14 ho, pk_in k 6 hk, br_f (by decide) ⟨pk_in f 14 (by omega), pk_in o 14 ho, pk_in k 6 hk, pk_in k 6 hk, nm_r (e' := upd a14 k (nI 1)) (by rw [nI_pred]) (nm_r (nI_1 f) h)⟩⟩
theorem rq_150n {post : Int32 → St2 → Prop} {J : Int32 → Int32 → Int32 → Int32 → (Nat → Int32) → (Nat → Int32) → (Nat → Int32) → (Nat → Int32) → (Nat → Int32) → (Nat → Int32) → (Nat → Int32) → (Nat → Int32) → (Nat → Int32) → (Nat → Int32) → (Nat → Int32) → (Nat → Int32) → (Nat → Int32) → (Nat → Int32) → (Nat → Int32) → Prop} {x1 x2 x4 : Int32} {f t : Nat} (o o' : Nat) (hf : f ≤ t) (ht : t < 3) (ho : o < 14) (ho' : o' < 14) (e : a13 t = nI o) (e' : a13 f = nI o') (hne : ¬ x4 = x1) (h : J x2 (nI f) x4 (nI (t + 1)) a1 a2 a3 a4 a5 a6 a7 a8 a9 a10 a11 a12 a13 a14 a15) : wX_spreadLeast_150 post J x1 x2 (nI f) x4 (nI t) f0 a1 a2 a3 a4 a5 a6 a7 a8 a9 a10 a11 a12 a13 a14 a15 := by
  unfold wX_spreadLeast_150
  rw [nI_clamp (show f < 2 ^ 31 by omega), nI_clamp (show t < 2 ^ 31 by omega), e, e']
  exact ⟨pk_in t 14 (by omega), pk_in o 14 ho, pk_in f 14 (by omega), pk_in o' 14 ho', nm_e (br_f hne (nm_r (nI_1 t) h))⟩
theorem rq_150y {post : Int32 → St2 → Prop} {J : Int32 → Int32 → Int32 → Int32 → (Nat → Int32) → (Nat → Int32) → (Nat → Int32) → (Nat → Int32) → (Nat → Int32) → (Nat → Int32) → (Nat → Int32) → (Nat → Int32) → (Nat → Int32) → (Nat → Int32) → (Nat → Int32) → (Nat → Int32) → (Nat → Int32) → (Nat → Int32) → (Nat → Int32) → Prop} {x1 : Int32} {f t : Nat} {L v v' : Int} (o o' : Nat) (hf : f ≤ t) (ht : t < 3) (ho : o < 14) (ho' : o' < 14) (e : a13 t = nI o) (e' : a13 f = nI o') (ev : a4 o = zz_I v) (ev' : a4 o' = zz_I v') (hL : -1000000 ≤ L ∧ L ≤ 1000000) (hv : -1000 ≤ v ∧ v ≤ 1000) (hv' : -1000 ≤ v' ∧ v' ≤ 1000)
    (hle : L ≤ v - v' → J (zz_I L) (nI f) x1 (nI (t + 1)) a1 a2 a3 a4 a5 a6 a7 a8 a9 a10 a11 a12 a13 a14 a15) (hgt : v - v' < L → J (zz_I (v - v')) (nI f) x1 (nI (t + 1)) a1 a2 a3 a4 a5 a6 a7 a8 a9 a10 a11 a12 a13 a14 a15) : wX_spreadLeast_150 post J x1 (zz_I L) (nI f) x1 (nI t) f0 a1 a2 a3 a4 a5 a6 a7 a8 a9 a10 a11 a12 a13 a14 a15 := by
  unfold wX_spreadLeast_150
  rw [nI_clamp (show f < 2 ^ 31 by omega), nI_clamp (show t < 2 ^ 31 by omega), e, e', nI_clamp (show o < 2 ^ 31 by omega), nI_clamp (show o' < 2 ^ 31 by omega), ev, ev', zz_sub]
  exact ⟨pk_in t 14 (by omega), pk_in o 14 ho, pk_in f 14 (by omega), pk_in o' 14 ho', nm_e (br_t rfl (zz_le L (v - v') (fun z => nm_r (nI_1 t) (hle z)) (fun z => nm_r (nI_1 t) (hgt z))))⟩
theorem rq_51e {post : Int32 → St2 → Prop} {x1 x2 x3 x4 : Int32} {n : Nat} (hp : post x2 (nI 3, a1, a2, a3, a4, a5, a6, a7, a8, a9, a10, a11, a12, a13, a14, a15)) : wX_spreadLeast_51 post x1 (nI 3) (n + 1) x2 x3 x4 (nI 3) a1 a2 a3 a4 a5 a6 a7 a8 a9 a10 a11 a12 a13 a14 a15 :=
  pk_le 3 3 (fun _ => hp) (fun z => absurd z (by omega))
/-- key 4, key 4, key 1 -/
theorem rq_sp1 {post : Int32 → St2 → Prop} {o0 o1 o2 : Nat} {v0 v1 v2 : Int} (h0 : o0 < 14) (h1 : o1 < 14) (h2 : o2 < 14) (e0 : a13 0 = nI o0) (e1 : a13 1 = nI o1) (e2 : a13 2 = nI o2) (k0 : a2 o0 = nI 4) (k1 : a2 o1 = nI 4) (k2 : a2 o2 = nI 1) (w1 : a4 o1 = zz_I v1) (w2 : a4 o2 = zz_I v2) (b1 : -1000 ≤ v1 ∧ v1 ≤ 1000) (b2 : -1000 ≤ v2 ∧ v2 ≤ 1000) (z : ∀ k, k < 6 → a14 k = nI 0)
    (H : ∀ b14, post (zz_I (v2 - v1)) (nI 3, a1, a2, a3, a4, a5, a6, a7, a8, a9, a10, a11, a12, a13, b14, a15)) : wX_spreadLeast_51 post (nI 2) (nI 3) 4 (zz_I 1000000) (nI 0) (nI 0) (nI 0) a1 a2 a3 a4 a5 a6 a7 a8 a9 a10 a11 a12 a13 a14 a15 :=
  rq_it0 0 o0 4 (by omega) h0 (by omega) e0 k0 (z 4 (by omega)) ⟨1, rq_98e (by omega) (rq_150n o0 o0 (by omega) (by omega) h0 h0 e0 e0 (by decide)
    (rq_it1 1 o1 4 1 (by omega) h1 (by omega) (by omega) (by omega) e1 k1 pk_us ⟨2, rq_98m o0 4 (by omega) (by omega) h0 (by omega) e0 k0 pk_us (rq_98e (by omega) (rq_150n o1 o1 (by omega) (by omega) h1 h1 e1 e1 (by decide)
      (rq_it0 2 o2 1 (by omega) h2 (by omega) e2 k2 (by rw [pk_un (by omega), pk_un (by omega), pk_un (by omega)]; exact z 1 (by omega)) ⟨1, rq_98s o1 4 1 (by omega) (by omega) h1 (by omega) (by omega) e1 k1 (by rw [pk_un (by omega)]; exact pk_us) (rq_150y o2 o1 (by omega) (by omega) h2 h1 e2 e1 w2 w1 (by omega) b2 b1 (fun y => absurd y (by omega)) (fun _ => rq_51e (H _)))⟩)))⟩))⟩
/-- key 4, key 1, key 4 -/
theorem rq_sp2 {post : Int32 → St2 → Prop} {o0 o1 o2 : Nat} {v0 v1 v2 : Int} (h0 : o0 < 14) (h1 : o1 < 14) (h2 : o2 < 14) (e0 : a13 0 = nI o0) (e1 : a13 1 = nI o1) (e2 : a13 2 = nI o2) (k0 : a2 o0 = nI 4) (k1 : a2 o1 = nI 1) (k2 : a2 o2 = nI 4) (w0 : a4 o0 = zz_I v0) (w1 : a4 o1 = zz_I v1) (w2 : a4 o2 = zz_I v2) (b0 : -1000 ≤ v0 ∧ v0 ≤ 1000) (b1 : -1000 ≤ v1 ∧ v1 ≤ 1000) (b2 : -1000 ≤ v2 ∧ v2 ≤ 1000) (z : ∀ k, k < 6 → a14 k = nI 0)
    (H1 : v1 - v0 ≤ v2 - v1 → ∀ b14, post (zz_I (v1 - v0)) (nI 3, a1, a2, a3, a4, a5, a6, a7, a8, a9, a10, a11, a12, a13, b14, a15)) (H2 : v2 - v1 < v1 - v0 → ∀ b14, post (zz_I (v2 - v1)) (nI 3, a1, a2, a3, a4, a5, a6, a7, a8, a9, a10, a11, a12, a13, b14, a15)) : wX_spreadLeast_51 post (nI 2) (nI 3) 4 (zz_I 1000000) (nI 0) (nI 0) (nI 0) a1 a2 a3 a4 a5 a6 a7 a8 a9 a10 a11 a12 a13 a14 a15 :=
  rq_it0 0 o0 4 (by omega) h0 (by omega) e0 k0 (z 4 (by omega)) ⟨1, rq_98e (by omega) (rq_150n o0 o0 (by omega) (by omega) h0 h0 e0 e0 (by decide)
    (rq_it0 1 o1 1 (by omega) h1 (by omega) e1 k1 (by rw [pk_un (by omega)]; exact z 1 (by omega)) ⟨1, rq_98s o0 4 1 (by omega) (by omega) h0 (by omega) (by omega) e0 k0 (by rw [pk_un (by omega)]; exact pk_us) (rq_150y o1 o0 (by omega) (by omega) h1 h0 e1 e0 w1 w0 (by omega) b1 b0 (fun y => absurd y (by omega)) (fun _ =>
      rq_it1 2 o2 4 1 (by omega) h2 (by omega) (by omega) (by omega) e2 k2 (by rw [pk_un (by omega)]; exact pk_us) ⟨2, rq_98m o0 4 (by omega) (by omega) h0 (by omega) e0 k0 pk_us (rq_98s o1 1 1 (by omega) (by omega) h1 (by omega) (by omega) e1 k1 (by rw [pk_un (by omega), pk_un (by omega)]; exact pk_us) (rq_150y o2 o1 (by omega) (by omega) h2 h1 e2 e1 w2 w1 (by omega) b2 b1 (fun y => rq_51e (H1 y _)) (fun y => rq_51e (H2 y _))))⟩))⟩))⟩
/-- key 1, key 4, key 4 -/
theorem rq_sp3 {post : Int32 → St2 → Prop} {o0 o1 o2 : Nat} {v0 v1 v2 : Int} (h0 : o0 < 14) (h1 : o1 < 14) (h2 : o2 < 14) (e0 : a13 0 = nI o0) (e1 : a13 1 = nI o1) (e2 : a13 2 = nI o2) (k0 : a2 o0 = nI 1) (k1 : a2 o1 = nI 4) (k2 : a2 o2 = nI 4) (w0 : a4 o0 = zz_I v0) (w1 : a4 o1 = zz_I v1) (w2 : a4 o2 = zz_I v2) (b0 : -1000 ≤ v0 ∧ v0 ≤ 1000) (b1 : -1000 ≤ v1 ∧ v1 ≤ 1000) (b2 : -1000 ≤ v2 ∧ v2 ≤ 1000) (h12 : v1 ≤ v2) (z : ∀ k, k < 6 → a14 k = nI 0)
    (H : ∀ b14, post (zz_I (v1 - v0)) (nI 3, a1, a2, a3, a4, a5, a6, a7, a8, a9, a10, a11, a12, a13, b14, a15)) : wX_spreadLeast_51 post (nI 2) (nI 3) 4 (zz_I 1000000) (nI 0) (nI 0) (nI 0) a1 a2 a3 a4 a5 a6 a7 a8 a9 a10 a11 a12 a13 a14 a15 :=
  rq_it0 0 o0 1 (by omega) h0 (by omega) e0 k0 (z 1 (by omega)) ⟨1, rq_98e (by omega) (rq_150n o0 o0 (by omega) (by omega) h0 h0 e0 e0 (by decide)
    (rq_it0 1 o1 4 (by omega) h1 (by omega) e1 k1 (by rw [pk_un (by omega)]; exact z 4 (by omega)) ⟨1, rq_98s o0 1 1 (by omega) (by omega) h0 (by omega) (by omega) e0 k0 (by rw [pk_un (by omega)]; exact pk_us) (rq_150y o1 o0 (by omega) (by omega) h1 h0 e1 e0 w1 w0 (by omega) b1 b0 (fun y => absurd y (by omega)) (fun _ =>
      rq_it1 2 o2 4 1 (by omega) h2 (by omega) (by omega) (by omega) e2 k2 pk_us ⟨1, rq_98s o0 1 1 (by omega) (by omega) h0 (by omega) (by omega) e0 k0 (by rw [pk_un (by omega), pk_un (by omega)]; exact pk_us) (rq_150y o2 o0 (by omega) (by omega) h2 h0 e2 e0 w2 w0 (by omega) b2 b0 (fun y => rq_51e (H _)) (fun y => absurd y (by omega)))⟩))⟩))⟩
theorem rq_spread {post : Int32 → St2 → Prop} {U V W : Int} (hU : -1000 ≤ U ∧ U ≤ 1000) (hV : -1000 ≤ V ∧ V ≤ 1000) (hW : -1000 ≤ W ∧ W ≤ 1000) (q1 : rq_Q1 a1 a2) (q4 : rq_Q4 U V W a4) (q5 : rq_Q5 2 a5)
    (H : ∀ b13 b14, post (zz_I (zz_mn (zz_ap U W) (zz_ap V W))) (nI 3, a1, a2, a3, a4, a5, a6, a7, a8, a9, a10, a11, a12, b13, b14, a15)) : wpX_spreadLeast post (nI 3, a1, a2, a3, a4, a5, a6, a7, a8, a9, a10, a11, a12, a13, a14, a15) := by
  refine pk_eq 3 0 (fun z => absurd z (by omega)) (fun _ => rq_sort hU hV hW q1 q4 (fun b x y p q hxy hpq ho => ?_))
  have hr : ∀ r : Int, (r = W - q ∧ q ≤ W) ∨ (p ≤ W ∧ W < q ∧ ((r = W - p ∧ W - p ≤ q - W) ∨ (r = q - W ∧ q - W < W - p))) ∨ (r = p - W ∧ W < p) → r = zz_mn (zz_ap U W) (zz_ap V W) := by
    intro r hr
    rcases zz_mnO (zz_ap U W) (zz_ap V W) with a | a <;> rcases zz_apO U W with b | b <;> rcases zz_apO V W with c | c <;> omega
  have T : ∀ b13 b14 r, r = zz_mn (zz_ap U W) (zz_ap V W) → post (zz_I r) (nI 3, a1, a2, a3, a4, a5, a6, a7, a8, a9, a10, a11, a12, b13, b14, a15) := fun b13 b14 r e => by rw [e]; exact H b13 b14
  obtain ⟨_, k0, k1, k2⟩ := q1
  obtain ⟨v0, v1, v2⟩ := q4
  have hx : x < 14 ∧ y < 14 ∧ a2 x = nI 4 ∧ a2 y = nI 4 ∧ a4 x = zz_I p ∧ a4 y = zz_I q ∧ (-1000 ≤ p ∧ p ≤ 1000) ∧ (-1000 ≤ q ∧ q ≤ 1000) := by
    rcases hxy with ⟨e1, e2, e3, e4⟩ | ⟨e1, e2, e3, e4⟩
    · rw [e1, e2, e3, e4]; exact ⟨by omega, by omega, k0, k1, v0, v1, hU, hV⟩
    · rw [e1, e2, e3, e4]; exact ⟨by omega, by omega, k1, k0, v1, v0, hV, hU⟩
  obtain ⟨hx1, hy1, kx, ky, vx, vy, bp, bq⟩ := hx
  refine pk_loop (σ := Nat → Int32) (fun n i s => wX_spreadLeast_16 post (nI 3) n (nI i) a1 a2 a3 a4 a5 a6 a7 a8 a9 a10 a11 a12 b s a15) (fun i s => ∀ j, j < i → s j = nI 0) 6 0 a14 (by omega) (fun j hj => absurd hj (by omega)) ?_ ?_
  · intro n s hs
    refine pk_le 6 6 (fun _ => rq_keys (c := 2) (by omega) q5 ⟨4, ?_⟩) (fun z => absurd z (by omega))
    show wX_spreadLeast_51 post (nI 2) (nI 3) 4 (zz_I 1000000) (nI 0) (nI 0) (nI 0) a1 a2 a3 a4 a5 a6 a7 a8 a9 a10 a11 a12 b s a15
    rcases ho with ⟨e0, e1, e2, d⟩ | ⟨e0, e1, e2, d, d'⟩ | ⟨e0, e1, e2, d⟩
    · exact rq_sp1 (v0 := p) hx1 hy1 (by omega) e0 e1 e2 kx ky k2 vy v2 bq hW hs (fun b14 => T _ _ _ (hr _ (Or.inl ⟨rfl, d⟩)))
    · exact rq_sp2 hx1 (by omega) hy1 e0 e1 e2 kx k2 ky vx v2 vy bp hW bq hs (fun w b14 => T _ _ _ (hr _ (Or.inr (Or.inl ⟨d, d', Or.inl ⟨rfl, w⟩⟩)))) (fun w b14 => T _ _ _ (hr _ (Or.inr (Or.inl ⟨d, d', Or.inr ⟨rfl, w⟩⟩))))
    · exact rq_sp3 (by omega) hx1 hy1 e0 e1 e2 k2 kx ky v2 vx vy hW bp bq hpq hs (fun b14 => T _ _ _ (hr _ (Or.inr (Or.inr ⟨rfl, d⟩))))
  · exact fun n i s hi h hw => pk_le 6 i (fun z => absurd z (by omega)) (fun _ => ⟨pk_in i 6 hi, nm_r (e' := upd s i (nI 0)) (by rw [nI_clamp (show i < 2 ^ 31 by omega)]; rfl) (nm_r (nI_1 i) (hw _ (rq_fill (f := fun _ => nI 0) h rfl)))⟩)
end
end
section
theorem rq_B4b {g h : Nat} {U V : Int} (hU : -1000 ≤ U ∧ U ≤ 1000) (hV : -1000 ≤ V ∧ V ≤ 1000) (j : Nat) : rq_B4 g h U V j = 1000000 ∨ (-1000 ≤ rq_B4 g h U V j ∧ rq_B4 g h U V j ≤ zz_mx U V) := by
  unfold rq_B4
  rcases zz_mxO U V with m | m <;> (repeat' split) <;> first | exact Or.inl rfl | (refine Or.inr ?_; omega)
theorem rq_B4w (g h : Nat) (U V : Int) (hg : g < 8) (hh : h < 8) : ∃ j, j < 8 ∧ rq_B4 g h U V j = zz_mx U V := by
  by_cases e : g = h
  · refine ⟨h, hh, ?_⟩
    unfold rq_B4
    rw [if_pos rfl, if_pos e]
  · rcases zz_mxO U V with m | m
    · refine ⟨h, hh, ?_⟩
      unfold rq_B4
      rw [if_pos rfl, if_neg e, m.1]
    · refine ⟨g, hg, ?_⟩
      unfold rq_B4
      rw [if_neg e, if_pos rfl, m.1]
theorem rq_mxb {U V : Int} (hU : -1000 ≤ U ∧ U ≤ 1000) (hV : -1000 ≤ V ∧ V ≤ 1000) : -1000 ≤ zz_mx U V ∧ zz_mx U V ≤ 1000 := by
  rcases zz_mxO U V with m | m <;> omega
theorem rq_B1b {i : Nat} {W : Int} (hW : -1000 ≤ W ∧ W ≤ 1000) (j : Nat) : rq_B1 i W j = 1000000 ∨ (-1000 ≤ rq_B1 i W j ∧ rq_B1 i W j ≤ W) := by
  unfold rq_B1
  split
  · exact Or.inr ⟨hW.1, Int.le_refl W⟩
  · exact Or.inl rfl
section
variable {f0 : Int32} {a1 a2 a3 a4 a5 a6 a7 a8 a9 a10 a11 a12 a13 a14 a15 : Nat → Int32}
/-! ===== middleMost ===== -/
theorem rq_ins0 {post : St2 → Prop} {v : Int32} (hp : post (f0, a1, a2, a3, a4, a5, a6, a7, a8, a9, a10, a11, a12, a13, a14, upd a15 0 v)) : wpX_insertSorted post (f0, a1, a2, a3, a4, a5, a6, a7, a8, a9, a10, a11, a12, a13, a14, a15) (nI 0) v :=
  ⟨1, pk_le 0 0 (fun _ => ⟨pk_in 0 6 (by omega), nm_e hp⟩) (fun z => absurd z (by omega))⟩
theorem rq_ins1 {post : St2 → Prop} {p q : Int} (e : a15 0 = zz_I p) (hp : -1000 ≤ p ∧ p ≤ 1000) (hq : -1000 ≤ q ∧ q ≤ 1000) (hle : p ≤ q → post (f0, a1, a2, a3, a4, a5, a6, a7, a8, a9, a10, a11, a12, a13, a14, upd a15 1 (zz_I q))) (hgt : q < p → post (f0, a1, a2, a3, a4, a5, a6, a7, a8, a9, a10, a11, a12, a13, a14, upd (upd a15 1 (zz_I p)) 0 (zz_I q))) : wpX_insertSorted post (f0, a1, a2, a3, a4, a5, a6, a7, a8, a9, a10, a11, a12, a13, a14, a15) (nI 1) (zz_I q) := by
  refine ⟨2, pk_le 1 0 (fun z => absurd z (by omega)) (fun _ => ?_)⟩
  rw [show nI 1 - 1 = nI 0 from nI_pred 0, show (nI 0).toNatClampNeg = 0 from rfl, show (nI 1).toNatClampNeg = 1 from rfl, e]
  exact ⟨pk_in 0 6 (by omega), zz_le p q (fun z => ⟨pk_in 1 6 (by omega), nm_e (hle z)⟩) (fun z => ⟨pk_in 0 6 (by omega), pk_in 1 6 (by omega), nm_e (nm_r (pk_m1 0) (pk_le 0 0 (fun _ => ⟨pk_in 0 6 (by omega), nm_e (hgt z)⟩) (fun z => absurd z (by omega))))⟩)⟩
theorem rq_mmN {post : Int32 → St2 → Prop} {J : Int32 → Int32 → Int32 → (Nat → Int32) → (Nat → Int32) → (Nat → Int32) → (Nat → Int32) → (Nat → Int32) → (Nat → Int32) → (Nat → Int32) → (Nat → Int32) → (Nat → Int32) → (Nat → Int32) → (Nat → Int32) → (Nat → Int32) → (Nat → Int32) → (Nat → Int32) → (Nat → Int32) → Prop} {x1 : Int32} (k : Nat) (hk : k < 6) (e7 : ∀ j, j < 8 → a7 (k * 8 + j) = 1000000) (hJ : J x1 (nI (k + 1)) f0 a1 a2 a3 a4 a5 a6 a7 a8 a9 a10 a11 a12 a13 a14 a15) : ∃ n, wX_middleMost_26 post J x1 (nI k) f0 a1 a2 a3 a4 a5 a6 a7 a8 a9 a10 a11 a12 a13 a14 a15 n 1000000 0 :=
  pk_loop (σ := Unit) (fun n i _ => wX_middleMost_26 post J x1 (nI k) f0 a1 a2 a3 a4 a5 a6 a7 a8 a9 a10 a11 a12 a13 a14 a15 n 1000000 (nI i)) (fun _ _ => True) 8 0 () (by omega) trivial
    (fun n _ _ => pk_le 8 8 (fun _ => br_t rfl (nm_r (nI_1 k) hJ)) (fun z => absurd z (by omega)))
    (fun n i _ hi _ hw => by
      refine pk_le 8 i (fun z => absurd z (by omega)) (fun _ => ?_)
      rw [rq_ix, nI_clamp (show k * 8 + i < 2 ^ 31 by omega), e7 i hi]
      exact ⟨pk_in (k * 8 + i) 48 (by omega), nm_e (br_t rfl (nm_r (nI_1 i) (hw () trivial)))⟩)
theorem rq_mmT {post : Int32 → St2 → Prop} {J : Int32 → Int32 → Int32 → (Nat → Int32) → (Nat → Int32) → (Nat → Int32) → (Nat → Int32) → (Nat → Int32) → (Nat → Int32) → (Nat → Int32) → (Nat → Int32) → (Nat → Int32) → (Nat → Int32) → (Nat → Int32) → (Nat → Int32) → (Nat → Int32) → (Nat → Int32) → (Nat → Int32) → Prop} {b : Nat → Int} {M : Int} {wit cn : Nat} {Q : (Nat → Int32) → Prop} (k : Nat) (hk : k < 6) (e7 : ∀ j, j < 8 → a7 (k * 8 + j) = zz_I (b j)) (hM : -1000 ≤ M ∧ M ≤ 1000) (hb : ∀ j, j < 8 → b j = 1000000 ∨ (-1000 ≤ b j ∧ b j ≤ M)) (hw8 : wit < 8) (hwit : b wit = M)
    (hins : ∀ post' : St2 → Prop, (∀ b15, Q b15 → post' (f0, a1, a2, a3, a4, a5, a6, a7, a8, a9, a10, a11, a12, a13, a14, b15)) → wpX_insertSorted post' (f0, a1, a2, a3, a4, a5, a6, a7, a8, a9, a10, a11, a12, a13, a14, a15) (nI cn) (zz_I M)) (hJ : ∀ b15, Q b15 → J (nI (cn + 1)) (nI (k + 1)) f0 a1 a2 a3 a4 a5 a6 a7 a8 a9 a10 a11 a12 a13 a14 b15) : ∃ n, wX_middleMost_26 post J (nI cn) (nI k) f0 a1 a2 a3 a4 a5 a6 a7 a8 a9 a10 a11 a12 a13 a14 a15 n 1000000 0 := by
  refine pk_loop (σ := Int) (fun n i t => wX_middleMost_26 post J (nI cn) (nI k) f0 a1 a2 a3 a4 a5 a6 a7 a8 a9 a10 a11 a12 a13 a14 a15 n (zz_I t) (nI i)) (fun i t => (t = 1000000 ∨ (-1000 ≤ t ∧ t ≤ M)) ∧ (wit < i → t = M)) 8 0 1000000 (by omega) ⟨Or.inl rfl, fun z => absurd z (by omega)⟩ ?_ ?_
  · intro n t h
    have e : t = M := h.2 hw8
    refine pk_le 8 8 (fun _ => zz_eq t 1000000 (fun z => absurd z (by omega)) (fun _ => ?_)) (fun z => absurd z (by omega))
    rw [e]
    exact hins _ (fun b15 hq => nm_r (nI_1 cn) (nm_r (nI_1 k) (hJ b15 hq)))
  · intro n i t hi h hw
    obtain ⟨ht, hwt⟩ := h
    have hbi := hb i hi
    have wi : wit = i → b i = M := fun e => by rw [← e]; exact hwit
    refine pk_le 8 i (fun z => absurd z (by omega)) (fun _ => ?_)
    rw [rq_ix, nI_clamp (show k * 8 + i < 2 ^ 31 by omega), e7 i hi]
    refine ⟨pk_in (k * 8 + i) 48 (by omega), nm_e (zz_eq (b i) 1000000 (fun z => nm_r (nI_1 i) (hw t ⟨ht, fun y => ?_⟩)) (fun z => zz_eq t 1000000 (fun y => nm_r (nI_1 i) (hw (b i) ⟨hbi, fun x => ?_⟩)) (fun y => zz_le (b i) t (fun x => nm_r (nI_1 i) (hw t ⟨ht, fun v => ?_⟩)) (fun x => nm_r (nI_1 i) (hw (b i) ⟨hbi, fun v => ?_⟩)))))⟩
    · by_cases e : wit = i
      · have := wi e; omega
      · exact hwt (by omega)
    · by_cases e : wit = i
      · exact wi e
      · have := hwt (by omega); omega
    · by_cases e : wit = i
      · have := wi e; omega
      · exact hwt (by omega)
    · by_cases e : wit = i
      · exact wi e
      · have := hwt (by omega); omega
theorem rq_R7n {g h i : Nat} {U V W : Int} (q7 : rq_Q7 g h i U V W a7) (k : Nat) (hk : k < 6) (k1 : k ≠ 1) (k4 : k ≠ 4) : ∀ j, j < 8 → a7 (k * 8 + j) = 1000000 := by
  intro j hj
  rw [q7 k j hk hj, zz_N]
  unfold rq_R7
  rw [if_neg k1, if_neg k4]
theorem rq_middle {post : Int32 → St2 → Prop} {g h i : Nat} {U V W : Int} (hg : g < 8) (hh : h < 8) (hi : i < 8) (hU : -1000 ≤ U ∧ U ≤ 1000) (hV : -1000 ≤ V ∧ V ≤ 1000) (hW : -1000 ≤ W ∧ W ≤ 1000) (q7 : rq_Q7 g h i U V W a7)
    (H : ∀ b15, post (zz_I (zz_mx (zz_mn U W) (zz_mn V W))) (nI 3, a1, a2, a3, a4, a5, a6, a7, a8, a9, a10, a11, a12, a13, a14, b15)) : wpX_middleMost post (nI 3, a1, a2, a3, a4, a5, a6, a7, a8, a9, a10, a11, a12, a13, a14, a15) := by
  obtain ⟨j4, hj4, ej4⟩ := rq_B4w g h U V hg hh
  have hM := rq_mxb hU hV
  have hr : ∀ r : Int, ((r = W ∧ W ≤ zz_mx U V) ∨ (r = zz_mx U V ∧ zz_mx U V < W)) → r = zz_mx (zz_mn U W) (zz_mn V W) := by
    intro r hr
    rcases zz_mxO U V with a | a <;> rcases zz_mnO U W with b | b <;> rcases zz_mnO V W with c | c <;> rcases zz_mxO (zz_mn U W) (zz_mn V W) with d | d <;> omega
  refine pk_eq 3 0 (fun z => absurd z (by omega)) (fun _ => ⟨7, ?_⟩)
  refine pk_le 6 0 (fun z => absurd z (by omega)) (fun _ => rq_mmN 0 (by omega) (rq_R7n q7 0 (by omega) (by omega) (by omega)) ?_)
  refine pk_le 6 1 (fun z => absurd z (by omega)) (fun _ => rq_mmT (b := rq_B1 i W) (M := W) (wit := i) (cn := 0) (Q := fun b15 => b15 0 = zz_I W) 1 (by omega) (fun j hj => q7 1 j (by omega) hj) hW (fun j _ => rq_B1b hW j) hi (if_pos rfl) (fun post' hp => rq_ins0 (hp _ pk_us)) (fun b15 hb => ?_))
  refine pk_le 6 2 (fun z => absurd z (by omega)) (fun _ => rq_mmN 2 (by omega) (rq_R7n q7 2 (by omega) (by omega) (by omega)) ?_)
  refine pk_le 6 3 (fun z => absurd z (by omega)) (fun _ => rq_mmN 3 (by omega) (rq_R7n q7 3 (by omega) (by omega) (by omega)) ?_)
  refine pk_le 6 4 (fun z => absurd z (by omega)) (fun _ => rq_mmT (b := rq_B4 g h U V) (M := zz_mx U V) (wit := j4) (cn := 1) (Q := fun b15 => b15 0 = zz_I (zz_mx (zz_mn U W) (zz_mn V W))) 4 (by omega) (fun j hj => q7 4 j (by omega) hj) hM (fun j _ => rq_B4b hU hV j) hj4 ej4 (fun post' hp => rq_ins1 hb hW hM (fun z => hp _ ?_) (fun z => hp _ ?_)) (fun c15 hc => ?_))
  · rw [pk_un (by omega), hb]; exact congrArg zz_I (hr W (Or.inl ⟨rfl, z⟩))
  · rw [pk_us]; exact congrArg zz_I (hr (zz_mx U V) (Or.inr ⟨rfl, z⟩))
  refine pk_le 6 5 (fun z => absurd z (by omega)) (fun _ => rq_mmN 5 (by omega) (rq_R7n q7 5 (by omega) (by omega) (by omega)) ?_)
  refine pk_le 6 6 (fun _ => ⟨by decide, pk_in 0 6 (by omega), ?_⟩) (fun z => absurd z (by omega))
  show post (c15 0) _
  rw [hc]
  exact H c15
/-! ===== sumLeast, sumMost ===== -/
end
def rq_sel (g k : Nat) (U : Int) : Int := if g = k then U else 0
theorem rq_selb {g k : Nat} {U : Int} (hU : -1000 ≤ U ∧ U ≤ 1000) : -1000 ≤ rq_sel g k U ∧ rq_sel g k U ≤ 1000 := by
  unfold rq_sel
  split <;> omega
section
variable {f0 : Int32} {a1 a2 a3 a4 a5 a6 a7 a8 a9 a10 a11 a12 a13 a14 a15 : Nat → Int32}
theorem rq_pa {post : Int32 → Prop} {x3 x4 : Int32} {n key grp gi : Nat} {v : Int} (id : Nat) (hid : id < 14) (hgi : gi < 8) (hgrp : grp < 8) (u : a1 id = 1) (e2 : a2 id = nI key) (e3 : a3 id = nI gi) (e4 : a4 id = zz_I v)
    (h : wX_part_57 post (wX_part_7 post (nI key) (nI grp) x3 f0 a1 a2 a3 a4 a5 a6 a7 a8 a9 a10 a11 a12 a13 a14 a15 n) (nI key) (nI grp) x3 x4 (nI id) (zz_I (rq_sel gi grp v)) f0 a1 a2 a3 a4 a5 a6 a7 a8 a9 a10 a11 a12 a13 a14 a15) : wX_part_7 post (nI key) (nI grp) x3 f0 a1 a2 a3 a4 a5 a6 a7 a8 a9 a10 a11 a12 a13 a14 a15 (n + 1) x4 (nI id) := by
  refine pk_le 14 id (fun z => absurd z (by omega)) (fun _ => ?_)
  rw [nI_clamp (show id < 2 ^ 31 by omega), u, e2, e3, e4]
  unfold rq_sel at h
  refine ⟨pk_in id 14 hid, br_f (by decide) ⟨pk_in id 14 hid, br_t rfl ⟨pk_in id 14 hid, pk_eq gi grp (fun z => ⟨pk_in id 14 hid, ?_⟩) (fun z => ?_)⟩⟩⟩
  · rw [if_pos z] at h; exact h
  · rw [if_neg z] at h; exact h
theorem rq_pas {post : Int32 → Prop} {x2 x3 x4 : Int32} {n key key' : Nat} (id : Nat) (hid : id < 14) (hk : key < 6) (hk' : key' < 6) (ne : key' ≠ key) (u : a1 id = 1) (e2 : a2 id = nI key') (h : wX_part_7 post (nI key) x2 x3 f0 a1 a2 a3 a4 a5 a6 a7 a8 a9 a10 a11 a12 a13 a14 a15 n x4 (nI (id + 1))) : wX_part_7 post (nI key) x2 x3 f0 a1 a2 a3 a4 a5 a6 a7 a8 a9 a10 a11 a12 a13 a14 a15 (n + 1) x4 (nI id) := by
  refine pk_le 14 id (fun z => absurd z (by omega)) (fun _ => ?_)
  rw [nI_clamp (show id < 2 ^ 31 by omega), u, e2]
  exact ⟨pk_in id 14 hid, br_f (by decide) ⟨pk_in id 14 hid, pk_eq key' key (fun z => absurd z ne) (fun _ => nm_r (nI_1 id) h)⟩⟩
theorem rq_pa3 {post : Int32 → Prop} {x1 x2 x3 x4 : Int32} (z0 : ∀ j, 3 ≤ j → j < 14 → a1 j = 0) (hp : post x4) : wX_part_7 post x1 x2 x3 f0 a1 a2 a3 a4 a5 a6 a7 a8 a9 a10 a11 a12 a13 a14 a15 12 x4 (nI 3) :=
  loop_i (σ := Unit) (fun n i _ => wX_part_7 post x1 x2 x3 f0 a1 a2 a3 a4 a5 a6 a7 a8 a9 a10 a11 a12 a13 a14 a15 n x4 (nI i)) (fun i _ => 3 ≤ i) 14
    (fun n _ _ => pk_le 14 14 (fun _ => hp) (fun z => absurd z (by omega)))
    (fun n i _ hi h hw => pk_le 14 i (fun z => absurd z (by omega)) (fun _ => ⟨pk_in i 14 hi, br_t (by rw [nI_clamp (show i < 2 ^ 31 by omega)]; exact z0 i h hi) (nm_r (nI_1 i) (hw () (by omega)))⟩))
    12 3 () (by omega) (by omega) (by omega)
theorem rq_57f {post : Int32 → Prop} {J : Int32 → Int32 → Prop} {x1 x2 x3 z0 : Int32} {id : Nat} (h : J z0 (nI (id + 1))) : wX_part_57 post J x1 x2 x3 1000000 (nI id) z0 f0 a1 a2 a3 a4 a5 a6 a7 a8 a9 a10 a11 a12 a13 a14 a15 := br_t rfl (nm_r (nI_1 id) h)
theorem rq_57l {post : Int32 → Prop} {J : Int32 → Int32 → Prop} {x1 x2 : Int32} {id : Nat} {f z : Int} (hf : -1000 ≤ f ∧ f ≤ 1000) (hz : -1000 ≤ z ∧ z ≤ 1000) (h : J (zz_I (zz_mn z f)) (nI (id + 1))) : wX_part_57 post J x1 x2 0 (zz_I f) (nI id) (zz_I z) f0 a1 a2 a3 a4 a5 a6 a7 a8 a9 a10 a11 a12 a13 a14 a15 := by
  unfold zz_mn at h
  refine zz_eq f 1000000 (fun y => absurd y (by omega)) (fun _ => br_t rfl (zz_le f z (fun y => nm_r (nI_1 id) ?_) (fun y => nm_r (nI_1 id) ?_)))
  · rw [if_pos y] at h; exact h
  · rw [if_neg (by omega)] at h; exact h
theorem rq_57m {post : Int32 → Prop} {J : Int32 → Int32 → Prop} {x1 x2 : Int32} {id : Nat} {f z : Int} (hf : -1000 ≤ f ∧ f ≤ 1000) (hz : -1000 ≤ z ∧ z ≤ 1000) (h : J (zz_I (zz_mx z f)) (nI (id + 1))) : wX_part_57 post J x1 x2 1 (zz_I f) (nI id) (zz_I z) f0 a1 a2 a3 a4 a5 a6 a7 a8 a9 a10 a11 a12 a13 a14 a15 := by
  unfold zz_mx at h
  refine zz_eq f 1000000 (fun y => absurd y (by omega)) (fun _ => br_f (by decide) (zz_le z f (fun y => nm_r (nI_1 id) ?_) (fun y => nm_r (nI_1 id) ?_)))
  · rw [if_pos y] at h; exact h
  · rw [if_neg (by omega)] at h; exact h
theorem rq_part1 {post : Int32 → Prop} {x3 : Int32} {g h i k : Nat} {U V W : Int} (hi : i < 8) (hk : k < 8) (q1 : rq_Q1 a1 a2) (q3 : rq_Q3 g h i a3) (q4 : rq_Q4 U V W a4) (hp : post (zz_I (rq_sel i k W))) : wpX_part post (f0, a1, a2, a3, a4, a5, a6, a7, a8, a9, a10, a11, a12, a13, a14, a15) (nI 1) (nI k) x3 := by
  obtain ⟨⟨u0, u1, u2, z0⟩, k0, k1, k2⟩ := q1
  exact ⟨15, rq_pas (key' := 4) 0 (by omega) (by omega) (by omega) (by omega) u0 k0 (rq_pas (key' := 4) 1 (by omega) (by omega) (by omega) (by omega) u1 k1 (rq_pa 2 (by omega) hi hk u2 k2 q3.2.2 q4.2.2 (rq_57f (rq_pa3 z0 hp))))⟩
theorem rq_part4l {post : Int32 → Prop} {g h i k : Nat} {U V W : Int} (hg : g < 8) (hh : h < 8) (hk : k < 8) (hU : -1000 ≤ U ∧ U ≤ 1000) (hV : -1000 ≤ V ∧ V ≤ 1000) (q1 : rq_Q1 a1 a2) (q3 : rq_Q3 g h i a3) (q4 : rq_Q4 U V W a4) (hp : post (zz_I (zz_mn (rq_sel h k V) (rq_sel g k U)))) : wpX_part post (f0, a1, a2, a3, a4, a5, a6, a7, a8, a9, a10, a11, a12, a13, a14, a15) (nI 4) (nI k) 0 := by
  obtain ⟨⟨u0, u1, u2, z0⟩, k0, k1, k2⟩ := q1
  exact ⟨15, rq_pa 0 (by omega) hg hk u0 k0 q3.1 q4.1 (rq_57f (rq_pa 1 (by omega) hh hk u1 k1 q3.2.1 q4.2.1 (rq_57l (rq_selb hU) (rq_selb hV) (rq_pas (key' := 1) 2 (by omega) (by omega) (by omega) (by omega) u2 k2 (rq_pa3 z0 hp)))))⟩
theorem rq_part4m {post : Int32 → Prop} {g h i k : Nat} {U V W : Int} (hg : g < 8) (hh : h < 8) (hk : k < 8) (hU : -1000 ≤ U ∧ U ≤ 1000) (hV : -1000 ≤ V ∧ V ≤ 1000) (q1 : rq_Q1 a1 a2) (q3 : rq_Q3 g h i a3) (q4 : rq_Q4 U V W a4) (hp : post (zz_I (zz_mx (rq_sel h k V) (rq_sel g k U)))) : wpX_part post (f0, a1, a2, a3, a4, a5, a6, a7, a8, a9, a10, a11, a12, a13, a14, a15) (nI 4) (nI k) 1 := by
  obtain ⟨⟨u0, u1, u2, z0⟩, k0, k1, k2⟩ := q1
  exact ⟨15, rq_pa 0 (by omega) hg hk u0 k0 q3.1 q4.1 (rq_57f (rq_pa 1 (by omega) hh hk u1 k1 q3.2.1 q4.2.1 (rq_57m (rq_selb hU) (rq_selb hV) (rq_pas (key' := 1) 2 (by omega) (by omega) (by omega) (by omega) u2 k2 (rq_pa3 z0 hp)))))⟩
theorem rq_su0 {post : Int32 → Prop} {x1 x2 x3 : Int32} {n : Nat} (k : Nat) (hk : k < 6) (e : a5 k = nI 0) (h : wX_sumOf_5 post x1 x2 f0 a1 a2 a3 a4 a5 a6 a7 a8 a9 a10 a11 a12 a13 a14 a15 n x3 (nI (k + 1))) : wX_sumOf_5 post x1 x2 f0 a1 a2 a3 a4 a5 a6 a7 a8 a9 a10 a11 a12 a13 a14 a15 (n + 1) x3 (nI k) :=
  pk_le 6 k (fun z => absurd z (by omega)) (fun _ => ⟨pk_in k 6 hk, br_t (by rw [nI_clamp (show k < 2 ^ 31 by omega), e]; decide) (nm_r (nI_1 k) h)⟩)
theorem rq_su1 {post : Int32 → Prop} {x1 x2 : Int32} {n c : Nat} {s r : Int} (k : Nat) (hk : k < 6) (hc : 0 < c) (hc' : c < 100) (e : a5 k = nI c) (hpart : ∀ post' : Int32 → Prop, post' (zz_I r) → wpX_part post' (f0, a1, a2, a3, a4, a5, a6, a7, a8, a9, a10, a11, a12, a13, a14, a15) (nI k) x1 x2) (h : wX_sumOf_5 post x1 x2 f0 a1 a2 a3 a4 a5 a6 a7 a8 a9 a10 a11 a12 a13 a14 a15 n (zz_I (s + r)) (nI (k + 1))) : wX_sumOf_5 post x1 x2 f0 a1 a2 a3 a4 a5 a6 a7 a8 a9 a10 a11 a12 a13 a14 a15 (n + 1) (zz_I s) (nI k) :=
  pk_le 6 k (fun z => absurd z (by omega)) (fun _ => ⟨pk_in k 6 hk, br_f (by rw [nI_clamp (show k < 2 ^ 31 by omega), e]; exact nI_nle hc (by omega)) (hpart _ (nm_r (zz_add s r) (nm_r (nI_1 k) h)))⟩)
theorem rq_sumOf {post : Int32 → Prop} {x1 x2 : Int32} {r1 r4 : Int} (q5 : rq_Q5 2 a5) (h1 : ∀ post' : Int32 → Prop, post' (zz_I r1) → wpX_part post' (f0, a1, a2, a3, a4, a5, a6, a7, a8, a9, a10, a11, a12, a13, a14, a15) (nI 1) x1 x2) (h4 : ∀ post' : Int32 → Prop, post' (zz_I r4) → wpX_part post' (f0, a1, a2, a3, a4, a5, a6, a7, a8, a9, a10, a11, a12, a13, a14, a15) (nI 4) x1 x2) (hp : post (zz_I (0 + r1 + r4))) : wpX_sumOf post (f0, a1, a2, a3, a4, a5, a6, a7, a8, a9, a10, a11, a12, a13, a14, a15) x1 x2 :=
  ⟨7, rq_su0 0 (by omega) (q5 0 (by omega)) (rq_su1 (s := 0) (c := 1) 1 (by omega) (by omega) (by omega) (q5 1 (by omega)) h1 (rq_su0 2 (by omega) (q5 2 (by omega)) (rq_su0 3 (by omega) (q5 3 (by omega)) (rq_su1 (c := 2) 4 (by omega) (by omega) (by omega) (q5 4 (by omega)) h4 (rq_su0 5 (by omega) (q5 5 (by omega)) (pk_le 6 6 (fun _ => hp) (fun z => absurd z (by omega))))))))⟩
theorem rq_sumLeast {post : Int32 → Prop} {g h i k : Nat} {U V W : Int} (hg : g < 8) (hh : h < 8) (hi : i < 8) (hk : k < 8) (hU : -1000 ≤ U ∧ U ≤ 1000) (hV : -1000 ≤ V ∧ V ≤ 1000) (q1 : rq_Q1 a1 a2) (q3 : rq_Q3 g h i a3) (q4 : rq_Q4 U V W a4) (q5 : rq_Q5 2 a5) (hp : post (zz_I (0 + rq_sel i k W + zz_mn (rq_sel h k V) (rq_sel g k U)))) : wpX_sumLeast post (f0, a1, a2, a3, a4, a5, a6, a7, a8, a9, a10, a11, a12, a13, a14, a15) (nI k) := by
  unfold wpX_sumLeast
  dsimp only
  exact rq_good hk (br_t rfl (rq_sumOf q5 (fun post' hp' => rq_part1 hi hk q1 q3 q4 hp') (fun post' hp' => rq_part4l hg hh hk hU hV q1 q3 q4 hp') hp))
theorem rq_sumMost {post : Int32 → Prop} {g h i k : Nat} {U V W : Int} (hg : g < 8) (hh : h < 8) (hi : i < 8) (hk : k < 8) (hU : -1000 ≤ U ∧ U ≤ 1000) (hV : -1000 ≤ V ∧ V ≤ 1000) (q1 : rq_Q1 a1 a2) (q3 : rq_Q3 g h i a3) (q4 : rq_Q4 U V W a4) (q5 : rq_Q5 2 a5) (hp : post (zz_I (0 + rq_sel i k W + zz_mx (rq_sel h k V) (rq_sel g k U)))) : wpX_sumMost post (f0, a1, a2, a3, a4, a5, a6, a7, a8, a9, a10, a11, a12, a13, a14, a15) (nI k) := by
  unfold wpX_sumMost
  dsimp only
  exact rq_good hk (br_t rfl (rq_sumOf q5 (fun post' hp' => rq_part1 hi hk q1 q3 q4 hp') (fun post' hp' => rq_part4m hg hh hk hU hV q1 q3 q4 hp') hp))
end
end
section
section
variable {f0 : Int32} {a1 a2 a3 a4 a5 a6 a7 a8 a9 a10 a11 a12 a13 a14 a15 : Nat → Int32}
theorem rq_nIm {k : Nat} (hk : k < 6) : nI k ≠ -1 := by
  intro w
  have w2 : (nI k).toInt = (-1 : Int32).toInt := by rw [w]
  rw [nI_toInt (by omega), show (-1 : Int32).toInt = -1 from rfl] at w2
  omega
/-- a group that can be reached is free, or its holder has no other group -/
def rq_H8 (a7 a8 : Nat → Int32) : Prop := ∀ x, x < 8 → a8 x = -1 ∨ ∃ k, k < 6 ∧ a8 x = nI k ∧ ∀ y, y < 8 → y ≠ x → a7 (k * 8 + y) = 1000000
theorem rq_ext {post : St2 → Prop} {x : Nat} (hx : x < 8) (h8 : rq_H8 a7 a8) (hp : post (f0, a1, a2, a3, a4, a5, a6, a7, a8, a9, a10, a11, a12, a13, a14, a15)) : wpX_extend post (f0, a1, a2, a3, a4, a5, a6, a7, a8, a9, a10, a11, a12, a13, a14, a15) (nI x) := by
  unfold wpX_extend
  dsimp only
  rw [nI_clamp (show x < 2 ^ 31 by omega)]
  refine ⟨pk_in x 8 hx, br_c (fun _ => hp) (fun _ => ⟨pk_in x 8 hx, ?_⟩)⟩
  rcases h8 x hx with z | ⟨k, hk, ek, sub⟩
  · rw [z]
    exact br_f (by decide) hp
  · rw [ek]
    refine br_t (nI_pos' (by omega)) ⟨pk_in x 8 hx, nm_r (e' := nI (k * 8)) (pk_mul k 8) ?_⟩
    refine pk_loop (σ := Unit) (fun n i _ => wX_extend_33 post (nI x) (nI (k * 8)) f0 n (nI i) a1 a2 a3 a4 a5 a6 a7 a8 a9 a10 a11 a12 a13 a14 a15) (fun _ _ => True) 8 0 () (by omega) trivial ?_ ?_
    · exact fun n _ _ => pk_le 8 8 (fun _ => hp) (fun z => absurd z (by omega))
    · intro n i _ hi _ hw
      refine pk_le 8 i (fun z => absurd z (by omega)) (fun _ => pk_eq i x (fun _ => nm_r (nI_1 i) (hw () trivial)) (fun ne => ?_))
      rw [nI_add, nI_clamp (show k * 8 + i < 2 ^ 31 by omega)]
      exact ⟨pk_in (k * 8 + i) 48 (by omega), br_t (sub i hi ne) (nm_r (nI_1 i) (hw () trivial))⟩
theorem rq_pb48 {post : Int32 → St2 → Prop} {J : Int32 → Int32 → (Nat → Int32) → (Nat → Int32) → (Nat → Int32) → (Nat → Int32) → (Nat → Int32) → (Nat → Int32) → (Nat → Int32) → (Nat → Int32) → (Nat → Int32) → (Nat → Int32) → (Nat → Int32) → (Nat → Int32) → (Nat → Int32) → (Nat → Int32) → (Nat → Int32) → Prop} {x1 : Int32} {r : Nat} (h8 : rq_H8 a7 a8) (hJ : J (nI (r + 1)) f0 a1 a2 a3 a4 a5 a6 a7 a8 a9 a10 a11 a12 a13 a14 a15) : ∃ n, wX_placeBest_48 post J x1 (nI r) n 0 f0 a1 a2 a3 a4 a5 a6 a7 a8 a9 a10 a11 a12 a13 a14 a15 :=
  pk_loop (σ := Unit) (fun n i _ => wX_placeBest_48 post J x1 (nI r) n (nI i) f0 a1 a2 a3 a4 a5 a6 a7 a8 a9 a10 a11 a12 a13 a14 a15) (fun _ _ => True) 8 0 () (by omega) trivial
    (fun n _ _ => pk_le 8 8 (fun _ => nm_r (nI_1 r) hJ) (fun z => absurd z (by omega)))
    (fun n i _ hi _ hw => pk_le 8 i (fun z => absurd z (by omega)) (fun _ => rq_ext hi h8 (nm_r (nI_1 i) (hw () trivial))))
theorem rq_pb40 {post : Int32 → St2 → Prop} {x1 : Int32} (h8 : rq_H8 a7 a8) (h : ∃ m, wX_placeBest_75 post x1 f0 a1 a2 a3 a4 a5 a6 a7 a8 a9 a10 a11 a12 a13 a14 a15 m (-1) 0) : ∃ n, wX_placeBest_40 post x1 n 0 f0 a1 a2 a3 a4 a5 a6 a7 a8 a9 a10 a11 a12 a13 a14 a15 :=
  pk_loop (σ := Unit) (fun n i _ => wX_placeBest_40 post x1 n (nI i) f0 a1 a2 a3 a4 a5 a6 a7 a8 a9 a10 a11 a12 a13 a14 a15) (fun _ _ => True) 8 0 () (by omega) trivial
    (fun n _ _ => pk_le 8 8 (fun _ => h) (fun z => absurd z (by omega)))
    (fun n i _ hi _ hw => pk_le 8 i (fun z => absurd z (by omega)) (fun _ => rq_pb48 h8 (hw () trivial)))
/-- the best free group below i: s is -1, or the group -/
def rq_E (a8 : Nat → Int32) (b : Nat → Int) (i : Nat) (s : Int32) : Prop := (s = -1 ∧ ∀ j, j < i → a8 j = -1 → b j = 1000000) ∨ ∃ y, y < i ∧ s = nI y ∧ a8 y = -1 ∧ b y ≠ 1000000 ∧ ∀ j, j < i → a8 j = -1 → b j ≠ 1000000 → b j ≤ b y
theorem rq_pb75 {post : Int32 → St2 → Prop} {key : Nat} {b : Nat → Int} (h8 : rq_H8 a7 a8) (e9 : ∀ j, j < 8 → a9 j = zz_I (b j)) (hb : ∀ j, j < 8 → -1000000 ≤ b j ∧ b j ≤ 1000000) (e10 : ∀ j, j < 8 → a10 j = -1)
    (H1 : ∀ x, x < 8 → a8 x = -1 → b x ≠ 1000000 → (∀ j, j < 8 → a8 j = -1 → b j ≠ 1000000 → b j ≤ b x) → post (zz_I (b x)) (f0, a1, a2, a3, a4, a5, a6, a7, upd a8 x (nI key), a9, a10, a11, a12, a13, a14, a15))
    (H0 : (∀ j, j < 8 → a8 j = -1 → b j = 1000000) → post 1000000 (f0, a1, a2, a3, a4, a5, a6, a7, a8, a9, a10, a11, a12, a13, a14, a15)) : ∃ m, wX_placeBest_75 post (nI key) f0 a1 a2 a3 a4 a5 a6 a7 a8 a9 a10 a11 a12 a13 a14 a15 m (-1) 0 := by
  refine pk_loop (σ := Int32) (fun n i s => wX_placeBest_75 post (nI key) f0 a1 a2 a3 a4 a5 a6 a7 a8 a9 a10 a11 a12 a13 a14 a15 n s (nI i)) (fun i s => rq_E a8 b i s) 8 0 (-1) (by omega) (Or.inl ⟨rfl, fun j hj => absurd hj (by omega)⟩) ?_ ?_
  · intro n s h
    refine pk_le 8 8 (fun _ => ?_) (fun z => absurd z (by omega))
    rcases h with ⟨e, h⟩ | ⟨y, hy, e, fy, ny, my⟩
    · rw [e]
      exact br_f (by decide) (H0 h)
    · rw [e]
      refine br_t (nI_pos' (by omega)) (rq_shift hy (e10 y hy) ⟨pk_in y 8 hy, ?_⟩)
      rw [nI_clamp (show y < 2 ^ 31 by omega), e9 y hy]
      exact H1 y hy fy ny my
  · intro n i s hi h hw
    have hbi := hb i hi
    refine pk_le 8 i (fun z => absurd z (by omega)) (fun _ => ⟨pk_in i 8 hi, ?_⟩)
    rw [nI_clamp (show i < 2 ^ 31 by omega)]
    rcases h8 i hi with z | ⟨k, hk, ek, _⟩
    · rw [z, e9 i hi]
      refine br_f (by decide) ⟨pk_in i 8 hi, zz_eq (b i) 1000000 (fun w => nm_r (nI_1 i) (hw s ?_)) (fun w => ?_)⟩
      · rcases h with ⟨e, h⟩ | ⟨y, hy, e, fy, ny, my⟩
        · refine Or.inl ⟨e, fun j hj fj => ?_⟩
          by_cases d : j = i
          · rw [d]; exact w
          · exact h j (by omega) fj
        · refine Or.inr ⟨y, by omega, e, fy, ny, fun j hj fj nj => ?_⟩
          by_cases d : j = i
          · rw [d] at nj; exact absurd w nj
          · exact my j (by omega) fj nj
      · rcases h with ⟨e, h⟩ | ⟨y, hy, e, fy, ny, my⟩
        · rw [e]
          refine br_t (by decide) (nm_r (nI_1 i) (hw (nI i) (Or.inr ⟨i, by omega, rfl, z, w, fun j hj fj nj => ?_⟩)))
          by_cases d : j = i
          · rw [d]; exact Int.le_refl _
          · exact absurd (h j (by omega) fj) nj
        · have hby := hb y (by omega)
          rw [e, nI_clamp (show y < 2 ^ 31 by omega), e9 y (by omega)]
          refine br_f (nI_pos (by omega)) ⟨pk_in i 8 hi, pk_in y 8 (by omega), zz_le (b i) (b y) (fun v => nm_r (nI_1 i) (hw (nI y) (Or.inr ⟨y, by omega, rfl, fy, ny, fun j hj fj nj => ?_⟩))) (fun v => nm_r (nI_1 i) (hw (nI i) (Or.inr ⟨i, by omega, rfl, z, w, fun j hj fj nj => ?_⟩)))⟩
          · by_cases d : j = i
            · rw [d]; exact v
            · exact my j (by omega) fj nj
          · by_cases d : j = i
            · rw [d]; exact Int.le_refl _
            · have := my j (by omega) fj nj
              omega
    · rw [ek]
      refine br_t (nI_pos' (by omega)) (nm_r (nI_1 i) (hw s ?_))
      have nf : ∀ j, j = i → a8 j = -1 → False := fun j d fj => by
        rw [d, ek] at fj; exact rq_nIm hk fj
      rcases h with ⟨e, h⟩ | ⟨y, hy, e, fy, ny, my⟩
      · refine Or.inl ⟨e, fun j hj fj => ?_⟩
        by_cases d : j = i
        · exact (nf j d fj).elim
        · exact h j (by omega) fj
      · refine Or.inr ⟨y, by omega, e, fy, ny, fun j hj fj nj => ?_⟩
        by_cases d : j = i
        · exact (nf j d fj).elim
        · exact my j (by omega) fj nj
theorem rq_placeBest {post : Int32 → St2 → Prop} {b : Nat → Int} (key : Nat) (hkey : key < 6) (h8 : rq_H8 a7 a8) (e7 : ∀ j, j < 8 → a7 (key * 8 + j) = zz_I (b j)) (hb : ∀ j, j < 8 → -1000000 ≤ b j ∧ b j ≤ 1000000)
    (H1 : ∀ x, x < 8 → a8 x = -1 → b x ≠ 1000000 → (∀ j, j < 8 → a8 j = -1 → b j ≠ 1000000 → b j ≤ b x) → ∀ b9 b10, post (zz_I (b x)) (f0, a1, a2, a3, a4, a5, a6, a7, upd a8 x (nI key), b9, b10, a11, a12, a13, a14, a15))
    (H0 : (∀ j, j < 8 → a8 j = -1 → b j = 1000000) → ∀ b9 b10, post 1000000 (f0, a1, a2, a3, a4, a5, a6, a7, a8, b9, b10, a11, a12, a13, a14, a15)) : wpX_placeBest post (f0, a1, a2, a3, a4, a5, a6, a7, a8, a9, a10, a11, a12, a13, a14, a15) (nI key) := by
  refine pk_loop (σ := (Nat → Int32) × (Nat → Int32)) (fun n i s => wX_placeBest_2 post (nI key) f0 n (nI i) a1 a2 a3 a4 a5 a6 a7 a8 s.1 s.2 a11 a12 a13 a14 a15) (fun i s => (∀ j, j < i → s.1 j = zz_I (b j)) ∧ (∀ j, j < i → s.2 j = -1)) 8 0 (a9, a10) (by omega) ⟨fun j hj => absurd hj (by omega), fun j hj => absurd hj (by omega)⟩ ?_ ?_
  · exact fun n s h => pk_le 8 8 (fun _ => rq_pb40 h8 (rq_pb75 h8 h.1 hb h.2 (fun x hx fx nx mx => H1 x hx fx nx mx s.1 s.2) (fun z => H0 z s.1 s.2))) (fun z => absurd z (by omega))
  · intro n i s hi h hw
    refine pk_le 8 i (fun z => absurd z (by omega)) (fun _ => ?_)
    rw [rq_ix, nI_clamp (show key * 8 + i < 2 ^ 31 by omega), nI_clamp (show i < 2 ^ 31 by omega), e7 i hi]
    exact ⟨pk_in (key * 8 + i) 48 (by omega), pk_in i 8 hi, nm_e ⟨pk_in i 8 hi, nm_e (nm_r (nI_1 i) (hw (upd s.1 i (zz_I (b i)), upd s.2 i (-1)) ⟨rq_fill (f := fun j => zz_I (b j)) h.1 rfl, rq_fill (f := fun _ => -1) h.2 rfl⟩))⟩⟩
theorem rq_mi0 {post : Int32 → St2 → Prop} {x1 : Int32} {n : Nat} (k : Nat) (hk : k < 6) (e : a5 k = nI 0) (h : wX_mixedMost_35 post n x1 (nI (k + 1)) f0 a1 a2 a3 a4 a5 a6 a7 a8 a9 a10 a11 a12 a13 a14 a15) : wX_mixedMost_35 post (n + 1) x1 (nI k) f0 a1 a2 a3 a4 a5 a6 a7 a8 a9 a10 a11 a12 a13 a14 a15 :=
  pk_le 6 k (fun z => absurd z (by omega)) (fun _ => ⟨pk_in k 6 hk, br_t (by rw [nI_clamp (show k < 2 ^ 31 by omega), e]; decide) (nm_r (nI_1 k) h)⟩)
end
/-- the law's mixed -/
def rq_mix (g h i : Nat) (U V W : Int) : Int := if h = i then (if g = i then 1000000 else U + W) else if g = i then V + W else if V + W ≤ U + W then U + W else V + W
theorem rq_mixT {g h i x : Nat} {U V W : Int} (hg : g < 8) (hh : h < 8) (hU : -1000 ≤ U ∧ U ≤ 1000) (hV : -1000 ≤ V ∧ V ≤ 1000) (xi : x ≠ i) (nx : rq_B4 g h U V x ≠ 1000000) (mx : ∀ j, j < 8 → j ≠ i → rq_B4 g h U V j ≠ 1000000 → rq_B4 g h U V j ≤ rq_B4 g h U V x) : W + rq_B4 g h U V x = rq_mix g h i U V W := by
  have bg : rq_B4 g h U V g = (if g = h then zz_mx U V else U) := by
    unfold rq_B4
    repeat' split
    all_goals first | rfl | (exfalso; omega)
  have bh : rq_B4 g h U V h = (if g = h then zz_mx U V else V) := by
    unfold rq_B4
    rw [if_pos rfl]
  have hx : x = g ∨ x = h := by
    by_cases a : x = h
    · exact Or.inr a
    · by_cases c : x = g
      · exact Or.inl c
      · refine absurd ?_ nx
        unfold rq_B4
        rw [if_neg a, if_neg c]
  have mg := mx g hg
  have mh := mx h hh
  rw [bg] at mg
  rw [bh] at mh
  unfold rq_mix
  rcases zz_mxO U V with m | m <;> rcases hx with e | e <;> rw [e] at xi mg mh ⊢ <;> (try rw [bg] at mg mh ⊢) <;> (try rw [bh] at mg mh ⊢) <;> (repeat' split at *) <;> omega
theorem rq_mixF {g h i : Nat} {U V W : Int} (hg : g < 8) (hh : h < 8) (hU : -1000 ≤ U ∧ U ≤ 1000) (hV : -1000 ≤ V ∧ V ≤ 1000) (al : ∀ j, j < 8 → j ≠ i → rq_B4 g h U V j = 1000000) : rq_mix g h i U V W = 1000000 := by
  have hM := rq_mxb hU hV
  have eg : g = i := by
    by_cases e : g = i
    · exact e
    · have t := al g hg e
      unfold rq_B4 at t
      repeat' split at t
      all_goals omega
  have eh : h = i := by
    by_cases e : h = i
    · exact e
    · have t := al h hh e
      unfold rq_B4 at t
      rw [if_pos rfl] at t
      split at t <;> omega
  unfold rq_mix
  rw [if_pos eh, if_pos eg]
section
variable {f0 : Int32} {a1 a2 a3 a4 a5 a6 a7 a8 a9 a10 a11 a12 a13 a14 a15 : Nat → Int32}
theorem rq_mixed {post : Int32 → St2 → Prop} {g h i : Nat} {U V W : Int} (hg : g < 8) (hh : h < 8) (hi : i < 8) (hU : -1000 ≤ U ∧ U ≤ 1000) (hV : -1000 ≤ V ∧ V ≤ 1000) (hW : -1000 ≤ W ∧ W ≤ 1000) (q5 : rq_Q5 2 a5) (q7 : rq_Q7 g h i U V W a7)
    (H : ∀ b8 b9 b10, post (zz_I (rq_mix g h i U V W)) (nI 3, a1, a2, a3, a4, a5, a6, a7, b8, b9, b10, a11, a12, a13, a14, a15)) : wpX_mixedMost post (nI 3, a1, a2, a3, a4, a5, a6, a7, a8, a9, a10, a11, a12, a13, a14, a15) := by
  have e71 : ∀ j, j < 8 → a7 (1 * 8 + j) = zz_I (rq_B1 i W j) := fun j hj => q7 1 j (by omega) hj
  have e74 : ∀ j, j < 8 → a7 (4 * 8 + j) = zz_I (rq_B4 g h U V j) := fun j hj => q7 4 j (by omega) hj
  have b1b : ∀ j, j < 8 → -1000000 ≤ rq_B1 i W j ∧ rq_B1 i W j ≤ 1000000 := fun j _ => by
    have t := rq_B1b (i := i) hW j; omega
  have b4b : ∀ j, j < 8 → -1000000 ≤ rq_B4 g h U V j ∧ rq_B4 g h U V j ≤ 1000000 := fun j _ => by
    have t := rq_B4b (g := g) (h := h) hU hV j; have t2 := rq_mxb hU hV; omega
  have b1i : rq_B1 i W i = W := if_pos rfl
  refine pk_eq 3 0 (fun z => absurd z (by omega)) (fun _ => ?_)
  refine pk_loop (σ := Nat → Int32) (fun n j s => wX_mixedMost_12 post (nI 3) n (nI j) a1 a2 a3 a4 a5 a6 a7 s a9 a10 a11 a12 a13 a14 a15) (fun j s => ∀ x, x < j → s x = -1) 8 0 a8 (by omega) (fun x hx => absurd hx (by omega)) ?_ ?_
  · intro n s hs
    refine pk_le 8 8 (fun _ => ⟨7, ?_⟩) (fun z => absurd z (by omega))
    refine rq_mi0 0 (by omega) (q5 0 (by omega)) ?_
    refine pk_le 6 1 (fun z => absurd z (by omega)) (fun _ => ⟨pk_in 1 6 (by omega), br_f (by rw [show (nI 1).toNatClampNeg = 1 from rfl, q5 1 (by omega)]; decide) (rq_placeBest 1 (by omega) (fun x hx => Or.inl (hs x hx)) e71 b1b (fun x hx _ nx _ b9 b10 => ?_) (fun z => ?_))⟩)
    · have ex : x = i := by
        by_cases d : x = i
        · exact d
        · exact absurd (if_neg d) nx
      rw [ex, b1i]
      refine zz_eq W 1000000 (fun z => absurd z (by omega)) (fun _ => nm_r (e' := zz_I W) (by rw [zz_0, zz_add, Int.zero_add]) (nm_r (nI_1 1) ?_))
      refine rq_mi0 2 (by omega) (q5 2 (by omega)) (rq_mi0 3 (by omega) (q5 3 (by omega)) ?_)
      refine pk_le 6 4 (fun z => absurd z (by omega)) (fun _ => ⟨pk_in 4 6 (by omega), br_f (by rw [show (nI 4).toNatClampNeg = 4 from rfl, q5 4 (by omega)]; decide) (rq_placeBest 4 (by omega) (fun x hx => ?_) e74 b4b (fun x hx fx nx mx c9 c10 => ?_) (fun z c9 c10 => ?_))⟩)
      · by_cases d : x = i
        · refine Or.inr ⟨1, by omega, by rw [d, pk_us], fun y hy ne => ?_⟩
          rw [e71 y hy, zz_N]
          exact congrArg zz_I (if_neg (by omega))
        · exact Or.inl (by rw [pk_un d]; exact hs x hx)
      · have xi : x ≠ i := by
          intro d
          rw [d, pk_us] at fx
          exact rq_nIm (by omega) fx
        have t := rq_mixT (W := W) hg hh hU hV xi nx (fun j hj ji nj => mx j hj (by rw [pk_un ji]; exact hs j hj) nj)
        have bb := b4b x hx
        refine zz_eq (rq_B4 g h U V x) 1000000 (fun z => absurd z nx) (fun _ => nm_r (zz_add _ _) (nm_r (nI_1 4) ?_))
        rw [t]
        exact rq_mi0 5 (by omega) (q5 5 (by omega)) (pk_le 6 6 (fun _ => H _ c9 c10) (fun z => absurd z (by omega)))
      · have t := rq_mixF (W := W) hg hh hU hV (fun j hj ji => z j hj (by rw [pk_un ji]; exact hs j hj))
        have T := H (upd s i (nI 1)) c9 c10
        rw [t] at T
        exact br_t rfl T
    · have t := z i hi (hs i hi)
      rw [b1i] at t
      exact absurd t (by omega)
  · exact fun n j s hj h hw => pk_le 8 j (fun z => absurd z (by omega)) (fun _ => ⟨pk_in j 8 hj, nm_r (e' := upd s j (-1)) (by rw [nI_clamp (show j < 2 ^ 31 by omega)]) (nm_r (nI_1 j) (hw _ (rq_fill (f := fun _ => -1) h rfl)))⟩)
end
end
section
/-! ===== small tables ===== -/
theorem rq_T1 : ∀ g, g < 8 → ∀ h, h < 8 → ∀ i, i < 8 → ∀ k, k < 8 → ((rq_cl (2 ^ i) (2 ^ g ||| 2 ^ h) (2 ^ k) 6 : Nat) : Int) = zz_mn ((if k = g then 1 else 0) + (if k = i then 1 else 0)) ((if k = h then 1 else 0) + (if k = i then 1 else 0)) := by decide +kernel
theorem rq_T2 : ∀ g, g < 8 → ∀ h, h < 8 → ∀ i, i < 8 → ∀ k, k < 8 → ((rq_cm (2 ^ i) (2 ^ g ||| 2 ^ h) k 6 : Nat) : Int) = zz_mx ((if k = g then 1 else 0) + (if k = i then 1 else 0)) ((if k = h then 1 else 0) + (if k = i then 1 else 0)) := by decide +kernel
def rq_xq (g h i k : Nat) : Bool := decide (2 ^ i &&& (2 ^ i ||| 2 ^ k) ≠ 0 ∧ (2 ^ g ||| 2 ^ h) &&& (2 ^ i ||| 2 ^ k) ≠ 0 ∧ rq_mt i ((2 ^ g ||| 2 ^ h) &&& (2 ^ i ||| 2 ^ k)) = rq_pc (2 ^ i ||| 2 ^ k) 8)
theorem rq_T3d : ∀ g, g < 8 → ∀ h, h < 8 → ∀ i, i < 8 → ∀ k, k < 8 → rq_xq g h i k = decide (2 ^ i ||| 2 ^ k = 2 ^ i ||| 2 ^ g ∨ 2 ^ i ||| 2 ^ k = 2 ^ i ||| 2 ^ h) := by decide +kernel
theorem rq_T3 {g h i k : Nat} (hg : g < 8) (hh : h < 8) (hi : i < 8) (hk : k < 8) : (2 ^ i &&& (2 ^ i ||| 2 ^ k) ≠ 0 ∧ (2 ^ g ||| 2 ^ h) &&& (2 ^ i ||| 2 ^ k) ≠ 0 ∧ rq_mt i ((2 ^ g ||| 2 ^ h) &&& (2 ^ i ||| 2 ^ k)) = rq_pc (2 ^ i ||| 2 ^ k) 8) ↔ (2 ^ i ||| 2 ^ k = 2 ^ i ||| 2 ^ g ∨ 2 ^ i ||| 2 ^ k = 2 ^ i ||| 2 ^ h) := by
  have t := rq_T3d g hg h hh i hi k hk
  unfold rq_xq at t
  exact decide_eq_decide.mp t
theorem rq_T4 : ∀ g, g < 8 → ∀ h, h < 8 → ∀ i, i < 8 → ((rq_mt i ((2 ^ g ||| 2 ^ h) &&& 255) : Nat) : Int) = zz_mx (if g = i then 1 else 2) (if h = i then 1 else 2) := by decide +kernel
theorem rq_T5 : ∀ g, g < 8 → ∀ h, h < 8 → ∀ i, i < 8 → ((rq_ga g h i : Nat) : Int) = zz_mn (if g = i then 1 else 2) (if h = i then 1 else 2) := by decide +kernel
theorem rq_T6 {h i : Nat} : ((rq_ga h h i : Nat) : Int) = if h = i then 1 else 2 := by
  unfold rq_ga
  by_cases e : h = i
  · rw [if_pos (Or.inl e), if_pos e]; rfl
  · rw [if_neg (fun z => z.elim e e), if_neg e]; rfl
theorem rq_tbi (i k : Nat) : (2 ^ i ||| 2 ^ k).testBit i = true := by
  rw [Nat.testBit_or, Nat.testBit_two_pow_self, Bool.true_or]
theorem rq_sum1 {g h i k : Nat} {U V W fi sg sh : Int} (hfi : fi = if k = i then 1 else 0) (hsg : sg = if k = g then U else 0) (hsh : sh = if k = h then V else 0) : 0 + rq_sel i k W + zz_mn (rq_sel h k V) (rq_sel g k U) = zz_mn (sg + fi * W) (sh + fi * W) := by
  have a : rq_sel i k W = fi * W := by
    unfold rq_sel; rw [hfi]
    by_cases e : i = k
    · rw [if_pos e, if_pos e.symm, Int.one_mul]
    · rw [if_neg e, if_neg (fun z => e z.symm), Int.zero_mul]
  have b : rq_sel g k U = sg := by
    unfold rq_sel; rw [hsg]
    by_cases e : g = k
    · rw [if_pos e, if_pos e.symm]
    · rw [if_neg e, if_neg (fun z => e z.symm)]
  have c : rq_sel h k V = sh := by
    unfold rq_sel; rw [hsh]
    by_cases e : h = k
    · rw [if_pos e, if_pos e.symm]
    · rw [if_neg e, if_neg (fun z => e z.symm)]
  rw [a, b, c]
  generalize fi * W = w
  rcases zz_mnO sh sg with m | m <;> rcases zz_mnO (sg + w) (sh + w) with n | n <;> omega
theorem rq_sum2 {g h i k : Nat} {U V W fi sg sh : Int} (hfi : fi = if k = i then 1 else 0) (hsg : sg = if k = g then U else 0) (hsh : sh = if k = h then V else 0) : 0 + rq_sel i k W + zz_mx (rq_sel h k V) (rq_sel g k U) = zz_mx (sg + fi * W) (sh + fi * W) := by
  have a : rq_sel i k W = fi * W := by
    unfold rq_sel; rw [hfi]
    by_cases e : i = k
    · rw [if_pos e, if_pos e.symm, Int.one_mul]
    · rw [if_neg e, if_neg (fun z => e z.symm), Int.zero_mul]
  have b : rq_sel g k U = sg := by
    unfold rq_sel; rw [hsg]
    by_cases e : g = k
    · rw [if_pos e, if_pos e.symm]
    · rw [if_neg e, if_neg (fun z => e z.symm)]
  have c : rq_sel h k V = sh := by
    unfold rq_sel; rw [hsh]
    by_cases e : h = k
    · rw [if_pos e, if_pos e.symm]
    · rw [if_neg e, if_neg (fun z => e z.symm)]
  rw [a, b, c]
  generalize fi * W = w
  rcases zz_mxO sh sg with m | m <;> rcases zz_mxO (sg + w) (sh + w) with n | n <;> omega
/-- all that is kept while the law reads -/
def rq_P (g h i : Nat) (U V W : Int) (a1 a2 a3 a4 a5 a6 a7 : Nat → Int32) : Prop := (g < 8 ∧ h < 8 ∧ i < 8 ∧ (-500 ≤ U ∧ U ≤ 523) ∧ (-500 ≤ V ∧ V ≤ 523) ∧ (-500 ≤ W ∧ W ≤ 523)) ∧ rq_Q1 a1 a2 ∧ rq_Q3 g h i a3 ∧ rq_Q4 U V W a4 ∧ rq_Q5 2 a5 ∧ rq_Q6 (2 ^ i) (2 ^ g ||| 2 ^ h) a6 ∧ rq_Q7 g h i U V W a7
section
variable {f0 : Int32} {a1 a2 a3 a4 a5 a6 a7 a8 a9 a10 a11 a12 a13 a14 a15 : Nat → Int32}
theorem rq_395 {post : Int32 → St0 → Prop} {mc ms kc ks : Nat} {J : Int32 → Int32 → (Nat → Int32) → (Nat → Int32) → (Nat → Int32) → (Nat → Int32) → (Nat → Int32) → (Nat → Int32) → (Nat → Int32) → (Nat → Int32) → (Nat → Int32) → (Nat → Int32) → (Nat → Int32) → (Nat → Int32) → (Nat → Int32) → (Nat → Int32) → (Nat → Int32) → Prop} {x10 x11 x14 : Int32} {g h i k : Nat} {U V W fi fg fh sg sh : Int} (hk : k < 8) (P : rq_P g h i U V W a1 a2 a3 a4 a5 a6 a7) (hfi : fi = if k = i then 1 else 0) (hfg : fg = if k = g then 1 else 0) (hfh : fh = if k = h then 1 else 0) (hsg : sg = if k = g then U else 0) (hsh : sh = if k = h then V else 0)
    (hJ : ∀ b8 b10 b11 b12, J (nI (k + 1)) f0 a1 a2 a3 a4 a5 a6 a7 b8 a9 b10 b11 b12 a13 a14 a15) : wL_lawOf_395 post mc ms J (nI g) (nI h) (nI i) x10 x11 (zz_I W) x14 (nI k) (zz_I fi) (zz_I (fg + fi)) (zz_I (fh + fi)) (zz_I (sg + fi * W)) (zz_I sh) kc ks f0 a1 a2 a3 a4 a5 a6 a7 a8 a9 a10 a11 a12 a13 a14 a15 := by
  obtain ⟨⟨hg, hh, hi, hU, hV, hW⟩, q1, q3, q4, q5, q6, q7⟩ := P
  have bfi : 0 ≤ fi ∧ fi ≤ 1 := by rw [hfi]; split <;> omega
  have bfg : 0 ≤ fg ∧ fg ≤ 1 := by rw [hfg]; split <;> omega
  have bfh : 0 ≤ fh ∧ fh ≤ 1 := by rw [hfh]; split <;> omega
  have bsg : -1000 ≤ sg ∧ sg ≤ 1000 := by rw [hsg]; split <;> omega
  have bsh : -1000 ≤ sh ∧ sh ≤ 1000 := by rw [hsh]; split <;> omega
  have bw : -1000 ≤ fi * W ∧ fi * W ≤ 1000 := by
    rcases (show fi = 0 ∨ fi = 1 by omega) with e | e
    · rw [e, Int.zero_mul]; omega
    · rw [e, Int.one_mul]; omega
  have hA := rq_pow hi
  have hB := rq_pow2 hg hh
  have o1 : zz_ok (fg + fi) := ⟨by omega, by omega⟩
  have o2 : zz_ok (fh + fi) := ⟨by omega, by omega⟩
  have o3 : zz_ok (sg + fi * W) := ⟨by omega, by omega⟩
  have o4 : zz_ok (sh + fi * W) := ⟨by omega, by omega⟩
  have t1 : nI (rq_cl (2 ^ i) (2 ^ g ||| 2 ^ h) (2 ^ k) 6) = zz_I (zz_mn (fg + fi) (fh + fi)) := by
    rw [← zz_n, rq_T1 g hg h hh i hi k hk, hfi, hfg, hfh]
  have t2 : nI (rq_cm (2 ^ i) (2 ^ g ||| 2 ^ h) k 6) = zz_I (zz_mx (fg + fi) (fh + fi)) := by
    rw [← zz_n, rq_T2 g hg h hh i hi k hk, hfi, hfg, hfh]
  have U1 : -1000 ≤ U ∧ U ≤ 1000 := by omega
  have V1 : -1000 ≤ V ∧ V ≤ 1000 := by omega
  unfold wL_lawOf_395
  refine nm_r (e' := zz_I (sh + fi * W)) (by rw [zz_mul, zz_add]) ?_
  refine rq_countLeast hk hA hB q6 (zz_least o1 o2 (br_t t1 ?_))
  refine rq_countMost hk hA hB q6 (zz_most o1 o2 (br_t t2 ?_))
  refine rq_sumLeast hg hh hi hk U1 V1 q1 q3 q4 q5 (zz_least o3 o4 (br_t (congrArg zz_I (rq_sum1 hfi hsg hsh)) ?_))
  refine rq_sumMost hg hh hi hk U1 V1 q1 q3 q4 q5 (zz_most o3 o4 (br_t (congrArg zz_I (rq_sum2 hfi hsg hsh)) ?_))
  refine nm_r (e' := nI (2 ^ i ||| 2 ^ k)) (by rw [rq_sh i hi, rq_sh k hk, rq_or]) ?_
  refine rq_exactly (c := 2) (i := i) (B := 2 ^ g ||| 2 ^ h) (m := 2 ^ i ||| 2 ^ k) (by omega) (by omega) hB hi (rq_pow2 hi hk) (rq_tbi i k) q5 q6 (fun b8 b10 b11 b12 => ?_)
  have T3 := rq_T3 hg hh hi hk
  have m1 := rq_pow2 hi hk
  have m2 := rq_pow2 hi hg
  have m3 := rq_pow2 hi hh
  refine pk_eq (2 ^ i ||| 2 ^ k) (2 ^ i ||| 2 ^ g) (fun z => ?_) (fun z => pk_eq (2 ^ i ||| 2 ^ k) (2 ^ i ||| 2 ^ h) (fun y => ?_) (fun y => ?_) rfl (by rw [rq_sh i hi, rq_sh h hh, rq_or])) rfl (by rw [rq_sh i hi, rq_sh g hg, rq_or])
  · exact br_t (if_pos (T3.mpr (Or.inl z))) (nm_r (nI_1 k) (hJ b8 b10 b11 b12))
  · exact br_t (if_pos (T3.mpr (Or.inr y))) (nm_r (nI_1 k) (hJ b8 b10 b11 b12))
  · exact br_t (if_neg (fun w => (T3.mp w).elim z y)) (nm_r (nI_1 k) (hJ b8 b10 b11 b12))
theorem rq_374 {post : Int32 → St0 → Prop} {mc ms kc ks : Nat} {J : Int32 → Int32 → (Nat → Int32) → (Nat → Int32) → (Nat → Int32) → (Nat → Int32) → (Nat → Int32) → (Nat → Int32) → (Nat → Int32) → (Nat → Int32) → (Nat → Int32) → (Nat → Int32) → (Nat → Int32) → (Nat → Int32) → (Nat → Int32) → (Nat → Int32) → (Nat → Int32) → Prop} {x10 x14 : Int32} {g h i k : Nat} {U V W fi fg fh sg : Int} (hk : k < 8) (P : rq_P g h i U V W a1 a2 a3 a4 a5 a6 a7) (hfi : fi = if k = i then 1 else 0) (hfg : fg = if k = g then 1 else 0) (hfh : fh = if k = h then 1 else 0) (hsg : sg = if k = g then U else 0)
    (hJ : ∀ b8 b10 b11 b12, J (nI (k + 1)) f0 a1 a2 a3 a4 a5 a6 a7 b8 a9 b10 b11 b12 a13 a14 a15) : wL_lawOf_374 post mc ms J (nI g) (nI h) (nI i) x10 (zz_I V) (zz_I W) x14 (nI k) (zz_I fi) (zz_I (fg + fi)) (zz_I (fh + fi)) (zz_I sg) kc ks f0 a1 a2 a3 a4 a5 a6 a7 a8 a9 a10 a11 a12 a13 a14 a15 := by
  have hh := P.1.2.1
  unfold wL_lawOf_374
  exact nm_r (e' := zz_I (sg + fi * W)) (by rw [zz_mul, zz_add]) (pk_eq k h (fun e => rq_395 (sh := V) hk P hfi hfg hfh hsg (if_pos e).symm hJ) (fun e => rq_395 (sh := 0) hk P hfi hfg hfh hsg (if_neg e).symm hJ))
theorem rq_356 {post : Int32 → St0 → Prop} {mc ms kc ks : Nat} {J : Int32 → Int32 → (Nat → Int32) → (Nat → Int32) → (Nat → Int32) → (Nat → Int32) → (Nat → Int32) → (Nat → Int32) → (Nat → Int32) → (Nat → Int32) → (Nat → Int32) → (Nat → Int32) → (Nat → Int32) → (Nat → Int32) → (Nat → Int32) → (Nat → Int32) → (Nat → Int32) → Prop} {x14 : Int32} {g h i k : Nat} {U V W fi fg fh : Int} (hk : k < 8) (P : rq_P g h i U V W a1 a2 a3 a4 a5 a6 a7) (hfi : fi = if k = i then 1 else 0) (hfg : fg = if k = g then 1 else 0) (hfh : fh = if k = h then 1 else 0)
    (hJ : ∀ b8 b10 b11 b12, J (nI (k + 1)) f0 a1 a2 a3 a4 a5 a6 a7 b8 a9 b10 b11 b12 a13 a14 a15) : wL_lawOf_356 post mc ms J (nI g) (nI h) (nI i) (zz_I U) (zz_I V) (zz_I W) x14 (nI k) (zz_I fi) (zz_I (fg + fi)) (zz_I fh) kc ks f0 a1 a2 a3 a4 a5 a6 a7 a8 a9 a10 a11 a12 a13 a14 a15 := by
  have hg := P.1.1
  unfold wL_lawOf_356
  exact nm_r (e' := zz_I (fh + fi)) (zz_add fh fi) (pk_eq k g (fun e => rq_374 (sg := U) hk P hfi hfg hfh (if_pos e).symm hJ) (fun e => rq_374 (sg := 0) hk P hfi hfg hfh (if_neg e).symm hJ))
theorem rq_339 {post : Int32 → St0 → Prop} {mc ms kc ks : Nat} {J : Int32 → Int32 → (Nat → Int32) → (Nat → Int32) → (Nat → Int32) → (Nat → Int32) → (Nat → Int32) → (Nat → Int32) → (Nat → Int32) → (Nat → Int32) → (Nat → Int32) → (Nat → Int32) → (Nat → Int32) → (Nat → Int32) → (Nat → Int32) → (Nat → Int32) → (Nat → Int32) → Prop} {x14 : Int32} {g h i k : Nat} {U V W fi fg : Int} (hk : k < 8) (P : rq_P g h i U V W a1 a2 a3 a4 a5 a6 a7) (hfi : fi = if k = i then 1 else 0) (hfg : fg = if k = g then 1 else 0)
    (hJ : ∀ b8 b10 b11 b12, J (nI (k + 1)) f0 a1 a2 a3 a4 a5 a6 a7 b8 a9 b10 b11 b12 a13 a14 a15) : wL_lawOf_339 post mc ms J (nI g) (nI h) (nI i) (zz_I U) (zz_I V) (zz_I W) x14 (nI k) (zz_I fi) (zz_I fg) kc ks f0 a1 a2 a3 a4 a5 a6 a7 a8 a9 a10 a11 a12 a13 a14 a15 := by
  have hh := P.1.2.1
  unfold wL_lawOf_339
  exact nm_r (e' := zz_I (fg + fi)) (zz_add fg fi) (pk_eq k h (fun e => rq_356 (fh := 1) hk P hfi hfg (if_pos e).symm hJ) (fun e => rq_356 (fh := 0) hk P hfi hfg (if_neg e).symm hJ))
theorem rq_325 {post : Int32 → St0 → Prop} {mc ms kc ks : Nat} {J : Int32 → Int32 → (Nat → Int32) → (Nat → Int32) → (Nat → Int32) → (Nat → Int32) → (Nat → Int32) → (Nat → Int32) → (Nat → Int32) → (Nat → Int32) → (Nat → Int32) → (Nat → Int32) → (Nat → Int32) → (Nat → Int32) → (Nat → Int32) → (Nat → Int32) → (Nat → Int32) → Prop} {x14 : Int32} {g h i k : Nat} {U V W fi : Int} (hk : k < 8) (P : rq_P g h i U V W a1 a2 a3 a4 a5 a6 a7) (hfi : fi = if k = i then 1 else 0)
    (hJ : ∀ b8 b10 b11 b12, J (nI (k + 1)) f0 a1 a2 a3 a4 a5 a6 a7 b8 a9 b10 b11 b12 a13 a14 a15) : wL_lawOf_325 post mc ms J (nI g) (nI h) (nI i) (zz_I U) (zz_I V) (zz_I W) x14 (nI k) (zz_I fi) kc ks f0 a1 a2 a3 a4 a5 a6 a7 a8 a9 a10 a11 a12 a13 a14 a15 := by
  have hg := P.1.1
  unfold wL_lawOf_325
  exact pk_eq k g (fun e => rq_339 (fg := 1) hk P hfi (if_pos e).symm hJ) (fun e => rq_339 (fg := 0) hk P hfi (if_neg e).symm hJ)
theorem rq_306 {post : Int32 → St0 → Prop} {mc ms kc ks : Nat} {g h i : Nat} {U V W : Int} (P : rq_P g h i U V W a1 a2 a3 a4 a5 a6 a7) (hp : post 1 ()) : ∃ n, wL_lawOf_306 post mc ms (nI g) (nI h) (nI i) (zz_I U) (zz_I V) (zz_I W) (zz_I (if h = i then 1 else 2)) kc ks n 0 (nI 3) a1 a2 a3 a4 a5 a6 a7 a8 a9 a10 a11 a12 a13 a14 a15 := by
  have hi := P.1.2.2.1
  refine pk_loop (σ := (Nat → Int32) × (Nat → Int32) × (Nat → Int32) × (Nat → Int32)) (fun n k s => wL_lawOf_306 post mc ms (nI g) (nI h) (nI i) (zz_I U) (zz_I V) (zz_I W) (zz_I (if h = i then 1 else 2)) kc ks n (nI k) (nI 3) a1 a2 a3 a4 a5 a6 a7 s.1 a9 s.2.1 s.2.2.1 s.2.2.2 a13 a14 a15) (fun _ _ => True) 8 0 (a8, a10, a11, a12) (by omega) trivial ?_ ?_
  · intro n s _
    obtain ⟨⟨hg, hh, hi, hU, hV, hW⟩, q1, q3, q4, q5, q6, q7⟩ := P
    refine pk_le 8 8 (fun _ => rq_remove (rq_W3 hg hh hi q1 q3) q1.1.1 (fun b5 b6 b7 hF => br_t rfl ?_)) (fun z => absurd z (by omega))
    refine rq_repairs (c := 1) (by omega) (rq_rem5 q1 hF.1) (br_t (by decide) ?_)
    exact rq_groupsLeast (c := 1) (g := h) (h := h) (by omega) (by omega) hh hh hi (rq_rem5 q1 hF.1) (rq_rem6 hh hi q1 q3 hF.2.1) (br_t (by rw [← zz_n, rq_T6]) hp)
  · intro n k s hk _ hw
    refine pk_le 8 k (fun z => absurd z (by omega)) (fun _ => pk_eq k i (fun e => rq_325 (fi := 1) hk P (if_pos e).symm (fun b8 b10 b11 b12 => ?_)) (fun e => rq_325 (fi := 0) hk P (if_neg e).symm (fun b8 b10 b11 b12 => ?_)))
    · exact hw (b8, b10, b11, b12) trivial
    · exact hw (b8, b10, b11, b12) trivial
end
end
section
section
variable {f0 : Int32} {a1 a2 a3 a4 a5 a6 a7 a8 a9 a10 a11 a12 a13 a14 a15 : Nat → Int32}
theorem rq_291 {post : Int32 → St0 → Prop} {mc ms kc ks : Nat} {g h i : Nat} {U V W x : Int} (P : rq_P g h i U V W a1 a2 a3 a4 a5 a6 a7) (hp : post 1 ()) (hx : x = rq_mix g h i U V W) : wL_lawOf_291 post mc ms (nI g) (nI h) (nI i) (zz_I U) (zz_I V) (zz_I W) (zz_I (if h = i then 1 else 2)) (zz_I x) kc ks (nI 3) a1 a2 a3 a4 a5 a6 a7 a8 a9 a10 a11 a12 a13 a14 a15 := by
  have P' := P
  obtain ⟨⟨hg, hh, hi, hU, hV, hW⟩, q1, q3, q4, q5, q6, q7⟩ := P
  unfold wL_lawOf_291
  exact rq_mixed hg hh hi (by omega) (by omega) (by omega) q5 q7 (fun b8 b9 b10 => br_t (by rw [hx]) (rq_306 P' hp))
theorem rq_260 {post : Int32 → St0 → Prop} {mc ms kc ks : Nat} {g h i : Nat} {U V W x : Int} (P : rq_P g h i U V W a1 a2 a3 a4 a5 a6 a7) (hp : post 1 ()) (hx : x = if g = i then 1000000 else U + W) : wL_lawOf_260 post mc ms (nI g) (nI h) (nI i) (zz_I U) (zz_I V) (zz_I W) (zz_I (if h = i then 1 else 2)) (zz_I x) kc ks (nI 3) a1 a2 a3 a4 a5 a6 a7 a8 a9 a10 a11 a12 a13 a14 a15 := by
  obtain ⟨hg, hh, hi, hU, hV, hW⟩ := P.1
  have bx : -1000000 ≤ x ∧ x ≤ 1000000 := by rw [hx]; split <;> omega
  have T284 : ¬ h = i → (x = 1000000 ∨ x < V + W) → wL_lawOf_284 post mc ms (nI g) (nI h) (nI i) (zz_I U) (zz_I V) (zz_I W) (zz_I (if h = i then 1 else 2)) kc ks (nI 3) a1 a2 a3 a4 a5 a6 a7 a8 a9 a10 a11 a12 a13 a14 a15 := by
    intro hne hc
    unfold wL_lawOf_284
    refine nm_r (zz_add V W) (rq_291 P hp ?_)
    unfold rq_mix
    rw [if_neg hne]
    by_cases e : g = i
    · rw [if_pos e]
    · rw [if_neg e] at hx
      rw [if_neg e, if_neg (by omega)]
  unfold wL_lawOf_260
  refine pk_eq h i (fun e => rq_291 P hp ?_) (fun e => zz_eq x 1000000 (fun z => T284 e (Or.inl z)) (fun z => ?_))
  · unfold rq_mix
    rw [if_pos e]; exact hx
  · rw [zz_add]
    refine zz_le (V + W) x (fun y => rq_291 P hp ?_) (fun y => T284 e (Or.inr y))
    unfold rq_mix
    by_cases d : g = i
    · rw [if_pos d] at hx; exact absurd hx z
    · rw [if_neg d] at hx
      rw [if_neg e, if_neg d, if_pos (by omega)]; exact hx
theorem rq_140 {post : Int32 → St0 → Prop} {mc ms kc ks : Nat} {g h i : Nat} {U V W a b : Int} (P : rq_P g h i U V W a1 a2 a3 a4 a5 a6 a7) (hp : post 1 ()) (ha : a = if g = i then 1 else 2) (hb : b = if h = i then 1 else 2) : wL_lawOf_140 post mc ms (nI g) (nI h) (nI i) (zz_I U) (zz_I V) (zz_I W) (zz_I a) (zz_I b) kc ks (nI 3) a1 a2 a3 a4 a5 a6 a7 a8 a9 a10 a11 a12 a13 a14 a15 := by
  have P' := P
  obtain ⟨⟨hg, hh, hi, hU, hV, hW⟩, q1, q3, q4, q5, q6, q7⟩ := P
  have U1 : -1000 ≤ U ∧ U ≤ 1000 := by omega
  have V1 : -1000 ≤ V ∧ V ≤ 1000 := by omega
  have W1 : -1000 ≤ W ∧ W ≤ 1000 := by omega
  have oa : zz_ok a := by rw [ha]; split <;> exact ⟨by omega, by omega⟩
  have ob : zz_ok b := by rw [hb]; split <;> exact ⟨by omega, by omega⟩
  have oU : zz_ok U := ⟨by omega, by omega⟩
  have oV : zz_ok V := ⟨by omega, by omega⟩
  have oW : zz_ok W := ⟨by omega, by omega⟩
  have o1 : zz_ok (zz_ap U W) := by rcases zz_apO U W with z | z <;> exact ⟨by omega, by omega⟩
  have o2 : zz_ok (zz_ap V W) := by rcases zz_apO V W with z | z <;> exact ⟨by omega, by omega⟩
  have o3 : zz_ok (zz_mn U W) := by rcases zz_mnO U W with z | z <;> exact ⟨by omega, by omega⟩
  have o4 : zz_ok (zz_mn V W) := by rcases zz_mnO V W with z | z <;> exact ⟨by omega, by omega⟩
  have t5 : nI (rq_ga g h i) = zz_I (zz_mn a b) := by rw [← zz_n, rq_T5 g hg h hh i hi, ha, hb]
  have t4 : nI (rq_mt i ((2 ^ g ||| 2 ^ h) &&& 255)) = zz_I (zz_mx a b) := by rw [← zz_n, rq_T4 g hg h hh i hi, ha, hb]
  unfold wL_lawOf_140
  refine rq_groupsLeast (c := 2) (by omega) (by omega) hg hh hi q5 q6 (zz_least oa ob (br_t t5 ?_))
  refine rq_groupsMost (rq_pow2 hg hh) hi q6 (fun b8 b10 b11 b12 => zz_most oa ob (br_t t4 ?_))
  refine zz_apart oU oW (zz_apart oV oW (zz_least oU oW (zz_least oV oW ?_)))
  refine rq_spread U1 V1 W1 q1 q4 q5 (fun b13 b14 => zz_least o1 o2 (br_t rfl ?_))
  refine rq_middle hg hh hi U1 V1 W1 q7 (fun b15 => zz_most o3 o4 (br_t rfl ?_))
  rw [hb]
  exact pk_eq g i (fun e => rq_260 (x := 1000000) P' hp (if_pos e).symm) (fun e => nm_r (zz_add U W) (rq_260 P' hp (if_neg e).symm))
theorem rq_126 {post : Int32 → St0 → Prop} {mc ms kc ks : Nat} {g h i : Nat} {U V W a : Int} (P : rq_P g h i U V W a1 a2 a3 a4 a5 a6 a7) (hp : post 1 ()) (ha : a = if g = i then 1 else 2) : wL_lawOf_126 post mc ms (nI g) (nI h) (nI i) (zz_I U) (zz_I V) (zz_I W) (zz_I a) kc ks (nI 3) a1 a2 a3 a4 a5 a6 a7 a8 a9 a10 a11 a12 a13 a14 a15 := by
  obtain ⟨hg, hh, hi, _⟩ := P.1
  unfold wL_lawOf_126
  exact pk_eq h i (fun e => rq_140 (b := 1) P hp ha (if_pos e).symm) (fun e => rq_140 (b := 2) P hp ha (if_neg e).symm)
end
theorem rq_val (p : Int32) : ∃ z : Int, (-500 ≤ z ∧ z ≤ 523) ∧ (p &&& 1023) - 500 = zz_I z := by
  obtain ⟨j, hj, e⟩ := pk_andE p (m := 1023) 10 (by decide)
  refine ⟨(j : Int) - 500, by omega, ?_⟩
  rw [e, ← zz_n, show (500 : Int32) = zz_I 500 from rfl, zz_sub]
theorem rq_lawOf {post : Int32 → St0 → Prop} (p0 p1 p2 p3 p4 p5 : Int32) (hp : post 1 ()) : wpL_lawOf post 124 1968 () p0 p1 p2 p3 p4 p5 := by
  obtain ⟨g, hg, eg⟩ := pk_andE p0 (m := 7) 3 (by decide)
  obtain ⟨h, hh, eh⟩ := pk_andE p1 (m := 7) 3 (by decide)
  obtain ⟨i, hi, ei⟩ := pk_andE p2 (m := 7) 3 (by decide)
  obtain ⟨U, hU, eU⟩ := rq_val p3
  obtain ⟨V, hV, eV⟩ := rq_val p4
  obtain ⟨W, hW, eW⟩ := rq_val p5
  unfold wpL_lawOf
  refine ⟨by decide, by decide, 15, 182, by decide, by decide, rq_init (fun b5 b6 b7 => ?_)⟩
  refine nm_r eg (nm_r eh (nm_r ei (nm_r eU (nm_r eV (nm_r eW ?_)))))
  refine rq_add (n := 0) (k := 4) (by omega) (by omega) hg (by omega) (by omega) (fun n _ => Or.inl rfl) (fun j hj => absurd hj (by omega)) rfl (fun c5 c6 c7 _ => br_t rfl ?_)
  refine rq_add (n := 1) (k := 4) (by omega) (by omega) hh (by omega) (by omega) (rq_Wadd (by omega) hg (fun n _ => Or.inl rfl)) (fun j hj => by rw [show j = 0 by omega]; rfl) rfl (fun d5 d6 d7 _ => br_t rfl ?_)
  refine rq_add (n := 2) (k := 1) (by omega) (by omega) hi (by omega) (by omega) (rq_Wadd (by omega) hh (rq_Wadd (by omega) hg (fun n _ => Or.inl rfl))) (fun j hj => ?_) rfl (fun e5 e6 e7 hF => br_t rfl ?_)
  · rcases (show j = 0 ∨ j = 1 by omega) with e | e
    · rw [e]; rfl
    · rw [e]; rfl
  · have q1 : rq_Q1 (upd (upd (upd (fun _ => 0) 0 1) 1 1) 2 1) (upd (upd (upd (fun _ => 0) 0 (nI 4)) 1 (nI 4)) 2 (nI 1)) :=
      ⟨⟨rfl, rfl, rfl, fun j h3 _ => by rw [pk_un (by omega), pk_un (by omega), pk_un (by omega)]⟩, rfl, rfl, rfl⟩
    have q3 : rq_Q3 g h i (upd (upd (upd (fun _ => 0) 0 (nI g)) 1 (nI h)) 2 (nI i)) := ⟨rfl, rfl, rfl⟩
    have q4 : rq_Q4 U V W (upd (upd (upd (fun _ => 0) 0 (zz_I U)) 1 (zz_I V)) 2 (zz_I W)) := ⟨rfl, rfl, rfl⟩
    have q5 := rq_pic5 q1 hF.1
    have q6 := rq_pic6 hg hh hi q1 q3 hF.2.1
    have q7 := rq_pic7 hg hh hi (by omega) (by omega) q1 q3 q4 hF.2.2
    have P : rq_P g h i U V W (upd (upd (upd (fun _ => 0) 0 1) 1 1) 2 1) (upd (upd (upd (fun _ => 0) 0 (nI 4)) 1 (nI 4)) 2 (nI 1)) (upd (upd (upd (fun _ => 0) 0 (nI g)) 1 (nI h)) 2 (nI i)) (upd (upd (upd (fun _ => 0) 0 (zz_I U)) 1 (zz_I V)) 2 (zz_I W)) e5 e6 e7 := ⟨⟨hg, hh, hi, hU, hV, hW⟩, q1, q3, q4, q5, q6, q7⟩
    refine rq_repairs (c := 2) (by omega) q5 (br_t (by decide) ?_)
    exact pk_eq g i (fun e => rq_126 (a := 1) P hp (if_pos e).symm) (fun e => rq_126 (a := 2) P hp (if_neg e).symm)
theorem rq_cell {post : Int32 → Prop} {L : Nat} {xs : Nat → Int32} (hL : L ≤ 6) (j : Nat) (hj : j < 6) (h : ∀ x, post x) : wpL_cellAt post L xs () (nI j) :=
  pk_le L j (fun _ => h 0) (fun z => ⟨pk_in j L z, h _⟩)
theorem i_vc (xs : Nat → Int32) (L : Nat) (hL : L ≤ 6) : wpL_law (fun r => r = 1) L xs := by
  unfold wpL_law
  exact rq_cell hL 0 (by omega) (fun r1 => rq_cell hL 1 (by omega) (fun r2 => rq_cell hL 2 (by omega) (fun r3 => rq_cell hL 3 (by omega) (fun r4 => rq_cell hL 4 (by omega) (fun r5 => rq_cell hL 5 (by omega) (fun r6 => ⟨124, 1968, by decide, by decide, rq_lawOf r1 r2 r3 r4 r5 r6 rfl⟩))))))
end
