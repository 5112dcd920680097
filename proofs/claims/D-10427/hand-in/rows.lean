section
/-! bits of an int: the first rows are the bt family of kit/laws/BITS.to-paste, renamed -/
def ps_b (x : Int32) (i : Nat) : Bool := x.toBitVec.getLsbD i
theorem ps_ext {x y : Int32} (h : ∀ i, i < 32 → ps_b x i = ps_b y i) : x = y := Int32.toBitVec_inj.mp (BitVec.eq_of_getLsbD_eq (fun i hi => h i hi))
theorem ps_or (x y : Int32) (i : Nat) : ps_b (x ||| y) i = (ps_b x i || ps_b y i) := by unfold ps_b; rw [Int32.toBitVec_or, BitVec.getLsbD_or]
theorem ps_and (x y : Int32) (i : Nat) : ps_b (x &&& y) i = (ps_b x i && ps_b y i) := by unfold ps_b; rw [Int32.toBitVec_and, BitVec.getLsbD_and]
theorem ps_xor (x y : Int32) (i : Nat) : ps_b (x ^^^ y) i = (ps_b x i ^^ ps_b y i) := by unfold ps_b; rw [Int32.toBitVec_xor, BitVec.getLsbD_xor]
theorem ps_big {x : Int32} {i : Nat} (h : 32 ≤ i) : ps_b x i = false := BitVec.getLsbD_of_ge _ _ h
theorem ps_m1 : ∀ i, i < 32 → ps_b (-1) i = true := by decide +kernel
theorem ps_0 (i : Nat) : ps_b 0 i = false := BitVec.getLsbD_zero
theorem ps_sl : ∀ n, n < 32 → ((nI n &&& 31).toBitVec.smod 32).toNat = n := by decide +kernel
theorem ps_sshr (n : Nat) (hn : n < 32) (x : Int32) {i : Nat} (hi : i < 32) : ps_b (x >>> (nI n &&& 31)) i = if n + i < 32 then ps_b x (n + i) else ps_b x 31 := by
  unfold ps_b
  rw [Int32.toBitVec_shiftRight]
  show (x.toBitVec.sshiftRight ((nI n &&& 31).toBitVec.smod 32).toNat).getLsbD i = _
  rw [ps_sl n hn, BitVec.getLsbD_sshiftRight, BitVec.msb_eq_getLsbD_last]
  simp [hi]
/-! own rows -/
theorem ps_lt {x : Int32} {i : Nat} (h : ps_b x i = true) : i < 32 := by
  rcases Nat.lt_or_ge i 32 with h1 | h1
  · exact h1
  · rw [ps_big h1] at h
    exact absurd h (by decide)
theorem ps_not (x : Int32) {i : Nat} (hi : i < 32) : ps_b (x ^^^ (-1)) i = !ps_b x i := by
  rw [ps_xor, ps_m1 i hi]
  cases ps_b x i <;> rfl
theorem ps_diff (s a : Int32) (j : Nat) : ps_b (s &&& (a ^^^ (-1))) j = (ps_b s j && !ps_b a j) := by
  rw [ps_and]
  rcases Nat.lt_or_ge j 32 with h | h
  · rw [ps_not _ h]
  · rw [ps_big (x := s) h]
    rfl
theorem ps_one0 : ∀ n, n < 32 → ∀ i, i < 32 → ps_b ((1 : Int32) <<< (nI n &&& 31)) i = decide (i = n) := by decide +kernel
theorem ps_one {n : Nat} (hn : n < 32) (i : Nat) : ps_b ((1 : Int32) <<< (nI n &&& 31)) i = decide (i = n) := by
  rcases Nat.lt_or_ge i 32 with h | h
  · exact ps_one0 n hn i h
  · rw [ps_big h, decide_eq_false (by omega)]
theorem ps_k1 : ∀ i, i < 32 → ps_b 1 i = decide (i = 0) := by decide +kernel
theorem ps_t {n : Nat} (hn : n < 32) (x : Int32) : (x >>> (nI n &&& 31)) &&& 1 = if ps_b x n = true then (1 : Int32) else 0 := by
  apply ps_ext
  intro i hi
  rw [ps_and, ps_k1 i hi]
  by_cases h : i = 0
  · subst h
    rw [ps_sshr n hn x (by omega), if_pos (by omega), Nat.add_zero]
    cases ps_b x n <;> decide
  · rw [decide_eq_false h, Bool.and_false]
    cases ps_b x n
    · exact (ps_0 i).symm
    · rw [if_pos rfl, ps_k1 i hi, decide_eq_false h]
theorem ps_t0 {n : Nat} (hn : n < 32) (x : Int32) : ((x >>> (nI n &&& 31)) &&& 1 = 0) ↔ ps_b x n = false := by
  rw [ps_t hn x]
  cases ps_b x n <;> decide
theorem ps_t1 {n : Nat} (hn : n < 32) (x : Int32) : ((x >>> (nI n &&& 31)) &&& 1 = 1) ↔ ps_b x n = true := by
  rw [ps_t hn x]
  cases ps_b x n <;> decide
theorem ps_nf {b : Bool} (h : ¬ b = false) : b = true := by
  cases b
  · exact absurd rfl h
  · rfl
theorem ps_nt {b : Bool} (h : ¬ b = true) : b = false := by
  cases b
  · rfl
  · exact absurd rfl h
theorem ps_10 : ¬ (1 : Int32) = 0 := by decide
/-- a test of bit n against 0 -/
theorem ps_c0 {A B : Prop} {n : Nat} {x : Int32} (hn : n < 32) (f : ps_b x n = false → A) (g : ps_b x n = true → B) : ((x >>> (nI n &&& 31)) &&& 1 = 0 → A) ∧ (¬ (x >>> (nI n &&& 31)) &&& 1 = 0 → B) :=
  br_c (fun h => f ((ps_t0 hn x).mp h)) (fun h => g (ps_nf (fun z => h ((ps_t0 hn x).mpr z))))
/-- a test of bit n against 1 -/
theorem ps_c1 {A B : Prop} {n : Nat} {x : Int32} (hn : n < 32) (f : ps_b x n = true → A) (g : ps_b x n = false → B) : ((x >>> (nI n &&& 31)) &&& 1 = 1 → A) ∧ (¬ (x >>> (nI n &&& 31)) &&& 1 = 1 → B) :=
  br_c (fun h => f ((ps_t1 hn x).mp h)) (fun h => g (ps_nt (fun z => h ((ps_t1 hn x).mpr z))))
theorem ps_in {post : Int32 → Prop} {u : St2} {s : Int32} {n : Nat} (hn : n < 32) (f : ps_b s n = false → post 0) (g : ps_b s n = true → post 1) : wpX_in post u s (nI n) := ps_c0 hn f g
/-- small: no bit from 8 on -/
def ps_sm (x : Int32) : Prop := ∀ j, ps_b x j = true → j < 8
theorem ps_nar {x : Int32} (h : ps_sm x) : x.toInt16.toInt32 = x := by
  have h' : ∀ j, 8 ≤ j → x.toBitVec.getLsbD j = false := fun j hj => ps_nt (fun z => absurd (h j z) (by omega))
  apply ps_ext
  intro i hi
  show (x.toInt16.toInt32).toBitVec.getLsbD i = x.toBitVec.getLsbD i
  rw [Int16.toBitVec_toInt32, Int32.toBitVec_toInt16, BitVec.getLsbD_signExtend, BitVec.msb_eq_getLsbD_last, BitVec.getLsbD_signExtend, BitVec.getLsbD_signExtend]
  by_cases h16 : i < 16
  · simp [hi, h16]
  · rw [h' i (by omega)]
    have e15 := h' 15 (by omega)
    rw [if_neg h16, e15]
    simp
theorem ps_sm_or {a b : Int32} (ha : ps_sm a) (hb : ps_sm b) : ps_sm (a ||| b) := by
  intro j hj
  rw [ps_or] at hj
  cases h : ps_b a j
  · rw [h] at hj
    exact hb j hj
  · exact ha j h
theorem ps_sm_one {n : Nat} (hn : n < 8) : ps_sm ((1 : Int32) <<< (nI n &&& 31)) := by
  intro j hj
  rw [ps_one (by omega)] at hj
  have : j = n := of_decide_eq_true hj
  omega
theorem ps_sm_diff {s a : Int32} (hs : ps_sm s) : ps_sm (s &&& (a ^^^ (-1))) := by
  intro j hj
  rw [ps_diff] at hj
  cases h : ps_b s j
  · rw [h, Bool.false_and] at hj
    exact absurd hj (by decide)
  · exact hs j h
theorem ps_sm0 : ps_sm 0 := fun j hj => by rw [ps_0] at hj; exact absurd hj (by decide)
theorem ps_orn {a b : Int32} (ha : ps_sm a) (hb : ps_sm b) (j : Nat) : ps_b ((a ||| b).toInt16.toInt32) j = (ps_b a j || ps_b b j) := by
  rw [ps_nar (ps_sm_or ha hb), ps_or]
theorem ps_or0 (x : Int32) : x ||| 0 = x := by
  apply ps_ext
  intro i _
  rw [ps_or, ps_0, Bool.or_false]
/-- a value that isn't 0 has a bit -/
theorem ps_ne {x : Int32} (h : ¬ x = 0) : ∃ j, ps_b x j = true := by
  by_cases e : ∃ j, ps_b x j = true
  · exact e
  · exact absurd (ps_ext (fun i _ => by rw [ps_0]; exact ps_nt (fun z => e ⟨i, z⟩))) h
theorem ps_8 : ∀ t, t < 8 → (nI t).toInt8.toInt32 = nI t := by decide +kernel
end
section
/-! the pure picture: statements k < 13 (bit k of p), closed relations, the least one; counting -/
def ps_Cl (p : Int32) (a1 a2 a3 : Nat → Int32) (Q : Nat → Nat → Prop) : Prop :=
  ∀ k, k < 13 → ps_b p k = true → ∀ x y, x < 8 → y < 8 → a2 k = nI x → a3 k = nI y →
    (a1 k = 0 → Q x y) ∧ (a1 k = 1 → ∀ z, Q y z → Q x z) ∧
    (a1 k = 2 → ∀ z w, Q y z → Q z w → Q x w) ∧ (a1 k = 3 → ∀ z w, Q x z → Q y w → Q z w)
def ps_L (p : Int32) (a1 a2 a3 : Nat → Int32) (x z : Nat) : Prop := ∀ Q, ps_Cl p a1 a2 a3 Q → Q x z
/-- the statements' variables are variables -/
def ps_v (a : Nat → Int32) : Prop := ∀ k, k < 13 → ∃ x, x < 8 ∧ a k = nI x
theorem ps_LCl {p : Int32} {a1 a2 a3 : Nat → Int32} : ps_Cl p a1 a2 a3 (ps_L p a1 a2 a3) := by
  intro k hk hb x y hx hy ex ey
  refine ⟨fun e Q hQ => (hQ k hk hb x y hx hy ex ey).1 e, fun e z hz Q hQ => (hQ k hk hb x y hx hy ex ey).2.1 e z (hz Q hQ),
    fun e z w h1 h2 Q hQ => (hQ k hk hb x y hx hy ex ey).2.2.1 e z w (h1 Q hQ) (h2 Q hQ), fun e z w h1 h2 Q hQ => (hQ k hk hb x y hx hy ex ey).2.2.2 e z w (h1 Q hQ) (h2 Q hQ)⟩
/-- what points hold: exactly the least closed relation -/
def ps_ag (p : Int32) (a1 a2 a3 a4 : Nat → Int32) : Prop := ∀ i, i < 8 → ps_sm (a4 i) ∧ ∀ j, ps_b (a4 i) j = true ↔ ps_L p a1 a2 a3 i j
theorem ps_ag_eq {p : Int32} {a1 a2 a3 a4 b4 : Nat → Int32} (h : ps_ag p a1 a2 a3 a4) (g : ps_ag p a1 a2 a3 b4) {i : Nat} (hi : i < 8) : a4 i = b4 i := by
  apply ps_ext
  intro j _
  have e : ps_b (a4 i) j = true ↔ ps_b (b4 i) j = true := ((h i hi).2 j).trans ((g i hi).2 j).symm
  cases ha : ps_b (a4 i) j <;> cases hb : ps_b (b4 i) j
  · rfl
  · rw [ha, hb] at e
    exact absurd (e.mpr rfl) (by decide)
  · rw [ha, hb] at e
    exact absurd (e.mp rfl) (by decide)
  · rfl
/-! counting -/
def ps_cs (h : Nat → Bool) : Nat → Nat
  | 0 => 0
  | n + 1 => ps_cs h n + (if h n = true then 1 else 0)
theorem ps_cs_ub (h : Nat → Bool) (n : Nat) : ps_cs h n ≤ n := by
  induction n with
  | zero => exact Nat.le_refl 0
  | succ n ih =>
    show ps_cs h n + (if h n = true then 1 else 0) ≤ n + 1
    split <;> omega
theorem ps_cs_le {h g : Nat → Bool} (n : Nat) (hg : ∀ c, c < n → h c = true → g c = true) : ps_cs h n ≤ ps_cs g n := by
  induction n with
  | zero => exact Nat.le_refl 0
  | succ n ih =>
    have i1 := ih (fun c hc => hg c (by omega))
    have i2 := hg n (by omega)
    show ps_cs h n + (if h n = true then 1 else 0) ≤ ps_cs g n + (if g n = true then 1 else 0)
    by_cases e : h n = true
    · rw [if_pos e, if_pos (i2 e)]
      omega
    · rw [if_neg e]
      omega
theorem ps_cs_lt {h g : Nat → Bool} (n : Nat) (hg : ∀ c, c < n → h c = true → g c = true) {d : Nat} (hd : d < n) (h0 : h d = false) (h1 : g d = true) : ps_cs h n < ps_cs g n := by
  induction n with
  | zero => exact absurd hd (by omega)
  | succ n ih =>
    have i2 := hg n (by omega)
    show ps_cs h n + (if h n = true then 1 else 0) < ps_cs g n + (if g n = true then 1 else 0)
    by_cases e : d = n
    · subst e
      have i1 := ps_cs_le d (fun c hc => hg c (by omega))
      rw [h0, h1]
      simp
      omega
    · have i1 := ih (fun c hc => hg c (by omega)) (by omega)
      by_cases e2 : h n = true
      · rw [if_pos e2, if_pos (i2 e2)]
        omega
      · rw [if_neg e2]
        omega
theorem ps_cs_eq {h g : Nat → Bool} (n : Nat) (hg : ∀ c, c < n → h c = true → g c = true) (e : ps_cs h n = ps_cs g n) : ∀ c, c < n → h c = g c := by
  intro c hc
  cases a : h c <;> cases b : g c
  · rfl
  · exact absurd e (by have := ps_cs_lt n hg hc a b; omega)
  · exact absurd (hg c hc a) (by rw [b]; decide)
  · rfl
/-- how many of the 64 pairs -/
def ps_fl (f : Nat → Nat → Bool) (c : Nat) : Bool := f (c / 8) (c % 8)
theorem ps_fl_at (f : Nat → Nat → Bool) {i j : Nat} (hj : j < 8) : ps_fl f (8 * i + j) = f i j := by
  unfold ps_fl
  rw [show (8 * i + j) / 8 = i by omega, show (8 * i + j) % 8 = j by omega]
theorem ps_fl_le {f g : Nat → Nat → Bool} (h : ∀ i j, i < 8 → j < 8 → f i j = true → g i j = true) : ∀ c, c < 64 → ps_fl f c = true → ps_fl g c = true :=
  fun c hc => h (c / 8) (c % 8) (by omega) (by omega)
theorem ps_cnt_lt {f g : Nat → Nat → Bool} (h : ∀ i j, i < 8 → j < 8 → f i j = true → g i j = true) {i j : Nat} (hi : i < 8) (hj : j < 8) (h0 : f i j = false) (h1 : g i j = true) : ps_cs (ps_fl f) 64 < ps_cs (ps_fl g) 64 :=
  ps_cs_lt 64 (ps_fl_le h) (d := 8 * i + j) (by omega) (by rw [ps_fl_at f hj, h0]) (by rw [ps_fl_at g hj, h1])
theorem ps_cnt_eq {f g : Nat → Nat → Bool} (h : ∀ i j, i < 8 → j < 8 → f i j = true → g i j = true) (e : ps_cs (ps_fl f) 64 = ps_cs (ps_fl g) 64) {i j : Nat} (hi : i < 8) (hj : j < 8) : f i j = g i j := by
  have := ps_cs_eq 64 (ps_fl_le h) e (8 * i + j) (by omega)
  rw [ps_fl_at f hj, ps_fl_at g hj] at this
  exact this
theorem ps_cnt_cg {f g : Nat → Nat → Bool} (h : ∀ i j, i < 8 → j < 8 → f i j = g i j) (n : Nat) (hn : n ≤ 64) : ps_cs (ps_fl f) n = ps_cs (ps_fl g) n := by
  induction n with
  | zero => rfl
  | succ n ih =>
    show ps_cs (ps_fl f) n + (if ps_fl f n = true then 1 else 0) = ps_cs (ps_fl g) n + (if ps_fl g n = true then 1 else 0)
    rw [ih (by omega), show ps_fl f n = ps_fl g n from h (n / 8) (n % 8) (by omega) (by omega)]
/-! changing the statements -/
/-- one statement more that stands there already: the same closed relations -/
theorem ps_dup {p : Int32} {a1 a2 a3 : Nat → Int32} {kd : Int32} {x y k0 : Nat} (hx : x < 8) (hy : y < 8) (h0 : k0 < 12) (hb : ps_b p k0 = true) (e1 : a1 k0 = kd) (e2 : a2 k0 = nI x) (e3 : a3 k0 = nI y) (Q : Nat → Nat → Prop) :
    ps_Cl (p ||| ((1 : Int32) <<< (nI 12 &&& 31))) (upd a1 12 kd) (upd a2 12 (nI x)) (upd a3 12 (nI y)) Q ↔ (∀ k, k < 12 → ps_b p k = true → ∀ x y, x < 8 → y < 8 → a2 k = nI x → a3 k = nI y →
    (a1 k = 0 → Q x y) ∧ (a1 k = 1 → ∀ z, Q y z → Q x z) ∧
    (a1 k = 2 → ∀ z w, Q y z → Q z w → Q x w) ∧ (a1 k = 3 → ∀ z w, Q x z → Q y w → Q z w)) := by
  constructor
  · intro h k hk hbk
    have := h k (by omega) (by rw [ps_or, hbk]; rfl)
    rw [pk_un (by omega), pk_un (by omega), pk_un (by omega)] at this
    exact this
  · intro h k hk hbk x' y' hx' hy' ex ey
    by_cases e : k = 12
    · subst e
      rw [pk_us] at ex ey
      rw [pk_us, ← e1]
      exact h k0 h0 hb x' y' hx' hy' (e2.trans ex) (e3.trans ey)
    · rw [pk_un e] at ex ey
      rw [pk_un e]
      rw [ps_or, ps_one (by omega), decide_eq_false e, Bool.or_false] at hbk
      exact h k (by omega) hbk x' y' hx' hy' ex ey
theorem ps_dupL {p : Int32} {a1 a2 a3 : Nat → Int32} {kd : Int32} {x y k0 : Nat} (hp : ps_b p 12 = false) (hx : x < 8) (hy : y < 8) (h0 : k0 < 12) (hb : ps_b p k0 = true) (e1 : a1 k0 = kd) (e2 : a2 k0 = nI x) (e3 : a3 k0 = nI y) (i j : Nat) :
    ps_L (p ||| ((1 : Int32) <<< (nI 12 &&& 31))) (upd a1 12 kd) (upd a2 12 (nI x)) (upd a3 12 (nI y)) i j ↔ ps_L p a1 a2 a3 i j := by
  have hcl : ∀ Q, ps_Cl (p ||| ((1 : Int32) <<< (nI 12 &&& 31))) (upd a1 12 kd) (upd a2 12 (nI x)) (upd a3 12 (nI y)) Q ↔ ps_Cl p a1 a2 a3 Q := by
    intro Q
    rw [ps_dup hx hy h0 hb e1 e2 e3 Q]
    constructor
    · intro h k hk hbk
      exact h k (by rcases Nat.lt_or_ge k 12 with z | z; exact z; rw [show k = 12 by omega, hp] at hbk; exact absurd hbk (by decide)) hbk
    · intro h k hk
      exact h k (by omega)
  exact ⟨fun h Q hQ => h Q ((hcl Q).mpr hQ), fun h Q hQ => h Q ((hcl Q).mp hQ)⟩
/-- fewer statements: a smaller least relation -/
theorem ps_less {p q : Int32} {a1 a2 a3 : Nat → Int32} (h : ∀ k, ps_b q k = true → ps_b p k = true) {i j : Nat} (hL : ps_L q a1 a2 a3 i j) : ps_L p a1 a2 a3 i j :=
  fun Q hQ => hL Q (fun k hk hb => hQ k hk (h k hb))
end
section
/-! the worklist's invariant: L what may be pointed to, D the pairs passed on (points without fresh), E those that the links respect -/
def ps_core (L : Nat → Nat → Prop) (D : Nat → Nat → Bool) (a4 a5 a6 : Nat → Int32) : Prop :=
  ∀ i, i < 8 → (∀ j, ps_b (a4 i) j = true → j < 8 ∧ L i j) ∧ (∀ j, ps_b (a6 i) j = true → j < 8 ∧ ∀ z, L i z → L j z) ∧
    (∀ j, ps_b (a5 i) j = true → ps_b (a4 i) j = true) ∧ (∀ j, D i j = (ps_b (a4 i) j && !ps_b (a5 i) j))
def ps_I1 (E : Nat → Nat → Bool) (a4 a6 : Nat → Int32) : Prop := ∀ u, u < 8 → ∀ w, w < 8 → ps_b (a6 u) w = true → ∀ z, E u z = true → ps_b (a4 w) z = true
def ps_le (a b : Nat → Int32) : Prop := ∀ i, i < 8 → ∀ j, ps_b (a i) j = true → ps_b (b i) j = true
theorem ps_le_rfl {a : Nat → Int32} : ps_le a a := fun _ _ _ h => h
theorem ps_le_tr {a b c : Nat → Int32} (h : ps_le a b) (g : ps_le b c) : ps_le a c := fun i hi j hj => g i hi j (h i hi j hj)
theorem ps_I1_le {E : Nat → Nat → Bool} {a4 b4 a6 : Nat → Int32} (h : ps_I1 E a4 a6) (g : ps_le a4 b4) : ps_I1 E b4 a6 := fun u hu w hw hl z hz => g w hw z (h u hu w hw hl z hz)
theorem ps_upd_core {L : Nat → Nat → Prop} {D : Nat → Nat → Bool} {a4 a5 a6 : Nat → Int32} {x : Nat} {s : Int32} (hx : x < 8) (hs : ∀ j, ps_b s j = true → j < 8 ∧ L x j) (hc : ps_core L D a4 a5 a6) :
    ps_core L D (upd a4 x ((a4 x ||| (s &&& (a4 x ^^^ (-1)))).toInt16.toInt32)) (upd a5 x ((a5 x ||| (s &&& (a4 x ^^^ (-1)))).toInt16.toInt32)) a6 ∧
    ps_le a4 (upd a4 x ((a4 x ||| (s &&& (a4 x ^^^ (-1)))).toInt16.toInt32)) ∧
    (∀ j, ps_b s j = true → ps_b (upd a4 x ((a4 x ||| (s &&& (a4 x ^^^ (-1)))).toInt16.toInt32) x) j = true) := by
  have hsm : ps_sm s := fun j hj => (hs j hj).1
  have h4 : ps_sm (a4 x) := fun j hj => ((hc x hx).1 j hj).1
  have h5 : ps_sm (a5 x) := fun j hj => h4 j ((hc x hx).2.2.1 j hj)
  have e4 : ∀ j, ps_b ((a4 x ||| (s &&& (a4 x ^^^ (-1)))).toInt16.toInt32) j = (ps_b (a4 x) j || ps_b s j) := by
    intro j
    rw [ps_orn h4 (ps_sm_diff hsm), ps_diff]
    cases ps_b (a4 x) j <;> cases ps_b s j <;> rfl
  have e5 : ∀ j, ps_b ((a5 x ||| (s &&& (a4 x ^^^ (-1)))).toInt16.toInt32) j = (ps_b (a5 x) j || (ps_b s j && !ps_b (a4 x) j)) := by
    intro j
    rw [ps_orn h5 (ps_sm_diff hsm), ps_diff]
  refine ⟨fun i hi => ?_, fun i hi j hj => ?_, fun j hj => ?_⟩
  · by_cases e : i = x
    · subst e
      rw [pk_us, pk_us]
      obtain ⟨c1, c2, c3, c4⟩ := hc i hi
      refine ⟨fun j hj => ?_, c2, fun j hj => ?_, fun j => ?_⟩
      · rw [e4] at hj
        cases h : ps_b (a4 i) j
        · rw [h] at hj
          exact hs j hj
        · exact c1 j h
      · rw [e5] at hj
        rw [e4]
        cases h : ps_b (a5 i) j
        · rw [h] at hj
          cases h2 : ps_b s j
          · rw [h2] at hj
            exact absurd hj (by cases ps_b (a4 i) j <;> decide)
          · exact Bool.or_true _
        · rw [c3 j h]
          rfl
      · rw [c4 j, e4, e5]
        have c3j := c3 j
        cases h : ps_b (a4 i) j <;> cases h2 : ps_b (a5 i) j <;> cases h3 : ps_b s j <;> first | rfl | (rw [h, h2] at c3j; exact absurd (c3j rfl) (by decide))
    · rw [pk_un e, pk_un e]
      exact hc i hi
  · by_cases e : i = x
    · subst e
      rw [pk_us, e4, hj]
      rfl
    · rw [pk_un e]
      exact hj
  · rw [pk_us, e4, hj]
    exact Bool.or_true _
theorem ps_point {post : St1 → Prop} {p kn : Int32} {a1 a2 a3 a4 a5 a6 : Nat → Int32} {L : Nat → Nat → Prop} {D : Nat → Nat → Bool} {x : Nat} {s : Int32}
    (hx : x < 8) (hs : ∀ j, ps_b s j = true → j < 8 ∧ L x j) (hc : ps_core L D a4 a5 a6)
    (H : ∀ b4 b5, ps_core L D b4 b5 a6 → ps_le a4 b4 → (∀ j, ps_b s j = true → ps_b (b4 x) j = true) → post (p, kn, a1, a2, a3, b4, b5, a6)) :
    wpX_point post (p, kn, a1, a2, a3, a4, a5, a6) (nI x) s := by
  have hv : vp_in (nI x) 8 := vp_in_nI hx (by decide)
  obtain ⟨k1, k2, k3⟩ := ps_upd_core hx hs hc
  unfold wpX_point
  dsimp only
  rw [nI_clamp (show x < 2 ^ 31 by omega)]
  exact ⟨hv, nm_e ⟨hv, hv, nm_e ⟨hv, hv, nm_e (H _ _ k1 k2 k3)⟩⟩⟩
theorem ps_link {post : St1 → Prop} {p kn : Int32} {a1 a2 a3 a4 a5 a6 : Nat → Int32} {L : Nat → Nat → Prop} {D E : Nat → Nat → Bool} {f t : Nat}
    (hf : f < 8) (ht : t < 8) (hL : ∀ z, L f z → L t z) (hE : ∀ u z, u < 8 → E u z = true → D u z = true) (hc : ps_core L D a4 a5 a6) (h1 : ps_I1 E a4 a6)
    (H : ∀ b4 b5 b6, ps_core L D b4 b5 b6 → ps_I1 E b4 b6 → ps_le a4 b4 → ps_le a6 b6 → ps_b (b6 f) t = true → post (p, kn, a1, a2, a3, b4, b5, b6)) :
    wpX_link post (p, kn, a1, a2, a3, a4, a5, a6) (nI f) (nI t) := by
  have hv : vp_in (nI f) 8 := vp_in_nI hf (by decide)
  unfold wpX_link
  dsimp only
  rw [nI_clamp (show f < 2 ^ 31 by omega)]
  refine ⟨hv, ps_in (by omega) (fun g => ?_) (fun g => br_f ps_10 (H _ _ _ hc h1 ps_le_rfl ps_le_rfl g))⟩
  refine br_t rfl ⟨hv, hv, nm_e ⟨hv, ?_⟩⟩
  have h6 : ps_sm (a6 f) := fun j hj => ((hc f hf).2.1 j hj).1
  have e6 : ∀ j, ps_b ((a6 f ||| ((1 : Int32) <<< (nI t &&& 31))).toInt16.toInt32) j = (ps_b (a6 f) j || decide (j = t)) := by
    intro j
    rw [ps_orn h6 (ps_sm_one ht), ps_one (by omega)]
  have l6 : ps_le a6 (upd a6 f ((a6 f ||| ((1 : Int32) <<< (nI t &&& 31))).toInt16.toInt32)) := by
    intro i hi j hj
    by_cases e : i = f
    · subst e
      rw [pk_us, e6, hj]
      rfl
    · rw [pk_un e]
      exact hj
  have hc' : ps_core L D a4 a5 (upd a6 f ((a6 f ||| ((1 : Int32) <<< (nI t &&& 31))).toInt16.toInt32)) := by
    intro i hi
    obtain ⟨c1, c2, c3, c4⟩ := hc i hi
    refine ⟨c1, fun j hj => ?_, c3, c4⟩
    by_cases e : i = f
    · subst e
      rw [pk_us, e6] at hj
      cases h : ps_b (a6 i) j
      · rw [h, Bool.false_or] at hj
        have : j = t := of_decide_eq_true hj
        subst this
        exact ⟨ht, hL⟩
      · exact c2 j h
    · rw [pk_un e] at hj
      exact c2 j hj
  refine ps_point ht (fun j hj => ⟨((hc f hf).1 j hj).1, hL j ((hc f hf).1 j hj).2⟩) hc' (fun b4 b5 k1 k2 k3 => H b4 b5 (upd a6 f ((a6 f ||| ((1 : Int32) <<< (nI t &&& 31))).toInt16.toInt32)) k1 ?_ k2 l6 ?_)
  · intro u hu w hw hl z hz
    by_cases e : u = f ∧ w = t
    · obtain ⟨e1, e2⟩ := e
      subst e1
      subst e2
      refine k3 z ?_
      have := hE u z hu hz
      rw [(hc u hu).2.2.2 z] at this
      exact (Bool.and_eq_true_iff.mp this).1
    · refine k2 w hw z (h1 u hu w hw ?_ z hz)
      by_cases e1 : u = f
      · subst e1
        rw [pk_us, e6, decide_eq_false (fun z => e ⟨rfl, z⟩), Bool.or_false] at hl
        exact hl
      · rw [pk_un e1] at hl
        exact hl
  · rw [pk_us, e6, decide_eq_true rfl]
    exact Bool.or_true _
end
section
/-! follow and passOn -/
/-- what a walk that only links and points leaves -/
def ps_G (L : Nat → Nat → Prop) (D E : Nat → Nat → Bool) (a4 a6 b4 b5 b6 : Nat → Int32) : Prop := ps_core L D b4 b5 b6 ∧ ps_I1 E b4 b6 ∧ ps_le a4 b4 ∧ ps_le a6 b6
theorem ps_f90 {post : St1 → Prop} {J : Int32 → Int32 → Int32 → (Nat → Int32) → (Nat → Int32) → (Nat → Int32) → (Nat → Int32) → (Nat → Int32) → (Nat → Int32) → Prop} {k z y : Nat} {nw x4 x5 p kn : Int32} {a1 a2 a3 a4 a5 a6 : Nat → Int32} {L : Nat → Nat → Prop} {D E : Nat → Nat → Bool}
    (hk : k < 13) (hz : z < 8) (hy : y < 8) (ey : a3 k = nI y) (hE : ∀ u z, u < 8 → E u z = true → D u z = true) (hc : ps_core L D a4 a5 a6) (h1 : ps_I1 E a4 a6)
    (hL : ¬ x5 = 0 → ps_b nw z = true → ∀ w, L y w → L z w)
    (H : ∀ b4 b5 b6, ps_G L D E a4 a6 b4 b5 b6 → (¬ x5 = 0 → ps_b nw z = true → ps_b (b6 y) z = true) → J (nI (z + 1)) p kn a1 a2 a3 b4 b5 b6) :
    wX_follow_90 post J (nI k) nw x4 x5 (nI z) p kn a1 a2 a3 a4 a5 a6 := by
  unfold wX_follow_90
  rw [nI_clamp (show k < 2 ^ 31 by omega), ey]
  have g0 : ps_G L D E a4 a6 a4 a5 a6 := ⟨hc, h1, ps_le_rfl, ps_le_rfl⟩
  refine ps_in (by omega) (fun g => br_t rfl (nm_r (nI_1 z) (H _ _ _ g0 (fun _ g' => absurd g' (by rw [g]; decide))))) (fun g => br_f ps_10 (br_c (fun e => nm_r (nI_1 z) (H _ _ _ g0 (fun ne => absurd e ne))) (fun ne => ⟨vp_in_nI hk (by decide), ?_⟩)))
  exact ps_link hy hz (hL ne g) hE hc h1 (fun b4 b5 b6 c1 c2 c3 c4 c5 => nm_r (nI_1 z) (H b4 b5 b6 ⟨c1, c2, c3, c4⟩ (fun _ _ => c5)))
theorem ps_f57 {post : St1 → Prop} {k x y : Nat} {nw x4 x5 p kn : Int32} {a1 a2 a3 a4 a5 a6 : Nat → Int32} {L : Nat → Nat → Prop} {D E : Nat → Nat → Bool}
    (hk : k < 13) (hx : x < 8) (hy : y < 8) (ex : a2 k = nI x) (ey : a3 k = nI y) (hE : ∀ u z, u < 8 → E u z = true → D u z = true) (hc : ps_core L D a4 a5 a6) (h1 : ps_I1 E a4 a6)
    (hL4 : ¬ x4 = 0 → ∀ z, z < 8 → ps_b nw z = true → ∀ w, L z w → L x w)
    (hL5 : ¬ x5 = 0 → ∀ z, z < 8 → ps_b nw z = true → ∀ w, L y w → L z w)
    (H : ∀ b4 b5 b6, ps_G L D E a4 a6 b4 b5 b6 → (¬ x4 = 0 → ∀ z, z < 8 → ps_b nw z = true → ps_b (b6 z) x = true) → (¬ x5 = 0 → ∀ z, z < 8 → ps_b nw z = true → ps_b (b6 y) z = true) → post (p, kn, a1, a2, a3, b4, b5, b6)) :
    ∃ n, wX_follow_57 post (nI k) nw x4 x5 n 0 p kn a1 a2 a3 a4 a5 a6 := by
  refine pk_loop (σ := (Nat → Int32) × (Nat → Int32) × (Nat → Int32)) (fun n i s => wX_follow_57 post (nI k) nw x4 x5 n (nI i) p kn a1 a2 a3 s.1 s.2.1 s.2.2)
    (fun i s => ps_G L D E a4 a6 s.1 s.2.1 s.2.2 ∧ (¬ x4 = 0 → ∀ z, z < i → ps_b nw z = true → ps_b (s.2.2 z) x = true) ∧ (¬ x5 = 0 → ∀ z, z < i → ps_b nw z = true → ps_b (s.2.2 y) z = true))
    8 0 (a4, a5, a6) (by omega) ⟨⟨hc, h1, ps_le_rfl, ps_le_rfl⟩, fun _ z hz => absurd hz (by omega), fun _ z hz => absurd hz (by omega)⟩
    (fun n s h => pk_le 8 8 (fun _ => H _ _ _ h.1 h.2.1 h.2.2) (fun z => absurd z (by omega))) ?_
  rintro n i ⟨b4, b5, b6⟩ hi ⟨⟨c1, c2, c3, c4⟩, h4, h5⟩ hw
  dsimp only at c1 c2 c3 c4 h4 h5
  have fin : ∀ d4 d5 d6, ps_G L D E b4 b6 d4 d5 d6 → (¬ x4 = 0 → ps_b nw i = true → ps_b (d6 i) x = true) → wX_follow_90 post (wX_follow_57 post (nI k) nw x4 x5 n) (nI k) nw x4 x5 (nI i) p kn a1 a2 a3 d4 d5 d6 := by
    rintro d4 d5 d6 ⟨g1, g2, g3, g4⟩ q4
    refine ps_f90 hk hi hy ey hE g1 g2 (fun ne hb => hL5 ne i hi hb) ?_
    rintro e4 e5 e6 ⟨r1, r2, r3, r4⟩ q5
    refine hw (e4, e5, e6) ⟨⟨r1, r2, ps_le_tr c3 (ps_le_tr g3 r3), ps_le_tr c4 (ps_le_tr g4 r4)⟩, ?_, ?_⟩
    · intro ne z hz hb
      by_cases e : z = i
      · subst e
        exact r4 z hi x (q4 ne hb)
      · exact r4 z (by omega) x (g4 z (by omega) x (h4 ne z (by omega) hb))
    · intro ne z hz hb
      by_cases e : z = i
      · subst e
        exact q5 ne hb
      · exact r4 y hy z (g4 y hy z (h5 ne z (by omega) hb))
  have g0 : ps_G L D E b4 b6 b4 b5 b6 := ⟨c1, c2, ps_le_rfl, ps_le_rfl⟩
  show wX_follow_57 post (nI k) nw x4 x5 (n + 1) (nI i) p kn a1 a2 a3 b4 b5 b6
  refine pk_le 8 i (fun z => absurd z (by omega)) (fun _ => ?_)
  rw [nI_clamp (show k < 2 ^ 31 by omega), ex]
  refine ps_in (by omega) (fun g => br_t rfl (fin _ _ _ g0 (fun _ g' => absurd g' (by rw [g]; decide)))) (fun g => br_f ps_10 (br_c (fun e => fin _ _ _ g0 (fun ne => absurd e ne)) (fun ne => ⟨vp_in_nI hk (by decide), ?_⟩)))
  exact ps_link hi hx (hL4 ne i hi g) hE c1 c2 (fun d4 d5 d6 r1 r2 r3 r4 r5 => fin d4 d5 d6 ⟨r1, r2, r3, r4⟩ (fun _ _ => r5))
theorem ps_f25 {post : St1 → Prop} {k x y v : Nat} {nw z0 p kn : Int32} {a1 a2 a3 a4 a5 a6 : Nat → Int32} {L : Nat → Nat → Prop} {D E : Nat → Nat → Bool}
    (hk : k < 13) (hx : x < 8) (hy : y < 8) (ex : a2 k = nI x) (ey : a3 k = nI y) (hv : v < 8) (hE : ∀ u z, u < 8 → E u z = true → D u z = true) (hc : ps_core L D a4 a5 a6) (h1 : ps_I1 E a4 a6)
    (hCl : ps_Cl p a1 a2 a3 L) (hb : ps_b p k = true) (hn : ∀ z, ps_b nw z = true → L v z)
    (hz : ¬ z0 = 0 → a1 k = 2 ∧ y = v) (hz' : a1 k = 2 → y = v → ¬ z0 = 0)
    (H : ∀ b4 b5 b6, ps_G L D E a4 a6 b4 b5 b6 → (a1 k = 2 → y = v → ∀ z, z < 8 → ps_b nw z = true → ps_b (b6 z) x = true) → (a1 k = 3 → x = v → ∀ z, z < 8 → ps_b nw z = true → ps_b (b6 y) z = true) → post (p, kn, a1, a2, a3, b4, b5, b6)) :
    wX_follow_25 post (nI k) (nI v) nw z0 p kn a1 a2 a3 a4 a5 a6 := by
  have cl := hCl k hk hb x y hx hy ex ey
  have K : ∀ x5 : Int32, (¬ x5 = 0 → a1 k = 3 ∧ x = v) → (a1 k = 3 → x = v → ¬ x5 = 0) → ∃ n, wX_follow_57 post (nI k) nw z0 x5 n 0 p kn a1 a2 a3 a4 a5 a6 := by
    intro x5 q q'
    refine ps_f57 hk hx hy ex ey hE hc h1 (fun ne z hz1 hb w hw => ?_) (fun ne z hz1 hb w hw => ?_) (fun b4 b5 b6 g r4 r5 => H b4 b5 b6 g (fun e1 e2 => r4 (hz' e1 e2)) (fun e1 e2 => r5 (q' e1 e2)))
    · obtain ⟨e1, e2⟩ := hz ne
      exact cl.2.2.1 e1 z w (by rw [e2]; exact hn z hb) hw
    · obtain ⟨e1, e2⟩ := q ne
      exact cl.2.2.2 e1 z w (by rw [e2]; exact hn z hb) hw
  unfold wX_follow_25
  rw [nI_clamp (show k < 2 ^ 31 by omega), ex]
  exact ⟨vp_in_nI hk (by decide), br_c (fun e => ⟨vp_in_nI hk (by decide), pk_eq x v (fun e2 => K 1 (fun _ => ⟨e, e2⟩) (fun _ _ => ps_10)) (fun ne => K 0 (fun z => absurd rfl z) (fun _ e2 => absurd e2 ne))⟩) (fun e => K 0 (fun z => absurd rfl z) (fun e' => absurd e' e))⟩
theorem ps_follow {post : St1 → Prop} {k x y v : Nat} {nw p kn : Int32} {a1 a2 a3 a4 a5 a6 : Nat → Int32} {L : Nat → Nat → Prop} {D E : Nat → Nat → Bool}
    (hk : k < 13) (hx : x < 8) (hy : y < 8) (ex : a2 k = nI x) (ey : a3 k = nI y) (hv : v < 8) (hE : ∀ u z, u < 8 → E u z = true → D u z = true) (hc : ps_core L D a4 a5 a6) (h1 : ps_I1 E a4 a6)
    (hCl : ps_Cl p a1 a2 a3 L) (hb : ps_b p k = true) (hn : ∀ z, ps_b nw z = true → L v z)
    (H : ∀ b4 b5 b6, ps_G L D E a4 a6 b4 b5 b6 → (a1 k = 2 → y = v → ∀ z, z < 8 → ps_b nw z = true → ps_b (b6 z) x = true) → (a1 k = 3 → x = v → ∀ z, z < 8 → ps_b nw z = true → ps_b (b6 y) z = true) → post (p, kn, a1, a2, a3, b4, b5, b6)) :
    wpX_follow post (p, kn, a1, a2, a3, a4, a5, a6) (nI k) (nI v) nw := by
  have K : ∀ z0 : Int32, (¬ z0 = 0 → a1 k = 2 ∧ y = v) → (a1 k = 2 → y = v → ¬ z0 = 0) → wX_follow_25 post (nI k) (nI v) nw z0 p kn a1 a2 a3 a4 a5 a6 :=
    fun z0 q q' => ps_f25 hk hx hy ex ey hv hE hc h1 hCl hb hn q q' H
  unfold wpX_follow
  dsimp only
  rw [nI_clamp (show k < 2 ^ 31 by omega), ey]
  exact ⟨vp_in_nI hk (by decide), br_c (fun e => ⟨vp_in_nI hk (by decide), pk_eq y v (fun e2 => K 1 (fun _ => ⟨e, e2⟩) (fun _ _ => ps_10)) (fun ne => K 0 (fun z => absurd rfl z) (fun _ e2 => absurd e2 ne))⟩) (fun e => K 0 (fun z => absurd rfl z) (fun e' => absurd e' e))⟩
theorem ps_p48 {post : St1 → Prop} {v : Nat} {nw p kn : Int32} {a1 a2 a3 a4 a5 a6 : Nat → Int32} {L : Nat → Nat → Prop} {D E : Nat → Nat → Bool}
    (hv : v < 8) (hc : ps_core L D a4 a5 a6) (h1 : ps_I1 E a4 a6) (hn : ∀ z, ps_b nw z = true → z < 8 ∧ L v z)
    (H : ∀ b4 b5, ps_core L D b4 b5 a6 → ps_I1 E b4 a6 → ps_le a4 b4 → (∀ w, w < 8 → ps_b (a6 v) w = true → ∀ z, ps_b nw z = true → ps_b (b4 w) z = true) → post (p, kn, a1, a2, a3, b4, b5, a6)) :
    ∃ n, wX_passOn_48 post (nI v) nw n 0 p kn a1 a2 a3 a4 a5 a6 := by
  refine pk_loop (σ := (Nat → Int32) × (Nat → Int32)) (fun n i s => wX_passOn_48 post (nI v) nw n (nI i) p kn a1 a2 a3 s.1 s.2 a6)
    (fun i s => ps_core L D s.1 s.2 a6 ∧ ps_I1 E s.1 a6 ∧ ps_le a4 s.1 ∧ (∀ w, w < i → ps_b (a6 v) w = true → ∀ z, ps_b nw z = true → ps_b (s.1 w) z = true))
    8 0 (a4, a5) (by omega) ⟨hc, h1, ps_le_rfl, fun w hw => absurd hw (by omega)⟩
    (fun n s h => pk_le 8 8 (fun _ => H _ _ h.1 h.2.1 h.2.2.1 h.2.2.2) (fun z => absurd z (by omega))) ?_
  rintro n i ⟨b4, b5⟩ hi ⟨c1, c2, c3, c4⟩ hw
  dsimp only at c1 c2 c3 c4
  show wX_passOn_48 post (nI v) nw (n + 1) (nI i) p kn a1 a2 a3 b4 b5 a6
  refine pk_le 8 i (fun z => absurd z (by omega)) (fun _ => ⟨vp_in_nI hv (by decide), ?_⟩)
  rw [nI_clamp (show v < 2 ^ 31 by omega)]
  refine ps_in (by omega) (fun g => br_t rfl (nm_r (nI_1 i) (hw (b4, b5) ⟨c1, c2, c3, ?_⟩))) (fun g => br_f ps_10 (ps_point hi (fun j hj => ⟨(hn j hj).1, ((c1 v hv).2.1 i g).2 j (hn j hj).2⟩) c1 (fun d4 d5 k1 k2 k3 => nm_r (nI_1 i) (hw (d4, d5) ⟨k1, ps_I1_le c2 k2, ps_le_tr c3 k2, ?_⟩))))
  · intro w hw' hl
    by_cases e : w = i
    · subst e
      rw [g] at hl
      exact absurd hl (by decide)
    · exact c4 w (by omega) hl
  · intro w hw' hl z hz
    by_cases e : w = i
    · subst e
      exact k3 z hz
    · exact k2 w (by omega) z (c4 w (by omega) hl z hz)
/-! passOn -/
def ps_sat (a1 a2 a3 : Nat → Int32) (D : Nat → Nat → Bool) (a6 : Nat → Int32) (k : Nat) : Prop :=
  ∀ x y, x < 8 → y < 8 → a2 k = nI x → a3 k = nI y → (a1 k = 2 → ∀ z, z < 8 → D y z = true → ps_b (a6 z) x = true) ∧ (a1 k = 3 → ∀ z, z < 8 → D x z = true → ps_b (a6 y) z = true)
theorem ps_sat_le {a1 a2 a3 a6 b6 : Nat → Int32} {D : Nat → Nat → Bool} {k : Nat} (h : ps_sat a1 a2 a3 D a6 k) (g : ps_le a6 b6) : ps_sat a1 a2 a3 D b6 k :=
  fun x y hx hy ex ey => ⟨fun e z hz hd => g z hz x ((h x y hx hy ex ey).1 e z hz hd), fun e z hz hd => g y hy z ((h x y hx hy ex ey).2 e z hz hd)⟩
/-- the pairs passed on, and those of v that are being passed on -/
def ps_dn (E : Nat → Nat → Bool) (v : Nat) (nw : Int32) : Nat → Nat → Bool := fun u z => E u z || (decide (u = v) && ps_b nw z)
theorem ps_dn_E {E : Nat → Nat → Bool} {v : Nat} {nw : Int32} {u z : Nat} (h : E u z = true) : ps_dn E v nw u z = true := by
  unfold ps_dn
  rw [h]
  rfl
theorem ps_dn_or {E : Nat → Nat → Bool} {v : Nat} {nw : Int32} {u z : Nat} (h : ps_dn E v nw u z = true) : E u z = true ∨ (u = v ∧ ps_b nw z = true) := by
  unfold ps_dn at h
  rcases Bool.or_eq_true_iff.mp h with h | h
  · exact Or.inl h
  · have := Bool.and_eq_true_iff.mp h
    exact Or.inr ⟨of_decide_eq_true this.1, this.2⟩
theorem ps_p16 {post : St1 → Prop} {v : Nat} {nw p kn : Int32} {a1 a2 a3 a4 a5 a6 : Nat → Int32} {L : Nat → Nat → Prop} {E : Nat → Nat → Bool}
    (hv : v < 8) (v2 : ps_v a2) (v3 : ps_v a3) (hCl : ps_Cl p a1 a2 a3 L) (hc : ps_core L (ps_dn E v nw) a4 a5 a6) (h1 : ps_I1 E a4 a6) (hn : ∀ z, ps_b nw z = true → z < 8 ∧ L v z)
    (hs : ∀ k, k < 13 → ps_b p k = true → ps_sat a1 a2 a3 E a6 k)
    (H : ∀ b4 b5 b6, ps_core L (ps_dn E v nw) b4 b5 b6 → ps_I1 (ps_dn E v nw) b4 b6 → (∀ k, k < 13 → ps_b p k = true → ps_sat a1 a2 a3 (ps_dn E v nw) b6 k) → ps_le a4 b4 → ps_le a6 b6 → post (p, kn, a1, a2, a3, b4, b5, b6)) :
    ∃ n, wX_passOn_16 post (nI v) nw n 0 p kn a1 a2 a3 a4 a5 a6 := by
  have hE : ∀ u z, u < 8 → E u z = true → ps_dn E v nw u z = true := fun u z _ h => ps_dn_E h
  refine pk_loop (σ := (Nat → Int32) × (Nat → Int32) × (Nat → Int32)) (fun n i s => wX_passOn_16 post (nI v) nw n (nI i) p kn a1 a2 a3 s.1 s.2.1 s.2.2)
    (fun i s => ps_G L (ps_dn E v nw) E a4 a6 s.1 s.2.1 s.2.2 ∧ (∀ k, k < i → ps_b p k = true → ps_sat a1 a2 a3 (ps_dn E v nw) s.2.2 k))
    13 0 (a4, a5, a6) (by omega) ⟨⟨hc, h1, ps_le_rfl, ps_le_rfl⟩, fun k hk => absurd hk (by omega)⟩ ?_ ?_
  · rintro n ⟨b4, b5, b6⟩ ⟨⟨c1, c2, c3, c4⟩, h5⟩
    dsimp only at c1 c2 c3 c4 h5
    refine pk_lt 12 13 (fun _ => ps_p48 hv c1 c2 hn (fun d4 d5 k1 k2 k3 k4 => H d4 d5 b6 k1 ?_ h5 (ps_le_tr c3 k3) c4)) (fun z => absurd z (by omega))
    intro u hu w hw hl z hz
    rcases ps_dn_or hz with e | ⟨e1, e2⟩
    · exact k2 u hu w hw hl z e
    · subst e1
      exact k4 w hw hl z e2
  · rintro n i ⟨b4, b5, b6⟩ hi ⟨⟨c1, c2, c3, c4⟩, h5⟩ hw
    dsimp only at c1 c2 c3 c4 h5
    show wX_passOn_16 post (nI v) nw (n + 1) (nI i) p kn a1 a2 a3 b4 b5 b6
    refine pk_lt 12 i (fun z => absurd z (by omega)) (fun _ => ps_c0 (by omega) (fun g => nm_r (nI_1 i) (hw (b4, b5, b6) ⟨⟨c1, c2, c3, c4⟩, ?_⟩)) (fun g => ?_))
    · intro k hk hb
      by_cases e : k = i
      · subst e
        rw [g] at hb
        exact absurd hb (by decide)
      · exact h5 k (by omega) hb
    · obtain ⟨x, hx, ex⟩ := v2 i hi
      obtain ⟨y, hy, ey⟩ := v3 i hi
      refine ps_follow hi hx hy ex ey hv hE c1 c2 hCl g (fun z hz => (hn z hz).2) ?_
      rintro d4 d5 d6 ⟨r1, r2, r3, r4⟩ q2 q3
      refine nm_r (nI_1 i) (hw (d4, d5, d6) ⟨⟨r1, r2, ps_le_tr c3 r3, ps_le_tr c4 r4⟩, ?_⟩)
      intro k hk hb
      by_cases e : k = i
      · subst e
        intro x' y' hx' hy' ex' ey'
        have e1 : x' = x := (nI_eq (by omega) (by omega)).mp (ex'.symm.trans ex)
        have e2 : y' = y := (nI_eq (by omega) (by omega)).mp (ey'.symm.trans ey)
        subst e1
        subst e2
        have hsk := ps_sat_le (hs k hi hb) (ps_le_tr c4 r4) x' y' hx hy ex ey
        refine ⟨fun e z hz hd => ?_, fun e z hz hd => ?_⟩
        · rcases ps_dn_or hd with h | ⟨h, h'⟩
          · exact hsk.1 e z hz h
          · exact q2 e h z hz h'
        · rcases ps_dn_or hd with h | ⟨h, h'⟩
          · exact hsk.2 e z hz h
          · exact q3 e h z hz h'
      · exact ps_sat_le (h5 k (by omega) hb) r4
theorem ps_passOn {post : St1 → Prop} {v : Nat} {p kn : Int32} {a1 a2 a3 a4 a5 a6 : Nat → Int32} {L : Nat → Nat → Prop} {E : Nat → Nat → Bool}
    (hv : v < 8) (v2 : ps_v a2) (v3 : ps_v a3) (hCl : ps_Cl p a1 a2 a3 L) (hc : ps_core L E a4 a5 a6) (h1 : ps_I1 E a4 a6)
    (hs : ∀ k, k < 13 → ps_b p k = true → ps_sat a1 a2 a3 E a6 k)
    (H : ∀ b4 b5 b6, ps_core L (ps_dn E v (a5 v)) b4 b5 b6 → ps_I1 (ps_dn E v (a5 v)) b4 b6 → (∀ k, k < 13 → ps_b p k = true → ps_sat a1 a2 a3 (ps_dn E v (a5 v)) b6 k) → ps_le a4 b4 → ps_le a6 b6 → post (p, kn, a1, a2, a3, b4, b5, b6)) :
    wpX_passOn post (p, kn, a1, a2, a3, a4, a5, a6) (nI v) := by
  unfold wpX_passOn
  dsimp only
  rw [nI_clamp (show v < 2 ^ 31 by omega)]
  have hv8 : vp_in (nI v) 8 := vp_in_nI hv (by decide)
  have hc' : ps_core L (ps_dn E v (a5 v)) a4 (upd a5 v 0) a6 := by
    intro i hi
    obtain ⟨c1, c2, c3, c4⟩ := hc i hi
    by_cases e : i = v
    · subst e
      rw [pk_us]
      refine ⟨c1, c2, fun j hj => ?_, fun j => ?_⟩
      · rw [ps_0] at hj
        exact absurd hj (by decide)
      · unfold ps_dn
        rw [c4 j, ps_0, decide_eq_true rfl]
        have c3j := c3 j
        cases h : ps_b (a4 i) j <;> cases h2 : ps_b (a5 i) j <;> first | rfl | (rw [h, h2] at c3j; exact absurd (c3j rfl) (by decide))
    · rw [pk_un e]
      refine ⟨c1, c2, c3, fun j => ?_⟩
      unfold ps_dn
      rw [c4 j, decide_eq_false e, Bool.false_and, Bool.or_false]
  have hn : ∀ z, ps_b (a5 v) z = true → z < 8 ∧ L v z := fun z hz => (hc v hv).1 z ((hc v hv).2.2.1 z hz)
  exact ⟨hv8, nm_e ⟨hv8, nm_e (ps_p16 hv v2 v3 hCl hc' h1 hn hs H)⟩⟩
end
section
/-! waiting and solve -/
theorem ps_waiting {post : Int32 → Prop} {p kn : Int32} {a1 a2 a3 a4 a5 a6 : Nat → Int32} (H0 : (∀ i, i < 8 → a5 i = 0) → post (-1)) (H1 : ∀ i, i < 8 → ¬ a5 i = 0 → post (nI i)) : wpX_waiting post (p, kn, a1, a2, a3, a4, a5, a6) := by
  show ∃ n, wX_waiting_2 post p kn a1 a2 a3 a4 a5 a6 n 0
  refine pk_loop (σ := Unit) (fun n i _ => wX_waiting_2 post p kn a1 a2 a3 a4 a5 a6 n (nI i)) (fun i _ => ∀ j, j < i → a5 j = 0) 8 0 () (by omega) (fun j hj => absurd hj (by omega))
    (fun n _ h => pk_le 8 8 (fun _ => H0 h) (fun z => absurd z (by omega))) ?_
  intro n i _ hi h hw
  refine pk_le 8 i (fun z => absurd z (by omega)) (fun _ => ⟨vp_in_nI hi (by decide), ?_⟩)
  rw [nI_clamp (show i < 2 ^ 31 by omega)]
  exact br_c (fun e => nm_r (nI_1 i) (hw () (lt_s h e))) (fun ne => H1 i hi ne)
def ps_base (a1 a2 a3 a4 a6 : Nat → Int32) (k : Nat) : Prop :=
  ∀ x y, x < 8 → y < 8 → a2 k = nI x → a3 k = nI y → (a1 k = 0 → ps_b (a4 x) y = true) ∧ (a1 k = 1 → ps_b (a6 y) x = true)
theorem ps_base_le {a1 a2 a3 a4 a6 b4 b6 : Nat → Int32} {k : Nat} (h : ps_base a1 a2 a3 a4 a6 k) (g4 : ps_le a4 b4) (g6 : ps_le a6 b6) : ps_base a1 a2 a3 b4 b6 k :=
  fun x y hx hy ex ey => ⟨fun e => g4 x hx y ((h x y hx hy ex ey).1 e), fun e => g6 y hy x ((h x y hx hy ex ey).2 e)⟩
def ps_T (p : Int32) (a1 a2 a3 : Nat → Int32) (L : Nat → Nat → Prop) (D : Nat → Nat → Bool) (a4 a5 a6 : Nat → Int32) : Prop :=
  ps_core L D a4 a5 a6 ∧ ps_I1 D a4 a6 ∧ (∀ k, k < 13 → ps_b p k = true → ps_sat a1 a2 a3 D a6 k) ∧ (∀ k, k < 13 → ps_b p k = true → ps_base a1 a2 a3 a4 a6 k)
/-- nothing waits: points hold the least closed relation -/
theorem ps_end {p : Int32} {a1 a2 a3 a4 a5 a6 : Nat → Int32} {D : Nat → Nat → Bool} (h : ps_T p a1 a2 a3 (ps_L p a1 a2 a3) D a4 a5 a6) (h0 : ∀ i, i < 8 → a5 i = 0) : ps_ag p a1 a2 a3 a4 := by
  obtain ⟨hc, h1, hs, hb⟩ := h
  have hD : ∀ i j, i < 8 → ps_b (a4 i) j = true → D i j = true := by
    intro i j hi hj
    rw [(hc i hi).2.2.2 j, h0 i hi, ps_0, hj]
    rfl
  have cl : ps_Cl p a1 a2 a3 (fun x z => x < 8 ∧ ps_b (a4 x) z = true) := by
    intro k hk hbk x y hx hy ex ey
    have s := hs k hk hbk x y hx hy ex ey
    have b := hb k hk hbk x y hx hy ex ey
    refine ⟨fun e => ⟨hx, b.1 e⟩, fun e z hz => ⟨hx, h1 y hy x hx (b.2 e) z (hD y z hy hz.2)⟩, fun e z w hz hw => ⟨hx, ?_⟩, fun e z w hz hw => ?_⟩
    · exact h1 z hw.1 x hx (s.1 e z hw.1 (hD y z hy hz.2)) w (hD z w hw.1 hw.2)
    · have hz8 : z < 8 := ((hc x hx).1 z hz.2).1
      exact ⟨hz8, h1 y hy z hz8 (s.2 e z hz8 (hD x z hx hz.2)) w (hD y w hy hw.2)⟩
  exact fun i hi => ⟨fun j hj => ((hc i hi).1 j hj).1, fun j => ⟨fun hj => ((hc i hi).1 j hj).2, fun hL => (hL _ cl).2⟩⟩
theorem ps_142 {post : St1 → Prop} {p kn : Int32} {a1 a2 a3 a4 a5 a6 : Nat → Int32} {D : Nat → Nat → Bool} (v2 : ps_v a2) (v3 : ps_v a3) (h : ps_T p a1 a2 a3 (ps_L p a1 a2 a3) D a4 a5 a6)
    (H : ∀ b4 b5 b6, ps_ag p a1 a2 a3 b4 → post (p, kn, a1, a2, a3, b4, b5, b6)) :
    ∃ n, wX_solve_142 post n 0 p kn a1 a2 a3 a4 a5 a6 := by
  refine pk_loop (σ := (Nat → Int32) × (Nat → Int32) × (Nat → Int32)) (fun n i s => wX_solve_142 post n (nI i) p kn a1 a2 a3 s.1 s.2.1 s.2.2)
    (fun i s => ∃ D, ps_T p a1 a2 a3 (ps_L p a1 a2 a3) D s.1 s.2.1 s.2.2 ∧ i ≤ ps_cs (ps_fl D) 64) 65 0 (a4, a5, a6) (by omega) ⟨D, h, Nat.zero_le _⟩ ?_ ?_
  · rintro n s ⟨D, _, hD⟩
    exact absurd (Nat.le_trans hD (ps_cs_ub _ 64)) (by omega)
  · rintro n i ⟨b4, b5, b6⟩ hi ⟨D, hT, hD⟩ hw
    dsimp only at hT
    show wX_solve_142 post (n + 1) (nI i) p kn a1 a2 a3 b4 b5 b6
    refine pk_le 65 i (fun z => absurd z (by omega)) (fun _ => ps_waiting (fun h0 => br_f (by decide) (H b4 b5 b6 (ps_end hT h0))) (fun v hv ne => br_t (nI_pos' (by omega)) ?_))
    obtain ⟨hc, h1, hs, hb⟩ := hT
    refine ps_passOn hv v2 v3 ps_LCl hc h1 hs (fun d4 d5 d6 k1 k2 k3 k4 k5 => nm_r (nI_1 i) (hw (d4, d5, d6) ⟨ps_dn D v (b5 v), ⟨k1, k2, k3, fun k hk hbk => ps_base_le (hb k hk hbk) k4 k5⟩, ?_⟩))
    obtain ⟨j, hj⟩ := ps_ne ne
    have hj4 := (hc v hv).2.2.1 j hj
    have hlt : ps_cs (ps_fl D) 64 < ps_cs (ps_fl (ps_dn D v (b5 v))) 64 := by
      refine ps_cnt_lt (fun a b _ _ hab => ps_dn_E hab) hv ((hc v hv).1 j hj4).1 ?_ ?_
      · rw [(hc v hv).2.2.2 j, hj, hj4]
        rfl
      · unfold ps_dn
        rw [hj, decide_eq_true rfl]
        exact Bool.or_true _
    omega
theorem ps_97 {post : St1 → Prop} {J : Int32 → Int32 → Int32 → (Nat → Int32) → (Nat → Int32) → (Nat → Int32) → (Nat → Int32) → (Nat → Int32) → (Nat → Int32) → Prop} {k x y : Nat} {p kn : Int32} {a1 a2 a3 a4 a5 a6 : Nat → Int32} {L : Nat → Nat → Prop}
    (hk : k < 13) (hx : x < 8) (hy : y < 8) (ex : a2 k = nI x) (ey : a3 k = nI y) (hCl : ps_Cl p a1 a2 a3 L) (hc : ps_core L (fun _ _ => false) a4 a5 a6)
    (H : ∀ b4 b5 b6, ps_core L (fun _ _ => false) b4 b5 b6 → ps_le a4 b4 → ps_le a6 b6 → (ps_b p k = true → a1 k = 1 → ps_b (b6 y) x = true) → J (nI (k + 1)) p kn a1 a2 a3 b4 b5 b6) :
    wX_solve_97 post J (nI k) p kn a1 a2 a3 a4 a5 a6 := by
  have hv : vp_in (nI k) 13 := vp_in_nI hk (by decide)
  unfold wX_solve_97
  rw [nI_clamp (show k < 2 ^ 31 by omega), ex, ey]
  refine ps_c0 (by omega) (fun g => nm_r (nI_1 k) (H _ _ _ hc ps_le_rfl ps_le_rfl (fun g' => absurd g' (by rw [g]; decide)))) (fun g => ⟨hv, br_c (fun e => ⟨hv, hv, ?_⟩) (fun ne => nm_r (nI_1 k) (H _ _ _ hc ps_le_rfl ps_le_rfl (fun _ e => absurd e ne)))⟩)
  exact ps_link (E := fun _ _ => false) hy hx ((hCl k hk g x y hx hy ex ey).2.1 e) (fun _ _ _ z => z) hc (fun _ _ _ _ _ _ z => absurd z Bool.false_ne_true) (fun b4 b5 b6 c1 _ c3 c4 c5 => nm_r (nI_1 k) (H b4 b5 b6 c1 c3 c4 (fun _ _ => c5)))
theorem ps_50 {post : St1 → Prop} {p kn : Int32} {a1 a2 a3 a4 a5 a6 : Nat → Int32} (v2 : ps_v a2) (v3 : ps_v a3) (hc : ps_core (ps_L p a1 a2 a3) (fun _ _ => false) a4 a5 a6)
    (H : ∀ b4 b5 b6, ps_ag p a1 a2 a3 b4 → post (p, kn, a1, a2, a3, b4, b5, b6)) :
    ∃ n, wX_solve_50 post n 0 p kn a1 a2 a3 a4 a5 a6 := by
  refine pk_loop (σ := (Nat → Int32) × (Nat → Int32) × (Nat → Int32)) (fun n i s => wX_solve_50 post n (nI i) p kn a1 a2 a3 s.1 s.2.1 s.2.2)
    (fun i s => ps_core (ps_L p a1 a2 a3) (fun _ _ => false) s.1 s.2.1 s.2.2 ∧ ∀ k, k < i → ps_b p k = true → ps_base a1 a2 a3 s.1 s.2.2 k) 13 0 (a4, a5, a6) (by omega) ⟨hc, fun k hk => absurd hk (by omega)⟩ ?_ ?_
  · rintro n ⟨b4, b5, b6⟩ ⟨c1, c2⟩
    dsimp only at c1 c2
    exact pk_lt 12 13 (fun _ => ps_142 (D := fun _ _ => false) v2 v3 ⟨c1, fun _ _ _ _ _ _ z => absurd z Bool.false_ne_true, fun _ _ _ _ _ _ _ _ _ => ⟨fun _ _ _ z => absurd z Bool.false_ne_true, fun _ _ _ z => absurd z Bool.false_ne_true⟩, c2⟩ H) (fun z => absurd z (by omega))
  · rintro n i ⟨b4, b5, b6⟩ hi ⟨c1, c2⟩ hw
    dsimp only at c1 c2
    obtain ⟨x, hx, ex⟩ := v2 i hi
    obtain ⟨y, hy, ey⟩ := v3 i hi
    have hv : vp_in (nI i) 13 := vp_in_nI hi (by decide)
    have inj : ∀ d4 d6, ps_le b4 d4 → ps_le b6 d6 → (ps_b p i = true → a1 i = 0 → ps_b (d4 x) y = true) → (ps_b p i = true → a1 i = 1 → ps_b (d6 y) x = true) → ∀ k, k < i + 1 → ps_b p k = true → ps_base a1 a2 a3 d4 d6 k := by
      intro d4 d6 l4 l6 q0 q1 k hk hb
      by_cases e : k = i
      · subst e
        intro x' y' hx' hy' ex' ey'
        have e1 : x' = x := (nI_eq (by omega) (by omega)).mp (ex'.symm.trans ex)
        have e2 : y' = y := (nI_eq (by omega) (by omega)).mp (ey'.symm.trans ey)
        subst e1
        subst e2
        exact ⟨q0 hb, q1 hb⟩
      · exact ps_base_le (c2 k (by omega) hb) l4 l6
    show wX_solve_50 post (n + 1) (nI i) p kn a1 a2 a3 b4 b5 b6
    have fin : (ps_b p i = true → ¬ a1 i = 0) → wX_solve_97 post (wX_solve_50 post n) (nI i) p kn a1 a2 a3 b4 b5 b6 := fun q =>
      ps_97 hi hx hy ex ey ps_LCl c1 (fun d4 d5 d6 k1 k2 k3 k4 => hw (d4, d5, d6) ⟨k1, inj d4 d6 k2 k3 (fun hb e => absurd e (q hb)) k4⟩)
    refine pk_lt 12 i (fun z => absurd z (by omega)) (fun _ => ps_c0 (by omega) (fun g => fin (fun g' => absurd g' (by rw [g]; decide))) (fun g => ⟨hv, ?_⟩))
    rw [nI_clamp (show i < 2 ^ 31 by omega), ex, ey]
    refine br_c (fun e => ⟨hv, hv, ?_⟩) (fun ne => fin (fun _ => ne))
    have one : ∀ j, ps_b ((1 : Int32) <<< (nI y &&& 31)) j = true ↔ j = y := fun j => by
      rw [ps_one (by omega)]
      exact decide_eq_true_iff
    refine ps_point hx (fun j hj => ?_) c1 (fun d4 d5 k1 k2 k3 => nm_r (nI_1 i) (hw (d4, d5, b6) ⟨k1, inj d4 b6 k2 ps_le_rfl (fun _ _ => k3 y ((one y).mpr rfl)) (fun _ e' => absurd (e.symm.trans e') (by decide))⟩))
    rw [(one j).mp hj]
    exact ⟨hy, (ps_LCl i hi g x y hx hy ex ey).1 e⟩
theorem ps_15 {post : St1 → Prop} {p kn : Int32} {a1 a2 a3 a4 a5 a6 : Nat → Int32} (v2 : ps_v a2) (v3 : ps_v a3)
    (H : ∀ b4 b5 b6, ps_ag p a1 a2 a3 b4 → post (p, kn, a1, a2, a3, b4, b5, b6)) :
    ∃ n, wX_solve_15 post p kn n 0 a1 a2 a3 a4 a5 a6 := by
  refine pk_loop (σ := (Nat → Int32) × (Nat → Int32) × (Nat → Int32)) (fun n i s => wX_solve_15 post p kn n (nI i) a1 a2 a3 s.1 s.2.1 s.2.2)
    (fun i s => ∀ j, j < i → s.1 j = 0 ∧ s.2.1 j = 0 ∧ s.2.2 j = 0) 8 0 (a4, a5, a6) (by omega) (fun j hj => absurd hj (by omega)) ?_ ?_
  · rintro n ⟨b4, b5, b6⟩ h
    dsimp only at h
    refine pk_le 8 8 (fun _ => ps_50 v2 v3 (fun i hi => ?_) H) (fun z => absurd z (by omega))
    obtain ⟨e4, e5, e6⟩ := h i hi
    dsimp only
    rw [e4, e5, e6]
    refine ⟨fun j hj => ?_, fun j hj => ?_, fun j hj => hj, fun j => by rw [ps_0]; rfl⟩
    · rw [ps_0] at hj
      exact absurd hj (by decide)
    · rw [ps_0] at hj
      exact absurd hj (by decide)
  · rintro n i ⟨b4, b5, b6⟩ hi h hw
    dsimp only at h
    have hv : vp_in (nI i) 8 := vp_in_nI hi (by decide)
    show wX_solve_15 post p kn (n + 1) (nI i) a1 a2 a3 b4 b5 b6
    refine pk_le 8 i (fun z => absurd z (by omega)) (fun _ => ?_)
    rw [nI_clamp (show i < 2 ^ 31 by omega)]
    refine ⟨hv, nm_e ⟨hv, nm_e ⟨hv, nm_e (nm_r (nI_1 i) (hw (upd b4 i 0, upd b5 i 0, upd b6 i 0) (fun j hj => ?_)))⟩⟩⟩
    dsimp only
    by_cases e : j = i
    · subst e
      exact ⟨pk_us, pk_us, pk_us⟩
    · rw [pk_un e, pk_un e, pk_un e]
      exact h j (by omega)
/-- the object between calls -/
def ps_ok (p kn : Int32) (a1 a2 a3 a4 : Nat → Int32) : Prop := ps_v a2 ∧ ps_v a3 ∧ (¬ kn = 0 → ps_ag p a1 a2 a3 a4)
theorem ps_solve {post : St1 → Prop} {p kn : Int32} {a1 a2 a3 a4 a5 a6 : Nat → Int32} (h : ps_ok p kn a1 a2 a3 a4)
    (H : ∀ k' b4 b5 b6, ¬ k' = 0 → ps_ag p a1 a2 a3 b4 → (¬ kn = 0 → b4 = a4) → post (p, k', a1, a2, a3, b4, b5, b6)) :
    wpX_solve post (p, kn, a1, a2, a3, a4, a5, a6) :=
  br_c (fun e => ps_15 h.1 h.2.1 (fun b4 b5 b6 hg => H 1 b4 b5 b6 ps_10 hg (fun ne => absurd e ne))) (fun ne => H kn a4 a5 a6 ne (h.2.2 ne) (fun _ => rfl))
end
section
/-! the answers of a solved object, and those that solve first -/
theorem ps_has {post : Int32 → Prop} {p kn : Int32} {a1 a2 a3 a4 a5 a6 : Nat → Int32} {k : Nat} (hk : k < 12) (f : ps_b p k = false → post 0) (g : ps_b p k = true → post 1) : wpX_has post (p, kn, a1, a2, a3, a4, a5, a6) (nI k) :=
  br_f (nI_pos (by omega)) (pk_le 12 k (fun z => absurd z (by omega)) (fun _ => ps_c0 (by omega) f g))
theorem ps_var {post : Int32 → Prop} {u : St2} {x : Nat} (hx : x < 8) (h : post 1) : wpX_isVariable post u (nI x) :=
  br_f (nI_pos (by omega)) (pk_le 8 x (fun z => absurd z (by omega)) (fun _ => h))
theorem ps_ptA {post : Int32 → St1 → Prop} {p kn : Int32} {a1 a2 a3 a4 a5 a6 : Nat → Int32} {x : Nat} (hx : x < 8) (h : ps_ok p kn a1 a2 a3 a4)
    (H : ∀ k' b4 b5 b6, ¬ k' = 0 → ps_ag p a1 a2 a3 b4 → (¬ kn = 0 → b4 = a4) → post (b4 x) (p, k', a1, a2, a3, b4, b5, b6)) :
    wpX_pointsTo post (p, kn, a1, a2, a3, a4, a5, a6) (nI x) := by
  unfold wpX_pointsTo
  dsimp only
  rw [nI_clamp (show x < 2 ^ 31 by omega)]
  exact ps_var hx (br_f ps_10 (ps_solve h (fun k' b4 b5 b6 h1 h2 h3 => And.intro (vp_in_nI hx (by decide)) (H k' b4 b5 b6 h1 h2 h3))))
theorem ps_ptS {post : Int32 → St1 → Prop} {p kn : Int32} {a1 a2 a3 a4 a5 a6 : Nat → Int32} {x : Nat} (hx : x < 8) (hk : ¬ kn = 0)
    (H : post (a4 x) (p, kn, a1, a2, a3, a4, a5, a6)) : wpX_pointsTo post (p, kn, a1, a2, a3, a4, a5, a6) (nI x) := by
  unfold wpX_pointsTo
  dsimp only
  rw [nI_clamp (show x < 2 ^ 31 by omega)]
  exact ps_var hx (br_f ps_10 (br_f hk (And.intro (vp_in_nI hx (by decide)) H)))
/-! total -/
def ps_cnt (a4 : Nat → Int32) : Nat := ps_cs (ps_fl (fun i j => ps_b (a4 i) j)) 64
theorem ps_cs1 (h : Nat → Bool) (n : Nat) : nI (ps_cs h n) + (if h n = true then (1 : Int32) else 0) = nI (ps_cs h (n + 1)) := by
  show _ = nI (ps_cs h n + (if h n = true then 1 else 0))
  by_cases e : h n = true
  · rw [if_pos e, if_pos e, nI_1]
  · rw [if_neg e, if_neg e]
    exact nI_add (ps_cs h n) 0
theorem ps_t16 {post : Int32 → St1 → Prop} {J : Int32 → Int32 → Prop} {p kn : Int32} {a1 a2 a3 a4 a5 a6 : Nat → Int32} {i : Nat} (hi : i < 8)
    (H : J (nI (ps_cs (ps_fl (fun i j => ps_b (a4 i) j)) (8 * (i + 1)))) (nI (i + 1))) :
    ∃ n, wX_total_16 post J (nI i) p kn a1 a2 a3 a4 a5 a6 n (nI (ps_cs (ps_fl (fun i j => ps_b (a4 i) j)) (8 * i))) 0 := by
  refine pk_loop (σ := Int32) (fun n j s => wX_total_16 post J (nI i) p kn a1 a2 a3 a4 a5 a6 n s (nI j)) (fun j s => s = nI (ps_cs (ps_fl (fun i j => ps_b (a4 i) j)) (8 * i + j))) 8 0 _ (by omega) rfl ?_ ?_
  · intro n s h
    refine pk_le 8 8 (fun _ => nm_r (nI_1 i) ?_) (fun z => absurd z (by omega))
    rw [h]
    exact H
  · intro n j s hj h hw
    refine pk_le 8 j (fun z => absurd z (by omega)) (fun _ => ⟨vp_in_nI hi (by decide), ?_⟩)
    rw [nI_clamp (show i < 2 ^ 31 by omega)]
    refine nm_e (nm_r (nI_1 j) (hw _ ?_))
    rw [h, ps_t (by omega)]
    have e := ps_cs1 (ps_fl (fun i j => ps_b (a4 i) j)) (8 * i + j)
    rw [ps_fl_at _ hj] at e
    exact e
theorem ps_t8 {post : Int32 → St1 → Prop} {p kn : Int32} {a1 a2 a3 a4 a5 a6 : Nat → Int32} (H : post (nI (ps_cnt a4)) (p, kn, a1, a2, a3, a4, a5, a6)) :
    ∃ n, wX_total_8 post p kn a1 a2 a3 a4 a5 a6 n 0 0 := by
  refine pk_loop (σ := Int32) (fun n i s => wX_total_8 post p kn a1 a2 a3 a4 a5 a6 n s (nI i)) (fun i s => s = nI (ps_cs (ps_fl (fun i j => ps_b (a4 i) j)) (8 * i))) 8 0 0 (by omega) rfl ?_ ?_
  · intro n s h
    refine pk_le 8 8 (fun _ => ?_) (fun z => absurd z (by omega))
    rw [h]
    exact H
  · intro n i s hi h hw
    refine pk_le 8 i (fun z => absurd z (by omega)) (fun _ => ?_)
    rw [h]
    exact ps_t16 hi (hw _ rfl)
theorem ps_totA {post : Int32 → St1 → Prop} {p kn : Int32} {a1 a2 a3 a4 a5 a6 : Nat → Int32} (h : ps_ok p kn a1 a2 a3 a4)
    (H : ∀ k' b4 b5 b6, ¬ k' = 0 → ps_ag p a1 a2 a3 b4 → post (nI (ps_cnt b4)) (p, k', a1, a2, a3, b4, b5, b6)) :
    wpX_total post (p, kn, a1, a2, a3, a4, a5, a6) := by
  unfold wpX_total
  dsimp only
  exact ps_solve h (fun k' b4 b5 b6 h1 h2 _ => ps_t8 (H k' b4 b5 b6 h1 h2))
theorem ps_totS {post : Int32 → St1 → Prop} {p kn : Int32} {a1 a2 a3 a4 a5 a6 : Nat → Int32} (hk : ¬ kn = 0)
    (H : post (nI (ps_cnt a4)) (p, kn, a1, a2, a3, a4, a5, a6)) : wpX_total post (p, kn, a1, a2, a3, a4, a5, a6) := by
  unfold wpX_total
  dsimp only
  exact br_f hk (ps_t8 H)
/-! reach -/
def ps_r1 (a4 : Nat → Int32) (s : Int32) (y : Nat) : Int32 := if ps_b s y = true then s ||| a4 y else s
def ps_rin (a4 : Nat → Int32) (s : Int32) : Nat → Int32
  | 0 => s
  | n + 1 => ps_r1 a4 (ps_rin a4 s n) n
def ps_rou (a4 : Nat → Int32) (s : Int32) : Nat → Int32
  | 0 => s
  | n + 1 => ps_rin a4 (ps_rou a4 s n) 8
def ps_rch (a4 : Nat → Int32) (x : Nat) : Int32 := ps_rou a4 (a4 x) 8
theorem ps_rin_le (a4 : Nat → Int32) (s : Int32) (n : Nat) {j : Nat} (h : ps_b s j = true) : ps_b (ps_rin a4 s n) j = true := by
  induction n with
  | zero => exact h
  | succ n ih =>
    show ps_b (ps_r1 a4 (ps_rin a4 s n) n) j = true
    unfold ps_r1
    by_cases e : ps_b (ps_rin a4 s n) n = true
    · rw [if_pos e, ps_or, ih]
      rfl
    · rw [if_neg e]
      exact ih
theorem ps_rou_le (a4 : Nat → Int32) (s : Int32) (n : Nat) {j : Nat} (h : ps_b s j = true) : ps_b (ps_rou a4 s n) j = true := by
  induction n with
  | zero => exact h
  | succ n ih => exact ps_rin_le a4 _ 8 ih
theorem ps_r31 {post : Int32 → St1 → Prop} {J : Int32 → Int32 → Prop} {p kn s : Int32} {a1 a2 a3 a4 a5 a6 : Nat → Int32} {r : Nat}
    (H : J (ps_rin a4 s 8) (nI (r + 1))) : ∃ n, wX_reach_31 post J (nI r) p kn a1 a2 a3 a4 a5 a6 n s 0 := by
  refine pk_loop (σ := Int32) (fun n j t => wX_reach_31 post J (nI r) p kn a1 a2 a3 a4 a5 a6 n t (nI j)) (fun j t => t = ps_rin a4 s j) 8 0 s (by omega) rfl ?_ ?_
  · intro n t h
    refine pk_le 8 8 (fun _ => nm_r (nI_1 r) ?_) (fun z => absurd z (by omega))
    rw [h]
    exact H
  · intro n j t hj h hw
    refine pk_le 8 j (fun z => absurd z (by omega)) (fun _ => ?_)
    rw [nI_clamp (show j < 2 ^ 31 by omega)]
    refine ps_in (by omega) (fun g => br_t rfl (nm_e (nm_r (nI_1 j) (hw _ ?_)))) (fun g => br_f ps_10 ⟨vp_in_nI hj (by decide), nm_e (nm_r (nI_1 j) (hw _ ?_))⟩)
    · show _ = ps_r1 a4 (ps_rin a4 s j) j
      rw [← h]
      unfold ps_r1
      rw [if_neg (by rw [g]; decide), ps_or0]
    · show _ = ps_r1 a4 (ps_rin a4 s j) j
      rw [← h]
      unfold ps_r1
      rw [if_pos g]
theorem ps_r22 {post : Int32 → St1 → Prop} {p kn s : Int32} {a1 a2 a3 a4 a5 a6 : Nat → Int32}
    (H : post (ps_rou a4 s 8) (p, kn, a1, a2, a3, a4, a5, a6)) : ∃ n, wX_reach_22 post p kn a1 a2 a3 a4 a5 a6 n s 0 := by
  refine pk_loop (σ := Int32) (fun n j t => wX_reach_22 post p kn a1 a2 a3 a4 a5 a6 n t (nI j)) (fun j t => t = ps_rou a4 s j) 8 0 s (by omega) rfl ?_ ?_
  · intro n t h
    refine pk_le 8 8 (fun _ => ?_) (fun z => absurd z (by omega))
    rw [h]
    exact H
  · intro n j t hj h hw
    refine pk_le 8 j (fun z => absurd z (by omega)) (fun _ => ps_r31 (hw _ ?_))
    rw [h]
    rfl
theorem ps_reach {post : Int32 → St1 → Prop} {p kn : Int32} {a1 a2 a3 a4 a5 a6 : Nat → Int32} {x : Nat} (hx : x < 8) (hk : ¬ kn = 0)
    (H : post (ps_rch a4 x) (p, kn, a1, a2, a3, a4, a5, a6)) : wpX_reach post (p, kn, a1, a2, a3, a4, a5, a6) (nI x) := by
  unfold wpX_reach
  dsimp only
  rw [nI_clamp (show x < 2 ^ 31 by omega)]
  exact ps_var hx (br_f ps_10 (br_f hk (And.intro (vp_in_nI hx (by decide)) (nm_e (ps_r22 H)))))
/-! sets of variables collected bit by bit -/
theorem ps_col0 {f : Nat → Bool} {i : Nat} {s : Int32} (h : ∀ j, ps_b s j = (decide (j < i) && f j)) (g : f i = false) : ∀ j, ps_b (s ||| 0) j = (decide (j < i + 1) && f j) := by
  intro j
  rw [ps_or0, h j]
  by_cases e : j = i
  · subst e
    rw [g, Bool.and_false, Bool.and_false]
  · rw [show decide (j < i) = decide (j < i + 1) from decide_eq_decide.mpr (by omega)]
theorem ps_col1 {f : Nat → Bool} {i : Nat} (hi : i < 32) {s : Int32} (h : ∀ j, ps_b s j = (decide (j < i) && f j)) (g : f i = true) : ∀ j, ps_b (s ||| ((1 : Int32) <<< (nI i &&& 31))) j = (decide (j < i + 1) && f j) := by
  intro j
  rw [ps_or, h j, ps_one hi]
  by_cases e : j = i
  · subst e
    rw [g, decide_eq_true rfl, decide_eq_true (show j < j + 1 by omega)]
    exact Bool.or_true _
  · rw [show decide (j < i) = decide (j < i + 1) from decide_eq_decide.mpr (by omega), decide_eq_false e, Bool.or_false]
theorem ps_col {f : Nat → Bool} : ∀ j, ps_b 0 j = (decide (j < 0) && f j) := by
  intro j
  rw [ps_0, decide_eq_false (by omega)]
  rfl
theorem ps_cyclic {post : Int32 → St1 → Prop} {p kn : Int32} {a1 a2 a3 a4 a5 a6 : Nat → Int32} (hk : ¬ kn = 0)
    (H : ∀ r, (∀ j, ps_b r j = (decide (j < 8) && ps_b (ps_rch a4 j) j)) → post r (p, kn, a1, a2, a3, a4, a5, a6)) : wpX_cyclic post (p, kn, a1, a2, a3, a4, a5, a6) := by
  show ∃ n, wX_cyclic_4 post n 0 0 p kn a1 a2 a3 a4 a5 a6
  refine pk_loop (σ := Int32) (fun n i s => wX_cyclic_4 post n s (nI i) p kn a1 a2 a3 a4 a5 a6) (fun i s => ∀ j, ps_b s j = (decide (j < i) && ps_b (ps_rch a4 j) j)) 8 0 0 (by omega) ps_col
    (fun n s h => pk_le 8 8 (fun _ => H s h) (fun z => absurd z (by omega))) ?_
  intro n i s hi h hw
  refine pk_le 8 i (fun z => absurd z (by omega)) (fun _ => ps_reach hi hk ?_)
  exact ps_in (by omega) (fun g => br_t rfl (nm_e (nm_r (nI_1 i) (hw _ (ps_col0 h g))))) (fun g => br_f ps_10 (nm_e (nm_r (nI_1 i) (hw _ (ps_col1 (by omega) h g)))))
theorem ps_by {post : Int32 → St1 → Prop} {p kn : Int32} {a1 a2 a3 a4 a5 a6 : Nat → Int32} {y : Nat} (hy : y < 8) (hk : ¬ kn = 0)
    (H : ∀ r, (∀ j, ps_b r j = (decide (j < 8) && ps_b (a4 j) y)) → post r (p, kn, a1, a2, a3, a4, a5, a6)) : wpX_pointedBy post (p, kn, a1, a2, a3, a4, a5, a6) (nI y) := by
  unfold wpX_pointedBy
  dsimp only
  refine ps_var hy (br_f ps_10 (br_f hk ?_))
  show ∃ n, wX_pointedBy_17 post (nI y) p kn a1 a2 a3 a4 a5 a6 n 0 0
  refine pk_loop (σ := Int32) (fun n i s => wX_pointedBy_17 post (nI y) p kn a1 a2 a3 a4 a5 a6 n s (nI i)) (fun i s => ∀ j, ps_b s j = (decide (j < i) && ps_b (a4 j) y)) 8 0 0 (by omega) ps_col
    (fun n s h => pk_le 8 8 (fun _ => H s h) (fun z => absurd z (by omega))) ?_
  intro n i s hi h hw
  refine pk_le 8 i (fun z => absurd z (by omega)) (fun _ => ⟨vp_in_nI hi (by decide), ?_⟩)
  rw [nI_clamp (show i < 2 ^ 31 by omega)]
  exact ps_in (by omega) (fun g => br_t rfl (nm_e (nm_r (nI_1 i) (hw _ (ps_col0 h g))))) (fun g => br_f ps_10 (nm_e (nm_r (nI_1 i) (hw _ (ps_col1 (by omega) h g)))))
/-! alias -/
def ps_al (a4 : Nat → Int32) (x y : Nat) : Int32 := if x = y then 0 else if a4 x &&& a4 y = 0 then 0 else 1
theorem ps_al_c (a4 : Nat → Int32) (x y : Nat) : ps_al a4 x y = ps_al a4 y x := by
  unfold ps_al
  rw [Int32.and_comm (a4 x) (a4 y)]
  by_cases e : x = y
  · rw [if_pos e, if_pos e.symm]
  · rw [if_neg e, if_neg (show ¬ y = x from fun z => e z.symm)]
theorem ps_alias {post : Int32 → St1 → Prop} {p kn : Int32} {a1 a2 a3 a4 a5 a6 : Nat → Int32} {x y : Nat} (hx : x < 8) (hy : y < 8) (hk : ¬ kn = 0)
    (H : post (ps_al a4 x y) (p, kn, a1, a2, a3, a4, a5, a6)) : wpX_alias post (p, kn, a1, a2, a3, a4, a5, a6) (nI x) (nI y) := by
  unfold wpX_alias
  dsimp only
  rw [nI_clamp (show x < 2 ^ 31 by omega), nI_clamp (show y < 2 ^ 31 by omega)]
  unfold ps_al at H
  refine ps_var hx (br_f ps_10 (ps_var hy (br_f ps_10 (pk_eq x y (fun e => ?_) (fun ne => br_f hk ?_)))))
  · rw [if_pos e] at H
    exact H
  · rw [if_neg ne] at H
    refine And.intro (vp_in_nI hx (by decide)) (And.intro (vp_in_nI hy (by decide)) (br_c (fun e => ?_) (fun e => ?_)))
    · rw [if_pos e] at H
      exact H
    · rw [if_neg e] at H
      exact H
end
section
/-! flows, view, count; the calls that change the statements -/
theorem ps_fl79 {post : Int32 → Prop} {J J' : Int32 → Int32 → Prop} {p kn s w1 w4 : Int32} {a1 a2 a3 a4 a5 a6 : Nat → Int32} {L : Nat → Nat → Prop} {k x y0 : Nat} {z0 : Int32} (hk : k < 12) (hx : x < 8) (ex : a2 k = nI x)
    (hs : ∀ j, ps_b s j = true → j < 8 ∧ ∀ z, L y0 z → L j z) (hz : ¬ z0 = 0 → ∀ z, L y0 z → L x z)
    (H : ∀ t, (∀ j, ps_b t j = true → j < 8 ∧ ∀ z, L y0 z → L j z) → J' t (nI (k + 1))) :
    wX_flows_79 post J J' w1 s w4 (nI k) z0 p kn a1 a2 a3 a4 a5 a6 := by
  unfold wX_flows_79
  rw [nI_clamp (show k < 2 ^ 31 by omega), ex, ps_or0]
  refine br_c (fun _ => nm_e (nm_r (nI_1 k) (H s hs))) (fun ne => ⟨vp_in_nI (show k < 13 by omega) (by decide), nm_e (nm_r (nI_1 k) (H _ ?_))⟩)
  intro j hj
  rw [ps_or, ps_one (by omega)] at hj
  rcases Bool.or_eq_true_iff.mp hj with h | h
  · exact hs j h
  · rw [of_decide_eq_true h]
    exact ⟨hx, hz ne⟩
theorem ps_fl33 {post : Int32 → Prop} {J : Int32 → Int32 → Prop} {p kn s w1 : Int32} {a1 a2 a3 a4 a5 a6 : Nat → Int32} {L : Nat → Nat → Prop} {r y0 : Nat} (v2 : ps_v a2) (v3 : ps_v a3) (hCl : ps_Cl p a1 a2 a3 L)
    (hs : ∀ j, ps_b s j = true → j < 8 ∧ ∀ z, L y0 z → L j z)
    (H : ∀ t, (∀ j, ps_b t j = true → j < 8 ∧ ∀ z, L y0 z → L j z) → J t (nI (r + 1))) :
    ∃ n, wX_flows_33 post J w1 (nI r) p kn a1 a2 a3 a4 a5 a6 n s 0 := by
  refine pk_loop (σ := Int32) (fun n i t => wX_flows_33 post J w1 (nI r) p kn a1 a2 a3 a4 a5 a6 n t (nI i)) (fun _ t => ∀ j, ps_b t j = true → j < 8 ∧ ∀ z, L y0 z → L j z) 12 0 s (by omega) hs
    (fun n t h => pk_le 12 12 (fun _ => nm_r (nI_1 r) (H t h)) (fun z => absurd z (by omega))) ?_
  intro n i t hi h hw
  obtain ⟨x, hx, ex⟩ := v2 i (by omega)
  obtain ⟨y, hy, ey⟩ := v3 i (by omega)
  have hv : vp_in (nI i) 13 := vp_in_nI (by omega) (by decide)
  have f0 : wX_flows_78 post J (wX_flows_33 post J w1 (nI r) p kn a1 a2 a3 a4 a5 a6 n) w1 t (nI r) (nI i) p kn a1 a2 a3 a4 a5 a6 :=
    ps_fl79 (L := L) (y0 := y0) hi hx ex h (fun z => absurd rfl z) hw
  show wX_flows_33 post J w1 (nI r) p kn a1 a2 a3 a4 a5 a6 (n + 1) t (nI i)
  refine pk_le 12 i (fun z => absurd z (by omega)) (fun _ => ps_has hi (fun _ => br_t rfl f0) (fun g => br_f ps_10 ⟨hv, ?_⟩))
  rw [nI_clamp (show i < 2 ^ 31 by omega), ey]
  refine br_c (fun e => ⟨hv, ps_in (by omega) (fun _ => br_t rfl f0) (fun g2 => br_f ps_10 ?_)⟩) (fun _ => f0)
  exact ps_fl79 (L := L) (y0 := y0) hi hx ex h (fun _ z hz => (hCl i (by omega) g x y hx hy ex ey).2.1 e z ((h y g2).2 z hz)) hw
theorem ps_flows {post : Int32 → Prop} {p kn : Int32} {a1 a2 a3 a4 a5 a6 : Nat → Int32} {x y : Nat} (hx : x < 8) (hy : y < 8) (v2 : ps_v a2) (v3 : ps_v a3)
    (H0 : post 0) (H1 : (∀ z, ps_L p a1 a2 a3 y z → ps_L p a1 a2 a3 x z) → post 1) : wpX_flows post (p, kn, a1, a2, a3, a4, a5, a6) (nI x) (nI y) := by
  unfold wpX_flows
  dsimp only
  refine ps_var hx (br_f ps_10 (ps_var hy (br_f ps_10 (nm_e ?_))))
  refine pk_loop (σ := Int32) (fun n i t => wX_flows_23 post (nI x) p kn a1 a2 a3 a4 a5 a6 n t (nI i)) (fun _ t => ∀ j, ps_b t j = true → j < 8 ∧ ∀ z, ps_L p a1 a2 a3 y z → ps_L p a1 a2 a3 j z) 8 0 _ (by omega) ?_ ?_ ?_
  · intro j hj
    rw [ps_one (by omega)] at hj
    rw [of_decide_eq_true hj]
    exact ⟨hy, fun z hz => hz⟩
  · intro n t h
    exact pk_le 8 8 (fun _ => ps_in (by omega) (fun _ => And.intro rfl H0) (fun g => And.intro rfl (H1 (h x g).2))) (fun z => absurd z (by omega))
  · intro n i t hi h hw
    exact pk_le 8 i (fun z => absurd z (by omega)) (fun _ => ps_fl33 v2 v3 ps_LCl h hw)
def ps_vw (f : Nat → Int32) : Nat → Int64
  | 0 => 0
  | n + 1 => (ps_vw f n <<< ((8 : Int32).toInt64 &&& 63)) ||| (f n).toInt64
theorem ps_vw_cg {f g : Nat → Int32} (h : ∀ i, i < 8 → f i = g i) (n : Nat) (hn : n ≤ 8) : ps_vw f n = ps_vw g n := by
  induction n with
  | zero => rfl
  | succ n ih =>
    show (ps_vw f n <<< ((8 : Int32).toInt64 &&& 63)) ||| (f n).toInt64 = (ps_vw g n <<< ((8 : Int32).toInt64 &&& 63)) ||| (g n).toInt64
    rw [ih (by omega), h n (by omega)]
theorem ps_view {post : Int64 → St1 → Prop} {p kn : Int32} {a1 a2 a3 a4 a5 a6 : Nat → Int32} (h : ps_ok p kn a1 a2 a3 a4)
    (H : ∀ k' b4 b5 b6, ¬ k' = 0 → ps_ag p a1 a2 a3 b4 → post (ps_vw b4 8) (p, k', a1, a2, a3, b4, b5, b6)) : wpL_view post (p, kn, a1, a2, a3, a4, a5, a6) := by
  show ∃ n, wL_view_4 post n 0 0 p kn a1 a2 a3 a4 a5 a6
  refine pk_loop (σ := Int64 × Int32 × (Nat → Int32) × (Nat → Int32) × (Nat → Int32)) (fun n i s => wL_view_4 post n s.1 (nI i) p s.2.1 a1 a2 a3 s.2.2.1 s.2.2.2.1 s.2.2.2.2)
    (fun i s => ps_ok p s.2.1 a1 a2 a3 s.2.2.1 ∧ (i = 0 → s.1 = 0) ∧ (0 < i → ¬ s.2.1 = 0 ∧ s.1 = ps_vw s.2.2.1 i)) 8 0 (0, kn, a4, a5, a6) (by omega) ⟨h, fun _ => rfl, fun z => absurd z (by omega)⟩ ?_ ?_
  · rintro n ⟨w, k', b4, b5, b6⟩ ⟨h1, _, h3⟩
    dsimp only at h1 h3
    obtain ⟨h4, h5⟩ := h3 (by omega)
    refine pk_le 8 8 (fun _ => ?_) (fun z => absurd z (by omega))
    dsimp only
    rw [h5]
    exact H k' b4 b5 b6 h4 (h1.2.2 h4)
  · rintro n i ⟨w, k', b4, b5, b6⟩ hi ⟨h1, h2, h3⟩ hw
    dsimp only at h1 h2 h3
    show wL_view_4 post (n + 1) w (nI i) p k' a1 a2 a3 b4 b5 b6
    refine pk_le 8 i (fun z => absurd z (by omega)) (fun _ => ps_ptA hi h1 (fun k2 c4 c5 c6 q1 q2 q3 => nm_e (nm_r (nI_1 i) (hw (_, k2, c4, c5, c6) ⟨⟨h1.1, h1.2.1, fun _ => q2⟩, fun z => absurd z (by omega), fun _ => ⟨q1, ?_⟩⟩))))
    dsimp only
    show _ = (ps_vw c4 i <<< ((8 : Int32).toInt64 &&& 63)) ||| (c4 i).toInt64
    rcases Nat.eq_zero_or_pos i with e | e
    · subst e
      rw [h2 rfl]
      rfl
    · obtain ⟨h4, h5⟩ := h3 e
      rw [h5, q3 h4]
theorem ps_count {post : Int32 → St1 → Prop} {p kn : Int32} {a1 a2 a3 a4 a5 a6 : Nat → Int32} (hk : ¬ kn = 0)
    (H : post (nI (ps_cnt a4)) (p, kn, a1, a2, a3, a4, a5, a6)) : wpL_count post (p, kn, a1, a2, a3, a4, a5, a6) := by
  show ∃ n, wL_count_4 post n 0 0 p kn a1 a2 a3 a4 a5 a6
  refine pk_loop (σ := Int32) (fun n c s => wL_count_4 post n s (nI c) p kn a1 a2 a3 a4 a5 a6) (fun c s => s = nI (ps_cs (ps_fl (fun i j => ps_b (a4 i) j)) c)) 64 0 0 (by omega) rfl ?_ ?_
  · intro n s h
    refine pk_le 64 64 (fun _ => ?_) (fun z => absurd z (by omega))
    rw [h]
    exact H
  · intro n c s hc h hw
    show wL_count_4 post (n + 1) s (nI c) p kn a1 a2 a3 a4 a5 a6
    refine pk_le 64 c (fun z => absurd z (by omega)) (fun _ => ?_)
    rw [pk_shrN (show c < 2 ^ 31 by omega) ((3 : Int32) &&& 31) 3 (by decide), pk_andN (show c < 2 ^ 32 by omega) (m := 7) 3 (by decide)]
    refine ps_ptS (show c / 2 ^ 3 < 8 by omega) hk (nm_e (nm_r (nI_1 c) (hw _ ?_)))
    rw [h, ps_t (show c % 2 ^ 3 < 32 by omega)]
    exact ps_cs1 (ps_fl (fun i j => ps_b (a4 i) j)) c
/-! statements -/
theorem ps_write {post : St1 → Prop} {p kn : Int32} {a1 a2 a3 a4 a5 a6 : Nat → Int32} {k d x y : Nat} (hk : k < 13) (hd : d < 4) (hx : x < 8) (hy : y < 8)
    (H : post (p ||| ((1 : Int32) <<< (nI k &&& 31)), 0, upd a1 k (nI d), upd a2 k (nI x), upd a3 k (nI y), a4, a5, a6)) : wpX_write post (p, kn, a1, a2, a3, a4, a5, a6) (nI k) (nI d) (nI x) (nI y) := by
  have hv : vp_in (nI k) 13 := vp_in_nI hk (by decide)
  unfold wpX_write
  dsimp only
  rw [nI_clamp (show k < 2 ^ 31 by omega), ps_8 d (by omega), ps_8 x hx, ps_8 y hy]
  exact ⟨hv, nm_e ⟨hv, nm_e ⟨hv, nm_e (nm_e H)⟩⟩⟩
theorem ps_sok {post : Int32 → Prop} {u : St2} {d x y : Nat} (hd : d < 4) (hx : x < 8) (hy : y < 8) (H : post 1) : wpX_statementOk post u (nI d) (nI x) (nI y) :=
  br_f (nI_pos (by omega)) (pk_lt 3 d (fun z => absurd z (by omega)) (fun _ => ps_var hx (br_f ps_10 (ps_var hy (br_f ps_10 H)))))
theorem ps_add {post : Int32 → St1 → Prop} {p kn : Int32} {a1 a2 a3 a4 a5 a6 : Nat → Int32} {d x y : Nat} (hd : d < 4) (hx : x < 8) (hy : y < 8)
    (H0 : post (-2) (p, kn, a1, a2, a3, a4, a5, a6))
    (H1 : ∀ k, k < 12 → ps_b p k = false → post (nI k) (p ||| ((1 : Int32) <<< (nI k &&& 31)), 0, upd a1 k (nI d), upd a2 k (nI x), upd a3 k (nI y), a4, a5, a6)) :
    wpX_add post (p, kn, a1, a2, a3, a4, a5, a6) (nI d) (nI x) (nI y) := by
  unfold wpX_add
  dsimp only
  refine ps_sok hd hx hy (br_f ps_10 ?_)
  refine pk_loop (σ := Unit) (fun n i _ => wX_add_14 post (nI d) (nI x) (nI y) p kn a1 a2 a3 a4 a5 a6 n (nI i)) (fun _ _ => True) 12 0 () (by omega) trivial
    (fun n _ _ => pk_le 12 12 (fun _ => H0) (fun z => absurd z (by omega))) ?_
  intro n i _ hi _ hw
  show wX_add_14 post (nI d) (nI x) (nI y) p kn a1 a2 a3 a4 a5 a6 (n + 1) (nI i)
  exact pk_le 12 i (fun z => absurd z (by omega)) (fun _ => ps_has hi (fun g => br_t rfl (ps_write (by omega) hd hx hy (H1 i hi g))) (fun _ => br_f ps_10 (nm_r (nI_1 i) (hw () trivial))))
/-- the statements without k -/
def ps_wo (p : Int32) (k : Nat) : Int32 := p &&& (((1 : Int32) <<< (nI k &&& 31)) ^^^ (-1))
theorem ps_wo_b (p : Int32) {k : Nat} (hk : k < 32) (j : Nat) : ps_b (ps_wo p k) j = (ps_b p j && !decide (j = k)) := by
  unfold ps_wo
  rw [ps_diff, ps_one hk]
theorem ps_wo_back {p : Int32} {k : Nat} (hk : k < 32) (h : ps_b p k = true) : ps_wo p k ||| ((1 : Int32) <<< (nI k &&& 31)) = p := by
  apply ps_ext
  intro j _
  rw [ps_or, ps_wo_b p hk, ps_one hk]
  by_cases e : j = k
  · subst e
    rw [h, decide_eq_true rfl]
    rfl
  · rw [decide_eq_false e, Bool.or_false]
    exact Bool.and_true _
theorem ps_remove {post : Int32 → St1 → Prop} {p kn : Int32} {a1 a2 a3 a4 a5 a6 : Nat → Int32} {k : Nat} (hk : k < 12)
    (H0 : ps_b p k = false → post 0 (p, kn, a1, a2, a3, a4, a5, a6)) (H1 : ps_b p k = true → post 1 (ps_wo p k, 0, a1, a2, a3, a4, a5, a6)) : wpX_remove post (p, kn, a1, a2, a3, a4, a5, a6) (nI k) := by
  unfold wpX_remove
  dsimp only
  exact ps_has hk (fun g => br_t rfl (H0 g)) (fun g => br_f ps_10 (nm_e (H1 g)))
theorem ps_ok0 {p kn q : Int32} {a1 a2 a3 a4 b4 : Nat → Int32} (h : ps_ok p kn a1 a2 a3 a4) : ps_ok q 0 a1 a2 a3 b4 := ⟨h.1, h.2.1, fun z => absurd rfl z⟩
theorem ps_cnt_ub (a4 : Nat → Int32) : ps_cnt a4 ≤ 64 := ps_cs_ub _ 64
theorem ps_redundant {post : Int32 → St1 → Prop} {p kn : Int32} {a1 a2 a3 a4 a5 a6 : Nat → Int32} {k : Nat} (hk : k < 12) (h : ps_ok p kn a1 a2 a3 a4)
    (H0 : ps_b p k = false → post 0 (p, kn, a1, a2, a3, a4, a5, a6))
    (H1 : ps_b p k = true → ∀ r b4 b5 b6 c4, ps_ag p a1 a2 a3 c4 → ps_ag (ps_wo p k) a1 a2 a3 b4 → (r = 0 ∨ (r = 1 ∧ ps_cnt c4 = ps_cnt b4)) → post r (p, 0, a1, a2, a3, b4, b5, b6)) :
    wpX_redundant post (p, kn, a1, a2, a3, a4, a5, a6) (nI k) := by
  unfold wpX_redundant
  dsimp only
  refine ps_has hk (fun g => br_t rfl (H0 g)) (fun g => br_f ps_10 (ps_totA h (fun k1 c4 c5 c6 _ q2 => nm_e (ps_totA (p := ps_wo p k) (ps_ok0 h) (fun k2 b4 b5 b6 _ q4 => nm_r (ps_wo_back (by omega) g) ?_)))))
  have u1 := ps_cnt_ub c4
  have u2 := ps_cnt_ub b4
  exact pk_eq (ps_cnt c4) (ps_cnt b4) (fun e => H1 g 1 b4 b5 b6 c4 q2 q4 (Or.inr ⟨rfl, e⟩)) (fun _ => H1 g 0 b4 b5 b6 c4 q2 q4 (Or.inl rfl))
theorem ps_4097 : ∀ j, j < 32 → ps_b (-4097) j = !decide (j = 12) := by decide +kernel
theorem ps_12_back {p : Int32} (h : ps_b p 12 = false) : (p ||| ((1 : Int32) <<< (nI 12 &&& 31))) &&& (-4097) = p := by
  apply ps_ext
  intro j hj
  rw [ps_and, ps_or, ps_one (by omega), ps_4097 j hj]
  by_cases e : j = 12
  · subst e
    rw [h, decide_eq_true rfl]
    rfl
  · rw [decide_eq_false e, Bool.or_false]
    exact Bool.and_true _
theorem ps_v_upd {a : Nat → Int32} {k x : Nat} (h : ps_v a) (hx : x < 8) : ps_v (upd a k (nI x)) := by
  intro j hj
  by_cases e : j = k
  · subst e
    exact ⟨x, hx, pk_us⟩
  · rw [pk_un e]
    exact h j hj
theorem ps_gain {post : Int32 → St1 → Prop} {p kn : Int32} {a1 a2 a3 a4 a5 a6 : Nat → Int32} {d x y k0 : Nat} (hd : d < 4) (hx : x < 8) (hy : y < 8) (h : ps_ok p kn a1 a2 a3 a4) (hp : ps_b p 12 = false)
    (h0 : k0 < 12) (hb : ps_b p k0 = true) (e1 : a1 k0 = nI d) (e2 : a2 k0 = nI x) (e3 : a3 k0 = nI y)
    (H : ∀ b4 b5 b6, post 0 (p, 0, upd a1 12 (nI d), upd a2 12 (nI x), upd a3 12 (nI y), b4, b5, b6)) :
    wpX_gain post (p, kn, a1, a2, a3, a4, a5, a6) (nI d) (nI x) (nI y) := by
  unfold wpX_gain
  dsimp only
  refine ps_sok hd hx hy (br_f ps_10 (ps_totA h (fun k1 c4 c5 c6 _ q2 => ps_write (k := 12) (by omega) hd hx hy (ps_totA ⟨ps_v_upd h.1 hx, ps_v_upd h.2.1 hy, fun z => absurd rfl z⟩ (fun k2 b4 b5 b6 _ q4 => nm_r (ps_12_back hp) ?_)))))
  have e : ps_cnt b4 = ps_cnt c4 := by
    refine ps_cnt_cg (fun i j hi _ => ?_) 64 (Nat.le_refl _)
    have t : ps_b (b4 i) j = true ↔ ps_b (c4 i) j = true := ((q4 i hi).2 j).trans ((ps_dupL hp hx hy h0 hb e1 e2 e3 i j).trans ((q2 i hi).2 j).symm)
    exact Bool.eq_iff_iff.mpr t
  rw [e, Int32.sub_self]
  exact H b4 b5 b6
end
section
/-! the law's checks of one variable, and the end of a turn -/
theorem ps_v87 {post : Int32 → St1 → Prop} {J : Int32 → Int32 → Int32 → (Nat → Int32) → (Nat → Int32) → (Nat → Int32) → (Nat → Int32) → (Nat → Int32) → (Nat → Int32) → Prop} {p kn w3 w4 z : Int32} {a1 a2 a3 a4 a5 a6 : Nat → Int32} {x i : Nat}
    (hx : x < 8) (hi : i < 8) (hk : ¬ kn = 0) (h : ps_ok p kn a1 a2 a3 a4) (H : J (nI (i + 1)) p kn a1 a2 a3 a4 a5 a6) :
    wL_variable_87 post J (nI x) (a4 x) w3 w4 (nI i) (a4 i) z z p kn a1 a2 a3 a4 a5 a6 := by
  unfold wL_variable_87
  refine br_t rfl (ps_alias hx hi hk (ps_alias hi hx hk (br_t (ps_al_c a4 x i) (ps_flows hx hi h.1 h.2.1 (br_t rfl (nm_r (nI_1 i) H)) (fun hL => br_f ps_10 (br_t ?_ (nm_r (nI_1 i) H)))))))
  have hg := h.2.2 hk
  apply ps_ext
  intro j _
  rw [ps_diff, ps_0]
  cases e : ps_b (a4 i) j
  · rfl
  · rw [((hg x hx).2 j).mpr (hL j (((hg i hi).2 j).mp e))]
    rfl
theorem ps_v56 {post : Int32 → St1 → Prop} {J : Int32 → Int32 → Int32 → (Nat → Int32) → (Nat → Int32) → (Nat → Int32) → (Nat → Int32) → (Nat → Int32) → (Nat → Int32) → Prop} {p kn w3 w4 z : Int32} {a1 a2 a3 a4 a5 a6 : Nat → Int32} {x i : Nat}
    (hx : x < 8) (hi : i < 8) (hk : ¬ kn = 0) (h : ps_ok p kn a1 a2 a3 a4) (hz : z = if ps_b (a4 x) i = true then 1 else 0) (H : J (nI (i + 1)) p kn a1 a2 a3 a4 a5 a6) :
    wL_variable_56 post J (nI x) (a4 x) w3 w4 (nI i) z p kn a1 a2 a3 a4 a5 a6 := by
  unfold wL_variable_56
  refine ps_ptS hi hk (ps_by hi hk (fun r hr => ?_))
  have e : ps_b r x = ps_b (a4 x) i := by
    rw [hr x, decide_eq_true hx]
    rfl
  refine ps_c1 (by omega) (fun g => ?_) (fun g => ?_)
  · rw [e] at g
    rw [hz, if_pos g]
    exact ps_v87 hx hi hk h H
  · rw [e] at g
    rw [hz, if_neg (by rw [g]; decide)]
    exact ps_v87 hx hi hk h H
theorem ps_v34 {post : Int32 → St1 → Prop} {p kn w4 : Int32} {a1 a2 a3 a4 a5 a6 : Nat → Int32} {x : Nat} (hx : x < 8) (hk : ¬ kn = 0) (h : ps_ok p kn a1 a2 a3 a4) (hw4 : w4 = if ps_b (ps_rch a4 x) x = true then 1 else 0)
    (H : post 1 (p, kn, a1, a2, a3, a4, a5, a6)) : ∃ n, wL_variable_34 post (nI x) (a4 x) (ps_rch a4 x) w4 n 0 p kn a1 a2 a3 a4 a5 a6 := by
  refine pk_loop (σ := Unit) (fun n i _ => wL_variable_34 post (nI x) (a4 x) (ps_rch a4 x) w4 n (nI i) p kn a1 a2 a3 a4 a5 a6) (fun _ _ => True) 8 0 () (by omega) trivial ?_ ?_
  · intro n _ _
    refine pk_le 8 8 (fun _ => br_t ?_ (ps_c1 (by omega) (fun g => br_t (hw4.trans (if_pos g)) H) (fun g => br_t (hw4.trans (if_neg (by rw [g]; decide))) H))) (fun z => absurd z (by omega))
    apply ps_ext
    intro j _
    rw [ps_diff, ps_0]
    cases e : ps_b (a4 x) j
    · rfl
    · rw [show ps_b (ps_rch a4 x) j = true from ps_rou_le a4 (a4 x) 8 e]
      rfl
  · intro n i _ hi _ hw
    show wL_variable_34 post (nI x) (a4 x) (ps_rch a4 x) w4 (n + 1) (nI i) p kn a1 a2 a3 a4 a5 a6
    exact pk_le 8 i (fun z => absurd z (by omega)) (fun _ => ps_c1 (by omega) (fun g => ps_v56 hx hi hk h (if_pos g).symm (hw () trivial)) (fun g => ps_v56 hx hi hk h (if_neg (by rw [g]; decide)).symm (hw () trivial)))
theorem ps_variable {post : Int32 → St1 → Prop} {p kn : Int32} {a1 a2 a3 a4 a5 a6 : Nat → Int32} {x : Nat} (hx : x < 8) (h : ps_ok p kn a1 a2 a3 a4)
    (H : ∀ k' b4 b5 b6, ¬ k' = 0 → ps_ag p a1 a2 a3 b4 → post 1 (p, k', a1, a2, a3, b4, b5, b6)) : wpL_variable post (p, kn, a1, a2, a3, a4, a5, a6) (nI x) := by
  unfold wpL_variable
  dsimp only
  refine ps_ptA hx h (fun k' b4 b5 b6 h1 h2 _ => ps_reach hx h1 (ps_cyclic h1 (fun r hr => ?_)))
  have e : ps_b r x = ps_b (ps_rch b4 x) x := by
    rw [hr x, decide_eq_true hx]
    rfl
  have h' : ps_ok p k' a1 a2 a3 b4 := ⟨h.1, h.2.1, fun _ => h2⟩
  refine ps_c1 (by omega) (fun g => ps_v34 hx h1 h' ?_ (H k' b4 b5 b6 h1 h2)) (fun g => ps_v34 hx h1 h' ?_ (H k' b4 b5 b6 h1 h2))
  · rw [e] at g
    rw [if_pos g]
  · rw [e] at g
    rw [if_neg (by rw [g]; decide)]
theorem ps_215 {Ln : Nat} {xs : Nat → Int32} {J : Int32 → Int32 → Int32 → (Nat → Int32) → (Nat → Int32) → (Nat → Int32) → (Nat → Int32) → (Nat → Int32) → (Nat → Int32) → Prop} {x4 : Int32} {kc ks i : Nat} {p kn : Int32} {a1 a2 a3 a4 a5 a6 : Nat → Int32}
    (h : ps_ok p kn a1 a2 a3 a4) (H : ∀ k' b4 b5 b6, ps_ok p k' a1 a2 a3 b4 → J (nI (i + 1)) p k' a1 a2 a3 b4 b5 b6) :
    wL_law_215 (fun r => r = 1) Ln xs J (nI i) x4 kc ks p kn a1 a2 a3 a4 a5 a6 := by
  unfold wL_law_215
  obtain ⟨q, hq, eq⟩ := pk_andE (x4 >>> ((12 : Int32) &&& 31)) (m := 7) 3 (by decide)
  obtain ⟨q', hq', eq'⟩ := pk_andE (x4 >>> ((15 : Int32) &&& 31)) (m := 7) 3 (by decide)
  rw [eq, eq']
  refine ps_variable hq h (fun k1 b4 b5 b6 h1 h2 => br_f ps_10 (ps_variable hq' ⟨h.1, h.2.1, fun _ => h2⟩ (fun k2 c4 c5 c6 h3 h4 => br_f ps_10 (ps_totS h3 (ps_count h3 (br_t rfl (nm_r (nI_1 i) ?_)))))))
  exact H k2 c4 c5 c6 ⟨h.1, h.2.1, fun _ => h4⟩
theorem ps_134 {Ln : Nat} {xs : Nat → Int32} {J : Int32 → Int32 → Int32 → (Nat → Int32) → (Nat → Int32) → (Nat → Int32) → (Nat → Int32) → (Nat → Int32) → (Nat → Int32) → Prop} {x4 x8 z0 : Int32} {kc ks i d x y : Nat} {p kn : Int32} {a1 a2 a3 a4 a5 a6 : Nat → Int32}
    (hd : d < 4) (hx : x < 8) (hy : y < 8) (h : ps_ok p kn a1 a2 a3 a4) (hp : ∀ j, 12 ≤ j → ps_b p j = false)
    (h8 : x8 < 0 ∨ (¬ x8 < 0 ∧ ¬ z0 = 0 ∧ ∃ k0, k0 < 12 ∧ ps_b p k0 = true ∧ a1 k0 = nI d ∧ a2 k0 = nI x ∧ a3 k0 = nI y))
    (H : ∀ k' b1 b2 b3 b4 b5 b6, ps_ok p k' b1 b2 b3 b4 → J (nI (i + 1)) p k' b1 b2 b3 b4 b5 b6) :
    wL_law_134 (fun r => r = 1) Ln xs J (nI i) x4 (nI x) (nI y) (nI d) x8 z0 kc ks p kn a1 a2 a3 a4 a5 a6 := by
  unfold wL_law_134
  rcases h8 with hn | ⟨hn, hz, k0, h0, hb, e1, e2, e3⟩
  · exact br_t hn (ps_215 h (fun k' b4 b5 b6 g => H k' _ _ _ b4 b5 b6 g))
  · refine br_f hn (br_f hz (ps_gain hd hx hy h (hp 12 (Nat.le_refl 12)) h0 hb e1 e2 e3 (fun b4 b5 b6 => br_t rfl (ps_215 ?_ (fun k' c4 c5 c6 g => H k' _ _ _ c4 c5 c6 g)))))
    exact ⟨ps_v_upd h.1 hx, ps_v_upd h.2.1 hy, fun z => absurd rfl z⟩
theorem ps_mid {Ln : Nat} {xs : Nat → Int32} {J : Int32 → Int32 → Int32 → (Nat → Int32) → (Nat → Int32) → (Nat → Int32) → (Nat → Int32) → (Nat → Int32) → (Nat → Int32) → Prop} {x4 x8 : Int32} {kc ks i d x y : Nat} {p kn : Int32} {a1 a2 a3 a4 a5 a6 : Nat → Int32}
    (hd : d < 4) (hx : x < 8) (hy : y < 8) (hk : ¬ kn = 0) (h : ps_ok p kn a1 a2 a3 a4) (hp : ∀ j, 12 ≤ j → ps_b p j = false)
    (h8 : x8 < 0 ∨ (¬ x8 < 0 ∧ ∃ k0, k0 < 12 ∧ ps_b p k0 = true ∧ a1 k0 = nI d ∧ a2 k0 = nI x ∧ a3 k0 = nI y))
    (H : ∀ k' b1 b2 b3 b4 b5 b6, ps_ok p k' b1 b2 b3 b4 → J (nI (i + 1)) p k' b1 b2 b3 b4 b5 b6) :
    (nI d = 0 → ((a4 x >>> (nI y &&& 31)) &&& 1 = 1 → wL_law_134 (fun r => r = 1) Ln xs J (nI i) x4 (nI x) (nI y) (nI d) x8 1 kc ks p kn a1 a2 a3 a4 a5 a6) ∧ (¬ (a4 x >>> (nI y &&& 31)) &&& 1 = 1 → wL_law_134 (fun r => r = 1) Ln xs J (nI i) x4 (nI x) (nI y) (nI d) x8 0 kc ks p kn a1 a2 a3 a4 a5 a6)) ∧
    (¬ nI d = 0 → (nI d = 1 → ((a4 y &&& (a4 x ^^^ (-1))) = 0 → wL_law_129 (fun r => r = 1) Ln xs J (nI i) x4 (nI x) (nI y) (nI d) x8 kc ks p kn a1 a2 a3 a4 a5 a6) ∧ (¬ (a4 y &&& (a4 x ^^^ (-1))) = 0 → wL_law_134 (fun r => r = 1) Ln xs J (nI i) x4 (nI x) (nI y) (nI d) x8 0 kc ks p kn a1 a2 a3 a4 a5 a6)) ∧
      (¬ nI d = 1 → wL_law_129 (fun r => r = 1) Ln xs J (nI i) x4 (nI x) (nI y) (nI d) x8 kc ks p kn a1 a2 a3 a4 a5 a6)) := by
  rcases h8 with hn | ⟨hn, k0, h0, hb, e1, e2, e3⟩
  · have K : ∀ z0 : Int32, wL_law_134 (fun r => r = 1) Ln xs J (nI i) x4 (nI x) (nI y) (nI d) x8 z0 kc ks p kn a1 a2 a3 a4 a5 a6 := fun z0 => ps_134 hd hx hy h hp (Or.inl hn) H
    exact br_c (fun _ => br_c (fun _ => K 1) (fun _ => K 0)) (fun _ => br_c (fun _ => br_c (fun _ => K 1) (fun _ => K 0)) (fun _ => K 1))
  · have K : wL_law_134 (fun r => r = 1) Ln xs J (nI i) x4 (nI x) (nI y) (nI d) x8 1 kc ks p kn a1 a2 a3 a4 a5 a6 := ps_134 hd hx hy h hp (Or.inr ⟨hn, ps_10, k0, h0, hb, e1, e2, e3⟩) H
    have hg := h.2.2 hk
    have cl := ps_LCl (p := p) (a1 := a1) (a2 := a2) (a3 := a3) k0 (by omega) hb x y hx hy e2 e3
    refine br_c (fun e => ps_c1 (by omega) (fun _ => K) (fun g => ?_)) (fun _ => br_c (fun e => br_t ?_ K) (fun _ => K))
    · exact absurd (((hg x hx).2 y).mpr (cl.1 (e1.trans e))) (by rw [g]; decide)
    · apply ps_ext
      intro j _
      rw [ps_diff, ps_0]
      cases t : ps_b (a4 y) j
      · rfl
      · rw [((hg x hx).2 j).mpr (cl.2.1 (e1.trans e) j (((hg y hy).2 j).mp t))]
        rfl
end
section
/-! the law -/
theorem ps_same {p q : Int32} {a1 a2 a3 b4 c4 d4 e4 : Nat → Int32} (h : ∀ k, ps_b q k = true → ps_b p k = true) (hc : ps_ag p a1 a2 a3 c4) (hb : ps_ag q a1 a2 a3 b4) (e : ps_cnt c4 = ps_cnt b4) (hd : ps_ag p a1 a2 a3 d4) (he : ps_ag q a1 a2 a3 e4) : ps_vw e4 8 = ps_vw d4 8 := by
  refine ps_vw_cg (fun i hi => ?_) 8 (Nat.le_refl 8)
  rw [ps_ag_eq he hb hi, ps_ag_eq hd hc hi]
  apply ps_ext
  intro j _
  rcases Nat.lt_or_ge j 8 with hj | hj
  · exact ps_cnt_eq (f := fun i j => ps_b (b4 i) j) (g := fun i j => ps_b (c4 i) j) (fun i j hi _ hb' => ((hc i hi).2 j).mpr (ps_less h (((hb i hi).2 j).mp hb'))) e.symm hi hj
  · rw [ps_nt (fun z => absurd ((hb i hi).1 j z) (by omega)), ps_nt (fun z => absurd ((hc i hi).1 j z) (by omega))]
theorem ps_loop (xs : Nat → Int32) (L : Nat) (hL : L ≤ 260) (kc ks : Nat) {p kn : Int32} {a1 a2 a3 a4 a5 a6 : Nat → Int32} (h : ps_ok p kn a1 a2 a3 a4) (hp : ∀ j, 12 ≤ j → ps_b p j = false) :
    ∃ n, wL_law_10 (fun r => r = 1) L xs kc ks n 0 p kn a1 a2 a3 a4 a5 a6 := by
  refine pk_loop (σ := St1) (fun n i s => wL_law_10 (fun r => r = 1) L xs kc ks n (nI i) s.1 s.2.1 s.2.2.1 s.2.2.2.1 s.2.2.2.2.1 s.2.2.2.2.2.1 s.2.2.2.2.2.2.1 s.2.2.2.2.2.2.2)
    (fun _ s => ps_ok s.1 s.2.1 s.2.2.1 s.2.2.2.1 s.2.2.2.2.1 s.2.2.2.2.2.1 ∧ ∀ j, 12 ≤ j → ps_b s.1 j = false) L 0 (p, kn, a1, a2, a3, a4, a5, a6) (by omega) ⟨h, hp⟩
    (fun n s _ => pk_le L L (fun _ => rfl) (fun z => absurd z (by omega))) ?_
  rintro n i ⟨p, kn, a1, a2, a3, a4, a5, a6⟩ hi ⟨h, hp⟩ hw
  dsimp only at h hp
  have hv : vp_in (nI i) L := vp_in_nI hi (by omega)
  show wL_law_10 (fun r => r = 1) L xs kc ks (n + 1) (nI i) p kn a1 a2 a3 a4 a5 a6
  refine pk_le L i (fun z => absurd z (by omega)) (fun _ => ⟨hv, fun x3 _ => ⟨hv, fun x4 _ => fun x5 e5 => fun x6 e6 => fun x7 e7 => ?_⟩⟩)
  refine br_c (fun _ => ⟨by decide, fun x8 e8 => ?_⟩) (fun _ => ?_)
  · obtain ⟨q, hq, eq⟩ := pk_andE (x4 >>> ((8 : Int32) &&& 31)) (m := 15) 4 (by decide)
    rw [eq] at e8
    have e8' : x8 = nI (q % 12) := e8.trans (pk_rem (a := q) (d := 12) (by omega) (by omega) (by omega))
    have hr : q % 12 < 12 := by omega
    subst e8'
    revert hr
    generalize q % 12 = r
    intro hr
    have hsub : ∀ k, ps_b (ps_wo p r) k = true → ps_b p k = true := fun k hk => by
      rw [ps_wo_b p (by omega)] at hk
      exact (Bool.and_eq_true_iff.mp hk).1
    have hp' : ∀ j, 12 ≤ j → ps_b (ps_wo p r) j = false := fun j hj => ps_nt (fun z => absurd (hsub j z) (by rw [hp j hj]; decide))
    refine ps_redundant hr h (fun g => ps_view h (fun k1 c4 c5 c6 q1 q2 => ps_remove hr (fun _ => br_t rfl (ps_215 ⟨h.1, h.2.1, fun _ => q2⟩ ?_)) (fun g' => absurd g' (by rw [g]; decide)))) (fun g rr b4 b5 b6 c4 q1 q2 q3 => ps_view (ps_ok0 h) (fun k1 d4 d5 d6 s1 s2 => ps_remove hr (fun g' => absurd g (by rw [g']; decide)) (fun _ => ?_)))
    · intro k' e4 e5 e6 g'
      exact hw (p, k', a1, a2, a3, e4, e5, e6) ⟨g', hp⟩
    · refine br_c (fun _ => ps_215 (ps_ok0 h) ?_) (fun ne => ps_view (ps_ok0 h) (fun k2 e4 e5 e6 s3 s4 => br_t ?_ (ps_215 ⟨h.1, h.2.1, fun _ => s4⟩ ?_)))
      · intro k' f4 f5 f6 g'
        exact hw (ps_wo p r, k', a1, a2, a3, f4, f5, f6) ⟨g', hp'⟩
      · rcases q3 with z | ⟨_, z⟩
        · exact absurd z ne
        · exact ps_same hsub q1 q2 z s2 s4
      · intro k' f4 f5 f6 g'
        exact hw (ps_wo p r, k', a1, a2, a3, f4, f5, f6) ⟨g', hp'⟩
  · obtain ⟨x, hx, ex⟩ := pk_andE x4 (m := 7) 3 (by decide)
    obtain ⟨y, hy, ey⟩ := pk_andE (x4 >>> ((3 : Int32) &&& 31)) (m := 7) 3 (by decide)
    obtain ⟨d, hd, ed⟩ := pk_andE (x4 >>> ((6 : Int32) &&& 31)) (m := 3) 2 (by decide)
    rw [ex] at e5
    rw [ey] at e6
    rw [ed] at e7
    subst e5
    subst e6
    subst e7
    have hx : x < 8 := hx
    have hy : y < 8 := hy
    have hd : d < 4 := hd
    refine ps_add hd hx hy (ps_ptA hy h (fun k' b4 b5 b6 q1 q2 _ => ps_ptS hx q1 (ps_mid hd hx hy q1 ⟨h.1, h.2.1, fun _ => q2⟩ hp (Or.inl (by decide)) ?_))) (fun k hk hb => ps_ptA hy ⟨ps_v_upd h.1 hx, ps_v_upd h.2.1 hy, fun z => absurd rfl z⟩ (fun k' b4 b5 b6 q1 q2 _ => ps_ptS hx q1 (ps_mid hd hx hy q1 ⟨ps_v_upd h.1 hx, ps_v_upd h.2.1 hy, fun _ => q2⟩ ?_ (Or.inr ⟨nI_pos (by omega), k, hk, ?_, pk_us, pk_us, pk_us⟩) ?_)))
    · intro k2 c1 c2 c3 c4 c5 c6 g
      exact hw (p, k2, c1, c2, c3, c4, c5, c6) ⟨g, hp⟩
    · intro j hj
      rw [ps_or, hp j hj, ps_one (by omega), decide_eq_false (by omega)]
      rfl
    · rw [ps_or, ps_one (by omega), decide_eq_true rfl]
      exact Bool.or_true _
    · intro k2 c1 c2 c3 c4 c5 c6 g
      refine hw (_, k2, c1, c2, c3, c4, c5, c6) ⟨g, ?_⟩
      intro j hj
      dsimp only
      rw [ps_or, hp j hj, ps_one (by omega), decide_eq_false (by omega)]
      rfl
theorem i_vc (xs : Nat → Int32) (L : Nat) (hL : L ≤ 260) : wpL_law (fun r => r = 1) L xs := by
  refine ⟨6, 63, by omega, by omega, ?_⟩
  unfold wpX_init
  dsimp only
  refine ⟨by omega, by omega, by omega, by omega, by omega, by omega, by omega, by omega, by omega, by omega, by omega, by omega, ?_⟩
  exact ps_loop xs L hL _ _ ⟨fun _ _ => ⟨0, by omega, rfl⟩, fun _ _ => ⟨0, by omega, rfl⟩, fun z => absurd rfl z⟩ (fun j _ => ps_0 j)
end
