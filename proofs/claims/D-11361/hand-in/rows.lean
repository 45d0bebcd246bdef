section
/-! numbers as ints: and, xor, or, one bit, shifts; no bounds on the numbers -/
theorem sm_and (a b : Nat) : nI a &&& nI b = nI (a &&& b) := by
  apply Int32.toBitVec_inj.1
  show BitVec.ofNat 32 a &&& BitVec.ofNat 32 b = BitVec.ofNat 32 (a &&& b)
  apply BitVec.eq_of_getLsbD_eq
  intro i hi
  simp [hi]
theorem sm_xor (a b : Nat) : nI a ^^^ nI b = nI (a ^^^ b) := by
  apply Int32.toBitVec_inj.1
  show BitVec.ofNat 32 a ^^^ BitVec.ofNat 32 b = BitVec.ofNat 32 (a ^^^ b)
  apply BitVec.eq_of_getLsbD_eq
  intro i hi
  simp [hi]
theorem sm_or (a b : Nat) : nI a ||| nI b = nI (a ||| b) := by
  apply Int32.toBitVec_inj.1
  show BitVec.ofNat 32 a ||| BitVec.ofNat 32 b = BitVec.ofNat 32 (a ||| b)
  apply BitVec.eq_of_getLsbD_eq
  intro i hi
  simp [hi]
theorem sm_and0 (a : Nat) {b : Nat} (hb : b < 2 ^ 31) : nI a &&& nI b = 0 ↔ a &&& b = 0 := by
  have h : a &&& b ≤ b := Nat.and_le_right
  rw [sm_and, ← nI_0, nI_eq (by omega) (by omega)]
theorem sm_sl : ∀ n, n < 32 → ((nI n &&& 31).toBitVec.smod 32).toNat = n := by decide +kernel
theorem sm_shl (b : Nat) {p : Nat} (hp : p < 32) : nI b <<< (nI p &&& 31) = nI (b * 2 ^ p) := by
  apply Int32.toBitVec_inj.1
  apply BitVec.eq_of_toNat_eq
  rw [pk_shl (nI b) (nI p &&& 31) p (sm_sl p hp)]
  show (BitVec.ofNat 32 b).toNat * 2 ^ p % 2 ^ 32 = (BitVec.ofNat 32 (b * 2 ^ p)).toNat
  rw [BitVec.toNat_ofNat, BitVec.toNat_ofNat, Nat.mul_mod, Nat.mod_mod, ← Nat.mul_mod]
theorem sm_bit (c : Nat) {p : Nat} (hp : p < 32) : (nI c >>> (nI p &&& 31)) &&& 1 = nI (c / 2 ^ p % 2) := by
  apply Int32.toBitVec_inj.1
  rw [Int32.toBitVec_and, Int32.toBitVec_shiftRight]
  show (BitVec.ofNat 32 c).sshiftRight ((nI p &&& 31).toBitVec.smod 32).toNat &&& 1#32 = BitVec.ofNat 32 (c / 2 ^ p % 2)
  rw [sm_sl p hp]
  apply BitVec.eq_of_getLsbD_eq
  intro i hi
  rw [BitVec.getLsbD_and, BitVec.getLsbD_sshiftRight, BitVec.getLsbD_ofNat, BitVec.getLsbD_ofNat, BitVec.getLsbD_ofNat]
  cases i with
  | zero =>
    have e : (c / 2 ^ p % 2).testBit 0 = c.testBit p := by
      rw [Nat.testBit_eq_decide_div_mod_eq, Nat.testBit_eq_decide_div_mod_eq]
      simp
    rw [e]
    simp [hp]
  | succ i =>
    have e : (c / 2 ^ p % 2).testBit (i + 1) = false := by
      apply Nat.testBit_lt_two_pow
      have h2 : (2 : Nat) ^ 1 ≤ 2 ^ (i + 1) := Nat.pow_le_pow_right (by omega) (by omega)
      have h3 : c / 2 ^ p % 2 < 2 := Nat.mod_lt _ (by omega)
      omega
    have e1 : Nat.testBit 1 (i + 1) = false := by
      apply Nat.testBit_lt_two_pow
      have h2 : (2 : Nat) ^ 1 ≤ 2 ^ (i + 1) := Nat.pow_le_pow_right (by omega) (by omega)
      omega
    rw [e, e1]
    simp
theorem sm_one (q : Nat) : (1 : Int32) <<< (nI q &&& 31) = nI (2 ^ (q % 32)) := by
  have e : nI q &&& 31 = nI (q % 32) &&& 31 := by
    have h1 : ∀ z : Nat, nI z &&& 31 = nI (z % 2 ^ 5) := by
      intro z
      show nI z &&& nI 31 = _
      rw [sm_and, show (31 : Nat) = 2 ^ 5 - 1 from rfl, Nat.and_two_pow_sub_one_eq_mod]
    rw [h1, h1, show (2 : Nat) ^ 5 = 32 from rfl, Nat.mod_mod]
  rw [e]
  have h := sm_shl 1 (p := q % 32) (Nat.mod_lt _ (by omega))
  rw [Nat.one_mul] at h
  exact h
theorem sm_pow2 {p : Nat} (h0 : 1 ≤ p) (h : p < 2 ^ 31) : nI p &&& (nI p - 1) = 0 ↔ p &&& (p - 1) = 0 := by
  have e : nI p - 1 = nI (p - 1) := pk_sub (b := 1) h0
  rw [e, sm_and0 p (by omega)]
/-! votes -/
def sm_vt (a b c : Int32) : Int32 := ((a &&& b) ||| (a &&& c)) ||| (b &&& c)
theorem sm_vA (v m : Int32) : sm_vt (v ^^^ m) v v = v := by
  unfold sm_vt
  apply Int32.toBitVec_inj.1
  simp only [Int32.toBitVec_and, Int32.toBitVec_or, Int32.toBitVec_xor]
  apply BitVec.eq_of_getLsbD_eq
  intro i hi
  simp only [BitVec.getLsbD_and, BitVec.getLsbD_or, BitVec.getLsbD_xor]
  cases v.toBitVec.getLsbD i <;> cases m.toBitVec.getLsbD i <;> rfl
theorem sm_vB (v m : Int32) : sm_vt v (v ^^^ m) v = v := by
  unfold sm_vt
  apply Int32.toBitVec_inj.1
  simp only [Int32.toBitVec_and, Int32.toBitVec_or, Int32.toBitVec_xor]
  apply BitVec.eq_of_getLsbD_eq
  intro i hi
  simp only [BitVec.getLsbD_and, BitVec.getLsbD_or, BitVec.getLsbD_xor]
  cases v.toBitVec.getLsbD i <;> cases m.toBitVec.getLsbD i <;> rfl
theorem sm_vC (v m : Int32) : sm_vt v v (v ^^^ m) = v := by
  unfold sm_vt
  apply Int32.toBitVec_inj.1
  simp only [Int32.toBitVec_and, Int32.toBitVec_or, Int32.toBitVec_xor]
  apply BitVec.eq_of_getLsbD_eq
  intro i hi
  simp only [BitVec.getLsbD_and, BitVec.getLsbD_or, BitVec.getLsbD_xor]
  cases v.toBitVec.getLsbD i <;> cases m.toBitVec.getLsbD i <;> rfl
theorem sm_x0 (v : Int32) : v ^^^ 0 = v := by simp
theorem sm_vv (v : Int32) : sm_vt v v v = v := by
  have h := sm_vA v 0
  rw [sm_x0] at h
  exact h
theorem sm_vote {post : Int32 → Prop} {a b c : Int32} (h : post (sm_vt a b c)) : wpX_vote post () a b c := h
theorem sm_voteN {post : Int32 → Prop} {x y c : Nat} (h : post (nI (((x &&& y) ||| (x &&& c)) ||| (y &&& c)))) : wpX_vote post () (nI x) (nI y) (nI c) := by
  unfold wpX_vote
  rw [sm_and, sm_and, sm_and, sm_or, sm_or]
  exact h
/-- the three workings: at most one comes out wrong -/
def sm_Mk (a : Nat → Int32) : Prop := ∀ v : Int32, sm_vt (v ^^^ a 0) (v ^^^ a 1) (v ^^^ a 2) = v
theorem sm_Mk0 {a : Nat → Int32} (h : ∀ j, j < 3 → a j = 0) : sm_Mk a := by
  intro v
  rw [h 0 (by omega), h 1 (by omega), h 2 (by omega), sm_x0]
  exact sm_vv v
theorem sm_Mk1 {a : Nat → Int32} (h : ∀ j, j < 3 → a j = 0) (m : Int32) {k : Nat} (hk : k < 3) : sm_Mk (upd a k m) := by
  intro v
  rcases (show k = 0 ∨ k = 1 ∨ k = 2 by omega) with e | e | e
  · subst e
    rw [pk_us, pk_un (by omega), pk_un (by omega), h 1 (by omega), h 2 (by omega), sm_x0]
    exact sm_vA v m
  · subst e
    rw [pk_us, pk_un (by omega), pk_un (by omega), h 0 (by omega), h 2 (by omega), sm_x0]
    exact sm_vB v m
  · subst e
    rw [pk_us, pk_un (by omega), pk_un (by omega), h 0 (by omega), h 1 (by omega), sm_x0]
    exact sm_vC v m
theorem sm_fill {f s : Nat → Int32} {i k : Nat} {x : Int32} (hk : k = i) (h : ∀ j, j < i → s j = f j) (hx : x = f i) : ∀ j, j < i + 1 → upd s k x j = f j := by
  intro j hj
  rw [hk]
  by_cases e : j = i
  · rw [e, pk_us, hx]
  · rw [pk_un e]
    exact h j (by omega)
end
section
/-! the code words as numbers -/
def sm_ck (c : Nat) : Nat → Nat → Nat → Nat
  | 0, _, s => s
  | k + 1, p, s => sm_ck c k (p + 1) (s ^^^ (if c / 2 ^ p % 2 = 0 then 0 else p))
def sm_on (c : Nat) : Nat → Nat → Nat → Nat
  | 0, _, s => s
  | k + 1, p, s => sm_on c k (p + 1) (s + c / 2 ^ p % 2)
def sm_sp (v : Nat) : Nat → Nat → Nat → Nat → Nat
  | 0, _, _, c => c
  | k + 1, p, x, c => if p &&& (p - 1) = 0 then sm_sp v k (p + 1) x c else sm_sp v k (p + 1) (x + 1) (c ||| v / 2 ^ x % 2 * 2 ^ p)
def sm_pw (n h : Nat) : Nat → Nat → Nat → Nat
  | 0, _, c => c
  | k + 1, p, c => if n ≤ p then c else sm_pw n h k (p * 2) (c ||| (if h &&& p = 0 then 0 else 2 ^ p))
def sm_dc (c : Nat) : Nat → Nat → Nat → Nat → Nat
  | 0, _, _, v => v
  | k + 1, p, x, v => if p &&& (p - 1) = 0 then sm_dc c k (p + 1) x v else sm_dc c k (p + 1) (x + 1) (v ||| c / 2 ^ p % 2 * 2 ^ x)
def sm_fin (c n : Nat) : Nat := c ||| (sm_on c n 0 0 &&& 1)
def sm_ench (c n : Nat) : Nat := sm_fin (sm_pw n (sm_ck c (n - 1) 1 0) 5 1 c) n
def sm_enc (v n : Nat) : Nat := sm_ench (sm_sp v (n - 3) 3 0 0) n
def sm_cor (c n : Nat) : Nat := if sm_on c n 0 0 &&& 1 = 0 then c else c ^^^ 2 ^ (sm_ck c (n - 1) 1 0 % 32)
def sm_dec (c n : Nat) : Nat := sm_dc c (n - 3) 3 0 0
def sm_pl (w : Nat) : Nat := if w < 32 then 22 else 13
/-- the number of a step: its operation, register and number -/
def sm_val (o r n : Nat) : Nat := (o ||| r * 2 ^ 4) ||| n * 2 ^ 6
/-- what a step reads out of a code word, which it has repaired -/
def sm_rd (c : Nat) : Nat := sm_dec (sm_cor (sm_cor c 22) 22) 22
/-- a read step is operation o, register r, number n -/
def sm_is (w o r n : Nat) : Prop := w < 2 ^ 31 ∧ w % 16 = o ∧ w / 16 % 4 = r ∧ w / 64 % 256 = n
theorem sm_law0 : ∀ x, x < 256 → sm_rd (sm_enc (sm_val 1 0 x) 22) = sm_val 1 0 x := by decide +kernel
theorem sm_law1 : ∀ x, x < 256 → sm_rd (sm_enc (sm_val 1 1 x) 22) = sm_val 1 1 x := by decide +kernel
theorem sm_law2 : ∀ o, o < 5 → ∀ b, b < 22 → sm_rd (sm_enc (sm_val (4 + o) 0 1) 22 ^^^ 2 ^ b) = sm_val (4 + o) 0 1 := by decide +kernel
theorem sm_v0 : ∀ x, x < 256 → sm_val 1 0 x < 2 ^ 31 ∧ sm_val 1 0 x % 16 = 1 ∧ sm_val 1 0 x / 16 % 4 = 0 ∧ sm_val 1 0 x / 64 % 256 = x := by decide +kernel
theorem sm_v1 : ∀ x, x < 256 → sm_val 1 1 x < 2 ^ 31 ∧ sm_val 1 1 x % 16 = 1 ∧ sm_val 1 1 x / 16 % 4 = 1 ∧ sm_val 1 1 x / 64 % 256 = x := by decide +kernel
theorem sm_v2 : ∀ o, o < 5 → sm_val (4 + o) 0 1 < 2 ^ 31 ∧ sm_val (4 + o) 0 1 % 16 = 4 + o ∧ sm_val (4 + o) 0 1 / 16 % 4 = 0 ∧ sm_val (4 + o) 0 1 / 64 % 256 = 1 := by decide +kernel
/-! the sum from the lowest bit on -/
def sm_ad (a b : Nat) : Nat → Nat → Nat → Nat → Nat
  | 0, _, s, _ => s
  | k + 1, i, s, c => sm_ad a b k (i + 1) (s ||| ((a / 2 ^ i % 2 ^^^ b / 2 ^ i % 2) ^^^ c) * 2 ^ i) (((a / 2 ^ i % 2 &&& b / 2 ^ i % 2) ||| (a / 2 ^ i % 2 &&& c)) ||| (b / 2 ^ i % 2 &&& c))
theorem sm_b3 : ∀ x, x < 2 → ∀ y, y < 2 → ∀ c, c < 2 → ((x ^^^ y) ^^^ c) = (x + y + c) % 2 ∧ (((x &&& y) ||| (x &&& c)) ||| (y &&& c)) = (x + y + c) / 2 := by decide
theorem sm_put {s i : Nat} (h : s < 2 ^ i) (b : Nat) : s ||| b * 2 ^ i = s + b * 2 ^ i := by
  have e := Nat.two_pow_add_eq_or_of_lt h b
  rw [Nat.mul_comm (2 ^ i) b] at e
  rw [Nat.or_comm, ← e, Nat.add_comm]
theorem sm_dm (t P : Nat) : t % 2 * P + t / 2 * (P * 2) = t * P := by
  have h : t % 2 + t / 2 * 2 = t := by omega
  rw [Nat.mul_comm P 2, ← Nat.mul_assoc, ← Nat.add_mul, h]
theorem sm_st {s c c0 A B P x y U V : Nat} (h : s + c * P = A + B + c0) (h3 : U + V = (x + y + c) * P) : s + U + V = (A + P * x) + (B + P * y) + c0 := by
  rw [Nat.add_mul, Nat.add_mul, Nat.mul_comm x, Nat.mul_comm y] at h3
  omega
theorem sm_lt {s P t : Nat} (h : s < P) : s + t % 2 * P < P * 2 := by
  rcases (show t % 2 = 0 ∨ t % 2 = 1 by omega) with z | z
  · rw [z]
    omega
  · rw [z]
    omega
theorem sm_adS {a b c0 : Nat} : ∀ k i s c, s < 2 ^ i → c < 2 → s + c * 2 ^ i = a % 2 ^ i + b % 2 ^ i + c0 → ∃ z, z < 2 ∧ sm_ad a b k i s c < 2 ^ (i + k) ∧ sm_ad a b k i s c + z * 2 ^ (i + k) = a % 2 ^ (i + k) + b % 2 ^ (i + k) + c0 := by
  intro k
  induction k with
  | zero =>
    intro i s c hs hc h
    exact ⟨c, hc, hs, h⟩
  | succ k ih =>
    intro i s c hs hc h
    have hx : a / 2 ^ i % 2 < 2 := Nat.mod_lt _ (by omega)
    have hy : b / 2 ^ i % 2 < 2 := Nat.mod_lt _ (by omega)
    obtain ⟨e1, e2⟩ := sm_b3 _ hx _ hy c hc
    have ea : a % 2 ^ (i + 1) = a % 2 ^ i + 2 ^ i * (a / 2 ^ i % 2) := Nat.mod_pow_succ
    have eb : b % 2 ^ (i + 1) = b % 2 ^ i + 2 ^ i * (b / 2 ^ i % 2) := Nat.mod_pow_succ
    show ∃ z, z < 2 ∧ sm_ad a b k (i + 1) (s ||| ((a / 2 ^ i % 2 ^^^ b / 2 ^ i % 2) ^^^ c) * 2 ^ i) (((a / 2 ^ i % 2 &&& b / 2 ^ i % 2) ||| (a / 2 ^ i % 2 &&& c)) ||| (b / 2 ^ i % 2 &&& c)) < 2 ^ (i + (k + 1)) ∧ _
    rw [show i + (k + 1) = i + 1 + k by omega, e1, e2, sm_put hs]
    show ∃ z, z < 2 ∧ _ ∧ sm_ad a b k (i + 1) (s ||| ((a / 2 ^ i % 2 ^^^ b / 2 ^ i % 2) ^^^ c) * 2 ^ i) (((a / 2 ^ i % 2 &&& b / 2 ^ i % 2) ||| (a / 2 ^ i % 2 &&& c)) ||| (b / 2 ^ i % 2 &&& c)) + _ = _
    rw [e1, e2, sm_put hs]
    refine ih (i + 1) _ _ ?_ ?_ ?_
    · rw [Nat.pow_succ]
      exact sm_lt hs
    · omega
    · rw [ea, eb, Nat.pow_succ]
      exact sm_st h (sm_dm _ _)
theorem sm_add {a b c : Nat} (hc : c < 2) : sm_ad a b 8 0 0 c = (a % 256 + b % 256 + c) % 256 := by
  obtain ⟨z, _, h1, h2⟩ := sm_adS (a := a) (b := b) (c0 := c) 8 0 0 c (by omega) hc (by simp [Nat.mod_one])
  rw [show (0 : Nat) + 8 = 8 from rfl, show (2 : Nat) ^ 8 = 256 from rfl] at h1 h2
  omega
end
section
/-! the walks of the code words -/
theorem sm_ckL {post : Int32 → Prop} {c n : Nat} (hn : n ≤ 32) : ∀ k p s, p + k = n → post (nI (sm_ck c k p s)) → wX_checksOf_4 post (nI c) (nI n) (k + 1) (nI s) (nI p) := by
  intro k
  induction k with
  | zero =>
    intro p s hk hp
    exact pk_le n p (fun _ => hp) (fun z => absurd z (by omega))
  | succ k ih =>
    intro p s hk hp
    refine pk_le n p (fun z => absurd z (by omega)) (fun _ => ?_)
    rw [sm_bit c (show p < 32 by omega)]
    have hp' : post (nI (sm_ck c k (p + 1) (s ^^^ (if c / 2 ^ p % 2 = 0 then 0 else p)))) := hp
    by_cases hb : c / 2 ^ p % 2 = 0
    · rw [if_pos hb] at hp'
      exact br_t (by rw [hb]; rfl) (nm_r (sm_xor s 0) (nm_r (nI_1 p) (ih (p + 1) _ (by omega) hp')))
    · rw [if_neg hb] at hp'
      exact br_f (nI_ne0 (by omega) (by omega)) (nm_r (sm_xor s p) (nm_r (nI_1 p) (ih (p + 1) _ (by omega) hp')))
theorem sm_checks {post : Int32 → Prop} {c : Nat} (n : Nat) (h1 : 3 ≤ n) (hn : n ≤ 32) (h : post (nI (sm_ck c (n - 1) 1 0))) : wpX_checksOf post () (nI c) (nI n) :=
  ⟨n - 1 + 1, sm_ckL hn (n - 1) 1 0 (by omega) h⟩
theorem sm_onL {post : Int32 → Prop} {c n : Nat} (hn : n ≤ 32) : ∀ k p s, p + k = n → post (nI (sm_on c k p s)) → wX_onesOf_4 post (nI c) (nI n) (k + 1) (nI s) (nI p) := by
  intro k
  induction k with
  | zero =>
    intro p s hk hp
    exact pk_le n p (fun _ => hp) (fun z => absurd z (by omega))
  | succ k ih =>
    intro p s hk hp
    refine pk_le n p (fun z => absurd z (by omega)) (fun _ => ?_)
    rw [sm_bit c (show p < 32 by omega)]
    exact nm_r (nI_add s _) (nm_r (nI_1 p) (ih (p + 1) _ (by omega) hp))
theorem sm_ones {post : Int32 → Prop} {c : Nat} (n : Nat) (hn : n ≤ 32) (h : post (nI (sm_on c n 0 0))) : wpX_onesOf post () (nI c) (nI n) :=
  ⟨n + 1, sm_onL hn n 0 0 (by omega) h⟩
theorem sm_isP {post : Int32 → Prop} {p : Nat} (h0 : 1 ≤ p) (h : p < 2 ^ 31) (ht : p &&& (p - 1) = 0 → post 1) (hf : ¬ (p &&& (p - 1) = 0) → post 0) : wpX_isPower post () (nI p) :=
  ⟨fun z => ht ((sm_pow2 h0 h).mp z), fun z => hf (fun g => z ((sm_pow2 h0 h).mpr g))⟩
theorem sm_pwL {post : Int32 → Prop} {n h : Nat} (hn : n ≤ 32) : ∀ k p c, n ≤ p * 2 ^ k → p < 2 ^ 20 → post (nI (sm_fin (sm_pw n h k p c) n)) → wX_encode_51 post (nI n) (nI h) (k + 1) (nI c) (nI p) := by
  have hend : ∀ c, post (nI (sm_fin c n)) → wpX_onesOf (fun r_4 => (post (nI c ||| (r_4 &&& 1)))) () (nI c) (nI n) := by
    intro c hp
    refine sm_ones n hn ?_
    have e : nI c ||| (nI (sm_on c n 0 0) &&& 1) = nI (sm_fin c n) := by
      show nI c ||| (nI (sm_on c n 0 0) &&& nI 1) = _
      rw [sm_and, sm_or]
      rfl
    rw [e]
    exact hp
  intro k
  induction k with
  | zero =>
    intro p c hk hb hp
    exact pk_le n p (fun _ => hend c hp) (fun z => absurd z (by omega))
  | succ k ih =>
    intro p c hk hb hp
    have hp' : post (nI (sm_fin (if n ≤ p then c else sm_pw n h k (p * 2) (c ||| (if h &&& p = 0 then 0 else 2 ^ p))) n)) := hp
    refine pk_le n p (fun z => ?_) (fun z => ?_)
    · rw [if_pos z] at hp'
      exact hend c hp'
    · rw [if_neg (show ¬ n ≤ p by omega)] at hp'
      have e2 : nI p * 2 = nI (p * 2) := pk_mul p 2
      have hk' : n ≤ p * 2 * 2 ^ k := by
        rw [Nat.pow_succ, Nat.mul_comm (2 ^ k) 2, ← Nat.mul_assoc] at hk
        exact hk
      by_cases g : h &&& p = 0
      · rw [if_pos g] at hp'
        exact br_t ((sm_and0 h (by omega)).mpr g) (nm_r (sm_or c 0) (nm_r e2 (ih (p * 2) _ hk' (by omega) hp')))
      · rw [if_neg g] at hp'
        have e3 : nI c ||| ((1 : Int32) <<< (nI p &&& 31)) = nI (c ||| 2 ^ p) := by
          rw [sm_one, Nat.mod_eq_of_lt (show p < 32 by omega), sm_or]
        exact br_f (fun z2 => g ((sm_and0 h (by omega)).mp z2)) (nm_r e3 (nm_r e2 (ih (p * 2) _ hk' (by omega) hp')))
theorem sm_spL {post : Int32 → Prop} {v n : Nat} (h3 : 3 ≤ n) (hn : n ≤ 32) : ∀ k p x c, 1 ≤ p → p + k = n → x ≤ p → post (nI (sm_ench (sm_sp v k p x c) n)) → wX_encode_7 post (nI v) (nI n) (k + 1) (nI c) (nI x) (nI p) := by
  intro k
  induction k with
  | zero =>
    intro p x c h1 hk hx hp
    exact pk_le n p (fun _ => sm_checks n h3 hn ⟨5 + 1, sm_pwL hn 5 1 c (by omega) (by omega) hp⟩) (fun z => absurd z (by omega))
  | succ k ih =>
    intro p x c h1 hk hx hp
    have hp' : post (nI (sm_ench (if p &&& (p - 1) = 0 then sm_sp v k (p + 1) x c else sm_sp v k (p + 1) (x + 1) (c ||| v / 2 ^ x % 2 * 2 ^ p)) n)) := hp
    refine pk_le n p (fun z => absurd z (by omega)) (fun _ => sm_isP h1 (by omega) (fun g => ?_) (fun g => ?_))
    · rw [if_pos g] at hp'
      exact br_f (by decide) (nm_r (nI_1 p) (ih (p + 1) x c (by omega) (by omega) (by omega) hp'))
    · rw [if_neg g] at hp'
      have e : nI c ||| (((nI v >>> (nI x &&& 31)) &&& 1) <<< (nI p &&& 31)) = nI (c ||| v / 2 ^ x % 2 * 2 ^ p) := by
        rw [sm_bit v (show x < 32 by omega), sm_shl _ (show p < 32 by omega), sm_or]
      exact br_t rfl (nm_r e (nm_r (nI_1 x) (nm_r (nI_1 p) (ih (p + 1) (x + 1) _ (by omega) (by omega) (by omega) hp'))))
theorem sm_encode {post : Int32 → Prop} {v : Nat} (n : Nat) (h3 : 3 ≤ n) (hn : n ≤ 32) (h : post (nI (sm_enc v n))) : wpX_encode post () (nI v) (nI n) :=
  ⟨n - 3 + 1, sm_spL h3 hn (n - 3) 3 0 0 (by omega) (by omega) (by omega) h⟩
theorem sm_correct {post : Int32 → Prop} {c : Nat} (n : Nat) (h3 : 3 ≤ n) (hn : n ≤ 32) (h : post (nI (sm_cor c n))) : wpX_correct post () (nI c) (nI n) := by
  unfold wpX_correct
  refine sm_ones n hn (sm_checks n h3 hn ?_)
  unfold sm_cor at h
  by_cases g : sm_on c n 0 0 &&& 1 = 0
  · rw [if_pos g] at h
    exact br_t ((sm_and0 (b := 1) _ (by omega)).mpr g) h
  · rw [if_neg g] at h
    refine br_f (fun z => g ((sm_and0 (b := 1) _ (by omega)).mp z)) ?_
    rw [sm_one, sm_xor]
    exact h
theorem sm_dcL {post : Int32 → Prop} {c n : Nat} (hn : n ≤ 32) : ∀ k p x v, 1 ≤ p → p + k = n → x ≤ p → post (nI (sm_dc c k p x v)) → wX_decode_7 post (nI c) (nI n) (k + 1) (nI v) (nI x) (nI p) := by
  intro k
  induction k with
  | zero =>
    intro p x v h1 hk hx hp
    exact pk_le n p (fun _ => hp) (fun z => absurd z (by omega))
  | succ k ih =>
    intro p x v h1 hk hx hp
    have hp' : post (nI (if p &&& (p - 1) = 0 then sm_dc c k (p + 1) x v else sm_dc c k (p + 1) (x + 1) (v ||| c / 2 ^ p % 2 * 2 ^ x))) := hp
    refine pk_le n p (fun z => absurd z (by omega)) (fun _ => sm_isP h1 (by omega) (fun g => ?_) (fun g => ?_))
    · rw [if_pos g] at hp'
      exact br_f (by decide) (nm_r (nI_1 p) (ih (p + 1) x v (by omega) (by omega) (by omega) hp'))
    · rw [if_neg g] at hp'
      have e : nI v ||| (((nI c >>> (nI p &&& 31)) &&& 1) <<< (nI x &&& 31)) = nI (v ||| c / 2 ^ p % 2 * 2 ^ x) := by
        rw [sm_bit c (show p < 32 by omega), sm_shl _ (show x < 32 by omega), sm_or]
      exact br_t rfl (nm_r e (nm_r (nI_1 x) (nm_r (nI_1 p) (ih (p + 1) (x + 1) _ (by omega) (by omega) (by omega) hp'))))
theorem sm_decode {post : Int32 → Prop} {c : Nat} (n : Nat) (h3 : 3 ≤ n) (hn : n ≤ 32) (h : post (nI (sm_dec c n))) : wpX_decode post () (nI c) (nI n) :=
  ⟨n - 3 + 1, sm_dcL hn (n - 3) 3 0 0 (by omega) (by omega) (by omega) h⟩
theorem sm_plB (w : Nat) : 3 ≤ sm_pl w ∧ sm_pl w ≤ 32 := by
  unfold sm_pl
  split <;> omega
theorem sm_places {post : Int32 → Prop} {w : Nat} (hw : w < 48) (h : post (nI (sm_pl w))) : wpX_placesOf post () (nI w) := by
  unfold sm_pl at h
  refine pk_le 32 w (fun z => ?_) (fun z => ?_)
  · rw [if_neg (by omega)] at h
    exact h
  · rw [if_pos (by omega)] at h
    exact h
theorem sm_adL {post : Int32 → Prop} {a b : Nat} : ∀ k i s c, i + k = 8 → post (nI (sm_ad a b k i s c)) → wX_addBits_8 post (nI a) (nI b) (k + 1) (nI s) (nI c) (nI i) := by
  intro k
  induction k with
  | zero =>
    intro i s c hk hp
    exact pk_le 8 i (fun _ => hp) (fun z => absurd z (by omega))
  | succ k ih =>
    intro i s c hk hp
    have e : ∀ x y : Nat, nI s ||| (((nI x ^^^ nI y) ^^^ nI c) <<< (nI i &&& 31)) = nI (s ||| ((x ^^^ y) ^^^ c) * 2 ^ i) := by
      intro x y
      rw [sm_xor, sm_xor, sm_shl _ (show i < 32 by omega), sm_or]
    exact pk_le 8 i (fun z => absurd z (by omega)) (fun _ => nm_r (sm_bit a (show i < 32 by omega)) (nm_r (sm_bit b (show i < 32 by omega)) (nm_r (e _ _) (sm_voteN (nm_r (nI_1 i) (ih (i + 1) _ _ (by omega) hp))))))
theorem sm_addBits {post : Int32 → Prop} {a b c : Nat} (h : post (nI (sm_ad a b 8 0 0 c))) : wpX_addBits post () (nI a) (nI b) (nI c) :=
  ⟨8 + 1, sm_adL 8 0 0 c (by omega) h⟩
end
section
section
variable {h1 h2 h3 h4 h5 : Int32} {a1 a2 a3 a4 a5 a6 a7 a8 : Nat → Int32}
theorem sm_writeWord {post : St2 → Prop} {w v : Nat} (hw : w < 48) (h : post (h1, h2, h3, h4, h5, a1, a2, a3, a4, upd a5 w (nI (sm_enc v (sm_pl w))), upd a6 w 0, a7, a8)) : wpX_writeWord post (h1, h2, h3, h4, h5, a1, a2, a3, a4, a5, a6, a7, a8) (nI w) (nI v) := by
  unfold wpX_writeWord
  dsimp only
  refine sm_places hw (sm_encode (sm_pl w) (sm_plB w).1 (sm_plB w).2 ⟨pk_in w 48 hw, nm_e ⟨pk_in w 48 hw, nm_e ?_⟩⟩)
  rw [nI_clamp (show w < 2 ^ 31 by omega)]
  exact h
theorem sm_u0 (w : Nat) : upd (fun _ => 0) w 0 = fun _ => 0 := by
  funext j
  unfold upd
  split <;> rfl
theorem sm_initL {post : St2 → Prop} {mc ms kc ks : Nat} (H : ∀ b5, post (h1, h2, h3, h4, h5, a1, a2, a3, a4, b5, fun _ => 0, a7, a8)) : ∀ k w a5, w + k = 48 → wX_init_66 post mc ms kc ks (k + 1) (nI w) h1 h2 h3 h4 h5 a1 a2 a3 a4 a5 (fun _ => 0) a7 a8 := by
  intro k
  induction k with
  | zero =>
    intro w a5 hk
    exact pk_le 48 w (fun _ => H a5) (fun z => absurd z (by omega))
  | succ k ih =>
    intro w a5 hk
    refine pk_le 48 w (fun z => absurd z (by omega)) (fun _ => sm_writeWord (v := 0) (by omega) ?_)
    rw [sm_u0]
    exact nm_r (nI_1 w) (ih (w + 1) _ (by omega))
theorem sm_init {post : St2 → Prop} {mc ms : Nat} (hm : 8 ≤ mc) (hs : 137 ≤ ms) (H : ∀ b5, post (h1, h2, h3, h4, h5, fun _ => 0, fun _ => 0, fun _ => 0, fun _ => 0, b5, fun _ => 0, fun _ => 0, fun _ => 0)) : wpX_init post mc ms (h1, h2, h3, h4, h5) := by
  unfold wpX_init
  dsimp only
  exact ⟨by omega, by omega, by omega, by omega, by omega, by omega, by omega, by omega, by omega, by omega, by omega, by omega, by omega, by omega, by omega, by omega, 48 + 1, sm_initL H 48 0 _ (by omega)⟩
theorem sm_isReg {post : Int32 → Prop} {r : Nat} (hr : r < 4) (h : post 1) : wpX_isRegister post () (nI r) :=
  br_f (nI_pos (by omega)) (pk_le 4 r (fun z => absurd z (by omega)) (fun _ => h))
theorem sm_isCop {post : Int32 → Prop} {c : Nat} (hc : c < 3) (h : post 1) : wpX_isCopy post () (nI c) :=
  br_f (nI_pos (by omega)) (pk_le 3 c (fun z => absurd z (by omega)) (fun _ => h))
theorem sm_set {post : Int32 → St2 → Prop} {w o r n : Nat} (hw : w < 32) (ho : o ≤ 13) (hr : r < 4) (hn : n ≤ 255) (h : post 1 (h1, h2, h3, h4, h5, a1, a2, a3, a4, upd a5 w (nI (sm_enc (sm_val o r n) 22)), upd a6 w 0, a7, a8)) : wpX_set post (h1, h2, h3, h4, h5, a1, a2, a3, a4, a5, a6, a7, a8) (nI w) (nI o) (nI r) (nI n) := by
  have e : (nI o ||| (nI r <<< ((4 : Int32) &&& 31))) ||| (nI n <<< ((6 : Int32) &&& 31)) = nI (sm_val o r n) := by
    show (nI o ||| (nI r <<< (nI 4 &&& 31))) ||| (nI n <<< (nI 6 &&& 31)) = _
    rw [sm_shl r (show 4 < 32 by omega), sm_shl n (show 6 < 32 by omega), sm_or, sm_or]
    rfl
  have ew : sm_pl w = 22 := if_pos hw
  unfold wpX_set
  dsimp only
  refine br_f (nI_pos (by omega)) (pk_le 32 w (fun z => absurd z (by omega)) (fun _ => br_f (nI_pos (by omega)) (pk_lt 13 o (fun z => absurd z (by omega)) (fun _ => sm_isReg hr (br_f (by decide) (br_f (nI_pos (by omega)) (pk_le n 255 (fun _ => ?_) (fun z => absurd z (by omega)))))))))
  rw [e]
  refine sm_writeWord (by omega) ?_
  rw [ew]
  exact h
theorem sm_writePlace {post : St2 → Prop} {v : Int32} (H : ∀ b, (∀ j, j < 3 → b j = v) → post (h1, h2, h3, h4, h5, a1, b, a3, a4, a5, a6, a7, a8)) : wpX_writePlace post (h1, h2, h3, h4, h5, a1, a2, a3, a4, a5, a6, a7, a8) v :=
  pk_loop (fun n i s => wX_writePlace_2 post v h1 h2 h3 h4 h5 n (nI i) a1 s a3 a4 a5 a6 a7 a8) (fun i s => ∀ j, j < i → s j = v) 3 0 a2 (by omega) (fun j hj => absurd hj (by omega))
    (fun n s h => pk_le 3 3 (fun _ => H s h) (fun z => absurd z (by omega)))
    (fun n i s hi h hw => pk_le 3 i (fun z => absurd z (by omega)) (fun _ => ⟨pk_in i 3 hi, nm_e (nm_r (nI_1 i) (hw _ (sm_fill (f := fun _ => v) (nI_clamp (by omega)) h rfl)))⟩))
theorem sm_ix (r i : Nat) : nI r * 3 + nI i = nI (r * 3 + i) := by
  show nI r * nI 3 + nI i = _
  rw [pk_mul, nI_add]
theorem sm_writeRegister {post : St2 → Prop} {r : Nat} {v : Int32} (hr : r < 4) (H : ∀ b, (∀ j, j < 12 → b j = if j / 3 = r then v else a1 j) → post (h1, h2, h3, h4, h5, b, a2, a3, a4, a5, a6, a7, a8)) : wpX_writeRegister post (h1, h2, h3, h4, h5, a1, a2, a3, a4, a5, a6, a7, a8) (nI r) v := by
  refine pk_loop (fun n i s => wX_writeRegister_2 post (nI r) v h1 h2 h3 h4 h5 n (nI i) s a2 a3 a4 a5 a6 a7 a8) (fun i s => ∀ j, j < 12 → s j = if r * 3 ≤ j ∧ j < r * 3 + i then v else a1 j) 3 0 a1 (by omega) ?_ ?_ ?_
  · intro j hj
    rw [if_neg (by omega)]
  · intro n s h
    refine pk_le 3 3 (fun _ => H s ?_) (fun z => absurd z (by omega))
    intro j hj
    rw [h j hj]
    by_cases g : j / 3 = r
    · rw [if_pos (by omega), if_pos g]
    · rw [if_neg (by omega), if_neg g]
  · intro n i s hi h hw
    refine pk_le 3 i (fun z => absurd z (by omega)) (fun _ => ?_)
    rw [sm_ix, nI_clamp (show r * 3 + i < 2 ^ 31 by omega)]
    refine ⟨pk_in (r * 3 + i) 12 (by omega), nm_e (nm_r (nI_1 i) (hw _ ?_))⟩
    intro j hj
    by_cases g : j = r * 3 + i
    · rw [g, pk_us, if_pos (by omega)]
    · rw [pk_un g, h j hj]
      by_cases g2 : r * 3 ≤ j ∧ j < r * 3 + i
      · rw [if_pos g2, if_pos (by omega)]
      · rw [if_neg g2, if_neg (by omega)]
theorem sm_voteRegister {post : Int32 → Prop} {r : Nat} (hr : r < 4) (h : post (sm_vt (a1 (r * 3)) (a1 (r * 3 + 1)) (a1 (r * 3 + 2)))) : wpX_voteRegister post (h1, h2, h3, h4, h5, a1, a2, a3, a4, a5, a6, a7, a8) (nI r) := by
  unfold wpX_voteRegister
  dsimp only
  have e0 : nI r * 3 = nI (r * 3) := pk_mul r 3
  have e1 : nI (r * 3) + 1 = nI (r * 3 + 1) := nI_1 _
  have e2 : nI (r * 3) + 2 = nI (r * 3 + 2) := nI_add _ 2
  rw [e0, e1, e2, nI_clamp (show r * 3 < 2 ^ 31 by omega), nI_clamp (show r * 3 + 1 < 2 ^ 31 by omega), nI_clamp (show r * 3 + 2 < 2 ^ 31 by omega)]
  exact ⟨pk_in (r * 3) 12 (by omega), pk_in (r * 3 + 1) 12 (by omega), pk_in (r * 3 + 2) 12 (by omega), sm_vote h⟩
theorem sm_votePlace {post : Int32 → Prop} (h : post (sm_vt (a2 0) (a2 1) (a2 2))) : wpX_votePlace post (h1, h2, h3, h4, h5, a1, a2, a3, a4, a5, a6, a7, a8) := by
  unfold wpX_votePlace
  dsimp only
  exact sm_vote h
theorem sm_voteAll {post : St2 → Prop} {R : Nat → Int32} {P : Int32} (hR : ∀ r, r < 4 → sm_vt (a1 (r * 3)) (a1 (r * 3 + 1)) (a1 (r * 3 + 2)) = R r) (hP : sm_vt (a2 0) (a2 1) (a2 2) = P)
    (H : ∀ b1 b2 b3, (∀ j, j < 12 → b1 j = R (j / 3)) → (∀ j, j < 3 → b2 j = P) → (∀ j, j < 4 → b3 j = 0) → post (0, h2, h3, h4, h5, b1, b2, b3, a4, a5, a6, a7, a8)) : wpX_voteAll post (h1, h2, h3, h4, h5, a1, a2, a3, a4, a5, a6, a7, a8) := by
  refine pk_loop (fun n i (s : (Nat → Int32) × (Nat → Int32)) => wX_voteAll_2 post n (nI i) h1 h2 h3 h4 h5 s.1 a2 s.2 a4 a5 a6 a7 a8) (fun i s => (∀ j, j < 12 → s.1 j = if j / 3 < i then R (j / 3) else a1 j) ∧ (∀ j, j < i → s.2 j = 0)) 4 0 (a1, a3) (by omega) ?_ ?_ ?_
  · exact ⟨fun j hj => by rw [if_neg (by omega)], fun j hj => absurd hj (by omega)⟩
  · intro n s h
    refine pk_le 4 4 (fun _ => sm_votePlace (sm_writePlace ?_)) (fun z => absurd z (by omega))
    intro b hb
    rw [hP] at hb
    exact H s.1 b s.2 (fun j hj => by rw [h.1 j hj, if_pos (by omega)]) hb (fun j hj => h.2 j hj)
  · intro n i s hi h hw
    refine pk_le 4 i (fun z => absurd z (by omega)) (fun _ => sm_voteRegister hi (sm_writeRegister hi ?_))
    intro b hb
    refine ⟨pk_in i 4 hi, nm_e (nm_r (nI_1 i) (hw (b, _) ⟨?_, ?_⟩))⟩
    · intro j hj
      show b j = _
      rw [hb j hj, h.1 (i * 3) (by omega), h.1 (i * 3 + 1) (by omega), h.1 (i * 3 + 2) (by omega), if_neg (show ¬ i * 3 / 3 < i by omega), if_neg (show ¬ (i * 3 + 1) / 3 < i by omega), if_neg (show ¬ (i * 3 + 2) / 3 < i by omega), hR i hi, h.1 j hj]
      by_cases g : j / 3 = i
      · rw [if_pos g, if_pos (by omega), g]
      · rw [if_neg g]
        by_cases g2 : j / 3 < i
        · rw [if_pos g2, if_pos (by omega)]
        · rw [if_neg g2, if_neg (by omega)]
    · exact sm_fill (f := fun _ => 0) (nI_clamp (by omega)) h.2 rfl
theorem sm_repair {post : St2 → Prop} {w c : Nat} (hw : w < 48) (hc : a5 w = nI c) (h : post (h1, h2, h3, h4, h5, a1, a2, a3, a4, upd a5 w (nI (sm_cor c (sm_pl w))), upd a6 w 0, a7, a8)) : wpX_repair post (h1, h2, h3, h4, h5, a1, a2, a3, a4, a5, a6, a7, a8) (nI w) := by
  unfold wpX_repair
  dsimp only
  rw [nI_clamp (show w < 2 ^ 31 by omega), hc]
  exact sm_places hw ⟨pk_in w 48 hw, sm_correct (sm_pl w) (sm_plB w).1 (sm_plB w).2 ⟨pk_in w 48 hw, nm_e ⟨pk_in w 48 hw, nm_e h⟩⟩⟩
theorem sm_readWord {post : Int32 → Prop} {w c : Nat} (hw : w < 48) (hc : a5 w = nI c) (h : post (nI (sm_dec (sm_cor c (sm_pl w)) (sm_pl w)))) : wpX_readWord post (h1, h2, h3, h4, h5, a1, a2, a3, a4, a5, a6, a7, a8) (nI w) := by
  unfold wpX_readWord
  dsimp only
  rw [nI_clamp (show w < 2 ^ 31 by omega), hc]
  exact sm_places hw ⟨pk_in w 48 hw, sm_correct (sm_pl w) (sm_plB w).1 (sm_plB w).2 (sm_decode (sm_pl w) (sm_plB w).1 (sm_plB w).2 h)⟩
theorem sm_readAndRepair {post : Int32 → St2 → Prop} {w c : Nat} (hw : w < 32) (hc : a5 w = nI c) (h : post (nI (sm_rd c)) (h1, h2, h3, h4, h5, a1, a2, a3, a4, upd a5 w (nI (sm_cor c 22)), upd a6 w 0, a7, a8)) : wpX_readAndRepair post (h1, h2, h3, h4, h5, a1, a2, a3, a4, a5, a6, a7, a8) (nI w) := by
  have ew : sm_pl w = 22 := if_pos hw
  unfold wpX_readAndRepair
  dsimp only
  refine sm_repair (by omega) hc ?_
  rw [ew]
  dsimp only
  refine sm_readWord (c := sm_cor c 22) (by omega) pk_us ?_
  rw [ew]
  exact h
theorem sm_workThrice {post : Int32 → St2 → Prop} {r s : Nat} {o n A B W : Int32} (hr : r < 4) (hs : s < 4) (hA : ∀ c, c < 3 → a1 (r * 3 + c) = A) (hB : ∀ c, c < 3 → a1 (s * 3 + c) = B) (hW : ∀ φ : Int32 → Prop, φ W → wpX_workOut φ () o A B n) (hM : sm_Mk a4)
    (H : ∀ b, post W (h1, h2, h3, h4, h5, a1, a2, a3, a4, a5, a6, a7, b)) : wpX_workThrice post (h1, h2, h3, h4, h5, a1, a2, a3, a4, a5, a6, a7, a8) o (nI r) (nI s) n := by
  refine pk_loop (fun k i t => wX_workThrice_3 post o (nI r) (nI s) n h1 h2 h3 h4 h5 k (nI i) a1 a2 a3 a4 a5 a6 a7 t) (fun i t => ∀ j, j < i → t j = W ^^^ a4 j) 3 0 a8 (by omega) (fun j hj => absurd hj (by omega)) ?_ ?_
  · intro k t h
    refine pk_le 3 3 (fun _ => sm_vote ?_) (fun z => absurd z (by omega))
    rw [h 0 (by omega), h 1 (by omega), h 2 (by omega), hM W]
    exact H t
  · intro k i t hi h hw
    refine pk_le 3 i (fun z => absurd z (by omega)) (fun _ => ?_)
    rw [sm_ix, sm_ix, nI_clamp (show r * 3 + i < 2 ^ 31 by omega), nI_clamp (show s * 3 + i < 2 ^ 31 by omega), hA i hi, hB i hi, nI_clamp (show i < 2 ^ 31 by omega)]
    exact ⟨pk_in (r * 3 + i) 12 (by omega), pk_in (s * 3 + i) 12 (by omega), hW _ ⟨pk_in i 3 hi, pk_in i 3 hi, nm_e (nm_r (nI_1 i) (hw _ (sm_fill (f := fun j => W ^^^ a4 j) rfl h rfl)))⟩⟩
/-- the tail of a step: on to the next place, the masks cleared, one word repaired -/
theorem sm_tail {post : St2 → Prop} {d c : Nat} {p : Int32} (hd : d < 47) (hc : a5 d = nI c) (H : ∀ b2 b4, (∀ j, j < 3 → b2 j = p) → (∀ j, j < 3 → b4 j = 0) → post (h1, 0, nI (d + 1), h4, h5, a1, b2, a3, b4, upd a5 d (nI (sm_cor c (sm_pl d))), upd a6 d 0, a7, a8)) : wX_step_119 post p h1 h2 (nI d) h4 h5 a1 a2 a3 a4 a5 a6 a7 a8 := by
  unfold wX_step_119
  refine sm_writePlace ?_
  intro b2 hb2
  have e1 : nI d - nI d / 48 * 48 = nI d := by
    have h := pk_rem (a := d) (d := 48) (by omega) (by omega) (by omega)
    rw [Nat.mod_eq_of_lt (show d < 48 by omega)] at h
    exact h
  have e2 : (nI d + 1) - (nI d + 1) / 48 * 48 = nI (d + 1) := by
    have h := pk_rem (a := d + 1) (d := 48) (by omega) (by omega) (by omega)
    rw [Nat.mod_eq_of_lt (show d + 1 < 48 by omega)] at h
    rw [nI_1]
    exact h
  refine pk_loop (fun n i s => wX_step_128 post h1 h2 (nI d) h4 h5 n (nI i) a1 b2 a3 s a5 a6 a7 a8) (fun i s => ∀ j, j < i → s j = 0) 3 0 a4 (by omega) (fun j hj => absurd hj (by omega)) ?_ ?_
  · intro n s h
    refine pk_le 3 3 (fun _ => ⟨by decide, ?_⟩) (fun z => absurd z (by omega))
    rw [e1]
    refine sm_repair (by omega) hc ?_
    exact ⟨by decide, nm_r e2 (H b2 s hb2 h)⟩
  · intro n i s hi h hw
    exact pk_le 3 i (fun z => absurd z (by omega)) (fun _ => ⟨pk_in i 3 hi, nm_e (nm_r (nI_1 i) (hw _ (sm_fill (f := fun _ => 0) (nI_clamp (by omega)) h rfl)))⟩)
end
end
section
section
variable {h1 h2 h3 h4 h5 : Int32} {a1 a2 a3 a4 a5 a6 a7 a8 : Nat → Int32}
/-- one step: SET, or a working of two registers -/
theorem sm_step {post : St2 → Prop} {R : Nat → Int32} {W : Int32} (q c w o r n : Nat) (hq : q < 31)
    (hR : ∀ r, r < 4 → sm_vt (a1 (r * 3)) (a1 (r * 3 + 1)) (a1 (r * 3 + 2)) = R r) (hP : sm_vt (a2 0) (a2 1) (a2 2) = nI q) (hM : sm_Mk a4) (hc : a5 q = nI c) (hw : sm_rd c = w)
    (hv : w < 2 ^ 31 ∧ w % 16 = o ∧ w / 16 % 4 = r ∧ w / 64 % 256 = n) (ho : o = 1 ∨ 4 ≤ o ∧ o ≤ 8) (hW : ∀ φ : Int32 → Prop, φ W → wpX_workOut φ () (nI o) (R r) (R (n % 4)) (nI n))
    (H : ∀ b1 b2 b3 b4 b5 b6 b8 : Nat → Int32, (∀ j, j < 12 → b1 j = if j / 3 = r then W else R (j / 3)) → (∀ j, j < 3 → b2 j = nI (q + 1)) → (∀ j, j < 4 → b3 j = 0) → (∀ j, j < 3 → b4 j = 0) → (∀ j, j ≠ q → b5 j = a5 j) → (∀ j, b6 j = if j = q then 0 else a6 j) → post (0, 0, nI (q + 1), h4, h5, b1, b2, b3, b4, b5, b6, a7, b8)) :
    wpX_step post (h1, h2, nI q, h4, h5, a1, a2, a3, a4, a5, a6, a7, a8) := by
  obtain ⟨v0, v1, v2, v3⟩ := hv
  have hr : r < 4 := by omega
  have hs : n % 4 < 4 := Nat.mod_lt _ (by omega)
  have eo : nI w &&& 15 = nI o := by
    rw [pk_andN (show w < 2 ^ 32 by omega) (m := 15) 4 (by decide)]
    exact congrArg nI v1
  have er : (nI w >>> ((4 : Int32) &&& 31)) &&& 3 = nI r := by
    rw [pk_shrN v0 ((4 : Int32) &&& 31) 4 (by decide), pk_andN (show w / 2 ^ 4 < 2 ^ 32 by omega) (m := 3) 2 (by decide)]
    exact congrArg nI v2
  have en : (nI w >>> ((6 : Int32) &&& 31)) &&& 255 = nI n := by
    rw [pk_shrN v0 ((6 : Int32) &&& 31) 6 (by decide), pk_andN (show w / 2 ^ 6 < 2 ^ 32 by omega) (m := 255) 8 (by decide)]
    exact congrArg nI v3
  have es : nI n &&& 3 = nI (n % 4) := by
    exact pk_andN (show n < 2 ^ 32 by omega) (m := 3) 2 (by decide)
  have eq : (nI q + 1) &&& 31 = nI (q + 1) := by
    rw [nI_1, pk_andN (show q + 1 < 2 ^ 32 by omega) (m := 31) 5 (by decide), Nat.mod_eq_of_lt (show q + 1 < 2 ^ 5 by omega)]
  unfold wpX_step
  dsimp only
  refine sm_voteAll hR hP ?_
  intro b1 b2 b3 k1 k2 k3
  refine sm_votePlace ?_
  dsimp only
  rw [k2 0 (by omega), k2 1 (by omega), k2 2 (by omega), sm_vv]
  refine sm_readAndRepair (by omega) hc ?_
  dsimp only
  rw [hw]
  refine nm_r eo (nm_r er (nm_r en (nm_r eq ?_)))
  have hA : ∀ c, c < 3 → b1 (r * 3 + c) = R r := fun c hc => by rw [k1 _ (by omega), show (r * 3 + c) / 3 = r by omega]
  have hB : ∀ c, c < 3 → b1 (n % 4 * 3 + c) = R (n % 4) := fun c hc => by rw [k1 _ (by omega), show (n % 4 * 3 + c) / 3 = n % 4 by omega]
  have T : ∀ t b8 : Nat → Int32, (∀ j, j < 12 → t j = if j / 3 = r then W else b1 j) → wX_step_119 post (nI (q + 1)) 0 h2 (nI q) h4 h5 t b2 b3 a4 (upd a5 q (nI (sm_cor c 22))) (upd a6 q 0) a7 b8 := by
    intro t b8 ht
    refine sm_tail (by omega) pk_us ?_
    intro d2 d4 g2 g4
    refine H _ _ _ _ _ _ _ (fun j hj => ?_) g2 k3 g4 (fun j hj => ?_) (fun j => ?_)
    · rw [ht j hj, k1 j hj]
    · rw [pk_un hj, pk_un hj]
    · by_cases e : j = q
      · rw [e, pk_us, if_pos rfl]
      · rw [pk_un e, pk_un e, if_neg e]
  rcases ho with e | ⟨e1, e2⟩
  · refine br_t (nI_le (b := 3) (by omega) (by omega)) ?_
    unfold wX_step_56 wpX_stepWithCells
    dsimp only
    refine br_f (nI_ne0 (by omega) (by omega)) (nm_r es (br_f ?_ (br_f ?_ ?_)))
    · rw [e]
      decide
    · rw [e]
      decide
    · unfold wX_stepWithCells_45
      refine br_t (by rw [e]; rfl) ?_
      rw [e] at hW
      exact sm_workThrice hr hs hA hB hW hM (fun b8 => sm_writeRegister hr (fun t ht => T t b8 ht))
  · refine br_f (nI_ge (b := o) (a := 3) (by omega) (by omega)) (br_t (nI_lt (b := 12) (by omega) (by omega)) (br_f (nI_nlt (a := 8) (b := o) (by omega) (by omega)) ?_))
    rw [es]
    exact sm_workThrice hr hs hA hB hW hM (fun b8 => sm_writeRegister hr (fun t ht => T t b8 ht))
theorem sm_hitRegister {post : Int32 → St2 → Prop} (r c m : Nat) (hr : r < 4) (hc : c < 3) (hm : 1 ≤ m) (hm2 : m ≤ 255) (h0 : a3 r = 0)
    (h : ∀ b3, post 1 (h1, h2, h3, h4, h5, upd a1 (r * 3 + c) (a1 (r * 3 + c) ^^^ nI m), a2, b3, a4, a5, a6, a7, a8)) : wpX_hitRegister post (h1, h2, h3, h4, h5, a1, a2, a3, a4, a5, a6, a7, a8) (nI r) (nI c) (nI m) := by
  unfold wpX_hitRegister
  dsimp only
  refine sm_isReg hr (br_f (by decide) (sm_isCop hc (br_f (by decide) (pk_lt m 1 (fun z => absurd z (by omega)) (fun _ => pk_lt 255 m (fun z => absurd z (by omega)) (fun _ => ?_))))))
  rw [sm_ix, nI_clamp (show r * 3 + c < 2 ^ 31 by omega), nI_clamp (show r < 2 ^ 31 by omega), h0]
  exact ⟨pk_in r 4 hr, br_t (by simp) ⟨pk_in (r * 3 + c) 12 (by omega), pk_in (r * 3 + c) 12 (by omega), nm_e ⟨pk_in r 4 hr, nm_e (h _)⟩⟩⟩
theorem sm_hitWork {post : Int32 → St2 → Prop} (c m : Nat) (hc : c < 3) (hm : 1 ≤ m) (hm2 : m ≤ 255) (h0 : h2 = 0)
    (h : ∀ f, post 1 (h1, f, h3, h4, h5, a1, a2, a3, upd a4 c (a4 c ^^^ nI m), a5, a6, a7, a8)) : wpX_hitWork post (h1, h2, h3, h4, h5, a1, a2, a3, a4, a5, a6, a7, a8) (nI c) (nI m) := by
  unfold wpX_hitWork
  dsimp only
  refine sm_isCop hc (br_f (by decide) (pk_lt m 1 (fun z => absurd z (by omega)) (fun _ => pk_lt 255 m (fun z => absurd z (by omega)) (fun _ => ?_))))
  rw [nI_clamp (show c < 2 ^ 31 by omega), h0]
  exact br_t (by simp) ⟨pk_in c 3 hc, pk_in c 3 hc, nm_e (nm_e (h _))⟩
theorem sm_hitProgram {post : Int32 → St2 → Prop} (w b : Nat) (hw : w < 32) (hb : b < 22) (h0 : a6 w = 0)
    (h : post 1 (h1, h2, h3, h4, h5, a1, a2, a3, a4, upd a5 w (a5 w ^^^ nI (2 ^ b)), upd a6 w 1, a7, a8)) : wpX_hitProgram post (h1, h2, h3, h4, h5, a1, a2, a3, a4, a5, a6, a7, a8) (nI w) (nI b) := by
  unfold wpX_hitProgram wpX_hitWord
  dsimp only
  refine br_f (nI_pos (by omega)) (pk_le 32 w (fun z => absurd z (by omega)) (fun _ => br_f (nI_pos (by omega)) (pk_lt b 22 (fun _ => ?_) (fun z => absurd z (by omega)))))
  rw [nI_clamp (show w < 2 ^ 31 by omega), h0, sm_one, Nat.mod_eq_of_lt (show b < 32 by omega)]
  exact ⟨pk_in w 48 (by omega), br_t rfl ⟨pk_in w 48 (by omega), pk_in w 48 (by omega), nm_e ⟨pk_in w 48 (by omega), nm_e ⟨rfl, h⟩⟩⟩⟩
theorem sm_register {post : Int32 → Prop} (r : Nat) (hr : r < 4) (h : post (sm_vt (a1 (r * 3)) (a1 (r * 3 + 1)) (a1 (r * 3 + 2)))) : wpX_register post (h1, h2, h3, h4, h5, a1, a2, a3, a4, a5, a6, a7, a8) (nI r) := by
  unfold wpX_register
  dsimp only
  exact sm_isReg hr (br_f (by decide) (sm_voteRegister hr h))
theorem sm_spoiled {post : Int32 → Prop} (h0 : ∀ j, j < 48 → a6 j = 0) (h : post 0) : wpX_spoiled post (h1, h2, h3, h4, h5, a1, a2, a3, a4, a5, a6, a7, a8) :=
  pk_loop (σ := Unit) (fun n i _ => wX_spoiled_4 post h1 h2 h3 h4 h5 a1 a2 a3 a4 a5 a6 a7 a8 n 0 (nI i)) (fun _ _ => True) 48 0 () (by omega) trivial
    (fun n _ _ => pk_le 48 48 (fun _ => h) (fun z => absurd z (by omega)))
    (fun n i _ hi _ hw => pk_le 48 i (fun z => absurd z (by omega)) (fun _ => ⟨pk_in i 48 hi, br_t (by rw [nI_clamp (by omega)]; exact h0 i hi) (nm_r (show (0 : Int32) + 0 = 0 by decide) (nm_r (nI_1 i) (hw () trivial)))⟩))
theorem sm_hR {b R : Nat → Int32} (h : ∀ j, j < 12 → b j = R (j / 3)) : ∀ r, r < 4 → sm_vt (b (r * 3)) (b (r * 3 + 1)) (b (r * 3 + 2)) = R r := by
  intro r hr
  rw [h (r * 3) (by omega), h (r * 3 + 1) (by omega), h (r * 3 + 2) (by omega), show r * 3 / 3 = r by omega, show (r * 3 + 1) / 3 = r by omega, show (r * 3 + 2) / 3 = r by omega]
  exact sm_vv _
theorem sm_hR1 {b R : Nat → Int32} (h : ∀ j, j < 12 → b j = R (j / 3)) (k : Nat) (m : Int32) : ∀ r, r < 4 → sm_vt (upd b k (b k ^^^ m) (r * 3)) (upd b k (b k ^^^ m) (r * 3 + 1)) (upd b k (b k ^^^ m) (r * 3 + 2)) = R r := by
  intro r hr
  have e0 : b (r * 3) = R r := by rw [h (r * 3) (by omega), show r * 3 / 3 = r by omega]
  have e1 : b (r * 3 + 1) = R r := by rw [h (r * 3 + 1) (by omega), show (r * 3 + 1) / 3 = r by omega]
  have e2 : b (r * 3 + 2) = R r := by rw [h (r * 3 + 2) (by omega), show (r * 3 + 2) / 3 = r by omega]
  by_cases g0 : k = r * 3
  · rw [g0, pk_us, pk_un (by omega), pk_un (by omega), e0, e1, e2]
    exact sm_vA _ _
  · by_cases g1 : k = r * 3 + 1
    · rw [g1, pk_us, pk_un (by omega), pk_un (by omega), e0, e1, e2]
      exact sm_vB _ _
    · by_cases g2 : k = r * 3 + 2
      · rw [g2, pk_us, pk_un (by omega), pk_un (by omega), e0, e1, e2]
        exact sm_vC _ _
      · rw [pk_un (by omega), pk_un (by omega), pk_un (by omega), e0, e1, e2]
        exact sm_vv _
end
end
section
/-! what a working gives, and what is due -/
def sm_wk (o x y : Nat) : Nat := if o = 4 then (x + y) % 256 else if o = 5 then (x + 256 - y) % 256 else if o = 6 then x &&& y else if o = 7 then x ^^^ y else x / 2
theorem sm_not : ∀ y, y < 256 → y ^^^ 255 = 255 - y := by decide +kernel
theorem sm_workSet {φ : Int32 → Prop} {a b n : Int32} (h : φ n) : wpX_workOut φ () (nI 1) a b n :=
  br_f (by decide) (br_f (by decide) (br_t rfl h))
theorem sm_workOp {φ : Int32 → Prop} {o x y : Nat} {n : Int32} (ho : 4 ≤ o) (ho2 : o ≤ 8) (hx : x < 256) (hy : y < 256) (h : φ (nI (sm_wk o x y))) : wpX_workOut φ () (nI o) (nI x) (nI y) n := by
  unfold sm_wk at h
  rcases (show o = 4 ∨ o = 5 ∨ o = 6 ∨ o = 7 ∨ o = 8 by omega) with e | e | e | e | e
  · subst e
    rw [if_pos rfl] at h
    refine br_f (by decide) (br_f (by decide) (br_f (by decide) (br_f (by decide) (br_f (by decide) (br_t rfl (sm_addBits (c := 0) ?_))))))
    rw [sm_add (by omega), Nat.mod_eq_of_lt hx, Nat.mod_eq_of_lt hy]
    exact h
  · subst e
    rw [if_neg (by decide), if_pos rfl] at h
    have e2 : nI y ^^^ 255 = nI (255 - y) := by
      show nI y ^^^ nI 255 = _
      rw [sm_xor, sm_not y hy]
    refine br_f (by decide) (br_f (by decide) (br_f (by decide) (br_f (by decide) (br_f (by decide) (br_f (by decide) (br_t rfl ?_))))))
    rw [e2]
    refine sm_addBits (c := 1) ?_
    rw [sm_add (by omega), Nat.mod_eq_of_lt hx, Nat.mod_eq_of_lt (show 255 - y < 256 by omega), show x + (255 - y) + 1 = x + 256 - y by omega]
    exact h
  · subst e
    rw [if_neg (by decide), if_neg (by decide), if_pos rfl, ← sm_and] at h
    exact br_f (by decide) (br_f (by decide) (br_f (by decide) (br_f (by decide) (br_f (by decide) (br_f (by decide) (br_f (by decide) (br_t rfl h)))))))
  · subst e
    rw [if_neg (by decide), if_neg (by decide), if_neg (by decide), if_pos rfl, ← sm_xor] at h
    exact br_f (by decide) (br_f (by decide) (br_f (by decide) (br_f (by decide) (br_f (by decide) (br_f (by decide) (br_f (by decide) (br_f (by decide) (br_t rfl h))))))))
  · subst e
    rw [if_neg (by decide), if_neg (by decide), if_neg (by decide), if_neg (by decide)] at h
    refine br_f (by decide) (br_f (by decide) (br_f (by decide) (br_f (by decide) (br_f (by decide) (br_f (by decide) (br_f (by decide) (br_f (by decide) (br_f (by decide) (br_t rfl ?_)))))))))
    rw [pk_shrN (show x < 2 ^ 31 by omega) ((1 : Int32) &&& 31) 1 (by decide)]
    exact h
theorem sm_due4 {x y : Nat} (hx : x < 256) (hy : y < 256) : (nI x + nI y) &&& 255 = nI (sm_wk 4 x y) := by
  rw [nI_add, pk_andN (show x + y < 2 ^ 32 by omega) (m := 255) 8 (by decide)]
  rfl
theorem sm_due5 {x y : Nat} (hx : x < 256) (hy : y < 256) : (nI x - nI y) &&& 255 = nI (sm_wk 5 x y) := by
  have e : (nI x - nI y).toBitVec.toNat % 2 ^ 8 = (x + 256 - y) % 256 := by
    rw [Int32.toBitVec_sub, BitVec.toNat_sub, pk_tn (show x < 2 ^ 32 by omega), pk_tn (show y < 2 ^ 32 by omega)]
    omega
  rw [pk_and (nI x - nI y) (m := 255) 8 (by decide), e]
  rfl
theorem sm_due6 {x y : Nat} : nI x &&& nI y = nI (sm_wk 6 x y) := sm_and x y
theorem sm_due7 {x y : Nat} : nI x ^^^ nI y = nI (sm_wk 7 x y) := sm_xor x y
theorem sm_due8 {x y : Nat} (hx : x < 256) : nI x / 2 = nI (sm_wk 8 x y) := pk_div (d := 2) (by omega) (by omega) (by omega)
theorem sm_l249 {mc ms kc ks : Nat} {x z x9 x10 x11 x12 x13 x15 : Int32} (h9 : x9 = 2) (h10 : ¬ x10 = 0) (h11 : ¬ x11 = 0) (h12 : ¬ x12 = 0) (h13 : x13 = 1) (h : x = z) (h15 : x15 = 0) : wL_lawOf_249 (fun r _ => r = 1) mc ms x9 x10 x11 x12 x13 x x15 z kc ks :=
  br_t h9 (br_f h10 (br_f h11 (br_f h12 (br_t h13 (br_t h (br_t h15 rfl))))))
end
section
theorem sm_lawOf (p0 p1 p2 p3 p4 : Int32) : wpL_lawOf (fun r _ => r = 1) 70 1104 () p0 p1 p2 p3 p4 := by
  obtain ⟨x, hx, ex⟩ := pk_andE p0 (m := 255) 8 (by decide)
  obtain ⟨y, hy, ey⟩ := pk_andE p1 (m := 255) 8 (by decide)
  obtain ⟨g, hg, eg⟩ := pk_andE p2 (m := 65535) 16 (by decide)
  obtain ⟨r, hr, er⟩ := pk_andE p3 (m := 1) 1 (by decide)
  obtain ⟨c1, hc1, ec1⟩ := pk_andE (p3 >>> ((1 : Int32) &&& 31)) (m := 255) 8 (by decide)
  obtain ⟨c2, hc2, ec2⟩ := pk_andE (p3 >>> ((9 : Int32) &&& 31)) (m := 255) 8 (by decide)
  obtain ⟨c3, hc3, ec3⟩ := pk_andE (p3 >>> ((17 : Int32) &&& 31)) (m := 255) 8 (by decide)
  obtain ⟨m1, hm1, em1⟩ := pk_andE p4 (m := 255) 8 (by decide)
  obtain ⟨m2, hm2, em2⟩ := pk_andE (p4 >>> ((8 : Int32) &&& 31)) (m := 255) 8 (by decide)
  have hx' : x < 256 := hx
  have hy' : y < 256 := hy
  have ho : g % 5 < 5 := Nat.mod_lt _ (by omega)
  have eo : 4 + (nI g - nI g / 5 * 5) = nI (4 + g % 5) := by
    have h := pk_rem (a := g) (d := 5) (by omega) (by omega) (by omega)
    have h' : nI g - nI g / 5 * 5 = nI (g % 5) := h
    rw [h']
    exact nI_add 4 (g % 5)
  have f1 : nI c1 - nI c1 / 3 * 3 = nI (c1 % 3) := pk_rem (a := c1) (d := 3) (by omega) (by omega) (by omega)
  have f2 : nI c2 - nI c2 / 3 * 3 = nI (c2 % 3) := pk_rem (a := c2) (d := 3) (by omega) (by omega) (by omega)
  have f3 : nI c3 - nI c3 / 22 * 22 = nI (c3 % 22) := pk_rem (a := c3) (d := 22) (by omega) (by omega) (by omega)
  have k1 : 1 + (nI m1 - nI m1 / 255 * 255) = nI (1 + m1 % 255) := by
    have h' : nI m1 - nI m1 / 255 * 255 = nI (m1 % 255) := pk_rem (a := m1) (d := 255) (by omega) (by omega) (by omega)
    rw [h']
    exact nI_add 1 (m1 % 255)
  have k2 : 1 + (nI m2 - nI m2 / 255 * 255) = nI (1 + m2 % 255) := by
    have h' : nI m2 - nI m2 / 255 * 255 = nI (m2 % 255) := pk_rem (a := m2) (d := 255) (by omega) (by omega) (by omega)
    rw [h']
    exact nI_add 1 (m2 % 255)
  unfold wpL_lawOf
  rw [ex, ey, eg, er, ec1, ec2, ec3, em1, em2, eo, f1, f2, f3, k1, k2]
  refine ⟨by omega, by omega, 8, 137, by omega, by omega, sm_init (by omega) (by omega) ?_⟩
  intro b5
  refine nm_e (nm_e ⟨by decide, nm_e ?_⟩)
  refine sm_set (w := 0) (o := 1) (r := 0) (n := x) (by omega) (by omega) (by omega) (by omega) ?_
  refine sm_set (w := 1) (o := 1) (r := 1) (n := y) (by omega) (by omega) (by omega) (by omega) ?_
  refine sm_set (w := 2) (o := 4 + g % 5) (r := 0) (n := 1) (by omega) (by omega) (by omega) (by omega) ?_
  rw [sm_u0, sm_u0, sm_u0]
  generalize hE : upd (upd (upd b5 0 (nI (sm_enc (sm_val 1 0 x) 22))) 1 (nI (sm_enc (sm_val 1 1 y) 22))) 2 (nI (sm_enc (sm_val (4 + g % 5) 0 1) 22)) = A5
  have E0 : A5 0 = nI (sm_enc (sm_val 1 0 x) 22) := by rw [← hE, pk_un (by omega), pk_un (by omega), pk_us]
  have E1 : A5 1 = nI (sm_enc (sm_val 1 1 y) 22) := by rw [← hE, pk_un (by omega), pk_us]
  have E2 : A5 2 = nI (sm_enc (sm_val (4 + g % 5) 0 1) 22) := by rw [← hE, pk_us]
  refine br_f (by decide) (br_t (by decide) ⟨3, ?_⟩)
  refine pk_le 2 0 (fun z => absurd z (by omega)) (fun _ => br_t rfl ?_)
  refine sm_step (R := fun _ => 0) (W := nI x) 0 _ _ 1 0 x (by omega) (fun _ _ => sm_vv 0) (sm_vv 0) (sm_Mk0 (fun _ _ => rfl)) E0 (sm_law0 x hx') (sm_v0 x hx') (Or.inl rfl) (fun φ h => sm_workSet h) ?_
  intro s1 s2 s3 s4 s5 s6 s8 q1 q2 q3 q4 q5 q6
  refine nm_r (nI_1 0) (nm_r (nI_1 0) (pk_le 2 1 (fun z => absurd z (by omega)) (fun _ => br_t rfl ?_)))
  refine sm_step (R := fun t => if t = 0 then nI x else 0) (W := nI y) 1 _ _ 1 1 y (by omega) (sm_hR q1) (by rw [q2 0 (by omega), q2 1 (by omega), q2 2 (by omega)]; exact sm_vv _) (sm_Mk0 q4) ((q5 1 (by omega)).trans E1) (sm_law1 y hy') (sm_v1 y hy') (Or.inl rfl) (fun φ h => sm_workSet h) ?_
  intro t1 t2 t3 t4 t5 t6 t8 u1 u2 u3 u4 u5 u6
  refine nm_r (nI_1 1) (nm_r (nI_1 1) (pk_le 2 2 (fun _ => ?_) (fun z => absurd z (by omega))))
  refine ⟨by decide, by decide, ?_⟩
  refine sm_hitRegister r (c1 % 3) (1 + m1 % 255) (by omega) (by omega) (by omega) (by omega) (u3 r (by omega)) ?_
  intro v3
  refine ⟨by decide, by decide, ?_⟩
  refine sm_hitWork (c2 % 3) (1 + m2 % 255) (by omega) (by omega) (by omega) rfl ?_
  intro f
  refine ⟨by decide, ?_⟩
  have T6 : ∀ j, t6 j = 0 := fun j => by
    rw [u6 j]
    by_cases e : j = 1
    · rw [if_pos e]
    · rw [if_neg e, q6 j]
      by_cases e0 : j = 0
      · rw [if_pos e0]
      · rw [if_neg e0]
  have T5 : t5 2 = nI (sm_enc (sm_val (4 + g % 5) 0 1) 22) := (u5 2 (by omega)).trans ((q5 2 (by omega)).trans E2)
  refine sm_hitProgram 2 (c3 % 22) (by omega) (by omega) (T6 2) ?_
  refine br_f (by decide) (br_t (by decide) ⟨2, ?_⟩)
  refine pk_le 1 0 (fun z => absurd z (by omega)) (fun _ => br_t rfl ?_)
  refine sm_step (R := fun t => if t = 1 then nI y else if t = 0 then nI x else 0) (W := nI (sm_wk (4 + g % 5) x y)) 2 (sm_enc (sm_val (4 + g % 5) 0 1) 22 ^^^ 2 ^ (c3 % 22)) _ (4 + g % 5) 0 1 (by omega) (sm_hR1 u1 _ _) (by rw [u2 0 (by omega), u2 1 (by omega), u2 2 (by omega)]; exact sm_vv _) ?_ (by rw [pk_us, T5, sm_xor]) (sm_law2 (g % 5) ho (c3 % 22) (Nat.mod_lt _ (by omega))) (sm_v2 (g % 5) ho) (Or.inr ⟨by omega, by omega⟩) (fun φ h => sm_workOp (by omega) (by omega) hx' hy' h) ?_
  · rw [u4 (c2 % 3) (by omega)]
    exact sm_Mk1 u4 _ (by omega)
  intro w1 w2 w3 w4 w5 w6 w8 j1 j2 j3 j4 j5 j6
  refine nm_r (nI_1 0) (nm_r (nI_1 0) (pk_le 1 1 (fun _ => ?_) (fun z => absurd z (by omega))))
  refine sm_register 0 (by omega) ?_
  have J : ∀ j, j < 3 → w1 j = nI (sm_wk (4 + g % 5) x y) := fun j hj => (j1 j (by omega)).trans (if_pos (by omega))
  rw [J (0 * 3) (by omega), J (0 * 3 + 1) (by omega), J (0 * 3 + 2) (by omega), sm_vv]
  refine sm_spoiled (fun j _ => ?_) ?_
  · rw [j6 j]
    by_cases e : j = 2
    · rw [if_pos e]
    · rw [if_neg e, pk_un e]
      exact T6 j
  · refine pk_eq (4 + g % 5) 4 (fun e => ?_) (fun e1 => pk_eq (4 + g % 5) 5 (fun e => ?_) (fun e2 => pk_eq (4 + g % 5) 6 (fun e => ?_) (fun e3 => pk_eq (4 + g % 5) 7 (fun e => ?_) (fun e4 => ⟨by decide, ?_⟩))))
    · exact sm_l249 rfl (by decide) (by decide) (by decide) rfl (by rw [e, sm_due4 hx' hy']) rfl
    · exact sm_l249 rfl (by decide) (by decide) (by decide) rfl (by rw [e, sm_due5 hx' hy']) rfl
    · exact sm_l249 rfl (by decide) (by decide) (by decide) rfl (by rw [e, sm_due6]) rfl
    · exact sm_l249 rfl (by decide) (by decide) (by decide) rfl (by rw [e, sm_due7]) rfl
    · exact sm_l249 rfl (by decide) (by decide) (by decide) rfl (by rw [show 4 + g % 5 = 8 by omega, sm_due8 (y := y) hx']) rfl
theorem sm_cell {post : Int32 → Prop} {L : Nat} {xs : Nat → Int32} (hL : L ≤ 5) (i : Nat) (hi : i < 5) (h : ∀ v, post v) : wpL_cellAt post L xs () (nI i) :=
  pk_le L i (fun _ => h _) (fun z => ⟨pk_in i L z, h _⟩)
theorem i_vc (xs : Nat → Int32) (L : Nat) (hL : L ≤ 5) : wpL_law (fun r => r = 1) L xs := by
  unfold wpL_law
  exact sm_cell hL 0 (by omega) (fun p0 => sm_cell hL 1 (by omega) (fun p1 => sm_cell hL 2 (by omega) (fun p2 => sm_cell hL 3 (by omega) (fun p3 => sm_cell hL 4 (by omega) (fun p4 => ⟨70, 1104, by omega, by omega, sm_lawOf p0 p1 p2 p3 p4⟩)))))
end
