section
/-! Int32 by its bits (began as the family 'Int32 by its bits' of kit/laws/BITS.to-paste, names changed) -/
def sm_bt (x : Int32) (i : Nat) : Bool := x.toBitVec.getLsbD i
theorem sm_ext {x y : Int32} (h : ∀ i, i < 32 → sm_bt x i = sm_bt y i) : x = y := Int32.toBitVec_inj.mp (BitVec.eq_of_getLsbD_eq (fun i hi => h i hi))
theorem sm_bor (x y : Int32) (i : Nat) : sm_bt (x ||| y) i = (sm_bt x i || sm_bt y i) := by unfold sm_bt; rw [Int32.toBitVec_or, BitVec.getLsbD_or]
theorem sm_band (x y : Int32) (i : Nat) : sm_bt (x &&& y) i = (sm_bt x i && sm_bt y i) := by unfold sm_bt; rw [Int32.toBitVec_and, BitVec.getLsbD_and]
theorem sm_bxor (x y : Int32) (i : Nat) : sm_bt (x ^^^ y) i = (sm_bt x i ^^ sm_bt y i) := by unfold sm_bt; rw [Int32.toBitVec_xor, BitVec.getLsbD_xor]
theorem sm_big {x : Int32} {i : Nat} (h : 32 ≤ i) : sm_bt x i = false := BitVec.getLsbD_of_ge _ _ h
theorem sm_lt32 {x : Int32} {i : Nat} (h : sm_bt x i = true) : i < 32 := by
  rcases Nat.lt_or_ge i 32 with z | z
  · exact z
  · rw [sm_big z] at h; exact absurd h (by decide)
theorem sm_bm1 : ∀ i, i < 32 → sm_bt (-1) i = true := by decide +kernel
theorem sm_b0 (i : Nat) : sm_bt 0 i = false := BitVec.getLsbD_zero
theorem sm_sl : ∀ n, n < 32 → ((nI n &&& 31).toBitVec.smod 32).toNat = n := by decide +kernel
theorem sm_bshl (n : Nat) (hn : n < 32) (x : Int32) {i : Nat} (hi : i < 32) : sm_bt (x <<< (nI n &&& 31)) i = (decide (n ≤ i) && sm_bt x (i - n)) := by
  unfold sm_bt
  rw [Int32.toBitVec_shiftLeft]
  show (x.toBitVec <<< ((nI n &&& 31).toBitVec.smod 32).toNat).getLsbD i = _
  rw [sm_sl n hn, BitVec.getLsbD_shiftLeft]
  rcases Nat.lt_or_ge i n with h | h
  · simp [h, Nat.not_le.mpr h]
  · simp [hi, h, Nat.not_lt.mpr h]
theorem sm_bshr (n : Nat) (hn : n < 32) (x : Int32) {i : Nat} (hi : i < 32) : sm_bt (x >>> (nI n &&& 31)) i = if n + i < 32 then sm_bt x (n + i) else sm_bt x 31 := by
  unfold sm_bt
  rw [Int32.toBitVec_shiftRight]
  show (x.toBitVec.sshiftRight ((nI n &&& 31).toBitVec.smod 32).toNat).getLsbD i = _
  rw [sm_sl n hn, BitVec.getLsbD_sshiftRight, BitVec.msb_eq_getLsbD_last]
  simp [hi]
theorem sm_b1 (i : Nat) : sm_bt 1 i = decide (i = 0) := by
  rcases Nat.lt_or_ge i 32 with h | h
  · exact (by decide +kernel : ∀ i, i < 32 → sm_bt 1 i = decide (i = 0)) i h
  · rw [sm_big h, decide_eq_false (by omega)]
theorem sm_b63 (i : Nat) : sm_bt 63 i = decide (i < 6) := by
  rcases Nat.lt_or_ge i 32 with h | h
  · exact (by decide +kernel : ∀ i, i < 32 → sm_bt 63 i = decide (i < 6)) i h
  · rw [sm_big h, decide_eq_false (by omega)]
theorem sm_nt {x : Bool} (h : ¬ x = true) : x = false := by cases x <;> first | rfl | exact absurd rfl h
theorem sm_nf' {x : Bool} (h : ¬ x = false) : x = true := by cases x <;> first | rfl | exact absurd rfl h
theorem sm_tf {x : Bool} (h : x = true) (h' : x = false) : False := by rw [h] at h'; exact absurd h' (by decide)
/-- a set inside another -/
def sm_sub (x y : Int32) : Prop := ∀ k, sm_bt x k = true → sm_bt y k = true
/-- two sets without a common atom -/
def sm_dj (x y : Int32) : Prop := ∀ k, sm_bt x k = true → sm_bt y k = false
/-- a set of the six atoms -/
def sm_s6 (x : Int32) : Prop := ∀ k, sm_bt x k = true → k < 6
theorem sm_sub_r (x : Int32) : sm_sub x x := fun _ h => h
theorem sm_sub_t {x y z : Int32} (h : sm_sub x y) (g : sm_sub y z) : sm_sub x z := fun k q => g k (h k q)
theorem sm_sub_a {x y : Int32} (h : sm_sub x y) (g : sm_sub y x) : x = y := sm_ext (fun i _ => by
  cases e : sm_bt x i
  · cases e' : sm_bt y i
    · rfl
    · exact absurd (g i e') (by rw [e]; decide)
  · exact (h i e).symm)
theorem sm_dj_s {x y : Int32} (h : sm_dj x y) : sm_dj y x := fun k q => sm_nt (fun z => sm_tf q (h k z))
theorem sm_e0 {x : Int32} : x = 0 ↔ ∀ k, sm_bt x k = false := by
  constructor
  · intro h k; rw [h]; exact sm_b0 k
  · intro h; exact sm_ext (fun i _ => by rw [h i, sm_b0])
theorem sm_and0 {x y : Int32} : (x &&& y) = 0 ↔ sm_dj x y := by
  rw [sm_e0]
  constructor
  · intro h k hk
    have t := h k
    rw [sm_band, hk, Bool.true_and] at t
    exact t
  · intro h k
    rw [sm_band]
    cases e : sm_bt x k
    · rfl
    · rw [h k e]; rfl
theorem sm_not (y : Int32) (k : Nat) : sm_bt (y ^^^ (-1)) k = (decide (k < 32) && !sm_bt y k) := by
  rw [sm_bxor]
  rcases Nat.lt_or_ge k 32 with h | h
  · rw [sm_bm1 k h, decide_eq_true h]; cases sm_bt y k <;> rfl
  · rw [sm_big h, sm_big h, decide_eq_false (by omega)]; rfl
theorem sm_sub0 {x y : Int32} : (x &&& (y ^^^ (-1))) = 0 ↔ sm_sub x y := by
  rw [sm_and0]
  constructor
  · intro h k hk
    have t := h k hk
    rw [sm_not, decide_eq_true (sm_lt32 hk), Bool.true_and] at t
    cases e : sm_bt y k
    · rw [e] at t; exact absurd t (by decide)
    · rfl
  · intro h k hk
    rw [sm_not, h k hk]
    cases decide (k < 32) <;> rfl
theorem sm_bdiff {x y : Int32} {k : Nat} : sm_bt (x &&& (y ^^^ (-1))) k = (sm_bt x k && !sm_bt y k) := by
  rw [sm_band, sm_not]
  cases e : sm_bt x k
  · rfl
  · rw [decide_eq_true (sm_lt32 e)]; rfl
theorem sm_one {a : Nat} (ha : a < 32) (i : Nat) : sm_bt ((1 : Int32) <<< (nI a &&& 31)) i = decide (i = a) := by
  rcases Nat.lt_or_ge i 32 with h | h
  · rw [sm_bshl a ha 1 h, sm_b1]
    rcases Nat.lt_trichotomy i a with z | z | z
    · rw [decide_eq_false (show ¬ a ≤ i by omega), decide_eq_false (show ¬ i = a by omega)]; rfl
    · rw [decide_eq_true (show a ≤ i by omega), decide_eq_true (show i - a = 0 by omega), decide_eq_true z]; rfl
    · rw [decide_eq_false (show ¬ i - a = 0 by omega), decide_eq_false (show ¬ i = a by omega), Bool.and_false]
  · rw [sm_big h, decide_eq_false (by omega)]
theorem sm_bit {a : Nat} (ha : a < 32) (x : Int32) : ((x >>> (nI a &&& 31)) &&& 1) = nI (sm_bt x a).toNat := by
  apply sm_ext
  intro i hi
  rw [sm_band, sm_b1, sm_bshr a ha x hi]
  by_cases e : i = 0
  · subst e
    rw [if_pos (by omega), Nat.add_zero, decide_eq_true rfl, Bool.and_true]
    cases sm_bt x a <;> rfl
  · rw [decide_eq_false e, Bool.and_false]
    cases sm_bt x a
    · exact (sm_b0 i).symm
    · show false = sm_bt 1 i
      rw [sm_b1, decide_eq_false e]
theorem sm_sh {a : Nat} (ha : a < 32) (x : Int32) : ((x >>> (nI a &&& 31)) &&& 1) = 0 ↔ sm_bt x a = false := by
  rw [sm_bit ha]
  cases sm_bt x a
  · exact ⟨fun _ => rfl, fun _ => rfl⟩
  · exact ⟨fun z => absurd z (by decide), fun z => absurd z (by decide)⟩
theorem sm_sh1 {a : Nat} (ha : a < 32) (x : Int32) : ((x >>> (nI a &&& 31)) &&& 1) = 1 ↔ sm_bt x a = true := by
  rw [sm_bit ha]
  cases sm_bt x a
  · exact ⟨fun z => absurd z (by decide), fun z => absurd z (by decide)⟩
  · exact ⟨fun _ => rfl, fun _ => rfl⟩
theorem sm_s6_or {x y : Int32} (h : sm_s6 x) (g : sm_s6 y) : sm_s6 (x ||| y) := by
  intro k hk
  rw [sm_bor] at hk
  cases e : sm_bt x k
  · rw [e, Bool.false_or] at hk; exact g k hk
  · exact h k e
theorem sm_s6_sub {x y : Int32} (h : sm_sub x y) (g : sm_s6 y) : sm_s6 x := fun k hk => g k (h k hk)
theorem sm_s6_one {a : Nat} (ha : a < 6) : sm_s6 ((1 : Int32) <<< (nI a &&& 31)) := by
  intro k hk
  rw [sm_one (by omega)] at hk
  have := of_decide_eq_true hk
  omega
theorem sm_s6_0 : sm_s6 0 := fun k hk => absurd hk (by rw [sm_b0]; decide)
theorem sm_s6_63 : sm_s6 63 := fun k hk => by rw [sm_b63] at hk; exact of_decide_eq_true hk
theorem sm_diff_l {x y : Int32} : sm_sub (x &&& (y ^^^ (-1))) x := fun k hk => by
  rw [sm_bdiff] at hk
  cases e : sm_bt x k
  · rw [e, Bool.false_and] at hk; exact absurd hk (by decide)
  · rfl
theorem sm_or_l {x y : Int32} : sm_sub x (x ||| y) := fun k hk => by rw [sm_bor, hk, Bool.true_or]
theorem sm_or_r {x y : Int32} : sm_sub y (x ||| y) := fun k hk => by rw [sm_bor, hk, Bool.or_true]
theorem sm_or_e {x y : Int32} {k : Nat} (h : sm_bt (x ||| y) k = true) : sm_bt x k = true ∨ sm_bt y k = true := by
  rw [sm_bor] at h
  cases e : sm_bt x k
  · rw [e, Bool.false_or] at h; exact Or.inr h
  · exact Or.inl rfl
theorem sm_or_sub {x y : Int32} (h : sm_sub y x) : x ||| y = x := sm_sub_a (fun k hk => (sm_or_e hk).elim id (h k)) sm_or_l
theorem sm_s6_nI {x : Int32} (h : sm_s6 x) : ∃ m : Nat, m < 64 ∧ x = nI m := by
  obtain ⟨j, hj, e⟩ := pk_andE x (m := 63) 6 (by decide)
  refine ⟨j, hj, ?_⟩
  rw [← e]
  apply sm_ext
  intro i hi
  rw [sm_band, sm_b63]
  cases t : sm_bt x i
  · rfl
  · rw [decide_eq_true (h i t)]; rfl
theorem sm_nIbt {m : Nat} (hm : m < 64) (k : Nat) : sm_bt (nI m) k = m.testBit k := by
  show (BitVec.ofNat 32 m).getLsbD k = _
  rw [BitVec.getLsbD_ofNat]
  rcases Nat.lt_or_ge k 32 with h | h
  · rw [decide_eq_true h, Bool.true_and]
  · rw [decide_eq_false (by omega), Bool.false_and, Nat.testBit_lt_two_pow]
    exact Nat.lt_of_lt_of_le hm (Nat.le_trans (show 64 ≤ 2 ^ 32 by decide) (Nat.pow_le_pow_right (by decide) h))
theorem sm_nI6 {m : Nat} (hm : m < 64) : sm_s6 (nI m) := by
  intro k hk
  rw [sm_nIbt hm] at hk
  rcases Nat.lt_or_ge k 6 with h | h
  · exact h
  · rw [Nat.testBit_lt_two_pow (Nat.lt_of_lt_of_le hm (Nat.le_trans (show 64 ≤ 2 ^ 6 by decide) (Nat.pow_le_pow_right (by decide) h)))] at hk
    exact absurd hk (by decide)
theorem sm_by64 : ∀ m, m < 64 → (nI m).toInt8.toInt32 = nI m := by decide +kernel
theorem sm_byte {x : Int32} (h : sm_s6 x) : x.toInt8.toInt32 = x := by
  obtain ⟨m, hm, rfl⟩ := sm_s6_nI h
  exact sm_by64 m hm
/-- how many of the first n atoms -/
def sm_pc (x : Int32) : Nat → Nat
  | 0 => 0
  | n + 1 => sm_pc x n + (sm_bt x n).toNat
def sm_cd (x : Int32) : Nat := sm_pc x 6
theorem sm_bt_le (b : Bool) : b.toNat ≤ 1 := by cases b <;> decide
theorem sm_pc_le (x : Int32) : ∀ n, sm_pc x n ≤ n
  | 0 => Nat.le_refl 0
  | n + 1 => Nat.add_le_add (sm_pc_le x n) (sm_bt_le _)
theorem sm_cd_le (x : Int32) : sm_cd x ≤ 6 := sm_pc_le x 6
theorem sm_pc_mono {x y : Int32} (h : sm_sub x y) : ∀ n, sm_pc x n ≤ sm_pc y n
  | 0 => Nat.le_refl 0
  | n + 1 => Nat.add_le_add (sm_pc_mono h n) (by
      cases e : sm_bt x n
      · exact Nat.zero_le _
      · rw [h n e]; exact Nat.le_refl _)
theorem sm_pc_lt {x y : Int32} (h : sm_sub x y) {k : Nat} (hx : sm_bt x k = false) (hy : sm_bt y k = true) : ∀ n, k < n → sm_pc x n < sm_pc y n
  | 0, z => absurd z (by omega)
  | n + 1, z => by
      show sm_pc x n + (sm_bt x n).toNat < sm_pc y n + (sm_bt y n).toNat
      by_cases e : k = n
      · subst e
        rw [hx, hy]
        have := sm_pc_mono h k
        show sm_pc x k + 0 < sm_pc y k + 1
        omega
      · have t := sm_pc_lt h hx hy n (by omega)
        have t2 : (sm_bt x n).toNat ≤ (sm_bt y n).toNat := by
          cases e : sm_bt x n
          · exact Nat.zero_le _
          · rw [h n e]; exact Nat.le_refl _
        omega
theorem sm_cd_mono {x y : Int32} (h : sm_sub x y) : sm_cd x ≤ sm_cd y := sm_pc_mono h 6
theorem sm_cd_lt {x y : Int32} (h : sm_sub x y) (hy : sm_s6 y) (hn : ¬ y = x) : sm_cd x < sm_cd y := by
  by_cases e : ∃ k, sm_bt y k = true ∧ sm_bt x k = false
  · obtain ⟨k, h1, h2⟩ := e
    exact sm_pc_lt h h2 h1 6 (hy k h1)
  · exact absurd (sm_sub_a (fun k hk => sm_nf' (fun z => e ⟨k, hk, z⟩)) h) hn
theorem sm_cd_full {x : Int32} (h : 6 ≤ sm_cd x) : ∀ k, k < 6 → sm_bt x k = true := by
  intro k hk
  cases e : sm_bt x k
  · have t := sm_pc_lt (x := x) (y := 63 ||| x) sm_or_r e (by rw [sm_bor, sm_b63, decide_eq_true hk]; rfl) 6 hk
    have t2 := sm_pc_le (63 ||| x) 6
    have h' : 6 ≤ sm_pc x 6 := h
    omega
  · rfl
theorem sm_pc_dj {x y : Int32} (h : sm_dj x y) : ∀ n, sm_pc x n + sm_pc y n = sm_pc (x ||| y) n
  | 0 => rfl
  | n + 1 => by
      have t := sm_pc_dj h n
      show sm_pc x n + (sm_bt x n).toNat + (sm_pc y n + (sm_bt y n).toNat) = sm_pc (x ||| y) n + (sm_bt (x ||| y) n).toNat
      rw [sm_bor]
      cases e : sm_bt x n
      · rw [Bool.false_or]
        show sm_pc x n + 0 + (sm_pc y n + (sm_bt y n).toNat) = sm_pc (x ||| y) n + (sm_bt y n).toNat
        omega
      · rw [h n e]
        show sm_pc x n + 1 + (sm_pc y n + 0) = sm_pc (x ||| y) n + 1
        omega
theorem sm_cd_dj {x y : Int32} (h : sm_dj x y) : sm_cd x + sm_cd y = sm_cd (x ||| y) := sm_pc_dj h 6
theorem sm_pc_0 : ∀ n, sm_pc 0 n = 0
  | 0 => rfl
  | n + 1 => by
      show sm_pc 0 n + (sm_bt 0 n).toNat = 0
      rw [sm_pc_0 n, sm_b0]; rfl
theorem sm_pc_pos {x : Int32} {k : Nat} (hk : sm_bt x k = true) {n : Nat} (h : k < n) : 0 < sm_pc x n := by
  have t := sm_pc_lt (x := 0) (y := x) (fun j hj => absurd hj (by rw [sm_b0]; decide)) (sm_b0 k) hk n h
  omega
/-- two atoms count two -/
theorem sm_pc_two {x : Int32} {j k : Nat} (hj : sm_bt x j = true) (hk : sm_bt x k = true) (hn : j < k) : ∀ n, k < n → 2 ≤ sm_pc x n
  | 0, z => absurd z (by omega)
  | n + 1, z => by
      show 2 ≤ sm_pc x n + (sm_bt x n).toNat
      by_cases e : k = n
      · subst e
        have t := sm_pc_pos hj hn
        rw [hk]
        show 2 ≤ sm_pc x k + 1
        omega
      · have t := sm_pc_two hj hk hn n (by omega)
        omega
theorem sm_cd_two {x : Int32} {j k : Nat} (hj : sm_bt x j = true) (hk : sm_bt x k = true) (hn : j ≠ k) (h1 : j < 6) (h2 : k < 6) : 2 ≤ sm_cd x := by
  rcases Nat.lt_or_gt_of_ne hn with z | z
  · exact sm_pc_two hj hk z 6 h2
  · exact sm_pc_two hk hj z 6 h1
theorem sm_ff {i o : Int32} (hi : sm_s6 i) (ho : sm_s6 o) : (i ||| o) = 63 ↔ ∀ k, k < 6 → sm_bt i k = true ∨ sm_bt o k = true := by
  constructor
  · intro h k hk
    apply sm_or_e
    rw [h, sm_b63, decide_eq_true hk]
  · intro h
    apply sm_sub_a
    · intro k hk
      rw [sm_b63]
      exact decide_eq_true (sm_s6_or hi ho k hk)
    · intro k hk
      rw [sm_b63] at hk
      rw [sm_bor]
      rcases h k (of_decide_eq_true hk) with z | z
      · rw [z, Bool.true_or]
      · rw [z, Bool.or_true]
end
section
/-! the plain picture: stable models, what a step of conclusion may do -/
def sm_hd (a2 : Nat → Int32) (r : Nat) : Nat := (a2 r).toNatClampNeg
def sm_wf (pr : Int32) (a2 a3 a4 : Nat → Int32) : Prop := ∀ r, r < 10 → sm_bt pr r = true → (∃ h, h < 6 ∧ a2 r = nI h) ∧ sm_s6 (a3 r) ∧ sm_s6 (a4 r)
theorem sm_wf_hd {pr : Int32} {a2 a3 a4 : Nat → Int32} (h : sm_wf pr a2 a3 a4) {r : Nat} (hr : r < 10) (hp : sm_bt pr r = true) : sm_hd a2 r < 6 ∧ a2 r = nI (sm_hd a2 r) := by
  obtain ⟨k, hk, e⟩ := (h r hr hp).1
  have e2 : sm_hd a2 r = k := by
    unfold sm_hd
    rw [e, nI_clamp (by omega)]
  rw [e2]
  exact ⟨hk, e⟩
def sm_bT (a3 a4 : Nat → Int32) (r : Nat) (M : Int32) : Prop := sm_sub (a3 r) M ∧ sm_dj (a4 r) M
/-- M is a stable model of the rules -/
def sm_st (pr : Int32) (a1 a2 a3 a4 : Nat → Int32) (M : Int32) : Prop :=
  sm_s6 M ∧ (∀ r, r < 10 → sm_bt pr r = true → sm_bT a3 a4 r M → ¬ a1 r = 2 ∧ (a1 r = 0 → sm_bt M (sm_hd a2 r) = true)) ∧
  (∀ S : Nat → Prop, (∀ r, r < 10 → sm_bt pr r = true → ¬ a1 r = 2 → sm_dj (a4 r) M → (∀ i, sm_bt (a3 r) i = true → S i) → sm_bt M (sm_hd a2 r) = true → S (sm_hd a2 r)) → ∀ i, sm_bt M i = true → S i)
/-- the body holds; the body does not fail -/
def sm_hl (a3 a4 : Nat → Int32) (i o : Int32) (r : Nat) : Prop := sm_sub (a3 r) i ∧ sm_sub (a4 r) o
def sm_nf (a3 a4 : Nat → Int32) (i o : Int32) (r : Nat) : Prop := sm_dj (a3 r) o ∧ sm_dj (a4 r) i
/-- M agrees with what is known -/
def sm_ag (i o M : Int32) : Prop := sm_sub i M ∧ sm_dj o M
/-- closed under the rules that count; the least such set -/
def sm_cl (act : Nat → Prop) (a2 a3 : Nat → Int32) (S : Nat → Prop) : Prop := ∀ r, r < 10 → act r → (∀ i, sm_bt (a3 r) i = true → S i) → S (sm_hd a2 r)
def sm_lf (act : Nat → Prop) (a2 a3 : Nat → Int32) (F : Int32) : Prop := sm_s6 F ∧ sm_cl act a2 a3 (fun i => sm_bt F i = true) ∧ ∀ S : Nat → Prop, sm_cl act a2 a3 S → ∀ i, sm_bt F i = true → S i
def sm_fa (pr : Int32) (a1 a2 a3 a4 : Nat → Int32) (i o : Int32) (r : Nat) : Prop := sm_bt pr r = true ∧ ¬ a1 r = 2 ∧ sm_nf a3 a4 i o r ∧ sm_bt o (sm_hd a2 r) = false
def sm_sa (pr : Int32) (a1 a2 a3 a4 : Nat → Int32) (m : Int32) (r : Nat) : Prop := sm_bt pr r = true ∧ ¬ a1 r = 2 ∧ sm_dj (a4 r) m ∧ (a1 r = 0 ∨ sm_bt m (sm_hd a2 r) = true)
theorem sm_ag_nf {a3 a4 : Nat → Int32} {i o M : Int32} {r : Nat} (ha : sm_ag i o M) (hb : sm_bT a3 a4 r M) : sm_nf a3 a4 i o r :=
  ⟨fun k hk => sm_nt (fun z => sm_tf (hb.1 k hk) (ha.2 k z)), fun k hk => sm_nt (fun z => sm_tf (ha.1 k z) (hb.2 k hk))⟩
theorem sm_ag_hl {a3 a4 : Nat → Int32} {i o M : Int32} {r : Nat} (ha : sm_ag i o M) (hb : sm_hl a3 a4 i o r) : sm_bT a3 a4 r M :=
  ⟨fun k hk => ha.1 k (hb.1 k hk), fun k hk => ha.2 k (hb.2 k hk)⟩
/-- what is not founded is in no stable model -/
theorem sm_fsound {pr : Int32} {a1 a2 a3 a4 : Nat → Int32} {i o M F : Int32} (hM : sm_st pr a1 a2 a3 a4 M) (ha : sm_ag i o M) (hF : sm_lf (sm_fa pr a1 a2 a3 a4 i o) a2 a3 F) : sm_sub M F := by
  intro k hk
  have t := hM.2.2 (fun j => sm_bt F j = true ∧ sm_bt M j = true) (fun r hr hp hn hd hs hh => ?_) k hk
  · exact t.1
  · refine ⟨hF.2.1 r hr ⟨hp, hn, ?_, ?_⟩ (fun j hj => (hs j hj).1), hh⟩
    · exact sm_ag_nf ha ⟨fun j hj => (hs j hj).2, hd⟩
    · exact sm_nt (fun z => sm_tf hh (ha.2 _ z))
/-- all known, nothing new: a stable model -/
theorem sm_fin {pr : Int32} {a1 a2 a3 a4 : Nat → Int32} {i o F : Int32} (hw : sm_wf pr a2 a3 a4) (hi : sm_s6 i) (hd : sm_dj i o) (hf : ∀ k, k < 6 → sm_bt i k = true ∨ sm_bt o k = true)
    (hc : ∀ r, r < 10 → sm_bt pr r = true → sm_hl a3 a4 i o r → ¬ a1 r = 2 ∧ (a1 r = 0 → sm_bt i (sm_hd a2 r) = true)) (hF : sm_lf (sm_fa pr a1 a2 a3 a4 i o) a2 a3 F)
    (ho : ∀ k, k < 6 → sm_bt F k = false → sm_bt o k = true) : sm_st pr a1 a2 a3 a4 i := by
  refine ⟨hi, fun r hr hp hb => hc r hr hp ⟨hb.1, fun k hk => ?_⟩, fun S hS k hk => ?_⟩
  · rcases hf k ((hw r hr hp).2.2 k hk) with z | z
    · exact absurd (hb.2 k hk) (by rw [z]; decide)
    · exact z
  · refine hF.2.2 S (fun r hr ha hs => ?_) k (sm_nf' (fun z => sm_tf (ho k (hi k hk) z) (hd k hk)))
    obtain ⟨hp, hn, hb, hh⟩ := ha
    refine hS r hr hp hn hb.2 hs ?_
    rcases hf _ (sm_wf_hd hw hr hp).1 with z | z
    · exact z
    · exact absurd hh (by rw [z]; decide)
/-- what holds of what is known: sets of atoms, a flag; unless broken, in and out have nothing in common -/
def sm_iv (i o b : Int32) : Prop := sm_s6 i ∧ sm_s6 o ∧ (b = 0 ∨ b = 1) ∧ (b = 0 → sm_dj i o)
/-- a sound step: more is known, no model is lost -/
def sm_Q (P : Int32 → Prop) (i o b i' o' b' : Int32) : Prop := sm_iv i' o' b' ∧ sm_sub i i' ∧ sm_sub o o' ∧ (b' = 0 → b = 0) ∧ (∀ M, P M → sm_ag i o M → b = 0 → sm_ag i' o' M ∧ b' = 0)
def sm_mv (i o m i' o' m' : Int32) : Prop := (i' = i ∧ o' = o ∧ m' = m) ∨ (m' = 1 ∧ ¬ (i' = i ∧ o' = o))
theorem sm_Q_r {P : Int32 → Prop} {i o b : Int32} (h : sm_iv i o b) : sm_Q P i o b i o b := ⟨h, sm_sub_r i, sm_sub_r o, id, fun M _ ha hb => ⟨ha, hb⟩⟩
theorem sm_Q_t {P : Int32 → Prop} {i o b i' o' b' i'' o'' b'' : Int32} (h : sm_Q P i o b i' o' b') (g : sm_Q P i' o' b' i'' o'' b'') : sm_Q P i o b i'' o'' b'' :=
  ⟨g.1, sm_sub_t h.2.1 g.2.1, sm_sub_t h.2.2.1 g.2.2.1, fun z => h.2.2.2.1 (g.2.2.2.1 z), fun M hM ha hb => g.2.2.2.2 M hM (h.2.2.2.2 M hM ha hb).1 (h.2.2.2.2 M hM ha hb).2⟩
theorem sm_mv_r {i o m : Int32} : sm_mv i o m i o m := Or.inl ⟨rfl, rfl, rfl⟩
theorem sm_mv_t {i o m i' o' m' i'' o'' m'' : Int32} (s1 : sm_sub i i') (s2 : sm_sub o o') (s3 : sm_sub i' i'') (s4 : sm_sub o' o'') (h : sm_mv i o m i' o' m') (g : sm_mv i' o' m' i'' o'' m'') : sm_mv i o m i'' o'' m'' := by
  rcases h with ⟨e1, e2, e3⟩ | ⟨e3, hn⟩
  · subst e1 e2 e3
    exact g
  · rcases g with ⟨f1, f2, f3⟩ | ⟨f3, gn⟩
    · subst f1 f2 f3
      exact Or.inr ⟨e3, hn⟩
    · refine Or.inr ⟨f3, fun z => hn ⟨?_, ?_⟩⟩
      · have z1 := z.1
        subst z1
        exact sm_sub_a s3 s1
      · have z2 := z.2
        subst z2
        exact sm_sub_a s4 s2
theorem sm_Q_mv {P : Int32 → Prop} {i o b m i' o' b' m' i'' o'' b'' m'' : Int32} (h : sm_Q P i o b i' o' b') (g : sm_Q P i' o' b' i'' o'' b'') (hm : sm_mv i o m i' o' m') (gm : sm_mv i' o' m' i'' o'' m'') : sm_mv i o m i'' o'' m'' :=
  sm_mv_t h.2.1 h.2.2.1 g.2.1 g.2.2.1 hm gm
/-- a step that ends where it began went nowhere -/
theorem sm_Q_back {P : Int32 → Prop} {i o b i' o' b' b'' : Int32} (h : sm_Q P i o b i' o' b') (g : sm_Q P i' o' b' i o b'') : i' = i ∧ o' = o :=
  ⟨sm_sub_a g.2.1 h.2.1, sm_sub_a g.2.2.1 h.2.2.1⟩
/-- atoms put in -/
theorem sm_Q_in {P : Int32 → Prop} {i o b x b' : Int32} (hI : sm_iv i o b) (hx : sm_s6 x) (hs : ∀ M, P M → sm_ag i o M → b = 0 → sm_sub x M) (h1 : b' = 0 ∨ b' = 1) (h2 : b' = 0 ↔ b = 0 ∧ sm_dj (i ||| x) o) : sm_Q P i o b (i ||| x) o b' := by
  refine ⟨⟨sm_s6_or hI.1 hx, hI.2.1, h1, fun z => (h2.mp z).2⟩, sm_or_l, sm_sub_r o, fun z => (h2.mp z).1, fun M hM ha hb => ?_⟩
  have hS : sm_sub (i ||| x) M := fun k hk => (sm_or_e hk).elim (ha.1 k) (hs M hM ha hb k)
  exact ⟨⟨hS, ha.2⟩, h2.mpr ⟨hb, fun k hk => sm_nt (fun z => sm_tf (hS k hk) (ha.2 k z))⟩⟩
theorem sm_Q_out {P : Int32 → Prop} {i o b x b' : Int32} (hI : sm_iv i o b) (hx : sm_s6 x) (hs : ∀ M, P M → sm_ag i o M → b = 0 → sm_dj x M) (h1 : b' = 0 ∨ b' = 1) (h2 : b' = 0 ↔ b = 0 ∧ sm_dj i (o ||| x)) : sm_Q P i o b i (o ||| x) b' := by
  refine ⟨⟨hI.1, sm_s6_or hI.2.1 hx, h1, fun z => (h2.mp z).2⟩, sm_sub_r i, sm_or_l, fun z => (h2.mp z).1, fun M hM ha hb => ?_⟩
  have hS : sm_dj (o ||| x) M := fun k hk => (sm_or_e hk).elim (ha.2 k) (hs M hM ha hb k)
  exact ⟨⟨ha.1, hS⟩, h2.mpr ⟨hb, fun k hk => sm_nt (fun z => sm_tf (ha.1 k hk) (hS k z))⟩⟩
end
section
section
variable {pr ii oo bb mm kn : Int32} {ms : Int64} {a1 a2 a3 a4 a5 a6 a7 a8 : Nat → Int32}
theorem sm_has {post : Int32 → Prop} {r : Nat} (hr : r < 10) (h0 : sm_bt pr r = false → post 0) (h1 : sm_bt pr r = true → post 1) : wpX_has post (pr, ii, oo, bb, mm, kn, ms, a1, a2, a3, a4, a5, a6, a7, a8) (nI r) :=
  br_f (nI_pos (by omega)) (br_f (nI_ge (b := 10) hr (by decide)) (ek_if (sm_sh (by omega) pr) h0 (fun z => h1 (sm_nf' z))))
theorem sm_fails {post : Int32 → Prop} {r : Nat} (hr : r < 10) (h0 : sm_nf a3 a4 ii oo r → post 0) (h1 : ¬ sm_nf a3 a4 ii oo r → post 1) : wpX_bodyFails post (pr, ii, oo, bb, mm, kn, ms, a1, a2, a3, a4, a5, a6, a7, a8) (nI r) := by
  unfold wpX_bodyFails
  dsimp only
  rw [nI_clamp (show r < 2 ^ 31 by omega)]
  exact ⟨pk_in r 10 hr, ek_if sm_and0 (fun z => ⟨pk_in r 10 hr, ek_if sm_and0 (fun z2 => h0 ⟨z, z2⟩) (fun z2 => h1 (fun q => z2 q.2))⟩) (fun z => h1 (fun q => z q.1))⟩
theorem sm_holds {post : Int32 → Prop} {r : Nat} (hr : r < 10) (h0 : ¬ sm_hl a3 a4 ii oo r → post 0) (h1 : sm_hl a3 a4 ii oo r → post 1) : wpX_bodyHolds post (pr, ii, oo, bb, mm, kn, ms, a1, a2, a3, a4, a5, a6, a7, a8) (nI r) := by
  unfold wpX_bodyHolds
  dsimp only
  rw [nI_clamp (show r < 2 ^ 31 by omega)]
  exact ⟨pk_in r 10 hr, ek_if sm_sub0 (fun z => ⟨pk_in r 10 hr, ek_if sm_sub0 (fun z2 => h1 ⟨z, z2⟩) (fun z2 => h0 (fun q => z2 q.2))⟩) (fun z => h0 (fun q => z q.1))⟩
theorem sm_ones {post : Int32 → Prop} {x : Int32} (H : post (nI (sm_cd x))) : wpX_ones post () x :=
  pk_loop (fun n i s => wX_ones_4 post x n s (nI i)) (fun i s => s = nI (sm_pc x i)) 6 0 0 (by omega) rfl
    (fun n s h => pk_le 6 6 (fun _ => by rw [h]; exact H) (fun z => absurd z (by omega)))
    (fun n i s hi h hw => pk_le 6 i (fun z => absurd z (by omega)) (fun _ => nm_r (e' := nI (sm_pc x (i + 1))) (by rw [h, sm_bit (by omega), nI_add]; rfl) (nm_r (nI_1 i) (hw _ rfl))))
theorem sm_onesL {post : Int32 → Prop} {x : Int32} (H : post (nI (sm_cd x))) : wpL_ones post () x :=
  pk_loop (fun n i s => wL_ones_4 post x n s (nI i)) (fun i s => s = nI (sm_pc x i)) 6 0 0 (by omega) rfl
    (fun n s h => pk_le 6 6 (fun _ => by rw [h]; exact H) (fun z => absurd z (by omega)))
    (fun n i s hi h hw => pk_le 6 i (fun z => absurd z (by omega)) (fun _ => nm_r (e' := nI (sm_pc x (i + 1))) (by rw [h, sm_bit (by omega), nI_add]; rfl) (nm_r (nI_1 i) (hw _ rfl))))
theorem sm_nb {b : Int32} (h : b = 0 ∨ b = 1) : narrow .boolean (.int b) = .int b ∧ fits .boolean (.int b) = true := by
  rcases h with rfl | rfl
  · exact ⟨rfl, rfl⟩
  · exact ⟨rfl, rfl⟩
theorem sm_or0 {b : Int32} (h : b = 0 ∨ b = 1) : b ||| 0 = b := by
  rcases h with rfl | rfl
  · decide
  · decide
theorem sm_or1 {b : Int32} (h : b = 0 ∨ b = 1) : b ||| 1 = 1 := by
  rcases h with rfl | rfl
  · decide
  · decide
theorem sm_pin26 {post : St2 → Prop} (hb : bb = 0 ∨ bb = 1) (H : ∀ b', (b' = 0 ∨ b' = 1) → (b' = 0 ↔ bb = 0 ∧ sm_dj ii oo) → post (pr, ii, oo, b', mm, kn, ms, a1, a2, a3, a4, a5, a6, a7, a8)) : wX_putIn_26 post pr ii oo bb mm kn ms a1 a2 a3 a4 a5 a6 a7 a8 :=
  ek_if sm_and0 (fun z => nm_r (sm_or0 hb) ⟨(sm_nb hb).1, (sm_nb hb).2, H bb hb ⟨fun q => ⟨q, z⟩, fun q => q.1⟩⟩) (fun z => nm_r (sm_or1 hb) ⟨(sm_nb (Or.inr rfl)).1, (sm_nb (Or.inr rfl)).2, H 1 (Or.inr rfl) ⟨fun q => absurd q (by decide), fun q => absurd q.2 z⟩⟩)
theorem sm_pout26 {post : St2 → Prop} (hb : bb = 0 ∨ bb = 1) (H : ∀ b', (b' = 0 ∨ b' = 1) → (b' = 0 ↔ bb = 0 ∧ sm_dj ii oo) → post (pr, ii, oo, b', mm, kn, ms, a1, a2, a3, a4, a5, a6, a7, a8)) : wX_putOut_26 post pr ii oo bb mm kn ms a1 a2 a3 a4 a5 a6 a7 a8 :=
  ek_if sm_and0 (fun z => nm_r (sm_or0 hb) ⟨(sm_nb hb).1, (sm_nb hb).2, H bb hb ⟨fun q => ⟨q, z⟩, fun q => q.1⟩⟩) (fun z => nm_r (sm_or1 hb) ⟨(sm_nb (Or.inr rfl)).1, (sm_nb (Or.inr rfl)).2, H 1 (Or.inr rfl) ⟨fun q => absurd q (by decide), fun q => absurd q.2 z⟩⟩)
theorem sm_putIn {P : Int32 → Prop} {post : St2 → Prop} {x : Int32} (hI : sm_iv ii oo bb) (hx : sm_s6 x) (hs : ∀ M, P M → sm_ag ii oo M → bb = 0 → sm_sub x M)
    (H : ∀ b' m', sm_Q P ii oo bb (ii ||| x) oo b' → sm_mv ii oo mm (ii ||| x) oo m' → post (pr, ii ||| x, oo, b', m', kn, ms, a1, a2, a3, a4, a5, a6, a7, a8)) : wpX_putIn post (pr, ii, oo, bb, mm, kn, ms, a1, a2, a3, a4, a5, a6, a7, a8) x := by
  refine ek_if sm_sub0 (fun z => ?_) (fun z => nm_e ?_)
  · have e := sm_or_sub z
    refine sm_pin26 hI.2.2.1 (fun b' h1 h2 => ?_)
    have t := H b' mm (sm_Q_in hI hx hs h1 (by rw [e]; exact h2)) (Or.inl ⟨e, rfl, rfl⟩)
    rw [e] at t
    exact t
  · refine sm_pin26 hI.2.2.1 (fun b' h1 h2 => H b' 1 (sm_Q_in hI hx hs h1 h2) (Or.inr ⟨rfl, fun q => z (fun k hk => ?_)⟩))
    rw [← q.1]
    exact sm_or_r k hk
theorem sm_putOut {P : Int32 → Prop} {post : St2 → Prop} {x : Int32} (hI : sm_iv ii oo bb) (hx : sm_s6 x) (hs : ∀ M, P M → sm_ag ii oo M → bb = 0 → sm_dj x M)
    (H : ∀ b' m', sm_Q P ii oo bb ii (oo ||| x) b' → sm_mv ii oo mm ii (oo ||| x) m' → post (pr, ii, oo ||| x, b', m', kn, ms, a1, a2, a3, a4, a5, a6, a7, a8)) : wpX_putOut post (pr, ii, oo, bb, mm, kn, ms, a1, a2, a3, a4, a5, a6, a7, a8) x := by
  refine ek_if sm_sub0 (fun z => ?_) (fun z => nm_e ?_)
  · have e := sm_or_sub z
    refine sm_pout26 hI.2.2.1 (fun b' h1 h2 => ?_)
    have t := H b' mm (sm_Q_out hI hx hs h1 (by rw [e]; exact h2)) (Or.inl ⟨rfl, e, rfl⟩)
    rw [e] at t
    exact t
  · refine sm_pout26 hI.2.2.1 (fun b' h1 h2 => H b' 1 (sm_Q_out hI hx hs h1 h2) (Or.inr ⟨rfl, fun q => z (fun k hk => ?_)⟩))
    rw [← q.2]
    exact sm_or_r k hk
end
/-! the least closed set, by rounds -/
section
variable {act : Nat → Prop} {a2 a3 : Nat → Int32}
def sm_in (act : Nat → Prop) (a2 a3 : Nat → Int32) (s0 s : Int32) (r : Nat) : Prop := sm_s6 s ∧ sm_sub s0 s ∧ (∀ S : Nat → Prop, sm_cl act a2 a3 S → ∀ i, sm_bt s i = true → S i) ∧ (s = s0 → ∀ r', r' < r → act r' → sm_sub (a3 r') s0 → sm_bt s0 (sm_hd a2 r') = true) ∧ (sm_cl act a2 a3 (fun i => sm_bt s0 i = true) → s = s0)
def sm_ot (act : Nat → Prop) (a2 a3 : Nat → Int32) (s : Int32) (k : Nat) : Prop := sm_s6 s ∧ (∀ S : Nat → Prop, sm_cl act a2 a3 S → ∀ i, sm_bt s i = true → S i) ∧ (sm_cl act a2 a3 (fun i => sm_bt s i = true) ∨ k ≤ sm_cd s)
theorem sm_ot_0 : sm_ot act a2 a3 0 0 := ⟨sm_s6_0, fun S _ i hi => absurd hi (by rw [sm_b0]; decide), Or.inr (Nat.zero_le _)⟩
theorem sm_in_0 {s : Int32} {k : Nat} (h : sm_ot act a2 a3 s k) : sm_in act a2 a3 s s 0 := ⟨h.1, sm_sub_r s, h.2.1, fun _ r' z => absurd z (by omega), fun _ => rfl⟩
theorem sm_in_skip {s0 s : Int32} {r : Nat} (h : sm_in act a2 a3 s0 s r) (hn : ¬ (act r ∧ sm_sub (a3 r) s)) : sm_in act a2 a3 s0 s (r + 1) := by
  refine ⟨h.1, h.2.1, h.2.2.1, fun e r' hr' ha hs => ?_, h.2.2.2.2⟩
  by_cases z : r' = r
  · subst z
    exact absurd ⟨ha, by rw [e]; exact hs⟩ hn
  · exact h.2.2.2.1 e r' (by omega) ha hs
theorem sm_in_put {s0 s : Int32} {r : Nat} (h : sm_in act a2 a3 s0 s r) (hr : r < 10) (ha : act r) (h6 : sm_hd a2 r < 6) (hs : sm_sub (a3 r) s) : sm_in act a2 a3 s0 (s ||| ((1 : Int32) <<< (nI (sm_hd a2 r) &&& 31))) (r + 1) := by
  have hb : ∀ k, sm_bt ((1 : Int32) <<< (nI (sm_hd a2 r) &&& 31)) k = true → k = sm_hd a2 r := fun k hk => by
    rw [sm_one (by omega)] at hk
    exact of_decide_eq_true hk
  have hb1 : sm_bt (s ||| ((1 : Int32) <<< (nI (sm_hd a2 r) &&& 31))) (sm_hd a2 r) = true := by
    rw [sm_bor, sm_one (by omega), decide_eq_true rfl, Bool.or_true]
  refine ⟨sm_s6_or h.1 (sm_s6_one h6), sm_sub_t h.2.1 sm_or_l, fun S hS i hi => ?_, fun e r' hr' ha' hs' => ?_, fun hc => ?_⟩
  · rcases sm_or_e hi with z | z
    · exact h.2.2.1 S hS i z
    · rw [hb i z]
      exact hS r hr ha (fun j hj => h.2.2.1 S hS j (hs j hj))
  · by_cases z : r' = r
    · subst z
      rw [e] at hb1
      exact hb1
    · have e2 : s = s0 := sm_sub_a (fun k hk => by rw [← e]; exact sm_or_l k hk) h.2.1
      exact h.2.2.2.1 e2 r' (by omega) ha' hs'
  · have e2 : s = s0 := h.2.2.2.2 hc
    subst e2
    exact sm_or_sub (fun k hk => by rw [hb k hk]; exact hc r hr ha (fun j hj => hs j hj))
theorem sm_in_end {s0 s : Int32} {k : Nat} (h : sm_in act a2 a3 s0 s 10) (g : sm_ot act a2 a3 s0 k) : sm_ot act a2 a3 s (k + 1) := by
  refine ⟨h.1, h.2.2.1, ?_⟩
  by_cases e : s = s0
  · left
    intro r hr ha hs
    have t := h.2.2.2.1 e r hr ha (fun j hj => by rw [← e]; exact hs j hj)
    rw [e]
    exact t
  · rcases g.2.2 with z | z
    · exact absurd (h.2.2.2.2 z) e
    · right
      have := sm_cd_lt h.2.1 h.1 e
      omega
theorem sm_ot_end {s : Int32} (h : sm_ot act a2 a3 s 6) (hh : ∀ r, r < 10 → act r → sm_hd a2 r < 6) : sm_lf act a2 a3 s := by
  refine ⟨h.1, ?_, h.2.1⟩
  rcases h.2.2 with z | z
  · exact z
  · exact fun r hr ha _ => sm_cd_full z _ (hh r hr ha)
end
section
variable {pr ii oo bb mm kn : Int32} {ms : Int64} {a1 a2 a3 a4 a5 a6 a7 a8 : Nat → Int32}
theorem sm_f65 {post : Int32 → Prop} {J4 J12 : Int32 → Int32 → Prop} {s x2 : Int32} {r h : Nat} (hr : r < 10) (hh : a2 r = nI h)
    (H1 : sm_sub (a3 r) s → J12 (s ||| ((1 : Int32) <<< (nI h &&& 31))) (nI (r + 1))) (H0 : ¬ sm_sub (a3 r) s → J12 s (nI (r + 1))) : wX_founded_65 post J4 J12 s x2 (nI r) 1 pr ii oo bb mm kn ms a1 a2 a3 a4 a5 a6 a7 a8 := by
  unfold wX_founded_65
  rw [nI_clamp (show r < 2 ^ 31 by omega), hh]
  exact br_f (by decide) ⟨pk_in r 10 hr, ek_if sm_sub0 (fun z => ⟨pk_in r 10 hr, nm_e (nm_r (nI_1 r) (H1 z))⟩) (fun z => nm_r (nI_1 r) (H0 z))⟩
theorem sm_f64 {post : Int32 → Prop} {J4 J12 : Int32 → Int32 → Prop} {s x2 : Int32} {r : Nat} (H0 : J12 s (nI (r + 1))) : wX_founded_64 post J4 J12 s x2 (nI r) pr ii oo bb mm kn ms a1 a2 a3 a4 a5 a6 a7 a8 :=
  br_t rfl (nm_r (nI_1 r) H0)
theorem sm_founded {post : Int32 → Prop} (hw : sm_wf pr a2 a3 a4) (H : ∀ F, sm_lf (sm_fa pr a1 a2 a3 a4 ii oo) a2 a3 F → post F) : wpX_founded post (pr, ii, oo, bb, mm, kn, ms, a1, a2, a3, a4, a5, a6, a7, a8) := by
  refine pk_loop (fun n k s => wX_founded_4 post pr ii oo bb mm kn ms a1 a2 a3 a4 a5 a6 a7 a8 n s (nI k)) (fun k s => sm_ot (sm_fa pr a1 a2 a3 a4 ii oo) a2 a3 s k) 6 0 0 (by omega) sm_ot_0 ?_ ?_
  · intro n s h
    exact pk_le 6 6 (fun _ => H s (sm_ot_end h (fun r hr ha => (sm_wf_hd hw hr ha.1).1))) (fun z => absurd z (by omega))
  · intro n k s hk h hn
    refine pk_le 6 k (fun z => absurd z (by omega)) (fun _ => ?_)
    refine pk_loop (fun n' r t => wX_founded_12 post (wX_founded_4 post pr ii oo bb mm kn ms a1 a2 a3 a4 a5 a6 a7 a8 n) (nI k) pr ii oo bb mm kn ms a1 a2 a3 a4 a5 a6 a7 a8 n' t (nI r)) (fun r t => sm_in (sm_fa pr a1 a2 a3 a4 ii oo) a2 a3 s t r) 10 0 s (by omega) (sm_in_0 h) ?_ ?_
    · intro n' t g
      exact pk_le 10 10 (fun _ => nm_r (nI_1 k) (hn t (sm_in_end g h))) (fun z => absurd z (by omega))
    · intro n' r t hr g hn'
      have sk : ¬ (sm_fa pr a1 a2 a3 a4 ii oo r ∧ sm_sub (a3 r) t) → wX_founded_12 post (wX_founded_4 post pr ii oo bb mm kn ms a1 a2 a3 a4 a5 a6 a7 a8 n) (nI k) pr ii oo bb mm kn ms a1 a2 a3 a4 a5 a6 a7 a8 n' t (nI (r + 1)) := fun q => hn' t (sm_in_skip g q)
      refine pk_le 10 r (fun z => absurd z (by omega)) (fun _ => ?_)
      refine sm_has hr (fun q => br_t rfl (sm_f64 (sk (fun w => sm_tf w.1.1 q)))) (fun q => br_f (by decide) ⟨pk_in r 10 hr, ?_⟩)
      rw [nI_clamp (show r < 2 ^ 31 by omega)]
      refine br_c (fun q2 => sm_f64 (sk (fun w => w.1.2.1 q2))) (fun q2 => sm_fails hr (fun q3 => br_t rfl ⟨pk_in r 10 hr, ?_⟩) (fun q3 => br_f (by decide) (sm_f64 (sk (fun w => q3 w.1.2.2.1)))))
      have hh := sm_wf_hd hw hr q
      rw [hh.2]
      exact ek_if (sm_sh (by omega) oo) (fun q4 => sm_f65 hr hh.2 (fun q5 => hn' _ (sm_in_put g hr ⟨q, q2, q3, q4⟩ hh.1 q5)) (fun q5 => sk (fun w => q5 w.2))) (fun q4 => sm_f64 (sk (fun w => q4 w.1.2.2.2)))
theorem sm_s102 {post : Int32 → Prop} {J4 J13 : Int32 → Int32 → Prop} {x1 s x3 : Int32} {r h : Nat} (hr : r < 10) (hh : a2 r = nI h)
    (H1 : J13 (s ||| ((1 : Int32) <<< (nI h &&& 31))) (nI (r + 1))) : wX_supportOf_102 post J4 J13 x1 s x3 (nI r) pr ii oo bb mm kn ms a1 a2 a3 a4 a5 a6 a7 a8 := by
  unfold wX_supportOf_102
  rw [nI_clamp (show r < 2 ^ 31 by omega), hh]
  exact ⟨pk_in r 10 hr, nm_e (nm_r (nI_1 r) H1)⟩
theorem sm_s70 {post : Int32 → Prop} {J4 J13 : Int32 → Int32 → Prop} {x1 s x3 : Int32} {r : Nat} (H0 : J13 s (nI (r + 1))) : wX_supportOf_70 post J4 J13 x1 s x3 (nI r) pr ii oo bb mm kn ms a1 a2 a3 a4 a5 a6 a7 a8 :=
  br_t rfl (nm_r (nI_1 r) H0)
theorem sm_s71 {post : Int32 → Prop} {J4 J13 : Int32 → Int32 → Prop} {x1 s x3 : Int32} {r h : Nat} (hr : r < 10) (h6 : h < 6) (hh : a2 r = nI h)
    (H1 : (a1 r = 0 ∨ sm_bt x1 h = true) → J13 (s ||| ((1 : Int32) <<< (nI h &&& 31))) (nI (r + 1))) (H0 : ¬ (a1 r = 0 ∨ sm_bt x1 h = true) → J13 s (nI (r + 1))) : wX_supportOf_71 post J4 J13 x1 s x3 (nI r) 1 pr ii oo bb mm kn ms a1 a2 a3 a4 a5 a6 a7 a8 := by
  unfold wX_supportOf_71
  rw [nI_clamp (show r < 2 ^ 31 by omega), hh]
  exact br_f (by decide) ⟨pk_in r 10 hr, br_c (fun z => sm_s102 hr hh (H1 (Or.inl z))) (fun z => ⟨pk_in r 10 hr, ek_if (sm_sh (by omega) x1) (fun z2 => nm_r (nI_1 r) (H0 (fun w => w.elim z (fun w' => sm_tf w' z2)))) (fun z2 => sm_s102 hr hh (H1 (Or.inr (sm_nf' z2))))⟩)⟩
theorem sm_supportOf {post : Int32 → Prop} {x : Int32} (hw : sm_wf pr a2 a3 a4) (H : ∀ F, sm_lf (sm_sa pr a1 a2 a3 a4 x) a2 a3 F → post F) : wpX_supportOf post (pr, ii, oo, bb, mm, kn, ms, a1, a2, a3, a4, a5, a6, a7, a8) x := by
  refine pk_loop (fun n k s => wX_supportOf_4 post x pr ii oo bb mm kn ms a1 a2 a3 a4 a5 a6 a7 a8 n s (nI k)) (fun k s => sm_ot (sm_sa pr a1 a2 a3 a4 x) a2 a3 s k) 6 0 0 (by omega) sm_ot_0 ?_ ?_
  · intro n s h
    exact pk_le 6 6 (fun _ => H s (sm_ot_end h (fun r hr ha => (sm_wf_hd hw hr ha.1).1))) (fun z => absurd z (by omega))
  · intro n k s hk h hn
    refine pk_le 6 k (fun z => absurd z (by omega)) (fun _ => ?_)
    refine pk_loop (fun n' r t => wX_supportOf_13 post (wX_supportOf_4 post x pr ii oo bb mm kn ms a1 a2 a3 a4 a5 a6 a7 a8 n) x (nI k) pr ii oo bb mm kn ms a1 a2 a3 a4 a5 a6 a7 a8 n' t (nI r)) (fun r t => sm_in (sm_sa pr a1 a2 a3 a4 x) a2 a3 s t r) 10 0 s (by omega) (sm_in_0 h) ?_ ?_
    · intro n' t g
      exact pk_le 10 10 (fun _ => nm_r (nI_1 k) (hn t (sm_in_end g h))) (fun z => absurd z (by omega))
    · intro n' r t hr g hn'
      have sk : ¬ (sm_sa pr a1 a2 a3 a4 x r ∧ sm_sub (a3 r) t) → wX_supportOf_13 post (wX_supportOf_4 post x pr ii oo bb mm kn ms a1 a2 a3 a4 a5 a6 a7 a8 n) x (nI k) pr ii oo bb mm kn ms a1 a2 a3 a4 a5 a6 a7 a8 n' t (nI (r + 1)) := fun q => hn' t (sm_in_skip g q)
      refine pk_le 10 r (fun z => absurd z (by omega)) (fun _ => ?_)
      refine sm_has hr (fun q => br_t rfl (sm_s70 (sk (fun w => sm_tf w.1.1 q)))) (fun q => br_f (by decide) ⟨pk_in r 10 hr, ?_⟩)
      rw [nI_clamp (show r < 2 ^ 31 by omega)]
      have hh := sm_wf_hd hw hr q
      exact br_c (fun q2 => sm_s70 (sk (fun w => w.1.2.1 q2))) (fun q2 => ⟨pk_in r 10 hr, ek_if sm_and0 (fun q3 => ⟨pk_in r 10 hr, ek_if sm_sub0 (fun q4 => sm_s71 hr hh.1 hh.2 (fun q5 => hn' _ (sm_in_put g hr ⟨q, q2, q3, q5⟩ hh.1 q4)) (fun q5 => sk (fun w => q5 w.1.2.2.2))) (fun q4 => sm_s70 (sk (fun w => q4 w.2)))⟩) (fun q3 => sm_s70 (sk (fun w => q3 w.1.2.2.1)))⟩)
end
end
section
section
variable {pr ii oo bb mm kn : Int32} {ms : Int64} {a1 a2 a3 a4 a5 a6 a7 a8 : Nat → Int32}
/-- an atom of a stable model has a rule whose body holds -/
theorem sm_supp {M : Int32} (hM : sm_st pr a1 a2 a3 a4 M) {a : Nat} (ha : sm_bt M a = true) : ∃ r, r < 10 ∧ sm_bt pr r = true ∧ ¬ a1 r = 2 ∧ sm_hd a2 r = a ∧ sm_bT a3 a4 r M := by
  have t := hM.2.2 (fun k => sm_bt M k = true ∧ ∃ r, r < 10 ∧ sm_bt pr r = true ∧ ¬ a1 r = 2 ∧ sm_hd a2 r = k ∧ sm_bT a3 a4 r M) (fun r hr hp hn hd hs hh => ⟨hh, r, hr, hp, hn, rfl, fun j hj => (hs j hj).1, hd⟩) a ha
  exact t.2
/-- a body that must not hold, with one atom not settled -/
theorem sm_unit {i o M : Int32} {r : Nat} (h3 : sm_s6 (a3 r)) (h4 : sm_s6 (a4 r)) (ha : sm_ag i o M) (hb : ¬ sm_bT a3 a4 r M) (hc : sm_cd (a3 r &&& (i ^^^ (-1))) + sm_cd (a4 r &&& (o ^^^ (-1))) = 1) :
    sm_dj (a3 r &&& (i ^^^ (-1))) M ∧ sm_sub (a4 r &&& (o ^^^ (-1))) M := by
  have s3 : sm_s6 (a3 r &&& (i ^^^ (-1))) := sm_s6_sub sm_diff_l h3
  have s4 : sm_s6 (a4 r &&& (o ^^^ (-1))) := sm_s6_sub sm_diff_l h4
  have p3 : ∀ k, sm_bt (a3 r) k = true → sm_bt (a3 r &&& (i ^^^ (-1))) k = false → sm_bt M k = true := fun k hk z => by
    rw [sm_bdiff, hk, Bool.true_and] at z
    exact ha.1 k (sm_nf' (fun w => by rw [w] at z; exact absurd z (by decide)))
  have p4 : ∀ k, sm_bt (a4 r) k = true → sm_bt (a4 r &&& (o ^^^ (-1))) k = false → sm_bt M k = false := fun k hk z => by
    rw [sm_bdiff, hk, Bool.true_and] at z
    exact ha.2 k (sm_nf' (fun w => by rw [w] at z; exact absurd z (by decide)))
  constructor
  · intro k hk
    refine sm_nt (fun z => hb ⟨fun j hj => ?_, fun j hj => ?_⟩)
    · by_cases e : sm_bt (a3 r &&& (i ^^^ (-1))) j = true
      · by_cases ej : j = k
        · rw [ej]; exact z
        · have := sm_cd_two e hk ej (s3 j e) (s3 k hk)
          omega
      · exact p3 j hj (sm_nt e)
    · by_cases e : sm_bt (a4 r &&& (o ^^^ (-1))) j = true
      · have t1 : 0 < sm_cd _ := sm_pc_pos e (s4 j e)
        have t2 : 0 < sm_cd _ := sm_pc_pos hk (s3 k hk)
        omega
      · exact p4 j hj (sm_nt e)
  · intro k hk
    refine sm_nf' (fun z => hb ⟨fun j hj => ?_, fun j hj => ?_⟩)
    · by_cases e : sm_bt (a3 r &&& (i ^^^ (-1))) j = true
      · have t1 : 0 < sm_cd _ := sm_pc_pos e (s3 j e)
        have t2 : 0 < sm_cd _ := sm_pc_pos hk (s4 k hk)
        omega
      · exact p3 j hj (sm_nt e)
    · by_cases e : sm_bt (a4 r &&& (o ^^^ (-1))) j = true
      · by_cases ej : j = k
        · rw [ej]; exact z
        · have := sm_cd_two e hk ej (s4 j e) (s4 k hk)
          omega
      · exact p4 j hj (sm_nt e)
theorem sm_fw29 {post : St2 → Prop} {r : Nat} (hr : r < 10) (hb : bb = 0 ∨ bb = 1) (H2 : a1 r = 2 → post (pr, ii, oo, 1, mm, kn, ms, a1, a2, a3, a4, a5, a6, a7, a8)) (H0 : ¬ a1 r = 2 → post (pr, ii, oo, bb, mm, kn, ms, a1, a2, a3, a4, a5, a6, a7, a8)) : wX_forward_29 post (nI r) pr ii oo bb mm kn ms a1 a2 a3 a4 a5 a6 a7 a8 := by
  unfold wX_forward_29
  rw [nI_clamp (show r < 2 ^ 31 by omega)]
  exact ⟨pk_in r 10 hr, br_c (fun z => nm_r (sm_or1 hb) ⟨(sm_nb (Or.inr rfl)).1, (sm_nb (Or.inr rfl)).2, H2 z⟩) (fun z => nm_r (sm_or0 hb) ⟨(sm_nb hb).1, (sm_nb hb).2, H0 z⟩)⟩
theorem sm_fw94 {post : St2 → Prop} {r : Nat} (hw : sm_wf pr a2 a3 a4) (hr : r < 10) (hp : sm_bt pr r = true) (hI : sm_iv ii oo bb) (hu : ∀ M, sm_st pr a1 a2 a3 a4 M → sm_ag ii oo M → ¬ sm_bT a3 a4 r M)
    (H : ∀ i' o' b' m', sm_Q (sm_st pr a1 a2 a3 a4) ii oo bb i' o' b' → sm_mv ii oo mm i' o' m' → post (pr, i', o', b', m', kn, ms, a1, a2, a3, a4, a5, a6, a7, a8)) : wX_forward_94 post (nI r) 1 pr ii oo bb mm kn ms a1 a2 a3 a4 a5 a6 a7 a8 := by
  have h3 := (hw r hr hp).2.1
  have h4 := (hw r hr hp).2.2
  have H0 : post (pr, ii, oo, bb, mm, kn, ms, a1, a2, a3, a4, a5, a6, a7, a8) := H ii oo bb mm (sm_Q_r hI) sm_mv_r
  unfold wX_forward_94
  rw [nI_clamp (show r < 2 ^ 31 by omega)]
  refine ⟨pk_in r 10 hr, nm_e ⟨pk_in r 10 hr, nm_e (br_f (by decide) (sm_fails hr (fun _ => br_t rfl (sm_ones (sm_ones ?_))) (fun _ => br_f (by decide) H0)))⟩⟩
  have l3 := sm_cd_le (a3 r &&& (ii ^^^ (-1)))
  have l4 := sm_cd_le (a4 r &&& (oo ^^^ (-1)))
  refine pk_eq (sm_cd (a3 r &&& (ii ^^^ (-1))) + sm_cd (a4 r &&& (oo ^^^ (-1)))) 1 (fun hc => ?_) (fun _ => H0) (nI_add _ _)
  refine sm_putOut (P := (sm_st pr a1 a2 a3 a4)) hI (sm_s6_sub sm_diff_l h3) (fun M hM ha hb => (sm_unit h3 h4 ha (hu M hM ha) hc).1) (fun b1 m1 hq1 hm1 => ?_)
  refine sm_putIn (P := (sm_st pr a1 a2 a3 a4)) hq1.1 (sm_s6_sub sm_diff_l h4) (fun M hM ha hb => ?_) (fun b2 m2 hq2 hm2 => H _ _ _ _ (sm_Q_t hq1 hq2) (sm_Q_mv hq1 hq2 hm1 hm2))
  have ha' : sm_ag ii oo M := ⟨ha.1, fun k hk => ha.2 k (sm_or_l k hk)⟩
  exact (sm_unit h3 h4 ha' (hu M hM ha') hc).2
theorem sm_fw93 {post : St2 → Prop} {r : Nat} (hr : r < 10) (H : post (pr, ii, oo, bb, mm, kn, ms, a1, a2, a3, a4, a5, a6, a7, a8)) : wX_forward_93 post (nI r) pr ii oo bb mm kn ms a1 a2 a3 a4 a5 a6 a7 a8 :=
  ⟨pk_in r 10 hr, nm_e ⟨pk_in r 10 hr, nm_e (br_t rfl H)⟩⟩
theorem sm_forward {post : St2 → Prop} {r : Nat} (hw : sm_wf pr a2 a3 a4) (hr : r < 10) (hp : sm_bt pr r = true) (hI : sm_iv ii oo bb)
    (H : ∀ i' o' b' m', sm_Q (sm_st pr a1 a2 a3 a4) ii oo bb i' o' b' → sm_mv ii oo mm i' o' m' → (i' = ii → o' = oo → b' = 0 → sm_hl a3 a4 ii oo r → ¬ a1 r = 2 ∧ (a1 r = 0 → sm_bt ii (sm_hd a2 r) = true)) → post (pr, i', o', b', m', kn, ms, a1, a2, a3, a4, a5, a6, a7, a8)) :
    wpX_forward post (pr, ii, oo, bb, mm, kn, ms, a1, a2, a3, a4, a5, a6, a7, a8) (nI r) := by
  have hh := sm_wf_hd hw hr hp
  have c0 : (nI r).toNatClampNeg = r := nI_clamp (by omega)
  unfold wpX_forward
  dsimp only
  rw [c0]
  refine sm_holds hr (fun hn => br_t rfl ⟨pk_in r 10 hr, ?_⟩) (fun hy => br_f (by decide) ⟨pk_in r 10 hr, ?_⟩)
  · have H' : ∀ i' o' b' m', sm_Q (sm_st pr a1 a2 a3 a4) ii oo bb i' o' b' → sm_mv ii oo mm i' o' m' → post (pr, i', o', b', m', kn, ms, a1, a2, a3, a4, a5, a6, a7, a8) := fun i' o' b' m' h1 h2 => H i' o' b' m' h1 h2 (fun _ _ _ z => absurd z hn)
    have H0 : post (pr, ii, oo, bb, mm, kn, ms, a1, a2, a3, a4, a5, a6, a7, a8) := H' ii oo bb mm (sm_Q_r hI) sm_mv_r
    refine br_c (fun e2 => sm_fw94 hw hr hp hI (fun M hM ha hb => (hM.2.1 r hr hp hb).1 e2) H') (fun e2 => ⟨pk_in r 10 hr, br_c (fun e0 => ⟨pk_in r 10 hr, ?_⟩) (fun e0 => sm_fw93 hr H0)⟩)
    rw [hh.2]
    exact ek_if (sm_sh (by omega) oo) (fun q => sm_fw93 hr H0) (fun q => sm_fw94 hw hr hp hI (fun M hM ha hb => sm_tf ((hM.2.1 r hr hp hb).2 e0) (ha.2 _ (sm_nf' q))) H')
  · refine br_c (fun e0 => ⟨pk_in r 10 hr, ?_⟩) (fun e0 => sm_fw29 hr hI.2.2.1 (fun e2 => ?_) (fun e2 => ?_))
    · rw [hh.2]
      refine sm_putIn (P := (sm_st pr a1 a2 a3 a4)) hI (sm_s6_one hh.1) (fun M hM ha hb k hk => ?_) (fun b1 m1 hq1 hm1 => sm_fw29 hr hq1.1.2.2.1 (fun e2 => ?_) (fun e2 => H _ _ _ _ hq1 hm1 (fun e _ _ _ => ⟨e2, fun _ => ?_⟩)))
      · rw [sm_one (by omega)] at hk
        rw [of_decide_eq_true hk]
        exact (hM.2.1 r hr hp (sm_ag_hl ha hy)).2 e0
      · have e2' : a1 r = 2 := e2
        rw [e0] at e2'; exact absurd e2' (by decide)
      · rw [← e, sm_bor, sm_one (by omega), decide_eq_true rfl, Bool.or_true]
    · refine H ii oo 1 mm ⟨⟨hI.1, hI.2.1, Or.inr rfl, fun z => absurd z (by decide)⟩, sm_sub_r ii, sm_sub_r oo, fun z => absurd z (by decide), fun M hM ha hb => ?_⟩ sm_mv_r (fun _ _ z => absurd z (by decide))
      exact absurd e2 (hM.2.1 r hr hp (sm_ag_hl ha hy)).1
    · exact H ii oo bb mm (sm_Q_r hI) sm_mv_r (fun _ _ _ _ => ⟨e2, fun z => absurd z e0⟩)
/-- a rule that may bring in atom a -/
def sm_ok (pr : Int32) (a1 a2 a3 a4 : Nat → Int32) (i o : Int32) (a r : Nat) : Prop := sm_bt pr r = true ∧ ¬ a1 r = 2 ∧ a2 r = nI a ∧ sm_nf a3 a4 i o r
def sm_bk (pr : Int32) (a1 a2 a3 a4 : Nat → Int32) (i o : Int32) (a r : Nat) (x : Int32) (c : Nat) : Prop :=
  c ≤ r ∧ ((c = 0 ∧ ∀ r', r' < r → ¬ sm_ok pr a1 a2 a3 a4 i o a r') ∨ (c = 1 ∧ ∃ w, w < r ∧ x = nI w ∧ sm_ok pr a1 a2 a3 a4 i o a w ∧ ∀ r', r' < r → sm_ok pr a1 a2 a3 a4 i o a r' → r' = w) ∨ 2 ≤ c)
theorem sm_bk_skip {i o : Int32} {a r : Nat} {x : Int32} {c : Nat} (h : sm_bk pr a1 a2 a3 a4 i o a r x c) (hn : ¬ sm_ok pr a1 a2 a3 a4 i o a r) : sm_bk pr a1 a2 a3 a4 i o a (r + 1) x c := by
  refine ⟨by have := h.1; omega, ?_⟩
  rcases h.2 with ⟨h1, h2⟩ | ⟨h1, w, hw, hx, h2, h3⟩ | h1
  · refine Or.inl ⟨h1, fun r' hr' z => ?_⟩
    by_cases e : r' = r
    · exact hn (e ▸ z)
    · exact h2 r' (by omega) z
  · refine Or.inr (Or.inl ⟨h1, w, by omega, hx, h2, fun r' hr' z => ?_⟩)
    by_cases e : r' = r
    · exact absurd (e ▸ z) hn
    · exact h3 r' (by omega) z
  · exact Or.inr (Or.inr h1)
theorem sm_bk_add {i o : Int32} {a r : Nat} {x : Int32} {c : Nat} (h : sm_bk pr a1 a2 a3 a4 i o a r x c) (hy : sm_ok pr a1 a2 a3 a4 i o a r) : sm_bk pr a1 a2 a3 a4 i o a (r + 1) (nI r) (c + 1) := by
  refine ⟨by have := h.1; omega, ?_⟩
  rcases h.2 with ⟨h1, h2⟩ | ⟨h1, w, hw, hx, h2, h3⟩ | h1
  · refine Or.inr (Or.inl ⟨by omega, r, by omega, rfl, hy, fun r' hr' z => ?_⟩)
    by_cases e : r' = r
    · exact e
    · exact absurd z (h2 r' (by omega))
  · exact Or.inr (Or.inr (by omega))
  · exact Or.inr (Or.inr (by omega))
theorem sm_backward {post : St2 → Prop} {a : Nat} (hw : sm_wf pr a2 a3 a4) (ha : a < 6) (hI : sm_iv ii oo bb)
    (H : ∀ i' o' b' m', sm_Q (sm_st pr a1 a2 a3 a4) ii oo bb i' o' b' → sm_mv ii oo mm i' o' m' → post (pr, i', o', b', m', kn, ms, a1, a2, a3, a4, a5, a6, a7, a8)) : wpX_backward post (pr, ii, oo, bb, mm, kn, ms, a1, a2, a3, a4, a5, a6, a7, a8) (nI a) := by
  have H0 : post (pr, ii, oo, bb, mm, kn, ms, a1, a2, a3, a4, a5, a6, a7, a8) := H ii oo bb mm (sm_Q_r hI) sm_mv_r
  refine ek_if (sm_sh (by omega) ii) (fun _ => H0) (fun hin => ?_)
  have hin' : sm_bt ii a = true := sm_nf' hin
  have key : ∀ M, sm_st pr a1 a2 a3 a4 M → sm_ag ii oo M → ∃ r, r < 10 ∧ sm_ok pr a1 a2 a3 a4 ii oo a r ∧ sm_bT a3 a4 r M := by
    intro M hM hag
    obtain ⟨r, hr, hp, hn, he, hb⟩ := sm_supp hM (hag.1 a hin')
    exact ⟨r, hr, ⟨hp, hn, by rw [← he]; exact (sm_wf_hd hw hr hp).2, sm_ag_nf hag hb⟩, hb⟩
  refine pk_loop (σ := Int32 × Nat) (fun n r s => wX_backward_19 post (nI a) pr ii oo bb mm kn ms a1 a2 a3 a4 a5 a6 a7 a8 n s.1 (nI s.2) (nI r)) (fun r s => sm_bk pr a1 a2 a3 a4 ii oo a r s.1 s.2) 10 0 ((-1), 0) (by omega) ⟨Nat.le_refl 0, Or.inl ⟨rfl, fun r' z => absurd z (by omega)⟩⟩ ?_ ?_
  · intro n s h
    obtain ⟨x, c⟩ := s
    have hc : c ≤ 10 := h.1
    refine pk_le 10 10 (fun _ => ?_) (fun z => absurd z (by omega))
    refine pk_eq c 0 (fun e => ?_) (fun e => pk_eq c 1 (fun e1 => ?_) (fun _ => H0))
    · refine H ii oo 1 mm ⟨⟨hI.1, hI.2.1, Or.inr rfl, fun z => absurd z (by decide)⟩, sm_sub_r ii, sm_sub_r oo, fun z => absurd z (by decide), fun M hM hag hb => ?_⟩ sm_mv_r
      obtain ⟨r, hr, hok, _⟩ := key M hM hag
      rcases h.2 with ⟨_, h2⟩ | ⟨h1, _⟩ | h1
      · exact absurd hok (h2 r hr)
      · have h1' : c = 1 := h1
        omega
      · have h1' : 2 ≤ c := h1
        omega
    · have hh : ∃ w, w < 10 ∧ x = nI w ∧ sm_ok pr a1 a2 a3 a4 ii oo a w ∧ ∀ r', r' < 10 → sm_ok pr a1 a2 a3 a4 ii oo a r' → r' = w := by
        rcases h.2 with ⟨h1, _⟩ | ⟨_, h2⟩ | h1
        · have h1' : c = 0 := h1
          omega
        · exact h2
        · have h1' : 2 ≤ c := h1
          omega
      obtain ⟨w, hw10, hx, hok, huni⟩ := hh
      have hwf := hw w hw10 hok.1
      show vp_in x 10 ∧ _
      rw [hx, nI_clamp (show w < 2 ^ 31 by omega)]
      refine ⟨pk_in w 10 hw10, sm_putIn (P := (sm_st pr a1 a2 a3 a4)) hI hwf.2.1 (fun M hM hag hb => ?_) (fun b1 m1 hq1 hm1 => ⟨pk_in w 10 hw10, sm_putOut (P := (sm_st pr a1 a2 a3 a4)) hq1.1 hwf.2.2 (fun M hM hag hb => ?_) (fun b2 m2 hq2 hm2 => H _ _ _ _ (sm_Q_t hq1 hq2) (sm_Q_mv hq1 hq2 hm1 hm2))⟩)⟩
      · obtain ⟨r, hr, hok', hbT⟩ := key M hM hag
        rw [huni r hr hok'] at hbT
        exact hbT.1
      · obtain ⟨r, hr, hok', hbT⟩ := key M hM ⟨fun k hk => hag.1 k (sm_or_l k hk), hag.2⟩
        rw [huni r hr hok'] at hbT
        exact hbT.2
  · intro n r s hr h hn
    obtain ⟨x, c⟩ := s
    have sk : ¬ sm_ok pr a1 a2 a3 a4 ii oo a r → wX_backward_19 post (nI a) pr ii oo bb mm kn ms a1 a2 a3 a4 a5 a6 a7 a8 n x (nI c) (nI (r + 1)) := fun q => hn (x, c) (sm_bk_skip h q)
    refine pk_le 10 r (fun z => absurd z (by omega)) (fun _ => ?_)
    refine sm_has hr (fun q => br_t rfl (nm_r (nI_1 r) (sk (fun w => sm_tf w.1 q)))) (fun q => br_f (by decide) ⟨pk_in r 10 hr, ?_⟩)
    rw [nI_clamp (show r < 2 ^ 31 by omega)]
    exact br_c (fun q2 => nm_r (nI_1 r) (sk (fun w => w.2.1 q2))) (fun q2 => ⟨pk_in r 10 hr, br_c (fun q3 => sm_fails hr (fun q4 => br_t rfl (nm_r (nI_1 c) (nm_r (nI_1 r) (hn (nI r, c + 1) (sm_bk_add h ⟨q, q2, q3, q4⟩))))) (fun q4 => br_f (by decide) (nm_r (nI_1 r) (sk (fun w => q4 w.2.2.2))))) (fun q3 => nm_r (nI_1 r) (sk (fun w => q3 w.2.2.1)))⟩)
/-- nothing new: unless broken, if all atoms are settled, a stable model -/
def sm_fx (P : Int32 → Prop) (i o : Int32) : Prop := (∀ k, k < 6 → sm_bt i k = true ∨ sm_bt o k = true) → P i
theorem sm_c61 {post : St2 → Prop} {J7 : Int32 → Int32 → Int32 → Int32 → Int32 → Int32 → Int32 → Int64 → (Nat → Int32) → (Nat → Int32) → (Nat → Int32) → (Nat → Int32) → (Nat → Int32) → (Nat → Int32) → (Nat → Int32) → (Nat → Int32) → Prop} {j : Nat}
    (hw : sm_wf pr a2 a3 a4) (hI : sm_iv ii oo bb)
    (H : ∀ i' o' b' m', sm_Q (sm_st pr a1 a2 a3 a4) ii oo bb i' o' b' → sm_mv ii oo mm i' o' m' → (i' = ii → o' = oo → ∃ F, sm_lf (sm_fa pr a1 a2 a3 a4 ii oo) a2 a3 F ∧ ∀ k, k < 6 → sm_bt F k = false → sm_bt oo k = true) → J7 (nI (j + 1)) pr i' o' b' m' kn ms a1 a2 a3 a4 a5 a6 a7 a8) :
    ∃ n, wX_conclude_61 post J7 (nI j) n 0 pr ii oo bb mm kn ms a1 a2 a3 a4 a5 a6 a7 a8 := by
  refine pk_loop (σ := Int32 × Int32 × Int32 × Int32) (fun n a s => wX_conclude_61 post J7 (nI j) n (nI a) pr s.1 s.2.1 s.2.2.1 s.2.2.2 kn ms a1 a2 a3 a4 a5 a6 a7 a8) (fun a s => sm_Q (sm_st pr a1 a2 a3 a4) ii oo bb s.1 s.2.1 s.2.2.1 ∧ sm_mv ii oo mm s.1 s.2.1 s.2.2.2) 6 0 (ii, oo, bb, mm) (by omega) ⟨sm_Q_r hI, sm_mv_r⟩ ?_ ?_
  · intro n s h
    obtain ⟨i, o, b, m⟩ := s
    have hq : sm_Q (sm_st pr a1 a2 a3 a4) ii oo bb i o b := h.1
    have hm : sm_mv ii oo mm i o m := h.2
    refine pk_le 6 6 (fun _ => ?_) (fun z => absurd z (by omega))
    refine sm_founded hw (fun F hF => nm_e ?_)
    have hx : sm_s6 (63 &&& (F ^^^ (-1))) := sm_s6_sub sm_diff_l sm_s6_63
    refine sm_putOut (P := (sm_st pr a1 a2 a3 a4)) hq.1 hx (fun M hM ha hb k hk => ?_) (fun b2 m2 hq2 hm2 => nm_r (nI_1 j) (H _ _ _ _ (sm_Q_t hq hq2) (sm_Q_mv hq hq2 hm hm2) (fun e1 e2 => ?_)))
    · rw [sm_bdiff] at hk
      refine sm_nt (fun z => ?_)
      rw [sm_fsound hM ha hF k z, Bool.not_true, Bool.and_false] at hk
      exact absurd hk (by decide)
    · have e3 : o = oo := sm_sub_a (fun k hk => by rw [← e2]; exact sm_or_l k hk) hq.2.2.1
      subst e1 e3
      refine ⟨F, hF, fun k hk hf => ?_⟩
      rw [← e2, sm_bor, sm_bdiff, sm_b63, decide_eq_true hk, hf]
      simp
  · intro n a s ha h hn
    obtain ⟨i, o, b, m⟩ := s
    have hq : sm_Q (sm_st pr a1 a2 a3 a4) ii oo bb i o b := h.1
    have hm : sm_mv ii oo mm i o m := h.2
    refine pk_le 6 a (fun z => absurd z (by omega)) (fun _ => ?_)
    exact sm_backward hw ha hq.1 (fun i' o' b' m' hq2 hm2 => nm_r (nI_1 a) (hn (i', o', b', m') ⟨sm_Q_t hq hq2, sm_Q_mv hq hq2 hm hm2⟩))
theorem sm_c34 {post : St2 → Prop} {J7 : Int32 → Int32 → Int32 → Int32 → Int32 → Int32 → Int32 → Int64 → (Nat → Int32) → (Nat → Int32) → (Nat → Int32) → (Nat → Int32) → (Nat → Int32) → (Nat → Int32) → (Nat → Int32) → (Nat → Int32) → Prop} {j : Nat}
    (hw : sm_wf pr a2 a3 a4) (hI : sm_iv ii oo bb)
    (H : ∀ i' o' b' m', sm_Q (sm_st pr a1 a2 a3 a4) ii oo bb i' o' b' → sm_mv ii oo mm i' o' m' → (i' = ii → o' = oo → b' = 0 → sm_fx (sm_st pr a1 a2 a3 a4) ii oo) → J7 (nI (j + 1)) pr i' o' b' m' kn ms a1 a2 a3 a4 a5 a6 a7 a8) :
    ∃ n, wX_conclude_34 post J7 (nI j) n 0 pr ii oo bb mm kn ms a1 a2 a3 a4 a5 a6 a7 a8 := by
  refine pk_loop (σ := Int32 × Int32 × Int32 × Int32) (fun n r s => wX_conclude_34 post J7 (nI j) n (nI r) pr s.1 s.2.1 s.2.2.1 s.2.2.2 kn ms a1 a2 a3 a4 a5 a6 a7 a8)
    (fun r s => sm_Q (sm_st pr a1 a2 a3 a4) ii oo bb s.1 s.2.1 s.2.2.1 ∧ sm_mv ii oo mm s.1 s.2.1 s.2.2.2 ∧ (s.1 = ii → s.2.1 = oo → s.2.2.1 = 0 → ∀ r', r' < r → sm_bt pr r' = true → sm_hl a3 a4 ii oo r' → ¬ a1 r' = 2 ∧ (a1 r' = 0 → sm_bt ii (sm_hd a2 r') = true)))
    10 0 (ii, oo, bb, mm) (by omega) ⟨sm_Q_r hI, sm_mv_r, fun _ _ _ r' z => absurd z (by omega)⟩ ?_ ?_
  · intro n s h
    obtain ⟨i, o, b, m⟩ := s
    have hq : sm_Q (sm_st pr a1 a2 a3 a4) ii oo bb i o b := h.1
    have hm : sm_mv ii oo mm i o m := h.2.1
    have hc : i = ii → o = oo → b = 0 → ∀ r', r' < 10 → sm_bt pr r' = true → sm_hl a3 a4 ii oo r' → ¬ a1 r' = 2 ∧ (a1 r' = 0 → sm_bt ii (sm_hd a2 r') = true) := h.2.2
    refine pk_le 10 10 (fun _ => ?_) (fun z => absurd z (by omega))
    refine sm_c61 hw hq.1 (fun i' o' b' m' hq2 hm2 hf => H i' o' b' m' (sm_Q_t hq hq2) (sm_Q_mv hq hq2 hm hm2) (fun e1 e2 e3 hfull => ?_))
    subst e1 e2
    obtain ⟨e4, e5⟩ := sm_Q_back hq hq2
    subst e4 e5
    obtain ⟨F, hF, ho⟩ := hf rfl rfl
    exact sm_fin hw hI.1 (hI.2.2.2 (hq.2.2.2.1 (hq2.2.2.2.1 e3))) hfull (hc rfl rfl (hq2.2.2.2.1 e3)) hF ho
  · intro n r s hr h hn
    obtain ⟨i, o, b, m⟩ := s
    have hq : sm_Q (sm_st pr a1 a2 a3 a4) ii oo bb i o b := h.1
    have hm : sm_mv ii oo mm i o m := h.2.1
    have hc : i = ii → o = oo → b = 0 → ∀ r', r' < r → sm_bt pr r' = true → sm_hl a3 a4 ii oo r' → ¬ a1 r' = 2 ∧ (a1 r' = 0 → sm_bt ii (sm_hd a2 r') = true) := h.2.2
    refine pk_le 10 r (fun z => absurd z (by omega)) (fun _ => ?_)
    refine sm_has hr (fun q => br_t rfl (nm_r (nI_1 r) (hn (i, o, b, m) ⟨hq, hm, fun e1 e2 e3 r' hr' hp' => ?_⟩))) (fun q => br_f (by decide) (sm_forward hw hr q hq.1 (fun i' o' b' m' hq2 hm2 hf => nm_r (nI_1 r) (hn (i', o', b', m') ⟨sm_Q_t hq hq2, sm_Q_mv hq hq2 hm hm2, fun e1 e2 e3 r' hr' hp' => ?_⟩))))
    · by_cases e : r' = r
      · subst e
        exact absurd hp' (by rw [q]; decide)
      · exact hc e1 e2 e3 r' (by omega) hp'
    · have e1' : i' = ii := e1
      have e2' : o' = oo := e2
      have e3' : b' = 0 := e3
      subst e1' e2'
      obtain ⟨e4, e5⟩ := sm_Q_back hq hq2
      subst e4 e5
      by_cases e : r' = r
      · subst e
        exact hf rfl rfl e3'
      · exact hc rfl rfl (hq2.2.2.2.1 e3') r' (by omega) hp'
theorem sm_conclude {post : St2 → Prop} (hw : sm_wf pr a2 a3 a4) (hI : sm_iv ii oo bb)
    (H : ∀ i' o' b' m', sm_Q (sm_st pr a1 a2 a3 a4) ii oo bb i' o' b' → (b' = 0 → sm_fx (sm_st pr a1 a2 a3 a4) i' o') → post (pr, i', o', b', m', kn, ms, a1, a2, a3, a4, a5, a6, a7, a8)) : wpX_conclude post (pr, ii, oo, bb, mm, kn, ms, a1, a2, a3, a4, a5, a6, a7, a8) := by
  refine pk_loop (σ := Int32 × Int32 × Int32 × Int32) (fun n j s => wX_conclude_7 post n (nI j) pr s.1 s.2.1 s.2.2.1 s.2.2.2 kn ms a1 a2 a3 a4 a5 a6 a7 a8)
    (fun j s => sm_Q (sm_st pr a1 a2 a3 a4) ii oo bb s.1 s.2.1 s.2.2.1 ∧ ((s.2.2.2 = 0 ∧ (s.2.2.1 = 0 → sm_fx (sm_st pr a1 a2 a3 a4) s.1 s.2.1)) ∨ (s.2.2.2 = 1 ∧ j ≤ sm_cd s.1 + sm_cd s.2.1)))
    14 0 (ii, oo, bb, 1) (by omega) ⟨sm_Q_r hI, Or.inr ⟨rfl, Nat.zero_le _⟩⟩ ?_ ?_
  · intro n s h
    obtain ⟨i, o, b, m⟩ := s
    refine pk_le 14 14 (fun _ => ?_) (fun z => absurd z (by omega))
    refine H i o b m h.1 (fun e => ?_)
    rcases h.2 with ⟨_, h2⟩ | ⟨_, h2⟩
    · exact h2 e
    · have h2' : 14 ≤ sm_cd i + sm_cd o := h2
      have := sm_cd_le i
      have := sm_cd_le o
      omega
  · intro n j s hj h hn
    obtain ⟨i, o, b, m⟩ := s
    have hq : sm_Q (sm_st pr a1 a2 a3 a4) ii oo bb i o b := h.1
    refine pk_le 14 j (fun z => absurd z (by omega)) (fun _ => ?_)
    rcases h.2 with ⟨h1, h2⟩ | ⟨h1, h2⟩
    · exact br_t h1 (H i o b m hq h2)
    · have h1' : m = 1 := h1
      have h2' : j ≤ sm_cd i + sm_cd o := h2
      subst h1'
      refine br_f (by show ¬ (1 : Int32) = 0; decide) (br_c (fun eb => ?_) (fun eb => H i o b 1 hq (fun z => absurd z eb)))
      refine sm_c34 hw hq.1 (fun i' o' b' m' hq2 hm2 hf => hn (i', o', b', m') ⟨sm_Q_t hq hq2, ?_⟩)
      rcases hm2 with ⟨e1, e2, e3⟩ | ⟨e3, e4⟩
      · subst e1 e2
        exact Or.inl ⟨e3, fun z => hf rfl rfl z⟩
      · refine Or.inr ⟨e3, ?_⟩
        show j + 1 ≤ sm_cd i' + sm_cd o'
        have c1 := sm_cd_mono hq2.2.1
        have c2 := sm_cd_mono hq2.2.2.1
        by_cases z : i' = i
        · have c3 := sm_cd_lt hq2.2.2.1 hq2.1.2.1 (fun w => e4 ⟨z, w⟩)
          omega
        · have c3 := sm_cd_lt hq2.2.1 hq2.1.1 z
          omega
end
end
section
/-! the set of models as a long -/
def sm_mb (w : Int64) (j : Nat) : Bool := w.toBitVec.getLsbD j
theorem sm_mb0 (j : Nat) : sm_mb 0 j = false := BitVec.getLsbD_zero
theorem sm_tw : ∀ k, k < 64 → ((1 : Int64) <<< ((nI k).toInt64 &&& 63)).toBitVec = BitVec.twoPow 64 k := by decide +kernel
theorem sm_ct63 : ∀ k, k < 64 → ((nI k).toInt64.toUInt64 &&& Int64.toUInt64 63).toNat = k := by decide +kernel
theorem sm_mbor (w : Int64) {k : Nat} (hk : k < 64) (j : Nat) : sm_mb (w ||| ((1 : Int64) <<< ((nI k).toInt64 &&& 63))) j = (sm_mb w j || decide (k = j)) := by
  unfold sm_mb
  rw [Int64.toBitVec_or, BitVec.getLsbD_or, sm_tw k hk, BitVec.getLsbD_twoPow, decide_eq_true hk, Bool.true_and]
/-- (began as ts_bit of kit/laws/BITS.to-paste) -/
theorem sm_tsb {w : Int64} {s : UInt64} {j : Nat} (hj : j < 64) (hs : s.toNat = j) : ((w.toUInt64 >>> s).toInt64 &&& 1) = 0 ↔ sm_mb w j = false := by
  have e : (w.toUInt64 >>> s).toInt64.toBitVec = w.toBitVec >>> j := by
    apply BitVec.eq_of_toNat_eq
    show (w.toUInt64 >>> s).toNat = _
    rw [UInt64.toNat_shiftRight, hs, Nat.mod_eq_of_lt hj, BitVec.toNat_ushiftRight]
    rfl
  unfold sm_mb
  rw [← Int64.toBitVec_inj, Int64.toBitVec_and, e]
  show w.toBitVec >>> j &&& 1#64 = 0#64 ↔ _
  constructor
  · intro h
    have t := congrArg (fun x => x.getLsbD 0) h
    simpa using t
  · intro h
    apply BitVec.eq_of_getLsbD_eq
    intro i hi
    cases i with
    | zero => simp [h]
    | succ i => simp
theorem sm_mb_ext {x y : Int64} (h : ∀ m, m < 64 → sm_mb x m = sm_mb y m) : x = y := Int64.toBitVec_inj.mp (BitVec.eq_of_getLsbD_eq (fun i hi => h i hi))
/-! the levels -/
def sm_nd (L : Nat) : Nat := 2 ^ (7 - L) - 1
theorem sm_nd1 : ∀ L, L < 6 → sm_nd L = 1 + 2 * sm_nd (L + 1) := by decide
theorem sm_nd0 : ∀ L, L < 7 → 1 ≤ sm_nd L := by decide
def sm_tn (x : Int32) : Nat := if x = 0 then 2 else if x = 1 then 1 else 0
def sm_sg (a8 : Nat → Int32) : Nat → Nat
  | 0 => 0
  | n + 1 => sm_sg a8 n + sm_tn (a8 n) * sm_nd (n + 1)
theorem sm_sg_up {a8 : Nat → Int32} {k : Nat} {x : Int32} : ∀ n, n ≤ k → sm_sg (upd a8 k x) n = sm_sg a8 n
  | 0, _ => rfl
  | n + 1, h => by
      show sm_sg (upd a8 k x) n + sm_tn (upd a8 k x n) * sm_nd (n + 1) = sm_sg a8 n + sm_tn (a8 n) * sm_nd (n + 1)
      rw [sm_sg_up n (by omega), pk_un (by omega)]
theorem sm_sg_s {a8 : Nat → Int32} {n : Nat} {x : Int32} : sm_sg (upd a8 n x) (n + 1) = sm_sg a8 n + sm_tn x * sm_nd (n + 1) := by
  show sm_sg (upd a8 n x) n + sm_tn (upd a8 n x n) * sm_nd (n + 1) = _
  rw [sm_sg_up n (Nat.le_refl n), pk_us]
def sm_lv (a5 a6 a7 a8 : Nat → Int32) (L : Nat) : Prop := ∀ j, j < L → sm_s6 (a5 j) ∧ sm_s6 (a6 j) ∧ sm_dj (a5 j) (a6 j) ∧ (∃ q, q < 6 ∧ a7 j = nI q ∧ sm_bt (a5 j) q = false ∧ sm_bt (a6 j) q = false) ∧ j ≤ sm_cd (a5 j) + sm_cd (a6 j) ∧ (a8 j = 0 ∨ a8 j = 1 ∨ a8 j = 2)
/-- a model that a level still has to try -/
def sm_fr (a5 a6 a7 a8 : Nat → Int32) (L : Nat) (M : Int32) : Prop := ∃ j, j < L ∧ sm_ag (a5 j) (a6 j) M ∧ (a8 j = 0 ∨ (a8 j = 1 ∧ sm_bt M (sm_hd a7 j) = true))
def sm_SI (P : Int32 → Prop) (L t : Nat) (i o b : Int32) (ms : Int64) (a5 a6 a7 a8 : Nat → Int32) : Prop :=
  L ≤ 6 ∧ sm_iv i o b ∧ (b = 0 → sm_fx P i o) ∧ (b = 0 → L ≤ sm_cd i + sm_cd o) ∧ sm_lv a5 a6 a7 a8 L ∧ t + sm_nd L + sm_sg a8 L ≤ 127 ∧ (∀ m, m < 64 → sm_mb ms m = true → P (nI m)) ∧
  (∀ m, m < 64 → P (nI m) → sm_mb ms m = true ∨ (b = 0 ∧ sm_ag i o (nI m)) ∨ sm_fr a5 a6 a7 a8 L (nI m))
def sm_SJ (P : Int32 → Prop) (L t : Nat) (ms : Int64) (a5 a6 a7 a8 : Nat → Int32) : Prop :=
  L ≤ 6 ∧ sm_lv a5 a6 a7 a8 L ∧ t + 1 + sm_sg a8 L ≤ 127 ∧ (∀ m, m < 64 → sm_mb ms m = true → P (nI m)) ∧
  (∀ m, m < 64 → P (nI m) → sm_mb ms m = true ∨ sm_fr a5 a6 a7 a8 L (nI m))
def sm_ms (P : Int32 → Prop) (ms : Int64) : Prop := ∀ m, m < 64 → (sm_mb ms m = true ↔ P (nI m))
theorem sm_SJ_end {P : Int32 → Prop} {t : Nat} {ms : Int64} {a5 a6 a7 a8 : Nat → Int32} (h : sm_SJ P 0 t ms a5 a6 a7 a8) : sm_ms P ms := by
  intro m hm
  refine ⟨h.2.2.2.1 m hm, fun z => ?_⟩
  rcases h.2.2.2.2 m hm z with w | ⟨j, hj, _⟩
  · exact w
  · exact absurd hj (by omega)
theorem sm_SJ_pop {P : Int32 → Prop} {L t : Nat} {ms : Int64} {a5 a6 a7 a8 : Nat → Int32} (h : sm_SJ P (L + 1) t ms a5 a6 a7 a8) (e : a8 L = 2) : sm_SJ P L t ms a5 a6 a7 a8 := by
  obtain ⟨h1, h2, h3, h4, h5⟩ := h
  refine ⟨by omega, fun j hj => h2 j (by omega), ?_, h4, fun m hm z => ?_⟩
  · have : sm_sg a8 (L + 1) = sm_sg a8 L + sm_tn (a8 L) * sm_nd (L + 1) := rfl
    omega
  · rcases h5 m hm z with w | ⟨j, hj, ha, hb⟩
    · exact Or.inl w
    · by_cases ej : j = L
      · subst ej
        rw [e] at hb
        rcases hb with q | ⟨q, _⟩
        · exact absurd q (by decide)
        · exact absurd q (by decide)
      · exact Or.inr ⟨j, by omega, ha, hb⟩
/-- the atom of a level is taken out -/
theorem sm_SI_0 {P : Int32 → Prop} {L t : Nat} {ms : Int64} {a5 a6 a7 a8 : Nat → Int32} {q : Nat} {i' o' b' : Int32} (h : sm_SJ P (L + 1) t ms a5 a6 a7 a8) (hq : q < 6) (h7 : a7 L = nI q) (h8 : a8 L = 0)
    (hQ : sm_Q P (a5 L) (a6 L ||| ((1 : Int32) <<< (nI q &&& 31))) 0 i' o' b') (hx : b' = 0 → sm_fx P i' o') : sm_SI P (L + 1) (t + 1) i' o' b' ms a5 a6 a7 (upd a8 L 1) := by
  obtain ⟨h1, h2, h3, h4, h5⟩ := h
  obtain ⟨l1, l2, l3, ⟨q', hq', e7, l4, l4'⟩, l5, l6⟩ := h2 L (by omega)
  have eq : q' = q := by rw [h7] at e7; exact ((nI_eq (by omega) (by omega)).mp e7).symm
  subst eq
  have ehd : sm_hd a7 L = q' := by unfold sm_hd; rw [h7, nI_clamp (by omega)]
  refine ⟨h1, hQ.1, hx, fun eb => ?_, fun j hj => ?_, ?_, h4, fun m hm z => ?_⟩
  · have c1 := sm_cd_mono hQ.2.1
    have c2 := sm_cd_mono hQ.2.2.1
    have c3 : sm_cd (a6 L) < sm_cd (a6 L ||| ((1 : Int32) <<< (nI q' &&& 31))) := sm_cd_lt sm_or_l (sm_s6_or l2 (sm_s6_one hq')) (fun e => by
      have t1 : sm_bt (a6 L ||| ((1 : Int32) <<< (nI q' &&& 31))) q' = true := by rw [sm_bor, sm_one (by omega), decide_eq_true rfl, Bool.or_true]
      rw [e] at t1
      exact sm_tf t1 l4')
    omega
  · obtain ⟨k1, k2, k3, k4, k5, k6⟩ := h2 j hj
    refine ⟨k1, k2, k3, k4, k5, ?_⟩
    by_cases ej : j = L
    · subst ej
      rw [pk_us]
      exact Or.inr (Or.inl rfl)
    · rw [pk_un ej]
      exact k6
  · rw [sm_sg_s]
    have e1 : sm_sg a8 (L + 1) = sm_sg a8 L + sm_tn (a8 L) * sm_nd (L + 1) := rfl
    rw [h8] at e1
    have e2 : sm_tn 0 = 2 := rfl
    have e3 : sm_tn 1 = 1 := rfl
    rw [e2] at e1
    rw [e3]
    omega
  · rcases h5 m hm z with w | ⟨j, hj, ha, hb⟩
    · exact Or.inl w
    · by_cases ej : j = L
      · subst ej
        cases em : sm_bt (nI m) q'
        · refine Or.inr (Or.inl ?_)
          have t1 := hQ.2.2.2.2 (nI m) z ⟨ha.1, fun k hk => (sm_or_e hk).elim (ha.2 k) (fun w => ?_)⟩ rfl
          · exact ⟨t1.2, t1.1⟩
          · rw [sm_one (by omega)] at w
            rw [of_decide_eq_true w]
            exact em
        · exact Or.inr (Or.inr ⟨j, hj, ha, Or.inr ⟨pk_us, by rw [ehd]; exact em⟩⟩)
      · exact Or.inr (Or.inr ⟨j, hj, ha, by rw [pk_un ej]; exact hb⟩)
/-- the atom of a level is taken in -/
theorem sm_SI_1 {P : Int32 → Prop} {L t : Nat} {ms : Int64} {a5 a6 a7 a8 : Nat → Int32} {q : Nat} {i' o' b' : Int32} (h : sm_SJ P (L + 1) t ms a5 a6 a7 a8) (hq : q < 6) (h7 : a7 L = nI q) (h8 : a8 L = 1)
    (hQ : sm_Q P (a5 L ||| ((1 : Int32) <<< (nI q &&& 31))) (a6 L) 0 i' o' b') (hx : b' = 0 → sm_fx P i' o') : sm_SI P (L + 1) (t + 1) i' o' b' ms a5 a6 a7 (upd a8 L 2) := by
  obtain ⟨h1, h2, h3, h4, h5⟩ := h
  obtain ⟨l1, l2, l3, ⟨q', hq', e7, l4, l4'⟩, l5, l6⟩ := h2 L (by omega)
  have eq : q' = q := by rw [h7] at e7; exact ((nI_eq (by omega) (by omega)).mp e7).symm
  subst eq
  have ehd : sm_hd a7 L = q' := by unfold sm_hd; rw [h7, nI_clamp (by omega)]
  refine ⟨h1, hQ.1, hx, fun eb => ?_, fun j hj => ?_, ?_, h4, fun m hm z => ?_⟩
  · have c1 := sm_cd_mono hQ.2.1
    have c2 := sm_cd_mono hQ.2.2.1
    have c3 : sm_cd (a5 L) < sm_cd (a5 L ||| ((1 : Int32) <<< (nI q' &&& 31))) := sm_cd_lt sm_or_l (sm_s6_or l1 (sm_s6_one hq')) (fun e => by
      have t1 : sm_bt (a5 L ||| ((1 : Int32) <<< (nI q' &&& 31))) q' = true := by rw [sm_bor, sm_one (by omega), decide_eq_true rfl, Bool.or_true]
      rw [e] at t1
      exact sm_tf t1 l4)
    omega
  · obtain ⟨k1, k2, k3, k4, k5, k6⟩ := h2 j hj
    refine ⟨k1, k2, k3, k4, k5, ?_⟩
    by_cases ej : j = L
    · subst ej
      rw [pk_us]
      exact Or.inr (Or.inr rfl)
    · rw [pk_un ej]
      exact k6
  · rw [sm_sg_s]
    have e1 : sm_sg a8 (L + 1) = sm_sg a8 L + sm_tn (a8 L) * sm_nd (L + 1) := rfl
    rw [h8] at e1
    have e2 : sm_tn 1 = 1 := rfl
    have e3 : sm_tn 2 = 0 := rfl
    rw [e2] at e1
    rw [e3]
    omega
  · rcases h5 m hm z with w | ⟨j, hj, ha, hb⟩
    · exact Or.inl w
    · by_cases ej : j = L
      · subst ej
        refine Or.inr (Or.inl ?_)
        have hb' : sm_bt (nI m) q' = true := by
          rcases hb with w | ⟨_, w⟩
          · rw [h8] at w; exact absurd w (by decide)
          · rw [ehd] at w; exact w
        have t1 := hQ.2.2.2.2 (nI m) z ⟨fun k hk => (sm_or_e hk).elim (ha.1 k) (fun w => ?_), ha.2⟩ rfl
        · exact ⟨t1.2, t1.1⟩
        · rw [sm_one (by omega)] at w
          rw [of_decide_eq_true w]
          exact hb'
      · exact Or.inr (Or.inr ⟨j, hj, ha, by rw [pk_un ej]; exact hb⟩)
/-- broken: nothing to be tried here -/
theorem sm_SJ_br {P : Int32 → Prop} {L t : Nat} {i o b : Int32} {ms : Int64} {a5 a6 a7 a8 : Nat → Int32} (h : sm_SI P L t i o b ms a5 a6 a7 a8) (hb : ¬ b = 0) : sm_SJ P L t ms a5 a6 a7 a8 := by
  obtain ⟨h1, h2, h3, h4, h5, h6, h7, h8⟩ := h
  refine ⟨h1, h5, by have := sm_nd0 L (by omega); omega, h7, fun m hm z => ?_⟩
  rcases h8 m hm z with w | ⟨w, _⟩ | w
  · exact Or.inl w
  · exact absurd w hb
  · exact Or.inr w
/-- all settled: a model is noted -/
theorem sm_SJ_md {P : Int32 → Prop} {L t : Nat} {i o b : Int32} {ms : Int64} {a5 a6 a7 a8 : Nat → Int32} (h : sm_SI P L t i o b ms a5 a6 a7 a8) (hb : b = 0) (hf : (i ||| o) = 63) : sm_SJ P L t (ms ||| ((1 : Int64) <<< (i.toInt64 &&& 63))) a5 a6 a7 a8 := by
  obtain ⟨h1, h2, h3, h4, h5, h6, h7, h8⟩ := h
  have hfull := (sm_ff h2.1 h2.2.1).mp hf
  have hPi : P i := h3 hb hfull
  obtain ⟨k, hk, ek⟩ := sm_s6_nI h2.1
  rw [ek] at hPi
  refine ⟨h1, h5, by have := sm_nd0 L (by omega); omega, fun m hm z => ?_, fun m hm z => ?_⟩
  · rw [ek, sm_mbor ms hk] at z
    by_cases e : k = m
    · rw [← e]; exact hPi
    · rw [decide_eq_false e, Bool.or_false] at z
      exact h7 m hm z
  · rw [ek, sm_mbor ms hk]
    rcases h8 m hm z with w | ⟨_, w⟩ | w
    · rw [w, Bool.true_or]; exact Or.inl rfl
    · left
      have e : i = nI m := sm_sub_a w.1 (fun j hj => (hfull j (sm_nI6 hm j hj)).elim id (fun q => absurd hj (by rw [w.2 j q]; decide)))
      rw [ek] at e
      rw [decide_eq_true ((nI_eq (by omega) (by omega)).mp e), Bool.or_true]
    · exact Or.inr w
/-- not all settled: a level more -/
theorem sm_SJ_op {P : Int32 → Prop} {L t : Nat} {i o b : Int32} {ms : Int64} {a5 a6 a7 a8 : Nat → Int32} {q : Nat} (h : sm_SI P L t i o b ms a5 a6 a7 a8) (hb : b = 0) (hL : L < 6) (hq : q < 6) (hqi : sm_bt i q = false) (hqo : sm_bt o q = false) :
    sm_SJ P (L + 1) t ms (upd a5 L i) (upd a6 L o) (upd a7 L (nI q)) (upd a8 L 0) := by
  obtain ⟨h1, h2, h3, h4, h5, h6, h7, h8⟩ := h
  refine ⟨by omega, fun j hj => ?_, ?_, h7, fun m hm z => ?_⟩
  · by_cases ej : j = L
    · subst ej
      rw [pk_us, pk_us, pk_us, pk_us]
      exact ⟨h2.1, h2.2.1, h2.2.2.2 hb, ⟨q, hq, rfl, hqi, hqo⟩, h4 hb, Or.inl rfl⟩
    · rw [pk_un ej, pk_un ej, pk_un ej, pk_un ej]
      exact h5 j (by omega)
  · rw [sm_sg_s]
    have e2 : sm_tn 0 = 2 := rfl
    have := sm_nd1 L hL
    rw [e2]
    omega
  · rcases h8 m hm z with w | ⟨_, w⟩ | ⟨j, hj, ha, hc⟩
    · exact Or.inl w
    · refine Or.inr ⟨L, by omega, ?_, Or.inl pk_us⟩
      rw [pk_us, pk_us]
      exact w
    · have ej : j ≠ L := by omega
      refine Or.inr ⟨j, by omega, ?_, ?_⟩
      · rw [pk_un ej, pk_un ej]; exact ha
      · unfold sm_hd
        rw [pk_un ej, pk_un ej]; exact hc
theorem sm_SI_lt {P : Int32 → Prop} {L t : Nat} {i o b : Int32} {ms : Int64} {a5 a6 a7 a8 : Nat → Int32} (h : sm_SI P L t i o b ms a5 a6 a7 a8) (hb : b = 0) (hf : ¬ (i ||| o) = 63) : L < 6 := by
  obtain ⟨h1, h2, h3, h4, _⟩ := h
  have c := sm_cd_dj (h2.2.2.2 hb)
  have c1 := h4 hb
  have c2 : sm_cd (i ||| o) < 6 := by
    rcases Nat.lt_or_ge (sm_cd (i ||| o)) 6 with z | z
    · exact z
    · exact absurd ((sm_ff h2.1 h2.2.1).mpr (fun k hk => sm_or_e (sm_cd_full z k hk))) hf
  omega
section
variable {pr ii oo bb mm kn : Int32} {ms : Int64} {a1 a2 a3 a4 a5 a6 a7 a8 : Nat → Int32}
theorem sm_op31 {post : St2 → Prop} {L k : Nat} (hL : L < 8) (hk : k < 6) (h0 : sm_bt (ii ||| oo) k = false) (h1 : ∀ j, j < k → sm_bt (ii ||| oo) j = true)
    (H : post (pr, ii, oo, bb, mm, kn, ms, a1, a2, a3, a4, a5, a6, upd a7 L (nI k), a8)) : ∃ n, wX_open_31 post (nI L) pr ii oo bb mm kn ms a1 a2 a3 a4 a5 a6 a7 a8 n 0 :=
  pk_loop (σ := Unit) (fun n i _ => wX_open_31 post (nI L) pr ii oo bb mm kn ms a1 a2 a3 a4 a5 a6 a7 a8 n (nI i)) (fun _ _ => True) k 0 () (by omega) trivial
    (fun n _ _ => br_t ((sm_sh (by omega) _).mpr h0) ⟨pk_in L 8 hL, nm_r (e' := upd a7 L (nI k)) (by rw [nI_clamp (show L < 2 ^ 31 by omega), sm_by64 k (by omega)]) H⟩)
    (fun n i _ hi _ hw => br_f (fun z => sm_tf (h1 i hi) ((sm_sh (by omega) _).mp z)) (nm_r (nI_1 i) (hw () trivial)))
theorem sm_opn {post : St2 → Prop} {L : Nat} (hL : L < 8) (hi : sm_s6 ii) (ho : sm_s6 oo) (hn : ¬ (ii ||| oo) = 63)
    (H : ∀ q, q < 6 → sm_bt ii q = false → sm_bt oo q = false → post (pr, ii, oo, bb, mm, kn, ms, a1, a2, a3, a4, upd a5 L ii, upd a6 L oo, upd a7 L (nI q), upd a8 L 0)) : wpX_open post (pr, ii, oo, bb, mm, kn, ms, a1, a2, a3, a4, a5, a6, a7, a8) (nI L) := by
  have hex : ∃ k, sm_bt (ii ||| oo) k = false ∧ k < 6 := by
    by_cases e : ∃ k, sm_bt (ii ||| oo) k = false ∧ k < 6
    · exact e
    · exact absurd ((sm_ff hi ho).mpr (fun k hk => sm_or_e (sm_nf' (fun z => e ⟨k, z, hk⟩)))) hn
  obtain ⟨k, ⟨hk0, hk6⟩, hkl⟩ := pk_least (fun k => sm_bt (ii ||| oo) k = false ∧ k < 6) hex
  have hio : sm_bt ii k = false ∧ sm_bt oo k = false := by
    rw [sm_bor] at hk0
    cases e1 : sm_bt ii k
    · rw [e1, Bool.false_or] at hk0; exact ⟨rfl, hk0⟩
    · rw [e1, Bool.true_or] at hk0; exact absurd hk0 (by decide)
  have c0 : (nI L).toNatClampNeg = L := nI_clamp (by omega)
  refine ⟨pk_in L 8 hL, nm_r (e' := upd a5 L ii) (by rw [c0, sm_byte hi]) ⟨pk_in L 8 hL, nm_r (e' := upd a6 L oo) (by rw [c0, sm_byte ho]) ⟨pk_in L 8 hL, nm_r (e' := upd a8 L 0) (by rw [c0]) ?_⟩⟩⟩
  exact sm_op31 hL hk6 hk0 (fun j hj => sm_nf' (fun z => hkl j hj ⟨z, by omega⟩)) (H k hk6 hio.1 hio.2)
theorem sm_try66 {post : St2 → Prop} {L : Nat} {x : Int32} (hw : sm_wf pr a2 a3 a4) (hL : L < 8) (hI : sm_iv ii oo bb) (hx : (a8 L + 1).toInt8.toInt32 = x)
    (H : ∀ i' o' b' m', sm_Q (sm_st pr a1 a2 a3 a4) ii oo bb i' o' b' → (b' = 0 → sm_fx (sm_st pr a1 a2 a3 a4) i' o') → post (pr, i', o', b', m', kn, ms, a1, a2, a3, a4, a5, a6, a7, upd a8 L x)) : wX_tryNext_66 post (nI L) pr ii oo bb mm kn ms a1 a2 a3 a4 a5 a6 a7 a8 := by
  unfold wX_tryNext_66
  rw [nI_clamp (show L < 2 ^ 31 by omega), hx]
  exact ⟨pk_in L 8 hL, pk_in L 8 hL, nm_e (sm_conclude hw hI H)⟩
theorem sm_try {post : St2 → Prop} {L q : Nat} (hw : sm_wf pr a2 a3 a4) (hL : L < 8) (h5 : sm_s6 (a5 L)) (h6 : sm_s6 (a6 L)) (hd : sm_dj (a5 L) (a6 L)) (hq : q < 6) (h7 : a7 L = nI q) (hq5 : sm_bt (a5 L) q = false) (hq6 : sm_bt (a6 L) q = false) (h8 : a8 L = 0 ∨ a8 L = 1)
    (H0 : a8 L = 0 → ∀ i' o' b' m', sm_Q (sm_st pr a1 a2 a3 a4) (a5 L) (a6 L ||| ((1 : Int32) <<< (nI q &&& 31))) 0 i' o' b' → (b' = 0 → sm_fx (sm_st pr a1 a2 a3 a4) i' o') → post (pr, i', o', b', m', kn, ms, a1, a2, a3, a4, a5, a6, a7, upd a8 L 1))
    (H1 : a8 L = 1 → ∀ i' o' b' m', sm_Q (sm_st pr a1 a2 a3 a4) (a5 L ||| ((1 : Int32) <<< (nI q &&& 31))) (a6 L) 0 i' o' b' → (b' = 0 → sm_fx (sm_st pr a1 a2 a3 a4) i' o') → post (pr, i', o', b', m', kn, ms, a1, a2, a3, a4, a5, a6, a7, upd a8 L 2)) : wpX_tryNext post (pr, ii, oo, bb, mm, kn, ms, a1, a2, a3, a4, a5, a6, a7, a8) (nI L) := by
  have c0 : (nI L).toNatClampNeg = L := nI_clamp (by omega)
  have hb : ∀ k, sm_bt ((1 : Int32) <<< (nI q &&& 31)) k = true → k = q := fun k hk => by
    rw [sm_one (by omega)] at hk
    exact of_decide_eq_true hk
  unfold wpX_tryNext
  dsimp only
  rw [c0, h7]
  refine ⟨pk_in L 8 hL, nm_e ⟨pk_in L 8 hL, nm_e ⟨pk_in L 8 hL, nm_e ⟨pk_in L 8 hL, br_c (fun e => nm_e ?_) (fun e => nm_e ?_)⟩⟩⟩⟩
  · refine sm_try66 hw hL ⟨h5, sm_s6_or h6 (sm_s6_one hq), Or.inl rfl, fun _ k hk => ?_⟩ (by rw [e]; decide) (H0 e)
    refine sm_nt (fun z => (sm_or_e z).elim (fun w => sm_tf w (hd k hk)) (fun w => ?_))
    rw [hb k w] at hk
    exact sm_tf hk hq5
  · have e1 : a8 L = 1 := h8.elim (fun z => absurd z e) id
    refine sm_try66 hw hL ⟨sm_s6_or h5 (sm_s6_one hq), h6, Or.inl rfl, fun _ k hk => (sm_or_e hk).elim (hd k) (fun w => ?_)⟩ (by rw [e1]; decide) (H1 e1)
    rw [hb k w]
    exact hq6
theorem sm_s123 {post : St2 → Prop} {J43 : Int32 → Int32 → Int32 → Int32 → Int32 → Int32 → Int32 → Int32 → Int32 → Int64 → (Nat → Int32) → (Nat → Int32) → (Nat → Int32) → (Nat → Int32) → (Nat → Int32) → (Nat → Int32) → (Nat → Int32) → (Nat → Int32) → Prop} {t : Nat}
    (hw : sm_wf pr a2 a3 a4) (H : sm_ms (sm_st pr a1 a2 a3 a4) ms → post (pr, ii, oo, bb, mm, kn, ms, a1, a2, a3, a4, a5, a6, a7, a8))
    (HJ : ∀ L i' o' b' m' x8, sm_SI (sm_st pr a1 a2 a3 a4) L (t + 1) i' o' b' ms a5 a6 a7 x8 → J43 (nI L) 1 (nI (t + 1)) pr i' o' b' m' kn ms a1 a2 a3 a4 a5 a6 a7 x8) :
    ∀ L, sm_SJ (sm_st pr a1 a2 a3 a4) L t ms a5 a6 a7 a8 → ∃ n, wX_search_123 post J43 (nI t) pr ii oo bb mm kn ms a1 a2 a3 a4 a5 a6 a7 a8 n (nI L)
  | 0, h => ⟨1, br_t (by decide) (br_t rfl (H (sm_SJ_end h)))⟩
  | L + 1, h => by
      have hL : L < 6 := by have := h.1; omega
      by_cases e : a8 L = 2
      · obtain ⟨n, hn⟩ := sm_s123 hw H HJ L (sm_SJ_pop h e)
        refine ⟨n + 1, br_f (nI_nle (by omega) (by omega)) ?_⟩
        rw [nI_pred, nI_clamp (show L < 2 ^ 31 by omega)]
        exact ⟨pk_in L 8 (by omega), br_t e (nm_r (pk_m1 L) hn)⟩
      · refine ⟨1, br_f (nI_nle (by omega) (by omega)) ?_⟩
        rw [nI_pred, nI_clamp (show L < 2 ^ 31 by omega)]
        refine ⟨pk_in L 8 (by omega), br_f e (br_f (nI_ne0 (by omega) (by omega)) ?_)⟩
        rw [nI_pred]
        obtain ⟨l1, l2, l3, ⟨q, hq, e7, l4, l4'⟩, l5, l6⟩ := h.2.1 L (by omega)
        exact sm_try hw (by omega) l1 l2 l3 hq e7 l4 l4' (l6.elim Or.inl (fun z => z.elim Or.inr (fun z' => absurd z' e)))
          (fun e0 i' o' b' m' hQ hx => nm_r (nI_1 t) (HJ (L + 1) i' o' b' m' _ (sm_SI_0 h hq e7 e0 hQ hx)))
          (fun e0 i' o' b' m' hQ hx => nm_r (nI_1 t) (HJ (L + 1) i' o' b' m' _ (sm_SI_1 h hq e7 e0 hQ hx)))
end
theorem sm_s43 {pr kn : Int32} {a1 a2 a3 a4 : Nat → Int32} {post : St2 → Prop} (hw : sm_wf pr a2 a3 a4)
    (H : ∀ i' o' b' m' s x5 x6 x7 x8, sm_ms (sm_st pr a1 a2 a3 a4) s → post (pr, i', o', b', m', kn, s, a1, a2, a3, a4, x5, x6, x7, x8)) :
    ∀ n L t i o b m ms a5 a6 a7 a8, 128 ≤ n + t → sm_SI (sm_st pr a1 a2 a3 a4) L t i o b ms a5 a6 a7 a8 → wX_search_43 post n (nI L) 1 (nI t) pr i o b m kn ms a1 a2 a3 a4 a5 a6 a7 a8 := by
  intro n
  induction n with
  | zero =>
    intro L t i o b m ms a5 a6 a7 a8 ht h
    have h6 := h.2.2.2.2.2.1
    omega
  | succ n ih =>
    intro L t i o b m ms a5 a6 a7 a8 ht h
    have h6 := h.2.2.2.2.2.1
    have HJ : ∀ ms' x5 x6 x7 L i' o' b' m' x8, sm_SI (sm_st pr a1 a2 a3 a4) L (t + 1) i' o' b' ms' x5 x6 x7 x8 → wX_search_43 post n (nI L) 1 (nI (t + 1)) pr i' o' b' m' kn ms' a1 a2 a3 a4 x5 x6 x7 x8 :=
      fun ms' x5 x6 x7 L i' o' b' m' x8 h' => ih L (t + 1) i' o' b' m' ms' x5 x6 x7 x8 (by omega) h'
    refine pk_le 512 t (fun z => absurd z (by omega)) (fun _ => br_f (by decide) ?_)
    refine br_c (fun eb => br_c (fun ef => nm_e ?_) (fun ef => ?_)) (fun eb => ?_)
    · exact br_f (by decide) (br_t eb (br_t ef (sm_s123 hw (H _ _ _ _ _ _ _ _ _) (HJ _ _ _ _) L (sm_SJ_md h eb ef))))
    · refine br_f (by decide) (br_t eb (br_f ef (sm_opn (by have := h.1; omega) h.2.1.1 h.2.1.2.1 ef (fun q hq hqi hqo => nm_r (nI_1 L) ?_))))
      exact sm_s123 hw (H _ _ _ _ _ _ _ _ _) (HJ _ _ _ _) (L + 1) (sm_SJ_op h eb (sm_SI_lt h eb ef) hq hqi hqo)
    · exact br_f (by decide) (br_f eb (sm_s123 hw (H _ _ _ _ _ _ _ _ _) (HJ _ _ _ _) L (sm_SJ_br h eb)))
section
variable {pr ii oo bb mm kn : Int32} {ms : Int64} {a1 a2 a3 a4 a5 a6 a7 a8 : Nat → Int32}
theorem sm_search {post : St2 → Prop} (hw : sm_wf pr a2 a3 a4) (hk : kn = 0 ∨ (kn = 1 ∧ sm_ms (sm_st pr a1 a2 a3 a4) ms))
    (H : ∀ i' o' b' m' s x5 x6 x7 x8, sm_ms (sm_st pr a1 a2 a3 a4) s → post (pr, i', o', b', m', 1, s, a1, a2, a3, a4, x5, x6, x7, x8)) : wpX_search post (pr, ii, oo, bb, mm, kn, ms, a1, a2, a3, a4, a5, a6, a7, a8) := by
  refine br_c (fun e => ?_) (fun e => ?_)
  · refine sm_conclude hw ⟨sm_s6_0, sm_s6_0, Or.inl rfl, fun _ k hk => absurd hk (by rw [sm_b0]; decide)⟩ (fun i' o' b' m' hQ hx => ⟨128, ?_⟩)
    refine sm_s43 hw H 128 0 0 i' o' b' m' 0 a5 a6 a7 a8 (by omega) ⟨by omega, hQ.1, hx, fun _ => Nat.zero_le _, fun j hj => absurd hj (by omega), (show 0 + sm_nd 0 + 0 ≤ 127 by decide), fun m hm z => absurd z (by rw [sm_mb0]; decide), fun m hm z => ?_⟩
    have t := hQ.2.2.2.2 (nI m) z ⟨fun k hk => absurd hk (by rw [sm_b0]; decide), fun k hk => absurd hk (by rw [sm_b0]; decide)⟩ rfl
    exact Or.inr (Or.inl ⟨t.2, t.1⟩)
  · rcases hk with z | ⟨z, hm⟩
    · exact absurd z e
    · subst z
      exact H _ _ _ _ _ _ _ _ _ hm
theorem sm_isModel {post : Int32 → Prop} {m : Nat} (hm : m < 64) (h0 : sm_mb ms m = false → post 0) (h1 : sm_mb ms m = true → post 1) : wpX_isModel post (pr, ii, oo, bb, mm, kn, ms, a1, a2, a3, a4, a5, a6, a7, a8) (nI m) :=
  ek_if (sm_tsb hm (sm_ct63 m hm)) h0 (fun z => h1 (sm_nf' z))
end
end
section
/-! answers against f: f m says whether m is a model -/
def sm_ct (f : Nat → Bool) : Nat → Nat
  | 0 => 0
  | n + 1 => sm_ct f n + (f n).toNat
def sm_br (f : Nat → Bool) : Nat → Nat
  | 0 => 0
  | n + 1 => sm_br f n ||| (if f n then n else 0)
def sm_ca (f : Nat → Bool) : Nat → Nat
  | 0 => 63
  | n + 1 => sm_ca f n &&& (if f n then n else 63)
def sm_on (m : Nat) : Nat := m % 2 + m / 2 % 2 + m / 4 % 2 + m / 8 % 2 + m / 16 % 2 + m / 32 % 2
def sm_fw (f : Nat → Bool) : Nat → Nat
  | 0 => 0
  | n + 1 => if f n then (if sm_fw f n = 0 then sm_on n + 1 else if sm_fw f n ≤ sm_on n + 1 then sm_fw f n else sm_on n + 1) else sm_fw f n
def sm_ic (c : Nat) : Int32 := if c = 0 then -1 else nI (c - 1)
def sm_im (f : Nat → Bool) (m : Nat) : Nat → Bool
  | 0 => true
  | n + 1 => sm_im f m n && !(decide (m < n) && f n && (m &&& n == m))
def sm_mx (f : Nat → Bool) : Nat → Nat
  | 0 => 0
  | n + 1 => sm_mx f n + (f n && sm_im f n 64).toNat
theorem sm_onE : ∀ m, m < 64 → sm_cd (nI m) = sm_on m := by decide +kernel
theorem sm_nor (a b : Nat) : nI a ||| nI b = nI (a ||| b) := by
  apply Int32.toBitVec_inj.1
  show BitVec.ofNat 32 a ||| BitVec.ofNat 32 b = BitVec.ofNat 32 (a ||| b)
  apply BitVec.eq_of_getLsbD_eq
  intro i hi
  simp [hi]
theorem sm_nand (a b : Nat) : nI a &&& nI b = nI (a &&& b) := by
  apply Int32.toBitVec_inj.1
  show BitVec.ofNat 32 a &&& BitVec.ofNat 32 b = BitVec.ofNat 32 (a &&& b)
  apply BitVec.eq_of_getLsbD_eq
  intro i hi
  simp [hi]
theorem sm_subN : ∀ m, m < 64 → ∀ o, o < 64 → ((nI m &&& (nI o ^^^ (-1))) = 0 ↔ (m &&& o) = m) := by decide +kernel
theorem sm_msf {P : Int32 → Prop} {ms : Int64} {f : Nat → Bool} (hf : ∀ m, m < 64 → (f m = true ↔ P (nI m))) (h : sm_ms P ms) : ∀ m, m < 64 → sm_mb ms m = f m := by
  intro m hm
  cases e : f m
  · exact sm_nt (fun z => sm_tf ((hf m hm).mpr ((h m hm).mp z)) e)
  · exact (h m hm).mpr ((hf m hm).mp e)
theorem sm_im_t {f : Nat → Bool} {m : Nat} (h : ∀ o, o < 64 → m < o → f o = true → ¬ (m &&& o) = m) : ∀ n, n ≤ 64 → sm_im f m n = true
  | 0, _ => rfl
  | n + 1, hn => by
      show (sm_im f m n && !(decide (m < n) && f n && (m &&& n == m))) = true
      rw [sm_im_t h n (by omega), Bool.true_and]
      by_cases e1 : m < n
      · cases e2 : f n
        · simp
        · have := h n (by omega) e1 e2
          simp [this]
      · simp [e1]
theorem sm_im_f {f : Nat → Bool} {m o : Nat} (h1 : m < o) (h2 : f o = true) (h3 : (m &&& o) = m) : ∀ n, o < n → sm_im f m n = false
  | 0, hn => absurd hn (by omega)
  | n + 1, hn => by
      show (sm_im f m n && !(decide (m < n) && f n && (m &&& n == m))) = false
      by_cases e : o = n
      · subst e
        simp [h1, h2, h3]
      · rw [sm_im_f h1 h2 h3 n (by omega), Bool.false_and]
section
variable {pr ii oo bb mm kn : Int32} {ms : Int64} {a1 a2 a3 a4 a5 a6 a7 a8 : Nat → Int32} {f : Nat → Bool}
theorem sm_models {post : Int32 → St2 → Prop} (hw : sm_wf pr a2 a3 a4) (hk : kn = 0 ∨ (kn = 1 ∧ sm_ms (sm_st pr a1 a2 a3 a4) ms)) (hf : ∀ m, m < 64 → (f m = true ↔ sm_st pr a1 a2 a3 a4 (nI m)))
    (H : ∀ i' o' b' m' s x5 x6 x7 x8, sm_ms (sm_st pr a1 a2 a3 a4) s → post (nI (sm_ct f 64)) (pr, i', o', b', m', 1, s, a1, a2, a3, a4, x5, x6, x7, x8)) : wpX_models post (pr, ii, oo, bb, mm, kn, ms, a1, a2, a3, a4, a5, a6, a7, a8) := by
  unfold wpX_models
  refine sm_search hw hk (fun i' o' b' m' s x5 x6 x7 x8 hs => ?_)
  have e := sm_msf hf hs
  refine pk_loop (fun n j c => wX_models_8 post pr i' o' b' m' 1 s a1 a2 a3 a4 x5 x6 x7 x8 n c (nI j)) (fun j c => c = nI (sm_ct f j)) 64 0 0 (by omega) rfl ?_ ?_
  · intro n c h
    exact pk_lt 63 64 (fun _ => by rw [h]; exact H _ _ _ _ _ _ _ _ _ hs) (fun z => absurd z (by omega))
  · intro n j c hj h hn
    refine pk_lt 63 j (fun z => absurd z (by omega)) (fun _ => sm_isModel hj (fun q => br_t rfl (nm_r (e' := nI (sm_ct f (j + 1))) ?_ (nm_r (nI_1 j) (hn _ rfl)))) (fun q => br_f (by decide) (nm_r (e' := nI (sm_ct f (j + 1))) ?_ (nm_r (nI_1 j) (hn _ rfl)))))
    · rw [e j hj] at q
      show c + 0 = nI (sm_ct f j + (f j).toNat)
      rw [q, h, ← nI_0, nI_add]
      rfl
    · rw [e j hj] at q
      show c + 1 = nI (sm_ct f j + (f j).toNat)
      rw [q, h, nI_1]
      rfl
theorem sm_brave {post : Int32 → St2 → Prop} (hw : sm_wf pr a2 a3 a4) (hk : kn = 0 ∨ (kn = 1 ∧ sm_ms (sm_st pr a1 a2 a3 a4) ms)) (hf : ∀ m, m < 64 → (f m = true ↔ sm_st pr a1 a2 a3 a4 (nI m)))
    (H : ∀ i' o' b' m' s x5 x6 x7 x8, sm_ms (sm_st pr a1 a2 a3 a4) s → post (nI (sm_br f 64)) (pr, i', o', b', m', 1, s, a1, a2, a3, a4, x5, x6, x7, x8)) : wpX_brave post (pr, ii, oo, bb, mm, kn, ms, a1, a2, a3, a4, a5, a6, a7, a8) := by
  unfold wpX_brave
  refine sm_search hw hk (fun i' o' b' m' s x5 x6 x7 x8 hs => ?_)
  have e := sm_msf hf hs
  refine pk_loop (fun n j c => wX_brave_8 post pr i' o' b' m' 1 s a1 a2 a3 a4 x5 x6 x7 x8 n c (nI j)) (fun j c => c = nI (sm_br f j)) 64 0 0 (by omega) rfl ?_ ?_
  · intro n c h
    exact pk_lt 63 64 (fun _ => by rw [h]; exact H _ _ _ _ _ _ _ _ _ hs) (fun z => absurd z (by omega))
  · intro n j c hj h hn
    refine pk_lt 63 j (fun z => absurd z (by omega)) (fun _ => sm_isModel hj (fun q => br_t rfl (nm_r (e' := nI (sm_br f (j + 1))) ?_ (nm_r (nI_1 j) (hn _ rfl)))) (fun q => br_f (by decide) (nm_r (e' := nI (sm_br f (j + 1))) ?_ (nm_r (nI_1 j) (hn _ rfl)))))
    · rw [e j hj] at q
      show c ||| 0 = nI (sm_br f j ||| (if f j then j else 0))
      rw [q, h, ← nI_0, sm_nor]
      rfl
    · rw [e j hj] at q
      show c ||| nI j = nI (sm_br f j ||| (if f j then j else 0))
      rw [q, h, sm_nor]
      rfl
theorem sm_cautious {post : Int32 → St2 → Prop} (hw : sm_wf pr a2 a3 a4) (hk : kn = 0 ∨ (kn = 1 ∧ sm_ms (sm_st pr a1 a2 a3 a4) ms)) (hf : ∀ m, m < 64 → (f m = true ↔ sm_st pr a1 a2 a3 a4 (nI m)))
    (H : ∀ i' o' b' m' s x5 x6 x7 x8, sm_ms (sm_st pr a1 a2 a3 a4) s → post (nI (sm_ca f 64)) (pr, i', o', b', m', 1, s, a1, a2, a3, a4, x5, x6, x7, x8)) : wpX_cautious post (pr, ii, oo, bb, mm, kn, ms, a1, a2, a3, a4, a5, a6, a7, a8) := by
  unfold wpX_cautious
  refine sm_search hw hk (fun i' o' b' m' s x5 x6 x7 x8 hs => ?_)
  have e := sm_msf hf hs
  refine pk_loop (fun n j c => wX_cautious_9 post pr i' o' b' m' 1 s a1 a2 a3 a4 x5 x6 x7 x8 n c (nI j)) (fun j c => c = nI (sm_ca f j)) 64 0 63 (by omega) rfl ?_ ?_
  · intro n c h
    exact pk_lt 63 64 (fun _ => by rw [h]; exact H _ _ _ _ _ _ _ _ _ hs) (fun z => absurd z (by omega))
  · intro n j c hj h hn
    refine pk_lt 63 j (fun z => absurd z (by omega)) (fun _ => sm_isModel hj (fun q => br_t rfl (nm_r (e' := nI (sm_ca f (j + 1))) ?_ (nm_r (nI_1 j) (hn _ rfl)))) (fun q => br_f (by decide) (nm_r (e' := nI (sm_ca f (j + 1))) ?_ (nm_r (nI_1 j) (hn _ rfl)))))
    · rw [e j hj] at q
      show c &&& nI 63 = nI (sm_ca f j &&& (if f j then j else 63))
      rw [q, h, sm_nand]
      rfl
    · rw [e j hj] at q
      show c &&& nI j = nI (sm_ca f j &&& (if f j then j else 63))
      rw [q, h, sm_nand]
      rfl
theorem sm_on_le (m : Nat) : sm_on m ≤ 6 := by unfold sm_on; omega
theorem sm_fw_le (f : Nat → Bool) : ∀ n, sm_fw f n ≤ 7
  | 0 => Nat.zero_le _
  | n + 1 => by
      have t := sm_fw_le f n
      have t2 := sm_on_le n
      show (if f n then (if sm_fw f n = 0 then sm_on n + 1 else if sm_fw f n ≤ sm_on n + 1 then sm_fw f n else sm_on n + 1) else sm_fw f n) ≤ 7
      split
      · split
        · omega
        · split <;> omega
      · exact t
theorem sm_fewest {post : Int32 → St2 → Prop} (hw : sm_wf pr a2 a3 a4) (hk : kn = 0 ∨ (kn = 1 ∧ sm_ms (sm_st pr a1 a2 a3 a4) ms)) (hf : ∀ m, m < 64 → (f m = true ↔ sm_st pr a1 a2 a3 a4 (nI m)))
    (H : ∀ i' o' b' m' s x5 x6 x7 x8, sm_ms (sm_st pr a1 a2 a3 a4) s → post (sm_ic (sm_fw f 64)) (pr, i', o', b', m', 1, s, a1, a2, a3, a4, x5, x6, x7, x8)) : wpX_fewest post (pr, ii, oo, bb, mm, kn, ms, a1, a2, a3, a4, a5, a6, a7, a8) := by
  unfold wpX_fewest
  refine sm_search hw hk (fun i' o' b' m' s x5 x6 x7 x8 hs => ?_)
  have e := sm_msf hf hs
  refine pk_loop (fun n j c => wX_fewest_8 post pr i' o' b' m' 1 s a1 a2 a3 a4 x5 x6 x7 x8 n c (nI j)) (fun j c => c = sm_ic (sm_fw f j)) 64 0 (-1) (by omega) rfl ?_ ?_
  · intro n c h
    exact pk_lt 63 64 (fun _ => by rw [h]; exact H _ _ _ _ _ _ _ _ _ hs) (fun z => absurd z (by omega))
  · intro n j c hj h hn
    have l1 := sm_fw_le f j
    have l2 := sm_on_le j
    refine pk_lt 63 j (fun z => absurd z (by omega)) (fun _ => sm_isModel hj (fun q => br_t rfl (br_t (by decide) (nm_r (nI_1 j) (hn c ?_)))) (fun q => br_f (by decide) (sm_ones ?_)))
    · rw [e j hj] at q
      rw [h]
      show sm_ic (sm_fw f j) = sm_ic (if f j then (if sm_fw f j = 0 then sm_on j + 1 else if sm_fw f j ≤ sm_on j + 1 then sm_fw f j else sm_on j + 1) else sm_fw f j)
      rw [q]
      rfl
    · rw [e j hj] at q
      rw [sm_onE j hj]
      have e2 : sm_fw f (j + 1) = (if sm_fw f j = 0 then sm_on j + 1 else if sm_fw f j ≤ sm_on j + 1 then sm_fw f j else sm_on j + 1) := by
        show (if f j then (if sm_fw f j = 0 then sm_on j + 1 else if sm_fw f j ≤ sm_on j + 1 then sm_fw f j else sm_on j + 1) else sm_fw f j) = _
        rw [q]
        rfl
      have e3 : sm_ic (sm_on j + 1) = nI (sm_on j) := by
        unfold sm_ic
        rw [if_neg (by omega), Nat.add_sub_cancel]
      refine br_f (nI_pos (by omega)) ?_
      by_cases z : sm_fw f j = 0
      · refine br_t ?_ (nm_r (nI_1 j) (hn _ ?_))
        · rw [h, z]; decide
        · rw [e2, if_pos z, e3]
      · have e4 : c = nI (sm_fw f j - 1) := by
          rw [h]
          unfold sm_ic
          rw [if_neg z]
        refine br_f (by rw [e4]; exact nI_pos (by omega)) (pk_le (sm_fw f j - 1) (sm_on j) (fun w => nm_r (nI_1 j) (hn _ ?_)) (fun w => nm_r (nI_1 j) (hn _ ?_)) e4)
        · rw [e2, if_neg z, if_pos (by omega)]
          exact h
        · rw [e2, if_neg z, if_neg (by omega), e3]
theorem sm_isMax {post : Int32 → Prop} {m : Nat} (hm : m < 64) (e : ∀ j, j < 64 → sm_mb ms j = f j) (h1 : sm_im f m 64 = true → post 1) (h0 : sm_im f m 64 = false → post 0) : wpX_isMaximal post (pr, ii, oo, bb, mm, kn, ms, a1, a2, a3, a4, a5, a6, a7, a8) (nI m) := by
  refine nm_r (nI_1 m) ?_
  by_cases z : ∃ o, m < o ∧ o < 64 ∧ f o = true ∧ (m &&& o) = m
  · obtain ⟨o, ⟨z1, z2, z3, z4⟩, zl⟩ := pk_least (fun o => m < o ∧ o < 64 ∧ f o = true ∧ (m &&& o) = m) z
    refine pk_loop (σ := Unit) (fun n j _ => wX_isMaximal_4 post (nI m) pr ii oo bb mm kn ms a1 a2 a3 a4 a5 a6 a7 a8 n (nI j)) (fun j _ => m < j) o (m + 1) () (by omega) (by omega) ?_ ?_
    · intro n _ _
      refine pk_lt 63 o (fun w => absurd w (by omega)) (fun _ => sm_isModel z2 (fun q => ?_) (fun q => br_f (by decide) (br_t ((sm_subN m hm o z2).mpr z4) (h0 (sm_im_f z1 z3 z4 64 z2)))))
      rw [e o z2] at q
      exact absurd z3 (by rw [q]; decide)
    · intro n j _ hj hmj hn
      refine pk_lt 63 j (fun w => absurd w (by omega)) (fun _ => sm_isModel (by omega) (fun q => br_t rfl (nm_r (nI_1 j) (hn () (by omega)))) (fun q => br_f (by decide) (br_f ?_ (nm_r (nI_1 j) (hn () (by omega))))))
      rw [e j (by omega)] at q
      rw [sm_subN m hm j (by omega)]
      exact fun w => zl j hj ⟨hmj, by omega, q, w⟩
  · have zz : ∀ o, o < 64 → m < o → f o = true → ¬ (m &&& o) = m := fun o h2 h3 h4 h5 => z ⟨o, h3, h2, h4, h5⟩
    refine pk_loop (σ := Unit) (fun n j _ => wX_isMaximal_4 post (nI m) pr ii oo bb mm kn ms a1 a2 a3 a4 a5 a6 a7 a8 n (nI j)) (fun j _ => m < j) 64 (m + 1) () (by omega) (by omega) ?_ ?_
    · intro n _ _
      exact pk_lt 63 64 (fun _ => h1 (sm_im_t zz 64 (by omega))) (fun w => absurd w (by omega))
    · intro n j _ hj hmj hn
      refine pk_lt 63 j (fun w => absurd w (by omega)) (fun _ => sm_isModel (by omega) (fun q => br_t rfl (nm_r (nI_1 j) (hn () (by omega)))) (fun q => br_f (by decide) (br_f ?_ (nm_r (nI_1 j) (hn () (by omega))))))
      rw [e j (by omega)] at q
      rw [sm_subN m hm j (by omega)]
      exact zz j (by omega) hmj q
theorem sm_maximal {post : Int32 → St2 → Prop} (hw : sm_wf pr a2 a3 a4) (hk : kn = 0 ∨ (kn = 1 ∧ sm_ms (sm_st pr a1 a2 a3 a4) ms)) (hf : ∀ m, m < 64 → (f m = true ↔ sm_st pr a1 a2 a3 a4 (nI m)))
    (H : ∀ i' o' b' m' s x5 x6 x7 x8, sm_ms (sm_st pr a1 a2 a3 a4) s → post (nI (sm_mx f 64)) (pr, i', o', b', m', 1, s, a1, a2, a3, a4, x5, x6, x7, x8)) : wpX_maximal post (pr, ii, oo, bb, mm, kn, ms, a1, a2, a3, a4, a5, a6, a7, a8) := by
  unfold wpX_maximal
  refine sm_search hw hk (fun i' o' b' m' s x5 x6 x7 x8 hs => ?_)
  have e := sm_msf hf hs
  refine pk_loop (fun n j c => wX_maximal_8 post pr i' o' b' m' 1 s a1 a2 a3 a4 x5 x6 x7 x8 n c (nI j)) (fun j c => c = nI (sm_mx f j)) 64 0 0 (by omega) rfl ?_ ?_
  · intro n c h
    exact pk_lt 63 64 (fun _ => by rw [h]; exact H _ _ _ _ _ _ _ _ _ hs) (fun z => absurd z (by omega))
  · intro n j c hj h hn
    have w0 : (f j && sm_im f j 64) = false → c + 0 = nI (sm_mx f (j + 1)) := fun q => by
      show c + 0 = nI (sm_mx f j + (f j && sm_im f j 64).toNat)
      rw [q, h, ← nI_0, nI_add]
      rfl
    have w1 : (f j && sm_im f j 64) = true → c + 1 = nI (sm_mx f (j + 1)) := fun q => by
      show c + 1 = nI (sm_mx f j + (f j && sm_im f j 64).toNat)
      rw [q, h, nI_1]
      rfl
    refine pk_lt 63 j (fun z => absurd z (by omega)) (fun _ => sm_isModel hj (fun q => br_t rfl (nm_r (e' := nI (sm_mx f (j + 1))) (w0 ?_) (nm_r (nI_1 j) (hn _ rfl)))) (fun q => br_f (by decide) (sm_isMax hj e (fun w => br_f (by decide) (nm_r (e' := nI (sm_mx f (j + 1))) (w1 ?_) (nm_r (nI_1 j) (hn _ rfl)))) (fun w => br_t rfl (nm_r (e' := nI (sm_mx f (j + 1))) (w0 ?_) (nm_r (nI_1 j) (hn _ rfl)))))))
    · rw [← e j hj, q, Bool.false_and]
    · rw [← e j hj, q, w]; rfl
    · rw [w, Bool.and_false]
theorem sm_model0 {post : Int32 → St2 → Prop} (hw : sm_wf pr a2 a3 a4) (hk : kn = 0 ∨ (kn = 1 ∧ sm_ms (sm_st pr a1 a2 a3 a4) ms)) (hf : ∀ m, m < 64 → (f m = true ↔ sm_st pr a1 a2 a3 a4 (nI m))) (h0 : f 0 = true)
    (H : ∀ i' o' b' m' s x5 x6 x7 x8, sm_ms (sm_st pr a1 a2 a3 a4) s → post 0 (pr, i', o', b', m', 1, s, a1, a2, a3, a4, x5, x6, x7, x8)) : wpX_model post (pr, ii, oo, bb, mm, kn, ms, a1, a2, a3, a4, a5, a6, a7, a8) 0 := by
  unfold wpX_model
  refine sm_search hw hk (fun i' o' b' m' s x5 x6 x7 x8 hs => ⟨1, ?_⟩)
  have e := sm_msf hf hs
  refine pk_lt 63 0 (fun z => absurd z (by omega)) (fun _ => sm_isModel (m := 0) (by omega) (fun q => ?_) (fun q => br_f (by decide) (br_t rfl (H _ _ _ _ _ _ _ _ _ hs))))
  rw [e 0 (by omega)] at q
  exact absurd h0 (by rw [q]; decide)
theorem sm_isSet {post : Int32 → Prop} {m : Nat} (hm : m < 64) (H : post 1) : wpX_isSet post () (nI m) :=
  br_f (nI_pos (by omega)) (pk_lt 63 m (fun z => absurd z (by omega)) (fun _ => H))
/-- find(32, 0): the first model with atom 5, or -1 -/
theorem sm_find {post : Int32 → St2 → Prop} (hw : sm_wf pr a2 a3 a4) (hk : kn = 0 ∨ (kn = 1 ∧ sm_ms (sm_st pr a1 a2 a3 a4) ms)) (hf : ∀ m, m < 64 → (f m = true ↔ sm_st pr a1 a2 a3 a4 (nI m)))
    (H1 : ∀ o, o < 64 → f o = true → (32 &&& o) = 32 → (∀ j, j < o → ¬ (f j = true ∧ (32 &&& j) = 32)) → ∀ i' o' b' m' s x5 x6 x7 x8, sm_ms (sm_st pr a1 a2 a3 a4) s → post (nI o) (pr, i', o', b', m', 1, s, a1, a2, a3, a4, x5, x6, x7, x8))
    (H0 : (∀ j, j < 64 → ¬ (f j = true ∧ (32 &&& j) = 32)) → ∀ i' o' b' m' s x5 x6 x7 x8, sm_ms (sm_st pr a1 a2 a3 a4) s → post (-1) (pr, i', o', b', m', 1, s, a1, a2, a3, a4, x5, x6, x7, x8)) : wpX_find post (pr, ii, oo, bb, mm, kn, ms, a1, a2, a3, a4, a5, a6, a7, a8) 32 0 := by
  unfold wpX_find
  refine sm_isSet (m := 32) (by omega) (br_f (by decide) (sm_isSet (m := 0) (by omega) (br_f (by decide) ?_)))
  refine sm_search hw hk (fun i' o' b' m' s x5 x6 x7 x8 hs => ?_)
  have e := sm_msf hf hs
  have e0 : ∀ x : Int32, (0 &&& x) = 0 := fun x => sm_e0.mpr (fun k => by rw [sm_band, sm_b0, Bool.false_and])
  by_cases z : ∃ o, o < 64 ∧ f o = true ∧ (32 &&& o) = 32
  · obtain ⟨o, ⟨z2, z3, z4⟩, zl⟩ := pk_least (fun o => o < 64 ∧ f o = true ∧ (32 &&& o) = 32) z
    refine pk_loop (σ := Unit) (fun n j _ => wX_find_22 post 32 0 pr i' o' b' m' 1 s a1 a2 a3 a4 x5 x6 x7 x8 n (nI j)) (fun j _ => True) o 0 () (by omega) trivial ?_ ?_
    · intro n _ _
      refine pk_lt 63 o (fun w => absurd w (by omega)) (fun _ => sm_isModel z2 (fun q => ?_) (fun q => br_f (by decide) (br_t ((sm_subN 32 (by omega) o z2).mpr z4) (br_t (e0 _) (H1 o z2 z3 z4 (fun j hj w => zl j hj ⟨by omega, w.1, w.2⟩) _ _ _ _ _ _ _ _ _ hs)))))
      rw [e o z2] at q
      exact absurd z3 (by rw [q]; decide)
    · intro n j _ hj _ hn
      refine pk_lt 63 j (fun w => absurd w (by omega)) (fun _ => sm_isModel (by omega) (fun q => br_t rfl (nm_r (nI_1 j) (hn () trivial))) (fun q => br_f (by decide) (br_f ?_ (nm_r (nI_1 j) (hn () trivial)))))
      rw [e j (by omega)] at q
      exact fun w => zl j hj ⟨by omega, q, (sm_subN 32 (by omega) j (by omega)).mp w⟩
  · have zz : ∀ j, j < 64 → ¬ (f j = true ∧ (32 &&& j) = 32) := fun o h2 h3 => z ⟨o, h2, h3.1, h3.2⟩
    refine pk_loop (σ := Unit) (fun n j _ => wX_find_22 post 32 0 pr i' o' b' m' 1 s a1 a2 a3 a4 x5 x6 x7 x8 n (nI j)) (fun j _ => True) 64 0 () (by omega) trivial ?_ ?_
    · intro n _ _
      exact pk_lt 63 64 (fun _ => H0 zz _ _ _ _ _ _ _ _ _ hs) (fun w => absurd w (by omega))
    · intro n j _ hj _ hn
      refine pk_lt 63 j (fun w => absurd w (by omega)) (fun _ => sm_isModel (by omega) (fun q => br_t rfl (nm_r (nI_1 j) (hn () trivial))) (fun q => br_f (by decide) (br_f ?_ (nm_r (nI_1 j) (hn () trivial)))))
      rw [e j (by omega)] at q
      exact fun w => zz j hj ⟨q, (sm_subN 32 (by omega) j (by omega)).mp w⟩
theorem sm_stable {post : Int32 → St2 → Prop} {m : Nat} (hm : m < 64) (hw : sm_wf pr a2 a3 a4) (hk : kn = 0 ∨ (kn = 1 ∧ sm_ms (sm_st pr a1 a2 a3 a4) ms)) (hf : ∀ m, m < 64 → (f m = true ↔ sm_st pr a1 a2 a3 a4 (nI m)))
    (H : ∀ i' o' b' m' s x5 x6 x7 x8, sm_ms (sm_st pr a1 a2 a3 a4) s → post (nI (f m).toNat) (pr, i', o', b', m', 1, s, a1, a2, a3, a4, x5, x6, x7, x8)) : wpX_stable post (pr, ii, oo, bb, mm, kn, ms, a1, a2, a3, a4, a5, a6, a7, a8) (nI m) := by
  unfold wpX_stable
  refine sm_isSet hm (br_f (by decide) (sm_search hw hk (fun i' o' b' m' s x5 x6 x7 x8 hs => ?_)))
  have e := sm_msf hf hs
  have t := H i' o' b' m' s x5 x6 x7 x8 hs
  refine sm_isModel hm (fun q => ⟨rfl, ?_⟩) (fun q => ⟨rfl, ?_⟩)
  · rw [e m hm] at q
    rw [q] at t
    exact t
  · rw [e m hm] at q
    rw [q] at t
    exact t
theorem sm_support63 {post : Int32 → Prop} (hw : sm_wf pr a2 a3 a4) (H : ∀ F, sm_lf (sm_sa pr a1 a2 a3 a4 63) a2 a3 F → post F) : wpX_support post (pr, ii, oo, bb, mm, kn, ms, a1, a2, a3, a4, a5, a6, a7, a8) 63 := by
  unfold wpX_support
  exact sm_isSet (m := 63) (by omega) (br_f (by decide) (sm_supportOf hw H))
theorem sm_remove1 {post : Int32 → St2 → Prop} {r : Nat} (hr : r < 10) (hp : sm_bt pr r = true)
    (H : post 1 (pr &&& (((1 : Int32) <<< (nI r &&& 31)) ^^^ (-1)), ii, oo, bb, mm, 0, ms, a1, a2, a3, a4, a5, a6, a7, a8)) : wpX_remove post (pr, ii, oo, bb, mm, kn, ms, a1, a2, a3, a4, a5, a6, a7, a8) (nI r) := by
  unfold wpX_remove
  exact sm_has hr (fun q => absurd hp (by rw [q]; decide)) (fun q => br_f (by decide) (nm_e H))
theorem sm_remove0 {post : Int32 → St2 → Prop} {r : Nat} (hr : r < 10) (hp : sm_bt pr r = false) (H : post 0 (pr, ii, oo, bb, mm, kn, ms, a1, a2, a3, a4, a5, a6, a7, a8)) : wpX_remove post (pr, ii, oo, bb, mm, kn, ms, a1, a2, a3, a4, a5, a6, a7, a8) (nI r) := by
  unfold wpX_remove
  exact sm_has hr (fun q => br_t rfl H) (fun q => absurd hp (by rw [q]; decide))
theorem sm_matters {post : Int32 → St2 → Prop} {r : Nat} (hr : r < 10) (hp : sm_bt pr r = true) (hw : sm_wf pr a2 a3 a4) (hk : kn = 0 ∨ (kn = 1 ∧ sm_ms (sm_st pr a1 a2 a3 a4) ms))
    (H : ∀ i' o' b' m' s s' x5 x6 x7 x8, sm_ms (sm_st pr a1 a2 a3 a4) s → sm_ms (sm_st (pr &&& (((1 : Int32) <<< (nI r &&& 31)) ^^^ (-1))) a1 a2 a3 a4) s' → ∀ y, (s = s' → y = 0) → (¬ s = s' → y = 1) → post y (pr, i', o', b', m', 0, s', a1, a2, a3, a4, x5, x6, x7, x8)) : wpX_matters post (pr, ii, oo, bb, mm, kn, ms, a1, a2, a3, a4, a5, a6, a7, a8) (nI r) := by
  have hw' : sm_wf (pr &&& (((1 : Int32) <<< (nI r &&& 31)) ^^^ (-1))) a2 a3 a4 := fun j hj hb => hw j hj (sm_diff_l j hb)
  have er : (pr &&& (((1 : Int32) <<< (nI r &&& 31)) ^^^ (-1))) ||| ((1 : Int32) <<< (nI r &&& 31)) = pr := by
    apply sm_ext
    intro i _
    rw [sm_bor, sm_bdiff, sm_one (by omega)]
    by_cases e : i = r
    · subst e
      rw [decide_eq_true rfl, Bool.or_true, hp]
    · rw [decide_eq_false e]
      simp
  unfold wpX_matters
  refine sm_has hr (fun q => absurd hp (by rw [q]; decide)) (fun q => br_f (by decide) (sm_search hw hk (fun i1 o1 b1 m1 s x5 x6 x7 x8 hs => nm_e (sm_search hw' (Or.inl rfl) (fun i2 o2 b2 m2 s' y5 y6 y7 y8 hs' => nm_r er ?_)))))
  exact br_c (fun e => H _ _ _ _ s s' _ _ _ _ hs hs' 0 (fun _ => rfl) (fun z => absurd e z)) (fun e => H _ _ _ _ s s' _ _ _ _ hs hs' 1 (fun z => absurd z e) (fun _ => rfl))
/-- a rule is added at the first free place k -/
theorem sm_add110 {post : Int32 → St2 → Prop} {k : Nat} {hd : Int32} {po ne : Nat} (hk : k < 10) (h1 : hd.toInt8.toInt32 = hd) (h2 : po < 64) (h3 : ne < 64)
    (H : post (nI k) (pr, ii, oo, bb, mm, 0, ms, a1, upd a2 k hd, upd a3 k (nI po), upd a4 k (nI ne), a5, a6, a7, a8)) : wX_add_110 post (nI po) (nI ne) (nI k) hd (nI k) pr ii oo bb mm kn ms a1 a2 a3 a4 a5 a6 a7 a8 := by
  unfold wX_add_110
  rw [nI_clamp (show k < 2 ^ 31 by omega), h1, sm_by64 po h2, sm_by64 ne h3]
  exact ⟨pk_in k 10 hk, nm_e ⟨pk_in k 10 hk, nm_e ⟨pk_in k 10 hk, nm_e H⟩⟩⟩
theorem sm_add56 {post : Int32 → St2 → Prop} {k po ne : Nat} {kd h : Int32} (hk : k < 10) (hl : ∀ r, r < k → sm_bt pr r = true) (hn : sm_bt pr k = false) (hkd : kd.toInt8.toInt32 = kd) (hh : h.toInt8.toInt32 = h) (h2 : po < 64) (h3 : ne < 64)
    (H : ∀ y, (kd = 2 → y = 0) → (¬ kd = 2 → y = h) → post (nI k) (pr ||| ((1 : Int32) <<< (nI k &&& 31)), ii, oo, bb, mm, 0, ms, upd a1 k kd, upd a2 k y, upd a3 k (nI po), upd a4 k (nI ne), a5, a6, a7, a8)) :
    ∃ n, wX_add_56 post kd h (nI po) (nI ne) pr ii oo bb mm kn ms a1 a2 a3 a4 a5 a6 a7 a8 n 0 := by
  refine pk_loop (σ := Unit) (fun n i _ => wX_add_56 post kd h (nI po) (nI ne) pr ii oo bb mm kn ms a1 a2 a3 a4 a5 a6 a7 a8 n (nI i)) (fun _ _ => True) k 0 () (by omega) trivial ?_ ?_
  · intro n _ _
    refine pk_le 10 k (fun z => absurd z (by omega)) (fun _ => sm_has hk (fun q => br_t rfl (nm_e ⟨pk_in k 10 hk, nm_r (e' := upd a1 k kd) (by rw [nI_clamp (show k < 2 ^ 31 by omega), hkd]) ?_⟩)) (fun q => absurd q (by rw [hn]; decide)))
    exact br_c (fun e => sm_add110 hk (by decide) h2 h3 (H 0 (fun _ => rfl) (fun z => absurd e z))) (fun e => sm_add110 hk hh h2 h3 (H h (fun z => absurd z e) (fun _ => rfl)))
  · intro n i _ hi _ hw
    exact pk_le 10 i (fun z => absurd z (by omega)) (fun _ => sm_has (by omega) (fun q => absurd (hl i hi) (by rw [q]; decide)) (fun q => br_f (by decide) (nm_r (nI_1 i) (hw () trivial))))
theorem sm_add {post : Int32 → St2 → Prop} {k po ne : Nat} {kd h : Int32} (hk : k < 10) (hl : ∀ r, r < k → sm_bt pr r = true) (hn : sm_bt pr k = false) (hkd : kd = 0 ∨ kd = 1 ∨ kd = 2) (hh : kd = 2 ∨ ∃ a, a < 6 ∧ h = nI a) (hh8 : h.toInt8.toInt32 = h) (h2 : po < 64) (h3 : ne < 64)
    (H : ∀ y, (kd = 2 → y = 0) → (¬ kd = 2 → y = h) → post (nI k) (pr ||| ((1 : Int32) <<< (nI k &&& 31)), ii, oo, bb, mm, 0, ms, upd a1 k kd, upd a2 k y, upd a3 k (nI po), upd a4 k (nI ne), a5, a6, a7, a8)) :
    wpX_add post (pr, ii, oo, bb, mm, kn, ms, a1, a2, a3, a4, a5, a6, a7, a8) kd h (nI po) (nI ne) := by
  have k8 : kd.toInt8.toInt32 = kd := by rcases hkd with rfl | rfl | rfl <;> decide
  have k0 : ¬ kd < 0 := by rcases hkd with rfl | rfl | rfl <;> decide
  have k2 : ¬ 2 < kd := by rcases hkd with rfl | rfl | rfl <;> decide
  have m20 : wX_add_20 post kd h (nI po) (nI ne) 1 pr ii oo bb mm kn ms a1 a2 a3 a4 a5 a6 a7 a8 :=
    br_f k0 (br_f k2 (br_f (by decide) (sm_isSet h2 (br_f (by decide) (sm_isSet h3 (br_f (by decide) (sm_add56 hk hl hn k8 hh8 h2 h3 H)))))))
  refine br_c (fun e => m20) (fun e => ?_)
  rcases hh with z | ⟨a, ha, rfl⟩
  · exact absurd z e
  · exact br_f (nI_pos (by omega)) (pk_le 6 a (fun z => absurd z (by omega)) (fun _ => m20))
end
end
section
/-! the law's rules -/
/-- k choices, one for each atom of c below 5; then 5 follows from p and q -/
def sm_core (c p q k : Nat) (a1 a2 a3 a4 : Nat → Int32) : Prop :=
  k ≤ 5 ∧ (∀ r, r < k → a1 r = 1 ∧ (∃ h, h < 5 ∧ c.testBit h = true ∧ a2 r = nI h) ∧ a3 r = 0 ∧ a4 r = 0) ∧ (∀ h, h < 5 → c.testBit h = true → ∃ r, r < k ∧ a2 r = nI h) ∧
  a1 k = 0 ∧ a2 k = nI 5 ∧ a3 k = (((1 : Int32) <<< (nI p &&& 31)) ||| ((1 : Int32) <<< (nI q &&& 31))) ∧ a4 k = 0
/-- rules 0 .. n - 1 are there -/
def sm_pp (pr : Int32) (n : Nat) : Prop := ∀ r, r < 32 → sm_bt pr r = decide (r < n)
section
variable {c p q k : Nat} {pr : Int32} {a1 a2 a3 a4 : Nat → Int32}
theorem sm_pq (hp : p < 5) (hq : q < 5) {M : Int32} : sm_sub (((1 : Int32) <<< (nI p &&& 31)) ||| ((1 : Int32) <<< (nI q &&& 31))) M ↔ sm_bt M p = true ∧ sm_bt M q = true := by
  constructor
  · intro h
    refine ⟨h p ?_, h q ?_⟩
    · rw [sm_bor, sm_one (by omega), decide_eq_true rfl, Bool.true_or]
    · rw [sm_bor, sm_one (by omega) q, sm_one (by omega) q, decide_eq_true (rfl : q = q), Bool.or_true]
  · intro h j hj
    rcases sm_or_e hj with z | z
    · rw [sm_one (by omega)] at z
      rw [of_decide_eq_true z]
      exact h.1
    · rw [sm_one (by omega)] at z
      rw [of_decide_eq_true z]
      exact h.2
theorem sm_hdI {r h : Nat} (e : a2 r = nI h) (hh : h < 2 ^ 31) : sm_hd a2 r = h := by unfold sm_hd; rw [e, nI_clamp hh]
theorem sm_0sub {M : Int32} : sm_sub 0 M := fun j hj => absurd hj (by rw [sm_b0]; decide)
theorem sm_0dj {M : Int32} : sm_dj 0 M := fun j hj => absurd hj (by rw [sm_b0]; decide)
theorem sm_pp_lt {n r : Nat} (h : sm_pp pr n) (hr : r < 10) (hb : sm_bt pr r = true) : r < n := by
  rw [h r (by omega)] at hb
  exact of_decide_eq_true hb
theorem sm_pp_in {n r : Nat} (h : sm_pp pr n) (hr : r < 10) (hb : r < n) : sm_bt pr r = true := by
  rw [h r (by omega)]
  exact decide_eq_true hb
theorem sm_wfc (hp : p < 5) (hq : q < 5) (hc : sm_core c p q k a1 a2 a3 a4) {r : Nat} (hr : r < k + 1) : (∃ h, h < 6 ∧ a2 r = nI h) ∧ sm_s6 (a3 r) ∧ sm_s6 (a4 r) := by
  obtain ⟨h1, h2, h3, h4, h5, h6, h7⟩ := hc
  by_cases e : r = k
  · subst e
    rw [h5, h6, h7]
    exact ⟨⟨5, by omega, rfl⟩, sm_s6_or (sm_s6_one (by omega)) (sm_s6_one (by omega)), sm_s6_0⟩
  · obtain ⟨g1, ⟨h, g2, g3, g4⟩, g5, g6⟩ := h2 r (by omega)
    rw [g4, g5, g6]
    exact ⟨⟨h, by omega, rfl⟩, sm_s6_0, sm_s6_0⟩
theorem sm_wfA (hp : p < 5) (hq : q < 5) (hc : sm_core c p q k a1 a2 a3 a4) (hP : sm_pp pr (k + 1)) : sm_wf pr a2 a3 a4 := fun r hr hb => sm_wfc hp hq hc (sm_pp_lt hP hr hb)
theorem sm_wfB (hp : p < 5) (hq : q < 5) (hc : sm_core c p q k a1 a2 a3 a4) (hP : sm_pp pr (k + 2)) (h2 : ∃ h, h < 6 ∧ a2 (k + 1) = nI h) (h3 : sm_s6 (a3 (k + 1))) (h4 : sm_s6 (a4 (k + 1))) : sm_wf pr a2 a3 a4 := fun r hr hb => by
  have t := sm_pp_lt hP hr hb
  by_cases e : r = k + 1
  · subst e
    exact ⟨h2, h3, h4⟩
  · exact sm_wfc hp hq hc (by omega)
def sm_cA (c p q : Nat) (M : Int32) : Prop := sm_s6 M ∧ (∀ h, h < 5 → sm_bt M h = true → c.testBit h = true) ∧ (sm_bt M 5 = true ↔ sm_bt M p = true ∧ sm_bt M q = true)
def sm_cC (c p q : Nat) (M : Int32) : Prop := sm_s6 M ∧ (∀ h, h < 5 → sm_bt M h = true → c.testBit h = true ∨ h = p) ∧ sm_bt M p = true ∧ (sm_bt M 5 = true ↔ sm_bt M p = true ∧ sm_bt M q = true)
theorem sm_stA (hp : p < 5) (hq : q < 5) (hc : sm_core c p q k a1 a2 a3 a4) (hP : sm_pp pr (k + 1)) (M : Int32) : sm_st pr a1 a2 a3 a4 M ↔ sm_cA c p q M := by
  have hc' := hc
  obtain ⟨h1, h2, h3, h4, h5, h6, h7⟩ := hc'
  have hk5 : sm_hd a2 k = 5 := sm_hdI h5 (by omega)
  have hpk : sm_bt pr k = true := sm_pp_in hP (by omega) (by omega)
  constructor
  · intro hM
    refine ⟨hM.1, fun h hh hb => ?_, fun hb => ?_, fun hb => ?_⟩
    · obtain ⟨r, hr, hpr, hn, he, hbt⟩ := sm_supp hM hb
      have t := sm_pp_lt hP hr hpr
      by_cases e : r = k
      · rw [e, hk5] at he
        omega
      · obtain ⟨_, ⟨h', g2, g3, g4⟩, _⟩ := h2 r (by omega)
        rw [sm_hdI g4 (by omega)] at he
        rw [← he]
        exact g3
    · obtain ⟨r, hr, hpr, hn, he, hbt⟩ := sm_supp hM hb
      have t := sm_pp_lt hP hr hpr
      by_cases e : r = k
      · have t1 := hbt.1
        rw [e, h6] at t1
        exact (sm_pq hp hq).mp t1
      · obtain ⟨_, ⟨h', g2, g3, g4⟩, _⟩ := h2 r (by omega)
        rw [sm_hdI g4 (by omega)] at he
        omega
    · have t := (hM.2.1 k (by omega) hpk ⟨by rw [h6]; exact (sm_pq hp hq).mpr hb, by rw [h7]; exact sm_0dj⟩).2 h4
      rw [hk5] at t
      exact t
  · intro hM
    obtain ⟨m1, m2, m3⟩ := hM
    refine ⟨m1, fun r hr hpr hb => ?_, fun S hS => ?_⟩
    · have t := sm_pp_lt hP hr hpr
      by_cases e : r = k
      · subst e
        refine ⟨by rw [h4]; decide, fun _ => ?_⟩
        rw [hk5]
        have t1 := hb.1
        rw [h6] at t1
        exact m3.mpr ((sm_pq hp hq).mp t1)
      · obtain ⟨g1, _⟩ := h2 r (by omega)
        rw [g1]
        exact ⟨by decide, fun z => absurd z (by decide)⟩
    · have low : ∀ i, i < 5 → sm_bt M i = true → S i := fun i hi hb => by
        obtain ⟨r, hr, e⟩ := h3 i hi (m2 i hi hb)
        obtain ⟨g1, _, g5, g6⟩ := h2 r hr
        have eh : sm_hd a2 r = i := sm_hdI e (by omega)
        have t := hS r (by omega) (sm_pp_in hP (by omega) (by omega)) (by rw [g1]; decide) (by rw [g6]; exact sm_0dj) (fun j hj => absurd hj (by rw [g5, sm_b0]; decide)) (by rw [eh]; exact hb)
        rw [eh] at t
        exact t
      intro i hb
      have i6 := m1 i hb
      by_cases e : i = 5
      · subst e
        have m3' := m3.mp hb
        have t := hS k (by omega) hpk (by rw [h4]; decide) (by rw [h7]; exact sm_0dj) (fun j hj => ?_) (by rw [hk5]; exact hb)
        · rw [hk5] at t
          exact t
        · rw [h6] at hj
          rcases sm_or_e hj with z | z
          · rw [sm_one (by omega)] at z
            rw [of_decide_eq_true z]
            exact low p hp m3'.1
          · rw [sm_one (by omega)] at z
            rw [of_decide_eq_true z]
            exact low q hq m3'.2
      · exact low i (by omega) hb
theorem sm_stC (hp : p < 5) (hq : q < 5) (hc : sm_core c p q k a1 a2 a3 a4) (hP : sm_pp pr (k + 2)) (f1 : a1 (k + 1) = 0) (f2 : a2 (k + 1) = nI p) (f3 : a3 (k + 1) = 0) (f4 : a4 (k + 1) = 0) (M : Int32) : sm_st pr a1 a2 a3 a4 M ↔ sm_cC c p q M := by
  have hc' := hc
  obtain ⟨h1, h2, h3, h4, h5, h6, h7⟩ := hc'
  have hk5 : sm_hd a2 k = 5 := sm_hdI h5 (by omega)
  have hkp : sm_hd a2 (k + 1) = p := sm_hdI f2 (by omega)
  have hpk : sm_bt pr k = true := sm_pp_in hP (by omega) (by omega)
  have hpk1 : sm_bt pr (k + 1) = true := sm_pp_in hP (by omega) (by omega)
  constructor
  · intro hM
    refine ⟨hM.1, fun h hh hb => ?_, ?_, fun hb => ?_, fun hb => ?_⟩
    · obtain ⟨r, hr, hpr, hn, he, hbt⟩ := sm_supp hM hb
      have t := sm_pp_lt hP hr hpr
      by_cases e : r = k
      · rw [e, hk5] at he
        omega
      · by_cases e1 : r = k + 1
        · rw [e1, hkp] at he
          exact Or.inr he.symm
        · obtain ⟨_, ⟨h', g2, g3, g4⟩, _⟩ := h2 r (by omega)
          rw [sm_hdI g4 (by omega)] at he
          rw [← he]
          exact Or.inl g3
    · have t := (hM.2.1 (k + 1) (by omega) hpk1 ⟨by rw [f3]; exact sm_0sub, by rw [f4]; exact sm_0dj⟩).2 f1
      rw [hkp] at t
      exact t
    · obtain ⟨r, hr, hpr, hn, he, hbt⟩ := sm_supp hM hb
      have t := sm_pp_lt hP hr hpr
      by_cases e : r = k
      · have t1 := hbt.1
        rw [e, h6] at t1
        exact (sm_pq hp hq).mp t1
      · by_cases e1 : r = k + 1
        · rw [e1, hkp] at he
          omega
        · obtain ⟨_, ⟨h', g2, g3, g4⟩, _⟩ := h2 r (by omega)
          rw [sm_hdI g4 (by omega)] at he
          omega
    · have t := (hM.2.1 k (by omega) hpk ⟨by rw [h6]; exact (sm_pq hp hq).mpr hb, by rw [h7]; exact sm_0dj⟩).2 h4
      rw [hk5] at t
      exact t
  · intro hM
    obtain ⟨m1, m2, m2', m3⟩ := hM
    refine ⟨m1, fun r hr hpr hb => ?_, fun S hS => ?_⟩
    · have t := sm_pp_lt hP hr hpr
      by_cases e : r = k
      · subst e
        refine ⟨by rw [h4]; decide, fun _ => ?_⟩
        rw [hk5]
        have t1 := hb.1
        rw [h6] at t1
        exact m3.mpr ((sm_pq hp hq).mp t1)
      · by_cases e1 : r = k + 1
        · subst e1
          refine ⟨by rw [f1]; decide, fun _ => ?_⟩
          rw [hkp]
          exact m2'
        · obtain ⟨g1, _⟩ := h2 r (by omega)
          rw [g1]
          exact ⟨by decide, fun z => absurd z (by decide)⟩
    · have low : ∀ i, i < 5 → sm_bt M i = true → S i := fun i hi hb => by
        rcases m2 i hi hb with z | z
        · obtain ⟨r, hr, e⟩ := h3 i hi z
          obtain ⟨g1, _, g5, g6⟩ := h2 r hr
          have eh : sm_hd a2 r = i := sm_hdI e (by omega)
          have t := hS r (by omega) (sm_pp_in hP (by omega) (by omega)) (by rw [g1]; decide) (by rw [g6]; exact sm_0dj) (fun j hj => absurd hj (by rw [g5, sm_b0]; decide)) (by rw [eh]; exact hb)
          rw [eh] at t
          exact t
        · have t := hS (k + 1) (by omega) hpk1 (by rw [f1]; decide) (by rw [f4]; exact sm_0dj) (fun j hj => absurd hj (by rw [f3, sm_b0]; decide)) (by rw [hkp]; exact m2')
          rw [hkp] at t
          rw [z]
          exact t
      intro i hb
      have i6 := m1 i hb
      by_cases e : i = 5
      · subst e
        have m3' := m3.mp hb
        have t := hS k (by omega) hpk (by rw [h4]; decide) (by rw [h7]; exact sm_0dj) (fun j hj => ?_) (by rw [hk5]; exact hb)
        · rw [hk5] at t
          exact t
        · rw [h6] at hj
          rcases sm_or_e hj with z | z
          · rw [sm_one (by omega)] at z
            rw [of_decide_eq_true z]
            exact low p hp m3'.1
          · rw [sm_one (by omega)] at z
            rw [of_decide_eq_true z]
            exact low q hq m3'.2
      · exact low i (by omega) hb
/-- one ban more -/
theorem sm_stban {pr' : Int32} {j : Nat} (hj : j < 10) (h2 : a1 j = 2) (hb : ∀ r, r < 10 → (sm_bt pr' r = true ↔ sm_bt pr r = true ∨ r = j)) (M : Int32) : sm_st pr' a1 a2 a3 a4 M ↔ sm_st pr a1 a2 a3 a4 M ∧ ¬ sm_bT a3 a4 j M := by
  constructor
  · intro h
    refine ⟨⟨h.1, fun r hr hp => h.2.1 r hr ((hb r hr).mpr (Or.inl hp)), fun S hS => h.2.2 S (fun r hr hp hn => ?_)⟩, fun z => (h.2.1 j hj ((hb j hj).mpr (Or.inr rfl)) z).1 h2⟩
    rcases (hb r hr).mp hp with z | z
    · exact hS r hr z hn
    · exact absurd (by rw [z]; exact h2) hn
  · intro h
    refine ⟨h.1.1, fun r hr hp hT => ?_, fun S hS => h.1.2.2 S (fun r hr hp hn => hS r hr ((hb r hr).mpr (Or.inl hp)) hn)⟩
    rcases (hb r hr).mp hp with z | z
    · exact h.1.2.1 r hr z hT
    · rw [z] at hT
      exact absurd hT h.2
theorem sm_stB (hp : p < 5) (hq : q < 5) (hc : sm_core c p q k a1 a2 a3 a4) (hP : sm_pp pr (k + 2)) (f1 : a1 (k + 1) = 2) (M : Int32) : sm_st pr a1 a2 a3 a4 M ↔ sm_cA c p q M ∧ ¬ sm_bT a3 a4 (k + 1) M := by
  have hk := hc.1
  have hP' : sm_pp (pr &&& (((1 : Int32) <<< (nI (k + 1) &&& 31)) ^^^ (-1))) (k + 1) := fun r hr => by
    rw [sm_bdiff, hP r hr, sm_one (by omega)]
    by_cases e : r < k + 1
    · rw [decide_eq_true e, decide_eq_true (show r < k + 2 by omega), decide_eq_false (show ¬ r = k + 1 by omega)]; rfl
    · by_cases e2 : r = k + 1
      · rw [decide_eq_true e2, decide_eq_false e, Bool.not_true, Bool.and_false]
      · rw [decide_eq_false e, decide_eq_false (show ¬ r < k + 2 by omega)]; rfl
  rw [← sm_stA hp hq hc hP' M]
  refine sm_stban (by omega) f1 (fun r hr => ?_) M
  rw [hP r (by omega), hP' r (by omega), decide_eq_true_iff, decide_eq_true_iff]
  omega
theorem sm_ppd (hk : k ≤ 5) (hP : sm_pp pr (k + 2)) : sm_pp (pr &&& (((1 : Int32) <<< (nI (k + 1) &&& 31)) ^^^ (-1))) (k + 1) := fun r hr => by
  rw [sm_bdiff, hP r hr, sm_one (by omega)]
  by_cases e : r < k + 1
  · rw [decide_eq_true e, decide_eq_true (show r < k + 2 by omega), decide_eq_false (show ¬ r = k + 1 by omega)]; rfl
  · by_cases e2 : r = k + 1
    · rw [decide_eq_true e2, decide_eq_false e, Bool.not_true, Bool.and_false]
    · rw [decide_eq_false e, decide_eq_false (show ¬ r < k + 2 by omega)]; rfl
theorem sm_ppa {n : Nat} (hn : n < 10) (hP : sm_pp pr n) : sm_pp (pr ||| ((1 : Int32) <<< (nI n &&& 31))) (n + 1) := fun r hr => by
  rw [sm_bor, hP r hr, sm_one (by omega)]
  by_cases e : r < n
  · rw [decide_eq_true e, decide_eq_true (show r < n + 1 by omega)]; rfl
  · by_cases e2 : r = n
    · rw [decide_eq_true e2, decide_eq_true (show r < n + 1 by omega), Bool.or_true]
    · rw [decide_eq_false e, decide_eq_false e2, decide_eq_false (show ¬ r < n + 1 by omega)]; rfl
/-- rules behind the core change nothing in it -/
theorem sm_core_up (hc : sm_core c p q k a1 a2 a3 a4) {x1 x2 x3 x4 : Int32} : sm_core c p q k (upd a1 (k + 1) x1) (upd a2 (k + 1) x2) (upd a3 (k + 1) x3) (upd a4 (k + 1) x4) := by
  obtain ⟨h1, h2, h3, h4, h5, h6, h7⟩ := hc
  refine ⟨h1, fun r hr => ?_, fun h hh hb => ?_, ?_⟩
  · rw [pk_un (by omega), pk_un (by omega), pk_un (by omega), pk_un (by omega)]
    exact h2 r hr
  · obtain ⟨r, hr, e⟩ := h3 h hh hb
    exact ⟨r, hr, by rw [pk_un (by omega)]; exact e⟩
  · rw [pk_un (by omega), pk_un (by omega), pk_un (by omega), pk_un (by omega)]
    exact ⟨h4, h5, h6, h7⟩
/-- what is supported by all atoms -/
theorem sm_supA (hp : p < 5) (hq : q < 5) (hc : sm_core c p q k a1 a2 a3 a4) (hP : sm_pp pr (k + 1)) {F : Int32} (hF : sm_lf (sm_sa pr a1 a2 a3 a4 63) a2 a3 F) :
    ∀ i, sm_bt F i = true ↔ (i < 5 ∧ c.testBit i = true) ∨ (i = 5 ∧ c.testBit p = true ∧ c.testBit q = true) := by
  have hc' := hc
  obtain ⟨h1, h2, h3, h4, h5, h6, h7⟩ := hc'
  have hk5 : sm_hd a2 k = 5 := sm_hdI h5 (by omega)
  have hpk : sm_bt pr k = true := sm_pp_in hP (by omega) (by omega)
  have low : ∀ i, i < 5 → c.testBit i = true → sm_bt F i = true := fun i hi hb => by
    obtain ⟨r, hr, e⟩ := h3 i hi hb
    obtain ⟨g1, _, g5, g6⟩ := h2 r hr
    have eh : sm_hd a2 r = i := sm_hdI e (by omega)
    have t := hF.2.1 r (by omega) ⟨sm_pp_in hP (by omega) (by omega), by rw [g1]; decide, by rw [g6]; exact sm_0dj, Or.inr (by rw [eh, sm_b63]; exact decide_eq_true (by omega))⟩ (fun j hj => absurd hj (by rw [g5, sm_b0]; decide))
    rw [eh] at t
    exact t
  intro i
  constructor
  · refine hF.2.2 (fun i => (i < 5 ∧ c.testBit i = true) ∨ (i = 5 ∧ c.testBit p = true ∧ c.testBit q = true)) (fun r hr ha hs => ?_) i
    have t := sm_pp_lt hP hr ha.1
    by_cases e : r = k
    · rw [e, hk5]
      rw [e, h6] at hs
      refine Or.inr ⟨rfl, ?_, ?_⟩
      · rcases hs p (by rw [sm_bor, sm_one (by omega), decide_eq_true rfl, Bool.true_or]) with z | z
        · exact z.2
        · have := z.1; omega
      · rcases hs q (by rw [sm_bor, sm_one (by omega) q, sm_one (by omega) q, decide_eq_true (rfl : q = q), Bool.or_true]) with z | z
        · exact z.2
        · have := z.1; omega
    · obtain ⟨_, ⟨h', g2, g3, g4⟩, _⟩ := h2 r (by omega)
      rw [sm_hdI g4 (by omega)]
      exact Or.inl ⟨g2, g3⟩
  · intro h
    rcases h with z | ⟨z1, z2, z3⟩
    · exact low i z.1 z.2
    · have t := hF.2.1 k (by omega) ⟨hpk, by rw [h4]; decide, by rw [h7]; exact sm_0dj, Or.inl h4⟩ (fun j hj => ?_)
      · rw [hk5] at t
        rw [z1]
        exact t
      · rw [h6] at hj
        rcases sm_or_e hj with z | z
        · rw [sm_one (by omega)] at z
          rw [of_decide_eq_true z]
          exact low p hp z2
        · rw [sm_one (by omega)] at z
          rw [of_decide_eq_true z]
          exact low q hq z3
end
end
section
/-! the plain law: counts over c < 32, p, q < 5, by the kernel -/
def sm_all (f : Nat → Bool) : Nat → Bool
  | 0 => true
  | n + 1 => f n && sm_all f n
theorem sm_all_e {f : Nat → Bool} : ∀ n, sm_all f n = true → ∀ i, i < n → f i = true
  | 0, _, i, hi => absurd hi (by omega)
  | n + 1, h, i, hi => by
      have h' : (f n && sm_all f n) = true := h
      rw [Bool.and_eq_true] at h'
      by_cases e : i = n
      · rw [e]; exact h'.1
      · exact sm_all_e n h'.2 i (by omega)
def sm_fA (c p q m : Nat) : Bool := (m % 32 &&& c == m % 32) && (m.testBit 5 == (m.testBit p && m.testBit q))
def sm_bn (po ne m : Nat) : Bool := (po &&& m == po) && (ne &&& m == 0)
def sm_fB (c p q po ne m : Nat) : Bool := sm_fA c p q m && !sm_bn po ne m
def sm_fC (c p q m : Nat) : Bool := (m % 32 &&& (c ||| 2 ^ p) == m % 32) && (m.testBit p && (m.testBit 5 == (m.testBit p && m.testBit q)))
/-! by the kernel -/
def sm_al (c p q : Nat) : Nat := c ||| (if c.testBit p && c.testBit q then 32 else 0)
def sm_t3 (p q : Nat) : Nat := 32 ||| 2 ^ p ||| 2 ^ q
def sm_kA (c p q : Nat) : Bool := (sm_ct (sm_fA c p q) 64 == 2 ^ sm_on c) && (sm_br (sm_fA c p q) 64 == sm_al c p q) && (sm_ca (sm_fA c p q) 64 == 0) && sm_fA c p q 0 && sm_fA c p q (sm_al c p q) && decide (sm_al c p q < 64) &&
  sm_all (fun m => !sm_fA c p q m || ((m &&& sm_al c p q == m) && (!(32 &&& m == 32) || (c.testBit p && c.testBit q && decide (sm_t3 p q ≤ m))))) 64 && (!(c.testBit p && c.testBit q) || (sm_fA c p q (sm_t3 p q) && (32 &&& sm_t3 p q == 32)))
theorem sm_kA_all : sm_all (fun c => sm_all (fun p => sm_all (fun q => sm_kA c p q) 5) 5) 32 = true := by decide +kernel
theorem sm_kA_i {c p q : Nat} (hc : c < 32) (hp : p < 5) (hq : q < 5) : sm_kA c p q = true := sm_all_e 5 (sm_all_e 5 (sm_all_e 32 sm_kA_all c hc) p hp) q hq
def sm_re (c p : Nat) : Nat := if c.testBit p then sm_on c - 1 else sm_on c
def sm_lw (p q : Nat) : Nat := if p = q then 2 else 1
def sm_wt (p q : Nat) : Nat := if p = q then 32 ||| 2 ^ p else 2 ^ p
def sm_kC (c p q : Nat) : Bool := (sm_ct (sm_fC c p q) 64 == 2 ^ sm_re c p) && (sm_ca (sm_fC c p q) 64).testBit p && decide (sm_ca (sm_fC c p q) 64 < 64) && decide (sm_wt p q < 64) && sm_fC c p q (sm_wt p q) && (sm_on (sm_wt p q) == sm_lw p q) &&
  sm_all (fun m => !sm_fC c p q m || decide (sm_lw p q ≤ sm_on m)) 64
theorem sm_kC_all : sm_all (fun c => sm_all (fun p => sm_all (fun q => sm_kC c p q) 5) 5) 32 = true := by decide +kernel
theorem sm_kC_i {c p q : Nat} (hc : c < 32) (hp : p < 5) (hq : q < 5) : sm_kC c p q = true := sm_all_e 5 (sm_all_e 5 (sm_all_e 32 sm_kC_all c hc) p hp) q hq
def sm_go (c po ne : Nat) : Nat := if po &&& c == po then 2 ^ (sm_on c - sm_on po - sm_on (ne &&& c)) else 0
def sm_gB (c po ne s : Nat) : Bool := (s &&& c == s) && !sm_bn po ne s
def sm_kB (c po ne : Nat) : Bool := !(po &&& ne == 0) || ((sm_ct (sm_gB c po ne) 32 + sm_go c po ne == 2 ^ sm_on c) && (!(po &&& c == po) || decide (sm_on po + sm_on (ne &&& c) ≤ sm_on c)))
theorem sm_kB_all : sm_all (fun c => sm_all (fun po => sm_all (fun ne => sm_kB c po ne) 32) 32) 32 = true := by decide +kernel
theorem sm_kB_i {c po ne : Nat} (hc : c < 32) (hp : po < 32) (hq : ne < 32) : sm_kB c po ne = true := sm_all_e 32 (sm_all_e 32 (sm_all_e 32 sm_kB_all c hc) po hp) ne hq
theorem sm_k32 : ∀ s, s < 32 → ∀ x, x < 32 → (x &&& (32 + s)) = (x &&& s) := by decide +kernel
theorem sm_k32b : ∀ s, s < 32 → ∀ p, p < 5 → (32 + s).testBit p = s.testBit p := by decide +kernel
theorem sm_k32c : ∀ s, s < 32 → s % 32 = s ∧ (32 + s) % 32 = s ∧ s.testBit 5 = false ∧ (32 + s).testBit 5 = true := by decide +kernel
theorem sm_kinc : ∀ c, c < 32 → ∀ po, po < 32 → ∀ m, m < 64 → (m % 32 &&& c) = m % 32 → (po &&& m) = po → (po &&& c) = po := by decide +kernel
end
section
/-! the plain law, without the kernel -/
theorem sm_inc : ∀ c, c < 32 → ∀ m, m < 64 → ((∀ h, h < 5 → m.testBit h = true → c.testBit h = true) ↔ (m % 32 &&& c) = m % 32) := by decide +kernel
theorem sm_incp {c p m : Nat} (hc : c < 32) (hp : p < 5) (hm : m < 64) : (∀ h, h < 5 → m.testBit h = true → c.testBit h = true ∨ h = p) ↔ (m % 32 &&& (c ||| 2 ^ p)) = m % 32 := by
  have l : c ||| 2 ^ p < 2 ^ 5 := Nat.or_lt_two_pow hc (Nat.pow_lt_pow_right (by decide) hp)
  rw [← sm_inc (c ||| 2 ^ p) l m hm]
  have e : ∀ h, (c ||| 2 ^ p).testBit h = true ↔ c.testBit h = true ∨ h = p := fun h => by
    rw [Nat.testBit_or, Nat.testBit_two_pow, Bool.or_eq_true, decide_eq_true_iff]
    exact ⟨fun z => z.elim Or.inl (fun w => Or.inr w.symm), fun z => z.elim Or.inl (fun w => Or.inr w.symm)⟩
  exact ⟨fun H h hh hb => (e h).mpr (H h hh hb), fun H h hh hb => (e h).mp (H h hh hb)⟩
theorem sm_b3 (x y z : Bool) : (x = (y && z)) ↔ (x = true ↔ y = true ∧ z = true) := by cases x <;> cases y <;> cases z <;> simp
theorem sm_fA_e {c p q m : Nat} (hc : c < 32) (hm : m < 64) : sm_fA c p q m = true ↔ sm_cA c p q (nI m) := by
  unfold sm_fA sm_cA
  rw [Bool.and_eq_true, beq_iff_eq, beq_iff_eq, ← sm_inc c hc m hm, sm_b3]
  simp only [sm_nIbt hm]
  exact ⟨fun h => ⟨sm_nI6 hm, h.1, h.2⟩, fun h => ⟨h.2.1, h.2.2⟩⟩
theorem sm_fC_e {c p q m : Nat} (hc : c < 32) (hp : p < 5) (hm : m < 64) : sm_fC c p q m = true ↔ sm_cC c p q (nI m) := by
  unfold sm_fC sm_cC
  rw [Bool.and_eq_true, Bool.and_eq_true, beq_iff_eq, beq_iff_eq, ← sm_incp hc hp hm, sm_b3]
  simp only [sm_nIbt hm]
  exact ⟨fun h => ⟨sm_nI6 hm, h.1, h.2.1, h.2.2⟩, fun h => ⟨h.2.1, h.2.2.1, h.2.2.2⟩⟩
theorem sm_bn_e {po ne m : Nat} (h1 : po < 64) (h2 : ne < 64) (hm : m < 64) : sm_bn po ne m = true ↔ sm_sub (nI po) (nI m) ∧ sm_dj (nI ne) (nI m) := by
  unfold sm_bn
  have l : ne &&& m < 2 ^ 6 := Nat.and_lt_two_pow ne hm
  rw [Bool.and_eq_true, beq_iff_eq, beq_iff_eq, ← sm_sub0, ← sm_and0, sm_subN po h1 m hm, sm_nand, ← nI_0, nI_eq (by omega) (by omega)]
theorem sm_fB_e {c p q po ne m : Nat} (hc : c < 32) (h1 : po < 64) (h2 : ne < 64) (hm : m < 64) : sm_fB c p q po ne m = true ↔ sm_cA c p q (nI m) ∧ ¬ (sm_sub (nI po) (nI m) ∧ sm_dj (nI ne) (nI m)) := by
  unfold sm_fB
  rw [Bool.and_eq_true, sm_fA_e hc hm, ← sm_bn_e h1 h2 hm]
  cases sm_bn po ne m <;> simp
/-! least, top -/
theorem sm_fw_0 {f : Nat → Bool} (h : f 0 = true) : ∀ n, sm_fw f (n + 1) = 1
  | 0 => by
      show (if f 0 then (if sm_fw f 0 = 0 then sm_on 0 + 1 else if sm_fw f 0 ≤ sm_on 0 + 1 then sm_fw f 0 else sm_on 0 + 1) else sm_fw f 0) = 1
      rw [h]
      rfl
  | n + 1 => by
      show (if f (n + 1) then (if sm_fw f (n + 1) = 0 then sm_on (n + 1) + 1 else if sm_fw f (n + 1) ≤ sm_on (n + 1) + 1 then sm_fw f (n + 1) else sm_on (n + 1) + 1) else sm_fw f (n + 1)) = 1
      rw [sm_fw_0 h n]
      split
      · rw [if_neg (by omega), if_pos (by omega)]
      · rfl
theorem sm_fw_in {f : Nat → Bool} : ∀ n, (sm_fw f n = 0 ∧ ∀ m, m < n → f m = false) ∨ ((∃ m, m < n ∧ f m = true ∧ sm_fw f n = sm_on m + 1) ∧ ∀ m, m < n → f m = true → sm_fw f n ≤ sm_on m + 1)
  | 0 => Or.inl ⟨rfl, fun m hm => absurd hm (by omega)⟩
  | n + 1 => by
      have ih := sm_fw_in (f := f) n
      have e : sm_fw f (n + 1) = (if f n then (if sm_fw f n = 0 then sm_on n + 1 else if sm_fw f n ≤ sm_on n + 1 then sm_fw f n else sm_on n + 1) else sm_fw f n) := rfl
      cases hf : f n
      · rw [hf] at e
        have e' : sm_fw f (n + 1) = sm_fw f n := e
        rw [e']
        rcases ih with ⟨h1, h2⟩ | ⟨⟨m, h1, h2, h3⟩, h4⟩
        · refine Or.inl ⟨h1, fun m hm => ?_⟩
          by_cases z : m = n
          · rw [z]; exact hf
          · exact h2 m (by omega)
        · refine Or.inr ⟨⟨m, by omega, h2, h3⟩, fun m' hm' hf' => ?_⟩
          by_cases z : m' = n
          · rw [z, hf] at hf'; exact absurd hf' (by decide)
          · exact h4 m' (by omega) hf'
      · rw [hf, if_pos rfl] at e
        rcases ih with ⟨h1, h2⟩ | ⟨⟨m, h1, h2, h3⟩, h4⟩
        · rw [if_pos h1] at e
          refine Or.inr ⟨⟨n, by omega, hf, e⟩, fun m' hm' hf' => ?_⟩
          by_cases z : m' = n
          · rw [z, e]; exact Nat.le_refl _
          · rw [h2 m' (by omega)] at hf'; exact absurd hf' (by decide)
        · rw [if_neg (by omega)] at e
          by_cases w : sm_fw f n ≤ sm_on n + 1
          · rw [if_pos w] at e
            rw [e]
            refine Or.inr ⟨⟨m, by omega, h2, h3⟩, fun m' hm' hf' => ?_⟩
            by_cases z : m' = n
            · rw [z]; exact w
            · exact h4 m' (by omega) hf'
          · rw [if_neg w] at e
            refine Or.inr ⟨⟨n, by omega, hf, e⟩, fun m' hm' hf' => ?_⟩
            by_cases z : m' = n
            · rw [z, e]; exact Nat.le_refl _
            · have := h4 m' (by omega) hf'
              omega
theorem sm_fw_v {f : Nat → Bool} {n v t : Nat} (ht : t < n) (hf : f t = true) (hv : sm_on t = v) (hl : ∀ m, m < n → f m = true → v ≤ sm_on m) : sm_fw f n = v + 1 := by
  rcases sm_fw_in (f := f) n with ⟨_, h2⟩ | ⟨⟨m, h1, h2, h3⟩, h4⟩
  · rw [h2 t ht] at hf
    exact absurd hf (by decide)
  · have a1 := hl m h1 h2
    have a2 := h4 t ht hf
    omega
theorem sm_mx_top {f : Nat → Bool} {t : Nat} (ht : t < 64) (hf : f t = true) (hl : ∀ m, m < 64 → f m = true → (m &&& t) = m) : ∀ n, n ≤ 64 → sm_mx f n = if t < n then 1 else 0
  | 0, _ => rfl
  | n + 1, hn => by
      show sm_mx f n + (f n && sm_im f n 64).toNat = _
      rw [sm_mx_top ht hf hl n (by omega)]
      by_cases e : n = t
      · subst e
        rw [hf, Bool.true_and, sm_im_t (fun o ho h1 h2 h3 => ?_) 64 (by omega), if_neg (by omega), if_pos (by omega)]
        · rfl
        · have h4 := hl o ho h2
          rw [Nat.and_comm] at h4
          omega
      · have z : (f n && sm_im f n 64) = false := by
          cases hfn : f n
          · rfl
          · have h4 := hl n (by omega) hfn
            have h5 : n ≤ t := by rw [← h4]; exact Nat.and_le_right
            rw [sm_im_f (show n < t by omega) hf h4 64 ht]
            rfl
        rw [z]
        by_cases e2 : t < n
        · rw [if_pos e2, if_pos (by omega)]; rfl
        · rw [if_neg e2, if_neg (by omega)]; rfl
theorem sm_ct_cg {f g : Nat → Bool} : ∀ n, (∀ m, m < n → f m = g m) → sm_ct f n = sm_ct g n
  | 0, _ => rfl
  | n + 1, h => by
      show sm_ct f n + (f n).toNat = sm_ct g n + (g n).toNat
      rw [sm_ct_cg n (fun m hm => h m (by omega)), h n (by omega)]
theorem sm_ct_add (f : Nat → Bool) (n : Nat) : ∀ j, sm_ct f (n + j) = sm_ct f n + sm_ct (fun i => f (n + i)) j
  | 0 => rfl
  | j + 1 => by
      show sm_ct f (n + j) + (f (n + j)).toNat = sm_ct f n + (sm_ct (fun i => f (n + i)) j + (f (n + j)).toNat)
      rw [sm_ct_add f n j]
      omega
theorem sm_ct_sum {f g h : Nat → Bool} : ∀ n, (∀ m, m < n → (f m).toNat + (g m).toNat = (h m).toNat) → sm_ct f n + sm_ct g n = sm_ct h n
  | 0, _ => rfl
  | n + 1, H => by
      show sm_ct f n + (f n).toNat + (sm_ct g n + (g n).toNat) = sm_ct h n + (h n).toNat
      have t := sm_ct_sum n (fun m hm => H m (by omega))
      have t2 := H n (by omega)
      omega
theorem sm_ctB {c p q po ne : Nat} (hp : p < 5) (hq : q < 5) (h1 : po < 32) (h2 : ne < 32) : sm_ct (sm_fB c p q po ne) 64 = sm_ct (sm_gB c po ne) 32 := by
  rw [show 64 = 32 + 32 from rfl, sm_ct_add]
  refine sm_ct_sum 32 (fun s hs => ?_)
  obtain ⟨e1, e2, e3, e4⟩ := sm_k32c s hs
  show (sm_fB c p q po ne s).toNat + (sm_fB c p q po ne (32 + s)).toNat = (sm_gB c po ne s).toNat
  unfold sm_fB sm_fA sm_gB sm_bn
  rw [e1, e2, e3, e4, sm_k32b s hs p hp, sm_k32b s hs q hq, sm_k32 s hs po h1, sm_k32 s hs ne h2]
  cases (s &&& c == s) <;> cases (s.testBit p && s.testBit q) <;> cases (po &&& s == po && ne &&& s == 0) <;> rfl
/-! what the law needs -/
section
variable {c p q : Nat}
theorem sm_A {c p q : Nat} (hc : c < 32) (hp : p < 5) (hq : q < 5) : sm_ct (sm_fA c p q) 64 = 2 ^ sm_on c ∧ sm_br (sm_fA c p q) 64 = sm_al c p q ∧ sm_ca (sm_fA c p q) 64 = 0 ∧ sm_fw (sm_fA c p q) 64 = 1 ∧ sm_mx (sm_fA c p q) 64 = 1 ∧ sm_fA c p q 0 = true ∧ sm_fA c p q (sm_al c p q) = true ∧ sm_al c p q < 64 ∧
    (∀ m, m < 64 → sm_fA c p q m = true → (32 &&& m) = 32 → (c.testBit p && c.testBit q) = true ∧ sm_t3 p q ≤ m) ∧ ((c.testBit p && c.testBit q) = true → sm_fA c p q (sm_t3 p q) = true ∧ (32 &&& sm_t3 p q) = 32) := by
  have h := sm_kA_i hc hp hq
  unfold sm_kA at h
  simp only [Bool.and_eq_true] at h
  obtain ⟨⟨⟨⟨⟨⟨⟨h1, h2⟩, h3⟩, h4⟩, h5⟩, h6⟩, h7⟩, h8⟩ := h
  have h7' := sm_all_e 64 h7
  have top : ∀ m, m < 64 → sm_fA c p q m = true → (m &&& sm_al c p q) = m := fun m hm hf => by
    have t := h7' m hm
    simp only [hf, Bool.not_true, Bool.false_or, Bool.and_eq_true, beq_iff_eq] at t
    exact t.1
  refine ⟨beq_iff_eq.mp h1, beq_iff_eq.mp h2, beq_iff_eq.mp h3, sm_fw_0 h4 63, ?_, h4, h5, of_decide_eq_true h6, fun m hm hf h32 => ?_, fun hcan => ?_⟩
  · rw [sm_mx_top (of_decide_eq_true h6) h5 top 64 (by omega), if_pos (of_decide_eq_true h6)]
  · have t := h7' m hm
    simp only [hf, h32, Bool.not_true, Bool.false_or, Bool.and_eq_true, beq_iff_eq, decide_eq_true_eq, beq_self_eq_true] at t
    exact ⟨by rw [Bool.and_eq_true]; exact t.2.1, t.2.2⟩
  · rw [hcan, Bool.not_true, Bool.false_or, Bool.and_eq_true, beq_iff_eq] at h8
    exact h8
theorem sm_C {c p q : Nat} (hc : c < 32) (hp : p < 5) (hq : q < 5) : sm_ct (sm_fC c p q) 64 = 2 ^ sm_re c p ∧ (sm_ca (sm_fC c p q) 64).testBit p = true ∧ sm_ca (sm_fC c p q) 64 < 64 ∧ sm_fw (sm_fC c p q) 64 = sm_lw p q + 1 := by
  have h := sm_kC_i hc hp hq
  unfold sm_kC at h
  simp only [Bool.and_eq_true] at h
  obtain ⟨⟨⟨⟨⟨⟨h1, h2⟩, h3⟩, h4⟩, h5⟩, h6⟩, h7⟩ := h
  have h7' := sm_all_e 64 h7
  refine ⟨beq_iff_eq.mp h1, h2, of_decide_eq_true h3, sm_fw_v (of_decide_eq_true h4) h5 (beq_iff_eq.mp h6) (fun m hm hf => ?_)⟩
  have t := h7' m hm
  simp only [hf, Bool.not_true, Bool.false_or, decide_eq_true_eq] at t
  exact t
theorem sm_B {c p q po ne : Nat} (hc : c < 32) (hp : p < 5) (hq : q < 5) (h1 : po < 32) (h2 : ne < 32) (hd : (po &&& ne) = 0) : sm_ct (sm_fB c p q po ne) 64 + sm_go c po ne = 2 ^ sm_on c ∧ ((po &&& c) = po → sm_on po + sm_on (ne &&& c) ≤ sm_on c) := by
  have h := sm_kB_i hc h1 h2
  unfold sm_kB at h
  rw [hd] at h
  simp only [beq_self_eq_true, Bool.not_true, Bool.false_or, Bool.and_eq_true] at h
  rw [sm_ctB hp hq h1 h2]
  refine ⟨beq_iff_eq.mp h.1, fun e => ?_⟩
  have t := h.2
  rw [e] at t
  simp only [beq_self_eq_true, Bool.not_true, Bool.false_or] at t
  exact of_decide_eq_true t
theorem sm_B0 {c p q po ne : Nat} (hc : c < 32) (h1 : po < 32) (hg : sm_go c po ne = 0) : ∀ m, m < 64 → sm_fB c p q po ne m = sm_fA c p q m := by
  intro m hm
  unfold sm_fB
  cases hf : sm_fA c p q m
  · rfl
  · cases hb : sm_bn po ne m
    · rfl
    · unfold sm_fA at hf
      unfold sm_bn at hb
      rw [Bool.and_eq_true, beq_iff_eq] at hf hb
      have t := sm_kinc c hc po h1 m hm hf.1 hb.1
      unfold sm_go at hg
      rw [t, if_pos (beq_self_eq_true po)] at hg
      have := Nat.two_pow_pos (sm_on c - sm_on po - sm_on (ne &&& c))
      omega
theorem sm_B1 {c p q po ne : Nat} (hc : c < 32) (hp : p < 5) (hq : q < 5) (h1 : po < 32) (h2 : ne < 32) (hd : (po &&& ne) = 0) (h : ∀ m, m < 64 → sm_fB c p q po ne m = sm_fA c p q m) : sm_go c po ne = 0 := by
  have t := (sm_B (p := p) (q := q) hc hp hq h1 h2 hd).1
  rw [sm_ct_cg 64 h, (sm_A hc hp hq).1] at t
  omega
theorem sm_fB0 {c p q po ne : Nat} (hc : c < 32) (hp : p < 5) (hq : q < 5) : sm_fB c p q po ne 0 = decide (¬ po = 0) := by
  unfold sm_fB
  rw [(sm_A hc hp hq).2.2.2.2.2.1]
  unfold sm_bn
  rw [Nat.and_zero, Nat.and_zero]
  by_cases e : po = 0
  · subst e
    rfl
  · have e' : (0 == po) = false := by
      rw [beq_eq_false_iff_ne]
      exact fun z => e z.symm
    rw [e', decide_eq_true e]
    rfl
end
end
section
/-! the law's walk, from its end to its beginning -/
def sm_H (c p q k : Nat) : Prop := c < 32 ∧ p < 5 ∧ q < 5 ∧ k = sm_on c ∧ k ≤ 5
theorem sm_p2 : ∀ n, n < 8 → (1 : Int32) <<< (nI n &&& 31) = nI (2 ^ n) := by decide +kernel
theorem sm_prb : ∀ n, n < 8 → ∀ r, r < 32 → sm_bt (((1 : Int32) <<< (nI n &&& 31)) - 1) r = decide (r < n) := by decide +kernel
theorem sm_pr_e {pr : Int32} {n : Nat} (hP : sm_pp pr n) (hn : n < 8) : pr = ((1 : Int32) <<< (nI n &&& 31)) - 1 := sm_ext (fun r hr => by rw [hP r hr, sm_prb n hn r hr])
theorem sm_on1 : ∀ c, c < 32 → ∀ p, p < 5 → c.testBit p = true → 1 ≤ sm_on c := by decide +kernel
theorem sm_re_le (c p : Nat) : sm_re c p ≤ sm_on c := by
  unfold sm_re
  split <;> omega
section
variable {pr ii oo bb mm kn : Int32} {ms : Int64} {a1 a2 a3 a4 a5 a6 a7 a8 : Nat → Int32} {c p q k po ne : Nat} {post : Int32 → St0 → Prop} {mc mz kc ks : Nat}
theorem sm_hfA (hH : sm_H c p q k) (hc : sm_core c p q k a1 a2 a3 a4) (hP : sm_pp pr (k + 1)) : ∀ m, m < 64 → (sm_fA c p q m = true ↔ sm_st pr a1 a2 a3 a4 (nI m)) :=
  fun m hm => (sm_fA_e hH.1 hm).trans (sm_stA hH.2.1 hH.2.2.1 hc hP (nI m)).symm
theorem sm_hfB (hH : sm_H c p q k) (hc : sm_core c p q k a1 a2 a3 a4) (hP : sm_pp pr (k + 2)) (h1 : po < 32) (h2 : ne < 32) (f1 : a1 (k + 1) = 2) (f3 : a3 (k + 1) = nI po) (f4 : a4 (k + 1) = nI ne) : ∀ m, m < 64 → (sm_fB c p q po ne m = true ↔ sm_st pr a1 a2 a3 a4 (nI m)) := by
  intro m hm
  refine (sm_fB_e hH.1 (by omega) (by omega) hm).trans (Iff.trans ?_ (sm_stB hH.2.1 hH.2.2.1 hc hP f1 (nI m)).symm)
  unfold sm_bT
  rw [f3, f4]
theorem sm_L577 {z0 z1 : Int32} (hpost : post 1 ()) (hk : k ≤ 5) (hP : sm_pp pr (k + 2)) (hz : z1 = z0) : wL_lawOf_577 post mc mz (nI k) z0 z1 kc ks pr ii oo bb mm kn ms a1 a2 a3 a4 a5 a6 a7 a8 := by
  refine br_t hz (br_t ?_ hpost)
  show pr = ((1 : Int32) <<< ((nI k + nI 2) &&& 31)) - 1
  rw [nI_add]
  exact sm_pr_e hP (by omega)
theorem sm_L520 (hpost : post 1 ()) (hH : sm_H c p q k) (hc : sm_core c p q k a1 a2 a3 a4) (hP : sm_pp pr (k + 2)) (f1 : a1 (k + 1) = 0) (f2 : a2 (k + 1) = nI p) (f3 : a3 (k + 1) = 0) (f4 : a4 (k + 1) = 0) (hkn : kn = 0) :
    wL_lawOf_520 post mc mz (nI p) (nI q) 1 (nI k) (nI (k + 1)) (nI (k + 1)) (nI (sm_re c p)) kc ks pr ii oo bb mm kn ms a1 a2 a3 a4 a5 a6 a7 a8 := by
  obtain ⟨h1, h2, h3, h4, h5⟩ := hH
  have hw : sm_wf pr a2 a3 a4 := sm_wfB h2 h3 hc hP ⟨p, by omega, f2⟩ (by rw [f3]; exact sm_s6_0) (by rw [f4]; exact sm_s6_0)
  have hf : ∀ m, m < 64 → (sm_fC c p q m = true ↔ sm_st pr a1 a2 a3 a4 (nI m)) := fun m hm => (sm_fC_e h1 h2 hm).trans (sm_stC h2 h3 hc hP f1 f2 f3 f4 (nI m)).symm
  obtain ⟨e1, e2, e3, e4⟩ := sm_C h1 h2 h3
  have er := sm_re_le c p
  refine br_f (by decide) (br_t rfl (sm_models hw (Or.inl hkn) hf (fun i1 o1 b1 m1 s1 x5 x6 x7 x8 hs => br_t ?_ (sm_cautious hw (Or.inr ⟨rfl, hs⟩) hf (fun i1 o1 b1 m1 s1 x5 x6 x7 x8 hs => br_t ?_ (sm_fewest hw (Or.inr ⟨rfl, hs⟩) hf (fun i1 o1 b1 m1 s1 x5 x6 x7 x8 hs => ?_)))))))
  · rw [e1, sm_p2 _ (by omega)]
  · exact (sm_sh1 (by omega) _).mpr (by rw [sm_nIbt e3]; exact e2)
  · rw [e4]
    refine pk_eq p q (fun e => sm_L577 hpost h5 hP ?_) (fun e => sm_L577 hpost h5 hP ?_)
    · unfold sm_lw
      rw [if_pos e]
      rfl
    · unfold sm_lw
      rw [if_neg e]
      rfl
theorem sm_L486 (hpost : post 1 ()) (hH : sm_H c p q k) (hc : sm_core c p q k a1 a2 a3 a4) (hP : sm_pp pr (k + 1)) : wL_lawOf_486 post mc mz (nI c) (nI p) (nI q) (nI k) (nI (k + 1)) 1 kc ks pr ii oo bb mm kn ms a1 a2 a3 a4 a5 a6 a7 a8 := by
  have hH' := hH
  obtain ⟨h1, h2, h3, h4, h5⟩ := hH'
  unfold wL_lawOf_486
  refine sm_add (k := k + 1) (kd := 0) (h := nI p) (po := 0) (ne := 0) (by omega) (fun r hr => sm_pp_in hP (by omega) hr) (by rw [hP (k + 1) (by omega)]; exact decide_eq_false (by omega)) (Or.inl rfl) (Or.inr ⟨p, by omega, rfl⟩) (sm_by64 p (by omega)) (by omega) (by omega) (fun y _ hy => ?_)
  have ey := hy (by decide)
  subst ey
  have L := fun mc mz kc ks => sm_L520 (ii := ii) (oo := oo) (bb := bb) (mm := mm) (kn := 0) (ms := ms) (a5 := a5) (a6 := a6) (a7 := a7) (a8 := a8) (mc := mc) (mz := mz) (kc := kc) (ks := ks) hpost hH (sm_core_up (x1 := 0) (x2 := nI p) (x3 := nI 0) (x4 := nI 0) hc) (sm_ppa (by omega) hP) pk_us pk_us pk_us pk_us rfl
  refine ek_if (sm_sh1 (by omega) (nI c)) (fun z => ?_) (fun z => ?_)
  · rw [sm_nIbt (by omega)] at z
    have e1 := sm_on1 c h1 p h2 z
    have e2 : sm_re c p = k - 1 := by
      unfold sm_re
      rw [z, if_pos rfl, h4]
    have e3 : nI k - 1 = nI (k - 1) := pk_sub (b := 1) (by omega)
    rw [e2] at L
    rw [e3]
    exact L mc mz kc ks
  · rw [sm_nIbt (by omega)] at z
    have e2 : sm_re c p = k := by
      unfold sm_re
      rw [if_neg z, h4]
    rw [e2] at L
    exact L mc mz kc ks
theorem sm_L434 (hpost : post 1 ()) (hH : sm_H c p q k) (hc : sm_core c p q k a1 a2 a3 a4) (hP : sm_pp pr (k + 2)) : wL_lawOf_434 post mc mz (nI c) (nI p) (nI q) (nI k) (nI (k + 1)) 1 kc ks pr ii oo bb mm kn ms a1 a2 a3 a4 a5 a6 a7 a8 := by
  have hH' := hH
  obtain ⟨h1, h2, h3, h4, h5⟩ := hH'
  have hP' := sm_ppd h5 hP
  have hw := sm_wfA h2 h3 hc hP'
  unfold wL_lawOf_434
  refine sm_remove1 (by omega) (sm_pp_in hP (by omega) (by omega)) ?_
  refine sm_remove0 (by omega) (by rw [hP' (k + 1) (by omega)]; exact decide_eq_false (by omega)) (br_f (by decide) (br_f (by decide) (br_t rfl (sm_models hw (Or.inl rfl) (sm_hfA hH hc hP') (fun i1 o1 b1 m1 s1 x5 x6 x7 x8 hs => br_t ?_ (sm_L486 hpost hH hc hP'))))))
  rw [(sm_A h1 h2 h3).1, ← h4, sm_p2 k (by omega)]
theorem sm_L426 {z0 z1 : Int32} (hz : z1 = z0) (hpost : post 1 ()) (hH : sm_H c p q k) (hc : sm_core c p q k a1 a2 a3 a4) (hP : sm_pp pr (k + 2)) : wL_lawOf_426 post mc mz (nI c) (nI p) (nI q) (nI k) (nI (k + 1)) z0 z1 kc ks pr ii oo bb mm kn ms a1 a2 a3 a4 a5 a6 a7 a8 :=
  br_t hz (sm_L434 hpost hH hc hP)
theorem sm_wfB' (hH : sm_H c p q k) (hc : sm_core c p q k a1 a2 a3 a4) (hP : sm_pp pr (k + 2)) (h1 : po < 32) (h2 : ne < 32) (f2 : a2 (k + 1) = 0) (f3 : a3 (k + 1) = nI po) (f4 : a4 (k + 1) = nI ne) : sm_wf pr a2 a3 a4 :=
  sm_wfB hH.2.1 hH.2.2.1 hc hP ⟨0, by omega, f2⟩ (by rw [f3]; exact sm_nI6 (by omega)) (by rw [f4]; exact sm_nI6 (by omega))
theorem sm_L407 {z0 z1 : Int32} (hz : z1 = z0) (hpost : post 1 ()) (hH : sm_H c p q k) (hc : sm_core c p q k a1 a2 a3 a4) (hP : sm_pp pr (k + 2)) (h1 : po < 32) (h2 : ne < 32) (f1 : a1 (k + 1) = 2) (f2 : a2 (k + 1) = 0) (f3 : a3 (k + 1) = nI po) (f4 : a4 (k + 1) = nI ne) (hkn : kn = 0) :
    wL_lawOf_407 post mc mz (nI c) (nI p) (nI q) (nI po) (nI k) (nI (k + 1)) z0 z1 kc ks pr ii oo bb mm kn ms a1 a2 a3 a4 a5 a6 a7 a8 := by
  refine br_t hz (sm_stable (m := 0) (by omega) (sm_wfB' hH hc hP h1 h2 f2 f3 f4) (Or.inl hkn) (sm_hfB hH hc hP h1 h2 f1 f3 f4) (fun i1 o1 b1 m1 s1 x5 x6 x7 x8 hs => ?_))
  have e := sm_fB0 (po := po) (ne := ne) hH.1 hH.2.1 hH.2.2.1
  refine pk_eq po 0 (fun z => sm_L426 ?_ hpost hH hc hP) (fun z => sm_L426 ?_ hpost hH hc hP)
  · rw [e, decide_eq_false (fun w => w z)]
    rfl
  · rw [e, decide_eq_true z]
    rfl
theorem sm_L359 (hpost : post 1 ()) (hH : sm_H c p q k) (hc : sm_core c p q k a1 a2 a3 a4) (hP : sm_pp pr (k + 2)) (h1 : po < 32) (h2 : ne < 32) (hd : (po &&& ne) = 0) (f1 : a1 (k + 1) = 2) (f2 : a2 (k + 1) = 0) (f3 : a3 (k + 1) = nI po) (f4 : a4 (k + 1) = nI ne) (hkn : kn = 0) :
    wL_lawOf_359 post mc mz (nI c) (nI p) (nI q) (nI po) 1 (nI k) (nI (k + 1)) (nI (sm_go c po ne)) kc ks pr ii oo bb mm kn ms a1 a2 a3 a4 a5 a6 a7 a8 := by
  have hH' := hH
  obtain ⟨g1, g2, g3, g4, g5⟩ := hH'
  have hw := sm_wfB' hH hc hP h1 h2 f2 f3 f4
  have hf := sm_hfB hH hc hP h1 h2 f1 f3 f4
  have hB := (sm_B (p := p) (q := q) g1 g2 g3 h1 h2 hd).1
  have l2 : 2 ^ sm_on c ≤ 2 ^ 5 := Nat.pow_le_pow_right (by decide) (by omega)
  refine br_f (by decide) (br_t (nI_1 k).symm (sm_models hw (Or.inl hkn) hf (fun i1 o1 b1 m1 s1 x5 x6 x7 x8 hs1 => br_t ?_ (sm_matters (r := k + 1) (by omega) (sm_pp_in hP (by omega) (by omega)) hw (Or.inr ⟨rfl, hs1⟩) (fun i1 o1 b1 m1 s s' x5 x6 x7 x8 hs hs' y hy0 hy1 => ?_)))))
  · rw [sm_p2 k (by omega), g4, pk_sub (by omega), ← hB, Nat.add_sub_cancel]
  · have e1 := sm_msf hf hs
    have e2 := sm_msf (sm_hfA hH hc (sm_ppd g5 hP)) hs'
    refine pk_le (sm_go c po ne) 0 (fun z => sm_L407 (hy0 ?_) hpost hH hc hP h1 h2 f1 f2 f3 f4 rfl) (fun z => sm_L407 (hy1 (fun w => ?_)) hpost hH hc hP h1 h2 f1 f2 f3 f4 rfl)
    · exact sm_mb_ext (fun m hm => (e1 m hm).trans ((sm_B0 g1 h1 (by omega) m hm).trans (e2 m hm).symm))
    · have t := sm_B1 g1 g2 g3 h1 h2 hd (fun m hm => ((e1 m hm).symm.trans (by rw [w])).trans (e2 m hm))
      omega
theorem sm_L310 (hpost : post 1 ()) (hH : sm_H c p q k) (hc : sm_core c p q k a1 a2 a3 a4) (hP : sm_pp pr (k + 1)) (h1 : po < 32) (h2 : ne < 32) (hd : (po &&& ne) = 0) :
    wL_lawOf_310 post mc mz (nI c) (nI p) (nI q) (nI po) (nI ne) (nI k) 1 kc ks pr ii oo bb mm kn ms a1 a2 a3 a4 a5 a6 a7 a8 := by
  have hH' := hH
  obtain ⟨g1, g2, g3, g4, g5⟩ := hH'
  unfold wL_lawOf_310
  refine sm_add (k := k + 1) (kd := 2) (h := 99) (po := po) (ne := ne) (by omega) (fun r hr => sm_pp_in hP (by omega) hr) (by rw [hP (k + 1) (by omega)]; exact decide_eq_false (by omega)) (Or.inr (Or.inr rfl)) (Or.inl rfl) (by decide) (by omega) (by omega) (fun y hy _ => ?_)
  have ey := hy rfl
  subst ey
  have L := fun mc mz kc ks => sm_L359 (ii := ii) (oo := oo) (bb := bb) (mm := mm) (kn := 0) (ms := ms) (a5 := a5) (a6 := a6) (a7 := a7) (a8 := a8) (mc := mc) (mz := mz) (kc := kc) (ks := ks) hpost hH (sm_core_up (x1 := 2) (x2 := 0) (x3 := nI po) (x4 := nI ne) hc) (sm_ppa (by omega) hP) h1 h2 hd pk_us pk_us pk_us pk_us rfl
  refine ek_if (sm_subN po (by omega) c (by omega)) (fun z => sm_onesL (sm_onesL ?_)) (fun z => ?_)
  · have l : ne &&& c < 2 ^ 5 := Nat.and_lt_two_pow ne g1
    have e0 := (sm_B (p := p) (q := q) g1 g2 g3 h1 h2 hd).2 z
    have e1 : (1 : Int32) <<< (((nI k - nI (sm_cd (nI po))) - nI (sm_cd (nI ne &&& nI c))) &&& 31) = nI (sm_go c po ne) := by
      rw [sm_nand, sm_onE po (by omega), sm_onE (ne &&& c) (by omega), pk_sub (by omega), pk_sub (by omega), sm_p2 _ (by omega)]
      unfold sm_go
      rw [z, if_pos (beq_self_eq_true po), g4]
    rw [e1]
    exact L mc mz kc ks
  · have e1 : sm_go c po ne = 0 := by
      unfold sm_go
      rw [if_neg (fun w => z (beq_iff_eq.mp w))]
    rw [e1] at L
    exact L mc mz kc ks
theorem sm_L292 {z0 z1 : Int32} (hz : z1 = z0) (hpost : post 1 ()) (hH : sm_H c p q k) (hc : sm_core c p q k a1 a2 a3 a4) (hP : sm_pp pr (k + 1)) (h1 : po < 32) (h2 : ne < 32) (hd : (po &&& ne) = 0) (hk : kn = 0 ∨ (kn = 1 ∧ sm_ms (sm_st pr a1 a2 a3 a4) ms)) :
    wL_lawOf_292 post mc mz (nI c) (nI p) (nI q) (nI po) (nI ne) (nI k) (nI (sm_al c p q)) z0 z1 kc ks pr ii oo bb mm kn ms a1 a2 a3 a4 a5 a6 a7 a8 := by
  have hA := sm_A hH.1 hH.2.1 hH.2.2.1
  refine br_t hz (sm_stable hA.2.2.2.2.2.2.2.1 (sm_wfA hH.2.1 hH.2.2.1 hc hP) hk (sm_hfA hH hc hP) (fun i1 o1 b1 m1 s1 x5 x6 x7 x8 hs => br_f ?_ (sm_L310 hpost hH hc hP h1 h2 hd)))
  rw [hA.2.2.2.2.2.2.1]
  decide
theorem sm_t3e : ∀ p, p < 5 → ∀ q, q < 5 → ((32 ||| ((1 : Int32) <<< (nI p &&& 31))) ||| ((1 : Int32) <<< (nI q &&& 31))) = nI (sm_t3 p q) ∧ sm_t3 p q < 64 := by decide +kernel
theorem sm_L259 {cn : Bool} {z0 z1 z2 : Int32} (hcn : (c.testBit p && c.testBit q) = cn) (hz : z2 = (z1 ||| z0)) (hpost : post 1 ()) (hH : sm_H c p q k) (hc : sm_core c p q k a1 a2 a3 a4) (hP : sm_pp pr (k + 1)) (h1 : po < 32) (h2 : ne < 32) (hd : (po &&& ne) = 0) (hk : kn = 0 ∨ (kn = 1 ∧ sm_ms (sm_st pr a1 a2 a3 a4) ms)) :
    wL_lawOf_259 post mc mz (nI c) (nI p) (nI q) (nI po) (nI ne) (nI k) (nI cn.toNat) (nI (sm_al c p q)) z0 z1 z2 kc ks pr ii oo bb mm kn ms a1 a2 a3 a4 a5 a6 a7 a8 := by
  obtain ⟨_, _, _, _, _, _, _, _, hA1, hA2⟩ := sm_A hH.1 hH.2.1 hH.2.2.1
  have t3 := sm_t3e p hH.2.1 q hH.2.2.1
  refine br_t hz (sm_find (sm_wfA hH.2.1 hH.2.2.1 hc hP) hk (sm_hfA hH hc hP) (fun o ho hf h32 hl i1 o1 b1 m1 s1 x5 x6 x7 x8 hs => ?_) (fun hl i1 o1 b1 m1 s1 x5 x6 x7 x8 hs => ?_))
  · have t := hA1 o ho hf h32
    have e : o = sm_t3 p q := by
      rcases Nat.lt_or_ge (sm_t3 p q) o with z | z
      · exact absurd (hA2 t.1) (hl _ z)
      · have := t.2; omega
    rw [hcn] at t
    rw [t.1]
    refine br_f (by decide) (sm_L292 ?_ hpost hH hc hP h1 h2 hd (Or.inr ⟨rfl, hs⟩))
    rw [t3.1, e]
  · cases cn
    · exact br_t rfl (sm_L292 rfl hpost hH hc hP h1 h2 hd (Or.inr ⟨rfl, hs⟩))
    · exact absurd (hA2 hcn) (hl _ t3.2)
theorem sm_tb32 : ∀ i, i < 32 → (32 : Nat).testBit i = true → i = 5 := by decide
theorem sm_supE (hH : sm_H c p q k) (hc : sm_core c p q k a1 a2 a3 a4) (hP : sm_pp pr (k + 1)) {F : Int32} (hF : sm_lf (sm_sa pr a1 a2 a3 a4 63) a2 a3 F) : F = nI (sm_al c p q) := by
  have hA := (sm_A hH.1 hH.2.1 hH.2.2.1).2.2.2.2.2.2.2.1
  have t := sm_supA hH.2.1 hH.2.2.1 hc hP hF
  apply sm_sub_a
  · intro i hi
    rw [sm_nIbt hA]
    unfold sm_al
    rw [Nat.testBit_or]
    rcases (t i).mp hi with z | ⟨z1, z2, z3⟩
    · rw [z.2, Bool.true_or]
    · rw [z2, z3, z1]
      simp only [Bool.and_self, if_true, Bool.or_eq_true]
      exact Or.inr (by decide)
  · intro i hi
    have hi32 := sm_lt32 hi
    rw [sm_nIbt hA] at hi
    unfold sm_al at hi
    rw [Nat.testBit_or, Bool.or_eq_true] at hi
    refine (t i).mpr ?_
    rcases hi with z | z
    · left
      refine ⟨?_, z⟩
      rcases Nat.lt_or_ge i 5 with w | w
      · exact w
      · rw [Nat.testBit_lt_two_pow (Nat.lt_of_lt_of_le hH.1 (Nat.le_trans (show 32 ≤ 2 ^ 5 by decide) (Nat.pow_le_pow_right (by decide) w)))] at z
        exact absurd z (by decide)
    · right
      cases e : (c.testBit p && c.testBit q)
      · rw [e] at z
        simp at z
      · rw [e, if_pos rfl] at z
        rw [Bool.and_eq_true] at e
        exact ⟨sm_tb32 i hi32 z, e.1, e.2⟩
theorem sm_L175 {cn : Bool} {z0 : Int32} (hcn : (c.testBit p && c.testBit q) = cn) (hz : z0 = nI (if cn then 32 else 0)) (hpost : post 1 ()) (hH : sm_H c p q k) (hc : sm_core c p q k a1 a2 a3 a4) (hP : sm_pp pr (k + 1)) (h1 : po < 32) (h2 : ne < 32) (hd : (po &&& ne) = 0) (hkn : kn = 0) :
    wL_lawOf_175 post mc mz (nI c) (nI p) (nI q) (nI po) (nI ne) 1 (nI k) (nI cn.toNat) z0 (nI c) kc ks pr ii oo bb mm kn ms a1 a2 a3 a4 a5 a6 a7 a8 := by
  have hH' := hH
  obtain ⟨g1, g2, g3, g4, g5⟩ := hH'
  obtain ⟨A1, A2, A3, A4, A5, A6, A7, A8, _, _⟩ := sm_A g1 g2 g3
  have hw := sm_wfA g2 g3 hc hP
  have hf := sm_hfA hH hc hP
  have eal : nI c ||| nI (if cn then 32 else 0) = nI (sm_al c p q) := by
    rw [sm_nor]
    unfold sm_al
    rw [hcn]
  refine nm_r (e' := nI (sm_al c p q)) (by rw [hz, eal]) (br_f (by decide) (sm_models hw (Or.inl hkn) hf (fun i1 o1 b1 m1 s1 x5 x6 x7 x8 hs => br_t ?_ (sm_brave hw (Or.inr ⟨rfl, hs⟩) hf (fun i1 o1 b1 m1 s1 x5 x6 x7 x8 hs => br_t ?_ (sm_cautious hw (Or.inr ⟨rfl, hs⟩) hf (fun i1 o1 b1 m1 s1 x5 x6 x7 x8 hs => br_t ?_ (sm_fewest hw (Or.inr ⟨rfl, hs⟩) hf (fun i1 o1 b1 m1 s1 x5 x6 x7 x8 hs => br_t ?_ (sm_maximal hw (Or.inr ⟨rfl, hs⟩) hf (fun i1 o1 b1 m1 s1 x5 x6 x7 x8 hs => br_t ?_ (sm_model0 hw (Or.inr ⟨rfl, hs⟩) hf A6 (fun i1 o1 b1 m1 s1 x5 x6 x7 x8 hs => br_t rfl (sm_support63 hw (fun F hF => ?_)))))))))))))))
  · rw [A1, ← g4, sm_p2 k (by omega)]
  · rw [A2]
  · rw [A3]; rfl
  · rw [A4]; rfl
  · rw [A5]; rfl
  · have eF := sm_supE hH hc hP hF
    cases cn
    · exact br_t rfl (sm_L259 (cn := false) hcn (by rw [eF, ← eal]; rfl) hpost hH hc hP h1 h2 hd (Or.inr ⟨rfl, hs⟩))
    · exact br_f (by decide) (sm_L259 (cn := true) hcn (by rw [eF, ← eal]; rfl) hpost hH hc hP h1 h2 hd (Or.inr ⟨rfl, hs⟩))
theorem sm_L160 {cn : Bool} (hcn : (c.testBit p && c.testBit q) = cn) (hpost : post 1 ()) (hH : sm_H c p q k) (hc : sm_core c p q k a1 a2 a3 a4) (hP : sm_pp pr (k + 1)) (h1 : po < 32) (h2 : ne < 32) (hd : (po &&& ne) = 0) (hkn : kn = 0) :
    wL_lawOf_160 post mc mz (nI c) (nI p) (nI q) (nI po) (nI ne) 1 (nI k) (nI cn.toNat) kc ks pr ii oo bb mm kn ms a1 a2 a3 a4 a5 a6 a7 a8 := by
  cases cn
  · exact br_t rfl (sm_L175 (cn := false) hcn rfl hpost hH hc hP h1 h2 hd hkn)
  · exact br_f (by decide) (sm_L175 (cn := true) hcn rfl hpost hH hc hP h1 h2 hd hkn)
end
end
section
/-- the choices below atom a are there, k of them -/
def sm_Fl (c a k : Nat) (pr : Int32) (a1 a2 a3 a4 : Nat → Int32) : Prop :=
  k ≤ a ∧ k = sm_pc (nI c) a ∧ sm_pp pr k ∧ (∀ r, r < k → a1 r = 1 ∧ (∃ h, h < a ∧ c.testBit h = true ∧ a2 r = nI h) ∧ a3 r = 0 ∧ a4 r = 0) ∧ (∀ h, h < a → c.testBit h = true → ∃ r, r < k ∧ a2 r = nI h)
theorem sm_pqe : ∀ p, p < 5 → ∀ q, q < 5 → (((1 : Int32) <<< (nI p &&& 31)) ||| ((1 : Int32) <<< (nI q &&& 31))) = nI (2 ^ p ||| 2 ^ q) ∧ (2 ^ p ||| 2 ^ q) < 64 := by decide +kernel
theorem sm_nege : ∀ y, y < 32 → ∀ po, po < 32 → (nI y &&& (nI po ^^^ (-1))) = nI (y - (y &&& po)) ∧ (po &&& (y - (y &&& po))) = 0 := by decide +kernel
theorem sm_t5 : ∀ c, c < 32 → c.testBit 5 = false := by decide +kernel
section
variable {pr ii oo bb mm kn : Int32} {ms : Int64} {a1 a2 a3 a4 a5 a6 a7 a8 : Nat → Int32} {c p q k po ne : Nat} {post : Int32 → St0 → Prop} {mc mz kc ks : Nat}
theorem sm_Fl_0 : sm_Fl c 0 0 0 a1 a2 a3 a4 :=
  ⟨Nat.le_refl 0, rfl, fun r _ => by rw [sm_b0, decide_eq_false (by omega)], fun r hr => absurd hr (by omega), fun h hh => absurd hh (by omega)⟩
theorem sm_Fl_skip {a : Nat} (h : sm_Fl c a k pr a1 a2 a3 a4) (hc : c < 32) (hb : c.testBit a = false) : sm_Fl c (a + 1) k pr a1 a2 a3 a4 := by
  obtain ⟨h1, h2, h3, h4, h5⟩ := h
  refine ⟨by omega, ?_, h3, fun r hr => ?_, fun h hh hb' => ?_⟩
  · show k = sm_pc (nI c) a + (sm_bt (nI c) a).toNat
    rw [sm_nIbt (by omega), hb]
    exact h2
  · obtain ⟨g1, ⟨h, g2, g3, g4⟩, g5⟩ := h4 r hr
    exact ⟨g1, ⟨h, by omega, g3, g4⟩, g5⟩
  · by_cases e : h = a
    · rw [e, hb] at hb'
      exact absurd hb' (by decide)
    · exact h5 h (by omega) hb'
theorem sm_Fl_add {a : Nat} (h : sm_Fl c a k pr a1 a2 a3 a4) (hc : c < 32) (ha : a < 5) (hb : c.testBit a = true) : sm_Fl c (a + 1) (k + 1) (pr ||| ((1 : Int32) <<< (nI k &&& 31))) (upd a1 k 1) (upd a2 k (nI a)) (upd a3 k (nI 0)) (upd a4 k (nI 0)) := by
  obtain ⟨h1, h2, h3, h4, h5⟩ := h
  refine ⟨by omega, ?_, sm_ppa (by omega) h3, fun r hr => ?_, fun h hh hb' => ?_⟩
  · show k + 1 = sm_pc (nI c) a + (sm_bt (nI c) a).toNat
    rw [sm_nIbt (by omega), hb, ← h2]
    rfl
  · by_cases e : r = k
    · subst e
      rw [pk_us, pk_us, pk_us, pk_us]
      exact ⟨rfl, ⟨a, by omega, hb, rfl⟩, rfl, rfl⟩
    · rw [pk_un e, pk_un e, pk_un e, pk_un e]
      obtain ⟨g1, ⟨h, g2, g3, g4⟩, g5⟩ := h4 r (by omega)
      exact ⟨g1, ⟨h, by omega, g3, g4⟩, g5⟩
  · by_cases e : h = a
    · subst e
      exact ⟨k, by omega, pk_us⟩
    · obtain ⟨r, hr, g⟩ := h5 h (by omega) hb'
      exact ⟨r, by omega, by rw [pk_un (by omega)]; exact g⟩
theorem sm_Fl_core (h : sm_Fl c 5 k pr a1 a2 a3 a4) : sm_core c p q k (upd a1 k 0) (upd a2 k (nI 5)) (upd a3 k (((1 : Int32) <<< (nI p &&& 31)) ||| ((1 : Int32) <<< (nI q &&& 31)))) (upd a4 k (nI 0)) := by
  obtain ⟨h1, h2, h3, h4, h5⟩ := h
  refine ⟨h1, fun r hr => ?_, fun h hh hb => ?_, pk_us, pk_us, pk_us, pk_us⟩
  · have e : r ≠ k := by omega
    rw [pk_un e, pk_un e, pk_un e, pk_un e]
    exact h4 r hr
  · obtain ⟨r, hr, g⟩ := h5 h hh hb
    exact ⟨r, hr, by rw [pk_un (by omega)]; exact g⟩
theorem sm_L56 (hpost : post 1 ()) (hc : c < 32) (hp : p < 5) (hq : q < 5) (h1 : po < 32) (h2 : ne < 32) (hd : (po &&& ne) = 0) :
    ∃ n, wL_lawOf_56 post mc mz (nI c) (nI p) (nI q) (nI po) (nI ne) kc ks n 1 0 0 ii oo bb mm 0 ms a1 a2 a3 a4 a5 a6 a7 a8 := by
  refine pk_loop (σ := Int32 × (Nat → Int32) × (Nat → Int32) × (Nat → Int32) × (Nat → Int32)) (fun n a s => wL_lawOf_56 post mc mz (nI c) (nI p) (nI q) (nI po) (nI ne) kc ks n 1 (nI a) s.1 ii oo bb mm 0 ms s.2.1 s.2.2.1 s.2.2.2.1 s.2.2.2.2 a5 a6 a7 a8)
    (fun a s => ∃ k, sm_Fl c a k s.1 s.2.1 s.2.2.1 s.2.2.2.1 s.2.2.2.2) 5 0 (0, a1, a2, a3, a4) (by omega) ⟨0, sm_Fl_0⟩ ?_ ?_
  · intro n s h
    obtain ⟨pr, a1, a2, a3, a4⟩ := s
    obtain ⟨k, hF⟩ := h
    have hF' : sm_Fl c 5 k pr a1 a2 a3 a4 := hF
    have hk : k ≤ 5 := hF'.1
    have hP : sm_pp pr k := hF'.2.2.1
    have epq := sm_pqe p hp q hq
    have eon : k = sm_on c := by
      rw [← sm_onE c (by omega)]
      show k = sm_pc (nI c) 5 + (sm_bt (nI c) 5).toNat
      rw [sm_nIbt (by omega), sm_t5 c hc, ← hF'.2.1]
      rfl
    have hH : sm_H c p q k := ⟨hc, hp, hq, eon, hk⟩
    refine pk_le 5 5 (fun _ => ?_) (fun z => absurd z (by omega))
    rw [epq.1]
    refine sm_add (k := k) (kd := 0) (h := nI 5) (po := 2 ^ p ||| 2 ^ q) (ne := 0) (by omega) (fun r hr => sm_pp_in hP (by omega) hr) (by rw [hP k (by omega)]; exact decide_eq_false (by omega)) (Or.inl rfl) (Or.inr ⟨5, by omega, rfl⟩) (sm_by64 5 (by omega)) epq.2 (by omega) (fun y _ hy => ?_)
    have ey := hy (by decide)
    subst ey
    have hcore := sm_Fl_core (p := p) (q := q) hF'
    rw [epq.1] at hcore
    have eon' : sm_cd (nI c) = k := by rw [sm_onE c (by omega), eon]
    refine sm_onesL ?_
    rw [eon']
    have L := fun cn hcn => sm_L160 (ii := ii) (oo := oo) (bb := bb) (mm := mm) (kn := 0) (ms := ms) (a5 := a5) (a6 := a6) (a7 := a7) (a8 := a8) (mc := mc) (mz := mz) (kc := kc) (ks := ks) (cn := cn) hcn hpost hH hcore (sm_ppa (by omega) hP) h1 h2 hd rfl
    refine ek_if (sm_sh1 (by omega) (nI c)) (fun z => ek_if (sm_sh1 (by omega) (nI c)) (fun z2 => ?_) (fun z2 => ?_)) (fun z => ?_)
    · rw [sm_nIbt (by omega)] at z z2
      exact L true (by rw [z, z2]; rfl)
    · rw [sm_nIbt (by omega)] at z z2
      exact L false (by rw [sm_nt z2, Bool.and_false])
    · rw [sm_nIbt (by omega)] at z
      exact L false (by rw [sm_nt z, Bool.false_and])
  · intro n a s ha h hn
    obtain ⟨pr, a1, a2, a3, a4⟩ := s
    obtain ⟨k, hF⟩ := h
    have hF' : sm_Fl c a k pr a1 a2 a3 a4 := hF
    have hk : k ≤ a := hF'.1
    have hP : sm_pp pr k := hF'.2.2.1
    refine pk_le 5 a (fun z => absurd z (by omega)) (fun _ => ?_)
    refine ek_if (sm_sh1 (by omega) (nI c)) (fun z => ?_) (fun z => nm_r (nI_1 a) (hn (pr, a1, a2, a3, a4) ⟨k, ?_⟩))
    · rw [sm_nIbt (by omega)] at z
      refine sm_add (k := k) (kd := 1) (h := nI a) (po := 0) (ne := 0) (by omega) (fun r hr => sm_pp_in hP (by omega) hr) (by rw [hP k (by omega)]; exact decide_eq_false (by omega)) (Or.inr (Or.inl rfl)) (Or.inr ⟨a, by omega, rfl⟩) (sm_by64 a (by omega)) (by omega) (by omega) (fun y _ hy => ?_)
      have ey := hy (by decide)
      subst ey
      exact br_f (by decide) (br_f (nI_pos (by omega)) (nm_r (nI_1 a) (hn (_, _, _, _, _) ⟨k + 1, sm_Fl_add hF' hc ha z⟩)))
    · rw [sm_nIbt (by omega)] at z
      exact sm_Fl_skip hF' hc (sm_nt z)
theorem sm_rem5 (x : Int32) : ∃ p, p < 5 ∧ (x &&& 65535) - (x &&& 65535) / 5 * 5 = nI p := by
  obtain ⟨w, hw, e⟩ := pk_andE x (m := 65535) 16 (by decide)
  rw [e]
  have hw' : w < 65536 := hw
  exact ⟨w % 5, Nat.mod_lt _ (by omega), pk_rem (d := 5) (by omega) (by omega) (by omega)⟩
theorem sm_lawOf (p0 p1 p2 p3 : Int32) (hpost : post 1 ()) : wpL_lawOf post 38 592 () p0 p1 p2 p3 := by
  obtain ⟨c, hc, ec⟩ := pk_andE p0 (m := 31) 5 (by decide)
  obtain ⟨p, hp, ep⟩ := sm_rem5 p1
  obtain ⟨q, hq, eq⟩ := sm_rem5 p2
  obtain ⟨po, hpo, epo⟩ := pk_andE p3 (m := 31) 5 (by decide)
  obtain ⟨y, hy, ey⟩ := pk_andE (p3 >>> ((5 : Int32) &&& 31)) (m := 31) 5 (by decide)
  have en := sm_nege y hy po hpo
  have hne : y - (y &&& po) < 32 := by have : y < 32 := hy; omega
  refine ⟨by omega, by omega, 30, 500, by omega, by omega, ?_⟩
  refine ⟨by omega, by omega, by omega, by omega, by omega, by omega, by omega, by omega, by omega, by omega, by omega, by omega, by omega, by omega, by omega, by omega, ?_⟩
  refine nm_r ec ⟨by decide, nm_r ep ⟨by decide, nm_r eq (nm_r epo (nm_r (e' := nI (y - (y &&& po))) (by rw [ey]; exact en.1) ?_))⟩⟩
  exact sm_L56 hpost hc hp hq hpo hne en.2
end
theorem sm_cell {post : Int32 → Prop} {xs : Nat → Int32} {L : Nat} (hL : L ≤ 4) (i : Nat) (hi : i < 4) (H : ∀ x, post x) : wpL_cellAt post L xs () (nI i) :=
  pk_le L i (fun _ => H 0) (fun z => ⟨pk_in i L z, H _⟩)
theorem i_vc (xs : Nat → Int32) (L : Nat) (hL : L ≤ 4) : wpL_law (fun r => r = 1) L xs :=
  sm_cell hL 0 (by omega) (fun x0 => sm_cell hL 1 (by omega) (fun x1 => sm_cell hL 2 (by omega) (fun x2 => sm_cell hL 3 (by omega) (fun x3 => ⟨38, 592, by omega, by omega, sm_lawOf x0 x1 x2 x3 rfl⟩))))
end
