section
/-! rows out of kit/laws/BITS.to-paste, renamed -/
theorem wn_x_and (a b : Nat) : nI a &&& nI b = nI (a &&& b) := by
  apply Int32.toBitVec_inj.1
  show BitVec.ofNat 32 a &&& BitVec.ofNat 32 b = BitVec.ofNat 32 (a &&& b)
  apply BitVec.eq_of_getLsbD_eq
  intro i hi
  simp [hi]
theorem wn_x_xor (a b : Nat) : nI a ^^^ nI b = nI (a ^^^ b) := by
  apply Int32.toBitVec_inj.1
  show BitVec.ofNat 32 a ^^^ BitVec.ofNat 32 b = BitVec.ofNat 32 (a ^^^ b)
  apply BitVec.eq_of_getLsbD_eq
  intro i hi
  simp [hi]
theorem wn_sl : ∀ n, n < 32 → ((nI n &&& 31).toBitVec.smod 32).toNat = n := by decide +kernel
theorem wn_b_tb (n : Nat) : (lN n).toBitVec = BitVec.ofNat 64 n := rfl
theorem wn_b_inj {a b : Int64} (h : a.toBitVec = b.toBitVec) : a = b := Int64.toBitVec_inj.mp h
theorem wn_b_tn {n : Nat} (h : n < 2 ^ 64) : (lN n).toBitVec.toNat = n := by rw [wn_b_tb, BitVec.toNat_ofNat, Nat.mod_eq_of_lt h]
theorem wn_b_of (x : Int64) : ∃ n, n < 2 ^ 64 ∧ x = lN n := ⟨x.toBitVec.toNat, x.toBitVec.isLt, wn_b_inj (by rw [wn_b_tb]; simp)⟩
theorem wn_b_c : ∀ k, k < 64 → ((nI k).toInt64 &&& 63) = lN k := by decide +kernel
theorem wn_b_cu : ∀ k, k < 64 → ((nI k).toInt64.toUInt64 &&& Int64.toUInt64 63) = UInt64.ofNat k := by decide +kernel
theorem wn_b_sm : ∀ k, k < 64 → (BitVec.ofNat 64 k).smod 64 = BitVec.ofNat 64 k := by decide +kernel
theorem wn_b_lt2 {a b : Nat} (h : a < b) : 2 ^ a < 2 ^ b := Nat.pow_lt_pow_right (by decide) h
theorem wn_b_shr {n k : Nat} (hn : n < 2 ^ 64) (hk : k < 64) : ((lN n).toUInt64 >>> ((nI k).toInt64.toUInt64 &&& Int64.toUInt64 63)).toInt64 = lN (n / 2 ^ k) := by
  rw [wn_b_cu k hk]
  apply wn_b_inj
  apply BitVec.eq_of_toNat_eq
  show ((lN n).toUInt64 >>> UInt64.ofNat k).toNat = (BitVec.ofNat 64 _).toNat
  have h1 : (UInt64.ofNat k).toNat = k := by
    show (BitVec.ofNat 64 k).toNat = k
    rw [BitVec.toNat_ofNat, Nat.mod_eq_of_lt (by omega)]
  have h2 : (lN n).toUInt64.toNat = n := wn_b_tn hn
  rw [UInt64.toNat_shiftRight, h1, h2, Nat.mod_eq_of_lt hk, Nat.shiftRight_eq_div_pow, BitVec.toNat_ofNat, Nat.mod_eq_of_lt (Nat.lt_of_le_of_lt (Nat.div_le_self _ _) hn)]
theorem wn_b_shl (n : Nat) {k : Nat} (hk : k < 64) : lN n <<< ((nI k).toInt64 &&& 63) = lN (n * 2 ^ k) := by
  rw [wn_b_c k hk]
  apply wn_b_inj
  rw [Int64.toBitVec_shiftLeft, wn_b_tb, wn_b_tb, wn_b_tb, wn_b_sm k hk]
  apply BitVec.eq_of_toNat_eq
  rw [BitVec.shiftLeft_eq', BitVec.toNat_shiftLeft, BitVec.toNat_ofNat, BitVec.toNat_ofNat, BitVec.toNat_ofNat, Nat.mod_eq_of_lt (show k < 2 ^ 64 by omega), Nat.shiftLeft_eq, Nat.mul_mod, Nat.mod_mod, ← Nat.mul_mod]
theorem wn_b_and {a b : Nat} (ha : a < 2 ^ 64) (hb : b < 2 ^ 64) : lN a &&& lN b = lN (a &&& b) := by
  apply wn_b_inj
  rw [Int64.toBitVec_and, wn_b_tb, wn_b_tb, wn_b_tb]
  apply BitVec.eq_of_toNat_eq
  rw [BitVec.toNat_and, BitVec.toNat_ofNat, BitVec.toNat_ofNat, BitVec.toNat_ofNat, Nat.mod_eq_of_lt ha, Nat.mod_eq_of_lt hb, Nat.mod_eq_of_lt (Nat.and_lt_two_pow _ hb)]
theorem wn_b_mask {n k : Nat} (hn : n < 2 ^ 64) (hk : k < 64) : lN n &&& lN (2 ^ k - 1) = lN (n % 2 ^ k) := by
  rw [wn_b_and hn (by have := wn_b_lt2 hk; omega), Nat.and_two_pow_sub_one_eq_mod]
theorem wn_utn {n : Nat} (h : n < 2 ^ 64) : (UInt64.ofNat n).toNat = n := Nat.mod_eq_of_lt h
theorem wn_gor {k p a b : Nat} (hp : 2 ^ k = p) (ha : a < p) (h : b * p + a < 2 ^ 64) : lN (b * p) ||| lN a = lN (b * p + a) := by
  subst hp
  have h1 : b * 2 ^ k ||| a = b * 2 ^ k + a := by rw [← Nat.shiftLeft_eq, Nat.shiftLeft_add_eq_or_of_lt ha]
  have h3 : UInt64.ofNat (b * 2 ^ k) ||| UInt64.ofNat a = UInt64.ofNat (b * 2 ^ k + a) := UInt64.toNat_inj.mp (by rw [UInt64.toNat_or, wn_utn (by omega), wn_utn (by omega), wn_utn h, h1])
  have h2 := congrArg UInt64.toInt64 h3
  exact h2
/-! counters and constants -/
theorem wn_8 (x : Nat) : (8 : Int32) * nI x = nI (8 * x) := pk_mul 8 x
theorem wn_4 (x : Nat) : (4 : Int32) * nI x = nI (4 * x) := pk_mul 4 x
theorem wn_6 (x : Nat) : (6 : Int32) * nI x = nI (6 * x) := pk_mul 6 x
theorem wn_16 (x : Nat) : (16 : Int32) * nI x = nI (16 * x) := pk_mul 16 x
theorem wn_p0 (x : Nat) : nI x + 0 = nI x := nI_add x 0
theorem wn_19 (x : Nat) : (19 : Int32) + nI x = nI (19 + x) := nI_add 19 x
theorem wn_34 (x : Nat) : ((19 : Int32) + nI x) + 15 = nI (34 + x) := by
  rw [wn_19, show 34 + x = 19 + x + 15 by omega]
  exact nI_add _ 15
theorem wn_348 (x : Nat) : ((19 : Int32) + 8 * nI x) + 15 = nI (34 + 8 * x) := by rw [wn_8, wn_34]
theorem wn_198 (x : Nat) : (19 : Int32) + 8 * nI x = nI (19 + 8 * x) := by rw [wn_8, wn_19]
theorem wn_sub {x : Int32} {a b : Nat} (hx : x = nI a) (h : b ≤ a) : x - nI b = nI (a - b) := by rw [hx, pk_sub h]
theorem wn_a1 (n : Nat) : nI n &&& 1 = nI (n % 2) := by
  rw [show (1 : Int32) = nI 1 from rfl, wn_x_and, Nat.and_one_is_mod]
theorem wn_sb {a k : Nat} {s : Int32} (ha : a < 2 ^ 31) (hk : k < 32) (hs : s = nI k) : (nI a >>> (s &&& 31)) &&& 1 = nI (a / 2 ^ k % 2) := by
  rw [hs, pk_shrN ha _ k (wn_sl k hk), wn_a1]
theorem wn_lb {a k : Nat} {s : Int32} (ha : a < 2 ^ 64) (hk : k < 64) (hs : s = nI k) : ((((lN a).toUInt64 >>> (s.toInt64.toUInt64 &&& Int64.toUInt64 63)).toInt64).toInt32) &&& 1 = nI (a / 2 ^ k % 2) := by
  rw [hs, wn_b_shr ha hk, lN_i, wn_a1]
theorem wn_ap (a b : Nat) : (2 : Int32) * nI a + nI b = nI (2 * a + b) := by
  rw [show (2 : Int32) * nI a = nI (2 * a) from pk_mul 2 a, nI_add]
theorem wn_apL {a b : Nat} (hb : b < 2) (h : 2 * a + b < 2 ^ 64) : (lN a <<< ((1 : Int32).toInt64 &&& 63)) ||| (nI b).toInt64 = lN (2 * a + b) := by
  have h1 : lN a <<< ((1 : Int32).toInt64 &&& 63) = lN (a * 2) := wn_b_shl a (k := 1) (by omega)
  have h2 := wn_gor (k := 1) (p := 2) (a := b) (b := a) rfl hb (by omega)
  rw [h1, nI_l (by omega), h2, Nat.mul_comm]
theorem wn_dvs {a i j : Nat} (h : j = i + 1) : 2 * (a / 2 ^ j) + a / 2 ^ i % 2 = a / 2 ^ i := by
  subst h
  rw [Nat.pow_succ, ← Nat.div_div_eq_div_mul]
  omega
theorem wn_dz {a i j : Nat} (h : a < 2 ^ j) (hj : j ≤ i) : a / 2 ^ i = 0 := Nat.div_eq_of_lt (Nat.lt_of_lt_of_le h (Nat.pow_le_pow_right (by decide) hj))
theorem wn_cut {w l : Nat} (hw : w < 2 ^ 64) (hl : l < 8) : lN w &&& (((1 : Int64) <<< (((8 : Int32) * nI l).toInt64 &&& 63)) - 1) = lN (w % 2 ^ (8 * l)) := by
  have h1 : (1 : Int64) <<< ((nI (8 * l)).toInt64 &&& 63) = lN (1 * 2 ^ (8 * l)) := wn_b_shl 1 (k := 8 * l) (by omega)
  have h2 : lN (2 ^ (8 * l)) - 1 = lN (2 ^ (8 * l) - 1) := lN_sub (b := 1) (Nat.two_pow_pos _)
  rw [wn_8, h1, Nat.one_mul, h2, wn_b_mask hw (by omega)]
/-! a store -/
def wn_u {α : Type} (n : Nat) (a b : Nat → α) (v : α) : Prop := b n = v ∧ ∀ j, j ≠ n → b j = a j
theorem wn_us {n : Nat} {a : Nat → Int32} {v v' : Int32} (h : v' = v) : wn_u n a (upd a n v') v := ⟨by rw [pk_us, h], fun j hj => pk_un hj⟩
theorem wn_uL {n : Nat} {a : Nat → Int64} {v v' : Int64} (h : v' = v) : wn_u n a (vp_updL a n v') v := ⟨by rw [pk_uLs, h], fun j hj => pk_uLn hj⟩
theorem wn_u0 {α : Type} {n : Nat} {a : Nat → α} {v v' : α} (h : a n = v') (h2 : v' = v) : wn_u n a a v := ⟨h.trans h2, fun _ _ => rfl⟩
/-! the pure trajectory of a listener: q = (plain bits, last bit, how often in a row, check number) -/
def wn_B (d l w p c : Nat) : Nat := if p < 1 then 0 else if p < 12 then d / 2 ^ (11 - p) % 2 else if p < 15 then 0 else if p < 19 then l / 2 ^ (18 - p) % 2 else if p < 19 + 8 * l then w / 2 ^ (18 + 8 * l - p) % 2 else c / 2 ^ (33 + 8 * l - p) % 2
def wn_C (l p b c : Nat) : Nat := if p < 19 + 8 * l then (2 * c % 32768) ^^^ (if b ^^^ (c / 2 ^ 14 % 2) = 1 then 17817 else 0) else c
def wn_out (d l w : Nat) (q : Nat × Int32 × Nat × Nat) : Int32 := if q.2.2.1 = 5 then 1 - q.2.1 else nI (wn_B d l w q.1 q.2.2.2)
def wn_nx (d l w : Nat) (q : Nat × Int32 × Nat × Nat) : Nat × Int32 × Nat × Nat := if q.2.2.1 = 5 then (q.1, 1 - q.2.1, 1, q.2.2.2) else (q.1 + 1, nI (wn_B d l w q.1 q.2.2.2), (if nI (wn_B d l w q.1 q.2.2.2) = q.2.1 then q.2.2.1 + 1 else 1), wn_C l q.1 (wn_B d l w q.1 q.2.2.2) q.2.2.2)
def wn_T (d l w : Nat) : Nat → Nat × Int32 × Nat × Nat
  | 0 => (0, -1, 0, 0)
  | k + 1 => wn_nx d l w (wn_T d l w k)
def wn_gd (l : Nat) (q : Nat × Int32 × Nat × Nat) (k : Nat) : Prop := q.1 ≤ 34 + 8 * l ∧ q.2.2.1 ≤ 5 ∧ q.2.2.2 < 32768 ∧ (1 ≤ q.2.2.1 → q.2.1 = 0 ∨ q.2.1 = 1) ∧ ∃ s, k = q.1 + s ∧ 4 * s + q.2.2.1 ≤ q.1
theorem wn_B2 (d l w p c : Nat) : wn_B d l w p c < 2 := by
  unfold wn_B
  repeat' split
  all_goals first | exact Nat.mod_lt _ (by decide) | decide
theorem wn_C15 {l p b c : Nat} (hc : c < 32768) : wn_C l p b c < 32768 := by
  unfold wn_C
  split
  · refine Nat.xor_lt_two_pow (n := 15) (Nat.mod_lt _ (by decide)) ?_
    split <;> decide
  · exact hc
theorem wn_gd0 (l : Nat) : wn_gd l (0, -1, 0, 0) 0 := ⟨Nat.zero_le _, by decide, by decide, fun h => absurd h (by decide), 0, rfl, Nat.le_refl _⟩
theorem wn_bit {b : Nat} (h : b < 2) : nI b = 0 ∨ nI b = 1 := by
  rcases (by omega : b = 0 ∨ b = 1) with e | e
  · exact Or.inl (by rw [e]; rfl)
  · exact Or.inr (by rw [e]; rfl)
theorem wn_gdS {d l w k : Nat} {q : Nat × Int32 × Nat × Nat} (h : wn_gd l q k) (hp : q.1 < 34 + 8 * l) : wn_gd l (wn_nx d l w q) (k + 1) := by
  obtain ⟨p, e, r, c⟩ := q
  obtain ⟨h1, h2, h3, h4, s, h5, h6⟩ := h
  dsimp only at h1 h2 h3 h4 h5 h6 hp
  unfold wn_nx
  dsimp only
  by_cases hr : r = 5
  · rw [if_pos hr]
    refine ⟨h1, (by show 1 ≤ 5; decide), h3, fun _ => ?_, s + 1, by dsimp only; omega, by dsimp only; omega⟩
    rcases h4 (by omega) with z | z
    · exact Or.inr (by rw [z]; rfl)
    · exact Or.inl (by rw [z]; rfl)
  · rw [if_neg hr]
    refine ⟨by dsimp only; omega, ?_, wn_C15 h3, fun _ => wn_bit (wn_B2 _ _ _ _ _), s, by dsimp only; omega, ?_⟩
    · dsimp only
      split <;> omega
    · dsimp only
      split <;> omega
theorem wn_N (d l w : Nat) (hl : l ≤ 8) : ∃ N, (wn_T d l w N).1 = 34 + 8 * l ∧ (∀ j, j < N → (wn_T d l w j).1 < 34 + 8 * l) ∧ (∀ j, j ≤ N → wn_gd l (wn_T d l w j) j) := by
  have A : ∀ m, (∀ j, j < m → (wn_T d l w j).1 < 34 + 8 * l) → wn_gd l (wn_T d l w m) m := by
    intro m
    induction m with
    | zero => intro _; exact wn_gd0 l
    | succ m ih => intro h; exact wn_gdS (ih (fun j hj => h j (by omega))) (h m (by omega))
  have E : ∃ k, ¬ (wn_T d l w k).1 < 34 + 8 * l := by
    apply Classical.byContradiction
    intro z
    have z' : ∀ k, (wn_T d l w k).1 < 34 + 8 * l := fun k => Classical.byContradiction (fun t => z ⟨k, t⟩)
    obtain ⟨h1, h2, h3, h4, s, h5, h6⟩ := A 130 (fun j _ => z' j)
    omega
  obtain ⟨N, h1, h2⟩ := pk_least _ E
  have h3 : ∀ j, j < N → (wn_T d l w j).1 < 34 + 8 * l := fun j hj => Classical.byContradiction (h2 j hj)
  have h4 := A N h3
  refine ⟨N, by have := h4.1; omega, h3, fun j hj => A j (fun i hi => h3 i (by omega))⟩
theorem wn_Nb {l N : Nat} {q : Nat × Int32 × Nat × Nat} (h : wn_gd l q N) (hp : q.1 = 34 + 8 * l) : 34 + 8 * l ≤ N ∧ 4 * (N - (34 + 8 * l)) ≤ 34 + 8 * l := by
  obtain ⟨h1, h2, h3, h4, s, h5, h6⟩ := h
  omega
/-- a listener n that has heard q, and t bits of the tail, of the frame d l w -/
def wn_lis (d l w n : Nat) (q : Nat × Int32 × Nat × Nat) (t : Nat) (a17 a18 a19 a20 a21 a22 : Nat → Int32) (a23 : Nat → Int64) (a24 a25 : Nat → Int32) : Prop :=
  a17 n = nI q.1 ∧ a18 n = q.2.1 ∧ a19 n = nI q.2.2.1 ∧ a20 n = nI q.2.2.2 ∧ a21 n = nI (d / 2 ^ (12 - q.1)) ∧ a22 n = nI (l / 2 ^ (19 - q.1)) ∧ a23 n = lN (w / 2 ^ (19 + 8 * l - q.1)) ∧ a24 n = nI (q.2.2.2 / 2 ^ (34 + 8 * l - q.1)) ∧ a25 n = nI t
/-- the listeners other than n are as they were -/
def wn_sm (n : Nat) (a17 a18 a19 a20 a21 a22 : Nat → Int32) (a23 : Nat → Int64) (a24 a25 b17 b18 b19 b20 b21 b22 : Nat → Int32) (b23 : Nat → Int64) (b24 b25 : Nat → Int32) : Prop :=
  ∀ j, j ≠ n → b17 j = a17 j ∧ b18 j = a18 j ∧ b19 j = a19 j ∧ b20 j = a20 j ∧ b21 j = a21 j ∧ b22 j = a22 j ∧ b23 j = a23 j ∧ b24 j = a24 j ∧ b25 j = a25 j
/-- what a frame's numbers are -/
def wn_ok (d l w : Nat) : Prop := d < 2048 ∧ l ≤ 8 ∧ w < 2 ^ (8 * l)
theorem wn_okw {d l w : Nat} (h : wn_ok d l w) : w < 2 ^ 64 := Nat.lt_of_lt_of_le h.2.2 (Nat.pow_le_pow_right (by decide) (by have := h.2.1; omega))
end
section
section
variable {ph lf ck sc di : Int32} {a1 a2 a3 a4 a5 a6 a7 a8 : Nat → Int32} {a9 : Nat → Int64} {a10 a11 a12 : Nat → Int32} {a13 : Nat → Int64} {a14 a15 a16 a17 a18 a19 a20 a21 a22 : Nat → Int32} {a23 : Nat → Int64} {a24 a25 : Nat → Int32}
/-! the state's names: see gen.py -/
theorem wn_inTail {post : Int32 → Prop} {n p l : Nat} (hn : n < 5) (h17 : a17 n = nI p) (h22 : a22 n = nI (l / 2 ^ (19 - p))) (hl : l ≤ 8) (hp : p ≤ 34 + 8 * l) (H0 : p < 34 + 8 * l → post 0) (H1 : p = 34 + 8 * l → post 1) : wpX_inTail post (ph, lf, ck, sc, di, a1, a2, a3, a4, a5, a6, a7, a8, a9, a10, a11, a12, a13, a14, a15, a16, a17, a18, a19, a20, a21, a22, a23, a24, a25) (nI n) := by
  have hc := nI_clamp (show n < 2 ^ 31 by omega)
  unfold wpX_inTail
  dsimp only
  rw [hc, h17]
  refine ⟨pk_in n 5 hn, pk_lt p 19 (fun z => H0 (by omega)) (fun z => ⟨pk_in n 5 hn, ?_⟩)⟩
  unfold wpX_plainBits
  dsimp only
  rw [hc, h17, h22, show 19 - p = 0 by omega, Nat.pow_zero, Nat.div_one]
  refine ⟨pk_in n 5 hn, pk_le 19 p (fun _ => ⟨pk_in n 5 hn, ?_⟩) (fun z => absurd z (by omega))⟩
  exact pk_eq p (34 + 8 * l) (fun z => H1 z) (fun z => H0 (by omega)) rfl (wn_348 l)
theorem wn_isStuffed {post : Int32 → Prop} {n p l r : Nat} (hn : n < 5) (h17 : a17 n = nI p) (h22 : a22 n = nI (l / 2 ^ (19 - p))) (hl : l ≤ 8) (hp : p < 34 + 8 * l) (h19 : a19 n = nI r) (hr : r ≤ 5) (H1 : r = 5 → post 1) (H0 : r ≠ 5 → post 0) : wpX_isStuffed post (ph, lf, ck, sc, di, a1, a2, a3, a4, a5, a6, a7, a8, a9, a10, a11, a12, a13, a14, a15, a16, a17, a18, a19, a20, a21, a22, a23, a24, a25) (nI n) := by
  have hc := nI_clamp (show n < 2 ^ 31 by omega)
  unfold wpX_isStuffed
  dsimp only
  rw [hc, h19]
  exact ⟨pk_in n 5 hn, pk_eq r 5 (fun z => wn_inTail hn h17 h22 hl (by omega) (fun _ => br_t rfl (H1 z)) (fun z2 => absurd z2 (by omega))) (fun z => H0 z)⟩
theorem wn_pb115 {post : Int32 → Prop} {n p l c : Nat} (hn : n < 5) (h20 : a20 n = nI c) (hl : l ≤ 8) (hc : c < 32768) (hp : p < 34 + 8 * l) (H0 : p < 19 → post 0) (H1 : 19 ≤ p → post (nI (c / 2 ^ (33 + 8 * l - p) % 2))) (hq : p < 19 ∨ 19 + 8 * l ≤ p) : wX_plainBit_115 post (nI n) (nI p) (nI (8 * l)) ph lf ck sc di a1 a2 a3 a4 a5 a6 a7 a8 a9 a10 a11 a12 a13 a14 a15 a16 a17 a18 a19 a20 a21 a22 a23 a24 a25 := by
  have hcl := nI_clamp (show n < 2 ^ 31 by omega)
  unfold wX_plainBit_115
  rw [hcl, h20]
  refine pk_le 19 p (fun z => ⟨pk_in n 5 hn, ?_⟩) (fun z => H0 z)
  have e : ((((19 : Int32) + nI (8 * l)) + 15) - 1) - nI p = nI (33 + 8 * l - p) := by
    rw [wn_34, show (34 + 8 * l) = (33 + 8 * l) + 1 by omega, nI_pred]
    exact pk_sub (by omega)
  rw [wn_sb (a := c) (k := 33 + 8 * l - p) (by omega) (by omega) e]
  exact H1 z
theorem wn_pb54 {post : Int32 → Prop} {d l w n p c : Nat} (hn : n < 5) (h8 : a8 (4 * n) = nI l) (h9 : a9 (4 * n) = lN w) (h20 : a20 n = nI c) (hl : l ≤ 8) (hw : w < 2 ^ 64) (hc : c < 32768) (hp : p < 34 + 8 * l) (hq : p < 1 ∨ 12 ≤ p) (H : post (nI (wn_B d l w p c))) : wX_plainBit_54 post (nI n) (nI (4 * n)) (nI p) (nI (8 * l)) ph lf ck sc di a1 a2 a3 a4 a5 a6 a7 a8 a9 a10 a11 a12 a13 a14 a15 a16 a17 a18 a19 a20 a21 a22 a23 a24 a25 := by
  have hcl := nI_clamp (show 4 * n < 2 ^ 31 by omega)
  unfold wn_B at H
  have P0 : p < 15 → post 0 := by
    intro z
    by_cases z1 : p < 1
    · rw [if_pos z1] at H
      exact H
    · rw [if_neg z1, if_neg (by omega), if_pos z] at H
      exact H
  unfold wX_plainBit_54
  rw [hcl, h8]
  refine pk_lt p 15 (fun z => ?_) (fun z => pk_le 19 p (fun z2 => ?_) (fun z2 => ⟨pk_in (4 * n) 20 (by omega), ?_⟩))
  · unfold wX_plainBit_80
    exact pk_lt p 19 (fun _ => wn_pb115 hn h20 hl hc hp (fun _ => P0 z) (fun z2 => absurd z2 (by omega)) (Or.inl (by omega))) (fun z2 => absurd z2 (by omega))
  · rw [if_neg (by omega), if_neg (by omega), if_neg (by omega), if_neg (by omega)] at H
    unfold wX_plainBit_80
    rw [hcl, h9]
    refine pk_lt p 19 (fun z3 => absurd z3 (by omega)) (fun _ => pk_le (19 + 8 * l) p (fun z3 => ?_) (fun z3 => ⟨pk_in (4 * n) 20 (by omega), ?_⟩) (wn_19 _) rfl)
    · rw [if_neg (by omega)] at H
      exact wn_pb115 hn h20 hl hc hp (fun z4 => absurd z4 (by omega)) (fun _ => H) (Or.inr z3)
    · rw [if_pos z3] at H
      have e : (((19 : Int32) + nI (8 * l)) - 1) - nI p = nI (18 + 8 * l - p) := by
        rw [wn_19, show (19 + 8 * l) = (18 + 8 * l) + 1 by omega, nI_pred]
        exact pk_sub (by omega)
      rw [wn_lb (k := 18 + 8 * l - p) hw (by omega) e]
      exact H
  · rw [if_neg (by omega), if_neg (by omega), if_neg (by omega), if_pos z2] at H
    rw [wn_sb (a := l) (s := (18 : Int32) - nI p) (k := 18 - p) (by omega) (by omega) (wn_sub (a := 18) rfl (by omega))]
    exact H
theorem wn_plainBit {post : Int32 → Prop} {d l w n p c : Nat} (hn : n < 5) (h7 : a7 (4 * n) = nI d) (h8 : a8 (4 * n) = nI l) (h9 : a9 (4 * n) = lN w) (h16 : a16 n = 0) (h17 : a17 n = nI p) (h20 : a20 n = nI c) (ok : wn_ok d l w) (hc : c < 32768) (hp : p < 34 + 8 * l) (H : post (nI (wn_B d l w p c))) : wpX_plainBit post (ph, lf, ck, sc, di, a1, a2, a3, a4, a5, a6, a7, a8, a9, a10, a11, a12, a13, a14, a15, a16, a17, a18, a19, a20, a21, a22, a23, a24, a25) (nI n) := by
  have hcl := nI_clamp (show n < 2 ^ 31 by omega)
  have hcl4 := nI_clamp (show 4 * n < 2 ^ 31 by omega)
  have hw := wn_okw ok
  obtain ⟨hd, hl, _⟩ := ok
  unfold wpX_plainBit
  dsimp only
  rw [hcl, h16, h17]
  refine ⟨pk_in n 5 hn, nm_r (show (4 : Int32) * nI n + 0 = nI (4 * n) by rw [wn_4, wn_p0]) ⟨pk_in n 5 hn, nm_e ⟨pk_in (4 * n) 20 (by omega), ?_⟩⟩⟩
  rw [hcl4, h8, h7]
  refine nm_r (wn_8 l) ?_
  refine pk_lt p 1 (fun z => wn_pb54 hn h8 h9 h20 hl hw hc hp (Or.inl z) H) (fun z => pk_le 12 p (fun z2 => wn_pb54 hn h8 h9 h20 hl hw hc hp (Or.inr z2) H) (fun z2 => ⟨pk_in (4 * n) 20 (by omega), ?_⟩))
  unfold wn_B at H
  rw [if_neg (by omega), if_pos z2] at H
  rw [wn_sb (a := d) (s := (11 : Int32) - nI p) (k := 11 - p) (by omega) (by omega) (wn_sub (a := 11) rfl (by omega))]
  exact H
theorem wn_outS {post : Int32 → Prop} {d l w n t k : Nat} {q : Nat × Int32 × Nat × Nat} (hn : n < 5) (ok : wn_ok d l w) (g : wn_gd l q k) (hp : q.1 < 34 + 8 * l) (h : wn_lis d l w n q t a17 a18 a19 a20 a21 a22 a23 a24 a25) (h15 : a15 n = 1) (h16 : a16 n = 0) (h7 : a7 (4 * n) = nI d) (h8 : a8 (4 * n) = nI l) (h9 : a9 (4 * n) = lN w) (H : post (wn_out d l w q)) : wpX_output post (ph, lf, ck, sc, di, a1, a2, a3, a4, a5, a6, a7, a8, a9, a10, a11, a12, a13, a14, a15, a16, a17, a18, a19, a20, a21, a22, a23, a24, a25) (nI n) := by
  have hcl := nI_clamp (show n < 2 ^ 31 by omega)
  obtain ⟨h17, h18, h19, h20, h21, h22, h23, h24, h25⟩ := h
  obtain ⟨g1, g2, g3, g4, s, g5, g6⟩ := g
  unfold wpX_output
  dsimp only
  refine wn_inTail hn h17 h22 ok.2.1 g1 (fun _ => br_t rfl ⟨pk_in n 5 hn, ?_⟩) (fun z => absurd z (by omega))
  rw [hcl, h15]
  refine br_t rfl (wn_isStuffed hn h17 h22 ok.2.1 hp h19 g2 (fun z => br_f (by decide) ⟨pk_in n 5 hn, ?_⟩) (fun z => br_t rfl (wn_plainBit hn h7 h8 h9 h16 h17 h20 ok g3 hp ?_)))
  · unfold wn_out at H
    rw [if_pos z] at H
    rw [h18]
    exact H
  · unfold wn_out at H
    rw [if_neg z] at H
    exact H
theorem wn_outR {post : Int32 → Prop} {d l w n t k : Nat} {q : Nat × Int32 × Nat × Nat} (hn : n < 5) (ok : wn_ok d l w) (g : wn_gd l q k) (hp : q.1 < 34 + 8 * l) (h : wn_lis d l w n q t a17 a18 a19 a20 a21 a22 a23 a24 a25) (h15 : a15 n = 2) (H : post 1) : wpX_output post (ph, lf, ck, sc, di, a1, a2, a3, a4, a5, a6, a7, a8, a9, a10, a11, a12, a13, a14, a15, a16, a17, a18, a19, a20, a21, a22, a23, a24, a25) (nI n) := by
  have hcl := nI_clamp (show n < 2 ^ 31 by omega)
  obtain ⟨h17, h18, h19, h20, h21, h22, h23, h24, h25⟩ := h
  unfold wpX_output
  dsimp only
  refine wn_inTail hn h17 h22 ok.2.1 g.1 (fun _ => br_t rfl ⟨pk_in n 5 hn, ?_⟩) (fun z => absurd z (by omega))
  rw [hcl, h15]
  exact br_f (by decide) H
theorem wn_outST {post : Int32 → Prop} {d l w n t k : Nat} {q : Nat × Int32 × Nat × Nat} (hn : n < 5) (ok : wn_ok d l w) (g : wn_gd l q k) (hp : q.1 = 34 + 8 * l) (h : wn_lis d l w n q t a17 a18 a19 a20 a21 a22 a23 a24 a25) (h15 : a15 n = 1) (H : post 1) : wpX_output post (ph, lf, ck, sc, di, a1, a2, a3, a4, a5, a6, a7, a8, a9, a10, a11, a12, a13, a14, a15, a16, a17, a18, a19, a20, a21, a22, a23, a24, a25) (nI n) := by
  have hcl := nI_clamp (show n < 2 ^ 31 by omega)
  obtain ⟨h17, h18, h19, h20, h21, h22, h23, h24, h25⟩ := h
  unfold wpX_output
  dsimp only
  refine wn_inTail hn h17 h22 ok.2.1 g.1 (fun z => absurd z (by omega)) (fun _ => br_f (by decide) ⟨pk_in n 5 hn, ?_⟩)
  rw [hcl, h15]
  exact br_f (by decide) H
theorem wn_outRT {post : Int32 → Prop} {d l w n t k : Nat} {q : Nat × Int32 × Nat × Nat} (hn : n < 5) (ok : wn_ok d l w) (g : wn_gd l q k) (ht : t < 2 ^ 20) (hp : q.1 = 34 + 8 * l) (h : wn_lis d l w n q t a17 a18 a19 a20 a21 a22 a23 a24 a25) (h15 : a15 n = 2) (H1 : t = 1 → post 0) (H0 : t ≠ 1 → post 1) : wpX_output post (ph, lf, ck, sc, di, a1, a2, a3, a4, a5, a6, a7, a8, a9, a10, a11, a12, a13, a14, a15, a16, a17, a18, a19, a20, a21, a22, a23, a24, a25) (nI n) := by
  have hcl := nI_clamp (show n < 2 ^ 31 by omega)
  obtain ⟨h17, h18, h19, h20, h21, h22, h23, h24, h25⟩ := h
  unfold wpX_output
  dsimp only
  refine wn_inTail hn h17 h22 ok.2.1 g.1 (fun z => absurd z (by omega)) (fun _ => br_f (by decide) ⟨pk_in n 5 hn, ?_⟩)
  rw [hcl, h15, h25, h24, h20, hp, Nat.sub_self, Nat.pow_zero, Nat.div_one]
  exact br_t rfl ⟨pk_in n 5 hn, pk_eq t 1 (fun z => ⟨pk_in n 5 hn, pk_in n 5 hn, br_t rfl (H1 z)⟩) (fun z => H0 z)⟩
theorem wn_tp148 {post : St2 → Prop} {n b c : Nat} (hn : n < 5) (h20 : a20 n = nI c) (hc : c < 32768) (hb : b < 2) (H : ∀ b20 : Nat → Int32, wn_u n a20 b20 (nI ((2 * c % 32768) ^^^ (if b ^^^ (c / 2 ^ 14 % 2) = 1 then 17817 else 0))) → post (ph, lf, ck, sc, di, a1, a2, a3, a4, a5, a6, a7, a8, a9, a10, a11, a12, a13, a14, a15, a16, a17, a18, a19, b20, a21, a22, a23, a24, a25)) : wX_takePlain_148 post (nI n) (nI b) ph lf ck sc di a1 a2 a3 a4 a5 a6 a7 a8 a9 a10 a11 a12 a13 a14 a15 a16 a17 a18 a19 a20 a21 a22 a23 a24 a25 := by
  have hcl := nI_clamp (show n < 2 ^ 31 by omega)
  have e1 : nI b ^^^ ((nI c >>> ((14 : Int32) &&& 31)) &&& 1) = nI (b ^^^ (c / 2 ^ 14 % 2)) := by rw [wn_sb (s := 14) (k := 14) (show c < 2 ^ 31 by omega) (by decide) rfl, wn_x_xor]
  have e2 : ((2 : Int32) * nI c) &&& 32767 = nI (2 * c % 32768) := by
    rw [show (2 : Int32) * nI c = nI (2 * c) from pk_mul 2 c]
    exact pk_andN (by omega) 15 (by decide)
  have e3 : b ^^^ (c / 2 ^ 14 % 2) < 2 ^ 1 := Nat.xor_lt_two_pow (by omega) (by omega)
  unfold wX_takePlain_148
  rw [hcl, h20]
  refine ⟨pk_in n 5 hn, nm_r e1 ⟨pk_in n 5 hn, ?_⟩⟩
  rw [e2]
  refine pk_eq (b ^^^ (c / 2 ^ 14 % 2)) 1 (fun z => ⟨pk_in n 5 hn, nm_e (H _ (wn_us ?_))⟩) (fun z => ⟨pk_in n 5 hn, nm_e (H _ (wn_us ?_))⟩) rfl rfl (by omega) (by omega)
  · rw [if_pos z]
    exact wn_x_xor _ 17817
  · rw [if_neg z]
    exact wn_x_xor _ 0
theorem wn_tp136 {post : St2 → Prop} {n b c p l : Nat} {x4 : Int32} (hn : n < 5) (h20 : a20 n = nI c) (hc : c < 32768) (hb : b < 2) (hx : p < 19 ∨ x4 = nI (19 + 8 * l)) (hp : p < 2 ^ 20) (hl : l ≤ 8) (H : ∀ b20 : Nat → Int32, wn_u n a20 b20 (nI (wn_C l p b c)) → post (ph, lf, ck, sc, di, a1, a2, a3, a4, a5, a6, a7, a8, a9, a10, a11, a12, a13, a14, a15, a16, a17, a18, a19, b20, a21, a22, a23, a24, a25)) : wX_takePlain_136 post (nI n) (nI b) (nI p) x4 ph lf ck sc di a1 a2 a3 a4 a5 a6 a7 a8 a9 a10 a11 a12 a13 a14 a15 a16 a17 a18 a19 a20 a21 a22 a23 a24 a25 := by
  unfold wX_takePlain_136
  unfold wn_C at H
  refine pk_lt p 19 (fun z => ?_) (fun z => ?_)
  · rw [if_pos (show p < 19 + 8 * l by omega)] at H
    exact wn_tp148 hn h20 hc hb H
  · have hx' : x4 = nI (19 + 8 * l) := by
      rcases hx with h | h
      · exact absurd h (by omega)
      · exact h
    refine pk_le (19 + 8 * l) p (fun z2 => ?_) (fun z2 => ?_) hx' rfl
    · rw [if_neg (show ¬ p < 19 + 8 * l by omega)] at H
      exact H a20 (wn_u0 h20 rfl)
    · rw [if_pos (show p < 19 + 8 * l by omega)] at H
      exact wn_tp148 hn h20 hc hb H
theorem wn_takePlain {post : St2 → Prop} {d l w n p c : Nat} (hn : n < 5) (ok : wn_ok d l w) (hc : c < 32768) (hp : p < 34 + 8 * l) (h17 : a17 n = nI p) (h20 : a20 n = nI c) (h21 : a21 n = nI (d / 2 ^ (12 - p))) (h22 : a22 n = nI (l / 2 ^ (19 - p))) (h23 : a23 n = lN (w / 2 ^ (19 + 8 * l - p))) (h24 : a24 n = nI (c / 2 ^ (34 + 8 * l - p)))
    (H : ∀ (b20 b21 b22 : Nat → Int32) (b23 : Nat → Int64) (b24 : Nat → Int32), wn_u n a20 b20 (nI (wn_C l p (wn_B d l w p c) c)) → wn_u n a21 b21 (nI (d / 2 ^ (12 - (p + 1)))) → wn_u n a22 b22 (nI (l / 2 ^ (19 - (p + 1)))) → wn_u n a23 b23 (lN (w / 2 ^ (19 + 8 * l - (p + 1)))) → wn_u n a24 b24 (nI (wn_C l p (wn_B d l w p c) c / 2 ^ (34 + 8 * l - (p + 1)))) → post (ph, lf, ck, sc, di, a1, a2, a3, a4, a5, a6, a7, a8, a9, a10, a11, a12, a13, a14, a15, a16, a17, a18, a19, b20, b21, b22, b23, b24, a25)) : wpX_takePlain post (ph, lf, ck, sc, di, a1, a2, a3, a4, a5, a6, a7, a8, a9, a10, a11, a12, a13, a14, a15, a16, a17, a18, a19, a20, a21, a22, a23, a24, a25) (nI n) (nI (wn_B d l w p c)) := by
  have hcl := nI_clamp (show n < 2 ^ 31 by omega)
  have hw64 := wn_okw ok
  obtain ⟨hd, hl, hw⟩ := ok
  have hb := wn_B2 d l w p c
  have hC := wn_C15 (l := l) (p := p) (b := wn_B d l w p c) hc
  have U21 : p < 1 ∨ 12 ≤ p → nI (d / 2 ^ (12 - p)) = nI (d / 2 ^ (12 - (p + 1))) := by
    intro z
    rcases z with z | z
    · rw [wn_dz (j := 11) hd (by omega), wn_dz (j := 11) hd (by omega)]
    · rw [show 12 - p = 12 - (p + 1) by omega]
  have U22 : p < 15 ∨ 19 ≤ p → nI (l / 2 ^ (19 - p)) = nI (l / 2 ^ (19 - (p + 1))) := by
    intro z
    rcases z with z | z
    · rw [wn_dz (a := l) (j := 4) (by omega) (by omega), wn_dz (a := l) (j := 4) (by omega) (by omega)]
    · rw [show 19 - p = 19 - (p + 1) by omega]
  have U23 : p < 19 ∨ 19 + 8 * l ≤ p → lN (w / 2 ^ (19 + 8 * l - p)) = lN (w / 2 ^ (19 + 8 * l - (p + 1))) := by
    intro z
    rcases z with z | z
    · rw [wn_dz (a := w) (j := 8 * l) hw (by omega), wn_dz (a := w) (j := 8 * l) hw (by omega)]
    · rw [show 19 + 8 * l - p = 19 + 8 * l - (p + 1) by omega]
  have U24 : p < 19 + 8 * l → nI (c / 2 ^ (34 + 8 * l - p)) = nI (wn_C l p (wn_B d l w p c) c / 2 ^ (34 + 8 * l - (p + 1))) := by
    intro z
    rw [wn_dz (a := c) (j := 15) hc (by omega), wn_dz (a := wn_C l p (wn_B d l w p c) c) (j := 15) hC (by omega)]
  unfold wpX_takePlain
  dsimp only
  rw [hcl, h17]
  refine ⟨pk_in n 5 hn, nm_e ⟨pk_in n 5 hn, ?_⟩⟩
  rw [h22]
  refine nm_r (wn_198 _) ?_
  have hx : p < 19 ∨ nI (19 + 8 * (l / 2 ^ (19 - p))) = nI (19 + 8 * l) := by
    rcases Nat.lt_or_ge p 19 with z | z
    · exact Or.inl z
    · exact Or.inr (by rw [show 19 - p = 0 by omega, Nat.pow_zero, Nat.div_one])
  have F51 : p < 1 ∨ 12 ≤ p → wX_takePlain_51 post (nI n) (nI (wn_B d l w p c)) (nI p) (nI (19 + 8 * (l / 2 ^ (19 - p)))) ph lf ck sc di a1 a2 a3 a4 a5 a6 a7 a8 a9 a10 a11 a12 a13 a14 a15 a16 a17 a18 a19 a20 a21 a22 a23 a24 a25 := by
    intro zz
    have F114 : p < 15 → wX_takePlain_82 post (nI n) (nI (wn_B d l w p c)) (nI p) (nI (19 + 8 * (l / 2 ^ (19 - p)))) ph lf ck sc di a1 a2 a3 a4 a5 a6 a7 a8 a9 a10 a11 a12 a13 a14 a15 a16 a17 a18 a19 a20 a21 a22 a23 a24 a25 := by
      intro z
      unfold wX_takePlain_82
      refine pk_lt p 19 (fun _ => ?_) (fun z2 => absurd z2 (by omega))
      unfold wX_takePlain_114
      exact pk_lt p 19 (fun _ => wn_tp136 hn h20 hc hb hx (by omega) hl (fun b20 u20 => H b20 a21 a22 a23 a24 u20 (wn_u0 h21 (U21 zz)) (wn_u0 h22 (U22 (Or.inl z))) (wn_u0 h23 (U23 (Or.inl (by omega)))) (wn_u0 h24 (U24 (by omega))))) (fun z2 => absurd z2 (by omega))
    unfold wX_takePlain_51
    refine pk_lt p 15 F114 (fun z => pk_le 19 p (fun z2 => ?_) (fun z2 => ⟨pk_in n 5 hn, pk_in n 5 hn, ?_⟩))
    · unfold wX_takePlain_82
      rw [hcl]
      have hx' : nI (19 + 8 * (l / 2 ^ (19 - p))) = nI (19 + 8 * l) := by rw [show 19 - p = 0 by omega, Nat.pow_zero, Nat.div_one]
      refine pk_lt p 19 (fun z3 => absurd z3 (by omega)) (fun _ => pk_le (19 + 8 * l) p (fun z3 => ?_) (fun z3 => ⟨pk_in n 5 hn, pk_in n 5 hn, nm_e ?_⟩) hx' rfl)
      · unfold wX_takePlain_114
        rw [hcl]
        refine pk_lt p 19 (fun z4 => absurd z4 (by omega)) (fun _ => ⟨pk_in n 5 hn, pk_in n 5 hn, nm_e ?_⟩)
        refine wn_tp136 hn h20 hc hb hx (by omega) hl (fun b20 u20 => H b20 a21 a22 a23 (upd a24 n _) u20 (wn_u0 h21 (U21 zz)) (wn_u0 h22 (U22 (Or.inr z2))) (wn_u0 h23 (U23 (Or.inr z3))) (wn_us ?_))
        have eb : wn_B d l w p c = c / 2 ^ (33 + 8 * l - p) % 2 := by
          unfold wn_B
          rw [if_neg (by omega), if_neg (by omega), if_neg (by omega), if_neg (by omega), if_neg (by omega)]
        have eC : wn_C l p (wn_B d l w p c) c = c := by
          unfold wn_C
          rw [if_neg (by omega)]
        rw [h24, wn_ap, eC, eb, show 34 + 8 * l - (p + 1) = 33 + 8 * l - p by omega, wn_dvs (show 34 + 8 * l - p = (33 + 8 * l - p) + 1 by omega)]
      · refine wn_tp136 hn h20 hc hb hx (by omega) hl (fun b20 u20 => H b20 a21 a22 (vp_updL a23 n _) a24 u20 (wn_u0 h21 (U21 zz)) (wn_u0 h22 (U22 (Or.inr z2))) (wn_uL ?_) (wn_u0 h24 (U24 z3)))
        have eb : wn_B d l w p c = w / 2 ^ (18 + 8 * l - p) % 2 := by
          unfold wn_B
          rw [if_neg (by omega), if_neg (by omega), if_neg (by omega), if_neg (by omega), if_pos z3]
        have es : 2 * (w / 2 ^ (19 + 8 * l - p)) + w / 2 ^ (18 + 8 * l - p) % 2 = w / 2 ^ (18 + 8 * l - p) := wn_dvs (by omega)
        have eq : w / 2 ^ (18 + 8 * l - p) ≤ w := Nat.div_le_self _ _
        rw [h23, eb, wn_apL (Nat.mod_lt _ (by decide)) (by omega), es, show 19 + 8 * l - (p + 1) = 18 + 8 * l - p by omega]
    · rw [hcl]
      refine nm_e (wn_tp136 hn h20 hc hb hx (by omega) hl (fun b20 u20 => H b20 a21 (upd a22 n _) a23 a24 u20 (wn_u0 h21 (U21 zz)) (wn_us ?_) (wn_u0 h23 (U23 (Or.inl z2))) (wn_u0 h24 (U24 (by omega)))))
      have eb : wn_B d l w p c = l / 2 ^ (18 - p) % 2 := by
        unfold wn_B
        rw [if_neg (by omega), if_neg (by omega), if_neg (by omega), if_pos z2]
      rw [h22, wn_ap, eb, show 19 - (p + 1) = 18 - p by omega, wn_dvs (show 19 - p = (18 - p) + 1 by omega)]
  refine pk_lt p 1 (fun z => F51 (Or.inl z)) (fun z => pk_le 12 p (fun z2 => F51 (Or.inr z2)) (fun z2 => ⟨pk_in n 5 hn, pk_in n 5 hn, nm_e ?_⟩))
  refine wn_tp136 hn h20 hc hb hx (by omega) hl (fun b20 u20 => H b20 (upd a21 n _) a22 a23 a24 u20 (wn_us ?_) (wn_u0 h22 (U22 (Or.inl (by omega)))) (wn_u0 h23 (U23 (Or.inl (by omega)))) (wn_u0 h24 (U24 (by omega))))
  have eb : wn_B d l w p c = d / 2 ^ (11 - p) % 2 := by
    unfold wn_B
    rw [if_neg (by omega), if_pos z2]
  rw [h21, wn_ap, eb, show 12 - (p + 1) = 11 - p by omega, wn_dvs (show 12 - p = (11 - p) + 1 by omega)]
theorem wn_listen {post : St2 → Prop} {d l w n t k : Nat} {q : Nat × Int32 × Nat × Nat} (hn : n < 5) (ok : wn_ok d l w) (g : wn_gd l q k) (hp : q.1 < 34 + 8 * l) (h : wn_lis d l w n q t a17 a18 a19 a20 a21 a22 a23 a24 a25) (H : ∀ (b17 b18 b19 b20 b21 b22 : Nat → Int32) (b23 : Nat → Int64) (b24 b25 : Nat → Int32), wn_lis d l w n (wn_nx d l w q) t b17 b18 b19 b20 b21 b22 b23 b24 b25 → wn_sm n a17 a18 a19 a20 a21 a22 a23 a24 a25 b17 b18 b19 b20 b21 b22 b23 b24 b25 → post (ph, lf, ck, sc, di, a1, a2, a3, a4, a5, a6, a7, a8, a9, a10, a11, a12, a13, a14, a15, a16, b17, b18, b19, b20, b21, b22, b23, b24, b25)) : wpX_listen post (ph, lf, ck, sc, di, a1, a2, a3, a4, a5, a6, a7, a8, a9, a10, a11, a12, a13, a14, a15, a16, a17, a18, a19, a20, a21, a22, a23, a24, a25) (nI n) (wn_out d l w q) := by
  have hcl := nI_clamp (show n < 2 ^ 31 by omega)
  obtain ⟨p, e, r, c⟩ := q
  obtain ⟨h17, h18, h19, h20, h21, h22, h23, h24, h25⟩ := h
  obtain ⟨g1, g2, g3, g4, s, g5, g6⟩ := g
  dsimp only at h17 h18 h19 h20 h21 h22 h23 h24 h25 g1 g2 g3 g4 g5 g6 hp
  have hl := ok.2.1
  unfold wpX_listen
  dsimp only
  refine wn_inTail hn h17 h22 hl g1 (fun _ => br_t rfl ?_) (fun z => absurd z (by omega))
  refine wn_isStuffed hn h17 h22 hl hp h19 g2 (fun z => ?_) (fun z => ?_)
  · have o : wn_out d l w (p, e, r, c) = 1 - e := if_pos z
    have x : wn_nx d l w (p, e, r, c) = (p, 1 - e, 1, c) := if_pos z
    rw [o, hcl, h18]
    rw [x] at H
    refine ⟨pk_in n 5 hn, br_f ?_ ?_⟩
    · rcases g4 (by omega) with y | y <;> rw [y] <;> decide
    · unfold wX_listen_52
      rw [hcl]
      refine ⟨pk_in n 5 hn, nm_e ⟨pk_in n 5 hn, nm_e (br_f (by decide) ?_)⟩⟩
      exact H a17 _ _ a20 a21 a22 a23 a24 a25 ⟨h17, pk_us, pk_us, h20, h21, h22, h23, h24, h25⟩ (fun j hj => ⟨rfl, pk_un hj, pk_un hj, rfl, rfl, rfl, rfl, rfl, rfl⟩)
  · have o : wn_out d l w (p, e, r, c) = nI (wn_B d l w p c) := if_neg z
    have x : wn_nx d l w (p, e, r, c) = (p + 1, nI (wn_B d l w p c), (if nI (wn_B d l w p c) = e then r + 1 else 1), wn_C l p (wn_B d l w p c) c) := if_neg z
    rw [o, hcl, h18]
    rw [x] at H
    have key : ∀ r' : Nat, (if nI (wn_B d l w p c) = e then r + 1 else 1) = r' → wX_listen_52 post (nI n) (nI (wn_B d l w p c)) 0 (nI r') (nI n) ph lf ck sc di a1 a2 a3 a4 a5 a6 a7 a8 a9 a10 a11 a12 a13 a14 a15 a16 a17 a18 a19 a20 a21 a22 a23 a24 a25 := by
      intro r' hr'
      rw [hr'] at H
      unfold wX_listen_52
      rw [hcl]
      refine ⟨pk_in n 5 hn, nm_e ⟨pk_in n 5 hn, nm_e (br_t rfl (wn_takePlain hn ok g3 hp h17 h20 h21 h22 h23 h24 (fun b20 b21 b22 b23 b24 u20 u21 u22 u23 u24 => ⟨pk_in n 5 hn, pk_in n 5 hn, nm_e ?_⟩)))⟩⟩
      refine H _ _ _ b20 b21 b22 b23 b24 a25 ⟨?_, pk_us, pk_us, u20.1, u21.1, u22.1, u23.1, u24.1, h25⟩ (fun j hj => ⟨pk_un hj, pk_un hj, pk_un hj, u20.2 j hj, u21.2 j hj, u22.2 j hj, u23.2 j hj, u24.2 j hj, rfl⟩)
      rw [pk_us, h17, nI_1]
    refine ⟨pk_in n 5 hn, br_c (fun y => ⟨pk_in n 5 hn, ?_⟩) (fun y => key 1 (if_neg y))⟩
    rw [h19, nI_1]
    exact key (r + 1) (if_pos y)
theorem wn_listenT {post : St2 → Prop} {d l w n t k : Nat} {q : Nat × Int32 × Nat × Nat} {x : Int32} (hn : n < 5) (ok : wn_ok d l w) (g : wn_gd l q k) (hp : q.1 = 34 + 8 * l) (h : wn_lis d l w n q t a17 a18 a19 a20 a21 a22 a23 a24 a25) (H : ∀ (b17 b18 b19 b20 b21 b22 : Nat → Int32) (b23 : Nat → Int64) (b24 b25 : Nat → Int32), wn_lis d l w n q (t + 1) b17 b18 b19 b20 b21 b22 b23 b24 b25 → wn_sm n a17 a18 a19 a20 a21 a22 a23 a24 a25 b17 b18 b19 b20 b21 b22 b23 b24 b25 → post (ph, lf, ck, sc, di, a1, a2, a3, a4, a5, a6, a7, a8, a9, a10, a11, a12, a13, a14, a15, a16, b17, b18, b19, b20, b21, b22, b23, b24, b25)) : wpX_listen post (ph, lf, ck, sc, di, a1, a2, a3, a4, a5, a6, a7, a8, a9, a10, a11, a12, a13, a14, a15, a16, a17, a18, a19, a20, a21, a22, a23, a24, a25) (nI n) x := by
  have hcl := nI_clamp (show n < 2 ^ 31 by omega)
  obtain ⟨h17, h18, h19, h20, h21, h22, h23, h24, h25⟩ := h
  unfold wpX_listen
  dsimp only
  refine wn_inTail hn h17 h22 ok.2.1 g.1 (fun z => absurd z (by omega)) (fun _ => br_f (by decide) ⟨pk_in n 5 hn, pk_in n 5 hn, nm_e ?_⟩)
  refine H a17 a18 a19 a20 a21 a22 a23 a24 _ ⟨h17, h18, h19, h20, h21, h22, h23, h24, ?_⟩ (fun j hj => ⟨rfl, rfl, rfl, rfl, rfl, rfl, rfl, rfl, ?_⟩)
  · rw [hcl, pk_us, h25, nI_1]
  · rw [hcl]
    exact pk_un hj
end
end
section
section
variable {ph lf ck sc di : Int32} {a1 a2 a3 a4 a5 a6 a7 a8 : Nat → Int32} {a9 : Nat → Int64} {a10 a11 a12 : Nat → Int32} {a13 : Nat → Int64} {a14 a15 a16 a17 a18 a19 a20 a21 a22 : Nat → Int32} {a23 : Nat → Int64} {a24 a25 : Nat → Int32}
def wn_tl (d l w N : Nat) : Prop := (wn_T d l w N).1 = 34 + 8 * l ∧ (∀ j, j < N → (wn_T d l w j).1 < 34 + 8 * l) ∧ (∀ j, j ≤ N → wn_gd l (wn_T d l w j) j)
theorem wn_tlb {d l w N : Nat} (h : wn_tl d l w N) : 34 + 8 * l ≤ N ∧ 4 * (N - (34 + 8 * l)) ≤ 34 + 8 * l := wn_Nb (h.2.2 N (Nat.le_refl _)) h.1
theorem wn_smR {n : Nat} : wn_sm n a17 a18 a19 a20 a21 a22 a23 a24 a25 a17 a18 a19 a20 a21 a22 a23 a24 a25 := fun j _ => ⟨rfl, rfl, rfl, rfl, rfl, rfl, rfl, rfl, rfl⟩
theorem wn_smT {b17 b18 b19 b20 b21 b22 : Nat → Int32} {b23 : Nat → Int64} {b24 b25 : Nat → Int32} {c17 c18 c19 c20 c21 c22 : Nat → Int32} {c23 : Nat → Int64} {c24 c25 : Nat → Int32} {n : Nat} (h : wn_sm n a17 a18 a19 a20 a21 a22 a23 a24 a25 b17 b18 b19 b20 b21 b22 b23 b24 b25) (h2 : wn_sm n b17 b18 b19 b20 b21 b22 b23 b24 b25 c17 c18 c19 c20 c21 c22 c23 c24 c25) : wn_sm n a17 a18 a19 a20 a21 a22 a23 a24 a25 c17 c18 c19 c20 c21 c22 c23 c24 c25 := by
  intro j hj
  obtain ⟨x1, x2, x3, x4, x5, x6, x7, x8, x9⟩ := h j hj
  obtain ⟨y1, y2, y3, y4, y5, y6, y7, y8, y9⟩ := h2 j hj
  exact ⟨y1.trans x1, y2.trans x2, y3.trans x3, y4.trans x4, y5.trans x5, y6.trans x6, y7.trans x7, y8.trans x8, y9.trans x9⟩
/-- a listener that a store elsewhere leaves alone -/
theorem wn_lisK {b17 b18 b19 b20 b21 b22 : Nat → Int32} {b23 : Nat → Int64} {b24 b25 : Nat → Int32} {d l w n m t : Nat} {q : Nat × Int32 × Nat × Nat} (h : wn_sm n a17 a18 a19 a20 a21 a22 a23 a24 a25 b17 b18 b19 b20 b21 b22 b23 b24 b25) (hm : m ≠ n) (k : wn_lis d l w m q t a17 a18 a19 a20 a21 a22 a23 a24 a25) : wn_lis d l w m q t b17 b18 b19 b20 b21 b22 b23 b24 b25 := by
  obtain ⟨x1, x2, x3, x4, x5, x6, x7, x8, x9⟩ := h m hm
  obtain ⟨y1, y2, y3, y4, y5, y6, y7, y8, y9⟩ := k
  exact ⟨x1.trans y1, x2.trans y2, x3.trans y3, x4.trans y4, x5.trans y5, x6.trans y6, x7.trans y7, x8.trans y8, x9.trans y9⟩
theorem wn_beginL {post : St2 → Prop} {d l w n : Nat} (hn : n < 5) (ok : wn_ok d l w) (H : ∀ (b17 b18 b19 b20 b21 b22 : Nat → Int32) (b23 : Nat → Int64) (b24 b25 : Nat → Int32), wn_lis d l w n (0, -1, 0, 0) 0 b17 b18 b19 b20 b21 b22 b23 b24 b25 → wn_sm n a17 a18 a19 a20 a21 a22 a23 a24 a25 b17 b18 b19 b20 b21 b22 b23 b24 b25 → post (ph, lf, ck, sc, di, a1, a2, a3, a4, a5, a6, a7, a8, a9, a10, a11, a12, a13, a14, a15, a16, b17, b18, b19, b20, b21, b22, b23, b24, b25)) : wpX_beginListening post (ph, lf, ck, sc, di, a1, a2, a3, a4, a5, a6, a7, a8, a9, a10, a11, a12, a13, a14, a15, a16, a17, a18, a19, a20, a21, a22, a23, a24, a25) (nI n) := by
  have hcl := nI_clamp (show n < 2 ^ 31 by omega)
  have hi := pk_in n 5 hn
  unfold wpX_beginListening
  dsimp only
  rw [hcl]
  refine ⟨hi, nm_e ⟨hi, nm_e ⟨hi, nm_e ⟨hi, nm_e ⟨hi, nm_e ⟨hi, nm_e ⟨hi, nm_e ⟨hi, nm_e ⟨hi, nm_e ?_⟩⟩⟩⟩⟩⟩⟩⟩⟩
  refine H _ _ _ _ _ _ _ _ _ ⟨pk_us, pk_us, pk_us, pk_us, ?_, ?_, ?_, ?_, pk_us⟩ (fun j hj => ⟨pk_un hj, pk_un hj, pk_un hj, pk_un hj, pk_un hj, pk_un hj, pk_uLn hj, pk_un hj, pk_un hj⟩)
  · dsimp only
    rw [pk_us, wn_dz (j := 11) ok.1 (by omega)]
    rfl
  · dsimp only
    rw [pk_us, wn_dz (a := l) (j := 4) (by have := ok.2.1; omega) (by omega)]
    rfl
  · dsimp only
    rw [pk_uLs, wn_dz (j := 8 * l) ok.2.2 (by omega)]
    rfl
  · dsimp only
    rw [pk_us, Nat.zero_div]
    rfl
theorem wn_setFrame {post : St2 → Prop} {k l w : Nat} {x : Int32} (hk : k < 20) (hl : l ≤ 8) (hw : w < 2 ^ 64) (H : ∀ (b7 b8 : Nat → Int32) (b9 : Nat → Int64), wn_u k a7 b7 x → wn_u k a8 b8 (nI l) → wn_u k a9 b9 (lN (w % 2 ^ (8 * l))) → post (ph, lf, ck, sc, di, a1, a2, a3, a4, a5, a6, b7, b8, b9, a10, a11, a12, a13, a14, a15, a16, a17, a18, a19, a20, a21, a22, a23, a24, a25)) : wpX_setFrame post (ph, lf, ck, sc, di, a1, a2, a3, a4, a5, a6, a7, a8, a9, a10, a11, a12, a13, a14, a15, a16, a17, a18, a19, a20, a21, a22, a23, a24, a25) (nI k) x (nI l) (lN w) := by
  have hcl := nI_clamp (show k < 2 ^ 31 by omega)
  have hi := pk_in k 20 hk
  unfold wpX_setFrame
  dsimp only
  rw [hcl]
  refine ⟨hi, nm_e ⟨hi, nm_e ?_⟩⟩
  unfold wpX_cutTo
  refine pk_eq l 8 (fun z => ⟨hi, nm_e (H _ _ _ (wn_us rfl) (wn_us rfl) (wn_uL ?_))⟩) (fun z => ⟨hi, nm_e (H _ _ _ (wn_us rfl) (wn_us rfl) (wn_uL ?_))⟩)
  · rw [z, Nat.mod_eq_of_lt (show w < 2 ^ (8 * 8) from hw)]
  · exact wn_cut hw (by omega)
theorem wn_bo50 {post : Int32 → St2 → Prop} {d l w N : Nat} (ok : wn_ok d l w) (hN : wn_tl d l w N) (h15 : a15 4 = 1) (h16 : a16 4 = 0) (h7 : a7 (4 * 4) = nI d) (h8 : a8 (4 * 4) = nI l) (h9 : a9 (4 * 4) = lN w) :
    ∀ m k, k + m = N → ∀ (b17 b18 b19 b20 b21 b22 : Nat → Int32) (b23 : Nat → Int64) (b24 b25 : Nat → Int32), wn_lis d l w 4 (wn_T d l w k) 0 b17 b18 b19 b20 b21 b22 b23 b24 b25 → (∀ (c17 c18 c19 c20 c21 c22 : Nat → Int32) (c23 : Nat → Int64) (c24 c25 : Nat → Int32), wn_lis d l w 4 (wn_T d l w N) 0 c17 c18 c19 c20 c21 c22 c23 c24 c25 → wn_sm 4 b17 b18 b19 b20 b21 b22 b23 b24 b25 c17 c18 c19 c20 c21 c22 c23 c24 c25 → post (nI (N + 10)) (ph, lf, ck, sc, di, a1, a2, a3, a4, a5, a6, a7, a8, a9, a10, a11, a12, a13, a14, a15, a16, c17, c18, c19, c20, c21, c22, c23, c24, c25)) → wX_bitsOf_50 post (m + 1) (nI k) ph lf ck sc di a1 a2 a3 a4 a5 a6 a7 a8 a9 a10 a11 a12 a13 a14 a15 a16 b17 b18 b19 b20 b21 b22 b23 b24 b25 := by
  have hb := wn_tlb hN
  have hl := ok.2.1
  have e10 : nI N + 10 = nI (N + 10) := nI_add N 10
  intro m
  induction m with
  | zero =>
    intro k hk b17 b18 b19 b20 b21 b22 b23 b24 b25 h H
    have hk' : k = N := by omega
    subst hk'
    refine pk_le 140 k (fun z => absurd z (by omega)) (fun z => ?_)
    refine wn_inTail (n := 4) (by decide) h.1 h.2.2.2.2.2.1 hl (hN.2.2 k (Nat.le_refl _)).1 (fun z => absurd z (by have := hN.1; omega)) (fun z => br_f (by decide) ?_)
    rw [e10]
    exact H _ _ _ _ _ _ _ _ _ h wn_smR
  | succ m ih =>
    intro k hk b17 b18 b19 b20 b21 b22 b23 b24 b25 h H
    have g := hN.2.2 k (by omega)
    have hp := hN.2.1 k (by omega)
    refine pk_le 140 k (fun z => absurd z (by omega)) (fun z => ?_)
    refine wn_inTail (n := 4) (by decide) h.1 h.2.2.2.2.2.1 hl g.1 (fun _ => br_t rfl ?_) (fun z => absurd z (by omega))
    refine wn_outS (n := 4) (by decide) ok g hp h h15 h16 h7 h8 h9 ?_
    refine wn_listen (n := 4) (by decide) ok g hp h (fun c17 c18 c19 c20 c21 c22 c23 c24 c25 hc hs => ?_)
    exact nm_r (nI_1 k) (ih (k + 1) (by omega) _ _ _ _ _ _ _ _ _ hc (fun e17 e18 e19 e20 e21 e22 e23 e24 e25 he se => H _ _ _ _ _ _ _ _ _ he (wn_smT hs se)))
theorem wn_11t {post : Int32 → Prop} {j : Nat} (hj : j < 2048) (H : post 1) : wpX_isElevenBits post () (nI j) := by
  unfold wpX_isElevenBits
  exact pk_lt j 0 (fun z => absurd z (by omega)) (fun _ => pk_le 2048 j (fun z => absurd z (by omega)) (fun _ => H))
theorem wn_11f {post : Int32 → Prop} {x : Int32} (h : x < 0 ∨ nI 2048 ≤ x) (H : post 0) : wpX_isElevenBits post () x := by
  unfold wpX_isElevenBits
  rcases h with h | h
  · exact br_t h H
  · exact br_c (fun _ => H) (fun _ => br_t h H)
theorem wn_nt {post : Int32 → Prop} {j : Nat} (hj : j < 4) (H : post 1) : wpX_isNode post () (nI j) := by
  unfold wpX_isNode
  exact pk_lt j 0 (fun z => absurd z (by omega)) (fun _ => pk_le 4 j (fun z => absurd z (by omega)) (fun _ => H))
theorem wn_nf {post : Int32 → Prop} {x : Int32} (h : x < 0 ∨ nI 4 ≤ x) (H : post 0) : wpX_isNode post () x := by
  unfold wpX_isNode
  rcases h with h | h
  · exact br_t h H
  · exact br_c (fun _ => H) (fun _ => br_t h H)
theorem wn_98 {y : Int32} (h : nI 9 ≤ y) : ¬ y ≤ 8 := by
  rw [Int32.le_iff_toInt_le] at h ⊢
  have e1 : (nI 9).toInt = 9 := by decide
  have e2 : (8 : Int32).toInt = 8 := by decide
  omega
theorem wn_bitsOf {post : Int32 → St2 → Prop} {d l w0 N : Nat} (hd : d < 2048) (hl : l ≤ 8) (hw : w0 < 2 ^ 64) (hN : wn_tl d l (w0 % 2 ^ (8 * l)) N)
    (H : ∀ (b7 b8 : Nat → Int32) (b9 : Nat → Int64) (b15 b16 b17 b18 b19 b20 b21 b22 : Nat → Int32) (b23 : Nat → Int64) (b24 b25 : Nat → Int32), (∀ j, j ≠ 16 → b7 j = a7 j) → (∀ j, j ≠ 16 → b8 j = a8 j) → (∀ j, j ≠ 16 → b9 j = a9 j) → (∀ j, j ≠ 4 → b15 j = a15 j) → (∀ j, j ≠ 4 → b16 j = a16 j) → wn_sm 4 a17 a18 a19 a20 a21 a22 a23 a24 a25 b17 b18 b19 b20 b21 b22 b23 b24 b25 → post (nI (N + 10)) (ph, lf, ck, sc, di, a1, a2, a3, a4, a5, a6, b7, b8, b9, a10, a11, a12, a13, a14, b15, b16, b17, b18, b19, b20, b21, b22, b23, b24, b25)) : wpX_bitsOf post (ph, lf, ck, sc, di, a1, a2, a3, a4, a5, a6, a7, a8, a9, a10, a11, a12, a13, a14, a15, a16, a17, a18, a19, a20, a21, a22, a23, a24, a25) (nI d) (nI l) (lN w0) := by
  have ok : wn_ok d l (w0 % 2 ^ (8 * l)) := ⟨hd, hl, Nat.mod_lt _ (Nat.two_pow_pos _)⟩
  unfold wpX_bitsOf
  dsimp only
  refine wn_11t hd (br_f (by decide) (pk_lt l 0 (fun z => absurd z (by omega)) (fun _ => pk_le l 8 (fun _ => ?_) (fun z => absurd z (by omega)))))
  refine wn_setFrame (k := 16) (by decide) hl hw (fun b7 b8 b9 u7 u8 u9 => ?_)
  refine nm_e (nm_e ?_)
  refine wn_beginL (n := 4) (by decide) ok (fun b17 b18 b19 b20 b21 b22 b23 b24 b25 h s => ?_)
  refine ⟨N + 1, ?_⟩
  refine wn_bo50 ok hN pk_us pk_us u7.1 u8.1 u9.1 N 0 (by omega) _ _ _ _ _ _ _ _ _ h (fun c17 c18 c19 c20 c21 c22 c23 c24 c25 h2 s2 => ?_)
  exact H _ _ _ _ _ _ _ _ _ _ _ _ _ _ u7.2 u8.2 u9.2 (fun j hj => pk_un hj) (fun j hj => pk_un hj) (wn_smT s s2)
theorem wn_bitsOfX {post : Int32 → St2 → Prop} {x y : Int32} {z : Int64} (h : (x < 0 ∨ nI 2048 ≤ x) ∨ (y < 0 ∨ nI 9 ≤ y)) (H : post (-1) (ph, lf, ck, sc, di, a1, a2, a3, a4, a5, a6, a7, a8, a9, a10, a11, a12, a13, a14, a15, a16, a17, a18, a19, a20, a21, a22, a23, a24, a25)) : wpX_bitsOf post (ph, lf, ck, sc, di, a1, a2, a3, a4, a5, a6, a7, a8, a9, a10, a11, a12, a13, a14, a15, a16, a17, a18, a19, a20, a21, a22, a23, a24, a25) x y z := by
  unfold wpX_bitsOf
  dsimp only
  rcases h with h | h
  · exact wn_11f h (br_t rfl H)
  · have A : ((y < 0 → post (-1) (ph, lf, ck, sc, di, a1, a2, a3, a4, a5, a6, a7, a8, a9, a10, a11, a12, a13, a14, a15, a16, a17, a18, a19, a20, a21, a22, a23, a24, a25)) ∧ (¬ y < 0 → ((y ≤ 8 → False) ∧ (¬ y ≤ 8 → post (-1) (ph, lf, ck, sc, di, a1, a2, a3, a4, a5, a6, a7, a8, a9, a10, a11, a12, a13, a14, a15, a16, a17, a18, a19, a20, a21, a22, a23, a24, a25))))) := by
      rcases h with h | h
      · exact br_t h H
      · exact br_c (fun _ => H) (fun _ => br_f (wn_98 h) H)
    unfold wpX_isElevenBits
    refine br_c (fun _ => br_t rfl H) (fun _ => br_c (fun _ => br_t rfl H) (fun _ => br_f (by decide) ?_))
    exact br_c A.1 (fun z => br_c (fun z2 => ((A.2 z).1 z2).elim) (fun z2 => (A.2 z).2 z2))
end
end
section
section
variable {ph lf ck sc di : Int32} {a1 a2 a3 a4 a5 a6 a7 a8 : Nat → Int32} {a9 : Nat → Int64} {a10 a11 a12 : Nat → Int32} {a13 : Nat → Int64} {a14 a15 a16 a17 a18 a19 a20 a21 a22 : Nat → Int32} {a23 : Nat → Int64} {a24 a25 : Nat → Int32}
theorem wn_hear {post : Int32 → St2 → Prop} {d l w n t t' k : Nat} {q q' : Nat × Int32 × Nat × Nat} {lev : Int32} (hn : n < 5) (ok : wn_ok d l w) (g : wn_gd l q k) (ht : t < 2 ^ 20) (h : wn_lis d l w n q t a17 a18 a19 a20 a21 a22 a23 a24 a25) (h15 : a15 n = 1 ∨ a15 n = 2)
    (ho : a15 n = 1 → q.1 < 12 → ∀ P : Int32 → Prop, P lev → wpX_output P (ph, lf, ck, sc, di, a1, a2, a3, a4, a5, a6, a7, a8, a9, a10, a11, a12, a13, a14, a15, a16, a17, a18, a19, a20, a21, a22, a23, a24, a25) (nI n)) (hu : q.1 = 34 + 8 * l → t = 1 → ¬ lev = 1)
    (hlis : ∀ P : St2 → Prop, (∀ (b17 b18 b19 b20 b21 b22 : Nat → Int32) (b23 : Nat → Int64) (b24 b25 : Nat → Int32), wn_lis d l w n q' t' b17 b18 b19 b20 b21 b22 b23 b24 b25 → wn_sm n a17 a18 a19 a20 a21 a22 a23 a24 a25 b17 b18 b19 b20 b21 b22 b23 b24 b25 → P (ph, lf, ck, sc, di, a1, a2, a3, a4, a5, a6, a7, a8, a9, a10, a11, a12, a13, a14, a15, a16, b17, b18, b19, b20, b21, b22, b23, b24, b25)) → wpX_listen P (ph, lf, ck, sc, di, a1, a2, a3, a4, a5, a6, a7, a8, a9, a10, a11, a12, a13, a14, a15, a16, a17, a18, a19, a20, a21, a22, a23, a24, a25) (nI n) lev)
    (H : ∀ (b17 b18 b19 b20 b21 b22 : Nat → Int32) (b23 : Nat → Int64) (b24 b25 : Nat → Int32), wn_lis d l w n q' t' b17 b18 b19 b20 b21 b22 b23 b24 b25 → wn_sm n a17 a18 a19 a20 a21 a22 a23 a24 a25 b17 b18 b19 b20 b21 b22 b23 b24 b25 → post 0 (ph, lf, ck, sc, di, a1, a2, a3, a4, a5, a6, a7, a8, a9, a10, a11, a12, a13, a14, a15, a16, b17, b18, b19, b20, b21, b22, b23, b24, b25)) : wpX_hear post (ph, lf, ck, sc, di, a1, a2, a3, a4, a5, a6, a7, a8, a9, a10, a11, a12, a13, a14, a15, a16, a17, a18, a19, a20, a21, a22, a23, a24, a25) (nI n) lev 0 := by
  have hcl := nI_clamp (show n < 2 ^ 31 by omega)
  have hl := ok.2.1
  have g1 := g.1
  have hi := pk_in n 5 hn
  obtain ⟨h17, h18, h19, h20, h21, h22, h23, h24, h25⟩ := h
  have A110 : ∀ x4 : Int32, wX_hear_110 post (nI n) lev 0 x4 0 ph lf ck sc di a1 a2 a3 a4 a5 a6 a7 a8 a9 a10 a11 a12 a13 a14 a15 a16 a17 a18 a19 a20 a21 a22 a23 a24 a25 := by
    intro x4
    unfold wX_hear_110
    refine hlis _ (fun b17 b18 b19 b20 b21 b22 b23 b24 b25 hb sb => br_t rfl ?_)
    unfold wX_hear_127
    exact br_t rfl (H _ _ _ _ _ _ _ _ _ hb sb)
  have A70 : ∀ z0 : Int32, wX_hear_70 post (nI n) lev 0 z0 ph lf ck sc di a1 a2 a3 a4 a5 a6 a7 a8 a9 a10 a11 a12 a13 a14 a15 a16 a17 a18 a19 a20 a21 a22 a23 a24 a25 := by
    intro z0
    unfold wX_hear_70
    rw [hcl]
    refine ⟨hi, ?_⟩
    rcases h15 with e | e
    · rw [e]
      refine br_t rfl (wn_inTail hn h17 h22 hl g1 (fun _ => br_t rfl (A110 z0)) (fun z => br_f (by decide) ⟨hi, ?_⟩))
      rw [h25]
      exact pk_eq t 1 (fun z2 => br_f (hu z z2) (A110 z0)) (fun _ => A110 z0)
    · rw [e]
      exact br_f (by decide) (A110 z0)
  have A37 : wX_hear_37 post (nI n) lev 0 ph lf ck sc di a1 a2 a3 a4 a5 a6 a7 a8 a9 a10 a11 a12 a13 a14 a15 a16 a17 a18 a19 a20 a21 a22 a23 a24 a25 := by
    unfold wX_hear_37
    rw [hcl, h17]
    exact ⟨hi, pk_lt q.1 12 (fun _ => A70 0) (fun _ => wn_inTail hn h17 h22 hl g1 (fun _ => br_t rfl (A70 1)) (fun _ => br_f (by decide) ⟨hi, br_c (fun _ => A70 1) (fun _ => A70 0)⟩))⟩
  unfold wpX_hear
  dsimp only
  rw [hcl]
  refine ⟨hi, ?_⟩
  rcases h15 with e | e
  · rw [e, h17]
    exact br_t rfl ⟨hi, pk_le 12 q.1 (fun _ => A37) (fun z => ho e z _ (br_t rfl A37))⟩
  · rw [e]
    exact br_f (by decide) A37
def wn_lv (o : Nat → Int32) : Nat → Int32
  | 0 => 1
  | i + 1 => wn_lv o i &&& o i
theorem wn_fb4 {Q : St2 → Prop} {x1 : Int32} {o : Nat → Int32} (h15 : ∀ n, n < 4 → ¬ a15 n = 0) (Hout : ∀ n, n < 4 → ∀ P : Int32 → Prop, P (o n) → wpX_output P (ph, lf, ck, sc, di, a1, a2, a3, a4, a5, a6, a7, a8, a9, a10, a11, a12, a13, a14, a15, a16, a17, a18, a19, a20, a21, a22, a23, a24, a25) (nI n)) (H : ∃ f, wX_frameBit_41 Q x1 (wn_lv o 4) f 0 0 ph lf ck sc di a1 a2 a3 a4 a5 a6 a7 a8 a9 a10 a11 a12 a13 a14 a15 a16 a17 a18 a19 a20 a21 a22 a23 a24 a25) : wpX_frameBit Q (ph, lf, ck, sc, di, a1, a2, a3, a4, a5, a6, a7, a8, a9, a10, a11, a12, a13, a14, a15, a16, a17, a18, a19, a20, a21, a22, a23, a24, a25) x1 := by
  unfold wpX_frameBit
  dsimp only
  refine pk_loop (σ := Unit) (fun f i _ => wX_frameBit_4 Q x1 ph lf ck sc di a1 a2 a3 a4 a5 a6 a7 a8 a9 a10 a11 a12 a13 a14 a15 a16 a17 a18 a19 a20 a21 a22 a23 a24 a25 f (wn_lv o i) (nI i)) (fun _ _ => True) 4 0 () (by omega) trivial ?_ ?_
  · intro f _ _
    exact pk_le 4 4 (fun _ => H) (fun z => absurd z (by omega))
  · intro f i _ hi _ hw
    have hcl := nI_clamp (show i < 2 ^ 31 by omega)
    refine pk_le 4 i (fun z => absurd z (by omega)) (fun _ => ⟨pk_in i 5 (by omega), ?_⟩)
    rw [hcl]
    exact br_f (h15 i hi) (Hout i hi _ (nm_e (nm_r (nI_1 i) (hw () trivial))))
theorem wn_lvE {to : Nat} {x y : Int32} (hto : to < 4) (hx : x = 0 ∨ x = 1) (hy : y = 0 ∨ y = 1) : wn_lv (fun n => if n = to then x else y) 4 = x &&& y := by
  rcases (by omega : to = 0 ∨ to = 1 ∨ to = 2 ∨ to = 3) with e | e | e | e <;> subst e <;> rcases hx with e | e <;> subst e <;> rcases hy with e | e <;> subst e <;> decide
theorem wn_fb41 {Q : St2 → Prop} {d l w t t' : Nat} {q q' : Nat × Int32 × Nat × Nat} {lev : Int32} (h15 : ∀ n, n < 4 → ¬ a15 n = 0)
    (Hh : ∀ n, n < 4 → ∀ (b17 b18 b19 b20 b21 b22 : Nat → Int32) (b23 : Nat → Int64) (b24 b25 : Nat → Int32), wn_lis d l w n q t b17 b18 b19 b20 b21 b22 b23 b24 b25 → ∀ P : Int32 → St2 → Prop, (∀ (c17 c18 c19 c20 c21 c22 : Nat → Int32) (c23 : Nat → Int64) (c24 c25 : Nat → Int32), wn_lis d l w n q' t' c17 c18 c19 c20 c21 c22 c23 c24 c25 → wn_sm n b17 b18 b19 b20 b21 b22 b23 b24 b25 c17 c18 c19 c20 c21 c22 c23 c24 c25 → P 0 (ph, lf, ck, sc, di, a1, a2, a3, a4, a5, a6, a7, a8, a9, a10, a11, a12, a13, a14, a15, a16, c17, c18, c19, c20, c21, c22, c23, c24, c25)) → wpX_hear P (ph, lf, ck, sc, di, a1, a2, a3, a4, a5, a6, a7, a8, a9, a10, a11, a12, a13, a14, a15, a16, b17, b18, b19, b20, b21, b22, b23, b24, b25) (nI n) lev 0)
    (HF : ∀ (b17 b18 b19 b20 b21 b22 : Nat → Int32) (b23 : Nat → Int64) (b24 b25 : Nat → Int32), (∀ n, n < 4 → wn_lis d l w n q' t' b17 b18 b19 b20 b21 b22 b23 b24 b25) → ∀ R : St2 → Prop, (∀ (phz lfz ckz scz diz : Int32) (z1 z2 z3 z4 z5 z6 z7 z8 : Nat → Int32) (z9 : Nat → Int64) (z10 z11 z12 : Nat → Int32) (z13 : Nat → Int64) (z14 z15 z16 z17 z18 z19 z20 z21 z22 : Nat → Int32) (z23 : Nat → Int64) (z24 z25 : Nat → Int32), Q (phz, lfz, ckz, scz, diz, z1, z2, z3, z4, z5, z6, z7, z8, z9, z10, z11, z12, z13, z14, z15, z16, z17, z18, z19, z20, z21, z22, z23, z24, z25) → R (phz, lfz, ckz, scz, diz, z1, z2, z3, z4, z5, z6, z7, z8, z9, z10, z11, z12, z13, z14, z15, z16, z17, z18, z19, z20, z21, z22, z23, z24, z25)) → wpX_finishIfSent R (ph, lf, ck, sc, di, a1, a2, a3, a4, a5, a6, a7, a8, a9, a10, a11, a12, a13, a14, a15, a16, b17, b18, b19, b20, b21, b22, b23, b24, b25)) :
    ∀ m i, i + m = 4 → ∀ (b17 b18 b19 b20 b21 b22 : Nat → Int32) (b23 : Nat → Int64) (b24 b25 : Nat → Int32), (∀ n, n < i → wn_lis d l w n q' t' b17 b18 b19 b20 b21 b22 b23 b24 b25) → (∀ n, i ≤ n → n < 4 → wn_lis d l w n q t b17 b18 b19 b20 b21 b22 b23 b24 b25) → wX_frameBit_41 Q 0 lev (m + 1) 0 (nI i) ph lf ck sc di a1 a2 a3 a4 a5 a6 a7 a8 a9 a10 a11 a12 a13 a14 a15 a16 b17 b18 b19 b20 b21 b22 b23 b24 b25 := by
  intro m
  induction m with
  | zero =>
    intro i hi b17 b18 b19 b20 b21 b22 b23 b24 b25 h1 h2
    have hi' : i = 4 := by omega
    subst hi'
    exact pk_le 4 4 (fun _ => br_t rfl (HF _ _ _ _ _ _ _ _ _ h1 _ (fun phz lfz ckz scz diz z1 z2 z3 z4 z5 z6 z7 z8 z9 z10 z11 z12 z13 z14 z15 z16 z17 z18 z19 z20 z21 z22 z23 z24 z25 hz => hz))) (fun z => absurd z (by omega))
  | succ m ih =>
    intro i hi b17 b18 b19 b20 b21 b22 b23 b24 b25 h1 h2
    have hcl := nI_clamp (show i < 2 ^ 31 by omega)
    refine pk_le 4 i (fun z => absurd z (by omega)) (fun _ => ⟨pk_in i 5 (by omega), ?_⟩)
    rw [hcl]
    refine br_f (h15 i (by omega)) (Hh i (by omega) _ _ _ _ _ _ _ _ _ (h2 i (Nat.le_refl _) (by omega)) _ (fun c17 c18 c19 c20 c21 c22 c23 c24 c25 hc hs => br_t rfl (br_t rfl (nm_r (nI_1 i) ?_))))
    refine ih (i + 1) (by omega) _ _ _ _ _ _ _ _ _ (fun n hn => ?_) (fun n hn hn4 => wn_lisK hs (by omega) (h2 n (by omega) hn4))
    by_cases e : n = i
    · rw [e]
      exact hc
    · exact wn_lisK hs e (h1 n (by omega))
theorem wn_bitG {Q : St2 → Prop} {d l w t t' : Nat} {q q' : Nat × Int32 × Nat × Nat} {lev : Int32} {o : Nat → Int32} (h15 : ∀ n, n < 4 → ¬ a15 n = 0)
    (Hout : ∀ n, n < 4 → ∀ P : Int32 → Prop, P (o n) → wpX_output P (ph, lf, ck, sc, di, a1, a2, a3, a4, a5, a6, a7, a8, a9, a10, a11, a12, a13, a14, a15, a16, a17, a18, a19, a20, a21, a22, a23, a24, a25) (nI n)) (hlev : wn_lv o 4 = lev)
    (Hh : ∀ n, n < 4 → ∀ (b17 b18 b19 b20 b21 b22 : Nat → Int32) (b23 : Nat → Int64) (b24 b25 : Nat → Int32), wn_lis d l w n q t b17 b18 b19 b20 b21 b22 b23 b24 b25 → ∀ P : Int32 → St2 → Prop, (∀ (c17 c18 c19 c20 c21 c22 : Nat → Int32) (c23 : Nat → Int64) (c24 c25 : Nat → Int32), wn_lis d l w n q' t' c17 c18 c19 c20 c21 c22 c23 c24 c25 → wn_sm n b17 b18 b19 b20 b21 b22 b23 b24 b25 c17 c18 c19 c20 c21 c22 c23 c24 c25 → P 0 (ph, lf, ck, sc, di, a1, a2, a3, a4, a5, a6, a7, a8, a9, a10, a11, a12, a13, a14, a15, a16, c17, c18, c19, c20, c21, c22, c23, c24, c25)) → wpX_hear P (ph, lf, ck, sc, di, a1, a2, a3, a4, a5, a6, a7, a8, a9, a10, a11, a12, a13, a14, a15, a16, b17, b18, b19, b20, b21, b22, b23, b24, b25) (nI n) lev 0)
    (h : ∀ n, n < 4 → wn_lis d l w n q t a17 a18 a19 a20 a21 a22 a23 a24 a25)
    (HF : ∀ (b17 b18 b19 b20 b21 b22 : Nat → Int32) (b23 : Nat → Int64) (b24 b25 : Nat → Int32), (∀ n, n < 4 → wn_lis d l w n q' t' b17 b18 b19 b20 b21 b22 b23 b24 b25) → ∀ R : St2 → Prop, (∀ (phz lfz ckz scz diz : Int32) (z1 z2 z3 z4 z5 z6 z7 z8 : Nat → Int32) (z9 : Nat → Int64) (z10 z11 z12 : Nat → Int32) (z13 : Nat → Int64) (z14 z15 z16 z17 z18 z19 z20 z21 z22 : Nat → Int32) (z23 : Nat → Int64) (z24 z25 : Nat → Int32), Q (phz, lfz, ckz, scz, diz, z1, z2, z3, z4, z5, z6, z7, z8, z9, z10, z11, z12, z13, z14, z15, z16, z17, z18, z19, z20, z21, z22, z23, z24, z25) → R (phz, lfz, ckz, scz, diz, z1, z2, z3, z4, z5, z6, z7, z8, z9, z10, z11, z12, z13, z14, z15, z16, z17, z18, z19, z20, z21, z22, z23, z24, z25)) → wpX_finishIfSent R (ph, lf, ck, sc, di, a1, a2, a3, a4, a5, a6, a7, a8, a9, a10, a11, a12, a13, a14, a15, a16, b17, b18, b19, b20, b21, b22, b23, b24, b25)) : wpX_frameBit Q (ph, lf, ck, sc, di, a1, a2, a3, a4, a5, a6, a7, a8, a9, a10, a11, a12, a13, a14, a15, a16, a17, a18, a19, a20, a21, a22, a23, a24, a25) 0 := by
  refine wn_fb4 h15 Hout ⟨4 + 1, ?_⟩
  rw [hlev]
  exact wn_fb41 h15 Hh HF 4 0 (by omega) _ _ _ _ _ _ _ _ _ (fun n hn => absurd hn (by omega)) (fun n _ hn => h n hn)
theorem wn_finNo {R : St2 → Prop} (h25 : ∀ n, n < 4 → ¬ a25 n = 10) (H : R (ph, lf, ck, sc, di, a1, a2, a3, a4, a5, a6, a7, a8, a9, a10, a11, a12, a13, a14, a15, a16, a17, a18, a19, a20, a21, a22, a23, a24, a25)) : wpX_finishIfSent R (ph, lf, ck, sc, di, a1, a2, a3, a4, a5, a6, a7, a8, a9, a10, a11, a12, a13, a14, a15, a16, a17, a18, a19, a20, a21, a22, a23, a24, a25) := by
  unfold wpX_finishIfSent
  dsimp only
  refine pk_loop (σ := Unit) (fun f i _ => wX_finishIfSent_4 R ph lf ck sc di a1 a2 a3 a4 a5 a6 a7 a8 a9 a10 a11 a12 a13 a14 a15 a16 a17 a18 a19 a20 a21 a22 a23 a24 a25 f 0 (nI i)) (fun _ _ => True) 4 0 () (by omega) trivial ?_ ?_
  · intro f _ _
    exact pk_le 4 4 (fun _ => br_t rfl H) (fun z => absurd z (by omega))
  · intro f i _ hi _ hw
    have hcl := nI_clamp (show i < 2 ^ 31 by omega)
    refine pk_le 4 i (fun z => absurd z (by omega)) (fun _ => br_t rfl ⟨pk_in i 5 (by omega), ?_⟩)
    rw [hcl]
    exact br_c (fun _ => ⟨pk_in i 5 (by omega), br_f (h25 i hi) (nm_r (nI_1 i) (hw () trivial))⟩) (fun _ => nm_r (nI_1 i) (hw () trivial))
theorem wn_rmF {R : St2 → Prop} {n : Nat} (hn : n < 5) (h6 : a6 n = 1) (h16 : a16 n = 0) (H : ∀ b6 b16 : Nat → Int32, wn_u n a6 b6 0 → wn_u n a16 b16 0 → R (ph, lf, ck, sc, di, a1, a2, a3, a4, a5, b6, a7, a8, a9, a10, a11, a12, a13, a14, a15, b16, a17, a18, a19, a20, a21, a22, a23, a24, a25)) : wpX_removeFrame R (ph, lf, ck, sc, di, a1, a2, a3, a4, a5, a6, a7, a8, a9, a10, a11, a12, a13, a14, a15, a16, a17, a18, a19, a20, a21, a22, a23, a24, a25) (nI n) 0 := by
  have hcl := nI_clamp (show n < 2 ^ 31 by omega)
  have hi := pk_in n 5 hn
  unfold wpX_removeFrame
  dsimp only
  rw [hcl, h6]
  refine ⟨hi, hi, nm_e ⟨1, ?_⟩⟩
  refine ⟨hi, ?_⟩
  rw [hcl, pk_us]
  refine br_t (by decide) ⟨hi, hi, ?_⟩
  rw [h16]
  exact br_t (by decide) ⟨hi, nm_e (H _ _ (wn_us (by decide)) (wn_us (by decide)))⟩
theorem wn_deliver {R : St2 → Prop} {d l w n : Nat} (hn : n < 4) (h4 : a4 n = 0) (h10 : a10 n = 0) (h21 : a21 n = nI d) (h22 : a22 n = nI l) (h23 : a23 n = lN w) (h24 : a24 n = a20 n)
    (H : ∀ (b10 b11 b12 : Nat → Int32) (b13 : Nat → Int64), wn_u n a10 b10 1 → wn_u (6 * n) a11 b11 (nI d) → wn_u (6 * n) a12 b12 (nI l) → wn_u (6 * n) a13 b13 (lN w) → R (ph, lf, ck, sc, di, a1, a2, a3, a4, a5, a6, a7, a8, a9, b10, b11, b12, b13, a14, a15, a16, a17, a18, a19, a20, a21, a22, a23, a24, a25)) : wpX_deliver R (ph, lf, ck, sc, di, a1, a2, a3, a4, a5, a6, a7, a8, a9, a10, a11, a12, a13, a14, a15, a16, a17, a18, a19, a20, a21, a22, a23, a24, a25) (nI n) := by
  have hcl := nI_clamp (show n < 2 ^ 31 by omega)
  have hcl6 := nI_clamp (show 6 * n < 2 ^ 31 by omega)
  have h5 := pk_in n 5 (by omega)
  have hi := pk_in n 4 hn
  have h6 := pk_in (6 * n) 24 (by omega)
  have e : (6 : Int32) * nI n + 0 = nI (6 * n) := by rw [wn_6, wn_p0]
  unfold wpX_deliver
  dsimp only
  rw [hcl, h4, h10, h24]
  refine ⟨h5, hi, hi, br_t (Int32.and_zero) ⟨h5, h5, br_t rfl ⟨hi, br_f (by decide) ⟨hi, nm_r e ⟨h5, h6, ?_⟩⟩⟩⟩⟩
  rw [hcl6]
  exact nm_e ⟨h5, h6, nm_e ⟨h5, h6, nm_e ⟨hi, hi, nm_e (H _ _ _ _ (wn_us (by decide)) (wn_us h21) (wn_us h22) (wn_uL h23))⟩⟩⟩
theorem wn_fin53 {R : St2 → Prop} {d l w to : Nat} (hto : to < 4) (h4 : ∀ n, n < 4 → a4 n = 0) (h21 : ∀ n, n < 4 → a21 n = nI d) (h22 : ∀ n, n < 4 → a22 n = nI l) (h23 : ∀ n, n < 4 → a23 n = lN w) (h24 : ∀ n, n < 4 → a24 n = a20 n)
    (H : ∀ (b2 b3 b6 b10 b11 b12 : Nat → Int32) (b13 : Nat → Int64) (b15 b16 : Nat → Int32), (∀ n, n < 4 → b6 n = 0) → (∀ n, n < 4 → b10 n = if n = to then 0 else 1) → (∀ n, n < 4 → n ≠ to → b11 (6 * n) = nI d ∧ b12 (6 * n) = nI l ∧ b13 (6 * n) = lN w) → R (3, 3, ck, sc + 1, di, a1, b2, b3, a4, a5, b6, a7, a8, a9, b10, b11, b12, b13, a14, b15, b16, a17, a18, a19, a20, a21, a22, a23, a24, a25)) :
    ∀ m i, i + m = 4 → ∀ (b2 b3 b6 b10 b11 b12 : Nat → Int32) (b13 : Nat → Int64) (b15 b16 : Nat → Int32), (∀ n, n < 4 → b2 n = 0) → (∀ n, n < 4 → b3 n = 0) → (∀ n, n < 4 → n ≠ to → b6 n = 0) → (b6 to = if i ≤ to then 1 else 0) → (∀ n, n < 4 → b10 n = if n < i ∧ n ≠ to then 1 else 0) → (∀ n, n < i → n ≠ to → b11 (6 * n) = nI d ∧ b12 (6 * n) = nI l ∧ b13 (6 * n) = lN w) → (∀ n, n < 4 → i ≤ n → b15 n = if n = to then 1 else 2) → b16 to = 0 → wX_finishIfSent_53 R (m + 1) (nI i) ph lf ck sc di a1 b2 b3 a4 a5 b6 a7 a8 a9 b10 b11 b12 b13 a14 b15 b16 a17 a18 a19 a20 a21 a22 a23 a24 a25 := by
  intro m
  induction m with
  | zero =>
    intro i hi b2 b3 b6 b10 b11 b12 b13 b15 b16 k2 k3 k6 k6t k10 k11 k15 k16
    have hi' : i = 4 := by omega
    subst hi'
    refine pk_le 4 4 (fun _ => nm_e (H _ _ _ _ _ _ _ _ _ (fun n hn => ?_) (fun n hn => ?_) (fun n hn hne => k11 n hn hne))) (fun z => absurd z (by omega))
    · by_cases e : n = to
      · rw [e, k6t, if_neg (by omega)]
      · exact k6 n hn e
    · rw [k10 n hn]
      by_cases e : n = to
      · rw [if_pos e, if_neg (fun z => z.2 e)]
      · rw [if_neg e, if_pos ⟨hn, e⟩]
  | succ m ih =>
    intro i hi b2 b3 b6 b10 b11 b12 b13 b15 b16 k2 k3 k6 k6t k10 k11 k15 k16
    have hi4 : i < 4 := by omega
    have hcl := nI_clamp (show i < 2 ^ 31 by omega)
    have i5 := pk_in i 5 (by omega)
    have i4 := pk_in i 4 hi4
    refine pk_le 4 i (fun z => absurd z (by omega)) (fun _ => ⟨i5, ?_⟩)
    rw [hcl, k15 i hi4 (Nat.le_refl _)]
    by_cases e : i = to
    · rw [if_pos e]
      have k16i : b16 i = 0 := by rw [e]; exact k16
      rw [k16i]
      refine br_t rfl ⟨i5, wn_rmF (by omega) (by rw [e, k6t, if_pos (by omega)]) k16i (fun c6 c16 u6 u16 => ⟨i4, i4, ?_⟩)⟩
      rw [k2 i hi4]
      refine br_t (by decide) ?_
      unfold wX_finishIfSent_100
      rw [hcl]
      refine ⟨i4, nm_e ⟨i5, nm_e (nm_r (nI_1 i) (ih (i + 1) (by omega) _ _ _ _ _ _ _ _ _ ?_ k3 ?_ ?_ ?_ ?_ ?_ ?_))⟩⟩
      · intro n hn
        by_cases en : n = i
        · rw [en, pk_us]
          decide
        · rw [pk_un en]
          exact k2 n hn
      · intro n hn hne
        rw [u6.2 n (by omega)]
        exact k6 n hn hne
      · rw [← e, u6.1, if_neg (by omega)]
      · intro n hn
        rw [k10 n hn]
        by_cases en : n = to
        · rw [if_neg (fun z => z.2 en), if_neg (fun z => z.2 en)]
        · by_cases el : n < i
          · rw [if_pos ⟨el, en⟩, if_pos ⟨by omega, en⟩]
          · rw [if_neg (fun z => el z.1), if_neg (fun z => absurd z.1 (by omega))]
      · intro n hn hne
        exact k11 n (by omega) hne
      · intro n hn hle
        rw [pk_un (by omega)]
        exact k15 n hn (by omega)
      · rw [← e]
        exact u16.1
    · rw [if_neg e]
      have k10i : b10 i = 0 := by rw [k10 i hi4, if_neg (fun z => absurd z.1 (by omega))]
      refine br_f (by decide) ⟨i5, br_t rfl (wn_deliver hi4 (h4 i hi4) k10i (h21 i hi4) (h22 i hi4) (h23 i hi4) (h24 i hi4) (fun c10 c11 c12 c13 u10 u11 u12 u13 => ⟨i4, i4, ?_⟩))⟩
      rw [k3 i hi4]
      refine br_t (by decide) ?_
      unfold wX_finishIfSent_141
      rw [hcl]
      refine ⟨i4, nm_e ⟨i5, nm_e (nm_r (nI_1 i) (ih (i + 1) (by omega) _ _ _ _ _ _ _ _ _ k2 ?_ k6 ?_ ?_ ?_ ?_ k16))⟩⟩
      · intro n hn
        by_cases en : n = i
        · rw [en, pk_us]
          decide
        · rw [pk_un en]
          exact k3 n hn
      · rw [k6t]
        by_cases el : i ≤ to
        · rw [if_pos el, if_pos (by omega)]
        · rw [if_neg el, if_neg (by omega)]
      · intro n hn
        by_cases en : n = i
        · rw [en, u10.1, if_pos ⟨by omega, e⟩]
        · rw [u10.2 n en, k10 n hn]
          by_cases el : n < i ∧ n ≠ to
          · rw [if_pos el, if_pos ⟨by omega, el.2⟩]
          · rw [if_neg el, if_neg (fun z => el ⟨by omega, z.2⟩)]
      · intro n hn hne
        by_cases en : n = i
        · rw [en]
          exact ⟨u11.1, u12.1, u13.1⟩
        · rw [u11.2 (6 * n) (by omega), u12.2 (6 * n) (by omega), u13.2 (6 * n) (by omega)]
          exact k11 n (by omega) hne
      · intro n hn hle
        rw [pk_un (by omega)]
        exact k15 n hn (by omega)
theorem wn_finYes {R : St2 → Prop} {d l w to : Nat} (hto : to < 4) (h2 : ∀ n, n < 4 → a2 n = 0) (h3 : ∀ n, n < 4 → a3 n = 0) (h4 : ∀ n, n < 4 → a4 n = 0) (h6 : ∀ n, n < 4 → a6 n = if n = to then 1 else 0) (h10 : ∀ n, n < 4 → a10 n = 0) (h15 : ∀ n, n < 4 → a15 n = if n = to then 1 else 2) (h16 : a16 to = 0) (h25 : ∀ n, n < 4 → a25 n = 10)
    (h21 : ∀ n, n < 4 → a21 n = nI d) (h22 : ∀ n, n < 4 → a22 n = nI l) (h23 : ∀ n, n < 4 → a23 n = lN w) (h24 : ∀ n, n < 4 → a24 n = a20 n)
    (H : ∀ (b2 b3 b6 b10 b11 b12 : Nat → Int32) (b13 : Nat → Int64) (b15 b16 : Nat → Int32), (∀ n, n < 4 → b6 n = 0) → (∀ n, n < 4 → b10 n = if n = to then 0 else 1) → (∀ n, n < 4 → n ≠ to → b11 (6 * n) = nI d ∧ b12 (6 * n) = nI l ∧ b13 (6 * n) = lN w) → R (3, 3, ck, sc + 1, di, a1, b2, b3, a4, a5, b6, a7, a8, a9, b10, b11, b12, b13, a14, b15, b16, a17, a18, a19, a20, a21, a22, a23, a24, a25)) : wpX_finishIfSent R (ph, lf, ck, sc, di, a1, a2, a3, a4, a5, a6, a7, a8, a9, a10, a11, a12, a13, a14, a15, a16, a17, a18, a19, a20, a21, a22, a23, a24, a25) := by
  unfold wpX_finishIfSent
  dsimp only
  refine Exists.elim (pk_loop (σ := Unit) (fun f i _ => wX_finishIfSent_4 R ph lf ck sc di a1 a2 a3 a4 a5 a6 a7 a8 a9 a10 a11 a12 a13 a14 a15 a16 a17 a18 a19 a20 a21 a22 a23 a24 a25 f (if to < i then 1 else 0) (nI i)) (fun _ _ => True) 4 0 () (by omega) trivial ?_ ?_) (fun f hf => ?_)
  rotate_left 2
  · refine ⟨f, ?_⟩
    rw [if_neg (by omega)] at hf
    exact hf
  · intro f _ _
    refine pk_le 4 4 (fun _ => ?_) (fun z => absurd z (by omega))
    rw [if_pos hto]
    refine br_f (by decide) ⟨4 + 1, ?_⟩
    refine wn_fin53 hto h4 h21 h22 h23 h24 H 4 0 (by omega) _ _ _ _ _ _ _ _ _ h2 h3 ?_ ?_ ?_ (fun n hn => absurd hn (by omega)) (fun n hn _ => h15 n hn) h16
    · intro n hn hne
      rw [h6 n hn, if_neg hne]
    · rw [h6 to hto, if_pos rfl, if_pos (by omega)]
    · intro n hn
      rw [h10 n hn, if_neg (fun z => absurd z.1 (by omega))]
  · intro f i _ hi _ hw
    have hcl := nI_clamp (show i < 2 ^ 31 by omega)
    have hw' := hw () trivial
    refine pk_le 4 i (fun z => absurd z (by omega)) (fun _ => ?_)
    by_cases e : to < i
    · rw [if_pos e]
      rw [if_pos (by omega)] at hw'
      exact br_f (by decide) (nm_r (nI_1 i) hw')
    · rw [if_neg e]
      refine br_t rfl ⟨pk_in i 5 (by omega), ?_⟩
      rw [hcl, h15 i hi, h25 i hi]
      by_cases e2 : i = to
      · rw [if_pos e2]
        rw [if_pos (by omega)] at hw'
        exact br_t rfl ⟨pk_in i 5 (by omega), br_t rfl (nm_r (nI_1 i) hw')⟩
      · rw [if_neg e2]
        rw [if_neg (by omega)] at hw'
        exact br_f (by decide) (nm_r (nI_1 i) hw')
end
end
section
section
variable {ph lf ck sc di : Int32} {a1 a2 a3 a4 a5 a6 a7 a8 : Nat → Int32} {a9 : Nat → Int64} {a10 a11 a12 : Nat → Int32} {a13 : Nat → Int64} {a14 a15 a16 a17 a18 a19 a20 a21 a22 : Nat → Int32} {a23 : Nat → Int64} {a24 a25 : Nat → Int32}
theorem wn_outB {d l w k : Nat} {q : Nat × Int32 × Nat × Nat} (g : wn_gd l q k) : wn_out d l w q = 0 ∨ wn_out d l w q = 1 := by
  unfold wn_out
  by_cases e : q.2.2.1 = 5
  · rw [if_pos e]
    rcases g.2.2.2.1 (by omega) with z | z
    · exact Or.inr (by rw [z]; rfl)
    · exact Or.inl (by rw [z]; rfl)
  · rw [if_neg e]
    exact wn_bit (wn_B2 _ _ _ _ _)
theorem wn_role {to n : Nat} (h : a15 n = if n = to then 1 else 2) : (a15 n = 1 ∨ a15 n = 2) ∧ ¬ a15 n = 0 ∧ (a15 n = 1 → n = to) := by
  by_cases e : n = to
  · rw [if_pos e] at h
    exact ⟨Or.inl h, by rw [h]; decide, fun _ => e⟩
  · rw [if_neg e] at h
    exact ⟨Or.inr h, by rw [h]; decide, fun z => absurd (h.symm.trans z) (by decide)⟩
theorem wn_bitN {Q : St2 → Prop} {d l w to k : Nat} {q : Nat × Int32 × Nat × Nat} (hto : to < 4) (ok : wn_ok d l w) (g : wn_gd l q k) (hp : q.1 < 34 + 8 * l) (h15 : ∀ n, n < 4 → a15 n = if n = to then 1 else 2) (h16 : a16 to = 0) (h7 : a7 (4 * to) = nI d) (h8 : a8 (4 * to) = nI l) (h9 : a9 (4 * to) = lN w)
    (h : ∀ n, n < 4 → wn_lis d l w n q 0 a17 a18 a19 a20 a21 a22 a23 a24 a25) (H : ∀ (b17 b18 b19 b20 b21 b22 : Nat → Int32) (b23 : Nat → Int64) (b24 b25 : Nat → Int32), (∀ n, n < 4 → wn_lis d l w n (wn_nx d l w q) 0 b17 b18 b19 b20 b21 b22 b23 b24 b25) → Q (ph, lf, ck, sc, di, a1, a2, a3, a4, a5, a6, a7, a8, a9, a10, a11, a12, a13, a14, a15, a16, b17, b18, b19, b20, b21, b22, b23, b24, b25)) : wpX_frameBit Q (ph, lf, ck, sc, di, a1, a2, a3, a4, a5, a6, a7, a8, a9, a10, a11, a12, a13, a14, a15, a16, a17, a18, a19, a20, a21, a22, a23, a24, a25) 0 := by
  refine wn_bitG (q' := wn_nx d l w q) (t' := 0) (lev := wn_out d l w q) (o := fun n => if n = to then wn_out d l w q else 1) (fun n hn => (wn_role (h15 n hn)).2.1) (fun n hn P hP => ?_) ?_ (fun n hn b17 b18 b19 b20 b21 b22 b23 b24 b25 hb P HP => ?_) h (fun b17 b18 b19 b20 b21 b22 b23 b24 b25 hb R HR => ?_)
  · by_cases e : n = to
    · rw [if_pos e] at hP
      subst e
      exact wn_outS (by omega) ok g hp (h n hn) (by rw [h15 n hn, if_pos rfl]) h16 h7 h8 h9 hP
    · rw [if_neg e] at hP
      exact wn_outR (by omega) ok g hp (h n hn) (by rw [h15 n hn, if_neg e]) hP
  · rw [wn_lvE hto (wn_outB g) (Or.inr rfl)]
    rcases wn_outB (d := d) (w := w) g with z | z <;> rw [z] <;> decide
  · refine wn_hear (q' := wn_nx d l w q) (t' := 0) (by omega) ok g (by decide) hb (wn_role (h15 n hn)).1 (fun z _ P hP => ?_) (fun z => absurd z (by omega)) (fun P HP => wn_listen (by omega) ok g hp hb HP) HP
    have e := (wn_role (h15 n hn)).2.2 z
    subst e
    exact wn_outS (by omega) ok g hp hb z h16 h7 h8 h9 hP
  · exact wn_finNo (fun n hn => by rw [(hb n hn).2.2.2.2.2.2.2.2]; decide) (HR _ _ _ _ _ _ _ _ _ _ _ _ _ _ _ _ _ _ _ _ _ _ _ _ _ _ _ _ _ _ (H _ _ _ _ _ _ _ _ _ hb))
theorem wn_bitTG {Q : St2 → Prop} {d l w to k t : Nat} {q : Nat × Int32 × Nat × Nat} (hto : to < 4) (ok : wn_ok d l w) (g : wn_gd l q k) (hp : q.1 = 34 + 8 * l) (ht : t < 10) (h15 : ∀ n, n < 4 → a15 n = if n = to then 1 else 2)
    (h : ∀ n, n < 4 → wn_lis d l w n q t a17 a18 a19 a20 a21 a22 a23 a24 a25) (HF : ∀ (b17 b18 b19 b20 b21 b22 : Nat → Int32) (b23 : Nat → Int64) (b24 b25 : Nat → Int32), (∀ n, n < 4 → wn_lis d l w n q (t + 1) b17 b18 b19 b20 b21 b22 b23 b24 b25) → ∀ R : St2 → Prop, (∀ (phz lfz ckz scz diz : Int32) (z1 z2 z3 z4 z5 z6 z7 z8 : Nat → Int32) (z9 : Nat → Int64) (z10 z11 z12 : Nat → Int32) (z13 : Nat → Int64) (z14 z15 z16 z17 z18 z19 z20 z21 z22 : Nat → Int32) (z23 : Nat → Int64) (z24 z25 : Nat → Int32), Q (phz, lfz, ckz, scz, diz, z1, z2, z3, z4, z5, z6, z7, z8, z9, z10, z11, z12, z13, z14, z15, z16, z17, z18, z19, z20, z21, z22, z23, z24, z25) → R (phz, lfz, ckz, scz, diz, z1, z2, z3, z4, z5, z6, z7, z8, z9, z10, z11, z12, z13, z14, z15, z16, z17, z18, z19, z20, z21, z22, z23, z24, z25)) → wpX_finishIfSent R (ph, lf, ck, sc, di, a1, a2, a3, a4, a5, a6, a7, a8, a9, a10, a11, a12, a13, a14, a15, a16, b17, b18, b19, b20, b21, b22, b23, b24, b25)) : wpX_frameBit Q (ph, lf, ck, sc, di, a1, a2, a3, a4, a5, a6, a7, a8, a9, a10, a11, a12, a13, a14, a15, a16, a17, a18, a19, a20, a21, a22, a23, a24, a25) 0 := by
  refine wn_bitG (q' := q) (t' := t + 1) (lev := if t = 1 then 0 else 1) (o := fun n => if n = to then 1 else (if t = 1 then 0 else 1)) (fun n hn => (wn_role (h15 n hn)).2.1) (fun n hn P hP => ?_) ?_ (fun n hn b17 b18 b19 b20 b21 b22 b23 b24 b25 hb P HP => ?_) h HF
  · by_cases e : n = to
    · rw [if_pos e] at hP
      exact wn_outST (by omega) ok g hp (h n hn) (by rw [h15 n hn, if_pos e]) hP
    · rw [if_neg e] at hP
      exact wn_outRT (by omega) ok g (by omega) hp (h n hn) (by rw [h15 n hn, if_neg e]) (fun z => by rw [if_pos z] at hP; exact hP) (fun z => by rw [if_neg z] at hP; exact hP)
  · have hy : (if t = 1 then (0 : Int32) else 1) = 0 ∨ (if t = 1 then (0 : Int32) else 1) = 1 := by
      by_cases e : t = 1
      · rw [if_pos e]
        exact Or.inl rfl
      · rw [if_neg e]
        exact Or.inr rfl
    rw [wn_lvE hto (Or.inr rfl) hy]
    rcases hy with z | z <;> rw [z] <;> decide
  · refine wn_hear (q' := q) (t' := t + 1) (by omega) ok g (by omega) hb (wn_role (h15 n hn)).1 (fun z z2 => absurd z2 (by omega)) (fun _ z => by rw [if_pos z]; decide) (fun P HP => wn_listenT (by omega) ok g hp hb HP) HP
theorem wn_bitT {Q : St2 → Prop} {d l w to k t : Nat} {q : Nat × Int32 × Nat × Nat} (hto : to < 4) (ok : wn_ok d l w) (g : wn_gd l q k) (hp : q.1 = 34 + 8 * l) (ht : t < 9) (h15 : ∀ n, n < 4 → a15 n = if n = to then 1 else 2)
    (h : ∀ n, n < 4 → wn_lis d l w n q t a17 a18 a19 a20 a21 a22 a23 a24 a25) (H : ∀ (b17 b18 b19 b20 b21 b22 : Nat → Int32) (b23 : Nat → Int64) (b24 b25 : Nat → Int32), (∀ n, n < 4 → wn_lis d l w n q (t + 1) b17 b18 b19 b20 b21 b22 b23 b24 b25) → Q (ph, lf, ck, sc, di, a1, a2, a3, a4, a5, a6, a7, a8, a9, a10, a11, a12, a13, a14, a15, a16, b17, b18, b19, b20, b21, b22, b23, b24, b25)) : wpX_frameBit Q (ph, lf, ck, sc, di, a1, a2, a3, a4, a5, a6, a7, a8, a9, a10, a11, a12, a13, a14, a15, a16, a17, a18, a19, a20, a21, a22, a23, a24, a25) 0 := by
  refine wn_bitTG hto ok g hp (by omega) h15 h (fun b17 b18 b19 b20 b21 b22 b23 b24 b25 hb R HR => ?_)
  refine wn_finNo (fun n hn => ?_) (HR _ _ _ _ _ _ _ _ _ _ _ _ _ _ _ _ _ _ _ _ _ _ _ _ _ _ _ _ _ _ (H _ _ _ _ _ _ _ _ _ hb))
  rw [(hb n hn).2.2.2.2.2.2.2.2]
  intro z
  have z2 := (nI_eq (a := t + 1) (b := 10) (by omega) (by omega)).mp z
  omega
theorem wn_bitE {Q : St2 → Prop} {d l w to k : Nat} {q : Nat × Int32 × Nat × Nat} (hto : to < 4) (ok : wn_ok d l w) (g : wn_gd l q k) (hp : q.1 = 34 + 8 * l) (h2 : ∀ n, n < 4 → a2 n = 0) (h3 : ∀ n, n < 4 → a3 n = 0) (h4 : ∀ n, n < 4 → a4 n = 0) (h6 : ∀ n, n < 4 → a6 n = if n = to then 1 else 0) (h10 : ∀ n, n < 4 → a10 n = 0) (h15 : ∀ n, n < 4 → a15 n = if n = to then 1 else 2) (h16 : a16 to = 0)
    (h : ∀ n, n < 4 → wn_lis d l w n q 9 a17 a18 a19 a20 a21 a22 a23 a24 a25) (H : ∀ (b2 b3 b6 b10 b11 b12 : Nat → Int32) (b13 : Nat → Int64) (b15 b16 b17 b18 b19 b20 b21 b22 : Nat → Int32) (b23 : Nat → Int64) (b24 b25 : Nat → Int32), (∀ n, n < 4 → b6 n = 0) → (∀ n, n < 4 → b10 n = if n = to then 0 else 1) → (∀ n, n < 4 → n ≠ to → b11 (6 * n) = nI d ∧ b12 (6 * n) = nI l ∧ b13 (6 * n) = lN w) → Q (3, 3, ck, sc + 1, di, a1, b2, b3, a4, a5, b6, a7, a8, a9, b10, b11, b12, b13, a14, b15, b16, b17, b18, b19, b20, b21, b22, b23, b24, b25)) : wpX_frameBit Q (ph, lf, ck, sc, di, a1, a2, a3, a4, a5, a6, a7, a8, a9, a10, a11, a12, a13, a14, a15, a16, a17, a18, a19, a20, a21, a22, a23, a24, a25) 0 := by
  refine wn_bitTG hto ok g hp (by omega) h15 h (fun b17 b18 b19 b20 b21 b22 b23 b24 b25 hb R HR => ?_)
  refine wn_finYes (d := d) (l := l) (w := w) hto h2 h3 h4 h6 h10 h15 h16 (fun n hn => (hb n hn).2.2.2.2.2.2.2.2) (fun n hn => ?_) (fun n hn => ?_) (fun n hn => ?_) (fun n hn => ?_) (fun b2 b3 b6 b10 b11 b12 b13 b15 b16 k6 k10 k11 => HR _ _ _ _ _ _ _ _ _ _ _ _ _ _ _ _ _ _ _ _ _ _ _ _ _ _ _ _ _ _ (H _ _ _ _ _ _ _ _ _ _ _ _ _ _ _ _ _ _ k6 k10 k11))
  · rw [(hb n hn).2.2.2.2.1, hp, show 12 - (34 + 8 * l) = 0 by omega, Nat.pow_zero, Nat.div_one]
  · rw [(hb n hn).2.2.2.2.2.1, hp, show 19 - (34 + 8 * l) = 0 by omega, Nat.pow_zero, Nat.div_one]
  · rw [(hb n hn).2.2.2.2.2.2.1, hp, show 19 + 8 * l - (34 + 8 * l) = 0 by omega, Nat.pow_zero, Nat.div_one]
  · rw [(hb n hn).2.2.2.2.2.2.2.1, (hb n hn).2.2.2.1, hp, Nat.sub_self, Nat.pow_zero, Nat.div_one]
theorem wn_awNo {post : Int32 → Prop} (h1 : ∀ n, n < 4 → a1 n = 1) (h6 : ∀ n, n < 4 → a6 n = 0) (H : post 0) : wpX_anyWaits post (ph, lf, ck, sc, di, a1, a2, a3, a4, a5, a6, a7, a8, a9, a10, a11, a12, a13, a14, a15, a16, a17, a18, a19, a20, a21, a22, a23, a24, a25) := by
  unfold wpX_anyWaits
  dsimp only
  refine pk_loop (σ := Unit) (fun f i _ => wX_anyWaits_2 post ph lf ck sc di a1 a2 a3 a4 a5 a6 a7 a8 a9 a10 a11 a12 a13 a14 a15 a16 a17 a18 a19 a20 a21 a22 a23 a24 a25 f (nI i)) (fun _ _ => True) 4 0 () (by omega) trivial ?_ ?_
  · intro f _ _
    exact pk_le 4 4 (fun _ => H) (fun z => absurd z (by omega))
  · intro f i _ hi _ hw
    have hcl := nI_clamp (show i < 2 ^ 31 by omega)
    refine pk_le 4 i (fun z => absurd z (by omega)) (fun _ => ⟨pk_in i 4 hi, ?_⟩)
    rw [hcl, h1 i hi, h6 i hi]
    exact br_f (by decide) ⟨pk_in i 5 (by omega), br_t (by decide) (nm_r (nI_1 i) (hw () trivial))⟩
theorem wn_awYes {post : Int32 → Prop} {to : Nat} (hto : to < 4) (h1 : ∀ n, n < 4 → a1 n = 1) (h6 : ∀ n, n < 4 → a6 n = if n = to then 1 else 0) (H : post 1) : wpX_anyWaits post (ph, lf, ck, sc, di, a1, a2, a3, a4, a5, a6, a7, a8, a9, a10, a11, a12, a13, a14, a15, a16, a17, a18, a19, a20, a21, a22, a23, a24, a25) := by
  unfold wpX_anyWaits
  dsimp only
  refine pk_loop (σ := Unit) (fun f i _ => wX_anyWaits_2 post ph lf ck sc di a1 a2 a3 a4 a5 a6 a7 a8 a9 a10 a11 a12 a13 a14 a15 a16 a17 a18 a19 a20 a21 a22 a23 a24 a25 f (nI i)) (fun _ _ => True) to 0 () (by omega) trivial ?_ ?_
  · intro f _ _
    have hcl := nI_clamp (show to < 2 ^ 31 by omega)
    refine pk_le 4 to (fun z => absurd z (by omega)) (fun _ => ⟨pk_in to 4 hto, ?_⟩)
    rw [hcl, h1 to hto, h6 to hto, if_pos rfl]
    exact br_f (by decide) ⟨pk_in to 5 (by omega), br_f (by decide) H⟩
  · intro f i _ hi _ hw
    have hcl := nI_clamp (show i < 2 ^ 31 by omega)
    refine pk_le 4 i (fun z => absurd z (by omega)) (fun _ => ⟨pk_in i 4 (by omega), ?_⟩)
    rw [hcl, h1 i (by omega), h6 i (by omega), if_neg (by omega)]
    exact br_f (by decide) ⟨pk_in i 5 (by omega), br_t (by decide) (nm_r (nI_1 i) (hw () trivial))⟩
theorem wn_choose {post : Int32 → Prop} {n : Nat} (hn : n < 5) (h6 : a6 n ≤ 1) (H : post 0) : wpX_choose post (ph, lf, ck, sc, di, a1, a2, a3, a4, a5, a6, a7, a8, a9, a10, a11, a12, a13, a14, a15, a16, a17, a18, a19, a20, a21, a22, a23, a24, a25) (nI n) := by
  have hcl := nI_clamp (show n < 2 ^ 31 by omega)
  unfold wpX_choose
  dsimp only
  refine ⟨1, pk_in n 5 hn, ?_⟩
  rw [hcl]
  exact br_t h6 H
theorem wn_bf7 {Q : St2 → Prop} {d l w to : Nat} (hto : to < 4) (ok : wn_ok d l w) (h1 : ∀ n, n < 4 → a1 n = 1) (h6 : ∀ n, n < 4 → a6 n = if n = to then 1 else 0)
    (H : ∀ (b15 b16 b17 b18 b19 b20 b21 b22 : Nat → Int32) (b23 : Nat → Int64) (b24 b25 : Nat → Int32), (∀ n, n < 4 → b15 n = if n = to then 1 else 2) → (∀ n, n < 4 → b16 n = 0) → (∀ n, n < 4 → wn_lis d l w n (0, -1, 0, 0) 0 b17 b18 b19 b20 b21 b22 b23 b24 b25) → Q (ph, lf, ck, sc, di, a1, a2, a3, a4, a5, a6, a7, a8, a9, a10, a11, a12, a13, a14, b15, b16, b17, b18, b19, b20, b21, b22, b23, b24, b25)) :
    ∀ m i, i + m = 4 → ∀ (b15 b16 b17 b18 b19 b20 b21 b22 : Nat → Int32) (b23 : Nat → Int64) (b24 b25 : Nat → Int32), (∀ n, n < i → b15 n = if n = to then 1 else 2) → (∀ n, n < i → b16 n = 0) → (∀ n, n < i → wn_lis d l w n (0, -1, 0, 0) 0 b17 b18 b19 b20 b21 b22 b23 b24 b25) → wX_beginFrame_7 Q (m + 1) (nI i) ph lf ck sc di a1 a2 a3 a4 a5 a6 a7 a8 a9 a10 a11 a12 a13 a14 b15 b16 b17 b18 b19 b20 b21 b22 b23 b24 b25 := by
  intro m
  induction m with
  | zero =>
    intro i hi b15 b16 b17 b18 b19 b20 b21 b22 b23 b24 b25 k15 k16 kl
    have hi' : i = 4 := by omega
    subst hi'
    exact pk_le 4 4 (fun _ => H _ _ _ _ _ _ _ _ _ _ _ k15 k16 kl) (fun z => absurd z (by omega))
  | succ m ih =>
    intro i hi b15 b16 b17 b18 b19 b20 b21 b22 b23 b24 b25 k15 k16 kl
    have hi4 : i < 4 := by omega
    have hcl := nI_clamp (show i < 2 ^ 31 by omega)
    have i5 := pk_in i 5 (by omega)
    have i4 := pk_in i 4 hi4
    refine pk_le 4 i (fun z => absurd z (by omega)) (fun _ => ⟨i5, ?_⟩)
    rw [hcl, h1 i hi4]
    refine nm_e ⟨i4, br_f (by decide) (wn_beginL (by omega) ok (fun c17 c18 c19 c20 c21 c22 c23 c24 c25 hc hs => ⟨i5, ?_⟩))⟩
    have key : ∀ z0 : Int32, z0 = (if i = to then 1 else 2) → wX_beginFrame_52 Q (wX_beginFrame_7 Q (m + 1)) (nI i) z0 (nI i) ph lf ck sc di a1 a2 a3 a4 a5 a6 a7 a8 a9 a10 a11 a12 a13 a14 (upd b15 i 0) b16 c17 c18 c19 c20 c21 c22 c23 c24 c25 := by
      intro z0 hz0
      unfold wX_beginFrame_52
      rw [hcl]
      refine ⟨i5, nm_e (wn_choose (by omega) ?_ ⟨i5, nm_e (nm_r (nI_1 i) (ih (i + 1) (by omega) _ _ _ _ _ _ _ _ _ _ _ ?_ ?_ ?_))⟩)⟩
      · rw [h6 i hi4]
        by_cases e : i = to
        · rw [if_pos e]
          decide
        · rw [if_neg e]
          decide
      · intro n hn
        by_cases e : n = i
        · rw [e, pk_us, hz0]
        · rw [pk_un e, pk_un e]
          exact k15 n (by omega)
      · intro n hn
        by_cases e : n = i
        · rw [e, pk_us]
        · rw [pk_un e]
          exact k16 n (by omega)
      · intro n hn
        by_cases e : n = i
        · rw [e]
          exact hc
        · exact wn_lisK hs e (kl n (by omega))
    rw [h6 i hi4]
    by_cases e : i = to
    · rw [if_pos e]
      exact br_f (by decide) (key 1 (by rw [if_pos e]))
    · rw [if_neg e]
      exact br_t (by decide) (key 2 (by rw [if_neg e]))
/-! a step of the clock -/
theorem wn_stepF {Q : St2 → Prop} {D : Nat} (hph : ¬ ph = 0) (hD : D + 1 < 2 ^ 31) (H : Q (ph, lf, ck + 1, sc, nI D, a1, a2, a3, a4, a5, a6, a7, a8, a9, a10, a11, a12, a13, a14, a15, a16, a17, a18, a19, a20, a21, a22, a23, a24, a25)) : wpX_step Q (ph, lf, ck, sc, nI (D + 1), a1, a2, a3, a4, a5, a6, a7, a8, a9, a10, a11, a12, a13, a14, a15, a16, a17, a18, a19, a20, a21, a22, a23, a24, a25) := by
  unfold wpX_step
  dsimp only
  refine nm_e (br_f (nI_nle (by omega) hD) ?_)
  unfold wX_step_27
  exact nm_r (nI_pred D) (br_f hph H)
theorem wn_stepI {Q : St2 → Prop} (h1 : ∀ n, n < 4 → a1 n = 1) (h6 : ∀ n, n < 4 → a6 n = 0) (H : Q (0, lf, ck + 1, sc, 0, a1, a2, a3, a4, a5, a6, a7, a8, a9, a10, a11, a12, a13, a14, a15, a16, a17, a18, a19, a20, a21, a22, a23, a24, a25)) : wpX_step Q (0, lf, ck, sc, 0, a1, a2, a3, a4, a5, a6, a7, a8, a9, a10, a11, a12, a13, a14, a15, a16, a17, a18, a19, a20, a21, a22, a23, a24, a25) := by
  unfold wpX_step
  dsimp only
  refine nm_e (br_t (by decide) ?_)
  unfold wX_step_27
  exact nm_r (show (0 : Int32) - 0 = 0 by decide) (br_t rfl (wn_awNo h1 h6 (br_t rfl H)))
theorem wn_stepB {Q : St2 → Prop} {d l w to D : Nat} (hto : to < 4) (ok : wn_ok d l w) (hD : D + 1 < 2 ^ 31) (h1 : ∀ n, n < 4 → a1 n = 1) (h6 : ∀ n, n < 4 → a6 n = if n = to then 1 else 0)
    (H : ∀ (b15 b16 b17 b18 b19 b20 b21 b22 : Nat → Int32) (b23 : Nat → Int64) (b24 b25 : Nat → Int32), (∀ n, n < 4 → b15 n = if n = to then 1 else 2) → (∀ n, n < 4 → b16 n = 0) → (∀ n, n < 4 → wn_lis d l w n (0, -1, 0, 0) 0 b17 b18 b19 b20 b21 b22 b23 b24 b25) → Q (1, lf, ck + 1, sc, nI D, a1, a2, a3, a4, a5, a6, a7, a8, a9, a10, a11, a12, a13, a14, b15, b16, b17, b18, b19, b20, b21, b22, b23, b24, b25)) : wpX_step Q (0, lf, ck, sc, nI (D + 1), a1, a2, a3, a4, a5, a6, a7, a8, a9, a10, a11, a12, a13, a14, a15, a16, a17, a18, a19, a20, a21, a22, a23, a24, a25) := by
  unfold wpX_step
  dsimp only
  refine nm_e (br_f (nI_nle (by omega) hD) ?_)
  unfold wX_step_27
  refine nm_r (nI_pred D) (br_t rfl (wn_awYes hto h1 h6 (br_f (by decide) ?_)))
  unfold wpX_beginFrame
  dsimp only
  refine ⟨4 + 1, ?_⟩
  exact wn_bf7 hto ok h1 h6 (fun b15 b16 b17 b18 b19 b20 b21 b22 b23 b24 b25 k15 k16 kl => H _ _ _ _ _ _ _ _ _ _ _ k15 k16 kl) 4 0 (by omega) _ _ _ _ _ _ _ _ _ _ _ (fun n hn => absurd hn (by omega)) (fun n hn => absurd hn (by omega)) (fun n hn => absurd hn (by omega))
end
end
section
section
variable {ph lf ck sc di : Int32} {a1 a2 a3 a4 a5 a6 a7 a8 : Nat → Int32} {a9 : Nat → Int64} {a10 a11 a12 : Nat → Int32} {a13 : Nat → Int64} {a14 a15 a16 a17 a18 a19 a20 a21 a22 : Nat → Int32} {a23 : Nat → Int64} {a24 a25 : Nat → Int32}
theorem wn_runI {post : Int32 → St2 → Prop} {m C : Nat} (hm : m ≤ 2000) (h1 : ∀ n, n < 4 → a1 n = 1) (h6 : ∀ n, n < 4 → a6 n = 0) (H : post 0 (0, lf, nI (C + m), sc, 0, a1, a2, a3, a4, a5, a6, a7, a8, a9, a10, a11, a12, a13, a14, a15, a16, a17, a18, a19, a20, a21, a22, a23, a24, a25)) : wpX_run post (0, lf, nI C, sc, 0, a1, a2, a3, a4, a5, a6, a7, a8, a9, a10, a11, a12, a13, a14, a15, a16, a17, a18, a19, a20, a21, a22, a23, a24, a25) (nI m) := by
  unfold wpX_run
  dsimp only
  refine pk_lt m 0 (fun z => absurd z (by omega)) (fun _ => pk_le m 2000 (fun _ => ?_) (fun z => absurd z (by omega)))
  refine pk_loop (σ := Unit) (fun f i _ => wX_run_20 post (nI m) sc f (nI i) 0 lf (nI (C + i)) sc 0 a1 a2 a3 a4 a5 a6 a7 a8 a9 a10 a11 a12 a13 a14 a15 a16 a17 a18 a19 a20 a21 a22 a23 a24 a25) (fun _ _ => True) m 0 () (by omega) trivial ?_ ?_
  · intro f _ _
    refine pk_le m m (fun _ => ?_) (fun z => absurd z (by omega))
    rw [Int32.sub_self]
    exact H
  · intro f i _ hi _ hw
    have hw' := hw () trivial
    refine pk_le m i (fun z => absurd z (by omega)) (fun _ => br_f (by decide) ?_)
    unfold wX_run_38
    refine wn_stepI h1 h6 (br_f (by decide) (br_t rfl (nm_r (nI_1 i) ?_)))
    rw [nI_1]
    exact hw'
theorem wn_runX {post : Int32 → St2 → Prop} {x : Int32} (h : x < 0 ∨ nI 2001 ≤ x) (H : post (-1) (ph, lf, ck, sc, di, a1, a2, a3, a4, a5, a6, a7, a8, a9, a10, a11, a12, a13, a14, a15, a16, a17, a18, a19, a20, a21, a22, a23, a24, a25)) : wpX_run post (ph, lf, ck, sc, di, a1, a2, a3, a4, a5, a6, a7, a8, a9, a10, a11, a12, a13, a14, a15, a16, a17, a18, a19, a20, a21, a22, a23, a24, a25) x := by
  have h2 : nI 2001 ≤ x → ¬ x ≤ 2000 := by
    intro z
    rw [Int32.le_iff_toInt_le] at z ⊢
    have e1 : (nI 2001).toInt = 2001 := by decide
    have e2 : (2000 : Int32).toInt = 2000 := by decide
    omega
  unfold wpX_run
  dsimp only
  rcases h with h | h
  · exact br_t h H
  · exact br_c (fun _ => H) (fun _ => br_f (h2 h) H)
theorem wn_runB {post : Int32 → St2 → Prop} {d l w to D : Nat} (hto : to < 4) (ok : wn_ok d l w) (hD1 : 1 ≤ D) (hD : D + 1 < 2 ^ 31) (h1 : ∀ n, n < 4 → a1 n = 1) (h6 : ∀ n, n < 4 → a6 n = if n = to then 1 else 0) (h7 : a7 (4 * to) = nI d) (h8 : a8 (4 * to) = nI l) (h9 : a9 (4 * to) = lN w)
    (H : ∀ (b15 b16 b17 b18 b19 b20 b21 b22 : Nat → Int32) (b23 : Nat → Int64) (b24 b25 : Nat → Int32), (∀ n, n < 4 → b15 n = if n = to then 1 else 2) → (∀ n, n < 4 → b16 n = 0) → (∀ n, n < 4 → wn_lis d l w n (wn_T d l w 1) 0 b17 b18 b19 b20 b21 b22 b23 b24 b25) → post 0 (1, lf, ck + 1, sc, nI D, a1, a2, a3, a4, a5, a6, a7, a8, a9, a10, a11, a12, a13, a14, b15, b16, b17, b18, b19, b20, b21, b22, b23, b24, b25)) : wpX_run post (0, lf, ck, sc, nI (D + 1), a1, a2, a3, a4, a5, a6, a7, a8, a9, a10, a11, a12, a13, a14, a15, a16, a17, a18, a19, a20, a21, a22, a23, a24, a25) 1 := by
  unfold wpX_run
  dsimp only
  refine br_f (by decide) (br_t (by decide) ⟨2, ?_⟩)
  have hd1 : ¬ nI (D + 1) = 1 := fun z => absurd ((nI_eq (a := D + 1) (b := 1) hD (by decide)).mp z) (by omega)
  refine br_f (by decide) (br_f hd1 ?_)
  unfold wX_run_38
  refine wn_stepB hto ok hD h1 h6 (fun b15 b16 b17 b18 b19 b20 b21 b22 b23 b24 b25 k15 k16 kl => br_t rfl (wn_bitN hto ok (wn_gd0 l) (show 0 < 34 + 8 * l by omega) k15 (k16 to hto) h7 h8 h9 kl (fun c17 c18 c19 c20 c21 c22 c23 c24 c25 hc => nm_r (show (0 : Int32) + 1 = 1 by decide) ?_)))
  refine br_t (by decide) ?_
  rw [Int32.sub_self]
  exact H _ _ _ _ _ _ _ _ _ _ _ k15 k16 hc
theorem wn_runFL {post : Int32 → St2 → Prop} {d l w to N C E : Nat} {x2 : Int32} (hto : to < 4) (ok : wn_ok d l w) (hN : wn_tl d l w N) (hE : E < 2 ^ 20) (h2 : ∀ n, n < 4 → a2 n = 0) (h3 : ∀ n, n < 4 → a3 n = 0) (h4 : ∀ n, n < 4 → a4 n = 0) (h6 : ∀ n, n < 4 → a6 n = if n = to then 1 else 0) (h10 : ∀ n, n < 4 → a10 n = 0) (h15 : ∀ n, n < 4 → a15 n = if n = to then 1 else 2) (h16 : a16 to = 0) (h7 : a7 (4 * to) = nI d) (h8 : a8 (4 * to) = nI l) (h9 : a9 (4 * to) = lN w)
    (H : ∀ (b2 b3 b6 b10 b11 b12 : Nat → Int32) (b13 : Nat → Int64) (b15 b16 b17 b18 b19 b20 b21 b22 : Nat → Int32) (b23 : Nat → Int64) (b24 b25 : Nat → Int32), (∀ n, n < 4 → b6 n = 0) → (∀ n, n < 4 → b10 n = if n = to then 0 else 1) → (∀ n, n < 4 → n ≠ to → b11 (6 * n) = nI d ∧ b12 (6 * n) = nI l ∧ b13 (6 * n) = lN w) → post (sc + 1 - x2) (3, 3, nI (C + (N + 9)), sc + 1, nI (E + 1), a1, b2, b3, a4, a5, b6, a7, a8, a9, b10, b11, b12, b13, a14, b15, b16, b17, b18, b19, b20, b21, b22, b23, b24, b25)) :
    ∀ m k, k + m = N + 8 → ∀ (b17 b18 b19 b20 b21 b22 : Nat → Int32) (b23 : Nat → Int64) (b24 b25 : Nat → Int32), (∀ n, n < 4 → wn_lis d l w n (wn_T d l w (min (k + 1) N)) (k + 1 - N) b17 b18 b19 b20 b21 b22 b23 b24 b25) → wX_run_20 post (nI (N + 9)) x2 (m + 2) (nI k) 1 lf (nI (C + k)) sc (nI (m + E + 2)) a1 a2 a3 a4 a5 a6 a7 a8 a9 a10 a11 a12 a13 a14 a15 a16 b17 b18 b19 b20 b21 b22 b23 b24 b25 := by
  have hb := wn_tlb hN
  have hl := ok.2.1
  intro m
  induction m with
  | zero =>
    intro k hk b17 b18 b19 b20 b21 b22 b23 b24 b25 kl
    have hd1 : ¬ nI (0 + E + 2) = 1 := fun z => absurd ((nI_eq (a := 0 + E + 2) (b := 1) (by omega) (by decide)).mp z) (by omega)
    have hk' : k = N + 8 := by omega
    rw [show min (k + 1) N = N by omega, show k + 1 - N = 9 by omega] at kl
    refine pk_le (N + 9) k (fun z => absurd z (by omega)) (fun _ => br_f hd1 ?_)
    unfold wX_run_38
    refine wn_stepF (D := 0 + E + 1) (by decide) (by omega) (br_t rfl (wn_bitE hto ok (hN.2.2 N (Nat.le_refl _)) hN.1 h2 h3 h4 h6 h10 h15 h16 kl (fun b2 b3 b6 b10 b11 b12 b13 b15 b16 c17 c18 c19 c20 c21 c22 c23 c24 c25 k6 k10 k11 => nm_r (nI_1 k) ?_)))
    refine pk_le (N + 9) (k + 1) (fun _ => ?_) (fun z => absurd z (by omega))
    rw [nI_1, show C + k + 1 = C + (N + 9) by omega, show 0 + E + 1 = E + 1 by omega]
    exact H _ _ _ _ _ _ _ _ _ _ _ _ _ _ _ _ _ _ k6 k10 k11
  | succ m ih =>
    intro k hk b17 b18 b19 b20 b21 b22 b23 b24 b25 kl
    have hd1 : ¬ nI (m + 1 + E + 2) = 1 := fun z => absurd ((nI_eq (a := m + 1 + E + 2) (b := 1) (by omega) (by decide)).mp z) (by omega)
    refine pk_le (N + 9) k (fun z => absurd z (by omega)) (fun _ => br_f hd1 ?_)
    unfold wX_run_38
    refine wn_stepF (D := m + 1 + E + 1) (by decide) (by omega) (br_t rfl ?_)
    have fin : ∀ (c17 c18 c19 c20 c21 c22 : Nat → Int32) (c23 : Nat → Int64) (c24 c25 : Nat → Int32), (∀ n, n < 4 → wn_lis d l w n (wn_T d l w (min (k + 1 + 1) N)) (k + 1 + 1 - N) c17 c18 c19 c20 c21 c22 c23 c24 c25) → wX_run_20 post (nI (N + 9)) x2 (m + 2) (nI k + 1) 1 lf (nI (C + k) + 1) sc (nI (m + 1 + E + 1)) a1 a2 a3 a4 a5 a6 a7 a8 a9 a10 a11 a12 a13 a14 a15 a16 c17 c18 c19 c20 c21 c22 c23 c24 c25 := by
      intro c17 c18 c19 c20 c21 c22 c23 c24 c25 hc
      rw [nI_1, nI_1, show C + k + 1 = C + (k + 1) by omega, show m + 1 + E + 1 = m + E + 2 by omega]
      exact ih (k + 1) (by omega) _ _ _ _ _ _ _ _ _ hc
    by_cases e : k + 1 < N
    · rw [show min (k + 1) N = k + 1 by omega, show k + 1 - N = 0 by omega] at kl
      refine wn_bitN hto ok (hN.2.2 (k + 1) (by omega)) (hN.2.1 (k + 1) e) h15 h16 h7 h8 h9 kl (fun c17 c18 c19 c20 c21 c22 c23 c24 c25 hc => nm_e (fin _ _ _ _ _ _ _ _ _ ?_))
      rw [show min (k + 1 + 1) N = k + 1 + 1 by omega, show k + 1 + 1 - N = 0 by omega]
      exact hc
    · rw [show min (k + 1) N = N by omega] at kl
      refine wn_bitT hto ok (hN.2.2 N (Nat.le_refl _)) hN.1 (by omega) h15 kl (fun c17 c18 c19 c20 c21 c22 c23 c24 c25 hc => nm_e (fin _ _ _ _ _ _ _ _ _ ?_))
      rw [show min (k + 1 + 1) N = N by omega, show k + 1 + 1 - N = k + 1 - N + 1 by omega]
      exact hc
theorem wn_runF {post : Int32 → St2 → Prop} {d l w to N C : Nat} (hto : to < 4) (ok : wn_ok d l w) (hN : wn_tl d l w N) (h2 : ∀ n, n < 4 → a2 n = 0) (h3 : ∀ n, n < 4 → a3 n = 0) (h4 : ∀ n, n < 4 → a4 n = 0) (h6 : ∀ n, n < 4 → a6 n = if n = to then 1 else 0) (h10 : ∀ n, n < 4 → a10 n = 0) (h15 : ∀ n, n < 4 → a15 n = if n = to then 1 else 2) (h16 : a16 to = 0) (h7 : a7 (4 * to) = nI d) (h8 : a8 (4 * to) = nI l) (h9 : a9 (4 * to) = lN w)
    (h : ∀ n, n < 4 → wn_lis d l w n (wn_T d l w 1) 0 a17 a18 a19 a20 a21 a22 a23 a24 a25)
    (H : ∀ (E : Nat) (b2 b3 b6 b10 b11 b12 : Nat → Int32) (b13 : Nat → Int64) (b15 b16 b17 b18 b19 b20 b21 b22 : Nat → Int32) (b23 : Nat → Int64) (b24 b25 : Nat → Int32), E < 2 ^ 20 → 10 ≤ E → (∀ n, n < 4 → b6 n = 0) → (∀ n, n < 4 → b10 n = if n = to then 0 else 1) → (∀ n, n < 4 → n ≠ to → b11 (6 * n) = nI d ∧ b12 (6 * n) = nI l ∧ b13 (6 * n) = lN w) → post 1 (3, 3, nI (C + (N + 9)), 1, nI E, a1, b2, b3, a4, a5, b6, a7, a8, a9, b10, b11, b12, b13, a14, b15, b16, b17, b18, b19, b20, b21, b22, b23, b24, b25)) : wpX_run post (1, lf, nI C, 0, nI 999, a1, a2, a3, a4, a5, a6, a7, a8, a9, a10, a11, a12, a13, a14, a15, a16, a17, a18, a19, a20, a21, a22, a23, a24, a25) (nI (N + 9)) := by
  have hb := wn_tlb hN
  have hl := ok.2.1
  unfold wpX_run
  dsimp only
  refine pk_lt (N + 9) 0 (fun z => absurd z (by omega)) (fun _ => pk_le (N + 9) 2000 (fun _ => ⟨N + 8 + 2, ?_⟩) (fun z => absurd z (by omega)))
  have L := wn_runFL (post := post) (C := C) (E := 989 - N) (x2 := 0) (lf := lf) (sc := 0) (a1 := a1) (a5 := a5) (a11 := a11) (a12 := a12) (a13 := a13) (a14 := a14) hto ok hN (by omega) h2 h3 h4 h6 h10 h15 h16 h7 h8 h9 (fun b2 b3 b6 b10 b11 b12 b13 b15 b16 c17 c18 c19 c20 c21 c22 c23 c24 c25 k6 k10 k11 => H _ _ _ _ _ _ _ _ _ _ _ _ _ _ _ _ _ _ _ (by omega) (by omega) k6 k10 k11) (N + 8) 0 (by omega) a17 a18 a19 a20 a21 a22 a23 a24 a25 (fun n hn => by
    rw [show min (0 + 1) N = 1 by omega, show 0 + 1 - N = 0 by omega]
    exact h n hn)
  rw [show N + 8 + (989 - N) + 2 = 999 by omega] at L
  exact L
theorem wn_r38P {post : Int32 → St2 → Prop} {J : Int32 → Int32 → Int32 → Int32 → Int32 → Int32 → (Nat → Int32) → (Nat → Int32) → (Nat → Int32) → (Nat → Int32) → (Nat → Int32) → (Nat → Int32) → (Nat → Int32) → (Nat → Int32) → (Nat → Int64) → (Nat → Int32) → (Nat → Int32) → (Nat → Int32) → (Nat → Int64) → (Nat → Int32) → (Nat → Int32) → (Nat → Int32) → (Nat → Int32) → (Nat → Int32) → (Nat → Int32) → (Nat → Int32) → (Nat → Int32) → (Nat → Int32) → (Nat → Int64) → (Nat → Int32) → (Nat → Int32) → Prop} {x1 x2 x3 z0 : Int32} {D a : Nat} (hD : D + 1 < 2 ^ 31) (ha : a + 2 < 2 ^ 31) (H : J (x3 + 1) 3 (nI (a + 1)) (ck + 1) sc (nI D) a1 a2 a3 a4 a5 a6 a7 a8 a9 a10 a11 a12 a13 a14 a15 a16 a17 a18 a19 a20 a21 a22 a23 a24 a25) : wX_run_38 post J x1 x2 x3 z0 3 (nI (a + 2)) ck sc (nI (D + 1)) a1 a2 a3 a4 a5 a6 a7 a8 a9 a10 a11 a12 a13 a14 a15 a16 a17 a18 a19 a20 a21 a22 a23 a24 a25 := by
  unfold wX_run_38
  refine wn_stepF (by decide) hD (br_f (by decide) (br_f (by decide) ?_))
  unfold wpX_wait1
  dsimp only
  exact nm_r (nI_pred (a + 1)) (br_f (nI_nle (by omega) (by omega)) (nm_e H))
theorem wn_r38Q {post : Int32 → St2 → Prop} {J : Int32 → Int32 → Int32 → Int32 → Int32 → Int32 → (Nat → Int32) → (Nat → Int32) → (Nat → Int32) → (Nat → Int32) → (Nat → Int32) → (Nat → Int32) → (Nat → Int32) → (Nat → Int32) → (Nat → Int64) → (Nat → Int32) → (Nat → Int32) → (Nat → Int32) → (Nat → Int64) → (Nat → Int32) → (Nat → Int32) → (Nat → Int32) → (Nat → Int32) → (Nat → Int32) → (Nat → Int32) → (Nat → Int32) → (Nat → Int32) → (Nat → Int32) → (Nat → Int64) → (Nat → Int32) → (Nat → Int32) → Prop} {x1 x2 x3 z0 : Int32} {D : Nat} (hD : D + 1 < 2 ^ 31) (H : J (x3 + 1) 0 0 (ck + 1) sc (nI D) a1 a2 a3 a4 a5 a6 a7 a8 a9 a10 a11 a12 a13 a14 a15 a16 a17 a18 a19 a20 a21 a22 a23 a24 a25) : wX_run_38 post J x1 x2 x3 z0 3 (nI 1) ck sc (nI (D + 1)) a1 a2 a3 a4 a5 a6 a7 a8 a9 a10 a11 a12 a13 a14 a15 a16 a17 a18 a19 a20 a21 a22 a23 a24 a25 := by
  unfold wX_run_38
  refine wn_stepF (by decide) hD (br_f (by decide) (br_f (by decide) ?_))
  unfold wpX_wait1
  dsimp only
  exact nm_r (show nI 1 - 1 = 0 by decide) (br_t (by decide) (br_f (by decide) (nm_e H)))
theorem wn_runP2 {post : Int32 → St2 → Prop} {D C : Nat} (hD : D + 2 < 2 ^ 31) (H : post 0 (3, nI 1, nI (C + 2), sc, nI D, a1, a2, a3, a4, a5, a6, a7, a8, a9, a10, a11, a12, a13, a14, a15, a16, a17, a18, a19, a20, a21, a22, a23, a24, a25)) : wpX_run post (3, 3, nI C, sc, nI (D + 2), a1, a2, a3, a4, a5, a6, a7, a8, a9, a10, a11, a12, a13, a14, a15, a16, a17, a18, a19, a20, a21, a22, a23, a24, a25) 2 := by
  unfold wpX_run
  dsimp only
  refine br_f (by decide) (br_t (by decide) ⟨3, ?_⟩)
  have S2 : wX_run_20 post 2 sc 1 (0 + 1 + 1) 3 (nI 1) (nI C + 1 + 1) sc (nI D) a1 a2 a3 a4 a5 a6 a7 a8 a9 a10 a11 a12 a13 a14 a15 a16 a17 a18 a19 a20 a21 a22 a23 a24 a25 := by
    refine br_t (by decide) ?_
    rw [Int32.sub_self, nI_1, nI_1]
    exact H
  have S1 : wX_run_20 post 2 sc 2 (0 + 1) 3 (nI 2) (nI C + 1) sc (nI (D + 1)) a1 a2 a3 a4 a5 a6 a7 a8 a9 a10 a11 a12 a13 a14 a15 a16 a17 a18 a19 a20 a21 a22 a23 a24 a25 := by
    refine br_f (by decide) (br_c (fun _ => ?_) (fun _ => ?_))
    · exact wn_r38P (a := 0) (by omega) (by decide) S2
    · exact wn_r38P (a := 0) (by omega) (by decide) S2
  refine br_f (by decide) (br_c (fun _ => ?_) (fun _ => ?_))
  · exact wn_r38P (a := 1) (D := D + 1) (by omega) (by decide) S1
  · exact wn_r38P (a := 1) (D := D + 1) (by omega) (by decide) S1
theorem wn_runP1 {post : Int32 → St2 → Prop} {D C : Nat} (hD : D + 1 < 2 ^ 31) (H : post 0 (0, 0, nI (C + 1), sc, nI D, a1, a2, a3, a4, a5, a6, a7, a8, a9, a10, a11, a12, a13, a14, a15, a16, a17, a18, a19, a20, a21, a22, a23, a24, a25)) : wpX_run post (3, nI 1, nI C, sc, nI (D + 1), a1, a2, a3, a4, a5, a6, a7, a8, a9, a10, a11, a12, a13, a14, a15, a16, a17, a18, a19, a20, a21, a22, a23, a24, a25) 1 := by
  unfold wpX_run
  dsimp only
  refine br_f (by decide) (br_t (by decide) ⟨2, ?_⟩)
  have S1 : wX_run_20 post 1 sc 1 (0 + 1) 0 0 (nI C + 1) sc (nI D) a1 a2 a3 a4 a5 a6 a7 a8 a9 a10 a11 a12 a13 a14 a15 a16 a17 a18 a19 a20 a21 a22 a23 a24 a25 := by
    refine br_t (by decide) ?_
    rw [Int32.sub_self, nI_1]
    exact H
  refine br_f (by decide) (br_c (fun _ => ?_) (fun _ => ?_))
  · exact wn_r38Q hD S1
  · exact wn_r38Q hD S1
end
end
section
section
variable {ph lf ck sc di : Int32} {a1 a2 a3 a4 a5 a6 a7 a8 : Nat → Int32} {a9 : Nat → Int64} {a10 a11 a12 : Nat → Int32} {a13 : Nat → Int64} {a14 a15 a16 a17 a18 a19 a20 a21 a22 : Nat → Int32} {a23 : Nat → Int64} {a24 a25 : Nat → Int32}
/-- b says whether x lies in 0 .. N-1 -/
def wn_rg (b x : Int32) (N : Nat) : Prop := (b = 1 ∧ ∃ j, j < N ∧ x = nI j) ∨ (b = 0 ∧ (x < 0 ∨ nI N ≤ x))
/-- z is u where b, else v -/
def wn_if (b z u v : Int32) : Prop := (b = 1 → z = u) ∧ (b = 0 → z = v)
theorem wn_isOn {post : Int32 → Prop} {b x z : Int32} (hr : wn_rg b x 4) (hz : wn_if b z 1 (-1)) (h : ∀ n, n < 4 → a1 n = 1) (H : post z) : wpX_isOn post (ph, lf, ck, sc, di, a1, a2, a3, a4, a5, a6, a7, a8, a9, a10, a11, a12, a13, a14, a15, a16, a17, a18, a19, a20, a21, a22, a23, a24, a25) x := by
  unfold wpX_isOn
  dsimp only
  rcases hr with ⟨hb, j, hj, rfl⟩ | ⟨hb, hx⟩
  · have hcl := nI_clamp (show j < 2 ^ 31 by omega)
    rw [hz.1 hb] at H
    rw [hcl, h j hj]
    exact wn_nt hj (br_f (by decide) ⟨pk_in j 4 hj, br_f (by decide) H⟩)
  · rw [hz.2 hb] at H
    exact wn_nf hx (br_t rfl H)
theorem wn_sendE {post : Int32 → Prop} {b x z : Int32} (hr : wn_rg b x 4) (hz : wn_if b z 0 (-1)) (h : ∀ n, n < 4 → a2 n = 0) (H : post z) : wpX_sendErrors post (ph, lf, ck, sc, di, a1, a2, a3, a4, a5, a6, a7, a8, a9, a10, a11, a12, a13, a14, a15, a16, a17, a18, a19, a20, a21, a22, a23, a24, a25) x := by
  unfold wpX_sendErrors
  dsimp only
  rcases hr with ⟨hb, j, hj, rfl⟩ | ⟨hb, hx⟩
  · have hcl := nI_clamp (show j < 2 ^ 31 by omega)
    rw [hz.1 hb] at H
    rw [hcl, h j hj]
    exact wn_nt hj (br_f (by decide) ⟨pk_in j 4 hj, H⟩)
  · rw [hz.2 hb] at H
    exact wn_nf hx (br_t rfl H)
theorem wn_recvE {post : Int32 → Prop} {b x z : Int32} (hr : wn_rg b x 4) (hz : wn_if b z 0 (-1)) (h : ∀ n, n < 4 → a3 n = 0) (H : post z) : wpX_receiveErrors post (ph, lf, ck, sc, di, a1, a2, a3, a4, a5, a6, a7, a8, a9, a10, a11, a12, a13, a14, a15, a16, a17, a18, a19, a20, a21, a22, a23, a24, a25) x := by
  unfold wpX_receiveErrors
  dsimp only
  rcases hr with ⟨hb, j, hj, rfl⟩ | ⟨hb, hx⟩
  · have hcl := nI_clamp (show j < 2 ^ 31 by omega)
    rw [hz.1 hb] at H
    rw [hcl, h j hj]
    exact wn_nt hj (br_f (by decide) ⟨pk_in j 4 hj, H⟩)
  · rw [hz.2 hb] at H
    exact wn_nf hx (br_t rfl H)
theorem wn_waitingN {post : Int32 → Prop} {j : Nat} (hj : j < 4) (H : post (a6 j)) : wpX_waiting post (ph, lf, ck, sc, di, a1, a2, a3, a4, a5, a6, a7, a8, a9, a10, a11, a12, a13, a14, a15, a16, a17, a18, a19, a20, a21, a22, a23, a24, a25) (nI j) := by
  unfold wpX_waiting
  dsimp only
  have hcl := nI_clamp (show j < 2 ^ 31 by omega)
  rw [hcl]
  exact wn_nt hj (br_f (by decide) ⟨pk_in j 5 (by omega), H⟩)
theorem wn_waiting {post : Int32 → Prop} {b x z : Int32} (hr : wn_rg b x 4) (hz : wn_if b z 0 (-1)) (h : ∀ n, n < 4 → a6 n = 0) (H : post z) : wpX_waiting post (ph, lf, ck, sc, di, a1, a2, a3, a4, a5, a6, a7, a8, a9, a10, a11, a12, a13, a14, a15, a16, a17, a18, a19, a20, a21, a22, a23, a24, a25) x := by
  rcases hr with ⟨hb, j, hj, rfl⟩ | ⟨hb, hx⟩
  · rw [hz.1 hb] at H
    refine wn_waitingN hj ?_
    rw [h j hj]
    exact H
  · rw [hz.2 hb] at H
    unfold wpX_waiting
    dsimp only
    exact wn_nf hx (br_t rfl H)
theorem wn_receivedN {post : Int32 → Prop} {j : Nat} (hj : j < 4) (H : post (a10 j)) : wpX_received post (ph, lf, ck, sc, di, a1, a2, a3, a4, a5, a6, a7, a8, a9, a10, a11, a12, a13, a14, a15, a16, a17, a18, a19, a20, a21, a22, a23, a24, a25) (nI j) := by
  unfold wpX_received
  dsimp only
  have hcl := nI_clamp (show j < 2 ^ 31 by omega)
  rw [hcl]
  exact wn_nt hj (br_f (by decide) ⟨pk_in j 4 hj, H⟩)
theorem wn_received {post : Int32 → Prop} {b x z : Int32} (hr : wn_rg b x 4) (hz : wn_if b z 0 (-1)) (h : ∀ n, n < 4 → a10 n = 0) (H : post z) : wpX_received post (ph, lf, ck, sc, di, a1, a2, a3, a4, a5, a6, a7, a8, a9, a10, a11, a12, a13, a14, a15, a16, a17, a18, a19, a20, a21, a22, a23, a24, a25) x := by
  rcases hr with ⟨hb, j, hj, rfl⟩ | ⟨hb, hx⟩
  · rw [hz.1 hb] at H
    refine wn_receivedN hj ?_
    rw [h j hj]
    exact H
  · rw [hz.2 hb] at H
    unfold wpX_received
    dsimp only
    exact wn_nf hx (br_t rfl H)
theorem wn_missed {post : Int32 → Prop} {b x z : Int32} (hr : wn_rg b x 4) (hz : wn_if b z 0 (-1)) (h : ∀ n, n < 4 → a14 n = 0) (H : post z) : wpX_missed post (ph, lf, ck, sc, di, a1, a2, a3, a4, a5, a6, a7, a8, a9, a10, a11, a12, a13, a14, a15, a16, a17, a18, a19, a20, a21, a22, a23, a24, a25) x := by
  unfold wpX_missed
  dsimp only
  rcases hr with ⟨hb, j, hj, rfl⟩ | ⟨hb, hx⟩
  · have hcl := nI_clamp (show j < 2 ^ 31 by omega)
    rw [hz.1 hb] at H
    rw [hcl, h j hj]
    exact wn_nt hj (br_f (by decide) ⟨pk_in j 4 hj, H⟩)
  · rw [hz.2 hb] at H
    exact wn_nf hx (br_t rfl H)
theorem wn_there0 {post : Int32 → Prop} {j : Nat} {y : Int32} (hj : j < 4) (h : a10 j = 0) (H : post 0) : wpX_isThere post (ph, lf, ck, sc, di, a1, a2, a3, a4, a5, a6, a7, a8, a9, a10, a11, a12, a13, a14, a15, a16, a17, a18, a19, a20, a21, a22, a23, a24, a25) (nI j) y := by
  have hcl := nI_clamp (show j < 2 ^ 31 by omega)
  unfold wpX_isThere
  dsimp only
  rw [hcl, h]
  exact wn_nt hj (br_f (by decide) (br_c (fun _ => H) (fun z => ⟨pk_in j 4 hj, br_t (Int32.not_lt.mp z) H⟩)))
theorem wn_there1 {post : Int32 → Prop} {j : Nat} (hj : j < 4) (h : a10 j = 1) (H : post 1) : wpX_isThere post (ph, lf, ck, sc, di, a1, a2, a3, a4, a5, a6, a7, a8, a9, a10, a11, a12, a13, a14, a15, a16, a17, a18, a19, a20, a21, a22, a23, a24, a25) (nI j) 0 := by
  have hcl := nI_clamp (show j < 2 ^ 31 by omega)
  unfold wpX_isThere
  dsimp only
  rw [hcl, h]
  exact wn_nt hj (br_f (by decide) (br_f (by decide) ⟨pk_in j 4 hj, br_f (by decide) H⟩))
theorem wn_frameAt0 {post : Int32 → Prop} {b x y z : Int32} (hr : wn_rg b x 4) (hz : wn_if b z (-2) (-1)) (h : ∀ n, n < 4 → a10 n = 0) (H : post z) : wpX_frameAt post (ph, lf, ck, sc, di, a1, a2, a3, a4, a5, a6, a7, a8, a9, a10, a11, a12, a13, a14, a15, a16, a17, a18, a19, a20, a21, a22, a23, a24, a25) x y := by
  unfold wpX_frameAt
  dsimp only
  rcases hr with ⟨hb, j, hj, rfl⟩ | ⟨hb, hx⟩
  · rw [hz.1 hb] at H
    exact wn_nt hj (br_f (by decide) (wn_there0 hj (h j hj) (br_t rfl H)))
  · rw [hz.2 hb] at H
    exact wn_nf hx (br_t rfl H)
theorem wn_frameAt1 {post : Int32 → Prop} {j d l : Nat} (hj : j < 4) (h10 : a10 j = 1) (h11 : a11 (6 * j) = nI d) (h12 : a12 (6 * j) = nI l) (H : post (16 * nI d + nI l)) : wpX_frameAt post (ph, lf, ck, sc, di, a1, a2, a3, a4, a5, a6, a7, a8, a9, a10, a11, a12, a13, a14, a15, a16, a17, a18, a19, a20, a21, a22, a23, a24, a25) (nI j) 0 := by
  have hcl := nI_clamp (show 6 * j < 2 ^ 31 by omega)
  have e : (6 : Int32) * nI j + 0 = nI (6 * j) := by rw [wn_6, wn_p0]
  have hi := pk_in (6 * j) 24 (by omega)
  unfold wpX_frameAt
  dsimp only
  rw [e, hcl, h11, h12]
  exact wn_nt hj (br_f (by decide) (wn_there1 hj h10 (br_f (by decide) ⟨hi, hi, H⟩)))
theorem wn_dataAt0 {post : Int64 → Prop} {b x y : Int32} (hr : wn_rg b x 4) (h : ∀ n, n < 4 → a10 n = 0) (H : post 0) : wpX_dataAt post (ph, lf, ck, sc, di, a1, a2, a3, a4, a5, a6, a7, a8, a9, a10, a11, a12, a13, a14, a15, a16, a17, a18, a19, a20, a21, a22, a23, a24, a25) x y := by
  unfold wpX_dataAt
  dsimp only
  rcases hr with ⟨hb, j, hj, rfl⟩ | ⟨hb, hx⟩
  · exact wn_there0 hj (h j hj) (br_t rfl H)
  · unfold wpX_isThere
    dsimp only
    exact wn_nf hx (br_t rfl (br_t rfl H))
theorem wn_dataAt1 {post : Int64 → Prop} {j w : Nat} (hj : j < 4) (h10 : a10 j = 1) (h13 : a13 (6 * j) = lN w) (H : post (lN w)) : wpX_dataAt post (ph, lf, ck, sc, di, a1, a2, a3, a4, a5, a6, a7, a8, a9, a10, a11, a12, a13, a14, a15, a16, a17, a18, a19, a20, a21, a22, a23, a24, a25) (nI j) 0 := by
  have hcl := nI_clamp (show 6 * j < 2 ^ 31 by omega)
  have e : (6 : Int32) * nI j + 0 = nI (6 * j) := by rw [wn_6, wn_p0]
  unfold wpX_dataAt
  dsimp only
  rw [e, hcl, h13]
  exact wn_there1 hj h10 (br_f (by decide) ⟨pk_in (6 * j) 24 (by omega), H⟩)
theorem wn_take0 {post : Int32 → St2 → Prop} {b x z : Int32} (hr : wn_rg b x 4) (hz : wn_if b z (-2) (-1)) (h : ∀ n, n < 4 → a10 n = 0) (H : post z (ph, lf, ck, sc, di, a1, a2, a3, a4, a5, a6, a7, a8, a9, a10, a11, a12, a13, a14, a15, a16, a17, a18, a19, a20, a21, a22, a23, a24, a25)) : wpX_take post (ph, lf, ck, sc, di, a1, a2, a3, a4, a5, a6, a7, a8, a9, a10, a11, a12, a13, a14, a15, a16, a17, a18, a19, a20, a21, a22, a23, a24, a25) x := by
  have hn : ¬ 0 ≤ z := by
    rcases hr with ⟨hb, _⟩ | ⟨hb, _⟩
    · rw [hz.1 hb]
      decide
    · rw [hz.2 hb]
      decide
  unfold wpX_take
  dsimp only
  exact wn_frameAt0 hr hz h (br_f hn H)
theorem wn_take1 {post : Int32 → St2 → Prop} {j d l : Nat} (hj : j < 4) (hd : d < 2048) (hl : l ≤ 8) (h10 : a10 j = 1) (h11 : a11 (6 * j) = nI d) (h12 : a12 (6 * j) = nI l) (H : ∀ b10 : Nat → Int32, wn_u j a10 b10 0 → post (16 * nI d + nI l) (ph, lf, ck, sc, di, a1, a2, a3, a4, a5, a6, a7, a8, a9, b10, a11, a12, a13, a14, a15, a16, a17, a18, a19, a20, a21, a22, a23, a24, a25)) : wpX_take post (ph, lf, ck, sc, di, a1, a2, a3, a4, a5, a6, a7, a8, a9, a10, a11, a12, a13, a14, a15, a16, a17, a18, a19, a20, a21, a22, a23, a24, a25) (nI j) := by
  have hcl := nI_clamp (show j < 2 ^ 31 by omega)
  have e : (16 : Int32) * nI d + nI l = nI (16 * d + l) := by rw [wn_16, nI_add]
  have hge : (0 : Int32) ≤ 16 * nI d + nI l := by
    rw [e]
    exact nI_pos' (by omega)
  have hi := pk_in j 4 hj
  unfold wpX_take
  dsimp only
  refine wn_frameAt1 hj h10 h11 h12 (br_t hge ⟨hi, hi, ?_⟩)
  rw [hcl, h10]
  refine nm_e (nm_r (wn_6 j) ⟨1, hi, ?_⟩)
  rw [hcl, pk_us, wn_6]
  refine br_t ?_ (H _ (wn_us (by decide)))
  rw [show (1 : Int32) - 1 = 0 by decide, wn_p0]
  exact Int32.le_refl _
theorem wn_place0 {post : Int32 → Prop} {x : Int32} (h6 : ∀ n, n < 4 → a6 n = 0) (H : post (-1)) : wpX_placeOf post (ph, lf, ck, sc, di, a1, a2, a3, a4, a5, a6, a7, a8, a9, a10, a11, a12, a13, a14, a15, a16, a17, a18, a19, a20, a21, a22, a23, a24, a25) x := by
  unfold wpX_placeOf
  dsimp only
  refine pk_loop (σ := Unit) (fun f i _ => wX_placeOf_2 post x ph lf ck sc di a1 a2 a3 a4 a5 a6 a7 a8 a9 a10 a11 a12 a13 a14 a15 a16 a17 a18 a19 a20 a21 a22 a23 a24 a25 f (nI i)) (fun _ _ => True) 4 0 () (by omega) trivial ?_ ?_
  · intro f _ _
    exact pk_le 4 4 (fun _ => H) (fun z => absurd z (by omega))
  · intro f i _ hi _ hw
    have hcl := nI_clamp (show i < 2 ^ 31 by omega)
    refine pk_le 4 i (fun z => absurd z (by omega)) (fun _ => ⟨1, pk_in i 5 (by omega), ?_⟩)
    rw [hcl, h6 i hi]
    exact br_t (by decide) (nm_r (nI_1 i) (hw () trivial))
theorem wn_place1 {post : Int32 → Prop} {to d : Nat} (hto : to < 4) (h6 : ∀ n, n < 4 → a6 n = if n = to then 1 else 0) (h7 : a7 (4 * to) = nI d) (H : post (nI (4 * to))) : wpX_placeOf post (ph, lf, ck, sc, di, a1, a2, a3, a4, a5, a6, a7, a8, a9, a10, a11, a12, a13, a14, a15, a16, a17, a18, a19, a20, a21, a22, a23, a24, a25) (nI d) := by
  have e : (4 : Int32) * nI to + 0 = nI (4 * to) := by rw [wn_4, wn_p0]
  unfold wpX_placeOf
  dsimp only
  refine pk_loop (σ := Unit) (fun f i _ => wX_placeOf_2 post (nI d) ph lf ck sc di a1 a2 a3 a4 a5 a6 a7 a8 a9 a10 a11 a12 a13 a14 a15 a16 a17 a18 a19 a20 a21 a22 a23 a24 a25 f (nI i)) (fun _ _ => True) to 0 () (by omega) trivial ?_ ?_
  · intro f _ _
    have hcl := nI_clamp (show to < 2 ^ 31 by omega)
    have hcl4 := nI_clamp (show 4 * to < 2 ^ 31 by omega)
    refine pk_le 4 to (fun z => absurd z (by omega)) (fun _ => ⟨1, pk_in to 5 (by omega), ?_⟩)
    rw [hcl, h6 to hto, if_pos rfl, e, hcl4, h7]
    exact br_f (by decide) ⟨pk_in (4 * to) 20 (by omega), br_t rfl H⟩
  · intro f i _ hi _ hw
    have hcl := nI_clamp (show i < 2 ^ 31 by omega)
    refine pk_le 4 i (fun z => absurd z (by omega)) (fun _ => ⟨1, pk_in i 5 (by omega), ?_⟩)
    rw [hcl, h6 i (by omega), if_neg (by omega)]
    exact br_t (by decide) (nm_r (nI_1 i) (hw () trivial))
theorem wn_under0 {post : Int32 → Prop} (hph : ¬ ph = 1) (H : post (-2)) : wpX_underWay post (ph, lf, ck, sc, di, a1, a2, a3, a4, a5, a6, a7, a8, a9, a10, a11, a12, a13, a14, a15, a16, a17, a18, a19, a20, a21, a22, a23, a24, a25) := by
  unfold wpX_underWay
  dsimp only
  refine pk_loop (σ := Unit) (fun f i _ => wX_underWay_6 post ph lf ck sc di a1 a2 a3 a4 a5 a6 a7 a8 a9 a10 a11 a12 a13 a14 a15 a16 a17 a18 a19 a20 a21 a22 a23 a24 a25 f 2048 (nI i)) (fun _ _ => True) 4 0 () (by omega) trivial ?_ ?_
  · intro f _ _
    exact pk_le 4 4 (fun _ => br_t rfl H) (fun z => absurd z (by omega))
  · intro f i _ hi _ hw
    exact pk_le 4 i (fun z => absurd z (by omega)) (fun _ => br_f hph (nm_r (nI_1 i) (hw () trivial)))
theorem wn_under1 {post : Int32 → Prop} {to d : Nat} (hto : to < 4) (hd : d < 2048) (h15 : ∀ n, n < 4 → a15 n = if n = to then 1 else 2) (h16 : a16 to = 0) (h7 : a7 (4 * to) = nI d) (H : post (nI d)) : wpX_underWay post (1, lf, ck, sc, di, a1, a2, a3, a4, a5, a6, a7, a8, a9, a10, a11, a12, a13, a14, a15, a16, a17, a18, a19, a20, a21, a22, a23, a24, a25) := by
  have e : (4 : Int32) * nI to + 0 = nI (4 * to) := by rw [wn_4, wn_p0]
  unfold wpX_underWay
  dsimp only
  refine Exists.elim (pk_loop (σ := Unit) (fun f i _ => wX_underWay_6 post 1 lf ck sc di a1 a2 a3 a4 a5 a6 a7 a8 a9 a10 a11 a12 a13 a14 a15 a16 a17 a18 a19 a20 a21 a22 a23 a24 a25 f (if to < i then nI d else 2048) (nI i)) (fun _ _ => True) 4 0 () (by omega) trivial ?_ ?_) (fun f hf => ?_)
  rotate_left 2
  · refine ⟨f, ?_⟩
    rw [if_neg (by omega)] at hf
    exact hf
  · intro f _ _
    rw [if_pos hto]
    exact pk_le 4 4 (fun _ => pk_eq d 2048 (fun z => absurd z (by omega)) (fun _ => H)) (fun z => absurd z (by omega))
  · intro f i _ hi _ hw
    have hcl := nI_clamp (show i < 2 ^ 31 by omega)
    have hw' := hw () trivial
    refine pk_le 4 i (fun z => absurd z (by omega)) (fun _ => br_t rfl ⟨pk_in i 5 (by omega), ?_⟩)
    rw [hcl, h15 i hi]
    by_cases e2 : i = to
    · rw [if_pos e2]
      rw [if_pos (by omega)] at hw'
      subst e2
      have hcl4 := nI_clamp (show 4 * i < 2 ^ 31 by omega)
      rw [if_neg (by omega), h16, e, hcl4, h7]
      exact br_t rfl ⟨pk_in i 5 (by omega), pk_in (4 * i) 20 (by omega), nm_e (pk_le 2048 d (fun z => absurd z (by omega)) (fun _ => nm_r (nI_1 i) hw'))⟩
    · rw [if_neg e2]
      refine br_f (by decide) (nm_r (nI_1 i) ?_)
      by_cases e3 : to < i
      · rw [if_pos e3]
        rw [if_pos (by omega)] at hw'
        exact hw'
      · rw [if_neg e3]
        rw [if_neg (by omega)] at hw'
        exact hw'
theorem wn_cancel0 {post : Int32 → St2 → Prop} {b x z : Int32} (hr : wn_rg b x 2048) (hz : wn_if b z (-2) (-1)) (h6 : ∀ n, n < 4 → a6 n = 0) (H : post z (ph, lf, ck, sc, di, a1, a2, a3, a4, a5, a6, a7, a8, a9, a10, a11, a12, a13, a14, a15, a16, a17, a18, a19, a20, a21, a22, a23, a24, a25)) : wpX_cancel post (ph, lf, ck, sc, di, a1, a2, a3, a4, a5, a6, a7, a8, a9, a10, a11, a12, a13, a14, a15, a16, a17, a18, a19, a20, a21, a22, a23, a24, a25) x := by
  unfold wpX_cancel
  dsimp only
  rcases hr with ⟨hb, j, hj, rfl⟩ | ⟨hb, hx⟩
  · rw [hz.1 hb] at H
    exact wn_11t hj (br_f (by decide) (wn_place0 h6 (br_f (by decide) H)))
  · rw [hz.2 hb] at H
    exact wn_11f hx (br_t rfl H)
theorem wn_cancel1 {post : Int32 → St2 → Prop} {to d : Nat} (hto : to < 4) (hd : d < 2048) (h6 : ∀ n, n < 4 → a6 n = if n = to then 1 else 0) (h15 : ∀ n, n < 4 → a15 n = if n = to then 1 else 2) (h16 : a16 to = 0) (h7 : a7 (4 * to) = nI d) (H : post (-5) (1, lf, ck, sc, di, a1, a2, a3, a4, a5, a6, a7, a8, a9, a10, a11, a12, a13, a14, a15, a16, a17, a18, a19, a20, a21, a22, a23, a24, a25)) : wpX_cancel post (1, lf, ck, sc, di, a1, a2, a3, a4, a5, a6, a7, a8, a9, a10, a11, a12, a13, a14, a15, a16, a17, a18, a19, a20, a21, a22, a23, a24, a25) (nI d) := by
  unfold wpX_cancel
  dsimp only
  exact wn_11t hd (br_f (by decide) (wn_place1 hto h6 h7 (br_t (nI_pos' (by omega)) (wn_under1 hto hd h15 h16 h7 (br_t rfl H)))))
theorem wn_updc {a : Nat → Int32} {j : Nat} {v : Int32} (h : ∀ n, n < 4 → a n = v) : ∀ n, n < 4 → upd a j v n = v := by
  intro n hn
  by_cases e : n = j
  · rw [e, pk_us]
  · rw [pk_un e]
    exact h n hn
theorem wn_restart0 {post : Int32 → St2 → Prop} {b x z : Int32} (hr : wn_rg b x 4) (hz : wn_if b z 0 (-1)) (h1 : ∀ n, n < 4 → a1 n = 1) (h2 : ∀ n, n < 4 → a2 n = 0) (h3 : ∀ n, n < 4 → a3 n = 0)
    (H : ∀ b1 b2 b3 : Nat → Int32, (∀ n, n < 4 → b1 n = 1) → (∀ n, n < 4 → b2 n = 0) → (∀ n, n < 4 → b3 n = 0) → post z (0, lf, ck, sc, di, b1, b2, b3, a4, a5, a6, a7, a8, a9, a10, a11, a12, a13, a14, a15, a16, a17, a18, a19, a20, a21, a22, a23, a24, a25)) : wpX_restart post (0, lf, ck, sc, di, a1, a2, a3, a4, a5, a6, a7, a8, a9, a10, a11, a12, a13, a14, a15, a16, a17, a18, a19, a20, a21, a22, a23, a24, a25) x := by
  unfold wpX_restart
  dsimp only
  rcases hr with ⟨hb, j, hj, rfl⟩ | ⟨hb, hx⟩
  · have hcl := nI_clamp (show j < 2 ^ 31 by omega)
    have hi := pk_in j 4 hj
    rw [hz.1 hb] at H
    rw [hcl, h1 j hj]
    refine wn_nt hj (br_f (by decide) (br_f (by decide) (br_f (by decide) ⟨hi, br_f (by decide) ?_⟩)))
    unfold wX_restart_42
    rw [hcl]
    exact ⟨hi, nm_e ⟨hi, nm_e ⟨hi, nm_e (H _ _ _ (wn_updc h1) (wn_updc h2) (wn_updc h3))⟩⟩⟩
  · rw [hz.2 hb] at H
    exact wn_nf hx (br_t rfl (H _ _ _ h1 h2 h3))
theorem wn_restart1 {post : Int32 → St2 → Prop} {j : Nat} (hj : j < 4) (H : post (-5) (1, lf, ck, sc, di, a1, a2, a3, a4, a5, a6, a7, a8, a9, a10, a11, a12, a13, a14, a15, a16, a17, a18, a19, a20, a21, a22, a23, a24, a25)) : wpX_restart post (1, lf, ck, sc, di, a1, a2, a3, a4, a5, a6, a7, a8, a9, a10, a11, a12, a13, a14, a15, a16, a17, a18, a19, a20, a21, a22, a23, a24, a25) (nI j) := by
  unfold wpX_restart
  dsimp only
  exact wn_nt hj (br_f (by decide) (br_t rfl H))
theorem wn_filter1 {post : Int32 → St2 → Prop} {b b1 b2 x x1 x2 : Int32} (hr : wn_rg b x 4) (hr1 : wn_rg b1 x1 2048) (hr2 : wn_rg b2 x2 2048) (h4 : ∀ n, n < 4 → a4 n = 0)
    (H : ∀ (z : Int32) (c4 c5 : Nat → Int32), (b = 1 → b1 = 1 → b2 = 1 → z = 0) → (b = 0 ∨ b1 = 0 ∨ b2 = 0 → z = -1) → (∀ n, n < 4 → ¬ nI n = x → c4 n = 0) → post z (ph, lf, ck, sc, di, a1, a2, a3, c4, c5, a6, a7, a8, a9, a10, a11, a12, a13, a14, a15, a16, a17, a18, a19, a20, a21, a22, a23, a24, a25)) : wpX_filter post (ph, lf, ck, sc, di, a1, a2, a3, a4, a5, a6, a7, a8, a9, a10, a11, a12, a13, a14, a15, a16, a17, a18, a19, a20, a21, a22, a23, a24, a25) x x1 x2 := by
  have ne : ¬ (1 : Int32) = 0 := by decide
  unfold wpX_filter
  dsimp only
  rcases hr with ⟨hb, j, hj, rfl⟩ | ⟨hb, hx⟩
  · refine wn_nt hj (br_f (by decide) ?_)
    rcases hr1 with ⟨hb1, j1, hj1, rfl⟩ | ⟨hb1, hx1⟩
    · refine wn_11t hj1 (br_f (by decide) ?_)
      rcases hr2 with ⟨hb2, j2, hj2, rfl⟩ | ⟨hb2, hx2⟩
      · have hcl := nI_clamp (show j < 2 ^ 31 by omega)
        have hi := pk_in j 4 hj
        refine wn_11t hj2 (br_f (by decide) ⟨hi, nm_e ⟨hi, nm_e (H 0 _ _ (fun _ _ _ => rfl) (fun z => ?_) (fun n hn hne => ?_))⟩⟩)
        · rcases z with z | z | z
          · exact absurd (hb.symm.trans z) ne
          · exact absurd (hb1.symm.trans z) ne
          · exact absurd (hb2.symm.trans z) ne
        · rw [hcl, pk_un (fun e => hne (by rw [e]))]
          exact h4 n hn
      · exact wn_11f hx2 (br_t rfl (H (-1) _ _ (fun _ _ z => absurd (z.symm.trans hb2) ne) (fun _ => rfl) (fun n hn _ => h4 n hn)))
    · exact wn_11f hx1 (br_t rfl (H (-1) _ _ (fun _ z _ => absurd (z.symm.trans hb1) ne) (fun _ => rfl) (fun n hn _ => h4 n hn)))
  · exact wn_nf hx (br_t rfl (H (-1) _ _ (fun z _ _ => absurd (z.symm.trans hb) ne) (fun _ => rfl) (fun n hn _ => h4 n hn)))
theorem wn_filter2 {post : Int32 → St2 → Prop} {b x z : Int32} (hr : wn_rg b x 4) (hz : wn_if b z 0 (-1)) (h4 : ∀ n, n < 4 → ¬ nI n = x → a4 n = 0)
    (H : ∀ c4 c5 : Nat → Int32, (∀ n, n < 4 → c4 n = 0) → post z (ph, lf, ck, sc, di, a1, a2, a3, c4, c5, a6, a7, a8, a9, a10, a11, a12, a13, a14, a15, a16, a17, a18, a19, a20, a21, a22, a23, a24, a25)) : wpX_filter post (ph, lf, ck, sc, di, a1, a2, a3, a4, a5, a6, a7, a8, a9, a10, a11, a12, a13, a14, a15, a16, a17, a18, a19, a20, a21, a22, a23, a24, a25) x 0 0 := by
  unfold wpX_filter
  dsimp only
  rcases hr with ⟨hb, j, hj, rfl⟩ | ⟨hb, hx⟩
  · have hcl := nI_clamp (show j < 2 ^ 31 by omega)
    have hi := pk_in j 4 hj
    rw [hz.1 hb] at H
    refine wn_nt hj (br_f (by decide) (wn_11t (j := 0) (by decide) (br_f (by decide) (wn_11t (j := 0) (by decide) (br_f (by decide) ⟨hi, nm_e ⟨hi, nm_e (H _ _ (fun n hn => ?_))⟩⟩)))))
    rw [hcl]
    by_cases e : n = j
    · rw [e, pk_us]
    · rw [pk_un e]
      exact h4 n hn (fun z => e ((nI_eq (by omega) (by omega)).mp z))
  · rw [hz.2 hb] at H
    refine wn_nf hx (br_t rfl (H _ _ (fun n hn => h4 n hn (fun z => ?_))))
    rcases hx with hx | hx
    · exact nI_pos (n := n) (by omega) (by rw [z]; exact hx)
    · exact nI_ge hn (by decide) (by rw [z]; exact hx)
theorem wn_postX {post : Int32 → St2 → Prop} {x y : Int32} {v : Int64} (h : (x < 0 ∨ nI 8192 ≤ x) ∨ (y < 0 ∨ nI 9 ≤ y)) (H : post (-1) (ph, lf, ck, sc, di, a1, a2, a3, a4, a5, a6, a7, a8, a9, a10, a11, a12, a13, a14, a15, a16, a17, a18, a19, a20, a21, a22, a23, a24, a25)) : wpX_post post (ph, lf, ck, sc, di, a1, a2, a3, a4, a5, a6, a7, a8, a9, a10, a11, a12, a13, a14, a15, a16, a17, a18, a19, a20, a21, a22, a23, a24, a25) x y v := by
  unfold wpX_post
  dsimp only
  rcases h with (h | h) | (h | h)
  · exact br_t h H
  · exact br_c (fun _ => H) (fun _ => br_t h H)
  · exact br_c (fun _ => H) (fun _ => br_c (fun _ => H) (fun _ => br_t h H))
  · exact br_c (fun _ => H) (fun _ => br_c (fun _ => H) (fun _ => br_c (fun _ => H) (fun _ => br_f (wn_98 h) H)))
theorem wn_post1 {post : Int32 → St2 → Prop} {c l w : Nat} (hc : c < 8192) (hl : l ≤ 8) (hw : w < 2 ^ 64) (h6 : ∀ n, n < 4 → a6 n = 0)
    (H : ∀ (b6 b7 b8 : Nat → Int32) (b9 : Nat → Int64), (∀ n, n < 4 → b6 n = if n = c / 2048 then 1 else 0) → b7 (4 * (c / 2048)) = nI (c % 2048) → b8 (4 * (c / 2048)) = nI l → b9 (4 * (c / 2048)) = lN (w % 2 ^ (8 * l)) → post 1 (ph, lf, ck, sc, di, a1, a2, a3, a4, a5, b6, b7, b8, b9, a10, a11, a12, a13, a14, a15, a16, a17, a18, a19, a20, a21, a22, a23, a24, a25)) : wpX_post post (ph, lf, ck, sc, di, a1, a2, a3, a4, a5, a6, a7, a8, a9, a10, a11, a12, a13, a14, a15, a16, a17, a18, a19, a20, a21, a22, a23, a24, a25) (nI c) (nI l) (lN w) := by
  have hto : c / 2048 < 4 := by omega
  have hcl := nI_clamp (show c / 2048 < 2 ^ 31 by omega)
  have hi := pk_in (c / 2048) 5 (by omega)
  have e : (4 : Int32) * nI (c / 2048) + 0 = nI (4 * (c / 2048)) := by rw [wn_4, wn_p0]
  have n0 : ¬ (2048 : Int32) = 0 := by decide
  unfold wpX_post
  dsimp only
  refine pk_lt c 0 (fun z => absurd z (by omega)) (fun _ => pk_le 8192 c (fun z => absurd z (by omega)) (fun _ => pk_lt l 0 (fun z => absurd z (by omega)) (fun _ => pk_le l 8 (fun _ => ⟨n0, nm_r (pk_div (d := 2048) (by omega) (by decide) (by decide)) ⟨n0, nm_r (pk_rem (d := 2048) (by omega) (by decide) (by decide)) (wn_place0 h6 (br_t (by decide) ⟨hi, ?_⟩))⟩⟩) (fun z => absurd z (by omega)))))
  rw [hcl, h6 _ hto, e]
  refine br_t (by decide) ⟨hi, wn_setFrame (by omega) hl hw (fun b7 b8 b9 u7 u8 u9 => ⟨hi, hi, nm_e ⟨hi, ?_⟩⟩)⟩
  dsimp only
  rw [pk_us, h6 _ hto, show (0 : Int32) + 1 = 1 by decide]
  refine H _ _ _ _ (fun n hn => ?_) u7.1 u8.1 u9.1
  by_cases en : n = c / 2048
  · rw [en, pk_us, if_pos rfl]
  · rw [pk_un en, if_neg en]
    exact h6 n hn
theorem wn_post2 {post : Int32 → St2 → Prop} {c l : Nat} {v : Int64} (hc : c < 8192) (hl : l ≤ 8) (h6 : ∀ n, n < 4 → a6 n = if n = c / 2048 then 1 else 0) (h7 : a7 (4 * (c / 2048)) = nI (c % 2048)) (H : post (-4) (ph, lf, ck, sc, di, a1, a2, a3, a4, a5, a6, a7, a8, a9, a10, a11, a12, a13, a14, a15, a16, a17, a18, a19, a20, a21, a22, a23, a24, a25)) : wpX_post post (ph, lf, ck, sc, di, a1, a2, a3, a4, a5, a6, a7, a8, a9, a10, a11, a12, a13, a14, a15, a16, a17, a18, a19, a20, a21, a22, a23, a24, a25) (nI c) (nI l) v := by
  have hto : c / 2048 < 4 := by omega
  have n0 : ¬ (2048 : Int32) = 0 := by decide
  unfold wpX_post
  dsimp only
  exact pk_lt c 0 (fun z => absurd z (by omega)) (fun _ => pk_le 8192 c (fun z => absurd z (by omega)) (fun _ => pk_lt l 0 (fun z => absurd z (by omega)) (fun _ => pk_le l 8 (fun _ => ⟨n0, nm_r (pk_div (d := 2048) (by omega) (by decide) (by decide)) ⟨n0, nm_r (pk_rem (d := 2048) (by omega) (by decide) (by decide)) (wn_place1 hto h6 h7 (br_f (nI_pos (by omega)) H))⟩⟩) (fun z => absurd z (by omega)))))
end
end
section
section
variable {ph lf ck sc di : Int32} {a1 a2 a3 a4 a5 a6 a7 a8 : Nat → Int32} {a9 : Nat → Int64} {a10 a11 a12 : Nat → Int32} {a13 : Nat → Int64} {a14 a15 a16 a17 a18 a19 a20 a21 a22 : Nat → Int32} {a23 : Nat → Int64} {a24 a25 : Nat → Int32}
theorem wn_frameAtN {post : Int32 → Prop} {j : Nat} {y : Int32} (hj : j < 4) (h : a10 j = 0) (H : post (-2)) : wpX_frameAt post (ph, lf, ck, sc, di, a1, a2, a3, a4, a5, a6, a7, a8, a9, a10, a11, a12, a13, a14, a15, a16, a17, a18, a19, a20, a21, a22, a23, a24, a25) (nI j) y := by
  unfold wpX_frameAt
  dsimp only
  exact wn_nt hj (br_f (by decide) (wn_there0 hj h (br_t rfl H)))
theorem wn_dataAtN {post : Int64 → Prop} {j : Nat} {y : Int32} (hj : j < 4) (h : a10 j = 0) (H : post 0) : wpX_dataAt post (ph, lf, ck, sc, di, a1, a2, a3, a4, a5, a6, a7, a8, a9, a10, a11, a12, a13, a14, a15, a16, a17, a18, a19, a20, a21, a22, a23, a24, a25) (nI j) y := by
  unfold wpX_dataAt
  dsimp only
  exact wn_there0 hj h (br_t rfl H)
theorem wn_nxt (to : Nat) (h : to < 4) : (nI to + 1) &&& 3 = nI ((to + 1) % 4) := by
  rw [nI_1]
  exact pk_andN (by omega) 2 (by decide)
theorem wn_L1063 {post : Int32 → St0 → Prop} {mc ms kc ks : Nat} (hph : ¬ ph = 1) (H1 : post 1 ()) : wL_lawOf_1063 post mc ms kc ks ph lf ck sc di a1 a2 a3 a4 a5 a6 a7 a8 a9 a10 a11 a12 a13 a14 a15 a16 a17 a18 a19 a20 a21 a22 a23 a24 a25 := by
  unfold wL_lawOf_1063
  exact wn_runX (Or.inr (by decide)) (br_t rfl (wn_runX (Or.inl (by decide)) (br_t rfl (wn_under0 hph (br_t rfl H1)))))
theorem wn_L1043 {post : Int32 → St0 → Prop} {mc ms kc ks to : Nat} {z0 z1 z2 : Int32} (hto : to < 4) (hph : ¬ ph = 1) (h10 : a10 ((to + 1) % 4) = 0) (hz : z2 = z1 + z0) (H1 : post 1 ()) : wL_lawOf_1043 post mc ms (nI to) z0 z1 z2 kc ks ph lf ck sc di a1 a2 a3 a4 a5 a6 a7 a8 a9 a10 a11 a12 a13 a14 a15 a16 a17 a18 a19 a20 a21 a22 a23 a24 a25 := by
  unfold wL_lawOf_1043
  rw [wn_nxt to hto]
  exact br_t hz (wn_receivedN (by omega) (br_t h10 (wn_L1063 hph H1)))
theorem wn_L846 {post : Int32 → St0 → Prop} {mc ms kc ks to d l w F N D : Nat} {x8 x16 : Int32} (hto : to < 4) (hd : d < 2048) (hl : l ≤ 8) (hD : D + 3 < 2 ^ 31) (h6 : ∀ n, n < 4 → a6 n = 0) (h10 : ∀ n, n < 4 → a10 n = if n = to then 0 else 1) (h11 : ∀ n, n < 4 → n ≠ to → a11 (6 * n) = nI d ∧ a12 (6 * n) = nI l ∧ a13 (6 * n) = lN w) (hL : (x16 = 0 → l = 0) ∧ (¬ x16 = 0 → x8 = nI l)) (H1 : post 1 ()) : ∃ fu, wL_lawOf_846 post mc ms x8 x16 (nI to) (nI d) (nI F) (nI (N + 10)) (lN w) kc ks 3 3 (nI (F + (N + 10))) 1 (nI (D + 3)) a1 a2 a3 a4 a5 a6 a7 a8 a9 a10 a11 a12 a13 a14 a15 a16 a17 a18 a19 a20 a21 a22 a23 a24 a25 fu 0 := by
  have eL : 16 * nI d + nI l = 16 * nI d + (if x16 = 0 then 0 else x8) := by
    by_cases e : x16 = 0
    · rw [if_pos e, hL.1 e]
      rfl
    · rw [if_neg e, hL.2 e]
  refine pk_loop (σ := Unit) (fun f i _ => wL_lawOf_846 post mc ms x8 x16 (nI to) (nI d) (nI F) (nI (N + 10)) (lN w) kc ks 3 3 (nI (F + (N + 10))) 1 (nI (D + 3)) a1 a2 a3 a4 a5 a6 a7 a8 a9 a10 a11 a12 a13 a14 a15 a16 a17 a18 a19 a20 a21 a22 a23 a24 a25 f (nI i)) (fun _ _ => True) 4 0 () (by omega) trivial ?_ ?_
  · intro f _ _
    have hne : (to + 1) % 4 ≠ to := by omega
    have hj : (to + 1) % 4 < 4 := by omega
    have ht : nI (F + (N + 10) + 2 + 1) = (nI F + nI (N + 10)) + 3 := by
      rw [nI_add]
      exact (nI_add _ 3).symm
    refine pk_le 4 4 (fun _ => ?_) (fun z => absurd z (by omega))
    refine wn_runP2 (D := D + 1) (by omega) (br_t rfl (br_t rfl ?_))
    refine wn_runP1 (by omega) (br_t rfl (br_t rfl (br_t ht (br_t rfl ?_))))
    rw [wn_nxt to hto]
    refine wn_take1 hj hd hl (by rw [h10 _ hj, if_neg hne]) (h11 _ hj hne).1 (h11 _ hj hne).2.1 (fun b10 u10 => ?_)
    refine br_c (fun z => ?_) (fun z => ?_)
    · exact wn_L1043 hto (by decide) u10.1 (by rw [eL, if_pos z]) H1
    · exact wn_L1043 hto (by decide) u10.1 (by rw [eL, if_neg z]) H1
  · intro f i _ hi _ hw
    have hw' := hw () trivial
    refine pk_le 4 i (fun z => absurd z (by omega)) (fun _ => wn_receivedN hi ?_)
    by_cases e : i = to
    · have ee : nI i = nI to := by rw [e]
      have h0 : a10 i = 0 := by rw [h10 i hi, if_pos e]
      refine br_t ee ?_
      unfold wL_lawOf_871
      refine br_t h0 (wn_frameAtN hi h0 (br_t ee ?_))
      unfold wL_lawOf_911
      refine br_t rfl (wn_dataAtN hi h0 (br_t ee ?_))
      unfold wL_lawOf_935
      exact br_t rfl (wn_waitingN hi (br_t (h6 i hi) (nm_r (nI_1 i) hw')))
    · have ee : ¬ nI i = nI to := fun z => e ((nI_eq (by omega) (by omega)).mp z)
      have h1 : a10 i = 1 := by rw [h10 i hi, if_neg e]
      obtain ⟨k11, k12, k13⟩ := h11 i hi e
      refine br_f ee ?_
      unfold wL_lawOf_871
      refine br_t h1 (wn_frameAt1 hi h1 k11 k12 (br_f ee ?_))
      have F9 : ∀ z : Int32, z = 16 * nI d + nI l → wL_lawOf_911 post mc ms (wL_lawOf_846 post mc ms x8 x16 (nI to) (nI d) (nI F) (nI (N + 10)) (lN w) kc ks 3 3 (nI (F + (N + 10))) 1 (nI (D + 3)) a1 a2 a3 a4 a5 a6 a7 a8 a9 a10 a11 a12 a13 a14 a15 a16 a17 a18 a19 a20 a21 a22 a23 a24 a25 f) x8 x16 (nI to) (nI d) (nI F) (nI (N + 10)) (lN w) (nI i) z (16 * nI d + nI l) kc ks 3 3 (nI (F + (N + 10))) 1 (nI (D + 3)) a1 a2 a3 a4 a5 a6 a7 a8 a9 a10 a11 a12 a13 a14 a15 a16 a17 a18 a19 a20 a21 a22 a23 a24 a25 := by
        intro z hz
        unfold wL_lawOf_911
        refine br_t hz.symm (wn_dataAt1 hi h1 k13 (br_f ee ?_))
        unfold wL_lawOf_935
        exact br_t rfl (wn_waitingN hi (br_t (h6 i hi) (nm_r (nI_1 i) hw')))
      refine br_c (fun z => ?_) (fun z => ?_)
      · exact F9 _ (by rw [eL, if_pos z])
      · exact F9 _ (by rw [eL, if_neg z])
theorem wn_L693 {post : Int32 → St0 → Prop} {mc ms kc ks to d l w0 F : Nat} {x8 x16 : Int32} (hto : to < 4) (hd : d < 2048) (hl : l ≤ 8) (hw : w0 < 2 ^ 64) (hL : (x16 = 0 → l = 0) ∧ (¬ x16 = 0 → x8 = nI l))
    (h1 : ∀ n, n < 4 → a1 n = 1) (h2 : ∀ n, n < 4 → a2 n = 0) (h3 : ∀ n, n < 4 → a3 n = 0) (h4 : ∀ n, n < 4 → a4 n = 0) (h6 : ∀ n, n < 4 → a6 n = if n = to then 1 else 0) (h10 : ∀ n, n < 4 → a10 n = 0) (h7 : a7 (4 * to) = nI d) (h8 : a8 (4 * to) = nI l) (h9 : a9 (4 * to) = lN (w0 % 2 ^ (8 * l))) (H1 : post 1 ()) : wL_lawOf_693 post mc ms (lN w0) x8 x16 (nI to) (nI d) (nI F) (nI l) (nI d) kc ks 0 lf (nI F) 0 di a1 a2 a3 a4 a5 a6 a7 a8 a9 a10 a11 a12 a13 a14 a15 a16 a17 a18 a19 a20 a21 a22 a23 a24 a25 := by
  obtain ⟨N, hN⟩ := wn_N d l (w0 % 2 ^ (8 * l)) hl
  have hN : wn_tl d l (w0 % 2 ^ (8 * l)) N := hN
  have ok : wn_ok d l (w0 % 2 ^ (8 * l)) := ⟨hd, hl, Nat.mod_lt _ (Nat.two_pow_pos _)⟩
  have n16 : 4 * to ≠ 16 := by omega
  unfold wL_lawOf_693
  refine wn_bitsOf hd hl hw hN (fun b7 b8 b9 b15 b16 b17 b18 b19 b20 b21 b22 b23 b24 b25 k7 k8 k9 k15 k16 hsm => ?_)
  have m7 : b7 (4 * to) = nI d := (k7 _ n16).trans h7
  have m8 : b8 (4 * to) = nI l := (k8 _ n16).trans h8
  have m9 : b9 (4 * to) = lN (w0 % 2 ^ (8 * l)) := (k9 _ n16).trans h9
  have w1 : a6 to = 1 := by rw [h6 to hto, if_pos rfl]
  refine wn_waitingN hto (br_t w1 (br_t rfl ?_))
  refine br_f (by decide) (br_t (by decide) (br_t rfl ?_))
  refine wn_runB (D := 999) hto ok (by decide) (by decide) h1 h6 m7 m8 m9 (fun c15 c16 c17 c18 c19 c20 c21 c22 c23 c24 c25 l15 l16 lc => br_t rfl (br_t rfl ?_))
  refine wn_under1 hto hd l15 (l16 to hto) m7 (br_t rfl ?_)
  refine wn_cancel1 hto hd h6 l15 (l16 to hto) m7 (br_t rfl ?_)
  refine wn_restart1 hto (br_t rfl ?_)
  rw [nI_1, nI_pred (N + 9)]
  refine wn_runF hto ok hN h2 h3 h4 h6 h10 l15 (l16 to hto) m7 m8 m9 lc (fun E e2 e3 e6 e10 e11 e12 e13 e15 e16 e17 e18 e19 e20 e21 e22 e23 e24 e25 hE hE2 m6 m10 m11 => br_t rfl (br_t rfl ?_))
  rw [show F + 1 + (N + 9) = F + (N + 10) by omega, show E = (E - 3) + 3 by omega]
  have fin : ∃ fu, wL_lawOf_846 post mc ms x8 x16 (nI to) (nI d) (nI F) (nI (N + 10)) (lN (w0 % 2 ^ (8 * l))) kc ks 3 3 (nI (F + (N + 10))) 1 (nI ((E - 3) + 3)) a1 e2 e3 a4 a5 e6 b7 b8 b9 e10 e11 e12 e13 a14 e15 e16 e17 e18 e19 e20 e21 e22 e23 e24 e25 fu 0 := wn_L846 hto hd hl (by omega) m6 m10 m11 hL H1
  refine br_c (fun z => ?_) (fun z => br_c (fun z2 => ?_) (fun z2 => br_c (fun z3 => ?_) (fun z3 => ?_)))
  · rw [hL.1 z, Nat.mul_zero, Nat.pow_zero, Nat.mod_one] at fin
    exact fin
  · have l0 : l = 0 := (nI_eq (by omega) (by decide)).mp ((hL.2 z).symm.trans z2)
    rw [l0, Nat.mul_zero, Nat.pow_zero, Nat.mod_one] at fin
    exact fin
  · have l8 : l = 8 := (nI_eq (by omega) (by decide)).mp ((hL.2 z).symm.trans z3)
    rw [l8, Nat.mod_eq_of_lt (show w0 < 2 ^ (8 * 8) from hw)] at fin
    exact fin
  · have l8 : l ≠ 8 := fun e => z3 ((hL.2 z).trans (by rw [e]; rfl))
    rw [hL.2 z] at fin ⊢
    exact nm_r (wn_cut hw (by omega)) fin
theorem wn_L656 {post : Int32 → St0 → Prop} {mc ms kc ks c l w0 F : Nat} {x8 x16 : Int32} (hc : c < 8192) (hl : l ≤ 8) (hw : w0 < 2 ^ 64) (hL : (x16 = 0 → l = 0) ∧ (¬ x16 = 0 → x8 = nI l))
    (h1 : ∀ n, n < 4 → a1 n = 1) (h2 : ∀ n, n < 4 → a2 n = 0) (h3 : ∀ n, n < 4 → a3 n = 0) (h4 : ∀ n, n < 4 → a4 n = 0) (h6 : ∀ n, n < 4 → a6 n = if n = c / 2048 then 1 else 0) (h10 : ∀ n, n < 4 → a10 n = 0) (h7 : a7 (4 * (c / 2048)) = nI (c % 2048)) (h8 : a8 (4 * (c / 2048)) = nI l) (h9 : a9 (4 * (c / 2048)) = lN (w0 % 2 ^ (8 * l))) (H1 : post 1 ()) : wL_lawOf_656 post mc ms (lN w0) (nI c) x8 x16 (nI (c / 2048)) 1 kc ks 0 lf (nI F) 0 di a1 a2 a3 a4 a5 a6 a7 a8 a9 a10 a11 a12 a13 a14 a15 a16 a17 a18 a19 a20 a21 a22 a23 a24 a25 := by
  unfold wL_lawOf_656
  refine ⟨by decide, nm_r (pk_rem (d := 2048) (by omega) (by decide) (by decide)) (br_f (by decide) (br_c (fun z => ?_) (fun z => ?_)))⟩
  · have e := hL.1 z
    subst e
    exact wn_L693 (by omega) (by omega) hl hw hL h1 h2 h3 h4 h6 h10 h7 h8 h9 H1
  · have t := wn_L693 (post := post) (mc := mc) (ms := ms) (kc := kc) (ks := ks) (F := F) (lf := lf) (di := di) (a5 := a5) (a11 := a11) (a12 := a12) (a13 := a13) (a14 := a14) (a15 := a15) (a16 := a16) (a17 := a17) (a18 := a18) (a19 := a19) (a20 := a20) (a21 := a21) (a22 := a22) (a23 := a23) (a24 := a24) (a25 := a25) (by omega) (by omega) hl hw hL h1 h2 h3 h4 h6 h10 h7 h8 h9 H1
    rw [hL.2 z] at t ⊢
    exact t
theorem wn_L540 {post : Int32 → St0 → Prop} {mc ms kc ks w0 F : Nat} {x7 x8 x11 : Int32} (hw : w0 < 2 ^ 64) (hr : wn_rg x11 x8 9)
    (h1 : ∀ n, n < 4 → a1 n = 1) (h2 : ∀ n, n < 4 → a2 n = 0) (h3 : ∀ n, n < 4 → a3 n = 0) (h4 : ∀ n, n < 4 → a4 n = 0) (h6 : ∀ n, n < 4 → a6 n = 0) (h10 : ∀ n, n < 4 → a10 n = 0) (H1 : post 1 ()) : wL_lawOf_540 post mc ms (lN w0) x7 x8 x11 kc ks 0 lf (nI F) 0 di a1 a2 a3 a4 a5 a6 a7 a8 a9 a10 a11 a12 a13 a14 a15 a16 a17 a18 a19 a20 a21 a22 a23 a24 a25 := by
  have n0 : ¬ (2048 : Int32) = 0 := by decide
  have bad : (x7 < 0 ∨ nI 8192 ≤ x7) → wL_lawOf_562 post mc ms (lN w0) x7 x8 kc ks 0 lf (nI F) 0 di a1 a2 a3 a4 a5 a6 a7 a8 a9 a10 a11 a12 a13 a14 a15 a16 a17 a18 a19 a20 a21 a22 a23 a24 a25 := by
    intro hx
    unfold wL_lawOf_562
    unfold wL_lawOf_563
    refine ⟨n0, nm_e (wn_postX (Or.inl hx) (br_t rfl ?_))⟩
    unfold wL_lawOf_593
    refine br_t rfl (wn_postX (Or.inl hx) ?_)
    have t56 : ∀ x17 : Int32, wL_lawOf_656 post mc ms (lN w0) x7 x8 0 x17 0 kc ks 0 lf (nI F) 0 di a1 a2 a3 a4 a5 a6 a7 a8 a9 a10 a11 a12 a13 a14 a15 a16 a17 a18 a19 a20 a21 a22 a23 a24 a25 := by
      intro x17
      unfold wL_lawOf_656
      exact ⟨n0, nm_e (br_t rfl (wn_L1063 (by decide) H1))⟩
    have t32 : wL_lawOf_632 post mc ms (lN w0) x7 x8 0 (x7 / 2048) (-1) kc ks 0 lf (nI F) 0 di a1 a2 a3 a4 a5 a6 a7 a8 a9 a10 a11 a12 a13 a14 a15 a16 a17 a18 a19 a20 a21 a22 a23 a24 a25 := by
      unfold wL_lawOf_632
      unfold wL_lawOf_633
      refine br_t rfl ?_
      rcases hx with hx | hx
      · exact br_t hx (t56 _)
      · exact br_c (fun _ => t56 _) (fun _ => br_t hx (t56 _))
    rcases hx with hx | hx
    · exact br_t hx t32
    · exact br_c (fun _ => t32) (fun _ => br_t hx t32)
  unfold wL_lawOf_540
  rcases pk_ix x7 (n := 8192) (by decide) with hx | hx | ⟨c, hc, rfl⟩
  · exact br_t hx (bad (Or.inl hx))
  · exact br_c (fun z => bad (Or.inl z)) (fun _ => br_t hx (bad (Or.inr hx)))
  · have c0 : ¬ nI c < 0 := nI_pos (by omega)
    have c1 : ¬ (8192 : Int32) ≤ nI c := nI_ge (b := 8192) hc (by decide)
    have ediv : nI c / 2048 = nI (c / 2048) := pk_div (d := 2048) (by omega) (by decide) (by decide)
    refine br_f c0 (br_f c1 ?_)
    rcases hr with ⟨hb, l, hl, rfl⟩ | ⟨hb, hx⟩
    · rw [hb]
      refine br_f (by decide) ?_
      unfold wL_lawOf_563
      refine ⟨n0, nm_r ediv (wn_post1 hc (by omega) hw h6 (fun b6 b7 b8 b9 k6 k7 k8 k9 => br_f (by decide) ?_))⟩
      unfold wL_lawOf_593
      refine br_t rfl (wn_post2 (l := 0) hc (by decide) k6 k7 (br_f c0 (br_f c1 (br_f (by decide) ?_))))
      unfold wL_lawOf_633
      exact br_t rfl (br_f c0 (br_f c1 (wn_L656 hc (by omega) hw ⟨fun z => absurd z (by decide), fun _ => rfl⟩ h1 h2 h3 h4 k6 h10 k7 k8 k9 H1)))
    · rw [hb]
      refine br_t rfl ?_
      unfold wL_lawOf_562
      unfold wL_lawOf_563
      refine ⟨n0, nm_r ediv (wn_postX (Or.inr hx) (br_t rfl ?_))⟩
      unfold wL_lawOf_593
      refine br_t rfl (wn_post1 (l := 0) (w := 0) hc (by decide) (by decide) h6 (fun b6 b7 b8 b9 k6 k7 k8 k9 => br_f c0 (br_f c1 (br_t rfl ?_))))
      unfold wL_lawOf_633
      refine br_t rfl (br_f c0 (br_f c1 (wn_L656 (l := 0) hc (by decide) hw ⟨fun _ => rfl, fun z => absurd rfl z⟩ h1 h2 h3 h4 k6 h10 k7 k8 ?_ H1)))
      rw [k9]
      rw [Nat.mul_zero, Nat.pow_zero, Nat.mod_one, Nat.mod_one]
end
end
section
section
variable {ph lf ck sc di : Int32} {a1 a2 a3 a4 a5 a6 a7 a8 : Nat → Int32} {a9 : Nat → Int64} {a10 a11 a12 : Nat → Int32} {a13 : Nat → Int64} {a14 a15 a16 a17 a18 a19 a20 a21 a22 : Nat → Int32} {a23 : Nat → Int64} {a24 a25 : Nat → Int32}
theorem wn_rgI {x : Int32} {N : Nat} (hN : N < 2 ^ 31) (h : ¬ x < 0) (h2 : ¬ nI N ≤ x) : ∃ j, j < N ∧ x = nI j := by
  rcases pk_ix x hN with z | z | z
  · exact absurd z h
  · exact absurd z h2
  · exact z
/-- the nodes of a wire where nothing waits -/
def wn_Z (a1 a2 a3 a6 a10 : Nat → Int32) : Prop := (∀ n, n < 4 → a1 n = 1) ∧ (∀ n, n < 4 → a2 n = 0) ∧ (∀ n, n < 4 → a3 n = 0) ∧ (∀ n, n < 4 → a6 n = 0) ∧ (∀ n, n < 4 → a10 n = 0)
theorem wn_L471 {post : Int32 → St0 → Prop} {mc ms kc ks w0 F : Nat} {x1 x7 x8 x10 x11 z : Int32} (hw : w0 < 2 ^ 64) (hr1 : wn_rg x10 x1 2048) (hr : wn_rg x11 x8 9) (hZ : wn_Z a1 a2 a3 a6 a10) (h4 : ∀ n, n < 4 → a4 n = 0) (H1 : post 1 ()) : wL_lawOf_471 post mc ms x1 (lN w0) x7 x8 x10 x11 z z kc ks 0 lf (nI F) 0 di a1 a2 a3 a4 a5 a6 a7 a8 a9 a10 a11 a12 a13 a14 a15 a16 a17 a18 a19 a20 a21 a22 a23 a24 a25 := by
  obtain ⟨h1, h2, h3, h6, h10⟩ := hZ
  have hr' := hr
  unfold wL_lawOf_471
  refine br_t rfl ?_
  have t : wL_lawOf_532 post mc ms (lN w0) x7 x8 x11 (-1) kc ks 0 lf (nI F) 0 di a1 a2 a3 a4 a5 a6 a7 a8 a9 a10 a11 a12 a13 a14 a15 a16 a17 a18 a19 a20 a21 a22 a23 a24 a25 := by
    unfold wL_lawOf_532
    exact br_t rfl (wn_L540 hw hr' h1 h2 h3 h4 h6 h10 H1)
  rcases hr1 with ⟨hb1, d, hd, rfl⟩ | ⟨hb1, hx1⟩
  · rcases hr with ⟨hb, l, hl, rfl⟩ | ⟨hb, hx⟩
    · obtain ⟨N, hN⟩ := wn_N d l (w0 % 2 ^ (8 * l)) (by omega)
      have hN : wn_tl d l (w0 % 2 ^ (8 * l)) N := hN
      obtain ⟨n1, n2⟩ := wn_tlb hN
      have e1 : (44 : Int32) + 8 * nI l = nI (44 + 8 * l) := by
        rw [wn_8]
        exact nI_add 44 _
      have e2 : nI (44 + 8 * l) - 10 = nI (34 + 8 * l) := wn_sub (b := 10) rfl (by omega) |>.trans (by rw [show 44 + 8 * l - 10 = 34 + 8 * l by omega])
      have e3 : nI (34 + 8 * l) / 4 = nI ((34 + 8 * l) / 4) := pk_div (d := 4) (by omega) (by decide) (by decide)
      refine wn_bitsOf hd (by omega) hw hN (fun b7 b8 b9 b15 b16 b17 b18 b19 b20 b21 b22 b23 b24 b25 k7 k8 k9 k15 k16 hsm => nm_r e1 ?_)
      rw [hb1, hb]
      refine br_f (by decide) (br_f (by decide) (pk_lt (N + 10) (44 + 8 * l) (fun z => absurd z (by omega)) (fun _ => ⟨by decide, ?_⟩)))
      rw [e2, e3, nI_add]
      refine pk_le (N + 10) (44 + 8 * l + (34 + 8 * l) / 4) (fun _ => ?_) (fun z => absurd z (by omega))
      rw [hb] at hr'
      exact wn_L540 hw hr' h1 h2 h3 h4 h6 h10 H1
    · refine wn_bitsOfX (Or.inr hx) (nm_e (br_c (fun _ => t) (fun _ => br_t hb t)))
  · exact wn_bitsOfX (Or.inl hx1) (nm_e (br_t hb1 t))
theorem wn_L445 {post : Int32 → St0 → Prop} {mc ms kc ks w0 F : Nat} {x1 x2 x7 x8 x10 x11 z : Int32} (hw : w0 < 2 ^ 64) (hr1 : wn_rg x10 x1 2048) (hr : wn_rg x11 x8 9) (hZ : wn_Z a1 a2 a3 a6 a10) (h4 : ∀ n, n < 4 → a4 n = 0) (H1 : post 1 ()) : wL_lawOf_445 post mc ms x1 x2 (lN w0) x7 x8 x10 x11 z z kc ks 0 lf (nI F) 0 di a1 a2 a3 a4 a5 a6 a7 a8 a9 a10 a11 a12 a13 a14 a15 a16 a17 a18 a19 a20 a21 a22 a23 a24 a25 := by
  unfold wL_lawOf_445
  refine br_t rfl ?_
  unfold wpX_disturb
  dsimp only
  refine br_c (fun g => ?_) (fun g => br_c (fun g2 => ?_) (fun g2 => ?_))
  · exact br_t g (wn_L471 hw hr1 hr hZ h4 H1)
  · exact br_f g (br_f (Int32.not_lt.mpr g2) (wn_L471 hw hr1 hr hZ h4 H1))
  · exact br_f g (br_t (Int32.not_le.mp g2) (wn_L471 hw hr1 hr hZ h4 H1))
theorem wn_L382 {post : Int32 → St0 → Prop} {mc ms kc ks w0 : Nat} {x0 x1 x2 x6 x7 x8 x9 x10 x11 x12 z : Int32} (hw : w0 < 2 ^ 64) (hr9 : wn_rg x9 x6 4) (h12 : wn_if x9 x12 0 (-1)) (hr1 : wn_rg x10 x1 2048) (hr : wn_rg x11 x8 9) (hZ : wn_Z a1 a2 a3 a6 a10) (h4 : ∀ n, n < 4 → ¬ nI n = x6 → a4 n = 0) (H1 : post 1 ()) : wL_lawOf_382 post mc ms x0 x1 x2 (lN w0) x6 x7 x8 x10 x11 x12 z z kc ks 0 lf 0 0 0 a1 a2 a3 a4 a5 a6 a7 a8 a9 a10 a11 a12 a13 a14 a15 a16 a17 a18 a19 a20 a21 a22 a23 a24 a25 := by
  unfold wL_lawOf_382
  refine br_t rfl (wn_filter2 hr9 h12 h4 (fun c4 c5 k4 => br_t rfl ?_))
  have le1 : ∀ x : Int32, nI 2001 ≤ x → 2000 < x := by
    intro x z
    rw [Int32.le_iff_toInt_le] at z
    rw [Int32.lt_iff_toInt_lt]
    have e1 : (nI 2001).toInt = 2001 := by decide
    have e2 : (2000 : Int32).toInt = 2000 := by decide
    omega
  have bad : wL_lawOf_421 post mc ms x0 x1 x2 (lN w0) x7 x8 x10 x11 (-1) (-1) kc ks 0 lf 0 0 0 a1 a2 a3 c4 c5 a6 a7 a8 a9 a10 a11 a12 a13 a14 a15 a16 a17 a18 a19 a20 a21 a22 a23 a24 a25 ∨ ¬ (x0 < 0 ∨ nI 2001 ≤ x0) := by
    by_cases hx : x0 < 0 ∨ nI 2001 ≤ x0
    · left
      unfold wL_lawOf_421
      refine br_t rfl ?_
      rcases hx with hx | hx
      · exact br_t hx (wn_L445 (F := 0) hw hr1 hr hZ k4 H1)
      · exact br_c (fun _ => wn_L445 (F := 0) hw hr1 hr hZ k4 H1) (fun _ => br_t (le1 _ hx) (wn_L445 (F := 0) hw hr1 hr hZ k4 H1))
    · exact Or.inr hx
  rcases pk_ix x0 (n := 2001) (by decide) with hx | hx | ⟨m, hm, rfl⟩
  · rcases bad with t | t
    · exact wn_runX (Or.inl hx) (br_t hx t)
    · exact absurd (Or.inl hx) t
  · rcases bad with t | t
    · exact wn_runX (Or.inr hx) (br_c (fun _ => t) (fun _ => br_t (le1 _ hx) t))
    · exact absurd (Or.inr hx) t
  · have c0 : ¬ nI m < 0 := nI_pos (by omega)
    have c1 : ¬ (2000 : Int32) < nI m := nI_nlt (a := 2000) (b := m) (by omega) (by omega)
    refine wn_runI (C := 0) (by omega) hZ.1 hZ.2.2.2.1 (br_f c0 (br_f c1 ?_))
    unfold wL_lawOf_421
    refine br_t rfl ?_
    show (nI m < 0 → _) ∧ _
    refine br_f c0 (br_f c1 ?_)
    rw [Nat.zero_add]
    exact wn_L445 hw hr1 hr hZ k4 H1
theorem wn_L351 {post : Int32 → St0 → Prop} {mc ms kc ks w0 : Nat} {x0 x1 x2 x6 x7 x8 x9 x10 x11 x12 z : Int32} (hw : w0 < 2 ^ 64) (hr9 : wn_rg x9 x6 4) (h12 : wn_if x9 x12 0 (-1)) (hr1 : wn_rg x10 x1 2048) (hr2 : wn_rg z x2 2048) (hr : wn_rg x11 x8 9) (hZ : wn_Z a1 a2 a3 a6 a10) (h4 : ∀ n, n < 4 → a4 n = 0) (H1 : post 1 ()) : wL_lawOf_351 post mc ms x0 x1 x2 (lN w0) x6 x7 x8 x9 x10 x11 x12 z kc ks 0 lf 0 0 0 a1 a2 a3 a4 a5 a6 a7 a8 a9 a10 a11 a12 a13 a14 a15 a16 a17 a18 a19 a20 a21 a22 a23 a24 a25 := by
  have one : ∀ {b x : Int32} {N : Nat}, wn_rg b x N → ¬ b = 0 → b = 1 := by
    intro b x N h hb
    rcases h with h | h
    · exact h.1
    · exact absurd h.1 hb
  unfold wL_lawOf_351
  refine wn_filter1 hr9 hr1 hr2 h4 (fun r c4 c5 g1 g0 k4 => ?_)
  have bad : r = -1 → wL_lawOf_381 post mc ms x0 x1 x2 (lN w0) x6 x7 x8 x10 x11 x12 r kc ks 0 lf 0 0 0 a1 a2 a3 c4 c5 a6 a7 a8 a9 a10 a11 a12 a13 a14 a15 a16 a17 a18 a19 a20 a21 a22 a23 a24 a25 := by
    intro e
    rw [e]
    unfold wL_lawOf_381
    exact wn_L382 hw hr9 h12 hr1 hr hZ k4 H1
  refine br_c (fun e => bad (g0 (Or.inl e))) (fun e => br_c (fun e2 => bad (g0 (Or.inr (Or.inl e2)))) (fun e2 => br_c (fun e3 => bad (g0 (Or.inr (Or.inr e3)))) (fun e3 => ?_)))
  rw [g1 (one hr9 e) (one hr1 e2) (one hr2 e3)]
  exact wn_L382 hw hr9 h12 hr1 hr hZ k4 H1
theorem wn_L284 {post : Int32 → St0 → Prop} {mc ms kc ks w0 : Nat} {x0 x1 x2 x6 x7 x8 x9 x10 x11 x12 z : Int32} (hw : w0 < 2 ^ 64) (hr9 : wn_rg x9 x6 4) (h12 : wn_if x9 x12 0 (-1)) (hr1 : wn_rg x10 x1 2048) (hr : wn_rg x11 x8 9) (hZ : wn_Z a1 a2 a3 a6 a10) (h4 : ∀ n, n < 4 → a4 n = 0) (H1 : post 1 ()) : wL_lawOf_284 post mc ms x0 x1 x2 (lN w0) x6 x7 x8 x9 x10 x11 x12 z z kc ks 0 lf 0 0 0 a1 a2 a3 a4 a5 a6 a7 a8 a9 a10 a11 a12 a13 a14 a15 a16 a17 a18 a19 a20 a21 a22 a23 a24 a25 := by
  unfold wL_lawOf_284
  refine br_t rfl (wn_restart0 hr9 h12 hZ.1 hZ.2.1 hZ.2.2.1 (fun b1 b2 b3 k1 k2 k3 => br_t rfl (br_t rfl (br_t rfl ?_))))
  refine wn_under0 (by decide) (br_t rfl (br_t rfl ?_))
  have hZ' : wn_Z b1 b2 b3 a6 a10 := ⟨k1, k2, k3, hZ.2.2.2.1, hZ.2.2.2.2⟩
  refine br_c (fun g => ?_) (fun g => br_c (fun g2 => ?_) (fun g2 => ?_))
  · unfold wL_lawOf_350
    exact wn_L351 hw hr9 h12 hr1 (Or.inr ⟨rfl, Or.inl g⟩) hr hZ' h4 H1
  · unfold wL_lawOf_350
    exact wn_L351 hw hr9 h12 hr1 (Or.inr ⟨rfl, Or.inr g2⟩) hr hZ' h4 H1
  · exact wn_L351 hw hr9 h12 hr1 (Or.inl ⟨rfl, wn_rgI (by decide) g g2⟩) hr hZ' h4 H1
theorem wn_L264 {post : Int32 → St0 → Prop} {mc ms kc ks w0 : Nat} {x0 x1 x2 x6 x7 x8 x9 x10 x11 x12 z : Int32} (hw : w0 < 2 ^ 64) (hr9 : wn_rg x9 x6 4) (h12 : wn_if x9 x12 0 (-1)) (hr1 : wn_rg x10 x1 2048) (hr : wn_rg x11 x8 9) (hZ : wn_Z a1 a2 a3 a6 a10) (h4 : ∀ n, n < 4 → a4 n = 0) (H1 : post 1 ()) : wL_lawOf_264 post mc ms x0 x1 x2 (lN w0) x6 x7 x8 x9 x10 x11 x12 z z kc ks 0 lf 0 0 0 a1 a2 a3 a4 a5 a6 a7 a8 a9 a10 a11 a12 a13 a14 a15 a16 a17 a18 a19 a20 a21 a22 a23 a24 a25 := by
  have ne : ¬ (1 : Int32) = 0 := by decide
  unfold wL_lawOf_264
  refine br_t rfl ?_
  have c : ∃ r, wn_if x10 r (-2) (-1) ∧ ((x10 = 0 ∧ r = -1) ∨ (¬ x10 = 0 ∧ r = -2)) := by
    rcases hr1 with ⟨h, _⟩ | ⟨h, _⟩
    · exact ⟨-2, ⟨fun _ => rfl, fun z => absurd (h.symm.trans z) ne⟩, Or.inr ⟨by rw [h]; decide, rfl⟩⟩
    · exact ⟨-1, ⟨fun z => absurd (z.symm.trans h) ne, fun _ => rfl⟩, Or.inl ⟨h, rfl⟩⟩
  obtain ⟨r, hr2, hc⟩ := c
  refine wn_cancel0 hr1 hr2 hZ.2.2.2.1 ?_
  rcases hc with ⟨e, e2⟩ | ⟨e, e2⟩
  · rw [e2]
    exact br_t e (wn_L284 hw hr9 h12 hr1 hr hZ h4 H1)
  · rw [e2]
    exact br_f e (wn_L284 hw hr9 h12 hr1 hr hZ h4 H1)
theorem wn_pick {b x u v : Int32} {N : Nat} (hr : wn_rg b x N) : ∃ r, wn_if b r u v ∧ ((b = 0 ∧ r = v) ∨ (¬ b = 0 ∧ r = u)) := by
  have ne : ¬ (1 : Int32) = 0 := by decide
  rcases hr with ⟨h, _⟩ | ⟨h, _⟩
  · exact ⟨u, ⟨fun _ => rfl, fun z => absurd (h.symm.trans z) ne⟩, Or.inr ⟨by rw [h]; decide, rfl⟩⟩
  · exact ⟨v, ⟨fun z => absurd (z.symm.trans h) ne, fun _ => rfl⟩, Or.inl ⟨h, rfl⟩⟩
theorem wn_L228 {post : Int32 → St0 → Prop} {mc ms kc ks w0 : Nat} {x0 x1 x2 x6 x7 x8 x9 x10 x11 x12 z : Int32} (hw : w0 < 2 ^ 64) (hr9 : wn_rg x9 x6 4) (h12 : wn_if x9 x12 0 (-1)) (hr1 : wn_rg x10 x1 2048) (hr : wn_rg x11 x8 9) (hZ : wn_Z a1 a2 a3 a6 a10) (h4 : ∀ n, n < 4 → a4 n = 0) (H1 : post 1 ()) : wL_lawOf_228 post mc ms x0 x1 x2 (lN w0) x6 x7 x8 x9 x10 x11 x12 z z kc ks 0 lf 0 0 0 a1 a2 a3 a4 a5 a6 a7 a8 a9 a10 a11 a12 a13 a14 a15 a16 a17 a18 a19 a20 a21 a22 a23 a24 a25 := by
  unfold wL_lawOf_228
  obtain ⟨r, hr2, hc⟩ := wn_pick (u := -2) (v := -1) hr9
  refine br_t rfl (wn_dataAt0 hr9 hZ.2.2.2.2 (br_t rfl (wn_take0 hr9 hr2 hZ.2.2.2.2 ?_)))
  rcases hc with ⟨e, e2⟩ | ⟨e, e2⟩
  · rw [e2]
    exact br_t e (wn_L264 hw hr9 h12 hr1 hr hZ h4 H1)
  · rw [e2]
    exact br_f e (wn_L264 hw hr9 h12 hr1 hr hZ h4 H1)
theorem wn_L146 {post : Int32 → St0 → Prop} {mc ms kc ks w0 : Nat} {x0 x1 x2 x6 x7 x8 x9 x10 x11 x12 z : Int32} (hw : w0 < 2 ^ 64) (hr9 : wn_rg x9 x6 4) (h12 : wn_if x9 x12 0 (-1)) (hr1 : wn_rg x10 x1 2048) (hr : wn_rg x11 x8 9) (hZ : wn_Z a1 a2 a3 a6 a10) (h4 : ∀ n, n < 4 → a4 n = 0) (h14 : ∀ n, n < 4 → a14 n = 0) (H1 : post 1 ()) : wL_lawOf_146 post mc ms x0 x1 x2 (lN w0) x6 x7 x8 x9 x10 x11 x12 z z kc ks 0 lf 0 0 0 a1 a2 a3 a4 a5 a6 a7 a8 a9 a10 a11 a12 a13 a14 a15 a16 a17 a18 a19 a20 a21 a22 a23 a24 a25 := by
  unfold wL_lawOf_146
  obtain ⟨r, hr2, hc⟩ := wn_pick (u := -2) (v := -1) hr9
  refine br_t rfl (wn_sendE hr9 h12 hZ.2.1 (br_t rfl (wn_recvE hr9 h12 hZ.2.2.1 (br_t rfl (wn_waiting hr9 h12 hZ.2.2.2.1 (br_t rfl (wn_received hr9 h12 hZ.2.2.2.2 (br_t rfl (wn_missed hr9 h12 h14 (br_t rfl (wn_frameAt0 hr9 hr2 hZ.2.2.2.2 ?_)))))))))))
  rcases hc with ⟨e, e2⟩ | ⟨e, e2⟩
  · rw [e2]
    exact br_t e (wn_L228 hw hr9 h12 hr1 hr hZ h4 H1)
  · rw [e2]
    exact br_f e (wn_L228 hw hr9 h12 hr1 hr hZ h4 H1)
theorem wn_L115 {post : Int32 → St0 → Prop} {mc ms kc ks w0 : Nat} {x0 x1 x2 x6 x7 x8 x9 x10 x11 : Int32} (hw : w0 < 2 ^ 64) (hr9 : wn_rg x9 x6 4) (hr1 : wn_rg x10 x1 2048) (hr : wn_rg x11 x8 9) (hZ : wn_Z a1 a2 a3 a6 a10) (h4 : ∀ n, n < 4 → a4 n = 0) (h14 : ∀ n, n < 4 → a14 n = 0) (H1 : post 1 ()) : wL_lawOf_115 post mc ms x0 x1 x2 (lN w0) x6 x7 x8 x9 x10 x11 kc ks 0 lf 0 0 0 a1 a2 a3 a4 a5 a6 a7 a8 a9 a10 a11 a12 a13 a14 a15 a16 a17 a18 a19 a20 a21 a22 a23 a24 a25 := by
  have key : ∀ x12 : Int32, wn_if x9 x12 0 (-1) → wL_lawOf_127 post mc ms x0 x1 x2 (lN w0) x6 x7 x8 x9 x10 x11 x12 kc ks 0 lf 0 0 0 a1 a2 a3 a4 a5 a6 a7 a8 a9 a10 a11 a12 a13 a14 a15 a16 a17 a18 a19 a20 a21 a22 a23 a24 a25 := by
    intro x12 h12
    unfold wL_lawOf_127
    obtain ⟨r, hr2, hc⟩ := wn_pick (u := 1) (v := -1) hr9
    refine wn_isOn hr9 hr2 hZ.1 ?_
    rcases hc with ⟨e, e2⟩ | ⟨e, e2⟩
    · rw [e2]
      exact br_t e (wn_L146 hw hr9 h12 hr1 hr hZ h4 h14 H1)
    · rw [e2]
      exact br_f e (wn_L146 hw hr9 h12 hr1 hr hZ h4 h14 H1)
  obtain ⟨r, hr2, hc⟩ := wn_pick (u := 0) (v := -1) hr9
  unfold wL_lawOf_115
  rcases hc with ⟨e, e2⟩ | ⟨e, e2⟩
  · rw [e2] at hr2
    exact br_t e (key _ hr2)
  · rw [e2] at hr2
    exact br_f e (key _ hr2)
theorem wn_L60 {post : Int32 → St0 → Prop} {mc ms kc ks w0 : Nat} {x0 x1 x2 x6 x7 x8 : Int32} (hw : w0 < 2 ^ 64) (hZ : wn_Z a1 a2 a3 a6 a10) (h4 : ∀ n, n < 4 → a4 n = 0) (h14 : ∀ n, n < 4 → a14 n = 0) (H1 : post 1 ()) : wL_lawOf_60 post mc ms x0 x1 x2 (lN w0) x6 x7 x8 kc ks 0 lf 0 0 0 a1 a2 a3 a4 a5 a6 a7 a8 a9 a10 a11 a12 a13 a14 a15 a16 a17 a18 a19 a20 a21 a22 a23 a24 a25 := by
  have k96 : ∀ x9 x10 : Int32, wn_rg x9 x6 4 → wn_rg x10 x1 2048 → wL_lawOf_96 post mc ms x0 x1 x2 (lN w0) x6 x7 x8 x9 x10 kc ks 0 lf 0 0 0 a1 a2 a3 a4 a5 a6 a7 a8 a9 a10 a11 a12 a13 a14 a15 a16 a17 a18 a19 a20 a21 a22 a23 a24 a25 := by
    intro x9 x10 hr9 hr1
    unfold wL_lawOf_96
    refine br_c (fun g => ?_) (fun g => br_c (fun g2 => ?_) (fun g2 => ?_))
    · unfold wL_lawOf_114
      exact wn_L115 hw hr9 hr1 (Or.inr ⟨rfl, Or.inl g⟩) hZ h4 h14 H1
    · unfold wL_lawOf_114
      exact wn_L115 hw hr9 hr1 (Or.inr ⟨rfl, Or.inr g2⟩) hZ h4 h14 H1
    · exact wn_L115 hw hr9 hr1 (Or.inl ⟨rfl, wn_rgI (by decide) g g2⟩) hZ h4 h14 H1
  have k78 : ∀ x9 : Int32, wn_rg x9 x6 4 → wL_lawOf_78 post mc ms x0 x1 x2 (lN w0) x6 x7 x8 x9 kc ks 0 lf 0 0 0 a1 a2 a3 a4 a5 a6 a7 a8 a9 a10 a11 a12 a13 a14 a15 a16 a17 a18 a19 a20 a21 a22 a23 a24 a25 := by
    intro x9 hr9
    unfold wL_lawOf_78
    refine br_c (fun g => ?_) (fun g => br_c (fun g2 => ?_) (fun g2 => ?_))
    · unfold wL_lawOf_95
      exact k96 _ _ hr9 (Or.inr ⟨rfl, Or.inl g⟩)
    · unfold wL_lawOf_95
      exact k96 _ _ hr9 (Or.inr ⟨rfl, Or.inr g2⟩)
    · exact k96 _ _ hr9 (Or.inl ⟨rfl, wn_rgI (by decide) g g2⟩)
  unfold wL_lawOf_60
  refine br_c (fun g => ?_) (fun g => br_c (fun g2 => ?_) (fun g2 => ?_))
  · unfold wL_lawOf_77
    exact k78 _ (Or.inr ⟨rfl, Or.inl g⟩)
  · unfold wL_lawOf_77
    exact k78 _ (Or.inr ⟨rfl, Or.inr g2⟩)
  · exact k78 _ (Or.inl ⟨rfl, wn_rgI (by decide) g g2⟩)
theorem wn_L25 {post : Int32 → St0 → Prop} {mc ms kc ks : Nat} {x0 x1 x2 x6 : Int32} {x3 : Int64} (hZ : wn_Z a1 a2 a3 a6 a10) (h4 : ∀ n, n < 4 → a4 n = 0) (h14 : ∀ n, n < 4 → a14 n = 0) (H1 : post 1 ()) : wL_lawOf_25 post mc ms x0 x1 x2 x3 x6 kc ks 0 lf 0 0 0 a1 a2 a3 a4 a5 a6 a7 a8 a9 a10 a11 a12 a13 a14 a15 a16 a17 a18 a19 a20 a21 a22 a23 a24 a25 := by
  obtain ⟨w0, hw, rfl⟩ := wn_b_of x3
  have k42 : ∀ x7 : Int32, wL_lawOf_42 post mc ms x0 x1 x2 (lN w0) x6 x7 kc ks 0 lf 0 0 0 a1 a2 a3 a4 a5 a6 a7 a8 a9 a10 a11 a12 a13 a14 a15 a16 a17 a18 a19 a20 a21 a22 a23 a24 a25 := by
    intro x7
    unfold wL_lawOf_42
    exact br_c (fun _ => wn_L60 hw hZ h4 h14 H1) (fun _ => wn_L60 hw hZ h4 h14 H1)
  unfold wL_lawOf_25
  exact br_c (fun _ => k42 _) (fun _ => k42 _)
end
end
section
theorem wn_init {post : St2 → Prop} {mc ms kc ks : Nat} (H : ∀ a1 : Nat → Int32, (∀ n, n < 4 → a1 n = 1) → post (0, 0, 0, 0, 0, a1, fun _ => 0, fun _ => 0, fun _ => 0, fun _ => 0, fun _ => 0, fun _ => 0, fun _ => 0, fun _ => 0, fun _ => 0, fun _ => 0, fun _ => 0, fun _ => 0, fun _ => 0, fun _ => 0, fun _ => 0, fun _ => 0, fun _ => 0, fun _ => 0, fun _ => 0, fun _ => 0, fun _ => 0, fun _ => 0, fun _ => 0, fun _ => 0)) : ∃ fu, wX_init_187 post mc ms kc ks 0 0 0 0 0 fu 0 (fun _ => 0) (fun _ => 0) (fun _ => 0) (fun _ => 0) (fun _ => 0) (fun _ => 0) (fun _ => 0) (fun _ => 0) (fun _ => 0) (fun _ => 0) (fun _ => 0) (fun _ => 0) (fun _ => 0) (fun _ => 0) (fun _ => 0) (fun _ => 0) (fun _ => 0) (fun _ => 0) (fun _ => 0) (fun _ => 0) (fun _ => 0) (fun _ => 0) (fun _ => 0) (fun _ => 0) (fun _ => 0) := by
  refine pk_loop (fun f i s => wX_init_187 post mc ms kc ks 0 0 0 0 0 f (nI i) s (fun _ => 0) (fun _ => 0) (fun _ => 0) (fun _ => 0) (fun _ => 0) (fun _ => 0) (fun _ => 0) (fun _ => 0) (fun _ => 0) (fun _ => 0) (fun _ => 0) (fun _ => 0) (fun _ => 0) (fun _ => 0) (fun _ => 0) (fun _ => 0) (fun _ => 0) (fun _ => 0) (fun _ => 0) (fun _ => 0) (fun _ => 0) (fun _ => 0) (fun _ => 0) (fun _ => 0)) (fun i s => ∀ n, n < i → s n = 1) 4 0 (fun _ => 0) (by omega) (fun n hn => absurd hn (by omega)) ?_ ?_
  · intro f s h
    exact pk_le 4 4 (fun _ => H s h) (fun z => absurd z (by omega))
  · intro f i s hi h hw
    have hcl := nI_clamp (show i < 2 ^ 31 by omega)
    refine pk_le 4 i (fun z => absurd z (by omega)) (fun _ => ⟨pk_in i 4 hi, nm_e (nm_r (nI_1 i) (hw _ (fun n hn => ?_)))⟩)
    rw [hcl]
    by_cases e : n = i
    · rw [e, pk_us]
    · rw [pk_un e]
      exact h n (by omega)
theorem wn_lawOf {post : Int32 → St0 → Prop} {x0 x1 x2 : Int32} {x3 : Int64} (H1 : post 1 ()) : wpL_lawOf post 206 3296 () x0 x1 x2 x3 := by
  unfold wpL_lawOf
  refine ⟨by decide, by decide, 205, 3266, by decide, by decide, ?_⟩
  unfold wpX_init
  dsimp only
  repeat' refine And.intro (by decide) ?_
  refine wn_init (fun a1 h1 => ?_)
  have hZ : wn_Z a1 (fun _ => 0) (fun _ => 0) (fun _ => 0) (fun _ => 0) := ⟨h1, fun _ _ => rfl, fun _ _ => rfl, fun _ _ => rfl, fun _ _ => rfl⟩
  exact br_c (fun _ => wn_L25 hZ (fun _ _ => rfl) (fun _ _ => rfl) H1) (fun _ => wn_L25 hZ (fun _ _ => rfl) (fun _ _ => rfl) H1)
theorem wn_cell {post : Int32 → Prop} {L : Nat} {xs : Nat → Int32} {k : Nat} (hL : L ≤ 5) (hk : k < 5) (H : ∀ r, post r) : wpL_cellAt post L xs () (nI k) := by
  unfold wpL_cellAt
  exact pk_le L k (fun _ => H _) (fun z => ⟨pk_in k L z, H _⟩)
theorem i_vc (xs : Nat → Int32) (L : Nat) (hL : L ≤ 5) : wpL_law (fun r => r = 1) L xs := by
  unfold wpL_law
  refine wn_cell (k := 0) hL (by decide) (fun r1 => wn_cell (k := 1) hL (by decide) (fun r2 => wn_cell (k := 2) hL (by decide) (fun r3 => wn_cell (k := 3) hL (by decide) (fun r4 => wn_cell (k := 4) hL (by decide) (fun r5 => ?_)))))
  exact ⟨206, 3296, by decide, by decide, wn_lawOf rfl⟩
end
