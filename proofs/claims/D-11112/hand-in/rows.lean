section
theorem wb_tb (n : Nat) : (lN n).toBitVec = BitVec.ofNat 64 n := rfl
theorem wb_inj {a b : Int64} (h : a.toBitVec = b.toBitVec) : a = b := Int64.toBitVec_inj.mp h
theorem wb_tn {n : Nat} (h : n < 2 ^ 64) : (lN n).toBitVec.toNat = n := by rw [wb_tb, BitVec.toNat_ofNat, Nat.mod_eq_of_lt h]
theorem wb_of (x : Int64) : ∃ n, n < 2 ^ 64 ∧ x = lN n := ⟨x.toBitVec.toNat, x.toBitVec.isLt, wb_inj (by rw [wb_tb]; simp)⟩
theorem wb_c : ∀ k, k < 64 → ((nI k).toInt64 &&& 63) = lN k := by decide +kernel
theorem wb_cu : ∀ k, k < 64 → ((nI k).toInt64.toUInt64 &&& Int64.toUInt64 63) = UInt64.ofNat k := by decide +kernel
theorem wb_sm : ∀ k, k < 64 → (BitVec.ofNat 64 k).smod 64 = BitVec.ofNat 64 k := by decide +kernel
theorem wb_lt2 {a b : Nat} (h : a < b) : 2 ^ a < 2 ^ b := Nat.pow_lt_pow_right (by decide) h
theorem wb_shr {n k : Nat} (hn : n < 2 ^ 64) (hk : k < 64) : ((lN n).toUInt64 >>> ((nI k).toInt64.toUInt64 &&& Int64.toUInt64 63)).toInt64 = lN (n / 2 ^ k) := by
  rw [wb_cu k hk]
  apply wb_inj
  apply BitVec.eq_of_toNat_eq
  show ((lN n).toUInt64 >>> UInt64.ofNat k).toNat = (BitVec.ofNat 64 _).toNat
  have h1 : (UInt64.ofNat k).toNat = k := by
    show (BitVec.ofNat 64 k).toNat = k
    rw [BitVec.toNat_ofNat, Nat.mod_eq_of_lt (by omega)]
  have h2 : (lN n).toUInt64.toNat = n := wb_tn hn
  rw [UInt64.toNat_shiftRight, h1, h2, Nat.mod_eq_of_lt hk, Nat.shiftRight_eq_div_pow, BitVec.toNat_ofNat, Nat.mod_eq_of_lt (Nat.lt_of_le_of_lt (Nat.div_le_self _ _) hn)]
theorem wb_shl (n : Nat) {k : Nat} (hk : k < 64) : lN n <<< ((nI k).toInt64 &&& 63) = lN (n * 2 ^ k) := by
  rw [wb_c k hk]
  apply wb_inj
  rw [Int64.toBitVec_shiftLeft, wb_tb, wb_tb, wb_tb, wb_sm k hk]
  apply BitVec.eq_of_toNat_eq
  rw [BitVec.shiftLeft_eq', BitVec.toNat_shiftLeft, BitVec.toNat_ofNat, BitVec.toNat_ofNat, BitVec.toNat_ofNat, Nat.mod_eq_of_lt (show k < 2 ^ 64 by omega), Nat.shiftLeft_eq, Nat.mul_mod, Nat.mod_mod, ← Nat.mul_mod]
theorem wb_and {a b : Nat} (ha : a < 2 ^ 64) (hb : b < 2 ^ 64) : lN a &&& lN b = lN (a &&& b) := by
  apply wb_inj
  rw [Int64.toBitVec_and, wb_tb, wb_tb, wb_tb]
  apply BitVec.eq_of_toNat_eq
  rw [BitVec.toNat_and, BitVec.toNat_ofNat, BitVec.toNat_ofNat, BitVec.toNat_ofNat, Nat.mod_eq_of_lt ha, Nat.mod_eq_of_lt hb, Nat.mod_eq_of_lt (Nat.and_lt_two_pow _ hb)]
theorem wb_or {a b : Nat} (ha : a < 2 ^ 64) (hb : b < 2 ^ 64) : lN a ||| lN b = lN (a ||| b) := by
  apply wb_inj
  rw [Int64.toBitVec_or, wb_tb, wb_tb, wb_tb]
  apply BitVec.eq_of_toNat_eq
  rw [BitVec.toNat_or, BitVec.toNat_ofNat, BitVec.toNat_ofNat, BitVec.toNat_ofNat, Nat.mod_eq_of_lt ha, Nat.mod_eq_of_lt hb, Nat.mod_eq_of_lt (Nat.or_lt_two_pow ha hb)]
theorem wb_mask {n k : Nat} (hn : n < 2 ^ 64) (hk : k < 64) : lN n &&& lN (2 ^ k - 1) = lN (n % 2 ^ k) := by
  rw [wb_and hn (by have := wb_lt2 hk; omega), Nat.and_two_pow_sub_one_eq_mod]
theorem wb_a1 {n : Nat} (hn : n < 2 ^ 64) : lN n &&& 1 = lN (n % 2) := wb_mask (k := 1) hn (by decide)
theorem wb_bit {n k : Nat} (hn : n < 2 ^ 64) (hk : k < 64) : ((lN n).toUInt64 >>> ((nI k).toInt64.toUInt64 &&& Int64.toUInt64 63)).toInt64 &&& 1 = lN (n / 2 ^ k % 2) := by
  rw [wb_shr hn hk, wb_a1 (Nat.lt_of_le_of_lt (Nat.div_le_self _ _) hn)]

/-! ===== own rows: words of 36 bits ===== -/
theorem sr_orN (a b : Nat) : lN a ||| lN b = lN (a ||| b) := by
  apply wb_inj
  rw [Int64.toBitVec_or, wb_tb, wb_tb, wb_tb, BitVec.ofNat_or]
theorem sr_bit {n k : Nat} (hn : n < 2 ^ 64) (hk : k < 64) : ((((lN n).toUInt64 >>> ((nI k).toInt64.toUInt64 &&& Int64.toUInt64 63)).toInt64) &&& 1).toInt32 = nI (n / 2 ^ k % 2) := by rw [wb_bit hn hk, lN_i]
theorem sr_shl {k : Nat} (hk : k < 64) : (1 : Int64) <<< ((nI k).toInt64 &&& 63) = lN (2 ^ k) := by
  have h := wb_shl 1 hk
  rw [Nat.one_mul] at h
  exact h
theorem sr_ll {a b : Nat} (ha : a < 2 ^ 64) (hb : b < 2 ^ 64) : lN a = lN b ↔ a = b := by
  constructor
  · intro h
    have h2 : (lN a).toBitVec.toNat = (lN b).toBitVec.toNat := congrArg (fun x : Int64 => x.toBitVec.toNat) h
    rw [wb_tn ha, wb_tn hb] at h2
    exact h2
  · intro h
    rw [h]
theorem sr_lz (x : Int64) : (0 : Int64) &&& x = 0 := by
  apply wb_inj
  rw [Int64.toBitVec_and]
  simp
theorem sr_oz (x : Int64) : x ||| (0 : Int64) = x := by
  apply wb_inj
  rw [Int64.toBitVec_or]
  simp
theorem sr_zo (x : Int64) : (0 : Int64) ||| x = x := by
  apply wb_inj
  rw [Int64.toBitVec_or]
  simp
theorem sr_all (x : Int64) : x &&& ((0 : Int64) ^^^ (-1)) = x := by
  apply wb_inj
  rw [Int64.toBitVec_and, show ((0 : Int64) ^^^ (-1)).toBitVec = BitVec.allOnes 64 from by decide, BitVec.and_allOnes]
theorem sr_cl1 : (1 : Int32).toNatClampNeg = 1 := by decide
/-- the place's own word, stored again -/
theorem sr_uself (f : Nat → Int64) (k : Nat) {x : Int64} (h : f k = x) : vp_updL f k x = f := by
  funext j
  by_cases e : j = k
  · rw [e, pk_uLs, h]
  · rw [pk_uLn e]
theorem sr_uu (f : Nat → Int64) (k : Nat) (x y : Int64) : vp_updL (vp_updL f k x) k y = vp_updL f k y := by
  funext j
  by_cases e : j = k
  · rw [e, pk_uLs, pk_uLs]
  · rw [pk_uLn e, pk_uLn e, pk_uLn e]

/-! ===== own rows: the pure picture of a join of R1(a,b), R1(b,c) ===== -/
/-- the second atom ranges over the k facts from j on, the first one is the fact i; at a way the head h of it changes the account -/
def sr_in {α : Type} (g i : Nat) (f : Nat → α → α) : Nat → Nat → α → α
  | 0, _, a => a
  | k + 1, j, a => sr_in g i f k (j + 1) (if g / 2 ^ j % 2 = 1 ∧ i % 6 = j / 6 then f (6 * (i / 6) + j % 6) a else a)
/-- the first atom ranges over the k facts from i on -/
def sr_out {α : Type} (g : Nat) (f : Nat → α → α) : Nat → Nat → α → α
  | 0, _, a => a
  | k + 1, i, a => sr_out g f k (i + 1) (if g / 2 ^ i % 2 = 1 then sr_in g i f 36 0 a else a)
/-- the account: ways, met, coming -/
def sr_mt (wa : Int32) (h : Nat) (m : Int32) : Int32 := if m = 0 then (if nI h = wa then 1 else 0) else 1
def sr_hit (wa : Int32) (h : Nat) (a : Nat × Int32 × Nat) : Nat × Int32 × Nat := (a.1 + 1, sr_mt wa h a.2.1, a.2.2 ||| 2 ^ h)
theorem sr_in_hom {α β : Type} (π : α → β) (g i : Nat) (f : Nat → α → α) (f' : Nat → β → β) (hf : ∀ h a, π (f h a) = f' h (π a)) : ∀ k j a, π (sr_in g i f k j a) = sr_in g i f' k j (π a) := by
  intro k
  induction k with
  | zero => intro j a; rfl
  | succ k ih =>
    intro j a
    show π (sr_in g i f k (j + 1) _) = sr_in g i f' k (j + 1) _
    rw [ih]
    split
    · rw [hf]
    · rfl
theorem sr_out_hom {α β : Type} (π : α → β) (g : Nat) (f : Nat → α → α) (f' : Nat → β → β) (hf : ∀ h a, π (f h a) = f' h (π a)) : ∀ k i a, π (sr_out g f k i a) = sr_out g f' k i (π a) := by
  intro k
  induction k with
  | zero => intro i a; rfl
  | succ k ih =>
    intro i a
    show π (sr_out g f k (i + 1) _) = sr_out g f' k (i + 1) _
    rw [ih]
    split
    · rw [sr_in_hom π g i f f' hf]
    · rfl
/-- ways, met and coming by themselves -/
def sr_W (g : Nat) : Nat := sr_out g (fun _ w => w + 1) 36 0 0
def sr_M (g : Nat) (wa : Int32) (m : Int32) : Int32 := sr_out g (fun h m => sr_mt wa h m) 36 0 m
def sr_C (g : Nat) (c : Nat) : Nat := sr_out g (fun h c => c ||| 2 ^ h) 36 0 c
theorem sr_hitW (g : Nat) (wa m : Int32) (c : Nat) : (sr_out g (sr_hit wa) 36 0 (0, m, c)).1 = sr_W g := sr_out_hom (fun a : Nat × Int32 × Nat => a.1) g (sr_hit wa) _ (fun _ _ => rfl) 36 0 (0, m, c)
theorem sr_hitM (g : Nat) (wa m : Int32) (c : Nat) : (sr_out g (sr_hit wa) 36 0 (0, m, c)).2.1 = sr_M g wa m := sr_out_hom (fun a : Nat × Int32 × Nat => a.2.1) g (sr_hit wa) _ (fun _ _ => rfl) 36 0 (0, m, c)
theorem sr_hitC (g : Nat) (wa m : Int32) (c : Nat) : (sr_out g (sr_hit wa) 36 0 (0, m, c)).2.2 = sr_C g c := sr_out_hom (fun a : Nat × Int32 × Nat => a.2.2) g (sr_hit wa) _ (fun _ _ => rfl) 36 0 (0, m, c)
/-- the ones of a word, k places from j on -/
def sr_pop (h : Nat) : Nat → Nat → Nat → Nat
  | 0, _, a => a
  | k + 1, j, a => sr_pop h k (j + 1) (a + h / 2 ^ j % 2)
end
section
/-! ===== the plain law: what the join of two given facts (p, q), (r, s) answers, all 1296 cases by the kernel ===== -/
def sr_b1 (c : Bool) : Nat := if c then 1 else 0
def sr_sum (p q r s : Nat) : Nat := (if p = q then 1 else 0) + (if q = r ∧ ¬ (p = r ∧ q = s) then 1 else 0) + (if s = p ∧ ¬ (p = r ∧ q = s) then 1 else 0) + (if r = s ∧ ¬ (p = r ∧ q = s) then 1 else 0)
def sr_T2 (p q r s g h : Nat) : Bool := decide (sr_W g = sr_sum p q r s) && (decide (h < 2 ^ 36) && ((!decide (q = r) || decide (h / 2 ^ (6 * p + s) % 2 = 1)) && ((!decide (p = s) || decide (h / 2 ^ (6 * r + q) % 2 = 1)) && (decide (sr_M g (nI (6 * p + s)) 0 = nI (h / 2 ^ (6 * p + s) % 2)) && (decide (sr_pop h 36 0 0 ≤ sr_sum p q r s) && (decide (0 < sr_pop h 36 0 0) == decide (0 < sr_sum p q r s)))))))
def sr_T1 (p q r s g : Nat) : Bool := sr_T2 p q r s g (sr_C g 0)
def sr_T (p q r s : Nat) : Bool := sr_T1 p q r s (2 ^ (6 * p + q) ||| 2 ^ (6 * r + s))
theorem sr_t0 : ∀ q, q < 6 → ∀ r, r < 6 → ∀ s, s < 6 → sr_T 0 q r s = true := by decide +kernel
theorem sr_t1 : ∀ q, q < 6 → ∀ r, r < 6 → ∀ s, s < 6 → sr_T 1 q r s = true := by decide +kernel
theorem sr_t2 : ∀ q, q < 6 → ∀ r, r < 6 → ∀ s, s < 6 → sr_T 2 q r s = true := by decide +kernel
theorem sr_t3 : ∀ q, q < 6 → ∀ r, r < 6 → ∀ s, s < 6 → sr_T 3 q r s = true := by decide +kernel
theorem sr_t4 : ∀ q, q < 6 → ∀ r, r < 6 → ∀ s, s < 6 → sr_T 4 q r s = true := by decide +kernel
theorem sr_t5 : ∀ q, q < 6 → ∀ r, r < 6 → ∀ s, s < 6 → sr_T 5 q r s = true := by decide +kernel
theorem sr_tab {p q r s g h : Nat} (hp : p < 6) (hq : q < 6) (hr : r < 6) (hs : s < 6) (eg : g = 2 ^ (6 * p + q) ||| 2 ^ (6 * r + s)) (eh : h = sr_C g 0) : sr_W g = sr_sum p q r s ∧ h < 2 ^ 36 ∧ (q = r → h / 2 ^ (6 * p + s) % 2 = 1) ∧ (p = s → h / 2 ^ (6 * r + q) % 2 = 1) ∧ sr_M g (nI (6 * p + s)) 0 = nI (h / 2 ^ (6 * p + s) % 2) ∧ sr_pop h 36 0 0 ≤ sr_sum p q r s ∧ (0 < sr_pop h 36 0 0 ↔ 0 < sr_sum p q r s) := by
  have t : sr_T2 p q r s g h = true := by
    rw [eh, eg]
    show sr_T p q r s = true
    match p, hp with
    | 0, _ => exact sr_t0 q hq r hr s hs
    | 1, _ => exact sr_t1 q hq r hr s hs
    | 2, _ => exact sr_t2 q hq r hr s hs
    | 3, _ => exact sr_t3 q hq r hr s hs
    | 4, _ => exact sr_t4 q hq r hr s hs
    | 5, _ => exact sr_t5 q hq r hr s hs
  unfold sr_T2 at t
  rw [Bool.and_eq_true, Bool.and_eq_true, Bool.and_eq_true, Bool.and_eq_true, Bool.and_eq_true, Bool.and_eq_true, decide_eq_true_eq, decide_eq_true_eq, decide_eq_true_eq, decide_eq_true_eq, Bool.or_eq_true, Bool.or_eq_true, beq_iff_eq, decide_eq_decide] at t
  obtain ⟨t1, t2, t3, t4, t5, t6, t7⟩ := t
  refine ⟨t1, t2, fun e => ?_, fun e => ?_, t5, t6, t7⟩
  · rcases t3 with z | z
    · rw [decide_eq_true e] at z
      exact absurd z (by decide)
    · exact of_decide_eq_true z
  · rcases t4 with z | z
    · rw [decide_eq_true e] at z
      exact absurd z (by decide)
    · exact of_decide_eq_true z
end
section
/-! ===== bitAt, agree, bind ===== -/
section
variable {f1 f2 f3 f4 f5 f6 f7 f8 f9 : Int32} {a1 a2 a3 a4 a5 : Nat → Int64} {a6 a7 a8 a9 a10 a11 a12 a13 a14 : Nat → Int32}
theorem sr_bitAt {post : Int32 → Prop} {u : St0} {x : Int64} {y : Int32} {g f : Nat} (hx : x = lN g) (hy : y = nI f) (hg : g < 2 ^ 64) (hf : f < 64) (H : post (nI (g / 2 ^ f % 2))) : wpX_bitAt post u x y := by
  subst hx hy
  unfold wpX_bitAt
  rw [sr_bit hg hf]
  exact H
theorem sr_ag39 {post : Int32 → St2 → Prop} {x1 x2 x3 : Int32} {b t : Nat} (h0 : x1 = nI b) (h1 : x2 = nI t) (hb : b + t < 16) (H1 : a14 (b + t) = x3 → post 1 (f1, f2, f3, f4, f5, f6, f7, f8, f9, a1, a2, a3, a4, a5, a6, a7, a8, a9, a10, a11, a12, a13, a14)) (H0 : ¬ a14 (b + t) = x3 → post 0 (f1, f2, f3, f4, f5, f6, f7, f8, f9, a1, a2, a3, a4, a5, a6, a7, a8, a9, a10, a11, a12, a13, a14)) : wX_agree_39 post x1 x2 x3 f1 f2 f3 f4 f5 f6 f7 f8 f9 a1 a2 a3 a4 a5 a6 a7 a8 a9 a10 a11 a12 a13 a14 := by
  subst h0 h1
  unfold wX_agree_39
  rw [nI_add, nI_clamp (show b + t < 2 ^ 31 by omega)]
  exact ⟨vp_in_nI hb (by decide), H1, H0⟩
theorem sr_ag {post : Int32 → St2 → Prop} {p0 p1 p2 : Int32} {b t : Nat} (h0 : p0 = nI b) (h1 : p1 = nI t) (ht : t < 4) (hb : b + t < 16) (HF : a14 (b + t) = -1 → post 1 (f1, f2, f3, f4, f5, f6, f7, f8, f9, a1, a2, a3, a4, a5, a6, a7, a8, a9, a10, a11, a12, a13, upd a14 (b + t) p2)) (H1 : ¬ a14 (b + t) = -1 → a14 (b + t) = p2 → post 1 (f1, f2, f3, f4, f5, f6, f7, f8, f9, a1, a2, a3, a4, a5, a6, a7, a8, a9, a10, a11, a12, a13, a14)) (H0 : ¬ a14 (b + t) = -1 → ¬ a14 (b + t) = p2 → post 0 (f1, f2, f3, f4, f5, f6, f7, f8, f9, a1, a2, a3, a4, a5, a6, a7, a8, a9, a10, a11, a12, a13, a14)) : wpX_agree post (f1, f2, f3, f4, f5, f6, f7, f8, f9, a1, a2, a3, a4, a5, a6, a7, a8, a9, a10, a11, a12, a13, a14) p0 p1 p2 := by
  subst h0 h1
  unfold wpX_agree
  dsimp only
  rw [nI_add, nI_clamp (show b + t < 2 ^ 31 by omega)]
  exact pk_lt t 4 (fun _ => ⟨vp_in_nI hb (by decide), br_c (fun h => ⟨vp_in_nI hb (by decide), nm_e (sr_ag39 rfl rfl hb (fun _ => HF h) (fun z => absurd pk_us z))⟩) (fun h => sr_ag39 rfl rfl hb (H1 h) (H0 h))⟩) (fun z => absurd z (by omega))
/-- the copy of four bounds, then the rest at x6 = 4 -/
theorem sr_b62 {post : Int32 → St2 → Prop} {x2 x3 : Int32} (d : Nat) (hd : d ≤ 2) (H : ∀ n s, (∀ j, s j = if 4 * d + 4 ≤ j ∧ j < 4 * d + 4 + 4 then a14 (j - 4) else a14 j) → wX_bind_62 post (nI d) x2 x3 f1 f2 f3 f4 f5 f6 f7 f8 f9 (n + 1) (nI 4) a1 a2 a3 a4 a5 a6 a7 a8 a9 a10 a11 a12 a13 s) : ∃ n, wX_bind_62 post (nI d) x2 x3 f1 f2 f3 f4 f5 f6 f7 f8 f9 n 0 a1 a2 a3 a4 a5 a6 a7 a8 a9 a10 a11 a12 a13 a14 := by
  refine pk_loop (fun n i s => wX_bind_62 post (nI d) x2 x3 f1 f2 f3 f4 f5 f6 f7 f8 f9 n (nI i) a1 a2 a3 a4 a5 a6 a7 a8 a9 a10 a11 a12 a13 s) (fun i s => ∀ j, s j = if 4 * d + 4 ≤ j ∧ j < 4 * d + 4 + i then a14 (j - 4) else a14 j) 4 0 a14 (by omega) (fun j => ?_) H ?_
  · rw [if_neg (by omega)]
  · intro n i s hi h hw
    have e1 : (4 : Int32) * nI d + nI i = nI (4 * d + i) := by
      show nI 4 * nI d + nI i = _
      rw [pk_mul, nI_add]
    have e2 : ((4 : Int32) * nI d + 4) + nI i = nI (4 * d + 4 + i) := by
      show (nI 4 * nI d + nI 4) + nI i = _
      rw [pk_mul, nI_add, nI_add]
    refine pk_le 4 i (fun z => absurd z (by omega)) (fun _ => ⟨pk_in (4 * d + i) 16 (by omega) e1, pk_in (4 * d + 4 + i) 16 (by omega) e2, nm_e (nm_r (nI_1 i) (hw _ (fun j => ?_)))⟩)
    rw [pk_cl (4 * d + i) e1, pk_cl (4 * d + 4 + i) e2, h (4 * d + i), if_neg (by omega)]
    by_cases e : j = 4 * d + 4 + i
    · rw [e, pk_us, if_pos (by omega), show 4 * d + 4 + i - 4 = 4 * d + i by omega]
    · rw [pk_un e, h j]
      by_cases c : 4 * d + 4 ≤ j ∧ j < 4 * d + 4 + i
      · rw [if_pos c, if_pos (by omega)]
      · rw [if_neg c, if_neg (by omega)]
/-- what is bound: at depth 0 nothing; at depth 1 the first atom's fact i -/
def sr_B0 (b : Nat → Int32) : Prop := b 0 = -1 ∧ b 1 = -1 ∧ b 2 = -1 ∧ b 3 = -1
def sr_B1 (i : Nat) (b : Nat → Int32) : Prop := sr_B0 b ∧ b 4 = nI (i / 6) ∧ b 5 = nI (i % 6) ∧ b 6 = -1
theorem sr_neg {n : Nat} (h : n < 2 ^ 31) : ¬ nI n = -1 := by
  intro e
  have z : nI n < 0 := by
    rw [e]
    decide
  exact nI_pos h z
/-- the first atom, R1(a, b): both are free -/
theorem sr_bd0y {post : Int32 → St2 → Prop} {f : Nat} (hf : f < 36) (h8 : a8 0 = 101) (hB : sr_B0 a14) (H : ∀ b, sr_B1 f b → post 1 (f1, f2, f3, f4, f5, f6, f7, f8, f9, a1, a2, a3, a4, a5, a6, a7, a8, a9, a10, a11, a12, a13, b)) : ∃ n, wX_bind_62 post 0 (nI f) 0 f1 f2 f3 f4 f5 f6 f7 f8 f9 n 0 a1 a2 a3 a4 a5 a6 a7 a8 a9 a10 a11 a12 a13 a14 := by
  obtain ⟨b0, b1, b2, b3⟩ := hB
  refine sr_b62 (post := post) (x2 := nI f) (x3 := 0) 0 (by decide) (fun n s h => ?_)
  refine pk_le 4 4 (fun _ => ⟨pk_in 0 42 (by decide), by decide, by decide, by decide, ?_⟩) (fun z => absurd z (by omega))
  have s0 : s 0 = -1 := by rw [h, if_neg (by omega), b0]
  have s1 : s 1 = -1 := by rw [h, if_neg (by omega), b1]
  have s2 : s 2 = -1 := by rw [h, if_neg (by omega), b2]
  have s3 : s 3 = -1 := by rw [h, if_neg (by omega), b3]
  have s4 : s 4 = -1 := by rw [h, if_pos (by omega), b0]
  have s5 : s 5 = -1 := by rw [h, if_pos (by omega), b1]
  have s6 : s 6 = -1 := by rw [h, if_pos (by omega), b2]
  have t1 : ((a8 (0 : Int32).toNatClampNeg) / 10) - ((a8 (0 : Int32).toNatClampNeg) / 10) / 10 * 10 = nI 0 := by
    rw [sb_cl0, h8]
    decide
  have t2 : (a8 (0 : Int32).toNatClampNeg) - (a8 (0 : Int32).toNatClampNeg) / 10 * 10 = nI 1 := by
    rw [sb_cl0, h8]
    decide
  refine sr_ag (b := 4) (t := 0) (by decide) t1 (by decide) (by decide) (fun _ => ?_) (fun z => absurd s4 z) (fun z => absurd s4 z)
  refine br_f (by decide) ⟨pk_in 0 42 (by decide), by decide, by decide, ?_⟩
  have u5 : upd s (4 + 0) (nI f / 6) (4 + 1) = -1 := by
    rw [pk_un (by decide)]
    exact s5
  refine sr_ag (b := 4) (t := 1) (by decide) t2 (by decide) (by decide) (fun _ => ?_) (fun z => absurd u5 z) (fun z => absurd u5 z)
  refine br_f (by decide) (H _ ⟨⟨?_, ?_, ?_, ?_⟩, ?_, ?_, ?_⟩)
  · rw [pk_un (by decide), pk_un (by decide), s0]
  · rw [pk_un (by decide), pk_un (by decide), s1]
  · rw [pk_un (by decide), pk_un (by decide), s2]
  · rw [pk_un (by decide), pk_un (by decide), s3]
  · rw [pk_un (by decide)]
    exact pk_us.trans (pk_div (d := 6) (by omega) (by decide) (by decide))
  · exact pk_us.trans (pk_rem (d := 6) (by omega) (by decide) (by decide))
  · rw [pk_un (by decide), pk_un (by decide), s6]
/-- the second atom, R1(b, c): b is bound, c is free -/
theorem sr_bd1y {post : Int32 → St2 → Prop} {i f : Nat} (hi : i < 36) (hf : f < 36) (h8 : a8 1 = 112) (hB : sr_B1 i a14) (Hn : ¬ i % 6 = f / 6 → ∀ b, sr_B1 i b → post 0 (f1, f2, f3, f4, f5, f6, f7, f8, f9, a1, a2, a3, a4, a5, a6, a7, a8, a9, a10, a11, a12, a13, b)) (H : i % 6 = f / 6 → ∀ b, sr_B1 i b → b 8 = nI (i / 6) → b 10 = nI (f % 6) → post 1 (f1, f2, f3, f4, f5, f6, f7, f8, f9, a1, a2, a3, a4, a5, a6, a7, a8, a9, a10, a11, a12, a13, b)) : ∃ n, wX_bind_62 post 1 (nI f) 1 f1 f2 f3 f4 f5 f6 f7 f8 f9 n 0 a1 a2 a3 a4 a5 a6 a7 a8 a9 a10 a11 a12 a13 a14 := by
  obtain ⟨⟨b0, b1, b2, b3⟩, b4, b5, b6⟩ := hB
  refine sr_b62 (post := post) (x2 := nI f) (x3 := 1) 1 (by decide) (fun n s h => ?_)
  refine pk_le 4 4 (fun _ => ⟨pk_in 1 42 (by decide), by decide, by decide, by decide, ?_⟩) (fun z => absurd z (by omega))
  have s0 : s 0 = -1 := by rw [h, if_neg (by omega), b0]
  have s1 : s 1 = -1 := by rw [h, if_neg (by omega), b1]
  have s2 : s 2 = -1 := by rw [h, if_neg (by omega), b2]
  have s3 : s 3 = -1 := by rw [h, if_neg (by omega), b3]
  have s4 : s 4 = nI (i / 6) := by rw [h, if_neg (by omega), b4]
  have s5 : s 5 = nI (i % 6) := by rw [h, if_neg (by omega), b5]
  have s6 : s 6 = -1 := by rw [h, if_neg (by omega), b6]
  have s8 : s 8 = nI (i / 6) := by rw [h, if_pos (by omega), b4]
  have s9 : s (8 + 1) = nI (i % 6) := by rw [h, if_pos (by omega), b5]
  have s10 : s (8 + 2) = -1 := by rw [h, if_pos (by omega), b6]
  have t1 : ((a8 (1 : Int32).toNatClampNeg) / 10) - ((a8 (1 : Int32).toNatClampNeg) / 10) / 10 * 10 = nI 1 := by
    rw [sr_cl1, h8]
    decide
  have t2 : (a8 (1 : Int32).toNatClampNeg) - (a8 (1 : Int32).toNatClampNeg) / 10 * 10 = nI 2 := by
    rw [sr_cl1, h8]
    decide
  have q : nI f / 6 = nI (f / 6) := pk_div (d := 6) (by omega) (by decide) (by decide)
  have n9 : ¬ s (8 + 1) = -1 := by
    rw [s9]
    exact sr_neg (by omega)
  refine sr_ag (b := 8) (t := 1) (by decide) t1 (by decide) (by decide) (fun z => absurd z n9) (fun _ z => ?_) (fun _ z => ?_)
  · have y : i % 6 = f / 6 := by
      rw [s9, q, nI_eq (by omega) (by omega)] at z
      exact z
    refine br_f (by decide) ⟨pk_in 1 42 (by decide), by decide, by decide, ?_⟩
    refine sr_ag (b := 8) (t := 2) (by decide) t2 (by decide) (by decide) (fun _ => ?_) (fun z => absurd s10 z) (fun z => absurd s10 z)
    refine br_f (by decide) (H y _ ⟨⟨?_, ?_, ?_, ?_⟩, ?_, ?_, ?_⟩ ?_ ?_)
    · rw [pk_un (by decide), s0]
    · rw [pk_un (by decide), s1]
    · rw [pk_un (by decide), s2]
    · rw [pk_un (by decide), s3]
    · rw [pk_un (by decide), s4]
    · rw [pk_un (by decide), s5]
    · rw [pk_un (by decide), s6]
    · rw [pk_un (by decide), s8]
    · exact pk_us.trans (pk_rem (d := 6) (by omega) (by decide) (by decide))
  · have y : ¬ i % 6 = f / 6 := by
      rw [s9, q, nI_eq (by omega) (by omega)] at z
      exact z
    exact br_t rfl (Hn y s ⟨⟨s0, s1, s2, s3⟩, s4, s5, s6⟩)
theorem sr_bd0 {post : Int32 → St2 → Prop} {f g : Nat} (hf : f < 36) (h12 : a12 0 = 0) (h8 : a8 0 = 101) (h2 : a2 1 = lN g) (hg : g < 2 ^ 64) (hB : sr_B0 a14) (Hn : ¬ g / 2 ^ f % 2 = 1 → post 0 (f1, f2, f3, f4, -1, f6, f7, f8, f9, a1, a2, a3, a4, a5, a6, a7, a8, a9, a10, a11, a12, a13, a14)) (H : g / 2 ^ f % 2 = 1 → ∀ b, sr_B1 f b → post 1 (f1, f2, f3, f4, -1, f6, f7, f8, f9, a1, a2, a3, a4, a5, a6, a7, a8, a9, a10, a11, a12, a13, b)) : wpX_bind post (f1, f2, f3, f4, -1, f6, f7, f8, f9, a1, a2, a3, a4, a5, a6, a7, a8, a9, a10, a11, a12, a13, a14) 0 (nI f) := by
  unfold wpX_bind
  dsimp only
  refine ⟨pk_in 0 3 (by decide), nm_r (e' := 0) (by rw [sb_cl0, h12]) (br_f (by decide) ⟨pk_in 0 42 (by decide), by decide, ?_, ?_⟩)⟩
  · rw [sb_cl0, h8]
    exact pk_in 1 8 (by decide)
  · unfold wX_bind_46
    refine sr_bitAt (g := g) (f := f) (by rw [sb_cl0, h8]; exact h2) rfl hg (by omega) ?_
    exact pk_eq (g / 2 ^ f % 2) 0 (fun z => Hn (by omega)) (fun z => sr_bd0y hf h8 hB (H (by omega)))
theorem sr_bd1 {post : Int32 → St2 → Prop} {i f g : Nat} (hi : i < 36) (hf : f < 36) (h12 : a12 1 = 1) (h8 : a8 1 = 112) (h2 : a2 1 = lN g) (hg : g < 2 ^ 64) (hB : sr_B1 i a14) (Hn : ¬ (g / 2 ^ f % 2 = 1 ∧ i % 6 = f / 6) → ∀ b, sr_B1 i b → post 0 (f1, f2, f3, f4, -1, f6, f7, f8, f9, a1, a2, a3, a4, a5, a6, a7, a8, a9, a10, a11, a12, a13, b)) (H : (g / 2 ^ f % 2 = 1 ∧ i % 6 = f / 6) → ∀ b, sr_B1 i b → b 8 = nI (i / 6) → b 10 = nI (f % 6) → post 1 (f1, f2, f3, f4, -1, f6, f7, f8, f9, a1, a2, a3, a4, a5, a6, a7, a8, a9, a10, a11, a12, a13, b)) : wpX_bind post (f1, f2, f3, f4, -1, f6, f7, f8, f9, a1, a2, a3, a4, a5, a6, a7, a8, a9, a10, a11, a12, a13, a14) 1 (nI f) := by
  unfold wpX_bind
  dsimp only
  refine ⟨pk_in 1 3 (by decide), nm_r (e' := 1) (by rw [sr_cl1, h12]) (br_f (by decide) ⟨pk_in 1 42 (by decide), by decide, ?_, ?_⟩)⟩
  · rw [sr_cl1, h8]
    exact pk_in 1 8 (by decide)
  · unfold wX_bind_46
    refine sr_bitAt (g := g) (f := f) (by rw [sr_cl1, h8]; exact h2) rfl hg (by omega) ?_
    exact pk_eq (g / 2 ^ f % 2) 0 (fun z => Hn (fun y => absurd y.1 (by omega)) _ hB) (fun z => sr_bd1y hi hf h8 hB (fun y => Hn (fun x => y x.2)) (fun y => H ⟨by omega, y⟩))
end
end
section
/-! ===== arrive, join ===== -/
section
variable {f1 f2 f3 f4 f5 f6 f7 f8 f9 : Int32} {a1 a2 a3 a4 a5 : Nat → Int64} {a6 a7 a8 a9 a10 a11 a12 a13 a14 : Nat → Int32}
theorem sr_ar120 {post : St2 → Prop} {z0 x3 : Int32} {h : Nat} (hz : z0 = 0 ∨ z0 = 1) (h6 : a6 0 = 402) (hx : x3 = nI h) (hh : h < 36) (H : post (f1, f2, f3, f4, f5, f6, f7, z0, f9, a1, a2, a3, vp_updL a4 4 (a4 4 ||| lN (2 ^ h)), a5, a6, a7, a8, a9, a10, a11, a12, a13, a14)) : wX_arrive_120 post 0 x3 z0 f1 f2 f3 f4 f5 f6 f7 f8 f9 a1 a2 a3 a4 a5 a6 a7 a8 a9 a10 a11 a12 a13 a14 := by
  subst hx
  unfold wX_arrive_120
  rw [sb_cl0, h6, sr_shl (show h < 64 by omega)]
  refine ⟨?_, ?_, pk_in 0 14 (by decide), by decide, pk_in 0 14 (by decide), by decide, pk_in 4 8 (by decide), pk_in 4 8 (by decide), nm_e H⟩
  · rcases hz with z | z <;> rw [z] <;> rfl
  · rcases hz with z | z <;> rw [z] <;> rfl
theorem sr_factFor {post : Int32 → Prop} {p1 : Int32} {x y : Nat} (hp : p1 = 402) (h8 : a14 8 = nI x) (h10 : a14 10 = nI y) (H : post (nI (6 * x + y))) : wpX_factFor post (f1, f2, f3, f4, f5, f6, f7, f8, f9, a1, a2, a3, a4, a5, a6, a7, a8, a9, a10, a11, a12, a13, a14) 8 p1 := by
  subst hp
  unfold wpX_factFor
  dsimp only
  refine ⟨by decide, by decide, ?_⟩
  unfold wpX_thingFor
  dsimp only
  refine br_t (by decide) ⟨pk_in 8 16 (by decide), by decide, br_t (by decide) ⟨pk_in 10 16 (by decide), ?_⟩⟩
  have e8 : ((8 : Int32) + (402 / 10 - 402 / 10 / 10 * 10)).toNatClampNeg = 8 := by decide
  have e10 : ((8 : Int32) + (402 - 402 / 10 * 10)).toNatClampNeg = 10 := by decide
  rw [e8, e10, h8, h10, show (6 : Int32) * nI x + nI y = nI (6 * x + y) from by rw [show (6 : Int32) = nI 6 from rfl, pk_mul, nI_add]]
  exact H
theorem sr_arrive {post : St2 → Prop} {x y : Nat} (hx : x < 6) (hy : y < 6) (h4 : f4 = 2) (h6 : a6 0 = 402) (h7 : a7 0 = 2) (h90 : a9 0 = 0) (h91 : a9 1 = 0) (h8 : a14 8 = nI x) (h10 : a14 10 = nI y) (H : post (f1, f2, f3, f4, f5, f6 + 1, f7, sr_mt f7 (6 * x + y) f8, f9, a1, a2, a3, vp_updL a4 4 (a4 4 ||| lN (2 ^ (6 * x + y))), a5, a6, a7, a8, a9, a10, a11, a12, a13, a14)) : wpX_arrive post (f1, f2, f3, f4, f5, f6, f7, f8, f9, a1, a2, a3, a4, a5, a6, a7, a8, a9, a10, a11, a12, a13, a14) 0 := by
  subst h4
  unfold wpX_arrive
  dsimp only
  have hh : 6 * x + y < 36 := by omega
  refine nm_r (e' := 8) (by decide) (nm_r (e' := 0) (by decide) ⟨0 + 1 + 1 + 1, ?_⟩)
  refine ⟨pk_in 0 14 (by decide), br_f (by rw [sb_cl0, h7]; decide) ⟨pk_in 0 42 (by decide), br_t (by rw [sb_cl0]; exact h90) (nm_r (e' := 1) (by decide) ?_)⟩⟩
  refine ⟨pk_in 0 14 (by decide), br_f (by rw [sb_cl0, h7]; decide) ⟨pk_in 1 42 (by decide), br_t (by rw [sr_cl1]; exact h91) (nm_r (e' := 2) (by decide) ?_)⟩⟩
  refine ⟨pk_in 0 14 (by decide), br_t (by rw [sb_cl0, h7]; decide) ⟨pk_in 0 14 (by decide), sr_factFor (by rw [sb_cl0]; exact h6) h8 h10 (nm_e ?_)⟩⟩
  refine br_c (fun m => br_c (fun w => ?_) (fun w => ?_)) (fun m => ?_)
  · refine sr_ar120 (Or.inr rfl) h6 rfl hh ?_
    rw [show sr_mt f7 (6 * x + y) f8 = 1 from by unfold sr_mt; rw [if_pos m, if_pos w]] at H
    exact H
  · refine sr_ar120 (Or.inl rfl) h6 rfl hh ?_
    rw [show sr_mt f7 (6 * x + y) f8 = 0 from by unfold sr_mt; rw [if_pos m, if_neg w]] at H
    exact H
  · refine sr_ar120 (Or.inr rfl) h6 rfl hh ?_
    rw [show sr_mt f7 (6 * x + y) f8 = 1 from by unfold sr_mt; rw [if_neg m]] at H
    exact H
/-- one way: depth 2, back to depth 1 -/
theorem sr_s2 {post : St2 → Prop} {st x y w c : Nat} {m : Int32} (hst : st < 60000) (hx : x < 6) (hy : y < 6) (h6 : a6 0 = 402) (h7 : a7 0 = 2) (h90 : a9 0 = 0) (h91 : a9 1 = 0) (h8 : a14 8 = nI x) (h10 : a14 10 = nI y) (H : ∀ n, 60000 < n + (st + 1) → wX_join_100 post 0 n 1 (nI (st + 1)) f1 f2 f3 2 (-1) (nI (w + 1)) f7 (sr_mt f7 (6 * x + y) m) f9 a1 a2 a3 (vp_updL a4 4 (lN (c ||| 2 ^ (6 * x + y)))) a5 a6 a7 a8 a9 a10 a11 a12 a13 a14) : ∀ n, 60000 < n + st → wX_join_100 post 0 n 2 (nI st) f1 f2 f3 2 (-1) (nI w) f7 m f9 a1 a2 a3 (vp_updL a4 4 (lN c)) a5 a6 a7 a8 a9 a10 a11 a12 a13 a14 := by
  intro n0 hn
  obtain ⟨n, rfl⟩ : ∃ n, n0 = n + 1 := ⟨n0 - 1, by omega⟩
  refine pk_le 60000 st (fun z => absurd z (by omega)) (fun _ => br_f (by decide) (br_t rfl (sr_arrive hx hy rfl h6 h7 h90 h91 h8 h10 (nm_r (e' := 1) (by decide) (nm_r (nI_1 st) ?_)))))
  have hh := H n (by omega)
  rw [← nI_1 w, ← sr_orN, ← sr_uu a4 4 (lN c)] at hh
  exact hh
/-- a full turn of the second atom -/
theorem sr_s1e {post : St2 → Prop} {st : Nat} {w m : Int32} (hst : st < 60000) (hc : a13 1 = 36) (H : ∀ n, 60000 < n + (st + 1) → wX_join_100 post 0 n 0 (nI (st + 1)) f1 f2 f3 2 (-1) w f7 m f9 a1 a2 a3 a4 a5 a6 a7 a8 a9 a10 a11 a12 a13 a14) : ∀ n, 60000 < n + st → wX_join_100 post 0 n 1 (nI st) f1 f2 f3 2 (-1) w f7 m f9 a1 a2 a3 a4 a5 a6 a7 a8 a9 a10 a11 a12 a13 a14 := by
  intro n0 hn
  obtain ⟨n, rfl⟩ : ∃ n, n0 = n + 1 := ⟨n0 - 1, by omega⟩
  exact pk_le 60000 st (fun z => absurd z (by omega)) (fun _ => br_f (by decide) (br_f (by decide) ⟨pk_in 1 4 (by decide), br_t (by rw [sr_cl1]; exact hc) (nm_r (e' := 0) (by decide) (nm_r (nI_1 st) (H n (by omega))))⟩))
/-- the end: a full turn of the first atom -/
theorem sr_s0e {post : St2 → Prop} {st : Nat} {w m : Int32} (hst : st < 50000) (hc : a13 0 = 36) (H : post (f1, f2, f3, 2, -1, w, f7, m, f9, a1, a2, a3, a4, a5, a6, a7, a8, a9, a10, a11, a12, a13, a14)) : ∀ n, 60000 < n + st → wX_join_100 post 0 n 0 (nI st) f1 f2 f3 2 (-1) w f7 m f9 a1 a2 a3 a4 a5 a6 a7 a8 a9 a10 a11 a12 a13 a14 := by
  intro n0 hn
  obtain ⟨n, rfl⟩ : ∃ n, n0 = n + 1 + 1 := ⟨n0 - 2, by omega⟩
  refine pk_le 60000 st (fun z => absurd z (by omega)) (fun _ => br_f (by decide) (br_f (by decide) ⟨pk_in 0 4 (by decide), br_t (by rw [sb_cl0]; exact hc) (nm_r (e' := -1) (by decide) (nm_r (nI_1 st) ?_))⟩))
  exact pk_le 60000 (st + 1) (fun z => absurd z (by omega)) (fun _ => br_t (by decide) H)
theorem sr_n36 {j : Nat} (hj : j < 36) : ¬ nI j = 36 := by
  intro e
  have z := (nI_eq (a := j) (b := 36) (by omega) (by decide)).mp e
  omega
/-- the second atom tries the fact j -/
theorem sr_s1 {post : St2 → Prop} {st i j w c g : Nat} {m : Int32} (hst : st + 2 < 60000) (hi : i < 36) (hj : j < 36) (h6 : a6 0 = 402) (h7 : a7 0 = 2) (h90 : a9 0 = 0) (h91 : a9 1 = 0) (h81 : a8 1 = 112) (h12 : a12 1 = 1) (h2 : a2 1 = lN g) (hg : g < 2 ^ 64) (hc : a13 1 = nI j) (hB : sr_B1 i a14)
    (H : ∀ (st' w' c' : Nat) (m' : Int32) (cur' bnd' : Nat → Int32), st' ≤ st + 2 → cur' 0 = a13 0 → cur' 1 = nI (j + 1) → sr_B1 i bnd' → (w', m', c') = (if g / 2 ^ j % 2 = 1 ∧ i % 6 = j / 6 then sr_hit f7 (6 * (i / 6) + j % 6) (w, m, c) else (w, m, c)) → ∀ n, 60000 < n + st' → wX_join_100 post 0 n 1 (nI st') f1 f2 f3 2 (-1) (nI w') f7 m' f9 a1 a2 a3 (vp_updL a4 4 (lN c')) a5 a6 a7 a8 a9 a10 a11 a12 cur' bnd') : ∀ n, 60000 < n + st → wX_join_100 post 0 n 1 (nI st) f1 f2 f3 2 (-1) (nI w) f7 m f9 a1 a2 a3 (vp_updL a4 4 (lN c)) a5 a6 a7 a8 a9 a10 a11 a12 a13 a14 := by
  intro n0 hn
  obtain ⟨n, rfl⟩ : ∃ n, n0 = n + 1 := ⟨n0 - 1, by omega⟩
  have ec : a13 (1 : Int32).toNatClampNeg = nI j := by
    rw [sr_cl1]
    exact hc
  refine pk_le 60000 st (fun z => absurd z (by omega)) (fun _ => br_f (by decide) (br_f (by decide) ⟨pk_in 1 4 (by decide), br_f (by rw [ec]; exact sr_n36 hj) ⟨pk_in 1 4 (by decide), nm_r ec ⟨pk_in 1 4 (by decide), pk_in 1 4 (by decide), nm_r (e' := upd a13 1 (nI (j + 1))) (by rw [ec, sr_cl1, nI_1]) ?_⟩⟩⟩))
  refine sr_bd1 hi hj h12 h81 h2 hg hB (fun y b hb => ?_) (fun y b hb b8 b10 => ?_)
  · refine br_t rfl (nm_r (nI_1 st) (H (st + 1) w c m _ b (by omega) ?_ ?_ hb ?_ n (by omega)))
    · rw [pk_un (by decide)]
    · rw [pk_us]
    · rw [if_neg y]
  · refine br_f (by decide) (nm_r (e' := 2) (by decide) ⟨pk_in 2 4 (by decide), nm_r (e' := upd (upd a13 1 (nI (j + 1))) 2 0) rfl (nm_r (nI_1 st) ?_)⟩)
    refine sr_s2 (by omega) (by omega) (by omega) h6 h7 h90 h91 b8 b10 (H (st + 2) (w + 1) _ _ _ _ (by omega) ?_ ?_ hb ?_) n (by omega)
    · rw [pk_un (by decide), pk_un (by decide)]
    · rw [pk_un (by decide), pk_us]
    · rw [if_pos y]
      rfl
/-- the second atom's turn -/
theorem sr_inner {post : St2 → Prop} {i g C0 : Nat} (hi : i < 36) (h6 : a6 0 = 402) (h7 : a7 0 = 2) (h90 : a9 0 = 0) (h91 : a9 1 = 0) (h81 : a8 1 = 112) (h12 : a12 1 = 1) (h2 : a2 1 = lN g) (hg : g < 2 ^ 64) (S0 : Nat) (hS : S0 < 50000) : ∀ (k j st w c : Nat) (m : Int32) (a13 a14 : Nat → Int32), j + k = 36 → st ≤ S0 + 2 * j → a13 0 = nI C0 → a13 1 = nI j → sr_B1 i a14 →
    (∀ (st' : Nat) (cur' bnd' : Nat → Int32), st' ≤ S0 + 73 → cur' 0 = nI C0 → sr_B1 i bnd' → ∀ n, 60000 < n + st' → wX_join_100 post 0 n 0 (nI st') f1 f2 f3 2 (-1) (nI (sr_in g i (sr_hit f7) k j (w, m, c)).1) f7 ((sr_in g i (sr_hit f7) k j (w, m, c)).2.1) f9 a1 a2 a3 (vp_updL a4 4 (lN (sr_in g i (sr_hit f7) k j (w, m, c)).2.2)) a5 a6 a7 a8 a9 a10 a11 a12 cur' bnd') → ∀ n, 60000 < n + st → wX_join_100 post 0 n 1 (nI st) f1 f2 f3 2 (-1) (nI w) f7 m f9 a1 a2 a3 (vp_updL a4 4 (lN c)) a5 a6 a7 a8 a9 a10 a11 a12 a13 a14 := by
  intro k
  induction k with
  | zero =>
    intro j st w c m a13 a14 hjk hst hc0 hc hB H
    have ej : j = 36 := by omega
    subst ej
    exact sr_s1e (by omega) hc (H (st + 1) a13 a14 (by omega) hc0 hB)
  | succ k ih =>
    intro j st w c m a13 a14 hjk hst hc0 hc hB H
    refine sr_s1 (g := g) (i := i) (j := j) (by omega) hi (by omega) h6 h7 h90 h91 h81 h12 h2 hg hc hB (fun st' w' c' m' cur' bnd' hst' e0 e1 hB' ea => ?_)
    refine ih (j + 1) st' w' c' m' cur' bnd' (by omega) (by omega) (by rw [e0, hc0]) e1 hB' (fun st2 cur2 bnd2 hst2 e02 hB2 => ?_)
    rw [ea]
    exact H st2 cur2 bnd2 hst2 e02 hB2
/-- the first atom's turn -/
theorem sr_outer {post : St2 → Prop} {g : Nat} (h6 : a6 0 = 402) (h7 : a7 0 = 2) (h90 : a9 0 = 0) (h91 : a9 1 = 0) (h80 : a8 0 = 101) (h81 : a8 1 = 112) (h120 : a12 0 = 0) (h121 : a12 1 = 1) (h2 : a2 1 = lN g) (hg : g < 2 ^ 64) : ∀ (k i st w c : Nat) (m : Int32) (a13 a14 : Nat → Int32), i + k = 36 → st ≤ 80 * i → a13 0 = nI i → sr_B0 a14 →
    (∀ (a13 a14 : Nat → Int32), post (f1, f2, f3, 2, -1, nI (sr_out g (sr_hit f7) k i (w, m, c)).1, f7, (sr_out g (sr_hit f7) k i (w, m, c)).2.1, f9, a1, a2, a3, vp_updL a4 4 (lN (sr_out g (sr_hit f7) k i (w, m, c)).2.2), a5, a6, a7, a8, a9, a10, a11, a12, a13, a14)) → ∀ n, 60000 < n + st → wX_join_100 post 0 n 0 (nI st) f1 f2 f3 2 (-1) (nI w) f7 m f9 a1 a2 a3 (vp_updL a4 4 (lN c)) a5 a6 a7 a8 a9 a10 a11 a12 a13 a14 := by
  intro k
  induction k with
  | zero =>
    intro i st w c m a13 a14 hik hst hc hB H
    have ei : i = 36 := by omega
    subst ei
    exact sr_s0e (by omega) hc (H a13 a14)
  | succ k ih =>
    intro i st w c m a13 a14 hik hst hc hB H n0 hn
    obtain ⟨n, rfl⟩ : ∃ n, n0 = n + 1 := ⟨n0 - 1, by omega⟩
    have ec : a13 (0 : Int32).toNatClampNeg = nI i := by
      rw [sb_cl0]
      exact hc
    refine pk_le 60000 st (fun z => absurd z (by omega)) (fun _ => br_f (by decide) (br_f (by decide) ⟨pk_in 0 4 (by decide), br_f (by rw [ec]; exact sr_n36 (by omega)) ⟨pk_in 0 4 (by decide), nm_r ec ⟨pk_in 0 4 (by decide), pk_in 0 4 (by decide), nm_r (e' := upd a13 0 (nI (i + 1))) (by rw [ec, sb_cl0, nI_1]) ?_⟩⟩⟩))
    refine sr_bd0 (by omega) h120 h80 h2 hg hB (fun y => ?_) (fun y b hb => ?_)
    · refine br_t rfl (nm_r (nI_1 st) (ih (i + 1) (st + 1) w c m _ a14 (by omega) (by omega) pk_us hB (fun b13 b14 => ?_) n (by omega)))
      have hh := H b13 b14
      unfold sr_out at hh
      rw [if_neg y] at hh
      exact hh
    · refine br_f (by decide) (nm_r (e' := 1) (by decide) ⟨pk_in 1 4 (by decide), nm_r (e' := upd (upd a13 0 (nI (i + 1))) 1 0) (by rw [sr_cl1]) (nm_r (nI_1 st) ?_)⟩)
      refine sr_inner (C0 := i + 1) (g := g) (i := i) (by omega) h6 h7 h90 h91 h81 h121 h2 hg (st + 1) (by omega) 36 0 (st + 1) w c m _ b (by omega) (by omega) (by rw [pk_un (by decide), pk_us]) pk_us hb (fun st' cur' bnd' hst' e0 hB' => ?_) n (by omega)
      refine ih (i + 1) st' _ _ _ cur' bnd' (by omega) (by omega) e0 hB'.1 (fun b13 b14 => ?_)
      have hh := H b13 b14
      unfold sr_out at hh
      rw [if_pos y] at hh
      exact hh
/-- the bounds of depth 0 are made free -/
theorem sr_70 {post : St2 → Prop} (H : ∀ b, sr_B0 b → ∃ n, wX_join_100 post 0 n 0 0 f1 f2 f3 f4 f5 f6 f7 f8 f9 a1 a2 a3 a4 a5 a6 a7 a8 a9 a10 a11 a12 (upd a13 0 0) b) : ∃ n, wX_join_70 post 0 f1 f2 f3 f4 f5 f6 f7 f8 f9 n 0 a1 a2 a3 a4 a5 a6 a7 a8 a9 a10 a11 a12 a13 a14 :=
  pk_loop (fun n i s => wX_join_70 post 0 f1 f2 f3 f4 f5 f6 f7 f8 f9 n (nI i) a1 a2 a3 a4 a5 a6 a7 a8 a9 a10 a11 a12 a13 s) (fun i s => ∀ j, j < i → s j = -1) 4 0 a14 (by omega) (fun j hj => absurd hj (by omega))
    (fun n s h => pk_le 4 4 (fun _ => nm_e (H s ⟨h 0 (by decide), h 1 (by decide), h 2 (by decide), h 3 (by decide)⟩)) (fun z => absurd z (by omega)))
    (fun n i s hi h hw => pk_le 4 i (fun z => absurd z (by omega)) (fun _ => ⟨pk_in i 16 (by omega), nm_r (e' := upd s i (-1)) (by rw [nI_clamp (show i < 2 ^ 31 by omega)]) (nm_r (nI_1 i) (hw _ (fun j hj => by
      by_cases e : j = i
      · rw [e, pk_us]
      · rw [pk_un e, h j (by omega)])))⟩))
theorem sr_join {post : St2 → Prop} {g c : Nat} (h6 : a6 0 = 402) (h7 : a7 0 = 2) (h90 : a9 0 = 0) (h91 : a9 1 = 0) (h80 : a8 0 = 101) (h81 : a8 1 = 112) (h2 : a2 1 = lN g) (hg : g < 2 ^ 64) (hc : a4 4 = lN c)
    (H : ∀ (a12 a13 a14 : Nat → Int32), post (f1, f2, f3, 2, -1, nI (sr_W g), f7, sr_M g f7 f8, f9, a1, a2, a3, vp_updL a4 4 (lN (sr_C g c)), a5, a6, a7, a8, a9, a10, a11, a12, a13, a14)) : wpX_join post (f1, f2, f3, f4, f5, f6, f7, f8, f9, a1, a2, a3, a4, a5, a6, a7, a8, a9, a10, a11, a12, a13, a14) 0 (-1) := by
  unfold wpX_join
  dsimp only
  refine nm_r (e' := 0) (by decide) ⟨0 + 1 + 1 + 1, ?_⟩
  refine ⟨pk_in 0 14 (by decide), br_f (by rw [sb_cl0, h7]; decide) ⟨pk_in 0 42 (by decide), br_t (by rw [sb_cl0]; exact h90) ⟨pk_in 0 3 (by decide), nm_r (e' := upd a12 0 0) (by rw [sb_cl0]) (nm_r (e' := 1) (by decide) (nm_r (e' := 1) (by decide) ?_))⟩⟩⟩
  refine ⟨pk_in 0 14 (by decide), br_f (by rw [sb_cl0, h7]; decide) ⟨pk_in 1 42 (by decide), br_t (by rw [sr_cl1]; exact h91) ⟨pk_in 1 3 (by decide), nm_r (e' := upd (upd a12 0 0) 1 1) (by rw [sr_cl1]) (nm_r (e' := 2) (by decide) (nm_r (e' := 2) (by decide) ?_))⟩⟩⟩
  refine ⟨pk_in 0 14 (by decide), br_t (by rw [sb_cl0, h7]; decide) (sr_70 (fun b hb => ⟨60001, ?_⟩))⟩
  have k := sr_outer (post := post) (f1 := f1) (f2 := f2) (f3 := f3) (f7 := f7) (f9 := f9) (a1 := a1) (a2 := a2) (a3 := a3) (a4 := a4) (a5 := a5) (a6 := a6) (a7 := a7) (a8 := a8) (a9 := a9) (a10 := a10) (a11 := a11) (a12 := upd (upd a12 0 0) 1 1) (g := g) h6 h7 h90 h91 h80 h81 (by rw [pk_un (by decide), pk_us]) pk_us h2 hg 36 0 0 0 c f8 (upd a13 0 0) b (by decide) (by decide) pk_us hb (fun b13 b14 => ?_) 60001 (by decide)
  · rw [sr_uself a4 4 hc] at k
    exact k
  · rw [sr_hitW, sr_hitM, sr_hitC]
    exact H _ b13 b14
end
end
section
/-! ===== settle, joinNew, solve ===== -/
section
variable {f1 f2 f3 f4 f5 f6 f7 f8 f9 : Int32} {a1 a2 a3 a4 a5 : Nat → Int64} {a6 a7 a8 a9 a10 a11 a12 a13 a14 : Nat → Int32}
/-- what settle has done to the relations below i -/
def sr_Se (a2 a4 : Nat → Int64) (i : Nat) (r : Int32) (b2 b3 b4 : Nat → Int64) : Prop := (∀ j, j < i → b3 j = a4 j &&& (a2 j ^^^ (-1))) ∧ (∀ j, j < i → b2 j = a2 j ||| b3 j) ∧ (∀ j, j < i → b4 j = 0) ∧ (∀ j, i ≤ j → b2 j = a2 j) ∧ (∀ j, i ≤ j → b4 j = a4 j) ∧ ((r = 0 ∧ ∀ j, j < i → b3 j = 0) ∨ (r = 1 ∧ ∃ j, j < i ∧ ¬ b3 j = 0))
theorem sr_Se1 {a2 a4 b2 b3 b4 : Nat → Int64} {i : Nat} {r r' : Int32} {x : Int64} (h : sr_Se a2 a4 i r b2 b3 b4) (hx : x = b4 i &&& (b2 i ^^^ (-1))) (hr : r' = if r = 0 then (if x = 0 then 0 else 1) else 1) : sr_Se a2 a4 (i + 1) r' (vp_updL b2 i (b2 i ||| x)) (vp_updL b3 i x) (vp_updL b4 i 0) := by
  obtain ⟨h3, h2, h4, k2, k4, hh⟩ := h
  rw [k4 i (Nat.le_refl i), k2 i (Nat.le_refl i)] at hx
  refine ⟨fun j hj => ?_, fun j hj => ?_, fun j hj => ?_, fun j hj => ?_, fun j hj => ?_, ?_⟩
  · by_cases e : j = i
    · rw [e, pk_uLs, hx]
    · rw [pk_uLn e, h3 j (by omega)]
  · by_cases e : j = i
    · rw [e, pk_uLs, pk_uLs, k2 i (Nat.le_refl i)]
    · rw [pk_uLn e, pk_uLn e, h2 j (by omega)]
  · by_cases e : j = i
    · rw [e, pk_uLs]
    · rw [pk_uLn e, h4 j (by omega)]
  · rw [pk_uLn (by omega), k2 j (by omega)]
  · rw [pk_uLn (by omega), k4 j (by omega)]
  · rcases hh with ⟨r0, z⟩ | ⟨r1, j, hj, z⟩
    · rw [if_pos r0] at hr
      by_cases x0 : x = 0
      · rw [if_pos x0] at hr
        refine Or.inl ⟨hr, fun j hj => ?_⟩
        by_cases e : j = i
        · rw [e, pk_uLs, x0]
        · rw [pk_uLn e, z j (by omega)]
      · rw [if_neg x0] at hr
        exact Or.inr ⟨hr, i, by omega, by rw [pk_uLs]; exact x0⟩
    · rw [r1, if_neg (by decide)] at hr
      exact Or.inr ⟨hr, j, by omega, by rw [pk_uLn (by omega)]; exact z⟩
theorem sr_settle {post : Int32 → St2 → Prop} (H : ∀ r b2 b3 b4, sr_Se a2 a4 8 r b2 b3 b4 → post r (f1, f2, f3, f4, f5, f6, f7, f8, f9, a1, b2, b3, b4, a5, a6, a7, a8, a9, a10, a11, a12, a13, a14)) : wpX_settle post (f1, f2, f3, f4, f5, f6, f7, f8, f9, a1, a2, a3, a4, a5, a6, a7, a8, a9, a10, a11, a12, a13, a14) := by
  unfold wpX_settle
  dsimp only
  refine pk_loop (σ := Int32 × (Nat → Int64) × (Nat → Int64) × (Nat → Int64)) (fun n i s => wX_settle_4 post f1 f2 f3 f4 f5 f6 f7 f8 f9 n s.1 (nI i) a1 s.2.1 s.2.2.1 s.2.2.2 a5 a6 a7 a8 a9 a10 a11 a12 a13 a14) (fun i s => sr_Se a2 a4 i s.1 s.2.1 s.2.2.1 s.2.2.2) 8 0 (0, a2, a3, a4) (by omega) ?_ ?_ ?_
  · exact ⟨fun j hj => absurd hj (by omega), fun j hj => absurd hj (by omega), fun j hj => absurd hj (by omega), fun j _ => rfl, fun j _ => rfl, Or.inl ⟨rfl, fun j hj => absurd hj (by omega)⟩⟩
  · intro n s h
    obtain ⟨r, b2, b3, b4⟩ := s
    dsimp only at h
    refine pk_le 8 8 (fun _ => ⟨?_, H r b2 b3 b4 h⟩) (fun z => absurd z (by omega))
    rcases h.2.2.2.2.2 with z | z
    · show narrow .boolean (.int r) = .int r
      rw [z.1]
      rfl
    · show narrow .boolean (.int r) = .int r
      rw [z.1]
      rfl
  · intro n i s hi h hw
    obtain ⟨r, b2, b3, b4⟩ := s
    dsimp only at h
    have ei : (nI i).toNatClampNeg = i := nI_clamp (by omega)
    have ii : vp_in (nI i) 8 := vp_in_nI hi (by decide)
    have K : ∀ r', (r' = if r = 0 then (if b4 i &&& (b2 i ^^^ (-1)) = 0 then 0 else 1) else 1) → wX_settle_4 post f1 f2 f3 f4 f5 f6 f7 f8 f9 n r' (nI (i + 1)) a1 (vp_updL b2 i (b2 i ||| (b4 i &&& (b2 i ^^^ (-1))))) (vp_updL b3 i (b4 i &&& (b2 i ^^^ (-1)))) (vp_updL b4 i 0) a5 a6 a7 a8 a9 a10 a11 a12 a13 a14 := fun r' hr' => hw (r', _, _, _) (sr_Se1 h rfl hr')
    refine pk_le 8 i (fun z => absurd z (by omega)) (fun _ => ⟨ii, ii, ii, nm_r (e' := vp_updL b3 i (b4 i &&& (b2 i ^^^ (-1)))) (by rw [ei]) ⟨ii, ii, ii, nm_r (e' := vp_updL b2 i (b2 i ||| (b4 i &&& (b2 i ^^^ (-1))))) (by rw [ei, pk_uLs]) ⟨ii, nm_r (e' := vp_updL b4 i 0) (by rw [ei]) ?_⟩⟩⟩)
    refine br_c (fun r0 => ⟨ii, ?_⟩) (fun r0 => nm_r (nI_1 i) (K 1 (by rw [if_neg r0])))
    rw [ei, pk_uLs]
    exact br_c (fun x0 => nm_r (nI_1 i) (K 0 (by rw [if_pos r0, if_pos x0]))) (fun x0 => nm_r (nI_1 i) (K 1 (by rw [if_pos r0, if_neg x0])))
/-- settle when nothing has come up -/
theorem sr_settle0 {post : Int32 → St2 → Prop} (hz : ∀ j, j < 8 → a4 j = 0) (H : ∀ b2 b3 b4, (∀ j, j < 8 → b2 j = a2 j) → (∀ j, j < 8 → b3 j = 0) → (∀ j, j < 8 → b4 j = 0) → post 0 (f1, f2, f3, f4, f5, f6, f7, f8, f9, a1, b2, b3, b4, a5, a6, a7, a8, a9, a10, a11, a12, a13, a14)) : wpX_settle post (f1, f2, f3, f4, f5, f6, f7, f8, f9, a1, a2, a3, a4, a5, a6, a7, a8, a9, a10, a11, a12, a13, a14) := by
  refine sr_settle (fun r b2 b3 b4 h => ?_)
  obtain ⟨h3, h2, h4, _, _, hh⟩ := h
  have z3 : ∀ j, j < 8 → b3 j = 0 := fun j hj => by rw [h3 j hj, hz j hj, sr_lz]
  have z2 : ∀ j, j < 8 → b2 j = a2 j := fun j hj => by rw [h2 j hj, z3 j hj, sr_oz]
  rcases hh with ⟨r0, _⟩ | ⟨_, j, hj, z⟩
  · rw [r0]
    exact H b2 b3 b4 z2 z3 h4
  · exact absurd (z3 j hj) z
theorem sr_layer {post : Int32 → Prop} {u : St0} {x : Int32} (hx : x = 402) (H : post 2) : wpX_layerOf post u x := by
  subst hx
  unfold wpX_layerOf
  rw [show (402 : Int32) / 200 = 2 from by decide]
  exact ⟨by decide, H⟩
/-- joinNew at layer 2 when R1 has no new facts -/
theorem sr_joinNew {post : St2 → Prop} (h1 : f1 = 1) (h3 : f3 = -1) (h6 : a6 0 = 402) (h7 : a7 0 = 2) (h90 : a9 0 = 0) (h91 : a9 1 = 0) (h80 : a8 0 = 101) (h81 : a8 1 = 112) (hz : a3 1 = 0) (H : post (f1, f2, f3, f4, f5, f6, f7, f8, f9, a1, a2, a3, a4, a5, a6, a7, a8, a9, a10, a11, a12, a13, a14)) : wpX_joinNew post (f1, f2, f3, f4, f5, f6, f7, f8, f9, a1, a2, a3, a4, a5, a6, a7, a8, a9, a10, a11, a12, a13, a14) 2 := by
  subst h1 h3
  unfold wpX_joinNew
  dsimp only
  have c0 : (0 : Int32) / 3 = 0 := by decide
  have c1 : (1 : Int32) / 3 = 0 := by decide
  have c2 : (2 : Int32) / 3 = 0 := by decide
  have e7 : a7 (0 : Int32).toNatClampNeg = 2 := by rw [sb_cl0, h7]
  have e6 : a6 (0 : Int32).toNatClampNeg = 402 := by rw [sb_cl0, h6]
  refine ⟨0 + 1 + 1 + 1 + 1, ?_⟩
  refine br_f (by decide) ⟨by decide, nm_r c0 ⟨by decide, pk_in 0 14 (by decide), br_f (by rw [e7]; decide) ⟨pk_in 0 14 (by decide), sr_layer e6 (br_t rfl (br_f (by decide) ?_))⟩⟩⟩
  refine br_f (by decide) ⟨pk_in 0 42 (by decide), br_t (by rw [sb_cl0, h90]) ⟨pk_in 0 42 (by decide), by decide, by rw [sb_cl0, h80]; exact pk_in 1 8 (by decide), br_t (by rw [sb_cl0, h80]; exact hz) (nm_r (e' := 1) (by decide) ?_)⟩⟩
  refine br_f (by decide) ⟨by decide, nm_r c1 ⟨by decide, pk_in 0 14 (by decide), br_f (by rw [e7]; decide) ⟨pk_in 0 14 (by decide), sr_layer e6 (br_t rfl (br_f (by decide) ?_))⟩⟩⟩
  refine br_f (by decide) ⟨pk_in 1 42 (by decide), br_t (by rw [sr_cl1, h91]) ⟨pk_in 1 42 (by decide), by decide, by rw [sr_cl1, h81]; exact pk_in 1 8 (by decide), br_t (by rw [sr_cl1, h81]; exact hz) (nm_r (e' := 2) (by decide) ?_)⟩⟩
  refine br_f (by decide) ⟨by decide, nm_r c2 ⟨by decide, pk_in 0 14 (by decide), br_t (by rw [e7]; decide) (br_t rfl (nm_r (e' := 3) (by decide) ?_))⟩⟩
  exact br_t (by decide) H
/-- a layer that has no rule -/
theorem sr_lay {post : St2 → Prop} {J : Int32 → Int32 → Int32 → Int32 → Int32 → Int32 → Int32 → Int32 → Int32 → Int32 → (Nat → Int64) → (Nat → Int64) → (Nat → Int64) → (Nat → Int64) → (Nat → Int64) → (Nat → Int32) → (Nat → Int32) → (Nat → Int32) → (Nat → Int32) → (Nat → Int32) → (Nat → Int32) → (Nat → Int32) → (Nat → Int32) → (Nat → Int32) → Prop} {x1 x1' : Int32} (hx : ¬ (2 : Int32) = x1) (hx' : x1 + 1 = x1') (h1 : f1 = 1) (h6 : a6 0 = 402) (hz : ∀ j, j < 8 → a4 j = 0) (H : ∀ b2 b3 b4, (∀ j, j < 8 → b2 j = a2 j) → (∀ j, j < 8 → b3 j = 0) → (∀ j, j < 8 → b4 j = 0) → J x1' f1 f2 f3 f4 f5 f6 f7 f8 f9 a1 b2 b3 b4 a5 a6 a7 a8 a9 a10 a11 a12 a13 a14) : ∃ n, wX_solve_49 post J x1 n 0 f1 f2 f3 f4 f5 f6 f7 f8 f9 a1 a2 a3 a4 a5 a6 a7 a8 a9 a10 a11 a12 a13 a14 := by
  subst h1
  refine ⟨0 + 1 + 1, ?_⟩
  refine br_f (by decide) ⟨pk_in 0 14 (by decide), sr_layer (by rw [sb_cl0]; exact h6) (br_f hx (nm_r (e' := 1) (by decide) ?_))⟩
  refine br_t (by decide) (sr_settle0 hz (fun b2 b3 b4 k2 k3 k4 => ⟨0 + 1, ?_⟩))
  exact br_f (by decide) (br_t rfl (nm_r hx' (H b2 b3 b4 k2 k3 k4)))
/-- the layer of the rule -/
theorem sr_lay2 {post : St2 → Prop} {J : Int32 → Int32 → Int32 → Int32 → Int32 → Int32 → Int32 → Int32 → Int32 → Int32 → (Nat → Int64) → (Nat → Int64) → (Nat → Int64) → (Nat → Int64) → (Nat → Int64) → (Nat → Int32) → (Nat → Int32) → (Nat → Int32) → (Nat → Int32) → (Nat → Int32) → (Nat → Int32) → (Nat → Int32) → (Nat → Int32) → (Nat → Int32) → Prop} {g : Nat} (h1 : f1 = 1) (h3 : f3 = -1) (h6 : a6 0 = 402) (h7 : a7 0 = 2) (h90 : a9 0 = 0) (h91 : a9 1 = 0) (h80 : a8 0 = 101) (h81 : a8 1 = 112) (h2 : a2 1 = lN g) (hg : g < 2 ^ 64) (h24 : a2 4 = 0) (hz : ∀ j, j < 8 → a4 j = 0)
    (H : ∀ f4 f5 f6 f7 f8 b2 b3 b4 a12 a13 a14, b2 1 = lN g → b2 4 = lN (sr_C g 0) → (∀ j, j < 8 → b4 j = 0) → J 3 f1 f2 f3 f4 f5 f6 f7 f8 f9 a1 b2 b3 b4 a5 a6 a7 a8 a9 a10 a11 a12 a13 a14) : ∃ n, wX_solve_49 post J 2 n 0 f1 f2 f3 f4 f5 f6 f7 f8 f9 a1 a2 a3 a4 a5 a6 a7 a8 a9 a10 a11 a12 a13 a14 := by
  refine ⟨0 + 1 + 1, ?_⟩
  refine br_f (by rw [h1]; decide) ⟨pk_in 0 14 (by decide), sr_layer (by rw [sb_cl0]; exact h6) (br_t rfl (br_f (by rw [h3]; decide) ?_))⟩
  refine sr_join (g := g) (c := 0) h6 h7 h90 h91 h80 h81 h2 hg (hz 4 (by decide)) (fun a12 a13 a14 => nm_r (e' := 1) (by decide) ?_)
  refine br_t (by rw [h1]; decide) (sr_settle (fun r b2 b3 b4 h => ?_))
  obtain ⟨k3, k2, k4, _, _, hr⟩ := h
  have z31 : b3 1 = 0 := by rw [k3 1 (by decide), pk_uLn (by decide), hz 1 (by decide), sr_lz]
  have z21 : b2 1 = lN g := by rw [k2 1 (by decide), z31, sr_oz, h2]
  have z24 : b2 4 = lN (sr_C g 0) := by rw [k2 4 (by decide), k3 4 (by decide), pk_uLs, h24, sr_all, sr_zo]
  rcases hr with ⟨r0, _⟩ | ⟨r1, _⟩
  · refine ⟨0 + 1, ?_⟩
    rw [r0]
    exact br_f (by decide) (br_t rfl (nm_r (e' := 3) (by decide) (H _ _ _ _ _ b2 b3 b4 a12 a13 a14 z21 z24 k4)))
  · refine ⟨0 + 1 + 1, ?_⟩
    rw [r1]
    refine br_f (by decide) (br_f (by decide) (sr_joinNew h1 h3 h6 h7 h90 h91 h80 h81 z31 (sr_settle0 k4 (fun c2 c3 c4 q2 q3 q4 => nm_r (e' := 1) (by decide) ?_))))
    exact br_f (by decide) (br_t rfl (nm_r (e' := 3) (by decide) (H _ _ _ _ _ c2 c3 c4 a12 a13 a14 (by rw [q2 1 (by decide), z21]) (by rw [q2 4 (by decide), z24]) q4)))
theorem sr_solve {post : St2 → Prop} {g : Nat} (h1 : f1 = 1) (h3 : f3 = -1) (h6 : a6 0 = 402) (h7 : a7 0 = 2) (h90 : a9 0 = 0) (h91 : a9 1 = 0) (h80 : a8 0 = 101) (h81 : a8 1 = 112) (h11 : a1 1 = lN g) (hg : g < 2 ^ 64) (h14 : a1 4 = 0)
    (H : ∀ f4 f5 f6 f7 f8 a2 a3 a4 a12 a13 a14, a2 1 = lN g → a2 4 = lN (sr_C g 0) → post (f1, f2, f3, f4, f5, f6, f7, f8, f9, a1, a2, a3, a4, a5, a6, a7, a8, a9, a10, a11, a12, a13, a14)) : wpX_solve post (f1, f2, f3, f4, f5, f6, f7, f8, f9, a1, a2, a3, a4, a5, a6, a7, a8, a9, a10, a11, a12, a13, a14) := by
  unfold wpX_solve
  dsimp only
  refine pk_loop (σ := (Nat → Int64) × (Nat → Int64) × (Nat → Int64)) (fun n i s => wX_solve_2 post f1 f2 f3 f4 f5 f6 f7 f8 f9 n (nI i) a1 s.1 s.2.1 s.2.2 a5 a6 a7 a8 a9 a10 a11 a12 a13 a14) (fun i s => (∀ j, j < i → s.1 j = a1 j) ∧ (∀ j, j < i → s.2.2 j = 0)) 8 0 (a2, a3, a4) (by omega) ⟨fun j hj => absurd hj (by omega), fun j hj => absurd hj (by omega)⟩ ?_ ?_
  · intro n s h
    obtain ⟨b2, b3, b4⟩ := s
    obtain ⟨k2, k4⟩ := h
    dsimp only at k2 k4
    refine pk_le 8 8 (fun _ => ⟨0 + 1 + 1 + 1 + 1 + 1, ?_⟩) (fun z => absurd z (by omega))
    refine br_f (by decide) (sr_lay (x1' := 1) (by decide) (by decide) h1 h6 k4 (fun c2 c3 c4 q2 q3 q4 => ?_))
    refine br_f (by decide) (sr_lay (x1' := 2) (by decide) (by decide) h1 h6 q4 (fun d2 d3 d4 p2 p3 p4 => ?_))
    have g2 : ∀ j, j < 8 → d2 j = a1 j := fun j hj => (p2 j hj).trans ((q2 j hj).trans (k2 j hj))
    refine br_f (by decide) (sr_lay2 (g := g) h1 h3 h6 h7 h90 h91 h80 h81 (by rw [g2 1 (by decide), h11]) hg (by rw [g2 4 (by decide), h14]) p4 (fun e4 e5 e6 e7 e8 l2 l3 l4 l12 l13 l14 m1 m4 mz => ?_))
    refine br_f (by decide) (sr_lay (x1' := 4) (by decide) (by decide) h1 h6 mz (fun c2 c3 c4 q2 q3 q4 => ?_))
    exact br_t (by decide) (H e4 e5 e6 e7 e8 c2 c3 c4 l12 l13 l14 (by rw [q2 1 (by decide), m1]) (by rw [q2 4 (by decide), m4]))
  · intro n i s hi h hw
    obtain ⟨b2, b3, b4⟩ := s
    obtain ⟨k2, k4⟩ := h
    dsimp only at k2 k4
    have ei : (nI i).toNatClampNeg = i := nI_clamp (by omega)
    have ii : vp_in (nI i) 8 := vp_in_nI hi (by decide)
    have K := hw (vp_updL b2 i (a1 i), vp_updL b3 i 0, vp_updL b4 i 0) ⟨fun j hj => ?_, fun j hj => ?_⟩
    · exact pk_le 8 i (fun z => absurd z (by omega)) (fun _ => ⟨ii, ii, nm_r (e' := vp_updL b2 i (a1 i)) (by rw [ei]) ⟨ii, nm_r (e' := vp_updL b3 i 0) (by rw [ei]) ⟨ii, nm_r (e' := vp_updL b4 i 0) (by rw [ei]) (nm_r (nI_1 i) K)⟩⟩⟩)
    · dsimp only
      by_cases e : j = i
      · rw [e, pk_uLs]
      · rw [pk_uLn e, k2 j (by omega)]
    · dsimp only
      by_cases e : j = i
      · rw [e, pk_uLs]
      · rw [pk_uLn e, k4 j (by omega)]
end
end
section
/-! ===== give, body, rule; ways, holds, supports, size ===== -/
section
variable {f1 f2 f3 f4 f5 f6 f7 f8 f9 : Int32} {a1 a2 a3 a4 a5 : Nat → Int64} {a6 a7 a8 a9 a10 a11 a12 a13 a14 : Nat → Int32}
theorem sr_thing {post : Int32 → Prop} {u : St0} {p : Nat} (hp : p < 6) (H : post 1) : wpX_isThing post u (nI p) :=
  br_f (nI_pos (by omega)) (pk_le 6 p (fun z => absurd z (by omega)) (fun _ => H))
theorem sr_rel {post : Int32 → Prop} {u : St0} {x : Int32} (h0 : ¬ x < 0) (h8 : ¬ 8 ≤ x) (H : post 1) : wpX_isRelation post u x := br_f h0 (br_f h8 H)
theorem sr_fact (p q : Nat) : (6 : Int32) * nI p + nI q = nI (6 * p + q) := by
  show nI 6 * nI p + nI q = _
  rw [pk_mul, nI_add]
theorem sr_give {post : Int32 → St2 → Prop} {g p q : Nat} (hp : p < 6) (hq : q < 6) (h1 : a1 1 = lN g)
    (H0 : lN g &&& lN (2 ^ (6 * p + q)) = 0 → post 0 (f1, f2, f3, f4, f5, f6, f7, f8, 0, vp_updL a1 1 (lN (g ||| 2 ^ (6 * p + q))), a2, a3, a4, a5, a6, a7, a8, a9, a10, a11, a12, a13, a14))
    (H1 : ¬ lN g &&& lN (2 ^ (6 * p + q)) = 0 → post 1 (f1, f2, f3, f4, f5, f6, f7, f8, 0, vp_updL a1 1 (lN (g ||| 2 ^ (6 * p + q))), a2, a3, a4, a5, a6, a7, a8, a9, a10, a11, a12, a13, a14)) : wpX_give post (f1, f2, f3, f4, f5, f6, f7, f8, f9, a1, a2, a3, a4, a5, a6, a7, a8, a9, a10, a11, a12, a13, a14) 1 (nI p) (nI q) 1 := by
  unfold wpX_give
  dsimp only
  refine sr_rel (by decide) (by decide) (br_f (by decide) (sr_thing hp (br_f (by decide) (sr_thing hq (br_f (by decide) (nm_r (e' := lN (2 ^ (6 * p + q))) (by rw [sr_fact, sr_shl (show 6 * p + q < 64 by omega)]) ⟨pk_in 1 8 (by decide), ?_⟩))))))
  have e : a1 (1 : Int32).toNatClampNeg = lN g := by rw [sr_cl1, h1]
  have k : vp_updL a1 (1 : Int32).toNatClampNeg (a1 (1 : Int32).toNatClampNeg ||| lN (2 ^ (6 * p + q))) = vp_updL a1 1 (lN (g ||| 2 ^ (6 * p + q))) := by rw [e, sr_cl1, sr_orN]
  refine br_c (fun z => ?_) (fun z => ?_)
  · rw [e] at z
    exact br_f (by decide) ⟨pk_in 1 8 (by decide), pk_in 1 8 (by decide), nm_r k (H0 z)⟩
  · rw [e] at z
    exact br_f (by decide) ⟨pk_in 1 8 (by decide), pk_in 1 8 (by decide), nm_r k (H1 z)⟩
theorem sr_body {post : Int32 → St2 → Prop} {d : Nat} {x : Int32} (hx0 : ¬ x < 0) (hx : x ≤ 799) (hd : d < 3) (h2 : f2 = nI d) (H : post (nI (d + 1)) (f1, nI (d + 1), f3, f4, f5, f6, f7, f8, f9, a1, a2, a3, a4, a5, a6, a7, a8, a9, upd a10 d x, upd a11 d 0, a12, a13, a14)) : wpX_body post (f1, f2, f3, f4, f5, f6, f7, f8, f9, a1, a2, a3, a4, a5, a6, a7, a8, a9, a10, a11, a12, a13, a14) x 0 := by
  subst h2
  unfold wpX_body
  dsimp only
  have ed : (nI d).toNatClampNeg = d := nI_clamp (by omega)
  refine br_f hx0 (br_t hx (pk_eq d 3 (fun z => absurd z (by omega)) (fun _ => ⟨vp_in_nI hd (by decide), nm_r (e' := upd a10 d x) (by rw [ed]) (br_t rfl ?_)⟩)))
  exact ⟨vp_in_nI hd (by decide), nm_r (e' := upd a11 d 0) (by rw [ed]; rfl) (nm_r (nI_1 d) H)⟩
theorem sr_layG {post : Int32 → Prop} {u : St0} {x : Int32} (y : Int32) (h : x / 200 = y) (H : post y) : wpX_layerOf post u x := by
  subst h
  exact ⟨by decide, H⟩
theorem sr_vars {post : Int32 → Prop} {u : St0} {x : Int32} (t1 t2 v : Int32) (h1 : (x / 10) - (x / 10) / 10 * 10 = t1) (h2 : x - x / 10 * 10 = t2) (h3 : ¬ 4 ≤ t1) (h4 : ¬ 4 ≤ t2) (h5 : ((1 : Int32) <<< (t1 &&& 31)) ||| ((1 : Int32) <<< (t2 &&& 31)) = v) (H : post v) : wpX_variablesOf post u x := by
  subst h5
  exact ⟨by decide, by decide, nm_r h1 ⟨by decide, nm_r h2 (br_f h3 (br_f h4 H))⟩⟩
theorem sr_rule {post : Int32 → St2 → Prop} (h1 : f1 = 0) (h2 : f2 = 2) (h100 : a10 0 = 101) (h101 : a10 1 = 112) (h110 : a11 0 = 0) (h111 : a11 1 = 0) (H : post 0 (1, 0, f3, f4, f5, f6, f7, f8, 0, a1, a2, a3, a4, a5, upd a6 0 402, upd a7 0 2, upd (upd a8 0 101) 1 112, upd (upd a9 0 0) 1 0, a10, a11, a12, a13, a14)) : wpX_rule post (f1, f2, f3, f4, f5, f6, f7, f8, f9, a1, a2, a3, a4, a5, a6, a7, a8, a9, a10, a11, a12, a13, a14) 402 := by
  subst h1 h2
  unfold wpX_rule
  dsimp only
  have e100 : a10 (0 : Int32).toNatClampNeg = 101 := by rw [sb_cl0, h100]
  have e101 : a10 (1 : Int32).toNatClampNeg = 112 := by rw [sr_cl1, h101]
  have e110 : a11 (0 : Int32).toNatClampNeg = 0 := by rw [sb_cl0, h110]
  have e111 : a11 (1 : Int32).toNatClampNeg = 0 := by rw [sr_cl1, h111]
  refine br_f (by decide) (br_t (by decide) (br_f (by decide) (sr_layG 2 (by decide) ⟨0 + 1 + 1 + 1, ?_⟩)))
  refine br_f (by decide) ⟨pk_in 0 3 (by decide), br_t e110 ⟨pk_in 0 3 (by decide), sr_layG 0 (by rw [e100]; decide) (br_t (by decide) ⟨pk_in 0 3 (by decide), br_t e110 ⟨pk_in 0 3 (by decide), sr_vars 0 1 3 (by rw [e100]; decide) (by rw [e100]; decide) (by decide) (by decide) (by decide) (nm_r (e' := 3) (by decide) (nm_r (e' := 1) (by decide) ?_))⟩⟩)⟩⟩
  refine br_f (by decide) ⟨pk_in 1 3 (by decide), br_t e111 ⟨pk_in 1 3 (by decide), sr_layG 0 (by rw [e101]; decide) (br_t (by decide) ⟨pk_in 1 3 (by decide), br_t e111 ⟨pk_in 1 3 (by decide), sr_vars 1 2 6 (by rw [e101]; decide) (by rw [e101]; decide) (by decide) (by decide) (by decide) (nm_r (e' := 7) (by decide) (nm_r (e' := 2) (by decide) ?_))⟩⟩)⟩⟩
  refine br_t (by decide) (sr_vars 0 2 5 (by decide) (by decide) (by decide) (by decide) (by decide) ⟨0 + 1 + 1 + 1, ?_⟩)
  refine br_f (by decide) ⟨pk_in 0 3 (by decide), br_t e110 (nm_r (e' := 5) (by decide) (nm_r (e' := 1) (by decide) ?_))⟩
  refine br_f (by decide) ⟨pk_in 1 3 (by decide), br_t e111 (nm_r (e' := 5) (by decide) (nm_r (e' := 2) (by decide) ?_))⟩
  refine br_t (by decide) (br_t (by decide) ⟨pk_in 0 14 (by decide), nm_r (e' := upd a6 0 402) (by rw [sb_cl0]) ⟨pk_in 0 14 (by decide), nm_r (e' := upd a7 0 2) (by rw [sb_cl0]) ⟨0 + 1 + 1 + 1, ?_⟩⟩⟩)
  refine br_f (by decide) ⟨pk_in 0 3 (by decide), pk_in 0 42 (by decide), nm_r (e' := upd a8 0 101) (by rw [e100]; rfl) ⟨pk_in 0 3 (by decide), pk_in 0 42 (by decide), nm_r (e' := upd a9 0 0) (by rw [e110]; rfl) (nm_r (e' := 1) (by decide) ?_)⟩⟩
  refine br_f (by decide) ⟨pk_in 1 3 (by decide), pk_in 1 42 (by decide), nm_r (e' := upd (upd a8 0 101) 1 112) (by rw [e101]; rfl) ⟨pk_in 1 3 (by decide), pk_in 1 42 (by decide), nm_r (e' := upd (upd a9 0 0) 1 0) (by rw [e111]; rfl) (nm_r (e' := 2) (by decide) ?_)⟩⟩
  exact br_t (by decide) (nm_r (e' := 1) (by decide) (by rw [show (1 : Int32) - 1 = 0 from by decide]; exact H))
/-- the rule stands -/
def sr_R (f1 f3 : Int32) (a6 a7 a8 a9 : Nat → Int32) : Prop := f1 = 1 ∧ f3 = -1 ∧ a6 0 = 402 ∧ a7 0 = 2 ∧ a9 0 = 0 ∧ a9 1 = 0 ∧ a8 0 = 101 ∧ a8 1 = 112
theorem sr_isRule {post : Int32 → Prop} (h1 : f1 = 1) (H : post 1) : wpX_isRule post (f1, f2, f3, f4, f5, f6, f7, f8, f9, a1, a2, a3, a4, a5, a6, a7, a8, a9, a10, a11, a12, a13, a14) 0 := by
  subst h1
  exact br_f (by decide) (br_f (by decide) H)
theorem sr_ways {post : Int32 → St2 → Prop} {g : Nat} (hR : sr_R f1 f3 a6 a7 a8 a9) (h9 : f9 = 0) (h11 : a1 1 = lN g) (hg : g < 2 ^ 64) (h14 : a1 4 = 0)
    (H : ∀ f4 f5 f6 f7 f8 a2 a3 a4 a12 a13 a14, a2 1 = lN g → a2 4 = lN (sr_C g 0) → post (nI (sr_W g)) (f1, f2, f3, f4, f5, f6, f7, f8, 1, a1, a2, a3, a4, a5, a6, a7, a8, a9, a10, a11, a12, a13, a14)) : wpX_ways post (f1, f2, f3, f4, f5, f6, f7, f8, f9, a1, a2, a3, a4, a5, a6, a7, a8, a9, a10, a11, a12, a13, a14) 0 := by
  obtain ⟨r1, r3, r6, r7, r90, r91, r80, r81⟩ := hR
  unfold wpX_ways
  dsimp only
  refine sr_isRule r1 (br_f (by decide) (br_t h9 ?_))
  refine sr_solve (g := g) r1 r3 r6 r7 r90 r91 r80 r81 h11 hg h14 (fun e4 e5 e6 e7 e8 b2 b3 b4 b12 b13 b14 k1 k4 => ?_)
  obtain ⟨c, _, hc⟩ := wb_of (b4 4)
  exact sr_join (g := g) (c := c) r6 r7 r90 r91 r80 r81 k1 hg hc (fun c12 c13 c14 => H _ _ _ _ _ b2 b3 _ c12 c13 c14 k1 k4)
theorem sr_holds {post : Int32 → St2 → Prop} {h x y : Nat} (hx : x < 6) (hy : y < 6) (h9 : f9 = 1) (h24 : a2 4 = lN h) (hh : h < 2 ^ 64) (H : post (nI (h / 2 ^ (6 * x + y) % 2)) (f1, f2, f3, f4, f5, f6, f7, f8, f9, a1, a2, a3, a4, a5, a6, a7, a8, a9, a10, a11, a12, a13, a14)) : wpX_holds post (f1, f2, f3, f4, f5, f6, f7, f8, f9, a1, a2, a3, a4, a5, a6, a7, a8, a9, a10, a11, a12, a13, a14) 4 (nI x) (nI y) := by
  unfold wpX_holds
  dsimp only
  refine sr_rel (by decide) (by decide) (br_f (by decide) (sr_thing hx (br_f (by decide) (sr_thing hy (br_f (by decide) ?_)))))
  refine br_f (by rw [h9]; decide) ⟨pk_in 4 8 (by decide), sr_bitAt (g := h) (f := 6 * x + y) ?_ (sr_fact x y) hh (by omega) H⟩
  rw [show (4 : Int32).toNatClampNeg = 4 from by decide]
  exact h24
theorem sr_supp {post : Int32 → St2 → Prop} {g k b : Nat} (hR : sr_R f1 f3 a6 a7 a8 a9) (h9 : f9 = 1) (h21 : a2 1 = lN g) (hg : g < 2 ^ 64) (hk : k < 36) (hM : sr_M g (nI k) 0 = nI b) (hb : b < 2)
    (H : ∀ f4 f5 f6 f7 f8 a4 a12 a13 a14, post (nI b) (f1, f2, f3, f4, f5, f6, f7, f8, f9, a1, a2, a3, a4, a5, a6, a7, a8, a9, a10, a11, a12, a13, a14)) : wpX_supports post (f1, f2, f3, f4, f5, f6, f7, f8, f9, a1, a2, a3, a4, a5, a6, a7, a8, a9, a10, a11, a12, a13, a14) 0 (nI k) := by
  obtain ⟨r1, r3, r6, r7, r90, r91, r80, r81⟩ := hR
  unfold wpX_supports
  dsimp only
  obtain ⟨c, _, hc⟩ := wb_of (a4 4)
  refine sr_isRule r1 (br_f (by decide) (br_f (nI_pos (by omega)) (pk_lt k 36 (fun _ => br_f (by rw [h9]; decide) ?_) (fun z => absurd z (by omega)))))
  refine sr_join (g := g) (c := c) r6 r7 r90 r91 r80 r81 h21 hg hc (fun c12 c13 c14 => ?_)
  rcases (show b = 0 ∨ b = 1 by omega) with z | z
  · subst z
    have n0 : sr_M g (nI k) 0 = 0 := hM
    exact br_t n0 (H _ _ _ _ _ _ c12 c13 c14)
  · subst z
    have n1 : ¬ sr_M g (nI k) 0 = 0 := by
      rw [hM]
      decide
    exact br_f n1 (H _ _ _ _ _ _ c12 c13 c14)
theorem sr_ones4 {post : Int32 → Prop} {h : Nat} (hh : h < 2 ^ 64) : ∀ k j a, j + k = 36 → post (nI (sr_pop h k j a)) → wX_ones_4 post (lN h) (k + 1) (nI a) (nI j) := by
  intro k
  induction k with
  | zero =>
    intro j a hj H
    exact pk_le 36 j (fun _ => H) (fun z => absurd z (by omega))
  | succ k ih =>
    intro j a hj H
    refine pk_le 36 j (fun z => absurd z (by omega)) (fun _ => sr_bitAt (g := h) (f := j) rfl rfl hh (by omega) (nm_r (nI_add _ _) (nm_r (nI_1 j) (ih (j + 1) _ (by omega) H))))
theorem sr_size {post : Int32 → St2 → Prop} {h : Nat} (h9 : f9 = 1) (h24 : a2 4 = lN h) (hh : h < 2 ^ 64) (H : post (nI (sr_pop h 36 0 0)) (f1, f2, f3, f4, f5, f6, f7, f8, f9, a1, a2, a3, a4, a5, a6, a7, a8, a9, a10, a11, a12, a13, a14)) : wpX_size post (f1, f2, f3, f4, f5, f6, f7, f8, f9, a1, a2, a3, a4, a5, a6, a7, a8, a9, a10, a11, a12, a13, a14) 4 := by
  unfold wpX_size
  dsimp only
  refine sr_rel (by decide) (by decide) (br_f (by decide) (br_f (by rw [h9]; decide) ⟨pk_in 4 8 (by decide), ?_⟩))
  dsimp only
  rw [show (4 : Int32).toNatClampNeg = 4 from by decide, h24]
  exact ⟨37, sr_ones4 (post := fun r => post r (f1, f2, f3, f4, f5, f6, f7, f8, f9, a1, a2, a3, a4, a5, a6, a7, a8, a9, a10, a11, a12, a13, a14)) hh 36 0 0 (by decide) H⟩
end
end
section
/-! ===== the law ===== -/
section
variable {f1 f2 f3 f4 f5 f6 f7 f8 f9 : Int32} {a1 a2 a3 a4 a5 : Nat → Int64} {a6 a7 a8 a9 a10 a11 a12 a13 a14 : Nat → Int32}
theorem sr_sum4 (p q r s : Nat) : sr_sum p q r s ≤ 4 := by
  unfold sr_sum
  repeat' split
  all_goals omega
theorem sr_343 {post : Int32 → St0 → Prop} {mc ms kc ks : Nat} {x10 x11 x12 x13 z0 : Int32} {S n : Nat} (hS : ((x10 + x11) + x12) + x13 = nI S) (hS4 : S ≤ 4) (hz : z0 = if 0 < n then 1 else 0) (hn : 0 < n ↔ 0 < S) (H : post 1 ()) : wL_lawOf_343 post mc ms x10 x11 x12 x13 z0 kc ks := by
  unfold wL_lawOf_343
  rw [hS]
  refine pk_le S 0 (fun z => ?_) (fun z => ?_)
  · rw [if_neg (by omega)] at hz
    exact br_t hz H
  · rw [if_pos (by omega)] at hz
    exact br_t hz H
theorem sr_280 {post : Int32 → St0 → Prop} {mc ms kc ks g h p q r s : Nat} {x10 x11 x12 x13 : Int32} (hp : p < 6) (hq : q < 6) (hr : r < 6) (hs : s < 6) (eg : g = 2 ^ (6 * p + q) ||| 2 ^ (6 * r + s)) (eh : h = sr_C g 0) (hg : g < 2 ^ 64) (hR : sr_R f1 f3 a6 a7 a8 a9) (h9 : f9 = 1) (h21 : a2 1 = lN g) (h24 : a2 4 = lN h) (hS : ((x10 + x11) + x12) + x13 = nI (sr_sum p q r s)) (H : post 1 ()) : wL_lawOf_280 post mc ms (nI p) (nI s) x10 x11 x12 x13 kc ks f1 f2 f3 f4 f5 f6 f7 f8 f9 a1 a2 a3 a4 a5 a6 a7 a8 a9 a10 a11 a12 a13 a14 := by
  obtain ⟨t1, t2, t3, t4, t5, t6, t7⟩ := sr_tab hp hq hr hs eg eh
  have hh : h < 2 ^ 64 := Nat.lt_trans t2 (by decide)
  have s4 := sr_sum4 p q r s
  unfold wL_lawOf_280
  rw [sr_fact]
  refine sr_supp (g := g) hR h9 h21 hg (by omega) t5 (by omega) (fun e4 e5 e6 e7 e8 b4 b12 b13 b14 => ?_)
  refine sr_holds (h := h) hp hs h9 h24 hh (br_t rfl (sr_size (h := h) h9 h24 hh ?_))
  dsimp only
  rw [hS]
  refine pk_lt (sr_sum p q r s) (sr_pop h 36 0 0) (fun z => absurd z (by omega)) (fun _ => pk_le (sr_pop h 36 0 0) 0 (fun z => ?_) (fun z => ?_))
  · exact sr_343 (n := sr_pop h 36 0 0) hS s4 (by rw [if_neg (by omega)]) t7 H
  · exact sr_343 (n := sr_pop h 36 0 0) hS s4 (by rw [if_pos (by omega)]) t7 H
theorem sr_257 {post : Int32 → St0 → Prop} {mc ms kc ks g h p q r s : Nat} {x10 x11 x12 x13 : Int32} (hp : p < 6) (hq : q < 6) (hr : r < 6) (hs : s < 6) (eg : g = 2 ^ (6 * p + q) ||| 2 ^ (6 * r + s)) (eh : h = sr_C g 0) (hg : g < 2 ^ 64) (hR : sr_R f1 f3 a6 a7 a8 a9) (h9 : f9 = 1) (h21 : a2 1 = lN g) (h24 : a2 4 = lN h) (hS : ((x10 + x11) + x12) + x13 = nI (sr_sum p q r s)) (H : post 1 ()) : wL_lawOf_257 post mc ms (nI p) (nI q) (nI r) (nI s) x10 x11 x12 x13 kc ks f1 f2 f3 f4 f5 f6 f7 f8 f9 a1 a2 a3 a4 a5 a6 a7 a8 a9 a10 a11 a12 a13 a14 := by
  obtain ⟨t1, t2, t3, t4, t5, t6, t7⟩ := sr_tab hp hq hr hs eg eh
  have hh : h < 2 ^ 64 := Nat.lt_trans t2 (by decide)
  have K : wL_lawOf_280 post mc ms (nI p) (nI s) x10 x11 x12 x13 kc ks f1 f2 f3 f4 f5 f6 f7 f8 f9 a1 a2 a3 a4 a5 a6 a7 a8 a9 a10 a11 a12 a13 a14 := sr_280 hp hq hr hs eg eh hg hR h9 h21 h24 hS H
  unfold wL_lawOf_257
  refine pk_eq p s (fun z => sr_holds (h := h) hr hq h9 h24 hh (br_t (by rw [t4 z]; rfl) K)) (fun _ => K)
theorem sr_212 {post : Int32 → St0 → Prop} {mc ms kc ks g p q r s : Nat} {x10 x11 x12 x13 : Int32} (hp : p < 6) (hq : q < 6) (hr : r < 6) (hs : s < 6) (eg : g = 2 ^ (6 * p + q) ||| 2 ^ (6 * r + s)) (hg : g < 2 ^ 64) (hR : sr_R f1 f3 a6 a7 a8 a9) (h9 : f9 = 0) (h11 : a1 1 = lN g) (h14 : a1 4 = 0) (hS : ((x10 + x11) + x12) + x13 = nI (sr_sum p q r s)) (H : post 1 ()) : wL_lawOf_212 post mc ms (nI p) (nI q) (nI r) (nI s) x10 x11 x12 x13 kc ks f1 f2 f3 f4 f5 f6 f7 f8 f9 a1 a2 a3 a4 a5 a6 a7 a8 a9 a10 a11 a12 a13 a14 := by
  obtain ⟨t1, t2, t3, t4, t5, t6, t7⟩ := sr_tab hp hq hr hs eg rfl
  have hh : sr_C g 0 < 2 ^ 64 := Nat.lt_trans t2 (by decide)
  unfold wL_lawOf_212
  refine sr_ways (g := g) hR h9 h11 hg h14 (fun e4 e5 e6 e7 e8 b2 b3 b4 b12 b13 b14 k1 k4 => br_t (by rw [t1, hS]) ?_)
  have K : wL_lawOf_257 post mc ms (nI p) (nI q) (nI r) (nI s) x10 x11 x12 x13 kc ks f1 f2 f3 e4 e5 e6 e7 e8 1 a1 b2 b3 b4 a5 a6 a7 a8 a9 a10 a11 b12 b13 b14 := sr_257 hp hq hr hs eg rfl hg hR rfl k1 k4 hS H
  exact pk_eq q r (fun z => sr_holds (h := sr_C g 0) hp hs rfl k4 hh (br_t (by rw [t3 z]; rfl) K)) (fun _ => K)
/-- the four summands, one by one; e: the two facts are the same -/
def sr_four (p q r s o t th fo : Nat) : Prop := o = (if p = q then 1 else 0) ∧ t = (if q = r ∧ ¬ (p = r ∧ q = s) then 1 else 0) ∧ th = (if s = p ∧ ¬ (p = r ∧ q = s) then 1 else 0) ∧ fo = (if r = s ∧ ¬ (p = r ∧ q = s) then 1 else 0)
theorem sr_212n {post : Int32 → St0 → Prop} {mc ms kc ks g p q r s o t th fo : Nat} (hp : p < 6) (hq : q < 6) (hr : r < 6) (hs : s < 6) (eg : g = 2 ^ (6 * p + q) ||| 2 ^ (6 * r + s)) (hg : g < 2 ^ 64) (hR : sr_R f1 f3 a6 a7 a8 a9) (h9 : f9 = 0) (h11 : a1 1 = lN g) (h14 : a1 4 = 0) (h4 : sr_four p q r s o t th fo) (H : post 1 ()) : wL_lawOf_212 post mc ms (nI p) (nI q) (nI r) (nI s) (nI o) (nI t) (nI th) (nI fo) kc ks f1 f2 f3 f4 f5 f6 f7 f8 f9 a1 a2 a3 a4 a5 a6 a7 a8 a9 a10 a11 a12 a13 a14 := by
  refine sr_212 hp hq hr hs eg hg hR h9 h11 h14 ?_ H
  obtain ⟨e1, e2, e3, e4⟩ := h4
  rw [nI_add, nI_add, nI_add, e1, e2, e3, e4]
  rfl
theorem sr_193 {post : Int32 → St0 → Prop} {mc ms kc ks g p q r s o t th : Nat} {x9 : Int32} (h9x : x9 = if p = r ∧ q = s then 1 else 0) (hp : p < 6) (hq : q < 6) (hr : r < 6) (hs : s < 6) (eg : g = 2 ^ (6 * p + q) ||| 2 ^ (6 * r + s)) (hg : g < 2 ^ 64) (hR : sr_R f1 f3 a6 a7 a8 a9) (h9 : f9 = 0) (h11 : a1 1 = lN g) (h14 : a1 4 = 0) (h4 : ∀ fo, fo = (if r = s ∧ ¬ (p = r ∧ q = s) then 1 else 0) → sr_four p q r s o t th fo) (H : post 1 ()) : wL_lawOf_193 post mc ms (nI p) (nI q) (nI r) (nI s) x9 (nI o) (nI t) (nI th) kc ks f1 f2 f3 f4 f5 f6 f7 f8 f9 a1 a2 a3 a4 a5 a6 a7 a8 a9 a10 a11 a12 a13 a14 := by
  unfold wL_lawOf_193
  have K : ∀ fo, fo = (if r = s ∧ ¬ (p = r ∧ q = s) then 1 else 0) → wL_lawOf_212 post mc ms (nI p) (nI q) (nI r) (nI s) (nI o) (nI t) (nI th) (nI fo) kc ks f1 f2 f3 f4 f5 f6 f7 f8 f9 a1 a2 a3 a4 a5 a6 a7 a8 a9 a10 a11 a12 a13 a14 := fun fo e => sr_212n hp hq hr hs eg hg hR h9 h11 h14 (h4 fo e) H
  by_cases c : p = r ∧ q = s
  · rw [if_pos c] at h9x
    subst h9x
    refine pk_eq r s (fun z => br_f (by decide) (K 0 (by rw [if_neg (fun y => y.2 c)]))) (fun z => K 0 (by rw [if_neg (fun y => z y.1)]))
  · rw [if_neg c] at h9x
    subst h9x
    refine pk_eq r s (fun z => br_t rfl (K 1 (by rw [if_pos ⟨z, c⟩]))) (fun z => K 0 (by rw [if_neg (fun y => z y.1)]))
theorem sr_174 {post : Int32 → St0 → Prop} {mc ms kc ks g p q r s o t : Nat} {x9 : Int32} (h9x : x9 = if p = r ∧ q = s then 1 else 0) (hp : p < 6) (hq : q < 6) (hr : r < 6) (hs : s < 6) (eg : g = 2 ^ (6 * p + q) ||| 2 ^ (6 * r + s)) (hg : g < 2 ^ 64) (hR : sr_R f1 f3 a6 a7 a8 a9) (h9 : f9 = 0) (h11 : a1 1 = lN g) (h14 : a1 4 = 0) (h4 : ∀ th, th = (if s = p ∧ ¬ (p = r ∧ q = s) then 1 else 0) → ∀ fo, fo = (if r = s ∧ ¬ (p = r ∧ q = s) then 1 else 0) → sr_four p q r s o t th fo) (H : post 1 ()) : wL_lawOf_174 post mc ms (nI p) (nI q) (nI r) (nI s) x9 (nI o) (nI t) kc ks f1 f2 f3 f4 f5 f6 f7 f8 f9 a1 a2 a3 a4 a5 a6 a7 a8 a9 a10 a11 a12 a13 a14 := by
  unfold wL_lawOf_174
  have K : ∀ th, th = (if s = p ∧ ¬ (p = r ∧ q = s) then 1 else 0) → wL_lawOf_193 post mc ms (nI p) (nI q) (nI r) (nI s) x9 (nI o) (nI t) (nI th) kc ks f1 f2 f3 f4 f5 f6 f7 f8 f9 a1 a2 a3 a4 a5 a6 a7 a8 a9 a10 a11 a12 a13 a14 := fun th e => sr_193 h9x hp hq hr hs eg hg hR h9 h11 h14 (h4 th e) H
  by_cases c : p = r ∧ q = s
  · rw [if_pos c] at h9x
    subst h9x
    refine pk_eq s p (fun z => br_f (by decide) (K 0 (by rw [if_neg (fun y => y.2 c)]))) (fun z => K 0 (by rw [if_neg (fun y => z y.1)]))
  · rw [if_neg c] at h9x
    subst h9x
    refine pk_eq s p (fun z => br_t rfl (K 1 (by rw [if_pos ⟨z, c⟩]))) (fun z => K 0 (by rw [if_neg (fun y => z y.1)]))
theorem sr_155 {post : Int32 → St0 → Prop} {mc ms kc ks g p q r s o : Nat} {x9 : Int32} (h9x : x9 = if p = r ∧ q = s then 1 else 0) (ho : o = if p = q then 1 else 0) (hp : p < 6) (hq : q < 6) (hr : r < 6) (hs : s < 6) (eg : g = 2 ^ (6 * p + q) ||| 2 ^ (6 * r + s)) (hg : g < 2 ^ 64) (hR : sr_R f1 f3 a6 a7 a8 a9) (h9 : f9 = 0) (h11 : a1 1 = lN g) (h14 : a1 4 = 0) (H : post 1 ()) : wL_lawOf_155 post mc ms (nI p) (nI q) (nI r) (nI s) x9 (nI o) kc ks f1 f2 f3 f4 f5 f6 f7 f8 f9 a1 a2 a3 a4 a5 a6 a7 a8 a9 a10 a11 a12 a13 a14 := by
  unfold wL_lawOf_155
  have K : ∀ t, t = (if q = r ∧ ¬ (p = r ∧ q = s) then 1 else 0) → wL_lawOf_174 post mc ms (nI p) (nI q) (nI r) (nI s) x9 (nI o) (nI t) kc ks f1 f2 f3 f4 f5 f6 f7 f8 f9 a1 a2 a3 a4 a5 a6 a7 a8 a9 a10 a11 a12 a13 a14 := fun t e => sr_174 h9x hp hq hr hs eg hg hR h9 h11 h14 (fun th e3 fo e4 => ⟨ho, e, e3, e4⟩) H
  by_cases c : p = r ∧ q = s
  · rw [if_pos c] at h9x
    subst h9x
    refine pk_eq q r (fun z => br_f (by decide) (K 0 (by rw [if_neg (fun y => y.2 c)]))) (fun z => K 0 (by rw [if_neg (fun y => z y.1)]))
  · rw [if_neg c] at h9x
    subst h9x
    refine pk_eq q r (fun z => br_t rfl (K 1 (by rw [if_pos ⟨z, c⟩]))) (fun z => K 0 (by rw [if_neg (fun y => z y.1)]))
theorem sr_99 {post : Int32 → St0 → Prop} {mc ms kc ks g p q r s : Nat} {x9 z : Int32} (h9x : x9 = if p = r ∧ q = s then 1 else 0) (hp : p < 6) (hq : q < 6) (hr : r < 6) (hs : s < 6) (eg : g = 2 ^ (6 * p + q) ||| 2 ^ (6 * r + s)) (hg : g < 2 ^ 64) (h1 : f1 = 0) (h2 : f2 = 0) (h3 : f3 = -1) (h11 : a1 1 = lN g) (h14 : a1 4 = 0) (H : post 1 ()) : wL_lawOf_99 post mc ms (nI p) (nI q) (nI r) (nI s) x9 z z kc ks f1 f2 f3 f4 f5 f6 f7 f8 f9 a1 a2 a3 a4 a5 a6 a7 a8 a9 a10 a11 a12 a13 a14 := by
  unfold wL_lawOf_99
  refine br_t rfl (sr_body (d := 0) (by decide) (by decide) (by decide) h2 (br_t rfl (sr_body (d := 1) (by decide) (by decide) (by decide) rfl (br_t rfl (sr_rule h1 rfl ?_ ?_ ?_ ?_ (br_t rfl ?_))))))
  · rw [pk_un (by decide), pk_us]
  · rw [pk_us]
  · rw [pk_un (by decide), pk_us]
  · rw [pk_us]
  · have hR : sr_R 1 f3 (upd a6 0 402) (upd a7 0 2) (upd (upd a8 0 101) 1 112) (upd (upd a9 0 0) 1 0) := ⟨rfl, h3, pk_us, pk_us, by rw [pk_un (by decide), pk_us], pk_us, by rw [pk_un (by decide), pk_us], pk_us⟩
    exact pk_eq p q (fun e => sr_155 (o := 1) h9x (by rw [if_pos e]) hp hq hr hs eg hg hR rfl h11 h14 H) (fun e => sr_155 (o := 0) h9x (by rw [if_neg e]) hp hq hr hs eg hg hR rfl h11 h14 H)
theorem sr_and2 : ∀ a, a < 36 → ∀ b, b < 36 → (lN (2 ^ a) &&& lN (2 ^ b) = 0 ↔ ¬ a = b) := by decide +kernel
theorem sr_76 {post : Int32 → St0 → Prop} {mc ms kc ks p q r s : Nat} {x9 : Int32} (h9x : x9 = if p = r ∧ q = s then 1 else 0) (hp : p < 6) (hq : q < 6) (hr : r < 6) (hs : s < 6) (h1 : f1 = 0) (h2 : f2 = 0) (h3 : f3 = -1) (h11 : a1 1 = lN (2 ^ (6 * p + q))) (h14 : a1 4 = 0) (H : post 1 ()) : wL_lawOf_76 post mc ms (nI p) (nI q) (nI r) (nI s) x9 kc ks f1 f2 f3 f4 f5 f6 f7 f8 f9 a1 a2 a3 a4 a5 a6 a7 a8 a9 a10 a11 a12 a13 a14 := by
  unfold wL_lawOf_76
  have b1 : 2 ^ (6 * p + q) < 2 ^ 64 := wb_lt2 (by omega)
  have b2 : 2 ^ (6 * r + s) < 2 ^ 64 := wb_lt2 (by omega)
  have hg : 2 ^ (6 * p + q) ||| 2 ^ (6 * r + s) < 2 ^ 64 := Nat.or_lt_two_pow b1 b2
  have iff := sr_and2 (6 * p + q) (by omega) (6 * r + s) (by omega)
  refine sr_give hr hs h11 (fun z => ?_) (fun z => ?_)
  · have n : ¬ (p = r ∧ q = s) := fun y => iff.mp z (by rw [y.1, y.2])
    have e9 : x9 = 0 := by rw [h9x, if_neg n]
    exact br_t e9 (sr_99 h9x hp hq hr hs rfl hg h1 h2 h3 pk_uLs (by rw [pk_uLn (by decide), h14]) H)
  · have n : p = r ∧ q = s := by
      have y : 6 * p + q = 6 * r + s := Classical.byContradiction (fun y => z (iff.mpr y))
      omega
    have e9 : ¬ x9 = 0 := by
      rw [h9x, if_pos n]
      decide
    exact br_f e9 (sr_99 h9x hp hq hr hs rfl hg h1 h2 h3 pk_uLs (by rw [pk_uLn (by decide), h14]) H)
end
theorem sr_six (x : Int32) : ∃ p, p < 6 ∧ (x &&& 7) - (x &&& 7) / 6 * 6 = nI p := by
  obtain ⟨j, hj, e⟩ := pk_andE x (m := 7) 3 (by decide)
  refine ⟨j % 6, Nat.mod_lt _ (by decide), ?_⟩
  rw [e]
  exact pk_rem (d := 6) (by omega) (by decide) (by decide)
theorem sr_lawOf {post : Int32 → St0 → Prop} {u : St0} (x y z w : Int32) (H : post 1 ()) : wpL_lawOf post 138 2192 u x y z w := by
  obtain ⟨p, hp, ep⟩ := sr_six x
  obtain ⟨q, hq, eqq⟩ := sr_six y
  obtain ⟨r, hr, er⟩ := sr_six z
  obtain ⟨s, hs, es⟩ := sr_six w
  unfold wpL_lawOf
  refine ⟨by decide, by decide, 14, 181, by decide, by decide, ?_⟩
  unfold wpX_init
  dsimp only
  refine ⟨by decide, by decide, by decide, by decide, by decide, by decide, by decide, by decide, by decide, by decide, by decide, by decide, by decide, by decide, by decide, by decide, by decide, by decide, by decide, by decide, by decide, by decide, by decide, by decide, by decide, by decide, by decide, by decide, ?_⟩
  refine ⟨by decide, nm_r ep ⟨by decide, nm_r eqq ⟨by decide, nm_r er ⟨by decide, nm_r es ?_⟩⟩⟩⟩
  have G : vp_updL (fun _ => 0) 1 (lN (0 ||| 2 ^ (6 * p + q))) 1 = lN (2 ^ (6 * p + q)) := by rw [pk_uLs, Nat.zero_or]
  have F : vp_updL (fun _ => 0) 1 (lN (0 ||| 2 ^ (6 * p + q))) 4 = 0 := by rw [pk_uLn (by decide)]
  have K : ∀ x9 : Int32, x9 = (if p = r ∧ q = s then 1 else 0) → wL_lawOf_76 post 138 2192 (nI p) (nI q) (nI r) (nI s) x9 (1 + 14) (23 + 181) 0 0 (-1) 0 0 0 0 0 0 (vp_updL (fun _ => 0) 1 (lN (0 ||| 2 ^ (6 * p + q)))) (fun _ => 0) (fun _ => 0) (fun _ => 0) (fun _ => 0) (fun _ => 0) (fun _ => 0) (fun _ => 0) (fun _ => 0) (fun _ => 0) (fun _ => 0) (fun _ => 0) (fun _ => 0) (fun _ => 0) := fun x9 e => sr_76 e hp hq hr hs rfl rfl rfl G F H
  have B : ((nI p = nI r → ((nI q = nI s → wL_lawOf_76 post 138 2192 (nI p) (nI q) (nI r) (nI s) 1 (1 + 14) (23 + 181) 0 0 (-1) 0 0 0 0 0 0 (vp_updL (fun _ => 0) 1 (lN (0 ||| 2 ^ (6 * p + q)))) (fun _ => 0) (fun _ => 0) (fun _ => 0) (fun _ => 0) (fun _ => 0) (fun _ => 0) (fun _ => 0) (fun _ => 0) (fun _ => 0) (fun _ => 0) (fun _ => 0) (fun _ => 0) (fun _ => 0)) ∧ (¬ nI q = nI s → wL_lawOf_75 post 138 2192 (nI p) (nI q) (nI r) (nI s) (1 + 14) (23 + 181) 0 0 (-1) 0 0 0 0 0 0 (vp_updL (fun _ => 0) 1 (lN (0 ||| 2 ^ (6 * p + q)))) (fun _ => 0) (fun _ => 0) (fun _ => 0) (fun _ => 0) (fun _ => 0) (fun _ => 0) (fun _ => 0) (fun _ => 0) (fun _ => 0) (fun _ => 0) (fun _ => 0) (fun _ => 0) (fun _ => 0)))) ∧ (¬ nI p = nI r → wL_lawOf_75 post 138 2192 (nI p) (nI q) (nI r) (nI s) (1 + 14) (23 + 181) 0 0 (-1) 0 0 0 0 0 0 (vp_updL (fun _ => 0) 1 (lN (0 ||| 2 ^ (6 * p + q)))) (fun _ => 0) (fun _ => 0) (fun _ => 0) (fun _ => 0) (fun _ => 0) (fun _ => 0) (fun _ => 0) (fun _ => 0) (fun _ => 0) (fun _ => 0) (fun _ => 0) (fun _ => 0) (fun _ => 0))) :=
    pk_eq p r (fun e => pk_eq q s (fun e2 => K 1 (by rw [if_pos ⟨e, e2⟩])) (fun e2 => K 0 (by rw [if_neg (fun y => e2 y.2)]))) (fun e => K 0 (by rw [if_neg (fun y => e y.1)]))
  exact sr_give (g := 0) hp hq rfl (fun _ => B) (fun _ => B)
theorem sr_cell {post : Int32 → Prop} {L : Nat} {xs : Nat → Int32} {u : St0} (i : Nat) (hi : i < 2 ^ 31) (hL : L ≤ 4) (H : ∀ x, post x) : wpL_cellAt post L xs u (nI i) :=
  pk_le L i (fun _ => H _) (fun z => ⟨pk_in i L z, H _⟩)
theorem i_vc (xs : Nat → Int32) (L : Nat) (hL : L ≤ 4) : wpL_law (fun r => r = 1) L xs :=
  sr_cell 0 (by decide) hL (fun x => sr_cell 1 (by decide) hL (fun y => sr_cell 2 (by decide) hL (fun z => sr_cell 3 (by decide) hL (fun w => ⟨138, 2192, by decide, by decide, sr_lawOf x y z w rfl⟩))))
end
