section
/-! bits of Int64 by lN, and the pure picture: sets of points as naturals -/
theorem gb_tb (n : Nat) : (lN n).toBitVec = BitVec.ofNat 64 n := rfl
theorem gb_inj {a b : Int64} (h : a.toBitVec = b.toBitVec) : a = b := Int64.toBitVec_inj.mp h
theorem gb_tn {n : Nat} (h : n < 2 ^ 64) : (lN n).toBitVec.toNat = n := by rw [gb_tb, BitVec.toNat_ofNat, Nat.mod_eq_of_lt h]
theorem gb_and (a b : Nat) : lN a &&& lN b = lN (a &&& b) := by
  apply gb_inj
  rw [Int64.toBitVec_and, gb_tb, gb_tb, gb_tb]
  apply BitVec.eq_of_getLsbD_eq
  intro i hi
  simp [BitVec.getLsbD_ofNat, Nat.testBit_and, hi]
theorem gb_or (a b : Nat) : lN a ||| lN b = lN (a ||| b) := by
  apply gb_inj
  rw [Int64.toBitVec_or, gb_tb, gb_tb, gb_tb]
  apply BitVec.eq_of_getLsbD_eq
  intro i hi
  simp [BitVec.getLsbD_ofNat, Nat.testBit_or, hi]
theorem gb_xor (a b : Nat) : lN a ^^^ lN b = lN (a ^^^ b) := by
  apply gb_inj
  rw [Int64.toBitVec_xor, gb_tb, gb_tb, gb_tb]
  apply BitVec.eq_of_getLsbD_eq
  intro i hi
  simp [BitVec.getLsbD_ofNat, Nat.testBit_xor, hi]
def gb_M : Nat := 18446744073709551615
theorem gb_m1 : (-1 : Int64) = lN gb_M := by decide +kernel
theorem gb_not (a b : Nat) : lN a &&& (lN b ^^^ (-1)) = lN (a &&& (b ^^^ gb_M)) := by rw [gb_m1, gb_xor, gb_and]
theorem gb_neg {n : Nat} (h : n < 2 ^ 64) : -lN n = lN (18446744073709551616 - n) := by
  apply gb_inj
  rw [Int64.toBitVec_neg, gb_tb, gb_tb]
  apply BitVec.eq_of_toNat_eq
  rw [BitVec.toNat_neg, BitVec.toNat_ofNat, BitVec.toNat_ofNat, Nat.mod_eq_of_lt h]
theorem gb_c : ∀ k, k < 64 → ((nI k).toInt64 &&& 63) = lN k := by decide +kernel
theorem gb_cu : ∀ k, k < 64 → ((nI k).toInt64.toUInt64 &&& Int64.toUInt64 63) = UInt64.ofNat k := by decide +kernel
theorem gb_sm : ∀ k, k < 64 → (BitVec.ofNat 64 k).smod 64 = BitVec.ofNat 64 k := by decide +kernel
theorem gb_shr {n k : Nat} (hn : n < 2 ^ 64) (hk : k < 64) : ((lN n).toUInt64 >>> ((nI k).toInt64.toUInt64 &&& Int64.toUInt64 63)).toInt64 = lN (n / 2 ^ k) := by
  rw [gb_cu k hk]
  apply gb_inj
  apply BitVec.eq_of_toNat_eq
  show ((lN n).toUInt64 >>> UInt64.ofNat k).toNat = (BitVec.ofNat 64 _).toNat
  have h1 : (UInt64.ofNat k).toNat = k := by
    show (BitVec.ofNat 64 k).toNat = k
    rw [BitVec.toNat_ofNat, Nat.mod_eq_of_lt (by omega)]
  have h2 : (lN n).toUInt64.toNat = n := gb_tn hn
  rw [UInt64.toNat_shiftRight, h1, h2, Nat.mod_eq_of_lt hk, Nat.shiftRight_eq_div_pow, BitVec.toNat_ofNat, Nat.mod_eq_of_lt (Nat.lt_of_le_of_lt (Nat.div_le_self _ _) hn)]
theorem gb_shl (n : Nat) {k : Nat} (hk : k < 64) : lN n <<< ((nI k).toInt64 &&& 63) = lN (n * 2 ^ k) := by
  rw [gb_c k hk]
  apply gb_inj
  rw [Int64.toBitVec_shiftLeft, gb_tb, gb_tb, gb_tb, gb_sm k hk]
  apply BitVec.eq_of_toNat_eq
  rw [BitVec.shiftLeft_eq', BitVec.toNat_shiftLeft, BitVec.toNat_ofNat, BitVec.toNat_ofNat, BitVec.toNat_ofNat, Nat.mod_eq_of_lt (show k < 2 ^ 64 by omega), Nat.shiftLeft_eq, Nat.mul_mod, Nat.mod_mod, ← Nat.mul_mod]
theorem gb_one (n : Nat) : lN n &&& 1 = lN (n % 2) := by
  show lN n &&& lN 1 = _
  rw [gb_and, Nat.and_one_is_mod]
theorem gb_bt {n k : Nat} (hn : n < 2 ^ 64) (hk : k < 64) : ((lN n).toUInt64 >>> ((nI k).toInt64.toUInt64 &&& Int64.toUInt64 63)).toInt64 &&& 1 = lN (n / 2 ^ k % 2) := by
  rw [gb_shr hn hk, gb_one]
theorem gb_bit {j : Nat} (hj : j < 49) : (1 : Int64) <<< ((nI j).toInt64 &&& 63) = lN (2 ^ j) := by
  show lN 1 <<< ((nI j).toInt64 &&& 63) = _
  rw [gb_shl 1 (by omega), Nat.one_mul]
theorem gb_eq {a b : Nat} (ha : a < 2 ^ 49) (hb : b < 2 ^ 49) : lN a = lN b ↔ a = b := pk_lEQ (by omega) (by omega)
theorem gb_eq0 {a : Nat} (ha : a < 2 ^ 49) : lN a = 0 ↔ a = 0 := gb_eq (b := 0) ha (by decide)
theorem gb_andL {a b : Nat} (h : a < 2 ^ 49) : a &&& b < 2 ^ 49 := Nat.lt_of_le_of_lt Nat.and_le_left h
theorem gb_andR {a b : Nat} (h : b < 2 ^ 49) : a &&& b < 2 ^ 49 := Nat.and_lt_two_pow _ h
theorem gb_orB {a b : Nat} (ha : a < 2 ^ 49) (hb : b < 2 ^ 49) : a ||| b < 2 ^ 49 := Nat.or_lt_two_pow ha hb
theorem gb_pwB {j : Nat} (h : j < 49) : 2 ^ j < 2 ^ 49 := Nat.pow_lt_pow_right (by decide) h

/-! the picture -/
def gb_A : Nat := 562949953421311
def gb_F : Nat := 558517276622718
def gb_L : Nat := 279258638311359
theorem gb_AB : gb_A < 2 ^ 49 := by decide
/-- the value first, then what is made of it -/
def gb_fc {α : Type} (n : Nat) (f : Nat → α) : α := match n with
  | 0 => f 0
  | k + 1 => f (k + 1)
theorem gb_fcE {α : Type} (n : Nat) (f : Nat → α) : gb_fc n f = f n := by cases n <;> rfl
def gb_ar (s : Nat) : Nat := ((((s / 128) ||| (s * 128)) ||| ((s &&& gb_F) / 2)) ||| ((s &&& gb_L) * 2)) &&& gb_A
theorem gb_arB (s : Nat) : gb_ar s < 2 ^ 49 := gb_andR gb_AB
def gb_gr (w : Nat) : Nat → Nat → Nat
  | 0, x => x
  | k + 1, x => gb_fc (x ||| (gb_ar x &&& w)) (fun y => if y = x then y else gb_gr w k y)
theorem gb_grS (w k x : Nat) : gb_gr w (k + 1) x = if (x ||| (gb_ar x &&& w)) = x then (x ||| (gb_ar x &&& w)) else gb_gr w k (x ||| (gb_ar x &&& w)) := by
  rw [gb_gr, gb_fcE]
theorem gb_grB (w : Nat) : ∀ k x, x < 2 ^ 49 → gb_gr w k x < 2 ^ 49 := by
  intro k
  induction k with
  | zero => intro x hx; exact hx
  | succ k ih =>
    intro x hx
    have hy : x ||| (gb_ar x &&& w) < 2 ^ 49 := gb_orB hx (gb_andL (gb_arB x))
    rw [gb_grS]
    split
    · exact hy
    · exact ih _ hy
def gb_sz (s : Nat) : Nat → Nat
  | 0 => 0
  | n + 1 => gb_sz s n + s / 2 ^ n % 2
theorem gb_szB (s : Nat) : ∀ n, gb_sz s n ≤ n := by
  intro n
  induction n with
  | zero => exact Nat.le_refl 0
  | succ n ih =>
    show gb_sz s n + s / 2 ^ n % 2 ≤ n + 1
    have : s / 2 ^ n % 2 < 2 := Nat.mod_lt _ (by decide)
    omega
/-- the free points -/
def gb_op (b w : Nat) : Nat := gb_A &&& ((b ||| w) ^^^ gb_M)
theorem gb_opB (b w : Nat) : gb_op b w < 2 ^ 49 := gb_andL gb_AB
/-- the stones of t without a liberty in o -/
def gb_dd (t o : Nat) : Nat := t &&& (gb_gr t 50 ((t &&& gb_ar o) &&& t) ^^^ gb_M)
end
section
/-! the walks of the methods that read the fields alone -/
theorem gb_around {post : Int64 → Prop} {f3 f4 tb tw : Int64} {c bt wt : Int32} {a1 a2 : Nat → Int64} {a3 : Nat → Int32} {s : Nat} (hs : s < 2 ^ 49) (H : post (lN (gb_ar s))) : wpX_around post (lN gb_A, lN gb_F, lN gb_L, f3, f4, c, bt, wt, tb, tw, a1, a2, a3) (lN s) := by
  unfold wpX_around
  intro x1 e1 x2 e2 x3 e3 x4 e4
  have h1 : x1 = lN (s / 128) := e1.trans (gb_shr (k := 7) (by omega) (by decide))
  have h2 : x2 = lN (s * 128) := e2.trans (gb_shl s (k := 7) (by decide))
  have h3 : x3 = lN ((s &&& gb_F) / 2) := by
    rw [e3, gb_and]
    exact gb_shr (k := 1) (Nat.lt_of_lt_of_le (gb_andL hs) (by decide)) (by decide)
  have h4 : x4 = lN ((s &&& gb_L) * 2) := by
    rw [e4, gb_and]
    exact gb_shl _ (k := 1) (by decide)
  have e : ((((x1 ||| x2) ||| x3) ||| x4) &&& lN gb_A) = lN (gb_ar s) := by
    rw [h1, h2, h3, h4, gb_or, gb_or, gb_or, gb_and]
    rfl
  rw [e]
  exact H
theorem gb_gloop {post : Int64 → Prop} {f3 f4 tb tw : Int64} {c bt wt : Int32} {a1 a2 : Nat → Int64} {a3 : Nat → Int32} {w : Nat} : ∀ k x, k ≤ 50 → x < 2 ^ 49 → post (lN (gb_gr w k x)) → wX_grown_11 post (lN w) (lN gb_A) (lN gb_F) (lN gb_L) f3 f4 c bt wt tb tw a1 a2 a3 (k + 2) (lN x) 1 (nI (50 - k)) := by
  intro k
  induction k with
  | zero =>
    intro x _ _ H
    exact br_t (nI_le (a := 50) (b := 50) (by decide) (by decide)) H
  | succ k ih =>
    intro x hk hx H
    have hy : x ||| (gb_ar x &&& w) < 2 ^ 49 := gb_orB hx (gb_andL (gb_arB x))
    have e8 : nI (50 - (k + 1)) + 1 = nI (50 - k) := by
      rw [nI_1]
      congr 1
      omega
    rw [gb_grS] at H
    refine br_f (nI_ge (a := 50 - (k + 1)) (b := 50) (by omega) (by decide)) (br_f (by decide) (gb_around hx ?_))
    refine nm_r (e' := lN (x ||| (gb_ar x &&& w))) (by rw [gb_and, gb_or]) ?_
    refine br_c (fun h => nm_r e8 ?_) (fun h => nm_r e8 ?_)
    · rw [if_pos ((gb_eq hy hx).mp h)] at H
      exact br_c (fun _ => H) (fun _ => br_t rfl H)
    · rw [if_neg (fun z => h ((gb_eq hy hx).mpr z))] at H
      exact ih _ (by omega) hy H
theorem gb_grown {post : Int64 → Prop} {f3 f4 tb tw : Int64} {c bt wt : Int32} {a1 a2 : Nat → Int64} {a3 : Nat → Int32} {s w : Nat} (hw : w < 2 ^ 49) (H : post (lN (gb_gr w 50 (s &&& w)))) : wpX_grown post (lN gb_A, lN gb_F, lN gb_L, f3, f4, c, bt, wt, tb, tw, a1, a2, a3) (lN s) (lN w) := by
  unfold wpX_grown
  exact nm_r (gb_and s w) ⟨52, gb_gloop 50 _ (by decide) (gb_andR hw) H⟩
theorem gb_size {post : Int32 → Prop} {f3 f4 tb tw : Int64} {c bt wt : Int32} {a1 a2 : Nat → Int64} {a3 : Nat → Int32} {s : Nat} (hs : s < 2 ^ 49) (H : post (nI (gb_sz s 49))) : wpX_sizeOf post (lN gb_A, lN gb_F, lN gb_L, f3, f4, c, bt, wt, tb, tw, a1, a2, a3) (lN s) := by
  unfold wpX_sizeOf
  refine pk_loop (σ := Unit) (fun n i _ => wX_sizeOf_5 post (lN s) (lN gb_A) (lN gb_F) (lN gb_L) f3 f4 c bt wt tb tw a1 a2 a3 n (nI (gb_sz s i)) (nI i)) (fun _ _ => True) 49 0 () (by omega) trivial ?_ ?_
  · intro n _ _
    exact br_t (nI_le (a := 49) (b := 49) (by decide) (by decide)) H
  · intro n i _ hi _ hw
    have t := hw () trivial
    have hb := gb_bt (n := s) (k := i) (by omega) (by omega)
    refine br_f (nI_ge (a := i) (b := 49) hi (by decide)) ?_
    rcases Nat.mod_two_eq_zero_or_one (s / 2 ^ i) with z | z
    · have e : gb_sz s (i + 1) = gb_sz s i := by
        show gb_sz s i + s / 2 ^ i % 2 = _
        rw [z, Nat.add_zero]
      rw [e] at t
      rw [z] at hb
      exact br_f (by rw [hb]; decide) (nm_r (nI_1 i) t)
    · have e : gb_sz s (i + 1) = gb_sz s i + 1 := by
        show gb_sz s i + s / 2 ^ i % 2 = _
        rw [z]
      rw [e] at t
      rw [z] at hb
      exact br_t (by rw [hb]; decide) (nm_r (nI_1 _) (nm_r (nI_1 i) t))
theorem gb_dead {post : Int64 → Prop} {f3 f4 tb tw : Int64} {c bt wt : Int32} {a1 a2 : Nat → Int64} {a3 : Nat → Int32} {t o : Nat} (ht : t < 2 ^ 49) (ho : o < 2 ^ 49) (H : post (lN (gb_dd t o))) : wpX_dead post (lN gb_A, lN gb_F, lN gb_L, f3, f4, c, bt, wt, tb, tw, a1, a2, a3) (lN t) (lN o) := by
  unfold wpX_dead
  refine gb_around ho (nm_r (gb_and _ _) (gb_grown ht ?_))
  rw [gb_not]
  exact H
theorem gb_st0 {post : Int64 → Prop} {f3 f4 tb tw : Int64} {c bt wt : Int32} {a1 a2 : Nat → Int64} {a3 : Nat → Int32} (H : post f3) : wpX_stones post (lN gb_A, lN gb_F, lN gb_L, f3, f4, c, bt, wt, tb, tw, a1, a2, a3) 0 := br_t rfl H
theorem gb_st1 {post : Int64 → Prop} {f3 f4 tb tw : Int64} {c bt wt : Int32} {a1 a2 : Nat → Int64} {a3 : Nat → Int32} (H : post f4) : wpX_stones post (lN gb_A, lN gb_F, lN gb_L, f3, f4, c, bt, wt, tb, tw, a1, a2, a3) 1 := br_f (by decide) H
theorem gb_st10 {post : Int64 → Prop} {f3 f4 tb tw : Int64} {c bt wt : Int32} {a1 a2 : Nat → Int64} {a3 : Nat → Int32} (H : post f4) : wpX_stones post (lN gb_A, lN gb_F, lN gb_L, f3, f4, c, bt, wt, tb, tw, a1, a2, a3) (1 - 0) := br_f (by decide) H
theorem gb_st11 {post : Int64 → Prop} {f3 f4 tb tw : Int64} {c bt wt : Int32} {a1 a2 : Nat → Int64} {a3 : Nat → Int32} (H : post f3) : wpX_stones post (lN gb_A, lN gb_F, lN gb_L, f3, f4, c, bt, wt, tb, tw, a1, a2, a3) (1 - 1) := br_t (by decide) H
theorem gb_bpl0 {post : Int32 → Prop} {f3 f4 tb tw : Int64} {c bt wt : Int32} {a1 a2 : Nat → Int64} {a3 : Nat → Int32} (H : post 0) : wpX_badPlayer post (lN gb_A, lN gb_F, lN gb_L, f3, f4, c, bt, wt, tb, tw, a1, a2, a3) 0 := br_f (by decide) (br_t (by decide) H)
theorem gb_bpl1 {post : Int32 → Prop} {f3 f4 tb tw : Int64} {c bt wt : Int32} {a1 a2 : Nat → Int64} {a3 : Nat → Int32} (H : post 0) : wpX_badPlayer post (lN gb_A, lN gb_F, lN gb_L, f3, f4, c, bt, wt, tb, tw, a1, a2, a3) 1 := br_f (by decide) (br_t (by decide) H)
theorem gb_bplN {post : Int32 → Prop} {f3 f4 tb tw : Int64} {c bt wt : Int32} {a1 a2 : Nat → Int64} {a3 : Nat → Int32} {p : Int32} (h0 : ¬ p = 0) (h1 : ¬ p = 1) (H : post 1) : wpX_badPlayer post (lN gb_A, lN gb_F, lN gb_L, f3, f4, c, bt, wt, tb, tw, a1, a2, a3) p := by
  refine br_c (fun _ => H) (fun h => br_f (fun z => ?_) H)
  obtain ⟨j, hj, e⟩ := nI_of2 (M := 1) (n := 1) (by decide) h z
  rcases Nat.lt_or_ge j 1 with g | g
  · exact h0 (by rw [e, show j = 0 by omega]; rfl)
  · exact h1 (by rw [e, show j = 1 by omega]; rfl)
theorem gb_bpt {post : Int32 → Prop} {f3 f4 tb tw : Int64} {c bt wt : Int32} {a1 a2 : Nat → Int64} {a3 : Nat → Int32} {j : Nat} (hj : j < 49) (H : post 0) : wpX_badPoint post (lN gb_A, lN gb_F, lN gb_L, f3, f4, c, bt, wt, tb, tw, a1, a2, a3) (nI j) := br_f (nI_pos (by omega)) (br_t (nI_lt (b := 49) hj (by decide)) H)
theorem gb_bptN {post : Int32 → Prop} {f3 f4 tb tw : Int64} {c bt wt : Int32} {a1 a2 : Nat → Int64} {a3 : Nat → Int32} {q : Int32} (h : q < 0 ∨ nI 49 ≤ q) (H : post 1) : wpX_badPoint post (lN gb_A, lN gb_F, lN gb_L, f3, f4, c, bt, wt, tb, tw, a1, a2, a3) q := by
  refine br_c (fun _ => H) (fun h1 => br_f (fun z => ?_) H)
  rcases h with h | h
  · exact h1 h
  · have z' : q < nI 49 := z
    exact absurd z' (Int32.not_lt.mpr h)
theorem gb_region {post : Int32 → Prop} {tb tw : Int64} {c bt wt : Int32} {a1 a2 : Nat → Int64} {a3 : Nat → Int32} {b w i : Nat} (hi : i < 49) (H : post (if gb_op b w &&& 2 ^ i = 0 then (-2) else nI (gb_sz (gb_gr (gb_op b w) 50 (2 ^ i &&& gb_op b w)) 49))) : wpX_region post (lN gb_A, lN gb_F, lN gb_L, lN b, lN w, c, bt, wt, tb, tw, a1, a2, a3) (nI i) := by
  unfold wpX_region
  refine gb_bpt hi (br_t rfl ?_)
  unfold wpX_empty
  dsimp only
  rw [gb_or, gb_not]
  refine nm_r (gb_bit hi) ?_
  have e : lN (gb_A &&& ((b ||| w) ^^^ gb_M)) &&& lN (2 ^ i) = lN (gb_op b w &&& 2 ^ i) := gb_and _ _
  rw [e]
  by_cases h : gb_op b w &&& 2 ^ i = 0
  · rw [if_pos h] at H
    exact br_t (by rw [h]; rfl) H
  · rw [if_neg h] at H
    refine br_f (fun z => h ((gb_eq0 (gb_andL (gb_opB b w))).mp z)) (gb_grown (gb_opB b w) (gb_size (gb_grB _ _ _ (gb_andR (gb_opB b w))) H))
theorem gb_regionN {post : Int32 → Prop} {f3 f4 tb tw : Int64} {c bt wt : Int32} {a1 a2 : Nat → Int64} {a3 : Nat → Int32} {r : Int32} (h : r < 0 ∨ nI 49 ≤ r) (H : post (-1)) : wpX_region post (lN gb_A, lN gb_F, lN gb_L, f3, f4, c, bt, wt, tb, tw, a1, a2, a3) r := by
  unfold wpX_region
  exact gb_bptN h (br_f (by decide) H)
/-- the score of white -/
def gb_sc (b w : Nat) : Nat := w ||| (gb_gr (gb_op b w) 50 ((gb_ar w &&& gb_op b w) &&& gb_op b w) &&& (gb_gr (gb_op b w) 50 ((gb_ar b &&& gb_op b w) &&& gb_op b w) ^^^ gb_M))
theorem gb_score {post : Int32 → Prop} {tb tw : Int64} {c bt wt : Int32} {a1 a2 : Nat → Int64} {a3 : Nat → Int32} {b w : Nat} (hb : b < 2 ^ 49) (hw : w < 2 ^ 49) (H : post (nI (gb_sz (gb_sc b w) 49))) : wpX_score post (lN gb_A, lN gb_F, lN gb_L, lN b, lN w, c, bt, wt, tb, tw, a1, a2, a3) 1 := by
  unfold wpX_score
  refine gb_bpl1 (br_t rfl ?_)
  refine gb_st1 (gb_st11 ?_)
  unfold wpX_empty
  dsimp only
  rw [gb_or, gb_not]
  refine gb_around hb (nm_r (gb_and _ _) ?_)
  refine gb_around hw (nm_r (gb_and _ _) ?_)
  refine gb_grown (gb_opB b w) (gb_grown (gb_opB b w) ?_)
  rw [gb_not, gb_or]
  exact gb_size (gb_orB hw (gb_andL (gb_grB _ _ _ (gb_andR (gb_opB b w))))) H
def gb_lo (x : Nat) : Nat := x &&& (18446744073709551616 - x)
/-- how many groups: k rounds, x left, n counted -/
def gb_gp : Nat → Nat → Nat → Nat
  | 0, _, n => n
  | k + 1, x, n => if x = 0 then n else gb_fc (gb_gr x 50 (gb_lo x &&& x)) (fun g => gb_fc (x &&& (g ^^^ gb_M)) (fun y => gb_gp k y (n + 1)))
theorem gb_gploop {post : Int32 → Prop} {f3 f4 tb tw : Int64} {c bt wt : Int32} {a1 a2 : Nat → Int64} {a3 : Nat → Int32} : ∀ k x n, k ≤ 49 → x < 2 ^ 49 → post (nI (gb_gp k x n)) → wX_groups_22 post (lN gb_A) (lN gb_F) (lN gb_L) f3 f4 c bt wt tb tw a1 a2 a3 (k + 1) (lN x) (nI n) (nI (49 - k)) := by
  intro k
  induction k with
  | zero =>
    intro x n _ _ H
    exact br_t (nI_le (a := 49) (b := 49) (by decide) (by decide)) H
  | succ k ih =>
    intro x n hk hx H
    refine br_f (nI_ge (a := 49 - (k + 1)) (b := 49) (by omega) (by decide)) ?_
    rw [gb_gp] at H
    refine br_c (fun h => ?_) (fun h => ?_)
    · rw [if_pos ((gb_eq0 hx).mp h)] at H
      exact H
    · rw [if_neg (fun z => h ((gb_eq0 hx).mpr z)), gb_fcE, gb_fcE] at H
      unfold wpX_lowest
      dsimp only
      rw [gb_neg (by omega), gb_and]
      refine gb_grown hx ?_
      refine nm_r (gb_not _ _) (nm_r (nI_1 n) (nm_r (e' := nI (49 - k)) ?_ (ih _ _ (by omega) (gb_andL hx) H)))
      rw [nI_1]
      congr 1
      omega
theorem gb_groups {post : Int32 → Prop} {tb tw : Int64} {c bt wt : Int32} {a1 a2 : Nat → Int64} {a3 : Nat → Int32} {b w : Nat} (hw : w < 2 ^ 49) (H : post (nI (gb_gp 49 w 0))) : wpX_groups post (lN gb_A, lN gb_F, lN gb_L, lN b, lN w, c, bt, wt, tb, tw, a1, a2, a3) 1 := by
  unfold wpX_groups
  refine gb_bpl1 (br_t rfl ?_)
  refine gb_st1 ?_
  exact ⟨50, gb_gploop 49 w 0 (by decide) hw H⟩
end
section
/-! the walks of the moves -/
theorem gb_ne1 : ∀ n, n < 50 → ¬ nI n = (-1) := by decide
theorem gb_ne2 : ∀ n, n < 50 → ¬ nI n = (-2) := by decide
theorem gb_ne40 : ∀ n, n < 40 → ¬ nI n = 40 := by decide
theorem gb_attP {post : Int32 → St2 → Prop} {f3 f4 tb tw : Int64} {c bt wt : Int32} {a1 a2 : Nat → Int64} {a3 : Nat → Int32} {p q : Int32} (h0 : ¬ p = 0) (h1 : ¬ p = 1) (H : post (-1) (lN gb_A, lN gb_F, lN gb_L, f3, f4, c, bt, wt, tb, tw, a1, a2, a3)) : wpX_attempt post (lN gb_A, lN gb_F, lN gb_L, f3, f4, c, bt, wt, tb, tw, a1, a2, a3) p q := by
  unfold wpX_attempt
  exact gb_bplN h0 h1 (br_f (by decide) H)
theorem gb_attB {post : Int32 → St2 → Prop} {f3 f4 tb tw : Int64} {c bt wt : Int32} {a1 a2 : Nat → Int64} {a3 : Nat → Int32} {q : Int32} (h : q < 0 ∨ nI 49 ≤ q) (H : post (-1) (lN gb_A, lN gb_F, lN gb_L, f3, f4, c, bt, wt, tb, tw, a1, a2, a3)) : wpX_attempt post (lN gb_A, lN gb_F, lN gb_L, f3, f4, c, bt, wt, tb, tw, a1, a2, a3) 1 q := by
  unfold wpX_attempt
  exact gb_bpl1 (br_t rfl (gb_bptN h (br_f (by decide) H)))
theorem gb_attT {post : Int32 → St2 → Prop} {tb tw : Int64} {c bt wt : Int32} {a1 a2 : Nat → Int64} {a3 : Nat → Int32} {b w j : Nat} {p : Int32} (hp : p = 0 ∨ p = 1) (hj : j < 49) (hb : b < 2 ^ 49) (hw : w < 2 ^ 49) (hf : (b ||| w) &&& 2 ^ j ≠ 0) (H : post (-2) (lN gb_A, lN gb_F, lN gb_L, lN b, lN w, c, bt, wt, tb, tw, a1, a2, a3)) : wpX_attempt post (lN gb_A, lN gb_F, lN gb_L, lN b, lN w, c, bt, wt, tb, tw, a1, a2, a3) p (nI j) := by
  have z : ¬ (lN b ||| lN w) &&& lN (2 ^ j) = 0 := by
    rw [gb_or, gb_and]
    exact fun z => hf ((gb_eq0 (gb_andL (gb_orB hb hw))).mp z)
  unfold wpX_attempt
  rcases hp with e | e
  · subst e
    exact gb_bpl0 (br_t rfl (gb_bpt hj (br_t rfl (nm_r (gb_bit hj) (br_f z H)))))
  · subst e
    exact gb_bpl1 (br_t rfl (gb_bpt hj (br_t rfl (nm_r (gb_bit hj) (br_f z H)))))
theorem gb_att0 {post : Int32 → St2 → Prop} {tb tw : Int64} {c bt wt : Int32} {a1 a2 : Nat → Int64} {a3 : Nat → Int32} {b w j m d g : Nat} (hj : j < 49) (hb : b < 2 ^ 49) (hw : w < 2 ^ 49) (hf : (b ||| w) &&& 2 ^ j = 0)
    (hm : b ||| 2 ^ j = m) (hd : gb_dd w (gb_op m w) = d) (hg : gb_gr m 50 (2 ^ j &&& m) = g) (hl : gb_ar g &&& (gb_op m w ||| d) = 0)
    (H : post (-5) (lN gb_A, lN gb_F, lN gb_L, lN b, lN w, c, bt, wt, tb, tw, a1, a2, a3)) : wpX_attempt post (lN gb_A, lN gb_F, lN gb_L, lN b, lN w, c, bt, wt, tb, tw, a1, a2, a3) 0 (nI j) := by
  have hmB : m < 2 ^ 49 := hm ▸ gb_orB hb (gb_pwB hj)
  have hgB : g < 2 ^ 49 := hg ▸ gb_grB _ _ _ (gb_andR hmB)
  unfold wpX_attempt
  refine gb_bpl0 (br_t rfl (gb_bpt hj (br_t rfl (nm_r (gb_bit hj) (br_t ?_ ?_)))))
  · rw [gb_or, gb_and, hf]
    rfl
  · refine gb_st0 (nm_r (e' := lN m) (by rw [gb_or, hm]) ?_)
    refine gb_st10 (nm_r (e' := lN (gb_op m w)) (by rw [gb_or, gb_not]; rfl) ?_)
    refine gb_dead hw (gb_opB m w) ?_
    rw [hd]
    refine nm_r (gb_not _ _) (nm_r (gb_or _ _) ?_)
    refine gb_grown hmB ?_
    rw [hg]
    refine gb_around hgB (br_t ?_ H)
    rw [gb_and, hl]
    rfl
theorem gb_ko {post : Int32 → St2 → Prop} {f3 f4 tw x z : Int64} {bt wt : Int32} {a1 a2 : Nat → Int64} {a3 : Nat → Int32} {d k : Nat} (hd : d < 2 ^ 49) (hk : k ≤ 40) (h : k = 0 ∨ ¬ x = a1 (k - 1) ∨ ¬ z = a2 (k - 1))
    (H : post (nI (gb_sz d 49)) (lN gb_A, lN gb_F, lN gb_L, f3, f4, nI k, bt, wt, x, z, a1, a2, a3)) : wX_attempt_156 post (lN d) z (lN gb_A) (lN gb_F) (lN gb_L) f3 f4 (nI k) bt wt x tw a1 a2 a3 := by
  have H' : wX_attempt_207 post (lN d) (lN gb_A) (lN gb_F) (lN gb_L) f3 f4 (nI k) bt wt x z a1 a2 a3 := by
    unfold wX_attempt_207
    exact gb_size hd H
  unfold wX_attempt_156
  cases k with
  | zero => exact br_t (by decide) H'
  | succ k =>
    refine br_f (nI_nle (by omega) (by omega)) ?_
    rw [nI_pred, nI_clamp (by omega)]
    refine ⟨pk_in k 40 (by omega), br_c (fun e => ⟨pk_in k 40 (by omega), br_f ?_ H'⟩) (fun _ => H')⟩
    rcases h with h | h | h
    · exact absurd h (by omega)
    · exact absurd e h
    · exact h
theorem gb_att1 {post : Int32 → St2 → Prop} {tb tw : Int64} {bt wt : Int32} {a1 a2 : Nat → Int64} {a3 : Nat → Int32} {b w j k m d g t : Nat} (hj : j < 49) (hb : b < 2 ^ 49) (hw : w < 2 ^ 49) (hk : k ≤ 40) (hf : (b ||| w) &&& 2 ^ j = 0)
    (hm : w ||| 2 ^ j = m) (hd : gb_dd b (gb_op m b) = d) (ht : b &&& (d ^^^ gb_M) = t) (hg : gb_gr m 50 (2 ^ j &&& m) = g) (hl : gb_ar g &&& (gb_op m b ||| d) ≠ 0) (h : k = 0 ∨ ¬ lN t = a1 (k - 1) ∨ ¬ lN m = a2 (k - 1))
    (H : post (nI (gb_sz d 49)) (lN gb_A, lN gb_F, lN gb_L, lN b, lN w, nI k, bt, wt, lN t, lN m, a1, a2, a3)) : wpX_attempt post (lN gb_A, lN gb_F, lN gb_L, lN b, lN w, nI k, bt, wt, tb, tw, a1, a2, a3) 1 (nI j) := by
  have hmB : m < 2 ^ 49 := hm ▸ gb_orB hw (gb_pwB hj)
  have hgB : g < 2 ^ 49 := hg ▸ gb_grB _ _ _ (gb_andR hmB)
  have hdB : d < 2 ^ 49 := hd ▸ gb_andL hb
  unfold wpX_attempt
  refine gb_bpl1 (br_t rfl (gb_bpt hj (br_t rfl (nm_r (gb_bit hj) (br_t ?_ ?_)))))
  · rw [gb_or, gb_and, hf]
    rfl
  · refine gb_st1 (nm_r (e' := lN m) (by rw [gb_or, hm]) ?_)
    refine gb_st11 (nm_r (e' := lN (gb_op m b)) (by rw [gb_or, gb_not]; rfl) ?_)
    refine gb_dead hb (gb_opB m b) ?_
    rw [hd]
    refine nm_r (e' := lN t) (by rw [gb_not, ht]) (nm_r (gb_or _ _) ?_)
    refine gb_grown hmB ?_
    rw [hg]
    refine gb_around hgB (br_f (fun z => ?_) (br_f (by decide) ?_))
    · rw [gb_and] at z
      exact hl ((gb_eq0 (gb_andL (gb_arB _))).mp z)
    · unfold wX_attempt_141
      exact br_f (by decide) (gb_ko hdB hk h H)
theorem gb_store {post : St2 → Prop} {f3 f4 tb tw : Int64} {bt wt : Int32} {a1 a2 : Nat → Int64} {a3 : Nat → Int32} {k : Nat} (hk : k < 40) (H : post (lN gb_A, lN gb_F, lN gb_L, f3, f4, nI (k + 1), bt, wt, tb, tw, vp_updL a1 k f3, vp_updL a2 k f4, upd a3 k (bt * 1000 + wt))) : wpX_store post (lN gb_A, lN gb_F, lN gb_L, f3, f4, nI k, bt, wt, tb, tw, a1, a2, a3) := by
  unfold wpX_store
  dsimp only
  rw [nI_clamp (by omega)]
  exact ⟨pk_in k 40 hk, nm_e ⟨pk_in k 40 hk, nm_e ⟨pk_in k 40 hk, nm_e (nm_r (nI_1 k) H)⟩⟩⟩
theorem gb_play {post : Int32 → St2 → Prop} {tb tw : Int64} {bt wt : Int32} {a1 a2 : Nat → Int64} {a3 : Nat → Int32} {b w j k m d g t : Nat} (hj : j < 49) (hb : b < 2 ^ 49) (hw : w < 2 ^ 49) (hk : k < 40) (hf : (b ||| w) &&& 2 ^ j = 0)
    (hm : w ||| 2 ^ j = m) (hd : gb_dd b (gb_op m b) = d) (ht : b &&& (d ^^^ gb_M) = t) (hg : gb_gr m 50 (2 ^ j &&& m) = g) (hl : gb_ar g &&& (gb_op m b ||| d) ≠ 0) (h : k = 0 ∨ ¬ lN t = a1 (k - 1) ∨ ¬ lN m = a2 (k - 1))
    (H : post (nI (gb_sz d 49)) (lN gb_A, lN gb_F, lN gb_L, lN t, lN m, nI (k + 1), bt, wt + nI (gb_sz d 49), lN t, lN m, vp_updL a1 k (lN b), vp_updL a2 k (lN w), upd a3 k (bt * 1000 + wt))) : wpX_play post (lN gb_A, lN gb_F, lN gb_L, lN b, lN w, nI k, bt, wt, tb, tw, a1, a2, a3) 1 (nI j) := by
  have hs : gb_sz d 49 < 50 := by
    have := gb_szB d 49
    omega
  unfold wpX_play
  refine gb_att1 hj hb hw (by omega) hf hm hd ht hg hl h ?_
  refine br_f (gb_ne1 _ hs) (br_f (gb_ne2 _ hs) (br_f (gb_ne40 k hk) (br_t (nI_pos' (by omega)) ?_)))
  refine gb_store hk ?_
  exact br_f (by decide) (nm_e H)
theorem gb_playB {post : Int32 → St2 → Prop} {f3 f4 tb tw : Int64} {c bt wt : Int32} {a1 a2 : Nat → Int64} {a3 : Nat → Int32} {q : Int32} (h : q < 0 ∨ nI 49 ≤ q) (H : post (-1) (lN gb_A, lN gb_F, lN gb_L, f3, f4, c, bt, wt, tb, tw, a1, a2, a3)) : wpX_play post (lN gb_A, lN gb_F, lN gb_L, f3, f4, c, bt, wt, tb, tw, a1, a2, a3) 1 q := by
  unfold wpX_play
  exact gb_attB h (br_t rfl H)
theorem gb_playT {post : Int32 → St2 → Prop} {tb tw : Int64} {c bt wt : Int32} {a1 a2 : Nat → Int64} {a3 : Nat → Int32} {b w j : Nat} (hj : j < 49) (hb : b < 2 ^ 49) (hw : w < 2 ^ 49) (hf : (b ||| w) &&& 2 ^ j ≠ 0) (H : post (-2) (lN gb_A, lN gb_F, lN gb_L, lN b, lN w, c, bt, wt, tb, tw, a1, a2, a3)) : wpX_play post (lN gb_A, lN gb_F, lN gb_L, lN b, lN w, c, bt, wt, tb, tw, a1, a2, a3) 1 (nI j) := by
  unfold wpX_play
  exact gb_attT (.inr rfl) hj hb hw hf (br_f (by decide) (br_t rfl H))
theorem gb_atari {post : Int32 → Prop} {tb tw : Int64} {c bt wt : Int32} {a1 a2 : Nat → Int64} {a3 : Nat → Int32} (H : post 1) : wpX_inAtari post (lN gb_A, lN gb_F, lN gb_L, lN 1, lN 2, c, bt, wt, tb, tw, a1, a2, a3) 0 := by
  unfold wpX_inAtari
  refine gb_bpl0 (br_t rfl ?_)
  unfold wpX_empty
  dsimp only
  rw [gb_or, gb_not]
  refine gb_st0 ⟨0 + 1 + 1, ?_⟩
  refine br_f (by decide) (br_f (by decide) ?_)
  unfold wpX_lowest
  dsimp only
  rw [gb_neg (by decide), gb_and]
  refine gb_grown (by decide) ?_
  rw [show gb_gr 1 50 ((1 &&& (18446744073709551616 - 1)) &&& 1) = 1 by decide +kernel]
  refine gb_around (by decide) ?_
  refine nm_r (e' := lN 128) (by rw [gb_and]; decide +kernel) ?_
  refine br_f (by decide) (br_t (by decide) ?_)
  refine gb_size (by decide) ?_
  refine nm_r (e' := 1) (by decide +kernel) ?_
  unfold wX_inAtari_104
  refine nm_r (e' := 0) (by decide) (nm_e ?_)
  exact br_f (by decide) (br_t rfl H)
def gb_k1 : Nat → Nat
  | 0 => 0
  | i + 1 => gb_k1 i ||| 2 ^ i
def gb_k3 (z : Nat) : Nat → Nat
  | 0 => 0
  | i + 1 => if i % 7 = z then gb_k3 z i ||| 2 ^ i else gb_k3 z i
theorem gb_init {post : St2 → Prop} {mc ms : Nat} (hmc : 3 ≤ mc) (hms : 120 ≤ ms) (H : post (lN gb_A, lN gb_F, lN gb_L, 0, 0, 0, 0, 0, 0, 0, (fun _ => 0), (fun _ => 0), (fun _ => 0))) : wpX_init post mc ms (0, 0, 0, 0, 0, 0, 0, 0, 0, 0) := by
  unfold wpX_init
  refine ⟨by omega, by omega, by omega, by omega, by omega, by omega, ?_⟩
  refine pk_loop (σ := Unit) (fun n i _ => wX_init_38 post mc ms 3 120 0 0 0 0 0 0 0 0 0 0 (fun _ => 0) (fun _ => 0) (fun _ => 0) n (lN (gb_k1 i)) (lN (gb_k3 0 i)) (lN (gb_k3 6 i)) (nI i)) (fun _ _ => True) 49 0 () (by omega) trivial ?_ ?_
  · intro n _ _
    have e1 : lN (gb_k1 49) = lN gb_A := by decide +kernel
    have e2 : lN gb_A &&& (lN (gb_k3 0 49) ^^^ (-1)) = lN gb_F := by decide +kernel
    have e3 : lN gb_A &&& (lN (gb_k3 6 49) ^^^ (-1)) = lN gb_L := by decide +kernel
    show wX_init_38 post mc ms 3 120 0 0 0 0 0 0 0 0 0 0 (fun _ => 0) (fun _ => 0) (fun _ => 0) (n + 1) (lN (gb_k1 49)) (lN (gb_k3 0 49)) (lN (gb_k3 6 49)) (nI 49)
    rw [e1]
    exact br_t (nI_le (a := 49) (b := 49) (by decide) (by decide)) (nm_r e2 (nm_r e3 H))
  · intro n i _ hi _ hw
    have t := hw () trivial
    have r7 : nI i - nI i / 7 * 7 = nI (i % 7) := pk_rem (d := 7) (by omega) (by decide) (by decide)
    have hm : i % 7 < 7 := Nat.mod_lt _ (by decide)
    have q0 : nI i - nI i / 7 * 7 = 0 ↔ i % 7 = 0 := by
      rw [r7]
      exact nI_eq (b := 0) (by omega) (by decide)
    have q6 : nI i - nI i / 7 * 7 = 6 ↔ i % 7 = 6 := by
      rw [r7]
      exact nI_eq (b := 6) (by omega) (by decide)
    have k67 : ∀ y, wX_init_38 post mc ms 3 120 0 0 0 0 0 0 0 0 0 0 (fun _ => 0) (fun _ => 0) (fun _ => 0) n (lN (gb_k1 (i + 1))) y (lN (gb_k3 6 (i + 1))) (nI (i + 1)) → wX_init_67 post mc ms (wX_init_38 post mc ms 3 120 0 0 0 0 0 0 0 0 0 0 (fun _ => 0) (fun _ => 0) (fun _ => 0) n) (lN (gb_k1 (i + 1))) y (lN (gb_k3 6 i)) (nI i) 3 120 0 0 0 0 0 0 0 0 0 0 (fun _ => 0) (fun _ => 0) (fun _ => 0) := by
      intro y ty
      unfold wX_init_67
      refine ⟨by decide, br_c (fun h => ?_) (fun h => ?_)⟩
      · rw [gb_k3, if_pos (q6.mp h)] at ty
        exact nm_r (by rw [gb_bit hi, gb_or]) (nm_r (nI_1 i) ty)
      · rw [gb_k3, if_neg (fun z => h (q6.mpr z))] at ty
        exact nm_r (nI_1 i) ty
    refine br_f (nI_ge (a := i) (b := 49) hi (by decide)) (nm_r (e' := lN (gb_k1 (i + 1))) (by rw [gb_bit hi, gb_or]; rfl) ⟨by decide, br_c (fun h => ?_) (fun h => ?_)⟩)
    · refine nm_r (e' := lN (gb_k3 0 (i + 1))) ?_ (k67 _ t)
      rw [gb_bit hi, gb_or, gb_k3, if_pos (q0.mp h)]
    · have t' := k67 _ t
      rw [gb_k3, if_neg (fun z => h (q0.mpr z))] at t'
      exact t'
theorem gb_set {post : Int32 → St2 → Prop} {tb tw : Int64} {c bt wt : Int32} {a1 a2 : Nat → Int64} {a3 : Nat → Int32} (H : post 0 (lN gb_A, lN gb_F, lN gb_L, lN 1, lN 0, 0, 0, 0, tb, tw, a1, a2, a3)) : wpX_set post (lN gb_A, lN gb_F, lN gb_L, 0, 0, c, bt, wt, tb, tw, a1, a2, a3) 0 0 := by
  unfold wpX_set
  refine br_f (by decide) (br_f (by decide) ?_)
  refine gb_bpt (j := 0) (by decide) (br_t rfl (nm_r (e' := lN 1) (by decide) (br_t (by decide) ?_)))
  unfold wX_set_44
  refine br_f (by decide) ?_
  unfold wX_set_58
  refine br_f (by decide) (br_t rfl (nm_r (e' := lN 1) (by decide) ?_))
  exact H
end
section
/-! the tables: what the picture answers on every point -/
def gb_in (q : Int32) : Bool := !decide (q < 0) && !decide (48 < q)
def gb_tk (q : Int32) : Bool := decide (q = 0) || decide (q = 1)
def gb_i (c : Bool) : Int32 := match c with
  | true => 1
  | false => 0
/-- what the law awaits: mv: the second move is done -/
def gb_mv (q : Int32) : Bool := gb_in q && !gb_tk q
def gb_tks (q : Int32) : Bool := decide (q = 7)
def gb_bes (q : Int32) : Bool := decide (q = 2) || decide (q = 8)
def gb_eSt (mv : Bool) : Int32 := match mv with
  | true => 2
  | false => 1
def gb_eSec (inn tk ts : Bool) : Int32 := match inn, tk with
  | false, _ => -1
  | true, true => -2
  | true, false => gb_i ts
def gb_eTr (p : Int32) (ts : Bool) : Int32 := if p = 0 then (match ts with | true => -5 | false => -2) else if p = 1 then (match ts with | true => 0 | false => -2) else -1
def gb_eSc (ts mv : Bool) : Int32 := match ts with
  | true => 49
  | false => gb_eSt mv
def gb_eGp (mv bs : Bool) : Int32 := match mv, bs with
  | true, false => 2
  | _, _ => 1
def gb_sto (q r : Int32) : Bool := decide (r = 1) || (decide (r = 0) && !gb_tks q) || (gb_mv q && decide (r = q))
def gb_eRg (rin sto sin ts mv : Bool) : Int32 := match rin, sto, sin, ts with
  | false, _, _, _ => -1
  | true, true, _, _ => -2
  | true, false, true, _ => 1
  | true, false, false, true => 46
  | true, false, false, false => 47 - gb_i mv
def gb_eRq (q r : Int32) : Int32 := gb_eRg (gb_in r) (gb_sto q r) (gb_tks q && decide (r = 0)) (gb_tks q) (gb_mv q)
/-- the points of one region, o: the free points of the board -/
def gb_rg (o i : Nat) : Int32 := if o &&& 2 ^ i = 0 then (-2) else gb_fc (gb_gr o 50 (2 ^ i &&& o)) (fun g => nI (gb_sz g 49))
/-- the board after the second move at j: black, white, captured -/
def gb_b2 (j : Nat) : Nat := if j = 7 then 0 else 1
def gb_d2 (j : Nat) : Nat := if j = 7 then 1 else 0
theorem gb_tPlay : ∀ j, j < 49 → ¬ j = 0 → ¬ j = 1 → (gb_fc (2 ||| 2 ^ j) fun m => gb_fc (gb_op m 1) fun o => gb_fc (gb_dd 1 o) fun d => gb_fc (gb_gr m 50 (2 ^ j &&& m)) fun g =>
    decide ((1 ||| 2) &&& 2 ^ j = 0 ∧ d = gb_d2 j ∧ 1 &&& (d ^^^ gb_M) = gb_b2 j ∧ gb_ar g &&& (o ||| d) ≠ 0)) = true := by decide +kernel
theorem gb_tScore : ∀ j, j < 49 → ¬ j = 0 → ¬ j = 1 → (gb_fc (2 ||| 2 ^ j) fun w => gb_fc (gb_b2 j) fun b => gb_fc (gb_op b w) fun o => gb_fc (gb_gr o 50 ((gb_ar w &&& o) &&& o)) fun x => gb_fc (gb_gr o 50 ((gb_ar b &&& o) &&& o)) fun y => gb_fc (w ||| (x &&& (y ^^^ gb_M))) fun s =>
    decide (nI (gb_sz s 49) = gb_eSc (gb_tks (nI j)) (gb_mv (nI j)))) = true := by decide +kernel
theorem gb_tGroups : ∀ j, j < 49 → ¬ j = 0 → ¬ j = 1 → (gb_fc (2 ||| 2 ^ j) fun w => decide (nI (gb_gp 49 w 0) = gb_eGp (gb_mv (nI j)) (gb_bes (nI j)))) = true := by decide +kernel
theorem gb_tRegion : ∀ j, j < 49 → ¬ j = 0 → ¬ j = 1 → (gb_fc (2 ||| 2 ^ j) fun w => gb_fc (gb_b2 j) fun b => gb_fc (gb_op b w) fun o =>
    decide (∀ i : Nat, i < 49 → gb_rg o i = gb_eRq (nI j) (nI i))) = true := by decide +kernel
theorem gb_nRegion : ∀ i, i < 49 → gb_rg (gb_op 1 2) i = gb_eRg true (decide (nI i = 1) || decide (nI i = 0)) false false false := by decide +kernel
theorem gb_nScore : nI (gb_sz (gb_sc 1 2) 49) = 1 := by decide +kernel
theorem gb_nGroups : nI (gb_gp 49 2 0) = 1 := by decide +kernel
end
section
/-! the law behind its calls -/
theorem gb_t89 {post : Int32 → St0 → Prop} {mc ms kc ks : Nat} {x0 x1 x2 x4 x5 x6 x7 x8 x9 x10 x11 x12 : Int32}  (H : wL_lawOf_105 post mc ms x0 x1 x2 x4 x5 x6 x7 x8 x9 x10 x11 x12 (gb_i (gb_tk x0)) kc ks) : wL_lawOf_89 post mc ms x0 x1 x2 x4 x5 x6 x7 x8 x9 x10 x11 x12 kc ks := by
  unfold wL_lawOf_89
  refine br_c (fun h => ?_) (fun h => br_c (fun h1 => ?_) (fun h1 => ?_))
  · rw [show gb_tk x0 = true by simp [gb_tk, h]] at H
    exact H
  · rw [show gb_tk x0 = true by simp [gb_tk, h1]] at H
    exact H
  · rw [show gb_tk x0 = false by simp [gb_tk, h, h1]] at H
    exact H
theorem gb_t105 {post : Int32 → St0 → Prop} {mc ms kc ks : Nat} {x0 x1 x2 x4 x5 x6 x7 x8 x9 x10 x11 x12 x13 : Int32}  (H : wL_lawOf_118 post mc ms x0 x1 x2 x4 x5 x6 x7 x8 x9 x10 x11 x12 x13 (gb_i (gb_tks x0)) kc ks) : wL_lawOf_105 post mc ms x0 x1 x2 x4 x5 x6 x7 x8 x9 x10 x11 x12 x13 kc ks := by
  unfold wL_lawOf_105
  refine br_c (fun h => ?_) (fun h => ?_)
  · rw [show gb_tks x0 = true by simp [gb_tks, h]] at H
    exact H
  · rw [show gb_tks x0 = false by simp [gb_tks, h]] at H
    exact H
theorem gb_t118 {post : Int32 → St0 → Prop} {mc ms kc ks : Nat} {x0 x1 x2 x4 x5 x6 x7 x8 x9 x10 x11 x12 x13 : Int32} {ts : Bool} (H : wL_lawOf_130 post mc ms x0 x1 x2 x4 x5 x6 x7 x8 x9 x10 x11 x12 x13 (gb_i ts) (gb_i ts) kc ks) : wL_lawOf_118 post mc ms x0 x1 x2 x4 x5 x6 x7 x8 x9 x10 x11 x12 x13 (gb_i ts) kc ks := by
  unfold wL_lawOf_118
  cases ts
  · exact br_t rfl H
  · exact br_f (by decide) H
theorem gb_t130 {post : Int32 → St0 → Prop} {mc ms kc ks : Nat} {x0 x1 x2 x4 x5 x6 x7 x8 x9 x10 x11 x14 x15 : Int32} {inn tk : Bool} (H : wL_lawOf_148 post mc ms x0 x1 x2 x4 x5 x6 x7 x8 x9 x10 x11 (gb_i inn) (gb_i tk) x14 x15 (gb_i (inn && !tk)) 1 kc ks) : wL_lawOf_130 post mc ms x0 x1 x2 x4 x5 x6 x7 x8 x9 x10 x11 (gb_i inn) (gb_i tk) x14 x15 kc ks := by
  unfold wL_lawOf_130
  cases inn
  · exact br_t rfl H
  · cases tk
    · exact br_f (by decide) (br_t rfl H)
    · exact br_f (by decide) (br_f (by decide) H)
theorem gb_t148 {post : Int32 → St0 → Prop} {mc ms kc ks : Nat} {x0 x1 x2 x4 x5 x6 x7 x8 x9 x10 x11 x12 x13 x14 x15 z0 z1 : Int32}  (H : wL_lawOf_167 post mc ms x0 x1 x2 x4 x5 x6 x7 x8 x9 x10 x11 x12 x13 x14 x15 (z1 + z0) (gb_i (gb_bes x0)) kc ks) : wL_lawOf_148 post mc ms x0 x1 x2 x4 x5 x6 x7 x8 x9 x10 x11 x12 x13 x14 x15 z0 z1 kc ks := by
  unfold wL_lawOf_148
  refine nm_e (br_c (fun h => ?_) (fun h => br_c (fun h1 => ?_) (fun h1 => ?_)))
  · rw [show gb_bes x0 = true by simp [gb_bes, h]] at H
    exact H
  · rw [show gb_bes x0 = true by simp [gb_bes, h1]] at H
    exact H
  · rw [show gb_bes x0 = false by simp [gb_bes, h, h1]] at H
    exact H
theorem gb_t183 {post : Int32 → St0 → Prop} {mc ms kc ks : Nat} {x0 x1 x2 x4 x5 x6 x7 x8 x9 x10 x11 x14 x15 x16 x17 : Int32} {inn tk : Bool} (H : wL_lawOf_203 post mc ms x1 x2 x4 x5 x6 x7 x8 x9 x10 x11 (gb_i inn) (gb_i tk) x14 x15 x16 x17 (gb_i ((inn && !tk) && decide (x2 = x0))) kc ks) : wL_lawOf_183 post mc ms x0 x1 x2 x4 x5 x6 x7 x8 x9 x10 x11 (gb_i inn) (gb_i tk) x14 x15 x16 x17 kc ks := by
  unfold wL_lawOf_183
  cases inn
  · exact br_t rfl H
  · refine br_f (by decide) ?_
    cases tk
    · refine br_t rfl (br_c (fun h => ?_) (fun h => ?_))
      · rw [show ((true && !false) && decide (x2 = x0)) = true by simp [h]] at H
        exact H
      · rw [show ((true && !false) && decide (x2 = x0)) = false by simp [h]] at H
        exact H
    · exact br_f (by decide) H
theorem gb_t167 {post : Int32 → St0 → Prop} {mc ms kc ks : Nat} {x0 x1 x2 x4 x5 x6 x7 x8 x9 x10 x11 x15 x16 x17 : Int32} {inn tk ts : Bool} (H : wL_lawOf_203 post mc ms x1 x2 x4 x5 x6 x7 x8 x9 x10 x11 (gb_i inn) (gb_i tk) (gb_i ts) x15 x16 x17 (gb_i (decide (x2 = 1) || (decide (x2 = 0) && !ts) || ((inn && !tk) && decide (x2 = x0)))) kc ks) : wL_lawOf_167 post mc ms x0 x1 x2 x4 x5 x6 x7 x8 x9 x10 x11 (gb_i inn) (gb_i tk) (gb_i ts) x15 x16 x17 kc ks := by
  unfold wL_lawOf_167
  refine br_c (fun h => ?_) (fun h => br_c (fun h0 => ?_) (fun h0 => ?_))
  · rw [show (decide (x2 = 1) || (decide (x2 = 0) && !ts) || ((inn && !tk) && decide (x2 = x0))) = true by simp [h]] at H
    exact H
  · cases ts
    · rw [show (decide (x2 = 1) || (decide (x2 = 0) && !false) || ((inn && !tk) && decide (x2 = x0))) = true by simp [h0]] at H
      exact br_t rfl H
    · rw [show (decide (x2 = 1) || (decide (x2 = 0) && !true) || ((inn && !tk) && decide (x2 = x0))) = ((inn && !tk) && decide (x2 = x0)) by simp [h]] at H
      exact br_f (by decide) (gb_t183 H)
  · rw [show (decide (x2 = 1) || (decide (x2 = 0) && !ts) || ((inn && !tk) && decide (x2 = x0))) = ((inn && !tk) && decide (x2 = x0)) by simp [h, h0]] at H
    exact gb_t183 H
theorem gb_t203 {post : Int32 → St0 → Prop} {mc ms kc ks : Nat} {x1 x2 x4 x5 x6 x7 x8 x9 x10 x11 x12 x13 x14 x15 x16 x17 x18 : Int32}  (H : wL_lawOf_220 post mc ms x1 x2 x4 x5 x6 x7 x8 x9 x10 x11 x12 x13 x14 x15 x16 x17 x18 (gb_i (gb_in x2)) kc ks) : wL_lawOf_203 post mc ms x1 x2 x4 x5 x6 x7 x8 x9 x10 x11 x12 x13 x14 x15 x16 x17 x18 kc ks := by
  unfold wL_lawOf_203
  refine br_c (fun h => ?_) (fun h => br_c (fun h1 => ?_) (fun h1 => ?_))
  · rw [show gb_in x2 = false by simp [gb_in, h]] at H
    exact H
  · rw [show gb_in x2 = false by simp [gb_in, h1]] at H
    exact H
  · rw [show gb_in x2 = true by simp only [gb_in, h, h1, decide_false, Bool.not_false, Bool.and_self]] at H
    exact H
theorem gb_t220 {post : Int32 → St0 → Prop} {mc ms kc ks : Nat} {x1 x2 x4 x5 x6 x7 x8 x9 x10 x11 x12 x13 x15 x16 x17 x18 x19 : Int32} {ts : Bool} (H : wL_lawOf_236 post mc ms x1 x4 x5 x6 x7 x8 x9 x10 x11 x12 x13 (gb_i ts) x15 x16 x17 x18 x19 (gb_i (ts && decide (x2 = 0))) kc ks) : wL_lawOf_220 post mc ms x1 x2 x4 x5 x6 x7 x8 x9 x10 x11 x12 x13 (gb_i ts) x15 x16 x17 x18 x19 kc ks := by
  unfold wL_lawOf_220
  cases ts
  · exact br_t rfl H
  · refine br_f (by decide) (br_c (fun h => ?_) (fun h => ?_))
    · rw [show (true && decide (x2 = 0)) = true by simp [h]] at H
      exact H
    · rw [show (true && decide (x2 = 0)) = false by simp [h]] at H
      exact H
theorem gb_t236 {post : Int32 → St0 → Prop} {mc ms kc ks : Nat} {x1 x4 x5 x6 x7 x8 x9 x10 x11 x14 x15 x16 x17 x18 x19 x20 : Int32} {inn tk : Bool} (H : wL_lawOf_255 post mc ms x1 x4 x5 x6 x7 x8 x9 x10 x11 (gb_i inn) (gb_i tk) x14 x15 x16 x17 x18 x19 x20 (gb_i (inn && !tk)) 47 kc ks) : wL_lawOf_236 post mc ms x1 x4 x5 x6 x7 x8 x9 x10 x11 (gb_i inn) (gb_i tk) x14 x15 x16 x17 x18 x19 x20 kc ks := by
  unfold wL_lawOf_236
  cases inn
  · exact br_t rfl H
  · cases tk
    · exact br_f (by decide) (br_t rfl H)
    · exact br_f (by decide) (br_f (by decide) H)
theorem gb_t375 {post : Int32 → St0 → Prop} {mc ms kc ks : Nat} {x11 z0 z1 : Int32} {ts sto rin sin mv : Bool} (h : z1 = z0) (h11 : x11 = gb_eRg rin sto sin ts mv) (hp : post 1 ()) : wL_lawOf_375 post mc ms x11 (gb_i ts) (gb_i sto) (gb_i rin) (gb_i sin) (47 - gb_i mv) z0 z1 kc ks := by
  unfold wL_lawOf_375
  refine br_t h ?_
  cases rin
  · exact br_t rfl (br_t h11 hp)
  · refine br_f (by decide) ?_
    cases sto
    · refine br_t rfl ?_
      cases sin
      · refine br_t rfl ?_
        cases ts
        · exact br_t rfl (br_t h11 hp)
        · exact br_f (by decide) (br_t h11 hp)
      · exact br_f (by decide) (br_t h11 hp)
    · exact br_f (by decide) (br_t h11 hp)
theorem gb_t354 {post : Int32 → St0 → Prop} {mc ms kc ks : Nat} {x10 x11 z0 z1 : Int32} {ts sto rin sin mv bs : Bool} (h : z1 = z0) (h10 : x10 = gb_eGp mv bs) (h11 : x11 = gb_eRg rin sto sin ts mv) (hp : post 1 ()) : wL_lawOf_354 post mc ms x10 x11 (gb_i ts) (1 + gb_i mv) (gb_i bs) (gb_i sto) (gb_i rin) (gb_i sin) (47 - gb_i mv) z0 z1 kc ks := by
  unfold wL_lawOf_354
  refine br_t h ?_
  cases mv
  · have e : x10 = 1 := h10
    exact br_t (by decide) (gb_t375 e h11 hp)
  · refine br_f (by decide) ?_
    cases bs
    · have e : x10 = 2 := h10
      exact br_t rfl (gb_t375 e h11 hp)
    · have e : x10 = 1 := h10
      exact br_f (by decide) (gb_t375 e h11 hp)
theorem gb_t337 {post : Int32 → St0 → Prop} {mc ms kc ks : Nat} {x9 x10 x11 z0 z1 : Int32} {ts sto rin sin mv bs : Bool} (h : z1 = z0) (h9 : x9 = gb_eSc ts mv) (h10 : x10 = gb_eGp mv bs) (h11 : x11 = gb_eRg rin sto sin ts mv) (hp : post 1 ()) : wL_lawOf_337 post mc ms x9 x10 x11 (gb_i ts) (1 + gb_i mv) (gb_i bs) (gb_i sto) (gb_i rin) (gb_i sin) (47 - gb_i mv) z0 z1 kc ks := by
  unfold wL_lawOf_337
  refine br_t h ?_
  cases ts
  · have e : x9 = 1 + gb_i mv := by
      rw [h9]
      cases mv <;> decide
    exact br_t rfl (gb_t354 e h10 h11 hp)
  · exact br_f (by decide) (gb_t354 h9 h10 h11 hp)
theorem gb_t317 {post : Int32 → St0 → Prop} {mc ms kc ks : Nat} {x1 x9 x10 x11 z0 : Int32} {ts sto rin sin mv bs : Bool} (hx : x1 = 0 ∨ x1 = 1) (h8 : z0 = gb_eTr x1 ts) (h9 : x9 = gb_eSc ts mv) (h10 : x10 = gb_eGp mv bs) (h11 : x11 = gb_eRg rin sto sin ts mv) (hp : post 1 ()) : wL_lawOf_317 post mc ms x1 x9 x10 x11 (gb_i ts) (1 + gb_i mv) (gb_i bs) (gb_i sto) (gb_i rin) (gb_i sin) (47 - gb_i mv) z0 kc ks := by
  unfold wL_lawOf_317
  cases ts
  · refine br_t rfl (gb_t337 ?_ h9 h10 h11 hp)
    rcases hx with e | e <;> subst e <;> exact h8
  · refine br_f (by decide) (br_c (fun e => gb_t337 ?_ h9 h10 h11 hp) (fun e => gb_t337 ?_ h9 h10 h11 hp))
    · subst e
      exact h8
    · rcases hx with z | z
      · exact absurd z e
      · subst z
        exact h8
theorem gb_t292 {post : Int32 → St0 → Prop} {mc ms kc ks : Nat} {x1 x7 x8 x9 x10 x11 z0 z1 : Int32} {ts sto rin sin mv bs : Bool} (h : z1 = z0) (h7 : x7 = gb_i ts) (h8 : x8 = gb_eTr x1 ts) (h9 : x9 = gb_eSc ts mv) (h10 : x10 = gb_eGp mv bs) (h11 : x11 = gb_eRg rin sto sin ts mv) (hp : post 1 ()) : wL_lawOf_292 post mc ms x1 x7 x8 x9 x10 x11 (gb_i ts) (gb_i ts) (1 + gb_i mv) (gb_i bs) (gb_i sto) (gb_i rin) (gb_i sin) (47 - gb_i mv) z0 z1 kc ks := by
  unfold wL_lawOf_292
  refine br_t h (br_t h7 (br_c (fun e => gb_t317 (.inl e) h8 h9 h10 h11 hp) (fun e => br_c (fun e1 => gb_t317 (.inr e1) h8 h9 h10 h11 hp) (fun e1 => gb_t337 ?_ h9 h10 h11 hp))))
  rw [h8]
  unfold gb_eTr
  rw [if_neg e, if_neg e1]
theorem gb_t255 {post : Int32 → St0 → Prop} {mc ms kc ks : Nat} {x1 x4 x5 x6 x7 x8 x9 x10 x11 : Int32} {inn tk ts sto rin sin bs : Bool} (h4 : x4 = 0) (h5 : x5 = 1) (h6 : x6 = gb_eSec inn tk ts) (h7 : x7 = gb_i ts) (h8 : x8 = gb_eTr x1 ts) (h9 : x9 = gb_eSc ts (inn && !tk)) (h10 : x10 = gb_eGp (inn && !tk) bs) (h11 : x11 = gb_eRg rin sto sin ts (inn && !tk)) (hp : post 1 ()) : wL_lawOf_255 post mc ms x1 x4 x5 x6 x7 x8 x9 x10 x11 (gb_i inn) (gb_i tk) (gb_i ts) (gb_i ts) (1 + gb_i (inn && !tk)) (gb_i bs) (gb_i sto) (gb_i rin) (gb_i sin) (gb_i (inn && !tk)) 47 kc ks := by
  unfold wL_lawOf_255
  refine nm_e (br_t h4 (br_t h5 ?_))
  cases inn
  · exact br_t rfl (gb_t292 h6 h7 h8 h9 h10 h11 hp)
  · refine br_f (by decide) ?_
    cases tk
    · exact br_t rfl (gb_t292 h6 h7 h8 h9 h10 h11 hp)
    · exact br_f (by decide) (gb_t292 h6 h7 h8 h9 h10 h11 hp)
theorem gb_tail {post : Int32 → St0 → Prop} {mc ms kc ks : Nat} {q p r x4 x5 x6 x7 x8 x9 x10 x11 : Int32} (h4 : x4 = 0) (h5 : x5 = 1) (h6 : x6 = gb_eSec (gb_in q) (gb_tk q) (gb_tks q)) (h7 : x7 = gb_i (gb_tks q)) (h8 : x8 = gb_eTr p (gb_tks q)) (h9 : x9 = gb_eSc (gb_tks q) (gb_mv q)) (h10 : x10 = gb_eGp (gb_mv q) (gb_bes q)) (h11 : x11 = gb_eRq q r) (hp : post 1 ()) :
    (q < 0 → wL_lawOf_88 post mc ms q p r x4 x5 x6 x7 x8 x9 x10 x11 kc ks) ∧ (¬ q < 0 → ((48 < q → wL_lawOf_88 post mc ms q p r x4 x5 x6 x7 x8 x9 x10 x11 kc ks) ∧ (¬ 48 < q → wL_lawOf_89 post mc ms q p r x4 x5 x6 x7 x8 x9 x10 x11 1 kc ks))) := by
  have H : wL_lawOf_89 post mc ms q p r x4 x5 x6 x7 x8 x9 x10 x11 (gb_i (gb_in q)) kc ks :=
    gb_t89 (gb_t105 (gb_t118 (gb_t130 (gb_t148 (gb_t167 (gb_t203 (gb_t220 (gb_t236 (gb_t255 h4 h5 h6 h7 h8 h9 h10 h11 hp)))))))))
  refine br_c (fun h => ?_) (fun h => br_c (fun h1 => ?_) (fun h1 => ?_))
  · rw [show gb_in q = false by simp [gb_in, h]] at H
    exact H
  · rw [show gb_in q = false by simp [gb_in, h1]] at H
    exact H
  · rw [show gb_in q = true by simp only [gb_in, h, h1, decide_false, Bool.not_false, Bool.and_self]] at H
    exact H
end
section
/-! the second move, and what the board answers behind it -/
def gb_Ok (q : Int32) (b w : Nat) (c wt : Int32) (a1 a2 : Nat → Int64) : Prop :=
  b < 2 ^ 49 ∧ w < 2 ^ 49 ∧ wt = gb_i (gb_tks q) ∧ nI (gb_sz (gb_sc b w) 49) = gb_eSc (gb_tks q) (gb_mv q) ∧ nI (gb_gp 49 w 0) = gb_eGp (gb_mv q) (gb_bes q) ∧
  (∀ i, i < 49 → gb_rg (gb_op b w) i = gb_eRq q (nI i)) ∧
  (∀ (p : Int32) (P : Int32 → St2 → Prop) (bt : Int32) (tb tw : Int64) (a3 : Nat → Int32), (∀ tb' tw' : Int64, P (gb_eTr p (gb_tks q)) (lN gb_A, lN gb_F, lN gb_L, lN b, lN w, c, bt, wt, tb', tw', a1, a2, a3)) → wpX_attempt P (lN gb_A, lN gb_F, lN gb_L, lN b, lN w, c, bt, wt, tb, tw, a1, a2, a3) p 0)
theorem gb_trT {P : Int32 → St2 → Prop} {tb tw : Int64} {c bt wt p : Int32} {a1 a2 : Nat → Int64} {a3 : Nat → Int32} {b w : Nat} (hb : b < 2 ^ 49) (hw : w < 2 ^ 49) (hf : (b ||| w) &&& 2 ^ 0 ≠ 0) (H : ∀ tb' tw' : Int64, P (gb_eTr p false) (lN gb_A, lN gb_F, lN gb_L, lN b, lN w, c, bt, wt, tb', tw', a1, a2, a3)) : wpX_attempt P (lN gb_A, lN gb_F, lN gb_L, lN b, lN w, c, bt, wt, tb, tw, a1, a2, a3) p 0 := by
  have t := H tb tw
  unfold gb_eTr at t
  by_cases h0 : p = 0
  · rw [if_pos h0] at t
    exact gb_attT (j := 0) (.inl h0) (by decide) hb hw hf t
  · rw [if_neg h0] at t
    by_cases h1 : p = 1
    · rw [if_pos h1] at t
      exact gb_attT (j := 0) (.inr h1) (by decide) hb hw hf t
    · rw [if_neg h1] at t
      exact gb_attP h0 h1 t
theorem gb_inT : ∀ i, i < 49 → gb_in (nI i) = true := by decide +kernel
theorem gb_okN {q c : Int32} {a1 a2 : Nat → Int64} (hm : gb_mv q = false) (ht : gb_tks q = false) : gb_Ok q 1 2 c 0 a1 a2 := by
  refine ⟨by decide, by decide, by rw [ht]; rfl, by rw [ht, hm]; exact gb_nScore, ?_, ?_, ?_⟩
  · rw [hm, gb_nGroups]
    cases gb_bes q <;> rfl
  · intro i hi
    rw [gb_nRegion i hi, gb_eRq, gb_inT i hi, gb_sto, hm, ht]
    simp only [Bool.not_false, Bool.and_true, Bool.false_and, Bool.or_false]
  · intro p P bt tb tw a3 H
    rw [ht] at H
    exact gb_trT (by decide) (by decide) (by decide) H
theorem gb_tEnd : ∀ j, j < 49 → ¬ j = 0 → ¬ j = 1 → nI (gb_sz (gb_d2 j) 49) = gb_eSec (gb_in (nI j)) (gb_tk (nI j)) (gb_tks (nI j)) ∧ nI (gb_sz (gb_d2 j) 49) = gb_i (gb_tks (nI j)) := by decide +kernel
theorem gb_tTak : ∀ j, j < 49 → ¬ j = 7 → (1 ||| (2 ||| 2 ^ j)) &&& 2 ^ 0 ≠ 0 ∧ gb_tks (nI j) = false := by decide +kernel
theorem gb_okM {j : Nat} {a1 a2 : Nat → Int64} (hj : j < 49) (h0 : ¬ j = 0) (h1 : ¬ j = 1) (hw : 2 ||| 2 ^ j < 2 ^ 49) : gb_Ok (nI j) (gb_b2 j) (2 ||| 2 ^ j) (nI 2) (gb_i (gb_tks (nI j))) (vp_updL a1 1 (lN 1)) (vp_updL a2 1 (lN 2)) := by
  have hS := gb_tScore j hj h0 h1
  have hG := gb_tGroups j hj h0 h1
  have hR := gb_tRegion j hj h0 h1
  simp only [gb_fcE] at hS hG hR
  have hb : gb_b2 j < 2 ^ 49 := by
    unfold gb_b2
    split <;> decide
  refine ⟨hb, hw, rfl, of_decide_eq_true hS, of_decide_eq_true hG, of_decide_eq_true hR, ?_⟩
  intro p P bt tb tw a3 H
  by_cases h7 : j = 7
  · subst h7
    have t := H
    unfold gb_eTr at t
    by_cases p0 : p = 0
    · rw [if_pos p0] at t
      subst p0
      exact gb_att0 (j := 0) (b := 0) (w := 130) (m := 1) (d := 0) (g := 1) (by decide) (by decide) (by decide) (by decide) (by decide) (by decide +kernel) (by decide +kernel) (by decide +kernel) (t tb tw)
    · rw [if_neg p0] at t
      by_cases p1 : p = 1
      · rw [if_pos p1] at t
        subst p1
        exact gb_att1 (j := 0) (b := 0) (w := 130) (k := 2) (m := 131) (d := 0) (g := 131) (t := 0) (by decide) (by decide) (by decide) (by decide) (by decide) (by decide) (by decide +kernel) (by decide) (by decide +kernel) (by decide +kernel) (.inr (.inl (by show ¬ lN 0 = lN 1; decide))) (t (lN 0) (lN 131))
      · rw [if_neg p1] at t
        exact gb_attP p0 p1 (t tb tw)
  · obtain ⟨hf, ht⟩ := gb_tTak j hj h7
    rw [ht] at H ⊢
    have e : gb_b2 j = 1 := if_neg h7
    rw [e] at H ⊢
    exact gb_trT (by decide) hw hf H
theorem gb_second {post : Int32 → St2 → Prop} {tb tw : Int64} {bt wt q : Int32} {a1 a2 : Nat → Int64} {a3 : Nat → Int32} (hwt : wt = 0) (ha : a2 0 = lN 0)
    (H : ∀ (b w : Nat) (c bt wt : Int32) (tb tw : Int64) (a1 a2 : Nat → Int64) (a3 : Nat → Int32), gb_Ok q b w c wt a1 a2 → post (gb_eSec (gb_in q) (gb_tk q) (gb_tks q)) (lN gb_A, lN gb_F, lN gb_L, lN b, lN w, c, bt, wt, tb, tw, a1, a2, a3)) :
    wpX_play post (lN gb_A, lN gb_F, lN gb_L, lN 1, lN 2, nI 1, bt, wt, tb, tw, a1, a2, a3) 1 q := by
  subst hwt
  have out : q < 0 ∨ nI 49 ≤ q → wpX_play post (lN gb_A, lN gb_F, lN gb_L, lN 1, lN 2, nI 1, bt, 0, tb, tw, a1, a2, a3) 1 q := by
    intro h
    have hi : gb_in q = false := by
      unfold gb_in
      rcases h with h | h
      · simp [h]
      · have h' : 48 < q := by
          have g : (48 : Int32) < nI 49 := by decide
          exact Int32.lt_of_lt_of_le g h
        simp [h']
    have ht : gb_tks q = false := by
      refine decide_eq_false (fun e => ?_)
      rw [e] at hi
      exact absurd hi (by decide)
    have hm : gb_mv q = false := by
      unfold gb_mv
      rw [hi]
      rfl
    have t := H 1 2 (nI 1) bt 0 tb tw a1 a2 a3 (gb_okN hm ht)
    rw [hi] at t
    exact gb_playB h t
  rcases pk_ix q (n := 49) (by decide) with h | h | ⟨j, hj, e⟩
  · exact out (.inl h)
  · exact out (.inr h)
  · subst e
    by_cases h0 : j = 0
    · subst h0
      exact gb_playT (by decide) (by decide) (by decide) (by decide) (H 1 2 (nI 1) bt 0 tb tw a1 a2 a3 (gb_okN (by decide) (by decide)))
    · by_cases h1 : j = 1
      · subst h1
        exact gb_playT (by decide) (by decide) (by decide) (by decide) (H 1 2 (nI 1) bt 0 tb tw a1 a2 a3 (gb_okN (by decide) (by decide)))
      · have hw : 2 ||| 2 ^ j < 2 ^ 49 := gb_orB (by decide) (gb_pwB hj)
        have hP := gb_tPlay j hj h0 h1
        simp only [gb_fcE] at hP
        obtain ⟨k1, k2, k3, k4⟩ := of_decide_eq_true hP
        rw [k2] at k3 k4
        obtain ⟨s1, s2⟩ := gb_tEnd j hj h0 h1
        refine gb_play (k := 1) hj (by decide) (by decide) (by decide) k1 rfl k2 k3 rfl k4 (.inr (.inr ?_)) ?_
        · show ¬ lN (2 ||| 2 ^ j) = a2 0
          rw [ha]
          refine fun z => ?_
          have z' := (gb_eq0 hw).mp z
          have z2 : 2 ≤ 2 ||| 2 ^ j := Nat.left_le_or
          omega
        · rw [show (0 : Int32) + nI (gb_sz (gb_d2 j) 49) = gb_i (gb_tks (nI j)) by rw [s2]; cases gb_tks (nI j) <;> decide, s1]
          exact H _ _ _ _ _ _ _ _ _ _ (gb_okM hj h0 h1 hw)
end
section
/-! the law -/
theorem gb_lawOf {post : Int32 → St0 → Prop} {q p r : Int32} (hp : post 1 ()) : wpL_lawOf post 118 1888 () q p r := by
  unfold wpL_lawOf
  refine ⟨by decide, by decide, 117, 1875, by decide, by decide, ?_⟩
  refine gb_init (by decide) (by decide) ?_
  refine gb_set ?_
  refine gb_play (j := 1) (b := 1) (w := 0) (k := 0) (m := 2) (d := 0) (g := 2) (t := 1) (by decide) (by decide) (by decide) (by decide) (by decide) (by decide) (by decide +kernel) (by decide) (by decide +kernel) (by decide +kernel) (.inl rfl) ?_
  refine gb_atari ?_
  refine gb_second (by decide +kernel) rfl (fun b w c bt wt tb tw a1 a2 a3 hok => ?_)
  obtain ⟨hb, hw, hwt, hS, hG, hR, hT⟩ := hok
  unfold wpX_captured
  refine gb_bpl1 (br_t rfl (br_f (by decide) ?_))
  unfold wpX_trial
  refine hT p _ bt tb tw a3 (fun tb' tw' => ?_)
  refine gb_score hb hw (gb_groups hw ?_)
  have h4 : nI (gb_sz 0 49) = 0 := by decide +kernel
  have out : r < 0 ∨ nI 49 ≤ r → gb_eRq q r = (-1) := by
    intro h
    have hi : gb_in r = false := by
      unfold gb_in
      rcases h with h | h
      · simp [h]
      · have h' : 48 < r := by
          have g : (48 : Int32) < nI 49 := by decide
          exact Int32.lt_of_lt_of_le g h
        simp [h']
    unfold gb_eRq
    rw [hi]
    rfl
  rcases pk_ix r (n := 49) (by decide) with h | h | ⟨i, hi, e⟩
  · exact gb_regionN (.inl h) (gb_tail h4 rfl rfl hwt rfl hS hG (out (.inl h)).symm hp)
  · exact gb_regionN (.inr h) (gb_tail h4 rfl rfl hwt rfl hS hG (out (.inr h)).symm hp)
  · subst e
    have t := hR i hi
    unfold gb_rg at t
    rw [gb_fcE] at t
    exact gb_region hi (gb_tail h4 rfl rfl hwt rfl hS hG t hp)
theorem gb_cell {post : Int32 → Prop} {L : Nat} {xs : Nat → Int32} {k : Nat} (hL : L ≤ 3) (hk : k ≤ 2) (H : ∀ v, post v) : wpL_cellAt post L xs () (nI k) := by
  unfold wpL_cellAt
  refine pk_le L k (fun _ => H 0) (fun h => ⟨pk_in k L h, H _⟩)
theorem i_vc (xs : Nat → Int32) (L : Nat) (hL : L ≤ 3) : wpL_law (fun r => r = 1) L xs := by
  unfold wpL_law
  refine gb_cell (k := 0) hL (by decide) (fun q => ?_)
  refine gb_cell (k := 1) hL (by decide) (fun p => ?_)
  refine gb_cell (k := 2) hL (by decide) (fun r => ?_)
  exact ⟨118, 1888, by decide, by decide, gb_lawOf rfl⟩
end
