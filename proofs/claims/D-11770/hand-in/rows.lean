section
/-! ===== ints of the machine by their values ===== -/
theorem rq_bm {n : Int} (h1 : -2147483648 ≤ n) (h2 : n ≤ 2147483647) : n.bmod (2 ^ 32) = n := by
  rw [Int.bmod_def]; omega
theorem rq_le {x y : Int32} {A B : Prop} (a b : Int) (hx : x.toInt = a) (hy : y.toInt = b) (f : a ≤ b → A) (g : b < a → B) : (x ≤ y → A) ∧ (¬ x ≤ y → B) := by
  rw [Int32.le_iff_toInt_le, hx, hy]
  exact ⟨f, fun z => g (by omega)⟩
theorem rq_lt {x y : Int32} {A B : Prop} (a b : Int) (hx : x.toInt = a) (hy : y.toInt = b) (f : a < b → A) (g : b ≤ a → B) : (x < y → A) ∧ (¬ x < y → B) := by
  rw [Int32.lt_iff_toInt_lt, hx, hy]
  exact ⟨f, fun z => g (by omega)⟩
theorem rq_eq {x y : Int32} {A B : Prop} (a b : Int) (hx : x.toInt = a) (hy : y.toInt = b) (f : a = b → A) (g : a ≠ b → B) : (x = y → A) ∧ (¬ x = y → B) := by
  rw [← Int32.toInt_inj, hx, hy]
  exact ⟨f, g⟩
theorem rq_add {x y : Int32} {a b : Int} (hx : x.toInt = a) (hy : y.toInt = b) (h1 : -2147483648 ≤ a + b) (h2 : a + b ≤ 2147483647) : (x + y).toInt = a + b := by
  rw [Int32.toInt_add, hx, hy, rq_bm h1 h2]
theorem rq_sub {x y : Int32} {a b : Int} (hx : x.toInt = a) (hy : y.toInt = b) (h1 : -2147483648 ≤ a - b) (h2 : a - b ≤ 2147483647) : (x - y).toInt = a - b := by
  rw [Int32.toInt_sub, hx, hy, rq_bm h1 h2]
theorem rq_nI {n : Nat} (h : n < 2147483648) : (nI n).toInt = (n : Int) := nI_toInt (by omega)
theorem rq_far : (1000000 : Int32).toInt = 1000000 := by decide
theorem rq_nfar : (-1000000 : Int32).toInt = -1000000 := by decide
theorem rq_inj32 {x y : Int32} {a : Int} (hx : x.toInt = a) (hy : y.toInt = a) : x = y := Int32.toInt_inj.mp (by rw [hx, hy])
theorem rq_8 (i s : Nat) : nI i * 8 + nI s = nI (i * 8 + s) := by
  rw [show (8 : Int32) = nI 8 from rfl, pk_mul, nI_add]
theorem rq_6 (l i : Nat) : nI l * 6 + nI i = nI (l * 6 + i) := by
  rw [show (6 : Int32) = nI 6 from rfl, pk_mul, nI_add]
/-! ===== bits (rows of kit/laws/BITS.to-paste, renamed) ===== -/
def rb_t (x : Int32) (i : Nat) : Bool := x.toBitVec.getLsbD i
theorem rb_ext {x y : Int32} (h : ∀ i, i < 32 → rb_t x i = rb_t y i) : x = y := Int32.toBitVec_inj.mp (BitVec.eq_of_getLsbD_eq (fun i hi => h i hi))
theorem rb_or (x y : Int32) (i : Nat) : rb_t (x ||| y) i = (rb_t x i || rb_t y i) := by unfold rb_t; rw [Int32.toBitVec_or, BitVec.getLsbD_or]
theorem rb_and (x y : Int32) (i : Nat) : rb_t (x &&& y) i = (rb_t x i && rb_t y i) := by unfold rb_t; rw [Int32.toBitVec_and, BitVec.getLsbD_and]
theorem rb_0 (i : Nat) : rb_t 0 i = false := BitVec.getLsbD_zero
theorem rb_sl : ∀ n, n < 32 → ((nI n &&& 31).toBitVec.smod 32).toNat = n := by decide +kernel
theorem rb_shl (n : Nat) (hn : n < 32) (x : Int32) {i : Nat} (hi : i < 32) : rb_t (x <<< (nI n &&& 31)) i = (decide (n ≤ i) && rb_t x (i - n)) := by
  unfold rb_t
  rw [Int32.toBitVec_shiftLeft]
  show (x.toBitVec <<< ((nI n &&& 31).toBitVec.smod 32).toNat).getLsbD i = _
  rw [rb_sl n hn, BitVec.getLsbD_shiftLeft]
  rcases Nat.lt_or_ge i n with h | h
  · simp [h, Nat.not_le.mpr h]
  · simp [hi, h, Nat.not_lt.mpr h]
theorem rb_sshr (n : Nat) (hn : n < 32) (x : Int32) {i : Nat} (hi : i < 32) : rb_t (x >>> (nI n &&& 31)) i = if n + i < 32 then rb_t x (n + i) else rb_t x 31 := by
  unfold rb_t
  rw [Int32.toBitVec_shiftRight]
  show (x.toBitVec.sshiftRight ((nI n &&& 31).toBitVec.smod 32).toNat).getLsbD i = _
  rw [rb_sl n hn, BitVec.getLsbD_sshiftRight, BitVec.msb_eq_getLsbD_last]
  simp [hi]
theorem rb_1 : ∀ i, i < 32 → rb_t 1 i = decide (i = 0) := by decide +kernel
theorem rb_test {b : Int32} {n : Nat} (hn : n < 8) : ((b >>> (nI n &&& 31)) &&& 1) = 1 ↔ rb_t b n = true := by
  constructor
  · intro e
    have h : rb_t ((b >>> (nI n &&& 31)) &&& 1) 0 = rb_t 1 0 := by rw [e]
    rw [rb_and, rb_sshr n (by omega) b (by omega), rb_1 0 (by omega), if_pos (by omega)] at h
    simpa using h
  · intro e
    refine rb_ext (fun i hi => ?_)
    rw [rb_and, rb_sshr n (by omega) b hi, rb_1 i hi]
    by_cases z : i = 0
    · subst z
      rw [if_pos (by omega)]
      simp [e]
    · simp [z]
theorem rb_put {b : Int32} {s t : Nat} (hs : s < 8) (ht : t < 32) : rb_t (b ||| ((1 : Int32) <<< (nI s &&& 31))) t = (rb_t b t || decide (t = s)) := by
  rw [rb_or, rb_shl s (by omega) 1 ht]
  congr 1
  by_cases h : s ≤ t
  · rw [rb_1 (t - s) (by omega)]
    by_cases e : t = s
    · subst e; simp
    · rw [decide_eq_false e, decide_eq_false (show ¬ t - s = 0 by omega), Bool.and_false]
  · rw [decide_eq_false h, decide_eq_false (show ¬ t = s by omega), Bool.false_and]
theorem rb_zero {b : Int32} : b = 0 ↔ ∀ i, i < 32 → rb_t b i = false :=
  ⟨fun e i _ => by rw [e]; exact rb_0 i, fun h => rb_ext (fun i hi => by rw [h i hi, rb_0])⟩
/-! ===== logical stops: st, an involution of 0..7 ===== -/
def rq_perm (st : Nat → Nat) : Prop := (∀ j, j < 8 → st j < 8 ∧ st (st j) = j) ∧ ∀ g : Nat → Int, g (st 0) + g (st 1) + g (st 2) + g (st 3) + g (st 4) + g (st 5) + g (st 6) + g (st 7) = g 0 + g 1 + g 2 + g 3 + g 4 + g 5 + g 6 + g 7
theorem rq_lt8 {st : Nat → Nat} (h : rq_perm st) {j : Nat} (hj : j < 8) : st j < 8 := (h.1 j hj).1
theorem rq_inv {st : Nat → Nat} (h : rq_perm st) {j : Nat} (hj : j < 8) : st (st j) = j := (h.1 j hj).2
theorem rq_inj {st : Nat → Nat} (h : rq_perm st) {i j : Nat} (hi : i < 8) (hj : j < 8) (e : st i = st j) : i = j := by
  rw [← rq_inv h hi, e, rq_inv h hj]
theorem rq_xor1 : ∀ k, k < 8 → ∀ j, j < 8 → (j ^^^ k) < 8 ∧ ((j ^^^ k) ^^^ k) = j := by decide +kernel
theorem rq_xor (k : Nat) (hk : k < 8) : rq_perm (fun j => j ^^^ k) := by
  refine ⟨rq_xor1 k hk, fun g => ?_⟩
  dsimp only
  match k, hk with
  | 0, _ => simp
  | 1, _ => simp; omega
  | 2, _ => simp; omega
  | 3, _ => simp; omega
  | 4, _ => simp; omega
  | 5, _ => simp; omega
  | 6, _ => simp; omega
  | 7, _ => simp; omega
/-! ===== pictures of the arrays and of the mask ===== -/
def rq_arr (st : Nat → Nat) (a : Nat → Int32) (R : Nat → Int) : Prop := ∀ j, j < 8 → (a (st j)).toInt = R j
def rq_set (R : Nat → Int) (j : Nat) (v : Int) : Nat → Int := fun i => if i = j then v else R i
theorem rq_set_s (R : Nat → Int) (j : Nat) (v : Int) : rq_set R j v j = v := if_pos rfl
theorem rq_set_n {R : Nat → Int} {i j : Nat} {v : Int} (h : i ≠ j) : rq_set R j v i = R i := if_neg h
theorem rq_arr_set {st : Nat → Nat} (hst : rq_perm st) {a : Nat → Int32} {R : Nat → Int} {j : Nat} {x : Int32} {v : Int} (h : rq_arr st a R) (hj : j < 8) (hx : x.toInt = v) : rq_arr st (upd a (st j) x) (rq_set R j v) := by
  intro i hi
  by_cases e : i = j
  · rw [e, pk_us, hx, rq_set_s]
  · rw [pk_un (fun z => e (rq_inj hst hi hj z)), h i hi, rq_set_n e]
theorem rq_arr_at {st : Nat → Nat} (hst : rq_perm st) {a : Nat → Int32} {R : Nat → Int} (h : rq_arr st a R) {s : Nat} (hs : s < 8) : (a s).toInt = R (st s) := by
  have t := h (st s) (rq_lt8 hst hs)
  rwa [rq_inv hst hs] at t
theorem rq_arr_of {st : Nat → Nat} (hst : rq_perm st) {a : Nat → Int32} {R : Nat → Int} (h : ∀ s, s < 8 → (a s).toInt = R (st s)) : rq_arr st a R := by
  intro j hj
  rw [h (st j) (rq_lt8 hst hj), rq_inv hst hj]
def rq_msk (st : Nat → Nat) (b : Int32) (M : Nat → Bool) : Prop := (∀ j, j < 8 → rb_t b (st j) = M j) ∧ (∀ i, 8 ≤ i → i < 32 → rb_t b i = false)
theorem rq_msk_test {st : Nat → Nat} (hst : rq_perm st) {b : Int32} {M : Nat → Bool} (h : rq_msk st b M) {j : Nat} (hj : j < 8) : ((b >>> (nI (st j) &&& 31)) &&& 1) = 1 ↔ M j = true := by
  rw [rb_test (rq_lt8 hst hj), h.1 j hj]
def rq_any (M : Nat → Bool) : Bool := M 0 || M 1 || M 2 || M 3 || M 4 || M 5 || M 6 || M 7
theorem rq_any_f {M : Nat → Bool} (h : rq_any M = false) : ∀ j, j < 8 → M j = false := by
  simp only [rq_any, Bool.or_eq_false_iff] at h
  obtain ⟨⟨⟨⟨⟨⟨⟨z0, z1⟩, z2⟩, z3⟩, z4⟩, z5⟩, z6⟩, z7⟩ := h
  intro j hj
  match j, hj with
  | 0, _ => exact z0
  | 1, _ => exact z1
  | 2, _ => exact z2
  | 3, _ => exact z3
  | 4, _ => exact z4
  | 5, _ => exact z5
  | 6, _ => exact z6
  | 7, _ => exact z7
theorem rq_msk_zero {st : Nat → Nat} (hst : rq_perm st) {b : Int32} {M : Nat → Bool} (h : rq_msk st b M) : b = 0 ↔ rq_any M = false := by
  rw [rb_zero]
  constructor
  · intro z
    have g : ∀ j, j < 8 → M j = false := fun j hj => by
      rw [← h.1 j hj]
      have := rq_lt8 hst hj
      exact z _ (by omega)
    simp [rq_any, g 0 (by omega), g 1 (by omega), g 2 (by omega), g 3 (by omega), g 4 (by omega), g 5 (by omega), g 6 (by omega), g 7 (by omega)]
  · intro z i hi
    have g := rq_any_f z
    by_cases e : i < 8
    · rw [← rq_inv hst e, h.1 _ (rq_lt8 hst e)]
      exact g _ (rq_lt8 hst e)
    · exact h.2 i (by omega) hi
end
section
/-! ===== the pure picture: no program in sight ===== -/
/-- stop number i of line l, by its logical number -/
def rq_js : Nat → Nat → Nat
  | 0, i => i
  | _ + 1, 0 => 3
  | _ + 1, 1 => 4
  | _ + 1, _ + 2 => 1
/-- the offset of stop number i of line l -/
def rq_of (m0 m1 : Int) : Nat → Nat → Int
  | 0, 0 => 0
  | 0, 1 => m0
  | 0, _ + 2 => m0 + m1
  | _ + 1, 0 => 0
  | _ + 1, 1 => m1
  | _ + 1, _ + 2 => m1 + 5
/-- the line of trip t -/
def rq_lo : Nat → Nat
  | 0 => 0
  | _ + 1 => 1
/-- the footpath from u to s -/
def rq_wk (f : Int) (u s : Nat) : Int := if (u = 2 ∧ s = 3) ∨ (u = 3 ∧ s = 2) then f else 0
/-- the other end of a stop's footpath -/
def rq_pt (s : Nat) : Nat := if s = 2 then 3 else if s = 3 then 2 else s
theorem rq_js_lt {l i : Nat} (hi : i < 3) : rq_js l i < 8 := by
  match l, i, hi with
  | 0, i, hi => simp only [rq_js]; omega
  | _ + 1, 0, _ => exact (by decide : 3 < 8)
  | _ + 1, 1, _ => exact (by decide : 4 < 8)
  | _ + 1, _ + 2, _ => exact (by decide : 1 < 8)
theorem rq_of_in {m0 m1 : Int} (h0 : 1 ≤ m0) (h0' : m0 ≤ 30) (h1 : 1 ≤ m1) (h1' : m1 ≤ 30) (l i : Nat) : 0 ≤ rq_of m0 m1 l i ∧ rq_of m0 m1 l i ≤ 60 := by
  match l, i with
  | 0, 0 => simp only [rq_of]; omega
  | 0, 1 => simp only [rq_of]; omega
  | 0, _ + 2 => simp only [rq_of]; omega
  | _ + 1, 0 => simp only [rq_of]; omega
  | _ + 1, 1 => simp only [rq_of]; omega
  | _ + 1, _ + 2 => simp only [rq_of]; omega
theorem rq_lo_lt (t : Nat) : rq_lo t < 2 := by
  match t with
  | 0 => exact (by decide : 0 < 2)
  | _ + 1 => exact (by decide : 1 < 2)
theorem rq_pt_lt {s : Nat} (h : s < 8) : rq_pt s < 8 := by unfold rq_pt; split <;> (try split) <;> omega
theorem rq_wk0 {f : Int} {u s : Nat} (h : u ≠ rq_pt s) : rq_wk f u s = 0 := by
  unfold rq_wk
  unfold rq_pt at h
  refine if_neg (fun z => ?_)
  rcases z with ⟨z1, z2⟩ | ⟨z1, z2⟩
  · subst z1 z2; exact h rfl
  · subst z1 z2; exact h rfl
theorem rq_wkS {f : Int} {u s : Nat} (h : 0 ≤ f) (h2 : f ≤ 30) : 0 ≤ rq_wk f u s ∧ rq_wk f u s ≤ 30 := by unfold rq_wk; split <;> omega
/-! forward -/
def rq_stp (t off x s : Int) : Int := if s + off < t then x else if x ≤ s then x else s
def rq_cs (sv : Nat → Int) (l : Nat) (off tm : Int) (t : Nat) (v : Int) : Int := if rq_lo t = l then rq_stp tm off v (sv t) else v
def rq_ct (sv : Nat → Int) (l : Nat) (off tm : Int) : Int := rq_cs sv l off tm 2 (rq_cs sv l off tm 1 (rq_cs sv l off tm 0 1000000))
def rq_rs (off start : Int) (j : Nat) (R : Nat → Int) : Nat → Int := if start < 1000000 ∧ start + off < R j then rq_set R j (start + off) else R
def rq_rt (sv : Nat → Int) (l : Nat) (off start : Int) (m : Bool) (b : Int) : Int := if m = true ∧ (start = 1000000 ∨ b < start + off) then (if rq_ct sv l off b < start then rq_ct sv l off b else start) else start
/-- the start after stop number i of line l -/
def rq_t1 (sv : Nat → Int) (m0 m1 : Int) (l : Nat) (B : Nat → Int) (M : Nat → Bool) : Int := rq_rt sv l (rq_of m0 m1 l 0) 1000000 (M (rq_js l 0)) (B (rq_js l 0))
def rq_t2 (sv : Nat → Int) (m0 m1 : Int) (l : Nat) (B : Nat → Int) (M : Nat → Bool) : Int := rq_rt sv l (rq_of m0 m1 l 1) (rq_t1 sv m0 m1 l B M) (M (rq_js l 1)) (B (rq_js l 1))
def rq_ln (sv : Nat → Int) (m0 m1 : Int) (l : Nat) (B : Nat → Int) (M : Nat → Bool) (R : Nat → Int) : Nat → Int :=
  rq_rs (rq_of m0 m1 l 2) (rq_t2 sv m0 m1 l B M) (rq_js l 2) (rq_rs (rq_of m0 m1 l 1) (rq_t1 sv m0 m1 l B M) (rq_js l 1) (rq_rs (rq_of m0 m1 l 0) 1000000 (rq_js l 0) R))
def rq_best (f : Int) (R : Nat → Int) (s : Nat) : Int := if 0 < rq_wk f (rq_pt s) s ∧ R (rq_pt s) + rq_wk f (rq_pt s) s < R s then R (rq_pt s) + rq_wk f (rq_pt s) s else R s
def rq_C (f : Int) (R C : Nat → Int) : Nat → Int := fun s => if rq_best f R s < C s then rq_best f R s else C s
def rq_M (f : Int) (R C : Nat → Int) : Nat → Bool := fun s => decide (rq_best f R s < C s)
def rq_R2 (sv : Nat → Int) (m0 m1 : Int) (s : (Nat → Int) × (Nat → Bool)) : Nat → Int := rq_ln sv m0 m1 1 s.1 s.2 (rq_ln sv m0 m1 0 s.1 s.2 (fun _ => 1000000))
def rq_rnd (sv : Nat → Int) (m0 m1 f : Int) (s : (Nat → Int) × (Nat → Bool)) : (Nat → Int) × (Nat → Bool) := (rq_C f (rq_R2 sv m0 m1 s) s.1, rq_M f (rq_R2 sv m0 m1 s) s.1)
def rq_beg (f : Int) (a : Nat) (q : Int) : (Nat → Int) × (Nat → Bool) := (rq_C f (rq_set (fun _ => 1000000) a q) (fun _ => 1000000), rq_M f (rq_set (fun _ => 1000000) a q) (fun _ => 1000000))
def rq_iter (sv : Nat → Int) (m0 m1 f : Int) : Nat → (Nat → Int) × (Nat → Bool) → (Nat → Int) × (Nat → Bool)
  | 0, s => s
  | n + 1, s => if rq_any s.2 = true then rq_iter sv m0 m1 f n (rq_rnd sv m0 m1 f s) else s
def rq_rid (sv : Nat → Int) (m0 m1 f : Int) (b : Nat) : Nat → Int → Int → (Nat → Int) × (Nat → Bool) → Int
  | 0, _, last, _ => last
  | n + 1, k, last, s => if rq_any s.2 = true then rq_rid sv m0 m1 f b n (k + 1) (if (rq_rnd sv m0 m1 f s).1 b < s.1 b then k else last) (rq_rnd sv m0 m1 f s) else last
def rq_val (c : Int) : Int := if c < 1000000 then c else -5
def rq_one (C : Nat → Int) (un : Int) (s : Nat) : Int := if un < C s then 0 else 1
def rq_cnt (C : Nat → Int) (un : Int) : Int := rq_one C un 0 + rq_one C un 1 + rq_one C un 2 + rq_one C un 3 + rq_one C un 4 + rq_one C un 5 + rq_one C un 6 + rq_one C un 7
/-- bounds that keep every sum in range -/
def rq_in (C : Nat → Int) : Prop := ∀ j, j < 8 → -1000000 ≤ C j ∧ C j ≤ 1000000
def rq_sin (sv : Nat → Int) : Prop := ∀ t, 0 ≤ sv t ∧ sv t ≤ 500
theorem rq_stp_in {t off x s : Int} (h1 : 0 ≤ x) (h2 : x ≤ 1000000) (h3 : 0 ≤ s) (h4 : s ≤ 500) : 0 ≤ rq_stp t off x s ∧ rq_stp t off x s ≤ 1000000 := by
  unfold rq_stp; split <;> (try split) <;> omega
theorem rq_cs_in {sv : Nat → Int} {l : Nat} {off tm : Int} {t : Nat} {v : Int} (h : rq_sin sv) (h1 : 0 ≤ v) (h2 : v ≤ 1000000) : 0 ≤ rq_cs sv l off tm t v ∧ rq_cs sv l off tm t v ≤ 1000000 := by
  unfold rq_cs
  split
  · exact rq_stp_in h1 h2 (h t).1 (h t).2
  · exact ⟨h1, h2⟩
theorem rq_ct_in {sv : Nat → Int} {l : Nat} {off tm : Int} (h : rq_sin sv) : 0 ≤ rq_ct sv l off tm ∧ rq_ct sv l off tm ≤ 1000000 := by
  unfold rq_ct
  have h0 := rq_cs_in (l := l) (off := off) (tm := tm) (t := 0) h (show (0 : Int) ≤ 1000000 by decide) (show (1000000 : Int) ≤ 1000000 by decide)
  have h1 := rq_cs_in (l := l) (off := off) (tm := tm) (t := 1) h h0.1 h0.2
  exact rq_cs_in h h1.1 h1.2
theorem rq_rt_in {sv : Nat → Int} {l : Nat} {off start : Int} {m : Bool} {b : Int} (h : rq_sin sv) (h1 : 0 ≤ start) (h2 : start ≤ 1000000) : 0 ≤ rq_rt sv l off start m b ∧ rq_rt sv l off start m b ≤ 1000000 := by
  have hc := rq_ct_in (l := l) (off := off) (tm := b) h
  unfold rq_rt; split <;> (try split) <;> omega
theorem rq_rs_in {off start : Int} {j : Nat} {R : Nat → Int} (h : rq_in R) (h1 : 0 ≤ start) (h2 : 0 ≤ off) (hj : j < 8) : rq_in (rq_rs off start j R) := by
  intro i hi
  have g := h i hi
  have gj := h j hj
  unfold rq_rs
  split
  · unfold rq_set; split <;> omega
  · exact g
theorem rq_best_in {f : Int} {R : Nat → Int} (h : rq_in R) (h1 : 0 ≤ f) : rq_in (rq_best f R) := by
  intro s hs
  have g := h s hs
  have gp := h (rq_pt s) (rq_pt_lt hs)
  unfold rq_best
  split <;> omega
theorem rq_C_in {f : Int} {R C : Nat → Int} (h : rq_in R) (hC : rq_in C) (h1 : 0 ≤ f) : rq_in (rq_C f R C) := by
  intro s hs
  have g := rq_best_in h h1 s hs
  have gp := hC s hs
  unfold rq_C
  split <;> omega
/-! backward -/
def rq_bstp (t off x s : Int) : Int := if t < s + off then x else if s ≤ x then x else s
def rq_bcs (sv : Nat → Int) (l : Nat) (off tm : Int) (t : Nat) (v : Int) : Int := if rq_lo t = l then rq_bstp tm off v (sv t) else v
def rq_mt (sv : Nat → Int) (l : Nat) (off tm : Int) : Int := rq_bcs sv l off tm 2 (rq_bcs sv l off tm 1 (rq_bcs sv l off tm 0 (-1000000)))
def rq_brs (off start : Int) (j : Nat) (R : Nat → Int) : Nat → Int := if -1000000 < start ∧ R j < start + off then rq_set R j (start + off) else R
def rq_brt (sv : Nat → Int) (l : Nat) (off start : Int) (m : Bool) (b : Int) : Int := if m = true ∧ (start = -1000000 ∨ start + off < b) then (if start < rq_mt sv l off b then rq_mt sv l off b else start) else start
def rq_b2 (sv : Nat → Int) (m0 m1 : Int) (l : Nat) (B : Nat → Int) (M : Nat → Bool) : Int := rq_brt sv l (rq_of m0 m1 l 2) (-1000000) (M (rq_js l 2)) (B (rq_js l 2))
def rq_b1 (sv : Nat → Int) (m0 m1 : Int) (l : Nat) (B : Nat → Int) (M : Nat → Bool) : Int := rq_brt sv l (rq_of m0 m1 l 1) (rq_b2 sv m0 m1 l B M) (M (rq_js l 1)) (B (rq_js l 1))
def rq_bln (sv : Nat → Int) (m0 m1 : Int) (l : Nat) (B : Nat → Int) (M : Nat → Bool) (R : Nat → Int) : Nat → Int :=
  rq_brs (rq_of m0 m1 l 0) (rq_b1 sv m0 m1 l B M) (rq_js l 0) (rq_brs (rq_of m0 m1 l 1) (rq_b2 sv m0 m1 l B M) (rq_js l 1) (rq_brs (rq_of m0 m1 l 2) (-1000000) (rq_js l 2) R))
def rq_bbest (f : Int) (R : Nat → Int) (s : Nat) : Int := if 0 < rq_wk f s (rq_pt s) ∧ R s < R (rq_pt s) - rq_wk f s (rq_pt s) then R (rq_pt s) - rq_wk f s (rq_pt s) else R s
def rq_bC (f : Int) (R C : Nat → Int) : Nat → Int := fun s => if C s < rq_bbest f R s then rq_bbest f R s else C s
def rq_bM (f : Int) (R C : Nat → Int) : Nat → Bool := fun s => decide (C s < rq_bbest f R s)
def rq_bR2 (sv : Nat → Int) (m0 m1 : Int) (s : (Nat → Int) × (Nat → Bool)) : Nat → Int := rq_bln sv m0 m1 1 s.1 s.2 (rq_bln sv m0 m1 0 s.1 s.2 (fun _ => -1000000))
def rq_brnd (sv : Nat → Int) (m0 m1 f : Int) (s : (Nat → Int) × (Nat → Bool)) : (Nat → Int) × (Nat → Bool) := (rq_bC f (rq_bR2 sv m0 m1 s) s.1, rq_bM f (rq_bR2 sv m0 m1 s) s.1)
def rq_bbeg (f : Int) (a : Nat) (q : Int) : (Nat → Int) × (Nat → Bool) := (rq_bC f (rq_set (fun _ => -1000000) a q) (fun _ => -1000000), rq_bM f (rq_set (fun _ => -1000000) a q) (fun _ => -1000000))
def rq_biter (sv : Nat → Int) (m0 m1 f : Int) : Nat → (Nat → Int) × (Nat → Bool) → (Nat → Int) × (Nat → Bool)
  | 0, s => s
  | n + 1, s => if rq_any s.2 = true then rq_biter sv m0 m1 f n (rq_brnd sv m0 m1 f s) else s
def rq_bval (c : Int) : Int := if 0 ≤ c then (if c ≤ 1000 then c else 1000) else -5
theorem rq_bstp_in {t off x s : Int} (h1 : -1000000 ≤ x) (h2 : x ≤ 1000) (h3 : 0 ≤ s) (h4 : s ≤ 500) : -1000000 ≤ rq_bstp t off x s ∧ rq_bstp t off x s ≤ 1000 := by
  unfold rq_bstp; split <;> (try split) <;> omega
theorem rq_bcs_in {sv : Nat → Int} {l : Nat} {off tm : Int} {t : Nat} {v : Int} (h : rq_sin sv) (h1 : -1000000 ≤ v) (h2 : v ≤ 1000) : -1000000 ≤ rq_bcs sv l off tm t v ∧ rq_bcs sv l off tm t v ≤ 1000 := by
  unfold rq_bcs
  split
  · exact rq_bstp_in h1 h2 (h t).1 (h t).2
  · exact ⟨h1, h2⟩
theorem rq_mt_in {sv : Nat → Int} {l : Nat} {off tm : Int} (h : rq_sin sv) : -1000000 ≤ rq_mt sv l off tm ∧ rq_mt sv l off tm ≤ 1000 := by
  unfold rq_mt
  have h0 := rq_bcs_in (l := l) (off := off) (tm := tm) (t := 0) h (show (-1000000 : Int) ≤ -1000000 by decide) (show (-1000000 : Int) ≤ 1000 by decide)
  have h1 := rq_bcs_in (l := l) (off := off) (tm := tm) (t := 1) h h0.1 h0.2
  exact rq_bcs_in h h1.1 h1.2
theorem rq_brt_in {sv : Nat → Int} {l : Nat} {off start : Int} {m : Bool} {b : Int} (h : rq_sin sv) (h1 : -1000000 ≤ start) (h2 : start ≤ 1000) : -1000000 ≤ rq_brt sv l off start m b ∧ rq_brt sv l off start m b ≤ 1000 := by
  have hc := rq_mt_in (l := l) (off := off) (tm := b) h
  unfold rq_brt; split <;> (try split) <;> omega
theorem rq_brs_in {off start : Int} {j : Nat} {R : Nat → Int} (h : rq_in R) (h1 : start ≤ 1000) (h2 : off ≤ 60) (hj : j < 8) : rq_in (rq_brs off start j R) := by
  intro i hi
  have g := h i hi
  have gj := h j hj
  unfold rq_brs
  split
  · unfold rq_set; split <;> omega
  · exact g
theorem rq_bbest_in {f : Int} {R : Nat → Int} (h : rq_in R) : rq_in (rq_bbest f R) := by
  intro s hs
  have g := h s hs
  have gp := h (rq_pt s) (rq_pt_lt hs)
  unfold rq_bbest
  split <;> omega
theorem rq_bC_in {f : Int} {R C : Nat → Int} (h : rq_in R) (hC : rq_in C) : rq_in (rq_bC f R C) := by
  intro s hs
  have g := rq_bbest_in (f := f) h s hs
  have gp := hC s hs
  unfold rq_bC
  split <;> omega
/-! ===== what the builder calls leave, and every query keeps ===== -/
def rq_par (sv : Nat → Int) (m0 m1 f : Int) : Prop := rq_sin sv ∧ 1 ≤ m0 ∧ m0 ≤ 30 ∧ 1 ≤ m1 ∧ m1 ≤ 30 ∧ 0 ≤ f ∧ f ≤ 30
def rq_net (st : Nat → Nat) (sv : Nat → Int) (m0 m1 f : Int) (li tr : Int32) (a1 a2 a3 a4 a5 a6 : Nat → Int32) : Prop :=
  rq_perm st ∧ rq_par sv m0 m1 f ∧ li = nI 2 ∧ tr = nI 3 ∧ (∀ l, l < 2 → a1 l = nI 3) ∧
  (∀ l i, l < 2 → i < 3 → a2 (l * 6 + i) = nI (st (rq_js l i)) ∧ (a3 (l * 6 + i)).toInt = rq_of m0 m1 l i) ∧
  (∀ t, t < 3 → a4 t = nI (rq_lo t) ∧ (a5 t).toInt = sv t) ∧
  (∀ u s, u < 8 → s < 8 → (a6 (st u * 8 + st s)).toInt = rq_wk f u s)
/-- a picture of the round's state -/
def rq_rel (st : Nat → Nat) (be : Int32) (a8 : Nat → Int32) (s : (Nat → Int) × (Nat → Bool)) : Prop := rq_arr st a8 s.1 ∧ rq_msk st be s.2 ∧ rq_in s.1
end
section
/-! ===== walkOn, by real stops ===== -/
theorem rq_w22 {post : St2 → Prop} {J7 : Int32 → Int32 → (Nat → Int32) → (Nat → Int32) → (Nat → Int32) → (Nat → Int32) → (Nat → Int32) → (Nat → Int32) → (Nat → Int32) → (Nat → Int32) → (Nat → Int32) → Prop}
    {li tr be : Int32} {a1 a2 a3 a4 a5 a6 a7 a8 a9 : Nat → Int32} {s p : Nat} (hs : s < 8) (hp : p < 8) {r rp w bv : Int}
    (hrp : (a7 p).toInt = rp) (hw : (a6 (p * 8 + s)).toInt = w) (h0 : ∀ u, u < 8 → u ≠ p → (a6 (u * 8 + s)).toInt ≤ 0)
    (b1 : -1000000 ≤ rp) (b2 : rp ≤ 1000000) (b3 : w ≤ 30) (hbv : bv = if 0 < w ∧ rp + w < r then rp + w else r)
    (H1 : bv < (a8 s).toInt → ∀ x : Int32, x.toInt = bv → J7 (nI (s + 1)) (be ||| ((1 : Int32) <<< (nI s &&& 31))) a1 a2 a3 a4 a5 a6 a7 (upd a8 s x) a9)
    (H2 : ¬ bv < (a8 s).toInt → J7 (nI (s + 1)) be a1 a2 a3 a4 a5 a6 a7 a8 a9)
    (x : Int32) (hx : x.toInt = r) : ∃ n, wX_walkOn_22 post J7 (nI s) li tr be a1 a2 a3 a4 a5 a6 a7 a8 a9 n x 0 := by
  refine pk_loop (fun n i y => wX_walkOn_22 post J7 (nI s) li tr be a1 a2 a3 a4 a5 a6 a7 a8 a9 n y (nI i)) (fun i y => y.toInt = if p < i then bv else r) 8 0 x (by omega) (by rw [if_neg (by omega)]; exact hx) ?_ ?_
  · intro n y hy
    rw [if_pos hp] at hy
    refine pk_le 8 8 (fun _ => ⟨pk_in s 8 hs, ?_⟩) (fun z => absurd z (by omega))
    rw [nI_clamp (show s < 2 ^ 31 by omega)]
    refine rq_le (a8 s).toInt bv rfl hy (fun z => nm_r (nI_1 s) (H2 (by omega))) (fun z => ⟨pk_in s 8 hs, nm_e (nm_e (nm_r (nI_1 s) (H1 z y hy)))⟩)
  · intro n i y hi hy hk
    refine pk_le 8 i (fun z => absurd z (by omega)) (fun _ => ?_)
    rw [rq_8, nI_clamp (show i * 8 + s < 2 ^ 31 by omega), nI_clamp (show i < 2 ^ 31 by omega)]
    refine ⟨pk_in (i * 8 + s) 64 (by omega), nm_e ?_⟩
    by_cases e : i = p
    · subst e
      rw [if_neg (by omega)] at hy
      refine rq_le w 0 hw rfl (fun z => nm_r (nI_1 i) (hk y ?_)) (fun z => ⟨pk_in i 8 hi, ?_⟩)
      · rw [if_pos (by omega), hy, hbv, if_neg (by omega)]
      · refine rq_le r (rp + w) hy (rq_add hrp hw (by omega) (by omega)) (fun z2 => nm_r (nI_1 i) (hk y ?_)) (fun z2 => ⟨pk_in i 8 hi, nm_e (nm_r (nI_1 i) (hk _ ?_))⟩)
        · rw [if_pos (by omega), hy, hbv, if_neg (by omega)]
        · rw [if_pos (by omega), rq_add hrp hw (by omega) (by omega), hbv, if_pos (by omega)]
    · have q := h0 i hi e
      refine rq_le (a6 (i * 8 + s)).toInt 0 rfl rfl (fun z => nm_r (nI_1 i) (hk y ?_)) (fun z => absurd z (by omega))
      rw [hy]
      by_cases g : p < i
      · rw [if_pos g, if_pos (by omega)]
      · rw [if_neg g, if_neg (by omega)]
theorem rq_walkOn0 {post : St2 → Prop} {li tr be : Int32} {a1 a2 a3 a4 a5 a6 a7 a8 a9 : Nat → Int32} (bs : Nat → Int)
    (hb : ∀ s, s < 8 → ∃ p, p < 8 ∧ (∀ u, u < 8 → u ≠ p → (a6 (u * 8 + s)).toInt ≤ 0) ∧ (a6 (p * 8 + s)).toInt ≤ 30 ∧ bs s = if 0 < (a6 (p * 8 + s)).toInt ∧ (a7 p).toInt + (a6 (p * 8 + s)).toInt < (a7 s).toInt then (a7 p).toInt + (a6 (p * 8 + s)).toInt else (a7 s).toInt)
    (h7 : ∀ s, s < 8 → -1000000 ≤ (a7 s).toInt ∧ (a7 s).toInt ≤ 1000000)
    (H : ∀ b c, (∀ s, s < 8 → (c s).toInt = if bs s < (a8 s).toInt then bs s else (a8 s).toInt) → (∀ t, t < 32 → rb_t b t = (decide (t < 8) && decide (bs t < (a8 t).toInt))) → post (li, tr, b, a1, a2, a3, a4, a5, a6, a7, c, a9)) :
    wpX_walkOn post (li, tr, be, a1, a2, a3, a4, a5, a6, a7, a8, a9) := by
  show ∃ fu7 : Nat, wX_walkOn_7 post li tr fu7 0 0 a1 a2 a3 a4 a5 a6 a7 a8 a9
  refine pk_loop (σ := Int32 × (Nat → Int32)) (fun n i y => wX_walkOn_7 post li tr n (nI i) y.1 a1 a2 a3 a4 a5 a6 a7 y.2 a9)
    (fun i y => (∀ s, s < 8 → (y.2 s).toInt = if s < i ∧ bs s < (a8 s).toInt then bs s else (a8 s).toInt) ∧ (∀ t, t < 32 → rb_t y.1 t = (decide (t < i) && decide (bs t < (a8 t).toInt)))) 8 0 (0, a8) (by omega) ?_ ?_ ?_
  · refine ⟨fun s _ => ?_, fun t _ => ?_⟩
    · rw [if_neg (by omega)]
    · rw [rb_0, decide_eq_false (by omega), Bool.false_and]
  · intro n y hy
    refine pk_le 8 8 (fun _ => H y.1 y.2 (fun s hs => ?_) hy.2) (fun z => absurd z (by omega))
    rw [hy.1 s hs]
    by_cases g : bs s < (a8 s).toInt
    · rw [if_pos ⟨hs, g⟩, if_pos g]
    · rw [if_neg (fun z => g z.2), if_neg g]
  · intro n i y hi hy hk
    obtain ⟨y1, y2⟩ := y
    obtain ⟨hy1, hy2⟩ := hy
    dsimp only at hy1 hy2
    obtain ⟨p, hp, p0, p30, pe⟩ := hb i hi
    refine pk_le 8 i (fun z => absurd z (by omega)) (fun _ => ⟨pk_in i 8 hi, ?_⟩)
    rw [nI_clamp (show i < 2 ^ 31 by omega)]
    refine nm_e ?_
    have ei : (y2 i).toInt = (a8 i).toInt := by rw [hy1 i hi, if_neg (by omega)]
    refine rq_w22 hi hp rfl rfl p0 (h7 p hp).1 (h7 p hp).2 p30 pe (fun g x hx => ?_) (fun g => ?_) _ rfl
    · rw [ei] at g
      refine hk (y1 ||| ((1 : Int32) <<< (nI i &&& 31)), upd y2 i x) ⟨fun s hs => ?_, fun t ht => ?_⟩
      · dsimp only
        by_cases e : s = i
        · rw [e, pk_us, hx, if_pos ⟨by omega, g⟩]
        · rw [pk_un e, hy1 s hs]
          by_cases e2 : s < i ∧ bs s < (a8 s).toInt
          · rw [if_pos e2, if_pos ⟨by omega, e2.2⟩]
          · rw [if_neg e2, if_neg (fun z => e2 ⟨by omega, z.2⟩)]
      · dsimp only
        rw [rb_put hi ht, hy2 t ht]
        by_cases e : t = i
        · subst e
          rw [decide_eq_true (show t < t + 1 by omega), decide_eq_true g]; simp
        · rw [decide_eq_false e, Bool.or_false]
          congr 1
          exact decide_eq_decide.mpr (by omega)
    · rw [ei] at g
      refine hk (y1, y2) ⟨fun s hs => ?_, fun t ht => ?_⟩
      · dsimp only
        rw [hy1 s hs]
        by_cases e2 : s < i ∧ bs s < (a8 s).toInt
        · rw [if_pos e2, if_pos ⟨by omega, e2.2⟩]
        · rw [if_neg e2, if_neg (fun z => e2 ⟨by
            have : s ≠ i := fun e => g (e ▸ z.2)
            omega, z.2⟩)]
      · dsimp only
        rw [hy2 t ht]
        by_cases e : t = i
        · subst e
          rw [decide_eq_false g]; simp
        · congr 1
          exact decide_eq_decide.mpr (by omega)
/-! ===== walkOn, by logical stops ===== -/
theorem rq_walkOn {post : St2 → Prop} {st : Nat → Nat} {sv : Nat → Int} {m0 m1 f : Int} {li tr be : Int32} {a1 a2 a3 a4 a5 a6 a7 a8 a9 : Nat → Int32} {R C : Nat → Int}
    (hN : rq_net st sv m0 m1 f li tr a1 a2 a3 a4 a5 a6) (hR : rq_arr st a7 R) (hRi : rq_in R) (hC : rq_arr st a8 C) (hCi : rq_in C)
    (H : ∀ b c, rq_rel st b c (rq_C f R C, rq_M f R C) → post (li, tr, b, a1, a2, a3, a4, a5, a6, a7, c, a9)) :
    wpX_walkOn post (li, tr, be, a1, a2, a3, a4, a5, a6, a7, a8, a9) := by
  obtain ⟨hst, ⟨hsv, _, _, _, _, hf0, hf1⟩, _, _, _, _, _, hW⟩ := hN
  refine rq_walkOn0 (fun s => rq_best f R (st s)) (fun s hs => ?_) (fun s hs => ?_) (fun b c hc hb => H b c ⟨?_, ⟨fun j hj => ?_, fun i h8 hi => ?_⟩, rq_C_in hRi hCi hf0⟩)
  · have hs' := rq_lt8 hst hs
    have hp := rq_pt_lt hs'
    have w1 : (a6 (st (rq_pt (st s)) * 8 + s)).toInt = rq_wk f (rq_pt (st s)) (st s) := by
      have t := hW (rq_pt (st s)) (st s) hp hs'
      rwa [rq_inv hst hs] at t
    refine ⟨st (rq_pt (st s)), rq_lt8 hst hp, fun u hu ne => ?_, ?_, ?_⟩
    · have t := hW (st u) (st s) (rq_lt8 hst hu) hs'
      rw [rq_inv hst hs, rq_inv hst hu, rq_wk0 (fun z => ne (by rw [← z, rq_inv hst hu]))] at t
      omega
    · rw [w1]; exact (rq_wkS hf0 hf1).2
    · rw [w1, hR _ hp, rq_arr_at hst hR hs]; rfl
  · rw [rq_arr_at hst hR hs]; exact hRi _ (rq_lt8 hst hs)
  · refine rq_arr_of hst (fun s hs => ?_)
    rw [hc s hs, rq_arr_at hst hC hs]; rfl
  · have hj' := rq_lt8 hst hj
    rw [hb (st j) (by omega), decide_eq_true hj', Bool.true_and, rq_inv hst hj, hC j hj]; rfl
  · rw [hb i hi, decide_eq_false (by omega), Bool.false_and]
/-! ===== begin ===== -/
theorem rq_begin {post : St2 → Prop} {st : Nat → Nat} {sv : Nat → Int} {m0 m1 f : Int} {li tr be : Int32} {a1 a2 a3 a4 a5 a6 a7 a8 a9 : Nat → Int32} {a : Nat} {xq : Int32} {q : Int}
    (hN : rq_net st sv m0 m1 f li tr a1 a2 a3 a4 a5 a6) (ha : a < 8) (hq : xq.toInt = q) (hq0 : 0 ≤ q) (hq1 : q ≤ 1000)
    (H : ∀ b c7 c8, rq_rel st b c8 (rq_beg f a q) → post (li, tr, b, a1, a2, a3, a4, a5, a6, c7, c8, a9)) :
    wpX_begin post (li, tr, be, a1, a2, a3, a4, a5, a6, a7, a8, a9) (nI (st a)) xq := by
  have hst := hN.1
  have ha' := rq_lt8 hst ha
  show ∃ fu2 : Nat, wX_begin_2 post (nI (st a)) xq li tr be fu2 0 a1 a2 a3 a4 a5 a6 a7 a8 a9
  refine pk_loop (σ := (Nat → Int32) × (Nat → Int32)) (fun n i y => wX_begin_2 post (nI (st a)) xq li tr be n (nI i) a1 a2 a3 a4 a5 a6 y.1 y.2 a9)
    (fun i y => ∀ s, s < i → y.1 s = 1000000 ∧ y.2 s = 1000000) 8 0 (a7, a8) (by omega) (fun s hs => absurd hs (by omega)) ?_ ?_
  · intro n y hy
    obtain ⟨y1, y2⟩ := y
    dsimp only at hy ⊢
    refine pk_le 8 8 (fun _ => ⟨pk_in (st a) 8 ha', ?_⟩) (fun z => absurd z (by omega))
    rw [nI_clamp (show st a < 2 ^ 31 by omega)]
    refine nm_e ?_
    refine rq_walkOn (R := rq_set (fun _ => 1000000) a q) (C := fun _ => 1000000) hN ?_ ?_ ?_ ?_ (fun b c hr => H b _ c hr)
    · refine rq_arr_set hst (fun j hj => ?_) ha hq
      rw [(hy _ (rq_lt8 hst hj)).1]; exact rq_far
    · intro j hj
      show -1000000 ≤ (if j = a then q else 1000000) ∧ (if j = a then q else 1000000) ≤ 1000000
      split <;> omega
    · intro j hj
      rw [(hy _ (rq_lt8 hst hj)).2]; exact rq_far
    · intro j hj
      dsimp only
      omega
  · intro n i y hi hy hk
    obtain ⟨y1, y2⟩ := y
    dsimp only at hy ⊢
    refine pk_le 8 i (fun z => absurd z (by omega)) (fun _ => ?_)
    rw [nI_clamp (show i < 2 ^ 31 by omega)]
    refine ⟨pk_in i 8 hi, nm_e ⟨pk_in i 8 hi, nm_e (nm_r (nI_1 i) (hk (upd y1 i 1000000, upd y2 i 1000000) (fun s hs => ?_)))⟩⟩
    dsimp only
    by_cases e : s = i
    · rw [e, pk_us, pk_us]; exact ⟨rfl, rfl⟩
    · rw [pk_un e, pk_un e]; exact hy s (by omega)
end
section
/-! ===== catchTrip ===== -/
theorem rq_c7 {post : Int32 → Prop} {l i t : Nat} {x3 x4 : Int32} {li tr be : Int32} {a1 a2 a3 a4 a5 a6 a7 a8 a9 : Nat → Int32} {sv : Nat → Int} {off tm v : Int} {n : Nat}
    (hl : l < 2) (hi : i < 3) (ht : t < 3) (htr : tr = nI 3) (h4 : a4 t = nI (rq_lo t)) (h5 : (a5 t).toInt = sv t) (h3 : (a3 (l * 6 + i)).toInt = off) (hx3 : x3.toInt = tm) (hx4 : x4.toInt = v)
    (hsv : rq_sin sv) (o0 : 0 ≤ off) (o1 : off ≤ 60)
    (K : ∀ y : Int32, y.toInt = rq_cs sv l off tm t v → wX_catchTrip_7 post (nI l) (nI i) x3 li tr be a1 a2 a3 a4 a5 a6 a7 a8 a9 n y (nI (t + 1))) :
    wX_catchTrip_7 post (nI l) (nI i) x3 li tr be a1 a2 a3 a4 a5 a6 a7 a8 a9 (n + 1) x4 (nI t) := by
  subst htr
  have hlo := rq_lo_lt t
  have hs := hsv t
  refine pk_le 3 t (fun z => absurd z (by omega)) (fun _ => ⟨pk_in t 12 (by omega), ?_⟩)
  rw [rq_6, nI_clamp (show t < 2 ^ 31 by omega), nI_clamp (show l * 6 + i < 2 ^ 31 by omega), h4]
  unfold rq_cs rq_stp at K
  refine pk_eq (rq_lo t) l (fun z => ⟨pk_in t 12 (by omega), pk_in (l * 6 + i) 30 (by omega), ?_⟩) (fun z => nm_r (nI_1 t) (K x4 (by rw [if_neg z]; exact hx4)))
  rw [if_pos z] at K
  refine rq_lt (sv t + off) tm (rq_add h5 h3 (by omega) (by omega)) hx3 (fun z1 => nm_r (nI_1 t) (K x4 (by rw [if_pos z1]; exact hx4))) (fun z1 => ⟨pk_in t 12 (by omega), ?_⟩)
  rw [if_neg (show ¬ sv t + off < tm by omega)] at K
  exact rq_le v (sv t) hx4 h5 (fun z2 => nm_r (nI_1 t) (K x4 (by rw [if_pos z2]; exact hx4))) (fun z2 => ⟨pk_in t 12 (by omega), nm_e (nm_r (nI_1 t) (K (a5 t) (by rw [if_neg (by omega)]; exact h5)))⟩)
theorem rq_catch {post : Int32 → Prop} {st : Nat → Nat} {sv : Nat → Int} {m0 m1 f : Int} {li tr be : Int32} {a1 a2 a3 a4 a5 a6 a7 a8 a9 : Nat → Int32} {l i : Nat} {x3 : Int32} {tm : Int}
    (hN : rq_net st sv m0 m1 f li tr a1 a2 a3 a4 a5 a6) (hl : l < 2) (hi : i < 3) (hx3 : x3.toInt = tm)
    (K : ∀ y : Int32, y.toInt = rq_ct sv l (rq_of m0 m1 l i) tm → post y) : wpX_catchTrip post (li, tr, be, a1, a2, a3, a4, a5, a6, a7, a8, a9) (nI l) (nI i) x3 := by
  obtain ⟨hst, ⟨hsv, g1, g2, g3, g4, hf0, hf1⟩, _, htr, _, hA, hT, _⟩ := hN
  have ho := rq_of_in g1 g2 g3 g4 l i
  have h3 := (hA l i hl hi).2
  refine ⟨4, ?_⟩
  refine rq_c7 (t := 0) hl hi (by omega) htr (hT 0 (by omega)).1 (hT 0 (by omega)).2 h3 hx3 rq_far hsv ho.1 ho.2 (fun y1 e1 => ?_)
  refine rq_c7 (t := 1) hl hi (by omega) htr (hT 1 (by omega)).1 (hT 1 (by omega)).2 h3 hx3 e1 hsv ho.1 ho.2 (fun y2 e2 => ?_)
  refine rq_c7 (t := 2) hl hi (by omega) htr (hT 2 (by omega)).1 (hT 2 (by omega)).2 h3 hx3 e2 hsv ho.1 ho.2 (fun y3 e3 => ?_)
  subst htr
  exact pk_le 3 3 (fun _ => K y3 e3) (fun z => absurd z (by omega))
/-! ===== rideLine ===== -/
theorem rq_r113 {post : St2 → Prop} {J5 : Int32 → Int32 → (Nat → Int32) → (Nat → Int32) → (Nat → Int32) → (Nat → Int32) → (Nat → Int32) → (Nat → Int32) → (Nat → Int32) → (Nat → Int32) → (Nat → Int32) → Prop}
    {st : Nat → Nat} {sv : Nat → Int} {m0 m1 f : Int} {li tr be : Int32} {a1 a2 a3 a4 a5 a6 a7 a8 a9 : Nat → Int32} {l i j : Nat} {x2 : Int32} {start : Int} {B : Nat → Int}
    (hN : rq_net st sv m0 m1 f li tr a1 a2 a3 a4 a5 a6) (hl : l < 2) (hi : i < 3) (hj : j < 8) (hx2 : x2.toInt = start) (hB : rq_arr st a9 B)
    (K : ∀ y : Int32, y.toInt = (if rq_ct sv l (rq_of m0 m1 l i) (B j) < start then rq_ct sv l (rq_of m0 m1 l i) (B j) else start) → J5 y (nI (i + 1)) a1 a2 a3 a4 a5 a6 a7 a8 a9) :
    wX_rideLine_113 post J5 (nI l) x2 (nI i) (nI (st j)) li tr be a1 a2 a3 a4 a5 a6 a7 a8 a9 := by
  have hst := hN.1
  have hj' := rq_lt8 hst hj
  unfold wX_rideLine_113
  rw [nI_clamp (show st j < 2 ^ 31 by omega)]
  refine ⟨pk_in (st j) 8 hj', rq_catch hN hl hi (hB j hj) (fun y hy => ?_)⟩
  exact rq_le start _ hx2 hy (fun z => nm_r (nI_1 i) (K x2 (by rw [if_neg (by omega)]; exact hx2))) (fun z => nm_r (nI_1 i) (K y (by rw [if_pos z]; exact hy)))
theorem rq_r70 {post : St2 → Prop} {J5 : Int32 → Int32 → (Nat → Int32) → (Nat → Int32) → (Nat → Int32) → (Nat → Int32) → (Nat → Int32) → (Nat → Int32) → (Nat → Int32) → (Nat → Int32) → (Nat → Int32) → Prop}
    {st : Nat → Nat} {sv : Nat → Int} {m0 m1 f : Int} {li tr be : Int32} {a1 a2 a3 a4 a5 a6 a7 a8 a9 : Nat → Int32} {l i j : Nat} {x2 x5 : Int32} {start : Int} {B : Nat → Int} {M : Nat → Bool}
    (hN : rq_net st sv m0 m1 f li tr a1 a2 a3 a4 a5 a6) (hl : l < 2) (hi : i < 3) (hj : j < 8) (hx2 : x2.toInt = start) (hx5 : x5.toInt = start + rq_of m0 m1 l i) (hB : rq_arr st a9 B) (hM : rq_msk st be M)
    (K : ∀ y : Int32, y.toInt = rq_rt sv l (rq_of m0 m1 l i) start (M j) (B j) → J5 y (nI (i + 1)) a1 a2 a3 a4 a5 a6 a7 a8 a9) :
    wX_rideLine_70 post J5 (nI l) x2 (nI i) (nI (st j)) x5 li tr be a1 a2 a3 a4 a5 a6 a7 a8 a9 := by
  have hst := hN.1
  have hj' := rq_lt8 hst hj
  unfold rq_rt at K
  refine ek_if (rq_msk_test hst hM hj) (fun hm => ?_) (fun hm => ?_)
  · refine br_f (by decide) ?_
    refine rq_eq start 1000000 hx2 rq_far (fun z => ?_) (fun z => ?_)
    · rw [if_pos ⟨hm, Or.inl z⟩] at K
      exact rq_r113 hN hl hi hj hx2 hB K
    · rw [nI_clamp (show st j < 2 ^ 31 by omega)]
      refine ⟨pk_in (st j) 8 hj', rq_le (start + rq_of m0 m1 l i) (B j) hx5 (hB j hj) (fun z2 => ?_) (fun z2 => ?_)⟩
      · rw [if_neg (fun t => t.2.elim z (fun t2 => by omega))] at K
        exact nm_r (nI_1 i) (K x2 hx2)
      · rw [if_pos ⟨hm, Or.inr z2⟩] at K
        exact rq_r113 hN hl hi hj hx2 hB K
  · rw [if_neg (fun t => hm t.1)] at K
    exact br_t rfl (nm_r (nI_1 i) (K x2 hx2))
theorem rq_r5 {post : St2 → Prop} {st : Nat → Nat} {sv : Nat → Int} {m0 m1 f : Int} {li tr be : Int32} {a1 a2 a3 a4 a5 a6 a7 a8 a9 : Nat → Int32} {l i n : Nat} {x2 : Int32} {start : Int} {R B : Nat → Int} {M : Nat → Bool}
    (hN : rq_net st sv m0 m1 f li tr a1 a2 a3 a4 a5 a6) (hl : l < 2) (hi : i < 3) (hx2 : x2.toInt = start) (s0 : 0 ≤ start) (s1 : start ≤ 1000000) (hR : rq_arr st a7 R) (hB : rq_arr st a9 B) (hM : rq_msk st be M)
    (K : ∀ (y : Int32) (c7 : Nat → Int32), y.toInt = rq_rt sv l (rq_of m0 m1 l i) start (M (rq_js l i)) (B (rq_js l i)) → rq_arr st c7 (rq_rs (rq_of m0 m1 l i) start (rq_js l i) R) → wX_rideLine_5 post (nI l) li tr be n y (nI (i + 1)) a1 a2 a3 a4 a5 a6 c7 a8 a9) :
    wX_rideLine_5 post (nI l) li tr be (n + 1) x2 (nI i) a1 a2 a3 a4 a5 a6 a7 a8 a9 := by
  have hN' := hN
  obtain ⟨hst, ⟨hsv, g1, g2, g3, g4, hf0, hf1⟩, _, htr, hS, hA, hT, _⟩ := hN'
  have ho := rq_of_in g1 g2 g3 g4 l i
  have hj : rq_js l i < 8 := rq_js_lt hi
  have hj' := rq_lt8 hst hj
  obtain ⟨h2, h3⟩ := hA l i hl hi
  refine ⟨pk_in l 5 (by omega), ?_⟩
  rw [rq_6, nI_clamp (show l < 2 ^ 31 by omega), nI_clamp (show l * 6 + i < 2 ^ 31 by omega), hS l hl]
  refine pk_le 3 i (fun z => absurd z (by omega)) (fun _ => ⟨pk_in (l * 6 + i) 30 (by omega), nm_r h2 ⟨pk_in (l * 6 + i) 30 (by omega), fun x5 e5 => ?_⟩⟩)
  have hx5 : x5.toInt = start + rq_of m0 m1 l i := by rw [e5]; exact rq_add hx2 h3 (by omega) (by omega)
  unfold rq_rs at K
  refine rq_le 1000000 start rq_far hx2 (fun z => ?_) (fun z => ?_)
  · rw [if_neg (fun t => by omega)] at K
    exact rq_r70 hN hl hi hj hx2 hx5 hB hM (fun y hy => K y a7 hy hR)
  · rw [nI_clamp (show st (rq_js l i) < 2 ^ 31 by omega)]
    refine ⟨pk_in _ 8 hj', rq_le _ _ (hR _ hj) hx5 (fun z2 => ?_) (fun z2 => ⟨pk_in _ 8 hj', nm_e ?_⟩)⟩
    · rw [if_neg (fun t => by omega)] at K
      exact rq_r70 hN hl hi hj hx2 hx5 hB hM (fun y hy => K y a7 hy hR)
    · rw [if_pos ⟨z, z2⟩] at K
      exact rq_r70 hN hl hi hj hx2 hx5 hB hM (fun y hy => K y _ hy (rq_arr_set hst hR hj hx5))
theorem rq_ride {post : St2 → Prop} {st : Nat → Nat} {sv : Nat → Int} {m0 m1 f : Int} {li tr be : Int32} {a1 a2 a3 a4 a5 a6 a7 a8 a9 : Nat → Int32} {l : Nat} {R B : Nat → Int} {M : Nat → Bool}
    (hN : rq_net st sv m0 m1 f li tr a1 a2 a3 a4 a5 a6) (hl : l < 2) (hR : rq_arr st a7 R) (hRi : rq_in R) (hB : rq_arr st a9 B) (hM : rq_msk st be M)
    (K : ∀ c7, rq_arr st c7 (rq_ln sv m0 m1 l B M R) → rq_in (rq_ln sv m0 m1 l B M R) → post (li, tr, be, a1, a2, a3, a4, a5, a6, c7, a8, a9)) :
    wpX_rideLine post (li, tr, be, a1, a2, a3, a4, a5, a6, a7, a8, a9) (nI l) := by
  have hsv := hN.2.1.1
  have hp := hN.2.1
  have i1 : 0 ≤ rq_t1 sv m0 m1 l B M ∧ rq_t1 sv m0 m1 l B M ≤ 1000000 := rq_rt_in hsv (by decide) (by decide)
  have i2 : 0 ≤ rq_t2 sv m0 m1 l B M ∧ rq_t2 sv m0 m1 l B M ≤ 1000000 := rq_rt_in hsv i1.1 i1.2
  have ho : ∀ i, 0 ≤ rq_of m0 m1 l i := fun i => (rq_of_in hp.2.1 hp.2.2.1 hp.2.2.2.1 hp.2.2.2.2.1 l i).1
  have hin : rq_in (rq_ln sv m0 m1 l B M R) := rq_rs_in (rq_rs_in (rq_rs_in hRi (by decide) (ho 0) (rq_js_lt (by omega))) i1.1 (ho 1) (rq_js_lt (by omega))) i2.1 (ho 2) (rq_js_lt (by omega))
  refine ⟨4, ?_⟩
  refine rq_r5 (i := 0) hN hl (by omega) rq_far (by decide) (by decide) hR hB hM (fun y1 c1 e1 r1 => ?_)
  refine rq_r5 (i := 1) hN hl (by omega) e1 i1.1 i1.2 r1 hB hM (fun y2 c2 e2 r2 => ?_)
  refine rq_r5 (i := 2) hN hl (by omega) e2 i2.1 i2.2 r2 hB hM (fun y3 c3 e3 r3 => ?_)
  refine ⟨pk_in l 5 (by omega), ?_⟩
  rw [nI_clamp (show l < 2 ^ 31 by omega), hN.2.2.2.2.1 l hl]
  exact pk_le 3 3 (fun _ => K c3 r3 hin) (fun z => absurd z (by omega))
/-! ===== nextRound ===== -/
theorem rq_next {post : St2 → Prop} {st : Nat → Nat} {sv : Nat → Int} {m0 m1 f : Int} {li tr be : Int32} {a1 a2 a3 a4 a5 a6 a7 a8 a9 : Nat → Int32} {s : (Nat → Int) × (Nat → Bool)}
    (hN : rq_net st sv m0 m1 f li tr a1 a2 a3 a4 a5 a6) (hs : rq_rel st be a8 s)
    (K : ∀ b c7 c8 c9, rq_rel st b c8 (rq_rnd sv m0 m1 f s) → post (li, tr, b, a1, a2, a3, a4, a5, a6, c7, c8, c9)) :
    wpX_nextRound post (li, tr, be, a1, a2, a3, a4, a5, a6, a7, a8, a9) := by
  have hst := hN.1
  obtain ⟨hC, hM, hCi⟩ := hs
  show ∃ fu2 : Nat, wX_nextRound_2 post li tr be fu2 0 a1 a2 a3 a4 a5 a6 a7 a8 a9
  refine pk_loop (σ := (Nat → Int32) × (Nat → Int32)) (fun n i y => wX_nextRound_2 post li tr be n (nI i) a1 a2 a3 a4 a5 a6 y.1 a8 y.2)
    (fun i y => ∀ s, s < i → y.1 s = 1000000 ∧ y.2 s = a8 s) 8 0 (a7, a9) (by omega) (fun s hs => absurd hs (by omega)) ?_ ?_
  · intro n y hy
    obtain ⟨y1, y2⟩ := y
    dsimp only at hy ⊢
    refine pk_le 8 8 (fun _ => ⟨3, ?_⟩) (fun z => absurd z (by omega))
    have r0 : rq_arr st y1 (fun _ => 1000000) := fun j hj => by rw [(hy _ (rq_lt8 hst hj)).1]; exact rq_far
    have rB : rq_arr st y2 s.1 := fun j hj => by rw [(hy _ (rq_lt8 hst hj)).2]; exact hC j hj
    have i0 : rq_in (fun _ => 1000000) := fun j hj => by dsimp only; omega
    have hli := hN.2.2.1
    refine pk_le 2 0 (fun z => absurd z (by omega)) (fun _ => ?_) hli
    refine rq_ride (l := 0) hN (by omega) r0 i0 rB hM (fun c1 r1 i1 => nm_r (nI_1 0) ?_)
    refine pk_le 2 1 (fun z => absurd z (by omega)) (fun _ => ?_) hli
    refine rq_ride (l := 1) hN (by omega) r1 i1 rB hM (fun c2 r2 i2 => nm_r (nI_1 1) ?_)
    refine pk_le 2 2 (fun _ => ?_) (fun z => absurd z (by omega)) hli
    exact rq_walkOn hN r2 i2 hC hCi (fun b c hr => K b _ c _ hr)
  · intro n i y hi hy hk
    obtain ⟨y1, y2⟩ := y
    dsimp only at hy ⊢
    refine pk_le 8 i (fun z => absurd z (by omega)) (fun _ => ?_)
    rw [nI_clamp (show i < 2 ^ 31 by omega)]
    refine ⟨pk_in i 8 hi, pk_in i 8 hi, nm_e ⟨pk_in i 8 hi, nm_e (nm_r (nI_1 i) (hk (upd y1 i 1000000, upd y2 i (a8 i)) (fun s hs => ?_)))⟩⟩
    dsimp only
    by_cases e : s = i
    · rw [e, pk_us, pk_us]; exact ⟨rfl, rfl⟩
    · rw [pk_un e, pk_un e]; exact hy s (by omega)
/-! ===== plan ===== -/
theorem rq_p9 {post : St2 → Prop} {st : Nat → Nat} {sv : Nat → Int} {m0 m1 f : Int} {li tr : Int32} {a1 a2 a3 a4 a5 a6 : Nat → Int32} {N : Nat} (hNN : N ≤ 12)
    (hN : rq_net st sv m0 m1 f li tr a1 a2 a3 a4 a5 a6) : ∀ (d i : Nat) (be : Int32) (a7 a8 a9 : Nat → Int32) (s : (Nat → Int) × (Nat → Bool)), i + d = N → rq_rel st be a8 s →
    (∀ b c7 c8 c9, rq_rel st b c8 (rq_iter sv m0 m1 f d s) → post (li, tr, b, a1, a2, a3, a4, a5, a6, c7, c8, c9)) →
    wX_plan_9 post (nI N) (d + 1) (nI i) li tr be a1 a2 a3 a4 a5 a6 a7 a8 a9 := by
  intro d
  induction d with
  | zero =>
    intro i be a7 a8 a9 s hd hs K
    exact pk_le N i (fun _ => K be a7 a8 a9 hs) (fun z => absurd z (by omega))
  | succ d ih =>
    intro i be a7 a8 a9 s hd hs K
    refine pk_le N i (fun z => absurd z (by omega)) (fun _ => ?_)
    unfold rq_iter at K
    refine ek_if (rq_msk_zero hN.1 hs.2.1) (fun z => ?_) (fun z => ?_)
    · rw [if_neg (by rw [z]; exact Bool.false_ne_true)] at K
      exact K be a7 a8 a9 hs
    · rw [if_pos (by simpa using z)] at K
      exact rq_next hN hs (fun b c7 c8 c9 hr => nm_r (nI_1 i) (ih (i + 1) b c7 c8 c9 _ (by omega) hr K))
theorem rq_plan {post : St2 → Prop} {st : Nat → Nat} {sv : Nat → Int} {m0 m1 f : Int} {li tr be : Int32} {a1 a2 a3 a4 a5 a6 a7 a8 a9 : Nat → Int32} {a N : Nat} {xq : Int32} {q : Int}
    (hN : rq_net st sv m0 m1 f li tr a1 a2 a3 a4 a5 a6) (ha : a < 8) (hNN : N ≤ 12) (hq : xq.toInt = q) (hq0 : 0 ≤ q) (hq1 : q ≤ 1000)
    (K : ∀ b c7 c8 c9, rq_rel st b c8 (rq_iter sv m0 m1 f N (rq_beg f a q)) → post (li, tr, b, a1, a2, a3, a4, a5, a6, c7, c8, c9)) :
    wpX_plan post (li, tr, be, a1, a2, a3, a4, a5, a6, a7, a8, a9) (nI (st a)) xq (nI N) := by
  refine rq_begin hN ha hq hq0 hq1 (fun b c7 c8 hr => ?_)
  exact ⟨N + 1, rq_p9 hNN hN N 0 b c7 c8 a9 _ (by omega) hr K⟩
/-! ===== the questions ===== -/
theorem rq_badStop {post : Int32 → Prop} {s : Nat} (hs : s < 8) (K : post 0) : wpX_badStop post () (nI s) :=
  pk_lt s 0 (fun z => absurd z (by omega)) (fun _ => pk_lt s 8 (fun _ => K) (fun z => absurd z (by omega)))
theorem rq_badTime {post : Int32 → Prop} {x : Int32} {q : Int} (hq : x.toInt = q) (hq0 : 0 ≤ q) (hq1 : q ≤ 1000) (K : post 0) : wpX_badTime post () x :=
  rq_lt q 0 hq rfl (fun z => absurd z (by omega)) (fun _ => rq_le q 1000 hq rfl (fun _ => K) (fun z => absurd z (by omega)))
theorem rq_refusal {post : Int32 → Prop} {u : St2} {s t : Nat} {x : Int32} {q : Int} (hs : s < 8) (ht : t < 8) (hq : x.toInt = q) (hq0 : 0 ≤ q) (hq1 : q ≤ 1000) (K : post 0) : wpX_refusal post u (nI s) (nI t) x := by
  obtain ⟨f0, f1, f2, a1, a2, a3, a4, a5, a6, a7, a8, a9⟩ := u
  unfold wpX_refusal
  dsimp only
  refine rq_badStop hs ?_
  refine br_t rfl ?_
  refine rq_badStop ht ?_
  refine br_t rfl ?_
  refine rq_badTime hq hq0 hq1 ?_
  exact br_t rfl K
theorem rq_arrival {post : Int32 → Prop} {st : Nat → Nat} {li tr be : Int32} {a1 a2 a3 a4 a5 a6 a7 a8 a9 : Nat → Int32} {C : Nat → Int} {b : Nat} (hst : rq_perm st) (hb : b < 8) (hC : rq_arr st a8 C)
    (K : ∀ y : Int32, y.toInt = rq_val (C b) → post y) : wpX_arrivalAt post (li, tr, be, a1, a2, a3, a4, a5, a6, a7, a8, a9) (nI (st b)) := by
  have hb' := rq_lt8 hst hb
  unfold rq_val at K
  unfold wpX_arrivalAt
  dsimp only
  rw [nI_clamp (show st b < 2 ^ 31 by omega)]
  refine ⟨pk_in _ 8 hb', rq_lt (C b) 1000000 (hC b hb) rq_far (fun z => ⟨pk_in _ 8 hb', K _ ?_⟩) (fun z => K _ ?_)⟩
  · rw [if_pos z]; exact hC b hb
  · rw [if_neg (by omega)]; rfl
theorem rq_earliest {post : Int32 → St2 → Prop} {st : Nat → Nat} {sv : Nat → Int} {m0 m1 f : Int} {li tr be : Int32} {a1 a2 a3 a4 a5 a6 a7 a8 a9 : Nat → Int32} {a b : Nat} {xq : Int32} {q : Int}
    (hN : rq_net st sv m0 m1 f li tr a1 a2 a3 a4 a5 a6) (ha : a < 8) (hb : b < 8) (hq : xq.toInt = q) (hq0 : 0 ≤ q) (hq1 : q ≤ 1000)
    (K : ∀ (y b' : Int32) (c7 c8 c9 : Nat → Int32), y.toInt = rq_val ((rq_iter sv m0 m1 f 12 (rq_beg f a q)).1 b) → post y (li, tr, b', a1, a2, a3, a4, a5, a6, c7, c8, c9)) :
    wpX_earliest post (li, tr, be, a1, a2, a3, a4, a5, a6, a7, a8, a9) (nI (st a)) (nI (st b)) xq := by
  unfold wpX_earliest
  dsimp only
  refine rq_refusal (rq_lt8 hN.1 ha) (rq_lt8 hN.1 hb) hq hq0 hq1 ?_
  refine br_t rfl ?_
  exact rq_plan (N := 12) hN ha (by omega) hq hq0 hq1 (fun b' c7 c8 c9 hr => rq_arrival hN.1 hb hr.1 (fun y hy => K y b' c7 c8 c9 hy))
theorem rq_earliestWith1 {post : Int32 → St2 → Prop} {st : Nat → Nat} {sv : Nat → Int} {m0 m1 f : Int} {li tr be : Int32} {a1 a2 a3 a4 a5 a6 a7 a8 a9 : Nat → Int32} {a b : Nat} {xq : Int32} {q : Int}
    (hN : rq_net st sv m0 m1 f li tr a1 a2 a3 a4 a5 a6) (ha : a < 8) (hb : b < 8) (hq : xq.toInt = q) (hq0 : 0 ≤ q) (hq1 : q ≤ 1000)
    (K : ∀ (y b' : Int32) (c7 c8 c9 : Nat → Int32), y.toInt = rq_val ((rq_iter sv m0 m1 f 1 (rq_beg f a q)).1 b) → post y (li, tr, b', a1, a2, a3, a4, a5, a6, c7, c8, c9)) :
    wpX_earliestWith post (li, tr, be, a1, a2, a3, a4, a5, a6, a7, a8, a9) (nI (st a)) (nI (st b)) xq 1 := by
  unfold wpX_earliestWith
  dsimp only
  refine rq_refusal (rq_lt8 hN.1 ha) (rq_lt8 hN.1 hb) hq hq0 hq1 ?_
  refine br_t rfl ?_
  refine br_t (by decide) ?_
  refine br_t (by decide) ?_
  exact rq_plan (N := 1) hN ha (by omega) hq hq0 hq1 (fun b' c7 c8 c9 hr => rq_arrival hN.1 hb hr.1 (fun y hy => K y b' c7 c8 c9 hy))
theorem rq_r45 {post : Int32 → St2 → Prop} {st : Nat → Nat} {sv : Nat → Int} {m0 m1 f : Int} {li tr : Int32} {a1 a2 a3 a4 a5 a6 : Nat → Int32} {b : Nat} (hb : b < 8)
    (hN : rq_net st sv m0 m1 f li tr a1 a2 a3 a4 a5 a6) : ∀ (d k : Nat) (x5 : Int32) (la : Int) (be : Int32) (a7 a8 a9 : Nat → Int32) (s : (Nat → Int) × (Nat → Bool)), k + d = 13 → x5.toInt = la → rq_rel st be a8 s →
    (∀ (y b' : Int32) (c7 c8 c9 : Nat → Int32), y.toInt = rq_rid sv m0 m1 f b d k la s → post y (li, tr, b', a1, a2, a3, a4, a5, a6, c7, c8, c9)) →
    wX_rides_45 post (nI (st b)) (d + 1) x5 (nI k) li tr be a1 a2 a3 a4 a5 a6 a7 a8 a9 := by
  have hb' := rq_lt8 hN.1 hb
  intro d
  induction d with
  | zero =>
    intro k x5 la be a7 a8 a9 s hd hx hs K
    exact pk_lt 12 k (fun _ => K x5 be a7 a8 a9 hx) (fun z => absurd z (by omega))
  | succ d ih =>
    intro k x5 la be a7 a8 a9 s hd hx hs K
    refine pk_lt 12 k (fun z => absurd z (by omega)) (fun _ => ?_)
    unfold rq_rid at K
    refine ek_if (rq_msk_zero hN.1 hs.2.1) (fun z => ?_) (fun z => ?_)
    · rw [if_neg (by rw [z]; exact Bool.false_ne_true)] at K
      exact K x5 be a7 a8 a9 hx
    · rw [if_pos (by simpa using z)] at K
      rw [nI_clamp (show st b < 2 ^ 31 by omega)]
      refine ⟨pk_in _ 8 hb', nm_e (rq_next hN hs (fun b' c7 c8 c9 hr => ⟨pk_in _ 8 hb', ?_⟩))⟩
      refine rq_le _ _ (hs.1 b hb) (hr.1 b hb) (fun z2 => nm_r (nI_1 k) (ih (k + 1) x5 la b' c7 c8 c9 _ (by omega) hx hr (fun y b2 d7 d8 d9 hy => K y b2 d7 d8 d9 ?_)))
        (fun z2 => nm_r (nI_1 k) (ih (k + 1) (nI k) k b' c7 c8 c9 _ (by omega) (rq_nI (by omega)) hr (fun y b2 d7 d8 d9 hy => K y b2 d7 d8 d9 ?_)))
      · rw [if_neg (by omega)]; exact hy
      · rw [if_pos z2]; exact hy
theorem rq_rides {post : Int32 → St2 → Prop} {st : Nat → Nat} {sv : Nat → Int} {m0 m1 f : Int} {li tr be : Int32} {a1 a2 a3 a4 a5 a6 a7 a8 a9 : Nat → Int32} {a b : Nat} {xq : Int32} {q : Int}
    (hN : rq_net st sv m0 m1 f li tr a1 a2 a3 a4 a5 a6) (ha : a < 8) (hb : b < 8) (hq : xq.toInt = q) (hq0 : 0 ≤ q) (hq1 : q ≤ 1000)
    (K : ∀ (y b' : Int32) (c7 c8 c9 : Nat → Int32), y.toInt = rq_rid sv m0 m1 f b 12 1 (if (rq_beg f a q).1 b < 1000000 then 0 else -5) (rq_beg f a q) → post y (li, tr, b', a1, a2, a3, a4, a5, a6, c7, c8, c9)) :
    wpX_rides post (li, tr, be, a1, a2, a3, a4, a5, a6, a7, a8, a9) (nI (st a)) (nI (st b)) xq := by
  have hb' := rq_lt8 hN.1 hb
  unfold wpX_rides
  dsimp only
  refine rq_refusal (rq_lt8 hN.1 ha) hb' hq hq0 hq1 ?_
  refine br_t rfl ?_
  refine rq_begin hN ha hq hq0 hq1 (fun b' c7 c8 hr => ?_)
  refine ⟨pk_in _ 8 hb', ?_⟩
  rw [nI_clamp (show st b < 2 ^ 31 by omega)]
  refine rq_le _ _ rq_far (hr.1 b hb) (fun z => ⟨13, ?_⟩) (fun z => ⟨13, ?_⟩)
  · rw [if_neg (by omega)] at K
    exact rq_r45 hb hN 12 1 (-5) (-5) b' c7 c8 a9 _ (by omega) rfl hr K
  · rw [if_pos z] at K
    exact rq_r45 hb hN 12 1 0 0 b' c7 c8 a9 _ (by omega) rfl hr K
/-! within -/
def rq_cn (C : Nat → Int) (un : Int) : Nat → Int
  | 0 => 0
  | n + 1 => rq_cn C un n + rq_one C un n
theorem rq_w41 {post : Int32 → St2 → Prop} {li tr be : Int32} {a1 a2 a3 a4 a5 a6 a7 a8 a9 : Nat → Int32} {D : Nat → Int} {xu : Int32} {un : Int} (hu : xu.toInt = un) (hD : ∀ s, s < 8 → (a8 s).toInt = D s)
    (K : ∀ y : Int32, y.toInt = rq_cn D un 8 → post y (li, tr, be, a1, a2, a3, a4, a5, a6, a7, a8, a9)) :
    ∃ n, wX_within_41 post xu li tr be a1 a2 a3 a4 a5 a6 a7 a8 a9 n 0 0 := by
  have hb : ∀ i, 0 ≤ rq_cn D un i ∧ rq_cn D un i ≤ i := by
    intro i
    induction i with
    | zero => simp [rq_cn]
    | succ i ih => unfold rq_cn rq_one; split <;> omega
  refine pk_loop (fun n i y => wX_within_41 post xu li tr be a1 a2 a3 a4 a5 a6 a7 a8 a9 n y (nI i)) (fun i y => y.toInt = rq_cn D un i) 8 0 0 (by omega) rfl ?_ ?_
  · intro n y hy
    exact pk_le 8 8 (fun _ => K y hy) (fun z => absurd z (by omega))
  · intro n i y hi hy hk
    have hbi := hb i
    refine pk_le 8 i (fun z => absurd z (by omega)) (fun _ => ⟨pk_in i 8 hi, ?_⟩)
    rw [nI_clamp (show i < 2 ^ 31 by omega)]
    refine rq_lt un (D i) hu (hD i hi) (fun z => nm_r (nI_1 i) (hk y ?_)) (fun z => nm_e (nm_r (nI_1 i) (hk _ ?_)))
    · rw [hy]; show _ = rq_cn D un i + rq_one D un i; unfold rq_one; rw [if_pos z]; omega
    · have e : (y + 1).toInt = rq_cn D un i + 1 := rq_add hy rfl (by omega) (by omega)
      rw [e]; show _ = rq_cn D un i + rq_one D un i; unfold rq_one; rw [if_neg (by omega)]
theorem rq_within {post : Int32 → St2 → Prop} {st : Nat → Nat} {sv : Nat → Int} {m0 m1 f : Int} {li tr be : Int32} {a1 a2 a3 a4 a5 a6 a7 a8 a9 : Nat → Int32} {a : Nat} {xq xu : Int32} {q un : Int}
    (hN : rq_net st sv m0 m1 f li tr a1 a2 a3 a4 a5 a6) (ha : a < 8) (hq : xq.toInt = q) (hq0 : 0 ≤ q) (hq1 : q ≤ 1000) (hu : xu.toInt = un) (hu0 : 0 ≤ un) (hu1 : un ≤ 1000)
    (K : ∀ (y b' : Int32) (c7 c8 c9 : Nat → Int32), y.toInt = rq_cnt (rq_iter sv m0 m1 f 12 (rq_beg f a q)).1 un → post y (li, tr, b', a1, a2, a3, a4, a5, a6, c7, c8, c9)) :
    wpX_within post (li, tr, be, a1, a2, a3, a4, a5, a6, a7, a8, a9) (nI (st a)) xq xu := by
  have hst := hN.1
  unfold wpX_within
  dsimp only
  refine rq_refusal (rq_lt8 hst ha) (rq_lt8 hst ha) hq hq0 hq1 ?_
  refine br_t rfl ?_
  refine rq_badTime hu hu0 hu1 ?_
  refine br_t rfl ?_
  refine rq_plan (N := 12) hN ha (by omega) hq hq0 hq1 (fun b' c7 c8 c9 hr => ?_)
  refine rq_w41 (D := fun s => (rq_iter sv m0 m1 f 12 (rq_beg f a q)).1 (st s)) hu (fun s hs => rq_arr_at hst hr.1 hs) (fun y hy => K y b' c7 c8 c9 ?_)
  rw [hy]
  have t := hst.2 (rq_one (rq_iter sv m0 m1 f 12 (rq_beg f a q)).1 un)
  have e : ∀ s, rq_one (fun s => (rq_iter sv m0 m1 f 12 (rq_beg f a q)).1 (st s)) un s = rq_one (rq_iter sv m0 m1 f 12 (rq_beg f a q)).1 un (st s) := fun s => rfl
  simp only [rq_cn, e]
  unfold rq_cnt
  omega
end
section
/-! ===== walkBack, by real stops ===== -/
theorem rq_v22 {post : St2 → Prop} {J7 : Int32 → Int32 → (Nat → Int32) → (Nat → Int32) → (Nat → Int32) → (Nat → Int32) → (Nat → Int32) → (Nat → Int32) → (Nat → Int32) → (Nat → Int32) → (Nat → Int32) → Prop}
    {li tr be : Int32} {a1 a2 a3 a4 a5 a6 a7 a8 a9 : Nat → Int32} {s p : Nat} (hs : s < 8) (hp : p < 8) {r rp w bv : Int}
    (hrp : (a7 p).toInt = rp) (hw : (a6 (s * 8 + p)).toInt = w) (h0 : ∀ u, u < 8 → u ≠ p → (a6 (s * 8 + u)).toInt ≤ 0)
    (b1 : -1000000 ≤ rp) (b2 : rp ≤ 1000000) (b3 : w ≤ 30) (hbv : bv = if 0 < w ∧ r < rp - w then rp - w else r)
    (H1 : (a8 s).toInt < bv → ∀ x : Int32, x.toInt = bv → J7 (nI (s + 1)) (be ||| ((1 : Int32) <<< (nI s &&& 31))) a1 a2 a3 a4 a5 a6 a7 (upd a8 s x) a9)
    (H2 : ¬ (a8 s).toInt < bv → J7 (nI (s + 1)) be a1 a2 a3 a4 a5 a6 a7 a8 a9)
    (x : Int32) (hx : x.toInt = r) : ∃ n, wX_walkBack_22 post J7 (nI s) li tr be a1 a2 a3 a4 a5 a6 a7 a8 a9 n x 0 := by
  refine pk_loop (fun n i y => wX_walkBack_22 post J7 (nI s) li tr be a1 a2 a3 a4 a5 a6 a7 a8 a9 n y (nI i)) (fun i y => y.toInt = if p < i then bv else r) 8 0 x (by omega) (by rw [if_neg (by omega)]; exact hx) ?_ ?_
  · intro n y hy
    rw [if_pos hp] at hy
    refine pk_le 8 8 (fun _ => ⟨pk_in s 8 hs, ?_⟩) (fun z => absurd z (by omega))
    rw [nI_clamp (show s < 2 ^ 31 by omega)]
    refine rq_le bv (a8 s).toInt hy rfl (fun z => nm_r (nI_1 s) (H2 (by omega))) (fun z => ⟨pk_in s 8 hs, nm_e (nm_e (nm_r (nI_1 s) (H1 z y hy)))⟩)
  · intro n i y hi hy hk
    refine pk_le 8 i (fun z => absurd z (by omega)) (fun _ => ?_)
    rw [rq_8, nI_clamp (show s * 8 + i < 2 ^ 31 by omega), nI_clamp (show i < 2 ^ 31 by omega)]
    refine ⟨pk_in (s * 8 + i) 64 (by omega), nm_e ?_⟩
    by_cases e : i = p
    · subst e
      rw [if_neg (by omega)] at hy
      refine rq_le w 0 hw rfl (fun z => nm_r (nI_1 i) (hk y ?_)) (fun z => ⟨pk_in i 8 hi, ?_⟩)
      · rw [if_pos (by omega), hy, hbv, if_neg (by omega)]
      · refine rq_le (rp - w) r (rq_sub hrp hw (by omega) (by omega)) hy (fun z2 => nm_r (nI_1 i) (hk y ?_)) (fun z2 => ⟨pk_in i 8 hi, nm_e (nm_r (nI_1 i) (hk _ ?_))⟩)
        · rw [if_pos (by omega), hy, hbv, if_neg (by omega)]
        · rw [if_pos (by omega), rq_sub hrp hw (by omega) (by omega), hbv, if_pos (by omega)]
    · have q := h0 i hi e
      refine rq_le (a6 (s * 8 + i)).toInt 0 rfl rfl (fun z => nm_r (nI_1 i) (hk y ?_)) (fun z => absurd z (by omega))
      rw [hy]
      by_cases g : p < i
      · rw [if_pos g, if_pos (by omega)]
      · rw [if_neg g, if_neg (by omega)]
theorem rq_walkBack0 {post : St2 → Prop} {li tr be : Int32} {a1 a2 a3 a4 a5 a6 a7 a8 a9 : Nat → Int32} (bs : Nat → Int)
    (hb : ∀ s, s < 8 → ∃ p, p < 8 ∧ (∀ u, u < 8 → u ≠ p → (a6 (s * 8 + u)).toInt ≤ 0) ∧ (a6 (s * 8 + p)).toInt ≤ 30 ∧ bs s = if 0 < (a6 (s * 8 + p)).toInt ∧ (a7 s).toInt < (a7 p).toInt - (a6 (s * 8 + p)).toInt then (a7 p).toInt - (a6 (s * 8 + p)).toInt else (a7 s).toInt)
    (h7 : ∀ s, s < 8 → -1000000 ≤ (a7 s).toInt ∧ (a7 s).toInt ≤ 1000000)
    (H : ∀ b c, (∀ s, s < 8 → (c s).toInt = if (a8 s).toInt < bs s then bs s else (a8 s).toInt) → (∀ t, t < 32 → rb_t b t = (decide (t < 8) && decide ((a8 t).toInt < bs t))) → post (li, tr, b, a1, a2, a3, a4, a5, a6, a7, c, a9)) :
    wpX_walkBack post (li, tr, be, a1, a2, a3, a4, a5, a6, a7, a8, a9) := by
  show ∃ fu7 : Nat, wX_walkBack_7 post li tr fu7 0 0 a1 a2 a3 a4 a5 a6 a7 a8 a9
  refine pk_loop (σ := Int32 × (Nat → Int32)) (fun n i y => wX_walkBack_7 post li tr n (nI i) y.1 a1 a2 a3 a4 a5 a6 a7 y.2 a9)
    (fun i y => (∀ s, s < 8 → (y.2 s).toInt = if s < i ∧ (a8 s).toInt < bs s then bs s else (a8 s).toInt) ∧ (∀ t, t < 32 → rb_t y.1 t = (decide (t < i) && decide ((a8 t).toInt < bs t)))) 8 0 (0, a8) (by omega) ?_ ?_ ?_
  · refine ⟨fun s _ => ?_, fun t _ => ?_⟩
    · rw [if_neg (by omega)]
    · rw [rb_0, decide_eq_false (by omega), Bool.false_and]
  · intro n y hy
    refine pk_le 8 8 (fun _ => H y.1 y.2 (fun s hs => ?_) hy.2) (fun z => absurd z (by omega))
    rw [hy.1 s hs]
    by_cases g : (a8 s).toInt < bs s
    · rw [if_pos ⟨hs, g⟩, if_pos g]
    · rw [if_neg (fun z => g z.2), if_neg g]
  · intro n i y hi hy hk
    obtain ⟨y1, y2⟩ := y
    obtain ⟨hy1, hy2⟩ := hy
    dsimp only at hy1 hy2
    obtain ⟨p, hp, p0, p30, pe⟩ := hb i hi
    refine pk_le 8 i (fun z => absurd z (by omega)) (fun _ => ⟨pk_in i 8 hi, ?_⟩)
    rw [nI_clamp (show i < 2 ^ 31 by omega)]
    refine nm_e ?_
    have ei : (y2 i).toInt = (a8 i).toInt := by rw [hy1 i hi, if_neg (by omega)]
    refine rq_v22 hi hp rfl rfl p0 (h7 p hp).1 (h7 p hp).2 p30 pe (fun g x hx => ?_) (fun g => ?_) _ rfl
    · rw [ei] at g
      refine hk (y1 ||| ((1 : Int32) <<< (nI i &&& 31)), upd y2 i x) ⟨fun s hs => ?_, fun t ht => ?_⟩
      · dsimp only
        by_cases e : s = i
        · rw [e, pk_us, hx, if_pos ⟨by omega, g⟩]
        · rw [pk_un e, hy1 s hs]
          by_cases e2 : s < i ∧ (a8 s).toInt < bs s
          · rw [if_pos e2, if_pos ⟨by omega, e2.2⟩]
          · rw [if_neg e2, if_neg (fun z => e2 ⟨by omega, z.2⟩)]
      · dsimp only
        rw [rb_put hi ht, hy2 t ht]
        by_cases e : t = i
        · subst e
          rw [decide_eq_true (show t < t + 1 by omega), decide_eq_true g]; simp
        · rw [decide_eq_false e, Bool.or_false]
          congr 1
          exact decide_eq_decide.mpr (by omega)
    · rw [ei] at g
      refine hk (y1, y2) ⟨fun s hs => ?_, fun t ht => ?_⟩
      · dsimp only
        rw [hy1 s hs]
        by_cases e2 : s < i ∧ (a8 s).toInt < bs s
        · rw [if_pos e2, if_pos ⟨by omega, e2.2⟩]
        · rw [if_neg e2, if_neg (fun z => e2 ⟨by
            have : s ≠ i := fun e => g (e ▸ z.2)
            omega, z.2⟩)]
      · dsimp only
        rw [hy2 t ht]
        by_cases e : t = i
        · subst e
          rw [decide_eq_false g]; simp
        · congr 1
          exact decide_eq_decide.mpr (by omega)
theorem rq_pt_pt (s : Nat) : rq_pt (rq_pt s) = s := by
  unfold rq_pt
  by_cases h2 : s = 2
  · subst h2; rfl
  · by_cases h3 : s = 3
    · subst h3; rfl
    · rw [if_neg h2, if_neg h3, if_neg h2, if_neg h3]
theorem rq_walkBack {post : St2 → Prop} {st : Nat → Nat} {sv : Nat → Int} {m0 m1 f : Int} {li tr be : Int32} {a1 a2 a3 a4 a5 a6 a7 a8 a9 : Nat → Int32} {R C : Nat → Int}
    (hN : rq_net st sv m0 m1 f li tr a1 a2 a3 a4 a5 a6) (hR : rq_arr st a7 R) (hRi : rq_in R) (hC : rq_arr st a8 C) (hCi : rq_in C)
    (H : ∀ b c, rq_rel st b c (rq_bC f R C, rq_bM f R C) → post (li, tr, b, a1, a2, a3, a4, a5, a6, a7, c, a9)) :
    wpX_walkBack post (li, tr, be, a1, a2, a3, a4, a5, a6, a7, a8, a9) := by
  obtain ⟨hst, ⟨hsv, _, _, _, _, hf0, hf1⟩, _, _, _, _, _, hW⟩ := hN
  refine rq_walkBack0 (fun s => rq_bbest f R (st s)) (fun s hs => ?_) (fun s hs => ?_) (fun b c hc hb => H b c ⟨?_, ⟨fun j hj => ?_, fun i h8 hi => ?_⟩, rq_bC_in hRi hCi⟩)
  · have hs' := rq_lt8 hst hs
    have hp := rq_pt_lt hs'
    have w1 : (a6 (s * 8 + st (rq_pt (st s)))).toInt = rq_wk f (st s) (rq_pt (st s)) := by
      have t := hW (st s) (rq_pt (st s)) hs' hp
      rwa [rq_inv hst hs] at t
    refine ⟨st (rq_pt (st s)), rq_lt8 hst hp, fun u hu ne => ?_, ?_, ?_⟩
    · have t := hW (st s) (st u) hs' (rq_lt8 hst hu)
      rw [rq_inv hst hs, rq_inv hst hu, rq_wk0 (fun z => ne (by rw [z, rq_pt_pt, rq_inv hst hu]))] at t
      omega
    · rw [w1]; exact (rq_wkS hf0 hf1).2
    · rw [w1, hR _ hp, rq_arr_at hst hR hs]; rfl
  · rw [rq_arr_at hst hR hs]; exact hRi _ (rq_lt8 hst hs)
  · refine rq_arr_of hst (fun s hs => ?_)
    rw [hc s hs, rq_arr_at hst hC hs]; rfl
  · have hj' := rq_lt8 hst hj
    rw [hb (st j) (by omega), decide_eq_true hj', Bool.true_and, rq_inv hst hj, hC j hj]; rfl
  · rw [hb i hi, decide_eq_false (by omega), Bool.false_and]
/-! ===== meetTrip ===== -/
theorem rq_m7 {post : Int32 → Prop} {l i t : Nat} {x3 x4 : Int32} {li tr be : Int32} {a1 a2 a3 a4 a5 a6 a7 a8 a9 : Nat → Int32} {sv : Nat → Int} {off tm v : Int} {n : Nat}
    (hl : l < 2) (hi : i < 3) (ht : t < 3) (htr : tr = nI 3) (h4 : a4 t = nI (rq_lo t)) (h5 : (a5 t).toInt = sv t) (h3 : (a3 (l * 6 + i)).toInt = off) (hx3 : x3.toInt = tm) (hx4 : x4.toInt = v)
    (hsv : rq_sin sv) (o0 : 0 ≤ off) (o1 : off ≤ 60)
    (K : ∀ y : Int32, y.toInt = rq_bcs sv l off tm t v → wX_meetTrip_7 post (nI l) (nI i) x3 li tr be a1 a2 a3 a4 a5 a6 a7 a8 a9 n y (nI (t + 1))) :
    wX_meetTrip_7 post (nI l) (nI i) x3 li tr be a1 a2 a3 a4 a5 a6 a7 a8 a9 (n + 1) x4 (nI t) := by
  subst htr
  have hlo := rq_lo_lt t
  have hs := hsv t
  refine pk_le 3 t (fun z => absurd z (by omega)) (fun _ => ⟨pk_in t 12 (by omega), ?_⟩)
  rw [rq_6, nI_clamp (show t < 2 ^ 31 by omega), nI_clamp (show l * 6 + i < 2 ^ 31 by omega), h4]
  unfold rq_bcs rq_bstp at K
  refine pk_eq (rq_lo t) l (fun z => ⟨pk_in t 12 (by omega), pk_in (l * 6 + i) 30 (by omega), ?_⟩) (fun z => nm_r (nI_1 t) (K x4 (by rw [if_neg z]; exact hx4)))
  rw [if_pos z] at K
  refine rq_lt tm (sv t + off) hx3 (rq_add h5 h3 (by omega) (by omega)) (fun z1 => nm_r (nI_1 t) (K x4 (by rw [if_pos z1]; exact hx4))) (fun z1 => ⟨pk_in t 12 (by omega), ?_⟩)
  rw [if_neg (show ¬ tm < sv t + off by omega)] at K
  exact rq_le (sv t) v h5 hx4 (fun z2 => nm_r (nI_1 t) (K x4 (by rw [if_pos z2]; exact hx4))) (fun z2 => ⟨pk_in t 12 (by omega), nm_e (nm_r (nI_1 t) (K (a5 t) (by rw [if_neg (by omega)]; exact h5)))⟩)
theorem rq_meet {post : Int32 → Prop} {st : Nat → Nat} {sv : Nat → Int} {m0 m1 f : Int} {li tr be : Int32} {a1 a2 a3 a4 a5 a6 a7 a8 a9 : Nat → Int32} {l i : Nat} {x3 : Int32} {tm : Int}
    (hN : rq_net st sv m0 m1 f li tr a1 a2 a3 a4 a5 a6) (hl : l < 2) (hi : i < 3) (hx3 : x3.toInt = tm)
    (K : ∀ y : Int32, y.toInt = rq_mt sv l (rq_of m0 m1 l i) tm → post y) : wpX_meetTrip post (li, tr, be, a1, a2, a3, a4, a5, a6, a7, a8, a9) (nI l) (nI i) x3 := by
  obtain ⟨hst, ⟨hsv, g1, g2, g3, g4, hf0, hf1⟩, _, htr, _, hA, hT, _⟩ := hN
  have ho := rq_of_in g1 g2 g3 g4 l i
  have h3 := (hA l i hl hi).2
  refine ⟨4, ?_⟩
  refine rq_m7 (t := 0) hl hi (by omega) htr (hT 0 (by omega)).1 (hT 0 (by omega)).2 h3 hx3 rq_nfar hsv ho.1 ho.2 (fun y1 e1 => ?_)
  refine rq_m7 (t := 1) hl hi (by omega) htr (hT 1 (by omega)).1 (hT 1 (by omega)).2 h3 hx3 e1 hsv ho.1 ho.2 (fun y2 e2 => ?_)
  refine rq_m7 (t := 2) hl hi (by omega) htr (hT 2 (by omega)).1 (hT 2 (by omega)).2 h3 hx3 e2 hsv ho.1 ho.2 (fun y3 e3 => ?_)
  subst htr
  exact pk_le 3 3 (fun _ => K y3 e3) (fun z => absurd z (by omega))
/-! ===== rideLineBack: the counter is i; the step leaves xi with xi.toInt = i - 1 ===== -/
theorem rq_dn {i : Nat} (hi : i < 3) : (nI i + (-1)).toInt = (i : Int) - 1 := by
  have e : (nI i).toInt = (i : Int) := rq_nI (by omega)
  rw [rq_add e (show (-1 : Int32).toInt = -1 by decide) (by omega) (by omega)]
  omega
theorem rq_r114 {post : St2 → Prop} {J : Int32 → Int32 → (Nat → Int32) → (Nat → Int32) → (Nat → Int32) → (Nat → Int32) → (Nat → Int32) → (Nat → Int32) → (Nat → Int32) → (Nat → Int32) → (Nat → Int32) → Prop}
    {st : Nat → Nat} {sv : Nat → Int} {m0 m1 f : Int} {li tr be : Int32} {a1 a2 a3 a4 a5 a6 a7 a8 a9 : Nat → Int32} {l i j : Nat} {x2 : Int32} {start : Int} {B : Nat → Int}
    (hN : rq_net st sv m0 m1 f li tr a1 a2 a3 a4 a5 a6) (hl : l < 2) (hi : i < 3) (hj : j < 8) (hx2 : x2.toInt = start) (hB : rq_arr st a9 B)
    (K : ∀ y : Int32, y.toInt = (if start < rq_mt sv l (rq_of m0 m1 l i) (B j) then rq_mt sv l (rq_of m0 m1 l i) (B j) else start) → J y (nI i + (-1)) a1 a2 a3 a4 a5 a6 a7 a8 a9) :
    wX_rideLineBack_114 post J (nI l) x2 (nI i) (nI (st j)) li tr be a1 a2 a3 a4 a5 a6 a7 a8 a9 := by
  have hst := hN.1
  have hj' := rq_lt8 hst hj
  unfold wX_rideLineBack_114
  rw [nI_clamp (show st j < 2 ^ 31 by omega)]
  refine ⟨pk_in (st j) 8 hj', rq_meet hN hl hi (hB j hj) (fun y hy => ?_)⟩
  exact rq_le _ start hy hx2 (fun z => nm_e (K x2 (by rw [if_neg (by omega)]; exact hx2))) (fun z => nm_e (K y (by rw [if_pos z]; exact hy)))
theorem rq_r71 {post : St2 → Prop} {J : Int32 → Int32 → (Nat → Int32) → (Nat → Int32) → (Nat → Int32) → (Nat → Int32) → (Nat → Int32) → (Nat → Int32) → (Nat → Int32) → (Nat → Int32) → (Nat → Int32) → Prop}
    {st : Nat → Nat} {sv : Nat → Int} {m0 m1 f : Int} {li tr be : Int32} {a1 a2 a3 a4 a5 a6 a7 a8 a9 : Nat → Int32} {l i j : Nat} {x2 x5 : Int32} {start : Int} {B : Nat → Int} {M : Nat → Bool}
    (hN : rq_net st sv m0 m1 f li tr a1 a2 a3 a4 a5 a6) (hl : l < 2) (hi : i < 3) (hj : j < 8) (hx2 : x2.toInt = start) (hx5 : x5.toInt = start + rq_of m0 m1 l i) (hB : rq_arr st a9 B) (hM : rq_msk st be M)
    (K : ∀ y : Int32, y.toInt = rq_brt sv l (rq_of m0 m1 l i) start (M j) (B j) → J y (nI i + (-1)) a1 a2 a3 a4 a5 a6 a7 a8 a9) :
    wX_rideLineBack_71 post J (nI l) x2 (nI i) (nI (st j)) x5 li tr be a1 a2 a3 a4 a5 a6 a7 a8 a9 := by
  have hst := hN.1
  have hj' := rq_lt8 hst hj
  unfold rq_brt at K
  refine ek_if (rq_msk_test hst hM hj) (fun hm => ?_) (fun hm => ?_)
  · refine br_f (by decide) ?_
    refine rq_eq start (-1000000) hx2 rq_nfar (fun z => ?_) (fun z => ?_)
    · rw [if_pos ⟨hm, Or.inl z⟩] at K
      exact rq_r114 hN hl hi hj hx2 hB K
    · rw [nI_clamp (show st j < 2 ^ 31 by omega)]
      refine ⟨pk_in (st j) 8 hj', rq_le (B j) (start + rq_of m0 m1 l i) (hB j hj) hx5 (fun z2 => ?_) (fun z2 => ?_)⟩
      · rw [if_neg (fun t => t.2.elim z (fun t2 => by omega))] at K
        exact nm_e (K x2 hx2)
      · rw [if_pos ⟨hm, Or.inr z2⟩] at K
        exact rq_r114 hN hl hi hj hx2 hB K
  · rw [if_neg (fun t => hm t.1)] at K
    exact br_t rfl (nm_e (K x2 hx2))
theorem rq_r12 {post : St2 → Prop} {st : Nat → Nat} {sv : Nat → Int} {m0 m1 f : Int} {li tr be : Int32} {a1 a2 a3 a4 a5 a6 a7 a8 a9 : Nat → Int32} {l i n : Nat} {x2 xi : Int32} {start : Int} {R B : Nat → Int} {M : Nat → Bool}
    (hN : rq_net st sv m0 m1 f li tr a1 a2 a3 a4 a5 a6) (hl : l < 2) (hi : i < 3) (hxi : xi.toInt = (i : Int)) (hx2 : x2.toInt = start) (s0 : -1000000 ≤ start) (s1 : start ≤ 1000) (hR : rq_arr st a7 R) (hB : rq_arr st a9 B) (hM : rq_msk st be M)
    (K : ∀ (y yi : Int32) (c7 : Nat → Int32), yi.toInt = (i : Int) - 1 → y.toInt = rq_brt sv l (rq_of m0 m1 l i) start (M (rq_js l i)) (B (rq_js l i)) → rq_arr st c7 (rq_brs (rq_of m0 m1 l i) start (rq_js l i) R) → wX_rideLineBack_12 post (nI l) li tr be n y yi a1 a2 a3 a4 a5 a6 c7 a8 a9) :
    wX_rideLineBack_12 post (nI l) li tr be (n + 1) x2 xi a1 a2 a3 a4 a5 a6 a7 a8 a9 := by
  have hN' := hN
  obtain ⟨hst, ⟨hsv, g1, g2, g3, g4, hf0, hf1⟩, _, htr, hS, hA, hT, _⟩ := hN'
  have ho := rq_of_in g1 g2 g3 g4 l i
  have hj : rq_js l i < 8 := rq_js_lt hi
  have hj' := rq_lt8 hst hj
  obtain ⟨h2, h3⟩ := hA l i hl hi
  have exi : xi = nI i := rq_inj32 hxi (rq_nI (by omega))
  subst exi
  refine pk_lt i 0 (fun z => absurd z (by omega)) (fun _ => ?_)
  rw [rq_6, nI_clamp (show l * 6 + i < 2 ^ 31 by omega)]
  refine ⟨pk_in (l * 6 + i) 30 (by omega), nm_r h2 ⟨pk_in (l * 6 + i) 30 (by omega), fun x5 e5 => ?_⟩⟩
  have hx5 : x5.toInt = start + rq_of m0 m1 l i := by rw [e5]; exact rq_add hx2 h3 (by omega) (by omega)
  have hd := rq_dn hi
  unfold rq_brs at K
  refine rq_le start (-1000000) hx2 rq_nfar (fun z => ?_) (fun z => ?_)
  · rw [if_neg (fun t => by omega)] at K
    exact rq_r71 hN hl hi hj hx2 hx5 hB hM (fun y hy => K y _ a7 hd hy hR)
  · rw [nI_clamp (show st (rq_js l i) < 2 ^ 31 by omega)]
    refine ⟨pk_in _ 8 hj', rq_le _ _ hx5 (hR _ hj) (fun z2 => ?_) (fun z2 => ⟨pk_in _ 8 hj', nm_e ?_⟩)⟩
    · rw [if_neg (fun t => by omega)] at K
      exact rq_r71 hN hl hi hj hx2 hx5 hB hM (fun y hy => K y _ a7 hd hy hR)
    · rw [if_pos ⟨z, z2⟩] at K
      exact rq_r71 hN hl hi hj hx2 hx5 hB hM (fun y hy => K y _ _ hd hy (rq_arr_set hst hR hj hx5))
theorem rq_rideB {post : St2 → Prop} {st : Nat → Nat} {sv : Nat → Int} {m0 m1 f : Int} {li tr be : Int32} {a1 a2 a3 a4 a5 a6 a7 a8 a9 : Nat → Int32} {l : Nat} {R B : Nat → Int} {M : Nat → Bool}
    (hN : rq_net st sv m0 m1 f li tr a1 a2 a3 a4 a5 a6) (hl : l < 2) (hR : rq_arr st a7 R) (hRi : rq_in R) (hB : rq_arr st a9 B) (hM : rq_msk st be M)
    (K : ∀ c7, rq_arr st c7 (rq_bln sv m0 m1 l B M R) → rq_in (rq_bln sv m0 m1 l B M R) → post (li, tr, be, a1, a2, a3, a4, a5, a6, c7, a8, a9)) :
    wpX_rideLineBack post (li, tr, be, a1, a2, a3, a4, a5, a6, a7, a8, a9) (nI l) := by
  have hsv := hN.2.1.1
  have hp := hN.2.1
  have i2 : -1000000 ≤ rq_b2 sv m0 m1 l B M ∧ rq_b2 sv m0 m1 l B M ≤ 1000 := rq_brt_in hsv (by decide) (by decide)
  have i1 : -1000000 ≤ rq_b1 sv m0 m1 l B M ∧ rq_b1 sv m0 m1 l B M ≤ 1000 := rq_brt_in hsv i2.1 i2.2
  have ho : ∀ i, rq_of m0 m1 l i ≤ 60 := fun i => (rq_of_in hp.2.1 hp.2.2.1 hp.2.2.2.1 hp.2.2.2.2.1 l i).2
  have hin : rq_in (rq_bln sv m0 m1 l B M R) := rq_brs_in (rq_brs_in (rq_brs_in hRi (by decide) (ho 2) (rq_js_lt (by omega))) i2.2 (ho 1) (rq_js_lt (by omega))) i1.2 (ho 0) (rq_js_lt (by omega))
  refine ⟨pk_in l 5 (by omega), ?_⟩
  rw [nI_clamp (show l < 2 ^ 31 by omega), hN.2.2.2.2.1 l hl]
  refine nm_r (e' := nI 2) (by decide) ⟨4, ?_⟩
  refine rq_r12 (i := 2) hN hl (by omega) (rq_nI (by omega)) rq_nfar (by decide) (by decide) hR hB hM (fun y2 z2 c2 d2 e2 r2 => ?_)
  refine rq_r12 (i := 1) hN hl (by omega) d2 e2 i2.1 i2.2 r2 hB hM (fun y1 z1 c1 d1 e1 r1 => ?_)
  refine rq_r12 (i := 0) hN hl (by omega) d1 e1 i1.1 i1.2 r1 hB hM (fun y0 z0 c0 d0 e0 r0 => ?_)
  exact rq_lt _ 0 d0 rfl (fun _ => K c0 r0 hin) (fun z => absurd z (by decide))
/-! ===== planBack ===== -/
theorem rq_b43 {post : St2 → Prop} {st : Nat → Nat} {sv : Nat → Int} {m0 m1 f : Int} {li tr : Int32} {a1 a2 a3 a4 a5 a6 : Nat → Int32}
    (hN : rq_net st sv m0 m1 f li tr a1 a2 a3 a4 a5 a6) : ∀ (d i : Nat) (be : Int32) (a7 a8 a9 : Nat → Int32) (s : (Nat → Int) × (Nat → Bool)), i + d = 12 → rq_rel st be a8 s →
    (∀ b c7 c8 c9, rq_rel st b c8 (rq_biter sv m0 m1 f d s) → post (li, tr, b, a1, a2, a3, a4, a5, a6, c7, c8, c9)) →
    wX_planBack_43 post (d + 1) (nI i) li tr be a1 a2 a3 a4 a5 a6 a7 a8 a9 := by
  intro d
  induction d with
  | zero =>
    intro i be a7 a8 a9 s hd hs K
    exact pk_le 12 i (fun _ => K be a7 a8 a9 hs) (fun z => absurd z (by omega))
  | succ d ih =>
    intro i be a7 a8 a9 s hd hs K
    refine pk_le 12 i (fun z => absurd z (by omega)) (fun _ => ?_)
    unfold rq_biter at K
    refine ek_if (rq_msk_zero hN.1 hs.2.1) (fun z => ?_) (fun z => ?_)
    · rw [if_neg (by rw [z]; exact Bool.false_ne_true)] at K
      exact K be a7 a8 a9 hs
    · rw [if_pos (by simpa using z)] at K
      have hst := hN.1
      obtain ⟨hC, hM, hCi⟩ := hs
      refine pk_loop (σ := (Nat → Int32) × (Nat → Int32)) (fun n t y => wX_planBack_59 post (wX_planBack_43 post (d + 1)) (nI i) li tr be n (nI t) a1 a2 a3 a4 a5 a6 y.1 a8 y.2)
        (fun i y => ∀ s, s < i → y.1 s = -1000000 ∧ y.2 s = a8 s) 8 0 (a7, a9) (by omega) (fun s hs => absurd hs (by omega)) ?_ ?_
      · intro n y hy
        obtain ⟨y1, y2⟩ := y
        dsimp only at hy ⊢
        refine pk_le 8 8 (fun _ => ⟨3, ?_⟩) (fun z => absurd z (by omega))
        have r0 : rq_arr st y1 (fun _ => -1000000) := fun j hj => by rw [(hy _ (rq_lt8 hst hj)).1]; exact rq_nfar
        have rB : rq_arr st y2 s.1 := fun j hj => by rw [(hy _ (rq_lt8 hst hj)).2]; exact hC j hj
        have i0 : rq_in (fun _ => -1000000) := fun j hj => by dsimp only; omega
        have hli := hN.2.2.1
        refine pk_le 2 0 (fun z => absurd z (by omega)) (fun _ => ?_) hli
        refine rq_rideB (l := 0) hN (by omega) r0 i0 rB hM (fun c1 r1 i1 => nm_r (nI_1 0) ?_)
        refine pk_le 2 1 (fun z => absurd z (by omega)) (fun _ => ?_) hli
        refine rq_rideB (l := 1) hN (by omega) r1 i1 rB hM (fun c2 r2 i2 => nm_r (nI_1 1) ?_)
        refine pk_le 2 2 (fun _ => ?_) (fun z => absurd z (by omega)) hli
        exact rq_walkBack hN r2 i2 hC hCi (fun b c hr => nm_r (nI_1 i) (ih (i + 1) b _ c _ _ (by omega) hr K))
      · intro n t y ht hy hk
        obtain ⟨y1, y2⟩ := y
        dsimp only at hy ⊢
        refine pk_le 8 t (fun z => absurd z (by omega)) (fun _ => ?_)
        rw [nI_clamp (show t < 2 ^ 31 by omega)]
        refine ⟨pk_in t 8 ht, pk_in t 8 ht, nm_e ⟨pk_in t 8 ht, nm_e (nm_r (nI_1 t) (hk (upd y1 t (-1000000), upd y2 t (a8 t)) (fun s hs => ?_)))⟩⟩
        dsimp only
        by_cases e : s = t
        · rw [e, pk_us, pk_us]; exact ⟨rfl, rfl⟩
        · rw [pk_un e, pk_un e]; exact hy s (by omega)
theorem rq_planBack {post : St2 → Prop} {st : Nat → Nat} {sv : Nat → Int} {m0 m1 f : Int} {li tr be : Int32} {a1 a2 a3 a4 a5 a6 a7 a8 a9 : Nat → Int32} {a : Nat} {xq : Int32} {q : Int}
    (hN : rq_net st sv m0 m1 f li tr a1 a2 a3 a4 a5 a6) (ha : a < 8) (hq : xq.toInt = q) (hq0 : 0 ≤ q) (hq1 : q ≤ 1000)
    (K : ∀ b c7 c8 c9, rq_rel st b c8 (rq_biter sv m0 m1 f 12 (rq_bbeg f a q)) → post (li, tr, b, a1, a2, a3, a4, a5, a6, c7, c8, c9)) :
    wpX_planBack post (li, tr, be, a1, a2, a3, a4, a5, a6, a7, a8, a9) (nI (st a)) xq := by
  have hst := hN.1
  have ha' := rq_lt8 hst ha
  show ∃ fu2 : Nat, wX_planBack_2 post (nI (st a)) xq li tr be fu2 0 a1 a2 a3 a4 a5 a6 a7 a8 a9
  refine pk_loop (σ := (Nat → Int32) × (Nat → Int32)) (fun n i y => wX_planBack_2 post (nI (st a)) xq li tr be n (nI i) a1 a2 a3 a4 a5 a6 y.1 y.2 a9)
    (fun i y => ∀ s, s < i → y.1 s = -1000000 ∧ y.2 s = -1000000) 8 0 (a7, a8) (by omega) (fun s hs => absurd hs (by omega)) ?_ ?_
  · intro n y hy
    obtain ⟨y1, y2⟩ := y
    dsimp only at hy ⊢
    refine pk_le 8 8 (fun _ => ⟨pk_in (st a) 8 ha', ?_⟩) (fun z => absurd z (by omega))
    rw [nI_clamp (show st a < 2 ^ 31 by omega)]
    refine nm_e ?_
    refine rq_walkBack (R := rq_set (fun _ => -1000000) a q) (C := fun _ => -1000000) hN ?_ ?_ ?_ ?_ (fun b c hr => ⟨13, rq_b43 hN 12 0 b _ c a9 _ (by omega) hr K⟩)
    · refine rq_arr_set hst (fun j hj => ?_) ha hq
      rw [(hy _ (rq_lt8 hst hj)).1]; exact rq_nfar
    · intro j hj
      show -1000000 ≤ (if j = a then q else -1000000) ∧ (if j = a then q else -1000000) ≤ 1000000
      split <;> omega
    · intro j hj
      rw [(hy _ (rq_lt8 hst hj)).2]; exact rq_nfar
    · intro j hj
      dsimp only
      omega
  · intro n i y hi hy hk
    obtain ⟨y1, y2⟩ := y
    dsimp only at hy ⊢
    refine pk_le 8 i (fun z => absurd z (by omega)) (fun _ => ?_)
    rw [nI_clamp (show i < 2 ^ 31 by omega)]
    refine ⟨pk_in i 8 hi, nm_e ⟨pk_in i 8 hi, nm_e (nm_r (nI_1 i) (hk (upd y1 i (-1000000), upd y2 i (-1000000)) (fun s hs => ?_)))⟩⟩
    dsimp only
    by_cases e : s = i
    · rw [e, pk_us, pk_us]; exact ⟨rfl, rfl⟩
    · rw [pk_un e, pk_un e]; exact hy s (by omega)
theorem rq_latest {post : Int32 → St2 → Prop} {st : Nat → Nat} {sv : Nat → Int} {m0 m1 f : Int} {li tr be : Int32} {a1 a2 a3 a4 a5 a6 a7 a8 a9 : Nat → Int32} {a b : Nat} {xq : Int32} {q : Int}
    (hN : rq_net st sv m0 m1 f li tr a1 a2 a3 a4 a5 a6) (ha : a < 8) (hb : b < 8) (hq : xq.toInt = q) (hq0 : 0 ≤ q) (hq1 : q ≤ 1000)
    (K : ∀ (y b' : Int32) (c7 c8 c9 : Nat → Int32), y.toInt = rq_bval ((rq_biter sv m0 m1 f 12 (rq_bbeg f b q)).1 a) → post y (li, tr, b', a1, a2, a3, a4, a5, a6, c7, c8, c9)) :
    wpX_latest post (li, tr, be, a1, a2, a3, a4, a5, a6, a7, a8, a9) (nI (st a)) (nI (st b)) xq := by
  have ha' := rq_lt8 hN.1 ha
  unfold wpX_latest
  dsimp only
  refine rq_refusal ha' (rq_lt8 hN.1 hb) hq hq0 hq1 ?_
  refine br_t rfl ?_
  refine rq_planBack hN hb hq hq0 hq1 (fun b' c7 c8 c9 hr => ?_)
  refine ⟨pk_in _ 8 ha', ?_⟩
  rw [nI_clamp (show st a < 2 ^ 31 by omega)]
  have e := hr.1 a ha
  unfold rq_bval at K
  refine rq_le 0 _ rfl e (fun z => ⟨pk_in _ 8 ha', ?_⟩) (fun z => K _ b' c7 c8 c9 ?_)
  · rw [if_pos z] at K
    refine rq_le _ 1000 e rfl (fun z2 => ⟨pk_in _ 8 ha', K _ b' c7 c8 c9 ?_⟩) (fun z2 => K _ b' c7 c8 c9 ?_)
    · rw [if_pos z2]; exact e
    · rw [if_neg (by omega)]; rfl
  · rw [if_neg (by omega)]; rfl
end
section
/-! ===== the plain law, forward ===== -/
def rq_v (d c0 c1 c2 c3 c4 : Int) : Nat → Int
  | 0 => c0
  | 1 => c1
  | 2 => c2
  | 3 => c3
  | 4 => c4
  | _ + 5 => d
def rq_b (b0 b1 b2 b3 b4 : Bool) : Nat → Bool
  | 0 => b0
  | 1 => b1
  | 2 => b2
  | 3 => b3
  | 4 => b4
  | _ + 5 => false
theorem rq_vb_eq {d c0 c1 c2 c3 c4 e0 e1 e2 e3 e4 : Int} {b0 b1 b2 b3 b4 f0 f1 f2 f3 f4 : Bool} (h0 : c0 = e0) (h1 : c1 = e1) (h2 : c2 = e2) (h3 : c3 = e3) (h4 : c4 = e4) (g0 : b0 = f0) (g1 : b1 = f1) (g2 : b2 = f2) (g3 : b3 = f3) (g4 : b4 = f4) :
    (rq_v d c0 c1 c2 c3 c4, rq_b b0 b1 b2 b3 b4) = (rq_v d e0 e1 e2 e3 e4, rq_b f0 f1 f2 f3 f4) := by
  subst h0 h1 h2 h3 h4 g0 g1 g2 g3 g4; rfl
theorem rq_rs_s {off start : Int} {j : Nat} {R : Nat → Int} : rq_rs off start j R j = if start < 1000000 ∧ start + off < R j then start + off else R j := by
  unfold rq_rs
  split
  · exact rq_set_s R j _
  · rfl
theorem rq_rs_n {off start : Int} {i j : Nat} {R : Nat → Int} (h : i ≠ j) : rq_rs off start j R i = R i := by
  unfold rq_rs
  split
  · exact rq_set_n h
  · rfl
theorem rq_rs_far {off : Int} {j : Nat} {R : Nat → Int} : rq_rs off 1000000 j R = R := by
  unfold rq_rs
  rw [if_neg (fun h => absurd h.1 (by decide))]
theorem rq_ct0 {sv : Nat → Int} {off tm : Int} (h : rq_sin sv) : rq_ct sv 0 off tm = if sv 0 + off < tm then 1000000 else sv 0 := by
  have h0 := h 0
  show rq_stp tm off 1000000 (sv 0) = _
  unfold rq_stp
  split
  · rfl
  · rw [if_neg (by omega)]
theorem rq_ct1 {sv : Nat → Int} {off tm : Int} (h : rq_sin sv) : rq_ct sv 1 off tm = if sv 1 + off < tm then (if sv 2 + off < tm then 1000000 else sv 2) else (if sv 2 + off < tm then sv 1 else if sv 1 ≤ sv 2 then sv 1 else sv 2) := by
  have h1 := h 1
  have h2 := h 2
  show rq_stp tm off (rq_stp tm off 1000000 (sv 1)) (sv 2) = _
  unfold rq_stp
  omega
/-! the values ridden to in a round, by the four starts -/
def rq_r1 (m0 m1 t1 u2 : Int) : Int := if u2 < 1000000 ∧ u2 + (m1 + 5) < (if t1 < 1000000 ∧ t1 + m0 < 1000000 then t1 + m0 else 1000000) then u2 + (m1 + 5) else (if t1 < 1000000 ∧ t1 + m0 < 1000000 then t1 + m0 else 1000000)
def rq_r2 (m0 m1 t2 : Int) : Int := if t2 < 1000000 ∧ t2 + (m0 + m1) < 1000000 then t2 + (m0 + m1) else 1000000
def rq_r3 (f r2 : Int) : Int := if 0 < f ∧ r2 + f < 1000000 then r2 + f else 1000000
def rq_r4 (m1 u1 : Int) : Int := if u1 < 1000000 ∧ u1 + m1 < 1000000 then u1 + m1 else 1000000
theorem rq_R2_v {sv : Nat → Int} {m0 m1 c0 c1 c2 c3 c4 : Int} {b0 b1 b2 b3 b4 : Bool} :
    rq_R2 sv m0 m1 (rq_v 1000000 c0 c1 c2 c3 c4, rq_b b0 b1 b2 b3 b4) = rq_v 1000000 1000000 (rq_r1 m0 m1 (rq_rt sv 0 0 1000000 b0 c0) (rq_rt sv 1 m1 (rq_rt sv 1 0 1000000 b3 c3) b4 c4)) (rq_r2 m0 m1 (rq_rt sv 0 m0 (rq_rt sv 0 0 1000000 b0 c0) b1 c1)) 1000000 (rq_r4 m1 (rq_rt sv 1 0 1000000 b3 c3)) := by
  have e : rq_R2 sv m0 m1 (rq_v 1000000 c0 c1 c2 c3 c4, rq_b b0 b1 b2 b3 b4) =
      rq_rs (m1 + 5) (rq_rt sv 1 m1 (rq_rt sv 1 0 1000000 b3 c3) b4 c4) 1 (rq_rs m1 (rq_rt sv 1 0 1000000 b3 c3) 4 (rq_rs 0 1000000 3
      (rq_rs (m0 + m1) (rq_rt sv 0 m0 (rq_rt sv 0 0 1000000 b0 c0) b1 c1) 2 (rq_rs m0 (rq_rt sv 0 0 1000000 b0 c0) 1 (rq_rs 0 1000000 0 (fun _ => 1000000)))))) := rfl
  rw [e, rq_rs_far, rq_rs_far]
  funext j
  match j with
  | 0 => rw [rq_rs_n (by decide), rq_rs_n (by decide), rq_rs_n (by decide), rq_rs_n (by decide)]; rfl
  | 1 => rw [rq_rs_s, rq_rs_n (by decide), rq_rs_n (by decide), rq_rs_s]; rfl
  | 2 => rw [rq_rs_n (by decide), rq_rs_n (by decide), rq_rs_s, rq_rs_n (by decide)]; rfl
  | 3 => rw [rq_rs_n (by decide), rq_rs_n (by decide), rq_rs_n (by decide), rq_rs_n (by decide)]; rfl
  | 4 => rw [rq_rs_n (by decide), rq_rs_s, rq_rs_n (by decide), rq_rs_n (by decide)]; rfl
  | i + 5 => rw [rq_rs_n (by omega), rq_rs_n (by omega), rq_rs_n (by omega), rq_rs_n (by omega)]; rfl
theorem rq_best_o {f : Int} {R : Nat → Int} {s : Nat} (h2 : s ≠ 2) (h3 : s ≠ 3) : rq_best f R s = R s := by
  have e : rq_wk f (rq_pt s) s = 0 := by
    unfold rq_wk
    exact if_neg (fun z => z.elim (fun t => h3 t.2) (fun t => h2 t.2))
  unfold rq_best
  rw [e]
  exact if_neg (fun z => absurd z.1 (by decide))
theorem rq_best_2 {f : Int} {R : Nat → Int} : rq_best f R 2 = if 0 < f ∧ R 3 + f < R 2 then R 3 + f else R 2 := rfl
theorem rq_best_3 {f : Int} {R : Nat → Int} : rq_best f R 3 = if 0 < f ∧ R 2 + f < R 3 then R 2 + f else R 3 := rfl
def rq_mn (r c : Int) : Int := if r < c then r else c
/-- walkOn over five values -/
theorem rq_CM_v {f c0 c1 c2 c3 c4 r0 r1 r2 r3 r4 p2 p3 : Int} (h2 : (if 0 < f ∧ r3 + f < r2 then r3 + f else r2) = p2) (h3 : (if 0 < f ∧ r2 + f < r3 then r2 + f else r3) = p3) :
    (rq_C f (rq_v 1000000 r0 r1 r2 r3 r4) (rq_v 1000000 c0 c1 c2 c3 c4), rq_M f (rq_v 1000000 r0 r1 r2 r3 r4) (rq_v 1000000 c0 c1 c2 c3 c4)) =
    (rq_v 1000000 (rq_mn r0 c0) (rq_mn r1 c1) (rq_mn p2 c2) (rq_mn p3 c3) (rq_mn r4 c4), rq_b (decide (r0 < c0)) (decide (r1 < c1)) (decide (p2 < c2)) (decide (p3 < c3)) (decide (r4 < c4))) := by
  have g0 : rq_best f (rq_v 1000000 r0 r1 r2 r3 r4) 0 = r0 := rq_best_o (by decide) (by decide)
  have g1 : rq_best f (rq_v 1000000 r0 r1 r2 r3 r4) 1 = r1 := rq_best_o (by decide) (by decide)
  have g2 : rq_best f (rq_v 1000000 r0 r1 r2 r3 r4) 2 = p2 := by rw [rq_best_2, ← h2]; rfl
  have g3 : rq_best f (rq_v 1000000 r0 r1 r2 r3 r4) 3 = p3 := by rw [rq_best_3, ← h3]; rfl
  have g4 : rq_best f (rq_v 1000000 r0 r1 r2 r3 r4) 4 = r4 := rq_best_o (by decide) (by decide)
  have g5 : ∀ i, rq_best f (rq_v 1000000 r0 r1 r2 r3 r4) (i + 5) = 1000000 := fun i => rq_best_o (by omega) (by omega)
  refine Prod.ext (funext (fun j => ?_)) (funext (fun j => ?_))
  · match j with
    | 0 => show (if rq_best f _ 0 < c0 then rq_best f _ 0 else c0) = _; rw [g0]; rfl
    | 1 => show (if rq_best f _ 1 < c1 then rq_best f _ 1 else c1) = _; rw [g1]; rfl
    | 2 => show (if rq_best f _ 2 < c2 then rq_best f _ 2 else c2) = _; rw [g2]; rfl
    | 3 => show (if rq_best f _ 3 < c3 then rq_best f _ 3 else c3) = _; rw [g3]; rfl
    | 4 => show (if rq_best f _ 4 < c4 then rq_best f _ 4 else c4) = _; rw [g4]; rfl
    | i + 5 => show rq_C f (rq_v 1000000 r0 r1 r2 r3 r4) (rq_v 1000000 c0 c1 c2 c3 c4) (i + 5) = _; unfold rq_C; rw [g5]; rfl
  · match j with
    | 0 => show decide (rq_best f _ 0 < c0) = _; rw [g0]; rfl
    | 1 => show decide (rq_best f _ 1 < c1) = _; rw [g1]; rfl
    | 2 => show decide (rq_best f _ 2 < c2) = _; rw [g2]; rfl
    | 3 => show decide (rq_best f _ 3 < c3) = _; rw [g3]; rfl
    | 4 => show decide (rq_best f _ 4 < c4) = _; rw [g4]; rfl
    | i + 5 => show rq_M f (rq_v 1000000 r0 r1 r2 r3 r4) (rq_v 1000000 c0 c1 c2 c3 c4) (i + 5) = _; unfold rq_M; rw [g5]; rfl
theorem rq_rnd_v {sv : Nat → Int} {m0 m1 f c0 c1 c2 c3 c4 : Int} {b0 b1 b2 b3 b4 : Bool} {t1 t2 u1 u2 r1 r2 r3 r4 : Int} {c1' c2' c3' c4' : Int} {b1' b2' b3' b4' : Bool} (hf : 0 ≤ f) (hc0 : c0 ≤ 1000000)
    (ht1 : rq_rt sv 0 0 1000000 b0 c0 = t1) (ht2 : rq_rt sv 0 m0 t1 b1 c1 = t2) (hu1 : rq_rt sv 1 0 1000000 b3 c3 = u1) (hu2 : rq_rt sv 1 m1 u1 b4 c4 = u2)
    (hr1 : rq_r1 m0 m1 t1 u2 = r1) (hr2 : rq_r2 m0 m1 t2 = r2) (hr3 : rq_r3 f r2 = r3) (hr4 : rq_r4 m1 u1 = r4)
    (e1 : rq_mn r1 c1 = c1') (e2 : rq_mn r2 c2 = c2') (e3 : rq_mn r3 c3 = c3') (e4 : rq_mn r4 c4 = c4')
    (g1 : decide (r1 < c1) = b1') (g2 : decide (r2 < c2) = b2') (g3 : decide (r3 < c3) = b3') (g4 : decide (r4 < c4) = b4') :
    rq_rnd sv m0 m1 f (rq_v 1000000 c0 c1 c2 c3 c4, rq_b b0 b1 b2 b3 b4) = (rq_v 1000000 c0 c1' c2' c3' c4', rq_b false b1' b2' b3' b4') := by
  have e : rq_rnd sv m0 m1 f (rq_v 1000000 c0 c1 c2 c3 c4, rq_b b0 b1 b2 b3 b4) = (rq_C f (rq_R2 sv m0 m1 (rq_v 1000000 c0 c1 c2 c3 c4, rq_b b0 b1 b2 b3 b4)) (rq_v 1000000 c0 c1 c2 c3 c4), rq_M f (rq_R2 sv m0 m1 (rq_v 1000000 c0 c1 c2 c3 c4, rq_b b0 b1 b2 b3 b4)) (rq_v 1000000 c0 c1 c2 c3 c4)) := rfl
  have h2 : r2 ≤ 1000000 := by rw [← hr2]; unfold rq_r2; omega
  rw [e, rq_R2_v, ht1, hu1, ht2, hu2, hr1, hr2, hr4]
  rw [rq_CM_v (p2 := r2) (p3 := r3) (if_neg (by omega)) hr3]
  exact rq_vb_eq (by unfold rq_mn; omega) e1 e2 e3 e4 (decide_eq_false (by omega)) g1 g2 g3 g4
theorem rq_rt_f {sv : Nat → Int} {l : Nat} {off start b : Int} : rq_rt sv l off start false b = start := if_neg (fun h => absurd h.1 Bool.false_ne_true)
theorem rq_rt_t {sv : Nat → Int} {l : Nat} {off b c : Int} (hc : c ≤ 1000000) (h : rq_ct sv l off b = c) : rq_rt sv l off 1000000 true b = c := by
  unfold rq_rt
  rw [if_pos ⟨rfl, Or.inl rfl⟩, h]
  omega
/-! the scenarios -/
theorem rq_beg_0 {f q : Int} (hf : 0 ≤ f) (hq : q < 1000000) : rq_beg f 0 q = (rq_v 1000000 q 1000000 1000000 1000000 1000000, rq_b true false false false false) := by
  have e : rq_set (fun _ => 1000000) 0 q = rq_v 1000000 q 1000000 1000000 1000000 1000000 := by
    funext j
    match j with
    | 0 => rfl
    | 1 => rfl
    | 2 => rfl
    | 3 => rfl
    | 4 => rfl
    | i + 5 => exact rq_set_n (by omega)
  have e2 : (fun _ => 1000000 : Nat → Int) = rq_v 1000000 1000000 1000000 1000000 1000000 1000000 := by
    funext j
    match j with
    | 0 => rfl
    | 1 => rfl
    | 2 => rfl
    | 3 => rfl
    | 4 => rfl
    | i + 5 => rfl
  unfold rq_beg
  rw [e, e2, rq_CM_v (p2 := 1000000) (p3 := 1000000) (if_neg (by omega)) (if_neg (by omega))]
  exact rq_vb_eq (if_pos hq) rfl rfl rfl rfl (decide_eq_true hq) rfl rfl rfl rfl
theorem rq_beg_2 {f q : Int} (hf : 0 < f) (hq : q + f < 1000000) : rq_beg f 2 q = (rq_v 1000000 1000000 1000000 q (q + f) 1000000, rq_b false false true true false) := by
  have e : rq_set (fun _ => 1000000) 2 q = rq_v 1000000 1000000 1000000 q 1000000 1000000 := by
    funext j
    match j with
    | 0 => rfl
    | 1 => rfl
    | 2 => rfl
    | 3 => rfl
    | 4 => rfl
    | i + 5 => exact rq_set_n (by omega)
  have e2 : (fun _ => 1000000 : Nat → Int) = rq_v 1000000 1000000 1000000 1000000 1000000 1000000 := by
    funext j
    match j with
    | 0 => rfl
    | 1 => rfl
    | 2 => rfl
    | 3 => rfl
    | 4 => rfl
    | i + 5 => rfl
  unfold rq_beg
  rw [e, e2, rq_CM_v (p2 := q) (p3 := q + f) (if_neg (by omega)) (if_pos (by omega))]
  exact rq_vb_eq rfl rfl (if_pos (by omega)) (if_pos (by omega)) rfl rfl rfl (decide_eq_true (by omega)) (decide_eq_true (by omega)) rfl
theorem rq_iter_t {sv : Nat → Int} {m0 m1 f : Int} {n : Nat} {s s' : (Nat → Int) × (Nat → Bool)} (h : rq_any s.2 = true) (e : rq_rnd sv m0 m1 f s = s') : rq_iter sv m0 m1 f (n + 1) s = rq_iter sv m0 m1 f n s' := by
  rw [← e]; exact if_pos h
theorem rq_iter_f {sv : Nat → Int} {m0 m1 f : Int} {n : Nat} {s : (Nat → Int) × (Nat → Bool)} (h : rq_any s.2 = false) : rq_iter sv m0 m1 f n s = s := by
  match n with
  | 0 => rfl
  | n + 1 => exact if_neg (by rw [h]; exact Bool.false_ne_true)
/-- from 0, too late for the trip -/
theorem rq_F1 {sv : Nat → Int} {m0 m1 f q : Int} (hp : rq_par sv m0 m1 f) (hq : q < 1000000) (h : sv 0 < q) :
    rq_rnd sv m0 m1 f (rq_v 1000000 q 1000000 1000000 1000000 1000000, rq_b true false false false false) = (rq_v 1000000 q 1000000 1000000 1000000 1000000, rq_b false false false false false) := by
  obtain ⟨hs, g1, g2, g3, g4, hf0, hf1⟩ := hp
  exact rq_rnd_v (t1 := 1000000) (r1 := 1000000) (r2 := 1000000) (r3 := 1000000) (r4 := 1000000) hf0 (by omega) (rq_rt_t (by omega) (by rw [rq_ct0 hs, if_pos (by omega)])) rq_rt_f rq_rt_f rq_rt_f
    (by unfold rq_r1; omega) (by unfold rq_r2; omega) (by unfold rq_r3; omega) (by unfold rq_r4; omega)
    (if_neg (by omega)) (if_neg (by omega)) (if_neg (by omega)) (if_neg (by omega))
    (decide_eq_false (by omega)) (decide_eq_false (by omega)) (decide_eq_false (by omega)) (decide_eq_false (by omega))
/-- from 0, the trip is caught; the footpath is there -/
theorem rq_F2 {sv : Nat → Int} {m0 m1 f q : Int} (hp : rq_par sv m0 m1 f) (hq : q < 1000000) (h : q ≤ sv 0) (hf : 0 < f) :
    rq_rnd sv m0 m1 f (rq_v 1000000 q 1000000 1000000 1000000 1000000, rq_b true false false false false) = (rq_v 1000000 q (sv 0 + m0) (sv 0 + (m0 + m1)) (sv 0 + (m0 + m1) + f) 1000000, rq_b false true true true false) := by
  obtain ⟨hs, g1, g2, g3, g4, hf0, hf1⟩ := hp
  have h0 := hs 0
  exact rq_rnd_v (t1 := sv 0) (r1 := sv 0 + m0) (r2 := sv 0 + (m0 + m1)) (r3 := sv 0 + (m0 + m1) + f) (r4 := 1000000) hf0 (by omega) (rq_rt_t (by omega) (by rw [rq_ct0 hs, if_neg (by omega)])) rq_rt_f rq_rt_f rq_rt_f
    (by unfold rq_r1; omega) (by unfold rq_r2; omega) (by unfold rq_r3; omega) (by unfold rq_r4; omega)
    (if_pos (by omega)) (if_pos (by omega)) (if_pos (by omega)) (if_neg (by omega))
    (decide_eq_true (by omega)) (decide_eq_true (by omega)) (decide_eq_true (by omega)) (decide_eq_false (by omega))
theorem rq_F2n {sv : Nat → Int} {m0 m1 f q : Int} (hp : rq_par sv m0 m1 f) (hq : q < 1000000) (hf : 0 < f) (h : rq_ct sv 1 0 (sv 0 + (m0 + m1) + f) = 1000000) :
    rq_rnd sv m0 m1 f (rq_v 1000000 q (sv 0 + m0) (sv 0 + (m0 + m1)) (sv 0 + (m0 + m1) + f) 1000000, rq_b false true true true false) = (rq_v 1000000 q (sv 0 + m0) (sv 0 + (m0 + m1)) (sv 0 + (m0 + m1) + f) 1000000, rq_b false false false false false) := by
  obtain ⟨hs, g1, g2, g3, g4, hf0, hf1⟩ := hp
  have h0 := hs 0
  exact rq_rnd_v (t2 := sv 0) (u1 := 1000000) (r1 := 1000000) (r2 := sv 0 + (m0 + m1)) (r3 := sv 0 + (m0 + m1) + f) (r4 := 1000000) hf0 (by omega) rq_rt_f (rq_rt_t (by omega) (by rw [rq_ct0 hs, if_neg (by omega)])) (rq_rt_t (by omega) h) rq_rt_f
    (by unfold rq_r1; omega) (by unfold rq_r2; omega) (by unfold rq_r3; omega) (by unfold rq_r4; omega)
    (if_neg (by omega)) (if_neg (by omega)) (if_neg (by omega)) (if_neg (by omega))
    (decide_eq_false (by omega)) (decide_eq_false (by omega)) (decide_eq_false (by omega)) (decide_eq_false (by omega))
theorem rq_F2y {sv : Nat → Int} {m0 m1 f q y : Int} (hp : rq_par sv m0 m1 f) (hq : q < 1000000) (hf : 0 < f) (h : rq_ct sv 1 0 (sv 0 + (m0 + m1) + f) = y) (hy : y ≤ 500) (hy2 : sv 0 + (m0 + m1) + f ≤ y) :
    rq_rnd sv m0 m1 f (rq_v 1000000 q (sv 0 + m0) (sv 0 + (m0 + m1)) (sv 0 + (m0 + m1) + f) 1000000, rq_b false true true true false) = (rq_v 1000000 q (sv 0 + m0) (sv 0 + (m0 + m1)) (sv 0 + (m0 + m1) + f) (y + m1), rq_b false false false false true) := by
  obtain ⟨hs, g1, g2, g3, g4, hf0, hf1⟩ := hp
  have h0 := hs 0
  exact rq_rnd_v (t2 := sv 0) (u1 := y) (r1 := y + (m1 + 5)) (r2 := sv 0 + (m0 + m1)) (r3 := sv 0 + (m0 + m1) + f) (r4 := y + m1) hf0 (by omega) rq_rt_f (rq_rt_t (by omega) (by rw [rq_ct0 hs, if_neg (by omega)])) (rq_rt_t (by omega) h) rq_rt_f
    (by unfold rq_r1; omega) (by unfold rq_r2; omega) (by unfold rq_r3; omega) (by unfold rq_r4; omega)
    (if_neg (by omega)) (if_neg (by omega)) (if_neg (by omega)) (if_pos (by omega))
    (decide_eq_false (by omega)) (decide_eq_false (by omega)) (decide_eq_false (by omega)) (decide_eq_true (by omega))
theorem rq_F2z {sv : Nat → Int} {m0 m1 f q y : Int} (hp : rq_par sv m0 m1 f) (hq : q < 1000000) (hf : 0 < f) (hy : y ≤ 500) (hy2 : sv 0 + (m0 + m1) + f ≤ y) :
    rq_rnd sv m0 m1 f (rq_v 1000000 q (sv 0 + m0) (sv 0 + (m0 + m1)) (sv 0 + (m0 + m1) + f) (y + m1), rq_b false false false false true) = (rq_v 1000000 q (sv 0 + m0) (sv 0 + (m0 + m1)) (sv 0 + (m0 + m1) + f) (y + m1), rq_b false false false false false) := by
  obtain ⟨hs, g1, g2, g3, g4, hf0, hf1⟩ := hp
  have h0 := hs 0
  have hc := rq_ct1 (off := m1) (tm := y + m1) hs
  have hcb := rq_ct_in (l := 1) (off := m1) (tm := y + m1) hs
  have hcy : y ≤ rq_ct sv 1 m1 (y + m1) := by omega
  exact rq_rnd_v (t2 := 1000000) (u1 := 1000000) (u2 := rq_ct sv 1 m1 (y + m1)) (r2 := 1000000) (r3 := 1000000) (r4 := 1000000) hf0 (by omega) rq_rt_f rq_rt_f rq_rt_f (rq_rt_t (by omega) rfl)
    rfl (by unfold rq_r2; omega) (by unfold rq_r3; omega) (by unfold rq_r4; omega)
    (by unfold rq_mn rq_r1; omega) (if_neg (by omega)) (if_neg (by omega)) (if_neg (by omega))
    (decide_eq_false (by unfold rq_r1; omega)) (decide_eq_false (by omega)) (decide_eq_false (by omega)) (decide_eq_false (by omega))
/-- from 0, the trip is caught; no footpath -/
theorem rq_F3 {sv : Nat → Int} {m0 m1 q : Int} (hp : rq_par sv m0 m1 0) (hq : q < 1000000) (h : q ≤ sv 0) :
    rq_rnd sv m0 m1 0 (rq_v 1000000 q 1000000 1000000 1000000 1000000, rq_b true false false false false) = (rq_v 1000000 q (sv 0 + m0) (sv 0 + (m0 + m1)) 1000000 1000000, rq_b false true true false false) := by
  obtain ⟨hs, g1, g2, g3, g4, hf0, hf1⟩ := hp
  have h0 := hs 0
  exact rq_rnd_v (t1 := sv 0) (r1 := sv 0 + m0) (r2 := sv 0 + (m0 + m1)) (r3 := 1000000) (r4 := 1000000) hf0 (by omega) (rq_rt_t (by omega) (by rw [rq_ct0 hs, if_neg (by omega)])) rq_rt_f rq_rt_f rq_rt_f
    (by unfold rq_r1; omega) (by unfold rq_r2; omega) (by unfold rq_r3; omega) (by unfold rq_r4; omega)
    (if_pos (by omega)) (if_pos (by omega)) (if_neg (by omega)) (if_neg (by omega))
    (decide_eq_true (by omega)) (decide_eq_true (by omega)) (decide_eq_false (by omega)) (decide_eq_false (by omega))
theorem rq_F3n {sv : Nat → Int} {m0 m1 q : Int} (hp : rq_par sv m0 m1 0) (hq : q < 1000000) :
    rq_rnd sv m0 m1 0 (rq_v 1000000 q (sv 0 + m0) (sv 0 + (m0 + m1)) 1000000 1000000, rq_b false true true false false) = (rq_v 1000000 q (sv 0 + m0) (sv 0 + (m0 + m1)) 1000000 1000000, rq_b false false false false false) := by
  obtain ⟨hs, g1, g2, g3, g4, hf0, hf1⟩ := hp
  have h0 := hs 0
  exact rq_rnd_v (t2 := sv 0) (u1 := 1000000) (r1 := 1000000) (r2 := sv 0 + (m0 + m1)) (r3 := 1000000) (r4 := 1000000) hf0 (by omega) rq_rt_f (rq_rt_t (by omega) (by rw [rq_ct0 hs, if_neg (by omega)])) rq_rt_f rq_rt_f
    (by unfold rq_r1; omega) (by unfold rq_r2; omega) (by unfold rq_r3; omega) (by unfold rq_r4; omega)
    (if_neg (by omega)) (if_neg (by omega)) (if_neg (by omega)) (if_neg (by omega))
    (decide_eq_false (by omega)) (decide_eq_false (by omega)) (decide_eq_false (by omega)) (decide_eq_false (by omega))
/-- from 2 -/
theorem rq_F5n {sv : Nat → Int} {m0 m1 f q : Int} (hp : rq_par sv m0 m1 f) (hq : q + f < 1000000) (hf : 0 < f) (h : rq_ct sv 1 0 (q + f) = 1000000) :
    rq_rnd sv m0 m1 f (rq_v 1000000 1000000 1000000 q (q + f) 1000000, rq_b false false true true false) = (rq_v 1000000 1000000 1000000 q (q + f) 1000000, rq_b false false false false false) := by
  obtain ⟨hs, g1, g2, g3, g4, hf0, hf1⟩ := hp
  exact rq_rnd_v (t2 := 1000000) (u1 := 1000000) (r1 := 1000000) (r2 := 1000000) (r3 := 1000000) (r4 := 1000000) hf0 (by omega) rq_rt_f rq_rt_f (rq_rt_t (by omega) h) rq_rt_f
    (by unfold rq_r1; omega) (by unfold rq_r2; omega) (by unfold rq_r3; omega) (by unfold rq_r4; omega)
    (if_neg (by omega)) (if_neg (by omega)) (if_neg (by omega)) (if_neg (by omega))
    (decide_eq_false (by omega)) (decide_eq_false (by omega)) (decide_eq_false (by omega)) (decide_eq_false (by omega))
theorem rq_F5y {sv : Nat → Int} {m0 m1 f q y : Int} (hp : rq_par sv m0 m1 f) (hq : q + f < 1000000) (hf : 0 < f) (h : rq_ct sv 1 0 (q + f) = y) (hy : y ≤ 500) (hy2 : q + f ≤ y) :
    rq_rnd sv m0 m1 f (rq_v 1000000 1000000 1000000 q (q + f) 1000000, rq_b false false true true false) = (rq_v 1000000 1000000 (y + (m1 + 5)) q (q + f) (y + m1), rq_b false true false false true) := by
  obtain ⟨hs, g1, g2, g3, g4, hf0, hf1⟩ := hp
  exact rq_rnd_v (t2 := 1000000) (u1 := y) (r1 := y + (m1 + 5)) (r2 := 1000000) (r3 := 1000000) (r4 := y + m1) hf0 (by omega) rq_rt_f rq_rt_f (rq_rt_t (by omega) h) rq_rt_f
    (by unfold rq_r1; omega) (by unfold rq_r2; omega) (by unfold rq_r3; omega) (by unfold rq_r4; omega)
    (if_pos (by omega)) (if_neg (by omega)) (if_neg (by omega)) (if_pos (by omega))
    (decide_eq_true (by omega)) (decide_eq_false (by omega)) (decide_eq_false (by omega)) (decide_eq_true (by omega))
theorem rq_F5z {sv : Nat → Int} {m0 m1 f q y : Int} (hp : rq_par sv m0 m1 f) (hq : q + f < 1000000) (hf : 0 < f) (hy : y ≤ 500) (hy2 : q + f ≤ y) :
    rq_rnd sv m0 m1 f (rq_v 1000000 1000000 (y + (m1 + 5)) q (q + f) (y + m1), rq_b false true false false true) = (rq_v 1000000 1000000 (y + (m1 + 5)) q (q + f) (y + m1), rq_b false false false false false) := by
  obtain ⟨hs, g1, g2, g3, g4, hf0, hf1⟩ := hp
  have h0 := hs 0
  have hc := rq_ct1 (off := m1) (tm := y + m1) hs
  have hcb := rq_ct_in (l := 1) (off := m1) (tm := y + m1) hs
  have hcy : y ≤ rq_ct sv 1 m1 (y + m1) := by omega
  have hd := rq_ct0 (off := m0) (tm := y + (m1 + 5)) hs
  have hdb := rq_ct_in (l := 0) (off := m0) (tm := y + (m1 + 5)) hs
  have hdy : y + (m1 + 5) ≤ rq_ct sv 0 m0 (y + (m1 + 5)) + m0 := by omega
  have h2 : q < rq_r2 m0 m1 (rq_ct sv 0 m0 (y + (m1 + 5))) := by unfold rq_r2; omega
  have h3 : q + f < rq_r3 f (rq_r2 m0 m1 (rq_ct sv 0 m0 (y + (m1 + 5)))) := by
    unfold rq_r3; omega
  exact rq_rnd_v (t2 := rq_ct sv 0 m0 (y + (m1 + 5))) (u1 := 1000000) (u2 := rq_ct sv 1 m1 (y + m1)) (r4 := 1000000) hf0 (by omega) rq_rt_f (rq_rt_t (by omega) rfl) rq_rt_f (rq_rt_t (by omega) rfl)
    rfl rfl rfl (by unfold rq_r4; omega)
    (by unfold rq_mn rq_r1; omega) (if_neg (by omega)) (if_neg (by omega)) (if_neg (by omega))
    (decide_eq_false (by unfold rq_r1; omega)) (decide_eq_false (by omega)) (decide_eq_false (by omega)) (decide_eq_false (by omega))
end
section
/-! ===== the plain law, forward: what the questions answer ===== -/
def rq_mnl (a b : Int) : Int := if a < 0 then b else if b < 0 then a else if a ≤ b then a else b
def rq_at1 (sv : Nat → Int) (m0 q : Int) : Int := if q ≤ sv 0 then sv 0 + m0 else -5
def rq_at2 (sv : Nat → Int) (m0 m1 q : Int) : Int := if q ≤ sv 0 then sv 0 + m0 + m1 else -5
def rq_at3 (f a2 : Int) : Int := if 0 ≤ a2 then a2 + f else -5
def rq_on (s m1 a3 : Int) : Int := if a3 < 0 then -5 else if s < a3 then -5 else s + m1
def rq_at4 (sv : Nat → Int) (m1 a3 : Int) : Int := rq_mnl (rq_on (sv 1) m1 a3) (rq_on (sv 2) m1 a3)
theorem rq_E1 {sv : Nat → Int} {m0 m1 f q : Int} {n : Nat} (hp : rq_par sv m0 m1 f) (hq : q < 1000000) (h : sv 0 < q) :
    rq_iter sv m0 m1 f (n + 1) (rq_beg f 0 q) = (rq_v 1000000 q 1000000 1000000 1000000 1000000, rq_b false false false false false) := by
  rw [rq_beg_0 hp.2.2.2.2.2.1 hq]
  exact (rq_iter_t (n := n) rfl (rq_F1 hp hq h)).trans (rq_iter_f rfl)
theorem rq_E2n {sv : Nat → Int} {m0 m1 f q : Int} {n : Nat} (hp : rq_par sv m0 m1 f) (hq : q < 1000000) (h : q ≤ sv 0) (hf : 0 < f) (hc : rq_ct sv 1 0 (sv 0 + (m0 + m1) + f) = 1000000) :
    rq_iter sv m0 m1 f (n + 2) (rq_beg f 0 q) = (rq_v 1000000 q (sv 0 + m0) (sv 0 + (m0 + m1)) (sv 0 + (m0 + m1) + f) 1000000, rq_b false false false false false) := by
  rw [rq_beg_0 hp.2.2.2.2.2.1 hq]
  exact (rq_iter_t (n := n + 1) rfl (rq_F2 hp hq h hf)).trans ((rq_iter_t (n := n) rfl (rq_F2n hp hq hf hc)).trans (rq_iter_f rfl))
theorem rq_E2y {sv : Nat → Int} {m0 m1 f q y : Int} {n : Nat} (hp : rq_par sv m0 m1 f) (hq : q < 1000000) (h : q ≤ sv 0) (hf : 0 < f) (hc : rq_ct sv 1 0 (sv 0 + (m0 + m1) + f) = y) (hy : y ≤ 500) (hy2 : sv 0 + (m0 + m1) + f ≤ y) :
    rq_iter sv m0 m1 f (n + 3) (rq_beg f 0 q) = (rq_v 1000000 q (sv 0 + m0) (sv 0 + (m0 + m1)) (sv 0 + (m0 + m1) + f) (y + m1), rq_b false false false false false) := by
  rw [rq_beg_0 hp.2.2.2.2.2.1 hq]
  exact (rq_iter_t (n := n + 2) rfl (rq_F2 hp hq h hf)).trans ((rq_iter_t (n := n + 1) rfl (rq_F2y hp hq hf hc hy hy2)).trans ((rq_iter_t (n := n) rfl (rq_F2z hp hq hf hy hy2)).trans (rq_iter_f rfl)))
/-- the next trip of line 1 from a time on -/
theorem rq_ct1c {sv : Nat → Int} {tm : Int} (hs : rq_sin sv) : (rq_ct sv 1 0 tm = 1000000 ∧ sv 1 < tm ∧ sv 2 < tm) ∨ ∃ y, rq_ct sv 1 0 tm = y ∧ y ≤ 500 ∧ tm ≤ y ∧ (y = sv 1 ∨ y = sv 2) ∧ (tm ≤ sv 1 → y ≤ sv 1) ∧ (tm ≤ sv 2 → y ≤ sv 2) := by
  have h1 := hs 1
  have h2 := hs 2
  have hc := rq_ct1 (off := 0) (tm := tm) hs
  by_cases g : sv 1 < tm ∧ sv 2 < tm
  · exact Or.inl ⟨by omega, g.1, g.2⟩
  · exact Or.inr ⟨rq_ct sv 1 0 tm, rfl, by omega, by omega, by omega, by omega, by omega⟩
/-- all the times from 0, at the end -/
theorem rq_fin0 {sv : Nat → Int} {m0 m1 f q : Int} (hp : rq_par sv m0 m1 f) (hf : 0 < f) (hq0 : 0 ≤ q) (hq : q ≤ 1000) :
    ∃ c1 c2 c3 c4, (rq_iter sv m0 m1 f 12 (rq_beg f 0 q)).1 = rq_v 1000000 q c1 c2 c3 c4 ∧ rq_val c1 = rq_at1 sv m0 q ∧ rq_val c2 = rq_at2 sv m0 m1 q ∧ rq_val c3 = rq_at3 f (rq_at2 sv m0 m1 q) ∧ rq_val c4 = rq_at4 sv m1 (rq_at3 f (rq_at2 sv m0 m1 q)) ∧ 0 ≤ c1 ∧ 0 ≤ c2 ∧ 0 ≤ c3 ∧ 0 ≤ c4 := by
  have hs := hp.1
  have h0 := hs 0
  have h1 := hs 1
  have h2 := hs 2
  have hp' := hp
  obtain ⟨_, g1, g2, g3, g4, hf0, hf1⟩ := hp'
  unfold rq_val rq_at1 rq_at4 rq_on rq_mnl rq_at3 rq_at2
  by_cases h : sv 0 < q
  · refine ⟨_, _, _, _, by rw [rq_E1 (n := 11) hp (by omega) h], ?_, ?_, ?_, ?_, ?_, ?_, ?_, ?_⟩
    all_goals (try simp only [if_neg (show ¬ q ≤ sv 0 by omega)])
    all_goals omega
  · simp only [if_pos (show q ≤ sv 0 by omega), if_pos (show 0 ≤ sv 0 + m0 + m1 by omega)]
    rcases rq_ct1c (tm := sv 0 + (m0 + m1) + f) hs with ⟨hc, z1, z2⟩ | ⟨y, hc, y1, y2, y3, y4, y5⟩
    · refine ⟨_, _, _, _, by rw [rq_E2n (n := 10) hp (by omega) (by omega) hf hc], ?_, ?_, ?_, ?_, ?_, ?_, ?_, ?_⟩
      all_goals omega
    · refine ⟨_, _, _, _, by rw [rq_E2y (n := 9) hp (by omega) (by omega) hf hc y1 y2], ?_, ?_, ?_, ?_, ?_, ?_, ?_, ?_⟩
      all_goals omega
theorem rq_fin1 {sv : Nat → Int} {m0 m1 f q : Int} (hp : rq_par sv m0 m1 f) (hf : 0 < f) (hq0 : 0 ≤ q) (hq : q ≤ 1000) : rq_val ((rq_iter sv m0 m1 f 1 (rq_beg f 0 q)).1 4) = -5 := by
  by_cases h : sv 0 < q
  · rw [rq_E1 (n := 0) hp (by omega) h]; rfl
  · rw [rq_beg_0 hp.2.2.2.2.2.1 (by omega), (rq_iter_t (n := 0) rfl (rq_F2 hp (by omega) (by omega) hf))]; rfl
/-! rides -/
theorem rq_rid_t {sv : Nat → Int} {m0 m1 f : Int} {b n : Nat} {k la la' : Int} {s s' : (Nat → Int) × (Nat → Bool)} (h : rq_any s.2 = true) (e : rq_rnd sv m0 m1 f s = s') (hl : (if s'.1 b < s.1 b then k else la) = la') : rq_rid sv m0 m1 f b (n + 1) k la s = rq_rid sv m0 m1 f b n (k + 1) la' s' := by
  rw [← hl, ← e]; exact if_pos h
theorem rq_rid_f {sv : Nat → Int} {m0 m1 f : Int} {b n : Nat} {k la : Int} {s : (Nat → Int) × (Nat → Bool)} (h : rq_any s.2 = false) : rq_rid sv m0 m1 f b n k la s = la := by
  match n with
  | 0 => rfl
  | n + 1 => exact if_neg (by rw [h]; exact Bool.false_ne_true)
theorem rq_rid4 {sv : Nat → Int} {m0 m1 f q : Int} (hp : rq_par sv m0 m1 f) (hf : 0 < f) (hq0 : 0 ≤ q) (hq : q ≤ 1000) :
    rq_rid sv m0 m1 f 4 12 1 (if (rq_beg f 0 q).1 4 < 1000000 then 0 else -5) (rq_beg f 0 q) = if 0 ≤ rq_at4 sv m1 (rq_at3 f (rq_at2 sv m0 m1 q)) then 2 else -5 := by
  have hs := hp.1
  have h0 := hs 0
  have h1 := hs 1
  have h2 := hs 2
  have hp' := hp
  obtain ⟨_, g1, g2, g3, g4, hf0, hf1⟩ := hp'
  rw [rq_beg_0 hf0 (by omega)]
  unfold rq_at4 rq_on rq_mnl rq_at3 rq_at2
  show rq_rid sv m0 m1 f 4 12 1 (-5) _ = _
  by_cases h : sv 0 < q
  · rw [rq_rid_t (n := 11) (la' := -5) rfl (rq_F1 hp (by omega) h) rfl, rq_rid_f rfl]
    simp only [if_neg (show ¬ q ≤ sv 0 by omega)]
    omega
  · simp only [if_pos (show q ≤ sv 0 by omega), if_pos (show 0 ≤ sv 0 + m0 + m1 by omega)]
    rw [rq_rid_t (n := 11) (la' := -5) rfl (rq_F2 hp (by omega) (by omega) hf) rfl]
    rcases rq_ct1c (tm := sv 0 + (m0 + m1) + f) hs with ⟨hc, z1, z2⟩ | ⟨y, hc, y1, y2, y3, y4, y5⟩
    · rw [rq_rid_t (n := 10) (la' := -5) rfl (rq_F2n hp (by omega) hf hc) rfl, rq_rid_f rfl]
      omega
    · rw [rq_rid_t (n := 10) (b := 4) (la := -5) (k := 1 + 1) (la' := 2) rfl (rq_F2y hp (by omega) hf hc y1 y2) (if_pos (show y + m1 < 1000000 by omega)),
        rq_rid_t (n := 9) (b := 4) (la := 2) (k := 1 + 1 + 1) (la' := 2) rfl (rq_F2z hp (by omega) hf y1 y2) (if_neg (show ¬ y + m1 < y + m1 by omega)), rq_rid_f rfl]
      omega
theorem rq_rid3 {sv : Nat → Int} {m0 m1 f q : Int} (hp : rq_par sv m0 m1 f) (hf : 0 < f) (hq0 : 0 ≤ q) (hq : q ≤ 1000) :
    rq_rid sv m0 m1 f 3 12 1 (if (rq_beg f 0 q).1 3 < 1000000 then 0 else -5) (rq_beg f 0 q) = if 0 ≤ rq_at3 f (rq_at2 sv m0 m1 q) then 1 else -5 := by
  have hs := hp.1
  have h0 := hs 0
  have h1 := hs 1
  have h2 := hs 2
  have hp' := hp
  obtain ⟨_, g1, g2, g3, g4, hf0, hf1⟩ := hp'
  rw [rq_beg_0 hf0 (by omega)]
  unfold rq_at3 rq_at2
  show rq_rid sv m0 m1 f 3 12 1 (-5) _ = _
  by_cases h : sv 0 < q
  · rw [rq_rid_t (n := 11) (la' := -5) rfl (rq_F1 hp (by omega) h) rfl, rq_rid_f rfl]
    simp only [if_neg (show ¬ q ≤ sv 0 by omega)]
    omega
  · simp only [if_pos (show q ≤ sv 0 by omega), if_pos (show 0 ≤ sv 0 + m0 + m1 by omega)]
    rw [rq_rid_t (n := 11) (b := 3) (k := 1) (la := -5) (la' := 1) rfl (rq_F2 hp (by omega) (by omega) hf) (if_pos (show sv 0 + (m0 + m1) + f < 1000000 by omega))]
    rcases rq_ct1c (tm := sv 0 + (m0 + m1) + f) hs with ⟨hc, z1, z2⟩ | ⟨y, hc, y1, y2, y3, y4, y5⟩
    · rw [rq_rid_t (n := 10) (b := 3) (k := 1 + 1) (la := 1) (la' := 1) rfl (rq_F2n hp (by omega) hf hc) (if_neg (show ¬ sv 0 + (m0 + m1) + f < sv 0 + (m0 + m1) + f by omega)), rq_rid_f rfl]
      omega
    · rw [rq_rid_t (n := 10) (b := 3) (k := 1 + 1) (la := 1) (la' := 1) rfl (rq_F2y hp (by omega) hf hc y1 y2) (if_neg (show ¬ sv 0 + (m0 + m1) + f < sv 0 + (m0 + m1) + f by omega)),
        rq_rid_t (n := 9) (b := 3) (k := 1 + 1 + 1) (la := 1) (la' := 1) rfl (rq_F2z hp (by omega) hf y1 y2) (if_neg (show ¬ sv 0 + (m0 + m1) + f < sv 0 + (m0 + m1) + f by omega)), rq_rid_f rfl]
      omega
/-! from 4 nobody comes to 0 -/
theorem rq_R2_0 {sv : Nat → Int} {m0 m1 : Int} {s : (Nat → Int) × (Nat → Bool)} : rq_R2 sv m0 m1 s 0 = 1000000 := by
  unfold rq_R2 rq_ln
  rw [rq_rs_n (show 0 ≠ rq_js 1 2 by decide), rq_rs_n (show 0 ≠ rq_js 1 1 by decide), rq_rs_n (show 0 ≠ rq_js 1 0 by decide), rq_rs_n (show 0 ≠ rq_js 0 2 by decide), rq_rs_n (show 0 ≠ rq_js 0 1 by decide), rq_rs_far]
theorem rq_keep0 {sv : Nat → Int} {m0 m1 f : Int} : ∀ (n : Nat) (s : (Nat → Int) × (Nat → Bool)), s.1 0 = 1000000 → (rq_iter sv m0 m1 f n s).1 0 = 1000000 := by
  intro n
  induction n with
  | zero => intro s h; exact h
  | succ n ih =>
    intro s h
    unfold rq_iter
    split
    · refine ih _ ?_
      show (if rq_best f (rq_R2 sv m0 m1 s) 0 < s.1 0 then rq_best f (rq_R2 sv m0 m1 s) 0 else s.1 0) = 1000000
      rw [rq_best_o (by decide) (by decide), rq_R2_0, h]
      rfl
    · exact h
theorem rq_fin4 {sv : Nat → Int} {m0 m1 f q : Int} : rq_val ((rq_iter sv m0 m1 f 12 (rq_beg f 4 q)).1 0) = -5 := by
  rw [rq_keep0 12 (rq_beg f 4 q) ?_]
  · rfl
  · show (if rq_best f (rq_set (fun _ => 1000000) 4 q) 0 < 1000000 then rq_best f (rq_set (fun _ => 1000000) 4 q) 0 else 1000000) = 1000000
    rw [rq_best_o (by decide) (by decide)]
    rfl
/-! from 2 to 4 -/
theorem rq_fin2 {sv : Nat → Int} {m0 m1 f q : Int} (hp : rq_par sv m0 m1 f) (hf : 0 < f) (hq0 : 0 ≤ q) (hq : q ≤ 1000) :
    rq_val ((rq_iter sv m0 m1 f 12 (rq_beg f 2 q)).1 4) = rq_mnl (if sv 1 < q + f then -5 else sv 1 + m1) (if sv 2 < q + f then -5 else sv 2 + m1) := by
  have hs := hp.1
  have h0 := hs 0
  have h1 := hs 1
  have h2 := hs 2
  have hp' := hp
  obtain ⟨_, g1, g2, g3, g4, hf0, hf1⟩ := hp'
  rw [rq_beg_2 hf (by omega)]
  unfold rq_mnl
  rcases rq_ct1c (tm := q + f) hs with ⟨hc, z1, z2⟩ | ⟨y, hc, y1, y2, y3, y4, y5⟩
  · rw [(rq_iter_t (n := 11) rfl (rq_F5n hp (by omega) hf hc)).trans (rq_iter_f rfl)]
    show (if (1000000 : Int) < 1000000 then (1000000 : Int) else -5) = _
    omega
  · rw [(rq_iter_t (n := 11) rfl (rq_F5y hp (by omega) hf hc y1 y2)).trans ((rq_iter_t (n := 10) rfl (rq_F5z hp (by omega) hf y1 y2)).trans (rq_iter_f rfl))]
    show (if y + m1 < 1000000 then y + m1 else -5) = _
    omega
/-! without the footpath -/
theorem rq_fin3 {sv : Nat → Int} {m0 m1 q : Int} (hp : rq_par sv m0 m1 0) (hq0 : 0 ≤ q) (hq : q ≤ 1000) :
    rq_val ((rq_iter sv m0 m1 0 12 (rq_beg 0 0 q)).1 4) = -5 ∧ (q ≤ sv 0 → rq_val ((rq_iter sv m0 m1 0 12 (rq_beg 0 0 q)).1 2) = sv 0 + (m0 + m1)) := by
  have h0 := hp.1 0
  by_cases h : sv 0 < q
  · rw [rq_E1 (n := 11) hp (by omega) h]
    exact ⟨rfl, fun z => absurd z (by omega)⟩
  · obtain ⟨_, g1, g2, g3, g4, hf0, hf1⟩ := id hp
    rw [rq_beg_0 hf0 (by omega), (rq_iter_t (n := 11) rfl (rq_F3 hp (by omega) (by omega))).trans ((rq_iter_t (n := 10) rfl (rq_F3n hp (by omega))).trans (rq_iter_f rfl))]
    exact ⟨rfl, fun z => if_pos (show sv 0 + (m0 + m1) < 1000000 by omega)⟩
end
section
/-! ===== the plain law: within ===== -/
def rq_inc (un a : Int) : Int := if a < 0 then 0 else if un < a then 0 else 1
theorem rq_fin6 {sv : Nat → Int} {m0 m1 f q un : Int} (hp : rq_par sv m0 m1 f) (hf : 0 < f) (hq0 : 0 ≤ q) (hq : q ≤ 1000) (hu0 : 0 ≤ un) (hu : un ≤ 1000) :
    rq_cnt (rq_iter sv m0 m1 f 12 (rq_beg f 0 q)).1 un = (if un < q then 0 else 1) + rq_inc un (rq_at1 sv m0 q) + rq_inc un (rq_at2 sv m0 m1 q) + rq_inc un (rq_at3 f (rq_at2 sv m0 m1 q)) + rq_inc un (rq_at4 sv m1 (rq_at3 f (rq_at2 sv m0 m1 q))) := by
  obtain ⟨c1, c2, c3, c4, e, h1, h2, h3, h4, n1, n2, n3, n4⟩ := rq_fin0 hp hf hq0 hq
  rw [e, ← h4, ← h3, ← h2, ← h1]
  have one : ∀ c, 0 ≤ c → (if un < c then 0 else 1) = rq_inc un (rq_val c) := by
    intro c hc
    unfold rq_inc rq_val
    by_cases z : c < 1000000
    · simp only [if_pos z]; omega
    · simp only [if_neg z]; omega
  rw [← one c1 n1, ← one c2 n2, ← one c3 n3, ← one c4 n4]
  show (if un < q then 0 else 1) + (if un < c1 then 0 else 1) + (if un < c2 then 0 else 1) + (if un < c3 then 0 else 1) + (if un < c4 then 0 else 1) + (if un < 1000000 then 0 else 1) + (if un < 1000000 then 0 else 1) + (if un < 1000000 then 0 else 1) = _
  rw [if_pos (show un < 1000000 by omega)]
  omega
/-! ===== the plain law, backward ===== -/
theorem rq_brs_s {off start : Int} {j : Nat} {R : Nat → Int} : rq_brs off start j R j = if -1000000 < start ∧ R j < start + off then start + off else R j := by
  unfold rq_brs
  split
  · exact rq_set_s R j _
  · rfl
theorem rq_brs_n {off start : Int} {i j : Nat} {R : Nat → Int} (h : i ≠ j) : rq_brs off start j R i = R i := by
  unfold rq_brs
  split
  · exact rq_set_n h
  · rfl
theorem rq_brs_far {off : Int} {j : Nat} {R : Nat → Int} : rq_brs off (-1000000) j R = R := by
  unfold rq_brs
  rw [if_neg (fun h => absurd h.1 (by decide))]
theorem rq_mt0 {sv : Nat → Int} {off tm : Int} (h : rq_sin sv) : rq_mt sv 0 off tm = if tm < sv 0 + off then -1000000 else sv 0 := by
  have h0 := h 0
  show rq_bstp tm off (-1000000) (sv 0) = _
  unfold rq_bstp
  omega
theorem rq_mt1 {sv : Nat → Int} {off tm : Int} (h : rq_sin sv) : rq_mt sv 1 off tm = if tm < sv 1 + off then (if tm < sv 2 + off then -1000000 else sv 2) else (if tm < sv 2 + off then sv 1 else if sv 2 ≤ sv 1 then sv 1 else sv 2) := by
  have h1 := h 1
  have h2 := h 2
  show rq_bstp tm off (rq_bstp tm off (-1000000) (sv 1)) (sv 2) = _
  unfold rq_bstp
  omega
def rq_bmx (r c : Int) : Int := if c < r then r else c
/-- one value ridden to -/
def rq_br (off t : Int) : Int := if -1000000 < t ∧ -1000000 < t + off then t + off else -1000000
theorem rq_bR2_v {sv : Nat → Int} {m0 m1 c0 c1 c2 c3 c4 : Int} {b0 b1 b2 b3 b4 : Bool} :
    rq_bR2 sv m0 m1 (rq_v (-1000000) c0 c1 c2 c3 c4, rq_b b0 b1 b2 b3 b4) = rq_v (-1000000) (rq_br 0 (rq_brt sv 0 m0 (rq_brt sv 0 (m0 + m1) (-1000000) b2 c2) b1 c1)) (rq_br m0 (rq_brt sv 0 (m0 + m1) (-1000000) b2 c2)) (-1000000) (rq_br 0 (rq_brt sv 1 m1 (rq_brt sv 1 (m1 + 5) (-1000000) b1 c1) b4 c4)) (rq_br m1 (rq_brt sv 1 (m1 + 5) (-1000000) b1 c1)) := by
  have e : rq_bR2 sv m0 m1 (rq_v (-1000000) c0 c1 c2 c3 c4, rq_b b0 b1 b2 b3 b4) =
      rq_brs 0 (rq_brt sv 1 m1 (rq_brt sv 1 (m1 + 5) (-1000000) b1 c1) b4 c4) 3 (rq_brs m1 (rq_brt sv 1 (m1 + 5) (-1000000) b1 c1) 4 (rq_brs (m1 + 5) (-1000000) 1
      (rq_brs 0 (rq_brt sv 0 m0 (rq_brt sv 0 (m0 + m1) (-1000000) b2 c2) b1 c1) 0 (rq_brs m0 (rq_brt sv 0 (m0 + m1) (-1000000) b2 c2) 1 (rq_brs (m0 + m1) (-1000000) 2 (fun _ => -1000000)))))) := rfl
  rw [e, rq_brs_far, rq_brs_far]
  funext j
  match j with
  | 0 => rw [rq_brs_n (by decide), rq_brs_n (by decide), rq_brs_s, rq_brs_n (by decide)]; rfl
  | 1 => rw [rq_brs_n (by decide), rq_brs_n (by decide), rq_brs_n (by decide), rq_brs_s]; rfl
  | 2 => rw [rq_brs_n (by decide), rq_brs_n (by decide), rq_brs_n (by decide), rq_brs_n (by decide)]; rfl
  | 3 => rw [rq_brs_s, rq_brs_n (by decide), rq_brs_n (by decide), rq_brs_n (by decide)]; rfl
  | 4 => rw [rq_brs_n (by decide), rq_brs_s, rq_brs_n (by decide), rq_brs_n (by decide)]; rfl
  | i + 5 => rw [rq_brs_n (by omega), rq_brs_n (by omega), rq_brs_n (by omega), rq_brs_n (by omega)]; rfl
theorem rq_bbest_o {f : Int} {R : Nat → Int} {s : Nat} (h2 : s ≠ 2) (h3 : s ≠ 3) : rq_bbest f R s = R s := by
  have e : rq_wk f s (rq_pt s) = 0 := by
    unfold rq_wk
    exact if_neg (fun z => z.elim (fun t => h2 t.1) (fun t => h3 t.1))
  unfold rq_bbest
  rw [e]
  exact if_neg (fun z => absurd z.1 (by decide))
theorem rq_bbest_2 {f : Int} {R : Nat → Int} : rq_bbest f R 2 = if 0 < f ∧ R 2 < R 3 - f then R 3 - f else R 2 := rfl
theorem rq_bbest_3 {f : Int} {R : Nat → Int} : rq_bbest f R 3 = if 0 < f ∧ R 3 < R 2 - f then R 2 - f else R 3 := rfl
theorem rq_bCM_v {f c0 c1 c2 c3 c4 r0 r1 r2 r3 r4 p2 p3 : Int} (h2 : (if 0 < f ∧ r2 < r3 - f then r3 - f else r2) = p2) (h3 : (if 0 < f ∧ r3 < r2 - f then r2 - f else r3) = p3) :
    (rq_bC f (rq_v (-1000000) r0 r1 r2 r3 r4) (rq_v (-1000000) c0 c1 c2 c3 c4), rq_bM f (rq_v (-1000000) r0 r1 r2 r3 r4) (rq_v (-1000000) c0 c1 c2 c3 c4)) =
    (rq_v (-1000000) (rq_bmx r0 c0) (rq_bmx r1 c1) (rq_bmx p2 c2) (rq_bmx p3 c3) (rq_bmx r4 c4), rq_b (decide (c0 < r0)) (decide (c1 < r1)) (decide (c2 < p2)) (decide (c3 < p3)) (decide (c4 < r4))) := by
  have g0 : rq_bbest f (rq_v (-1000000) r0 r1 r2 r3 r4) 0 = r0 := rq_bbest_o (by decide) (by decide)
  have g1 : rq_bbest f (rq_v (-1000000) r0 r1 r2 r3 r4) 1 = r1 := rq_bbest_o (by decide) (by decide)
  have g2 : rq_bbest f (rq_v (-1000000) r0 r1 r2 r3 r4) 2 = p2 := by rw [rq_bbest_2, ← h2]; rfl
  have g3 : rq_bbest f (rq_v (-1000000) r0 r1 r2 r3 r4) 3 = p3 := by rw [rq_bbest_3, ← h3]; rfl
  have g4 : rq_bbest f (rq_v (-1000000) r0 r1 r2 r3 r4) 4 = r4 := rq_bbest_o (by decide) (by decide)
  have g5 : ∀ i, rq_bbest f (rq_v (-1000000) r0 r1 r2 r3 r4) (i + 5) = -1000000 := fun i => rq_bbest_o (by omega) (by omega)
  refine Prod.ext (funext (fun j => ?_)) (funext (fun j => ?_))
  · match j with
    | 0 => show rq_bC f (rq_v (-1000000) r0 r1 r2 r3 r4) (rq_v (-1000000) c0 c1 c2 c3 c4) 0 = _; unfold rq_bC; rw [g0]; rfl
    | 1 => show rq_bC f (rq_v (-1000000) r0 r1 r2 r3 r4) (rq_v (-1000000) c0 c1 c2 c3 c4) 1 = _; unfold rq_bC; rw [g1]; rfl
    | 2 => show rq_bC f (rq_v (-1000000) r0 r1 r2 r3 r4) (rq_v (-1000000) c0 c1 c2 c3 c4) 2 = _; unfold rq_bC; rw [g2]; rfl
    | 3 => show rq_bC f (rq_v (-1000000) r0 r1 r2 r3 r4) (rq_v (-1000000) c0 c1 c2 c3 c4) 3 = _; unfold rq_bC; rw [g3]; rfl
    | 4 => show rq_bC f (rq_v (-1000000) r0 r1 r2 r3 r4) (rq_v (-1000000) c0 c1 c2 c3 c4) 4 = _; unfold rq_bC; rw [g4]; rfl
    | i + 5 => show rq_bC f (rq_v (-1000000) r0 r1 r2 r3 r4) (rq_v (-1000000) c0 c1 c2 c3 c4) (i + 5) = _; unfold rq_bC; rw [g5]; rfl
  · match j with
    | 0 => show rq_bM f (rq_v (-1000000) r0 r1 r2 r3 r4) (rq_v (-1000000) c0 c1 c2 c3 c4) 0 = _; unfold rq_bM; rw [g0]; rfl
    | 1 => show rq_bM f (rq_v (-1000000) r0 r1 r2 r3 r4) (rq_v (-1000000) c0 c1 c2 c3 c4) 1 = _; unfold rq_bM; rw [g1]; rfl
    | 2 => show rq_bM f (rq_v (-1000000) r0 r1 r2 r3 r4) (rq_v (-1000000) c0 c1 c2 c3 c4) 2 = _; unfold rq_bM; rw [g2]; rfl
    | 3 => show rq_bM f (rq_v (-1000000) r0 r1 r2 r3 r4) (rq_v (-1000000) c0 c1 c2 c3 c4) 3 = _; unfold rq_bM; rw [g3]; rfl
    | 4 => show rq_bM f (rq_v (-1000000) r0 r1 r2 r3 r4) (rq_v (-1000000) c0 c1 c2 c3 c4) 4 = _; unfold rq_bM; rw [g4]; rfl
    | i + 5 => show rq_bM f (rq_v (-1000000) r0 r1 r2 r3 r4) (rq_v (-1000000) c0 c1 c2 c3 c4) (i + 5) = _; unfold rq_bM; rw [g5]; rfl
/-- t2, t1: the starts of line 0; u2, u1: of line 1 -/
theorem rq_brnd_v {sv : Nat → Int} {m0 m1 f c0 c1 c2 c3 c4 : Int} {b0 b1 b2 b3 b4 : Bool} {t1 t2 u1 u2 r0 r1 r2 r3 r4 : Int} {c0' c1' c2' c3' c4' : Int} {b0' b1' b2' b3' b4' : Bool} (hf : 0 ≤ f)
    (ht2 : rq_brt sv 0 (m0 + m1) (-1000000) b2 c2 = t2) (ht1 : rq_brt sv 0 m0 t2 b1 c1 = t1) (hu2 : rq_brt sv 1 (m1 + 5) (-1000000) b1 c1 = u2) (hu1 : rq_brt sv 1 m1 u2 b4 c4 = u1)
    (hr0 : rq_br 0 t1 = r0) (hr1 : rq_br m0 t2 = r1) (hr3 : rq_br 0 u1 = r3) (hr4 : rq_br m1 u2 = r4) (hr2 : (if 0 < f ∧ -1000000 < r3 - f then r3 - f else -1000000) = r2)
    (e0 : rq_bmx r0 c0 = c0') (e1 : rq_bmx r1 c1 = c1') (e2 : rq_bmx r2 c2 = c2') (e3 : rq_bmx r3 c3 = c3') (e4 : rq_bmx r4 c4 = c4')
    (g0 : decide (c0 < r0) = b0') (g1 : decide (c1 < r1) = b1') (g2 : decide (c2 < r2) = b2') (g3 : decide (c3 < r3) = b3') (g4 : decide (c4 < r4) = b4') :
    rq_brnd sv m0 m1 f (rq_v (-1000000) c0 c1 c2 c3 c4, rq_b b0 b1 b2 b3 b4) = (rq_v (-1000000) c0' c1' c2' c3' c4', rq_b b0' b1' b2' b3' b4') := by
  have e : rq_brnd sv m0 m1 f (rq_v (-1000000) c0 c1 c2 c3 c4, rq_b b0 b1 b2 b3 b4) = (rq_bC f (rq_bR2 sv m0 m1 (rq_v (-1000000) c0 c1 c2 c3 c4, rq_b b0 b1 b2 b3 b4)) (rq_v (-1000000) c0 c1 c2 c3 c4), rq_bM f (rq_bR2 sv m0 m1 (rq_v (-1000000) c0 c1 c2 c3 c4, rq_b b0 b1 b2 b3 b4)) (rq_v (-1000000) c0 c1 c2 c3 c4)) := rfl
  have h3 : -1000000 ≤ r3 := by rw [← hr3]; unfold rq_br; omega
  rw [e, rq_bR2_v, ht2, ht1, hu2, hu1, hr0, hr1, hr3, hr4]
  rw [rq_bCM_v (p2 := r2) (p3 := r3) hr2 (if_neg (by omega))]
  exact rq_vb_eq e0 e1 e2 e3 e4 g0 g1 g2 g3 g4
theorem rq_brt_f {sv : Nat → Int} {l : Nat} {off start b : Int} : rq_brt sv l off start false b = start := if_neg (fun h => absurd h.1 Bool.false_ne_true)
theorem rq_brt_t {sv : Nat → Int} {l : Nat} {off b c : Int} (hc : -1000000 ≤ c) (h : rq_mt sv l off b = c) : rq_brt sv l off (-1000000) true b = c := by
  unfold rq_brt
  rw [if_pos ⟨rfl, Or.inl rfl⟩, h]
  omega
theorem rq_bbeg_4 {f q : Int} (hf : 0 ≤ f) (hq : 0 ≤ q) : rq_bbeg f 4 q = (rq_v (-1000000) (-1000000) (-1000000) (-1000000) (-1000000) q, rq_b false false false false true) := by
  have e : rq_set (fun _ => -1000000) 4 q = rq_v (-1000000) (-1000000) (-1000000) (-1000000) (-1000000) q := by
    funext j
    match j with
    | 0 => rfl
    | 1 => rfl
    | 2 => rfl
    | 3 => rfl
    | 4 => rfl
    | i + 5 => exact rq_set_n (by omega)
  have e2 : (fun _ => -1000000 : Nat → Int) = rq_v (-1000000) (-1000000) (-1000000) (-1000000) (-1000000) (-1000000) := by
    funext j
    match j with
    | 0 => rfl
    | 1 => rfl
    | 2 => rfl
    | 3 => rfl
    | 4 => rfl
    | i + 5 => rfl
  unfold rq_bbeg
  rw [e, e2, rq_bCM_v (p2 := -1000000) (p3 := -1000000) (if_neg (by omega)) (if_neg (by omega))]
  exact rq_vb_eq rfl rfl rfl rfl (if_pos (by omega)) rfl rfl rfl rfl (decide_eq_true (by omega))
theorem rq_biter_t {sv : Nat → Int} {m0 m1 f : Int} {n : Nat} {s s' : (Nat → Int) × (Nat → Bool)} (h : rq_any s.2 = true) (e : rq_brnd sv m0 m1 f s = s') : rq_biter sv m0 m1 f (n + 1) s = rq_biter sv m0 m1 f n s' := by
  rw [← e]; exact if_pos h
theorem rq_biter_f {sv : Nat → Int} {m0 m1 f : Int} {n : Nat} {s : (Nat → Int) × (Nat → Bool)} (h : rq_any s.2 = false) : rq_biter sv m0 m1 f n s = s := by
  match n with
  | 0 => rfl
  | n + 1 => exact if_neg (by rw [h]; exact Bool.false_ne_true)
theorem rq_B1n {sv : Nat → Int} {m0 m1 f un : Int} (hp : rq_par sv m0 m1 f) (h0 : 0 ≤ un) (h : rq_mt sv 1 m1 un = -1000000) :
    rq_brnd sv m0 m1 f (rq_v (-1000000) (-1000000) (-1000000) (-1000000) (-1000000) un, rq_b false false false false true) = (rq_v (-1000000) (-1000000) (-1000000) (-1000000) (-1000000) un, rq_b false false false false false) := by
  obtain ⟨hs, g1, g2, g3, g4, hf0, hf1⟩ := hp
  exact rq_brnd_v (u1 := -1000000) (r0 := -1000000) (r1 := -1000000) (r2 := -1000000) (r3 := -1000000) (r4 := -1000000) hf0 rq_brt_f rq_brt_f rq_brt_f (rq_brt_t (by omega) h)
    (by unfold rq_br; omega) (by unfold rq_br; omega) (by unfold rq_br; omega) (by unfold rq_br; omega) (by omega)
    (if_neg (by omega)) (if_neg (by omega)) (if_neg (by omega)) (if_neg (by omega)) (if_neg (by omega))
    (decide_eq_false (by omega)) (decide_eq_false (by omega)) (decide_eq_false (by omega)) (decide_eq_false (by omega)) (decide_eq_false (by omega))
theorem rq_B1y {sv : Nat → Int} {m0 m1 f un g : Int} (hp : rq_par sv m0 m1 f) (hf : 0 < f) (h0 : 0 ≤ un) (h : rq_mt sv 1 m1 un = g) (hg : 0 ≤ g) :
    rq_brnd sv m0 m1 f (rq_v (-1000000) (-1000000) (-1000000) (-1000000) (-1000000) un, rq_b false false false false true) = (rq_v (-1000000) (-1000000) (-1000000) (g - f) g un, rq_b false false true true false) := by
  obtain ⟨hs, g1, g2, g3, g4, hf0, hf1⟩ := hp
  exact rq_brnd_v (u1 := g) (r0 := -1000000) (r1 := -1000000) (r2 := g - f) (r3 := g) (r4 := -1000000) hf0 rq_brt_f rq_brt_f rq_brt_f (rq_brt_t (by omega) h)
    (by unfold rq_br; omega) (by unfold rq_br; omega) (by unfold rq_br; omega) (by unfold rq_br; omega) (by omega)
    (if_neg (by omega)) (if_neg (by omega)) (if_pos (by omega)) (if_pos (by omega)) (if_neg (by omega))
    (decide_eq_false (by omega)) (decide_eq_false (by omega)) (decide_eq_true (by omega)) (decide_eq_true (by omega)) (decide_eq_false (by omega))
theorem rq_B2n {sv : Nat → Int} {m0 m1 f un g : Int} (hp : rq_par sv m0 m1 f) (hf : 0 < f) (h0 : 0 ≤ un) (hg : 0 ≤ g) (h : g - f < sv 0 + (m0 + m1)) :
    rq_brnd sv m0 m1 f (rq_v (-1000000) (-1000000) (-1000000) (g - f) g un, rq_b false false true true false) = (rq_v (-1000000) (-1000000) (-1000000) (g - f) g un, rq_b false false false false false) := by
  obtain ⟨hs, g1, g2, g3, g4, hf0, hf1⟩ := hp
  exact rq_brnd_v (t2 := -1000000) (t1 := -1000000) (u2 := -1000000) (u1 := -1000000) (r0 := -1000000) (r1 := -1000000) (r2 := -1000000) (r3 := -1000000) (r4 := -1000000) hf0 (rq_brt_t (by omega) (by rw [rq_mt0 hs, if_pos h])) rq_brt_f rq_brt_f rq_brt_f
    (by unfold rq_br; omega) (by unfold rq_br; omega) (by unfold rq_br; omega) (by unfold rq_br; omega) (by omega)
    (if_neg (by omega)) (if_neg (by omega)) (if_neg (by omega)) (if_neg (by omega)) (if_neg (by omega))
    (decide_eq_false (by omega)) (decide_eq_false (by omega)) (decide_eq_false (by omega)) (decide_eq_false (by omega)) (decide_eq_false (by omega))
theorem rq_B2y {sv : Nat → Int} {m0 m1 f un g : Int} (hp : rq_par sv m0 m1 f) (hf : 0 < f) (h0 : 0 ≤ un) (hg : 0 ≤ g) (h : sv 0 + (m0 + m1) ≤ g - f) :
    rq_brnd sv m0 m1 f (rq_v (-1000000) (-1000000) (-1000000) (g - f) g un, rq_b false false true true false) = (rq_v (-1000000) (sv 0) (sv 0 + m0) (g - f) g un, rq_b true true false false false) := by
  obtain ⟨hs, g1, g2, g3, g4, hf0, hf1⟩ := hp
  have hs0 := hs 0
  exact rq_brnd_v (t2 := sv 0) (t1 := sv 0) (u2 := -1000000) (u1 := -1000000) (r0 := sv 0) (r1 := sv 0 + m0) (r2 := -1000000) (r3 := -1000000) (r4 := -1000000) hf0 (rq_brt_t (by omega) (by rw [rq_mt0 hs, if_neg (by omega)])) rq_brt_f rq_brt_f rq_brt_f
    (by unfold rq_br; omega) (by unfold rq_br; omega) (by unfold rq_br; omega) (by unfold rq_br; omega) (by omega)
    (if_pos (by omega)) (if_pos (by omega)) (if_neg (by omega)) (if_neg (by omega)) (if_neg (by omega))
    (decide_eq_true (by omega)) (decide_eq_true (by omega)) (decide_eq_false (by omega)) (decide_eq_false (by omega)) (decide_eq_false (by omega))
theorem rq_B3 {sv : Nat → Int} {m0 m1 f un g : Int} (hp : rq_par sv m0 m1 f) (hf : 0 < f) (h0 : 0 ≤ un) (hg : 0 ≤ g) (h : sv 0 + (m0 + m1) ≤ g - f) (hg2 : g + m1 ≤ un) :
    rq_brnd sv m0 m1 f (rq_v (-1000000) (sv 0) (sv 0 + m0) (g - f) g un, rq_b true true false false false) = (rq_v (-1000000) (sv 0) (sv 0 + m0) (g - f) g un, rq_b false false false false false) := by
  obtain ⟨hs, g1, g2, g3, g4, hf0, hf1⟩ := hp
  have hs0 := hs 0
  have hs1 := hs 1
  have hs2 := hs 2
  have hm := rq_mt1 (off := m1 + 5) (tm := sv 0 + m0) hs
  have hmi := rq_mt_in (l := 1) (off := m1 + 5) (tm := sv 0 + m0) hs
  have hmx : rq_mt sv 1 (m1 + 5) (sv 0 + m0) = -1000000 ∨ (0 ≤ rq_mt sv 1 (m1 + 5) (sv 0 + m0) ∧ rq_mt sv 1 (m1 + 5) (sv 0 + m0) + (m1 + 5) ≤ sv 0 + m0) := by omega
  have e3 : rq_br 0 (rq_mt sv 1 (m1 + 5) (sv 0 + m0)) = rq_mt sv 1 (m1 + 5) (sv 0 + m0) := by unfold rq_br; omega
  have e4 : rq_br m1 (rq_mt sv 1 (m1 + 5) (sv 0 + m0)) ≤ un := by unfold rq_br; omega
  have e2 : (if 0 < f ∧ -1000000 < rq_mt sv 1 (m1 + 5) (sv 0 + m0) - f then rq_mt sv 1 (m1 + 5) (sv 0 + m0) - f else -1000000) ≤ g - f := by omega
  have e1 : rq_mt sv 1 (m1 + 5) (sv 0 + m0) ≤ g := by omega
  exact rq_brnd_v (t2 := -1000000) (t1 := sv 0) (u2 := rq_mt sv 1 (m1 + 5) (sv 0 + m0)) (u1 := rq_mt sv 1 (m1 + 5) (sv 0 + m0)) (r0 := sv 0) (r1 := -1000000) hf0 rq_brt_f (rq_brt_t (by omega) (by rw [rq_mt0 hs, if_neg (by omega)])) (rq_brt_t (by omega) rfl) rq_brt_f
    (by unfold rq_br; omega) (by unfold rq_br; omega) e3 rfl rfl
    (if_neg (by omega)) (if_neg (by omega)) (if_neg (by omega)) (if_neg (by omega)) (if_neg (by omega))
    (decide_eq_false (by omega)) (decide_eq_false (by omega)) (decide_eq_false (by omega)) (decide_eq_false (by omega)) (decide_eq_false (by omega))
/-- the law's two words for the last start -/
def rq_ok (sv : Nat → Int) (m0 m1 f un s : Int) : Prop := sv 0 + m0 + m1 + f ≤ s ∧ s + m1 ≤ un
theorem rq_finB {sv : Nat → Int} {m0 m1 f un : Int} (hp : rq_par sv m0 m1 f) (hf : 0 < f) (h0 : 0 ≤ un) (h1 : un ≤ 1000) :
    ((rq_ok sv m0 m1 f un (sv 1) ∨ rq_ok sv m0 m1 f un (sv 2)) → rq_bval ((rq_biter sv m0 m1 f 12 (rq_bbeg f 4 un)).1 0) = sv 0) ∧
    (¬ (rq_ok sv m0 m1 f un (sv 1) ∨ rq_ok sv m0 m1 f un (sv 2)) → rq_bval ((rq_biter sv m0 m1 f 12 (rq_bbeg f 4 un)).1 0) = -5) := by
  have hs := hp.1
  have hs0 := hs 0
  have hs1 := hs 1
  have hs2 := hs 2
  obtain ⟨_, g1, g2, g3, g4, hf0, hf1⟩ := id hp
  have hm := rq_mt1 (off := m1) (tm := un) hs
  rw [rq_bbeg_4 hf0 h0]
  unfold rq_ok
  by_cases hg : rq_mt sv 1 m1 un = -1000000
  · rw [(rq_biter_t (n := 11) rfl (rq_B1n hp h0 hg)).trans (rq_biter_f rfl)]
    exact ⟨fun z => by omega, fun _ => rfl⟩
  · have hgp : 0 ≤ rq_mt sv 1 m1 un := by omega
    have hgu : rq_mt sv 1 m1 un + m1 ≤ un := by omega
    by_cases z : sv 0 + (m0 + m1) ≤ rq_mt sv 1 m1 un - f
    · rw [(rq_biter_t (n := 11) rfl (rq_B1y hp hf h0 rfl hgp)).trans ((rq_biter_t (n := 10) rfl (rq_B2y hp hf h0 hgp z)).trans ((rq_biter_t (n := 9) rfl (rq_B3 hp hf h0 hgp z hgu)).trans (rq_biter_f rfl)))]
      refine ⟨fun _ => ?_, fun t => ?_⟩
      · show (if 0 ≤ sv 0 then (if sv 0 ≤ 1000 then sv 0 else 1000) else -5) = sv 0
        omega
      · exact absurd (show _ from by omega) t
    · rw [(rq_biter_t (n := 11) rfl (rq_B1y hp hf h0 rfl hgp)).trans ((rq_biter_t (n := 10) rfl (rq_B2n hp hf h0 hgp (by omega))).trans (rq_biter_f rfl))]
      exact ⟨fun t => by omega, fun _ => rfl⟩
end
section
/-! ===== the builder calls ===== -/
theorem rq_line {post : Int32 → St2 → Prop} {tr be : Int32} {a1 a2 a3 a4 a5 a6 a7 a8 a9 : Nat → Int32} {L s : Nat} (hL : L < 5) (hs : s < 8)
    (K : post (nI L) (nI (L + 1), tr, be, upd a1 L 1, upd a2 (L * 6) (nI s), upd a3 (L * 6) 0, a4, a5, a6, a7, a8, a9)) :
    wpX_line post (nI L, tr, be, a1, a2, a3, a4, a5, a6, a7, a8, a9) (nI s) := by
  unfold wpX_line
  dsimp only
  have e6 : nI L * 6 = nI (L * 6) := by rw [show (6 : Int32) = nI 6 from rfl, pk_mul]
  refine rq_badStop hs ?_
  refine br_t rfl ?_
  rw [e6, nI_clamp (show L < 2 ^ 31 by omega), nI_clamp (show L * 6 < 2 ^ 31 by omega)]
  refine pk_lt L 5 (fun _ => ⟨pk_in L 5 hL, nm_e ⟨pk_in (L * 6) 30 (by omega), nm_e ⟨pk_in (L * 6) 30 (by omega), nm_e (nm_r (nI_1 L) ?_)⟩⟩⟩) (fun z => absurd z (by omega))
  rw [nI_pred]
  exact K
theorem rq_badLine {post : Int32 → Prop} {tr be : Int32} {a1 a2 a3 a4 a5 a6 a7 a8 a9 : Nat → Int32} {L l : Nat} (hl : l < L) (hL : L ≤ 5) (K : post 0) : wpX_badLine post (nI L, tr, be, a1, a2, a3, a4, a5, a6, a7, a8, a9) (nI l) :=
  pk_lt l 0 (fun z => absurd z (by omega)) (fun _ => pk_lt l L (fun _ => K) (fun z => absurd z (by omega)))
/-- the search: no stop before number p is the one -/
theorem rq_x31 {post : Int32 → St2 → Prop} {li tr be : Int32} {a1 a2 a3 a4 a5 a6 a7 a8 a9 : Nat → Int32} {l n p s : Nat} {x3 : Int32} (hl : l < 5) (hn : n ≤ 6) (hp : p ≤ n) (h2 : ∀ i, i < p → a2 (l * 6 + i) ≠ nI s)
    (H : ∀ m, wX_extend_31 post (nI l) (nI s) x3 (nI n) li tr be a1 a2 a3 a4 a5 a6 a7 a8 a9 (m + 1) (nI p)) : ∃ m, wX_extend_31 post (nI l) (nI s) x3 (nI n) li tr be a1 a2 a3 a4 a5 a6 a7 a8 a9 m 0 := by
  refine pk_loop (σ := Unit) (fun m i _ => wX_extend_31 post (nI l) (nI s) x3 (nI n) li tr be a1 a2 a3 a4 a5 a6 a7 a8 a9 m (nI i)) (fun _ _ => True) p 0 () (by omega) trivial (fun m _ _ => H m) ?_
  intro m i _ hi _ hk
  refine pk_le n i (fun z => absurd z (by omega)) (fun _ => ?_)
  rw [rq_6, nI_clamp (show l * 6 + i < 2 ^ 31 by omega)]
  exact ⟨pk_in (l * 6 + i) 30 (by omega), br_f (h2 i hi) (nm_r (nI_1 i) (hk () trivial))⟩
theorem rq_extend {post : Int32 → St2 → Prop} {be : Int32} {a1 a2 a3 a4 a5 a6 a7 a8 a9 : Nat → Int32} {L l n s : Nat} {xm : Int32} {mm : Int} (hl : l < L) (hL : L ≤ 5) (hn1 : 1 ≤ n) (hn : n < 6) (hs : s < 8)
    (h1 : a1 l = nI n) (h2 : ∀ i, i < n → a2 (l * 6 + i) ≠ nI s) (hm : xm.toInt = mm) (hm0 : 1 ≤ mm) (hm1 : mm ≤ 30)
    (K : post (nI (n + 1)) (nI L, nI 0, be, upd a1 l (nI (n + 1)), upd a2 (l * 6 + n) (nI s), upd a3 (l * 6 + n) (a3 (l * 6 + (n - 1)) + xm), a4, a5, a6, a7, a8, a9)) :
    wpX_extend post (nI L, nI 0, be, a1, a2, a3, a4, a5, a6, a7, a8, a9) (nI l) (nI s) xm := by
  unfold wpX_extend
  dsimp only
  refine rq_badLine hl hL ?_
  refine br_t rfl ?_
  refine rq_badStop hs ?_
  refine br_t rfl ?_
  rw [nI_clamp (show l < 2 ^ 31 by omega)]
  refine ⟨pk_in l 5 (by omega), nm_r h1 ?_⟩
  refine rq_x31 (by omega) (by omega) (Nat.le_refl n) h2 (fun m => ?_)
  have e1 : nI (l * 6 + n) - 1 = nI (l * 6 + (n - 1)) := by
    rw [show l * 6 + n = l * 6 + (n - 1) + 1 by omega, nI_pred]
  refine pk_le n n (fun _ => ?_) (fun z => absurd z (by omega))
  refine rq_lt mm 1 hm rfl (fun z => absurd z (by omega)) (fun _ => ?_)
  refine rq_le mm 30 hm rfl (fun _ => ?_) (fun z => absurd z (by omega))
  refine ⟨1, pk_le 0 0 (fun _ => ?_) (fun z => absurd z (by omega))⟩
  refine pk_le 6 n (fun z => absurd z (by omega)) (fun _ => ?_)
  refine br_t rfl ?_
  rw [rq_6, e1, nI_clamp (show l < 2 ^ 31 by omega), nI_clamp (show l * 6 + n < 2 ^ 31 by omega), nI_clamp (show l * 6 + (n - 1) < 2 ^ 31 by omega), nI_1]
  exact ⟨pk_in (l * 6 + n) 30 (by omega), nm_e ⟨pk_in (l * 6 + (n - 1)) 30 (by omega), pk_in (l * 6 + n) 30 (by omega), nm_e ⟨pk_in l 5 (by omega), nm_e K⟩⟩⟩
theorem rq_stne {st : Nat → Nat} (hst : rq_perm st) {i j : Nat} (hi : i < 8) (hj : j < 8) (h : i ≠ j) : nI (st i) ≠ nI (st j) := by
  have hi' := rq_lt8 hst hi
  have hj' := rq_lt8 hst hj
  intro e
  rw [nI_eq (by omega) (by omega)] at e
  exact h (rq_inj hst hi hj e)
theorem rq_extFull {post : Int32 → St2 → Prop} {st : Nat → Nat} {sv : Nat → Int} {m0 m1 f : Int} {li tr be : Int32} {a1 a2 a3 a4 a5 a6 a7 a8 a9 : Nat → Int32}
    (hN : rq_net st sv m0 m1 f li tr a1 a2 a3 a4 a5 a6) (K : post (-4) (li, tr, be, a1, a2, a3, a4, a5, a6, a7, a8, a9)) :
    wpX_extend post (li, tr, be, a1, a2, a3, a4, a5, a6, a7, a8, a9) 1 (nI (st 5)) 1 := by
  obtain ⟨hst, hp, hli, htr, hS, hA, hT, hW⟩ := hN
  subst hli htr
  unfold wpX_extend
  dsimp only
  refine rq_badLine (l := 1) (by omega) (by omega) ?_
  refine br_t rfl ?_
  refine rq_badStop (rq_lt8 hst (by omega)) ?_
  refine br_t rfl ?_
  refine ⟨pk_in 1 5 (by omega), nm_r (hS 1 (by omega)) ?_⟩
  refine rq_x31 (l := 1) (n := 3) (p := 3) (by omega) (by omega) (by omega) (fun i hi => ?_) (fun m => ?_)
  · rw [(hA 1 i (by omega) hi).1]
    match i, hi with
    | 0, _ => exact rq_stne hst (i := 3) (j := 5) (by omega) (by omega) (by omega)
    | 1, _ => exact rq_stne hst (i := 4) (j := 5) (by omega) (by omega) (by omega)
    | 2, _ => exact rq_stne hst (i := 1) (j := 5) (by omega) (by omega) (by omega)
  · refine pk_le 3 3 (fun _ => ?_) (fun z => absurd z (by omega))
    refine br_f (by decide) ?_
    refine br_t (by decide) ?_
    refine ⟨2, pk_le 3 0 (fun z => absurd z (by omega)) (fun _ => ⟨pk_in 0 12 (by omega), ?_⟩)⟩
    refine br_f (show ¬ a4 0 = 1 from by rw [(hT 0 (by omega)).1]; decide) (nm_r (nI_1 0) ?_)
    refine pk_le 3 1 (fun z => absurd z (by omega)) (fun _ => ⟨pk_in 1 12 (by omega), ?_⟩)
    refine br_t (show a4 1 = 1 from (hT 1 (by omega)).1) ?_
    exact br_f (by decide) (br_f (by decide) K)
theorem rq_extBad {post : Int32 → St2 → Prop} {st : Nat → Nat} {sv : Nat → Int} {m0 m1 f : Int} {li tr be : Int32} {a1 a2 a3 a4 a5 a6 a7 a8 a9 : Nat → Int32}
    (hN : rq_net st sv m0 m1 f li tr a1 a2 a3 a4 a5 a6) (K : post (-1) (li, tr, be, a1, a2, a3, a4, a5, a6, a7, a8, a9)) :
    wpX_extend post (li, tr, be, a1, a2, a3, a4, a5, a6, a7, a8, a9) 0 (nI (st 2)) 1 := by
  obtain ⟨hst, hp, hli, htr, hS, hA, hT, hW⟩ := hN
  subst hli htr
  unfold wpX_extend
  dsimp only
  refine rq_badLine (l := 0) (by omega) (by omega) ?_
  refine br_t rfl ?_
  refine rq_badStop (rq_lt8 hst (by omega)) ?_
  refine br_t rfl ?_
  refine ⟨pk_in 0 5 (by omega), nm_r (hS 0 (by omega)) ?_⟩
  refine rq_x31 (l := 0) (n := 3) (p := 2) (by omega) (by omega) (by omega) (fun i hi => ?_) (fun m => ?_)
  · rw [(hA 0 i (by omega) (by omega)).1]
    match i, hi with
    | 0, _ => exact rq_stne hst (i := 0) (j := 2) (by omega) (by omega) (by omega)
    | 1, _ => exact rq_stne hst (i := 1) (j := 2) (by omega) (by omega) (by omega)
  · refine pk_le 3 2 (fun z => absurd z (by omega)) (fun _ => ?_)
    rw [rq_6, nI_clamp (show 0 * 6 + 2 < 2 ^ 31 by omega)]
    exact ⟨pk_in (0 * 6 + 2) 30 (by omega), br_t (hA 0 2 (by omega) (by omega)).1 K⟩
theorem rq_trip {post : Int32 → St2 → Prop} {be : Int32} {a1 a2 a3 a4 a5 a6 a7 a8 a9 : Nat → Int32} {L T l : Nat} {x : Int32} {v : Int} (hl : l < L) (hL : L ≤ 5) (hT : T < 12) (hx : x.toInt = v) (hv0 : 0 ≤ v) (hv1 : v ≤ 500)
    (K : post (nI T) (nI L, nI (T + 1), be, a1, a2, a3, upd a4 T (nI l), upd a5 T x, a6, a7, a8, a9)) : wpX_trip post (nI L, nI T, be, a1, a2, a3, a4, a5, a6, a7, a8, a9) (nI l) x := by
  unfold wpX_trip
  dsimp only
  refine rq_badLine hl hL ?_
  refine br_t rfl ?_
  refine rq_lt v 0 hx rfl (fun z => absurd z (by omega)) (fun _ => rq_le v 500 hx rfl (fun _ => ?_) (fun z => absurd z (by omega)))
  rw [nI_clamp (show T < 2 ^ 31 by omega)]
  refine pk_lt T 12 (fun _ => ⟨pk_in T 12 hT, nm_e ⟨pk_in T 12 hT, nm_e (nm_r (nI_1 T) ?_)⟩⟩) (fun z => absurd z (by omega))
  rw [nI_pred]
  exact K
theorem rq_foot {post : Int32 → St2 → Prop} {li tr be : Int32} {a1 a2 a3 a4 a5 a6 a7 a8 a9 : Nat → Int32} {s t : Nat} {x : Int32} {v : Int} (hs : s < 8) (ht : t < 8) (hst : s ≠ t) (hx : x.toInt = v) (hv0 : 0 ≤ v) (hv1 : v ≤ 30)
    (K : post (a6 (s * 8 + t)) (li, tr, be, a1, a2, a3, a4, a5, upd (upd a6 (s * 8 + t) x) (t * 8 + s) x, a7, a8, a9)) : wpX_footpath post (li, tr, be, a1, a2, a3, a4, a5, a6, a7, a8, a9) (nI s) (nI t) x := by
  unfold wpX_footpath
  dsimp only
  refine rq_badStop hs ?_
  refine br_t rfl ?_
  refine rq_badStop ht ?_
  refine br_t rfl ?_
  refine pk_eq s t (fun z => absurd z hst) (fun _ => ?_)
  refine rq_lt v 0 hx rfl (fun z => absurd z (by omega)) (fun _ => rq_le v 30 hx rfl (fun _ => ?_) (fun z => absurd z (by omega)))
  rw [rq_8, rq_8, nI_clamp (show s * 8 + t < 2 ^ 31 by omega), nI_clamp (show t * 8 + s < 2 ^ 31 by omega)]
  exact ⟨pk_in (s * 8 + t) 64 (by omega), nm_e ⟨pk_in (s * 8 + t) 64 (by omega), nm_e ⟨pk_in (t * 8 + s) 64 (by omega), nm_e K⟩⟩⟩
/-- the footpath between 2 and 3, set anew -/
theorem rq_wkNew {st : Nat → Nat} (hst : rq_perm st) {a6 : Nat → Int32} {f g : Int} {x : Int32} {p r : Nat} (hx : x.toInt = g) (hpr : (p = 2 ∧ r = 3) ∨ (p = 3 ∧ r = 2)) (hW : ∀ u s, u < 8 → s < 8 → (a6 (st u * 8 + st s)).toInt = rq_wk f u s) :
    ∀ u s, u < 8 → s < 8 → ((upd (upd a6 (st p * 8 + st r) x) (st r * 8 + st p) x) (st u * 8 + st s)).toInt = rq_wk g u s := by
  intro u s hu hs
  have hp : p < 8 := by omega
  have hr : r < 8 := by omega
  have hu' := rq_lt8 hst hu
  have hs' := rq_lt8 hst hs
  have hp' := rq_lt8 hst hp
  have hr' := rq_lt8 hst hr
  have key : ∀ a b, a < 8 → b < 8 → (st u * 8 + st s = st a * 8 + st b ↔ u = a ∧ s = b) := by
    intro a b ha hb
    have ha' := rq_lt8 hst ha
    have hb' := rq_lt8 hst hb
    constructor
    · intro e
      exact ⟨rq_inj hst hu ha (by omega), rq_inj hst hs hb (by omega)⟩
    · intro e
      rw [e.1, e.2]
  by_cases e1 : u = r ∧ s = p
  · rw [(key r p hr hp).mpr e1, pk_us, hx]
    unfold rq_wk
    rw [if_pos (by omega)]
  · rw [pk_un (fun z => e1 ((key r p hr hp).mp z))]
    by_cases e2 : u = p ∧ s = r
    · rw [(key p r hp hr).mpr e2, pk_us, hx]
      unfold rq_wk
      rw [if_pos (by omega)]
    · rw [pk_un (fun z => e2 ((key p r hp hr).mp z)), hW u s hu hs]
      unfold rq_wk
      rw [if_neg (by omega), if_neg (by omega)]
theorem rq_delay {post : Int32 → St2 → Prop} {st : Nat → Nat} {sv : Nat → Int} {m0 m1 f : Int} {li tr be : Int32} {a1 a2 a3 a4 a5 a6 a7 a8 a9 : Nat → Int32}
    (hN : rq_net st sv m0 m1 f li tr a1 a2 a3 a4 a5 a6)
    (K : ∀ c5, rq_net st (fun t => if t = 0 then 500 else sv t) m0 m1 f li tr a1 a2 a3 a4 c5 a6 → post (a5 0) (li, tr, be, a1, a2, a3, a4, c5, a6, a7, a8, a9)) :
    wpX_delay post (li, tr, be, a1, a2, a3, a4, a5, a6, a7, a8, a9) 0 500 := by
  obtain ⟨hst, ⟨hsv, hp⟩, hli, htr, hS, hA, hT, hW⟩ := hN
  have hN2 : rq_net st (fun t => if t = 0 then 500 else sv t) m0 m1 f li tr a1 a2 a3 a4 (upd a5 0 500) a6 := by
    refine ⟨hst, ⟨fun t => ?_, hp⟩, hli, htr, hS, hA, fun t ht => ⟨(hT t ht).1, ?_⟩, hW⟩
    · have := hsv t
      dsimp only
      split <;> omega
    · dsimp only
      by_cases e : t = 0
      · rw [e, pk_us, if_pos rfl]; rfl
      · rw [pk_un e, if_neg e]; exact (hT t ht).2
  subst htr
  refine pk_lt 0 0 (fun z => absurd z (by omega)) (fun _ => pk_lt 0 3 (fun _ => ?_) (fun z => absurd z (by omega)))
  refine br_f (by decide) ?_
  refine br_t (by decide) ?_
  exact ⟨pk_in 0 12 (by omega), nm_e ⟨pk_in 0 12 (by omega), nm_e (K _ hN2)⟩⟩
theorem rq_min {post : Int32 → Prop} {x y : Int32} {a b : Int} (hx : x.toInt = a) (hy : y.toInt = b) (K : ∀ z : Int32, z.toInt = rq_mnl a b → post z) : wpL_min post () x y := by
  unfold rq_mnl at K
  refine rq_lt a 0 hx rfl (fun z => K y ?_) (fun z => rq_lt b 0 hy rfl (fun z2 => K x ?_) (fun z2 => rq_le a b hx hy (fun z3 => K x ?_) (fun z3 => K y ?_)))
  · rw [if_pos z]; exact hy
  · rw [if_neg (by omega), if_pos z2]; exact hx
  · rw [if_neg (by omega), if_neg (by omega), if_pos z3]; exact hx
  · rw [if_neg (by omega), if_neg (by omega), if_neg (by omega)]; exact hy
/-! the script's cells -/
theorem rq_mod (x : Int32) {M D : Int32} (k d : Nat) (hM : M.toBitVec.toNat = 2 ^ k - 1) (hk : k ≤ 30) (hD : D = nI d) (h0 : 0 < d) (hd : d < 2 ^ 31) : ∃ r : Nat, r < d ∧ (x &&& M) - (x &&& M) / D * D = nI r := by
  obtain ⟨j, hj, e⟩ := pk_andE x k hM
  have hj2 : j < 2 ^ 31 := Nat.lt_of_lt_of_le hj (Nat.pow_le_pow_right (by omega) (by omega))
  refine ⟨j % d, Nat.mod_lt _ h0, ?_⟩
  rw [e, hD, pk_rem hj2 h0 hd]
theorem rq_xor32 (a b : Nat) : nI a ^^^ nI b = nI (a ^^^ b) := by
  apply Int32.toBitVec_inj.1
  show BitVec.ofNat 32 a ^^^ BitVec.ofNat 32 b = BitVec.ofNat 32 (a ^^^ b)
  apply BitVec.eq_of_getLsbD_eq
  intro i hi
  simp [hi]
end
section
/-! ===== the law, from its end to its beginning ===== -/
theorem rq_g {sv : Nat → Int} {m0 m1 f q : Int} (hp : rq_par sv m0 m1 f) (hf : 0 < f) (hq0 : 0 ≤ q) (hq : q ≤ 1000) :
    rq_val ((rq_iter sv m0 m1 f 12 (rq_beg f 0 q)).1 1) = rq_at1 sv m0 q ∧ rq_val ((rq_iter sv m0 m1 f 12 (rq_beg f 0 q)).1 2) = rq_at2 sv m0 m1 q ∧ rq_val ((rq_iter sv m0 m1 f 12 (rq_beg f 0 q)).1 3) = rq_at3 f (rq_at2 sv m0 m1 q) ∧ rq_val ((rq_iter sv m0 m1 f 12 (rq_beg f 0 q)).1 4) = rq_at4 sv m1 (rq_at3 f (rq_at2 sv m0 m1 q)) := by
  obtain ⟨c1, c2, c3, c4, e, h1, h2, h3, h4, _⟩ := rq_fin0 hp hf hq0 hq
  rw [e]
  exact ⟨h1, h2, h3, h4⟩
/-- what the law knows of its numbers -/
def rq_ctx (st : Nat → Nat) (sv : Nat → Int) (m0 m1 f q : Int) (x7 x8 x9 x10 x11 x12 x13 : Int32) : Prop :=
  0 < f ∧ 0 ≤ q ∧ q ≤ 119 ∧ ((1 : Int32) ^^^ nI (st 0) = nI (st 1) ∧ (2 : Int32) ^^^ nI (st 0) = nI (st 2) ∧ (3 : Int32) ^^^ nI (st 0) = nI (st 3) ∧ (4 : Int32) ^^^ nI (st 0) = nI (st 4)) ∧
  x7.toInt = m0 ∧ x8.toInt = m1 ∧ x9.toInt = f ∧ x10.toInt = sv 0 ∧ x11.toInt = sv 1 ∧ x12.toInt = sv 2 ∧ x13.toInt = q
section
variable {post : Int32 → St0 → Prop} {mc ms kc ks : Nat} {st : Nat → Nat} {sv : Nat → Int} {m0 m1 f q : Int} {x4 x7 x8 x9 x10 x11 x12 x13 x14 x15 x16 x18 x19 x20 x21 z0 z1 z2 : Int32} {li tr be : Int32} {a1 a2 a3 a4 a5 a6 a7 a8 a9 : Nat → Int32}
theorem rq_L833 {a b : Int} (hc : rq_ctx st sv m0 m1 f q x7 x8 x9 x10 x11 x12 x13) (hN : rq_net st sv m0 m1 f li tr a1 a2 a3 a4 a5 a6) (h1 : z1.toInt = a) (h0 : z0.toInt = b) (h2 : z2.toInt = rq_mnl a b) (K : post 1 ()) :
    wL_lawOf_833 post mc ms (nI (st 0)) x7 x8 x9 x10 x13 z0 z1 z2 kc ks li tr be a1 a2 a3 a4 a5 a6 a7 a8 a9 := by
  obtain ⟨hf, hq0, hq1, ⟨y1, y2, y3, y4⟩, hx7, hx8, hx9, hx10, hx11, hx12, hx13⟩ := hc
  obtain ⟨hst, ⟨hsv, g1, g2, g3, g4, hf0, hf1⟩, hli, htr, hS, hA, hT, hW⟩ := hN
  unfold wL_lawOf_833
  rw [y2, y3, y4]
  refine rq_min h1 h0 (fun r hr => ?_)
  refine rq_eq _ _ h2 hr (fun _ => ?_) (fun z => absurd rfl z)
  refine rq_foot (rq_lt8 hst (by omega)) (rq_lt8 hst (by omega)) (fun e => absurd (rq_inj hst (by omega) (by omega) e) (by omega)) (show (0 : Int32).toInt = 0 from rfl) (by omega) (by omega) ?_
  have hN2 : rq_net st sv m0 m1 0 li tr a1 a2 a3 a4 a5 (upd (upd a6 (st 3 * 8 + st 2) 0) (st 2 * 8 + st 3) 0) :=
    ⟨hst, ⟨hsv, g1, g2, g3, g4, by omega, by omega⟩, hli, htr, hS, hA, hT, rq_wkNew hst (p := 3) (r := 2) (show (0 : Int32).toInt = 0 from rfl) (by omega) hW⟩
  refine rq_eq f f (hW 3 2 (by omega) (by omega)) hx9 (fun _ => ?_) (fun z => absurd rfl z)
  refine rq_earliest (a := 0) (b := 4) hN2 (by omega) (by omega) hx13 hq0 (by omega) (fun y b2 d7 d8 d9 hy => ?_)
  rw [(rq_fin3 hN2.2.1 hq0 (by omega)).1] at hy
  refine rq_eq (-5) (-5) hy rfl (fun _ => ?_) (fun z => absurd rfl z)
  refine rq_delay hN2 (fun c5 hN3 => ?_)
  refine rq_eq (sv 0) (sv 0) (hT 0 (by omega)).2 hx10 (fun _ => ?_) (fun z => absurd rfl z)
  refine rq_earliest (a := 0) (b := 2) hN3 (by omega) (by omega) hx13 hq0 (by omega) (fun y b2 d7 d8 d9 hy => ?_)
  rw [(rq_fin3 hN3.2.1 hq0 (by omega)).2 (show q ≤ 500 by omega)] at hy
  refine rq_eq (500 + (m0 + m1)) (500 + m0 + m1) hy (rq_add (rq_add rfl hx7 (by omega) (by omega)) hx8 (by omega) (by omega)) (fun _ => K) (fun z => absurd (by omega) z)
theorem rq_L813 (hc : rq_ctx st sv m0 m1 f q x7 x8 x9 x10 x11 x12 x13) (hN : rq_net st sv m0 m1 f li tr a1 a2 a3 a4 a5 a6) (h0 : z0.toInt = if sv 1 < q + f then -5 else sv 1 + m1)
    (h1 : z1.toInt = rq_mnl (if sv 1 < q + f then -5 else sv 1 + m1) (if sv 2 < q + f then -5 else sv 2 + m1)) (K : post 1 ()) :
    wL_lawOf_813 post mc ms (nI (st 0)) x7 x8 x9 x10 x12 x13 z0 z1 kc ks li tr be a1 a2 a3 a4 a5 a6 a7 a8 a9 := by
  have hc' := hc
  obtain ⟨hf, hq0, hq1, _, hx7, hx8, hx9, hx10, hx11, hx12, hx13⟩ := hc'
  obtain ⟨hsv, g1, g2, g3, g4, hf0, hf1⟩ := hN.2.1
  have s2 := hsv 2
  refine rq_lt (sv 2) (q + f) hx12 (rq_add hx13 hx9 (by omega) (by omega)) (fun z => ?_) (fun z => ?_)
  · exact rq_L833 (b := -5) hc hN h0 rfl (by rw [h1, if_pos z]) K
  · exact rq_L833 (b := sv 2 + m1) hc hN h0 (rq_add hx12 hx8 (by omega) (by omega)) (by rw [h1, if_neg (show ¬ sv 2 < q + f by omega)]) K
theorem rq_L773 {v : Int} (hc : rq_ctx st sv m0 m1 f q x7 x8 x9 x10 x11 x12 x13) (hN : rq_net st sv m0 m1 f li tr a1 a2 a3 a4 a5 a6) (h0 : z0.toInt = v) (h1 : z1.toInt = v) (K : post 1 ()) :
    wL_lawOf_773 post mc ms (nI (st 0)) x7 x8 x9 x10 x11 x12 x13 z0 z1 kc ks li tr be a1 a2 a3 a4 a5 a6 a7 a8 a9 := by
  have hc' := hc
  obtain ⟨hf, hq0, hq1, ⟨y1, y2, y3, y4⟩, hx7, hx8, hx9, hx10, hx11, hx12, hx13⟩ := hc'
  obtain ⟨hsv, g1, g2, g3, g4, hf0, hf1⟩ := hN.2.1
  have s1 := hsv 1
  unfold wL_lawOf_773
  rw [y2, y4]
  refine rq_eq v v h1 h0 (fun _ => ?_) (fun z => absurd rfl z)
  refine rq_earliest (a := 2) (b := 4) hN (by omega) (by omega) hx13 hq0 (by omega) (fun y b2 d7 d8 d9 hy => ?_)
  rw [rq_fin2 hN.2.1 hf hq0 (by omega)] at hy
  refine rq_lt (sv 1) (q + f) hx11 (rq_add hx13 hx9 (by omega) (by omega)) (fun z => ?_) (fun z => ?_)
  · exact rq_L813 hc hN (by rw [if_pos z]; rfl) hy K
  · exact rq_L813 hc hN (by rw [if_neg (show ¬ sv 1 < q + f by omega)]; exact rq_add hx11 hx8 (by omega) (by omega)) hy K
theorem rq_L741 {un : Int} (hc : rq_ctx st sv m0 m1 f q x7 x8 x9 x10 x11 x12 x13) (hN : rq_net st sv m0 m1 f li tr a1 a2 a3 a4 a5 a6) (hu : x19.toInt = un) (hu0 : 0 ≤ un) (hu1 : un ≤ 1000)
    (h21 : x21 = 0 ↔ ¬ rq_ok sv m0 m1 f un (sv 1)) (h0 : z0 = 0 ↔ ¬ rq_ok sv m0 m1 f un (sv 2)) (K : post 1 ()) :
    wL_lawOf_741 post mc ms (nI (st 0)) x7 x8 x9 x10 x11 x12 x13 x19 x21 z0 kc ks li tr be a1 a2 a3 a4 a5 a6 a7 a8 a9 := by
  have hc' := hc
  obtain ⟨hf, hq0, hq1, ⟨y1, y2, y3, y4⟩, hx7, hx8, hx9, hx10, hx11, hx12, hx13⟩ := hc'
  have hB := rq_finB hN.2.1 hf hu0 hu1
  unfold wL_lawOf_741
  rw [y4]
  refine rq_latest (a := 0) (b := 4) hN (by omega) (by omega) hu hu0 hu1 (fun y b2 d7 d8 d9 hy => ?_)
  refine ek_if h21 (fun n1 => ek_if h0 (fun n2 => ?_) (fun n2 => ?_)) (fun n1 => ?_)
  · rw [hB.2 (fun t => t.elim n1 n2)] at hy
    exact rq_L773 hc hN rfl hy K
  · rw [hB.1 (Or.inr (Classical.not_not.mp n2))] at hy
    unfold wL_lawOf_766
    exact rq_L773 hc hN hx10 hy K
  · rw [hB.1 (Or.inl (Classical.not_not.mp n1))] at hy
    unfold wL_lawOf_766
    exact rq_L773 hc hN hx10 hy K
theorem rq_L708 {un : Int} (hc : rq_ctx st sv m0 m1 f q x7 x8 x9 x10 x11 x12 x13) (hN : rq_net st sv m0 m1 f li tr a1 a2 a3 a4 a5 a6) (hu : x19.toInt = un) (hu0 : 0 ≤ un) (hu1 : un ≤ 1000)
    (h0 : z0 = 0 ↔ ¬ rq_ok sv m0 m1 f un (sv 1)) (K : post 1 ()) :
    wL_lawOf_708 post mc ms (nI (st 0)) x7 x8 x9 x10 x11 x12 x13 x19 z0 kc ks li tr be a1 a2 a3 a4 a5 a6 a7 a8 a9 := by
  have hc' := hc
  obtain ⟨hf, hq0, hq1, _, hx7, hx8, hx9, hx10, hx11, hx12, hx13⟩ := hc'
  obtain ⟨hsv, g1, g2, g3, g4, hf0, hf1⟩ := hN.2.1
  have s0 := hsv 0
  have s2 := hsv 2
  refine rq_lt (sv 2) (sv 0 + m0 + m1 + f) hx12 (rq_add (rq_add (rq_add hx10 hx7 (by omega) (by omega)) hx8 (by omega) (by omega)) hx9 (by omega) (by omega)) (fun z => ?_) (fun z => ?_)
  · unfold wL_lawOf_740
    exact rq_L741 hc hN hu hu0 hu1 h0 ⟨fun _ t => absurd t.1 (by omega), fun _ => rfl⟩ K
  · refine rq_lt un (sv 2 + m1) hu (rq_add hx12 hx8 (by omega) (by omega)) (fun z2 => ?_) (fun z2 => ?_)
    · unfold wL_lawOf_740
      exact rq_L741 hc hN hu hu0 hu1 h0 ⟨fun _ t => absurd t.2 (by omega), fun _ => rfl⟩ K
    · exact rq_L741 hc hN hu hu0 hu1 h0 ⟨fun t => absurd t (by decide), fun t => absurd ⟨z, z2⟩ t⟩ K
theorem rq_L659 {un : Int} (hc : rq_ctx st sv m0 m1 f q x7 x8 x9 x10 x11 x12 x13) (hN : rq_net st sv m0 m1 f li tr a1 a2 a3 a4 a5 a6) (hu : x19.toInt = un) (hu0 : 0 ≤ un) (hu1 : un ≤ 1000)
    (h20 : x20.toInt = rq_cnt (rq_iter sv m0 m1 f 12 (rq_beg f 0 q)).1 un) (K : post 1 ()) :
    wL_lawOf_659 post mc ms (nI (st 0)) x7 x8 x9 x10 x11 x12 x13 x19 x20 kc ks li tr be a1 a2 a3 a4 a5 a6 a7 a8 a9 := by
  have hc' := hc
  obtain ⟨hf, hq0, hq1, _, hx7, hx8, hx9, hx10, hx11, hx12, hx13⟩ := hc'
  obtain ⟨hsv, g1, g2, g3, g4, hf0, hf1⟩ := hN.2.1
  have s0 := hsv 0
  have s1 := hsv 1
  unfold wL_lawOf_659
  refine rq_within (a := 0) hN (by omega) hx13 hq0 (by omega) hu hu0 hu1 (fun y b2 d7 d8 d9 hy => ?_)
  refine rq_eq _ _ hy h20 (fun _ => ?_) (fun z => absurd rfl z)
  refine rq_lt (sv 1) (sv 0 + m0 + m1 + f) hx11 (rq_add (rq_add (rq_add hx10 hx7 (by omega) (by omega)) hx8 (by omega) (by omega)) hx9 (by omega) (by omega)) (fun z => ?_) (fun z => ?_)
  · unfold wL_lawOf_707
    exact rq_L708 hc hN hu hu0 hu1 ⟨fun _ t => absurd t.1 (by omega), fun _ => rfl⟩ K
  · refine rq_lt un (sv 1 + m1) hu (rq_add hx11 hx8 (by omega) (by omega)) (fun z2 => ?_) (fun z2 => ?_)
    · unfold wL_lawOf_707
      exact rq_L708 hc hN hu hu0 hu1 ⟨fun _ t => absurd t.2 (by omega), fun _ => rfl⟩ K
    · exact rq_L708 hc hN hu hu0 hu1 ⟨fun t => absurd t (by decide), fun t => absurd ⟨z, z2⟩ t⟩ K
theorem rq_L644 {un n c : Int} (hc : rq_ctx st sv m0 m1 f q x7 x8 x9 x10 x11 x12 x13) (hN : rq_net st sv m0 m1 f li tr a1 a2 a3 a4 a5 a6) (hu : x19.toInt = un) (hu0 : 0 ≤ un) (hu1 : un ≤ 1000)
    (h18 : x18.toInt = c) (h20 : x20.toInt = n) (n0 : 0 ≤ n) (n1 : n ≤ 4) (hn : n + rq_inc un c = rq_cnt (rq_iter sv m0 m1 f 12 (rq_beg f 0 q)).1 un) (K : post 1 ()) :
    wL_lawOf_644 post mc ms (nI (st 0)) x7 x8 x9 x10 x11 x12 x13 x18 x19 x20 kc ks li tr be a1 a2 a3 a4 a5 a6 a7 a8 a9 := by
  refine rq_lt c 0 h18 rfl (fun z => ?_) (fun z => rq_lt un c hu h18 (fun z2 => ?_) (fun z2 => fun y ey => ?_))
  · exact rq_L659 hc hN hu hu0 hu1 (by rw [← hn, h20]; unfold rq_inc; omega) K
  · exact rq_L659 hc hN hu hu0 hu1 (by rw [← hn, h20]; unfold rq_inc; omega) K
  · exact rq_L659 hc hN hu hu0 hu1 (by rw [← hn, ey, rq_add h20 (show (1 : Int32).toInt = 1 from rfl) (by omega) (by omega)]; unfold rq_inc; omega) K
theorem rq_L629 {un n c b : Int} (hc : rq_ctx st sv m0 m1 f q x7 x8 x9 x10 x11 x12 x13) (hN : rq_net st sv m0 m1 f li tr a1 a2 a3 a4 a5 a6) (hu : x19.toInt = un) (hu0 : 0 ≤ un) (hu1 : un ≤ 1000)
    (h18 : x18.toInt = c) (h15 : x15.toInt = b) (h20 : x20.toInt = n) (n0 : 0 ≤ n) (n1 : n ≤ 3) (hn : n + rq_inc un b + rq_inc un c = rq_cnt (rq_iter sv m0 m1 f 12 (rq_beg f 0 q)).1 un) (K : post 1 ()) :
    wL_lawOf_629 post mc ms (nI (st 0)) x7 x8 x9 x10 x11 x12 x13 x15 x18 x19 x20 kc ks li tr be a1 a2 a3 a4 a5 a6 a7 a8 a9 := by
  refine rq_lt b 0 h15 rfl (fun z => ?_) (fun z => rq_lt un b hu h15 (fun z2 => ?_) (fun z2 => fun y ey => ?_))
  · exact rq_L644 hc hN hu hu0 hu1 h18 h20 n0 (by omega) (by rw [← hn, show rq_inc un b = 0 by unfold rq_inc; omega]; omega) K
  · exact rq_L644 hc hN hu hu0 hu1 h18 h20 n0 (by omega) (by rw [← hn, show rq_inc un b = 0 by unfold rq_inc; omega]; omega) K
  · exact rq_L644 (n := n + 1) hc hN hu hu0 hu1 h18 (by rw [ey]; exact rq_add h20 rfl (by omega) (by omega)) (by omega) (by omega) (by rw [← hn, show rq_inc un b = 1 by unfold rq_inc; omega]) K
theorem rq_L614 {un n c b a : Int} (hc : rq_ctx st sv m0 m1 f q x7 x8 x9 x10 x11 x12 x13) (hN : rq_net st sv m0 m1 f li tr a1 a2 a3 a4 a5 a6) (hu : x19.toInt = un) (hu0 : 0 ≤ un) (hu1 : un ≤ 1000)
    (h18 : x18.toInt = c) (h15 : x15.toInt = b) (h14 : x14.toInt = a) (h20 : x20.toInt = n) (n0 : 0 ≤ n) (n1 : n ≤ 2) (hn : n + rq_inc un a + rq_inc un b + rq_inc un c = rq_cnt (rq_iter sv m0 m1 f 12 (rq_beg f 0 q)).1 un) (K : post 1 ()) :
    wL_lawOf_614 post mc ms (nI (st 0)) x7 x8 x9 x10 x11 x12 x13 x14 x15 x18 x19 x20 kc ks li tr be a1 a2 a3 a4 a5 a6 a7 a8 a9 := by
  refine rq_lt a 0 h14 rfl (fun z => ?_) (fun z => rq_lt un a hu h14 (fun z2 => ?_) (fun z2 => fun y ey => ?_))
  · exact rq_L629 hc hN hu hu0 hu1 h18 h15 h20 n0 (by omega) (by rw [← hn, show rq_inc un a = 0 by unfold rq_inc; omega]; omega) K
  · exact rq_L629 hc hN hu hu0 hu1 h18 h15 h20 n0 (by omega) (by rw [← hn, show rq_inc un a = 0 by unfold rq_inc; omega]; omega) K
  · exact rq_L629 (n := n + 1) hc hN hu hu0 hu1 h18 h15 (by rw [ey]; exact rq_add h20 rfl (by omega) (by omega)) (by omega) (by omega) (by rw [← hn, show rq_inc un a = 1 by unfold rq_inc; omega]) K
theorem rq_L592 {un n c b a : Int} (hc : rq_ctx st sv m0 m1 f q x7 x8 x9 x10 x11 x12 x13) (hN : rq_net st sv m0 m1 f li tr a1 a2 a3 a4 a5 a6) (hu : x19.toInt = un) (hu0 : 0 ≤ un) (hu1 : un ≤ 1000)
    (h18 : x18.toInt = c) (h15 : x15.toInt = b) (h14 : x14.toInt = a) (h20 : z0.toInt = n) (n0 : 0 ≤ n) (n1 : n ≤ 1) (hn : n + rq_inc un (rq_at1 sv m0 q) + rq_inc un a + rq_inc un b + rq_inc un c = rq_cnt (rq_iter sv m0 m1 f 12 (rq_beg f 0 q)).1 un) (K : post 1 ()) :
    wL_lawOf_592 post mc ms (nI (st 0)) x7 x8 x9 x10 x11 x12 x13 x14 x15 x18 x19 z0 kc ks li tr be a1 a2 a3 a4 a5 a6 a7 a8 a9 := by
  have hc' := hc
  obtain ⟨hf, hq0, hq1, _, hx7, hx8, hx9, hx10, hx11, hx12, hx13⟩ := hc'
  obtain ⟨hsv, g1, g2, g3, g4, hf0, hf1⟩ := hN.2.1
  have s0 := hsv 0
  refine rq_lt (sv 0) q hx10 hx13 (fun z => ?_) (fun z => rq_lt un (sv 0 + m0) hu (rq_add hx10 hx7 (by omega) (by omega)) (fun z2 => ?_) (fun z2 => fun y ey => ?_))
  · have e : rq_inc un (rq_at1 sv m0 q) = 0 := by unfold rq_at1; rw [if_neg (by omega)]; rfl
    exact rq_L614 hc hN hu hu0 hu1 h18 h15 h14 h20 n0 (by omega) (by rw [← hn, e]; omega) K
  · have e : rq_inc un (rq_at1 sv m0 q) = 0 := by unfold rq_at1; rw [if_pos (by omega)]; unfold rq_inc; omega
    exact rq_L614 hc hN hu hu0 hu1 h18 h15 h14 h20 n0 (by omega) (by rw [← hn, e]; omega) K
  · have e : rq_inc un (rq_at1 sv m0 q) = 1 := by unfold rq_at1; rw [if_pos (by omega)]; unfold rq_inc; omega
    exact rq_L614 (n := n + 1) hc hN hu hu0 hu1 h18 h15 h14 (by rw [ey]; exact rq_add h20 rfl (by omega) (by omega)) (by omega) (by omega) (by rw [← hn, e]) K
theorem rq_L542 {v : Int} (hc : rq_ctx st sv m0 m1 f q x7 x8 x9 x10 x11 x12 x13) (hN : rq_net st sv m0 m1 f li tr a1 a2 a3 a4 a5 a6)
    (h14 : x14.toInt = rq_at2 sv m0 m1 q) (h15 : x15.toInt = rq_at3 f (rq_at2 sv m0 m1 q)) (h18 : x18.toInt = rq_at4 sv m1 (rq_at3 f (rq_at2 sv m0 m1 q))) (h0 : z0.toInt = v) (h1 : z1.toInt = v) (K : post 1 ()) :
    wL_lawOf_542 post mc ms x4 (nI (st 0)) x7 x8 x9 x10 x11 x12 x13 x14 x15 x18 z0 z1 kc ks li tr be a1 a2 a3 a4 a5 a6 a7 a8 a9 := by
  have hc' := hc
  obtain ⟨hf, hq0, hq1, ⟨y1, y2, y3, y4⟩, hx7, hx8, hx9, hx10, hx11, hx12, hx13⟩ := hc'
  unfold wL_lawOf_542
  rw [y4]
  refine rq_eq v v h1 h0 (fun _ => ?_) (fun z => absurd rfl z)
  refine rq_earliest (a := 4) (b := 0) hN (by omega) (by omega) hx13 hq0 (by omega) (fun y b2 d7 d8 d9 hy => ?_)
  rw [rq_fin4] at hy
  refine rq_eq (-5) (-5) hy rfl (fun _ => ⟨by decide, ?_⟩) (fun z => absurd rfl z)
  obtain ⟨r, hr, er⟩ := rq_mod (x4 >>> ((10 : Int32) &&& 31)) (M := 1023) (D := 300) 10 300 (by decide) (by omega) rfl (by omega) (by omega)
  refine nm_r er ?_
  have hu : (nI r).toInt = (r : Int) := rq_nI (by omega)
  have h6 := rq_fin6 (un := (r : Int)) hN.2.1 hf hq0 (by omega) (by omega) (by omega)
  refine rq_lt (r : Int) q hu hx13 (fun z => ?_) (fun z => ?_)
  · rw [if_pos z] at h6
    exact rq_L592 (n := 0) hc hN hu (by omega) (by omega) h18 h15 h14 rfl (by omega) (by omega) h6.symm K
  · rw [if_neg (show ¬ (r : Int) < q by omega)] at h6
    exact rq_L592 (n := 1) hc hN hu (by omega) (by omega) h18 h15 h14 rfl (by omega) (by omega) h6.symm K
theorem rq_L513 {v : Int} (hc : rq_ctx st sv m0 m1 f q x7 x8 x9 x10 x11 x12 x13) (hN : rq_net st sv m0 m1 f li tr a1 a2 a3 a4 a5 a6)
    (h14 : x14.toInt = rq_at2 sv m0 m1 q) (h15 : x15.toInt = rq_at3 f (rq_at2 sv m0 m1 q)) (h18 : x18.toInt = rq_at4 sv m1 (rq_at3 f (rq_at2 sv m0 m1 q))) (h0 : z0.toInt = v) (h1 : z1.toInt = v) (K : post 1 ()) :
    wL_lawOf_513 post mc ms x4 (nI (st 0)) x7 x8 x9 x10 x11 x12 x13 x14 x15 x18 z0 z1 kc ks li tr be a1 a2 a3 a4 a5 a6 a7 a8 a9 := by
  have hc' := hc
  obtain ⟨hf, hq0, hq1, ⟨y1, y2, y3, y4⟩, hx7, hx8, hx9, hx10, hx11, hx12, hx13⟩ := hc'
  unfold wL_lawOf_513
  rw [y3]
  refine rq_eq v v h1 h0 (fun _ => ?_) (fun z => absurd rfl z)
  refine rq_rides (a := 0) (b := 3) hN (by omega) (by omega) hx13 hq0 (by omega) (fun y b2 d7 d8 d9 hy => ?_)
  rw [rq_rid3 hN.2.1 hf hq0 (by omega)] at hy
  refine rq_le 0 _ rfl h15 (fun z => ?_) (fun z => ?_)
  · rw [if_pos z] at hy
    exact rq_L542 hc hN h14 h15 h18 rfl hy K
  · rw [if_neg (by omega)] at hy
    exact rq_L542 hc hN h14 h15 h18 rfl hy K
theorem rq_L465 {v : Int} (hc : rq_ctx st sv m0 m1 f q x7 x8 x9 x10 x11 x12 x13) (hN : rq_net st sv m0 m1 f li tr a1 a2 a3 a4 a5 a6)
    (h14 : x14.toInt = rq_at2 sv m0 m1 q) (h15 : x15.toInt = rq_at3 f (rq_at2 sv m0 m1 q)) (h18 : x18.toInt = rq_at4 sv m1 (rq_at3 f (rq_at2 sv m0 m1 q))) (h0 : z0.toInt = v) (h1 : z1.toInt = v) (K : post 1 ()) :
    wL_lawOf_465 post mc ms x4 (nI (st 0)) x7 x8 x9 x10 x11 x12 x13 x14 x15 x18 z0 z1 kc ks li tr be a1 a2 a3 a4 a5 a6 a7 a8 a9 := by
  have hc' := hc
  obtain ⟨hf, hq0, hq1, ⟨y1, y2, y3, y4⟩, hx7, hx8, hx9, hx10, hx11, hx12, hx13⟩ := hc'
  unfold wL_lawOf_465
  rw [y4]
  refine rq_eq v v h1 h0 (fun _ => ?_) (fun z => absurd rfl z)
  refine rq_earliestWith1 (a := 0) (b := 4) hN (by omega) (by omega) hx13 hq0 (by omega) (fun y b2 d7 d8 d9 hy => ?_)
  rw [rq_fin1 hN.2.1 hf hq0 (by omega)] at hy
  refine rq_eq (-5) (-5) hy rfl (fun _ => ?_) (fun z => absurd rfl z)
  refine rq_rides (a := 0) (b := 4) hN (by omega) (by omega) hx13 hq0 (by omega) (fun y b2 d7 d8 d9 hy => ?_)
  rw [rq_rid4 hN.2.1 hf hq0 (by omega)] at hy
  refine rq_le 0 _ rfl h18 (fun z => ?_) (fun z => ?_)
  · rw [if_pos z] at hy
    exact rq_L513 hc hN h14 h15 h18 rfl hy K
  · rw [if_neg (by omega)] at hy
    exact rq_L513 hc hN h14 h15 h18 rfl hy K
theorem rq_L368 (hc : rq_ctx st sv m0 m1 f q x7 x8 x9 x10 x11 x12 x13) (hN : rq_net st sv m0 m1 f li tr a1 a2 a3 a4 a5 a6)
    (h14 : x14.toInt = rq_at2 sv m0 m1 q) (h15 : x15.toInt = rq_at3 f (rq_at2 sv m0 m1 q)) (h16 : x16.toInt = rq_on (sv 1) m1 (rq_at3 f (rq_at2 sv m0 m1 q))) (h0 : z0.toInt = rq_on (sv 2) m1 (rq_at3 f (rq_at2 sv m0 m1 q))) (K : post 1 ()) :
    wL_lawOf_368 post mc ms x4 (nI (st 0)) x7 x8 x9 x10 x11 x12 x13 x14 x15 x16 z0 kc ks li tr be a1 a2 a3 a4 a5 a6 a7 a8 a9 := by
  have hc' := hc
  obtain ⟨hf, hq0, hq1, ⟨y1, y2, y3, y4⟩, hx7, hx8, hx9, hx10, hx11, hx12, hx13⟩ := hc'
  obtain ⟨hsv, g1, g2, g3, g4, hf0, hf1⟩ := hN.2.1
  have s0 := hsv 0
  obtain ⟨w1, w2, w3, w4⟩ := rq_g hN.2.1 hf hq0 (by omega)
  unfold wL_lawOf_368
  rw [y1, y2, y3, y4]
  refine rq_min h16 h0 (fun r hr => ?_)
  refine rq_earliest (a := 0) (b := 2) hN (by omega) (by omega) hx13 hq0 (by omega) (fun y b2 d7 d8 d9 hy => ?_)
  rw [w2] at hy
  refine rq_eq _ _ hy h14 (fun _ => ?_) (fun z => absurd rfl z)
  refine rq_earliest (a := 0) (b := 3) hN (by omega) (by omega) hx13 hq0 (by omega) (fun y b2 d7 d8 d9 hy => ?_)
  rw [w3] at hy
  refine rq_eq _ _ hy h15 (fun _ => ?_) (fun z => absurd rfl z)
  refine rq_earliest (a := 0) (b := 4) hN (by omega) (by omega) hx13 hq0 (by omega) (fun y b2 d7 d8 d9 hy => ?_)
  rw [w4] at hy
  refine rq_eq _ _ hy hr (fun _ => ?_) (fun z => absurd rfl z)
  refine rq_earliest (a := 0) (b := 1) hN (by omega) (by omega) hx13 hq0 (by omega) (fun y b2 d7 d8 d9 hy => ?_)
  rw [w1] at hy
  unfold rq_at1 at hy
  refine rq_lt (sv 0) q hx10 hx13 (fun z => ?_) (fun z => ?_)
  · rw [if_neg (by omega)] at hy
    exact rq_L465 hc hN h14 h15 hr rfl hy K
  · rw [if_pos z] at hy
    exact rq_L465 hc hN h14 h15 hr (rq_add hx10 hx7 (by omega) (by omega)) hy K
theorem rq_L344 (hc : rq_ctx st sv m0 m1 f q x7 x8 x9 x10 x11 x12 x13) (hN : rq_net st sv m0 m1 f li tr a1 a2 a3 a4 a5 a6)
    (h14 : x14.toInt = rq_at2 sv m0 m1 q) (h15 : x15.toInt = rq_at3 f (rq_at2 sv m0 m1 q)) (h0 : z0.toInt = rq_on (sv 1) m1 (rq_at3 f (rq_at2 sv m0 m1 q))) (K : post 1 ()) :
    wL_lawOf_344 post mc ms x4 (nI (st 0)) x7 x8 x9 x10 x11 x12 x13 x14 x15 z0 kc ks li tr be a1 a2 a3 a4 a5 a6 a7 a8 a9 := by
  have hc' := hc
  obtain ⟨hf, hq0, hq1, _, hx7, hx8, hx9, hx10, hx11, hx12, hx13⟩ := hc'
  obtain ⟨hsv, g1, g2, g3, g4, hf0, hf1⟩ := hN.2.1
  have s2 := hsv 2
  refine rq_lt _ 0 h15 rfl (fun z => ?_) (fun z => rq_lt (sv 2) _ hx12 h15 (fun z2 => ?_) (fun z2 => ?_))
  · unfold wL_lawOf_366
    exact rq_L368 hc hN h14 h15 h0 (by unfold rq_on; rw [if_pos z]; rfl) K
  · unfold wL_lawOf_366
    exact rq_L368 hc hN h14 h15 h0 (by unfold rq_on; rw [if_neg (by omega), if_pos z2]; rfl) K
  · exact rq_L368 hc hN h14 h15 h0 (by unfold rq_on; rw [if_neg (by omega), if_neg (by omega)]; exact rq_add hx12 hx8 (by omega) (by omega)) K
theorem rq_L320 (hc : rq_ctx st sv m0 m1 f q x7 x8 x9 x10 x11 x12 x13) (hN : rq_net st sv m0 m1 f li tr a1 a2 a3 a4 a5 a6)
    (h14 : x14.toInt = rq_at2 sv m0 m1 q) (h0 : z0.toInt = rq_at3 f (rq_at2 sv m0 m1 q)) (K : post 1 ()) :
    wL_lawOf_320 post mc ms x4 (nI (st 0)) x7 x8 x9 x10 x11 x12 x13 x14 z0 kc ks li tr be a1 a2 a3 a4 a5 a6 a7 a8 a9 := by
  have hc' := hc
  obtain ⟨hf, hq0, hq1, _, hx7, hx8, hx9, hx10, hx11, hx12, hx13⟩ := hc'
  obtain ⟨hsv, g1, g2, g3, g4, hf0, hf1⟩ := hN.2.1
  have s1 := hsv 1
  refine rq_lt _ 0 h0 rfl (fun z => ?_) (fun z => rq_lt (sv 1) _ hx11 h0 (fun z2 => ?_) (fun z2 => ?_))
  · unfold wL_lawOf_342
    exact rq_L344 hc hN h14 h0 (by unfold rq_on; rw [if_pos z]; rfl) K
  · unfold wL_lawOf_342
    exact rq_L344 hc hN h14 h0 (by unfold rq_on; rw [if_neg (by omega), if_pos z2]; rfl) K
  · exact rq_L344 hc hN h14 h0 (by unfold rq_on; rw [if_neg (by omega), if_neg (by omega)]; exact rq_add hx11 hx8 (by omega) (by omega)) K
theorem rq_L303 (hc : rq_ctx st sv m0 m1 f q x7 x8 x9 x10 x11 x12 x13) (hN : rq_net st sv m0 m1 f li tr a1 a2 a3 a4 a5 a6)
    (h0 : z0.toInt = rq_at2 sv m0 m1 q) (K : post 1 ()) :
    wL_lawOf_303 post mc ms x4 (nI (st 0)) x7 x8 x9 x10 x11 x12 x13 z0 kc ks li tr be a1 a2 a3 a4 a5 a6 a7 a8 a9 := by
  have hc' := hc
  obtain ⟨hf, hq0, hq1, _, hx7, hx8, hx9, hx10, hx11, hx12, hx13⟩ := hc'
  obtain ⟨hsv, g1, g2, g3, g4, hf0, hf1⟩ := hN.2.1
  have s0 := hsv 0
  have b2 : rq_at2 sv m0 m1 q ≤ 600 := by unfold rq_at2; omega
  refine rq_le 0 _ rfl h0 (fun z => ?_) (fun z => ?_)
  · exact rq_L320 hc hN h0 (by unfold rq_at3; rw [if_pos z]; exact rq_add h0 hx9 (by omega) (by omega)) K
  · exact rq_L320 hc hN h0 (by unfold rq_at3; rw [if_neg (by omega)]; rfl) K
end
end
section
/-! ===== what the builder calls leave ===== -/
def rq_Z : Nat → Int32 := fun _ => 0
def rq_A1 : Nat → Int32 := upd (upd (upd (upd (upd (upd (fun _ => 0) 0 1) 0 (nI 2)) 0 (nI 3)) 1 1) 1 (nI 2)) 1 (nI 3)
def rq_A2 (st : Nat → Nat) : Nat → Int32 := upd (upd (upd (upd (upd (upd (fun _ => 0) 0 (nI (st 0))) 1 (nI (st 1))) 2 (nI (st 2))) 6 (nI (st 3))) 7 (nI (st 4))) 8 (nI (st 1))
def rq_A3 (x7 x8 : Int32) : Nat → Int32 := upd (upd (upd (upd (upd (upd (fun _ => 0) 0 0) 1 (0 + x7)) 2 (0 + x7 + x8)) 6 0) 7 (0 + x8)) 8 (0 + x8 + 5)
def rq_A4 : Nat → Int32 := upd (upd (upd (fun _ => 0) 0 (nI 0)) 1 (nI 1)) 2 (nI 1)
def rq_A5 (x10 x11 x12 : Int32) : Nat → Int32 := upd (upd (upd (fun _ => 0) 0 x10) 1 x11) 2 x12
def rq_A6 (st : Nat → Nat) (x9 : Int32) : Nat → Int32 := upd (upd (fun _ => 0) (st 2 * 8 + st 3) x9) (st 3 * 8 + st 2) x9
theorem rq_netB {st : Nat → Nat} {sv : Nat → Int} {m0 m1 f : Int} {x7 x8 x9 x10 x11 x12 : Int32} (hst : rq_perm st) (hp : rq_par sv m0 m1 f) (hx7 : x7.toInt = m0) (hx8 : x8.toInt = m1) (hx9 : x9.toInt = f)
    (hx10 : x10.toInt = sv 0) (hx11 : x11.toInt = sv 1) (hx12 : x12.toInt = sv 2) : rq_net st sv m0 m1 f (nI 2) (nI 3) rq_A1 (rq_A2 st) (rq_A3 x7 x8) rq_A4 (rq_A5 x10 x11 x12) (rq_A6 st x9) := by
  obtain ⟨hsv, g1, g2, g3, g4, hf0, hf1⟩ := id hp
  have z0 : (0 : Int32).toInt = 0 := rfl
  have z5 : (5 : Int32).toInt = 5 := rfl
  refine ⟨hst, hp, rfl, rfl, fun l hl => ?_, fun l i hl hi => ?_, fun t ht => ?_, ?_⟩
  · match l, hl with
    | 0, _ => rfl
    | 1, _ => rfl
  · match l, i, hl, hi with
    | 0, 0, _, _ => exact ⟨rfl, rfl⟩
    | 0, 1, _, _ => exact ⟨rfl, show (0 + x7).toInt = m0 from by rw [rq_add z0 hx7 (by omega) (by omega)]; omega⟩
    | 0, 2, _, _ => exact ⟨rfl, show (0 + x7 + x8).toInt = m0 + m1 from by rw [rq_add (rq_add z0 hx7 (by omega) (by omega)) hx8 (by omega) (by omega)]; omega⟩
    | 1, 0, _, _ => exact ⟨rfl, rfl⟩
    | 1, 1, _, _ => exact ⟨rfl, show (0 + x8).toInt = m1 from by rw [rq_add z0 hx8 (by omega) (by omega)]; omega⟩
    | 1, 2, _, _ => exact ⟨rfl, show (0 + x8 + 5).toInt = m1 + 5 from by rw [rq_add (rq_add z0 hx8 (by omega) (by omega)) z5 (by omega) (by omega)]; omega⟩
  · match t, ht with
    | 0, _ => exact ⟨rfl, hx10⟩
    | 1, _ => exact ⟨rfl, hx11⟩
    | 2, _ => exact ⟨rfl, hx12⟩
  · refine rq_wkNew hst (p := 2) (r := 3) (f := 0) hx9 (by omega) (fun u s _ _ => ?_)
    unfold rq_wk
    split <;> rfl
/-! ===== the whole law ===== -/
theorem rq_mod0 (x : Int32) {M D : Int32} (k d : Nat) (hM : M.toBitVec.toNat = 2 ^ k - 1) (hk : k ≤ 30) (hD : D = nI d) (h0 : 0 < d) (hd : d < 2 ^ 31) : ∃ (y : Int32) (m : Int), (x &&& M) - (x &&& M) / D * D = y ∧ y.toInt = m ∧ 0 ≤ m ∧ m < d := by
  obtain ⟨r, hr, e⟩ := rq_mod x k d hM hk hD h0 hd
  exact ⟨nI r, r, e, rq_nI (by omega), by omega, by omega⟩
theorem rq_mod1 (x : Int32) {M D : Int32} (k d : Nat) (hM : M.toBitVec.toNat = 2 ^ k - 1) (hk : k ≤ 30) (hD : D = nI d) (h0 : 0 < d) (hd : d < 2 ^ 31) (hd2 : d < 2 ^ 30) : ∃ (y : Int32) (m : Int), 1 + ((x &&& M) - (x &&& M) / D * D) = y ∧ y.toInt = m ∧ 1 ≤ m ∧ m ≤ d := by
  obtain ⟨r, hr, e⟩ := rq_mod x k d hM hk hD h0 hd
  exact ⟨1 + nI r, 1 + r, by rw [e], rq_add (show (1 : Int32).toInt = 1 from rfl) (rq_nI (by omega)) (by omega) (by omega), by omega, by omega⟩
theorem rq_stops (p0 : Int32) : ∃ st : Nat → Nat, rq_perm st ∧ p0 &&& 7 = nI (st 0) ∧ ∀ j, nI j ^^^ nI (st 0) = nI (st j) := by
  obtain ⟨k, hk, ek⟩ := pk_andE p0 (m := 7) 3 (by decide)
  refine ⟨fun j => j ^^^ k, rq_xor k (by omega), ?_, fun j => ?_⟩
  · rw [ek]; dsimp only; rw [Nat.zero_xor]
  · dsimp only; rw [Nat.zero_xor, rq_xor32]
theorem rq_lawOf {post : Int32 → St0 → Prop} (p0 p1 p2 p3 p4 : Int32) (K : post 1 ()) : wpL_lawOf post 116 1840 () p0 p1 p2 p3 p4 := by
  obtain ⟨st, hst, ek, yy⟩ := rq_stops p0
  obtain ⟨x7, m0, e7, hx7, l7, u7⟩ := rq_mod1 p1 (M := 1023) (D := 30) 10 30 (by decide) (by omega) rfl (by omega) (by omega) (by omega)
  obtain ⟨x8, m1, e8, hx8, l8, u8⟩ := rq_mod1 (p1 >>> ((10 : Int32) &&& 31)) (M := 1023) (D := 30) 10 30 (by decide) (by omega) rfl (by omega) (by omega) (by omega)
  obtain ⟨x9, f, e9, hx9, l9, u9⟩ := rq_mod1 (p1 >>> ((20 : Int32) &&& 31)) (M := 255) (D := 30) 8 30 (by decide) (by omega) rfl (by omega) (by omega) (by omega)
  obtain ⟨x10, s0, e10, hx10, l10, u10⟩ := rq_mod0 p2 (M := 1023) (D := 100) 10 100 (by decide) (by omega) rfl (by omega) (by omega)
  obtain ⟨x11, s1, e11, hx11, l11, u11⟩ := rq_mod0 (p2 >>> ((10 : Int32) &&& 31)) (M := 1023) (D := 150) 10 150 (by decide) (by omega) rfl (by omega) (by omega)
  obtain ⟨x12, s2, e12, hx12, l12, u12⟩ := rq_mod0 p3 (M := 1023) (D := 150) 10 150 (by decide) (by omega) rfl (by omega) (by omega)
  obtain ⟨x13, q, e13, hx13, l13, u13⟩ := rq_mod0 p4 (M := 1023) (D := 120) 10 120 (by decide) (by omega) rfl (by omega) (by omega)
  have t0 := rq_lt8 hst (show 0 < 8 by omega)
  have t1 := rq_lt8 hst (show 1 < 8 by omega)
  have t2 := rq_lt8 hst (show 2 < 8 by omega)
  have t3 := rq_lt8 hst (show 3 < 8 by omega)
  have t4 := rq_lt8 hst (show 4 < 8 by omega)
  have y1 : (1 : Int32) ^^^ nI (st 0) = nI (st 1) := yy 1
  have y2 : (2 : Int32) ^^^ nI (st 0) = nI (st 2) := yy 2
  have y3 : (3 : Int32) ^^^ nI (st 0) = nI (st 3) := yy 3
  have y4 : (4 : Int32) ^^^ nI (st 0) = nI (st 4) := yy 4
  have y5 : (5 : Int32) ^^^ nI (st 0) = nI (st 5) := yy 5
  have hp : rq_par (fun t => if t = 0 then s0 else if t = 1 then s1 else s2) m0 m1 f := by
    refine ⟨fun t => ?_, l7, u7, l8, u8, by omega, u9⟩
    dsimp only
    omega
  have hN := rq_netB (sv := fun t => if t = 0 then s0 else if t = 1 then s1 else s2) hst hp hx7 hx8 hx9 hx10 hx11 hx12
  have hc : rq_ctx st (fun t => if t = 0 then s0 else if t = 1 then s1 else s2) m0 m1 f q x7 x8 x9 x10 x11 x12 x13 :=
    ⟨by omega, l13, by omega, ⟨y1, y2, y3, y4⟩, hx7, hx8, hx9, hx10, hx11, hx12, hx13⟩
  refine ⟨by omega, by omega, 9, 177, by omega, by omega, ?_⟩
  refine ⟨by omega, by omega, by omega, by omega, by omega, by omega, by omega, by omega, by omega, by omega, by omega, by omega, by omega, by omega, by omega, by omega, by omega, by omega, ?_⟩
  refine nm_r ek ⟨by decide, nm_r e7 ⟨by decide, nm_r e8 ⟨by decide, nm_r e9 ⟨by decide, nm_r e10 ⟨by decide, nm_r e11 ⟨by decide, nm_r e12 ?_⟩⟩⟩⟩⟩⟩
  rw [y1, y2, y3, y4, y5]
  refine rq_line (L := 0) (by omega) t0 ?_
  refine br_t rfl ?_
  refine rq_extend (L := 1) (l := 0) (n := 1) (by omega) (by omega) (by omega) (by omega) t1 rfl (fun i hi => ?_) hx7 l7 u7 ?_
  · match i, hi with
    | 0, _ => exact rq_stne hst (i := 0) (j := 1) (by omega) (by omega) (by omega)
  refine br_t rfl ?_
  refine rq_extend (L := 1) (l := 0) (n := 2) (by omega) (by omega) (by omega) (by omega) t2 rfl (fun i hi => ?_) hx8 l8 u8 ?_
  · match i, hi with
    | 0, _ => exact rq_stne hst (i := 0) (j := 2) (by omega) (by omega) (by omega)
    | 1, _ => exact rq_stne hst (i := 1) (j := 2) (by omega) (by omega) (by omega)
  refine br_t rfl ?_
  refine rq_line (L := 1) (by omega) t3 ?_
  refine br_t rfl ?_
  refine rq_extend (L := 2) (l := 1) (n := 1) (by omega) (by omega) (by omega) (by omega) t4 rfl (fun i hi => ?_) hx8 l8 u8 ?_
  · match i, hi with
    | 0, _ => exact rq_stne hst (i := 3) (j := 4) (by omega) (by omega) (by omega)
  refine br_t rfl ?_
  refine rq_extend (L := 2) (l := 1) (n := 2) (by omega) (by omega) (by omega) (by omega) t1 rfl (fun i hi => ?_) (show (5 : Int32).toInt = 5 from rfl) (by omega) (by omega) ?_
  · match i, hi with
    | 0, _ => exact rq_stne hst (i := 3) (j := 1) (by omega) (by omega) (by omega)
    | 1, _ => exact rq_stne hst (i := 4) (j := 1) (by omega) (by omega) (by omega)
  refine br_t rfl ?_
  refine rq_foot t2 t3 (fun e => absurd (rq_inj hst (by omega) (by omega) e) (by omega)) hx9 (by omega) u9 ?_
  refine br_t rfl ?_
  refine rq_trip (L := 2) (T := 0) (l := 0) (by omega) (by omega) (by omega) hx10 l10 (by omega) ?_
  refine br_t rfl ?_
  refine rq_trip (L := 2) (T := 1) (l := 1) (by omega) (by omega) (by omega) hx11 l11 (by omega) ?_
  refine br_t rfl ?_
  refine rq_trip (L := 2) (T := 2) (l := 1) (by omega) (by omega) (by omega) hx12 l12 (by omega) ?_
  refine br_t rfl ?_
  refine rq_extFull hN ?_
  refine br_t rfl ?_
  refine rq_extBad hN ?_
  refine br_t rfl ?_
  refine ⟨by decide, nm_r e13 ?_⟩
  refine rq_lt s0 q hx10 hx13 (fun z => ?_) (fun z => ?_)
  · exact rq_L303 hc hN (show (-5 : Int32).toInt = if q ≤ s0 then s0 + m0 + m1 else -5 from by rw [if_neg (show ¬ q ≤ s0 by omega)]; rfl) K
  · exact rq_L303 hc hN (show (x10 + x7 + x8).toInt = if q ≤ s0 then s0 + m0 + m1 else -5 from by rw [if_pos z]; exact rq_add (rq_add hx10 hx7 (by omega) (by omega)) hx8 (by omega) (by omega)) K
theorem rq_cell {post : Int32 → Prop} {L : Nat} {xs : Nat → Int32} {i : Nat} (hL : L ≤ 5) (hi : i < 5) (K : ∀ x, post x) : wpL_cellAt post L xs () (nI i) :=
  pk_le L i (fun _ => K _) (fun z => ⟨pk_in i L z, K _⟩)
theorem i_vc (xs : Nat → Int32) (L : Nat) (hL : L ≤ 5) : wpL_law (fun r => r = 1) L xs := by
  unfold wpL_law
  refine rq_cell (i := 0) hL (by omega) (fun r1 => ?_)
  refine rq_cell (i := 1) hL (by omega) (fun r2 => ?_)
  refine rq_cell (i := 2) hL (by omega) (fun r3 => ?_)
  refine rq_cell (i := 3) hL (by omega) (fun r4 => ?_)
  refine rq_cell (i := 4) hL (by omega) (fun r5 => ?_)
  exact ⟨116, 1840, by omega, by omega, rq_lawOf r1 r2 r3 r4 r5 rfl⟩
end
