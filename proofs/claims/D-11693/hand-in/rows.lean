section
/-! the plain law: how many rolls p pieces of width a and q pieces of width b take, out of rolls of width R -/
def cd_L (a b R p q : Nat) : Nat := if p + q = 0 then 0 else if p * a + q * b ≤ R then 1 else if 2 ≤ p ∧ 1 ≤ q ∧ R < 2 * a ∧ R < a + b then 3 else 2
theorem cd_L0 (a b R : Nat) : cd_L a b R 0 0 = 0 := by simp [cd_L]
theorem cd_Lpos {a b R p q : Nat} (h : 1 ≤ p + q) : 1 ≤ cd_L a b R p q := by
  unfold cd_L
  split
  · omega
  · split
    · omega
    · split <;> omega
theorem cd_Lle (a b R p q : Nat) : cd_L a b R p q ≤ 3 := by
  unfold cd_L
  split
  · omega
  · split
    · omega
    · split <;> omega
theorem cd_Llt {a b R p q : Nat} : cd_L a b R p q ≤ 12 := Nat.le_trans (cd_Lle a b R p q) (by omega)
theorem cd_mul1 {k a : Nat} (h : 1 ≤ k) : a ≤ k * a := by
  have := Nat.mul_le_mul_right a h
  omega
theorem cd_mul2 {k a : Nat} (h : 2 ≤ k) : 2 * a ≤ k * a := Nat.mul_le_mul_right a h
/-- a pattern that fits takes at most one roll off -/
theorem cd_Lstep {a b R p q c d : Nat} (hc : c ≤ p) (hd : d ≤ q) (h : c * a + d * b ≤ R) : cd_L a b R p q ≤ 1 + cd_L a b R (p - c) (q - d) := by
  obtain ⟨p', rfl⟩ : ∃ p', p = c + p' := ⟨p - c, by omega⟩
  obtain ⟨q', rfl⟩ : ∃ q', q = d + q' := ⟨q - d, by omega⟩
  rw [show c + p' - c = p' by omega, show d + q' - d = q' by omega]
  unfold cd_L
  rw [Nat.add_mul, Nat.add_mul]
  have e1 : p' = 0 → p' * a = 0 := fun e => by rw [e, Nat.zero_mul]
  have e2 : q' = 0 → q' * b = 0 := fun e => by rw [e, Nat.zero_mul]
  have m1 : 1 ≤ p' → a ≤ p' * a := cd_mul1
  have m2 : 2 ≤ p' → 2 * a ≤ p' * a := cd_mul2
  have m3 : 1 ≤ q' → b ≤ q' * b := cd_mul1
  have m4 : 1 ≤ c → a ≤ c * a := cd_mul1
  have m5 : 2 ≤ c → 2 * a ≤ c * a := cd_mul2
  have m6 : 1 ≤ d → b ≤ d * b := cd_mul1
  generalize p' * a = P at *
  generalize q' * b = Q at *
  generalize c * a = C at *
  generalize d * b = D at *
  repeat' split
  all_goals omega
/-- a maximal pattern takes a roll off -/
theorem cd_Lmax {a b R p q c d : Nat} (hp : p ≤ 2) (hq : q ≤ 1) (h1 : 1 ≤ p + q) (hc : c ≤ p) (hd : d ≤ q) (ha : a ≤ R) (hb : b ≤ R)
    (mc : c < p → R < c * a + d * b + a) (md : d < q → R < c * a + d * b + b) : 1 + cd_L a b R (p - c) (q - d) ≤ cd_L a b R p q := by
  have hp' : p = 0 ∨ p = 1 ∨ p = 2 := by omega
  have hq' : q = 0 ∨ q = 1 := by omega
  have hc' : c = 0 ∨ c = 1 ∨ c = 2 := by omega
  have hd' : d = 0 ∨ d = 1 := by omega
  unfold cd_L
  rcases hp' with rfl | rfl | rfl <;> rcases hq' with rfl | rfl <;> rcases hc' with rfl | rfl | rfl <;> rcases hd' with rfl | rfl
  all_goals first
    | omega
    | (simp only [Nat.zero_mul, Nat.one_mul, Nat.add_zero, Nat.zero_add, Nat.sub_self, Nat.sub_zero, ↓reduceIte] at *
       repeat' split
       all_goals omega)
/-! a row of four kinds, sums over it, the widest kind -/
def cd_v (p q : Nat) : Nat → Nat := fun k => if k = 1 then p else if k = 2 then q else 0
def cd_w (a b : Nat) : Nat → Nat := fun k => if k = 1 then a else if k = 2 then b else 1
theorem cd_4 {P : Nat → Prop} (h0 : P 0) (h1 : P 1) (h2 : P 2) (h3 : P 3) : ∀ k, k < 4 → P k := by
  intro k hk
  have h : k = 0 ∨ k = 1 ∨ k = 2 ∨ k = 3 := by omega
  rcases h with rfl | rfl | rfl | rfl <;> assumption
theorem cd_v0 (p q : Nat) : cd_v p q 0 = 0 := rfl
theorem cd_v1 (p q : Nat) : cd_v p q 1 = p := rfl
theorem cd_v2 (p q : Nat) : cd_v p q 2 = q := rfl
theorem cd_v3 (p q : Nat) : cd_v p q 3 = 0 := rfl
theorem cd_w0 (p q : Nat) : cd_w p q 0 = 1 := rfl
theorem cd_w1 (p q : Nat) : cd_w p q 1 = p := rfl
theorem cd_w2 (p q : Nat) : cd_w p q 2 = q := rfl
theorem cd_w3 (p q : Nat) : cd_w p q 3 = 1 := rfl
theorem cd_v_le {p q N : Nat} (hp : p ≤ N) (hq : q ≤ N) : ∀ k, k < 4 → cd_v p q k ≤ N := cd_4 (Nat.zero_le _) hp hq (Nat.zero_le _)
theorem cd_w_in {a b N : Nat} (ha : 1 ≤ a) (hb : 1 ≤ b) (ha' : a ≤ N) (hb' : b ≤ N) : ∀ k, k < 4 → 1 ≤ cd_w a b k ∧ cd_w a b k ≤ N :=
  cd_4 ⟨Nat.le_refl 1, Nat.le_trans ha ha'⟩ ⟨ha, ha'⟩ ⟨hb, hb'⟩ ⟨Nat.le_refl 1, Nat.le_trans ha ha'⟩
def cd_sum (w c : Nat → Nat) : Nat → Nat
  | 0 => 0
  | n + 1 => cd_sum w c n + c n * w n
theorem cd_sum_mono (w c : Nat → Nat) (i : Nat) : ∀ n, i ≤ n → cd_sum w c i ≤ cd_sum w c n := by
  intro n
  induction n with
  | zero => intro h; rw [show i = 0 by omega]; exact Nat.le_refl _
  | succ n ih =>
    intro h
    by_cases e : i = n + 1
    · rw [e]; exact Nat.le_refl _
    · have := ih (by omega)
      show cd_sum w c i ≤ cd_sum w c n + c n * w n
      omega
theorem cd_sum_congr {w c c' : Nat → Nat} : ∀ n, (∀ k, k < n → c' k = c k) → cd_sum w c' n = cd_sum w c n := by
  intro n
  induction n with
  | zero => intro _; rfl
  | succ n ih =>
    intro h
    show cd_sum w c' n + c' n * w n = cd_sum w c n + c n * w n
    rw [ih (fun k hk => h k (by omega)), h n (by omega)]
/-- what one place adds -/
theorem cd_sum_ge {w c : Nat → Nat} {i m : Nat} : ∀ n, i ≤ m → m < n → cd_sum w c i + c m * w m ≤ cd_sum w c n := by
  intro n h1 h2
  have a1 := cd_sum_mono w c i m h1
  have a2 := cd_sum_mono w c (m + 1) n h2
  have a3 : cd_sum w c (m + 1) = cd_sum w c m + c m * w m := rfl
  omega
def cd_top (f : Nat → Bool) (w : Nat → Nat) : Nat → Nat
  | 0 => 0
  | k + 1 => if f k = true ∧ (cd_top f w k = 0 ∨ w (cd_top f w k - 1) < w k) then k + 1 else cd_top f w k
theorem cd_top_le (f : Nat → Bool) (w : Nat → Nat) : ∀ n, cd_top f w n ≤ n := by
  intro n
  induction n with
  | zero => exact Nat.le_refl 0
  | succ n ih =>
    unfold cd_top
    split <;> omega
theorem cd_top_f (f : Nat → Bool) (w : Nat → Nat) : ∀ n j, cd_top f w n = j + 1 → f j = true := by
  intro n
  induction n with
  | zero => intro j h; exact absurd h (by unfold cd_top; omega)
  | succ n ih =>
    intro j h
    unfold cd_top at h
    split at h
    · rename_i g
      rw [show j = n by omega]
      exact g.1
    · exact ih j h
theorem cd_top_0 (f : Nat → Bool) (w : Nat → Nat) : ∀ n, cd_top f w n = 0 → ∀ k, k < n → f k = false := by
  intro n
  induction n with
  | zero => intro _ k hk; exact absurd hk (by omega)
  | succ n ih =>
    intro h k hk
    unfold cd_top at h
    split at h
    · omega
    · rename_i g
      by_cases e : k = n
      · rw [e]
        cases hf : f n with
        | false => rfl
        | true => exact absurd ⟨hf, Or.inl h⟩ g
      · exact ih h k (by omega)
/-- the widest kind wanted, its number and one more; 0: none -/
def cd_must (w s : Nat → Nat) : Nat := cd_top (fun k => decide (0 < s k)) w 4
theorem cd_must_ex {w s : Nat → Nat} {k : Nat} (hk : k < 4) (h : 0 < s k) : ∃ m, cd_must w s = m + 1 ∧ m < 4 ∧ 0 < s m := by
  have hn : cd_must w s ≠ 0 := fun e => by
    have := cd_top_0 _ w 4 e k hk
    simp only [decide_eq_false_iff_not] at this
    exact this h
  obtain ⟨m, hm⟩ : ∃ m, cd_must w s = m + 1 := ⟨cd_must w s - 1, by omega⟩
  have hl := cd_top_le (fun k => decide (0 < s k)) w 4
  have hf := cd_top_f (fun k => decide (0 < s k)) w 4 m hm
  refine ⟨m, hm, ?_, of_decide_eq_true hf⟩
  have : cd_must w s ≤ 4 := hl
  omega
end
section
/-! ints: places, bytes, the number -1 -/
theorem cd_ix4 (r i : Nat) : nI r * 4 + nI i = nI (r * 4 + i) := by
  rw [show (4 : Int32) = nI 4 from rfl, pk_mul, nI_add]
theorem cd_ix6 (r i : Nat) : nI r * 6 + nI i = nI (r * 6 + i) := by
  rw [show (6 : Int32) = nI 6 from rfl, pk_mul, nI_add]
theorem cd_ix4s (r i : Nat) : (nI r + 1) * 4 + nI i = nI ((r + 1) * 4 + i) := by
  rw [nI_1, cd_ix4]
theorem cd_at {α : Type} (f : Nat → α) {i : Nat} (h : i < 2 ^ 31) : f (nI i).toNatClampNeg = f i := by rw [nI_clamp h]
theorem cd_at4 {α : Type} (f : Nat → α) {r i : Nat} (h : r ≤ 13) (hi : i < 4) : f (nI r * 4 + nI i).toNatClampNeg = f (r * 4 + i) := by
  rw [cd_ix4, nI_clamp (by omega)]
theorem cd_at4s {α : Type} (f : Nat → α) {r i : Nat} (h : r ≤ 12) (hi : i < 4) : f ((nI r + 1) * 4 + nI i).toNatClampNeg = f ((r + 1) * 4 + i) := by
  rw [cd_ix4s, nI_clamp (by omega)]
theorem cd_b8 : ∀ n, n < 128 → (nI n).toInt8.toInt32 = nI n := by decide +kernel
theorem cd_nar {n : Nat} (h : n < 128) : vp_nar .byte (nI n) = nI n := by rw [vp_nar_byte, cd_b8 n h]
def cd_tI (t : Nat) : Int32 := nI t + (-1)
theorem cd_tI0 : cd_tI 0 = -1 := by decide
theorem cd_tIs (t : Nat) : cd_tI (t + 1) = nI t := pk_m1 t
theorem cd_tI0n : cd_tI 0 < 0 := by decide
def cd_row (f : Nat → Int32) (o : Nat) (s : Nat → Nat) : Prop := ∀ k, k < 4 → f (o + k) = nI (s k)
/-- a place of a row is stored -/
theorem cd_put {f : Nat → Int32} {o k x : Nat} {s : Nat → Nat} (h : cd_row f o s) : cd_row (upd f (o + k) (nI x)) o (fun j => if j = k then x else s j) := by
  intro j hj
  by_cases e : j = k
  · show upd f (o + k) (nI x) (o + j) = nI (if j = k then x else s j)
    rw [if_pos e, e, pk_us]
  · show upd f (o + k) (nI x) (o + j) = nI (if j = k then x else s j)
    rw [if_neg e, pk_un (by omega)]
    exact h j hj
end
section
/-! the prices: what they are doesn't matter; no place out of range, no division by 0, an end -/
theorem cd_swap {post : St2 → Prop} {f1 f2 : Int32} {f3 f4 : Int64} {f5 : Int32} {a1 a2 a3 a4 : Nat → Int32} {a5 a6 a7 a8 a9 : Nat → Int64} {a10 a11 a12 a13 a14 : Nat → Int32} {p q : Nat} (hp : p < 4) (hq : q < 4) (H : ∀ (b5 : Nat → Int64), post (f1, f2, f3, f4, f5, a1, a2, a3, a4, b5, a6, a7, a8, a9, a10, a11, a12, a13, a14)) : wpX_swapRows post (f1, f2, f3, f4, f5, a1, a2, a3, a4, a5, a6, a7, a8, a9, a10, a11, a12, a13, a14) (nI p) (nI q) :=
  pk_loop (fun n i s => wX_swapRows_2 post (nI p) (nI q) f1 f2 f3 f4 f5 n (nI i) a1 a2 a3 a4 s a6 a7 a8 a9 a10 a11 a12 a13 a14) (fun _ _ => True) 6 0 a5 (by omega) trivial
    (fun n s _ => pk_le 6 6 (fun _ => H s) (fun z => absurd z (by omega)))
    (fun n i s hi _ hw => pk_le 6 i (fun z => absurd z (by omega)) (fun _ => ⟨pk_in (p * 6 + i) 24 (by omega) (cd_ix6 p i), nm_e ⟨pk_in (q * 6 + i) 24 (by omega) (cd_ix6 q i), pk_in (p * 6 + i) 24 (by omega) (cd_ix6 p i), nm_e ⟨pk_in (q * 6 + i) 24 (by omega) (cd_ix6 q i), nm_e (nm_r (nI_1 i) (hw _ trivial))⟩⟩⟩))
theorem cd_comb {post : St2 → Prop} {f1 f2 : Int32} {f3 f4 : Int64} {f5 : Int32} {a1 a2 a3 a4 : Nat → Int32} {a5 a6 a7 a8 a9 : Nat → Int64} {a10 a11 a12 a13 a14 : Nat → Int32} {p q : Nat} {v u : Int64} (hp : p < 4) (hq : q < 4) (H : ∀ (b5 : Nat → Int64), post (f1, f2, f3, f4, f5, a1, a2, a3, a4, b5, a6, a7, a8, a9, a10, a11, a12, a13, a14)) : wpX_combine post (f1, f2, f3, f4, f5, a1, a2, a3, a4, a5, a6, a7, a8, a9, a10, a11, a12, a13, a14) (nI p) (nI q) v u :=
  ⟨pk_in (p * 6 + q) 24 (by omega) (cd_ix6 p q), fun x7 _ => pk_loop (fun n i s => wX_combine_16 post (nI p) (nI q) v u x7 f1 f2 f3 f4 f5 n (nI i) a1 a2 a3 a4 s a6 a7 a8 a9 a10 a11 a12 a13 a14) (fun _ _ => True) 6 0 a5 (by omega) trivial
    (fun n s _ => pk_le 6 6 (fun _ => H s) (fun z => absurd z (by omega)))
    (fun n i s hi _ hw => pk_le 6 i (fun z => absurd z (by omega)) (fun _ => ⟨pk_in (p * 6 + i) 24 (by omega) (cd_ix6 p i), pk_in (q * 6 + i) 24 (by omega) (cd_ix6 q i), nm_e (br_c (fun _ => ⟨pk_in (p * 6 + i) 24 (by omega) (cd_ix6 p i), nm_e (nm_r (nI_1 i) (hw _ trivial))⟩) (fun g => ⟨g, pk_in (p * 6 + i) 24 (by omega) (cd_ix6 p i), nm_e (nm_r (nI_1 i) (hw _ trivial))⟩))⟩))⟩
theorem cd_red127 {post : Int32 → St2 → Prop} {f1 f2 : Int32} {f3 f4 : Int64} {f5 : Int32} {a1 a2 a3 a4 : Nat → Int32} {a5 a6 a7 a8 a9 : Nat → Int64} {a10 a11 a12 a13 a14 : Nat → Int32} {x1 : Int64} (H : ∀ (b5 : Nat → Int64), post 1 (f1, f2, f3, f4, f5, a1, a2, a3, a4, b5, a6, a7, a8, a9, a10, a11, a12, a13, a14)) : ∃ n, wX_reduce_127 post x1 f1 f2 f3 f4 f5 n 0 a1 a2 a3 a4 a5 a6 a7 a8 a9 a10 a11 a12 a13 a14 :=
  pk_loop (fun n i s => wX_reduce_127 post x1 f1 f2 f3 f4 f5 n (nI i) a1 a2 a3 a4 s a6 a7 a8 a9 a10 a11 a12 a13 a14) (fun _ _ => True) 24 0 a5 (by omega) trivial
    (fun n s _ => pk_le 24 24 (fun _ => H s) (fun z => absurd z (by omega)))
    (fun n i s hi _ hw => pk_le 24 i (fun z => absurd z (by omega)) (fun _ => br_c (fun _ => H s) (fun _ => ⟨pk_in i 24 hi, pk_in i 24 hi, nm_e (nm_r (nI_1 i) (hw _ trivial))⟩)))
theorem cd_red72 {post : Int32 → St2 → Prop} {J4 : Int64 → Int32 → Int32 → Int32 → Int64 → Int64 → Int32 → (Nat → Int32) → (Nat → Int32) → (Nat → Int32) → (Nat → Int32) → (Nat → Int64) → (Nat → Int64) → (Nat → Int64) → (Nat → Int64) → (Nat → Int64) → (Nat → Int32) → (Nat → Int32) → (Nat → Int32) → (Nat → Int32) → (Nat → Int32) → Prop} {f1 f2 : Int32} {f3 f4 : Int64} {f5 : Int32} {a1 a2 a3 a4 : Nat → Int32} {a5 a6 a7 a8 a9 : Nat → Int64} {a10 a11 a12 a13 a14 : Nat → Int32} {x1 x5 : Int64} {c : Nat} (hc : c < 4) (H : ∀ (b5 : Nat → Int64), J4 x5 (nI (c + 1)) f1 f2 f3 f4 f5 a1 a2 a3 a4 b5 a6 a7 a8 a9 a10 a11 a12 a13 a14) : ∃ n, wX_reduce_72 post J4 x1 (nI c) x5 n 0 f1 f2 f3 f4 f5 a1 a2 a3 a4 a5 a6 a7 a8 a9 a10 a11 a12 a13 a14 :=
  pk_loop (fun n i s => wX_reduce_72 post J4 x1 (nI c) x5 n (nI i) f1 f2 f3 f4 f5 a1 a2 a3 a4 s a6 a7 a8 a9 a10 a11 a12 a13 a14) (fun _ _ => True) 4 0 a5 (by omega) trivial
    (fun n s _ => pk_le 4 4 (fun _ => nm_r (nI_1 c) (H s)) (fun z => absurd z (by omega)))
    (fun n i s hi _ hw => pk_le 4 i (fun z => absurd z (by omega)) (fun _ => pk_eq i c (fun _ => nm_r (nI_1 i) (hw s trivial)) (fun _ => cd_comb hi hc (fun x => nm_r (nI_1 i) (hw x trivial)))))
theorem cd_red12 {post : Int32 → St2 → Prop} {J4 : Int64 → Int32 → Int32 → Int32 → Int64 → Int64 → Int32 → (Nat → Int32) → (Nat → Int32) → (Nat → Int32) → (Nat → Int32) → (Nat → Int64) → (Nat → Int64) → (Nat → Int64) → (Nat → Int64) → (Nat → Int64) → (Nat → Int32) → (Nat → Int32) → (Nat → Int32) → (Nat → Int32) → (Nat → Int32) → Prop} {f1 f2 : Int32} {f3 f4 : Int64} {f5 : Int32} {a1 a2 a3 a4 : Nat → Int32} {a5 a6 a7 a8 a9 : Nat → Int64} {a10 a11 a12 a13 a14 : Nat → Int32} {x1 : Int64} {c : Nat} (hc : c < 4) (H0 : post 0 (f1, f2, f3, f4, f5, a1, a2, a3, a4, a5, a6, a7, a8, a9, a10, a11, a12, a13, a14)) (H : ∀ (v : Int64) (b5 : Nat → Int64), J4 v (nI (c + 1)) f1 f2 f3 f4 f5 a1 a2 a3 a4 b5 a6 a7 a8 a9 a10 a11 a12 a13 a14) : ∃ n, wX_reduce_12 post J4 x1 (nI c) f1 f2 f3 f4 f5 a1 a2 a3 a4 a5 a6 a7 a8 a9 a10 a11 a12 a13 a14 n (nI c) :=
  have K : ∀ d, d ≤ 4 → wX_reduce_41 post J4 x1 (nI c) (nI d) f1 f2 f3 f4 f5 a1 a2 a3 a4 a5 a6 a7 a8 a9 a10 a11 a12 a13 a14 := fun d hd => pk_eq d 4 (fun _ => H0) (fun z => cd_swap (by omega) hc (fun x => ⟨pk_in (c * 6 + c) 24 (by omega) (cd_ix6 c c), nm_e (cd_red72 hc (fun y => H _ y))⟩))
  pk_loop (σ := Unit) (fun n i _ => wX_reduce_12 post J4 x1 (nI c) f1 f2 f3 f4 f5 a1 a2 a3 a4 a5 a6 a7 a8 a9 a10 a11 a12 a13 a14 n (nI i)) (fun _ _ => True) 4 c () (by omega) trivial
    (fun n _ _ => pk_le 4 4 (fun _ => K 4 (by omega)) (fun z => absurd z (by omega)))
    (fun n i _ hi _ hw => pk_le 4 i (fun z => absurd z (by omega)) (fun _ => ⟨pk_in (i * 6 + c) 24 (by omega) (cd_ix6 i c), br_c (fun _ => nm_r (nI_1 i) (hw () trivial)) (fun _ => K i (by omega))⟩))
theorem cd_reduce {post : Int32 → St2 → Prop} {f1 f2 : Int32} {f3 f4 : Int64} {f5 : Int32} {a1 a2 a3 a4 : Nat → Int32} {a5 a6 a7 a8 a9 : Nat → Int64} {a10 a11 a12 a13 a14 : Nat → Int32} (H : ∀ (r : Int32) (g3 : Int64) (b5 : Nat → Int64), post r (f1, f2, g3, f4, f5, a1, a2, a3, a4, b5, a6, a7, a8, a9, a10, a11, a12, a13, a14)) : wpX_reduce post (f1, f2, f3, f4, f5, a1, a2, a3, a4, a5, a6, a7, a8, a9, a10, a11, a12, a13, a14) :=
  pk_loop (σ := Int64 × (Nat → Int64)) (fun n i s => wX_reduce_4 post n s.1 (nI i) f1 f2 f3 f4 f5 a1 a2 a3 a4 s.2 a6 a7 a8 a9 a10 a11 a12 a13 a14) (fun _ _ => True) 4 0 (1, a5) (by omega) trivial
    (fun n s _ => pk_le 4 4 (fun _ => br_c (fun _ => cd_red127 (fun x => H _ _ x)) (fun _ => nm_e (cd_red127 (fun x => H _ _ x)))) (fun z => absurd z (by omega)))
    (fun n i s hi _ hw => pk_le 4 i (fun z => absurd z (by omega)) (fun _ => cd_red12 hi (H _ _ _) (fun v x => hw (v, x) trivial)))
theorem cd_pb91 {post : Int32 → St2 → Prop} {f1 f2 : Int32} {f3 f4 : Int64} {f5 : Int32} {a1 a2 a3 a4 : Nat → Int32} {a5 a6 a7 a8 a9 : Nat → Int64} {a10 a11 a12 a13 a14 : Nat → Int32} (H : ∀ (b6 : Nat → Int64), post 1 (f1, f2, f3, f4, f5, a1, a2, a3, a4, a5, b6, a7, a8, a9, a10, a11, a12, a13, a14)) : ∃ n, wX_priceBasis_91 post f1 f2 f3 f4 f5 n 0 a1 a2 a3 a4 a5 a6 a7 a8 a9 a10 a11 a12 a13 a14 :=
  pk_loop (fun n i s => wX_priceBasis_91 post f1 f2 f3 f4 f5 n (nI i) a1 a2 a3 a4 a5 s a7 a8 a9 a10 a11 a12 a13 a14) (fun _ _ => True) 4 0 a6 (by omega) trivial
    (fun n s _ => pk_le 4 4 (fun _ => H s) (fun z => absurd z (by omega)))
    (fun n i s hi _ hw => pk_le 4 i (fun z => absurd z (by omega)) (fun _ => ⟨pk_in (i * 6 + 4) 24 (by omega) (cd_ix6 i 4), pk_in i 4 hi, nm_e (nm_r (nI_1 i) (hw _ trivial))⟩))
theorem cd_pb9 {post : Int32 → St2 → Prop} {J2 : Int32 → (Nat → Int32) → (Nat → Int32) → (Nat → Int32) → (Nat → Int32) → (Nat → Int64) → (Nat → Int64) → (Nat → Int64) → (Nat → Int64) → (Nat → Int64) → (Nat → Int32) → (Nat → Int32) → (Nat → Int32) → (Nat → Int32) → (Nat → Int32) → Prop} {f1 f2 : Int32} {f3 f4 : Int64} {f5 : Int32} {a1 a2 a3 a4 : Nat → Int32} {a5 a6 a7 a8 a9 : Nat → Int64} {a10 a11 a12 a13 a14 : Nat → Int32} {b : Nat} (hb : b < 4) (H : ∀ (b5 : Nat → Int64), J2 (nI (b + 1)) a1 a2 a3 a4 b5 a6 a7 a8 a9 a10 a11 a12 a13 a14) : ∃ n, wX_priceBasis_9 post J2 (nI b) f1 f2 f3 f4 f5 n 0 a1 a2 a3 a4 a5 a6 a7 a8 a9 a10 a11 a12 a13 a14 :=
  pk_loop (fun n i s => wX_priceBasis_9 post J2 (nI b) f1 f2 f3 f4 f5 n (nI i) a1 a2 a3 a4 s a6 a7 a8 a9 a10 a11 a12 a13 a14) (fun _ _ => True) 4 0 a5 (by omega) trivial
    (fun n s _ => pk_le 4 4 (fun _ => ⟨pk_in (b * 6 + 4) 24 (by omega) (cd_ix6 b 4), nm_e ⟨pk_in (b * 6 + 5) 24 (by omega) (cd_ix6 b 5), nm_e (nm_r (nI_1 b) (H _))⟩⟩) (fun z => absurd z (by omega)))
    (fun n i s hi _ hw => pk_le 4 i (fun z => absurd z (by omega)) (fun _ => ⟨pk_in (b * 4 + i) 16 (by omega) (cd_ix4 b i), pk_in (b * 6 + i) 24 (by omega) (cd_ix6 b i), nm_e (nm_r (nI_1 i) (hw _ trivial))⟩))
theorem cd_pbasis {post : Int32 → St2 → Prop} {f1 f2 : Int32} {f3 f4 : Int64} {f5 : Int32} {a1 a2 a3 a4 : Nat → Int32} {a5 a6 a7 a8 a9 : Nat → Int64} {a10 a11 a12 a13 a14 : Nat → Int32} (H : ∀ (r : Int32) (g3 g4 : Int64) (b5 b6 : Nat → Int64), post r (f1, f2, g3, g4, f5, a1, a2, a3, a4, b5, b6, a7, a8, a9, a10, a11, a12, a13, a14)) : wpX_priceBasis post (f1, f2, f3, f4, f5, a1, a2, a3, a4, a5, a6, a7, a8, a9, a10, a11, a12, a13, a14) :=
  pk_loop (fun n i s => wX_priceBasis_2 post f1 f2 f3 f4 f5 n (nI i) a1 a2 a3 a4 s a6 a7 a8 a9 a10 a11 a12 a13 a14) (fun _ _ => True) 4 0 a5 (by omega) trivial
    (fun n s _ => pk_le 4 4 (fun _ => cd_reduce (fun r d x => br_c (fun _ => H _ _ _ _ _) (fun _ => cd_pb91 (fun y => H _ _ _ _ _)))) (fun z => absurd z (by omega)))
    (fun n i s hi _ hw => pk_le 4 i (fun z => absurd z (by omega)) (fun _ => cd_pb9 hi (fun x => hw x trivial)))
theorem cd_sound {post : Int32 → Prop} {f1 f2 : Int32} {f3 f4 : Int64} {f5 : Int32} {a1 a2 a3 a4 : Nat → Int32} {a5 a6 a7 a8 a9 : Nat → Int64} {a10 a11 a12 a13 a14 : Nat → Int32} (H : ∀ r, post r) : wpX_sound post (f1, f2, f3, f4, f5, a1, a2, a3, a4, a5, a6, a7, a8, a9, a10, a11, a12, a13, a14) :=
  pk_loop (σ := Unit) (fun n i _ => wX_sound_2 post f1 f2 f3 f4 f5 a1 a2 a3 a4 a5 a6 a7 a8 a9 a10 a11 a12 a13 a14 n (nI i)) (fun _ _ => True) 4 0 () (by omega) trivial
    (fun n _ _ => pk_le 4 4 (fun _ => br_c (fun _ => H 0) (fun _ => H 1)) (fun z => absurd z (by omega)))
    (fun n i _ hi _ hw => pk_le 4 i (fun z => absurd z (by omega)) (fun _ => ⟨pk_in i 4 hi, br_c (fun _ => nm_r (nI_1 i) (hw () trivial)) (fun _ => H 0)⟩))
/-- the last pieces of the widths up to m -/
def cd_lp (w : Nat → Nat) (a : Nat → Int32) (m : Nat) : Prop := ∀ j, j ≤ m → a j < 0 ∨ ∃ k, k < 4 ∧ a j = nI k ∧ w k ≤ j
theorem cd_lp_neg {w : Nat → Nat} {a : Nat → Int32} {m : Nat} (h : cd_lp w a m) : cd_lp w (upd a (m + 1) (-1)) (m + 1) := by
  intro j hj
  by_cases e : j = m + 1
  · left
    rw [e, pk_us]
    decide
  · rw [pk_un e]
    exact h j (by omega)
theorem cd_lp_put {w : Nat → Nat} {a : Nat → Int32} {m k : Nat} (h : cd_lp w a m) (hk : k < 4) (hw : w k ≤ m) : cd_lp w (upd a m (nI k)) m := by
  intro j hj
  by_cases e : j = m
  · right
    rw [e, pk_us]
    exact ⟨k, hk, rfl, hw⟩
  · rw [pk_un e]
    exact h j hj
theorem cd_lp_0 {w : Nat → Nat} {a : Nat → Int32} : cd_lp w (upd a 0 (-1)) 0 := by
  intro j hj
  left
  rw [show j = 0 by omega, pk_us]
  decide
theorem cd_mv165 {post : Int64 → St2 → Prop} {f1 : Int32} {f3 f4 : Int64} {f5 : Int32} {a1 a2 a3 a4 : Nat → Int32} {a5 a6 a7 a8 a9 : Nat → Int64} {a10 a11 a12 a13 a14 : Nat → Int32} {R : Nat} {w : Nat → Nat} (hR : R ≤ 40) (ha : ∀ k, k < 4 → a1 k = nI (w k)) (h1 : ∀ k, k < 4 → 1 ≤ w k ∧ w k ≤ 40) (hl : cd_lp w a10 R)
    (H : ∀ (v : Int64) (b11 : Nat → Int32), post v (f1, nI R, f3, f4, f5, a1, a2, a3, a4, a5, a6, a7, a8, a9, a10, b11, a12, a13, a14)) : ∃ n, wX_mostValuable_165 post f1 (nI R) f3 f4 f5 n (nI R) 0 a1 a2 a3 a4 a5 a6 a7 a8 a9 a10 a11 a12 a13 a14 := by
  refine pk_loop (σ := Nat × (Nat → Int32)) (fun n i s => wX_mostValuable_165 post f1 (nI R) f3 f4 f5 n (nI s.1) (nI i) a1 a2 a3 a4 a5 a6 a7 a8 a9 a10 s.2 a12 a13 a14) (fun _ s => s.1 ≤ R) 40 0 (R, a11) (by omega) (Nat.le_refl R)
    (fun n s _ => pk_le 40 40 (fun _ => ⟨pk_in R 41 (by omega), H _ s.2⟩) (fun z => absurd z (by omega)))
    (fun n i s hi h hw => pk_le 40 i (fun z => absurd z (by omega)) (fun _ => pk_le s.1 0 (fun _ => ⟨pk_in R 41 (by omega), H _ s.2⟩) (fun z => ⟨pk_in s.1 41 (by omega), fun x3 e3 => ?_⟩)))
  have e4 : x3 = a10 s.1 := e3.trans (cd_at a10 (by omega))
  rcases hl s.1 h with g | ⟨k, hk, g, gw⟩
  · exact br_t (by rw [e4]; exact g) (nm_r (sb_m1 z) (nm_r (nI_1 i) (hw (s.1 - 1, s.2) (show s.1 - 1 ≤ R by omega))))
  · have e5 : x3 = nI k := e4.trans g
    subst e5
    have e6 : nI s.1 - a1 (nI k).toNatClampNeg = nI (s.1 - w k) := by rw [cd_at a1 (by omega), ha k hk, pk_sub gw]
    exact br_f (nI_pos (by omega)) ⟨pk_in k 4 hk, pk_in k 4 hk, nm_e ⟨pk_in k 4 hk, nm_r e6 (nm_r (nI_1 i) (hw (s.1 - w k, _) (show s.1 - w k ≤ R by omega)))⟩⟩
theorem cd_mv140 {post : Int64 → St2 → Prop} {f1 : Int32} {f3 f4 : Int64} {f5 : Int32} {a1 a2 a3 a4 : Nat → Int32} {a5 a6 a7 a8 a9 : Nat → Int64} {a10 a11 a12 a13 a14 : Nat → Int32} {R : Nat} {w : Nat → Nat} (hR : R ≤ 40) (ha : ∀ k, k < 4 → a1 k = nI (w k)) (h1 : ∀ k, k < 4 → 1 ≤ w k ∧ w k ≤ 40) (hl : cd_lp w a10 R)
    (H : ∀ (v : Int64) (b11 : Nat → Int32), post v (f1, nI R, f3, f4, f5, a1, a2, a3, a4, a5, a6, a7, a8, a9, a10, b11, a12, a13, a14)) : ∃ n, wX_mostValuable_140 post f1 (nI R) f3 f4 f5 n 0 a1 a2 a3 a4 a5 a6 a7 a8 a9 a10 a11 a12 a13 a14 :=
  pk_loop (fun n i s => wX_mostValuable_140 post f1 (nI R) f3 f4 f5 n (nI i) a1 a2 a3 a4 a5 a6 a7 a8 a9 a10 s a12 a13 a14) (fun _ _ => True) 4 0 a11 (by omega) trivial
    (fun n s _ => pk_le 4 4 (fun _ => cd_mv165 hR ha h1 hl H) (fun z => absurd z (by omega)))
    (fun n i s hi _ hw => pk_le 4 i (fun z => absurd z (by omega)) (fun _ => ⟨pk_in i 4 hi, nm_e (nm_r (nI_1 i) (hw _ trivial))⟩))
theorem cd_mv47 {post : Int64 → St2 → Prop} {J16 : Int32 → (Nat → Int32) → (Nat → Int32) → (Nat → Int32) → (Nat → Int32) → (Nat → Int64) → (Nat → Int64) → (Nat → Int64) → (Nat → Int64) → (Nat → Int64) → (Nat → Int32) → (Nat → Int32) → (Nat → Int32) → (Nat → Int32) → (Nat → Int32) → Prop} {f1 f2 : Int32} {f3 f4 : Int64} {f5 : Int32} {a1 a2 a3 a4 : Nat → Int32} {a5 a6 a7 a8 a9 : Nat → Int64} {a10 a11 a12 a13 a14 : Nat → Int32} {m : Nat} {w : Nat → Nat} (hm : m ≤ 40) (ha : ∀ k, k < 4 → a1 k = nI (w k)) (h1 : ∀ k, k < 4 → 1 ≤ w k ∧ w k ≤ 40) (hl : cd_lp w a10 m)
    (H : ∀ (b9 : Nat → Int64) (b10 : Nat → Int32), cd_lp w b10 m → J16 (nI (m + 1)) a1 a2 a3 a4 a5 a6 a7 a8 b9 b10 a11 a12 a13 a14) : ∃ n, wX_mostValuable_47 post J16 (nI m) f1 f2 f3 f4 f5 n 0 a1 a2 a3 a4 a5 a6 a7 a8 a9 a10 a11 a12 a13 a14 := by
  refine pk_loop (σ := (Nat → Int64) × (Nat → Int32)) (fun n i s => wX_mostValuable_47 post J16 (nI m) f1 f2 f3 f4 f5 n (nI i) a1 a2 a3 a4 a5 a6 a7 a8 s.1 s.2 a11 a12 a13 a14) (fun _ s => cd_lp w s.2 m) 4 0 (a9, a10) (by omega) hl
    (fun n s h => pk_le 4 4 (fun _ => nm_r (nI_1 m) (H s.1 s.2 h)) (fun z => absurd z (by omega))) (fun n i s hi h hw => ?_)
  have h1i := h1 i hi
  have e1 : a1 (nI i).toNatClampNeg = nI (w i) := (cd_at a1 (by omega)).trans (ha i hi)
  refine pk_le 4 i (fun z => absurd z (by omega)) (fun _ => ⟨pk_in i 4 hi, pk_lt m (w i) (fun z => nm_r (nI_1 i) (hw s h)) (fun z => ?_) rfl e1⟩)
  have e2 : nI m - a1 (nI i).toNatClampNeg = nI (m - w i) := by rw [e1, pk_sub z]
  have hn : cd_lp w (upd s.2 (nI m).toNatClampNeg (nI i).toInt8.toInt32) m := by
    rw [nI_clamp (by omega), cd_b8 i (by omega)]
    exact cd_lp_put h hi z
  exact ⟨pk_in i 4 hi, pk_in (m - w i) 41 (by omega) e2, pk_in i 4 hi, pk_in m 41 (by omega), br_c (fun _ => nm_r (nI_1 i) (hw s h)) (fun _ => ⟨pk_in i 4 hi, pk_in (m - w i) 41 (by omega) e2, pk_in i 4 hi, pk_in m 41 (by omega), nm_e ⟨pk_in m 41 (by omega), nm_e (nm_r (nI_1 i) (hw (_, _) hn))⟩⟩)⟩
theorem cd_mv {post : Int64 → St2 → Prop} {f1 : Int32} {f3 f4 : Int64} {f5 : Int32} {a1 a2 a3 a4 : Nat → Int32} {a5 a6 a7 a8 a9 : Nat → Int64} {a10 a11 a12 a13 a14 : Nat → Int32} {R : Nat} {w : Nat → Nat} (hR : R ≤ 40) (ha : ∀ k, k < 4 → a1 k = nI (w k)) (h1 : ∀ k, k < 4 → 1 ≤ w k ∧ w k ≤ 40)
    (H : ∀ (v : Int64) (b9 : Nat → Int64) (b10 b11 : Nat → Int32), post v (f1, nI R, f3, f4, f5, a1, a2, a3, a4, a5, a6, a7, a8, b9, b10, b11, a12, a13, a14)) : wpX_mostValuable post (f1, nI R, f3, f4, f5, a1, a2, a3, a4, a5, a6, a7, a8, a9, a10, a11, a12, a13, a14) := by
  refine nm_e (nm_e (pk_loop (σ := (Nat → Int64) × (Nat → Int32)) (fun n i s => wX_mostValuable_16 post f1 (nI R) f3 f4 f5 n (nI i) a1 a2 a3 a4 a5 a6 a7 a8 s.1 s.2 a11 a12 a13 a14) (fun i s => 1 ≤ i ∧ cd_lp w s.2 (i - 1)) (R + 1) 1 (_, _) (by omega) ⟨Nat.le_refl 1, cd_lp_0⟩
    (fun n s h => pk_lt R (R + 1) (fun _ => cd_mv140 hR ha h1 h.2 (fun v x => H v _ _ x)) (fun z => absurd z (by omega))) (fun n i s hi h hw => ?_)))
  obtain ⟨j, rfl⟩ : ∃ j, i = j + 1 := ⟨i - 1, by have := h.1; omega⟩
  have hn : cd_lp w (upd s.2 (nI (j + 1)).toNatClampNeg (-1)) (j + 1) := by
    rw [nI_clamp (by omega)]
    exact cd_lp_neg h.2
  exact pk_lt R (j + 1) (fun z => absurd z (by omega)) (fun _ => ⟨pk_in j 41 (by omega) (nI_pred j), pk_in (j + 1) 41 (by omega), nm_e ⟨pk_in (j + 1) 41 (by omega), nm_e (cd_mv47 (by omega) ha h1 hn (fun x y hl => hw (x, y) ⟨by omega, hl⟩))⟩⟩)
end
section
theorem cd_pv197 {post : Int32 → St2 → Prop} {f1 f2 : Int32} {f3 f4 : Int64} {f5 : Int32} {a1 a2 a3 a4 : Nat → Int32} {a5 a6 a7 a8 a9 : Nat → Int64} {a10 a11 a12 a13 a14 : Nat → Int32} {o : Nat} (ho : o < 4) (H : ∀ (b4 : Nat → Int32), post 1 (f1, f2, f3, f4, f5, a1, a2, a3, b4, a5, a6, a7, a8, a9, a10, a11, a12, a13, a14)) : ∃ n, wX_pivot_197 post (nI o) f1 f2 f3 f4 f5 n 0 a1 a2 a3 a4 a5 a6 a7 a8 a9 a10 a11 a12 a13 a14 :=
  pk_loop (fun n i s => wX_pivot_197 post (nI o) f1 f2 f3 f4 f5 n (nI i) a1 a2 a3 s a5 a6 a7 a8 a9 a10 a11 a12 a13 a14) (fun _ _ => True) 4 0 a4 (by omega) trivial
    (fun n s _ => pk_le 4 4 (fun _ => H s) (fun z => absurd z (by omega)))
    (fun n i s hi _ hw => pk_le 4 i (fun z => absurd z (by omega)) (fun _ => ⟨pk_in i 4 hi, pk_in (o * 4 + i) 16 (by omega) (cd_ix4 o i), nm_e (nm_r (nI_1 i) (hw _ trivial))⟩))
def cd_opt (x : Int32) : Prop := x < 0 ∨ ∃ k, k < 4 ∧ x = nI k
theorem cd_opt_ge {x : Int32} (h : cd_opt x) (hx : ¬ x < 0) : ∃ k, k < 4 ∧ x = nI k := by
  rcases h with h | h
  · exact absurd h hx
  · exact h
theorem cd_nlt {x : Int32} (h : 0 ≤ x) : ¬ x < 0 := Int32.not_lt.mpr h
theorem cd_pv97 {post : Int32 → St2 → Prop} {f1 f2 : Int32} {f3 f4 : Int64} {f5 : Int32} {a1 a2 a3 a4 : Nat → Int32} {a5 a6 a7 a8 a9 : Nat → Int64} {a10 a11 a12 a13 a14 : Nat → Int32} (H : ∀ (r : Int32) (b4 : Nat → Int32) (b7 b8 : Nat → Int64), post r (f1, f2, f3, f4, f5, a1, a2, a3, b4, a5, a6, b7, b8, a9, a10, a11, a12, a13, a14)) : ∃ n, wX_pivot_97 post f1 f2 f3 f4 f5 n (-1) 0 a1 a2 a3 a4 a5 a6 a7 a8 a9 a10 a11 a12 a13 a14 := by
  refine pk_loop (σ := Int32 × (Nat → Int64) × (Nat → Int64)) (fun n i s => wX_pivot_97 post f1 f2 f3 f4 f5 n s.1 (nI i) a1 a2 a3 a4 a5 a6 s.2.1 s.2.2 a9 a10 a11 a12 a13 a14) (fun _ s => cd_opt s.1) 4 0 (-1, a7, a8) (by omega) (Or.inl (show (-1 : Int32) < 0 by decide))
    (fun n s h => pk_le 4 4 (fun _ => br_c (fun g => ?_) (fun _ => H 0 a4 s.2.1 s.2.2)) (fun z => absurd z (by omega))) (fun n i s hi h hw => ?_)
  · obtain ⟨k, hk, e⟩ := cd_opt_ge h (cd_nlt g)
    rw [e]
    exact cd_pv197 hk (fun x => H 1 x s.2.1 s.2.2)
  · have h' : cd_opt s.1 := h
    have hk : ∀ (x : Int32) (y z : Nat → Int64), cd_opt x → wX_pivot_97 post f1 f2 f3 f4 f5 n x (nI (i + 1)) a1 a2 a3 a4 a5 a6 y z a9 a10 a11 a12 a13 a14 := fun x y z g => hw (x, y, z) g
    have hi' : cd_opt (nI i) := Or.inr ⟨i, hi, rfl⟩
    refine pk_le 4 i (fun z => absurd z (by omega)) (fun _ => ⟨pk_in (i * 6 + 4) 24 (by omega) (cd_ix6 i 4), pk_in i 4 hi, nm_e ⟨pk_in (i * 6 + 5) 24 (by omega) (cd_ix6 i 5), pk_in i 4 hi, nm_e ⟨pk_in i 4 hi, br_c (fun _ => nm_r (nI_1 i) (hk _ _ _ h')) (fun _ => br_c (fun _ => nm_r (nI_1 i) (hk _ _ _ hi')) (fun g => ?_))⟩⟩⟩)
    have hx : vp_in s.1 4 := by
      obtain ⟨k, hk, e⟩ := cd_opt_ge h g
      rw [e]
      exact pk_in k 4 hk
    exact ⟨pk_in i 4 hi, hx, hx, pk_in i 4 hi, br_c (fun _ => nm_r (nI_1 i) (hk _ _ _ h')) (fun _ => nm_r (nI_1 i) (hk _ _ _ hi'))⟩
theorem cd_pv9 {post : Int32 → St2 → Prop} {J2 : Int32 → (Nat → Int32) → (Nat → Int32) → (Nat → Int32) → (Nat → Int32) → (Nat → Int64) → (Nat → Int64) → (Nat → Int64) → (Nat → Int64) → (Nat → Int64) → (Nat → Int32) → (Nat → Int32) → (Nat → Int32) → (Nat → Int32) → (Nat → Int32) → Prop} {f1 f2 : Int32} {f3 f4 : Int64} {f5 : Int32} {a1 a2 a3 a4 : Nat → Int32} {a5 a6 a7 a8 a9 : Nat → Int64} {a10 a11 a12 a13 a14 : Nat → Int32} {b : Nat} (hb : b < 4) (H : ∀ (b5 : Nat → Int64), J2 (nI (b + 1)) a1 a2 a3 a4 b5 a6 a7 a8 a9 a10 a11 a12 a13 a14) : ∃ n, wX_pivot_9 post J2 (nI b) f1 f2 f3 f4 f5 n 0 a1 a2 a3 a4 a5 a6 a7 a8 a9 a10 a11 a12 a13 a14 :=
  pk_loop (fun n i s => wX_pivot_9 post J2 (nI b) f1 f2 f3 f4 f5 n (nI i) a1 a2 a3 a4 s a6 a7 a8 a9 a10 a11 a12 a13 a14) (fun _ _ => True) 4 0 a5 (by omega) trivial
    (fun n s _ => pk_le 4 4 (fun _ => ⟨pk_in b 4 hb, pk_in (b * 6 + 4) 24 (by omega) (cd_ix6 b 4), nm_e ⟨pk_in b 4 hb, pk_in (b * 6 + 5) 24 (by omega) (cd_ix6 b 5), nm_e (nm_r (nI_1 b) (H _))⟩⟩) (fun z => absurd z (by omega)))
    (fun n i s hi _ hw => pk_le 4 i (fun z => absurd z (by omega)) (fun _ => ⟨pk_in (i * 4 + b) 16 (by omega) (cd_ix4 i b), pk_in (b * 6 + i) 24 (by omega) (cd_ix6 b i), nm_e (nm_r (nI_1 i) (hw _ trivial))⟩))
theorem cd_pivot {post : Int32 → St2 → Prop} {f1 f2 : Int32} {f3 f4 : Int64} {f5 : Int32} {a1 a2 a3 a4 : Nat → Int32} {a5 a6 a7 a8 a9 : Nat → Int64} {a10 a11 a12 a13 a14 : Nat → Int32} (H : ∀ (r : Int32) (g3 : Int64) (b4 : Nat → Int32) (b5 b7 b8 : Nat → Int64), post r (f1, f2, g3, f4, f5, a1, a2, a3, b4, b5, a6, b7, b8, a9, a10, a11, a12, a13, a14)) : wpX_pivot post (f1, f2, f3, f4, f5, a1, a2, a3, a4, a5, a6, a7, a8, a9, a10, a11, a12, a13, a14) :=
  pk_loop (fun n i s => wX_pivot_2 post f1 f2 f3 f4 f5 n (nI i) a1 a2 a3 a4 s a6 a7 a8 a9 a10 a11 a12 a13 a14) (fun _ _ => True) 4 0 a5 (by omega) trivial
    (fun n s _ => pk_le 4 4 (fun _ => cd_reduce (fun r d x => br_c (fun _ => H _ _ _ _ _ _) (fun _ => cd_pv97 (fun r y z u => H _ _ _ _ _ _)))) (fun z => absurd z (by omega)))
    (fun n i s hi _ hw => pk_le 4 i (fun z => absurd z (by omega)) (fun _ => cd_pv9 hi (fun x => hw x trivial)))
theorem cd_fp159 {post : St2 → Prop} {f1 f2 : Int32} {f3 f4 : Int64} {f5 : Int32} {a1 a2 a3 a4 : Nat → Int32} {a5 a6 a7 a8 a9 : Nat → Int64} {a10 a11 a12 a13 a14 : Nat → Int32} (H : ∀ (b6 : Nat → Int64), post (f1, f2, f3, f4, f5, a1, a2, a3, a4, a5, b6, a7, a8, a9, a10, a11, a12, a13, a14)) : ∃ n, wX_findPrices_159 post f1 f2 f3 f4 f5 n 0 a1 a2 a3 a4 a5 a6 a7 a8 a9 a10 a11 a12 a13 a14 :=
  pk_loop (fun n i s => wX_findPrices_159 post f1 f2 f3 f4 f5 n (nI i) a1 a2 a3 a4 a5 s a7 a8 a9 a10 a11 a12 a13 a14) (fun _ _ => True) 4 0 a6 (by omega) trivial
    (fun n s _ => pk_le 4 4 (fun _ => H s) (fun z => absurd z (by omega)))
    (fun n i s hi _ hw => pk_le 4 i (fun z => absurd z (by omega)) (fun _ => ⟨pk_in i 4 hi, br_c (fun _ => ⟨pk_in i 4 hi, nm_e (nm_r (nI_1 i) (hw _ trivial))⟩) (fun _ => ⟨pk_in i 4 hi, pk_in i 4 hi, nm_e (nm_r (nI_1 i) (hw _ trivial))⟩)⟩))
theorem cd_fp96 {post : St2 → Prop} {f1 : Int32} {f3 f4 : Int64} {f5 : Int32} {a1 a2 a3 a4 : Nat → Int32} {a5 a6 a7 a8 a9 : Nat → Int64} {a10 a11 a12 a13 a14 : Nat → Int32} {R : Nat} {w : Nat → Nat} (hR : R ≤ 40) (ha : ∀ k, k < 4 → a1 k = nI (w k)) (h1 : ∀ k, k < 4 → 1 ≤ w k ∧ w k ≤ 40)
    (H : ∀ (g3 g4 : Int64) (b4 : Nat → Int32) (b5 b6 b7 b8 b9 : Nat → Int64) (b10 b11 : Nat → Int32), post (f1, nI R, g3, g4, f5, a1, a2, a3, b4, b5, b6, b7, b8, b9, b10, b11, a12, a13, a14)) : ∃ n, wX_findPrices_96 post n 0 f1 (nI R) f3 f4 f5 a1 a2 a3 a4 a5 a6 a7 a8 a9 a10 a11 a12 a13 a14 := by
  refine pk_loop (σ := Int64 × Int64 × (Nat → Int32) × (Nat → Int64) × (Nat → Int64) × (Nat → Int64) × (Nat → Int64) × (Nat → Int64) × (Nat → Int32) × (Nat → Int32))
    (fun n i s => wX_findPrices_96 post n (nI i) f1 (nI R) s.1 s.2.1 f5 a1 a2 a3 s.2.2.1 s.2.2.2.1 s.2.2.2.2.1 s.2.2.2.2.2.1 s.2.2.2.2.2.2.1 s.2.2.2.2.2.2.2.1 s.2.2.2.2.2.2.2.2.1 s.2.2.2.2.2.2.2.2.2 a12 a13 a14)
    (fun _ _ => True) 40 0 (f3, f4, a4, a5, a6, a7, a8, a9, a10, a11) (by omega) trivial
    (fun n s _ => pk_le 40 40 (fun _ => cd_fp159 (fun y => H _ _ _ _ _ _ _ _ _ _)) (fun z => absurd z (by omega))) (fun n i s hi _ hw => ?_)
  refine pk_le 40 i (fun z => absurd z (by omega)) (fun _ => cd_pbasis (fun r g3 g4 b5 b6 => ?_))
  refine br_c (fun _ => cd_fp159 (fun y => H _ _ _ _ _ _ _ _ _ _)) (fun _ => cd_sound (fun r2 => ?_))
  refine br_c (fun _ => cd_fp159 (fun y => H _ _ _ _ _ _ _ _ _ _)) (fun _ => cd_mv hR ha h1 (fun v b9 b10 b11 => ?_))
  refine br_c (fun _ => cd_pivot (fun r3 d b4 c5 b7 b8 => ?_)) (fun _ => H _ _ _ _ _ _ _ _ _ _)
  exact br_c (fun _ => cd_fp159 (fun y => H _ _ _ _ _ _ _ _ _ _)) (fun _ => nm_r (nI_1 i) (hw (_, _, _, _, _, _, _, _, _, _) trivial))
theorem cd_fp9 {post : St2 → Prop} {J2 : Int32 → (Nat → Int32) → (Nat → Int32) → (Nat → Int32) → (Nat → Int32) → (Nat → Int64) → (Nat → Int64) → (Nat → Int64) → (Nat → Int64) → (Nat → Int64) → (Nat → Int32) → (Nat → Int32) → (Nat → Int32) → (Nat → Int32) → (Nat → Int32) → Prop} {f1 f2 : Int32} {f3 f4 : Int64} {f5 : Int32} {a1 a2 a3 a4 : Nat → Int32} {a5 a6 a7 a8 a9 : Nat → Int64} {a10 a11 a12 a13 a14 : Nat → Int32} {b : Nat} {w : Nat → Nat} (hb : b < 4) (ha : ∀ k, k < 4 → a1 k = nI (w k)) (h1 : ∀ k, k < 4 → 1 ≤ w k ∧ w k ≤ 40)
    (H : ∀ (b4 : Nat → Int32), J2 (nI (b + 1)) a1 a2 a3 b4 a5 a6 a7 a8 a9 a10 a11 a12 a13 a14) : ∃ n, wX_findPrices_9 post J2 (nI b) f1 f2 f3 f4 f5 n 0 a1 a2 a3 a4 a5 a6 a7 a8 a9 a10 a11 a12 a13 a14 := by
  refine pk_loop (fun n i s => wX_findPrices_9 post J2 (nI b) f1 f2 f3 f4 f5 n (nI i) a1 a2 a3 s a5 a6 a7 a8 a9 a10 a11 a12 a13 a14) (fun _ _ => True) 4 0 a4 (by omega) trivial
    (fun n s _ => pk_le 4 4 (fun _ => ⟨pk_in b 4 hb, br_c (fun _ => nm_r (nI_1 b) (H _)) (fun _ => ⟨pk_in (b * 4 + b) 16 (by omega) (cd_ix4 b b), nm_e (nm_r (nI_1 b) (H _))⟩)⟩) (fun z => absurd z (by omega)))
    (fun n i s hi _ hw => ?_)
  have h1i := h1 i hi
  have e1 : a1 (nI i).toNatClampNeg = nI (w i) := (cd_at a1 (by omega)).trans (ha i hi)
  have e0 : ¬ a1 (nI i).toNatClampNeg = 0 := by
    rw [e1]
    exact nI_ne0 (by omega) (by omega)
  exact pk_le 4 i (fun z => absurd z (by omega)) (fun _ => br_c
    (fun _ => ⟨pk_in i 4 hi, br_c (fun _ => ⟨pk_in (b * 4 + i) 16 (by omega) (cd_ix4 b i), nm_e (nm_r (nI_1 i) (hw _ trivial))⟩) (fun _ => ⟨pk_in i 4 hi, e0, pk_in (b * 4 + i) 16 (by omega) (cd_ix4 b i), nm_e (nm_r (nI_1 i) (hw _ trivial))⟩)⟩)
    (fun _ => ⟨pk_in (b * 4 + i) 16 (by omega) (cd_ix4 b i), nm_e (nm_r (nI_1 i) (hw _ trivial))⟩))
theorem cd_fp {post : St2 → Prop} {f1 : Int32} {f3 f4 : Int64} {f5 : Int32} {a1 a2 a3 a4 : Nat → Int32} {a5 a6 a7 a8 a9 : Nat → Int64} {a10 a11 a12 a13 a14 : Nat → Int32} {R : Nat} {w : Nat → Nat} (hR : R ≤ 40) (ha : ∀ k, k < 4 → a1 k = nI (w k)) (h1 : ∀ k, k < 4 → 1 ≤ w k ∧ w k ≤ 40)
    (H : ∀ (g3 g4 : Int64) (b4 : Nat → Int32) (b5 b6 b7 b8 b9 : Nat → Int64) (b10 b11 : Nat → Int32), post (f1, nI R, g3, g4, f5, a1, a2, a3, b4, b5, b6, b7, b8, b9, b10, b11, a12, a13, a14)) : wpX_findPrices post (f1, nI R, f3, f4, f5, a1, a2, a3, a4, a5, a6, a7, a8, a9, a10, a11, a12, a13, a14) :=
  pk_loop (fun n i s => wX_findPrices_2 post f1 (nI R) f3 f4 f5 n (nI i) a1 a2 a3 s a5 a6 a7 a8 a9 a10 a11 a12 a13 a14) (fun _ _ => True) 4 0 a4 (by omega) trivial
    (fun n s _ => pk_le 4 4 (fun _ => cd_fp96 hR ha h1 H) (fun z => absurd z (by omega)))
    (fun n i s hi _ hw => pk_le 4 i (fun z => absurd z (by omega)) (fun _ => cd_fp9 hi ha h1 (fun x => hw x trivial)))
end
section
/-! rows of the arrays still and cut -/
theorem cd_ext {x a : Nat → Int32} {o i : Nat} {f : Nat → Nat} {v : Int32} (h : (∀ j, j < o → x j = a j) ∧ (∀ k, k < i → x (o + k) = nI (f k))) (hv : v = nI (f i)) :
    (∀ j, j < o → upd x (o + i) v j = a j) ∧ (∀ k, k < i + 1 → upd x (o + i) v (o + k) = nI (f k)) := by
  refine ⟨fun j hj => ?_, fun k hk => ?_⟩
  · rw [pk_un (by omega)]
    exact h.1 j hj
  · by_cases e : k = i
    · rw [e, pk_us, hv]
    · rw [pk_un (by omega)]
      exact h.2 k (by omega)
theorem cd_row_eq {x : Nat → Int32} {o : Nat} {s s' : Nat → Nat} (h : cd_row x o s) (e : ∀ k, k < 4 → s k = s' k) : cd_row x o s' := fun k hk => by rw [h k hk, e k hk]
theorem cd_row_le {x y : Nat → Int32} {o B : Nat} {s : Nat → Nat} (h : cd_row x o s) (e : ∀ j, j < B → y j = x j) (ho : o + 4 ≤ B) : cd_row y o s := fun k hk => by rw [e (o + k) (by omega), h k hk]
theorem cd_sum_upd {w c : Nat → Nat} {j x : Nat} : ∀ n, j < n → cd_sum w (fun k => if k = j then x else c k) n + c j * w j = cd_sum w c n + x * w j := by
  intro n
  induction n with
  | zero => intro h; exact absurd h (by omega)
  | succ n ih =>
    intro h
    show cd_sum w (fun k => if k = j then x else c k) n + (if n = j then x else c n) * w n + c j * w j = cd_sum w c n + c n * w n + x * w j
    by_cases e : n = j
    · rw [if_pos e, e, cd_sum_congr (w := w) (c := c) j (fun k hk => if_neg (by omega))]
      omega
    · rw [if_neg e]
      have := ih (by omega)
      omega
theorem cd_sum4 (a b : Nat) (c : Nat → Nat) : cd_sum (cd_w a b) c 4 = c 0 + c 1 * a + c 2 * b + c 3 := by
  show 0 + c 0 * 1 + c 1 * a + c 2 * b + c 3 * 1 = _
  omega
theorem cd_cnt4 (c : Nat → Nat) : cd_sum (fun _ => 1) c 4 = c 0 + c 1 + c 2 + c 3 := by
  show 0 + c 0 * 1 + c 1 * 1 + c 2 * 1 + c 3 * 1 = _
  omega
theorem cd_served {post : Int32 → Prop} {f1 f2 : Int32} {f3 f4 : Int64} {f5 : Int32} {a1 a2 a3 a4 : Nat → Int32} {a5 a6 a7 a8 a9 : Nat → Int64} {a10 a11 a12 a13 a14 : Nat → Int32} {x : Int32} {r : Nat} {s : Nat → Nat} (hx : x = nI r) (hr : r ≤ 13) (hs : cd_row a12 (r * 4) s) (hs3 : ∀ k, k < 4 → s k ≤ 3)
    (H1 : (∀ k, k < 4 → s k = 0) → post 1) (H0 : (∃ k, k < 4 ∧ 0 < s k) → post 0) : wpX_served post (f1, f2, f3, f4, f5, a1, a2, a3, a4, a5, a6, a7, a8, a9, a10, a11, a12, a13, a14) x := by
  subst hx
  refine pk_loop (σ := Unit) (fun n i _ => wX_served_2 post (nI r) f1 f2 f3 f4 f5 a1 a2 a3 a4 a5 a6 a7 a8 a9 a10 a11 a12 a13 a14 n (nI i)) (fun i _ => ∀ k, k < i → s k = 0) 4 0 () (by omega) lt_0
    (fun n _ h => pk_le 4 4 (fun _ => H1 h) (fun z => absurd z (by omega))) (fun n i _ hi h hw => ?_)
  have h3 := hs3 i hi
  exact pk_le 4 i (fun z => absurd z (by omega)) (fun _ => ⟨pk_in (r * 4 + i) 56 (by omega) (cd_ix4 r i), pk_le (s i) 0 (fun z => nm_r (nI_1 i) (hw () (lt_s h (by omega)))) (fun z => H0 ⟨i, hi, z⟩) ((cd_at4 a12 hr hi).trans (hs i hi))⟩)
theorem cd_bound {post : Int32 → Prop} {f1 f2 : Int32} {f3 f4 : Int64} {f5 : Int32} {a1 a2 a3 a4 : Nat → Int32} {a5 a6 a7 a8 a9 : Nat → Int64} {a10 a11 a12 a13 a14 : Nat → Int32} {x : Int32} {r : Nat} (hx : x = nI r) (hr : r ≤ 13) (H : ∀ x, post x) : wpX_boundAt post (f1, f2, f3, f4, f5, a1, a2, a3, a4, a5, a6, a7, a8, a9, a10, a11, a12, a13, a14) x := by
  subst hx
  exact pk_loop (σ := Int64) (fun n i s => wX_boundAt_5 post (nI r) f1 f2 f3 f4 f5 a1 a2 a3 a4 a5 a6 a7 a8 a9 a10 a11 a12 a13 a14 n s (nI i)) (fun _ _ => True) 4 0 0 (by omega) trivial
    (fun n s _ => pk_le 4 4 (fun _ => br_c (fun _ => ⟨by decide, H _⟩) (fun g => ⟨fun e => g (by first | (rw [e]; decide) | rw [e]), H _⟩)) (fun z => absurd z (by omega)))
    (fun n i s hi _ hw => pk_le 4 i (fun z => absurd z (by omega)) (fun _ => ⟨pk_in i 4 hi, pk_in (r * 4 + i) 56 (by omega) (cd_ix4 r i), nm_e (nm_r (nI_1 i) (hw _ trivial))⟩))
theorem cd_take {post : St2 → Prop} {f1 f2 : Int32} {f3 f4 : Int64} {f5 : Int32} {a1 a2 a3 a4 : Nat → Int32} {a5 a6 a7 a8 a9 : Nat → Int64} {a10 a11 a12 a13 a14 : Nat → Int32} {r : Nat} {s c : Nat → Nat} (hr : r ≤ 12) (hs : cd_row a12 (r * 4) s) (hc : cd_row a13 (r * 4) c) (hs3 : ∀ k, k < 4 → s k ≤ 3) (hcs : ∀ k, k < 4 → c k ≤ s k)
    (H : ∀ (b12 : Nat → Int32), cd_row b12 ((r + 1) * 4) (fun k => s k - c k) → (∀ j, j < (r + 1) * 4 → b12 j = a12 j) → post (f1, f2, f3, f4, f5, a1, a2, a3, a4, a5, a6, a7, a8, a9, a10, a11, b12, a13, a14)) : wpX_takeOff post (f1, f2, f3, f4, f5, a1, a2, a3, a4, a5, a6, a7, a8, a9, a10, a11, a12, a13, a14) (nI r) := by
  refine pk_loop (fun n i x => wX_takeOff_2 post (nI r) f1 f2 f3 f4 f5 n (nI i) a1 a2 a3 a4 a5 a6 a7 a8 a9 a10 a11 x a13 a14) (fun i x => (∀ j, j < (r + 1) * 4 → x j = a12 j) ∧ (∀ k, k < i → x ((r + 1) * 4 + k) = nI (s k - c k))) 4 0 a12 (by omega) ⟨fun _ _ => rfl, lt_0⟩
    (fun n x h => pk_le 4 4 (fun _ => H x h.2 h.1) (fun z => absurd z (by omega))) (fun n i x hi h hw => ?_)
  have h3 := hs3 i hi
  have e1 : x (nI r * 4 + nI i).toNatClampNeg = nI (s i) := (cd_at4 x (by omega) hi).trans ((h.1 _ (by omega)).trans (hs i hi))
  have e2 : a13 (nI r * 4 + nI i).toNatClampNeg = nI (c i) := (cd_at4 a13 (by omega) hi).trans (hc i hi)
  have e3 : x (nI r * 4 + nI i).toNatClampNeg - a13 (nI r * 4 + nI i).toNatClampNeg = nI (s i - c i) := by rw [e1, e2, pk_sub (hcs i hi)]
  have hi56 : vp_in (nI r * 4 + nI i) 56 := pk_in (r * 4 + i) 56 (by omega) (cd_ix4 r i)
  have hi57 : vp_in ((nI r + 1) * 4 + nI i) 56 := pk_in ((r + 1) * 4 + i) 56 (by omega) (cd_ix4s r i)
  have key : ∀ v, v = nI (s i - c i) → (∀ j, j < (r + 1) * 4 → upd x ((nI r + 1) * 4 + nI i).toNatClampNeg v j = a12 j) ∧ (∀ k, k < i + 1 → upd x ((nI r + 1) * 4 + nI i).toNatClampNeg v ((r + 1) * 4 + k) = nI (s k - c k)) := by
    intro v hv
    rw [cd_ix4s, nI_clamp (by omega)]
    exact cd_ext (f := fun k => s k - c k) h hv
  refine pk_le 4 i (fun z => absurd z (by omega)) (fun _ => ⟨hi56, hi56, nm_r e3 (pk_le (s i - c i) 0 (fun z => ⟨hi57, nm_e (nm_r (nI_1 i) (hw _ (key _ ?_)))⟩) (fun z => ⟨hi57, nm_e (nm_r (nI_1 i) (hw _ (key _ ?_)))⟩))⟩)
  · rw [show s i - c i = 0 by omega]
    decide
  · exact cd_b8 _ (by omega)
theorem cd_widest {post : Int32 → Prop} {f1 f2 : Int32} {f3 f4 : Int64} {f5 : Int32} {a1 a2 a3 a4 : Nat → Int32} {a5 a6 a7 a8 a9 : Nat → Int64} {a10 a11 a12 a13 a14 : Nat → Int32} {r : Nat} {w s : Nat → Nat} (hr : r ≤ 13) (ha : ∀ k, k < 4 → a1 k = nI (w k)) (h1 : ∀ k, k < 4 → 1 ≤ w k ∧ w k ≤ 40) (hs : cd_row a12 (r * 4) s) (hs3 : ∀ k, k < 4 → s k ≤ 3)
    (H : post (cd_tI (cd_must w s))) : wpX_widest post (f1, f2, f3, f4, f5, a1, a2, a3, a4, a5, a6, a7, a8, a9, a10, a11, a12, a13, a14) (nI r) := by
  have K : ∃ n, wX_widest_4 post (nI r) f1 f2 f3 f4 f5 a1 a2 a3 a4 a5 a6 a7 a8 a9 a10 a11 a12 a13 a14 n (cd_tI (cd_top (fun k => decide (0 < s k)) w 0)) (nI 0) := by
    refine pk_loop (σ := Unit) (fun n i _ => wX_widest_4 post (nI r) f1 f2 f3 f4 f5 a1 a2 a3 a4 a5 a6 a7 a8 a9 a10 a11 a12 a13 a14 n (cd_tI (cd_top (fun k => decide (0 < s k)) w i)) (nI i)) (fun _ _ => True) 4 0 () (by omega) trivial
      (fun n _ _ => pk_le 4 4 (fun _ => H) (fun z => absurd z (by omega))) (fun n i _ hi _ hw => ?_)
    have hw0 : wX_widest_4 post (nI r) f1 f2 f3 f4 f5 a1 a2 a3 a4 a5 a6 a7 a8 a9 a10 a11 a12 a13 a14 n (cd_tI (cd_top (fun k => decide (0 < s k)) w (i + 1))) (nI (i + 1)) := hw () trivial
    have h3 := hs3 i hi
    have hl := cd_top_le (fun k => decide (0 < s k)) w i
    have es : a12 (nI r * 4 + nI i).toNatClampNeg = nI (s i) := (cd_at4 a12 hr hi).trans (hs i hi)
    have hx : cd_top (fun k => decide (0 < s k)) w (i + 1) = if decide (0 < s i) = true ∧ (cd_top (fun k => decide (0 < s k)) w i = 0 ∨ w (cd_top (fun k => decide (0 < s k)) w i - 1) < w i) then i + 1 else cd_top (fun k => decide (0 < s k)) w i := rfl
    rw [hx] at hw0
    show wX_widest_4 post (nI r) f1 f2 f3 f4 f5 a1 a2 a3 a4 a5 a6 a7 a8 a9 a10 a11 a12 a13 a14 (n + 1) (cd_tI (cd_top (fun k => decide (0 < s k)) w i)) (nI i)
    clear hx hw
    generalize cd_top (fun k => decide (0 < s k)) w i = t at hw0 hl ⊢
    refine pk_le 4 i (fun z => absurd z (by omega)) (fun _ => ⟨pk_in (r * 4 + i) 56 (by omega) (cd_ix4 r i), pk_le (s i) 0 (fun z => nm_r (nI_1 i) ?_) (fun z => ?_) es⟩)
    · have hn : ¬ (decide (0 < s i) = true ∧ (t = 0 ∨ w (t - 1) < w i)) := fun g => absurd (of_decide_eq_true g.1) (by omega)
      rw [if_neg hn] at hw0
      exact hw0
    · cases t with
      | zero =>
        have hn : decide (0 < s i) = true ∧ (0 = 0 ∨ w (0 - 1) < w i) := ⟨decide_eq_true z, Or.inl rfl⟩
        rw [if_pos hn, cd_tIs] at hw0
        exact br_t cd_tI0n (nm_r (nI_1 i) hw0)
      | succ j =>
        have hw1 := h1 i hi
        have hw2 := h1 j (by omega)
        rw [cd_tIs]
        refine br_f (nI_pos (by omega)) ⟨pk_in i 4 hi, pk_in j 4 (by omega), pk_le (w i) (w j) (fun g => nm_r (nI_1 i) ?_) (fun g => nm_r (nI_1 i) ?_) ((cd_at a1 (by omega)).trans (ha i hi)) ((cd_at a1 (by omega)).trans (ha j (by omega)))⟩
        · have hn : ¬ (decide (0 < s i) = true ∧ (j + 1 = 0 ∨ w (j + 1 - 1) < w i)) := fun y => by
            rcases y.2 with y | y
            · omega
            · rw [show j + 1 - 1 = j by omega] at y
              omega
          rw [if_neg hn, cd_tIs] at hw0
          exact hw0
        · have hn : decide (0 < s i) = true ∧ (j + 1 = 0 ∨ w (j + 1 - 1) < w i) := ⟨decide_eq_true z, Or.inr (by rw [show j + 1 - 1 = j by omega]; exact g)⟩
          rw [if_pos hn, cd_tIs] at hw0
          exact hw0
  rw [show cd_tI (cd_top (fun k => decide (0 < s k)) w 0) = -1 from cd_tI0] at K
  exact K
/-! filling by falling widths -/
theorem cd_fw43 {post : St2 → Prop} {J31 : Int32 → Int32 → (Nat → Int32) → (Nat → Int32) → (Nat → Int32) → (Nat → Int32) → (Nat → Int64) → (Nat → Int64) → (Nat → Int64) → (Nat → Int64) → (Nat → Int64) → (Nat → Int32) → (Nat → Int32) → (Nat → Int32) → (Nat → Int32) → (Nat → Int32) → Prop} {f1 f2 : Int32} {f3 f4 : Int64} {f5 : Int32} {a1 a2 a3 a4 : Nat → Int32} {a5 a6 a7 a8 a9 : Nat → Int64} {a10 a11 a12 a13 a14 : Nat → Int32} {r F rd : Nat} {w s c : Nat → Nat} (hr : r ≤ 12) (hF : F ≤ 40) (ha : ∀ k, k < 4 → a1 k = nI (w k)) (h1 : ∀ k, k < 4 → 1 ≤ w k ∧ w k ≤ 40) (hs : cd_row a12 (r * 4) s) (hs3 : ∀ k, k < 4 → s k ≤ 3) (hc : cd_row a13 (r * 4) c) (hcs : ∀ k, k < 4 → c k ≤ s k)
    (H0 : (∀ k, k < 4 → ¬ (c k < s k ∧ w k ≤ F)) → J31 (nI F) (nI (rd + 1)) a1 a2 a3 a4 a5 a6 a7 a8 a9 a10 a11 a12 a13 a14)
    (H1 : ∀ j, j < 4 → c j < s j → w j ≤ F → J31 (nI (F - w j)) (nI (rd + 1)) a1 a2 a3 a4 a5 a6 a7 a8 a9 a10 a11 a12 (upd a13 (r * 4 + j) (nI (c j + 1))) a14) :
    ∃ n, wX_fillWidest_43 post J31 (nI r) (nI F) (nI rd) f1 f2 f3 f4 f5 a1 a2 a3 a4 a5 a6 a7 a8 a9 a10 a11 a12 a13 a14 n (-1) 0 := by
  refine pk_loop (σ := Int32) (fun n i x => wX_fillWidest_43 post J31 (nI r) (nI F) (nI rd) f1 f2 f3 f4 f5 a1 a2 a3 a4 a5 a6 a7 a8 a9 a10 a11 a12 a13 a14 n x (nI i)) (fun i x => (x < 0 ∧ ∀ k, k < i → ¬ (c k < s k ∧ w k ≤ F)) ∨ ∃ j, j < 4 ∧ x = nI j ∧ c j < s j ∧ w j ≤ F) 4 0 (-1) (by omega) (Or.inl ⟨by decide, lt_0⟩)
    (fun n x h => pk_le 4 4 (fun _ => ?_) (fun z => absurd z (by omega))) (fun n i x hi h hw => ?_)
  · rcases h with h | ⟨j, hj, rfl, h2, h3⟩
    · exact br_t h.1 (nm_r (nI_1 rd) (H0 h.2))
    · have hsj := hs3 j hj
      have hwj := h1 j hj
      have e1 : upd a13 (nI r * 4 + nI j).toNatClampNeg ((a13 (nI r * 4 + nI j).toNatClampNeg + 1).toInt8.toInt32) = upd a13 (r * 4 + j) (nI (c j + 1)) := by
        rw [cd_ix4, nI_clamp (by omega), hc j hj, nI_1, cd_b8 _ (by omega)]
      have e2 : nI F - a1 (nI j).toNatClampNeg = nI (F - w j) := by rw [nI_clamp (by omega), ha j hj, pk_sub h3]
      exact br_f (nI_pos (by omega)) ⟨pk_in (r * 4 + j) 56 (by omega) (cd_ix4 r j), pk_in (r * 4 + j) 56 (by omega) (cd_ix4 r j), nm_r e1 ⟨pk_in j 4 hj, nm_r e2 (nm_r (nI_1 rd) (H1 j hj h2 h3))⟩⟩
  · have hsi := hs3 i hi
    have hci := hcs i hi
    have hwi := h1 i hi
    have es : a12 (nI r * 4 + nI i).toNatClampNeg = nI (s i) := (cd_at4 a12 (by omega) hi).trans (hs i hi)
    have ec : a13 (nI r * 4 + nI i).toNatClampNeg = nI (c i) := (cd_at4 a13 (by omega) hi).trans (hc i hi)
    have ew : a1 (nI i).toNatClampNeg = nI (w i) := (cd_at a1 (by omega)).trans (ha i hi)
    have hix : vp_in (nI r * 4 + nI i) 56 := pk_in (r * 4 + i) 56 (by omega) (cd_ix4 r i)
    have no : ¬ (c i < s i ∧ w i ≤ F) → wX_fillWidest_89 post J31 (wX_fillWidest_43 post J31 (nI r) (nI F) (nI rd) f1 f2 f3 f4 f5 a1 a2 a3 a4 a5 a6 a7 a8 a9 a10 a11 a12 a13 a14 n) (nI r) (nI F) (nI rd) x (nI i) f1 f2 f3 f4 f5 a1 a2 a3 a4 a5 a6 a7 a8 a9 a10 a11 a12 a13 a14 := fun g => by
      refine br_t rfl (nm_r (nI_1 i) (hw x ?_))
      rcases h with h | h
      · exact Or.inl ⟨h.1, lt_s h.2 g⟩
      · exact Or.inr h
    refine pk_le 4 i (fun z => absurd z (by omega)) (fun _ => ⟨hix, hix, pk_le (s i) (c i) (fun z => no (by omega)) (fun z => ⟨pk_in i 4 hi, pk_lt F (w i) (fun y => no (by omega)) (fun y => ?_) rfl ew⟩) es ec⟩)
    refine br_f (by decide) (br_c (fun _ => nm_r (nI_1 i) (hw (nI i) (Or.inr ⟨i, hi, rfl, z, y⟩))) (fun g => ?_))
    rcases h with h | h
    · exact absurd h.1 g
    · have hx : vp_in x 4 := by
        obtain ⟨j, hj, e, _⟩ := h
        rw [e]
        exact pk_in j 4 hj
      exact ⟨pk_in i 4 hi, hx, br_c (fun _ => nm_r (nI_1 i) (hw x (Or.inr h))) (fun _ => nm_r (nI_1 i) (hw (nI i) (Or.inr ⟨i, hi, rfl, z, y⟩)))⟩
theorem cd_fw31 {post : St2 → Prop} {f1 : Int32} {f3 f4 : Int64} {f5 : Int32} {a1 a2 a3 a4 : Nat → Int32} {a5 a6 a7 a8 a9 : Nat → Int64} {a10 a11 a12 a13 a14 : Nat → Int32} {r R : Nat} {w s : Nat → Nat} (hr : r ≤ 12) (hR : R ≤ 40) (ha : ∀ k, k < 4 → a1 k = nI (w k)) (h1 : ∀ k, k < 4 → 1 ≤ w k ∧ w k ≤ 40) (hs : cd_row a12 (r * 4) s) (hs3 : ∀ k, k < 4 → s k ≤ 3) (hc : cd_row a13 (r * 4) (fun _ => 0))
    (H : ∀ (b13 : Nat → Int32) (c : Nat → Nat), cd_row b13 (r * 4) c → (∀ k, k < 4 → c k ≤ s k) → cd_sum w c 4 ≤ R → (∀ k, k < 4 → c k < s k → R < cd_sum w c 4 + w k) → post (f1, nI R, f3, f4, f5, a1, a2, a3, a4, a5, a6, a7, a8, a9, a10, a11, a12, b13, a14)) :
    ∃ n, wX_fillWidest_31 post (nI r) f1 (nI R) f3 f4 f5 n (nI R) 0 a1 a2 a3 a4 a5 a6 a7 a8 a9 a10 a11 a12 a13 a14 := by
  refine pk_loop (σ := Nat × (Nat → Int32)) (fun n i x => wX_fillWidest_31 post (nI r) f1 (nI R) f3 f4 f5 n (nI x.1) (nI i) a1 a2 a3 a4 a5 a6 a7 a8 a9 a10 a11 a12 x.2 a14)
    (fun i x => ∃ c : Nat → Nat, cd_row x.2 (r * 4) c ∧ x.1 + cd_sum w c 4 = R ∧ (∀ k, k < 4 → c k ≤ s k) ∧ ((∀ k, k < 4 → ¬ (c k < s k ∧ w k ≤ x.1)) ∨ i ≤ cd_sum (fun _ => 1) c 4)) 12 0 (R, a13) (by omega)
    ⟨fun _ => 0, hc, by show R + (0 + 0 * w 0 + 0 * w 1 + 0 * w 2 + 0 * w 3) = R; omega, fun _ _ => Nat.zero_le _, Or.inr (Nat.zero_le _)⟩
    (fun n x h => pk_le 12 12 (fun _ => ?_) (fun z => absurd z (by omega))) (fun n i x hi h hw => pk_le 12 i (fun z => absurd z (by omega)) (fun _ => ?_))
  · obtain ⟨c, q1, q2, q3, q4⟩ := h
    refine H x.2 c q1 q3 (by omega) (fun k hk hlt => ?_)
    rcases q4 with q4 | q4
    · have := q4 k hk
      omega
    · rw [cd_cnt4] at q4
      have z0 := q3 0 (by omega)
      have z1 := q3 1 (by omega)
      have z2 := q3 2 (by omega)
      have z3 := q3 3 (by omega)
      have y0 := hs3 0 (by omega)
      have y1 := hs3 1 (by omega)
      have y2 := hs3 2 (by omega)
      have y3 := hs3 3 (by omega)
      have hkk : k = 0 ∨ k = 1 ∨ k = 2 ∨ k = 3 := by omega
      rcases hkk with rfl | rfl | rfl | rfl <;> omega
  · obtain ⟨c, q1, q2, q3, q4⟩ := h
    refine cd_fw43 hr (by omega) ha h1 hs hs3 q1 q3 (fun g => hw (x.1, x.2) ⟨c, q1, q2, q3, Or.inl g⟩) (fun j hj g1 g2 => hw (x.1 - w j, _) ⟨fun k => if k = j then c j + 1 else c k, cd_put q1, ?_, fun k hk => ?_, ?_⟩)
    · have := cd_sum_upd (w := w) (c := c) (j := j) (x := c j + 1) 4 hj
      rw [Nat.add_mul, Nat.one_mul] at this
      show x.1 - w j + cd_sum w (fun k => if k = j then c j + 1 else c k) 4 = R
      omega
    · show (if k = j then c j + 1 else c k) ≤ s k
      by_cases e : k = j
      · rw [if_pos e, e]
        omega
      · rw [if_neg e]
        exact q3 k hk
    · rcases q4 with q4 | q4
      · exact absurd ⟨g1, g2⟩ (q4 j hj)
      · right
        have := cd_sum_upd (w := fun _ => 1) (c := c) (j := j) (x := c j + 1) 4 hj
        omega
theorem cd_fillW {post : St2 → Prop} {f1 : Int32} {f3 f4 : Int64} {f5 : Int32} {a1 a2 a3 a4 : Nat → Int32} {a5 a6 a7 a8 a9 : Nat → Int64} {a10 a11 a12 a13 a14 : Nat → Int32} {r R : Nat} {w s : Nat → Nat} (hr : r ≤ 12) (hR : R ≤ 40) (ha : ∀ k, k < 4 → a1 k = nI (w k)) (h1 : ∀ k, k < 4 → 1 ≤ w k ∧ w k ≤ 40) (hs : cd_row a12 (r * 4) s) (hs3 : ∀ k, k < 4 → s k ≤ 3)
    (H : ∀ (b13 : Nat → Int32) (c : Nat → Nat), cd_row b13 (r * 4) c → (∀ k, k < 4 → c k ≤ s k) → cd_sum w c 4 ≤ R → (∀ k, k < 4 → c k < s k → R < cd_sum w c 4 + w k) → post (f1, nI R, f3, f4, f5, a1, a2, a3, a4, a5, a6, a7, a8, a9, a10, a11, a12, b13, a14)) :
    wpX_fillWidest post (f1, nI R, f3, f4, f5, a1, a2, a3, a4, a5, a6, a7, a8, a9, a10, a11, a12, a13, a14) (nI r) := by
  refine pk_loop (fun n i x => wX_fillWidest_7 post (nI r) (nI R) f1 (nI R) f3 f4 f5 n (nI i) a1 a2 a3 a4 a5 a6 a7 a8 a9 a10 a11 a12 x a14) (fun i x => (∀ j, j < r * 4 → x j = a13 j) ∧ (∀ k, k < i → x (r * 4 + k) = nI 0)) 4 0 a13 (by omega) ⟨fun _ _ => rfl, lt_0⟩
    (fun n x h => pk_le 4 4 (fun _ => cd_fw31 hr hR ha h1 hs hs3 (s := s) (fun k hk => h.2 k hk) H) (fun z => absurd z (by omega)))
    (fun n i x hi h hw => pk_le 4 i (fun z => absurd z (by omega)) (fun _ => ⟨pk_in (r * 4 + i) 56 (by omega) (cd_ix4 r i), nm_e (nm_r (nI_1 i) (hw _ ?_))⟩))
  rw [cd_ix4, nI_clamp (by omega)]
  exact cd_ext (f := fun _ => 0) h rfl
end
section
/-! what a question rests on: the widths a and b, the room R -/
def cd_par (a b R : Nat) : Prop := 1 ≤ a ∧ 1 ≤ b ∧ a ≤ R ∧ b ≤ R ∧ R ≤ 40
theorem cd_par_w {a b R : Nat} (h : cd_par a b R) : ∀ k, k < 4 → 1 ≤ cd_w a b k ∧ cd_w a b k ≤ 40 := by
  obtain ⟨h1, h2, h3, h4, h5⟩ := h
  exact cd_w_in h1 h2 (by omega) (by omega)
theorem cd_byF {post : Int32 → St2 → Prop} {f1 : Int32} {f3 f4 : Int64} {f5 : Int32} {a1 a2 a3 a4 : Nat → Int32} {a5 a6 a7 a8 a9 : Nat → Int64} {a10 a11 a12 a13 a14 : Nat → Int32} {a b R p q : Nat} (hP : cd_par a b R) (ha : ∀ k, k < 4 → a1 k = nI (cd_w a b k)) (hs : cd_row a12 0 (cd_v p q)) (hp : p ≤ 3) (hq : q ≤ 3)
    (H : ∀ (m : Nat) (b12 b13 : Nat → Int32), cd_L a b R p q ≤ m → m ≤ 12 → (p ≤ 2 → q ≤ 1 → m = cd_L a b R p q) → (∀ j, j < 4 → b12 j = a12 j) → post (nI m) (f1, nI R, f3, f4, f5, a1, a2, a3, a4, a5, a6, a7, a8, a9, a10, a11, b12, b13, a14)) : wpX_byFallingWidths post (f1, nI R, f3, f4, f5, a1, a2, a3, a4, a5, a6, a7, a8, a9, a10, a11, a12, a13, a14) := by
  refine pk_loop (σ := (Nat → Int32) × (Nat → Int32)) (fun n i x => wX_byFallingWidths_4 post n (nI i) (nI i) f1 (nI R) f3 f4 f5 a1 a2 a3 a4 a5 a6 a7 a8 a9 a10 a11 x.1 x.2 a14)
    (fun i x => (∀ j, j < 4 → x.1 j = a12 j) ∧ ∃ p' q', cd_row x.1 (i * 4) (cd_v p' q') ∧ p' ≤ 3 ∧ q' ≤ 3 ∧ cd_L a b R p q ≤ i + cd_L a b R p' q' ∧ (p ≤ 2 → q ≤ 1 → p' ≤ 2 ∧ q' ≤ 1 ∧ i + cd_L a b R p' q' = cd_L a b R p q)) 12 0 (a12, a13) (by omega)
    ⟨fun _ _ => rfl, p, q, hs, hp, hq, by omega, fun g1 g2 => ⟨g1, g2, by omega⟩⟩
    (fun n x h => pk_le 12 12 (fun _ => ?_) (fun z => absurd z (by omega))) (fun n i x hi h hw => pk_le 12 i (fun z => absurd z (by omega)) (fun _ => ?_))
  · obtain ⟨h0, p', q', h1, h2, h3, h4, h5⟩ := h
    refine H 12 x.1 x.2 cd_Llt (Nat.le_refl _) (fun g1 g2 => ?_) h0
    have := h5 g1 g2
    have := cd_Lle a b R p q
    omega
  · obtain ⟨h0, p', q', h1, h2, h3, h4, h5⟩ := h
    refine cd_served rfl (by omega) h1 (cd_v_le h2 h3) (fun g => ?_) (fun g => ?_)
    · have z1 : p' = 0 := g 1 (by omega)
      have z2 : q' = 0 := g 2 (by omega)
      subst z1 z2
      rw [cd_L0] at h4 h5
      exact br_f (by decide) (H i x.1 x.2 h4 (by omega) (fun g1 g2 => (h5 g1 g2).2.2) h0)
    · have g' : 1 ≤ p' + q' := by
        obtain ⟨k, hk, hg⟩ := g
        have hkk : k = 0 ∨ k = 1 ∨ k = 2 ∨ k = 3 := by omega
        rcases hkk with rfl | rfl | rfl | rfl
        · rw [cd_v0] at hg; omega
        · rw [cd_v1] at hg; omega
        · rw [cd_v2] at hg; omega
        · rw [cd_v3] at hg; omega
      refine br_t rfl (cd_fillW (by omega) hP.2.2.2.2 ha (cd_par_w hP) h1 (cd_v_le h2 h3) (fun b13 c c1 c2 c3 c4 => cd_take (by omega) h1 c1 (cd_v_le h2 h3) c2 (fun b12 d1 d2 => nm_r (nI_1 i) (nm_r (nI_1 i) (hw (b12, b13) ⟨fun j hj => (d2 j (by omega)).trans (h0 j hj), p' - c 1, q' - c 2, cd_row_eq d1 ?_, by omega, by omega, ?_, ?_⟩)))))
      · have z0 := c2 0 (by omega)
        have z3 := c2 3 (by omega)
        exact cd_4 (by show 0 - c 0 = 0; omega) rfl rfl (by show 0 - c 3 = 0; omega)
      · rw [cd_sum4] at c3
        have := cd_Lstep (a := a) (b := b) (R := R) (c2 1 (by omega)) (c2 2 (by omega)) (by omega)
        rw [cd_v1, cd_v2] at this
        omega
      · intro g1 g2
        obtain ⟨e1, e2, e3⟩ := h5 g1 g2
        rw [cd_sum4] at c3 c4
        have z0 : c 0 ≤ 0 := c2 0 (by omega)
        have z1 : c 1 ≤ p' := c2 1 (by omega)
        have z2 : c 2 ≤ q' := c2 2 (by omega)
        have z3 : c 3 ≤ 0 := c2 3 (by omega)
        have m1 : c 1 < p' → R < c 0 + c 1 * a + c 2 * b + c 3 + a := c4 1 (by omega)
        have m2 : c 2 < q' → R < c 0 + c 1 * a + c 2 * b + c 3 + b := c4 2 (by omega)
        have s1 := cd_Lstep (a := a) (b := b) (R := R) z1 z2 (by omega)
        have s2 := cd_Lmax (a := a) (b := b) (R := R) e1 e2 g' z1 z2 hP.2.2.1 hP.2.2.2.1 (fun y => by have := m1 y; omega) (fun y => by have := m2 y; omega)
        exact ⟨by omega, by omega, by omega⟩
/-! the patterns of the search -/
/-- the cut of roll r: no more than is wanted, it fits, it holds one of kind m -/
def cd_ok (w s : Nat → Nat) (R m : Nat) (x : Nat → Int32) (r : Nat) : Prop := ∃ c : Nat → Nat, cd_row x (r * 4) c ∧ (∀ k, k < 4 → c k ≤ s k) ∧ cd_sum w c 4 ≤ R ∧ 1 ≤ c m
theorem cd_ff54 {post : St2 → Prop} {f1 : Int32} {f3 f4 : Int64} {f5 : Int32} {a1 a2 a3 a4 : Nat → Int32} {a5 a6 a7 a8 a9 : Nat → Int64} {a10 a11 a12 a13 a14 : Nat → Int32} {r R m fr F : Nat} {w s c : Nat → Nat} (hr : r ≤ 12) (hR : R ≤ 40) (hfr : fr ≤ 4) (ha : ∀ k, k < 4 → a1 k = nI (w k)) (h1 : ∀ k, k < 4 → 1 ≤ w k ∧ w k ≤ 40) (hs : cd_row a12 (r * 4) s) (hs3 : ∀ k, k < 4 → s k ≤ 3)
    (hm4 : m < 4) (hsm : 0 < s m) (hc : cd_row a13 (r * 4) c) (hcs : ∀ k, k < fr → c k ≤ s k) (hF : F + cd_sum w c fr = R) (hge : fr ≤ m → w m ≤ F) (hlt : m < fr → 1 ≤ c m)
    (H : ∀ (b13 : Nat → Int32), cd_ok w s R m b13 r → (∀ j, j < r * 4 → b13 j = a13 j) → post (f1, nI R, f3, f4, f5, a1, a2, a3, a4, a5, a6, a7, a8, a9, a10, a11, a12, b13, a14)) : ∃ n, wX_fillFrom_54 post (nI r) (nI m) f1 (nI R) f3 f4 f5 n (nI F) (nI fr) a1 a2 a3 a4 a5 a6 a7 a8 a9 a10 a11 a12 a13 a14 := by
  refine pk_loop (σ := Nat × (Nat → Int32)) (fun n i x => wX_fillFrom_54 post (nI r) (nI m) f1 (nI R) f3 f4 f5 n (nI x.1) (nI i) a1 a2 a3 a4 a5 a6 a7 a8 a9 a10 a11 a12 x.2 a14)
    (fun i x => (∀ j, j < r * 4 → x.2 j = a13 j) ∧ ∃ c : Nat → Nat, cd_row x.2 (r * 4) c ∧ (∀ k, k < i → c k ≤ s k) ∧ x.1 + cd_sum w c i = R ∧ (i ≤ m → w m ≤ x.1) ∧ (m < i → 1 ≤ c m)) 4 fr (F, a13) hfr
    ⟨fun _ _ => rfl, c, hc, hcs, hF, hge, hlt⟩
    (fun n x h => pk_le 4 4 (fun _ => ?_) (fun z => absurd z (by omega))) (fun n k x hk h hw => pk_le 4 k (fun z => absurd z (by omega)) (fun _ => ?_))
  · obtain ⟨h0, c, q1, q2, q3, q4, q5⟩ := h
    exact H x.2 ⟨c, q1, q2, by omega, q5 hm4⟩ h0
  · obtain ⟨h0, c, q1, q2, q3, q4, q5⟩ := h
    have hsk := hs3 k hk
    have hwk := h1 k hk
    have hwm := h1 m hm4
    have es : a12 (nI r * 4 + nI k).toNatClampNeg = nI (s k) := (cd_at4 a12 (by omega) hk).trans (hs k hk)
    have ew : a1 (nI k).toNatClampNeg = nI (w k) := (cd_at a1 (by omega)).trans (ha k hk)
    have em : a1 (nI m).toNatClampNeg = nI (w m) := (cd_at a1 (by omega)).trans (ha m hm4)
    have hix : vp_in (nI r * 4 + nI k) 56 := pk_in (r * 4 + k) 56 (by omega) (cd_ix4 r k)
    have put : ∀ κ v : Nat, κ ≤ x.1 → (k < m → κ = w m) → v ≤ s k → v * w k ≤ x.1 - κ → (k = m → 1 ≤ v) →
        wX_fillFrom_139 post (wX_fillFrom_54 post (nI r) (nI m) f1 (nI R) f3 f4 f5 n) (nI r) (nI m) (nI x.1) (nI k) (nI v) f1 (nI R) f3 f4 f5 a1 a2 a3 a4 a5 a6 a7 a8 a9 a10 a11 a12 x.2 a14 := by
      intro κ v k1 k2 k3 k4 k5
      have fin : ∀ z0 : Int32, z0.toInt8.toInt32 = nI v → wX_fillFrom_162 post (wX_fillFrom_54 post (nI r) (nI m) f1 (nI R) f3 f4 f5 n) (nI r) (nI m) (nI x.1) (nI k) z0 (nI r * 4 + nI k) f1 (nI R) f3 f4 f5 a1 a2 a3 a4 a5 a6 a7 a8 a9 a10 a11 a12 x.2 a14 := by
        intro z0 hz
        have e1 : upd x.2 (nI r * 4 + nI k).toNatClampNeg z0.toInt8.toInt32 = upd x.2 (r * 4 + k) (nI v) := by rw [cd_ix4, nI_clamp (by omega), hz]
        have e2 : nI x.1 - upd x.2 (r * 4 + k) (nI v) (nI r * 4 + nI k).toNatClampNeg * a1 (nI k).toNatClampNeg = nI (x.1 - v * w k) := by
          rw [ew, cd_ix4, nI_clamp (by omega), pk_us, pk_mul, pk_sub (by omega)]
        refine ⟨hix, nm_r e1 ⟨hix, pk_in k 4 hk, nm_r e2 (nm_r (nI_1 k) (hw (x.1 - v * w k, upd x.2 (r * 4 + k) (nI v)) ⟨fun j hj => ?_, fun j => if j = k then v else c j, cd_put q1, fun j hj => ?_, ?_, fun g => ?_, fun g => ?_⟩))⟩⟩
        · show upd x.2 (r * 4 + k) (nI v) j = a13 j
          rw [pk_un (by omega)]
          exact h0 j hj
        · show (if j = k then v else c j) ≤ s j
          by_cases e : j = k
          · rw [if_pos e, e]; exact k3
          · rw [if_neg e]; exact q2 j (by omega)
        · have g1 : cd_sum w (fun j => if j = k then v else c j) (k + 1) = cd_sum w (fun j => if j = k then v else c j) k + v * w k := by
            show cd_sum w (fun j => if j = k then v else c j) k + (if k = k then v else c k) * w k = _
            rw [if_pos rfl]
          have g2 : cd_sum w (fun j => if j = k then v else c j) k = cd_sum w c k := cd_sum_congr k (fun j hj => if_neg (by omega))
          show x.1 - v * w k + cd_sum w (fun j => if j = k then v else c j) (k + 1) = R
          omega
        · have := k2 (by omega)
          show w m ≤ x.1 - v * w k
          omega
        · show 1 ≤ (if m = k then v else c m)
          by_cases e : m = k
          · rw [if_pos e]; exact k5 e.symm
          · rw [if_neg e]; exact q5 (by omega)
      refine pk_le v 0 (fun z => fin 0 ?_) (fun z => fin (nI v) (cd_b8 v (by omega)))
      rw [show v = 0 by omega]
      decide
    have core : ∀ κ : Nat, κ ≤ x.1 → (k < m → κ = w m) → (k = m → w k ≤ x.1 - κ) →
        wX_fillFrom_76 post (wX_fillFrom_54 post (nI r) (nI m) f1 (nI R) f3 f4 f5 n) (nI r) (nI m) (nI x.1) (nI k) (nI κ) f1 (nI R) f3 f4 f5 a1 a2 a3 a4 a5 a6 a7 a8 a9 a10 a11 a12 x.2 a14 := by
      intro κ k1 k2 k3
      refine ⟨pk_in k 4 hk, br_f (by rw [ew]; exact nI_nle (by omega) (by omega)) ⟨pk_in k 4 hk, ?_⟩⟩
      rw [ew, pk_sub k1]
      have hd := Nat.div_mul_le_self (x.1 - κ) (w k)
      have hdl := Nat.div_le_self (x.1 - κ) (w k)
      refine ⟨nI_ne0 (by omega) (by omega), nm_r (pk_div (by omega) (by omega) (by omega)) ⟨hix, pk_le (s k) ((x.1 - κ) / w k) (fun z => ⟨hix, ?_⟩) (fun z => put κ _ k1 k2 (by omega) hd (fun e => Nat.div_pos (k3 e) (by omega))) es rfl⟩⟩
      rw [es]
      exact put κ _ k1 k2 (Nat.le_refl _) (Nat.le_trans (Nat.mul_le_mul_right _ z) hd) (fun e => by rw [e]; exact hsm)
    refine pk_le m k (fun z => core 0 (by omega) (fun y => absurd y (by omega)) (fun y => ?_)) (fun z => ⟨pk_in m 4 hm4, ?_⟩)
    · have := q4 (by omega)
      rw [y]
      omega
    · rw [em]
      exact core (w m) (q4 (by omega)) (fun _ => rfl) (fun y => absurd y (by omega))
theorem cd_ff {post : St2 → Prop} {f1 : Int32} {f3 f4 : Int64} {f5 : Int32} {a1 a2 a3 a4 : Nat → Int32} {a5 a6 a7 a8 a9 : Nat → Int64} {a10 a11 a12 a13 a14 : Nat → Int32} {x : Int32} {r R m fr : Nat} {w s c : Nat → Nat} (hx : x = nI fr) (hr : r ≤ 12) (hR : R ≤ 40) (hfr : fr ≤ 4) (ha : ∀ k, k < 4 → a1 k = nI (w k)) (h1 : ∀ k, k < 4 → 1 ≤ w k ∧ w k ≤ 40) (hs : cd_row a12 (r * 4) s) (hs3 : ∀ k, k < 4 → s k ≤ 3)
    (hm : cd_must w s = m + 1) (hm4 : m < 4) (hsm : 0 < s m) (hc : cd_row a13 (r * 4) c) (hcs : ∀ k, k < fr → c k ≤ s k) (hF : cd_sum w c fr ≤ R) (hge : fr ≤ m → cd_sum w c fr + w m ≤ R) (hlt : m < fr → 1 ≤ c m)
    (H : ∀ (b13 : Nat → Int32), cd_ok w s R m b13 r → (∀ j, j < r * 4 → b13 j = a13 j) → post (f1, nI R, f3, f4, f5, a1, a2, a3, a4, a5, a6, a7, a8, a9, a10, a11, a12, b13, a14)) : wpX_fillFrom post (f1, nI R, f3, f4, f5, a1, a2, a3, a4, a5, a6, a7, a8, a9, a10, a11, a12, a13, a14) (nI r) x := by
  subst hx
  refine cd_widest (by omega) ha h1 hs hs3 ?_
  rw [hm, cd_tIs]
  refine pk_loop (σ := Nat) (fun n i F => wX_fillFrom_15 post (nI r) (nI fr) (nI m) f1 (nI R) f3 f4 f5 a1 a2 a3 a4 a5 a6 a7 a8 a9 a10 a11 a12 a13 a14 n (nI F) (nI i)) (fun i F => F + cd_sum w c i = R) fr 0 R (by omega) rfl
    (fun n F h => pk_le fr fr (fun _ => cd_ff54 hr hR hfr ha h1 hs hs3 hm4 hsm hc hcs h (fun y => by have := hge y; omega) hlt H) (fun z => absurd z (by omega)))
    (fun n i F hi h hw => pk_le fr i (fun z => absurd z (by omega)) (fun _ => ⟨pk_in (r * 4 + i) 56 (by omega) (cd_ix4 r i), pk_in i 4 (by omega), nm_r ?_ (nm_r (nI_1 i) (hw (F - c i * w i) ?_))⟩))
  · have e1 : a13 (nI r * 4 + nI i).toNatClampNeg = nI (c i) := (cd_at4 a13 (by omega) (by omega)).trans (hc i (by omega))
    have e2 : a1 (nI i).toNatClampNeg = nI (w i) := (cd_at a1 (by omega)).trans (ha i (by omega))
    have e3 := cd_sum_mono w c (i + 1) fr (by omega)
    have e4 : cd_sum w c (i + 1) = cd_sum w c i + c i * w i := rfl
    rw [e1, e2, pk_mul, pk_sub (by omega)]
  · have e3 := cd_sum_mono w c (i + 1) fr (by omega)
    have e4 : cd_sum w c (i + 1) = cd_sum w c i + c i * w i := rfl
    show F - c i * w i + cd_sum w c (i + 1) = R
    omega
theorem cd_first {post : Int32 → St2 → Prop} {f1 : Int32} {f3 f4 : Int64} {f5 : Int32} {a1 a2 a3 a4 : Nat → Int32} {a5 a6 a7 a8 a9 : Nat → Int64} {a10 a11 a12 a13 a14 : Nat → Int32} {r R m : Nat} {w s : Nat → Nat} (hr : r ≤ 12) (hR : R ≤ 40) (ha : ∀ k, k < 4 → a1 k = nI (w k)) (h1 : ∀ k, k < 4 → 1 ≤ w k ∧ w k ≤ 40) (hs : cd_row a12 (r * 4) s) (hs3 : ∀ k, k < 4 → s k ≤ 3)
    (hm : cd_must w s = m + 1) (hm4 : m < 4) (hsm : 0 < s m) (hwm : w m ≤ R)
    (H : ∀ (b13 : Nat → Int32), cd_ok w s R m b13 r → (∀ j, j < r * 4 → b13 j = a13 j) → post 1 (f1, nI R, f3, f4, f5, a1, a2, a3, a4, a5, a6, a7, a8, a9, a10, a11, a12, b13, a14)) : wpX_firstPattern post (f1, nI R, f3, f4, f5, a1, a2, a3, a4, a5, a6, a7, a8, a9, a10, a11, a12, a13, a14) (nI r) := by
  refine cd_widest (by omega) ha h1 hs hs3 ?_
  rw [hm, cd_tIs]
  refine br_t (nI_pos' (by omega)) (pk_loop (fun n i x => wX_firstPattern_14 post (nI r) f1 (nI R) f3 f4 f5 n (nI i) a1 a2 a3 a4 a5 a6 a7 a8 a9 a10 a11 a12 x a14) (fun i x => (∀ j, j < r * 4 → x j = a13 j) ∧ (∀ k, k < i → x (r * 4 + k) = nI 0)) 4 0 a13 (by omega) ⟨fun _ _ => rfl, lt_0⟩
    (fun n x h => pk_le 4 4 (fun _ => cd_ff (fr := 0) (c := fun _ => 0) rfl hr hR (by omega) ha h1 hs hs3 hm hm4 hsm (fun k hk => h.2 k hk) lt_0 (Nat.zero_le _) (fun _ => by show 0 + w m ≤ R; omega) (fun z => absurd z (by omega)) (fun b13 ok g => H b13 ok (fun j hj => (g j hj).trans (h.1 j hj)))) (fun z => absurd z (by omega)))
    (fun n i x hi h hw => pk_le 4 i (fun z => absurd z (by omega)) (fun _ => ⟨pk_in (r * 4 + i) 56 (by omega) (cd_ix4 r i), nm_e (nm_r (nI_1 i) (hw _ ?_))⟩)))
  rw [cd_ix4, nI_clamp (by omega)]
  exact cd_ext (f := fun _ => 0) h rfl
theorem cd_next {post : Int32 → St2 → Prop} {f1 : Int32} {f3 f4 : Int64} {f5 : Int32} {a1 a2 a3 a4 : Nat → Int32} {a5 a6 a7 a8 a9 : Nat → Int64} {a10 a11 a12 a13 a14 : Nat → Int32} {r R m : Nat} {w s : Nat → Nat} (hr : r ≤ 12) (hR : R ≤ 40) (ha : ∀ k, k < 4 → a1 k = nI (w k)) (h1 : ∀ k, k < 4 → 1 ≤ w k ∧ w k ≤ 40) (hs : cd_row a12 (r * 4) s) (hs3 : ∀ k, k < 4 → s k ≤ 3)
    (hm : cd_must w s = m + 1) (hm4 : m < 4) (hsm : 0 < s m) (hwm : w m ≤ R) (hok : ¬ a14 r = 0 → cd_ok w s R m a13 r)
    (H0 : post 0 (f1, nI R, f3, f4, f5, a1, a2, a3, a4, a5, a6, a7, a8, a9, a10, a11, a12, a13, a14))
    (H1 : ∀ (b13 b14 : Nat → Int32), cd_ok w s R m b13 r → (∀ j, j < r * 4 → b13 j = a13 j) → (∀ j, j ≠ r → b14 j = a14 j) → post 1 (f1, nI R, f3, f4, f5, a1, a2, a3, a4, a5, a6, a7, a8, a9, a10, a11, a12, b13, b14)) : wpX_nextPattern post (f1, nI R, f3, f4, f5, a1, a2, a3, a4, a5, a6, a7, a8, a9, a10, a11, a12, a13, a14) (nI r) := by
  have e14 : a14 (nI r).toNatClampNeg = a14 r := cd_at a14 (by omega)
  refine ⟨pk_in r 14 (by omega), br_c (fun g => ⟨pk_in r 14 (by omega), nm_e (cd_first hr hR ha h1 hs hs3 hm hm4 hsm hwm (fun b13 ok f => ⟨by first | rfl | exact congrArg _ (by decide : (1 : Int32) &&& 1 = 1), H1 b13 _ ok f (fun j hj => ?_)⟩))⟩) (fun g => cd_widest (by omega) ha h1 hs hs3 ?_)⟩
  · rw [nI_clamp (by omega), pk_un hj]
  · rw [hm, cd_tIs]
    rw [e14] at g
    obtain ⟨c, q1, q2, q3, q4⟩ := hok g
    suffices K : wX_nextPattern_30 post (nI r) (nI m) f1 (nI R) f3 f4 f5 a1 a2 a3 a4 a5 a6 a7 a8 a9 a10 a11 a12 a13 a14 5 (cd_tI 4) by
      rw [show cd_tI 4 = 3 from by decide] at K
      exact ⟨5, K⟩
    refine pk_loopD (σ := Unit) (fun n t _ => wX_nextPattern_30 post (nI r) (nI m) f1 (nI R) f3 f4 f5 a1 a2 a3 a4 a5 a6 a7 a8 a9 a10 a11 a12 a13 a14 n (cd_tI t)) (fun t _ => t ≤ 4) (fun n _ _ => br_t cd_tI0n H0) (fun n t _ ht hw => ?_) 4 () (Nat.le_refl 4)
    show wX_nextPattern_30 post (nI r) (nI m) f1 (nI R) f3 f4 f5 a1 a2 a3 a4 a5 a6 a7 a8 a9 a10 a11 a12 a13 a14 (n + 1) (cd_tI (t + 1))
    rw [cd_tIs]
    have ht' : t < 4 := by omega
    have hst := hs3 t ht'
    have hct := q2 t ht'
    have hix : vp_in (nI r * 4 + nI t) 56 := pk_in (r * 4 + t) 56 (by omega) (cd_ix4 r t)
    have ec : a13 (nI r * 4 + nI t).toNatClampNeg = nI (c t) := (cd_at4 a13 (by omega) ht').trans (q1 t ht')
    have core : ∀ z : Nat, z ≤ 1 → (t = m → z = 1) → wX_nextPattern_44 post (wX_nextPattern_30 post (nI r) (nI m) f1 (nI R) f3 f4 f5 a1 a2 a3 a4 a5 a6 a7 a8 a9 a10 a11 a12 a13 a14 n) (nI r) (nI m) (nI t) (nI z) f1 (nI R) f3 f4 f5 a1 a2 a3 a4 a5 a6 a7 a8 a9 a10 a11 a12 a13 a14 := by
      intro z hz hz1
      refine ⟨hix, pk_le (c t) z (fun y => nm_e (hw () (by omega))) (fun y => ⟨hix, hix, nm_r (e' := upd a13 (r * 4 + t) (nI (c t - 1))) ?_ ?_⟩) ec⟩
      · rw [cd_ix4, nI_clamp (by omega), q1 t ht', show nI (c t) - 1 = nI (c t - 1) from pk_sub (b := 1) (by omega), cd_b8 _ (by omega)]
      · have u1 := cd_sum_upd (w := w) (c := c) (j := t) (x := c t - 1) (t + 1) (by omega)
        have u2 : (c t - 1) * w t ≤ c t * w t := Nat.mul_le_mul_right _ (by omega)
        have u3 := cd_sum_mono w c (t + 1) 4 (by omega)
        refine cd_ff (c := fun k => if k = t then c t - 1 else c k) (nI_1 t) hr hR (by omega) ha h1 hs hs3 hm hm4 hsm (cd_put q1) (fun k hk => ?_) (by omega) (fun g => ?_) (fun g => ?_) (fun b13 ok f => H1 b13 a14 ok (fun j hj => ?_) (fun _ _ => rfl))
        · show (if k = t then c t - 1 else c k) ≤ s k
          by_cases e : k = t
          · rw [if_pos e, e]; omega
          · rw [if_neg e]; exact q2 k (by omega)
        · have u4 := cd_sum_ge (w := w) (c := c) (i := t + 1) (m := m) 4 g hm4
          have u5 := cd_mul1 (a := w m) q4
          omega
        · show 1 ≤ (if m = t then c t - 1 else c m)
          by_cases e : m = t
          · rw [if_pos e]
            have := hz1 e.symm
            omega
          · rw [if_neg e]; exact q4
        · rw [f j hj, pk_un (by omega)]
    exact br_f (nI_pos (by omega)) (pk_eq t m (fun y => core 1 (by omega) (fun _ => rfl)) (fun y => core 0 (by omega) (fun y' => absurd y' y)))
end
section
/-! the search: level j is roll j of the plan under way -/
def cd_lev (a b R L0 : Nat) (x y z : Nat → Int32) (j : Nat) : Prop := ∃ p q, cd_row x (j * 4) (cd_v p q) ∧ p ≤ 3 ∧ q ≤ 3 ∧ 1 ≤ p + q ∧ j + (p + q) ≤ 6 ∧ L0 ≤ j + cd_L a b R p q ∧ (¬ z j = 0 → ∀ m, cd_must (cd_w a b) (cd_v p q) = m + 1 → cd_ok (cd_w a b) (cd_v p q) R m y j)
theorem cd_lev_keep {a b R L0 j : Nat} {x y z x' y' z' : Nat → Int32} (h : cd_lev a b R L0 x y z j) (hx : ∀ i, i < (j + 1) * 4 → x' i = x i) (hy : ∀ i, i < (j + 1) * 4 → y' i = y i) (hz : z' j = z j) : cd_lev a b R L0 x' y' z' j := by
  obtain ⟨p, q, h1, h2, h3, h4, h5, h6, h7⟩ := h
  refine ⟨p, q, cd_row_le h1 hx (by omega), h2, h3, h4, h5, h6, fun g m hm => ?_⟩
  rw [hz] at g
  obtain ⟨c, c1, c2⟩ := h7 g m hm
  exact ⟨c, cd_row_le c1 hy (by omega), c2⟩
theorem cd_v_must {a b p q : Nat} (h : 1 ≤ p + q) : ∃ m, cd_must (cd_w a b) (cd_v p q) = m + 1 ∧ m < 4 ∧ 0 < cd_v p q m ∧ (m = 1 ∨ m = 2) := by
  have key : ∃ m, cd_must (cd_w a b) (cd_v p q) = m + 1 ∧ m < 4 ∧ 0 < cd_v p q m := by
    by_cases hp : 0 < p
    · exact cd_must_ex (k := 1) (by omega) hp
    · exact cd_must_ex (k := 2) (by omega) (show 0 < q by omega)
  obtain ⟨m, h1, h2, h3⟩ := key
  refine ⟨m, h1, h2, h3, ?_⟩
  have hkk : m = 0 ∨ m = 1 ∨ m = 2 ∨ m = 3 := by omega
  rcases hkk with rfl | rfl | rfl | rfl
  · rw [cd_v0] at h3; omega
  · exact Or.inl rfl
  · exact Or.inr rfl
  · rw [cd_v3] at h3; omega
theorem cd_search {post : St2 → Prop} {f1 : Int32} {f3 f4 : Int64} {a1 a2 a3 a4 : Nat → Int32} {a5 a6 a7 a8 a9 : Nat → Int64} {a10 a11 a12 a13 a14 : Nat → Int32} {a b R p0 q0 L0 M : Nat} {g : Int32} (hP : cd_par a b R) (ha : ∀ k, k < 4 → a1 k = nI (cd_w a b k)) (hM : M ≤ 12) (hLM : L0 ≤ M)
    (hs : cd_row a12 0 (cd_v p0 q0)) (hp0 : p0 ≤ 3) (hq0 : q0 ≤ 3) (hpq0 : 1 ≤ p0 + q0) (hL0 : L0 ≤ cd_L a b R p0 q0)
    (H : ∀ (m : Nat) (b12 b13 b14 : Nat → Int32), L0 ≤ m → m ≤ M → post (f1, nI R, f3, f4, nI m, a1, a2, a3, a4, a5, a6, a7, a8, a9, a10, a11, b12, b13, b14)) : wpX_search post (f1, nI R, f3, f4, nI M, a1, a2, a3, a4, a5, a6, a7, a8, a9, a10, a11, a12, a13, a14) g := by
  have K : ∃ n, wX_search_11 post g n (cd_tI 1) (nI 0) f1 (nI R) f3 f4 (nI M) a1 a2 a3 a4 a5 a6 a7 a8 a9 a10 a11 a12 a13 (upd a14 0 0) := by
    refine pk_loop (σ := Nat × Nat × (Nat → Int32) × (Nat → Int32) × (Nat → Int32)) (fun n i s => wX_search_11 post g n (cd_tI s.1) (nI i) f1 (nI R) f3 f4 (nI s.2.1) a1 a2 a3 a4 a5 a6 a7 a8 a9 a10 a11 s.2.2.1 s.2.2.2.1 s.2.2.2.2)
      (fun _ s => L0 ≤ s.2.1 ∧ s.2.1 ≤ M ∧ ∀ j, j < s.1 → cd_lev a b R L0 s.2.2.1 s.2.2.2.1 s.2.2.2.2 j) 134217728 0 (1, M, a12, a13, upd a14 0 0) (by omega)
      ⟨hLM, Nat.le_refl M, fun j hj => ?_⟩
      (fun n s h => pk_le 134217728 134217728 (fun _ => H s.2.1 _ _ _ h.1 h.2.1) (fun z => absurd z (by omega))) (fun n i s hi h hw => ?_)
    · have e : j = 0 := Nat.lt_one_iff.mp hj
      subst e
      exact ⟨p0, q0, hs, hp0, hq0, hpq0, by omega, by omega, fun z => absurd (pk_us (f := a14) (k := 0) (x := 0)) z⟩
    · obtain ⟨t, m, x, y, z⟩ := s
      obtain ⟨hL, hm, hlv⟩ := h
      replace hL : L0 ≤ m := hL
      replace hm : m ≤ M := hm
      replace hlv : ∀ j, j < t → cd_lev a b R L0 x y z j := hlv
      show wX_search_11 post g (n + 1) (cd_tI t) (nI i) f1 (nI R) f3 f4 (nI m) a1 a2 a3 a4 a5 a6 a7 a8 a9 a10 a11 x y z
      have go : ∀ (t m : Nat) (x y z : Nat → Int32), L0 ≤ m → m ≤ M → (∀ j, j < t → cd_lev a b R L0 x y z j) → wX_search_11 post g n (cd_tI t) (nI (i + 1)) f1 (nI R) f3 f4 (nI m) a1 a2 a3 a4 a5 a6 a7 a8 a9 a10 a11 x y z := fun t m x y z g1 g2 g3 => hw (t, m, x, y, z) ⟨g1, g2, g3⟩
      clear hw
      refine pk_le 134217728 i (fun z => absurd z (by omega)) (fun _ => ?_)
      cases t with
      | zero => exact br_t cd_tI0n (H m _ _ _ hL hm)
      | succ r =>
        have goS : ∀ (m : Nat) (x y z : Nat → Int32), L0 ≤ m → m ≤ M → (∀ j, j < r + 1 → cd_lev a b R L0 x y z j) → wX_search_11 post g n (nI r) (nI (i + 1)) f1 (nI R) f3 f4 (nI m) a1 a2 a3 a4 a5 a6 a7 a8 a9 a10 a11 x y z := fun m x y z g1 g2 g3 => by
          have t := go (r + 1) m x y z g1 g2 g3
          rw [cd_tIs] at t
          exact t
        have goD : ∀ (m : Nat) (x y z : Nat → Int32), L0 ≤ m → m ≤ M → (∀ j, j < r + 2 → cd_lev a b R L0 x y z j) → wX_search_11 post g n (nI (r + 1)) (nI (i + 1)) f1 (nI R) f3 f4 (nI m) a1 a2 a3 a4 a5 a6 a7 a8 a9 a10 a11 x y z := fun m x y z g1 g2 g3 => by
          have t := go (r + 1 + 1) m x y z g1 g2 g3
          rw [cd_tIs] at t
          exact t
        rw [cd_tIs]
        obtain ⟨p, q, hrow, hp, hq, hpq, hsum, hLr, hok⟩ := hlv r (by omega)
        obtain ⟨m', hm1, hm4, hsm, hm12⟩ := cd_v_must (a := a) (b := b) hpq
        have hwm : cd_w a b m' ≤ R := by
          rcases hm12 with rfl | rfl
          · exact hP.2.2.1
          · exact hP.2.2.2.1
        refine br_f (nI_pos (by omega)) (br_c (fun _ => H m _ _ _ hL hm) (fun _ => cd_next (by omega) hP.2.2.2.2 ha (cd_par_w hP) hrow (cd_v_le hp hq) hm1 hm4 hsm hwm (fun y => hok y m' hm1) ?_ (fun b13 b14 ok f13 f14 => ?_)))
        · exact br_t rfl (nm_e (nm_r (nI_1 i) (go r m x y z hL hm (fun j hj => hlv j (by omega)))))
        · obtain ⟨c, c1, c2, c3, c4⟩ := ok
          refine br_f (by decide) (cd_take (by omega) hrow c1 (cd_v_le hp hq) c2 (fun b12 d1 d2 => ?_))
          have all : ∀ j, j < r + 1 → cd_lev a b R L0 b12 b13 b14 j := by
            intro j hj
            by_cases e : j = r
            · subst e
              refine ⟨p, q, cd_row_le hrow d2 (by omega), hp, hq, hpq, hsum, hLr, fun _ m2 e2 => ?_⟩
              rw [show m2 = m' by omega]
              exact ⟨c, c1, c2, c3, c4⟩
            · exact cd_lev_keep (hlv j (by omega)) (fun i hi => d2 i (by omega)) (fun i hi => f13 i (by omega)) (f14 j e)
          have z0 : c 0 ≤ 0 := c2 0 (by omega)
          have z1 : c 1 ≤ p := c2 1 (by omega)
          have z2 : c 2 ≤ q := c2 2 (by omega)
          have z3 : c 3 ≤ 0 := c2 3 (by omega)
          have hrow' : cd_row b12 ((r + 1) * 4) (cd_v (p - c 1) (q - c 2)) := cd_row_eq d1 (cd_4 (by show 0 - c 0 = 0; omega) rfl rfl (by show 0 - c 3 = 0; omega))
          have hc12 : 1 ≤ c 1 + c 2 := by
            rcases hm12 with rfl | rfl <;> omega
          rw [cd_sum4] at c3
          have hLn := cd_Lstep (a := a) (b := b) (R := R) z1 z2 (by omega)
          refine cd_served (nI_1 r) (by omega) hrow' (cd_v_le (by omega) (by omega)) (fun g => ?_) (fun g => ?_)
          · have y1 : p - c 1 = 0 := g 1 (by omega)
            have y2 : q - c 2 = 0 := g 2 (by omega)
            rw [y1, y2, cd_L0] at hLn
            exact br_f (by decide) (pk_le m (r + 1) (fun y => nm_r (nI_1 i) (goS m b12 b13 b14 hL hm all)) (fun y => nm_r (nI_1 r) (nm_r (nI_1 i) (goS (r + 1) b12 b13 b14 (by omega) (by omega) all))) rfl (nI_1 r))
          · have g' : 1 ≤ p - c 1 + (q - c 2) := by
              obtain ⟨k, hk, hg⟩ := g
              have hkk : k = 0 ∨ k = 1 ∨ k = 2 ∨ k = 3 := by omega
              rcases hkk with rfl | rfl | rfl | rfl
              · rw [cd_v0] at hg; omega
              · rw [cd_v1] at hg; omega
              · rw [cd_v2] at hg; omega
              · rw [cd_v3] at hg; omega
            refine br_t rfl (cd_bound (nI_1 r) (by omega) (fun v => br_c (fun _ => nm_r (nI_1 i) (goS m b12 b13 b14 hL hm all)) (fun _ => nm_r (nI_1 r) ⟨pk_in (r + 1) 14 (by omega), nm_r (e' := upd b14 (r + 1) 0) ?_ (nm_r (nI_1 i) (goD m b12 b13 (upd b14 (r + 1) 0) hL hm (fun j hj => ?_)))⟩)))
            · rw [nI_clamp (by omega)]
            · by_cases e : j = r + 1
              · subst e
                exact ⟨p - c 1, q - c 2, hrow', by omega, by omega, g', by omega, by omega, fun y => absurd pk_us y⟩
              · exact cd_lev_keep (all j (by omega)) (fun _ _ => rfl) (fun _ _ => rfl) (pk_un e)
  rw [show cd_tI 1 = 0 from by decide] at K
  exact nm_e K
end
section
/-! the answer to a question -/
theorem cd_solve {post : Int32 → St2 → Prop} {f1 : Int32} {f3 f4 : Int64} {f5 : Int32} {a1 a2 a3 a4 : Nat → Int32} {a5 a6 a7 a8 a9 : Nat → Int64} {a10 a11 a12 a13 a14 : Nat → Int32} {a b R p q : Nat} (hP : cd_par a b R) (ha : ∀ k, k < 4 → a1 k = nI (cd_w a b k)) (h3 : ∀ k, k < 4 → a3 k = nI (cd_v p q k)) (hp : p ≤ 3) (hq : q ≤ 3)
    (H : ∀ (m : Nat) (g3 g4 : Int64) (g5 : Int32) (b4 : Nat → Int32) (b5 b6 b7 b8 b9 : Nat → Int64) (b10 b11 b12 b13 b14 : Nat → Int32), cd_L a b R p q ≤ m → m ≤ 12 → (p ≤ 2 → q ≤ 1 → m = cd_L a b R p q) → post (nI m) (f1, nI R, g3, g4, g5, a1, a2, a3, b4, b5, b6, b7, b8, b9, b10, b11, b12, b13, b14)) : wpX_solve post (f1, nI R, f3, f4, f5, a1, a2, a3, a4, a5, a6, a7, a8, a9, a10, a11, a12, a13, a14) := by
  have h33 := cd_v_le hp hq
  refine pk_loop (fun n i x => wX_solve_4 post f1 (nI R) f3 f4 f5 n (nI (cd_sum (fun _ => 1) (cd_v p q) i)) (nI i) a1 a2 a3 a4 a5 a6 a7 a8 a9 a10 a11 x a13 a14) (fun i x => ∀ k, k < i → x k = nI (cd_v p q k)) 4 0 a12 (by omega) lt_0
    (fun n x h => pk_le 4 4 (fun _ => ?_) (fun z => absurd z (by omega))) (fun n i x hi h hw => pk_le 4 i (fun z => absurd z (by omega)) (fun _ => ?_))
  · have hx : cd_row x 0 (cd_v p q) := fun k hk => by rw [Nat.zero_add]; exact h k hk
    have hc : cd_sum (fun _ => 1) (cd_v p q) 4 = p + q := by
      rw [cd_cnt4, cd_v0, cd_v1, cd_v2, cd_v3]
      omega
    rw [hc]
    refine pk_eq (p + q) 0 (fun z => ?_) (fun z => ?_)
    · have e1 : p = 0 := by omega
      have e2 : q = 0 := by omega
      subst e1 e2
      exact H 0 _ _ _ _ _ _ _ _ _ _ _ _ _ _ (by rw [cd_L0]; exact Nat.le_refl 0) (by omega) (fun _ _ => (cd_L0 a b R).symm)
    · refine cd_fp hP.2.2.2.2 ha (cd_par_w hP) (fun g3 g4 b4 b5 b6 b7 b8 b9 b10 b11 => cd_byF hP ha hx hp hq (fun m b12 b13 m1 m2 m3 m4 => cd_bound (r := 0) rfl (by omega) (fun v => br_c (fun _ => H m _ _ _ _ _ _ _ _ _ _ _ _ _ _ m1 m2 m3) (fun _ => ?_))))
      refine cd_search (L0 := cd_L a b R p q) hP ha m2 m1 (cd_row_le hx m4 (by omega)) hp hq (by omega) (Nat.le_refl _) (fun m' c12 c13 c14 k1 k2 => H m' _ _ _ _ _ _ _ _ _ _ _ _ _ _ k1 (by omega) (fun g1 g2 => ?_))
      have := m3 g1 g2
      omega
  · have hv := h33 i hi
    have e1 : a3 (nI i).toNatClampNeg = nI (cd_v p q i) := (cd_at a3 (by omega)).trans (h3 i hi)
    have e2 : nI (cd_sum (fun _ => 1) (cd_v p q) i) + a3 (nI i).toNatClampNeg = nI (cd_sum (fun _ => 1) (cd_v p q) (i + 1)) := by
      rw [e1, nI_add]
      show _ = nI (cd_sum (fun _ => 1) (cd_v p q) i + cd_v p q i * 1)
      rw [Nat.mul_one]
    have e3 : upd x (nI i).toNatClampNeg (vp_nar .byte (a3 (nI i).toNatClampNeg)) = upd x i (nI (cd_v p q i)) := by
      rw [e1, cd_nar (by omega), nI_clamp (by omega)]
    refine ⟨pk_in i 4 hi, nm_r e2 ⟨pk_in i 4 hi, pk_in i 56 (by omega), nm_r e3 (nm_r (nI_1 i) (hw _ (fun k hk => ?_)))⟩⟩
    by_cases e : k = i
    · rw [e, pk_us]
    · rw [pk_un e]
      exact h k (by omega)
theorem cd_ask {post : St2 → Prop} {f1 f2 : Int32} {f3 f4 : Int64} {f5 : Int32} {a1 a2 a3 a4 : Nat → Int32} {a5 a6 a7 a8 a9 : Nat → Int64} {a10 a11 a12 a13 a14 : Nat → Int32} {o : Nat → Nat} (h2 : ∀ k, k < 4 → a2 k = nI (o k)) (ho : ∀ k, k < 4 → o k ≤ 3) (H : ∀ (b3 : Nat → Int32), (∀ k, k < 4 → b3 k = nI (o k)) → post (f1, f1, f3, f4, f5, a1, a2, b3, a4, a5, a6, a7, a8, a9, a10, a11, a12, a13, a14)) : wpX_askPlainly post (f1, f2, f3, f4, f5, a1, a2, a3, a4, a5, a6, a7, a8, a9, a10, a11, a12, a13, a14) := by
  refine pk_loop (fun n i x => wX_askPlainly_10 post f1 f1 f3 f4 f5 n (nI i) a1 a2 x a4 a5 a6 a7 a8 a9 a10 a11 a12 a13 a14) (fun i x => ∀ k, k < i → x k = nI (o k)) 4 0 a3 (by omega) lt_0
    (fun n x h => pk_le 4 4 (fun _ => H x h) (fun z => absurd z (by omega))) (fun n i x hi h hw => ?_)
  have hv := ho i hi
  have e3 : upd x (nI i).toNatClampNeg (vp_nar .byte (a2 (nI i).toNatClampNeg)) = upd x i (nI (o i)) := by
    rw [cd_at a2 (by omega), h2 i hi, cd_nar (by omega), nI_clamp (by omega)]
  refine pk_le 4 i (fun z => absurd z (by omega)) (fun _ => ⟨pk_in i 4 hi, pk_in i 4 hi, nm_r e3 (nm_r (nI_1 i) (hw _ (fun k hk => ?_)))⟩)
  by_cases e : k = i
  · rw [e, pk_us]
  · rw [pk_un e]
    exact h k (by omega)
end
section
/-! the public methods, over an object of roll width R, widths 1 a b 1, orders 0 2 1 0 -/
def cd_obj (a b R : Nat) (x y : Nat → Int32) : Prop := cd_par a b R ∧ (∀ k, k < 4 → x k = nI (cd_w a b k)) ∧ (∀ k, k < 4 → y k = nI (cd_v 2 1 k))
theorem cd_v21 : ∀ k, k < 4 → cd_v 2 1 k ≤ 3 := cd_v_le (by omega) (by omega)
theorem cd_least {post : Int32 → St2 → Prop} {f2 : Int32} {f3 f4 : Int64} {f5 : Int32} {a1 a2 a3 a4 : Nat → Int32} {a5 a6 a7 a8 a9 : Nat → Int64} {a10 a11 a12 a13 a14 : Nat → Int32} {a b R : Nat} (hO : cd_obj a b R a1 a2) (H : ∀ (g2 : Int32) (g3 g4 : Int64) (g5 : Int32) (b3 b4 : Nat → Int32) (b5 b6 b7 b8 b9 : Nat → Int64) (b10 b11 b12 b13 b14 : Nat → Int32), post (nI (cd_L a b R 2 1)) (nI R, g2, g3, g4, g5, a1, a2, b3, b4, b5, b6, b7, b8, b9, b10, b11, b12, b13, b14)) : wpX_least post (nI R, f2, f3, f4, f5, a1, a2, a3, a4, a5, a6, a7, a8, a9, a10, a11, a12, a13, a14) := by
  unfold wpX_least
  refine cd_ask hO.2.2 cd_v21 (fun b3 h3 => cd_solve hO.1 hO.2.1 h3 (by omega) (by omega) (fun m g3 g4 g5 b4 b5 b6 b7 b8 b9 b10 b11 b12 b13 b14 m1 m2 m3 => ?_))
  rw [m3 (by omega) (by omega)]
  exact H _ _ _ _ _ _ _ _ _ _ _ _ _ _ _ _
theorem cd_kind {post : Int32 → Prop} {x : Int32} {k : Nat} (hx : x = nI k) (hk : k < 4) (H : post 1) : wpX_isKind post () x := by
  subst hx
  exact br_f (nI_pos (by omega)) (pk_le 4 k (fun z => absurd z (by omega)) (fun _ => H))
theorem cd_leastW {post : Int32 → St2 → Prop} {f2 : Int32} {f3 f4 : Int64} {f5 : Int32} {a1 a2 a3 a4 : Nat → Int32} {a5 a6 a7 a8 a9 : Nat → Int64} {a10 a11 a12 a13 a14 : Nat → Int32} {a b R k n p q : Nat} {x y : Int32} (hO : cd_obj a b R a1 a2) (hx : x = nI k) (hy : y = nI n) (hk : k < 4) (hn : n ≤ 3) (hv : ∀ j, j < 4 → (if j = k then n else cd_v 2 1 j) = cd_v p q j) (hp : p ≤ 3) (hq : q ≤ 3)
    (H : ∀ (m : Nat) (g2 : Int32) (g3 g4 : Int64) (g5 : Int32) (b3 b4 : Nat → Int32) (b5 b6 b7 b8 b9 : Nat → Int64) (b10 b11 b12 b13 b14 : Nat → Int32), cd_L a b R p q ≤ m → m ≤ 12 → (p ≤ 2 → q ≤ 1 → m = cd_L a b R p q) → post (nI m) (nI R, g2, g3, g4, g5, a1, a2, b3, b4, b5, b6, b7, b8, b9, b10, b11, b12, b13, b14)) : wpX_leastWith post (nI R, f2, f3, f4, f5, a1, a2, a3, a4, a5, a6, a7, a8, a9, a10, a11, a12, a13, a14) x y := by
  subst hx hy
  unfold wpX_leastWith
  refine cd_kind rfl hk (br_f (by decide) (br_f (nI_pos (by omega)) (pk_le n 3 (fun _ => cd_ask hO.2.2 cd_v21 (fun b3 h3 => ⟨pk_in k 4 hk, nm_r (e' := upd b3 k (nI n)) ?_ (cd_solve (p := p) (q := q) hO.1 hO.2.1 (fun j hj => ?_) hp hq (fun m g3 g4 g5 b4 b5 b6 b7 b8 b9 b10 b11 b12 b13 b14 m1 m2 m3 => H m _ _ _ _ _ _ _ _ _ _ _ _ _ _ _ _ m1 m2 m3))⟩)) (fun z => absurd z (by omega)))))
  · rw [nI_clamp (by omega), cd_b8 n (by omega)]
  · rw [← hv j hj]
    by_cases e : j = k
    · rw [if_pos e, e, pk_us]
    · rw [if_neg e, pk_un e]
      exact h3 j hj
theorem cd_leastF {post : Int32 → St2 → Prop} {f2 : Int32} {f3 f4 : Int64} {f5 : Int32} {a1 a2 a3 a4 : Nat → Int32} {a5 a6 a7 a8 a9 : Nat → Int64} {a10 a11 a12 a13 a14 : Nat → Int32} {a b R W : Nat} {x : Int32} (hO : cd_obj a b R a1 a2) (hx : x = nI W) (hW : a ≤ W) (hW' : b ≤ W) (h40 : W ≤ 40)
    (H : ∀ (g2 : Int32) (g3 g4 : Int64) (g5 : Int32) (b3 b4 : Nat → Int32) (b5 b6 b7 b8 b9 : Nat → Int64) (b10 b11 b12 b13 b14 : Nat → Int32), post (nI (cd_L a b W 2 1)) (nI R, g2, g3, g4, g5, a1, a2, b3, b4, b5, b6, b7, b8, b9, b10, b11, b12, b13, b14)) : wpX_leastFor post (nI R, f2, f3, f4, f5, a1, a2, a3, a4, a5, a6, a7, a8, a9, a10, a11, a12, a13, a14) x := by
  subst hx
  obtain ⟨⟨p1, p2, p3, p4, p5⟩, h1, h2⟩ := hO
  refine pk_lt W 1 (fun z => absurd z (by omega)) (fun _ => pk_le W 40 (fun _ => ?_) (fun z => absurd z (by omega)))
  refine pk_loop (σ := Unit) (fun n i _ => wX_leastFor_15 post (nI W) (nI R) f2 f3 f4 f5 a1 a2 a3 a4 a5 a6 a7 a8 a9 a10 a11 a12 a13 a14 n (nI i)) (fun _ _ => True) 4 0 () (by omega) trivial
    (fun n _ _ => pk_le 4 4 (fun _ => ?_) (fun z => absurd z (by omega))) (fun n i _ hi _ hw => ?_)
  · refine cd_ask h2 cd_v21 (fun b3 h3 => cd_solve (a := a) (b := b) ⟨p1, p2, hW, hW', h40⟩ h1 h3 (by omega) (by omega) (fun m g3 g4 g5 b4 b5 b6 b7 b8 b9 b10 b11 b12 b13 b14 m1 m2 m3 => ?_))
    rw [m3 (by omega) (by omega)]
    exact H _ _ _ _ _ _ _ _ _ _ _ _ _ _ _ _
  · have hv := cd_v21 i hi
    have hw1 : cd_w a b i ≤ 40 := (cd_w_in p1 p2 (Nat.le_trans hW h40) (Nat.le_trans hW' h40) i hi).2
    have e2 : a2 (nI i).toNatClampNeg = nI (cd_v 2 1 i) := (cd_at a2 (by omega)).trans (h2 i hi)
    have e1 : a1 (nI i).toNatClampNeg = nI (cd_w a b i) := (cd_at a1 (by omega)).trans (h1 i hi)
    have le : cd_w a b i ≤ W := (cd_w_in p1 p2 hW hW' i hi).2
    exact pk_le 4 i (fun z => absurd z (by omega)) (fun _ => ⟨pk_in i 4 hi, pk_le (cd_v 2 1 i) 0 (fun _ => nm_r (nI_1 i) (hw () trivial)) (fun _ => ⟨pk_in i 4 hi, pk_le (cd_w a b i) W (fun _ => nm_r (nI_1 i) (hw () trivial)) (fun z => absurd z (by omega)) e1⟩) e2⟩)
theorem cd_leastFno {post : Int32 → St2 → Prop} {f2 : Int32} {f3 f4 : Int64} {f5 : Int32} {a1 a2 a3 a4 : Nat → Int32} {a5 a6 a7 a8 a9 : Nat → Int64} {a10 a11 a12 a13 a14 : Nat → Int32} {a b R W : Nat} {x : Int32} (hO : cd_obj a b R a1 a2) (hx : x = nI W) (hW : W < a ∨ W < b) (h40 : W ≤ 40)
    (H : post (-1) (nI R, f2, f3, f4, f5, a1, a2, a3, a4, a5, a6, a7, a8, a9, a10, a11, a12, a13, a14)) : wpX_leastFor post (nI R, f2, f3, f4, f5, a1, a2, a3, a4, a5, a6, a7, a8, a9, a10, a11, a12, a13, a14) x := by
  subst hx
  obtain ⟨⟨p1, p2, p3, p4, p5⟩, h1, h2⟩ := hO
  refine pk_lt W 1 (fun _ => H) (fun _ => pk_le W 40 (fun _ => ?_) (fun z => absurd z (by omega)))
  refine pk_loop (σ := Unit) (fun n i _ => wX_leastFor_15 post (nI W) (nI R) f2 f3 f4 f5 a1 a2 a3 a4 a5 a6 a7 a8 a9 a10 a11 a12 a13 a14 n (nI i)) (fun i _ => ∀ j, j < i → 0 < cd_v 2 1 j → cd_w a b j ≤ W) 4 0 () (by omega) lt_0
    (fun n _ h => ?_) (fun n i _ hi h hw => ?_)
  · have y1 : a ≤ W := h 1 (by omega) (by decide)
    have y2 : b ≤ W := h 2 (by omega) (by decide)
    omega
  · have hv := cd_v21 i hi
    have hw1 : cd_w a b i ≤ 40 := (cd_w_in p1 p2 (Nat.le_trans p3 p5) (Nat.le_trans p4 p5) i hi).2
    have e2 : a2 (nI i).toNatClampNeg = nI (cd_v 2 1 i) := (cd_at a2 (by omega)).trans (h2 i hi)
    have e1 : a1 (nI i).toNatClampNeg = nI (cd_w a b i) := (cd_at a1 (by omega)).trans (h1 i hi)
    exact pk_le 4 i (fun z => absurd z (by omega)) (fun _ => ⟨pk_in i 4 hi, pk_le (cd_v 2 1 i) 0 (fun z => nm_r (nI_1 i) (hw () (lt_s h (fun y => absurd y (by omega))))) (fun _ => ⟨pk_in i 4 hi, pk_le (cd_w a b i) W (fun z => nm_r (nI_1 i) (hw () (lt_s h (fun _ => z)))) (fun _ => H) e1⟩) e2⟩)
/-! patterns: two bits a kind -/
def cd_dig (P k : Nat) : Nat := P / 2 ^ (2 * k) % 4
theorem cd_dig_lt (P k : Nat) : cd_dig P k ≤ 3 := by
  unfold cd_dig
  omega
theorem cd_digI {P i : Nat} (hP : P ≤ 255) (hi : i < 4) : (nI P >>> ((2 * nI i) &&& 31)) &&& 3 = nI (cd_dig P i) := by
  have hd : P / 2 ^ (2 * i) ≤ P := Nat.div_le_self _ _
  have hs : (((2 * nI i) &&& 31).toBitVec.smod 32).toNat = 2 * i := by
    have : ∀ k, k < 4 → (((2 * nI k) &&& 31).toBitVec.smod 32).toNat = 2 * k := by decide +kernel
    exact this i hi
  rw [pk_shrN (by omega) _ (2 * i) hs, pk_andN (by omega) 2 (by decide)]
  rfl
def cd_fit (a b R P : Nat) : Prop := cd_sum (cd_w a b) (cd_dig P) 4 ≤ R
def cd_good (a b R P : Nat) : Prop := cd_fit a b R P ∧ cd_L a b R (2 - cd_dig P 1) (1 - cd_dig P 2) + 1 = cd_L a b R 2 1
theorem cd_fits {post : Int32 → Prop} {f2 : Int32} {f3 f4 : Int64} {f5 : Int32} {a1 a2 a3 a4 : Nat → Int32} {a5 a6 a7 a8 a9 : Nat → Int64} {a10 a11 a12 a13 a14 : Nat → Int32} {a b R P : Nat} {x : Int32} (hO : cd_obj a b R a1 a2) (hx : x = nI P) (hP : P ≤ 255) (H1 : cd_fit a b R P → post 1) (H0 : ¬ cd_fit a b R P → post 0) : wpX_fits post (nI R, f2, f3, f4, f5, a1, a2, a3, a4, a5, a6, a7, a8, a9, a10, a11, a12, a13, a14) x := by
  subst hx
  obtain ⟨⟨p1, p2, p3, p4, p5⟩, h1, h2⟩ := hO
  have wi : ∀ k, k < 4 → cd_w a b k ≤ 40 := fun k hk => (cd_w_in p1 p2 (Nat.le_trans p3 p5) (Nat.le_trans p4 p5) k hk).2
  refine br_f (nI_pos (by omega)) (pk_le P 255 (fun _ => ?_) (fun z => absurd z (by omega)))
  refine pk_loop (σ := Unit) (fun n i _ => wX_fits_17 post (nI P) (nI R) f2 f3 f4 f5 a1 a2 a3 a4 a5 a6 a7 a8 a9 a10 a11 a12 a13 a14 n (nI (cd_sum (cd_w a b) (cd_dig P) i)) (nI i)) (fun i _ => cd_sum (cd_w a b) (cd_dig P) i ≤ 120 * i) 4 0 () (by omega) (Nat.le_refl 0)
    (fun n _ h => pk_le 4 4 (fun _ => pk_lt R (cd_sum (cd_w a b) (cd_dig P) 4) (fun z => H0 (fun g => by unfold cd_fit at g; omega)) (fun z => H1 z)) (fun z => absurd z (by omega))) (fun n i _ hi h hw => ?_)
  have e1 : a1 (nI i).toNatClampNeg = nI (cd_w a b i) := (cd_at a1 (by omega)).trans (h1 i hi)
  have hd := cd_dig_lt P i
  have hm : cd_dig P i * cd_w a b i ≤ 3 * 40 := Nat.mul_le_mul hd (wi i hi)
  refine pk_le 4 i (fun z => absurd z (by omega)) (fun _ => ⟨pk_in i 4 hi, nm_r (e' := nI (cd_sum (cd_w a b) (cd_dig P) (i + 1))) ?_ (nm_r (nI_1 i) (hw () ?_))⟩)
  · rw [cd_digI hP hi, e1, pk_mul, nI_add]
    rfl
  · show cd_sum (cd_w a b) (cd_dig P) i + cd_dig P i * cd_w a b i ≤ 120 * (i + 1)
    omega
theorem cd_leaves {post : Int32 → St2 → Prop} {f2 : Int32} {f3 f4 : Int64} {f5 : Int32} {a1 a2 a3 a4 : Nat → Int32} {a5 a6 a7 a8 a9 : Nat → Int64} {a10 a11 a12 a13 a14 : Nat → Int32} {a b R P N : Nat} {x y : Int32} (hO : cd_obj a b R a1 a2) (hx : x = nI P) (hP : P ≤ 255) (hy : y = nI N) (hN : 1 ≤ N) (hN3 : N ≤ 12)
    (H1 : cd_L a b R (2 - cd_dig P 1) (1 - cd_dig P 2) + 1 = N → ∀ (g2 : Int32) (g3 g4 : Int64) (g5 : Int32) (b3 b4 : Nat → Int32) (b5 b6 b7 b8 b9 : Nat → Int64) (b10 b11 b12 b13 b14 : Nat → Int32), post 1 (nI R, g2, g3, g4, g5, a1, a2, b3, b4, b5, b6, b7, b8, b9, b10, b11, b12, b13, b14))
    (H0 : ¬ cd_L a b R (2 - cd_dig P 1) (1 - cd_dig P 2) + 1 = N → ∀ (g2 : Int32) (g3 g4 : Int64) (g5 : Int32) (b3 b4 : Nat → Int32) (b5 b6 b7 b8 b9 : Nat → Int64) (b10 b11 b12 b13 b14 : Nat → Int32), post 0 (nI R, g2, g3, g4, g5, a1, a2, b3, b4, b5, b6, b7, b8, b9, b10, b11, b12, b13, b14)) : wpX_leavesOneLess post (nI R, f2, f3, f4, f5, a1, a2, a3, a4, a5, a6, a7, a8, a9, a10, a11, a12, a13, a14) x y := by
  subst hx hy
  unfold wpX_leavesOneLess
  refine cd_ask hO.2.2 cd_v21 (fun b3 h3 => ?_)
  refine pk_loop (fun n i x => wX_leavesOneLess_6 post (nI P) (nI N) (nI R) (nI R) f3 f4 f5 n (nI i) a1 a2 x a4 a5 a6 a7 a8 a9 a10 a11 a12 a13 a14) (fun i x => (∀ k, k < i → x k = nI (cd_v 2 1 k - cd_dig P k)) ∧ (∀ k, k < 4 → i ≤ k → x k = nI (cd_v 2 1 k))) 4 0 b3 (by omega) ⟨lt_0, fun k hk _ => h3 k hk⟩
    (fun n x h => pk_le 4 4 (fun _ => ?_) (fun z => absurd z (by omega))) (fun n i x hi h hw => pk_le 4 i (fun z => absurd z (by omega)) (fun _ => ?_))
  · refine cd_solve (p := 2 - cd_dig P 1) (q := 1 - cd_dig P 2) hO.1 hO.2.1 (cd_4 ?_ (h.1 1 (by omega)) (h.1 2 (by omega)) ?_) (by omega) (by omega) (fun m g3 g4 g5 b4 b5 b6 b7 b8 b9 b10 b11 b12 b13 b14 m1 m2 m3 => ?_)
    · show x 0 = nI (cd_v (2 - cd_dig P 1) (1 - cd_dig P 2) 0)
      rw [h.1 0 (by omega), cd_v0, cd_v0, Nat.zero_sub]
    · show x 3 = nI (cd_v (2 - cd_dig P 1) (1 - cd_dig P 2) 3)
      rw [h.1 3 (by omega), cd_v3, cd_v3, Nat.zero_sub]
    · have e := m3 (by omega) (by omega)
      subst e
      exact pk_eq (cd_L a b R (2 - cd_dig P 1) (1 - cd_dig P 2)) (N - 1) (fun z => H1 (by omega) _ _ _ _ _ _ _ _ _ _ _ _ _ _ _ _) (fun z => H0 (by omega) _ _ _ _ _ _ _ _ _ _ _ _ _ _ _ _) rfl (pk_sub (b := 1) hN)
  · have hv := cd_v21 i hi
    have hd := cd_dig_lt P i
    have e1 : x (nI i).toNatClampNeg = nI (cd_v 2 1 i) := (cd_at x (by omega)).trans (h.2 i hi (Nat.le_refl i))
    have e2 : x (nI i).toNatClampNeg - ((nI P >>> ((2 * nI i) &&& 31)) &&& 3) = nI (cd_v 2 1 i) - nI (cd_dig P i) := by rw [e1, cd_digI hP hi]
    have key : ∀ v, v = nI (cd_v 2 1 i - cd_dig P i) → (∀ k, k < i + 1 → upd x (nI i).toNatClampNeg v k = nI (cd_v 2 1 k - cd_dig P k)) ∧ (∀ k, k < 4 → i + 1 ≤ k → upd x (nI i).toNatClampNeg v k = nI (cd_v 2 1 k)) := by
      intro v hv
      rw [nI_clamp (by omega)]
      refine ⟨fun k hk => ?_, fun k hk hk' => ?_⟩
      · by_cases e : k = i
        · rw [e, pk_us, hv]
        · rw [pk_un e]
          exact h.1 k (by omega)
      · rw [pk_un (by omega)]
        exact h.2 k hk (by omega)
    refine ⟨pk_in i 4 hi, nm_r e2 ?_⟩
    by_cases hle : cd_dig P i ≤ cd_v 2 1 i
    · rw [pk_sub hle]
      refine pk_le (cd_v 2 1 i - cd_dig P i) 0 (fun z => ⟨pk_in i 4 hi, nm_e (nm_r (nI_1 i) (hw _ (key _ ?_)))⟩) (fun z => ⟨pk_in i 4 hi, nm_e (nm_r (nI_1 i) (hw _ (key _ ?_)))⟩)
      · rw [show cd_v 2 1 i - cd_dig P i = 0 by omega]
        decide
      · exact cd_b8 _ (by omega)
    · have hneg : nI (cd_v 2 1 i) - nI (cd_dig P i) < 0 := pk_sneg (by omega) (by omega)
      refine br_t (Int32.le_of_lt hneg) ⟨pk_in i 4 hi, nm_e (nm_r (nI_1 i) (hw _ (key _ ?_)))⟩
      rw [show cd_v 2 1 i - cd_dig P i = 0 by omega]
      decide
theorem cd_could {post : Int32 → St2 → Prop} {f2 : Int32} {f3 f4 : Int64} {f5 : Int32} {a1 a2 a3 a4 : Nat → Int32} {a5 a6 a7 a8 a9 : Nat → Int64} {a10 a11 a12 a13 a14 : Nat → Int32} {a b R P : Nat} {x : Int32} (hO : cd_obj a b R a1 a2) (hx : x = nI P) (hP : P ≤ 255)
    (H1 : cd_good a b R P → ∀ (g2 : Int32) (g3 g4 : Int64) (g5 : Int32) (b3 b4 : Nat → Int32) (b5 b6 b7 b8 b9 : Nat → Int64) (b10 b11 b12 b13 b14 : Nat → Int32), post 1 (nI R, g2, g3, g4, g5, a1, a2, b3, b4, b5, b6, b7, b8, b9, b10, b11, b12, b13, b14))
    (H0 : ¬ cd_good a b R P → ∀ (g2 : Int32) (g3 g4 : Int64) (g5 : Int32) (b3 b4 : Nat → Int32) (b5 b6 b7 b8 b9 : Nat → Int64) (b10 b11 b12 b13 b14 : Nat → Int32), post 0 (nI R, g2, g3, g4, g5, a1, a2, b3, b4, b5, b6, b7, b8, b9, b10, b11, b12, b13, b14)) : wpX_couldUse post (nI R, f2, f3, f4, f5, a1, a2, a3, a4, a5, a6, a7, a8, a9, a10, a11, a12, a13, a14) x := by
  have hL1 := cd_Lpos (a := a) (b := b) (R := R) (p := 2) (q := 1) (by omega)
  have hL2 := cd_Lle a b R 2 1
  unfold wpX_couldUse
  refine cd_fits hO hx hP (fun g => br_f (by decide) ?_) (fun g => br_t rfl (H0 (fun y => g y.1) _ _ _ _ _ _ _ _ _ _ _ _ _ _ _ _))
  refine cd_least hO (fun g2 g3 g4 g5 b3 b4 b5 b6 b7 b8 b9 b10 b11 b12 b13 b14 => br_f (nI_nle (by omega) (by omega)) ?_)
  exact cd_leaves hO hx hP rfl hL1 (by omega) (fun y g2 g3 g4 g5 b3 b4 b5 b6 b7 b8 b9 b10 b11 b12 b13 b14 => br_f (by decide) (H1 ⟨g, y⟩ _ _ _ _ _ _ _ _ _ _ _ _ _ _ _ _)) (fun y g2 g3 g4 g5 b3 b4 b5 b6 b7 b8 b9 b10 b11 b12 b13 b14 => br_t rfl (H0 (fun e => y e.2) _ _ _ _ _ _ _ _ _ _ _ _ _ _ _ _))
theorem cd_could256 {post : Int32 → St2 → Prop} {f1 f2 : Int32} {f3 f4 : Int64} {f5 : Int32} {a1 a2 a3 a4 : Nat → Int32} {a5 a6 a7 a8 a9 : Nat → Int64} {a10 a11 a12 a13 a14 : Nat → Int32} (H : post 0 (f1, f2, f3, f4, f5, a1, a2, a3, a4, a5, a6, a7, a8, a9, a10, a11, a12, a13, a14)) : wpX_couldUse post (f1, f2, f3, f4, f5, a1, a2, a3, a4, a5, a6, a7, a8, a9, a10, a11, a12, a13, a14) 256 := by
  unfold wpX_couldUse
  exact br_f (by decide) (br_f (by decide) (br_t rfl H))
theorem cd_gr15 {post : Int32 → St2 → Prop} {a1 a2 : Nat → Int32} {a b R P0 N : Nat} (hO : cd_obj a b R a1 a2) (hN : N = cd_L a b R 2 1) (hP0 : 4 ≤ P0) (hg : cd_good a b R P0)
    (H : ∀ (P : Nat), 4 ≤ P → P ≤ 255 → cd_good a b R P → ∀ (g2 : Int32) (g3 g4 : Int64) (g5 : Int32) (b3 b4 : Nat → Int32) (b5 b6 b7 b8 b9 : Nat → Int64) (b10 b11 b12 b13 b14 : Nat → Int32), post (nI P) (nI R, g2, g3, g4, g5, a1, a2, b3, b4, b5, b6, b7, b8, b9, b10, b11, b12, b13, b14)) :
    ∀ (t : Nat) (f2 : Int32) (f3 f4 : Int64) (f5 : Int32) (a3 a4 : Nat → Int32) (a5 a6 a7 a8 a9 : Nat → Int64) (a10 a11 a12 a13 a14 : Nat → Int32), P0 ≤ t → t ≤ 255 → wX_greatestUse_15 post (nI N) (t + 1) (nI t) (nI R) f2 f3 f4 f5 a1 a2 a3 a4 a5 a6 a7 a8 a9 a10 a11 a12 a13 a14 := by
  intro t
  induction t with
  | zero => intro f2 f3 f4 f5 a3 a4 a5 a6 a7 a8 a9 a10 a11 a12 a13 a14 h1 h2; exact absurd h1 (by omega)
  | succ t ih =>
    intro f2 f3 f4 f5 a3 a4 a5 a6 a7 a8 a9 a10 a11 a12 a13 a14 h1 h2
    have hL1 := cd_Lpos (a := a) (b := b) (R := R) (p := 2) (q := 1) (by omega)
    have hL2 := cd_Lle a b R 2 1
    have nx : ¬ cd_good a b R (t + 1) → P0 ≤ t := fun g => by
      have : P0 ≠ t + 1 := fun e => g (e ▸ hg)
      omega
    refine pk_le (t + 1) 0 (fun z => absurd z (by omega)) (fun _ => cd_fits hO rfl h2 (fun g => br_f (by decide) ?_) (fun g => br_t rfl (nm_r (pk_m1 t) (ih _ _ _ _ _ _ _ _ _ _ _ _ _ _ _ _ (nx (fun y => g y.1)) (by omega)))))
    exact cd_leaves hO rfl h2 rfl (by omega) (by omega)
      (fun y g2 g3 g4 g5 b3 b4 b5 b6 b7 b8 b9 b10 b11 b12 b13 b14 => br_f (by decide) (H (t + 1) (by omega) h2 ⟨g, by omega⟩ _ _ _ _ _ _ _ _ _ _ _ _ _ _ _ _))
      (fun y g2 g3 g4 g5 b3 b4 b5 b6 b7 b8 b9 b10 b11 b12 b13 b14 => br_t rfl (nm_r (pk_m1 t) (ih _ _ _ _ _ _ _ _ _ _ _ _ _ _ _ _ (nx (fun e => y (by have := e.2; omega))) (by omega))))
theorem cd_great {post : Int32 → St2 → Prop} {f2 : Int32} {f3 f4 : Int64} {f5 : Int32} {a1 a2 a3 a4 : Nat → Int32} {a5 a6 a7 a8 a9 : Nat → Int64} {a10 a11 a12 a13 a14 : Nat → Int32} {a b R P0 : Nat} (hO : cd_obj a b R a1 a2) (hP0 : 4 ≤ P0) (hP1 : P0 ≤ 255) (hg : cd_good a b R P0)
    (H : ∀ (P : Nat), 4 ≤ P → P ≤ 255 → cd_good a b R P → ∀ (g2 : Int32) (g3 g4 : Int64) (g5 : Int32) (b3 b4 : Nat → Int32) (b5 b6 b7 b8 b9 : Nat → Int64) (b10 b11 b12 b13 b14 : Nat → Int32), post (nI P) (nI R, g2, g3, g4, g5, a1, a2, b3, b4, b5, b6, b7, b8, b9, b10, b11, b12, b13, b14)) : wpX_greatestUse post (nI R, f2, f3, f4, f5, a1, a2, a3, a4, a5, a6, a7, a8, a9, a10, a11, a12, a13, a14) := by
  have hL1 := cd_Lpos (a := a) (b := b) (R := R) (p := 2) (q := 1) (by omega)
  have hL2 := cd_Lle a b R 2 1
  unfold wpX_greatestUse
  exact cd_least hO (fun g2 g3 g4 g5 b3 b4 b5 b6 b7 b8 b9 b10 b11 b12 b13 b14 => br_f (nI_ne0 (by omega) (by omega)) ⟨256, cd_gr15 hO rfl hP0 hg H 255 _ _ _ _ _ _ _ _ _ _ _ _ _ _ _ _ hP1 (by omega)⟩)
theorem cd_fr31 {post : Int32 → St2 → Prop} {a1 a2 : Nat → Int32} {a b R k : Nat} {g : Int32} (hO : cd_obj a b R a1 a2) (hk : k = 1 ∨ k = 2)
    (H : ∀ (v : Nat), cd_v 2 1 k ≤ v → v ≤ 3 → ∀ (g2 : Int32) (g3 g4 : Int64) (g5 : Int32) (b3 b4 : Nat → Int32) (b5 b6 b7 b8 b9 : Nat → Int64) (b10 b11 b12 b13 b14 : Nat → Int32), post (nI v) (nI R, g2, g3, g4, g5, a1, a2, b3, b4, b5, b6, b7, b8, b9, b10, b11, b12, b13, b14)) :
    ∀ (d i v : Nat) (f2 : Int32) (f3 f4 : Int64) (f5 : Int32) (a3 a4 : Nat → Int32) (a5 a6 a7 a8 a9 : Nat → Int64) (a10 a11 a12 a13 a14 : Nat → Int32), i + d = 4 → cd_v 2 1 k ≤ i → cd_v 2 1 k ≤ v → v ≤ 3 → wX_freeOrder_31 post (nI k) g (d + 1) (nI v) (nI i) (nI R) f2 f3 f4 f5 a1 a2 a3 a4 a5 a6 a7 a8 a9 a10 a11 a12 a13 a14 := by
  intro d
  induction d with
  | zero => intro i v f2 f3 f4 f5 a3 a4 a5 a6 a7 a8 a9 a10 a11 a12 a13 a14 h1 h2 h3 h4; exact pk_lt 3 i (fun _ => H v h3 h4 _ _ _ _ _ _ _ _ _ _ _ _ _ _ _ _) (fun z => absurd z (by omega))
  | succ d ih =>
    intro i v f2 f3 f4 f5 a3 a4 a5 a6 a7 a8 a9 a10 a11 a12 a13 a14 h1 h2 h3 h4
    refine pk_lt 3 i (fun z => absurd z (by omega)) (fun _ => cd_leastW (p := if k = 1 then i else 2) (q := if k = 2 then i else 1) hO rfl rfl (by omega) (by omega) ?_ (by split <;> omega) (by split <;> omega) (fun m g2 g3 g4 g5 b3 b4 b5 b6 b7 b8 b9 b10 b11 b12 b13 b14 _ _ _ => ?_))
    · rcases hk with rfl | rfl
      · exact cd_4 rfl rfl rfl rfl
      · exact cd_4 rfl rfl rfl rfl
    · exact br_c (fun _ => nm_r (nI_1 i) (ih (i + 1) i _ _ _ _ _ _ _ _ _ _ _ _ _ _ _ _ (by omega) (by omega) h2 (by omega))) (fun _ => nm_r (nI_1 i) (ih (i + 1) v _ _ _ _ _ _ _ _ _ _ _ _ _ _ _ _ (by omega) (by omega) h3 h4))
theorem cd_free {post : Int32 → St2 → Prop} {f2 : Int32} {f3 f4 : Int64} {f5 : Int32} {a1 a2 a3 a4 : Nat → Int32} {a5 a6 a7 a8 a9 : Nat → Int64} {a10 a11 a12 a13 a14 : Nat → Int32} {a b R k : Nat} {x : Int32} (hO : cd_obj a b R a1 a2) (hx : x = nI k) (hk : k = 1 ∨ k = 2)
    (H : ∀ (v : Nat), cd_v 2 1 k ≤ v → v ≤ 3 → ∀ (g2 : Int32) (g3 g4 : Int64) (g5 : Int32) (b3 b4 : Nat → Int32) (b5 b6 b7 b8 b9 : Nat → Int64) (b10 b11 b12 b13 b14 : Nat → Int32), post (nI v) (nI R, g2, g3, g4, g5, a1, a2, b3, b4, b5, b6, b7, b8, b9, b10, b11, b12, b13, b14)) : wpX_freeOrder post (nI R, f2, f3, f4, f5, a1, a2, a3, a4, a5, a6, a7, a8, a9, a10, a11, a12, a13, a14) x := by
  subst hx
  have hv := cd_v21 k (by omega)
  have e2 : a2 (nI k).toNatClampNeg = nI (cd_v 2 1 k) := (cd_at a2 (by omega)).trans (hO.2.2 k (by omega))
  have e3 : a2 (nI k).toNatClampNeg + 1 = nI (cd_v 2 1 k + 1) := by rw [e2, nI_1]
  unfold wpX_freeOrder
  exact cd_kind rfl (by omega) (br_f (by decide) (cd_least hO (fun g2 g3 g4 g5 b3 b4 b5 b6 b7 b8 b9 b10 b11 b12 b13 b14 => ⟨pk_in k 4 (by omega), nm_r e2 ⟨pk_in k 4 (by omega), nm_r e3 ⟨3 - cd_v 2 1 k + 1, cd_fr31 hO hk H (3 - cd_v 2 1 k) _ _ _ _ _ _ _ _ _ _ _ _ _ _ _ _ _ _ (by omega) (by omega) (Nat.le_refl _) hv⟩⟩⟩)))
end
section
/-! what the law asks, in numbers -/
theorem cd_N1 {a b R : Nat} (h : 2 * a + b ≤ R) : cd_L a b R 2 1 = 1 := by
  unfold cd_L
  rw [if_neg (by omega), if_pos (by omega)]
theorem cd_N2 {a b R : Nat} (h : R < 2 * a + b) (h2 : 2 * a ≤ R ∨ a + b ≤ R) : cd_L a b R 2 1 = 2 := by
  unfold cd_L
  rw [if_neg (by omega), if_neg (by omega), if_neg (by omega)]
theorem cd_N3 {a b R : Nat} (h : R < 2 * a) (h2 : R < a + b) : cd_L a b R 2 1 = 3 := by
  unfold cd_L
  rw [if_neg (by omega), if_neg (by omega), if_pos (by omega)]
theorem cd_L11 (a b R : Nat) : cd_L a b R 1 1 = if a + b ≤ R then 1 else 2 := by
  unfold cd_L
  rw [if_neg (by omega), Nat.one_mul, Nat.one_mul]
  split
  · rfl
  · rw [if_neg (by omega)]
theorem cd_L20 (a b R : Nat) : cd_L a b R 2 0 = if 2 * a ≤ R then 1 else 2 := by
  unfold cd_L
  rw [if_neg (by omega), Nat.zero_mul, Nat.add_zero]
  split
  · rfl
  · rw [if_neg (by omega)]
theorem cd_L10 {a b R : Nat} (h : a ≤ R) : cd_L a b R 1 0 = 1 := by
  unfold cd_L
  rw [if_neg (by omega), if_pos (by omega)]
theorem cd_L01 {a b R : Nat} (h : b ≤ R) : cd_L a b R 0 1 = 1 := by
  unfold cd_L
  rw [if_neg (by omega), if_pos (by omega)]
theorem cd_fitE (a b R P : Nat) : cd_fit a b R P ↔ cd_dig P 0 + cd_dig P 1 * a + cd_dig P 2 * b + cd_dig P 3 ≤ R := by
  unfold cd_fit
  rw [cd_sum4]
theorem cd_g24 (a b R : Nat) : cd_good a b R 24 ↔ 2 * a + b ≤ R := by
  unfold cd_good
  rw [cd_fitE]
  show (0 + 2 * a + 1 * b + 0 ≤ R ∧ cd_L a b R 0 0 + 1 = cd_L a b R 2 1) ↔ _
  constructor
  · intro h
    omega
  · intro h
    exact ⟨by omega, by rw [cd_N1 h, cd_L0]⟩
theorem cd_g8 {a b R : Nat} (hb : b ≤ R) : cd_good a b R 8 ↔ (2 * a ≤ R ∧ cd_L a b R 2 1 = 2) := by
  unfold cd_good
  rw [cd_fitE]
  show (0 + 2 * a + 0 * b + 0 ≤ R ∧ cd_L a b R 0 1 + 1 = cd_L a b R 2 1) ↔ _
  rw [cd_L01 hb]
  omega
theorem cd_g20 {a b R : Nat} (ha : a ≤ R) : cd_good a b R 20 ↔ (a + b ≤ R ∧ cd_L a b R 2 1 = 2) := by
  unfold cd_good
  rw [cd_fitE]
  show (0 + 1 * a + 1 * b + 0 ≤ R ∧ cd_L a b R 1 0 + 1 = cd_L a b R 2 1) ↔ _
  rw [cd_L10 ha]
  omega
theorem cd_g4 {a b R : Nat} (ha : a ≤ R) : cd_good a b R 4 ↔ ((a + b ≤ R ∧ cd_L a b R 2 1 = 2) ∨ (R < a + b ∧ cd_L a b R 2 1 = 3)) := by
  unfold cd_good
  rw [cd_fitE]
  show (0 + 1 * a + 0 * b + 0 ≤ R ∧ cd_L a b R 1 1 + 1 = cd_L a b R 2 1) ↔ _
  rw [cd_L11]
  split <;> omega
/-- some pattern can be used -/
theorem cd_some {a b R : Nat} (ha : a ≤ R) (hb : b ≤ R) : ∃ P, 4 ≤ P ∧ P ≤ 255 ∧ cd_good a b R P := by
  by_cases h : 2 * a + b ≤ R
  · exact ⟨24, by omega, by omega, (cd_g24 a b R).mpr h⟩
  · by_cases h2 : 2 * a ≤ R
    · exact ⟨8, by omega, by omega, (cd_g8 hb).mpr ⟨h2, cd_N2 (by omega) (Or.inl h2)⟩⟩
    · by_cases h3 : a + b ≤ R
      · exact ⟨20, by omega, by omega, (cd_g20 ha).mpr ⟨h3, cd_N2 (by omega) (Or.inr h3)⟩⟩
      · exact ⟨4, by omega, by omega, (cd_g4 ha).mpr (Or.inr ⟨by omega, cd_N3 (by omega) (by omega)⟩)⟩
/-! the law, from its end to its beginning -/
theorem cd_364 {post : Int32 → St0 → Prop} {mc ms kc ks : Nat} {f2 : Int32} {f3 f4 : Int64} {f5 : Int32} {a1 a2 a3 a4 : Nat → Int32} {a5 a6 a7 a8 a9 : Nat → Int64} {a10 a11 a12 a13 a14 : Nat → Int32} {a b R : Nat} (hO : cd_obj a b R a1 a2) (H : post 1 ()) : wL_lawOf_364 post mc ms 1 kc ks (nI R) f2 f3 f4 f5 a1 a2 a3 a4 a5 a6 a7 a8 a9 a10 a11 a12 a13 a14 := by
  obtain ⟨P0, q1, q2, q3⟩ := cd_some hO.1.2.2.1 hO.1.2.2.2.1
  unfold wL_lawOf_364
  refine cd_great hO q1 q2 q3 (fun P h4 h255 hg g2 g3 g4 g5 b3 b4 b5 b6 b7 b8 b9 b10 b11 b12 b13 b14 => br_f (by decide) (pk_lt P 4 (fun z => absurd z (by omega)) (fun _ => cd_fits hO rfl h255 (fun _ => br_f (by decide) ?_) (fun y => absurd hg.1 y))))
  refine cd_could hO rfl h255 (fun _ g2 g3 g4 g5 b3 b4 b5 b6 b7 b8 b9 b10 b11 b12 b13 b14 => br_f (by decide) ?_) (fun y => absurd hg y)
  refine cd_free (k := 1) hO rfl (Or.inl rfl) (fun v v1 v2 g2 g3 g4 g5 b3 b4 b5 b6 b7 b8 b9 b10 b11 b12 b13 b14 => ?_)
  have v1' : 2 ≤ v := v1
  refine pk_lt v 2 (fun z => absurd z (by omega)) (fun _ => cd_free (k := 2) hO rfl (Or.inr rfl) (fun u u1 u2 g2 g3 g4 g5 b3 b4 b5 b6 b7 b8 b9 b10 b11 b12 b13 b14 => ?_))
  have u1' : 1 ≤ u := u1
  exact pk_lt u 1 (fun z => absurd z (by omega)) (fun _ => cd_could256 (br_t rfl H))
theorem cd_max {post : Int32 → Prop} {a b : Nat} (ha : a ≤ 40) (hb : b ≤ 40) (H : ∀ M, a ≤ M → b ≤ M → (M = a ∨ M = b) → post (nI M)) : wpL_max post () (nI a) (nI b) :=
  pk_le a b (fun z => H b z (Nat.le_refl b) (Or.inr rfl)) (fun z => H a (Nat.le_refl a) (by omega) (Or.inl rfl))
theorem cd_342 {post : Int32 → St0 → Prop} {mc ms kc ks : Nat} {f2 : Int32} {f3 f4 : Int64} {f5 : Int32} {a1 a2 a3 a4 : Nat → Int32} {a5 a6 a7 a8 a9 : Nat → Int64} {a10 a11 a12 a13 a14 : Nat → Int32} {a b R : Nat} (hO : cd_obj a b R a1 a2) (H : post 1 ()) : wL_lawOf_342 post mc ms (nI a) (nI b) kc ks (nI R) f2 f3 f4 f5 a1 a2 a3 a4 a5 a6 a7 a8 a9 a10 a11 a12 a13 a14 := by
  obtain ⟨p1, p2, p3, p4, p5⟩ := hO.1
  unfold wL_lawOf_342
  exact cd_max (by omega) (by omega) (fun M m1 m2 m3 => cd_leastFno (W := M - 1) hO (pk_sub (b := 1) (by omega)) (by omega) (by omega) (br_t rfl (cd_364 hO H)))
theorem cd_297 {post : Int32 → St0 → Prop} {mc ms kc ks : Nat} {f2 : Int32} {f3 f4 : Int64} {f5 : Int32} {a1 a2 a3 a4 : Nat → Int32} {a5 a6 a7 a8 a9 : Nat → Int64} {a10 a11 a12 a13 a14 : Nat → Int32} {a b R : Nat} {z0 z1 : Int32} (hO : cd_obj a b R a1 a2) (hz : z1 = z0) (H : post 1 ()) : wL_lawOf_297 post mc ms (nI a) (nI b) z0 z1 kc ks (nI R) f2 f3 f4 f5 a1 a2 a3 a4 a5 a6 a7 a8 a9 a10 a11 a12 a13 a14 := by
  obtain ⟨p1, p2, p3, p4, p5⟩ := hO.1
  have e : (2 : Int32) * nI a + nI b = nI (2 * a + b) := by
    rw [show (2 : Int32) = nI 2 from rfl, pk_mul, nI_add]
  unfold wL_lawOf_297
  refine br_t hz (cd_max (by omega) (by omega) (fun M m1 m2 m3 => cd_leastF (W := M) hO rfl m1 m2 (by omega) (fun g2 g3 g4 g5 b3 b4 b5 b6 b7 b8 b9 b10 b11 b12 b13 b14 => ?_)))
  have hL := cd_Lle a b M 2 1
  refine pk_lt 3 (cd_L a b M 2 1) (fun z => absurd z (by omega)) (fun _ => pk_lt 40 (2 * a + b) (fun _ => cd_342 hO H) (fun z => ?_) rfl e)
  refine cd_leastF (W := 2 * a + b) hO e (by omega) (by omega) z (fun g2 g3 g4 g5 b3 b4 b5 b6 b7 b8 b9 b10 b11 b12 b13 b14 => ?_)
  rw [cd_N1 (Nat.le_refl _)]
  exact br_t rfl (cd_342 hO H)
/-- an int that stands for a condition -/
def cd_bit (x : Int32) (c : Prop) : Prop := (x = 1 ∧ c) ∨ (x = 0 ∧ ¬ c)
theorem cd_bit_of {x : Int32} {c A B : Prop} (h : cd_bit x c) (f : ¬ c → A) (g : c → B) : (x = 0 → A) ∧ (¬ x = 0 → B) := by
  rcases h with ⟨rfl, hc⟩ | ⟨rfl, hc⟩
  · exact br_f (by decide) (g hc)
  · exact br_t rfl (f hc)
theorem cd_278 {post : Int32 → St0 → Prop} {mc ms kc ks : Nat} {f2 : Int32} {f3 f4 : Int64} {f5 : Int32} {a1 a2 a3 a4 : Nat → Int32} {a5 a6 a7 a8 a9 : Nat → Int64} {a10 a11 a12 a13 a14 : Nat → Int32} {a b R : Nat} {x8 z0 z1 : Int32} (hO : cd_obj a b R a1 a2) (hz : z1 = z0) (h8 : cd_bit x8 (2 * a ≤ R)) (H : post 1 ()) : wL_lawOf_278 post mc ms (nI a) (nI b) x8 z0 z1 kc ks (nI R) f2 f3 f4 f5 a1 a2 a3 a4 a5 a6 a7 a8 a9 a10 a11 a12 a13 a14 := by
  unfold wL_lawOf_278
  refine br_t hz (cd_leastW (k := 2) (n := 0) (p := 2) (q := 0) hO rfl rfl (by omega) (by omega) (cd_4 rfl rfl rfl rfl) (by omega) (by omega) (fun m g2 g3 g4 g5 b3 b4 b5 b6 b7 b8 b9 b10 b11 b12 b13 b14 _ _ m3 => ?_))
  have e := m3 (by omega) (by omega)
  rw [cd_L20] at e
  subst e
  exact cd_bit_of h8 (fun y => cd_297 hO (by rw [if_neg y] <;> rfl) H) (fun y => cd_297 hO (by rw [if_pos y] <;> rfl) H)
theorem cd_259 {post : Int32 → St0 → Prop} {mc ms kc ks : Nat} {f2 : Int32} {f3 f4 : Int64} {f5 : Int32} {a1 a2 a3 a4 : Nat → Int32} {a5 a6 a7 a8 a9 : Nat → Int64} {a10 a11 a12 a13 a14 : Nat → Int32} {a b R : Nat} {x8 x9 z0 z1 : Int32} (hO : cd_obj a b R a1 a2) (hz : z1 = z0) (h8 : cd_bit x8 (2 * a ≤ R)) (h9 : cd_bit x9 (a + b ≤ R)) (H : post 1 ()) : wL_lawOf_259 post mc ms (nI a) (nI b) x8 x9 z0 z1 kc ks (nI R) f2 f3 f4 f5 a1 a2 a3 a4 a5 a6 a7 a8 a9 a10 a11 a12 a13 a14 := by
  unfold wL_lawOf_259
  refine br_t hz (cd_leastW (k := 1) (n := 1) (p := 1) (q := 1) hO rfl rfl (by omega) (by omega) (cd_4 rfl rfl rfl rfl) (by omega) (by omega) (fun m g2 g3 g4 g5 b3 b4 b5 b6 b7 b8 b9 b10 b11 b12 b13 b14 _ _ m3 => ?_))
  have e := m3 (by omega) (by omega)
  rw [cd_L11] at e
  subst e
  exact cd_bit_of h9 (fun y => cd_278 hO (by rw [if_neg y] <;> rfl) h8 H) (fun y => cd_278 hO (by rw [if_pos y] <;> rfl) h8 H)
theorem cd_229 {post : Int32 → St0 → Prop} {mc ms kc ks : Nat} {f2 : Int32} {f3 f4 : Int64} {f5 : Int32} {a1 a2 a3 a4 : Nat → Int32} {a5 a6 a7 a8 a9 : Nat → Int64} {a10 a11 a12 a13 a14 : Nat → Int32} {a b R : Nat} {x8 x9 z0 z1 : Int32} (hO : cd_obj a b R a1 a2) (hz : z1 = z0) (h8 : cd_bit x8 (2 * a ≤ R)) (h9 : cd_bit x9 (a + b ≤ R)) (H : post 1 ()) : wL_lawOf_229 post mc ms (nI a) (nI b) x8 x9 (nI (cd_L a b R 2 1)) z0 z1 kc ks (nI R) f2 f3 f4 f5 a1 a2 a3 a4 a5 a6 a7 a8 a9 a10 a11 a12 a13 a14 := by
  have hL := cd_Lle a b R 2 1
  have e4 := cd_g4 (a := a) (b := b) hO.1.2.2.1
  have n3 : R < a + b → R < 2 * a → cd_L a b R 2 1 = 3 := fun y1 y2 => cd_N3 y2 y1
  have n2 : R < 2 * a + b → (2 * a ≤ R ∨ a + b ≤ R) → cd_L a b R 2 1 = 2 := cd_N2
  have n1 : 2 * a + b ≤ R → cd_L a b R 2 1 = 1 := cd_N1
  unfold wL_lawOf_229
  refine br_t hz (cd_could (P := 4) hO rfl (by omega) (fun g g2 g3 g4 g5 b3 b4 b5 b6 b7 b8 b9 b10 b11 b12 b13 b14 => ?_) (fun g g2 g3 g4 g5 b3 b4 b5 b6 b7 b8 b9 b10 b11 b12 b13 b14 => ?_))
  · have g' := e4.mp g
    refine pk_eq (cd_L a b R 2 1) 3 (fun y => cd_259 hO rfl h8 h9 H) (fun y => pk_eq (cd_L a b R 2 1) 2 (fun y2 => cd_bit_of h9 (fun y3 => ?_) (fun y3 => cd_259 hO rfl h8 h9 H)) (fun y2 => ?_))
    · exact absurd y3 (by omega)
    · exact absurd g' (by omega)
  · have g' : ¬ ((a + b ≤ R ∧ cd_L a b R 2 1 = 2) ∨ (R < a + b ∧ cd_L a b R 2 1 = 3)) := fun y => g (e4.mpr y)
    refine pk_eq (cd_L a b R 2 1) 3 (fun y => ?_) (fun y => pk_eq (cd_L a b R 2 1) 2 (fun y2 => cd_bit_of h9 (fun y3 => cd_259 hO rfl h8 h9 H) (fun y3 => ?_)) (fun y2 => cd_259 hO rfl h8 h9 H))
    · exact absurd g' (by omega)
    · exact absurd g' (by omega)
theorem cd_204 {post : Int32 → St0 → Prop} {mc ms kc ks : Nat} {f2 : Int32} {f3 f4 : Int64} {f5 : Int32} {a1 a2 a3 a4 : Nat → Int32} {a5 a6 a7 a8 a9 : Nat → Int64} {a10 a11 a12 a13 a14 : Nat → Int32} {a b R : Nat} {x8 x9 z0 z1 : Int32} (hO : cd_obj a b R a1 a2) (hz : z1 = z0) (h8 : cd_bit x8 (2 * a ≤ R)) (h9 : cd_bit x9 (a + b ≤ R)) (H : post 1 ()) : wL_lawOf_204 post mc ms (nI a) (nI b) x8 x9 (nI (cd_L a b R 2 1)) z0 z1 kc ks (nI R) f2 f3 f4 f5 a1 a2 a3 a4 a5 a6 a7 a8 a9 a10 a11 a12 a13 a14 := by
  have hL := cd_Lle a b R 2 1
  have e20 := cd_g20 (a := a) (b := b) hO.1.2.2.1
  unfold wL_lawOf_204
  refine br_t hz (cd_could (P := 20) hO rfl (by omega) (fun g g2 g3 g4 g5 b3 b4 b5 b6 b7 b8 b9 b10 b11 b12 b13 b14 => ?_) (fun g g2 g3 g4 g5 b3 b4 b5 b6 b7 b8 b9 b10 b11 b12 b13 b14 => ?_))
  · have g' := e20.mp g
    exact cd_bit_of h9 (fun y => absurd g'.1 y) (fun _ => pk_eq (cd_L a b R 2 1) 2 (fun _ => cd_229 hO rfl h8 h9 H) (fun y => absurd g'.2 y))
  · exact cd_bit_of h9 (fun _ => cd_229 hO rfl h8 h9 H) (fun y1 => pk_eq (cd_L a b R 2 1) 2 (fun y2 => absurd (e20.mpr ⟨y1, y2⟩) g) (fun _ => cd_229 hO rfl h8 h9 H))
theorem cd_160 {post : Int32 → St0 → Prop} {mc ms kc ks : Nat} {f2 : Int32} {f3 f4 : Int64} {f5 : Int32} {a1 a2 a3 a4 : Nat → Int32} {a5 a6 a7 a8 a9 : Nat → Int64} {a10 a11 a12 a13 a14 : Nat → Int32} {a b R : Nat} {x7 x8 x9 z0 : Int32} (hO : cd_obj a b R a1 a2) (hz : z0 = nI (cd_L a b R 2 1)) (h7 : cd_bit x7 (2 * a + b ≤ R)) (h8 : cd_bit x8 (2 * a ≤ R)) (h9 : cd_bit x9 (a + b ≤ R)) (H : post 1 ()) : wL_lawOf_160 post mc ms (nI a) (nI b) x7 x8 x9 z0 kc ks (nI R) f2 f3 f4 f5 a1 a2 a3 a4 a5 a6 a7 a8 a9 a10 a11 a12 a13 a14 := by
  subst hz
  have hL := cd_Lle a b R 2 1
  have e8 := cd_g8 (a := a) (b := b) hO.1.2.2.2.1
  have e24 := cd_g24 a b R
  unfold wL_lawOf_160
  refine cd_least hO (fun g2 g3 g4 g5 b3 b4 b5 b6 b7 b8 b9 b10 b11 b12 b13 b14 => br_t rfl (cd_could (P := 24) hO rfl (by omega) (fun g g2 g3 g4 g5 b3 b4 b5 b6 b7 b8 b9 b10 b11 b12 b13 b14 => br_t ?_ ?_) (fun g g2 g3 g4 g5 b3 b4 b5 b6 b7 b8 b9 b10 b11 b12 b13 b14 => br_t ?_ ?_)))
  · rcases h7 with ⟨y, _⟩ | ⟨_, y⟩
    · exact y.symm
    · exact absurd (e24.mp g) y
  · refine cd_could (P := 8) hO rfl (by omega) (fun gg g2 g3 g4 g5 b3 b4 b5 b6 b7 b8 b9 b10 b11 b12 b13 b14 => ?_) (fun gg g2 g3 g4 g5 b3 b4 b5 b6 b7 b8 b9 b10 b11 b12 b13 b14 => ?_)
    · have g' := e8.mp gg
      exact cd_bit_of h8 (fun y => absurd g'.1 y) (fun _ => pk_eq (cd_L a b R 2 1) 2 (fun _ => cd_204 hO rfl h8 h9 H) (fun y => absurd g'.2 y))
    · exact cd_bit_of h8 (fun _ => cd_204 hO rfl h8 h9 H) (fun y1 => pk_eq (cd_L a b R 2 1) 2 (fun y2 => absurd (e8.mpr ⟨y1, y2⟩) gg) (fun _ => cd_204 hO rfl h8 h9 H))
  · rcases h7 with ⟨_, y⟩ | ⟨y, _⟩
    · exact absurd (e24.mpr y) g
    · exact y.symm
  · refine cd_could (P := 8) hO rfl (by omega) (fun gg g2 g3 g4 g5 b3 b4 b5 b6 b7 b8 b9 b10 b11 b12 b13 b14 => ?_) (fun gg g2 g3 g4 g5 b3 b4 b5 b6 b7 b8 b9 b10 b11 b12 b13 b14 => ?_)
    · have g' := e8.mp gg
      exact cd_bit_of h8 (fun y => absurd g'.1 y) (fun _ => pk_eq (cd_L a b R 2 1) 2 (fun _ => cd_204 hO rfl h8 h9 H) (fun y => absurd g'.2 y))
    · exact cd_bit_of h8 (fun _ => cd_204 hO rfl h8 h9 H) (fun y1 => pk_eq (cd_L a b R 2 1) 2 (fun y2 => absurd (e8.mpr ⟨y1, y2⟩) gg) (fun _ => cd_204 hO rfl h8 h9 H))
theorem cd_134 {post : Int32 → St0 → Prop} {mc ms kc ks : Nat} {f2 : Int32} {f3 f4 : Int64} {f5 : Int32} {a1 a2 a3 a4 : Nat → Int32} {a5 a6 a7 a8 a9 : Nat → Int64} {a10 a11 a12 a13 a14 : Nat → Int32} {a b R : Nat} {x7 x8 x9 : Int32} (hO : cd_obj a b R a1 a2) (h7 : cd_bit x7 (2 * a + b ≤ R)) (h8 : cd_bit x8 (2 * a ≤ R)) (h9 : cd_bit x9 (a + b ≤ R)) (H : post 1 ()) : wL_lawOf_134 post mc ms (nI a) (nI b) x7 x8 x9 kc ks (nI R) f2 f3 f4 f5 a1 a2 a3 a4 a5 a6 a7 a8 a9 a10 a11 a12 a13 a14 := by
  unfold wL_lawOf_134
  exact cd_bit_of h7
    (fun y7 => cd_bit_of h8
      (fun y8 => cd_bit_of h9 (fun y9 => cd_160 hO (by rw [cd_N3 (by omega) (by omega)] <;> rfl) h7 h8 h9 H) (fun y9 => cd_160 hO (by rw [cd_N2 (by omega) (Or.inr y9)] <;> rfl) h7 h8 h9 H))
      (fun y8 => cd_160 hO (by rw [cd_N2 (by omega) (Or.inl y8)] <;> rfl) h7 h8 h9 H))
    (fun y7 => cd_160 hO (by rw [cd_N1 y7] <;> rfl) h7 h8 h9 H)
theorem cd_101 {post : Int32 → St0 → Prop} {mc ms kc ks : Nat} {f2 : Int32} {f3 f4 : Int64} {f5 : Int32} {a1 a2 a3 a4 : Nat → Int32} {a5 a6 a7 a8 a9 : Nat → Int64} {a10 a11 a12 a13 a14 : Nat → Int32} {a b R : Nat} {x7 : Int32} (hO : cd_obj a b R a1 a2) (h7 : cd_bit x7 (2 * a + b ≤ R)) (H : post 1 ()) : wL_lawOf_101 post mc ms (nI R) (nI a) (nI b) x7 kc ks (nI R) f2 f3 f4 f5 a1 a2 a3 a4 a5 a6 a7 a8 a9 a10 a11 a12 a13 a14 := by
  obtain ⟨p1, p2, p3, p4, p5⟩ := hO.1
  have e2 : (2 : Int32) * nI a = nI (2 * a) := by
    rw [show (2 : Int32) = nI 2 from rfl, pk_mul]
  have K : ∀ x8, cd_bit x8 (2 * a ≤ R) → wL_lawOf_117 post mc ms (nI R) (nI a) (nI b) x7 x8 kc ks (nI R) f2 f3 f4 f5 a1 a2 a3 a4 a5 a6 a7 a8 a9 a10 a11 a12 a13 a14 := fun x8 h8 => by
    unfold wL_lawOf_117
    exact pk_lt R (a + b) (fun y => cd_134 hO h7 h8 (Or.inr ⟨rfl, by omega⟩) H) (fun y => cd_134 hO h7 h8 (Or.inl ⟨rfl, y⟩) H) rfl (nI_add a b)
  unfold wL_lawOf_101
  exact pk_lt R (2 * a) (fun y => K 0 (Or.inr ⟨rfl, by omega⟩)) (fun y => K 1 (Or.inl ⟨rfl, y⟩)) rfl e2
end
section
/-! the object, made and set -/
theorem cd_setW {post : Int32 → St2 → Prop} {f2 : Int32} {f3 f4 : Int64} {f5 : Int32} {a1 a2 a3 a4 : Nat → Int32} {a5 a6 a7 a8 a9 : Nat → Int64} {a10 a11 a12 a13 a14 : Nat → Int32} {R k n : Nat} {x : Int32} {y : Int32} (hx : x = nI k) (hk : k < 4) (hy : y = nI n) (hn : 1 ≤ n) (hR : n ≤ R) (hR20 : R ≤ 20) (H : ∀ r, post r (nI R, f2, f3, f4, f5, upd a1 k (nI n), a2, a3, a4, a5, a6, a7, a8, a9, a10, a11, a12, a13, a14)) : wpX_setWidth post (nI R, f2, f3, f4, f5, a1, a2, a3, a4, a5, a6, a7, a8, a9, a10, a11, a12, a13, a14) x y := by
  subst hx hy
  unfold wpX_setWidth
  refine cd_kind rfl hk (br_f (by decide) (pk_lt n 1 (fun z => absurd z (by omega)) (fun _ => pk_le n R (fun _ => ⟨pk_in k 4 hk, nm_r (e' := upd a1 k (nI n)) ?_ (H 1)⟩) (fun z => absurd z (by omega)))))
  rw [nI_clamp (by omega), cd_b8 n (by omega)]
theorem cd_ord {post : Int32 → St2 → Prop} {f1 f2 : Int32} {f3 f4 : Int64} {f5 : Int32} {a1 a2 a3 a4 : Nat → Int32} {a5 a6 a7 a8 a9 : Nat → Int64} {a10 a11 a12 a13 a14 : Nat → Int32} {k n : Nat} {x : Int32} {y : Int32} (hx : x = nI k) (hk : k < 4) (hy : y = nI n) (hn : n ≤ 3) (H : ∀ r, post r (f1, f2, f3, f4, f5, a1, upd a2 k (nI n), a3, a4, a5, a6, a7, a8, a9, a10, a11, a12, a13, a14)) : wpX_order post (f1, f2, f3, f4, f5, a1, a2, a3, a4, a5, a6, a7, a8, a9, a10, a11, a12, a13, a14) x y := by
  subst hx hy
  unfold wpX_order
  refine cd_kind rfl hk (br_f (by decide) (br_f (nI_pos (by omega)) (pk_le n 3 (fun _ => ⟨pk_in k 4 hk, nm_r (e' := upd a2 k (nI n)) ?_ (H 1)⟩) (fun z => absurd z (by omega)))))
  rw [nI_clamp (by omega), cd_b8 n (by omega)]
theorem cd_30 {post : Int32 → St0 → Prop} {mc ms kc ks : Nat} {f2 : Int32} {f3 f4 : Int64} {f5 : Int32} {a1 a3 a4 : Nat → Int32} {a5 a6 a7 a8 a9 : Nat → Int64} {a10 a11 a12 a13 a14 : Nat → Int32} {R : Nat} {x y z : Int32} (hz : z = nI R) (h1 : 1 ≤ R) (h20 : R ≤ 20) (ha : ∀ k, k < 4 → a1 k = nI 1) (H : post 1 ()) : wL_lawOf_30 post mc ms x y z kc ks (nI R) f2 f3 f4 f5 a1 (fun _ => 0) a3 a4 a5 a6 a7 a8 a9 a10 a11 a12 a13 a14 := by
  subst hz
  have key : ∀ v : Int32, ∃ n, 1 ≤ n ∧ n ≤ R ∧ 1 + ((v &&& 65535) - (v &&& 65535) / nI R * nI R) = nI n := by
    intro v
    have e : v &&& 65535 = nI (v.toBitVec.toNat % 2 ^ 16) := pk_and v 16 (by decide)
    have hlt : v.toBitVec.toNat % 2 ^ 16 < 2 ^ 16 := Nat.mod_lt _ (by omega)
    rw [e, pk_rem (by omega) (by omega) (by omega), show (1 : Int32) = nI 1 from rfl, nI_add]
    have := Nat.mod_lt (v.toBitVec.toNat % 2 ^ 16) (show 0 < R by omega)
    exact ⟨_, by omega, by omega, rfl⟩
  obtain ⟨a, a1', a2', ea⟩ := key x
  obtain ⟨b, b1', b2', eb⟩ := key y
  have n0 : ¬ nI R = 0 := nI_ne0 (by omega) (by omega)
  have e2 : (2 : Int32) * nI a + nI b = nI (2 * a + b) := by
    rw [show (2 : Int32) = nI 2 from rfl, pk_mul, nI_add]
  unfold wL_lawOf_30
  refine ⟨n0, nm_r ea ⟨n0, nm_r eb (cd_setW (k := 1) (n := a) rfl (by omega) rfl a1' a2' h20 (fun _ => cd_setW (k := 2) (n := b) rfl (by omega) rfl b1' b2' h20 (fun _ => cd_ord (k := 1) (n := 2) rfl (by omega) rfl (by omega) (fun _ => cd_ord (k := 2) (n := 1) rfl (by omega) rfl (by omega) (fun _ => ?_)))))⟩⟩
  have hO : cd_obj a b R (upd (upd a1 1 (nI a)) 2 (nI b)) (upd (upd (fun _ => 0) 1 (nI 2)) 2 (nI 1)) := by
    refine ⟨⟨a1', b1', a2', b2', by omega⟩, cd_4 ?_ rfl rfl ?_, cd_4 rfl rfl rfl rfl⟩
    · rw [pk_un (by omega), pk_un (by omega)]
      exact ha 0 (by omega)
    · rw [pk_un (by omega), pk_un (by omega)]
      exact ha 3 (by omega)
  exact pk_lt R (2 * a + b) (fun y => cd_101 hO (Or.inr ⟨rfl, by omega⟩) H) (fun y => cd_101 hO (Or.inl ⟨rfl, y⟩) H) rfl e2
theorem cd_in136 {post : St2 → Prop} {mc ms kc ks : Nat} {f1 f2 : Int32} {f3 f4 : Int64} {f5 : Int32} (H : ∀ x : Nat → Int32, (∀ k, k < 4 → x k = nI 1) → post (f1, f2, f3, f4, f5, x, fun _ => 0, fun _ => 0, fun _ => 0, fun _ => 0, fun _ => 0, fun _ => 0, fun _ => 0, fun _ => 0, fun _ => 0, fun _ => 0, fun _ => 0, fun _ => 0, fun _ => 0)) :
    ∃ n, wX_init_136 post mc ms kc ks f1 f2 f3 f4 f5 n 0 (fun _ => 0) (fun _ => 0) (fun _ => 0) (fun _ => 0) (fun _ => 0) (fun _ => 0) (fun _ => 0) (fun _ => 0) (fun _ => 0) (fun _ => 0) (fun _ => 0) (fun _ => 0) (fun _ => 0) (fun _ => 0) := by
  refine pk_loop (fun n i x => wX_init_136 post mc ms kc ks f1 f2 f3 f4 f5 n (nI i) x (fun _ => 0) (fun _ => 0) (fun _ => 0) (fun _ => 0) (fun _ => 0) (fun _ => 0) (fun _ => 0) (fun _ => 0) (fun _ => 0) (fun _ => 0) (fun _ => 0) (fun _ => 0) (fun _ => 0)) (fun i x => ∀ k, k < i → x k = nI 1) 4 0 (fun _ => 0) (by omega) lt_0
    (fun n x h => pk_le 4 4 (fun _ => H x h) (fun z => absurd z (by omega))) (fun n i x hi h hw => pk_le 4 i (fun z => absurd z (by omega)) (fun _ => ⟨pk_in i 4 hi, nm_e (nm_r (nI_1 i) (hw _ (fun k hk => ?_)))⟩))
  rw [nI_clamp (by omega)]
  by_cases e : k = i
  · rw [e, pk_us]
    rfl
  · rw [pk_un e]
    exact h k (by omega)
theorem cd_lawOf {post : Int32 → St0 → Prop} {p0 p1 p2 : Int32} (H : post 1 ()) : wpL_lawOf post 146 2320 () p0 p1 p2 := by
  unfold wpL_lawOf
  refine ⟨by omega, by omega, 14, 276, by omega, by omega, ?_⟩
  unfold wpX_init
  refine ⟨by omega, by omega, by omega, by omega, by omega, by omega, by omega, by omega, by omega, by omega, by omega, by omega, by omega, by omega, by omega, by omega, by omega, by omega, by omega, by omega, by omega, by omega, by omega, by omega, by omega, by omega, by omega, by omega, ?_⟩
  refine br_c (fun h1 => br_c (fun h2 => ?_) (fun h2 => ?_)) (fun h1 => ?_)
  · obtain ⟨R, hR, e⟩ := nI_of2 (x := p0) (M := 20) (n := 20) (by decide) (fun g => by
      have := Int32.lt_of_lt_of_le g (show (0 : Int32) ≤ 1 by decide)
      exact absurd h1 (Int32.not_le.mpr this)) h2
    subst e
    have hR1 : 1 ≤ R := by
      rcases Nat.lt_or_ge R 1 with z | z
      · exact absurd h1 (by rw [show R = 0 by omega]; decide)
      · exact z
    exact cd_in136 (fun x hx => br_t h1 (br_t h2 (cd_30 rfl hR1 hR hx H)))
  · exact cd_in136 (fun x hx => br_t h1 (br_f h2 (cd_30 (R := 20) rfl (by omega) (by omega) hx H)))
  · exact cd_in136 (fun x hx => br_f h1 (cd_30 (R := 1) rfl (by omega) (by omega) hx H))
theorem cd_cell {post : Int32 → Prop} {L : Nat} {xs : Nat → Int32} {x : Int32} {k : Nat} (hx : x = nI k) (hk : k < 4) (hL : L ≤ 3) (H : ∀ v, post v) : wpL_cellAt post L xs () x := by
  subst hx
  exact pk_le L k (fun _ => H _) (fun z => ⟨pk_in k L z, H _⟩)
theorem i_vc (xs : Nat → Int32) (L : Nat) (hL : L ≤ 3) : wpL_law (fun r => r = 1) L xs := by
  unfold wpL_law
  exact cd_cell (k := 0) rfl (by omega) hL (fun v0 => cd_cell (k := 1) rfl (by omega) hL (fun v1 => cd_cell (k := 2) rfl (by omega) hL (fun v2 => ⟨146, 2320, by omega, by omega, cd_lawOf rfl⟩)))
end
