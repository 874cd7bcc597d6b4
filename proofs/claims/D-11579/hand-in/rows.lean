section
/-- a bit as an int -/
def wk_b (b : Bool) : Int32 := if b = true then 1 else 0
/-- the sum of f below n -/
def wk_s (f : Nat → Int32) : Nat → Int32
  | 0 => 0
  | n + 1 => wk_s f n + f n
theorem wk_s_c {f g : Nat → Int32} (n : Nat) (h : ∀ i, i < n → f i = g i) : wk_s f n = wk_s g n := by
  induction n with
  | zero => rfl
  | succ n ih =>
    show wk_s f n + f n = wk_s g n + g n
    rw [ih (fun i hi => h i (by omega)), h n (by omega)]
theorem wk_s_add (f : Nat → Int32) (m n : Nat) : wk_s f (m + n) = wk_s f m + wk_s (fun i => f (m + i)) n := by
  induction n with
  | zero =>
    show wk_s f m = wk_s f m + 0
    rw [Int32.add_zero]
  | succ n ih =>
    show wk_s f (m + n) + f (m + n) = wk_s f m + (wk_s (fun i => f (m + i)) n + f (m + n))
    rw [ih, Int32.add_assoc]
theorem wk_s_mul (x : Int32) (f : Nat → Int32) (n : Nat) : wk_s (fun i => x * f i) n = x * wk_s f n := by
  induction n with
  | zero =>
    show (0 : Int32) = x * 0
    rw [Int32.mul_zero]
  | succ n ih =>
    show wk_s (fun i => x * f i) n + x * f n = x * (wk_s f n + f n)
    rw [ih, Int32.mul_add]
theorem wk_s_mulr (x : Int32) (f : Nat → Int32) (n : Nat) : wk_s (fun i => f i * x) n = wk_s f n * x := by
  induction n with
  | zero =>
    show (0 : Int32) = 0 * x
    rw [Int32.zero_mul]
  | succ n ih =>
    show wk_s (fun i => f i * x) n + f n * x = (wk_s f n + f n) * x
    rw [ih, Int32.add_mul]
theorem wk_s_plus (f g : Nat → Int32) (n : Nat) : wk_s (fun i => f i + g i) n = wk_s f n + wk_s g n := by
  induction n with
  | zero => rfl
  | succ n ih =>
    show wk_s (fun i => f i + g i) n + (f n + g n) = (wk_s f n + f n) + (wk_s g n + g n)
    rw [ih]
    grind
theorem wk_s_0 {f : Nat → Int32} (n : Nat) (h : ∀ i, i < n → f i = 0) : wk_s f n = 0 := by
  induction n with
  | zero => rfl
  | succ n ih =>
    show wk_s f n + f n = 0
    rw [ih (fun i hi => h i (by omega)), h n (by omega), Int32.add_zero]
/-- one place alone -/
theorem wk_s_1 {f : Nat → Int32} (m n : Nat) (hm : m < n) (h : ∀ i, i < n → i ≠ m → f i = 0) : wk_s f n = f m := by
  induction n with
  | zero => omega
  | succ n ih =>
    show wk_s f n + f n = f m
    by_cases e : m = n
    · rw [wk_s_0 n (fun i hi => h i (by omega) (by omega)), e, Int32.zero_add]
    · rw [ih (by omega) (fun i hi hne => h i (by omega) hne), h n (by omega) (by omega), Int32.add_zero]
/-- 64 places as 8 rows of 8 -/
theorem wk_s_row (f : Nat → Int32) (n : Nat) : wk_s f (n * 8) = wk_s (fun w => wk_s (fun s => f (w * 8 + s)) 8) n := by
  induction n with
  | zero => rfl
  | succ n ih =>
    rw [show (n + 1) * 8 = n * 8 + 8 by omega, wk_s_add, ih]
    rfl
/-- the array h is the picture M -/
def wk_h (h : Nat → Int32) (M : Nat → Nat → Int32) : Prop := ∀ w s, w < 8 → s < 8 → h (w * 8 + s) = M w s
/-- all of a picture -/
def wk_tot (M : Nat → Nat → Int32) : Int32 := wk_s (fun w => wk_s (M w) 8) 8
theorem wk_tot_of {h : Nat → Int32} {M : Nat → Nat → Int32} (hh : wk_h h M) : wk_s h 64 = wk_tot M := by
  show wk_s h (8 * 8) = _
  rw [wk_s_row]
  exact wk_s_c 8 (fun w hw => wk_s_c 8 (fun s hs => hh w s hw hs))
theorem wk_sl : ∀ n, n < 32 → ((nI n &&& 31).toBitVec.smod 32).toNat = n := by decide +kernel
theorem wk_and (a b : Nat) : nI a &&& nI b = nI (a &&& b) := by
  apply Int32.toBitVec_inj.1
  show BitVec.ofNat 32 a &&& BitVec.ofNat 32 b = BitVec.ofNat 32 (a &&& b)
  apply BitVec.eq_of_getLsbD_eq
  intro i hi
  simp [hi]
theorem wk_nb (n : Nat) : nI (n % 2) = wk_b (decide (n % 2 = 1)) := by
  rcases Nat.mod_two_eq_zero_or_one n with h | h
  · rw [h]
    decide
  · rw [h]
    decide
theorem wk_bit {a i : Nat} (ha : a < 2 ^ 31) (hi : i < 32) : (nI a >>> (nI i &&& 31)) &&& 1 = wk_b (a.testBit i) := by
  have hd : a / 2 ^ i < 2 ^ 32 := Nat.lt_of_le_of_lt (Nat.div_le_self _ _) (by omega)
  rw [pk_shrN ha (nI i &&& 31) i (wk_sl i hi), pk_andN hd 1 (by decide), Nat.testBit_eq_decide_div_mod_eq]
  exact wk_nb _
theorem wk_bF {b : Bool} (h : b = false) : wk_b b = 0 := by rw [h]; rfl
theorem wk_bT {b : Bool} (h : b = true) : wk_b b = 1 := by rw [h]; rfl
theorem wk_b0 (b : Bool) : wk_b b = 0 ↔ b = false := by cases b <;> decide
theorem wk_b1 (b : Bool) : wk_b b = 1 ↔ b = true := by cases b <;> decide
/-- one bit asked: 0 or not -/
theorem wk_q0 {a i : Nat} {A B : Prop} (ha : a < 2 ^ 31) (hi : i < 32) (f : a.testBit i = false → A) (g : a.testBit i = true → B) : (((nI a >>> (nI i &&& 31)) &&& 1) = 0 → A) ∧ (¬ ((nI a >>> (nI i &&& 31)) &&& 1) = 0 → B) := by
  rw [wk_bit ha hi, wk_b0]
  exact ⟨f, fun z => g (by simpa using z)⟩
/-- one bit asked: 1 or not -/
theorem wk_q1 {a i : Nat} {A B : Prop} (ha : a < 2 ^ 31) (hi : i < 32) (f : a.testBit i = true → A) (g : a.testBit i = false → B) : (((nI a >>> (nI i &&& 31)) &&& 1) = 1 → A) ∧ (¬ ((nI a >>> (nI i &&& 31)) &&& 1) = 1 → B) := by
  rw [wk_bit ha hi, wk_b1]
  exact ⟨f, fun z => g (by simpa using z)⟩
/-- how many bits -/
def wk_k (a : Nat) : Int32 := wk_s (fun i => wk_b (a.testBit i)) 8
/-- the place of a cell -/
theorem wk_ix (v s : Nat) : nI v * 8 + nI s = nI (v * 8 + s) := by
  show nI v * nI 8 + nI s = _
  rw [pk_mul, nI_add]
theorem wk_ixc {v s : Nat} (hv : v < 8) (hs : s < 8) : (nI v * 8 + nI s).toNatClampNeg = v * 8 + s := pk_cl (v * 8 + s) (wk_ix v s) (by omega)
theorem wk_ixi {v s n : Nat} (h : v * 8 + s < n) (hn : n < 2 ^ 31) : vp_in (nI v * 8 + nI s) n := pk_in (v * 8 + s) n h (wk_ix v s) hn
theorem wk_dv {v : Nat} (h : v < 2 ^ 31) : nI v / 8 = nI (v / 8) := pk_div (d := 8) h (by decide) (by decide)
theorem wk_rm {v : Nat} (h : v < 2 ^ 31) : nI v - nI v / 8 * 8 = nI (v % 8) := pk_rem (d := 8) h (by decide) (by decide)
/-- two cells are one only if row and column are -/
theorem wk_cell {v s v' s' : Nat} (hs : s < 8) (hs' : s' < 8) : v * 8 + s = v' * 8 + s' ↔ v = v' ∧ s = s' := by omega
theorem wk_up {f : Nat → Int32} {v s v' s' : Nat} {x : Int32} (hs : s < 8) (hs' : s' < 8) : upd f (v * 8 + s) x (v' * 8 + s') = if v' = v ∧ s' = s then x else f (v' * 8 + s') := by
  by_cases e : v' = v ∧ s' = s
  · rw [if_pos e, e.1, e.2, pk_us]
  · rw [if_neg e, pk_un (fun z => e ((wk_cell hs' hs).mp z))]
end
section
section
variable {e z t k : Int32} {a1 a2 a3 a4 a5 a6 a7 a8 : Nat → Int32}
theorem wk_ones' {post : Int32 → Prop} {x : Int32} (H : post (wk_s (fun i => (x >>> (nI i &&& 31)) &&& 1) 8)) : wpL_ones post () x :=
  pk_loop (σ := Int32) (fun n i s => wL_ones_4 post x n s (nI i)) (fun i s => s = wk_s (fun i => (x >>> (nI i &&& 31)) &&& 1) i) 8 0 0 (by omega) rfl
    (fun n s h => pk_le 8 8 (fun _ => h ▸ H) (fun z => absurd z (by omega)))
    (fun n i s hi h hw => pk_le 8 i (fun z => absurd z (by omega)) (fun _ => nm_e (nm_r (nI_1 i) (hw _ (by rw [h]; rfl)))))
theorem wk_ones {post : Int32 → Prop} {a : Nat} (ha : a < 256) (H : post (wk_k a)) : wpL_ones post () (nI a) := by
  refine wk_ones' ?_
  rw [wk_s_c 8 (fun i hi => wk_bit (a := a) (i := i) (by omega) (by omega))]
  exact H
theorem wk_total {post : Int32 → Prop} {M : Nat → Nat → Int32} (hM : wk_h a6 M) (H : post (wk_tot M)) : wpX_total post (e, z, t, k, a1, a2, a3, a4, a5, a6, a7, a8) := by
  rw [← wk_tot_of hM] at H
  exact pk_loop (σ := Int32) (fun n i s => wX_total_4 post e z t k a1 a2 a3 a4 a5 a6 a7 a8 n s (nI i)) (fun i s => s = wk_s a6 i) 64 0 0 (by omega) rfl
    (fun n s h => pk_le 64 64 (fun _ => h ▸ H) (fun z => absurd z (by omega)))
    (fun n i s hi h hw => pk_le 64 i (fun z => absurd z (by omega)) (fun _ => ⟨pk_in i 64 hi, nm_e (nm_r (nI_1 i) (hw _ (by rw [h, nI_clamp (by omega)]; rfl)))⟩))
/-- carry: one row of the walkers before is added to one row -/
theorem wk_carry {post : St2 → Prop} {v w : Nat} (hv : v < 8) (hw : w < 8)
    (H : ∀ h : Nat → Int32, (∀ w' s, w' < 8 → s < 8 → h (w' * 8 + s) = a6 (w' * 8 + s) + (if w' = w then a7 (v * 8 + s) else 0)) → post (e, z, t, k, a1, a2, a3, a4, a5, h, a7, a8)) :
    wpX_carry post (e, z, t, k, a1, a2, a3, a4, a5, a6, a7, a8) (nI v) (nI w) := by
  refine pk_loop (σ := Nat → Int32) (fun n i h => wX_carry_2 post (nI v) (nI w) e z t k n (nI i) a1 a2 a3 a4 a5 h a7 a8)
    (fun i h => ∀ w' s, w' < 8 → s < 8 → h (w' * 8 + s) = a6 (w' * 8 + s) + (if w' = w ∧ s < i then a7 (v * 8 + s) else 0)) 8 0 a6 (by omega) ?_ ?_ ?_
  · intro w' s h1 h2
    rw [if_neg (by omega), Int32.add_zero]
  · intro n h hh
    refine pk_le 8 8 (fun _ => H h (fun w' s h1 h2 => ?_)) (fun z => absurd z (by omega))
    rw [hh w' s h1 h2]
    by_cases q : w' = w
    · rw [if_pos q, if_pos ⟨q, h2⟩]
    · rw [if_neg q, if_neg (fun z => q z.1)]
  · intro n i h hi hh hn
    refine pk_le 8 i (fun z => absurd z (by omega)) (fun _ => ⟨wk_ixi (by omega) (by omega), wk_ixi (by omega) (by omega), wk_ixi (by omega) (by omega), nm_e (nm_r (nI_1 i) (hn _ ?_))⟩)
    intro w' s h1 h2
    rw [wk_ixc hw hi, wk_ixc hv hi, wk_up hi h2]
    by_cases q : w' = w ∧ s = i
    · rw [if_pos q, if_pos ⟨q.1, by omega⟩, hh w i hw hi, if_neg (by omega), q.1, q.2, Int32.add_zero]
    · rw [if_neg q, hh w' s h1 h2]
      by_cases q2 : w' = w ∧ s < i
      · rw [if_pos q2, if_pos ⟨q2.1, by omega⟩]
      · rw [if_neg q2, if_neg (fun z => q2 ⟨z.1, by have := z.2; omega⟩)]
/-- spread, behind the first carry -/
theorem wk_sp76 {post : St2 → Prop} {J : Int32 → Int32 → Int32 → Int32 → Int32 → (Nat → Int32) → (Nat → Int32) → (Nat → Int32) → (Nat → Int32) → (Nat → Int32) → (Nat → Int32) → (Nat → Int32) → (Nat → Int32) → Prop} {x4 : Int32} {v i g : Nat} (hv : v < 8) (hi : i < 8) (hg : g < 256)
    (H : ∀ h : Nat → Int32, (∀ w s, w < 8 → s < 8 → h (w * 8 + s) = a6 (w * 8 + s) + (if w = i then wk_b (g.testBit i) * a7 (v * 8 + s) else 0)) → J (nI (i + 1)) e z t k a1 a2 a3 a4 a5 h a7 a8) :
    wX_spread_76 post J (nI v) x4 (nI g) (nI i) e z t k a1 a2 a3 a4 a5 a6 a7 a8 := by
  refine wk_q0 (by omega) (by omega) (fun hb => nm_r (nI_1 i) (H a6 (fun w s h1 h2 => ?_))) (fun hb => wk_carry hv hi (fun h hh => nm_r (nI_1 i) (H h (fun w s h1 h2 => ?_))))
  · rw [wk_bF hb, Int32.zero_mul, ite_self, Int32.add_zero]
  · rw [hh w s h1 h2, wk_bT hb, Int32.one_mul]
/-- spread: the loop over the ends -/
theorem wk_sp52 {post : St2 → Prop} {v f g : Nat} (hv : v < 8) (hf : f < 256) (hg : g < 256)
    (H : ∀ h : Nat → Int32, (∀ w s, w < 8 → s < 8 → h (w * 8 + s) = a6 (w * 8 + s) + (wk_b (f.testBit w) + wk_b (g.testBit w)) * a7 (v * 8 + s)) → post (e, z, t, k, a1, a2, a3, a4, a5, h, a7, a8)) :
    ∃ n, wX_spread_52 post (nI v) (nI f) (nI g) n 0 e z t k a1 a2 a3 a4 a5 a6 a7 a8 := by
  refine pk_loop (σ := Nat → Int32) (fun n i h => wX_spread_52 post (nI v) (nI f) (nI g) n (nI i) e z t k a1 a2 a3 a4 a5 h a7 a8)
    (fun i h => ∀ w s, w < 8 → s < 8 → h (w * 8 + s) = a6 (w * 8 + s) + (if w < i then (wk_b (f.testBit w) + wk_b (g.testBit w)) * a7 (v * 8 + s) else 0)) 8 0 a6 (by omega) ?_ ?_ ?_
  · intro w s h1 h2
    rw [if_neg (by omega), Int32.add_zero]
  · intro n h hh
    refine pk_le 8 8 (fun _ => H h (fun w s h1 h2 => ?_)) (fun z => absurd z (by omega))
    rw [hh w s h1 h2, if_pos h1]
  · intro n i h hi hh hn
    refine pk_le 8 i (fun z => absurd z (by omega)) (fun _ => wk_q0 (by omega) (by omega) (fun hb => wk_sp76 hv hi hg (fun h' hh' => hn h' ?_)) (fun hb => wk_carry hv hi (fun h1 hh1 => wk_sp76 hv hi hg (fun h' hh' => hn h' ?_))))
    · intro w s h1 h2
      rw [hh' w s h1 h2, hh w s h1 h2]
      by_cases q : w = i
      · rw [if_neg (by omega), if_pos q, if_pos (by omega), q, wk_bF hb, Int32.zero_add, Int32.add_zero]
      · rw [if_neg q, Int32.add_zero]
        by_cases q2 : w < i
        · rw [if_pos q2, if_pos (by omega)]
        · rw [if_neg q2, if_neg (by omega)]
    · intro w s hw hs
      rw [hh' w s hw hs, hh1 w s hw hs, hh w s hw hs]
      by_cases q : w = i
      · rw [if_neg (by omega), if_pos q, if_pos q, if_pos (by omega), q, wk_bT hb]
        grind
      · rw [if_neg q, if_neg q, Int32.add_zero, Int32.add_zero]
        by_cases q2 : w < i
        · rw [if_pos q2, if_pos (by omega)]
        · rw [if_neg q2, if_neg (by omega)]
/-- how often the edges of label l lead from v to w -/
def wk_c (G2 G3 : Nat → Nat) (kd v l w : Nat) : Int32 := wk_b (Nat.testBit (if kd = 1 then 0 else G2 (l * 8 + v)) w) + wk_b (Nat.testBit (if kd = 1 ∨ kd = 2 then G3 (l * 8 + v) else 0) w)
/-- the graph's arrays hold the picture -/
def wk_G (a : Nat → Int32) (G : Nat → Nat) : Prop := ∀ j, j < 16 → a j = nI (G j) ∧ G j < 256
theorem wk_spread {post : St2 → Prop} {G2 G3 : Nat → Nat} {kd v l : Nat} (hk : kd < 4) (hv : v < 8) (hl : l < 2) (h2 : wk_G a2 G2) (h3 : wk_G a3 G3)
    (H : ∀ h : Nat → Int32, (∀ w s, w < 8 → s < 8 → h (w * 8 + s) = a6 (w * 8 + s) + wk_c G2 G3 kd v l w * a7 (v * 8 + s)) → post (e, z, t, k, a1, a2, a3, a4, a5, h, a7, a8)) :
    wpX_spread post (e, z, t, k, a1, a2, a3, a4, a5, a6, a7, a8) (nI kd) (nI v) (nI l) := by
  have i2 := h2 (l * 8 + v) (by omega)
  have i3 := h3 (l * 8 + v) (by omega)
  have e2 : a2 (nI l * 8 + nI v).toNatClampNeg = nI (G2 (l * 8 + v)) := by rw [wk_ixc (by omega) hv]; exact i2.1
  have e3 : a3 (nI l * 8 + nI v).toNatClampNeg = nI (G3 (l * 8 + v)) := by rw [wk_ixc (by omega) hv]; exact i3.1
  have hin : vp_in (nI l * 8 + nI v) 16 := wk_ixi (by omega) (by omega)
  unfold wk_c at H
  refine pk_eq kd 1 (fun q => ?_) (fun q => ⟨hin, ?_⟩)
  · rw [if_pos q, if_pos (Or.inl q)] at H
    exact pk_eq kd 1 (fun _ => ⟨hin, nm_r e3 (wk_sp52 (f := 0) hv (by omega) i3.2 H)⟩) (fun z => absurd q z)
  · rw [e2]
    rw [if_neg q] at H
    refine pk_eq kd 1 (fun z => absurd z q) (fun _ => pk_eq kd 2 (fun q2 => ?_) (fun q2 => ?_))
    · rw [if_pos (Or.inr q2)] at H
      exact ⟨hin, nm_r e3 (wk_sp52 hv i2.2 i3.2 H)⟩
    · rw [if_neg (by omega)] at H
      exact wk_sp52 (g := 0) hv i2.2 (by omega) H
/-- does some fitting edge begin at v -/
def wk_mv (G2 : Nat → Nat) (v lb : Nat) : Bool := (decide (lb ≠ 1) && decide (G2 v ≠ 0)) || (decide (lb ≠ 0) && decide (G2 (8 + v) ≠ 0))
theorem wk_moves {post : Int32 → Prop} {G2 : Nat → Nat} {v lb : Nat} (hl : lb < 3) (hv : v < 8) (h2 : wk_G a2 G2) (H : post (wk_b (wk_mv G2 v lb))) :
    wpX_moves post (e, z, t, k, a1, a2, a3, a4, a5, a6, a7, a8) (nI v) (nI lb) := by
  have i2 := h2 v (by omega)
  have j2 := h2 (8 + v) (by omega)
  have e8 : (8 : Int32) + nI v = nI (8 + v) := nI_add 8 v
  have e2 : a2 (nI v).toNatClampNeg = nI (G2 v) := by rw [nI_clamp (by omega)]; exact i2.1
  have f2 : a2 (8 + nI v).toNatClampNeg = nI (G2 (8 + v)) := by rw [e8, nI_clamp (by omega)]; exact j2.1
  have b2 := i2.2
  have c2 := j2.2
  have m18 : (lb = 1 ∨ G2 v = 0) → wX_moves_18 post (nI v) (nI lb) e z t k a1 a2 a3 a4 a5 a6 a7 a8 := by
    intro q
    have qf : (decide (lb ≠ 1) && decide (G2 v ≠ 0)) = false := by
      rcases q with q | q <;> simp [q]
    unfold wk_mv at H
    rw [qf, Bool.false_or] at H
    refine br_t (rfl : (0 : Int32) = 0) (pk_eq lb 0 (fun q0 => ?_) (fun q0 => ⟨pk_in (8 + v) 16 (by omega) e8, ?_⟩))
    · rw [wk_bF (by simp [q0])] at H
      exact H
    · rw [f2]
      refine pk_eq (G2 (8 + v)) 0 (fun q1 => ?_) (fun q1 => ?_)
      · rw [wk_bF (by simp [q1])] at H
        exact H
      · rw [wk_bT (by simp [q0, q1])] at H
        exact H
  refine pk_eq lb 1 (fun q => m18 (Or.inl q)) (fun q => ⟨pk_in v 16 (by omega), ?_⟩)
  rw [e2]
  refine pk_eq (G2 v) 0 (fun q1 => m18 (Or.inr q1)) (fun q1 => br_f (by decide) ?_)
  unfold wk_mv at H
  rw [wk_bT (by simp [q, q1])] at H
  exact H
end
end
section
section
variable {e z t k : Int32} {a1 a2 a3 a4 a5 a6 a7 a8 : Nat → Int32}
/-- the labels that fit -/
def wk_ft (lb l : Nat) : Int32 := if lb = 2 ∨ lb = l then 1 else 0
/-- how often a move leads from v to w -/
def wk_C (G2 G3 : Nat → Nat) (kd lb v w : Nat) : Int32 := wk_s (fun l => wk_ft lb l * wk_c G2 G3 kd v l w) 2 + (if kd = 3 ∧ wk_mv G2 v lb = false ∧ w = v then 1 else 0)
/-- the picture behind a move -/
def wk_MV (G2 G3 : Nat → Nat) (kd lb : Nat) (M : Nat → Nat → Int32) (w s : Nat) : Int32 := wk_s (fun v => wk_C G2 G3 kd lb v w * M v s) 8
/-- move: the labels of one vertex -/
theorem wk_mv44 {post : St2 → Prop} {J : Int32 → Int32 → Int32 → Int32 → Int32 → (Nat → Int32) → (Nat → Int32) → (Nat → Int32) → (Nat → Int32) → (Nat → Int32) → (Nat → Int32) → (Nat → Int32) → (Nat → Int32) → Prop} {G2 G3 : Nat → Nat} {kd lb v : Nat} (hk : kd < 4) (hl : lb < 3) (hv : v < 8) (h2 : wk_G a2 G2) (h3 : wk_G a3 G3)
    (H : ∀ h : Nat → Int32, (∀ w s, w < 8 → s < 8 → h (w * 8 + s) = a6 (w * 8 + s) + wk_C G2 G3 kd lb v w * a7 (v * 8 + s)) → J (nI (v + 1)) e z t k a1 a2 a3 a4 a5 h a7 a8) :
    ∃ n, wX_move_44 post J (nI kd) (nI lb) (nI v) n 0 e z t k a1 a2 a3 a4 a5 a6 a7 a8 := by
  refine pk_loop (σ := Nat → Int32) (fun n i h => wX_move_44 post J (nI kd) (nI lb) (nI v) n (nI i) e z t k a1 a2 a3 a4 a5 h a7 a8)
    (fun i h => ∀ w s, w < 8 → s < 8 → h (w * 8 + s) = a6 (w * 8 + s) + wk_s (fun l => wk_ft lb l * wk_c G2 G3 kd v l w) i * a7 (v * 8 + s)) 2 0 a6 (by omega) ?_ ?_ ?_
  · intro w s h1 h2
    show _ = _ + 0 * _
    rw [Int32.zero_mul, Int32.add_zero]
  · intro n h hh
    unfold wk_C at H
    refine pk_le 2 2 (fun _ => pk_eq kd 3 (fun q => ?_) (fun q => ?_)) (fun z => absurd z (by omega))
    · refine wk_moves hl hv h2 ?_
      by_cases qm : wk_mv G2 v lb = false
      · refine br_t (wk_bF qm) (wk_carry hv hv (fun h' hh' => nm_r (nI_1 v) (H h' (fun w s hw hs => ?_))))
        rw [hh' w s hw hs, hh w s hw hs]
        by_cases qw : w = v
        · rw [if_pos qw, if_pos ⟨q, qm, qw⟩]
          grind
        · rw [if_neg qw, if_neg (fun z => qw z.2.2), Int32.add_zero, Int32.add_zero]
      · have qt : wk_mv G2 v lb = true := by simpa using qm
        refine br_f (by rw [wk_bT qt]; decide) (nm_r (nI_1 v) (H h (fun w s hw hs => ?_)))
        rw [hh w s hw hs, if_neg (fun z => qm z.2.1), Int32.add_zero]
    · refine nm_r (nI_1 v) (H h (fun w s hw hs => ?_))
      rw [hh w s hw hs, if_neg (fun z => q z.1), Int32.add_zero]
  · intro n i h hi hh hn
    have go : wk_ft lb i = 1 → wX_move_61 post J (wX_move_44 post J (nI kd) (nI lb) (nI v) n) (nI kd) (nI lb) (nI v) (nI i) e z t k a1 a2 a3 a4 a5 h a7 a8 := by
      intro q
      refine wk_spread hk hv hi h2 h3 (fun h' hh' => nm_r (nI_1 i) (hn h' (fun w s hw hs => ?_)))
      rw [hh' w s hw hs, hh w s hw hs]
      show _ = _ + (wk_s (fun l => wk_ft lb l * wk_c G2 G3 kd v l w) i + wk_ft lb i * wk_c G2 G3 kd v i w) * _
      rw [q]
      grind
    refine pk_le 2 i (fun z => absurd z (by omega)) (fun _ => pk_eq lb 2 (fun q => go (if_pos (Or.inl q))) (fun q => pk_eq lb i (fun q2 => go (if_pos (Or.inr q2))) (fun q2 => nm_r (nI_1 i) (hn h (fun w s hw hs => ?_)))))
    have qf : wk_ft lb i = 0 := if_neg (by omega)
    rw [hh w s hw hs]
    show _ = _ + (wk_s (fun l => wk_ft lb l * wk_c G2 G3 kd v l w) i + wk_ft lb i * wk_c G2 G3 kd v i w) * _
    rw [qf, Int32.zero_mul, Int32.add_zero]
/-- move -/
theorem wk_move {post : St2 → Prop} {G2 G3 : Nat → Nat} {kd lb : Nat} {M : Nat → Nat → Int32} (hk : kd < 4) (hl : lb < 3) (h2 : wk_G a2 G2) (h3 : wk_G a3 G3) (hM : wk_h a6 M)
    (H : ∀ h b : Nat → Int32, wk_h h (wk_MV G2 G3 kd lb M) → post (e, z, t, k, a1, a2, a3, a4, a5, h, b, a8)) :
    wpX_move post (e, z, t, k, a1, a2, a3, a4, a5, a6, a7, a8) (nI kd) (nI lb) := by
  refine pk_loop (σ := (Nat → Int32) × (Nat → Int32)) (fun n i s => wX_move_2 post (nI kd) (nI lb) e z t k n (nI i) a1 a2 a3 a4 a5 s.1 s.2 a8)
    (fun i s => ∀ j, j < 64 → (s.1 j = if j < i then 0 else a6 j) ∧ (j < i → s.2 j = a6 j)) 64 0 (a6, a7) (by omega) ?_ ?_ ?_
  · intro j hj
    exact ⟨(if_neg (by omega)).symm, fun z => absurd z (by omega)⟩
  · intro n s hs
    refine pk_le 64 64 (fun _ => ?_) (fun z => absurd z (by omega))
    refine pk_loop (σ := Nat → Int32) (fun n i h => wX_move_35 post (nI kd) (nI lb) n (nI i) e z t k a1 a2 a3 a4 a5 h s.2 a8)
      (fun i h => ∀ w c, w < 8 → c < 8 → h (w * 8 + c) = wk_s (fun v => wk_C G2 G3 kd lb v w * M v c) i) 8 0 s.1 (by omega) ?_ ?_ ?_
    · intro w c hw hc
      rw [(hs (w * 8 + c) (by omega)).1, if_pos (by omega)]
      rfl
    · intro n h hh
      exact pk_le 8 8 (fun _ => H h s.2 hh) (fun z => absurd z (by omega))
    · intro n i h hi hh hn
      refine pk_le 8 i (fun z => absurd z (by omega)) (fun _ => wk_mv44 hk hl hi h2 h3 (fun h' hh' => hn h' (fun w c hw hc => ?_)))
      rw [hh' w c hw hc, hh w c hw hc, (hs (i * 8 + c) (by omega)).2 (by omega), hM i c hi hc]
      rfl
  · intro n i s hi hs hn
    refine pk_le 64 i (fun z => absurd z (by omega)) (fun _ => ⟨pk_in i 64 hi, pk_in i 64 hi, nm_e ⟨pk_in i 64 hi, nm_e (nm_r (nI_1 i) (hn (upd s.1 (nI i).toNatClampNeg 0, upd s.2 (nI i).toNatClampNeg (s.1 (nI i).toNatClampNeg)) (fun j hj => ?_)))⟩⟩)
    rw [nI_clamp (by omega)]
    dsimp only
    by_cases q : j = i
    · rw [q, pk_us, pk_us, if_pos (by omega), (hs i hi).1, if_neg (by omega)]
      exact ⟨rfl, fun _ => rfl⟩
    · rw [pk_un q, pk_un q]
      refine ⟨?_, fun z => (hs j hj).2 (by omega)⟩
      rw [(hs j hj).1]
      by_cases q2 : j < i
      · rw [if_pos q2, if_pos (by omega)]
      · rw [if_neg q2, if_neg (by omega)]
/-- the picture behind a filter by number -/
def wk_HS (N : Nat → Nat) (n : Nat) (M : Nat → Nat → Int32) (w s : Nat) : Int32 := if N w < n then 0 else M w s
theorem wk_filter {post : St2 → Prop} {N : Nat → Nat} {n : Nat} {M : Nat → Nat → Int32} (hn : n < 128) (hN : ∀ v, v < 8 → a1 v = nI (N v) ∧ N v < 128) (hM : wk_h a6 M)
    (H : ∀ h : Nat → Int32, wk_h h (wk_HS N n M) → post (e, z, t, k, a1, a2, a3, a4, a5, h, a7, a8)) :
    wpX_filter post (e, z, t, k, a1, a2, a3, a4, a5, a6, a7, a8) (nI 4) (nI n) := by
  refine pk_loop (σ := Nat → Int32) (fun f i h => wX_filter_2 post (nI 4) (nI n) e z t k f (nI i) a1 a2 a3 a4 a5 h a7 a8)
    (fun i h => ∀ j, j < 64 → h j = if j < i ∧ N (j / 8) < n then 0 else a6 j) 64 0 a6 (by omega) ?_ ?_ ?_
  · intro j hj
    rw [if_neg (by omega)]
  · intro f h hh
    refine pk_le 64 64 (fun _ => H h (fun w s hw hs => ?_)) (fun z => absurd z (by omega))
    rw [hh (w * 8 + s) (by omega), show (w * 8 + s) / 8 = w by omega, hM w s hw hs]
    unfold wk_HS
    by_cases q : N w < n
    · rw [if_pos q, if_pos ⟨by omega, q⟩]
    · rw [if_neg q, if_neg (fun z => q z.2)]
  · intro f i h hi hh hw
    have hq := hN (i / 8) (by omega)
    have hq2 := hq.2
    have e1 : a1 (nI (i / 8)).toNatClampNeg = nI (N (i / 8)) := by rw [nI_clamp (by omega)]; exact hq.1
    refine pk_le 64 i (fun z => absurd z (by omega)) (fun _ => ⟨by decide, nm_r (wk_dv (by omega)) ⟨by decide, nm_r (wk_rm (by omega)) (br_t rfl ⟨pk_in (i / 8) 8 (by omega), ?_⟩)⟩⟩)
    rw [e1]
    refine pk_lt (N (i / 8)) n (fun q => br_t rfl ⟨pk_in i 64 hi, nm_e (nm_r (nI_1 i) (hw _ (fun j hj => ?_)))⟩) (fun q => br_f (by decide) (nm_r (nI_1 i) (hw h (fun j hj => ?_))))
    · rw [nI_clamp (by omega)]
      by_cases qj : j = i
      · rw [qj, pk_us, if_pos ⟨by omega, q⟩]
      · rw [pk_un qj, hh j hj]
        by_cases q2 : j < i ∧ N (j / 8) < n
        · rw [if_pos q2, if_pos ⟨by omega, q2.2⟩]
        · rw [if_neg q2, if_neg (fun z => q2 ⟨by have := z.1; omega, z.2⟩)]
    · rw [hh j hj]
      by_cases q2 : j < i ∧ N (j / 8) < n
      · rw [if_pos q2, if_pos ⟨by omega, q2.2⟩]
      · rw [if_neg q2]
        by_cases qj : j = i
        · rw [if_neg (fun z => absurd z.2 (by rw [qj]; omega))]
        · rw [if_neg (fun z => q2 ⟨by have := z.1; omega, z.2⟩)]
/-- something found below s -/
def wk_f (r : Nat → Int32) : Nat → Bool
  | 0 => false
  | s + 1 => wk_f r s || !decide (r s ≤ 0)
/-- the picture behind keepOne -/
def wk_ON (M : Nat → Nat → Int32) (w s : Nat) : Int32 := wk_b (!wk_f (M w) s && !decide (M w s ≤ 0))
theorem wk_one41 {post : St2 → Prop} {J2 : Int32 → (Nat → Int32) → (Nat → Int32) → (Nat → Int32) → (Nat → Int32) → (Nat → Int32) → (Nat → Int32) → (Nat → Int32) → (Nat → Int32) → Prop} {J12 : Int32 → Int32 → (Nat → Int32) → (Nat → Int32) → (Nat → Int32) → (Nat → Int32) → (Nat → Int32) → (Nat → Int32) → (Nat → Int32) → (Nat → Int32) → Prop} {v i : Nat} {x y : Bool} (hv : v < 8) (hi : i < 8)
    (H : J12 (wk_b (x || y)) (nI (i + 1)) a1 a2 a3 a4 a5 (upd a6 (v * 8 + i) (wk_b y)) a7 a8) :
    wX_keepOne_41 post J2 J12 (nI v) (wk_b x) (nI i) (wk_b y) e z t k a1 a2 a3 a4 a5 a6 a7 a8 := by
  have ho : wk_b x ||| wk_b y = wk_b (x || y) := by cases x <;> cases y <;> decide
  have hin : vp_in (nI v * 8 + nI i) 64 := wk_ixi (by omega) (by omega)
  unfold wX_keepOne_41
  rw [wk_ixc hv hi, ho]
  cases y with
  | false => exact br_t rfl ⟨hin, nm_e (nm_e (nm_r (nI_1 i) H))⟩
  | true => exact br_f (by decide) ⟨hin, nm_e (nm_e (nm_r (nI_1 i) H))⟩
theorem wk_one {post : St2 → Prop} {M : Nat → Nat → Int32} (hM : wk_h a6 M)
    (H : ∀ h : Nat → Int32, wk_h h (wk_ON M) → post (e, z, t, k, a1, a2, a3, a4, a5, h, a7, a8)) :
    wpX_keepOne post (e, z, t, k, a1, a2, a3, a4, a5, a6, a7, a8) := by
  refine pk_loop (σ := Nat → Int32) (fun n v h => wX_keepOne_2 post e z t k n (nI v) a1 a2 a3 a4 a5 h a7 a8)
    (fun v h => ∀ w s, w < 8 → s < 8 → h (w * 8 + s) = if w < v then wk_ON M w s else M w s) 8 0 a6 (by omega) ?_ ?_ ?_
  · intro w s hw hs
    rw [if_neg (by omega)]
    exact hM w s hw hs
  · intro n h hh
    refine pk_le 8 8 (fun _ => H h (fun w s hw hs => ?_)) (fun z => absurd z (by omega))
    rw [hh w s hw hs, if_pos hw]
  · intro n v h hv hh hn
    refine pk_le 8 v (fun z => absurd z (by omega)) (fun _ => ?_)
    refine pk_loop (σ := Int32 × (Nat → Int32)) (fun f i s => wX_keepOne_12 post (wX_keepOne_2 post e z t k n) (nI v) e z t k f s.1 (nI i) a1 a2 a3 a4 a5 s.2 a7 a8)
      (fun i s => s.1 = wk_b (wk_f (M v) i) ∧ ∀ w c, w < 8 → c < 8 → s.2 (w * 8 + c) = if w < v ∨ (w = v ∧ c < i) then wk_ON M w c else M w c) 8 0 (0, h) (by omega) ?_ ?_ ?_
    · refine ⟨rfl, fun w c hw hc => ?_⟩
      show h (w * 8 + c) = _
      rw [hh w c hw hc]
      by_cases q : w < v
      · rw [if_pos q, if_pos (Or.inl q)]
      · rw [if_neg q, if_neg (by omega)]
    · intro f s hs
      refine pk_le 8 8 (fun _ => nm_r (nI_1 v) (hn s.2 (fun w c hw hc => ?_))) (fun z => absurd z (by omega))
      rw [hs.2 w c hw hc]
      by_cases q : w < v + 1
      · rw [if_pos q, if_pos (by omega)]
      · rw [if_neg q, if_neg (by omega)]
    · intro f i s hi hs hw
      obtain ⟨x2, g⟩ := s
      obtain ⟨hx, hg⟩ := hs
      dsimp only at hx hg
      have hc : g (v * 8 + i) = M v i := by rw [hg v i hv hi, if_neg (by omega)]
      have hin : vp_in (nI v * 8 + nI i) 64 := wk_ixi (by omega) (by omega)
      have go : ∀ y : Bool, y = (!wk_f (M v) i && !decide (M v i ≤ 0)) → wX_keepOne_41 post (wX_keepOne_2 post e z t k n) (wX_keepOne_12 post (wX_keepOne_2 post e z t k n) (nI v) e z t k f) (nI v) (wk_b (wk_f (M v) i)) (nI i) (wk_b y) e z t k a1 a2 a3 a4 a5 g a7 a8 := by
        intro y hy
        refine wk_one41 hv hi (hw (_, _) ⟨?_, fun w c hw1 hc1 => ?_⟩)
        · show wk_b (wk_f (M v) i || y) = wk_b (wk_f (M v) i || !decide (M v i ≤ 0))
          rw [hy]
          cases wk_f (M v) i <;> rfl
        · show upd g (v * 8 + i) (wk_b y) (w * 8 + c) = _
          rw [wk_up hi hc1]
          by_cases q : w = v ∧ c = i
          · rw [if_pos q, if_pos (by omega), hy, q.1, q.2]
            rfl
          · rw [if_neg q, hg w c hw1 hc1]
            by_cases q2 : w < v ∨ (w = v ∧ c < i)
            · rw [if_pos q2, if_pos (by omega)]
            · rw [if_neg q2, if_neg (by omega)]
      subst hx
      refine pk_le 8 i (fun z => absurd z (by omega)) (fun _ => ?_)
      cases qf : wk_f (M v) i with
      | false =>
        rw [qf] at go
        refine br_t rfl ⟨hin, ?_⟩
        dsimp only
        rw [wk_ixc hv hi, hc]
        exact br_c (fun q => go false (by simp [q])) (fun q => go true (by simp [q]))
      | true =>
        rw [qf] at go
        exact br_f (show ¬ wk_b true = 0 by decide) (go false (by simp))
end
end
section
section
variable {e z t k : Int32} {a1 a2 a3 a4 a5 a6 a7 a8 : Nat → Int32}
/-- the picture at the start -/
def wk_M0 (c : Nat) (w s : Nat) : Int32 := wk_b (decide (w = s) && c.testBit s)
/-- one step of a plan -/
def wk_st (N G2 G3 : Nat → Nat) (kd lb : Nat) (M : Nat → Nat → Int32) : Nat → Nat → Int32 := if kd < 4 then wk_MV G2 G3 kd lb M else if kd = 7 then wk_ON M else wk_HS N lb M
/-- walk: one turn of its loop -/
theorem wk_step {post : St2 → Prop} {N G2 G3 : Nat → Nat} {kd lb p c n : Nat} {M : Nat → Nat → Int32} (hp : p < c) (hc : c ≤ 6) (h4 : a4 p = nI kd) (h5 : a5 p = nI lb) (hk : (kd < 4 ∧ lb < 3) ∨ kd = 7 ∨ (kd = 4 ∧ lb < 128))
    (h1 : ∀ v, v < 8 → a1 v = nI (N v) ∧ N v < 128) (h2 : wk_G a2 G2) (h3 : wk_G a3 G3) (hM : wk_h a6 M)
    (H : ∀ h b : Nat → Int32, wk_h h (wk_st N G2 G3 kd lb M) → wX_walk_85 post n (nI (p + 1)) e (nI c) t k a1 a2 a3 a4 a5 h b (upd a8 (p + 1) (wk_tot (wk_st N G2 G3 kd lb M)))) :
    wX_walk_85 post (n + 1) (nI p) e (nI c) t k a1 a2 a3 a4 a5 a6 a7 a8 := by
  have go : ∀ h b : Nat → Int32, wk_h h (wk_st N G2 G3 kd lb M) → wX_walk_156 post (wX_walk_85 post n) (nI p) e (nI c) t k a1 a2 a3 a4 a5 h b a8 := by
    intro h b hh
    refine wk_total hh ?_
    have e1 : nI p + 1 = nI (p + 1) := nI_1 p
    refine ⟨pk_in (p + 1) 7 (by omega) e1, nm_e (nm_r e1 ?_)⟩
    rw [e1, nI_clamp (by omega)]
    exact H h b hh
  have e4 : a4 (nI p).toNatClampNeg = nI kd := by rw [nI_clamp (by omega)]; exact h4
  have e5 : a5 (nI p).toNatClampNeg = nI lb := by rw [nI_clamp (by omega)]; exact h5
  have hin : vp_in (nI p) 6 := pk_in p 6 (by omega)
  unfold wX_walk_85
  rw [e4, e5]
  unfold wk_st at go
  refine pk_le c p (fun z => absurd z (by omega)) (fun _ => ⟨hin, pk_lt 3 kd (fun q => ⟨hin, pk_eq kd 7 (fun q7 => ?_) (fun q7 => ⟨hin, hin, ?_⟩)⟩) (fun q => ⟨hin, hin, ?_⟩)⟩)
  · rw [if_neg (by omega), if_pos q7] at go
    exact wk_one hM (fun h hh => go h _ hh)
  · have q4 : kd = 4 := by omega
    rw [if_neg (by omega), if_neg q7] at go
    subst q4
    exact wk_filter (by omega) h1 hM (fun h hh => go h _ hh)
  · rw [if_pos (by omega)] at go
    exact wk_move (by omega) (by omega) h2 h3 hM (fun h b hh => go h b hh)
/-- walk: the first picture -/
theorem wk_walk0 {post : St2 → Prop} {c : Nat} (hc : c < 256)
    (H : ∀ h : Nat → Int32, wk_h h (wk_M0 c) → ∃ n, wX_walk_85 post n 0 e z (nI c) 1 a1 a2 a3 a4 a5 h a7 (upd a8 0 (wk_tot (wk_M0 c)))) :
    wpX_walk post (e, z, nI c, 0, a1, a2, a3, a4, a5, a6, a7, a8) := by
  refine br_t rfl ?_
  refine pk_loop (σ := Nat → Int32) (fun n i h => wX_walk_15 post e z (nI c) 1 n (nI i) a1 a2 a3 a4 a5 h a7 a8)
    (fun i h => ∀ j, j < i → h j = wk_M0 c (j / 8) (j % 8)) 64 0 a6 (by omega) (fun j hj => absurd hj (by omega)) ?_ ?_
  · intro n h hh
    have hM : wk_h h (wk_M0 c) := by
      intro w s hw hs
      rw [hh (w * 8 + s) (by omega), show (w * 8 + s) / 8 = w by omega, show (w * 8 + s) % 8 = s by omega]
    exact pk_le 64 64 (fun _ => wk_total hM (nm_e (H h hM))) (fun z => absurd z (by omega))
  · intro n i h hi hh hn
    have go : ∀ y : Bool, wk_b y = wk_M0 c (i / 8) (i % 8) → wX_walk_51 post (wX_walk_15 post e z (nI c) 1 n) (nI i) (wk_b y) e z (nI c) 1 a1 a2 a3 a4 a5 h a7 a8 := by
      intro y hy
      have fin : ∀ j, j < i + 1 → upd h (nI i).toNatClampNeg (wk_b y) j = wk_M0 c (j / 8) (j % 8) := by
        intro j hj
        rw [nI_clamp (by omega)]
        by_cases q : j = i
        · rw [q, pk_us, hy]
        · rw [pk_un q, hh j (by omega)]
      cases y with
      | false => exact br_t rfl ⟨pk_in i 64 hi, nm_e (nm_r (nI_1 i) (hn _ fin))⟩
      | true => exact br_f (by decide) ⟨pk_in i 64 hi, nm_e (nm_r (nI_1 i) (hn _ fin))⟩
    refine pk_le 64 i (fun z => absurd z (by omega)) (fun _ => ⟨by decide, by decide, ?_⟩)
    rw [wk_rm (by omega), wk_dv (by omega)]
    refine pk_eq (i / 8) (i % 8) (fun q => ⟨by decide, ?_⟩) (fun q => ?_)
    · refine wk_q0 (by omega) (by omega) (fun hb => go false ?_) (fun hb => go true ?_)
      · unfold wk_M0
        rw [hb, Bool.and_false]
      · unfold wk_M0
        rw [hb, Bool.and_true, decide_eq_true q]
    · refine go false ?_
      unfold wk_M0
      rw [decide_eq_false q, Bool.false_and]
/-- from the state u a walk leads to the picture M and the totals Ts -/
def wk_W (u : St2) (e : Int32) (n c : Nat) (a1 a2 a3 a4 a5 : Nat → Int32) (M : Nat → Nat → Int32) (Ts : Nat → Int32) : Prop :=
  ∀ P : St2 → Prop, (∀ h b T : Nat → Int32, wk_h h M → (∀ k, k ≤ n → T k = Ts k) → P (e, nI n, nI c, 1, a1, a2, a3, a4, a5, h, b, T)) → wpX_walk P u
/-- where it is known, it stands -/
theorem wk_Wk {n c : Nat} {M : Nat → Nat → Int32} {Ts h b T : Nat → Int32} (hh : wk_h h M) (hT : ∀ k, k ≤ n → T k = Ts k) : wk_W (e, nI n, nI c, 1, a1, a2, a3, a4, a5, h, b, T) e n c a1 a2 a3 a4 a5 M Ts :=
  fun P H => br_f (by decide) (H h b T hh hT)
/-- a plan of one step -/
theorem wk_W1 {N G2 G3 : Nat → Nat} {kd lb c : Nat} (hc : c < 256) (h4 : a4 0 = nI kd) (h5 : a5 0 = nI lb) (hk : (kd < 4 ∧ lb < 3) ∨ kd = 7 ∨ (kd = 4 ∧ lb < 128))
    (h1 : ∀ v, v < 8 → a1 v = nI (N v) ∧ N v < 128) (h2 : wk_G a2 G2) (h3 : wk_G a3 G3) :
    wk_W (e, nI 1, nI c, 0, a1, a2, a3, a4, a5, a6, a7, a8) e 1 c a1 a2 a3 a4 a5 (wk_st N G2 G3 kd lb (wk_M0 c)) (fun p => if p = 0 then wk_tot (wk_M0 c) else wk_tot (wk_st N G2 G3 kd lb (wk_M0 c))) := by
  intro P H
  refine wk_walk0 hc (fun h hh => ⟨2, wk_step (p := 0) (c := 1) (by omega) (by omega) h4 h5 hk h1 h2 h3 hh (fun h' b hh' => ?_)⟩)
  refine pk_le 1 1 (fun _ => H h' b _ hh' (fun p hp => ?_)) (fun z => absurd z (by omega))
  dsimp only
  by_cases q : p = 0
  · rw [if_pos q, q, pk_un (by omega), pk_us]
  · have q1 : p = 1 := by omega
    rw [if_neg q, q1]
    exact pk_us
/-- a plan of two steps -/
theorem wk_W2 {N G2 G3 : Nat → Nat} {kd lb kd' lb' c : Nat} (hc : c < 256) (h4 : a4 0 = nI kd) (h5 : a5 0 = nI lb) (hk : (kd < 4 ∧ lb < 3) ∨ kd = 7 ∨ (kd = 4 ∧ lb < 128))
    (h4' : a4 1 = nI kd') (h5' : a5 1 = nI lb') (hk' : (kd' < 4 ∧ lb' < 3) ∨ kd' = 7 ∨ (kd' = 4 ∧ lb' < 128))
    (h1 : ∀ v, v < 8 → a1 v = nI (N v) ∧ N v < 128) (h2 : wk_G a2 G2) (h3 : wk_G a3 G3) :
    wk_W (e, nI 2, nI c, 0, a1, a2, a3, a4, a5, a6, a7, a8) e 2 c a1 a2 a3 a4 a5 (wk_st N G2 G3 kd' lb' (wk_st N G2 G3 kd lb (wk_M0 c)))
      (fun p => if p = 0 then wk_tot (wk_M0 c) else if p = 1 then wk_tot (wk_st N G2 G3 kd lb (wk_M0 c)) else wk_tot (wk_st N G2 G3 kd' lb' (wk_st N G2 G3 kd lb (wk_M0 c)))) := by
  intro P H
  refine wk_walk0 hc (fun h hh => ⟨3, wk_step (p := 0) (c := 2) (by omega) (by omega) h4 h5 hk h1 h2 h3 hh (fun h' b hh' => ?_)⟩)
  refine wk_step (p := 1) (c := 2) (by omega) (by omega) h4' h5' hk' h1 h2 h3 hh' (fun h'' b' hh'' => ?_)
  refine pk_le 2 2 (fun _ => H h'' b' _ hh'' (fun p hp => ?_)) (fun z => absurd z (by omega))
  dsimp only
  by_cases q : p = 0
  · rw [if_pos q, q, pk_un (by omega), pk_un (by omega), pk_us]
  · rw [if_neg q]
    by_cases q1 : p = 1
    · rw [if_pos q1, q1, pk_un (by omega)]
      exact pk_us
    · have q2 : p = 2 := by omega
      rw [if_neg q1, q2]
      exact pk_us
end
section
variable {u : St2} {e : Int32} {n c : Nat} {a1 a2 a3 a4 a5 : Nat → Int32} {M : Nat → Nat → Int32} {Ts : Nat → Int32} {post : Int32 → St2 → Prop}
theorem wk_isV {post : Int32 → Prop} {v : Nat} (hv : v < 8) (H : post 1) : wpX_isVertex post () (nI v) :=
  br_f (nI_pos (by omega)) (br_f (nI_ge (b := 8) hv (by omega)) H)
theorem wk_walkers (hu : wk_W u e n c a1 a2 a3 a4 a5 M Ts) (hn : n < 7)
    (H : ∀ h b T : Nat → Int32, wk_h h M → (∀ k, k ≤ n → T k = Ts k) → post (Ts n) (e, nI n, nI c, 1, a1, a2, a3, a4, a5, h, b, T)) : wpX_walkers post u := by
  obtain ⟨e0, z0, t0, k0, b1, b2, b3, b4, b5, b6, b7, b8⟩ := u
  refine hu _ (fun h b T hh hT => ⟨pk_in n 7 hn, ?_⟩)
  rw [nI_clamp (by omega), hT n (Nat.le_refl n)]
  exact H h b T hh hT
theorem wk_after {p : Nat} (hu : wk_W u e n c a1 a2 a3 a4 a5 M Ts) (hn : n < 7) (hp : p ≤ n) (hz : u.2.1 = nI n)
    (H : ∀ h b T : Nat → Int32, wk_h h M → (∀ k, k ≤ n → T k = Ts k) → post (Ts p) (e, nI n, nI c, 1, a1, a2, a3, a4, a5, h, b, T)) : wpX_after post u (nI p) := by
  obtain ⟨e0, z0, t0, k0, b1, b2, b3, b4, b5, b6, b7, b8⟩ := u
  have hz' : z0 = nI n := hz
  refine br_f (nI_pos (by omega)) (br_t (by rw [hz']; exact nI_le hp (by omega)) (hu _ (fun h b T hh hT => ⟨pk_in p 7 (by omega), ?_⟩)))
  rw [nI_clamp (by omega), hT p hp]
  exact H h b T hh hT
theorem wk_at {v : Nat} (hu : wk_W u e n c a1 a2 a3 a4 a5 M Ts) (hv : v < 8)
    (H : ∀ h b T : Nat → Int32, wk_h h M → (∀ k, k ≤ n → T k = Ts k) → post (wk_s (M v) 8) (e, nI n, nI c, 1, a1, a2, a3, a4, a5, h, b, T)) : wpX_at post u (nI v) := by
  obtain ⟨e0, z0, t0, k0, b1, b2, b3, b4, b5, b6, b7, b8⟩ := u
  unfold wpX_at
  refine wk_isV hv ?_
  refine br_f (by decide) ?_
  refine hu _ (fun h b T hh hT => ?_)
  refine pk_loop (σ := Int32) (fun f i s => wX_at_17 post (nI v) e (nI n) (nI c) 1 a1 a2 a3 a4 a5 h b T f s (nI i)) (fun i s => s = wk_s (M v) i) 8 0 0 (by omega) rfl
    (fun f s hs => pk_le 8 8 (fun _ => hs ▸ H h b T hh hT) (fun z => absurd z (by omega)))
    (fun f i s hi hs hw => pk_le 8 i (fun z => absurd z (by omega)) (fun _ => ⟨wk_ixi (by omega) (by omega), nm_e (nm_r (nI_1 i) (hw _ ?_))⟩))
  rw [hs, wk_ixc hv hi, hh v i hv hi]
  rfl
theorem wk_between {s v : Nat} (hu : wk_W u e n c a1 a2 a3 a4 a5 M Ts) (hs : s < 8) (hv : v < 8)
    (H : ∀ h b T : Nat → Int32, wk_h h M → (∀ k, k ≤ n → T k = Ts k) → post (M v s) (e, nI n, nI c, 1, a1, a2, a3, a4, a5, h, b, T)) : wpX_between post u (nI s) (nI v) := by
  obtain ⟨e0, z0, t0, k0, b1, b2, b3, b4, b5, b6, b7, b8⟩ := u
  unfold wpX_between
  refine wk_isV hs ?_
  refine br_f (by decide) ?_
  refine wk_isV hv ?_
  refine br_f (by decide) ?_
  refine hu _ (fun h b T hh hT => ⟨wk_ixi (by omega) (by omega), ?_⟩)
  rw [wk_ixc hv hs, hh v s hv hs]
  exact H h b T hh hT
/-- the bits of a row's places that hold something -/
def wk_or (r : Nat → Int32) : Nat → Int32
  | 0 => 0
  | s + 1 => wk_or r s ||| (if r s ≤ 0 then 0 else ((1 : Int32) <<< (nI s &&& 31)))
theorem wk_startsAt {v : Nat} {h b T : Nat → Int32} (hh : wk_h h M) (hT : ∀ k, k ≤ n → T k = Ts k) (hv : v < 8)
    (H : ∀ h b T : Nat → Int32, wk_h h M → (∀ k, k ≤ n → T k = Ts k) → post (wk_or (M v) 8) (e, nI n, nI c, 1, a1, a2, a3, a4, a5, h, b, T)) : wpX_startsAt post (e, nI n, nI c, 1, a1, a2, a3, a4, a5, h, b, T) (nI v) := by
  refine pk_loop (σ := Int32 × (Nat → Int32) × (Nat → Int32) × (Nat → Int32)) (fun f i s => wX_startsAt_4 post (nI v) f s.1 (nI i) e (nI n) (nI c) 1 a1 a2 a3 a4 a5 s.2.1 s.2.2.1 s.2.2.2)
    (fun i s => s.1 = wk_or (M v) i ∧ wk_h s.2.1 M ∧ ∀ k, k ≤ n → s.2.2.2 k = Ts k) 8 0 (0, h, b, T) (by omega) ⟨rfl, hh, hT⟩ ?_ ?_
  · intro f s hs
    refine pk_le 8 8 (fun _ => ?_) (fun z => absurd z (by omega))
    rw [hs.1]
    exact H _ _ _ hs.2.1 hs.2.2
  · intro f i s hi hs hw
    obtain ⟨x, h', b', T'⟩ := s
    obtain ⟨hx, hh', hT'⟩ := hs
    dsimp only at hx hh' hT'
    refine pk_le 8 i (fun z => absurd z (by omega)) (fun _ => wk_between (wk_Wk hh' hT') hi hv (fun h2 b2 T2 hh2 hT2 => ?_))
    refine br_c (fun q => nm_e (nm_r (nI_1 i) (hw (_, h2, b2, T2) ⟨?_, hh2, hT2⟩))) (fun q => nm_e (nm_r (nI_1 i) (hw (_, h2, b2, T2) ⟨?_, hh2, hT2⟩)))
    · show x ||| 0 = wk_or (M v) i ||| (if M v i ≤ 0 then 0 else ((1 : Int32) <<< (nI i &&& 31)))
      rw [if_pos q, hx]
    · show x ||| ((1 : Int32) <<< (nI i &&& 31)) = wk_or (M v) i ||| (if M v i ≤ 0 then 0 else ((1 : Int32) <<< (nI i &&& 31)))
      rw [if_neg q, hx]
theorem wk_dies (hu : wk_W u e 2 c a1 a2 a3 a4 a5 M Ts)
    (H : ∀ h b T : Nat → Int32, wk_h h M → (∀ k, k ≤ 2 → T k = Ts k) → post (if Ts 0 = 0 then 0 else if Ts 1 = 0 then 1 else if Ts 2 = 0 then 2 else -1) (e, nI 2, nI c, 1, a1, a2, a3, a4, a5, h, b, T)) : wpX_diesAfter post u := by
  obtain ⟨e0, z0, t0, k0, b1, b2, b3, b4, b5, b6, b7, b8⟩ := u
  refine hu _ (fun h b T hh hT => ⟨4, ?_⟩)
  have H' := H h b T hh hT
  rw [← hT 0 (by omega), ← hT 1 (by omega), ← hT 2 (by omega)] at H'
  refine pk_lt 2 0 (fun z => absurd z (by omega)) (fun _ => ⟨pk_in 0 7 (by omega), br_c (fun q => ?_) (fun q => nm_r (nI_1 0) ?_)⟩)
  · have q' : T 0 = 0 := q
    rw [if_pos q'] at H'
    exact H'
  have q' : ¬ T 0 = 0 := q
  rw [if_neg q'] at H'
  refine pk_lt 2 1 (fun z => absurd z (by omega)) (fun _ => ⟨pk_in 1 7 (by omega), br_c (fun p => ?_) (fun p => nm_r (nI_1 1) ?_)⟩)
  · have p' : T 1 = 0 := p
    rw [if_pos p'] at H'
    exact H'
  have p' : ¬ T 1 = 0 := p
  rw [if_neg p'] at H'
  refine pk_lt 2 2 (fun z => absurd z (by omega)) (fun _ => ⟨pk_in 2 7 (by omega), br_c (fun r => ?_) (fun r => nm_r (nI_1 2) ?_)⟩)
  · have r' : T 2 = 0 := r
    rw [if_pos r'] at H'
    exact H'
  have r' : ¬ T 2 = 0 := r
  rw [if_neg r'] at H'
  exact pk_lt 2 3 (fun _ => H') (fun z => absurd z (by omega))
end
end
section
section
variable {e z t k : Int32} {a1 a2 a3 a4 a5 a6 a7 a8 : Nat → Int32} {post : Int32 → St2 → Prop}
theorem wk_from {c : Nat} (hc : c < 256) (H : post 1 (e, z, nI c, 0, a1, a2, a3, a4, a5, a6, a7, a8)) : wpX_from post (e, z, t, k, a1, a2, a3, a4, a5, a6, a7, a8) (nI c) :=
  br_f (nI_pos (by omega)) (br_t (nI_le (b := 255) (by omega) (by omega)) H)
theorem wk_i8 : ∀ n, n < 128 → (nI n).toInt8.toInt32 = nI n := by decide +kernel
theorem wk_add100 {x n : Nat} (hx : x < 128) (hn : n < 6) (H : ∀ b5 : Nat → Int32, b5 n = nI x → (∀ j, j ≠ n → b5 j = a5 j) → post (nI (n + 1)) (e, nI (n + 1), t, 0, a1, a2, a3, a4, b5, a6, a7, a8)) :
    wX_add_100 post (nI x) (nI n) e (nI n) t k a1 a2 a3 a4 a5 a6 a7 a8 := by
  refine ⟨pk_in n 6 hn, nm_e (nm_r (nI_1 n) (H _ ?_ ?_))⟩
  · rw [nI_clamp (by omega), pk_us, wk_i8 x hx]
  · intro j hj
    rw [nI_clamp (by omega), pk_un hj]
theorem wk_add {kd lb n : Nat} (hn : n < 6) (hk : (kd < 4 ∧ lb < 3) ∨ (kd = 7 ∧ lb < 128) ∨ (kd = 4 ∧ lb < 10))
    (H : ∀ b4 b5 : Nat → Int32, b4 n = nI kd → (∀ j, j ≠ n → b4 j = a4 j) → b5 n = nI (if kd = 7 then 0 else lb) → (∀ j, j ≠ n → b5 j = a5 j) → post (nI (n + 1)) (e, nI (n + 1), t, 0, a1, a2, a3, b4, b5, a6, a7, a8)) :
    wpX_add post (e, nI n, t, k, a1, a2, a3, a4, a5, a6, a7, a8) (nI kd) (nI lb) := by
  have g4 : ∀ b4 : Nat → Int32, b4 = upd a4 (nI n).toNatClampNeg (nI kd).toInt8.toInt32 → b4 n = nI kd ∧ ∀ j, j ≠ n → b4 j = a4 j := by
    intro b4 h4
    rw [h4, nI_clamp (by omega), wk_i8 kd (by omega)]
    exact ⟨pk_us, fun j hj => pk_un hj⟩
  have kp : ¬ nI kd < 0 := nI_pos (by omega)
  have k7 : ¬ (7 : Int32) < nI kd := nI_nlt (b := kd) (a := 7) (by omega) (by omega)
  have lp : ¬ nI lb < 0 := nI_pos (by omega)
  refine br_f kp (pk_lt 3 kd (fun q => ?_) (fun q => ?_))
  · refine br_f kp (br_f k7 (br_t rfl ?_))
    have g55 : wX_add_55 post (nI kd) (nI lb) 0 e (nI n) t k a1 a2 a3 a4 a5 a6 a7 a8 := by
      refine br_t (nI_lt (b := 6) hn (by omega)) ⟨pk_in n 6 hn, fun b4 h4 => br_t rfl (pk_eq kd 4 (fun q4 => ?_) (fun q4 => ?_))⟩
      · refine wk_add100 (x := lb) (by omega) hn (fun b5 h5 h5' => ?_)
        rw [if_neg (by omega)] at H
        exact H b4 b5 (g4 b4 h4).1 (g4 b4 h4).2 h5 h5'
      · refine wk_add100 (x := 0) (by omega) hn (fun b5 h5 h5' => ?_)
        rw [if_pos (by omega)] at H
        exact H b4 b5 (g4 b4 h4).1 (g4 b4 h4).2 h5 h5'
    exact pk_eq kd 4 (fun q4 => br_f lp (br_t (nI_le (b := 9) (by omega) (by omega)) g55)) (fun q4 => g55)
  · refine br_f kp (br_f k7 (br_f (by decide) (br_f lp (br_f (nI_nlt (b := lb) (a := 2) (by omega) (by omega)) ?_))))
    refine pk_eq kd 4 (fun q4 => absurd q4 (by omega)) (fun q4 => ?_)
    refine br_t (nI_lt (b := 6) hn (by omega)) ⟨pk_in n 6 hn, fun b4 h4 => br_f (by decide) ?_⟩
    refine wk_add100 (x := lb) (by omega) hn (fun b5 h5 h5' => ?_)
    rw [if_neg (by omega)] at H
    exact H b4 b5 (g4 b4 h4).1 (g4 b4 h4).2 h5 h5'
theorem wk_drop {n : Nat} (hn : n < 6) (H : post (nI n) (e, nI n, t, 0, a1, a2, a3, a4, a5, a6, a7, a8)) : wpX_drop post (e, nI (n + 1), t, k, a1, a2, a3, a4, a5, a6, a7, a8) :=
  br_f (nI_ne0 (by omega) (by omega)) (nm_r (nI_pred n) H)
theorem wk_mark {m n : Nat} (hm : m < 8) (hn : n < 10) (H : ∀ b1 : Nat → Int32, b1 m = nI n → (∀ j, j ≠ m → b1 j = a1 j) → post 1 (e, z, t, 0, b1, a2, a3, a4, a5, a6, a7, a8)) : wpX_mark post (e, z, t, k, a1, a2, a3, a4, a5, a6, a7, a8) (nI m) (nI n) := by
  unfold wpX_mark
  refine wk_isV hm ?_
  refine br_f (by decide) (br_f (nI_pos (by omega)) (br_t (nI_le (b := 9) (by omega) (by omega)) ⟨pk_in m 8 hm, nm_e (H _ ?_ ?_)⟩))
  · rw [nI_clamp (by omega), pk_us, wk_i8 n (by omega)]
  · intro j hj
    rw [nI_clamp (by omega), pk_un hj]
/-- the ends below i of the edges with label l that begin at 0 -/
def wk_e (a l i : Nat) : Nat := (a &&& (if l = 0 then 84 else 170)) % 2 ^ i
/-- the ends and the beginnings -/
def wk_g2 (a i j : Nat) : Nat := if j = 0 then wk_e a 0 i else if j = 8 then wk_e a 1 i else 0
def wk_g3 (a i j : Nat) : Nat := if j % 8 < i ∧ a.testBit (j % 8) = true ∧ (j % 8) % 2 = j / 8 then 1 else 0
/-- how many bits below i -/
def wk_n (a : Nat) : Nat → Nat
  | 0 => 0
  | i + 1 => wk_n a i + (if a.testBit i = true then 1 else 0)
theorem wk_n_le (a i : Nat) : wk_n a i ≤ i := by
  induction i with
  | zero => exact Nat.le_refl 0
  | succ i ih =>
    show wk_n a i + _ ≤ i + 1
    split <;> omega
theorem wk_e_lt (a l : Nat) {i : Nat} (hi : i < 9) : wk_e a l i < 256 :=
  Nat.lt_of_lt_of_le (Nat.mod_lt _ (Nat.pow_pos (by omega))) (Nat.pow_le_pow_right (n := 2) (by omega) (show i ≤ 8 by omega))
theorem wk_xor : ∀ v, v < 8 → ∀ x, x < 2 ^ v → (nI x ^^^ ((1 : Int32) <<< (nI v &&& 31))).toInt16.toInt32 = nI (x + 2 ^ v) := by decide +kernel
theorem wk_xor0 : ((0 : Int32) ^^^ ((1 : Int32) <<< ((0 : Int32) &&& 31))).toInt16.toInt32 = 1 := by decide +kernel
theorem wk_e_up : ∀ a, a < 256 → ∀ v, v < 8 → 0 < v → ∀ l, l < 2 → wk_e a l (v + 1) = wk_e a l v + (if a.testBit v = true ∧ v % 2 = l then 2 ^ v else 0) := by decide +kernel
theorem wk_e_bit {a l v : Nat} : (wk_e a l v).testBit v = false := Nat.testBit_lt_two_pow (Nat.mod_lt _ (Nat.pow_pos (by omega)))
theorem wk_e_lt2 (a l v : Nat) : wk_e a l v < 2 ^ v := Nat.mod_lt _ (Nat.pow_pos (by omega))
theorem wk_v1 : ∀ v, v < 8 → nI v &&& 1 = nI (v % 2) := by decide +kernel
theorem wk_isE {post : Int32 → Prop} {v l : Nat} (hv : v < 8) (h0 : 0 < v) (hl : l < 2) (H : post 1) : wpX_isEdge post () 0 (nI v) (nI l) := by
  unfold wpX_isEdge
  refine wk_isV (v := 0) (by omega) ?_
  refine br_f (by decide) ?_
  refine wk_isV hv ?_
  exact (br_f (by decide) (pk_eq 0 v (fun z => absurd z (by omega)) (fun _ => pk_eq l 0 (fun _ => H) (fun q => pk_eq l 1 (fun _ => H) (fun q1 => absurd (by omega) q1)))))
theorem wk_join {a v : Nat} (ha : a < 256) (hv : v < 8) (h0 : 0 < v) (hb : a.testBit v = true) (hz : e = nI (wk_n a v)) (h2 : ∀ j, j < 16 → a2 j = nI (wk_g2 a v j)) (h3 : ∀ j, j < 16 → a3 j = nI (wk_g3 a v j))
    (H : ∀ b2 b3 : Nat → Int32, (∀ j, j < 16 → b2 j = nI (wk_g2 a (v + 1) j)) → (∀ j, j < 16 → b3 j = nI (wk_g3 a (v + 1) j)) → post 1 (nI (wk_n a (v + 1)), z, t, 0, a1, b2, b3, a4, a5, a6, a7, a8)) :
    wpX_join post (e, z, t, k, a1, a2, a3, a4, a5, a6, a7, a8) 0 (nI v) (nI v &&& 1) := by
  rw [wk_v1 v hv]
  have hl : v % 2 < 2 := by omega
  have eo : nI (v % 2) * 8 + 0 = nI (v % 2 * 8) := wk_ix (v % 2) 0
  have ei : nI (v % 2) * 8 + nI v = nI (v % 2 * 8 + v) := wk_ix (v % 2) v
  have ino : vp_in (nI (v % 2) * 8 + 0) 16 := pk_in (v % 2 * 8) 16 (by omega) eo
  have ini : vp_in (nI (v % 2) * 8 + nI v) 16 := pk_in (v % 2 * 8 + v) 16 (by omega) ei
  have co : (nI (v % 2) * 8 + 0).toNatClampNeg = v % 2 * 8 := pk_cl _ eo (by omega)
  have ci : (nI (v % 2) * 8 + nI v).toNatClampNeg = v % 2 * 8 + v := pk_cl _ ei (by omega)
  have o2 : a2 (v % 2 * 8) = nI (wk_e a (v % 2) v) := by
    rw [h2 _ (by omega)]
    unfold wk_g2
    rcases Nat.mod_two_eq_zero_or_one v with q | q
    · rw [q]
      rfl
    · rw [q]
      rfl
  have o3 : a3 (v % 2 * 8 + v) = 0 := by
    rw [h3 _ (by omega)]
    unfold wk_g3
    rw [if_neg (by omega)]
    rfl
  have hle := wk_n_le a v
  unfold wpX_join
  refine wk_isE hv h0 hl ?_
  refine br_f (by decide) ⟨ino, ?_⟩
  rw [co, o2]
  have hlt := wk_e_lt a (v % 2) (i := v) (by omega)
  refine wk_q0 (by omega) (by omega) (fun _ => br_t rfl (br_t ?_ (nm_r eo (nm_r ei ?_)))) (fun q => absurd q (by rw [wk_e_bit]; decide))
  · rw [hz]
    exact nI_lt (b := 10) (by omega) (by omega)
  refine ⟨pk_in (v % 2 * 8) 16 (by omega), pk_in (v % 2 * 8) 16 (by omega), fun b2 hb2 => ⟨pk_in (v % 2 * 8 + v) 16 (by omega), pk_in (v % 2 * 8 + v) 16 (by omega), fun b3 hb3 => ?_⟩⟩
  rw [nI_clamp (by omega), o2, wk_xor v hv _ (wk_e_lt2 a (v % 2) v)] at hb2
  rw [nI_clamp (by omega), o3, wk_xor0] at hb3
  have hn : e + 1 = nI (wk_n a (v + 1)) := by
    rw [hz, nI_1]
    show _ = nI (wk_n a v + _)
    rw [if_pos hb]
  refine nm_r hn (H b2 b3 (fun j hj => ?_) (fun j hj => ?_))
  · have u0 := wk_e_up a ha v hv h0 0 (by omega)
    have u1 := wk_e_up a ha v hv h0 1 (by omega)
    have hj2 := h2 j hj
    rw [hb2]
    unfold wk_g2 at hj2 ⊢
    rw [u0, u1]
    by_cases q : j = v % 2 * 8
    · rw [q, pk_us]
      rcases Nat.mod_two_eq_zero_or_one v with r | r
      · rw [r, if_pos (by omega), if_pos ⟨hb, rfl⟩]
      · rw [r, if_neg (by omega), if_pos (by omega), if_pos ⟨hb, rfl⟩]
    · rw [pk_un q, hj2]
      by_cases q0 : j = 0
      · rw [if_pos q0, if_pos q0, if_neg (by omega), Nat.add_zero]
      · rw [if_neg q0, if_neg q0]
        by_cases q8 : j = 8
        · rw [if_pos q8, if_pos q8, if_neg (by omega), Nat.add_zero]
        · rw [if_neg q8, if_neg q8]
  · have hj3 := h3 j hj
    rw [hb3]
    unfold wk_g3 at hj3 ⊢
    by_cases q : j = v % 2 * 8 + v
    · have qv : j % 8 = v := by omega
      rw [qv, if_pos ⟨by omega, hb, by omega⟩, q, pk_us]
      rfl
    · rw [pk_un q, hj3]
      by_cases q1 : j % 8 < v ∧ a.testBit (j % 8) = true ∧ (j % 8) % 2 = j / 8
      · rw [if_pos q1, if_pos ⟨by omega, q1.2⟩]
      · rw [if_neg q1, if_neg (fun y => q1 ⟨by have := y.1; have := y.2.2; omega, y.2⟩)]
end
end
section
theorem wk_CA : ∀ a, a < 256 → a % 2 = 0 → ∀ v, v < 8 → ∀ w, w < 8 → wk_C (wk_g2 a 8) (wk_g3 a 8) 0 2 v w = if v = 0 then wk_b (a.testBit w) else 0 := by decide +kernel
theorem wk_CB : ∀ a, a < 256 → a % 2 = 0 → ∀ v, v < 8 → ∀ w, w < 8 → wk_C (wk_g2 a 8) (wk_g3 a 8) 1 2 v w = if w = 0 then wk_b (a.testBit v) else 0 := by decide +kernel
theorem wk_CC : ∀ a, a < 256 → a % 2 = 0 → ∀ v, v < 8 → ∀ w, w < 8 → wk_C (wk_g2 a 8) (wk_g3 a 8) 2 1 v w = (if v = 0 then wk_b ((a &&& 170).testBit w) else 0) + (if w = 0 then wk_b ((a &&& 170).testBit v) else 0) := by decide +kernel
theorem wk_CE : ∀ a, a < 256 → a % 2 = 0 → ∀ v, v < 8 → ∀ w, w < 8 → wk_C (wk_g2 a 8) (wk_g3 a 8) 3 0 v w = (if v = 0 then wk_b ((a &&& 84).testBit w) else 0) + (if w = v ∧ ¬ (v = 0 ∧ a &&& 84 ≠ 0) then 1 else 0) := by decide +kernel
end
section
theorem wk_bb (x y : Bool) : wk_b x * wk_b y = wk_b (x && y) := by cases x <;> cases y <;> decide
theorem wk_M0n {c w s : Nat} (h : w ≠ s) : wk_M0 c w s = 0 := by
  unfold wk_M0
  rw [decide_eq_false h, Bool.false_and]
  rfl
theorem wk_M0e (c w : Nat) : wk_M0 c w w = wk_b (c.testBit w) := by
  unfold wk_M0
  rw [decide_eq_true rfl, Bool.true_and]
theorem wk_M0r (c : Nat) {w : Nat} (hw : w < 8) : wk_s (wk_M0 c w) 8 = wk_b (c.testBit w) := by
  rw [wk_s_1 w 8 hw (fun i _ hne => wk_M0n (Ne.symm hne)), wk_M0e]
theorem wk_M0t (c : Nat) : wk_tot (wk_M0 c) = wk_k c := wk_s_c 8 (fun w hw => wk_M0r c hw)
theorem wk_kn : ∀ c, c < 256 → wk_k c = nI (wk_n c 8) := by decide +kernel
theorem wk_n0 : ∀ c, c < 256 → wk_n c 8 = 0 → c = 0 := by decide +kernel
section
variable {a c : Nat} {w s : Nat}
/-! out along both labels -/
theorem wk_pA (ha : a < 256) (he : a % 2 = 0) (hw : w < 8) : wk_MV (wk_g2 a 8) (wk_g3 a 8) 0 2 (wk_M0 c) w s = wk_b (a.testBit w) * wk_M0 c 0 s := by
  unfold wk_MV
  rw [wk_s_1 0 8 (by omega) (fun i hi hne => by rw [wk_CA a ha he i hi w hw, if_neg hne, Int32.zero_mul])]
  rw [wk_CA a ha he 0 (by omega) w hw, if_pos rfl]
theorem wk_even (he : a % 2 = 0) : a.testBit 0 = false := by
  rw [Nat.testBit_zero, he]
  rfl
theorem wk_pA0 (ha : a < 256) (he : a % 2 = 0) : wk_s (wk_MV (wk_g2 a 8) (wk_g3 a 8) 0 2 (wk_M0 c) 0) 8 = 0 :=
  wk_s_0 8 (fun i _ => by rw [wk_pA ha he (by omega), wk_even he, wk_bF rfl, Int32.zero_mul])
theorem wk_pAt (ha : a < 256) (he : a % 2 = 0) : wk_tot (wk_MV (wk_g2 a 8) (wk_g3 a 8) 0 2 (wk_M0 c)) = wk_b (c.testBit 0) * wk_k a := by
  unfold wk_tot
  rw [wk_s_c (g := fun w => wk_b (a.testBit w) * wk_b (c.testBit 0)) 8 (fun w hw => by rw [wk_s_c (g := fun s => wk_b (a.testBit w) * wk_M0 c 0 s) 8 (fun s _ => wk_pA ha he hw), wk_s_mul, wk_M0r c (by omega)])]
  rw [wk_s_mulr, Int32.mul_comm]
  rfl
/-! out and back -/
theorem wk_pB (ha : a < 256) (he : a % 2 = 0) (hw : w < 8) : wk_MV (wk_g2 a 8) (wk_g3 a 8) 1 2 (wk_MV (wk_g2 a 8) (wk_g3 a 8) 0 2 (wk_M0 c)) w s = if w = 0 then wk_k a * wk_M0 c 0 s else 0 := by
  rw [wk_MV]
  by_cases q : w = 0
  · rw [if_pos q, wk_s_c (g := fun v => wk_b (a.testBit v) * wk_M0 c 0 s) 8 (fun v hv => by rw [wk_CB a ha he v hv w hw, if_pos q, wk_pA ha he hv, ← Int32.mul_assoc, wk_bb, Bool.and_self]), wk_s_mulr]
    rfl
  · rw [if_neg q]
    exact wk_s_0 8 (fun v hv => by rw [wk_CB a ha he v hv w hw, if_neg q, Int32.zero_mul])
theorem wk_pBr (ha : a < 256) (he : a % 2 = 0) (hw : w < 8) : wk_s (wk_MV (wk_g2 a 8) (wk_g3 a 8) 1 2 (wk_MV (wk_g2 a 8) (wk_g3 a 8) 0 2 (wk_M0 c)) w) 8 = if w = 0 then wk_b (c.testBit 0) * wk_k a else 0 := by
  by_cases q : w = 0
  · rw [if_pos q, wk_s_c (g := fun s => wk_k a * wk_M0 c 0 s) 8 (fun s _ => by rw [wk_pB ha he hw, if_pos q]), wk_s_mul, wk_M0r c (by omega), Int32.mul_comm]
  · rw [if_neg q]
    exact wk_s_0 8 (fun s _ => by rw [wk_pB ha he hw, if_neg q])
theorem wk_pBt (ha : a < 256) (he : a % 2 = 0) : wk_tot (wk_MV (wk_g2 a 8) (wk_g3 a 8) 1 2 (wk_MV (wk_g2 a 8) (wk_g3 a 8) 0 2 (wk_M0 c))) = wk_b (c.testBit 0) * wk_k a := by
  unfold wk_tot
  rw [wk_s_1 0 8 (by omega) (fun i hi hne => by rw [wk_pBr ha he hi, if_neg hne]), wk_pBr ha he (by omega), if_pos rfl]
theorem wk_pB0 (ha : a < 256) (he : a % 2 = 0) : wk_MV (wk_g2 a 8) (wk_g3 a 8) 1 2 (wk_MV (wk_g2 a 8) (wk_g3 a 8) 0 2 (wk_M0 c)) 0 0 = wk_b (c.testBit 0) * wk_k a := by
  rw [wk_pB ha he (by omega), if_pos rfl, wk_M0e, Int32.mul_comm]
theorem wk_or_c {r r' : Nat → Int32} (n : Nat) (h : ∀ i, i < n → r i = r' i) : wk_or r n = wk_or r' n := by
  induction n with
  | zero => rfl
  | succ n ih =>
    rw [wk_or, wk_or, ih (fun i hi => h i (by omega)), h n (by omega)]
theorem wk_or1 {r : Nat → Int32} (h : ∀ i, 0 < i → r i = 0) (n : Nat) : wk_or r (n + 1) = if r 0 ≤ 0 then 0 else 1 := by
  induction n with
  | zero =>
    show (0 : Int32) ||| (if r 0 ≤ 0 then 0 else ((1 : Int32) <<< (nI 0 &&& 31))) = _
    by_cases q : r 0 ≤ 0
    · rw [if_pos q, if_pos q]
      decide
    · rw [if_neg q, if_neg q]
      decide
  | succ n ih =>
    rw [wk_or, ih, h (n + 1) (by omega), if_pos (show (0 : Int32) ≤ 0 by decide), Int32.or_zero]
theorem wk_pBo (ha : a < 256) (he : a % 2 = 0) : wk_or (wk_MV (wk_g2 a 8) (wk_g3 a 8) 1 2 (wk_MV (wk_g2 a 8) (wk_g3 a 8) 0 2 (wk_M0 c)) 0) 8 = if wk_b (c.testBit 0) * wk_k a ≤ 0 then 0 else 1 := by
  rw [wk_or_c (r' := fun s => wk_k a * wk_M0 c 0 s) 8 (fun s _ => by rw [wk_pB ha he (by omega), if_pos rfl]), wk_or1 (fun i hi => by rw [wk_M0n (by omega), Int32.mul_zero]), wk_M0e, Int32.mul_comm]
/-! both ways along label 1 -/
theorem wk_pC (ha : a < 256) (he : a % 2 = 0) (hw : w < 8) (hs : s < 8) : wk_MV (wk_g2 a 8) (wk_g3 a 8) 2 1 (wk_M0 c) w s = wk_b ((a &&& 170).testBit w) * wk_M0 c 0 s + (if w = 0 then wk_b ((c &&& (a &&& 170)).testBit s) else 0) := by
  unfold wk_MV
  rw [wk_s_c (g := fun v => (if v = 0 then wk_b ((a &&& 170).testBit w) else 0) * wk_M0 c v s + (if w = 0 then wk_b ((a &&& 170).testBit v) else 0) * wk_M0 c v s) 8 (fun v hv => by rw [wk_CC a ha he v hv w hw, Int32.add_mul])]
  rw [wk_s_plus, wk_s_1 0 8 (by omega) (fun i hi hne => by rw [if_neg hne, Int32.zero_mul]), if_pos rfl]
  by_cases q : w = 0
  · rw [if_pos q, wk_s_1 s 8 hs (fun i hi hne => by rw [wk_M0n hne, Int32.mul_zero]), if_pos q, wk_M0e, wk_bb, Nat.testBit_and c, Bool.and_comm]
  · rw [if_neg q, wk_s_0 8 (fun i hi => by rw [if_neg q, Int32.zero_mul])]
theorem wk_od0 : (a &&& 170).testBit 0 = false := by
  rw [Nat.testBit_and, show Nat.testBit 170 0 = false from rfl, Bool.and_false]
theorem wk_pC0 (ha : a < 256) (he : a % 2 = 0) (hs : s < 8) : wk_MV (wk_g2 a 8) (wk_g3 a 8) 2 1 (wk_M0 c) 0 s = wk_b ((c &&& (a &&& 170)).testBit s) := by
  rw [wk_pC ha he (by omega) hs, wk_od0, wk_bF rfl, Int32.zero_mul, Int32.zero_add, if_pos rfl]
theorem wk_pCr (ha : a < 256) (he : a % 2 = 0) : wk_s (wk_MV (wk_g2 a 8) (wk_g3 a 8) 2 1 (wk_M0 c) 0) 8 = wk_k (c &&& (a &&& 170)) := wk_s_c 8 (fun s hs => wk_pC0 ha he hs)
theorem wk_pCt (ha : a < 256) (he : a % 2 = 0) : wk_tot (wk_MV (wk_g2 a 8) (wk_g3 a 8) 2 1 (wk_M0 c)) = wk_k (c &&& (a &&& 170)) + wk_b (c.testBit 0) * wk_k (a &&& 170) := by
  unfold wk_tot
  rw [wk_s_c (g := fun w => wk_b ((a &&& 170).testBit w) * wk_b (c.testBit 0) + (if w = 0 then wk_k (c &&& (a &&& 170)) else 0)) 8 (fun w hw => by
    rw [wk_s_c (g := fun s => wk_b ((a &&& 170).testBit w) * wk_M0 c 0 s + (if w = 0 then wk_b ((c &&& (a &&& 170)).testBit s) else 0)) 8 (fun s hs => wk_pC ha he hw hs), wk_s_plus, wk_s_mul, wk_M0r c (by omega)]
    by_cases q : w = 0
    · rw [if_pos q, wk_s_c (g := fun s => wk_b ((c &&& (a &&& 170)).testBit s)) 8 (fun s _ => if_pos q)]
      rfl
    · rw [if_neg q, wk_s_0 8 (fun s _ => if_neg q)])]
  rw [wk_s_plus, wk_s_mulr, wk_s_1 (f := fun w => if w = 0 then wk_k (c &&& (a &&& 170)) else 0) 0 8 (by omega) (fun i _ hne => if_neg hne), if_pos rfl, Int32.add_comm, Int32.mul_comm]
  rfl
theorem wk_orq : ∀ q, q < 256 → wk_or (fun s => wk_b (q.testBit s)) 8 = nI q := by decide +kernel
theorem wk_pCo (ha : a < 256) (he : a % 2 = 0) (hc : c < 256) : wk_or (wk_MV (wk_g2 a 8) (wk_g3 a 8) 2 1 (wk_M0 c) 0) 8 = nI (c &&& (a &&& 170)) := by
  rw [wk_or_c (r' := fun s => wk_b ((c &&& (a &&& 170)).testBit s)) 8 (fun s hs => wk_pC0 ha he hs), wk_orq _ (Nat.lt_of_le_of_lt Nat.and_le_left hc)]
/-! and one of each vertex -/
theorem wk_fs (r : Nat → Int32) (n : Nat) : wk_s (fun s => wk_b (!wk_f r s && !decide (r s ≤ 0))) n = wk_b (wk_f r n) := by
  induction n with
  | zero => rfl
  | succ n ih =>
    rw [wk_s, ih, wk_f]
    cases wk_f r n <;> cases decide (r n ≤ 0) <;> decide
theorem wk_f_c {r r' : Nat → Int32} (n : Nat) (h : ∀ i, i < n → r i = r' i) : wk_f r n = wk_f r' n := by
  induction n with
  | zero => rfl
  | succ n ih =>
    rw [wk_f, wk_f, ih (fun i hi => h i (by omega)), h n (by omega)]
theorem wk_fq : ∀ q, q < 256 → wk_b (wk_f (fun s => wk_b (q.testBit s)) 8) = if wk_k q ≤ 0 then 0 else 1 := by decide +kernel
theorem wk_pD (ha : a < 256) (he : a % 2 = 0) (hc : c < 256) : wk_s (wk_ON (wk_MV (wk_g2 a 8) (wk_g3 a 8) 2 1 (wk_M0 c)) 0) 8 = if wk_k (c &&& (a &&& 170)) ≤ 0 then 0 else 1 := by
  rw [show wk_s (wk_ON (wk_MV (wk_g2 a 8) (wk_g3 a 8) 2 1 (wk_M0 c)) 0) 8 = wk_b (wk_f (wk_MV (wk_g2 a 8) (wk_g3 a 8) 2 1 (wk_M0 c) 0) 8) from wk_fs _ 8]
  rw [wk_f_c (r' := fun s => wk_b ((c &&& (a &&& 170)).testBit s)) 8 (fun s hs => wk_pC0 ha he hs), wk_fq _ (Nat.lt_of_le_of_lt Nat.and_le_left hc)]
/-! on, where there is a way, along label 0; then a number -/
def wk_rE (a c w : Nat) : Int32 := wk_b ((a &&& 84).testBit w) * wk_b (c.testBit 0) + (if w = 0 ∧ a &&& 84 ≠ 0 then 0 else wk_b (c.testBit w))
theorem wk_pE (ha : a < 256) (he : a % 2 = 0) (hw : w < 8) : wk_MV (wk_g2 a 8) (wk_g3 a 8) 3 0 (wk_M0 c) w s = wk_b ((a &&& 84).testBit w) * wk_M0 c 0 s + (if w = 0 ∧ a &&& 84 ≠ 0 then 0 else wk_M0 c w s) := by
  unfold wk_MV
  rw [wk_s_c (g := fun v => (if v = 0 then wk_b ((a &&& 84).testBit w) else 0) * wk_M0 c v s + (if w = v ∧ ¬ (v = 0 ∧ a &&& 84 ≠ 0) then 1 else 0) * wk_M0 c v s) 8 (fun v hv => by rw [wk_CE a ha he v hv w hw, Int32.add_mul])]
  rw [wk_s_plus, wk_s_1 0 8 (by omega) (fun i hi hne => by rw [if_neg hne, Int32.zero_mul]), if_pos rfl]
  rw [wk_s_1 w 8 hw (fun i hi hne => by rw [if_neg (fun y => hne y.1.symm), Int32.zero_mul])]
  by_cases q : w = 0 ∧ a &&& 84 ≠ 0
  · rw [if_pos q, if_neg (fun y => y.2 q), Int32.zero_mul]
  · rw [if_neg q, if_pos ⟨rfl, q⟩, Int32.one_mul]
theorem wk_pEr (ha : a < 256) (he : a % 2 = 0) (hw : w < 8) : wk_s (wk_MV (wk_g2 a 8) (wk_g3 a 8) 3 0 (wk_M0 c) w) 8 = wk_rE a c w := by
  rw [wk_s_c (g := fun s => wk_b ((a &&& 84).testBit w) * wk_M0 c 0 s + (if w = 0 ∧ a &&& 84 ≠ 0 then 0 else wk_M0 c w s)) 8 (fun s _ => wk_pE ha he hw), wk_s_plus, wk_s_mul, wk_M0r c (by omega)]
  unfold wk_rE
  by_cases q : w = 0 ∧ a &&& 84 ≠ 0
  · rw [if_pos q, wk_s_0 8 (fun s _ => if_pos q)]
  · rw [if_neg q, wk_s_c (g := wk_M0 c w) 8 (fun s _ => if_neg q), wk_M0r c hw]
theorem wk_pEt (ha : a < 256) (he : a % 2 = 0) : wk_tot (wk_MV (wk_g2 a 8) (wk_g3 a 8) 3 0 (wk_M0 c)) = wk_s (wk_rE a c) 8 := wk_s_c 8 (fun w hw => wk_pEr ha he hw)
theorem wk_pF {m n : Nat} (ha : a < 256) (he : a % 2 = 0) (hm : m < 8) : wk_tot (wk_HS (fun v => if v = m then n else 0) 1 (wk_MV (wk_g2 a 8) (wk_g3 a 8) 3 0 (wk_M0 c))) = if n = 0 then 0 else wk_rE a c m := by
  unfold wk_tot
  have off : ∀ w, w < 8 → (if w = m then n else 0) < 1 → wk_s (wk_HS (fun v => if v = m then n else 0) 1 (wk_MV (wk_g2 a 8) (wk_g3 a 8) 3 0 (wk_M0 c)) w) 8 = 0 := fun w _ h => wk_s_0 8 (fun s _ => if_pos h)
  by_cases q : n = 0
  · rw [if_pos q]
    exact wk_s_0 8 (fun w hw => off w hw (by rw [q, ite_self]; omega))
  · rw [if_neg q, wk_s_1 m 8 hm (fun i hi hne => off i hi (by rw [if_neg hne]; omega))]
    have on : ¬ (if m = m then n else 0) < 1 := by
      rw [if_pos rfl]
      omega
    have go : wk_s (wk_HS (fun v => if v = m then n else 0) 1 (wk_MV (wk_g2 a 8) (wk_g3 a 8) 3 0 (wk_M0 c)) m) 8 = wk_s (wk_MV (wk_g2 a 8) (wk_g3 a 8) 3 0 (wk_M0 c) m) 8 := wk_s_c 8 (fun s _ => if_neg on)
    rw [go]
    exact wk_pEr ha he hm
theorem wk_rE_n (a c w : Nat) : ∃ x, x ≤ 2 ∧ wk_rE a c w = nI x := by
  unfold wk_rE
  rw [wk_bb]
  generalize ((a &&& 84).testBit w && c.testBit 0) = x
  generalize c.testBit w = y
  by_cases q : w = 0 ∧ a &&& 84 ≠ 0
  · rw [if_pos q]
    cases x
    · exact ⟨0, by omega, by decide⟩
    · exact ⟨1, by omega, by decide⟩
  · rw [if_neg q]
    cases x <;> cases y
    · exact ⟨0, by omega, by decide⟩
    · exact ⟨1, by omega, by decide⟩
    · exact ⟨1, by omega, by decide⟩
    · exact ⟨2, by omega, by decide⟩
theorem wk_s_n {f : Nat → Int32} (h : ∀ w, ∃ x, x ≤ 2 ∧ f w = nI x) (n : Nat) : ∃ X, X ≤ 2 * n ∧ wk_s f n = nI X ∧ (X = 0 → ∀ w, w < n → f w = nI 0) := by
  induction n with
  | zero => exact ⟨0, by omega, rfl, fun _ w hw => absurd hw (by omega)⟩
  | succ n ih =>
    obtain ⟨X, hX, e, g⟩ := ih
    obtain ⟨x, hx, ex⟩ := h n
    refine ⟨X + x, by omega, ?_, fun z w hw => ?_⟩
    · rw [wk_s, e, ex, nI_add]
    · by_cases q : w = n
      · rw [q, ex, show x = 0 by omega]
      · exact g (by omega) w (by omega)
theorem wk_ex : ∀ c, c < 256 → c ≠ 0 → ∃ w, w < 8 ∧ c.testBit w = true := by decide +kernel
/-- walkers are left where some began -/
theorem wk_left (ha : a < 256) (hc : c < 256) (h0 : c ≠ 0) : wk_s (wk_rE a c) 8 ≠ 0 := by
  intro hz
  obtain ⟨X, hX, e, h⟩ := wk_s_n (wk_rE_n a c) 8
  rw [e, ← nI_0, nI_eq (by omega) (by omega)] at hz
  have all := h hz
  unfold wk_rE at all
  cases r : c.testBit 0 with
  | true =>
    rw [r] at all
    by_cases v : a &&& 84 = 0
    · have y := all 0 (by omega)
      rw [v, Nat.zero_testBit, if_neg (fun y => y.2 rfl), r] at y
      exact absurd y (by decide)
    · obtain ⟨w, hw, hb⟩ := wk_ex (a &&& 84) (Nat.lt_of_le_of_lt Nat.and_le_left ha) v
      have y := all w hw
      rw [hb] at y
      generalize c.testBit w = d at y
      by_cases q : w = 0 ∧ a &&& 84 ≠ 0
      · rw [if_pos q] at y
        exact absurd y (by decide)
      · rw [if_neg q] at y
        cases d
        · exact absurd y (by decide)
        · exact absurd y (by decide)
  | false =>
    obtain ⟨w, hw, hb⟩ := wk_ex c hc h0
    have y := all w hw
    have q : ¬ w = 0 := by
      intro q
      rw [q, r] at hb
      exact absurd hb (by decide)
    rw [r, hb, if_neg (fun y => q y.1), wk_bF rfl, Int32.mul_zero] at y
    exact absurd y (by decide)
end
end
section
theorem wk_held {a c m : Nat} (mv x : Bool) (h : mv = (c.testBit 0 && decide (a &&& 84 ≠ 0))) (hx : x = (mv && (a &&& 84).testBit m)) :
    wk_b x + (if c.testBit m = true ∧ ¬ (mv = true ∧ m = 0) then 1 else 0) = wk_rE a c m := by
  unfold wk_rE
  generalize (a &&& 84) = E at h hx ⊢
  by_cases v : E = 0
  · rw [v, decide_eq_false (by omega), Bool.and_false] at h
    rw [h, Bool.false_and] at hx
    rw [h, hx, v, Nat.zero_testBit, if_neg (c := m = 0 ∧ (0 : Nat) ≠ 0) (fun y => y.2 rfl)]
    cases c.testBit m <;> cases c.testBit 0 <;> simp [wk_b]
  · rw [decide_eq_true v, Bool.and_true] at h
    rw [h] at hx ⊢
    rw [hx]
    by_cases q : m = 0
    · rw [if_pos (c := m = 0 ∧ E ≠ 0) ⟨q, v⟩, q]
      cases c.testBit 0 <;> cases E.testBit 0 <;> simp [wk_b]
    · rw [if_neg (c := m = 0 ∧ E ≠ 0) (fun y => q y.1)]
      cases c.testBit 0 <;> cases E.testBit m <;> cases c.testBit m <;> simp [wk_b, q]
theorem wk_root {c : Nat} (hc : c < 256) : nI c &&& 1 = wk_b (c.testBit 0) := by
  rw [pk_andN (by omega) 1 (by decide), Nat.testBit_zero]
  exact wk_nb c
theorem wk_onesE {post : Int32 → Prop} {a : Nat} {x : Int32} (hx : x = nI a) (ha : a < 256) (H : post (wk_k a)) : wpL_ones post () x := by
  rw [hx]
  exact wk_ones ha H
section
variable {e z t k : Int32} {a1 a2 a3 a4 a5 a6 a7 a8 : Nat → Int32}
theorem wk_markE {post : Int32 → St2 → Prop} {x y : Int32} {m n : Nat} (hx : x = nI m) (hy : y = nI n) (hm : m < 8) (hn : n < 10) (H : ∀ b1 : Nat → Int32, b1 m = nI n → (∀ j, j ≠ m → b1 j = a1 j) → post 1 (e, z, t, 0, b1, a2, a3, a4, a5, a6, a7, a8)) : wpX_mark post (e, z, t, k, a1, a2, a3, a4, a5, a6, a7, a8) x y := by
  rw [hx, hy]
  exact wk_mark hm hn H
/-! the plans of the law -/
variable {a c : Nat}
theorem wk_PA (ha : a < 256) (he : a % 2 = 0) (hc : c < 256) (h1 : ∀ v, v < 8 → a1 v = nI 0) (h2 : wk_G a2 (wk_g2 a 8)) (h3 : wk_G a3 (wk_g3 a 8)) (k0 : a4 0 = nI 0) (l0 : a5 0 = nI 2) :
    ∃ M Ts, wk_W (e, nI 1, nI c, 0, a1, a2, a3, a4, a5, a6, a7, a8) e 1 c a1 a2 a3 a4 a5 M Ts ∧ Ts 0 = wk_k c ∧ Ts 1 = wk_b (c.testBit 0) * wk_k a ∧ wk_s (M 0) 8 = 0 :=
  ⟨_, _, wk_W1 (N := fun _ => 0) hc k0 l0 (Or.inl ⟨by omega, by omega⟩) (fun v hv => ⟨h1 v hv, by decide⟩) h2 h3, wk_M0t c, wk_pAt ha he, wk_pA0 ha he⟩
theorem wk_PB (ha : a < 256) (he : a % 2 = 0) (hc : c < 256) (h1 : ∀ v, v < 8 → a1 v = nI 0) (h2 : wk_G a2 (wk_g2 a 8)) (h3 : wk_G a3 (wk_g3 a 8)) (k0 : a4 0 = nI 0) (l0 : a5 0 = nI 2) (k1 : a4 1 = nI 1) (l1 : a5 1 = nI 2) :
    ∃ M Ts, wk_W (e, nI 2, nI c, 0, a1, a2, a3, a4, a5, a6, a7, a8) e 2 c a1 a2 a3 a4 a5 M Ts ∧ Ts 2 = wk_b (c.testBit 0) * wk_k a ∧ wk_s (M 0) 8 = wk_b (c.testBit 0) * wk_k a ∧ M 0 0 = wk_b (c.testBit 0) * wk_k a ∧ wk_or (M 0) 8 = if wk_b (c.testBit 0) * wk_k a ≤ 0 then 0 else 1 :=
  ⟨_, _, wk_W2 (N := fun _ => 0) hc k0 l0 (Or.inl ⟨by omega, by omega⟩) k1 l1 (Or.inl ⟨by omega, by omega⟩) (fun v hv => ⟨h1 v hv, by decide⟩) h2 h3, wk_pBt ha he, (wk_pBr ha he (by omega)).trans (if_pos rfl), wk_pB0 ha he, wk_pBo ha he⟩
theorem wk_PC (ha : a < 256) (he : a % 2 = 0) (hc : c < 256) (h1 : ∀ v, v < 8 → a1 v = nI 0) (h2 : wk_G a2 (wk_g2 a 8)) (h3 : wk_G a3 (wk_g3 a 8)) (k0 : a4 0 = nI 2) (l0 : a5 0 = nI 1) :
    ∃ M Ts, wk_W (e, nI 1, nI c, 0, a1, a2, a3, a4, a5, a6, a7, a8) e 1 c a1 a2 a3 a4 a5 M Ts ∧ Ts 1 = wk_k (c &&& (a &&& 170)) + wk_b (c.testBit 0) * wk_k (a &&& 170) ∧ wk_s (M 0) 8 = wk_k (c &&& (a &&& 170)) ∧ wk_or (M 0) 8 = nI (c &&& (a &&& 170)) :=
  ⟨_, _, wk_W1 (N := fun _ => 0) hc k0 l0 (Or.inl ⟨by omega, by omega⟩) (fun v hv => ⟨h1 v hv, by decide⟩) h2 h3, wk_pCt ha he, wk_pCr ha he, wk_pCo ha he hc⟩
theorem wk_PD (ha : a < 256) (he : a % 2 = 0) (hc : c < 256) (h1 : ∀ v, v < 8 → a1 v = nI 0) (h2 : wk_G a2 (wk_g2 a 8)) (h3 : wk_G a3 (wk_g3 a 8)) (k0 : a4 0 = nI 2) (l0 : a5 0 = nI 1) (k1 : a4 1 = nI 7) (l1 : a5 1 = nI 0) :
    ∃ M Ts, wk_W (e, nI 2, nI c, 0, a1, a2, a3, a4, a5, a6, a7, a8) e 2 c a1 a2 a3 a4 a5 M Ts ∧ Ts 1 = wk_k (c &&& (a &&& 170)) + wk_b (c.testBit 0) * wk_k (a &&& 170) ∧ wk_s (M 0) 8 = if wk_k (c &&& (a &&& 170)) ≤ 0 then 0 else 1 :=
  ⟨_, _, wk_W2 (N := fun _ => 0) hc k0 l0 (Or.inl ⟨by omega, by omega⟩) k1 l1 (Or.inr (Or.inl rfl)) (fun v hv => ⟨h1 v hv, by decide⟩) h2 h3, wk_pCt ha he, wk_pD ha he hc⟩
theorem wk_PE {m n : Nat} (ha : a < 256) (he : a % 2 = 0) (hc : c < 256) (hm : m < 8) (hn : n < 10) (h1 : ∀ v, v < 8 → a1 v = nI (if v = m then n else 0)) (h2 : wk_G a2 (wk_g2 a 8)) (h3 : wk_G a3 (wk_g3 a 8)) (k0 : a4 0 = nI 3) (l0 : a5 0 = nI 0) (k1 : a4 1 = nI 4) (l1 : a5 1 = nI 1) :
    ∃ M Ts, wk_W (e, nI 2, nI c, 0, a1, a2, a3, a4, a5, a6, a7, a8) e 2 c a1 a2 a3 a4 a5 M Ts ∧ Ts 0 = wk_k c ∧ Ts 1 = wk_s (wk_rE a c) 8 ∧ Ts 2 = if n = 0 then 0 else wk_rE a c m :=
  ⟨_, _, wk_W2 (N := fun v => if v = m then n else 0) hc k0 l0 (Or.inl ⟨by omega, by omega⟩) k1 l1 (Or.inr (Or.inr ⟨rfl, by omega⟩)) (fun v hv => ⟨h1 v hv, by split <;> omega⟩) h2 h3, wk_M0t c, wk_pEt ha he, wk_pF ha he hm⟩
/-! the law, from its end -/
variable {post : Int32 → St0 → Prop} {mc ms kc ks : Nat}
theorem wk_561 {m n : Nat} {z0 : Int32} (hp : post 1 ()) (ha : a < 256) (he : a % 2 = 0) (hc : c < 256) (hm : m < 8) (hn : n < 10) (h1 : ∀ v, v < 8 → a1 v = nI (if v = m then n else 0)) (h2 : wk_G a2 (wk_g2 a 8)) (h3 : wk_G a3 (wk_g3 a 8)) (k0 : a4 0 = nI 3) (l0 : a5 0 = nI 0) (k1 : a4 1 = nI 4) (l1 : a5 1 = nI 1)
    (hz : z0 = if n = 0 then 0 else wk_rE a c m) : wL_lawOf_561 post mc ms (nI c) 1 1 z0 kc ks e (nI 2) (nI c) 0 a1 a2 a3 a4 a5 a6 a7 a8 := by
  obtain ⟨M, Ts, W, t0, t1, t2⟩ := wk_PE (e := e) (a6 := a6) (a7 := a7) (a8 := a8) ha he hc hm hn h1 h2 h3 k0 l0 k1 l1
  rw [← hz] at t2
  refine br_f (by decide) (br_f (by decide) ?_)
  refine wk_walkers W (by omega) (fun h b T hh hT => ?_)
  refine br_t t2 ?_
  refine wk_dies (wk_Wk hh hT) (fun h b T hh hT => ?_)
  rw [t0, t1, t2]
  by_cases q : c = 0
  · refine br_t (by rw [q]; rfl) (br_t ?_ hp)
    rw [if_pos (by rw [q]; decide)]
  · have nk : ¬ wk_k c = 0 := by
      have hle := wk_n_le c 8
      rw [wk_kn c hc, ← nI_0, nI_eq (by omega) (by omega)]
      exact fun y => q (wk_n0 c hc y)
    have nl : ¬ wk_s (wk_rE a c) 8 = 0 := wk_left ha hc q
    rw [if_neg nk, if_neg nl]
    refine br_f (nI_ne0 (by omega) (by omega)) (br_c (fun y => br_t ?_ hp) (fun y => br_t ?_ hp))
    · rw [if_pos y]
    · rw [if_neg y]
theorem wk_421 {x2 x3 x9 : Int32} (hp : post 1 ()) (ha : a < 256) (he : a % 2 = 0) (hc : c < 256) (h1 : ∀ v, v < 8 → a1 v = nI 0) (h2 : wk_G a2 (wk_g2 a 8)) (h3 : wk_G a3 (wk_g3 a 8)) (hr : x9 = wk_b (c.testBit 0)) :
    wL_lawOf_421 post mc ms x2 x3 (nI a) (nI c) x9 1 kc ks e (nI 2) (nI c) k a1 a2 a3 a4 a5 a6 a7 a8 := by
  obtain ⟨m, hm, em⟩ := pk_andE x2 (m := 7) 3 (by decide)
  obtain ⟨j, hj, ej⟩ := pk_andE x3 (m := 65535) 16 (by decide)
  have hm8 : m < 8 := hm
  have en : (x3 &&& 65535) - (x3 &&& 65535) / 10 * 10 = nI (j % 10) := by
    rw [ej]
    exact pk_rem (d := 10) (by omega) (by decide) (by decide)
  have hn : j % 10 < 10 := Nat.mod_lt _ (by decide)
  generalize hnn : j % 10 = n at en hn
  have hE : a &&& 84 < 256 := Nat.lt_of_le_of_lt Nat.and_le_left ha
  unfold wL_lawOf_421
  refine wk_drop (n := 1) (by omega) ?_
  refine wk_drop (n := 0) (by omega) ?_
  refine ⟨by decide, nm_r en ?_⟩
  refine wk_markE em rfl hm8 hn (fun b1 hb hb' => ?_)
  refine wk_add (kd := 3) (lb := 0) (n := 0) (by omega) (Or.inl ⟨by omega, by omega⟩) (fun b4 b5 p4 p4' p5 p5' => ?_)
  refine wk_add (kd := 4) (lb := 1) (n := 1) (by omega) (Or.inr (Or.inr ⟨rfl, by omega⟩)) (fun c4 c5 q4 q4' q5 q5' => ?_)
  have hb1 : ∀ v, v < 8 → b1 v = nI (if v = m then n else 0) := by
    intro v hv
    by_cases q : v = m
    · rw [if_pos q, q, hb]
    · rw [if_neg q, hb' v q, h1 v hv]
  have w561 : ∀ z0 : Int32, z0 = (if n = 0 then 0 else wk_rE a c m) → wL_lawOf_561 post mc ms (nI c) 1 1 z0 kc ks e (nI 2) (nI c) 0 b1 a2 a3 c4 c5 a6 a7 a8 :=
    fun z0 hz => wk_561 hp ha he hc hm8 hn hb1 h2 h3 (by rw [q4' 0 (by omega)]; exact p4) (by rw [q5' 0 (by omega)]; exact p5) q4 q5 hz
  have w530 : ∀ mv x : Bool, ¬ n = 0 → mv = (c.testBit 0 && decide (a &&& 84 ≠ 0)) → x = (mv && (a &&& 84).testBit m) → wL_lawOf_530 post mc ms x2 (nI c) 1 1 (wk_b mv) (wk_b x) kc ks e (nI 2) (nI c) 0 b1 a2 a3 c4 c5 a6 a7 a8 := by
    intro mv x hn0 hmv hx
    have hh := wk_held mv x hmv hx
    have w : ∀ z0 : Int32, z0 = wk_rE a c m → wL_lawOf_561 post mc ms (nI c) 1 1 z0 kc ks e (nI 2) (nI c) 0 b1 a2 a3 c4 c5 a6 a7 a8 := fun z0 hz => w561 z0 (by rw [if_neg hn0]; exact hz)
    unfold wL_lawOf_530
    rw [em]
    refine wk_q1 (by omega) (by omega) (fun qb => ?_) (fun qb => ?_)
    · cases mv with
      | false =>
        rw [if_pos ⟨qb, by simp⟩] at hh
        exact br_t rfl (w _ hh)
      | true =>
        refine br_f (by decide) (pk_eq m 0 (fun q => ?_) (fun q => ?_))
        · rw [if_neg (fun y => y.2 ⟨rfl, q⟩)] at hh
          exact w _ hh
        · rw [if_pos ⟨qb, fun y => q y.2⟩] at hh
          exact w _ hh
    · rw [if_neg (fun y => by rw [qb] at y; exact absurd y.1 (by decide))] at hh
      exact w _ hh
  have w496 : ∀ mv : Bool, mv = (c.testBit 0 && decide (a &&& 84 ≠ 0)) → wL_lawOf_496 post mc ms x2 (nI c) 1 (nI n) 1 (nI (a &&& 84)) (wk_b mv) kc ks e (nI 2) (nI c) 0 b1 a2 a3 c4 c5 a6 a7 a8 := by
    intro mv hmv
    unfold wL_lawOf_496
    rw [em]
    refine pk_eq n 0 (fun q => w561 0 (by rw [if_pos q])) (fun q => ?_)
    cases mv with
    | false => exact br_t rfl (w530 false false q hmv rfl)
    | true => exact br_f (by decide) (wk_q1 (by omega) (by omega) (fun qb => w530 true true q hmv (by rw [qb]; rfl)) (fun qb => w530 true false q hmv (by rw [qb]; rfl)))
  refine nm_r (wk_and a 84) ?_
  rw [hr]
  cases r : c.testBit 0 with
  | true =>
    refine br_t rfl (pk_eq (a &&& 84) 0 (fun q => w496 false (by rw [r, decide_eq_false (by omega)]; rfl)) (fun q => w496 true (by rw [r, decide_eq_true q]; rfl)))
  | false => exact br_f (by decide) (w496 false (by rw [r]; rfl))
theorem wk_361 {x2 x3 x9 x12 x13 : Int32} (hp : post 1 ()) (ha : a < 256) (he : a % 2 = 0) (hc : c < 256) (h1 : ∀ v, v < 8 → a1 v = nI 0) (h2 : wk_G a2 (wk_g2 a 8)) (h3 : wk_G a3 (wk_g3 a 8)) (hr : x9 = wk_b (c.testBit 0)) (k0 : a4 0 = nI 2) (l0 : a5 0 = nI 1)
    (h12 : x12 = nI (a &&& 170)) (h13 : x13 = wk_k (c &&& (a &&& 170))) :
    wL_lawOf_361 post mc ms x2 x3 (nI a) (nI c) x9 x12 x13 1 kc ks e (nI 1) (nI c) k a1 a2 a3 a4 a5 a6 a7 a8 := by
  unfold wL_lawOf_361
  refine wk_add (kd := 7) (lb := 5) (n := 1) (by omega) (Or.inr (Or.inl ⟨rfl, by omega⟩)) (fun b4 b5 p4 p4' p5 p5' => ?_)
  obtain ⟨M, Ts, W, t1, r0⟩ := wk_PD (e := e) (a6 := a6) (a7 := a7) (a8 := a8) ha he hc h1 h2 h3 (by rw [p4' 0 (by omega)]; exact k0) (by rw [p5' 0 (by omega)]; exact l0) p4 p5
  refine br_f (by decide) ?_
  refine wk_at (v := 0) W (by omega) (fun h b T hh hT => ?_)
  rw [r0, ← h13]
  have go : ∀ z0 : Int32, z0 = (if x13 ≤ 0 then 0 else 1) → wL_lawOf_393 post mc ms x2 x3 (nI a) (nI c) x9 x12 x13 z0 (if x13 ≤ 0 then 0 else 1) kc ks e (nI 2) (nI c) 1 a1 a2 a3 b4 b5 h b T := by
    intro z0 hz
    unfold wL_lawOf_393
    refine br_t hz.symm ?_
    refine wk_after (p := 1) (wk_Wk hh hT) (by omega) (by omega) rfl (fun h' b' T' hh' hT' => ?_)
    refine wk_onesE h12 (Nat.lt_of_le_of_lt Nat.and_le_left ha) ?_
    refine br_t (by rw [t1, h13, hr]) ?_
    exact wk_421 hp ha he hc h1 h2 h3 hr
  exact br_c (fun q => go 0 (by rw [if_pos q])) (fun q => go 1 (by rw [if_neg q]))
theorem wk_267 {x2 x3 x9 : Int32} (hp : post 1 ()) (ha : a < 256) (he : a % 2 = 0) (hc : c < 256) (h1 : ∀ v, v < 8 → a1 v = nI 0) (h2 : wk_G a2 (wk_g2 a 8)) (h3 : wk_G a3 (wk_g3 a 8)) (hr : x9 = wk_b (c.testBit 0)) :
    wL_lawOf_267 post mc ms x2 x3 (nI a) (nI c) x9 1 kc ks e (nI 2) (nI c) k a1 a2 a3 a4 a5 a6 a7 a8 := by
  have hd : a &&& 170 < 256 := Nat.lt_of_le_of_lt Nat.and_le_left ha
  have hq : c &&& (a &&& 170) < 256 := Nat.lt_of_le_of_lt Nat.and_le_left hc
  unfold wL_lawOf_267
  refine wk_drop (n := 1) (by omega) ?_
  refine wk_drop (n := 0) (by omega) ?_
  refine wk_add (kd := 2) (lb := 1) (n := 0) (by omega) (Or.inl ⟨by omega, by omega⟩) (fun b4 b5 p4 p4' p5 p5' => ?_)
  obtain ⟨M, Ts, W, t1, r0, o0⟩ := wk_PC (e := e) (a6 := a6) (a7 := a7) (a8 := a8) ha he hc h1 h2 h3 p4 p5
  refine nm_r (wk_and a 170) ?_
  refine wk_onesE (wk_and c (a &&& 170)) hq ?_
  refine br_f (by decide) ?_
  refine wk_at (v := 0) W (by omega) (fun h b T hh hT => ?_)
  refine br_t r0 ?_
  refine wk_walkers (wk_Wk hh hT) (by omega) (fun h b T hh hT => ?_)
  refine wk_ones hd ?_
  refine br_t (by rw [t1, hr]) ?_
  refine wk_startsAt (v := 0) hh hT (by omega) (fun h b T hh hT => ?_)
  refine br_t (by rw [o0]; exact (wk_and c (a &&& 170)).symm) ?_
  exact wk_361 hp ha he hc h1 h2 h3 hr p4 p5 rfl rfl
theorem wk_176 {x2 x3 x8 x9 : Int32} (hp : post 1 ()) (ha : a < 256) (he : a % 2 = 0) (hc : c < 256) (h1 : ∀ v, v < 8 → a1 v = nI 0) (h2 : wk_G a2 (wk_g2 a 8)) (h3 : wk_G a3 (wk_g3 a 8)) (hr : x9 = wk_b (c.testBit 0)) (h8 : x8 = wk_k a) (k0 : a4 0 = nI 0) (l0 : a5 0 = nI 2) :
    wL_lawOf_176 post mc ms x2 x3 (nI a) (nI c) x8 x9 1 kc ks e (nI 1) (nI c) k a1 a2 a3 a4 a5 a6 a7 a8 := by
  unfold wL_lawOf_176
  refine wk_add (kd := 1) (lb := 2) (n := 1) (by omega) (Or.inl ⟨by omega, by omega⟩) (fun b4 b5 p4 p4' p5 p5' => ?_)
  obtain ⟨M, Ts, W, t2, r0, m0, o0⟩ := wk_PB (e := e) (a6 := a6) (a7 := a7) (a8 := a8) ha he hc h1 h2 h3 (by rw [p4' 0 (by omega)]; exact k0) (by rw [p5' 0 (by omega)]; exact l0) p4 p5
  rw [← hr, ← h8] at t2 r0 m0 o0
  refine br_f (by decide) (br_t rfl ?_)
  refine wk_at (v := 0) W (by omega) (fun h b T hh hT => ?_)
  refine br_t r0 ?_
  refine wk_walkers (wk_Wk hh hT) (by omega) (fun h b T hh hT => ?_)
  refine br_t t2 ?_
  refine wk_between (s := 0) (v := 0) (wk_Wk hh hT) (by omega) (by omega) (fun h b T hh hT => ?_)
  refine br_t m0 ?_
  refine wk_startsAt (v := 0) hh hT (by omega) (fun h b T hh hT => ?_)
  rw [o0]
  refine br_c (fun q => br_t (if_pos q) ?_) (fun q => br_t (if_neg q) ?_)
  · exact wk_267 hp ha he hc h1 h2 h3 hr
  · exact wk_267 hp ha he hc h1 h2 h3 hr
theorem wk_e8 : ∀ a, a < 256 → a % 2 = 0 → ∀ j, j < 16 → wk_g2 a 1 j = 0 ∧ wk_g3 a 1 j = 0 := by decide +kernel
theorem wk_G2 (a : Nat) {b : Nat → Int32} (h : ∀ j, j < 16 → b j = nI (wk_g2 a 8 j)) : wk_G b (wk_g2 a 8) := by
  intro j hj
  refine ⟨h j hj, ?_⟩
  unfold wk_g2
  have e0 := wk_e_lt a 0 (i := 8) (by omega)
  have e1 := wk_e_lt a 1 (i := 8) (by omega)
  split
  · exact e0
  · split
    · exact e1
    · omega
theorem wk_G3 (a : Nat) {b : Nat → Int32} (h : ∀ j, j < 16 → b j = nI (wk_g3 a 8 j)) : wk_G b (wk_g3 a 8) := by
  intro j hj
  refine ⟨h j hj, ?_⟩
  unfold wk_g3
  split <;> omega
theorem wk_29 {x2 x3 : Int32} (hp : post 1 ()) (ha : a < 256) (he : a % 2 = 0) (hc : c < 256) :
    ∃ n, wL_lawOf_29 post mc ms x2 x3 (nI a) (nI c) kc ks n 1 1 0 0 0 0 (fun _ => 0) (fun _ => 0) (fun _ => 0) (fun _ => 0) (fun _ => 0) (fun _ => 0) (fun _ => 0) (fun _ => 0) := by
  refine pk_loop (σ := Int32 × (Nat → Int32) × (Nat → Int32)) (fun n i s => wL_lawOf_29 post mc ms x2 x3 (nI a) (nI c) kc ks n 1 (nI i) s.1 0 0 0 (fun _ => 0) s.2.1 s.2.2 (fun _ => 0) (fun _ => 0) (fun _ => 0) (fun _ => 0) (fun _ => 0))
    (fun i s => 0 < i ∧ s.1 = nI (wk_n a i) ∧ (∀ j, j < 16 → s.2.1 j = nI (wk_g2 a i j)) ∧ (∀ j, j < 16 → s.2.2 j = nI (wk_g3 a i j))) 8 1 (0, (fun _ => 0), (fun _ => 0)) (by omega) ?_ ?_ ?_
  · refine ⟨by omega, ?_, fun j hj => ?_, fun j hj => ?_⟩
    · show (0 : Int32) = nI (0 + if a.testBit 0 = true then 1 else 0)
      rw [wk_even he]
      rfl
    · rw [(wk_e8 a ha he j hj).1]
      rfl
    · rw [(wk_e8 a ha he j hj).2]
      rfl
  · intro n s hs
    obtain ⟨e, b2, b3⟩ := s
    obtain ⟨_, hs1, hs2, hs3⟩ := hs
    have h2 := wk_G2 a hs2
    have h3 := wk_G3 a hs3
    have h1 : ∀ v, v < 8 → (fun _ => 0 : Nat → Int32) v = nI 0 := fun v _ => rfl
    dsimp only at hs1
    rw [← wk_kn a ha] at hs1
    refine pk_le 8 8 (fun _ => ?_) (fun z => absurd z (by omega))
    refine wk_ones ha ?_
    refine nm_r (wk_root hc) ?_
    refine wk_from hc ?_
    refine wk_add (kd := 0) (lb := 2) (n := 0) (by omega) (Or.inl ⟨by omega, by omega⟩) (fun b4 b5 p4 p4' p5 p5' => ?_)
    obtain ⟨M, Ts, W, t0, t1, r0⟩ := wk_PA (e := e) (a6 := fun _ => 0) (a7 := fun _ => 0) (a8 := fun _ => 0) ha he hc h1 h2 h3 p4 p5
    refine br_f (by decide) (br_t rfl ?_)
    refine br_t hs1 ?_
    refine wk_walkers W (by omega) (fun h b T hh hT => ?_)
    refine br_t t1 ?_
    refine wk_after (p := 0) (wk_Wk hh hT) (by omega) (by omega) rfl (fun h b T hh hT => ?_)
    refine wk_ones hc ?_
    refine br_t t0 ?_
    refine wk_at (v := 0) (wk_Wk hh hT) (by omega) (fun h b T hh hT => ?_)
    refine br_t r0 ?_
    exact wk_176 hp ha he hc h1 h2 h3 rfl rfl p4 p5
  · intro n i s hi hs hw
    obtain ⟨e, b2, b3⟩ := s
    obtain ⟨i0, hs1, hs2, hs3⟩ := hs
    dsimp only at hs1 hs2 hs3
    refine pk_le 8 i (fun z => absurd z (by omega)) (fun _ => ?_)
    refine wk_q1 (by omega) (by omega) (fun qb => ?_) (fun qb => ?_)
    · refine wk_join ha hi i0 qb hs1 hs2 hs3 (fun c2 c3 g2 g3 => ?_)
      refine br_f (by decide) (br_f (by decide) (nm_r (nI_1 i) ?_))
      exact hw (_, c2, c3) ⟨by omega, rfl, g2, g3⟩
    · refine nm_r (nI_1 i) (hw (e, b2, b3) ⟨by omega, ?_, fun j hj => ?_, fun j hj => ?_⟩)
      · show e = nI (wk_n a i + if a.testBit i = true then 1 else 0)
        rw [qb]
        exact hs1
      · show b2 j = _
        rw [hs2 j hj]
        have u : ∀ l, l < 2 → wk_e a l (i + 1) = wk_e a l i := by
          intro l hl
          rw [wk_e_up a ha i hi i0 l hl, qb, if_neg (fun y => absurd y.1 (by decide)), Nat.add_zero]
        unfold wk_g2
        rw [u 0 (by omega), u 1 (by omega)]
      · show b3 j = _
        rw [hs3 j hj]
        unfold wk_g3
        by_cases q : j % 8 < i ∧ a.testBit (j % 8) = true ∧ (j % 8) % 2 = j / 8
        · rw [if_pos q, if_pos ⟨by omega, q.2⟩]
        · rw [if_neg q, if_neg]
          intro y
          have y1 := y.1
          by_cases r : j % 8 = i
          · rw [r, qb] at y
            exact absurd y.2.1 (by decide)
          · exact q ⟨by omega, y.2⟩
end
end
section
theorem wk_254 : ∀ j, j < 256 → (j &&& 254) % 2 = 0 := by decide +kernel
theorem wk_law {post : Int32 → St0 → Prop} (hp : post 1 ()) (p0 p1 p2 p3 : Int32) : wpL_lawOf post 104 1648 () p0 p1 p2 p3 := by
  obtain ⟨j, hj, ej⟩ := pk_andE p0 (m := 255) 8 (by decide)
  obtain ⟨c, hc, ec⟩ := pk_andE p1 (m := 255) 8 (by decide)
  have ea : p0 &&& 254 = nI (j &&& 254) := by
    rw [show (254 : Int32) = 255 &&& 254 by decide, ← Int32.and_assoc, ej]
    exact wk_and j 254
  refine ⟨by decide, by decide, 8, 187, by decide, by decide, ?_⟩
  refine ⟨by decide, by decide, by decide, by decide, by decide, by decide, by decide, by decide, by decide, by decide, by decide, by decide, by decide, by decide, by decide, by decide, ?_⟩
  exact nm_r ea (nm_r ec (wk_29 hp (Nat.lt_of_le_of_lt Nat.and_le_left hj) (wk_254 j hj) hc))
theorem wk_cell4 {post : Int32 → Prop} {L : Nat} {xs : Nat → Int32} (hL : L ≤ 4) (i : Nat) (hi : i < 4) (H : ∀ r, post r) : wpL_cellAt post L xs () (nI i) :=
  pk_le L i (fun _ => H 0) (fun z => ⟨pk_in i L z, H _⟩)
theorem i_vc (xs : Nat → Int32) (L : Nat) (hL : L ≤ 4) : wpL_law (fun r => r = 1) L xs := by
  unfold wpL_law
  refine wk_cell4 hL 0 (by omega) (fun r1 => ?_)
  refine wk_cell4 hL 1 (by omega) (fun r2 => ?_)
  refine wk_cell4 hL 2 (by omega) (fun r3 => ?_)
  refine wk_cell4 hL 3 (by omega) (fun r4 => ?_)
  exact ⟨104, 1648, by decide, by decide, wk_law rfl r1 r2 r3 r4⟩
end
