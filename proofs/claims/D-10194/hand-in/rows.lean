section
/-! the pure picture: V b is what block b holds; c m r is what member m holds in row r -/
/-- members of a row -/
def rz_n (w : Bool) : Nat := if w then 5 else 3
/-- blocks of a row -/
def rz_k (w : Bool) : Nat := if w then 4 else 2
/-- the flag as an int -/
def rz_b (w : Bool) : Int32 := if w then 1 else 0
/-- the member of block b -/
def rz_m (w : Bool) (b : Nat) : Nat := if b % rz_k w < (b / rz_k w) % rz_n w then b % rz_k w else b % rz_k w + 1
/-- the parity of a row's blocks -/
def rz_x (w : Bool) (d : Nat → Int32) : Int32 := if w then d 0 ^^^ d 1 ^^^ d 2 ^^^ d 3 else d 0 ^^^ d 1
/-- a row of blocks d with its parity on member p: what member m holds -/
def rz_h (w : Bool) (d : Nat → Int32) (p m : Nat) : Int32 := if m = p then rz_x w d else d (if m < p then m else m - 1)
/-- what member m is to hold in row r -/
def rz_e (V : Nat → Int32) (w : Bool) (r m : Nat) : Int32 := rz_h w (fun i => V (rz_k w * r + i)) (r % rz_n w) m
/-- the exclusive or of the first n -/
def rz_s (t : Nat → Int32) : Nat → Int32
  | 0 => 0
  | n + 1 => rz_s t n ^^^ t n
/-- row r is wide -/
def rz_W (s mv r : Nat) : Bool := decide (s = 2 ∨ (s = 1 ∧ r < mv))
/-- block b is wide -/
def rz_B (s mv b : Nat) : Bool := decide (s = 2 ∨ (s = 1 ∧ b < 4 * mv))
/-- row r holds blocks -/
def rz_U (s mv r : Nat) : Prop := s = 1 → r < mv ∨ 2 * mv ≤ r
/-- the array a of disk cells, the failed member f apart -/
def rz_R (a : Nat → Int32) (f : Int32) (c : Nat → Nat → Int32) : Prop := ∀ m r, m < 5 → r < 16 → ¬ nI m = f → a (m * 16 + r) = c m r
/-- one cell written -/
def rz_u (c : Nat → Nat → Int32) (m r : Nat) (v : Int32) : Nat → Nat → Int32 := fun m' r' => if m' = m ∧ r' = r then v else c m' r'
/-- all rows that hold blocks hold V's, but the cells of ex -/
def rz_P (V : Nat → Int32) (c : Nat → Nat → Int32) (s mv : Nat) (ex : Nat → Nat → Prop) : Prop := ∀ r m, r < 12 → rz_U s mv r → m < rz_n (rz_W s mv r) → ¬ ex r m → c m r = rz_e V (rz_W s mv r) r m
def rz_F (f : Int32) (s : Nat) : Prop := f = -1 ∨ ∃ k, k < 5 ∧ (s = 0 → k < 3) ∧ f = nI k
def rz_G (s mv : Nat) : Prop := s = 0 ∧ mv = 0 ∨ s = 1 ∧ mv ≤ 6 ∨ s = 2 ∧ mv = 6
def rz_Z (V : Nat → Int32) (s : Nat) : Prop := s ≠ 2 → ∀ b, 24 ≤ b → V b = 0
/-- all in order -/
def rz_C (V : Nat → Int32) (f : Int32) (s mv : Nat) (a : Nat → Int32) : Prop := rz_G s mv ∧ rz_F f s ∧ rz_Z V s ∧ ∃ c, rz_R a f c ∧ rz_P V c s mv (fun _ _ => False)
/-- the parity of row q may be wrong -/
def rz_E (V : Nat → Int32) (s mv q : Nat) (a : Nat → Int32) : Prop := rz_G s mv ∧ ¬ (s = 1 ∧ mv = 6) ∧ rz_Z V s ∧ q < 12 ∧ rz_U s mv q ∧ ∃ c, rz_R a (-1) c ∧ rz_P V c s mv (fun r m => r = q ∧ m = q % rz_n (rz_W s mv q))
/-- the first two rows may be wrong, their blocks lie in the copies -/
def rz_D (V : Nat → Int32) (f : Int32) (a : Nat → Int32) : Prop := rz_F f 1 ∧ rz_Z V 1 ∧ ∃ c, rz_R a f c ∧ rz_P V c 1 0 (fun r _ => r < 2) ∧ ∀ i, i < 4 → c 3 (12 + i) = V i ∧ c 4 (12 + i) = V i
/-- the object's states -/
def rz_S (V : Nat → Int32) (u : St2) : Prop :=
  (∃ f s mv a g, u = (1, f, nI s, nI mv, 0, -1, a, g) ∧ rz_C V f s mv a ∧ ¬ (s = 1 ∧ mv = 6)) ∨
  (∃ f s mv a g, u = (0, f, nI s, nI mv, 0, -1, a, g) ∧ rz_C V f s mv a) ∨
  (∃ s mv q a g, u = (0, -1, nI s, nI mv, 0, nI q, a, g) ∧ rz_E V s mv q a) ∨
  (∃ f a g, u = (0, f, nI 1, nI 0, 1, -1, a, g) ∧ rz_D V f a)

theorem rz_cc (a b : Int32) : a ^^^ (a ^^^ b) = b := by
  rw [← Int32.xor_assoc, Int32.xor_self, Int32.zero_xor]
theorem rz_lc (a b c : Int32) : a ^^^ (b ^^^ c) = b ^^^ (a ^^^ c) := by
  rw [← Int32.xor_assoc, Int32.xor_comm a b, Int32.xor_assoc]
theorem rz_s_congr {t t' : Nat → Int32} {n : Nat} (h : ∀ m, m < n → t m = t' m) : rz_s t n = rz_s t' n := by
  induction n with
  | zero => rfl
  | succ n ih =>
    show rz_s t n ^^^ t n = rz_s t' n ^^^ t' n
    rw [ih (fun m hm => h m (by omega)), h n (by omega)]
/-- the others say what member k holds -/
theorem rz_h1 (w : Bool) (d : Nat → Int32) {p k : Nat} (hp : p < rz_n w) (hk : k < rz_n w) : rz_s (fun m => if m = k then 0 else rz_h w d p m) (rz_n w) = rz_h w d p k := by
  cases w
  · have hp3 : p < 3 := hp
    have hk3 : k < 3 := hk
    rcases (show p = 0 ∨ p = 1 ∨ p = 2 by omega) with rfl | rfl | rfl <;> rcases (show k = 0 ∨ k = 1 ∨ k = 2 by omega) with rfl | rfl | rfl <;>
      simp [rz_s, rz_h, rz_x, rz_n, Int32.xor_assoc, Int32.xor_comm, rz_lc, rz_cc]
  · have hp5 : p < 5 := hp
    have hk5 : k < 5 := hk
    rcases (show p = 0 ∨ p = 1 ∨ p = 2 ∨ p = 3 ∨ p = 4 by omega) with rfl | rfl | rfl | rfl | rfl <;> rcases (show k = 0 ∨ k = 1 ∨ k = 2 ∨ k = 3 ∨ k = 4 by omega) with rfl | rfl | rfl | rfl | rfl <;>
      simp [rz_s, rz_h, rz_x, rz_n, Int32.xor_assoc, Int32.xor_comm, rz_lc, rz_cc]
/-- all of them give nothing -/
theorem rz_h0 (w : Bool) (d : Nat → Int32) {p : Nat} (hp : p < rz_n w) : rz_s (rz_h w d p) (rz_n w) = 0 := by
  cases w
  · have hp3 : p < 3 := hp
    rcases (show p = 0 ∨ p = 1 ∨ p = 2 by omega) with rfl | rfl | rfl <;>
      simp [rz_s, rz_h, rz_x, rz_n, Int32.xor_assoc, Int32.xor_comm, rz_lc, rz_cc]
  · have hp5 : p < 5 := hp
    rcases (show p = 0 ∨ p = 1 ∨ p = 2 ∨ p = 3 ∨ p = 4 by omega) with rfl | rfl | rfl | rfl | rfl <;>
      simp [rz_s, rz_h, rz_x, rz_n, Int32.xor_assoc, Int32.xor_comm, rz_lc, rz_cc]
theorem rz_n_pos (w : Bool) : 0 < rz_n w := by cases w <;> decide
theorem rz_n_le (w : Bool) : rz_n w ≤ 5 := by cases w <;> decide
theorem rz_k_pos (w : Bool) : 0 < rz_k w := by cases w <;> decide
theorem rz_nk (w : Bool) : rz_n w = rz_k w + 1 := by cases w <;> decide
theorem rz_p_lt (w : Bool) (r : Nat) : r % rz_n w < rz_n w := Nat.mod_lt _ (rz_n_pos w)
theorem rz_m_lt (w : Bool) (b : Nat) : rz_m w b < rz_n w := by
  have h := Nat.mod_lt b (rz_k_pos w)
  have h2 := rz_nk w
  unfold rz_m
  split <;> omega
theorem rz_m_ne (w : Bool) (b : Nat) : rz_m w b ≠ b / rz_k w % rz_n w := by
  unfold rz_m
  split <;> omega
/-- the expected row, xor of all but one -/
theorem rz_e1 (V : Nat → Int32) (w : Bool) (r : Nat) {k : Nat} (hk : k < rz_n w) : rz_s (fun m => if m = k then 0 else rz_e V w r m) (rz_n w) = rz_e V w r k :=
  rz_h1 w _ (rz_p_lt w r) hk
theorem rz_e0 (V : Nat → Int32) (w : Bool) (r : Nat) : rz_s (rz_e V w r) (rz_n w) = 0 :=
  rz_h0 w _ (rz_p_lt w r)
theorem rz_x_congr {w : Bool} {d d' : Nat → Int32} (h : ∀ i, i < rz_k w → d i = d' i) : rz_x w d = rz_x w d' := by
  cases w
  · show d 0 ^^^ d 1 = d' 0 ^^^ d' 1
    rw [h 0 (by decide), h 1 (by decide)]
  · show d 0 ^^^ d 1 ^^^ d 2 ^^^ d 3 = d' 0 ^^^ d' 1 ^^^ d' 2 ^^^ d' 3
    rw [h 0 (by decide), h 1 (by decide), h 2 (by decide), h 3 (by decide)]
theorem rz_h_congr {w : Bool} {d d' : Nat → Int32} {p m : Nat} (hp : p < rz_n w) (hm : m < rz_n w) (h : ∀ i, i < rz_k w → d i = d' i) : rz_h w d p m = rz_h w d' p m := by
  have e := rz_nk w
  unfold rz_h
  by_cases q : m = p
  · rw [if_pos q, if_pos q]
    exact rz_x_congr h
  · rw [if_neg q, if_neg q]
    apply h
    split <;> omega
theorem rz_e_congr {V V' : Nat → Int32} {w : Bool} {r m : Nat} (hm : m < rz_n w) (h : ∀ i, i < rz_k w → V (rz_k w * r + i) = V' (rz_k w * r + i)) : rz_e V w r m = rz_e V' w r m :=
  rz_h_congr (rz_p_lt w r) hm h
/-- the member of block b holds it -/
theorem rz_e_m (V : Nat → Int32) (w : Bool) (b : Nat) : rz_e V w (b / rz_k w) (rz_m w b) = V b := by
  unfold rz_e rz_h
  rw [if_neg (rz_m_ne w b)]
  have e : (if rz_m w b < b / rz_k w % rz_n w then rz_m w b else rz_m w b - 1) = b % rz_k w := by
    by_cases hA : b % rz_k w < b / rz_k w % rz_n w
    · have hm : rz_m w b = b % rz_k w := if_pos hA
      rw [hm, if_pos hA]
    · have hm : rz_m w b = b % rz_k w + 1 := if_neg hA
      rw [hm, if_neg (by omega)]
      omega
  show V (rz_k w * (b / rz_k w) + (if rz_m w b < b / rz_k w % rz_n w then rz_m w b else rz_m w b - 1)) = V b
  rw [e, Nat.div_add_mod]
/-- another member of that row keeps what it holds -/
theorem rz_e_o (V : Nat → Int32) (w : Bool) (b : Nat) (v : Int32) {m : Nat} (h1 : m ≠ rz_m w b) (h2 : m ≠ b / rz_k w % rz_n w) : rz_e (upd V b v) w (b / rz_k w) m = rz_e V w (b / rz_k w) m := by
  unfold rz_e rz_h
  rw [if_neg h2, if_neg h2]
  show upd V b v (rz_k w * (b / rz_k w) + (if m < b / rz_k w % rz_n w then m else m - 1)) = V (rz_k w * (b / rz_k w) + (if m < b / rz_k w % rz_n w then m else m - 1))
  apply pk_un
  intro e
  apply h1
  have e2 : (if m < b / rz_k w % rz_n w then m else m - 1) = b % rz_k w := by
    have := Nat.div_add_mod b (rz_k w)
    omega
  unfold rz_m
  split at e2 <;> split <;> omega
theorem rz_x_u (w : Bool) (d : Nat → Int32) {i : Nat} (hi : i < rz_k w) (v : Int32) : rz_x w (upd d i v) = rz_x w d ^^^ d i ^^^ v := by
  cases w
  · have h : i < 2 := hi
    rcases (show i = 0 ∨ i = 1 by omega) with rfl | rfl <;> simp [rz_x, upd, Int32.xor_assoc, Int32.xor_comm, rz_lc, rz_cc]
  · have h : i < 4 := hi
    rcases (show i = 0 ∨ i = 1 ∨ i = 2 ∨ i = 3 by omega) with rfl | rfl | rfl | rfl <;> simp [rz_x, upd, Int32.xor_assoc, Int32.xor_comm, rz_lc, rz_cc]
/-- the row's new parity -/
theorem rz_e_p (V : Nat → Int32) (w : Bool) (b : Nat) (v : Int32) : rz_e (upd V b v) w (b / rz_k w) (b / rz_k w % rz_n w) = rz_e V w (b / rz_k w) (b / rz_k w % rz_n w) ^^^ V b ^^^ v := by
  unfold rz_e rz_h
  rw [if_pos rfl, if_pos rfl]
  have hd := Nat.div_add_mod b (rz_k w)
  have e : (fun i => upd V b v (rz_k w * (b / rz_k w) + i)) = upd (fun i => V (rz_k w * (b / rz_k w) + i)) (b % rz_k w) v := by
    funext i
    by_cases q : i = b % rz_k w
    · rw [q, pk_us, hd, pk_us]
    · rw [pk_un q, pk_un (by omega)]
  rw [e, rz_x_u w _ (Nat.mod_lt _ (rz_k_pos w)), hd]
theorem rz_R_congr {a : Nat → Int32} {f : Int32} {c c' : Nat → Nat → Int32} (h : rz_R a f c) (e : ∀ m r, m < 5 → r < 16 → ¬ nI m = f → c m r = c' m r) : rz_R a f c' :=
  fun m r hm hr hf => (h m r hm hr hf).trans (e m r hm hr hf)
theorem rz_neg {m : Nat} (h : m < 2 ^ 31) : ¬ nI m = -1 := by
  intro e
  have h1 := nI_pos h
  rw [e] at h1
  exact h1 (by decide)
theorem rz_ix (m r : Nat) : nI m * 16 + nI r = nI (m * 16 + r) := by
  rw [show (16 : Int32) = nI 16 from rfl, pk_mul, nI_add]
theorem rz_W_t {s mv r : Nat} (h : s = 2 ∨ (s = 1 ∧ r < mv)) : rz_W s mv r = true := decide_eq_true h
theorem rz_W_f {s mv r : Nat} (h : ¬ (s = 2 ∨ (s = 1 ∧ r < mv))) : rz_W s mv r = false := decide_eq_false h
theorem rz_B_t {s mv b : Nat} (h : s = 2 ∨ (s = 1 ∧ b < 4 * mv)) : rz_B s mv b = true := decide_eq_true h
theorem rz_B_f {s mv b : Nat} (h : ¬ (s = 2 ∨ (s = 1 ∧ b < 4 * mv))) : rz_B s mv b = false := decide_eq_false h
/-- the row of a block has the block's layout, and holds blocks -/
theorem rz_W_B {s mv b : Nat} : rz_W s mv (b / rz_k (rz_B s mv b)) = rz_B s mv b := by
  by_cases h : s = 2 ∨ (s = 1 ∧ b < 4 * mv)
  · rw [rz_B_t h]
    exact rz_W_t (by show s = 2 ∨ (s = 1 ∧ b / 4 < mv); omega)
  · rw [rz_B_f h]
    exact rz_W_f (by show ¬ (s = 2 ∨ (s = 1 ∧ b / 2 < mv)); omega)
theorem rz_U_B {s mv b : Nat} : rz_U s mv (b / rz_k (rz_B s mv b)) := by
  intro hs
  by_cases h : s = 2 ∨ (s = 1 ∧ b < 4 * mv)
  · rw [rz_B_t h]
    show b / 4 < mv ∨ 2 * mv ≤ b / 4
    omega
  · rw [rz_B_f h]
    show b / 2 < mv ∨ 2 * mv ≤ b / 2
    omega
/-- only one row holds block b -/
theorem rz_one {s mv b r i : Nat} (hs : s ≤ 2) (hU : rz_U s mv r) (hi : i < rz_k (rz_W s mv r)) (e : rz_k (rz_W s mv r) * r + i = b) : r = b / rz_k (rz_B s mv b) := by
  by_cases h : s = 2 ∨ (s = 1 ∧ r < mv)
  · rw [rz_W_t h] at hi e
    have e4 : 4 * r + i = b := e
    have i4 : i < 4 := hi
    rw [rz_B_t (by omega)]
    show r = b / 4
    omega
  · rw [rz_W_f h] at hi e
    have e4 : 2 * r + i = b := e
    have i4 : i < 2 := hi
    unfold rz_U at hU
    rw [rz_B_f (by omega)]
    show r = b / 2
    omega
end
section
/-! the small methods -/
theorem rz_size {post : Int32 → Prop} {run f st cp op : Int32} {a g : Nat → Int32} {mv : Nat} (hm : mv ≤ 6) (H : post (nI (if mv = 6 then 48 else 24))) : wpX_size post (run, f, st, nI mv, cp, op, a, g) := by
  unfold wpX_size
  refine pk_eq mv 6 (fun e => ?_) (fun e => ?_)
  · rw [if_pos e] at H
    exact H
  · rw [if_neg e] at H
    exact H
theorem rz_isBlock {post : Int32 → Prop} {run f st cp op : Int32} {a g : Nat → Int32} {mv b : Nat} (hm : mv ≤ 6) (hb : b < 64) (H1 : b < (if mv = 6 then 48 else 24) → post 1) (H0 : ¬ b < (if mv = 6 then 48 else 24) → post 0) : wpX_isBlock post (run, f, st, nI mv, cp, op, a, g) (nI b) := by
  unfold wpX_isBlock
  refine rz_size hm ?_
  refine br_f (nI_pos (by omega)) ?_
  refine pk_le (if mv = 6 then 48 else 24) b (fun h => H0 (by omega)) (fun h => H1 h) rfl rfl ?_ (by omega)
  split <;> decide
theorem rz_bw {post : Int32 → Prop} {run f cp op : Int32} {a g : Nat → Int32} {s mv b : Nat} (hs : s ≤ 2) (hm : mv ≤ 6) (hb : b < 64) (H : post (rz_b (rz_B s mv b))) : wpX_blockIsWide post (run, f, nI s, nI mv, cp, op, a, g) (nI b) := by
  unfold wpX_blockIsWide
  refine pk_eq s 2 (fun e => ?_) (fun e => pk_eq s 1 (fun e1 => pk_le (4 * mv) b (fun h => ?_) (fun h => ?_) (pk_mul 4 mv)) (fun e1 => ?_))
  · rw [rz_B_t (by omega)] at H
    exact H
  · rw [rz_B_f (by omega)] at H
    exact H
  · rw [rz_B_t (by omega)] at H
    exact H
  · rw [rz_B_f (by omega)] at H
    exact H
theorem rz_isW {post : Int32 → Prop} {run f cp op : Int32} {a g : Nat → Int32} {s mv r : Nat} (hs : s ≤ 2) (hm : mv ≤ 6) (hb : r < 64) (H : post (rz_b (rz_W s mv r))) : wpX_isWide post (run, f, nI s, nI mv, cp, op, a, g) (nI r) := by
  unfold wpX_isWide
  refine pk_eq s 2 (fun e => ?_) (fun e => pk_eq s 1 (fun e1 => pk_le mv r (fun h => ?_) (fun h => ?_)) (fun e1 => ?_))
  · rw [rz_W_t (by omega)] at H
    exact H
  · rw [rz_W_f (by omega)] at H
    exact H
  · rw [rz_W_t (by omega)] at H
    exact H
  · rw [rz_W_f (by omega)] at H
    exact H
theorem rz_use {post : Int32 → Prop} {run f cp op : Int32} {a g : Nat → Int32} {s mv r : Nat} (hs : s ≤ 2) (hm : mv ≤ 6) (hb : r < 64) (H1 : rz_U s mv r → post 1) (H0 : ¬ rz_U s mv r → post 0) : wpX_inUse post (run, f, nI s, nI mv, cp, op, a, g) (nI r) := by
  unfold rz_U at H1 H0
  unfold wpX_inUse
  exact pk_eq s 1 (fun e => pk_lt r mv (fun h => H1 (by omega)) (fun h => pk_lt r (2 * mv) (fun h2 => H0 (by omega)) (fun h2 => H1 (by omega)) rfl (pk_mul 2 mv))) (fun e => H1 (by omega))
theorem rz_row {post : Int32 → Prop} {u : St0} {w : Bool} {b : Nat} (hb : b < 64) (H : post (nI (b / rz_k w))) : wpX_rowOf post u (nI b) (rz_b w) := by
  unfold wpX_rowOf
  cases w
  · refine br_t rfl ?_
    rw [pk_shrN (by omega) _ 1 (by decide)]
    exact H
  · refine br_f (by decide) ?_
    rw [pk_shrN (by omega) _ 2 (by decide)]
    exact H
theorem rz_par {post : Int32 → Prop} {u : St0} {w : Bool} {r : Nat} (hr : r < 64) (H : post (nI (r % rz_n w))) : wpX_parityOf post u (nI r) (rz_b w) := by
  unfold wpX_parityOf
  cases w
  · refine br_t rfl ⟨by decide, ?_⟩
    rw [show nI r - nI r / 3 * 3 = nI (r % 3) from pk_rem (d := 3) (by omega) (by decide) (by decide)]
    exact H
  · refine br_f (by decide) ⟨by decide, ?_⟩
    rw [show nI r - nI r / 5 * 5 = nI (r % 5) from pk_rem (d := 5) (by omega) (by decide) (by decide)]
    exact H
theorem rz_mem41 {post : Int32 → Prop} {p i : Nat} (hp : p < 64) (hi : i < 64) (H : post (nI (if i < p then i else i + 1))) : wX_memberOf_41 post (nI p) (nI i) := by
  unfold wX_memberOf_41
  refine pk_le p i (fun h => ?_) (fun h => ?_)
  · rw [if_neg (by omega)] at H
    rw [nI_1]
    exact H
  · rw [if_pos h] at H
    exact H
theorem rz_mem {post : Int32 → Prop} {u : St0} {w : Bool} {b : Nat} (hb : b < 64) (H : post (nI (rz_m w b))) : wpX_memberOf post u (nI b) (rz_b w) := by
  unfold wpX_memberOf
  cases w
  · refine br_t rfl ?_
    rw [pk_shrN (by omega) _ 1 (by decide)]
    unfold wX_memberOf_13
    refine br_t rfl ⟨by decide, ?_⟩
    rw [show nI (b / 2 ^ 1) - nI (b / 2 ^ 1) / 3 * 3 = nI (b / 2 % 3) from pk_rem (d := 3) (by omega) (by decide) (by decide)]
    unfold wX_memberOf_27
    refine br_t rfl ?_
    rw [pk_andN (by omega) 1 (by decide)]
    exact rz_mem41 (by omega) (by omega) H
  · refine br_f (by decide) ?_
    rw [pk_shrN (by omega) _ 2 (by decide)]
    unfold wX_memberOf_13
    refine br_f (by decide) ⟨by decide, ?_⟩
    rw [show nI (b / 2 ^ 2) - nI (b / 2 ^ 2) / 5 * 5 = nI (b / 4 % 5) from pk_rem (d := 5) (by omega) (by decide) (by decide)]
    unfold wX_memberOf_27
    refine br_f (by decide) ?_
    rw [pk_andN (by omega) 2 (by decide)]
    exact rz_mem41 (by omega) (by omega) H
/-- one cell written, or nothing if its member has failed -/
theorem rz_put {post : St2 → Prop} {run f st mv cp op : Int32} {a g : Nat → Int32} {c : Nat → Nat → Int32} {m r : Nat} {x y v v' : Int32} (hm : m < 5) (hr : r < 16) (h : rz_R a f c) (hv : ¬ nI m = f → v = v')
    (H : ∀ a', rz_R a' f (rz_u c m r v') → post (run, f, st, mv, cp, op, a', g)) (hx : x = nI m) (hy : y = nI r) : wpX_put post (run, f, st, mv, cp, op, a, g) x y v := by
  subst hx hy
  unfold wpX_put
  refine br_c (fun e => H a ?_) (fun e => ⟨pk_in (m * 16 + r) 80 (by omega) (rz_ix m r), ?_⟩)
  · intro m' r' hm' hr' hf
    rw [h m' r' hm' hr' hf]
    unfold rz_u
    rw [if_neg]
    intro q
    exact hf (by rw [q.1]; exact e)
  · intro a' ea
    apply H
    intro m' r' hm' hr' hf
    rw [ea, rz_ix, nI_clamp (by omega), hv e]
    unfold rz_u
    by_cases q : m' = m ∧ r' = r
    · rw [if_pos q, q.1, q.2, pk_us]
    · rw [if_neg q, pk_un (by omega)]
      exact h m' r' hm' hr' hf
theorem rz_others17 {post : Int32 → Prop} {run f st mv cp op : Int32} {a g : Nat → Int32} {c : Nat → Nat → Int32} {N r : Nat} {z : Int32} (hN : N ≤ 5) (hr : r < 16) (h : rz_R a f c) (hf : f = z ∨ f = -1)
    (H : post (rz_s (fun m => if nI m = z then 0 else c m r) N)) : ∃ n, wX_others_17 post (nI r) z (nI N) run f st mv cp op a g n 0 0 := by
  refine pk_loop (fun n i s => wX_others_17 post (nI r) z (nI N) run f st mv cp op a g n s (nI i)) (fun i s => s = rz_s (fun m => if nI m = z then 0 else c m r) i) N 0 0 (by omega) rfl ?_ ?_
  · intro n s hs
    refine pk_le N N (fun _ => ?_) (fun q => absurd q (by omega))
    rw [hs]
    exact H
  · intro n i s hi hs hw
    refine pk_le N i (fun q => absurd q (by omega)) (fun _ => br_c (fun e => nm_r (nI_1 i) (hw s ?_)) (fun e => ⟨pk_in (i * 16 + r) 80 (by omega) (rz_ix i r), nm_e (nm_r (nI_1 i) (hw _ ?_))⟩))
    · show s = rz_s (fun m => if nI m = z then 0 else c m r) i ^^^ (if nI i = z then 0 else c i r)
      rw [if_pos e, Int32.xor_zero]
      exact hs
    · show _ = rz_s (fun m => if nI m = z then 0 else c m r) i ^^^ (if nI i = z then 0 else c i r)
      rw [if_neg e, rz_ix, nI_clamp (by omega), h i r (by omega) hr ?_, hs]
      rcases hf with q | q
      · rw [q]
        exact e
      · rw [q]
        exact rz_neg (by omega)
theorem rz_others {post : Int32 → Prop} {run f st mv cp op : Int32} {a g : Nat → Int32} {c : Nat → Nat → Int32} {w : Bool} {r : Nat} {z : Int32} (hr : r < 16) (h : rz_R a f c) (hf : f = z ∨ f = -1)
    (H : post (rz_s (fun m => if nI m = z then 0 else c m r) (rz_n w))) : wpX_others post (run, f, st, mv, cp, op, a, g) (nI r) z (rz_b w) := by
  unfold wpX_others
  cases w
  · exact br_t rfl (rz_others17 (N := 3) (by decide) hr h hf H)
  · exact br_f (by decide) (rz_others17 (N := 5) (by decide) hr h hf H)
/-- the others of a row, when they are as expected -/
theorem rz_others_e {post : Int32 → Prop} {run f st mv cp op : Int32} {a g : Nat → Int32} {c : Nat → Nat → Int32} {V : Nat → Int32} {w : Bool} {r k : Nat} (hr : r < 16) (hk : k < rz_n w) (h : rz_R a f c) (hf : f = nI k ∨ f = -1)
    (hc : ∀ m, m < rz_n w → m ≠ k → c m r = rz_e V w r m) (H : post (rz_e V w r k)) : wpX_others post (run, f, st, mv, cp, op, a, g) (nI r) (nI k) (rz_b w) := by
  refine rz_others hr h hf ?_
  have hn := rz_n_le w
  rw [← rz_e1 V w r hk] at H
  rw [rz_s_congr (t' := fun m => if m = k then 0 else rz_e V w r m)]
  · exact H
  · intro m hm
    show (if nI m = nI k then 0 else c m r) = (if m = k then 0 else rz_e V w r m)
    by_cases e : m = k
    · rw [if_pos e, if_pos (by rw [e])]
    · rw [if_neg e, if_neg (fun q => e ((nI_eq (by omega) (by omega)).mp q))]
      exact hc m hm e
theorem rz_ff {post : Int32 → Prop} {run f st mv cp op : Int32} {a g : Nat → Int32} {c : Nat → Nat → Int32} {V : Nat → Int32} {w : Bool} {b : Nat} (hb : b < 64) (hr : b / rz_k w < 12) (h : rz_R a f c)
    (hc : ∀ m, m < rz_n w → c m (b / rz_k w) = rz_e V w (b / rz_k w) m) (H : post (V b)) : wpX_fetchFrom post (run, f, st, mv, cp, op, a, g) (nI b) (rz_b w) := by
  have hm := rz_m_lt w b
  have hn := rz_n_le w
  unfold wpX_fetchFrom
  refine rz_row hb ?_
  refine rz_mem hb ?_
  refine br_c (fun e => rz_others_e (V := V) (by omega) hm h (Or.inl e.symm) (fun m q _ => hc m q) ?_) (fun e => ⟨pk_in (rz_m w b * 16 + b / rz_k w) 80 (by omega) (rz_ix _ _), ?_⟩)
  · rw [rz_e_m]
    exact H
  · rw [rz_ix, nI_clamp (by omega), h _ _ (by omega) (by omega) e, hc _ hm, rz_e_m]
    exact H
end
section
/-! store, mend, scrub -/
theorem rz_bw' {post : Int32 → Prop} {run f cp op : Int32} {a g : Nat → Int32} {s mv b : Nat} {w : Bool} (hw : rz_B s mv b = w) (hs : s ≤ 2) (hm : mv ≤ 6) (hb : b < 64) (H : post (rz_b w)) : wpX_blockIsWide post (run, f, nI s, nI mv, cp, op, a, g) (nI b) := by
  subst hw
  exact rz_bw hs hm hb H
/-- the data written -/
theorem rz_st1 {V : Nat → Int32} {c : Nat → Nat → Int32} {w : Bool} {b : Nat} {v : Int32} (hc : ∀ m, m < rz_n w → c m (b / rz_k w) = rz_e V w (b / rz_k w) m) : ∀ m, m < rz_n w → m ≠ b / rz_k w % rz_n w → rz_u c (rz_m w b) (b / rz_k w) v m (b / rz_k w) = rz_e (upd V b v) w (b / rz_k w) m := by
  intro m hm hp
  unfold rz_u
  by_cases e : m = rz_m w b
  · rw [if_pos ⟨e, rfl⟩, e, rz_e_m, pk_us]
  · rw [if_neg (fun q => e q.1), hc m hm, rz_e_o V w b v e hp]
/-- the parity written too -/
theorem rz_st2 {V : Nat → Int32} {c : Nat → Nat → Int32} {w : Bool} {b : Nat} {v : Int32} (hc : ∀ m, m < rz_n w → c m (b / rz_k w) = rz_e V w (b / rz_k w) m) : ∀ m, m < rz_n w → rz_u (rz_u c (rz_m w b) (b / rz_k w) v) (b / rz_k w % rz_n w) (b / rz_k w) (rz_e (upd V b v) w (b / rz_k w) (b / rz_k w % rz_n w)) m (b / rz_k w) = rz_e (upd V b v) w (b / rz_k w) m := by
  intro m hm
  by_cases e : m = b / rz_k w % rz_n w
  · rw [e]
    exact if_pos ⟨rfl, rfl⟩
  · rw [← rz_st1 hc m hm e]
    exact if_neg (fun q => e q.1)
theorem rz_u_o {c : Nat → Nat → Int32} {m r m' r' : Nat} {v : Int32} (h : r' ≠ r) : rz_u c m r v m' r' = c m' r' := if_neg (fun q => h q.2)
theorem rz_store {post : St2 → Prop} {run f cp op : Int32} {a g : Nat → Int32} {c : Nat → Nat → Int32} {V : Nat → Int32} {s mv b pt : Nat} {v : Int32} {w : Bool} (hs : s ≤ 2) (hmv : mv ≤ 6) (hb : b < 64) (hpt : pt ≤ 3) (hw : rz_B s mv b = w)
    (hr : b / rz_k w < 12) (h : rz_R a f c) (hc : ∀ m, m < rz_n w → c m (b / rz_k w) = rz_e V w (b / rz_k w) m)
    (H0 : pt = 0 → post (run, f, nI s, nI mv, cp, nI (b / rz_k w), a, g))
    (H1 : 0 < pt → pt < 3 → ∀ a' c', rz_R a' f c' → (∀ m r, r ≠ b / rz_k w → c' m r = c m r) → (∀ m, m < rz_n w → m ≠ b / rz_k w % rz_n w → c' m (b / rz_k w) = rz_e (upd V b v) w (b / rz_k w) m) → post (run, f, nI s, nI mv, cp, nI (b / rz_k w), a', g))
    (H3 : pt = 3 → ∀ a' c', rz_R a' f c' → (∀ m r, r ≠ b / rz_k w → c' m r = c m r) → (∀ m, m < rz_n w → c' m (b / rz_k w) = rz_e (upd V b v) w (b / rz_k w) m) → post (run, f, nI s, nI mv, cp, -1, a', g)) :
    wpX_store post (run, f, nI s, nI mv, cp, op, a, g) (nI b) v (nI pt) := by
  have hn := rz_n_le w
  have hm := rz_m_lt w b
  have hp := rz_p_lt w (b / rz_k w)
  unfold wpX_store
  refine rz_bw' hw hs hmv hb ?_
  refine rz_row hb ?_
  refine rz_mem hb ?_
  refine rz_par (by omega) ?_
  refine rz_ff hb hr h hc ?_
  refine ⟨pk_in (b / rz_k w % rz_n w * 16 + b / rz_k w) 80 (by omega) (rz_ix _ _), ?_⟩
  intro x ex
  refine pk_eq pt 0 (fun e => H0 e) (fun e => rz_put (m := rz_m w b) (r := b / rz_k w) (v' := v) (by omega) (by omega) h (fun _ => rfl) (fun a1 h1 => ?_) rfl rfl)
  refine pk_eq pt 1 (fun e1 => ?_) (fun e1 => rz_put (m := b / rz_k w % rz_n w) (r := b / rz_k w) (v' := rz_e (upd V b v) w (b / rz_k w) (b / rz_k w % rz_n w)) (by omega) (by omega) h1 (fun hf => ?_) (fun a2 h2 => ?_) rfl rfl)
  · exact H1 (by omega) (by omega) a1 _ h1 (fun m r q => rz_u_o q) (rz_st1 hc)
  · rw [ex, rz_ix, nI_clamp (by omega), h _ _ (by omega) (by omega) hf, hc _ hp, rz_e_p]
  · refine pk_eq pt 2 (fun e2 => ?_) (fun e2 => ?_)
    · exact H1 (by omega) (by omega) a2 _ h2 (fun m r q => (rz_u_o q).trans (rz_u_o q)) (fun m hm _ => rz_st2 hc m hm)
    · exact H3 (by omega) a2 _ h2 (fun m r q => (rz_u_o q).trans (rz_u_o q)) (rz_st2 hc)
theorem rz_mend {post : St2 → Prop} {run st mv cp op : Int32} {a g : Nat → Int32} {c : Nat → Nat → Int32} {V : Nat → Int32} {w : Bool} {r k : Nat} (hr : r < 12) (hk : k < rz_n w) (h : rz_R a (-1) c)
    (hc : ∀ m, m < rz_n w → m ≠ k → c m r = rz_e V w r m) (H : ∀ a', rz_R a' (-1) (rz_u c k r (rz_e V w r k)) → post (run, -1, st, mv, cp, op, a', g)) : wpX_mend post (run, -1, st, mv, cp, op, a, g) (nI r) (nI k) (rz_b w) := by
  have hn := rz_n_le w
  unfold wpX_mend
  refine rz_others_e (V := V) (by omega) hk h (Or.inr rfl) hc ?_
  exact rz_put (m := k) (r := r) (by omega) (by omega) h (fun _ => rfl) (fun a' h' => H a' h') rfl rfl
theorem rz_scrub24 {post : Int32 → Prop} {run cp op : Int32} {a g : Nat → Int32} {c : Nat → Nat → Int32} {V : Nat → Int32} {s mv : Nat} (hs : s ≤ 2) (hm : mv ≤ 6) (h : rz_R a (-1) c) (hP : rz_P V c s mv (fun _ _ => False)) (H : post 0) :
    ∃ n, wX_scrub_24 post run (-1) (nI s) (nI mv) cp op a g n 0 0 := by
  refine pk_loop (σ := Unit) (fun n i _ => wX_scrub_24 post run (-1) (nI s) (nI mv) cp op a g n 0 (nI i)) (fun _ _ => True) 12 0 () (by omega) trivial ?_ ?_
  · intro n _ _
    exact pk_le 12 12 (fun _ => H) (fun q => absurd q (by omega))
  · intro n i _ hi _ hw
    refine pk_le 12 i (fun q => absurd q (by omega)) (fun _ => rz_use hs hm (by omega) (fun hU => br_f (by decide) ?_) (fun _ => br_t rfl (nm_r (nI_1 i) (hw () trivial))))
    refine rz_isW hs hm (by omega) ?_
    refine rz_others (z := -1) (by omega) h (Or.inl rfl) (br_t ?_ (nm_r (nI_1 i) (hw () trivial)))
    have hn := rz_n_le (rz_W s mv i)
    refine (rz_s_congr (t' := rz_e V (rz_W s mv i) i) ?_).trans (rz_e0 V (rz_W s mv i) i)
    intro m hm'
    show (if nI m = -1 then 0 else c m i) = rz_e V (rz_W s mv i) i m
    rw [if_neg (rz_neg (by omega))]
    exact hP i m hi hU hm' (fun q => q)
end
section
/-! finish, takeBack, moveGroup -/
theorem rz_finish {post : St2 → Prop} {run f st mv cp op : Int32} {a g : Nat → Int32} {c : Nat → Nat → Int32} (h : rz_R a f c)
    (H : ∀ a', rz_R a' f (fun m r => if 6 ≤ r ∧ r < 12 then 0 else c m r) → post (run, f, 2, mv, cp, op, a', g)) : wpX_finish post (run, f, st, mv, cp, op, a, g) := by
  unfold wpX_finish
  refine pk_loop (fun n i s => wX_finish_3 post n (nI i) run f st mv cp op s g) (fun i s => 6 ≤ i ∧ rz_R s f (fun m r => if 6 ≤ r ∧ r < i then 0 else c m r)) 12 6 a (by omega) ?_ ?_ ?_
  · exact ⟨by omega, rz_R_congr h (fun m r _ _ _ => (if_neg (by omega)).symm)⟩
  · intro n s hs
    exact pk_le 12 12 (fun _ => H s hs.2) (fun q => absurd q (by omega))
  · intro n i s hi hs hw
    obtain ⟨h6, hs⟩ := hs
    refine pk_le 12 i (fun q => absurd q (by omega)) (fun _ => ?_)
    refine pk_loop (fun k j t => wX_finish_11 post (wX_finish_3 post n) (nI i) k (nI j) run f st mv cp op t g) (fun j t => rz_R t f (fun m r => if (6 ≤ r ∧ r < i) ∨ (r = i ∧ m < j) then 0 else c m r)) 5 0 s (by omega) ?_ ?_ ?_
    · refine rz_R_congr hs (fun m r _ _ _ => ?_)
      by_cases e : 6 ≤ r ∧ r < i
      · rw [if_pos e, if_pos (Or.inl e)]
      · rw [if_neg e, if_neg (by omega)]
    · intro k t ht
      refine pk_le 5 5 (fun _ => nm_r (nI_1 i) (hw t ⟨by omega, ?_⟩)) (fun q => absurd q (by omega))
      refine rz_R_congr ht (fun m r hm _ _ => ?_)
      by_cases e : 6 ≤ r ∧ r < i + 1
      · rw [if_pos e, if_pos (by omega)]
      · rw [if_neg e, if_neg (by omega)]
    · intro k j t hj ht hw2
      refine pk_le 5 j (fun q => absurd q (by omega)) (fun _ => rz_put (m := j) (r := i) (v' := 0) hj (by omega) ht (fun _ => rfl) (fun a' h' => nm_r (nI_1 j) (hw2 a' ?_)) rfl rfl)
      refine rz_R_congr h' (fun m r hm _ _ => ?_)
      unfold rz_u
      by_cases e : m = j ∧ r = i
      · rw [if_pos e, if_pos (by omega)]
      · rw [if_neg e]
        dsimp only
        by_cases e2 : (6 ≤ r ∧ r < i) ∨ (r = i ∧ m < j)
        · rw [if_pos e2, if_pos (by omega)]
        · rw [if_neg e2, if_neg (by omega)]
theorem rz_ix12 (q i : Nat) : nI q * 16 + 12 + nI i = nI (q * 16 + (12 + i)) := by
  rw [show (12 : Int32) = nI 12 from rfl, rz_ix, nI_add, Nat.add_assoc]
theorem rz_tb16 {post : St2 → Prop} {run f st mv cp op : Int32} {a g : Nat → Int32} {c : Nat → Nat → Int32} {V : Nat → Int32} {q : Nat} (hq : q < 5) (hf : ¬ nI q = f) (h : rz_R a f c) (hV : ∀ i, i < 4 → c q (12 + i) = V i)
    (H : ∀ g', (∀ j, j < 4 → g' j = V j) → ∃ n, wX_takeBack_49 post n 0 run f st mv cp op a g') : ∃ n, wX_takeBack_16 post (nI q) run f st mv cp op n 0 a g := by
  refine pk_loop (fun n i s => wX_takeBack_16 post (nI q) run f st mv cp op n (nI i) a s) (fun i s => ∀ j, j < i → s j = V j) 4 0 g (by omega) (fun j hj => absurd hj (by omega)) ?_ ?_
  · intro n s hs
    exact pk_le 4 4 (fun _ => H s hs) (fun q => absurd q (by omega))
  · intro n i s hi hs hw
    refine pk_le 4 i (fun q => absurd q (by omega)) (fun _ => ⟨pk_in (q * 16 + (12 + i)) 80 (by omega) (rz_ix12 q i), pk_in i 4 hi, nm_e (nm_r (nI_1 i) (hw _ ?_))⟩)
    intro j hj
    rw [rz_ix12, nI_clamp (by omega), nI_clamp (by omega), h q (12 + i) hq (by omega) hf, hV i hi]
    by_cases e : j = i
    · rw [e, pk_us]
    · rw [pk_un e]
      exact hs j (by omega)
def rz_T (c : Nat → Nat → Int32) (V : Nat → Int32) : Nat → Nat → Nat → Int32
  | 0 => c
  | i + 1 => rz_u (rz_T c V i) (rz_m false i) (i / 2) (V i)
theorem rz_T_o (c : Nat → Nat → Int32) (V : Nat → Int32) {m r : Nat} (hr : 2 ≤ r) : ∀ i, i ≤ 4 → rz_T c V i m r = c m r := by
  intro i
  induction i with
  | zero => intro _; rfl
  | succ i ih =>
    intro hi
    exact (rz_u_o (by omega)).trans (ih (by omega))
theorem rz_T_f (c : Nat → Nat → Int32) (V : Nat → Int32) {m r : Nat} (hr : r < 2) (hm : m < 3) : rz_u (rz_u (rz_T c V 4) 0 0 (V 0 ^^^ V 1)) 1 1 (V 2 ^^^ V 3) m r = rz_e V false r m := by
  rcases (show r = 0 ∨ r = 1 by omega) with rfl | rfl <;> rcases (show m = 0 ∨ m = 1 ∨ m = 2 by omega) with rfl | rfl | rfl <;>
    simp [rz_u, rz_T, rz_e, rz_h, rz_x, rz_m, rz_k, rz_n]
theorem rz_tb49 {post : St2 → Prop} {run f st mv cp op : Int32} {a g : Nat → Int32} {c : Nat → Nat → Int32} {V : Nat → Int32} (h : rz_R a f c) (hg : ∀ j, j < 4 → g j = V j)
    (H : ∀ a', rz_R a' f (rz_u (rz_u (rz_T c V 4) 0 0 (V 0 ^^^ V 1)) 1 1 (V 2 ^^^ V 3)) → post (run, f, st, mv, 0, op, a', g)) : ∃ n, wX_takeBack_49 post n 0 run f st mv cp op a g := by
  refine pk_loop (fun n i s => wX_takeBack_49 post n (nI i) run f st mv cp op s g) (fun i s => rz_R s f (rz_T c V i)) 4 0 a (by omega) h ?_ ?_
  · intro n s hs
    refine pk_le 4 4 (fun _ => rz_put (m := 0) (r := 0) (v' := V 0 ^^^ V 1) (by omega) (by omega) hs (fun _ => ?_) (fun a1 h1 => rz_put (m := 1) (r := 1) (v' := V 2 ^^^ V 3) (by omega) (by omega) h1 (fun _ => ?_) (fun a2 h2 => H a2 h2) rfl rfl) rfl rfl) (fun q => absurd q (by omega))
    · rw [hg 0 (by omega), hg 1 (by omega)]
    · rw [hg 2 (by omega), hg 3 (by omega)]
  · intro n i s hi hs hw
    have hm := rz_m_lt false i
    have hm3 : rz_m false i < 3 := hm
    refine pk_le 4 i (fun q => absurd q (by omega)) (fun _ => rz_mem (w := false) (by omega) ⟨pk_in i 4 hi, rz_put (m := rz_m false i) (r := i / 2) (v' := V i) (by omega) (by omega) hs (fun _ => ?_) (fun a' h' => nm_r (nI_1 i) (hw a' h')) rfl ?_⟩)
    · rw [nI_clamp (by omega)]
      exact hg i hi
    · exact pk_shrN (by omega) _ 1 (by decide)
theorem rz_tb {post : St2 → Prop} {run f st mv cp op : Int32} {a g : Nat → Int32} {c : Nat → Nat → Int32} {V : Nat → Int32} (h : rz_R a f c) (hV : ∀ i, i < 4 → c 3 (12 + i) = V i ∧ c 4 (12 + i) = V i)
    (H : ∀ a' g' c', rz_R a' f c' → (∀ r m, r < 2 → m < 3 → c' m r = rz_e V false r m) → (∀ r m, 2 ≤ r → c' m r = c m r) → post (run, f, st, mv, 0, op, a', g')) : wpX_takeBack post (run, f, st, mv, cp, op, a, g) := by
  have K : ∀ g', (∀ j, j < 4 → g' j = V j) → ∃ n, wX_takeBack_49 post n 0 run f st mv cp op a g' := by
    intro g' hg
    refine rz_tb49 h hg (fun a' h' => H a' g' _ h' (fun r m hr hm => rz_T_f c V hr hm) (fun r m hr => ?_))
    rw [rz_u_o (by omega), rz_u_o (by omega)]
    exact rz_T_o c V hr 4 (by omega)
  unfold wpX_takeBack
  refine br_c (fun e => rz_tb16 (q := 4) (by omega) ?_ h (fun i hi => (hV i hi).2) K) (fun e => rz_tb16 (q := 3) (by omega) (fun z => e z.symm) h (fun i hi => (hV i hi).1) K)
  rw [e]
  decide
/-- the wide row mv, its members of places below i written -/
def rz_Q (c : Nat → Nat → Int32) (g : Nat → Int32) (p mv i : Nat) : Nat → Nat → Int32 := fun m r => if r = mv ∧ m ≠ p ∧ (if m < p then m else m - 1) < i then g (if m < p then m else m - 1) else c m r
theorem rz_Q_s (c : Nat → Nat → Int32) (g : Nat → Int32) (p mv i : Nat) : rz_u (rz_Q c g p mv i) (if i < p then i else i + 1) mv (g i) = rz_Q c g p mv (i + 1) := by
  funext m r
  unfold rz_u rz_Q
  have key : m ≠ p → (m = (if i < p then i else i + 1) ↔ (if m < p then m else m - 1) = i) := by
    intro hp
    split <;> split <;> omega
  have key2 : m = p → m ≠ (if i < p then i else i + 1) := by
    intro hp
    split <;> omega
  generalize (if m < p then m else m - 1) = j at key
  by_cases hp : m = p
  · rw [if_neg (fun q => key2 hp q.1), if_neg (fun q => q.2.1 hp), if_neg (fun q => q.2.1 hp)]
  · by_cases q : j = i ∧ r = mv
    · rw [if_pos ⟨(key hp).mpr q.1, q.2⟩, if_pos ⟨q.2, hp, by omega⟩, q.1]
    · rw [if_neg (fun t => q ⟨(key hp).mp t.1, t.2⟩)]
      by_cases t : r = mv ∧ m ≠ p ∧ j < i
      · rw [if_pos t, if_pos ⟨t.1, t.2.1, by omega⟩]
      · rw [if_neg t, if_neg]
        intro z
        have z3 := z.2.2
        have z4 : j ≠ i := fun y => q ⟨y, z.1⟩
        exact t ⟨z.1, z.2.1, by omega⟩
theorem rz_Q_o {c : Nat → Nat → Int32} {g : Nat → Int32} {p mv i m r : Nat} (h : r ≠ mv) : rz_Q c g p mv i m r = c m r := if_neg (fun q => h q.1)
theorem rz_Q_f {c : Nat → Nat → Int32} {g : Nat → Int32} {p mv m : Nat} (hm : m < 5) (hp : p < 5) : rz_u (rz_Q c g p mv 4) p mv (g 0 ^^^ g 1 ^^^ g 2 ^^^ g 3) m mv = rz_h true g p m := by
  unfold rz_u rz_Q rz_h rz_x
  by_cases e : m = p
  · rw [if_pos ⟨e, rfl⟩, if_pos e, if_pos rfl]
  · rw [if_neg (fun q => e q.1), if_neg e, if_pos]
    refine ⟨rfl, e, ?_⟩
    split <;> omega
theorem rz_4 (mv i : Nat) : 4 * nI mv + nI i = nI (4 * mv + i) := by
  rw [show (4 : Int32) = nI 4 from rfl, pk_mul, nI_add]
theorem rz_m4 {mv i : Nat} (hi : i < 4) : rz_m true (4 * mv + i) = if i < mv % 5 then i else i + 1 := by
  show (if (4 * mv + i) % 4 < (4 * mv + i) / 4 % 5 then (4 * mv + i) % 4 else (4 * mv + i) % 4 + 1) = _
  rw [show (4 * mv + i) % 4 = i by omega, show (4 * mv + i) / 4 = mv by omega]
theorem rz_ww {post : St2 → Prop} {run f st cp op : Int32} {a g : Nat → Int32} {c : Nat → Nat → Int32} {mv s e : Nat} (hmv : mv < 6) (hse : s ≤ e) (he : e ≤ 4) (h : rz_R a f (rz_Q c g (mv % 5) mv s))
    (H : ∀ a', rz_R a' f (rz_Q c g (mv % 5) mv e) → post (run, f, st, nI mv, cp, op, a', g)) : wpX_writeWide post (run, f, st, nI mv, cp, op, a, g) (nI s) (nI e) := by
  unfold wpX_writeWide
  refine pk_loop (fun n i t => wX_writeWide_2 post (nI e) n (nI i) run f st (nI mv) cp op t g) (fun i t => rz_R t f (rz_Q c g (mv % 5) mv i)) e s a hse h ?_ ?_
  · intro n t ht
    exact pk_le e e (fun _ => H t ht) (fun q => absurd q (by omega))
  · intro n i t hi ht hw
    refine pk_le e i (fun q => absurd q (by omega)) (fun _ => ?_)
    rw [rz_4]
    have hm := rz_m_lt true (4 * mv + i)
    have hm5 : rz_m true (4 * mv + i) < 5 := hm
    refine rz_mem (w := true) (by omega) ⟨pk_in i 4 (by omega), rz_put (m := rz_m true (4 * mv + i)) (r := mv) (v' := g i) hm5 (by omega) ht (fun _ => by rw [nI_clamp (by omega)]) (fun a' h' => nm_r (nI_1 i) (hw a' ?_)) rfl rfl⟩
    rw [rz_m4 (by omega), rz_Q_s] at h'
    exact h'
theorem rz_mg92 {post : St2 → Prop} {run f st cp op : Int32} {a g : Nat → Int32} {c : Nat → Nat → Int32} {V : Nat → Int32} {mv pt : Nat} (hmv : mv < 6) (hp1 : 1 ≤ pt) (hp5 : pt ≤ 5) (h : rz_R a f c) (hg : ∀ j, j < 4 → g j = V (4 * mv + j))
    (H1 : pt ≤ 3 → ∀ a' c', rz_R a' f c' → (∀ m r, r ≠ mv → c' m r = c m r) → post (run, f, st, nI mv, cp, op, a', g))
    (H4 : 4 ≤ pt → (pt = 4 ∨ mv ≠ 5) → ∀ a' c', rz_R a' f c' → (∀ m r, r ≠ mv → c' m r = c m r) → (∀ m, m < 5 → c' m mv = rz_e V true mv m) → post (run, f, st, nI (mv + 1), 0, op, a', g))
    (H5 : pt = 5 → mv = 5 → ∀ a' c', rz_R a' f c' → (∀ m r, r < 6 → r ≠ mv → c' m r = c m r) → (∀ m, m < 5 → c' m mv = rz_e V true mv m) → (∀ m r, 6 ≤ r → r < 12 → c' m r = 0) → post (run, f, 2, nI (mv + 1), 0, op, a', g)) :
    wX_moveGroup_92 post (nI pt) run f st (nI mv) cp op a g := by
  have hp : mv % 5 < 5 := Nat.mod_lt _ (by decide)
  have K : ∀ m, m < 5 → rz_u (rz_Q c g (mv % 5) mv 4) (mv % 5) mv (g 0 ^^^ g 1 ^^^ g 2 ^^^ g 3) m mv = rz_e V true mv m := by
    intro m hm
    rw [rz_Q_f hm hp]
    show rz_h true g (mv % 5) m = rz_h true (fun i => V (4 * mv + i)) (mv % 5) m
    unfold rz_h
    by_cases e : m = mv % 5
    · rw [if_pos e, if_pos e]
      unfold rz_x
      rw [if_pos rfl, if_pos rfl, hg 0 (by omega), hg 1 (by omega), hg 2 (by omega), hg 3 (by omega)]
    · rw [if_neg e, if_neg e]
      apply hg
      split <;> omega
  unfold wX_moveGroup_92
  refine pk_eq pt 1 (fun e => H1 (by omega) a c h (fun _ _ _ => rfl)) (fun e => rz_ww (c := c) (s := 0) (e := 2) hmv (by omega) (by omega) ?_ (fun a1 h1 => ?_))
  · exact rz_R_congr h (fun m r _ _ _ => (if_neg (by omega)).symm)
  refine pk_eq pt 2 (fun e2 => H1 (by omega) a1 _ h1 (fun m r q => rz_Q_o q)) (fun e2 => rz_ww (c := c) (s := 2) (e := 4) hmv (by omega) (by omega) h1 (fun a2 h2 => ⟨by decide, ?_⟩))
  refine rz_put (m := mv % 5) (r := mv) (v' := g 0 ^^^ g 1 ^^^ g 2 ^^^ g 3) hp (by omega) h2 (fun _ => rfl) (fun a3 h3 => ?_) (pk_rem (d := 5) (by omega) (by decide) (by decide)) rfl
  refine pk_eq pt 3 (fun e3 => H1 (by omega) a3 _ h3 (fun m r q => (rz_u_o q).trans (rz_Q_o q))) (fun e3 => nm_r (nI_1 mv) (pk_le pt 4 (fun e4 => ?_) (fun e4 => pk_eq (mv + 1) 6 (fun e5 => rz_finish h3 (fun a4 h4 => ?_)) (fun e5 => ?_))))
  · exact H4 (by omega) (by omega) a3 _ h3 (fun m r q => (rz_u_o q).trans (rz_Q_o q)) K
  · refine H5 (by omega) (by omega) a4 _ h4 (fun m r q1 q => ?_) (fun m hm => ?_) (fun m r q1 q2 => if_pos ⟨q1, q2⟩)
    · exact (if_neg (by omega)).trans ((rz_u_o q).trans (rz_Q_o q))
    · exact (if_neg (by omega)).trans (K m hm)
  · exact H4 (by omega) (by omega) a3 _ h3 (fun m r q => (rz_u_o q).trans (rz_Q_o q)) K
theorem rz_mg46 {post : St2 → Prop} {run f st mv cp op x1 : Int32} {a g : Nat → Int32} {c : Nat → Nat → Int32} {V : Nat → Int32} (h : rz_R a f c) (hg : ∀ j, j < 4 → g j = V j)
    (H : ∀ a' c', rz_R a' f c' → (∀ m r, r < 12 → c' m r = c m r) → (∀ i, i < 4 → c' 3 (12 + i) = V i ∧ c' 4 (12 + i) = V i) → wX_moveGroup_92 post x1 run f st mv 1 op a' g) : ∃ n, wX_moveGroup_46 post x1 n 0 run f st mv cp op a g := by
  refine pk_loop (fun n i s => wX_moveGroup_46 post x1 n (nI i) run f st mv cp op s g) (fun i s => ∃ c', rz_R s f c' ∧ (∀ m r, r < 12 → c' m r = c m r) ∧ (∀ j, j < i → c' 3 (12 + j) = V j ∧ c' 4 (12 + j) = V j)) 4 0 a (by omega) ⟨c, h, fun _ _ _ => rfl, fun j hj => absurd hj (by omega)⟩ ?_ ?_
  · intro n s hs
    obtain ⟨c', h1, h2, h3⟩ := hs
    exact pk_le 4 4 (fun _ => H s c' h1 h2 h3) (fun q => absurd q (by omega))
  · intro n i s hi hs hw
    obtain ⟨c', h1, h2, h3⟩ := hs
    have hv : g (nI i).toNatClampNeg = V i := by
      rw [nI_clamp (by omega)]
      exact hg i hi
    refine pk_le 4 i (fun q => absurd q (by omega)) (fun _ => ⟨pk_in i 4 hi, rz_put (m := 3) (r := 12 + i) (v' := V i) (by omega) (by omega) h1 (fun _ => hv) (fun a1 k1 => ⟨pk_in i 4 hi, rz_put (m := 4) (r := 12 + i) (v' := V i) (by omega) (by omega) k1 (fun _ => hv) (fun a2 k2 => nm_r (nI_1 i) (hw a2 ⟨_, k2, ?_, ?_⟩)) rfl (nI_add 12 i)⟩) rfl (nI_add 12 i)⟩)
    · intro m r hr
      rw [rz_u_o (by omega), rz_u_o (by omega)]
      exact h2 m r hr
    · intro j hj
      by_cases e : j = i
      · subst e
        refine ⟨?_, if_pos ⟨rfl, rfl⟩⟩
        exact (if_neg (by omega)).trans (if_pos ⟨rfl, rfl⟩)
      · rw [rz_u_o (by omega), rz_u_o (by omega), rz_u_o (by omega), rz_u_o (by omega)]
        exact h3 j (by omega)
end
section
/-! moveGroup, write, replace, fail over the picture -/
theorem rz_e_zero {V : Nat → Int32} {w : Bool} {r m : Nat} (hm : m < rz_n w) (h : ∀ i, i < rz_k w → V (rz_k w * r + i) = 0) : rz_e V w r m = 0 := by
  rw [rz_e_congr (V' := fun _ => 0) hm h]
  unfold rz_e rz_h rz_x
  cases w <;> simp
theorem rz_F_up {f : Int32} {s s' : Nat} (h : rz_F f s) (hs : s' ≠ 0) : rz_F f s' := by
  rcases h with h | ⟨k, h1, _, h3⟩
  · exact Or.inl h
  · exact Or.inr ⟨k, h1, fun q => absurd q hs, h3⟩
/-- a move's end: the boundary one on -/
theorem rz_P_next {V : Nat → Int32} {c c' : Nat → Nat → Int32} {mv : Nat} (hP : rz_P V c 1 mv (fun _ _ => False)) (h1 : ∀ m r, r < 12 → r ≠ mv → c' m r = c m r) (h2 : ∀ m, m < 5 → c' m mv = rz_e V true mv m) : rz_P V c' 1 (mv + 1) (fun _ _ => False) := by
  intro r m hr hU hm _
  have hn := rz_n_le (rz_W 1 (mv + 1) r)
  by_cases e : r = mv
  · rw [e, rz_W_t (by omega)]
    exact h2 m (by omega)
  · have hU2 : r < mv + 1 ∨ 2 * (mv + 1) ≤ r := hU rfl
    have ew : rz_W 1 (mv + 1) r = rz_W 1 mv r := by
      by_cases q : r < mv
      · rw [rz_W_t (by omega), rz_W_t (by omega)]
      · rw [rz_W_f (by omega), rz_W_f (by omega)]
    rw [ew] at hm ⊢
    rw [h1 m r hr e]
    exact hP r m hr (fun _ => by omega) hm (fun q => q)
theorem rz_mg {post : St2 → Prop} {run f : Int32} {a g : Nat → Int32} {V : Nat → Int32} {mv pt : Nat} (hmv : mv < 6) (hpt : pt ≤ 5) (hC : rz_C V f 1 mv a)
    (Hc : ∀ s' mv' a' g', rz_C V f s' mv' a' → (pt = 5 → ¬ (s' = 1 ∧ mv' = 6)) → post (run, f, nI s', nI mv', 0, -1, a', g'))
    (Hd : pt < 5 → ∀ a' g', rz_D V f a' → post (run, f, nI 1, nI 0, 1, -1, a', g')) : wpX_moveGroup post (run, f, nI 1, nI mv, 0, -1, a, g) (nI pt) := by
  have hC' := hC
  obtain ⟨hG, hF, hZ, c, hR, hP⟩ := hC'
  unfold wpX_moveGroup
  refine pk_loop (fun n i s => wX_moveGroup_2 post (nI pt) run f (nI 1) (nI mv) 0 (-1) n (nI i) a s) (fun i s => ∀ j, j < i → s j = V (4 * mv + j)) 4 0 g (by omega) (fun j hj => absurd hj (by omega)) ?_ ?_
  · intro n t ht
    refine pk_le 4 4 (fun _ => pk_eq pt 0 (fun e => Hc 1 mv a t hC (fun q => by omega)) (fun e => pk_eq mv 0 (fun e0 => ?_) (fun e0 => ?_))) (fun q => absurd q (by omega))
    · subst e0
      refine rz_mg46 hR (fun j hj => by rw [ht j hj, Nat.mul_zero, Nat.zero_add]) (fun a1 c1 hR1 h1 h2 => ?_)
      refine rz_mg92 (V := V) (mv := 0) (by omega) (by omega) hpt hR1 ht (fun q a' c' hR' k1 => ?_) (fun q q2 a' c' hR' k1 k2 => ?_) (fun q q2 => absurd q2 (by omega))
      · refine Hd (by omega) a' t ⟨hF, hZ, c', hR', ?_, ?_⟩
        · intro r m hr hU hm hx
          rw [k1 m r (fun z => hx (by show r < 2; omega)), h1 m r hr]
          exact hP r m hr hU hm (fun z => z)
        · intro i hi
          rw [k1 3 (12 + i) (by omega), k1 4 (12 + i) (by omega)]
          exact h2 i hi
      · refine Hc 1 1 a' t ⟨Or.inr (Or.inl ⟨rfl, by omega⟩), hF, hZ, c', hR', ?_⟩ (fun _ => by omega)
        exact rz_P_next hP (fun m r hr e => (k1 m r e).trans (h1 m r hr)) k2
    · refine rz_mg92 (V := V) (mv := mv) (by omega) (by omega) hpt hR ht (fun q a' c' hR' k1 => ?_) (fun q q2 a' c' hR' k1 k2 => ?_) (fun q q2 a' c' hR' k1 k2 k3 => ?_)
      · refine Hc 1 mv a' t ⟨hG, hF, hZ, c', hR', ?_⟩ (fun z => by omega)
        intro r m hr hU hm _
        have hU2 : r < mv ∨ 2 * mv ≤ r := hU rfl
        rw [k1 m r (by omega)]
        exact hP r m hr hU hm (fun z => z)
      · refine Hc 1 (mv + 1) a' t ⟨Or.inr (Or.inl ⟨rfl, by omega⟩), hF, hZ, c', hR', ?_⟩ (fun z => by omega)
        exact rz_P_next hP (fun m r hr e => k1 m r e) k2
      · refine Hc 2 (mv + 1) a' t ⟨Or.inr (Or.inr ⟨rfl, by omega⟩), rz_F_up hF (by omega), fun z => absurd rfl z, c', hR', ?_⟩ (fun z => by omega)
        intro r m hr hU hm _
        rw [rz_W_t (by omega)] at hm ⊢
        by_cases e6 : 6 ≤ r
        · rw [k3 m r e6 hr]
          refine (rz_e_zero hm (fun i hi => hZ (by omega) _ ?_)).symm
          show 24 ≤ 4 * r + i
          omega
        · by_cases e : r = mv
          · rw [e]
            exact k2 m hm
          · rw [k1 m r (by omega) e]
            have z := hP r m hr (fun _ => by omega)
            rw [rz_W_t (by omega)] at z
            exact z hm (fun y => y)
  · intro n i t hi ht hw
    refine pk_le 4 i (fun q => absurd q (by omega)) (fun _ => ?_)
    rw [rz_4]
    refine rz_ff (w := false) (V := V) (by omega) ?_ hR ?_ ⟨pk_in i 4 hi, nm_e (nm_r (nI_1 i) (hw _ ?_))⟩
    · show (4 * mv + i) / 2 < 12
      omega
    · intro m hm
      show c m ((4 * mv + i) / 2) = rz_e V false ((4 * mv + i) / 2) m
      have z := hP ((4 * mv + i) / 2) m (by omega) (fun _ => by omega)
      rw [rz_W_f (by omega)] at z
      exact z hm (fun y => y)
    · intro j hj
      rw [nI_clamp (by omega)]
      by_cases e : j = i
      · rw [e, pk_us]
      · rw [pk_un e]
        exact ht j (by omega)
/-- a block of the array, and its row -/
theorem rz_blk {s mv b : Nat} (hG : rz_G s mv) (hx : ¬ (s = 1 ∧ mv = 6)) (hb : b < (if mv = 6 then 48 else 24)) : b < 48 ∧ (s ≠ 2 → b < 24) ∧ b / rz_k (rz_B s mv b) < 12 := by
  unfold rz_G at hG
  by_cases e : mv = 6
  · rw [if_pos e] at hb
    refine ⟨hb, by omega, ?_⟩
    rw [rz_B_t (by omega)]
    show b / 4 < 12
    omega
  · rw [if_neg e] at hb
    refine ⟨by omega, by omega, ?_⟩
    cases rz_B s mv b
    · show b / 2 < 12
      omega
    · show b / 4 < 12
      omega
theorem rz_Gs {s mv : Nat} (h : rz_G s mv) : s ≤ 2 ∧ mv ≤ 6 := by
  unfold rz_G at h
  omega
/-- the row of a block is as expected -/
theorem rz_P_b {V : Nat → Int32} {c : Nat → Nat → Int32} {s mv b : Nat} (hP : rz_P V c s mv (fun _ _ => False)) (hr : b / rz_k (rz_B s mv b) < 12) : ∀ m, m < rz_n (rz_B s mv b) → c m (b / rz_k (rz_B s mv b)) = rz_e V (rz_B s mv b) (b / rz_k (rz_B s mv b)) m := by
  intro m hm
  have z := hP _ m hr rz_U_B
  rw [rz_W_B] at z
  exact z hm (fun y => y)
/-- another row doesn't hold block b -/
theorem rz_e_far {V : Nat → Int32} {s mv b r m : Nat} {v : Int32} (hs : s ≤ 2) (hU : rz_U s mv r) (hm : m < rz_n (rz_W s mv r)) (h : r ≠ b / rz_k (rz_B s mv b)) : rz_e V (rz_W s mv r) r m = rz_e (upd V b v) (rz_W s mv r) r m := by
  refine rz_e_congr hm (fun i hi => (pk_un ?_).symm)
  intro e
  exact h (rz_one hs hU hi e)
theorem rz_Z_u {V : Nat → Int32} {s b : Nat} {v : Int32} (h : rz_Z V s) (hb : s ≠ 2 → b < 24) : rz_Z (upd V b v) s := by
  intro hs j hj
  have := hb hs
  rw [pk_un (by omega)]
  exact h hs j hj
/-- a store that ends -/
theorem rz_st_w {post : St2 → Prop} {run f cp op : Int32} {a g : Nat → Int32} {V : Nat → Int32} {s mv b : Nat} {v : Int32} (hC : rz_C V f s mv a) (hx : ¬ (s = 1 ∧ mv = 6)) (hb : b < (if mv = 6 then 48 else 24))
    (H : ∀ a', rz_C (upd V b v) f s mv a' → post (run, f, nI s, nI mv, cp, -1, a', g)) : wpX_store post (run, f, nI s, nI mv, cp, op, a, g) (nI b) v 3 := by
  obtain ⟨hG, hF, hZ, c, hR, hP⟩ := hC
  obtain ⟨hs, hmv⟩ := rz_Gs hG
  obtain ⟨b1, b2, b3⟩ := rz_blk hG hx hb
  refine rz_store (pt := 3) hs hmv (by omega) (by omega) rfl b3 hR (rz_P_b hP b3) (fun q => absurd q (by omega)) (fun _ q => absurd q (by omega)) (fun _ a' c' hR' k1 k2 => H a' ⟨hG, hF, rz_Z_u hZ b2, c', hR', ?_⟩)
  intro r m hr hU hm _
  by_cases e : r = b / rz_k (rz_B s mv b)
  · subst e
    rw [rz_W_B] at hm ⊢
    exact k2 m hm
  · rw [k1 m r e, hP r m hr hU hm (fun z => z)]
    exact rz_e_far hs hU hm e
/-- a store with a crash: nothing changed, or the block; the row's parity is then to be made anew, or the store had ended -/
theorem rz_st_c {post : St2 → Prop} {run cp op : Int32} {a g : Nat → Int32} {V : Nat → Int32} {s mv b pt : Nat} {v : Int32} (hC : rz_C V (-1) s mv a) (hx : ¬ (s = 1 ∧ mv = 6)) (hb : b < (if mv = 6 then 48 else 24)) (hpt : pt ≤ 3)
    (H0 : pt = 0 → ∀ q, rz_E V s mv q a → post (run, -1, nI s, nI mv, cp, nI q, a, g))
    (H1 : 0 < pt → ∀ q a', rz_E (upd V b v) s mv q a' → post (run, -1, nI s, nI mv, cp, nI q, a', g))
    (H3 : 0 < pt → ∀ a', rz_C (upd V b v) (-1) s mv a' → post (run, -1, nI s, nI mv, cp, -1, a', g)) : wpX_store post (run, -1, nI s, nI mv, cp, op, a, g) (nI b) v (nI pt) := by
  by_cases e3 : pt = 3
  · subst e3
    exact rz_st_w hC hx hb (H3 (by omega))
  obtain ⟨hG, hF, hZ, c, hR, hP⟩ := hC
  obtain ⟨hs, hmv⟩ := rz_Gs hG
  obtain ⟨b1, b2, b3⟩ := rz_blk hG hx hb
  refine rz_store hs hmv (by omega) hpt rfl b3 hR (rz_P_b hP b3) (fun q => ?_) (fun q1 q2 a' c' hR' k1 k2 => ?_) (fun q => absurd q e3)
  · exact H0 q _ ⟨hG, hx, hZ, b3, rz_U_B, c, hR, fun r m hr hU hm _ => hP r m hr hU hm (fun z => z)⟩
  · refine H1 q1 _ a' ⟨hG, hx, rz_Z_u hZ b2, b3, rz_U_B, c', hR', ?_⟩
    intro r m hr hU hm hne
    by_cases e : r = b / rz_k (rz_B s mv b)
    · subst e
      rw [rz_W_B] at hm hne ⊢
      exact k2 m hm (fun z => hne ⟨rfl, z⟩)
    · rw [k1 m r e, hP r m hr hU hm (fun z => z)]
      exact rz_e_far hs hU hm e
end
section
/-! the calls -/
/-- up, or down -/
theorem rz_cs {V : Nat → Int32} {u : St2} (h : rz_S V u) : (∃ f s mv a g, u = (1, f, nI s, nI mv, 0, -1, a, g) ∧ rz_C V f s mv a ∧ ¬ (s = 1 ∧ mv = 6)) ∨ (∃ f st mv cp op a g, u = (0, f, st, mv, cp, op, a, g)) := by
  rcases h with h | ⟨f, s, mv, a, g, e, _⟩ | ⟨s, mv, q, a, g, e, _⟩ | ⟨f, a, g, e, _⟩
  · exact Or.inl h
  · exact Or.inr ⟨_, _, _, _, _, _, _, e⟩
  · exact Or.inr ⟨_, _, _, _, _, _, _, e⟩
  · exact Or.inr ⟨_, _, _, _, _, _, _, e⟩
theorem rz_S1 {V : Nat → Int32} {f : Int32} {s mv : Nat} {a g : Nat → Int32} (h : rz_C V f s mv a) (hx : ¬ (s = 1 ∧ mv = 6)) : rz_S V (1, f, nI s, nI mv, 0, -1, a, g) := Or.inl ⟨f, s, mv, a, g, rfl, h, hx⟩
theorem rz_S0 {V : Nat → Int32} {f : Int32} {s mv : Nat} {a g : Nat → Int32} (h : rz_C V f s mv a) : rz_S V (0, f, nI s, nI mv, 0, -1, a, g) := Or.inr (Or.inl ⟨f, s, mv, a, g, rfl, h⟩)
theorem rz_SE {V : Nat → Int32} {s mv q : Nat} {a g : Nat → Int32} (h : rz_E V s mv q a) : rz_S V (0, -1, nI s, nI mv, 0, nI q, a, g) := Or.inr (Or.inr (Or.inl ⟨s, mv, q, a, g, rfl, h⟩))
theorem rz_SD {V : Nat → Int32} {f : Int32} {a g : Nat → Int32} (h : rz_D V f a) : rz_S V (0, f, nI 1, nI 0, 1, -1, a, g) := Or.inr (Or.inr (Or.inr ⟨f, a, g, rfl, h⟩))
theorem rz_10 : ¬ (1 : Int32) = 0 := by decide
theorem rz_begin {post : Int32 → St2 → Prop} {V : Nat → Int32} {u : St2} (h : rz_S V u) (H : ∀ r u', rz_S V u' → post r u') : wpX_begin post u := by
  rcases rz_cs h with ⟨f, s, mv, a, g, rfl, hC, hx⟩ | ⟨f, st, mv, cp, op, a, g, rfl⟩
  · have hC' := hC
    obtain ⟨hG, hF, hZ, c, hR, hP⟩ := hC'
    obtain ⟨hs, hmv⟩ := rz_Gs hG
    unfold wpX_begin
    refine br_f rz_10 (pk_eq s 0 (fun e => br_c (fun ef => ?_) (fun ef => H _ _ h)) (fun e => H _ _ h))
    have e2 : mv = 0 := by
      unfold rz_G at hG
      omega
    subst e e2
    refine H _ _ (rz_S1 (s := 1) (mv := 0) ⟨Or.inr (Or.inl ⟨rfl, by omega⟩), rz_F_up hF (by omega), fun _ => hZ (by omega), c, hR, ?_⟩ (by omega))
    intro r m hr hU hm _
    have z := hP r m hr (fun y => absurd y (by omega))
    rw [rz_W_f (by omega)] at z hm ⊢
    exact z hm (fun y => y)
  · exact br_t rfl (H _ _ h)
theorem rz_step {post : Int32 → St2 → Prop} {V : Nat → Int32} {u : St2} (h : rz_S V u) (H : ∀ r u', rz_S V u' → post r u') : wpX_step post u := by
  rcases rz_cs h with ⟨f, s, mv, a, g, rfl, hC, hx⟩ | ⟨f, st, mv, cp, op, a, g, rfl⟩
  · obtain ⟨hs, hmv⟩ := rz_Gs hC.1
    unfold wpX_step
    refine br_f rz_10 (pk_eq s 1 (fun e => pk_eq mv 6 (fun e6 => H _ _ h) (fun e6 => ?_)) (fun e => H _ _ h))
    subst e
    exact rz_mg (V := V) (pt := 5) (by omega) (by omega) hC (fun s' mv' a' g' hC' hx' => H _ _ (rz_S1 hC' (hx' rfl))) (fun q => absurd q (by omega))
  · exact br_t rfl (H _ _ h)
theorem rz_stepCrash {post : Int32 → St2 → Prop} {V : Nat → Int32} {u : St2} {pt : Nat} (hpt : pt ≤ 4) (h : rz_S V u) (H : ∀ r u', rz_S V u' → post r u') : wpX_stepCrash post u (nI pt) := by
  rcases rz_cs h with ⟨f, s, mv, a, g, rfl, hC, hx⟩ | ⟨f, st, mv, cp, op, a, g, rfl⟩
  · obtain ⟨hs, hmv⟩ := rz_Gs hC.1
    unfold wpX_stepCrash
    refine br_f rz_10 (pk_eq s 1 (fun e => pk_eq mv 6 (fun e6 => H _ _ h) (fun e6 => br_f (nI_pos (by omega)) (pk_le pt 4 (fun _ => ?_) (fun q => absurd q (by omega))))) (fun e => H _ _ h))
    subst e
    exact rz_mg (V := V) (pt := pt) (by omega) (by omega) hC (fun s' mv' a' g' hC' hx' => H _ _ (rz_S0 hC')) (fun q a' g' hD => H _ _ (rz_SD hD))
  · exact br_t rfl (H _ _ h)
theorem rz_crash {post : Int32 → St2 → Prop} {V : Nat → Int32} {u : St2} (h : rz_S V u) (H : ∀ r u', rz_S V u' → post r u') : wpX_crash post u := by
  rcases rz_cs h with ⟨f, s, mv, a, g, rfl, hC, hx⟩ | ⟨f, st, mv, cp, op, a, g, rfl⟩
  · exact br_f rz_10 (H _ _ (rz_S0 hC))
  · exact br_t rfl (H _ _ h)
theorem rz_m59 {post : Int32 → St2 → Prop} {V : Nat → Int32} {f : Int32} {s mv : Nat} {a g : Nat → Int32} (hC : rz_C V f s mv a) (H : ∀ r u', rz_S V u' → post r u') : wX_mount_59 post 0 f (nI s) (nI mv) 0 (-1) a g := by
  obtain ⟨hs, hmv⟩ := rz_Gs hC.1
  unfold wX_mount_59
  refine pk_eq s 1 (fun e => pk_eq mv 6 (fun e6 => ?_) (fun e6 => H _ _ (rz_S1 hC (by omega)))) (fun e => H _ _ (rz_S1 hC (by omega)))
  subst e e6
  obtain ⟨hG, hF, hZ, c, hR, hP⟩ := hC
  refine rz_finish hR (fun a' hR' => H _ _ (rz_S1 (s := 2) (mv := 6) ⟨Or.inr (Or.inr ⟨rfl, rfl⟩), rz_F_up hF (by omega), fun z => absurd rfl z, _, hR', ?_⟩ (by omega)))
  intro r m hr hU hm _
  rw [rz_W_t (by omega)] at hm ⊢
  by_cases e6 : 6 ≤ r
  · refine (if_pos ⟨e6, hr⟩).trans (rz_e_zero hm (fun i hi => hZ (by omega) _ ?_)).symm
    show 24 ≤ 4 * r + i
    omega
  · refine (if_neg (by omega)).trans ?_
    have z := hP r m hr (fun _ => by omega)
    rw [rz_W_t (by omega)] at z
    exact z hm (fun y => y)
theorem rz_mount {post : Int32 → St2 → Prop} {V : Nat → Int32} {u : St2} (h : rz_S V u) (H : ∀ r u', rz_S V u' → post r u') : wpX_mount post u := by
  have h0 := h
  rcases h with ⟨f, s, mv, a, g, rfl, hC, hx⟩ | ⟨f, s, mv, a, g, rfl, hC⟩ | ⟨s, mv, q, a, g, rfl, hE⟩ | ⟨f, a, g, rfl, hD⟩
  · exact br_f rz_10 (H _ _ h0)
  · exact br_t rfl (br_t rfl (br_t rfl (rz_m59 hC H)))
  · obtain ⟨hG, hx, hZ, hq, hU, c, hR, hP⟩ := hE
    obtain ⟨hs, hmv⟩ := rz_Gs hG
    unfold wpX_mount
    refine br_t rfl (br_f (rz_neg (by omega)) ?_)
    refine rz_isW hs hmv (by omega) ?_
    refine rz_par (by omega) ?_
    refine rz_mend (V := V) hq (rz_p_lt _ _) hR (fun m hm hne => hP q m hq hU hm (fun z => hne z.2)) (fun a' hR' => ?_)
    refine br_t rfl (rz_m59 (V := V) ⟨hG, Or.inl rfl, hZ, _, hR', ?_⟩ H)
    intro r m hr hU' hm _
    unfold rz_u
    by_cases e : m = q % rz_n (rz_W s mv q) ∧ r = q
    · rw [if_pos e, e.1, e.2]
    · rw [if_neg e]
      exact hP r m hr hU' hm (fun z => e ⟨z.2, z.1⟩)
  · obtain ⟨hF, hZ, c, hR, hP, hV⟩ := hD
    unfold wpX_mount
    refine br_t rfl (br_t rfl (br_f (by decide) ?_))
    refine rz_tb (V := V) hR hV (fun a' g' c' hR' k1 k2 => rz_m59 (V := V) ⟨Or.inr (Or.inl ⟨rfl, by omega⟩), hF, hZ, c', hR', ?_⟩ H)
    intro r m hr hU hm _
    by_cases e : r < 2
    · rw [rz_W_f (by omega)] at hm ⊢
      exact k1 r m e hm
    · rw [k2 r m (by omega)]
      exact hP r m hr hU hm e
theorem rz_fail44 {post : Int32 → St2 → Prop} {run st mv cp op : Int32} {a g : Nat → Int32} {c : Nat → Nat → Int32} {k : Nat} (hk : k < 5) (h : rz_R a (nI k) c) (H : ∀ a', rz_R a' (nI k) c → post 0 (run, nI k, st, mv, cp, op, a', g)) :
    ∃ n, wX_fail_44 post (nI k) run (nI k) st mv cp op n 0 a g := by
  refine pk_loop (fun n i s => wX_fail_44 post (nI k) run (nI k) st mv cp op n (nI i) s g) (fun i s => rz_R s (nI k) c) 16 0 a (by omega) h ?_ ?_
  · intro n s hs
    exact pk_le 16 16 (fun _ => H s hs) (fun q => absurd q (by omega))
  · intro n i s hi hs hw
    refine pk_le 16 i (fun q => absurd q (by omega)) (fun _ => ⟨pk_in (k * 16 + i) 80 (by omega) (rz_ix k i), nm_e (nm_r (nI_1 i) (hw _ ?_))⟩)
    intro m r hm hr hf
    rw [rz_ix, nI_clamp (by omega)]
    have e : m ≠ k := fun q => hf (by rw [q])
    rw [pk_un (by omega)]
    exact hs m r hm hr hf
theorem rz_fail {post : Int32 → St2 → Prop} {V : Nat → Int32} {u : St2} {k : Nat} (hk : k < 8) (h : rz_S V u) (H : ∀ r u', rz_S V u' → post r u') : wpX_fail post u (nI k) := by
  rcases rz_cs h with ⟨f, s, mv, a, g, rfl, hC, hx⟩ | ⟨f, st, mv, cp, op, a, g, rfl⟩
  · have hC' := hC
    obtain ⟨hG, hF, hZ, c, hR, hP⟩ := hC'
    obtain ⟨hs, hmv⟩ := rz_Gs hG
    have K : ∀ N, N ≤ 5 → (s = 0 → N ≤ 3) → ((nI k < nI N → ((f = -1 → ∃ n, wX_fail_44 post (nI k) 1 (nI k) (nI s) (nI mv) 0 (-1) n 0 a g) ∧ (¬ f = -1 → post (-3) (1, f, nI s, nI mv, 0, -1, a, g)))) ∧ (¬ nI k < nI N → post (-2) (1, f, nI s, nI mv, 0, -1, a, g))) := by
      intro N hN hN0
      refine pk_lt k N (fun e => br_c (fun ef => ?_) (fun ef => H _ _ h)) (fun e => H _ _ h)
      subst ef
      refine rz_fail44 (c := c) (by omega) (fun m r hm hr _ => hR m r hm hr (rz_neg (by omega))) (fun a' hR' => H _ _ (rz_S1 ⟨hG, ?_, hZ, c, hR', hP⟩ hx))
      exact Or.inr ⟨k, by omega, fun q => by have := hN0 q; omega, rfl⟩
    unfold wpX_fail wpX_members
    exact br_f rz_10 (pk_eq s 0 (fun e => br_f (nI_pos (by omega)) (K 3 (by omega) (fun _ => by omega))) (fun e => br_f (nI_pos (by omega)) (K 5 (by omega) (fun q => absurd q e))))
  · exact br_t rfl (H _ _ h)
/-- replace's second loop -/
theorem rz_rep58 {post : Int32 → St2 → Prop} {V : Nat → Int32} {s mv k : Nat} {a g : Nat → Int32} {c : Nat → Nat → Int32} (hk : k < 5) (hG : rz_G s mv) (hZ : rz_Z V s) (hx : ¬ (s = 1 ∧ mv = 6)) (hR : rz_R a (nI k) c) (hP : rz_P V c s mv (fun _ _ => False)) (H : ∀ r u', rz_S V u' → post r u') :
    ∃ n, wX_replace_58 post (nI k) n 0 1 (-1) (nI s) (nI mv) 0 (-1) a g := by
  obtain ⟨hs, hmv⟩ := rz_Gs hG
  refine pk_loop (fun n i t => wX_replace_58 post (nI k) n (nI i) 1 (-1) (nI s) (nI mv) 0 (-1) t g) (fun i t => ∃ c', rz_R t (-1) c' ∧ (∀ m r, m ≠ k → c' m r = c m r) ∧ (∀ r, r < i → rz_U s mv r → k < rz_n (rz_W s mv r) → c' k r = rz_e V (rz_W s mv r) r k)) 12 0 a (by omega) ?_ ?_ ?_
  · refine ⟨fun m r => if m = k then a (m * 16 + r) else c m r, ?_, fun m r hm => if_neg hm, fun r hr => absurd hr (by omega)⟩
    intro m r hm hr _
    by_cases e : m = k
    · exact (if_pos e).symm
    · exact (hR m r hm hr (fun q => e ((nI_eq (by omega) (by omega)).mp q))).trans (if_neg e).symm
  · intro n t ht
    obtain ⟨c', h1, h2, h3⟩ := ht
    refine pk_le 12 12 (fun _ => H _ _ (rz_S1 ⟨hG, Or.inl rfl, hZ, c', h1, ?_⟩ hx)) (fun q => absurd q (by omega))
    intro r m hr hU hm _
    by_cases e : m = k
    · subst e
      exact h3 r hr hU hm
    · rw [h2 m r e]
      exact hP r m hr hU hm (fun z => z)
  · intro n i t hi ht hw
    obtain ⟨c', h1, h2, h3⟩ := ht
    have K0 : (rz_U s mv i → ¬ k < rz_n (rz_W s mv i)) → ∀ x, x = nI i + 1 → wX_replace_58 post (nI k) n x 1 (-1) (nI s) (nI mv) 0 (-1) t g := by
      intro hno
      refine nm_r (nI_1 i) (hw t ⟨c', h1, h2, ?_⟩)
      intro r hr hU hn
      by_cases e : r = i
      · subst e
        exact absurd hn (hno hU)
      · exact h3 r (by omega) hU hn
    have K1 : rz_U s mv i → k < rz_n (rz_W s mv i) → wX_replace_87 post (wX_replace_58 post (nI k) n) (nI k) (nI i) (rz_b (rz_W s mv i)) 1 (-1) (nI s) (nI mv) 0 (-1) t g := by
      intro hU hn
      unfold wX_replace_87
      refine rz_mend (V := V) hi hn h1 (fun m hm hne => by rw [h2 m i hne]; exact hP i m hi hU hm (fun z => z)) (fun a' h' => nm_r (nI_1 i) (hw a' ⟨_, h', ?_, ?_⟩))
      · intro m r hm
        exact (if_neg (fun q => hm q.1)).trans (h2 m r hm)
      · intro r hr hU' hn'
        by_cases e : r = i
        · subst e
          exact if_pos ⟨rfl, rfl⟩
        · rw [rz_u_o e]
          exact h3 r (by omega) hU' hn'
    refine pk_le 12 i (fun q => absurd q (by omega)) (fun _ => ?_)
    refine rz_isW hs hmv (by omega) ?_
    refine rz_use hs hmv (by omega) (fun hU => br_f rz_10 ?_) (fun hU => br_t rfl (K0 (fun z => absurd z hU)))
    have K1' := K1 hU
    have K0' := K0
    cases ew : rz_W s mv i
    · rw [ew] at K1' K0'
      refine br_t rfl (pk_le 3 k (fun q => K0' (fun _ => ?_)) (fun q => K1' q))
      show ¬ k < 3
      omega
    · rw [ew] at K1'
      exact br_f (by decide) (K1' hk)
theorem rz_replace {post : Int32 → St2 → Prop} {V : Nat → Int32} {u : St2} (h : rz_S V u) (H : ∀ r u', rz_S V u' → post r u') : wpX_replace post u := by
  rcases rz_cs h with ⟨f, s, mv, a, g, rfl, hC, hx⟩ | ⟨f, st, mv, cp, op, a, g, rfl⟩
  · obtain ⟨hG, hF, hZ, c, hR, hP⟩ := hC
    unfold wpX_replace
    refine br_f rz_10 (br_c (fun ef => H _ _ h) (fun ef => ?_))
    rcases hF with hF | ⟨k, hk, _, rfl⟩
    · exact absurd hF ef
    refine pk_loop (fun n i t => wX_replace_32 post (nI k) 1 (-1) (nI s) (nI mv) 0 (-1) n (nI i) t g) (fun i t => rz_R t (nI k) c) 16 0 a (by omega) hR ?_ ?_
    · intro n t ht
      exact pk_le 16 16 (fun _ => rz_rep58 hk hG hZ hx ht hP H) (fun q => absurd q (by omega))
    · intro n i t hi ht hw
      refine pk_le 16 i (fun q => absurd q (by omega)) (fun _ => ⟨pk_in (k * 16 + i) 80 (by omega) (rz_ix k i), nm_e (nm_r (nI_1 i) (hw _ ?_))⟩)
      intro m r hm hr hf
      rw [rz_ix, nI_clamp (by omega)]
      have e : m ≠ k := fun q => hf (by rw [q])
      rw [pk_un (by omega)]
      exact ht m r hm hr hf
  · exact br_t rfl (H _ _ h)
end
section
/-! writes, reads, turns -/
theorem rz_write {post : Int32 → St2 → Prop} {V : Nat → Int32} {u : St2} {b : Nat} {v : Int32} (hb : b < 64) (h : rz_S V u) (H0 : ∀ u', rz_S (upd V b v) u' → post 0 u') (H1 : ∀ r, ¬ r = 0 → post r u) : wpX_write post u (nI b) v := by
  rcases rz_cs h with ⟨f, s, mv, a, g, rfl, hC, hx⟩ | ⟨f, st, mv, cp, op, a, g, rfl⟩
  · obtain ⟨hs, hmv⟩ := rz_Gs hC.1
    unfold wpX_write
    refine br_f rz_10 ?_
    refine rz_isBlock hmv hb (fun q => br_f rz_10 ?_) (fun q => br_t rfl (H1 _ (by decide)))
    exact rz_st_w hC hx q (fun a' hC' => H0 _ (rz_S1 hC' hx))
  · exact br_t rfl (H1 _ (by decide))
theorem rz_wc {post : Int32 → St2 → Prop} {V : Nat → Int32} {u : St2} {b pt : Nat} {v : Int32} (hb : b < 64) (hpt : pt ≤ 3) (h : rz_S V u) (H0 : pt = 0 → ∀ u', rz_S V u' → post 0 u') (H2 : 0 < pt → ∀ u', rz_S (upd V b v) u' → post 0 u') (H1 : ∀ r, ¬ r = 0 → post r u) : wpX_writeCrash post u (nI b) v (nI pt) := by
  rcases rz_cs h with ⟨f, s, mv, a, g, rfl, hC, hx⟩ | ⟨f, st, mv, cp, op, a, g, rfl⟩
  · obtain ⟨hs, hmv⟩ := rz_Gs hC.1
    unfold wpX_writeCrash
    refine br_f rz_10 ?_
    refine rz_isBlock hmv hb (fun q => br_f rz_10 (br_f (nI_pos (by omega)) (pk_le pt 3 (fun _ => br_c (fun ef => ?_) (fun ef => H1 _ (by decide))) (fun q => absurd q (by omega))))) (fun q => br_t rfl (H1 _ (by decide)))
    subst ef
    exact rz_st_c hC hx q hpt (fun q0 r hE => H0 q0 _ (rz_SE hE)) (fun q0 r a' hE => H2 q0 _ (rz_SE hE)) (fun q0 a' hC' => H2 q0 _ (rz_S0 hC'))
  · exact br_t rfl (H1 _ (by decide))
/-- V after i places of a fill -/
def rz_fl (V : Nat → Int32) (b : Nat) (d e : Int32) (i : Nat) : Nat → Int32 := fun j => if b ≤ j ∧ j < b + i then d + nI (j - b) * e else V j
theorem rz_fl_s (V : Nat → Int32) (b : Nat) (d e : Int32) (i : Nat) : upd (rz_fl V b d e i) (b + i) (d + nI i * e) = rz_fl V b d e (i + 1) := by
  funext j
  by_cases q : j = b + i
  · subst q
    rw [pk_us]
    unfold rz_fl
    rw [if_pos (by omega), show b + i - b = i by omega]
  · rw [pk_un q]
    unfold rz_fl
    by_cases t : b ≤ j ∧ j < b + i
    · rw [if_pos t, if_pos (by omega)]
    · rw [if_neg t, if_neg (by omega)]
theorem rz_fl_0 (V : Nat → Int32) (b : Nat) (d e : Int32) : rz_fl V b d e 0 = V := by
  funext j
  exact if_neg (by omega)
theorem rz_fill {post : Int32 → St2 → Prop} {V : Nat → Int32} {u : St2} {b n : Nat} {d e : Int32} (hb : b < 64) (h1 : 1 ≤ n) (h2 : n ≤ 64) (h : rz_S V u) (H0 : ∀ u', rz_S (rz_fl V b d e n) u' → post 0 u') (H1 : ∀ r, ¬ r = 0 → post r u) : wpX_fill post u (nI b) (nI n) d e := by
  rcases rz_cs h with ⟨f, s, mv, a, g, rfl, hC, hx⟩ | ⟨f, st, mv, cp, op, a, g, rfl⟩
  · obtain ⟨hs, hmv⟩ := rz_Gs hC.1
    unfold wpX_fill
    refine br_f rz_10 (pk_lt n 1 (fun q => absurd q (by omega)) (fun _ => pk_le n 24 (fun hn => ?_) (fun _ => H1 _ (by decide))))
    refine rz_size hmv ?_
    have hz : 24 ≤ (if mv = 6 then 48 else 24) ∧ (if mv = 6 then 48 else 24) ≤ 48 := by
      split <;> omega
    refine br_f (nI_pos (by omega)) (pk_le b ((if mv = 6 then 48 else 24) - n) (fun hbn => ?_) (fun _ => H1 _ (by decide)) rfl (pk_sub (by omega)))
    refine pk_loop (fun k i t => wX_fill_47 post (nI b) (nI n) d e k (nI i) 1 f (nI s) (nI mv) 0 (-1) t g) (fun i t => rz_C (rz_fl V b d e i) f s mv t) n 0 a (by omega) ?_ ?_ ?_
    · rw [rz_fl_0]
      exact hC
    · intro k t ht
      exact pk_le n n (fun _ => H0 _ (rz_S1 ht hx)) (fun q => absurd q (by omega))
    · intro k i t hi ht hw
      refine pk_le n i (fun q => absurd q (by omega)) (fun _ => ?_)
      rw [nI_add]
      refine rz_st_w ht hx (by omega) (fun a' hC' => nm_r (nI_1 i) (hw a' ?_))
      rw [rz_fl_s] at hC'
      exact hC'
  · exact br_t rfl (H1 _ (by decide))
theorem rz_read {post : Int32 → Prop} {V : Nat → Int32} {f cp op : Int32} {s mv b : Nat} {a g : Nat → Int32} (hC : rz_C V f s mv a) (hx : ¬ (s = 1 ∧ mv = 6)) (hb : b < (if mv = 6 then 48 else 24)) (H : post (V b)) : wpX_read post (1, f, nI s, nI mv, cp, op, a, g) (nI b) := by
  obtain ⟨hG, hF, hZ, c, hR, hP⟩ := hC
  obtain ⟨hs, hmv⟩ := rz_Gs hG
  obtain ⟨b1, b2, b3⟩ := rz_blk hG hx hb
  unfold wpX_read
  refine br_f rz_10 ?_
  refine rz_isBlock hmv (by omega) (fun _ => br_f rz_10 ?_) (fun q => absurd hb q)
  unfold wpX_fetch
  refine rz_bw' rfl hs hmv (by omega) ?_
  exact rz_ff (by omega) b3 hR (rz_P_b hP b3) H
theorem rz_turn {post : St2 → Prop} {V : Nat → Int32} {u : St2} {o : Nat} {d e : Int32} (ho : o < 16) (h : rz_S V u) (H : ∀ u', rz_S V u' → post u') : wpL_turn post u (nI o) d e := by
  have HH : ∀ (r : Int32) (u' : St2), rz_S V u' → (match u' with | (x1, x2, x3, x4, x5, x6, x7, x8) => post (x1, x2, x3, x4, x5, x6, x7, x8)) := by
    intro r u' h'
    obtain ⟨x1, x2, x3, x4, x5, x6, x7, x8⟩ := u'
    exact H _ h'
  obtain ⟨j, hj, ej⟩ := pk_andE d (m := 7) 3 (by decide)
  obtain ⟨x1, x2, x3, x4, x5, x6, x7, x8⟩ := u
  unfold wpL_turn
  refine pk_eq o 0 (fun _ => rz_begin h HH) (fun _ => pk_le 4 o (fun _ => pk_eq o 4 (fun _ => ⟨by decide, ?_⟩) (fun _ => pk_eq o 5 (fun _ => rz_crash h HH) (fun _ => pk_le 8 o (fun _ => pk_eq o 8 (fun _ => ?_) (fun _ => pk_eq o 9 (fun _ => rz_replace h HH) (fun _ => H _ h))) (fun _ => rz_mount h HH)))) (fun _ => rz_step h HH))
  · rw [ej, show nI j - nI j / 5 * 5 = nI (j % 5) from pk_rem (d := 5) (by omega) (by decide) (by decide)]
    exact rz_stepCrash (by omega) h HH
  · rw [ej]
    exact rz_fail (by omega) h HH
end
section
/-! the law -/
theorem rz_t353 {post : Int32 → Prop} {L : Nat} {xs : Nat → Int32} {J : Int32 → Int32 → Int32 → Int32 → Int32 → Int32 → Int32 → Int32 → Int32 → (Nat → Int32) → (Nat → Int32) → Prop} {V : Nat → Int32} {x1 x2 x4 x5 x6 f : Int32} {kc ks s mv : Nat} {a g : Nat → Int32}
    (hC : rz_C V f s mv a) (hJ : J x4 x5 (x6 + 3) 1 f (nI s) (nI mv) 0 (-1) a g) : wL_law_353 post L xs J x1 x2 x4 x5 x6 kc ks 1 f (nI s) (nI mv) 0 (-1) a g := by
  obtain ⟨hG, hF, hZ, c, hR, hP⟩ := hC
  obtain ⟨hs, hmv⟩ := rz_Gs hG
  unfold wL_law_353 wpX_scrub
  refine br_f rz_10 (br_c (fun ef => ?_) (fun ef => br_t (by decide) (nm_e hJ)))
  subst ef
  exact rz_scrub24 hs hmv hR hP (br_t (by decide) (nm_e hJ))
theorem rz_t303on {post : Int32 → Prop} {L : Nat} {xs : Nat → Int32} {J : Int32 → Int32 → Int32 → Int32 → Int32 → Int32 → Int32 → Int32 → Int32 → (Nat → Int32) → (Nat → Int32) → Prop} {V : Nat → Int32} {x4 x5 x6 f : Int32} {kc ks x y s mv : Nat} {a g : Nat → Int32}
    (hx : x < 48) (hy : y < 48) (hC : rz_C V f s mv a) (hn : ¬ (s = 1 ∧ mv = 6)) (e4 : x4 = V x) (e5 : x5 = V y) (hJ : J x4 x5 (x6 + 3) 1 f (nI s) (nI mv) 0 (-1) a g) : wL_law_303 post L xs J (nI x) (nI y) x4 x5 x6 kc ks 1 f (nI s) (nI mv) 0 (-1) a g := by
  obtain ⟨hs, hmv⟩ := rz_Gs hC.1
  have hz : (if mv = 6 then 48 else 24) < 2 ^ 31 := by
    split <;> omega
  have T2 : wL_law_335 post L xs J (nI x) (nI y) x4 x5 x6 (nI (if mv = 6 then 48 else 24)) kc ks 1 f (nI s) (nI mv) 0 (-1) a g := by
    unfold wL_law_335
    exact pk_le (if mv = 6 then 48 else 24) y (fun _ => rz_t353 hC hJ) (fun q => rz_read hC hn q (br_t e5.symm (rz_t353 hC hJ))) rfl rfl hz (by omega)
  unfold wL_law_303
  refine rz_size hmv ?_
  unfold wpX_up
  refine br_f rz_10 (br_t rfl ?_)
  exact pk_le (if mv = 6 then 48 else 24) x (fun _ => T2) (fun q => rz_read hC hn q (br_t e4.symm T2)) rfl rfl hz (by omega)
theorem rz_t303off {post : Int32 → Prop} {L : Nat} {xs : Nat → Int32} {J : Int32 → Int32 → Int32 → Int32 → Int32 → Int32 → Int32 → Int32 → Int32 → (Nat → Int32) → (Nat → Int32) → Prop} {V : Nat → Int32} {x1 x2 x4 x5 x6 f st mv cp op : Int32} {kc ks : Nat} {a g : Nat → Int32}
    (hJ : J x4 x5 (x6 + 3) 0 f st mv cp op a g) : wL_law_303 post L xs J x1 x2 x4 x5 x6 kc ks 0 f st mv cp op a g := by
  have T : wL_law_353 post L xs J x1 x2 x4 x5 x6 kc ks 0 f st mv cp op a g := by
    unfold wL_law_353 wpX_scrub
    exact br_t rfl (br_t (by decide) (nm_e hJ))
  unfold wL_law_303 wpX_size wpX_up
  exact br_c (fun _ => br_t rfl (br_f (by decide) T)) (fun _ => br_t rfl (br_f (by decide) T))
theorem rz_t303 {post : Int32 → Prop} {L : Nat} {xs : Nat → Int32} {J : Int32 → Int32 → Int32 → Int32 → Int32 → Int32 → Int32 → Int32 → Int32 → (Nat → Int32) → (Nat → Int32) → Prop} {V : Nat → Int32} {x4 x5 x6 run f st mv cp op : Int32} {kc ks x y : Nat} {a g : Nat → Int32}
    (hx : x < 48) (hy : y < 48) (hS : rz_S V (run, f, st, mv, cp, op, a, g)) (e4 : x4 = V x) (e5 : x5 = V y) (hJ : J x4 x5 (x6 + 3) run f st mv cp op a g) : wL_law_303 post L xs J (nI x) (nI y) x4 x5 x6 kc ks run f st mv cp op a g := by
  rcases rz_cs hS with ⟨f', s', mv', a', g', e, hC, hn⟩ | ⟨f', st', mv', cp', op', a', g', e⟩
  · cases e
    exact rz_t303on hx hy hC hn e4 e5 hJ
  · cases e
    exact rz_t303off (V := V) hJ
theorem rz_t291 {post : Int32 → Prop} {L : Nat} {xs : Nat → Int32} {J : Int32 → Int32 → Int32 → Int32 → Int32 → Int32 → Int32 → Int32 → Int32 → (Nat → Int32) → (Nat → Int32) → Prop} {V : Nat → Int32} {x4 x5 x6 x8 run f st mv cp op : Int32} {kc ks x y : Nat} {a g : Nat → Int32}
    (hx : x < 48) (hy : y < 48) (hS : rz_S V (run, f, st, mv, cp, op, a, g)) (e4 : x4 = V x) (e5 : x5 = V y) (hJ : ∀ run f st mv cp op a g, rz_S V (run, f, st, mv, cp, op, a, g) → J x4 x5 (x6 + 3) run f st mv cp op a g) : wL_law_291 post L xs J (nI x) (nI y) x4 x5 x6 x8 kc ks run f st mv cp op a g := by
  unfold wL_law_291
  refine br_c (fun _ => rz_t303 hx hy hS e4 e5 (hJ _ _ _ _ _ _ _ _ hS)) (fun _ => rz_mount hS (fun r u' h' => ?_))
  obtain ⟨run', f', st', mv', cp', op', a', g'⟩ := u'
  exact rz_t303 hx hy h' e4 e5 (hJ _ _ _ _ _ _ _ _ h')
theorem rz_48 (z : Int32) : ∃ b, b < 48 ∧ (z &&& 63) - (z &&& 63) / 48 * 48 = nI b := by
  obtain ⟨j, hj, ej⟩ := pk_andE z (m := 63) 6 (by decide)
  refine ⟨j % 48, by omega, ?_⟩
  rw [ej]
  exact pk_rem (d := 48) (by omega) (by decide) (by decide)
theorem rz_cell {post : Int32 → Prop} {L : Nat} {xs : Nat → Int32} {u : St0} {z : Int32} {k : Nat} (hL : L ≤ 260) (hk : k ≤ 300) (hz : z = nI k) (H : ∀ r, post r) : wpL_cell post L xs u z := by
  subst hz
  exact pk_le L k (fun _ => H 0) (fun q => ⟨pk_in k L q, H _⟩)
theorem rz_ux {V : Nat → Int32} {b x : Nat} {v : Int32} (h : b = x) : v = upd V b v x := by
  rw [h, pk_us]
theorem rz_un {V : Nat → Int32} {b x : Nat} {v : Int32} (h : b ≠ x) : V x = upd V b v x := (pk_un (fun q => h q.symm)).symm
theorem rz_fx {V : Nat → Int32} {b n x : Nat} {d e : Int32} (h1 : b ≤ x) (h2 : x < b + n) : d + e * (nI x - nI b) = rz_fl V b d e n x := by
  unfold rz_fl
  rw [if_pos ⟨h1, h2⟩, pk_sub h1, Int32.mul_comm]
theorem rz_fn {V : Nat → Int32} {b n x : Nat} {d e : Int32} (h : ¬ (b ≤ x ∧ x < b + n)) : V x = rz_fl V b d e n x := (if_neg h).symm
theorem rz_turns {xs : Nat → Int32} {L : Nat} (hL : L ≤ 260) {kc ks x y : Nat} (hx : x < 48) (hy : y < 48) {x4 x5 x6 run f st mv cp op : Int32} {a g : Nat → Int32} {V : Nat → Int32} {k n : Nat} (hk : k < L) (e6 : x6 = nI k) (hS : rz_S V (run, f, st, mv, cp, op, a, g)) (e4 : x4 = V x) (e5 : x5 = V y)
    (hJ : ∀ V' z4 z5 run f st mv cp op a g, rz_S V' (run, f, st, mv, cp, op, a, g) → z4 = V' x → z5 = V' y → wL_law_41 (fun r => r = 1) L xs (nI x) (nI y) kc ks n z4 z5 (x6 + 3) run f st mv cp op a g) :
    wL_law_41 (fun r => r = 1) L xs (nI x) (nI y) kc ks (n + 1) x4 x5 x6 run f st mv cp op a g := by
  have K3 : ∀ V' z4 z5 run f st mv cp op a g, rz_S V' (run, f, st, mv, cp, op, a, g) → z4 = V' x → z5 = V' y → wL_law_303 (fun r => r = 1) L xs (wL_law_41 (fun r => r = 1) L xs (nI x) (nI y) kc ks n) (nI x) (nI y) z4 z5 x6 kc ks run f st mv cp op a g :=
    fun V' z4 z5 run f st mv cp op a g h h4 h5 => rz_t303 hx hy h h4 h5 (hJ V' z4 z5 _ _ _ _ _ _ _ _ h h4 h5)
  have K2 : ∀ V' z4 z5 x8 run f st mv cp op a g, rz_S V' (run, f, st, mv, cp, op, a, g) → z4 = V' x → z5 = V' y → wL_law_291 (fun r => r = 1) L xs (wL_law_41 (fun r => r = 1) L xs (nI x) (nI y) kc ks n) (nI x) (nI y) z4 z5 x6 x8 kc ks run f st mv cp op a g :=
    fun V' z4 z5 x8 run f st mv cp op a g h h4 h5 => rz_t291 hx hy h h4 h5 (fun _ _ _ _ _ _ _ _ h' => hJ V' z4 z5 _ _ _ _ _ _ _ _ h' h4 h5)
  refine pk_le L k (fun q => absurd q (by omega)) (fun _ => ?_) rfl e6
  refine rz_cell (k := k) hL (by omega) e6 (fun c => ?_)
  refine rz_cell (k := k + 1) hL (by omega) (by rw [e6]; exact nI_1 k) (fun d => ?_)
  refine rz_cell (k := k + 2) hL (by omega) (by rw [e6]; exact nI_add k 2) (fun e => ?_)
  obtain ⟨o, ho, eo⟩ := pk_andE c (m := 15) 4 (by decide)
  obtain ⟨b, hb, eb⟩ := rz_48 (c >>> ((4 : Int32) &&& 31))
  refine nm_r eo ⟨by decide, nm_r eb ?_⟩
  refine pk_le 10 o (fun _ => pk_le 12 o (fun _ => pk_le 14 o (fun _ => ?_) (fun _ => ?_)) (fun _ => ?_)) (fun _ => ?_)
  · obtain ⟨pt, hpt, ept⟩ := pk_andE d (m := 3) 2 (by decide)
    refine nm_r ept ?_
    refine rz_wc (V := V) (by omega) (by omega) hS (fun q u' h' => ?_) (fun q u' h' => ?_) (fun r hr => ?_)
    · obtain ⟨run', f', st', mv', cp', op', a', g'⟩ := u'
      exact br_t rfl (pk_le pt 0 (fun _ => K2 V _ _ _ _ _ _ _ _ _ _ _ h' e4 e5) (fun z => absurd z (by omega)))
    · obtain ⟨run', f', st', mv', cp', op', a', g'⟩ := u'
      refine br_t rfl (pk_le pt 0 (fun z => absurd z (by omega)) (fun _ => pk_eq b x (fun q1 => ?_) (fun q1 => ?_)))
      · exact pk_eq b y (fun q2 => K2 _ _ _ _ _ _ _ _ _ _ _ _ h' (rz_ux q1) (rz_ux q2)) (fun q2 => K2 _ _ _ _ _ _ _ _ _ _ _ _ h' (rz_ux q1) (e5.trans (rz_un q2)))
      · exact pk_eq b y (fun q2 => K2 _ _ _ _ _ _ _ _ _ _ _ _ h' (e4.trans (rz_un q1)) (rz_ux q2)) (fun q2 => K2 _ _ _ _ _ _ _ _ _ _ _ _ h' (e4.trans (rz_un q1)) (e5.trans (rz_un q2)))
    · exact br_f hr (K2 V _ _ _ _ _ _ _ _ _ _ _ hS e4 e5)
  · obtain ⟨j, hj, ej⟩ := pk_andE (c >>> ((10 : Int32) &&& 31)) (m := 31) 5 (by decide)
    refine nm_r (show 1 + ((c >>> ((10 : Int32) &&& 31)) &&& 31) = nI (1 + j) by rw [ej]; exact nI_add 1 j) ?_
    refine rz_fill (V := V) (by omega) (by omega) (by omega) hS (fun u' h' => ?_) (fun r hr => ?_)
    · obtain ⟨run', f', st', mv', cp', op', a', g'⟩ := u'
      have T : ∀ z4, z4 = rz_fl V b d e (1 + j) x → wL_law_217 (fun r => r = 1) L xs (wL_law_41 (fun r => r = 1) L xs (nI x) (nI y) kc ks n) (nI x) (nI y) z4 x5 x6 d e (nI b) (nI (1 + j)) kc ks run' f' st' mv' cp' op' a' g' := by
        intro z4 h4
        unfold wL_law_217 wL_law_244
        exact pk_lt y b (fun q => K3 _ _ _ _ _ _ _ _ _ _ _ h' h4 (e5.trans (rz_fn (by omega)))) (fun q => pk_le (b + (1 + j)) y (fun q2 => K3 _ _ _ _ _ _ _ _ _ _ _ h' h4 (e5.trans (rz_fn (by omega)))) (fun q2 => nm_e (K3 _ _ _ _ _ _ _ _ _ _ _ h' h4 (rz_fx q q2))) (nI_add b (1 + j)))
      exact br_t rfl (pk_lt x b (fun q => T _ (e4.trans (rz_fn (by omega)))) (fun q => pk_le (b + (1 + j)) x (fun q2 => T _ (e4.trans (rz_fn (by omega)))) (fun q2 => nm_e (T _ (rz_fx q q2))) (nI_add b (1 + j))))
    · exact br_f hr (K3 V _ _ _ _ _ _ _ _ _ _ hS e4 e5)
  · refine rz_write (V := V) (by omega) hS (fun u' h' => ?_) (fun r hr => ?_)
    · obtain ⟨run', f', st', mv', cp', op', a', g'⟩ := u'
      refine br_t rfl (pk_eq b x (fun q1 => ?_) (fun q1 => ?_))
      · exact pk_eq b y (fun q2 => K3 _ _ _ _ _ _ _ _ _ _ _ h' (rz_ux q1) (rz_ux q2)) (fun q2 => K3 _ _ _ _ _ _ _ _ _ _ _ h' (rz_ux q1) (e5.trans (rz_un q2)))
      · exact pk_eq b y (fun q2 => K3 _ _ _ _ _ _ _ _ _ _ _ h' (e4.trans (rz_un q1)) (rz_ux q2)) (fun q2 => K3 _ _ _ _ _ _ _ _ _ _ _ h' (e4.trans (rz_un q1)) (e5.trans (rz_un q2)))
    · exact br_f hr (K3 V _ _ _ _ _ _ _ _ _ _ hS e4 e5)
  · refine rz_turn (V := V) ho hS (fun u' h' => ?_)
    obtain ⟨run', f', st', mv', cp', op', a', g'⟩ := u'
    exact K3 V _ _ _ _ _ _ _ _ _ _ h' e4 e5
theorem rz_loop {xs : Nat → Int32} {L : Nat} (hL : L ≤ 260) {kc ks x y : Nat} (hx : x < 48) (hy : y < 48) {a g : Nat → Int32} (hS : rz_S (fun _ => 0) (1, -1, 0, 0, 0, -1, a, g)) :
    ∃ n, wL_law_41 (fun r => r = 1) L xs (nI x) (nI y) kc ks n 0 0 2 1 (-1) 0 0 0 (-1) a g := by
  refine lp11 (fun n x4 x5 x6 run f st mv cp op a g => wL_law_41 (fun r => r = 1) L xs (nI x) (nI y) kc ks n x4 x5 x6 run f st mv cp op a g)
    (fun x4 x5 x6 run f st mv cp op a g => ∃ (V : Nat → Int32) (k : Nat), rz_S V (run, f, st, mv, cp, op, a, g) ∧ x4 = V x ∧ x5 = V y ∧ x6 = nI k ∧ k < 300)
    (fun x4 x5 x6 run f st mv cp op a g => L + 3 - x6.toNatClampNeg) ?_ 0 0 2 1 (-1) 0 0 0 (-1) a g ⟨fun _ => 0, 2, hS, rfl, rfl, rfl, by omega⟩
  intro n x4 x5 x6 run f st mv cp op a g hI hw
  obtain ⟨V, k, hS, e4, e5, e6, hk⟩ := hI
  by_cases hkL : k < L
  · refine rz_turns (V := V) hL hx hy hkL e6 hS e4 e5 (fun V' z4 z5 run f st mv cp op a g h' h4 h5 => ?_)
    have e3 : x6 + 3 = nI (k + 3) := by
      rw [e6]
      exact nI_add k 3
    refine hw _ _ _ _ _ _ _ _ _ _ _ ⟨V', k + 3, h', h4, h5, e3, by omega⟩ ?_
    show L + 3 - (x6 + 3).toNatClampNeg < L + 3 - x6.toNatClampNeg
    rw [e3, e6, nI_clamp (by omega), nI_clamp (by omega)]
    omega
  · exact pk_le L k (fun _ => rfl) (fun q => absurd q hkL) rfl e6
theorem rz_init : rz_S (fun _ => 0) (1, -1, 0, 0, 0, -1, (fun _ => 0), (fun _ => 0)) := by
  refine rz_S1 (s := 0) (mv := 0) ⟨Or.inl ⟨rfl, rfl⟩, Or.inl rfl, fun _ _ _ => rfl, fun _ _ => 0, fun _ _ _ _ _ => rfl, ?_⟩ (by omega)
  intro r m hr hU hm _
  exact (rz_e_zero hm (fun _ _ => rfl)).symm
theorem i_vc (xs : Nat → Int32) (L : Nat) (hL : L ≤ 260) : wpL_law (fun r => r = 1) L xs := by
  unfold wpL_law
  refine rz_cell (k := 0) hL (by omega) rfl (fun c => ?_)
  obtain ⟨x, hx, ex⟩ := rz_48 c
  refine ⟨by decide, nm_r ex ?_⟩
  refine rz_cell (k := 1) hL (by omega) rfl (fun d => ?_)
  obtain ⟨y, hy, ey⟩ := rz_48 d
  refine ⟨by decide, nm_r ey ⟨2, 84, by omega, by omega, ?_⟩⟩
  unfold wpX_init
  refine ⟨by omega, by omega, by omega, by omega, ?_⟩
  exact rz_loop hL hx hy rz_init
end
