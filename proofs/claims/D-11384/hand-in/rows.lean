section
/-- an array of ints -/
abbrev tm_AT : Type := Nat → Int32
/-- cell k of an array coded in one natural number, 8 bits a cell -/
def tm_g (A k : Nat) : Nat := (A >>> (8 * k)) % 256
def tm_s (A k v : Nat) : Nat := A ^^^ ((tm_g A k ^^^ v) <<< (8 * k))
theorem tm_tb (A k b : Nat) : (tm_g A k).testBit b = (decide (b < 8) && A.testBit (8 * k + b)) := by
  unfold tm_g
  rw [show (256 : Nat) = 2 ^ 8 from rfl, Nat.testBit_mod_two_pow, Nat.testBit_shiftRight]
theorem tm_hi {v b : Nat} (hv : v < 256) (hb : 8 ≤ b) : v.testBit b = false :=
  Nat.testBit_lt_two_pow (Nat.lt_of_lt_of_le hv (show 2 ^ 8 ≤ 2 ^ b from Nat.pow_le_pow_right (by decide) hb))
theorem tm_gs {A k v : Nat} (hv : v < 256) (j : Nat) : tm_g (tm_s A k v) j = if j = k then v else tm_g A j := by
  apply Nat.eq_of_testBit_eq
  intro b
  rw [tm_tb, tm_s, Nat.testBit_xor, Nat.testBit_shiftLeft, Nat.testBit_xor, tm_tb]
  by_cases hb : b < 8
  · by_cases e : j = k
    · subst e
      rw [if_pos rfl, show 8 * j + b - 8 * j = b by omega]
      simp [hb]
    · rw [if_neg e, tm_tb]
      rcases Nat.lt_or_gt_of_ne e with z | z
      · have h1 : ¬ (8 * k ≤ 8 * j + b) := by omega
        simp [h1, hb]
      · have h1 : ¬ (8 * j + b - 8 * k < 8) := by omega
        have h2 : v.testBit (8 * j + b - 8 * k) = false := tm_hi hv (by omega)
        simp [h1, h2, hb]
  · have h3 : (if j = k then v else tm_g A j).testBit b = false := by
      split
      · exact tm_hi hv (by omega)
      · rw [tm_tb]
        simp [hb]
    rw [h3]
    simp [hb]
theorem tm_glt (A k : Nat) : tm_g A k < 256 := Nat.mod_lt _ (by decide)
/-- evaluate first -/
def tm_f {β : Type} (n : Nat) (f : Nat → β) : β := match n with
  | 0 => f 0
  | m + 1 => f (m + 1)
theorem tm_fe {β : Type} (n : Nat) (f : Nat → β) : tm_f n f = f n := by
  cases n <;> rfl
/-- the value that a code stands for -/
def tm_d (v : Nat) : Int32 := nI v - 2
theorem tm_d2 (v : Nat) : tm_d (v + 2) = nI v := by
  unfold tm_d
  rw [← nI_add]
  show nI v + 2 - 2 = nI v
  exact Int32.add_sub_cancel _ _
theorem tm_dinj {a b : Nat} (ha : a < 256) (hb : b < 256) : tm_d a = tm_d b ↔ a = b := by
  constructor
  · intro h
    have h2 : nI a = nI b := by
      have := congrArg (fun z : Int32 => z + 2) h
      unfold tm_d at this
      rwa [Int32.sub_add_cancel, Int32.sub_add_cancel] at this
    exact (nI_eq (by omega) (by omega)).mp h2
  · intro h
    rw [h]
/-- the array a holds what the code A says, where it says something -/
def tm_R (n : Nat) (a : tm_AT) (A : Nat) : Prop := ∀ k, k < n → tm_g A k ≠ 0 → a k = tm_d (tm_g A k)
theorem tm_RWd {N : Nat} {a : tm_AT} {A k v : Nat} (hR : tm_R N a A) (hv : v < 256) : tm_R N (upd a k (tm_d v)) (tm_s A k v) := by
  intro j hj h0
  rw [tm_gs hv] at h0 ⊢
  by_cases e : j = k
  · rw [if_pos e, e, pk_us]
  · rw [if_neg e] at h0 ⊢
    rw [pk_un e]
    exact hR j hj h0
theorem tm_RW {N : Nat} {a : tm_AT} {A k v : Nat} (hR : tm_R N a A) (hv : v < 128) : tm_R N (upd a k (nI v)) (tm_s A k (v + 2)) := by
  rw [← tm_d2]
  exact tm_RWd hR (by omega)
theorem tm_R0 (N : Nat) (a : tm_AT) : tm_R N a 0 := by
  intro k _ h
  exact absurd (show tm_g 0 k = 0 by unfold tm_g; rw [Nat.zero_shiftRight]) h
theorem tm_Rv {N : Nat} {a : tm_AT} {A k v : Nat} (hR : tm_R N a A) (hk : k < N) (hv : tm_g A k = v + 2) : a k = nI v := by
  rw [hR k hk (by omega), hv, tm_d2]
def tm_rd {β : Type} (N A k : Nat) (f : Nat → Option β) : Option β :=
  if k < N then (if 2 ≤ tm_g A k then tm_f (tm_g A k - 2) f else none) else none
theorem tm_rdE {β : Type} {N A k : Nat} {f : Nat → Option β} {r : β} (h : tm_rd N A k f = some r) :
    ∃ v, k < N ∧ v < 254 ∧ tm_g A k = v + 2 ∧ f v = some r := by
  unfold tm_rd at h
  by_cases g : k < N
  · rw [if_pos g] at h
    by_cases g2 : 2 ≤ tm_g A k
    · rw [if_pos g2, tm_fe] at h
      have := tm_glt A k
      exact ⟨tm_g A k - 2, g, by omega, by omega, h⟩
    · rw [if_neg g2] at h
      exact absurd h (by simp)
  · rw [if_neg g] at h
    exact absurd h (by simp)
def tm_wr {β : Type} (N A k v : Nat) (f : Nat → Option β) : Option β :=
  if k < N then (if v < 128 then tm_f (tm_s A k (v + 2)) f else none) else none
theorem tm_wrE {β : Type} {N A k v : Nat} {f : Nat → Option β} {r : β} (h : tm_wr N A k v f = some r) :
    k < N ∧ v < 128 ∧ f (tm_s A k (v + 2)) = some r := by
  unfold tm_wr at h
  by_cases g : k < N
  · rw [if_pos g] at h
    by_cases g2 : v < 128
    · rw [if_pos g2, tm_fe] at h
      exact ⟨g, g2, h⟩
    · rw [if_neg g2] at h
      exact absurd h (by simp)
  · rw [if_neg g] at h
    exact absurd h (by simp)
/-- a branch of a shadow -/
theorem tm_ifE {β : Type} {c : Prop} {hd : Decidable c} {f : Option β} {r : β} (h : (@ite (Option β) c hd f none) = some r) : c ∧ f = some r := by
  by_cases g : c
  · rw [if_pos g] at h
    exact ⟨g, h⟩
  · rw [if_neg g] at h
    exact absurd h (by simp)
theorem tm_ifN {β : Type} {c : Prop} {hd : Decidable c} {f : Option β} {r : β} (h : (@ite (Option β) c hd none f) = some r) : ¬ c ∧ f = some r := by
  by_cases g : c
  · rw [if_pos g] at h
    exact absurd h (by simp)
  · rw [if_neg g] at h
    exact ⟨g, h⟩
theorem tm_i8 : ∀ v, v < 128 → (nI v).toInt8.toInt32 = nI v := by decide +kernel
theorem tm_d8 : ∀ v, v < 130 → (tm_d v).toInt8.toInt32 = tm_d v := by decide +kernel
theorem tm_n3 (a b : Nat) : (3 : Int32) * nI a + nI b = nI (3 * a + b) := by
  rw [← nI_add, ← pk_mul]
  rfl
theorem tm_n4 (a b : Nat) : (4 : Int32) * nI a + nI b = nI (4 * a + b) := by
  rw [← nI_add, ← pk_mul]
  rfl
theorem tm_n5 (a b : Nat) : (5 : Int32) * nI a + nI b = nI (5 * a + b) := by
  rw [← nI_add, ← pk_mul]
  rfl
theorem tm_n12 (a b : Nat) : (12 : Int32) * nI a + nI b = nI (12 * a + b) := by
  rw [← nI_add, ← pk_mul]
  rfl
theorem tm_n16 (a b : Nat) : (16 : Int32) * nI a + nI b = nI (16 * a + b) := by
  rw [← nI_add, ← pk_mul]
  rfl
theorem tm_n49 (a b : Nat) : (49 : Int32) * nI a + nI b = nI (49 * a + b) := by
  rw [← nI_add, ← pk_mul]
  rfl
theorem tm_n164 (a b c : Nat) : (16 : Int32) * nI a + 4 * nI b + nI c = nI (16 * a + 4 * b + c) := by
  rw [← nI_add, ← nI_add, ← pk_mul, ← pk_mul]
  rfl
/-- a read, a store -/
theorem tm_at {a : tm_AT} {x v : Int32} {k : Nat} (hx : x = nI k) (e : a k = v) (hk : k < 2 ^ 31) : a x.toNatClampNeg = v := by
  rw [hx, nI_clamp hk, e]
theorem tm_up {a : tm_AT} {x y : Int32} {k v : Nat} (hx : x = nI k) (hy : y = nI v) (hv : v < 128) (hk : k < 2 ^ 31) : upd a x.toNatClampNeg y.toInt8.toInt32 = upd a k (nI v) := by
  rw [hx, nI_clamp hk, hy, tm_i8 v hv]
theorem tm_upn {a : tm_AT} {x y : Int32} {k v : Nat} (hx : x = nI k) (hy : y = nI v) (hv : v < 128) (hk : k < 2 ^ 31) : upd a x.toNatClampNeg (vp_nar .byte y) = upd a k (nI v) := by
  rw [vp_nar_byte]
  exact tm_up hx hy hv hk
theorem tm_upd {a : tm_AT} {x y : Int32} {k v : Nat} (hx : x = nI k) (hy : y = tm_d v) (hv : v < 130) (hk : k < 2 ^ 31) : upd a x.toNatClampNeg (vp_nar .byte y) = upd a k (tm_d v) := by
  rw [vp_nar_byte, hx, nI_clamp hk, hy, tm_d8 v hv]
theorem tm_up0 {a : tm_AT} {x y : Int32} {k : Nat} (hx : x = nI k) (hk : k < 2 ^ 31) : upd a x.toNatClampNeg y = upd a k y := by
  rw [hx, nI_clamp hk]
end
section
/-- addRow's loop: (node, nodeCount, branch) -/
def tm_a5 (A2 A4 p i : Nat) : Nat → Nat → Nat → Nat → Nat → Option (Nat × Nat × Nat)
  | 0, _, _, _, _ => none
  | n + 1, x3, x4, nc, A5 =>
    tm_rd 3 A2 p fun pw =>
      if pw ≤ x4 then some (x3, nc, A5)
      else tm_rd 48 A4 (16 * p + 4 * i + x4) fun l => tm_rd 147 A5 (3 * x3 + l) fun b =>
        if b = 0 then tm_wr 147 A5 (3 * x3 + l) nc fun A5' => tm_a5 A2 A4 p i n nc (x4 + 1) (nc + 1) A5'
        else tm_a5 A2 A4 p i n b (x4 + 1) nc A5
/-- addRow: (nodeCount, branch, rowEnding, rowNumber) -/
def tm_add (A2 A4 p i nc A5 A8 A9 : Nat) : Option (Nat × Nat × Nat × Nat) :=
  match tm_a5 A2 A4 p i 6 0 0 nc A5 with
  | none => none
  | some r =>
    if 49 * p + r.1 < 147 then
      (if tm_g A8 (49 * p + r.1) = 1 then
        tm_wr 147 A8 (49 * p + r.1) i fun A8' => tm_wr 12 A9 (4 * p + i) i fun A9' => some (r.2.1, r.2.2, A8', A9')
      else tm_rd 147 A8 (49 * p + r.1) fun v => tm_wr 12 A9 (4 * p + i) v fun A9' => some (r.2.1, r.2.2, A8, A9'))
    else none
def tm_b43 (A2 A3 A4 p : Nat) : Nat → Nat → Nat → Nat → Nat → Nat → Option (Nat × Nat × Nat × Nat)
  | 0, _, _, _, _, _ => none
  | n + 1, i, nc, A5, A8, A9 =>
    tm_rd 3 A3 p fun ph =>
      if ph ≤ i then some (nc, A5, A8, A9)
      else match tm_add A2 A4 p i nc A5 A8 A9 with
        | none => none
        | some r => tm_b43 A2 A3 A4 p n (i + 1) r.1 r.2.1 r.2.2.1 r.2.2.2
def tm_b36 (A2 A3 A4 : Nat) : Nat → Nat → Nat → Nat → Nat → Nat → Option (Nat × Nat × Nat × Nat)
  | 0, _, _, _, _, _ => none
  | n + 1, p, nc, A5, A8, A9 =>
    if 3 ≤ p then some (nc, A5, A8, A9)
    else match tm_b43 A2 A3 A4 p 6 0 nc A5 A8 A9 with
      | none => none
      | some r => tm_b36 A2 A3 A4 n (p + 1) r.1 r.2.1 r.2.2.1 r.2.2.2
/-- inheritRow -/
def tm_inh (p nd sh A8 : Nat) : Option Nat :=
  if 49 * p + nd < 147 then
    (if tm_g A8 (49 * p + nd) = 1 then
      (if 49 * p + sh < 147 then
        (if tm_g A8 (49 * p + sh) = 0 then none else
          (if tm_g A8 (49 * p + sh) < 130 then tm_f (tm_s A8 (49 * p + nd) (tm_g A8 (49 * p + sh))) some else none))
      else none)
    else (if 2 ≤ tm_g A8 (49 * p + nd) then some A8 else none))
  else none
def tm_l79 (nd sh : Nat) : Nat → Nat → Nat → Option Nat
  | 0, _, _ => none
  | n + 1, p, A8 => if 3 ≤ p then some A8 else match tm_inh p nd sh A8 with
    | none => none
    | some A8' => tm_l79 nd sh n (p + 1) A8'
/-- linkNodes' letters: (end, branch, fallback, nodeQueue) -/
def tm_l103 (x3 x4 : Nat) : Nat → Nat → Nat → Nat → Nat → Nat → Option (Nat × Nat × Nat × Nat)
  | 0, _, _, _, _, _ => none
  | n + 1, x1, x5, A5, A6, A7 =>
    if 3 ≤ x5 then some (x1, A5, A6, A7)
    else tm_rd 147 A5 (3 * x3 + x5) fun c => tm_rd 147 A5 (3 * x4 + x5) fun o =>
      if c = 0 then tm_wr 147 A5 (3 * x3 + x5) o fun A5' => tm_l103 x3 x4 n x1 (x5 + 1) A5' A6 A7
      else tm_wr 49 A6 c o fun A6' => tm_wr 49 A7 x1 c fun A7' => tm_l103 x3 x4 n (x1 + 1) (x5 + 1) A5 A6' A7'
def tm_l56 : Nat → Nat → Nat → Nat → Nat → Nat → Nat → Option (Nat × Nat)
  | 0, _, _, _, _, _, _ => none
  | n + 1, x1, x2, A5, A6, A7, A8 =>
    if x1 < 1000 then (if x2 < 1000 then
      (if x1 ≤ x2 then some (A5, A8)
      else tm_rd 49 A7 x2 fun x3 => tm_rd 49 A6 x3 fun x4 =>
        match tm_l79 x3 x4 4 0 A8 with
        | none => none
        | some A8' => match tm_l103 x3 x4 4 x1 0 A5 A6 A7 with
          | none => none
          | some r => tm_l56 n r.1 (x2 + 1) r.2.1 r.2.2.1 r.2.2.2 A8')
    else none) else none
/-- linkNodes' first letters: (end, fallback, nodeQueue) -/
def tm_l11 (A5 : Nat) : Nat → Nat → Nat → Nat → Nat → Option (Nat × Nat × Nat)
  | 0, _, _, _, _ => none
  | n + 1, x1, x2, A6, A7 =>
    if 3 ≤ x2 then some (x1, A6, A7)
    else tm_rd 147 A5 x2 fun c =>
      if c = 0 then tm_l11 A5 n x1 (x2 + 1) A6 A7
      else tm_wr 49 A6 c 0 fun A6' => tm_wr 49 A7 x1 c fun A7' => tm_l11 A5 n (x1 + 1) (x2 + 1) A6' A7'
def tm_lnk (A5 A8 : Nat) : Option (Nat × Nat) :=
  tm_wr 49 0 0 0 fun A6 => match tm_l11 A5 4 0 0 A6 0 with
    | none => none
    | some r => tm_l56 60 r.1 0 A5 r.2.1 r.2.2 A8
/-- 147 cells that hold 0, and -1 -/
def tm_Z2 : Nat := 2 * ((256 ^ 147 - 1) / 255)
def tm_Z1 : Nat := (256 ^ 147 - 1) / 255
/-- buildAutomaton: (branch, rowEnding, rowNumber) -/
def tm_bld (A2 A3 A4 : Nat) : Option (Nat × Nat × Nat) :=
  match tm_b36 A2 A3 A4 4 0 1 tm_Z2 tm_Z1 0 with
  | none => none
  | some r => match tm_lnk r.2.1 r.2.2.1 with
    | none => none
    | some q => some (q.1, q.2, r.2.2.2)
/-- the walk back along failure, and the step -/
def tm_kmp (A9 A10 p c : Nat) : Nat → Nat → Option Nat
  | 0, _ => none
  | n + 1, m =>
    if 4 * p + m < 12 then
      (if tm_g A9 (4 * p + m) = 0 then none else
        (if tm_g A9 (4 * p + m) = c then some (m + 1) else
          (if m = 0 then some 0 else tm_rd 15 A10 (5 * p + m) fun m' => tm_kmp A9 A10 p c n m')))
    else none
def tm_f25 (A3 A9 p : Nat) : Nat → Nat → Nat → Nat → Option Nat
  | 0, _, _, _ => none
  | n + 1, m, k, A10 =>
    tm_rd 3 A3 p fun ph =>
      if ph ≤ k then some A10
      else (if 4 * p + k < 12 then
        (if tm_g A9 (4 * p + k) = 0 then none else
          match tm_kmp A9 A10 p (tm_g A9 (4 * p + k)) 6 m with
          | none => none
          | some m' => tm_wr 15 A10 (5 * p + k + 1) m' fun A10' => tm_f25 A3 A9 p n m' (k + 1) A10')
      else none)
def tm_fail (A3 A9 p A10 : Nat) : Option Nat :=
  tm_wr 15 A10 (5 * p) 0 fun A => tm_wr 15 A (5 * p + 1) 0 fun A' => tm_f25 A3 A9 p 6 0 1 A'
def tm_s19 (A3 A9 : Nat) : Nat → Nat → Nat → Option Nat
  | 0, _, _ => none
  | n + 1, p, A10 => if 3 ≤ p then some A10 else match tm_fail A3 A9 p A10 with
    | none => none
    | some A' => tm_s19 A3 A9 n (p + 1) A'
/-- all tables: (branch, rowEnding, rowNumber, failure) -/
def tm_prep (A2 A3 A4 : Nat) : Option (Nat × Nat × Nat × Nat) :=
  match tm_bld A2 A3 A4 with
  | none => none
  | some r => match tm_s19 A3 r.2.2 4 0 0 with
    | none => none
    | some A10 => some (r.1, r.2.1, r.2.2, A10)
/-- one step of a column -/
def tm_adv (A9 A10 ph p c m : Nat) : Option Nat :=
  if m = ph then tm_rd 15 A10 (5 * p + m) fun m0 => tm_kmp A9 A10 p c 6 m0 else tm_kmp A9 A10 p c 6 m
/-- a row of the text read through the automaton: three row endings a column -/
def tm_scan (A5 A8 c X : Nat) : Nat → Nat → Nat → Nat → Option Nat
  | 0, _, _, acc => some acc
  | n + 1, x, nd, acc => tm_rd 147 A5 (3 * nd + (if x = X then c else 0)) fun nd' =>
    if nd' < 49 then
      (if tm_g A8 nd' = 0 then none else (if tm_g A8 (49 + nd') = 0 then none else (if tm_g A8 (98 + nd') = 0 then none else
        tm_f (tm_s (tm_s (tm_s acc (3 * x) (tm_g A8 nd')) (3 * x + 1) (tm_g A8 (49 + nd'))) (3 * x + 2) (tm_g A8 (98 + nd'))) fun acc' =>
          tm_scan A5 A8 c X n (x + 1) nd' acc')))
    else none
/-- a column run over the rows: it ends, and it is full just where E says so -/
def tm_col (A9 A10 ph p cb cm Y E : Nat) : Nat → Nat → Nat → Bool
  | 0, _, _ => true
  | n + 1, t, m => match tm_adv A9 A10 ph p (if t = Y then cm else cb) m with
    | none => false
    | some m' => decide (m' ≤ 4) && (decide (m' = ph) == E.testBit t) && tm_col A9 A10 ph p cb cm Y E n (t + 1) m'
def tm_pw (w p : Nat) : Nat := if p = 2 then w else 1
/-- where the columns are full: blank text; a text with the pattern stamped at (x0, y0) -/
def tm_E0 (w h c p x : Nat) : Nat := if c = 0 then (if p = 2 then (if w ≤ x + 1 then 256 - 2 ^ (h - 1) else 0) else 0) else 0
def tm_E1 (w h j i c x0 y0 p x : Nat) : Nat :=
  if p = 2 then (if x + 1 = x0 + w then 2 ^ (y0 + h - 1) else 0) else (if c = 1 then (if x = x0 + j then 2 ^ (y0 + i) else 0) else 0)
def tm_cB (w h c A9 A10 K8 : Nat) : Bool :=
  (List.range 3).all fun p => (List.range 8).all fun x => tm_f (tm_g K8 (3 * x + p)) fun cb => tm_f (tm_E0 w h c p x) fun E =>
    tm_col A9 A10 (tm_pw h p) p cb cb 8 E 8 0 0
def tm_cM (w h j i c A9 A10 K8 KX x0 y0 : Nat) : Bool :=
  (List.range 3).all fun p => (List.range 8).all fun x => tm_f (tm_g K8 (3 * x + p)) fun cb => tm_f (tm_g KX (3 * x + p)) fun cm =>
    tm_f (tm_E1 w h j i c x0 y0 p x) fun E =>
      if cb = cm then decide (E = 0) else tm_f (y0 + i) fun Y => tm_col A9 A10 (tm_pw h p) p cb cm Y E 8 0 0
/-- the coded arrays of a configuration -/
def tm_C2 (w : Nat) : Nat := 3 + 3 * 256 + (w + 2) * 65536
def tm_Z48 : Nat := 2 * ((256 ^ 48 - 1) / 255)
def tm_C4 (j i c : Nat) : Nat := tm_s (tm_s (tm_s tm_Z48 0 3) 16 3) (32 + 4 * i + j) (c + 2)
def tm_chk (w h j i c : Nat) : Bool :=
  tm_f (tm_C2 w) fun A2 => tm_f (tm_C2 h) fun A3 => tm_f (tm_C4 j i c) fun A4 =>
  match tm_prep A2 A3 A4 with
  | none => false
  | some r => tm_f r.1 fun A5 => tm_f r.2.1 fun A8 => tm_f r.2.2.1 fun A9 => tm_f r.2.2.2 fun A10 =>
    match tm_scan A5 A8 c 8 8 0 0 0 with
    | none => false
    | some K8 => tm_cB w h c A9 A10 K8 && (decide (c = 0) || (List.range (9 - w)).all fun x0 =>
      match tm_scan A5 A8 c (x0 + j) 8 0 0 0 with
      | none => false
      | some KX => (List.range (9 - h)).all fun y0 => tm_cM w h j i c A9 A10 K8 KX x0 y0)
end
section
abbrev tm_P12 : Type := tm_AT → tm_AT → tm_AT → tm_AT → tm_AT → tm_AT → tm_AT → tm_AT → tm_AT → tm_AT → tm_AT → tm_AT → Prop
abbrev tm_J6 : Type := Int32 → Int32 → Int32 → Int32 → Int32 → Int32 → tm_P12
abbrev tm_J5 : Type := Int32 → Int32 → Int32 → Int32 → Int32 → tm_P12
abbrev tm_J2 : Type := Int32 → Int32 → tm_P12
section
variable {post : St2 → Prop} {fw fh fn fs : Int32} {a1 a2 a3 a4 a5 a6 a7 a8 a9 a10 a11 a12 : tm_AT}
/-- what stands behind addRow's loop -/
def tm_xa (post : St2 → Prop) (p i node : Nat) (fw fh fn fs : Int32) (a1 a2 a3 a4 a5 a6 a7 a8 a9 a10 a11 a12 : tm_AT) : Prop :=
  vp_in (nI (49 * p + node)) 147 ∧ ((0 ≤ a8 (nI (49 * p + node)).toNatClampNeg → wX_addRow_111 post (nI p) (nI i) (nI (49 * p + node)) fw fh fn fs a1 a2 a3 a4 a5 a6 a7 a8 a9 a10 a11 a12) ∧ (¬ 0 ≤ a8 (nI (49 * p + node)).toNatClampNeg → (vp_in (nI (49 * p + node)) 147 ∧ ∀ b8 : Nat → Int32, b8 = upd a8 (nI (49 * p + node)).toNatClampNeg (nI i).toInt8.toInt32 → wX_addRow_111 post (nI p) (nI i) (nI (49 * p + node)) fw fh fn fs a1 a2 a3 a4 a5 a6 a7 b8 a9 a10 a11 a12)))
theorem tm_wa5 {p i A2 A4 : Nat} {r : Nat × Nat × Nat} (h2 : tm_R 3 a2 A2) (h4 : tm_R 48 a4 A4) :
    ∀ (n x3 x4 nc A5 : Nat) (b5 : tm_AT), tm_a5 A2 A4 p i n x3 x4 nc A5 = some r → x4 ≤ 254 → tm_R 147 b5 A5 →
      (∀ b5 : tm_AT, tm_R 147 b5 r.2.2 → tm_xa post p i r.1 fw fh (nI r.2.1) fs a1 a2 a3 a4 b5 a6 a7 a8 a9 a10 a11 a12) →
      wX_addRow_5 post (nI p) (nI i) fw fh fs n (nI x3) (nI x4) (nI nc) a1 a2 a3 a4 b5 a6 a7 a8 a9 a10 a11 a12 := by
  intro n
  induction n with
  | zero =>
    intro x3 x4 nc A5 b5 h
    simp [tm_a5] at h
  | succ n ih =>
    intro x3 x4 nc A5 b5 h hx h5 H
    rw [tm_a5] at h
    obtain ⟨pw, k1, kv, e1, h⟩ := tm_rdE h
    have E1 : a2 (nI p).toNatClampNeg = nI pw := tm_at rfl (tm_Rv h2 k1 e1) (by omega)
    refine ⟨pk_in p 3 k1, ?_⟩
    by_cases g : pw ≤ x4
    · rw [if_pos g] at h
      cases h
      exact br_t (by rw [E1]; exact nI_le g (by omega)) (nm_r (tm_n49 p x3) (H b5 h5))
    · rw [if_neg g] at h
      obtain ⟨l, k2, lv, e2, h⟩ := tm_rdE h
      obtain ⟨b, k3, bv, e3, h⟩ := tm_rdE h
      have E2 : a4 (16 * nI p + 4 * nI i + nI x4).toNatClampNeg = nI l := tm_at (tm_n164 p i x4) (tm_Rv h4 k2 e2) (by omega)
      have E3 : b5 (nI (3 * x3 + l)).toNatClampNeg = nI b := tm_at rfl (tm_Rv h5 k3 e3) (by omega)
      refine br_f (by rw [E1]; exact nI_ge (by omega) (by omega)) ⟨pk_in (16 * p + 4 * i + x4) 48 k2 (tm_n164 p i x4), nm_r (e' := nI (3 * x3 + l)) (by rw [E2]; exact tm_n3 x3 l) ⟨pk_in (3 * x3 + l) 147 k3, ?_⟩⟩
      by_cases g2 : b = 0
      · rw [if_pos g2] at h
        obtain ⟨_, cv, h⟩ := tm_wrE h
        refine br_t (by rw [E3, g2]; rfl) ⟨pk_in (3 * x3 + l) 147 k3, nm_r (tm_up rfl rfl cv (by omega)) (nm_r (nI_1 nc) ⟨pk_in (3 * x3 + l) 147 k3, nm_r (e' := nI nc) (tm_at rfl pk_us (by omega)) (nm_r (nI_1 x4) ?_)⟩)⟩
        exact ih _ _ _ _ _ h (by omega) (tm_RW h5 cv) H
      · rw [if_neg g2] at h
        refine br_f (by rw [E3]; exact nI_ne0 (by omega) (by omega)) ⟨pk_in (3 * x3 + l) 147 k3, nm_r E3 (nm_r (nI_1 x4) ?_)⟩
        exact ih _ _ _ _ _ h (by omega) h5 H
theorem tm_wadd {p i nc A2 A4 A5 A8 A9 : Nat} {q : Nat × Nat × Nat × Nat} (h2 : tm_R 3 a2 A2) (h4 : tm_R 48 a4 A4) (h5 : tm_R 147 a5 A5) (h8 : tm_R 147 a8 A8) (h9 : tm_R 12 a9 A9)
    (h : tm_add A2 A4 p i nc A5 A8 A9 = some q)
    (H : ∀ b5 b8 b9 : tm_AT, tm_R 147 b5 q.2.1 → tm_R 147 b8 q.2.2.1 → tm_R 12 b9 q.2.2.2 → post (fw, fh, nI q.1, fs, a1, a2, a3, a4, b5, a6, a7, b8, b9, a10, a11, a12)) :
    wpX_addRow post (fw, fh, nI nc, fs, a1, a2, a3, a4, a5, a6, a7, a8, a9, a10, a11, a12) (nI p) (nI i) := by
  unfold tm_add at h
  split at h
  · exact absurd h (by simp)
  · rename_i r hr
    obtain ⟨k1, h⟩ := tm_ifE h
    refine ⟨6, tm_wa5 h2 h4 6 0 0 nc A5 a5 hr (by omega) h5 (fun b5 h5' => ?_)⟩
    refine ⟨pk_in (49 * p + r.1) 147 k1, ?_⟩
    by_cases g : tm_g A8 (49 * p + r.1) = 1
    · rw [if_pos g] at h
      obtain ⟨_, iv, h⟩ := tm_wrE h
      obtain ⟨k2, _, h⟩ := tm_wrE h
      cases h
      have e8 : a8 (nI (49 * p + r.1)).toNatClampNeg = -1 := tm_at rfl (by rw [h8 _ k1 (by omega), g]; decide) (by omega)
      refine br_f (by rw [e8]; decide) ⟨pk_in (49 * p + r.1) 147 k1, nm_r (tm_up rfl rfl iv (by omega)) ?_⟩
      refine ⟨pk_in (49 * p + r.1) 147 k1, pk_in (4 * p + i) 12 k2 (tm_n4 p i), nm_r (tm_upn (tm_n4 p i) (tm_at rfl pk_us (by omega)) iv (by omega)) ?_⟩
      exact H _ _ _ h5' (tm_RW h8 iv) (tm_RW h9 iv)
    · rw [if_neg g] at h
      obtain ⟨v, _, vv, e, h⟩ := tm_rdE h
      obtain ⟨k2, v8, h⟩ := tm_wrE h
      cases h
      have e8 : a8 (nI (49 * p + r.1)).toNatClampNeg = nI v := tm_at rfl (tm_Rv h8 k1 e) (by omega)
      refine br_t (by rw [e8]; exact nI_pos' (by omega)) ⟨pk_in (49 * p + r.1) 147 k1, pk_in (4 * p + i) 12 k2 (tm_n4 p i), nm_r (tm_upn (tm_n4 p i) e8 v8 (by omega)) ?_⟩
      exact H _ _ _ h5' h8 (tm_RW h9 v8)
theorem tm_wb43 {J : tm_J5} {p A2 A3 A4 : Nat} {r : Nat × Nat × Nat × Nat} (h2 : tm_R 3 a2 A2) (h3 : tm_R 3 a3 A3) (h4 : tm_R 48 a4 A4) :
    ∀ (n i nc A5 A8 A9 : Nat) (b5 b8 b9 : tm_AT), tm_b43 A2 A3 A4 p n i nc A5 A8 A9 = some r → i ≤ 254 → tm_R 147 b5 A5 → tm_R 147 b8 A8 → tm_R 12 b9 A9 →
      (∀ b5 b8 b9 : tm_AT, tm_R 147 b5 r.2.1 → tm_R 147 b8 r.2.2.1 → tm_R 12 b9 r.2.2.2 → J (nI (p + 1)) fw fh (nI r.1) fs a1 a2 a3 a4 b5 a6 a7 b8 b9 a10 a11 a12) →
      wX_buildAutomaton_43 post J (nI p) n (nI i) fw fh (nI nc) fs a1 a2 a3 a4 b5 a6 a7 b8 b9 a10 a11 a12 := by
  intro n
  induction n with
  | zero =>
    intro i nc A5 A8 A9 b5 b8 b9 h
    simp [tm_b43] at h
  | succ n ih =>
    intro i nc A5 A8 A9 b5 b8 b9 h hi h5 h8 h9 H
    rw [tm_b43] at h
    obtain ⟨ph, k1, kv, e1, h⟩ := tm_rdE h
    have E1 : a3 (nI p).toNatClampNeg = nI ph := tm_at rfl (tm_Rv h3 k1 e1) (by omega)
    refine ⟨pk_in p 3 k1, ?_⟩
    by_cases g : ph ≤ i
    · rw [if_pos g] at h
      cases h
      exact br_t (by rw [E1]; exact nI_le g (by omega)) (nm_r (nI_1 p) (H b5 b8 b9 h5 h8 h9))
    · rw [if_neg g] at h
      split at h
      · exact absurd h (by simp)
      · rename_i q hq
        refine br_f (by rw [E1]; exact nI_ge (by omega) (by omega)) (tm_wadd h2 h4 h5 h8 h9 hq (fun c5 c8 c9 g5 g8 g9 => ?_))
        exact nm_r (nI_1 i) (ih _ _ _ _ _ _ _ _ h (by omega) g5 g8 g9 H)
theorem tm_winh {p nd sh A8 B8 : Nat} (h8 : tm_R 147 a8 A8) (h : tm_inh p nd sh A8 = some B8)
    (H : ∀ b8 : tm_AT, tm_R 147 b8 B8 → post (fw, fh, fn, fs, a1, a2, a3, a4, a5, a6, a7, b8, a9, a10, a11, a12)) : wpX_inheritRow post (fw, fh, fn, fs, a1, a2, a3, a4, a5, a6, a7, a8, a9, a10, a11, a12) (nI p) (nI nd) (nI sh) := by
  unfold tm_inh at h
  obtain ⟨k1, h⟩ := tm_ifE h
  refine ⟨pk_in (49 * p + nd) 147 k1 (tm_n49 p nd), ?_⟩
  have hl := tm_glt A8 (49 * p + nd)
  by_cases g : tm_g A8 (49 * p + nd) = 1
  · rw [if_pos g] at h
    obtain ⟨k2, h⟩ := tm_ifE h
    obtain ⟨k3, h⟩ := tm_ifN h
    obtain ⟨k4, h⟩ := tm_ifE h
    rw [tm_fe] at h
    cases h
    have e8 : a8 (49 * nI p + nI nd).toNatClampNeg = -1 := tm_at (tm_n49 p nd) (by rw [h8 _ k1 (by omega), g]; decide) (by omega)
    refine br_f (by rw [e8]; decide) ⟨pk_in (49 * p + sh) 147 k2 (tm_n49 p sh), pk_in (49 * p + nd) 147 k1 (tm_n49 p nd), nm_r (tm_upd (tm_n49 p nd) (tm_at (tm_n49 p sh) (h8 _ k2 k3) (by omega)) k4 (by omega)) ?_⟩
    exact H _ (tm_RWd h8 (by omega))
  · rw [if_neg g] at h
    obtain ⟨k2, h⟩ := tm_ifE h
    cases h
    have e8 : a8 (49 * nI p + nI nd).toNatClampNeg = nI (tm_g A8 (49 * p + nd) - 2) := tm_at (tm_n49 p nd) (tm_Rv h8 k1 (by omega)) (by omega)
    exact br_t (by rw [e8]; exact nI_pos' (by omega)) (H a8 h8)
theorem tm_w103 {J : tm_J6} {x2 x3 x4 : Nat} {r : Nat × Nat × Nat × Nat} :
    ∀ (n x1 x5 A5 A6 A7 : Nat) (b5 b6 b7 : tm_AT), tm_l103 x3 x4 n x1 x5 A5 A6 A7 = some r → x5 ≤ 3 → tm_R 147 b5 A5 → tm_R 49 b6 A6 → tm_R 49 b7 A7 →
      (∀ b5 b6 b7 : tm_AT, tm_R 147 b5 r.2.1 → tm_R 49 b6 r.2.2.1 → tm_R 49 b7 r.2.2.2 → J (nI r.1) (nI (x2 + 1)) fw fh fn fs a1 a2 a3 a4 b5 b6 b7 a8 a9 a10 a11 a12) →
      wX_linkNodes_103 post J (nI x2) (nI x3) (nI x4) fw fh fn fs n (nI x1) (nI x5) a1 a2 a3 a4 b5 b6 b7 a8 a9 a10 a11 a12 := by
  intro n
  induction n with
  | zero =>
    intro x1 x5 A5 A6 A7 b5 b6 b7 h
    simp [tm_l103] at h
  | succ n ih =>
    intro x1 x5 A5 A6 A7 b5 b6 b7 h hx h5 h6 h7 H
    rw [tm_l103] at h
    by_cases g : 3 ≤ x5
    · rw [if_pos g] at h
      cases h
      exact br_t (nI_le g (by omega)) (nm_r (nI_1 x2) (H b5 b6 b7 h5 h6 h7))
    · rw [if_neg g] at h
      obtain ⟨c, k1, _, e1, h⟩ := tm_rdE h
      obtain ⟨o, k2, _, e2, h⟩ := tm_rdE h
      refine br_f (nI_ge (b := 3) (by omega) (by decide)) ⟨pk_in (3 * x3 + x5) 147 k1 (tm_n3 x3 x5), nm_r (tm_at (tm_n3 x3 x5) (tm_Rv h5 k1 e1) (by omega)) ⟨pk_in (3 * x4 + x5) 147 k2 (tm_n3 x4 x5), nm_r (tm_at (tm_n3 x4 x5) (tm_Rv h5 k2 e2) (by omega)) ?_⟩⟩
      by_cases g2 : c = 0
      · rw [if_pos g2] at h
        obtain ⟨_, ov, h⟩ := tm_wrE h
        refine br_t (by rw [g2]; rfl) ⟨pk_in (3 * x3 + x5) 147 k1 (tm_n3 x3 x5), nm_r (tm_up (tm_n3 x3 x5) rfl ov (by omega)) (nm_r (nI_1 x5) ?_)⟩
        exact ih _ _ _ _ _ _ _ _ h (by omega) (tm_RW h5 ov) h6 h7 H
      · rw [if_neg g2] at h
        obtain ⟨k3, ov, h⟩ := tm_wrE h
        obtain ⟨k4, cv, h⟩ := tm_wrE h
        refine br_f (nI_ne0 (by omega) (by omega)) ⟨pk_in c 49 k3, nm_r (tm_up rfl rfl ov (by omega)) ⟨pk_in x1 49 k4, nm_r (tm_up rfl rfl cv (by omega)) (nm_r (nI_1 x1) (nm_r (nI_1 x5) ?_))⟩⟩
        exact ih _ _ _ _ _ _ _ _ h (by omega) h5 (tm_RW h6 ov) (tm_RW h7 cv) H
theorem tm_w79 {J : tm_J6} {x1 x2 : Int32} {nd sh B8 : Nat} :
    ∀ (n p A8 : Nat) (b8 : tm_AT), tm_l79 nd sh n p A8 = some B8 → p ≤ 3 → tm_R 147 b8 A8 →
      (∀ b8 : tm_AT, tm_R 147 b8 B8 → ∃ fu, wX_linkNodes_103 post J x2 (nI nd) (nI sh) fw fh fn fs fu x1 0 a1 a2 a3 a4 a5 a6 a7 b8 a9 a10 a11 a12) →
      wX_linkNodes_79 post J x1 x2 (nI nd) (nI sh) n (nI p) fw fh fn fs a1 a2 a3 a4 a5 a6 a7 b8 a9 a10 a11 a12 := by
  intro n
  induction n with
  | zero =>
    intro p A8 b8 h
    simp [tm_l79] at h
  | succ n ih =>
    intro p A8 b8 h hp h8 H
    rw [tm_l79] at h
    by_cases g : 3 ≤ p
    · rw [if_pos g] at h
      cases h
      exact br_t (nI_le g (by omega)) (H b8 h8)
    · rw [if_neg g] at h
      split at h
      · exact absurd h (by simp)
      · rename_i q hq
        refine br_f (nI_ge (b := 3) (by omega) (by decide)) (tm_winh h8 hq (fun c8 g8 => ?_))
        exact nm_r (nI_1 p) (ih _ _ _ h (by omega) g8 H)
theorem tm_w56 {r : Nat × Nat} :
    ∀ (n x1 x2 A5 A6 A7 A8 : Nat) (b5 b6 b7 b8 : tm_AT), tm_l56 n x1 x2 A5 A6 A7 A8 = some r → tm_R 147 b5 A5 → tm_R 49 b6 A6 → tm_R 49 b7 A7 → tm_R 147 b8 A8 →
      (∀ b5 b6 b7 b8 : tm_AT, tm_R 147 b5 r.1 → tm_R 147 b8 r.2 → post (fw, fh, fn, fs, a1, a2, a3, a4, b5, b6, b7, b8, a9, a10, a11, a12)) →
      wX_linkNodes_56 post n (nI x1) (nI x2) fw fh fn fs a1 a2 a3 a4 b5 b6 b7 b8 a9 a10 a11 a12 := by
  intro n
  induction n with
  | zero =>
    intro x1 x2 A5 A6 A7 A8 b5 b6 b7 b8 h
    simp [tm_l56] at h
  | succ n ih =>
    intro x1 x2 A5 A6 A7 A8 b5 b6 b7 b8 h h5 h6 h7 h8 H
    rw [tm_l56] at h
    obtain ⟨k1, h⟩ := tm_ifE h
    obtain ⟨k2, h⟩ := tm_ifE h
    by_cases g : x1 ≤ x2
    · rw [if_pos g] at h
      cases h
      exact br_t (nI_le g (by omega)) (H b5 b6 b7 b8 h5 h8)
    · rw [if_neg g] at h
      obtain ⟨x3, k3, _, e3, h⟩ := tm_rdE h
      obtain ⟨x4, k4, _, e4, h⟩ := tm_rdE h
      split at h
      · exact absurd h (by simp)
      · rename_i B8 q8
        split at h
        · exact absurd h (by simp)
        · rename_i q q5
          refine br_f (nI_ge (by omega) (by omega)) ⟨pk_in x2 49 k3, nm_r (tm_at rfl (tm_Rv h7 k3 e3) (by omega)) ⟨pk_in x3 49 k4, nm_r (tm_at rfl (tm_Rv h6 k4 e4) (by omega)) ⟨4, tm_w79 4 0 A8 b8 q8 (by omega) h8 (fun c8 g8 => ⟨4, tm_w103 4 x1 0 A5 A6 A7 b5 b6 b7 q5 (by omega) h5 h6 h7 (fun c5 c6 c7 g5 g6 g7 => ?_)⟩)⟩⟩⟩
          exact ih _ _ _ _ _ _ _ _ _ _ h g5 g6 g7 g8 H
theorem tm_w11 {A5 : Nat} {r : Nat × Nat × Nat} (h5 : tm_R 147 a5 A5) :
    ∀ (n x1 x2 A6 A7 : Nat) (b6 b7 : tm_AT), tm_l11 A5 n x1 x2 A6 A7 = some r → x2 ≤ 3 → tm_R 49 b6 A6 → tm_R 49 b7 A7 →
      (∀ b6 b7 : tm_AT, tm_R 49 b6 r.2.1 → tm_R 49 b7 r.2.2 → ∃ fu, wX_linkNodes_56 post fu (nI r.1) 0 fw fh fn fs a1 a2 a3 a4 a5 b6 b7 a8 a9 a10 a11 a12) →
      wX_linkNodes_11 post fw fh fn fs n (nI x1) (nI x2) a1 a2 a3 a4 a5 b6 b7 a8 a9 a10 a11 a12 := by
  intro n
  induction n with
  | zero =>
    intro x1 x2 A6 A7 b6 b7 h
    simp [tm_l11] at h
  | succ n ih =>
    intro x1 x2 A6 A7 b6 b7 h hx h6 h7 H
    rw [tm_l11] at h
    by_cases g : 3 ≤ x2
    · rw [if_pos g] at h
      cases h
      exact br_t (nI_le g (by omega)) (H b6 b7 h6 h7)
    · rw [if_neg g] at h
      obtain ⟨c, k1, _, e1, h⟩ := tm_rdE h
      refine br_f (nI_ge (b := 3) (by omega) (by decide)) ⟨pk_in x2 147 k1, nm_r (tm_at rfl (tm_Rv h5 k1 e1) (by omega)) ?_⟩
      by_cases g2 : c = 0
      · rw [if_pos g2] at h
        exact br_t (by rw [g2]; rfl) (nm_r (nI_1 x2) (ih _ _ _ _ _ _ h (by omega) h6 h7 H))
      · rw [if_neg g2] at h
        obtain ⟨k3, ov, h⟩ := tm_wrE h
        obtain ⟨k4, cv, h⟩ := tm_wrE h
        refine br_f (nI_ne0 (by omega) (by omega)) ⟨pk_in c 49 k3, nm_r (tm_up0 rfl (by omega)) ⟨pk_in x1 49 k4, nm_r (tm_up rfl rfl cv (by omega)) (nm_r (nI_1 x1) (nm_r (nI_1 x2) ?_))⟩⟩
        exact ih _ _ _ _ _ _ h (by omega) (tm_RW h6 ov) (tm_RW h7 cv) H
theorem tm_wlnk {A5 A8 : Nat} {q : Nat × Nat} (h5 : tm_R 147 a5 A5) (h8 : tm_R 147 a8 A8) (h : tm_lnk A5 A8 = some q)
    (H : ∀ b5 b6 b7 b8 : tm_AT, tm_R 147 b5 q.1 → tm_R 147 b8 q.2 → post (fw, fh, fn, fs, a1, a2, a3, a4, b5, b6, b7, b8, a9, a10, a11, a12)) : wpX_linkNodes post (fw, fh, fn, fs, a1, a2, a3, a4, a5, a6, a7, a8, a9, a10, a11, a12) := by
  unfold tm_lnk at h
  obtain ⟨_, _, h⟩ := tm_wrE h
  split at h
  · exact absurd h (by simp)
  · rename_i r hr
    exact nm_e ⟨4, tm_w11 h5 4 0 0 _ 0 _ a7 hr (by omega) (tm_RW (tm_R0 49 a6) (by omega)) (tm_R0 49 a7) (fun b6 b7 g6 g7 => ⟨60, tm_w56 60 _ 0 _ _ _ _ _ _ _ _ h h5 g6 g7 h8 H⟩)⟩
theorem tm_wb36 {A2 A3 A4 : Nat} {r : Nat × Nat × Nat × Nat} {q : Nat × Nat} (h2 : tm_R 3 a2 A2) (h3 : tm_R 3 a3 A3) (h4 : tm_R 48 a4 A4) (hl : tm_lnk r.2.1 r.2.2.1 = some q) :
    ∀ (n p nc A5 A8 A9 : Nat) (b5 b8 b9 : tm_AT), tm_b36 A2 A3 A4 n p nc A5 A8 A9 = some r → p ≤ 3 → tm_R 147 b5 A5 → tm_R 147 b8 A8 → tm_R 12 b9 A9 →
      (∀ (fn : Int32) (c5 c6 c7 c8 c9 : tm_AT), tm_R 147 c5 q.1 → tm_R 147 c8 q.2 → tm_R 12 c9 r.2.2.2 → post (fw, fh, fn, fs, a1, a2, a3, a4, c5, c6, c7, c8, c9, a10, a11, a12)) →
      wX_buildAutomaton_36 post n (nI p) fw fh (nI nc) fs a1 a2 a3 a4 b5 a6 a7 b8 b9 a10 a11 a12 := by
  intro n
  induction n with
  | zero =>
    intro p nc A5 A8 A9 b5 b8 b9 h
    simp [tm_b36] at h
  | succ n ih =>
    intro p nc A5 A8 A9 b5 b8 b9 h hp h5 h8 h9 H
    rw [tm_b36] at h
    by_cases g : 3 ≤ p
    · rw [if_pos g] at h
      cases h
      exact br_t (nI_le g (by omega)) (tm_wlnk h5 h8 hl (fun c5 c6 c7 c8 g5 g8 => H _ c5 c6 c7 c8 b9 g5 g8 h9))
    · rw [if_neg g] at h
      split at h
      · exact absurd h (by simp)
      · rename_i s hs
        refine br_f (nI_ge (b := 3) (by omega) (by decide)) ⟨6, tm_wb43 h2 h3 h4 6 0 nc A5 A8 A9 b5 b8 b9 hs (by omega) h5 h8 h9 (fun c5 c8 c9 g5 g8 g9 => ?_)⟩
        exact ih _ _ _ _ _ _ _ _ h (by omega) g5 g8 g9 H
end
theorem tm_gZ2 : ∀ k, k < 147 → tm_g tm_Z2 k = 2 := by decide +kernel
theorem tm_gZ1 : ∀ k, k < 147 → tm_g tm_Z1 k = 1 := by decide +kernel
theorem tm_fill {s : tm_AT} {v : Int32} {i : Nat} (h : ∀ k, k < i → s k = v) : ∀ k, k < i + 1 → upd s i v k = v := by
  intro k hk
  by_cases e : k = i
  · rw [e, pk_us]
  · rw [pk_un e]
    exact h k (by omega)
section
variable {post : St2 → Prop} {fw fh fn fs : Int32} {a1 a2 a3 a4 a5 a6 a7 a8 a9 a10 a11 a12 : tm_AT}
theorem tm_wbld {A2 A3 A4 : Nat} {r : Nat × Nat × Nat} (h2 : tm_R 3 a2 A2) (h3 : tm_R 3 a3 A3) (h4 : tm_R 48 a4 A4) (h : tm_bld A2 A3 A4 = some r)
    (H : ∀ (fn : Int32) (c5 c6 c7 c8 c9 : tm_AT), tm_R 147 c5 r.1 → tm_R 147 c8 r.2.1 → tm_R 12 c9 r.2.2 → post (fw, fh, fn, fs, a1, a2, a3, a4, c5, c6, c7, c8, c9, a10, a11, a12)) :
    wpX_buildAutomaton post (fw, fh, fn, fs, a1, a2, a3, a4, a5, a6, a7, a8, a9, a10, a11, a12) := by
  unfold tm_bld at h
  split at h
  · exact absurd h (by simp)
  · rename_i s hs
    split at h
    · exact absurd h (by simp)
    · rename_i q hq
      cases h
      refine pk_loop (fun n i (s : tm_AT × tm_AT) => wX_buildAutomaton_7 post fw fh 1 fs n (nI i) a1 a2 a3 a4 s.1 a6 a7 s.2 a9 a10 a11 a12) (fun i s => (∀ k, k < i → s.1 k = 0) ∧ (∀ k, k < i → s.2 k = -1)) 147 0 (a5, a8) (by omega)
        ⟨fun k hk => absurd hk (by omega), fun k hk => absurd hk (by omega)⟩ (fun n t ht => ?_) (fun n i t hi ht hw => ?_)
      · refine pk_le 147 147 (fun _ => ?_) (fun z => absurd z (by omega))
        refine ⟨4, tm_wb36 h2 h3 h4 hq 4 0 1 tm_Z2 tm_Z1 0 t.1 t.2 a9 hs (by omega) (fun k hk _ => ?_) (fun k hk _ => ?_) (tm_R0 12 a9) H⟩
        · rw [tm_gZ2 k hk, ht.1 k hk]
          decide
        · rw [tm_gZ1 k hk, ht.2 k hk]
          decide
      · exact pk_le 147 i (fun z => absurd z (by omega)) (fun _ => ⟨pk_in i 147 hi, nm_r (tm_up0 rfl (by omega)) ⟨pk_in i 147 hi, nm_r (tm_up0 rfl (by omega)) (nm_r (nI_1 i) (hw (_, _) ⟨tm_fill ht.1, tm_fill ht.2⟩))⟩⟩)
end
end
section
theorem tm_m5 (p : Nat) : (5 : Int32) * nI p = nI (5 * p) := by
  rw [← pk_mul]
  rfl
theorem tm_sb {a b : Nat} (h : b ≤ a + 1) : nI a - nI b + 1 = nI (a + 1 - b) := by
  have e : nI a - nI b + 1 = nI a + 1 - nI b := by grind
  rw [e, nI_1, pk_sub h]
theorem tm_sl : ∀ n, n < 32 → ((nI n &&& 31).toBitVec.smod 32).toNat = n := by decide +kernel
theorem tm_sh1 {b : Nat} (hb : b < 12) : (1 : Int32) <<< (nI b &&& 31) = nI (2 ^ b) := by
  have h : nI 1 <<< (nI b &&& 31) = nI (1 * 2 ^ b) := pk_shlN _ b (tm_sl b (by omega)) (by
    have : 2 ^ b < 2 ^ 12 := Nat.pow_lt_pow_right (by decide) hb
    omega)
  rw [Nat.one_mul] at h
  exact h
theorem tm_or (a b : Nat) : nI a ||| nI b = nI (a ||| b) := by
  apply Int32.toBitVec_inj.mp
  show BitVec.ofNat 32 a ||| BitVec.ofNat 32 b = BitVec.ofNat 32 (a ||| b)
  apply BitVec.eq_of_toNat_eq
  rw [BitVec.toNat_or, BitVec.toNat_ofNat, BitVec.toNat_ofNat, BitVec.toNat_ofNat]
  exact Nat.or_mod_two_pow.symm
section
variable {post : St2 → Prop} {fw fh fn fs : Int32} {a1 a2 a3 a4 a5 a6 a7 a8 a9 a10 a11 a12 : tm_AT}
theorem tm_wf36 {J : tm_J2} {p k m' A9 A10 : Nat} (h9 : tm_R 12 a9 A9) (h10 : tm_R 15 a10 A10) (hk : 4 * p + k < 12) (hc : tm_g A9 (4 * p + k) ≠ 0) :
    ∀ (n m : Nat), tm_kmp A9 A10 p (tm_g A9 (4 * p + k)) n m = some m' →
      wX_buildFailure_103 post J (nI p) (nI (5 * p)) (nI m') (nI k) fw fh fn fs a1 a2 a3 a4 a5 a6 a7 a8 a9 a10 a11 a12 →
      wX_buildFailure_36 post J (nI p) (nI (5 * p)) (nI k) fw fh fn fs a1 a2 a3 a4 a5 a6 a7 a8 a9 a10 a11 a12 n (nI m) := by
  intro n
  induction n with
  | zero =>
    intro m h
    simp [tm_kmp] at h
  | succ n ih =>
    intro m h H
    rw [tm_kmp] at h
    obtain ⟨k1, h⟩ := tm_ifE h
    obtain ⟨k2, h⟩ := tm_ifN h
    have Em : a9 (4 * nI p + nI m).toNatClampNeg = tm_d (tm_g A9 (4 * p + m)) := tm_at (tm_n4 p m) (h9 _ k1 k2) (by omega)
    have Ek : a9 (4 * nI p + nI k).toNatClampNeg = tm_d (tm_g A9 (4 * p + k)) := tm_at (tm_n4 p k) (h9 _ hk hc) (by omega)
    have D := tm_dinj (tm_glt A9 (4 * p + m)) (tm_glt A9 (4 * p + k))
    have i1 : vp_in (4 * nI p + nI m) 12 := pk_in (4 * p + m) 12 k1 (tm_n4 p m)
    have i2 : vp_in (4 * nI p + nI k) 12 := pk_in (4 * p + k) 12 hk (tm_n4 p k)
    by_cases g : tm_g A9 (4 * p + m) = tm_g A9 (4 * p + k)
    · rw [if_pos g] at h
      cases h
      have eq : a9 (4 * nI p + nI m).toNatClampNeg = a9 (4 * nI p + nI k).toNatClampNeg := by rw [Em, Ek, g]
      have T : wX_buildFailure_76 post J (nI p) (nI (5 * p)) (nI m) (nI k) fw fh fn fs a1 a2 a3 a4 a5 a6 a7 a8 a9 a10 a11 a12 := ⟨i1, i2, br_t eq (nm_r (nI_1 m) H)⟩
      by_cases g0 : m = 0
      · exact br_t (by rw [g0]; decide) T
      · exact br_f (nI_nle (by omega) (by omega)) ⟨i1, i2, br_t eq T⟩
    · rw [if_neg g] at h
      have ne : ¬ a9 (4 * nI p + nI m).toNatClampNeg = a9 (4 * nI p + nI k).toNatClampNeg := by
        rw [Em, Ek]
        exact fun z => g (D.mp z)
      by_cases g0 : m = 0
      · rw [if_pos g0] at h
        cases h
        subst g0
        exact br_t (by decide) ⟨i1, i2, br_f ne H⟩
      · rw [if_neg g0] at h
        obtain ⟨m1, k3, _, e3, h⟩ := tm_rdE h
        exact br_f (nI_nle (by omega) (by omega)) ⟨i1, i2, br_f ne ⟨pk_in (5 * p + m) 15 k3 (nI_add _ _), nm_r (tm_at (nI_add _ _) (tm_Rv h10 k3 e3) (by omega)) (ih _ h H)⟩⟩
theorem tm_wf25 {p A3 A9 B10 : Nat} (h3 : tm_R 3 a3 A3) (h9 : tm_R 12 a9 A9) :
    ∀ (n m k A10 : Nat) (b10 : tm_AT), tm_f25 A3 A9 p n m k A10 = some B10 → k ≤ 254 → tm_R 15 b10 A10 →
      (∀ b10 : tm_AT, tm_R 15 b10 B10 → post (fw, fh, fn, fs, a1, a2, a3, a4, a5, a6, a7, a8, a9, b10, a11, a12)) →
      wX_buildFailure_25 post (nI p) (nI (5 * p)) fw fh fn fs n (nI m) (nI k) a1 a2 a3 a4 a5 a6 a7 a8 a9 b10 a11 a12 := by
  intro n
  induction n with
  | zero =>
    intro m k A10 b10 h
    simp [tm_f25] at h
  | succ n ih =>
    intro m k A10 b10 h hk h10 H
    rw [tm_f25] at h
    obtain ⟨ph, k1, kv, e1, h⟩ := tm_rdE h
    have E1 : a3 (nI p).toNatClampNeg = nI ph := tm_at rfl (tm_Rv h3 k1 e1) (by omega)
    refine ⟨pk_in p 3 k1, ?_⟩
    by_cases g : ph ≤ k
    · rw [if_pos g] at h
      cases h
      exact br_t (by rw [E1]; exact nI_le g (by omega)) (H b10 h10)
    · rw [if_neg g] at h
      obtain ⟨k2, h⟩ := tm_ifE h
      obtain ⟨k3, h⟩ := tm_ifN h
      split at h
      · exact absurd h (by simp)
      · rename_i m' hm
        obtain ⟨k4, mv, h⟩ := tm_wrE h
        have e : nI (5 * p) + nI k + 1 = nI (5 * p + k + 1) := by rw [nI_add, nI_1]
        exact br_f (by rw [E1]; exact nI_ge (by omega) (by omega)) ⟨6, tm_wf36 h9 h10 k2 k3 6 m hm ⟨pk_in (5 * p + k + 1) 15 k4 e, nm_r (tm_up e rfl mv (by omega)) (nm_r (nI_1 k) (ih _ _ _ _ h (by omega) (tm_RW h10 mv) H))⟩⟩
theorem tm_wfail {p A3 A9 A10 B10 : Nat} (h3 : tm_R 3 a3 A3) (h9 : tm_R 12 a9 A9) (h10 : tm_R 15 a10 A10) (h : tm_fail A3 A9 p A10 = some B10)
    (H : ∀ b10 : tm_AT, tm_R 15 b10 B10 → post (fw, fh, fn, fs, a1, a2, a3, a4, a5, a6, a7, a8, a9, b10, a11, a12)) : wpX_buildFailure post (fw, fh, fn, fs, a1, a2, a3, a4, a5, a6, a7, a8, a9, a10, a11, a12) (nI p) := by
  unfold tm_fail at h
  obtain ⟨k1, _, h⟩ := tm_wrE h
  obtain ⟨k2, _, h⟩ := tm_wrE h
  exact nm_r (tm_m5 p) ⟨pk_in (5 * p) 15 k1, nm_r (tm_up0 rfl (by omega)) ⟨pk_in (5 * p + 1) 15 k2 (nI_1 _), nm_r (tm_up0 (nI_1 _) (by omega)) ⟨6, tm_wf25 h3 h9 6 0 1 _ _ h (by omega) (tm_RW (tm_RW h10 (by omega)) (by omega)) H⟩⟩⟩
theorem tm_ws19 {A3 A9 B10 : Nat} (h3 : tm_R 3 a3 A3) (h9 : tm_R 12 a9 A9) :
    ∀ (n p A10 : Nat) (b10 : tm_AT), tm_s19 A3 A9 n p A10 = some B10 → p ≤ 3 → tm_R 15 b10 A10 →
      (∀ b10 : tm_AT, tm_R 15 b10 B10 → ∃ fu, wX_search_37 post fw fh fn fs fu 0 a1 a2 a3 a4 a5 a6 a7 a8 a9 b10 a11 a12) →
      wX_search_19 post n (nI p) fw fh fn fs a1 a2 a3 a4 a5 a6 a7 a8 a9 b10 a11 a12 := by
  intro n
  induction n with
  | zero =>
    intro p A10 b10 h
    simp [tm_s19] at h
  | succ n ih =>
    intro p A10 b10 h hp h10 H
    rw [tm_s19] at h
    by_cases g : 3 ≤ p
    · rw [if_pos g] at h
      cases h
      exact br_t (nI_le g (by omega)) (H b10 h10)
    · rw [if_neg g] at h
      split at h
      · exact absurd h (by simp)
      · rename_i q hq
        refine br_f (nI_ge (b := 3) (by omega) (by decide)) (tm_wfail h3 h9 h10 hq (fun c10 g10 => ?_))
        exact nm_r (nI_1 p) (ih _ _ _ h (by omega) g10 H)
theorem tm_w41 {p x y c m' A9 A10 : Nat} (h9 : tm_R 12 a9 A9) (h10 : tm_R 15 a10 A10) (hc : c < 256) :
    ∀ (n m : Nat), tm_kmp A9 A10 p c n m = some m' →
      wX_advance_97 post (nI p) (nI x) (nI y) (nI (12 * p + x)) (nI m') fw fh fn fs a1 a2 a3 a4 a5 a6 a7 a8 a9 a10 a11 a12 →
      wX_advance_41 post (nI p) (nI x) (nI y) (tm_d c) (nI (12 * p + x)) fw fh fn fs a1 a2 a3 a4 a5 a6 a7 a8 a9 a10 a11 a12 n (nI m) := by
  intro n
  induction n with
  | zero =>
    intro m h
    simp [tm_kmp] at h
  | succ n ih =>
    intro m h H
    rw [tm_kmp] at h
    obtain ⟨k1, h⟩ := tm_ifE h
    obtain ⟨k2, h⟩ := tm_ifN h
    have Em : a9 (4 * nI p + nI m).toNatClampNeg = tm_d (tm_g A9 (4 * p + m)) := tm_at (tm_n4 p m) (h9 _ k1 k2) (by omega)
    have D := tm_dinj (tm_glt A9 (4 * p + m)) hc
    have i1 : vp_in (4 * nI p + nI m) 12 := pk_in (4 * p + m) 12 k1 (tm_n4 p m)
    by_cases g : tm_g A9 (4 * p + m) = c
    · rw [if_pos g] at h
      cases h
      have eq : a9 (4 * nI p + nI m).toNatClampNeg = tm_d c := by rw [Em, g]
      have T : wX_advance_78 post (nI p) (nI x) (nI y) (tm_d c) (nI (12 * p + x)) (nI m) fw fh fn fs a1 a2 a3 a4 a5 a6 a7 a8 a9 a10 a11 a12 := ⟨i1, br_t eq (nm_r (nI_1 m) H)⟩
      by_cases g0 : m = 0
      · exact br_t (by rw [g0]; decide) T
      · exact br_f (nI_nle (by omega) (by omega)) ⟨i1, br_t eq T⟩
    · rw [if_neg g] at h
      have ne : ¬ a9 (4 * nI p + nI m).toNatClampNeg = tm_d c := by
        rw [Em]
        exact fun z => g (D.mp z)
      by_cases g0 : m = 0
      · rw [if_pos g0] at h
        cases h
        subst g0
        exact br_t (by decide) ⟨i1, br_f ne H⟩
      · rw [if_neg g0] at h
        obtain ⟨m1, k3, _, e3, h⟩ := tm_rdE h
        exact br_f (nI_nle (by omega) (by omega)) ⟨i1, br_f ne ⟨pk_in (5 * p + m) 15 k3 (tm_n5 p m), nm_r (tm_at (tm_n5 p m) (tm_Rv h10 k3 e3) (by omega)) (ih _ h H)⟩⟩
theorem tm_w97 {p x y m' pw ph : Nat} (hp : p < 3) (hx : x < 8) (hy : y < 8) (E2 : a2 p = nI pw) (E3 : a3 p = nI ph) (h1 : 1 ≤ ph) (h2 : 1 ≤ pw) (h3 : ph ≤ 4) (hm : m' ≤ 4)
    (H1 : m' = ph → (pw ≤ x + 1 ∧ ph ≤ y + 1) ∧ post (fw, fh, fn, fs, a1, a2, a3, a4, a5, a6, a7, a8, a9, a10, upd a11 (12 * p + (y + 1 - ph)) (a11 (12 * p + (y + 1 - ph)) ||| nI (2 ^ (x + 1 - pw))), upd a12 (12 * p + x) (nI m')))
    (H2 : m' ≠ ph → post (fw, fh, fn, fs, a1, a2, a3, a4, a5, a6, a7, a8, a9, a10, a11, upd a12 (12 * p + x) (nI m'))) :
    wX_advance_97 post (nI p) (nI x) (nI y) (nI (12 * p + x)) (nI m') fw fh fn fs a1 a2 a3 a4 a5 a6 a7 a8 a9 a10 a11 a12 := by
  have F3 : a3 (nI p).toNatClampNeg = nI ph := tm_at rfl E3 (by omega)
  have F2 : a2 (nI p).toNatClampNeg = nI pw := tm_at rfl E2 (by omega)
  refine ⟨pk_in (12 * p + x) 36 (by omega), nm_r (tm_up rfl rfl (by omega) (by omega)) ⟨pk_in p 3 hp, ?_⟩⟩
  by_cases g : m' = ph
  · obtain ⟨⟨q1, q2⟩, H⟩ := H1 g
    have e : 12 * nI p + nI y - nI m' + 1 = nI (12 * p + (y + 1 - ph)) := by
      rw [tm_n12, tm_sb (by omega)]
      congr 1
      omega
    have ii : vp_in (12 * nI p + nI y - nI m' + 1) 36 := pk_in (12 * p + (y + 1 - ph)) 36 (by omega) e
    have sh : (1 : Int32) <<< ((nI x - a2 (nI p).toNatClampNeg + 1) &&& 31) = nI (2 ^ (x + 1 - pw)) := by
      rw [F2, tm_sb (by omega)]
      exact tm_sh1 (by omega)
    refine br_t (by rw [F3, g]) ⟨ii, pk_in p 3 hp, ii, nm_r ?_ H⟩
    rw [sh, e, nI_clamp (by omega)]
  · exact br_f (by rw [F3]; exact fun z => g ((nI_eq (by omega) (by omega)).mp z)) (H2 g)
theorem tm_wadv {p x y c m m' pw ph A9 A10 : Nat} {row : Int32} (hr : row = tm_d c) (hc : c < 256) (hp : p < 3) (hx : x < 8) (hy : y < 8) (E2 : a2 p = nI pw) (E3 : a3 p = nI ph)
    (h1 : 1 ≤ ph) (h2 : 1 ≤ pw) (h3 : ph ≤ 4) (hm : m' ≤ 4) (h9 : tm_R 12 a9 A9) (h10 : tm_R 15 a10 A10) (hm0 : m < 1000) (e12 : a12 (12 * p + x) = nI m) (h : tm_adv A9 A10 ph p c m = some m')
    (H1 : m' = ph → (pw ≤ x + 1 ∧ ph ≤ y + 1) ∧ post (fw, fh, fn, fs, a1, a2, a3, a4, a5, a6, a7, a8, a9, a10, upd a11 (12 * p + (y + 1 - ph)) (a11 (12 * p + (y + 1 - ph)) ||| nI (2 ^ (x + 1 - pw))), upd a12 (12 * p + x) (nI m')))
    (H2 : m' ≠ ph → post (fw, fh, fn, fs, a1, a2, a3, a4, a5, a6, a7, a8, a9, a10, a11, upd a12 (12 * p + x) (nI m'))) :
    wpX_advance post (fw, fh, fn, fs, a1, a2, a3, a4, a5, a6, a7, a8, a9, a10, a11, a12) (nI p) (nI x) (nI y) row := by
  rw [hr]
  have T := tm_w97 (fw := fw) (fh := fh) (fn := fn) (fs := fs) (a1 := a1) (a4 := a4) (a5 := a5) (a6 := a6) (a7 := a7) (a8 := a8) (a9 := a9) (a10 := a10) hp hx hy E2 E3 h1 h2 h3 hm H1 H2
  have F3 : a3 (nI p).toNatClampNeg = nI ph := tm_at rfl E3 (by omega)
  unfold tm_adv at h
  refine nm_r (tm_n12 p x) ⟨pk_in (12 * p + x) 36 (by omega), nm_r (tm_at rfl e12 (by omega)) ⟨pk_in p 3 hp, ?_⟩⟩
  by_cases g : m = ph
  · rw [if_pos g] at h
    obtain ⟨m0, k3, _, e3, h⟩ := tm_rdE h
    exact br_t (by rw [F3, g]) ⟨pk_in (5 * p + m) 15 k3 (tm_n5 p m), nm_r (tm_at (tm_n5 p m) (tm_Rv h10 k3 e3) (by omega)) ⟨6, tm_w41 h9 h10 hc 6 m0 h T⟩⟩
  · rw [if_neg g] at h
    exact br_f (by rw [F3]; exact fun z => g ((nI_eq (by omega) (by omega)).mp z)) ⟨6, tm_w41 h9 h10 hc 6 m h T⟩
end
end
section
/-- all configurations of a width -/
def tm_runs (w : Nat) : Bool := (List.range 4).all fun h => tm_chk w (h + 1) 0 0 0 && (List.range w).all fun j => (List.range (h + 1)).all fun i => tm_chk w (h + 1) j i 1 && tm_chk w (h + 1) j i 2
theorem tm_run1 : tm_runs 1 = true := by decide +kernel
theorem tm_run2 : tm_runs 2 = true := by decide +kernel
theorem tm_run3 : tm_runs 3 = true := by decide +kernel
theorem tm_run4 : tm_runs 4 = true := by decide +kernel
theorem tm_ok {w h j i c : Nat} (w1 : 1 ≤ w) (w4 : w ≤ 4) (h1 : 1 ≤ h) (h4 : h ≤ 4) (hj : j < w) (hi : i < h) (hc : c ≤ 2) (h0 : c = 0 → j = 0 ∧ i = 0) : tm_chk w h j i c = true := by
  have hr : tm_runs w = true := by
    rcases (show w = 1 ∨ w = 2 ∨ w = 3 ∨ w = 4 by omega) with e | e | e | e
    · rw [e]; exact tm_run1
    · rw [e]; exact tm_run2
    · rw [e]; exact tm_run3
    · rw [e]; exact tm_run4
  unfold tm_runs at hr
  rw [List.all_eq_true] at hr
  have h2 := hr (h - 1) (List.mem_range.mpr (by omega))
  rw [show h - 1 + 1 = h by omega, Bool.and_eq_true, List.all_eq_true] at h2
  rcases (show c = 0 ∨ c = 1 ∨ c = 2 by omega) with e | e | e
  · obtain ⟨rfl, rfl⟩ := h0 e
    rw [e]
    exact h2.1
  all_goals
    have h3 := h2.2 j (List.mem_range.mpr hj)
    rw [List.all_eq_true] at h3
    have h4 := h3 i (List.mem_range.mpr hi)
    rw [Bool.and_eq_true] at h4
    rw [e]
  · exact h4.1
  · exact h4.2
end
section
/-- place (q, z, t) has been worked at when the loops stand at (y, x, p) -/
def tm_dn (y x p q z t : Nat) : Prop := t < y ∨ (t = y ∧ (z < x ∨ (z = x ∧ q < p)))
/-- what the tables answer on a text: lt its letters, nd the nodes along a row, Mc the progress of a column, Hit where a column is full -/
def tm_RP (pw ph : Nat → Nat) (A5 A8 A9 A10 : Nat) (lt nd : Nat → Nat → Nat) (Mc : Nat → Nat → Nat → Nat) (Hit : Nat → Nat → Nat → Prop) : Prop :=
  (∀ p, p < 3 → 1 ≤ pw p ∧ pw p ≤ 4 ∧ 1 ≤ ph p ∧ ph p ≤ 4) ∧
  (∀ y, y < 8 → nd y 0 = 0 ∧ ∀ x, x < 8 → 3 * nd y x + lt y x < 147 ∧ tm_g A5 (3 * nd y x + lt y x) = nd y (x + 1) + 2 ∧ nd y (x + 1) < 49 ∧ ∀ p, p < 3 → tm_g A8 (49 * p + nd y (x + 1)) ≠ 0) ∧
  (∀ p x, p < 3 → x < 8 → Mc p x 0 = 0 ∧ ∀ y, y < 8 → tm_adv A9 A10 (ph p) p (tm_g A8 (49 * p + nd y (x + 1))) (Mc p x y) = some (Mc p x (y + 1)) ∧ Mc p x y ≤ 4 ∧ Mc p x (y + 1) ≤ 4 ∧ (Mc p x (y + 1) = ph p ↔ Hit p x y) ∧ (Hit p x y → pw p ≤ x + 1 ∧ ph p ≤ y + 1))
/-- the loops' invariant -/
def tm_I (pw ph : Nat → Nat) (Mc : Nat → Nat → Nat → Nat) (Hit : Nat → Nat → Nat → Prop) (y x p : Nat) (b11 b12 : tm_AT) : Prop :=
  (∀ q z, q < 3 → z < 8 → ((z < x ∨ (z = x ∧ q < p)) → b12 (12 * q + z) = nI (Mc q z (y + 1))) ∧ (¬ (z < x ∨ (z = x ∧ q < p)) → b12 (12 * q + z) = nI (Mc q z y))) ∧
  (∀ q r, q < 3 → r < 12 → ∃ v, v < 4096 ∧ b11 (12 * q + r) = nI v ∧ ∀ b, (v.testBit b = true ↔ (b + pw q ≤ 8 ∧ r + ph q ≤ 8 ∧ tm_dn y x p q (b + pw q - 1) (r + ph q - 1) ∧ Hit q (b + pw q - 1) (r + ph q - 1))))
section
variable {pw ph : Nat → Nat} {Mc : Nat → Nat → Nat → Nat} {Hit : Nat → Nat → Nat → Prop} {y x p : Nat} {b11 b12 : tm_AT}
theorem tm_Ix (h : tm_I pw ph Mc Hit y x 3 b11 b12) : tm_I pw ph Mc Hit y (x + 1) 0 b11 b12 := by
  refine ⟨fun q z hq hz => ⟨fun c => (h.1 q z hq hz).1 (by omega), fun c => (h.1 q z hq hz).2 (by omega)⟩, fun q r hq hr => ?_⟩
  obtain ⟨v, v1, v2, v3⟩ := h.2 q r hq hr
  refine ⟨v, v1, v2, fun b => ?_⟩
  rw [v3 b]
  unfold tm_dn
  constructor
  · rintro ⟨c1, c2, c3, c4⟩
    exact ⟨c1, c2, by omega, c4⟩
  · rintro ⟨c1, c2, c3, c4⟩
    exact ⟨c1, c2, by omega, c4⟩
theorem tm_Iy (hl : ∀ p, p < 3 → 1 ≤ pw p ∧ pw p ≤ 4 ∧ 1 ≤ ph p ∧ ph p ≤ 4) (h : tm_I pw ph Mc Hit y 8 0 b11 b12) : tm_I pw ph Mc Hit (y + 1) 0 0 b11 b12 := by
  refine ⟨fun q z hq hz => ⟨fun c => absurd c (by omega), fun c => (h.1 q z hq hz).1 (by omega)⟩, fun q r hq hr => ?_⟩
  obtain ⟨v, v1, v2, v3⟩ := h.2 q r hq hr
  obtain ⟨l1, l2, l3, l4⟩ := hl q hq
  refine ⟨v, v1, v2, fun b => ?_⟩
  rw [v3 b]
  unfold tm_dn
  constructor
  · rintro ⟨c1, c2, c3, c4⟩
    exact ⟨c1, c2, by omega, c4⟩
  · rintro ⟨c1, c2, c3, c4⟩
    exact ⟨c1, c2, by omega, c4⟩
theorem tm_I12 (hx : x < 8) (hp : p < 3) (h : tm_I pw ph Mc Hit y x p b11 b12) : ∀ q z, q < 3 → z < 8 →
    ((z < x ∨ (z = x ∧ q < p + 1)) → upd b12 (12 * p + x) (nI (Mc p x (y + 1))) (12 * q + z) = nI (Mc q z (y + 1))) ∧
    (¬ (z < x ∨ (z = x ∧ q < p + 1)) → upd b12 (12 * p + x) (nI (Mc p x (y + 1))) (12 * q + z) = nI (Mc q z y)) := by
  intro q z hq hz
  by_cases e : q = p ∧ z = x
  · obtain ⟨rfl, rfl⟩ := e
    exact ⟨fun _ => by rw [pk_us], fun c => absurd (Or.inr ⟨rfl, by omega⟩) c⟩
  · have ne : 12 * q + z ≠ 12 * p + x := by omega
    rw [pk_un ne]
    exact ⟨fun c => (h.1 q z hq hz).1 (by omega), fun c => (h.1 q z hq hz).2 (by omega)⟩
theorem tm_IH (hl : ∀ p, p < 3 → 1 ≤ pw p ∧ pw p ≤ 4 ∧ 1 ≤ ph p ∧ ph p ≤ 4) (hy : y < 8) (hx : x < 8) (hp : p < 3) (hh : Hit p x y) (h1 : pw p ≤ x + 1) (h2 : ph p ≤ y + 1) (h : tm_I pw ph Mc Hit y x p b11 b12) :
    tm_I pw ph Mc Hit y x (p + 1) (upd b11 (12 * p + (y + 1 - ph p)) (b11 (12 * p + (y + 1 - ph p)) ||| nI (2 ^ (x + 1 - pw p)))) (upd b12 (12 * p + x) (nI (Mc p x (y + 1)))) := by
  refine ⟨tm_I12 hx hp h, fun q r hq hr => ?_⟩
  obtain ⟨v, v1, v2, v3⟩ := h.2 q r hq hr
  obtain ⟨l1, l2, l3, l4⟩ := hl q hq
  by_cases e : q = p ∧ r = y + 1 - ph p
  · obtain ⟨rfl, rfl⟩ := e
    refine ⟨v ||| 2 ^ (x + 1 - pw q), Nat.or_lt_two_pow (n := 12) v1 (Nat.pow_lt_pow_right (by decide) (by omega)), by rw [pk_us, v2, tm_or], fun b => ?_⟩
    rw [Nat.testBit_or, Nat.testBit_two_pow, Bool.or_eq_true, v3 b, decide_eq_true_iff]
    have ey : y + 1 - ph q + ph q - 1 = y := by omega
    rw [ey]
    unfold tm_dn
    constructor
    · rintro (⟨c1, c2, c3, c4⟩ | c)
      · exact ⟨c1, c2, by omega, c4⟩
      · have ex : b + pw q - 1 = x := by omega
        rw [ex]
        exact ⟨by omega, by omega, by omega, hh⟩
    · rintro ⟨c1, c2, c3, c4⟩
      by_cases g : b + pw q - 1 = x
      · exact Or.inr (by omega)
      · exact Or.inl ⟨c1, c2, by omega, c4⟩
  · have l0 := hl p hp
    have ne : 12 * q + r ≠ 12 * p + (y + 1 - ph p) := by omega
    refine ⟨v, v1, by rw [pk_un ne]; exact v2, fun b => ?_⟩
    rw [v3 b]
    unfold tm_dn
    constructor
    · rintro ⟨c1, c2, c3, c4⟩
      exact ⟨c1, c2, by omega, c4⟩
    · rintro ⟨c1, c2, c3, c4⟩
      refine ⟨c1, c2, ?_, c4⟩
      by_cases g : q = p
      · subst g
        omega
      · omega
theorem tm_IN (hl : ∀ p, p < 3 → 1 ≤ pw p ∧ pw p ≤ 4 ∧ 1 ≤ ph p ∧ ph p ≤ 4) (hx : x < 8) (hp : p < 3) (hh : ¬ Hit p x y) (h : tm_I pw ph Mc Hit y x p b11 b12) :
    tm_I pw ph Mc Hit y x (p + 1) b11 (upd b12 (12 * p + x) (nI (Mc p x (y + 1)))) := by
  refine ⟨tm_I12 hx hp h, fun q r hq hr => ?_⟩
  obtain ⟨v, v1, v2, v3⟩ := h.2 q r hq hr
  obtain ⟨l1, l2, l3, l4⟩ := hl q hq
  refine ⟨v, v1, v2, fun b => ?_⟩
  rw [v3 b]
  unfold tm_dn
  constructor
  · rintro ⟨c1, c2, c3, c4⟩
    exact ⟨c1, c2, by omega, c4⟩
  · rintro ⟨c1, c2, c3, c4⟩
    refine ⟨c1, c2, ?_, c4⟩
    by_cases g : q = p ∧ b + pw q - 1 = x ∧ r + ph q - 1 = y
    · obtain ⟨g1, g2, g3⟩ := g
      rw [g2, g3, g1] at c4
      exact absurd c4 hh
    · omega
theorem tm_I0 (hl : ∀ p, p < 3 → 1 ≤ pw p ∧ pw p ≤ 4 ∧ 1 ≤ ph p ∧ ph p ≤ 4) (hM : ∀ p x, p < 3 → x < 8 → Mc p x 0 = 0) (h11 : ∀ k, k < 36 → b11 k = 0) (h12 : ∀ k, k < 36 → b12 k = 0) :
    tm_I pw ph Mc Hit 0 0 0 b11 b12 := by
  refine ⟨fun q z hq hz => ⟨fun c => absurd c (by omega), fun c => by rw [h12 _ (by omega), hM q z hq hz]; rfl⟩, fun q r hq hr => ⟨0, by omega, h11 _ (by omega), fun b => ?_⟩⟩
  rw [Nat.zero_testBit]
  unfold tm_dn
  constructor
  · intro c
    exact absurd c (by simp)
  · rintro ⟨c1, c2, c3, c4⟩
    omega
end
section
variable {post : St2 → Prop} {fw fh fn fs : Int32} {a1 a2 a3 a4 a5 a6 a7 a8 a9 a10 a11 a12 : tm_AT}
variable {pw ph : Nat → Nat} {A5 A8 A9 A10 : Nat} {lt nd : Nat → Nat → Nat} {Mc : Nat → Nat → Nat → Nat} {Hit : Nat → Nat → Nat → Prop}
theorem tm_sr36 {J : tm_J6} {y x : Nat} (hR : tm_RP pw ph A5 A8 A9 A10 lt nd Mc Hit) (ha : ∀ p, p < 3 → a2 p = nI (pw p) ∧ a3 p = nI (ph p)) (h8 : tm_R 147 a8 A8) (h9 : tm_R 12 a9 A9) (h10 : tm_R 15 a10 A10) (hy : y < 8) (hx : x < 8) :
    ∀ (n p : Nat) (b11 b12 : tm_AT), p ≤ 3 → 3 - p < n → tm_I pw ph Mc Hit y x p b11 b12 →
      (∀ b11 b12 : tm_AT, tm_I pw ph Mc Hit y (x + 1) 0 b11 b12 → J (nI (nd y (x + 1))) (nI (x + 1)) fw fh fn fs a1 a2 a3 a4 a5 a6 a7 a8 a9 a10 b11 b12) →
      wX_searchRow_36 post J (nI y) (nI (nd y (x + 1))) (nI x) n (nI p) fw fh fn fs a1 a2 a3 a4 a5 a6 a7 a8 a9 a10 b11 b12 := by
  intro n
  induction n with
  | zero =>
    intro p b11 b12 _ h
    omega
  | succ n ih =>
    intro p b11 b12 hp hn hI H
    by_cases g : 3 ≤ p
    · have e : p = 3 := by omega
      subst e
      exact br_t (nI_le g (by omega)) (nm_r (nI_1 x) (H b11 b12 (tm_Ix hI)))
    · have hp3 : p < 3 := by omega
      obtain ⟨d1, d2, d3, d4⟩ := (hR.2.1 y hy).2 x hx
      obtain ⟨m1, m2, m3, m4, m5⟩ := (hR.2.2 p x hp3 hx).2 y hy
      obtain ⟨l1, l2, l3, l4⟩ := hR.1 p hp3
      have k1 : 49 * p + nd y (x + 1) < 147 := by omega
      refine br_f (nI_ge (b := 3) (by omega) (by decide)) ⟨pk_in (49 * p + nd y (x + 1)) 147 k1 (tm_n49 _ _), ?_⟩
      refine tm_wadv (tm_at (tm_n49 p (nd y (x + 1))) (h8 _ k1 (d4 p hp3)) (by omega)) (tm_glt _ _) hp3 hx hy (ha p hp3).1 (ha p hp3).2 l3 l1 l4 m3 h9 h10 (by omega) ((hI.1 p x hp3 hx).2 (by omega)) m1 (fun e => ?_) (fun e => ?_)
      · have hh := m4.mp e
        refine ⟨m5 hh, nm_r (nI_1 p) (ih _ _ _ (by omega) (by omega) ?_ H)⟩
        exact tm_IH hR.1 hy hx hp3 hh (m5 hh).1 (m5 hh).2 hI
      · exact nm_r (nI_1 p) (ih _ _ _ (by omega) (by omega) (tm_IN hR.1 hx hp3 (fun z => e (m4.mpr z)) hI) H)
theorem tm_sr4 {y : Nat} (hR : tm_RP pw ph A5 A8 A9 A10 lt nd Mc Hit) (ha : ∀ p, p < 3 → a2 p = nI (pw p) ∧ a3 p = nI (ph p)) (ht : ∀ y x, y < 8 → x < 8 → a1 (12 * y + x) = nI (lt y x)) (h5 : tm_R 147 a5 A5) (h8 : tm_R 147 a8 A8) (h9 : tm_R 12 a9 A9) (h10 : tm_R 15 a10 A10) (hy : y < 8) :
    ∀ (n x : Nat) (b11 b12 : tm_AT), x ≤ 8 → 8 - x < n → tm_I pw ph Mc Hit y x 0 b11 b12 →
      (∀ b11 b12 : tm_AT, tm_I pw ph Mc Hit (y + 1) 0 0 b11 b12 → post (8, fh, fn, fs, a1, a2, a3, a4, a5, a6, a7, a8, a9, a10, b11, b12)) →
      wX_searchRow_4 post (nI y) n (nI (nd y x)) (nI x) 8 fh fn fs a1 a2 a3 a4 a5 a6 a7 a8 a9 a10 b11 b12 := by
  intro n
  induction n with
  | zero =>
    intro x b11 b12 _ h
    omega
  | succ n ih =>
    intro x b11 b12 hx hn hI H
    by_cases g : 8 ≤ x
    · have e : x = 8 := by omega
      subst e
      exact br_t (nI_le g (by omega)) (H b11 b12 (tm_Iy hR.1 hI))
    · have hx8 : x < 8 := by omega
      obtain ⟨d1, d2, d3, d4⟩ := (hR.2.1 y hy).2 x hx8
      have e1 : a1 (12 * nI y + nI x).toNatClampNeg = nI (lt y x) := tm_at (tm_n12 y x) (ht y x hy hx8) (by omega)
      have e2 : 3 * nI (nd y x) + a1 (12 * nI y + nI x).toNatClampNeg = nI (3 * nd y x + lt y x) := by rw [e1, tm_n3]
      exact br_f (nI_ge (b := 8) (by omega) (by decide)) ⟨pk_in (12 * y + x) 144 (by omega) (tm_n12 y x), pk_in (3 * nd y x + lt y x) 147 d1 e2, nm_r (tm_at e2 (tm_Rv h5 d1 d2) (by omega))
        ⟨4, tm_sr36 hR ha h8 h9 h10 hy hx8 4 0 b11 b12 (by omega) (by omega) hI (fun c11 c12 g => ih _ _ _ (by omega) (by omega) g H)⟩⟩
theorem tm_s65 (hR : tm_RP pw ph A5 A8 A9 A10 lt nd Mc Hit) (ha : ∀ p, p < 3 → a2 p = nI (pw p) ∧ a3 p = nI (ph p)) (ht : ∀ y x, y < 8 → x < 8 → a1 (12 * y + x) = nI (lt y x)) (h5 : tm_R 147 a5 A5) (h8 : tm_R 147 a8 A8) (h9 : tm_R 12 a9 A9) (h10 : tm_R 15 a10 A10) :
    ∀ (n y : Nat) (b11 b12 : tm_AT), y ≤ 8 → 8 - y < n → tm_I pw ph Mc Hit y 0 0 b11 b12 →
      (∀ b11 b12 : tm_AT, tm_I pw ph Mc Hit 8 0 0 b11 b12 → post (8, 8, fn, fs, a1, a2, a3, a4, a5, a6, a7, a8, a9, a10, b11, b12)) →
      wX_search_65 post n (nI y) 8 8 fn fs a1 a2 a3 a4 a5 a6 a7 a8 a9 a10 b11 b12 := by
  intro n
  induction n with
  | zero =>
    intro y b11 b12 _ h
    omega
  | succ n ih =>
    intro y b11 b12 hy hn hI H
    by_cases g : 8 ≤ y
    · have e : y = 8 := by omega
      subst e
      exact br_t (nI_le g (by omega)) (H b11 b12 hI)
    · have hy8 : y < 8 := by omega
      have n0 := (hR.2.1 y hy8).1
      refine br_f (nI_ge (b := 8) (by omega) (by decide)) ⟨9, ?_⟩
      have T := tm_sr4 (post := fun u => match u with | (f1, f2, f3, f4, c1, c2, c3, c4, c5, c6, c7, c8, c9, c10, c11, c12) => ∀ x1 : Int32, x1 = nI y + 1 → wX_search_65 post n x1 f1 f2 f3 f4 c1 c2 c3 c4 c5 c6 c7 c8 c9 c10 c11 c12) (fh := 8) (fn := fn) (fs := fs) (a4 := a4) (a6 := a6) (a7 := a7) hR ha ht h5 h8 h9 h10 hy8 9 0 b11 b12 (by omega) (by omega) hI (fun c11 c12 g => nm_r (nI_1 y) (ih _ _ _ (by omega) (by omega) g H))
      rw [n0] at T
      exact T
theorem tm_wsearch {A2 A3 A4 : Nat} (h2 : tm_R 3 a2 A2) (h3 : tm_R 3 a3 A3) (h4 : tm_R 48 a4 A4) (hP : tm_prep A2 A3 A4 = some (A5, A8, A9, A10)) (hR : tm_RP pw ph A5 A8 A9 A10 lt nd Mc Hit) (ha : ∀ p, p < 3 → a2 p = nI (pw p) ∧ a3 p = nI (ph p)) (ht : ∀ y x, y < 8 → x < 8 → a1 (12 * y + x) = nI (lt y x))
    (H : ∀ (fn : Int32) (b5 b6 b7 b8 b9 b10 b11 b12 : tm_AT), tm_I pw ph Mc Hit 8 0 0 b11 b12 → post (8, 8, fn, 1, a1, a2, a3, a4, b5, b6, b7, b8, b9, b10, b11, b12)) :
    wpX_search post (8, 8, fn, 0, a1, a2, a3, a4, a5, a6, a7, a8, a9, a10, a11, a12) := by
  unfold tm_prep at hP
  split at hP
  · exact absurd hP (by simp)
  · rename_i r hr
    split at hP
    · exact absurd hP (by simp)
    · rename_i B10 hB
      cases hP
      refine br_t rfl (tm_wbld h2 h3 h4 hr (fun fn b5 b6 b7 b8 b9 g5 g8 g9 => ?_))
      refine ⟨4, tm_ws19 h3 g9 4 0 0 a10 hB (by omega) (tm_R0 15 a10) (fun b10 g10 => ?_)⟩
      refine pk_loop (fun n i (s : tm_AT × tm_AT) => wX_search_37 post 8 8 fn 1 n (nI i) a1 a2 a3 a4 b5 b6 b7 b8 b9 b10 s.1 s.2) (fun i s => (∀ k, k < i → s.1 k = 0) ∧ (∀ k, k < i → s.2 k = 0)) 36 0 (a11, a12) (by omega)
        ⟨fun k hk => absurd hk (by omega), fun k hk => absurd hk (by omega)⟩ (fun n t ht' => ?_) (fun n i t hi ht' hw => ?_)
      · refine pk_le 36 36 (fun _ => ?_) (fun z => absurd z (by omega))
        refine ⟨9, tm_s65 hR ha ht g5 g8 g9 g10 9 0 t.1 t.2 (by omega) (by omega) (tm_I0 hR.1 (fun p x hp hx => (hR.2.2 p x hp hx).1) ht'.1 ht'.2) (fun b11 b12 g => ?_)⟩
        exact H fn b5 b6 b7 b8 b9 b10 b11 b12 g
      · exact pk_le 36 i (fun z => absurd z (by omega)) (fun _ => ⟨pk_in i 36 hi, nm_r (tm_up0 rfl (by omega)) ⟨pk_in i 36 hi, nm_r (tm_up0 rfl (by omega)) (nm_r (nI_1 i) (hw (_, _) ⟨tm_fill ht'.1, tm_fill ht'.2⟩))⟩⟩)
end
end
section
theorem tm_scanE {A5 A8 c X K : Nat} : ∀ (n x nd acc : Nat), tm_scan A5 A8 c X n x nd acc = some K →
    ∃ N : Nat → Nat, N x = nd ∧ (∀ s, x ≤ s → s < x + n → 3 * N s + (if s = X then c else 0) < 147 ∧ tm_g A5 (3 * N s + (if s = X then c else 0)) = N (s + 1) + 2 ∧ N (s + 1) < 49 ∧
      ∀ p, p < 3 → tm_g A8 (49 * p + N (s + 1)) ≠ 0 ∧ tm_g K (3 * s + p) = tm_g A8 (49 * p + N (s + 1))) ∧ ∀ k, k < 3 * x → tm_g K k = tm_g acc k := by
  intro n
  induction n with
  | zero =>
    intro x nd acc h
    rw [tm_scan] at h
    cases h
    exact ⟨fun _ => nd, rfl, fun s h1 h2 => absurd h2 (by omega), fun k _ => rfl⟩
  | succ n ih =>
    intro x nd acc h
    rw [tm_scan] at h
    obtain ⟨nd', k1, _, e1, h⟩ := tm_rdE h
    obtain ⟨k2, h⟩ := tm_ifE h
    obtain ⟨n0, h⟩ := tm_ifN h
    obtain ⟨n1, h⟩ := tm_ifN h
    obtain ⟨n2, h⟩ := tm_ifN h
    rw [tm_fe] at h
    obtain ⟨N, q1, q2, q3⟩ := ih _ _ _ h
    refine ⟨fun s => if s = x then nd else N s, if_pos rfl, fun s h1 h2 => ?_, fun k hk => ?_⟩
    · by_cases e : s = x
      · subst e
        have f1 : (if s = s then nd else N s) = nd := if_pos rfl
        have f2 : (if s + 1 = s then nd else N (s + 1)) = nd' := by rw [if_neg (by omega), q1]
        dsimp only
        rw [f1, f2]
        refine ⟨k1, e1, k2, fun p hp => ?_⟩
        rw [q3 _ (by omega), tm_gs (tm_glt _ _), tm_gs (tm_glt _ _), tm_gs (tm_glt _ _)]
        rcases (show p = 0 ∨ p = 1 ∨ p = 2 by omega) with e | e | e
        · subst e
          rw [if_neg (by omega), if_neg (by omega), if_pos (by omega), show 49 * 0 + nd' = nd' by omega]
          exact ⟨n0, rfl⟩
        · subst e
          rw [if_neg (by omega), if_pos rfl]
          exact ⟨n1, rfl⟩
        · subst e
          rw [if_pos rfl]
          exact ⟨n2, rfl⟩
      · have f1 : (if s = x then nd else N s) = N s := if_neg e
        have f2 : (if s + 1 = x then nd else N (s + 1)) = N (s + 1) := if_neg (by omega)
        dsimp only
        rw [f1, f2]
        exact q2 s (by omega) (by omega)
    · rw [q3 k (by omega), tm_gs (tm_glt _ _), tm_gs (tm_glt _ _), tm_gs (tm_glt _ _), if_neg (by omega), if_neg (by omega), if_neg (by omega)]
theorem tm_colE {A9 A10 ph p cb cm Y E : Nat} : ∀ (n t m : Nat), m ≤ 4 → tm_col A9 A10 ph p cb cm Y E n t m = true →
    ∃ M : Nat → Nat, M t = m ∧ ∀ s, t ≤ s → s < t + n → tm_adv A9 A10 ph p (if s = Y then cm else cb) (M s) = some (M (s + 1)) ∧ M s ≤ 4 ∧ M (s + 1) ≤ 4 ∧ (M (s + 1) = ph ↔ E.testBit s = true) := by
  intro n
  induction n with
  | zero =>
    intro t m hm h
    exact ⟨fun _ => m, rfl, fun s h1 h2 => absurd h2 (by omega)⟩
  | succ n ih =>
    intro t m hm h
    rw [tm_col] at h
    split at h
    · exact absurd h (by simp)
    · rename_i m' hm'
      rw [Bool.and_eq_true, Bool.and_eq_true] at h
      obtain ⟨⟨g1, g2⟩, g3⟩ := h
      have g1 : m' ≤ 4 := of_decide_eq_true g1
      have g2 : decide (m' = ph) = E.testBit t := eq_of_beq g2
      obtain ⟨M, q1, q2⟩ := ih _ _ g1 g3
      refine ⟨fun s => if s = t then m else M s, if_pos rfl, fun s h1 h2 => ?_⟩
      by_cases e : s = t
      · subst e
        have f1 : (if s = s then m else M s) = m := if_pos rfl
        have f2 : (if s + 1 = s then m else M (s + 1)) = m' := by rw [if_neg (by omega), q1]
        dsimp only
        rw [f1, f2]
        exact ⟨hm', hm, g1, by rw [← g2, decide_eq_true_iff]⟩
      · have f1 : (if s = t then m else M s) = M s := if_neg e
        have f2 : (if s + 1 = t then m else M (s + 1)) = M (s + 1) := if_neg (by omega)
        dsimp only
        rw [f1, f2]
        exact q2 s (by omega) (by omega)
/-- tables, two rows read, all columns run: what the row phase needs -/
theorem tm_RPof {w h c X Y A5 A8 A9 A10 K8 KX : Nat} {E : Nat → Nat → Nat} (w1 : 1 ≤ w) (w4 : w ≤ 4) (h1 : 1 ≤ h) (h4 : h ≤ 4)
    (s8 : tm_scan A5 A8 c 8 8 0 0 0 = some K8) (sX : tm_scan A5 A8 c X 8 0 0 0 = some KX)
    (hC : ∀ p x, p < 3 → x < 8 → ∃ M : Nat → Nat, M 0 = 0 ∧ ∀ s, s < 8 → tm_adv A9 A10 (tm_pw h p) p (if s = Y then tm_g KX (3 * x + p) else tm_g K8 (3 * x + p)) (M s) = some (M (s + 1)) ∧ M s ≤ 4 ∧ M (s + 1) ≤ 4 ∧ (M (s + 1) = tm_pw h p ↔ (E p x).testBit s = true))
    (hE : ∀ p x y, p < 3 → x < 8 → y < 8 → (E p x).testBit y = true → tm_pw w p ≤ x + 1 ∧ tm_pw h p ≤ y + 1) :
    ∃ (nd : Nat → Nat → Nat) (Mc : Nat → Nat → Nat → Nat), tm_RP (tm_pw w) (tm_pw h) A5 A8 A9 A10 (fun y x => if x = X ∧ y = Y then c else 0) nd Mc (fun p x y => (E p x).testBit y = true) := by
  obtain ⟨N8, n8, f8, _⟩ := tm_scanE 8 0 0 0 s8
  obtain ⟨NX, nX, fX, _⟩ := tm_scanE 8 0 0 0 sX
  have hC' : ∀ q : Nat × Nat, ∃ M : Nat → Nat, q.1 < 3 → q.2 < 8 → (M 0 = 0 ∧ ∀ s, s < 8 → tm_adv A9 A10 (tm_pw h q.1) q.1 (if s = Y then tm_g KX (3 * q.2 + q.1) else tm_g K8 (3 * q.2 + q.1)) (M s) = some (M (s + 1)) ∧ M s ≤ 4 ∧ M (s + 1) ≤ 4 ∧ (M (s + 1) = tm_pw h q.1 ↔ (E q.1 q.2).testBit s = true)) := by
    intro q
    by_cases g : q.1 < 3 ∧ q.2 < 8
    · obtain ⟨M, hM⟩ := hC q.1 q.2 g.1 g.2
      exact ⟨M, fun _ _ => hM⟩
    · exact ⟨fun _ => 0, fun g1 g2 => absurd ⟨g1, g2⟩ g⟩
  obtain ⟨F, hF⟩ := Classical.axiomOfChoice hC'
  refine ⟨fun y x => if y = Y then NX x else N8 x, fun p x => F (p, x), ?_, ?_, ?_⟩
  · intro p hp
    unfold tm_pw
    by_cases e : p = 2
    · rw [if_pos e, if_pos e]
      exact ⟨w1, w4, h1, h4⟩
    · rw [if_neg e, if_neg e]
      omega
  · intro y hy
    by_cases e : y = Y
    · simp only [if_pos e]
      refine ⟨nX, fun x hx => ?_⟩
      obtain ⟨q1, q2, q3, q4⟩ := fX x (by omega) (by omega)
      have el : (if x = X ∧ y = Y then c else 0) = (if x = X then c else 0) := by simp [e]
      rw [el]
      exact ⟨q1, q2, q3, fun p hp => (q4 p hp).1⟩
    · simp only [if_neg e]
      refine ⟨n8, fun x hx => ?_⟩
      obtain ⟨q1, q2, q3, q4⟩ := f8 x (by omega) (by omega)
      have el : (if x = X ∧ y = Y then c else 0) = (if x = 8 then c else 0) := by
        rw [if_neg (fun z => e z.2), if_neg (by omega)]
      rw [el]
      exact ⟨q1, q2, q3, fun p hp => (q4 p hp).1⟩
  · intro p x hp hx
    obtain ⟨m0, hm⟩ := hF (p, x) hp hx
    refine ⟨m0, fun y hy => ?_⟩
    obtain ⟨q1, q2, q3, q4⟩ := hm y hy
    refine ⟨?_, q2, q3, q4, fun z => hE p x y hp hx hy z⟩
    by_cases e : y = Y
    · simp only [if_pos e] at q1 ⊢
      rw [← ((fX x (by omega) (by omega)).2.2.2 p hp).2]
      exact q1
    · simp only [if_neg e] at q1 ⊢
      rw [← ((f8 x (by omega) (by omega)).2.2.2 p hp).2]
      exact q1
theorem tm_chkE {w h j i c : Nat} (hc : tm_chk w h j i c = true) :
    ∃ A5 A8 A9 A10 K8, tm_prep (tm_C2 w) (tm_C2 h) (tm_C4 j i c) = some (A5, A8, A9, A10) ∧ tm_scan A5 A8 c 8 8 0 0 0 = some K8 ∧
      (∀ p x, p < 3 → x < 8 → tm_col A9 A10 (tm_pw h p) p (tm_g K8 (3 * x + p)) (tm_g K8 (3 * x + p)) 8 (tm_E0 w h c p x) 8 0 0 = true) ∧
      (c ≠ 0 → ∀ x0, x0 < 9 - w → ∃ KX, tm_scan A5 A8 c (x0 + j) 8 0 0 0 = some KX ∧ ∀ y0, y0 < 9 - h → ∀ p x, p < 3 → x < 8 →
        (if tm_g K8 (3 * x + p) = tm_g KX (3 * x + p) then decide (tm_E1 w h j i c x0 y0 p x = 0) else tm_col A9 A10 (tm_pw h p) p (tm_g K8 (3 * x + p)) (tm_g KX (3 * x + p)) (y0 + i) (tm_E1 w h j i c x0 y0 p x) 8 0 0) = true) := by
  unfold tm_chk at hc
  rw [tm_fe, tm_fe, tm_fe] at hc
  split at hc
  · exact absurd hc (by simp)
  · rename_i r hr
    rw [tm_fe, tm_fe, tm_fe, tm_fe] at hc
    split at hc
    · exact absurd hc (by simp)
    · rename_i K8 hK
      rw [Bool.and_eq_true, Bool.or_eq_true] at hc
      obtain ⟨c1, c2⟩ := hc
      refine ⟨r.1, r.2.1, r.2.2.1, r.2.2.2, K8, hr, hK, fun p x hp hx => ?_, fun c0 x0 hx0 => ?_⟩
      · unfold tm_cB at c1
        rw [List.all_eq_true] at c1
        have c3 := c1 p (List.mem_range.mpr hp)
        rw [List.all_eq_true] at c3
        have c4 := c3 x (List.mem_range.mpr hx)
        rw [tm_fe, tm_fe] at c4
        exact c4
      · have c2 := c2.resolve_left (fun z => c0 (of_decide_eq_true z))
        rw [List.all_eq_true] at c2
        have c3 := c2 x0 (List.mem_range.mpr hx0)
        split at c3
        · exact absurd c3 (by simp)
        · rename_i KX hX
          refine ⟨KX, hX, fun y0 hy0 p x hp hx => ?_⟩
          rw [List.all_eq_true] at c3
          have c4 := c3 y0 (List.mem_range.mpr hy0)
          unfold tm_cM at c4
          rw [List.all_eq_true] at c4
          have c5 := c4 p (List.mem_range.mpr hp)
          rw [List.all_eq_true] at c5
          have c6 := c5 x (List.mem_range.mpr hx)
          rw [tm_fe, tm_fe, tm_fe] at c6
          rw [tm_fe] at c6
          exact c6
/-- found after a search: blank text; the pattern stamped at (x0, y0) -/
def tm_F0 (w h c p r : Nat) : Nat := if c = 0 then (if p = 2 then (if r + h ≤ 8 then 2 ^ (9 - w) - 1 else 0) else 0) else 0
def tm_F1 (j i c x0 y0 p r : Nat) : Nat := if p = 2 then (if r = y0 then 2 ^ x0 else 0) else (if c = 1 then (if r = y0 + i then 2 ^ (x0 + j) else 0) else 0)
theorem tm_eb : ∀ h, h < 5 → 1 ≤ h → ∀ t, t < 8 → (256 - 2 ^ (h - 1)).testBit t = decide (h ≤ t + 1) := by decide +kernel
theorem tm_eq0 {w h c p x y : Nat} (h1 : 1 ≤ h) (h4 : h ≤ 4) (hy : y < 8) : (tm_E0 w h c p x).testBit y = true ↔ (c = 0 ∧ p = 2 ∧ w ≤ x + 1 ∧ h ≤ y + 1) := by
  unfold tm_E0
  by_cases g1 : c = 0
  · by_cases g2 : p = 2
    · by_cases g3 : w ≤ x + 1
      · rw [if_pos g1, if_pos g2, if_pos g3, tm_eb h (by omega) h1 y hy, decide_eq_true_iff]
        exact ⟨fun z => ⟨g1, g2, g3, z⟩, fun z => z.2.2.2⟩
      · rw [if_pos g1, if_pos g2, if_neg g3, Nat.zero_testBit]
        exact ⟨fun z => absurd z (by simp), fun z => absurd z.2.2.1 g3⟩
    · rw [if_pos g1, if_neg g2, Nat.zero_testBit]
      exact ⟨fun z => absurd z (by simp), fun z => absurd z.2.1 g2⟩
  · rw [if_neg g1, Nat.zero_testBit]
    exact ⟨fun z => absurd z (by simp), fun z => absurd z.1 g1⟩
theorem tm_eq1 {w h j i c x0 y0 p x y : Nat} : (tm_E1 w h j i c x0 y0 p x).testBit y = true ↔ ((p = 2 ∧ x + 1 = x0 + w ∧ y0 + h - 1 = y) ∨ (p ≠ 2 ∧ c = 1 ∧ x = x0 + j ∧ y0 + i = y)) := by
  unfold tm_E1
  by_cases g1 : p = 2
  · by_cases g2 : x + 1 = x0 + w
    · rw [if_pos g1, if_pos g2, Nat.testBit_two_pow, decide_eq_true_iff]
      exact ⟨fun z => Or.inl ⟨g1, g2, z⟩, fun z => z.elim (fun z => z.2.2) (fun z => absurd g1 z.1)⟩
    · rw [if_pos g1, if_neg g2, Nat.zero_testBit]
      exact ⟨fun z => absurd z (by simp), fun z => z.elim (fun z => absurd z.2.1 g2) (fun z => absurd g1 z.1)⟩
  · by_cases g2 : c = 1
    · by_cases g3 : x = x0 + j
      · rw [if_neg g1, if_pos g2, if_pos g3, Nat.testBit_two_pow, decide_eq_true_iff]
        exact ⟨fun z => Or.inr ⟨g1, g2, g3, z⟩, fun z => z.elim (fun z => absurd z.1 g1) (fun z => z.2.2.2)⟩
      · rw [if_neg g1, if_pos g2, if_neg g3, Nat.zero_testBit]
        exact ⟨fun z => absurd z (by simp), fun z => z.elim (fun z => absurd z.1 g1) (fun z => absurd z.2.2.1 g3)⟩
    · rw [if_neg g1, if_neg g2, Nat.zero_testBit]
      exact ⟨fun z => absurd z (by simp), fun z => z.elim (fun z => absurd z.1 g1) (fun z => absurd z.2.1 g2)⟩
theorem tm_fq0 {w h c p r b : Nat} : (tm_F0 w h c p r).testBit b = true ↔ (c = 0 ∧ p = 2 ∧ r + h ≤ 8 ∧ b < 9 - w) := by
  unfold tm_F0
  by_cases g1 : c = 0
  · by_cases g2 : p = 2
    · by_cases g3 : r + h ≤ 8
      · rw [if_pos g1, if_pos g2, if_pos g3, Nat.testBit_two_pow_sub_one, decide_eq_true_iff]
        exact ⟨fun z => ⟨g1, g2, g3, z⟩, fun z => z.2.2.2⟩
      · rw [if_pos g1, if_pos g2, if_neg g3, Nat.zero_testBit]
        exact ⟨fun z => absurd z (by simp), fun z => absurd z.2.2.1 g3⟩
    · rw [if_pos g1, if_neg g2, Nat.zero_testBit]
      exact ⟨fun z => absurd z (by simp), fun z => absurd z.2.1 g2⟩
  · rw [if_neg g1, Nat.zero_testBit]
    exact ⟨fun z => absurd z (by simp), fun z => absurd z.1 g1⟩
theorem tm_fq1 {j i c x0 y0 p r b : Nat} : (tm_F1 j i c x0 y0 p r).testBit b = true ↔ ((p = 2 ∧ r = y0 ∧ x0 = b) ∨ (p ≠ 2 ∧ c = 1 ∧ r = y0 + i ∧ x0 + j = b)) := by
  unfold tm_F1
  by_cases g1 : p = 2
  · by_cases g2 : r = y0
    · rw [if_pos g1, if_pos g2, Nat.testBit_two_pow, decide_eq_true_iff]
      exact ⟨fun z => Or.inl ⟨g1, g2, z⟩, fun z => z.elim (fun z => z.2.2) (fun z => absurd g1 z.1)⟩
    · rw [if_pos g1, if_neg g2, Nat.zero_testBit]
      exact ⟨fun z => absurd z (by simp), fun z => z.elim (fun z => absurd z.2.1 g2) (fun z => absurd g1 z.1)⟩
  · by_cases g2 : c = 1
    · by_cases g3 : r = y0 + i
      · rw [if_neg g1, if_pos g2, if_pos g3, Nat.testBit_two_pow, decide_eq_true_iff]
        exact ⟨fun z => Or.inr ⟨g1, g2, g3, z⟩, fun z => z.elim (fun z => absurd z.1 g1) (fun z => z.2.2.2)⟩
      · rw [if_neg g1, if_pos g2, if_neg g3, Nat.zero_testBit]
        exact ⟨fun z => absurd z (by simp), fun z => z.elim (fun z => absurd z.1 g1) (fun z => absurd z.2.2.1 g3)⟩
    · rw [if_neg g1, if_neg g2, Nat.zero_testBit]
      exact ⟨fun z => absurd z (by simp), fun z => z.elim (fun z => absurd z.1 g1) (fun z => absurd z.2.1 g2)⟩
theorem tm_bits_eq {v w : Nat} (h : ∀ b, v.testBit b = true ↔ w.testBit b = true) : v = w := by
  apply Nat.eq_of_testBit_eq
  intro b
  exact Bool.eq_iff_iff.mpr (h b)
theorem tm_gC2 {w : Nat} (hw : w ≤ 4) : ∀ p, p < 3 → tm_g (tm_C2 w) p = tm_pw w p + 2 := by
  rcases (show w = 0 ∨ w = 1 ∨ w = 2 ∨ w = 3 ∨ w = 4 by omega) with e | e | e | e | e <;> subst e <;> decide +kernel
section
variable {post : St2 → Prop} {fw fh fn fs : Int32} {a1 a2 a3 a4 a5 a6 a7 a8 a9 a10 a11 a12 : tm_AT}
theorem tm_sB {w h j i c : Nat} (w1 : 1 ≤ w) (w4 : w ≤ 4) (h1 : 1 ≤ h) (h4 : h ≤ 4) (hj : j < w) (hi : i < h) (hc : c ≤ 2) (h0 : c = 0 → j = 0 ∧ i = 0)
    (g2 : tm_R 3 a2 (tm_C2 w)) (g3 : tm_R 3 a3 (tm_C2 h)) (g4 : tm_R 48 a4 (tm_C4 j i c)) (ht : ∀ y x, y < 8 → x < 8 → a1 (12 * y + x) = 0)
    (H : ∀ (fn : Int32) (b5 b6 b7 b8 b9 b10 b11 b12 : tm_AT), (∀ p r, p < 3 → r < 8 → b11 (12 * p + r) = nI (tm_F0 w h c p r)) → post (8, 8, fn, 1, a1, a2, a3, a4, b5, b6, b7, b8, b9, b10, b11, b12)) :
    wpX_search post (8, 8, fn, 0, a1, a2, a3, a4, a5, a6, a7, a8, a9, a10, a11, a12) := by
  obtain ⟨A5, A8, A9, A10, K8, e1, e2, e3, _⟩ := tm_chkE (tm_ok w1 w4 h1 h4 hj hi hc h0)
  obtain ⟨nd, Mc, hR⟩ := tm_RPof (w := w) (h := h) (X := 8) (Y := 8) (A9 := A9) (A10 := A10) (E := tm_E0 w h c) w1 w4 h1 h4 e2 e2 (fun p x hp hx => by
      obtain ⟨M, m0, hM⟩ := tm_colE 8 0 0 (by omega) (e3 p x hp hx)
      exact ⟨M, m0, fun s hs => hM s (by omega) (by omega)⟩)
    (fun p x y hp hx hy z => by
      obtain ⟨z1, z2, z3, z4⟩ := (tm_eq0 h1 h4 hy).mp z
      unfold tm_pw
      rw [if_pos z2, if_pos z2]
      exact ⟨z3, z4⟩)
  refine tm_wsearch g2 g3 g4 e1 hR (fun p hp => ⟨tm_Rv g2 hp (tm_gC2 w4 p hp), tm_Rv g3 hp (tm_gC2 h4 p hp)⟩) (fun y x hy hx => ?_) (fun fn b5 b6 b7 b8 b9 b10 b11 b12 hI => ?_)
  · rw [ht y x hy hx, if_neg (by omega)]
    rfl
  · refine H fn b5 b6 b7 b8 b9 b10 b11 b12 (fun p r hp hr => ?_)
    obtain ⟨v, v1, v2, v3⟩ := hI.2 p r hp (by omega)
    rw [v2]
    congr 1
    refine tm_bits_eq (fun b => ?_)
    rw [v3 b, tm_fq0]
    unfold tm_dn tm_pw
    constructor
    · rintro ⟨c1, c2, c3, c4⟩
      obtain ⟨z1, z2, z3, z4⟩ := (tm_eq0 h1 h4 (by omega)).mp c4
      rw [if_pos z2] at c1 c2
      exact ⟨z1, z2, c2, by omega⟩
    · rintro ⟨z1, z2, z3, z4⟩
      rw [if_pos z2, if_pos z2]
      exact ⟨by omega, z3, by omega, (tm_eq0 h1 h4 (by omega)).mpr ⟨z1, z2, by omega, by omega⟩⟩
theorem tm_sM {w h j i c x0 y0 : Nat} (w1 : 1 ≤ w) (w4 : w ≤ 4) (h1 : 1 ≤ h) (h4 : h ≤ 4) (hj : j < w) (hi : i < h) (hc : c ≤ 2) (h0 : c ≠ 0) (hx0 : x0 + w ≤ 8) (hy0 : y0 + h ≤ 8)
    (g2 : tm_R 3 a2 (tm_C2 w)) (g3 : tm_R 3 a3 (tm_C2 h)) (g4 : tm_R 48 a4 (tm_C4 j i c)) (ht : ∀ y x, y < 8 → x < 8 → a1 (12 * y + x) = nI (if x = x0 + j ∧ y = y0 + i then c else 0))
    (H : ∀ (fn : Int32) (b5 b6 b7 b8 b9 b10 b11 b12 : tm_AT), (∀ p r, p < 3 → r < 8 → b11 (12 * p + r) = nI (tm_F1 j i c x0 y0 p r)) → post (8, 8, fn, 1, a1, a2, a3, a4, b5, b6, b7, b8, b9, b10, b11, b12)) :
    wpX_search post (8, 8, fn, 0, a1, a2, a3, a4, a5, a6, a7, a8, a9, a10, a11, a12) := by
  obtain ⟨A5, A8, A9, A10, K8, e1, e2, e3, e4⟩ := tm_chkE (tm_ok w1 w4 h1 h4 hj hi hc (fun z => absurd z h0))
  obtain ⟨KX, e5, e6⟩ := e4 h0 x0 (by omega)
  obtain ⟨nd, Mc, hR⟩ := tm_RPof (w := w) (h := h) (X := x0 + j) (Y := y0 + i) (A9 := A9) (A10 := A10) (E := tm_E1 w h j i c x0 y0) w1 w4 h1 h4 e2 e5 (fun p x hp hx => by
      have e7 := e6 y0 (by omega) p x hp hx
      by_cases g : tm_g K8 (3 * x + p) = tm_g KX (3 * x + p)
      · rw [if_pos g] at e7
        have e8 := of_decide_eq_true e7
        obtain ⟨M, m0, hM⟩ := tm_colE 8 0 0 (by omega) (e3 p x hp hx)
        refine ⟨M, m0, fun s hs => ?_⟩
        obtain ⟨q1, q2, q3, q4⟩ := hM s (by omega) (by omega)
        refine ⟨?_, q2, q3, ?_⟩
        · rw [← g]
          rw [ite_self] at q1 ⊢
          exact q1
        · rw [q4, e8, tm_eq0 h1 h4 hs, Nat.zero_testBit]
          exact ⟨fun z => absurd z.1 h0, fun z => absurd z (by simp)⟩
      · rw [if_neg g] at e7
        obtain ⟨M, m0, hM⟩ := tm_colE 8 0 0 (by omega) e7
        exact ⟨M, m0, fun s hs => hM s (by omega) (by omega)⟩)
    (fun p x y hp hx hy z => by
      unfold tm_pw
      rcases tm_eq1.mp z with ⟨z1, z2, z3⟩ | ⟨z1, z2, z3, z4⟩
      · rw [if_pos z1, if_pos z1]
        omega
      · rw [if_neg z1, if_neg z1]
        omega)
  refine tm_wsearch g2 g3 g4 e1 hR (fun p hp => ⟨tm_Rv g2 hp (tm_gC2 w4 p hp), tm_Rv g3 hp (tm_gC2 h4 p hp)⟩) ht (fun fn b5 b6 b7 b8 b9 b10 b11 b12 hI => ?_)
  refine H fn b5 b6 b7 b8 b9 b10 b11 b12 (fun p r hp hr => ?_)
  obtain ⟨v, v1, v2, v3⟩ := hI.2 p r hp (by omega)
  rw [v2]
  congr 1
  refine tm_bits_eq (fun b => ?_)
  rw [v3 b, tm_fq1]
  dsimp only
  rw [tm_eq1]
  unfold tm_dn tm_pw
  by_cases g : p = 2
  · rw [if_pos g, if_pos g]
    omega
  · rw [if_neg g, if_neg g]
    omega
end
end
section
/-- how many of the first n bits are set; sums; unions -/
def tm_pc (v : Nat) : Nat → Nat
  | 0 => 0
  | n + 1 => tm_pc v n + v / 2 ^ n % 2
def tm_sm (f : Nat → Nat) : Nat → Nat
  | 0 => 0
  | n + 1 => tm_sm f n + f n
def tm_bg (fd : Nat → Nat) (y : Nat) : Nat → Nat
  | 0 => 0
  | n + 1 => tm_bg fd y n ||| fd (y - n)
def tm_sp (b : Nat) : Nat → Nat
  | 0 => 0
  | n + 1 => tm_sp b n ||| b * 2 ^ n
def tm_ro (cr : Nat → Nat) : Nat → Nat
  | 0 => 0
  | n + 1 => tm_ro cr n ||| cr n
theorem tm_bglt {fd : Nat → Nat} {y : Nat} (hf : ∀ r, r ≤ y → fd r < 4096) : ∀ n, tm_bg fd y n < 4096 := by
  intro n
  induction n with
  | zero => exact (by decide : 0 < 4096)
  | succ n ih => exact Nat.or_lt_two_pow (n := 12) ih (hf _ (by omega))
theorem tm_splt {b : Nat} (hb : b < 4096) : ∀ n, n ≤ 4 → tm_sp b n < 65536 := by
  intro n
  induction n with
  | zero => exact fun _ => (by decide : 0 < 65536)
  | succ n ih =>
    intro hn
    have h2 : 2 ^ n ≤ 2 ^ 3 := Nat.pow_le_pow_right (by decide) (by omega)
    have h3 : b * 2 ^ n ≤ 4095 * 2 ^ 3 := Nat.mul_le_mul (by omega) h2
    exact Nat.or_lt_two_pow (n := 16) (ih (by omega)) (by omega)
theorem tm_rolt {cr : Nat → Nat} : ∀ n, (∀ p, p < n → cr p < 65536) → tm_ro cr n < 65536 := by
  intro n
  induction n with
  | zero => exact fun _ => (by decide : 0 < 65536)
  | succ n ih => exact fun h => Nat.or_lt_two_pow (n := 16) (ih (fun p hp => h p (by omega))) (h n (by omega))
theorem tm_bit {v i : Nat} (hv : v < 65536) (hi : i < 32) : (nI v >>> (nI i &&& 31)) &&& 1 = nI (v / 2 ^ i % 2) := by
  rw [pk_shrN (by omega) _ i (tm_sl i hi)]
  exact pk_andN (Nat.lt_of_le_of_lt (Nat.div_le_self _ _) (by omega)) (m := 1) 1 (by decide)
section
variable {post : Int32 → St2 → Prop} {fw fh fn fs : Int32} {a1 a2 a3 a4 a5 a6 a7 a8 a9 a10 a11 a12 : tm_AT}
theorem tm_wisP {post : Int32 → Prop} {p : Nat} (hp : p < 3) (H : post 1) : wpX_isPattern post (fw, fh, fn, fs, a1, a2, a3, a4, a5, a6, a7, a8, a9, a10, a11, a12) (nI p) :=
  br_f (nI_pos (by omega)) (br_f (nI_nlt (a := 2) (by omega) (by decide)) H)
theorem tm_wbits {post : Int32 → Prop} {v : Nat} {x : Int32} (hx : x = nI v) (hv : v < 65536) (H : post (nI (tm_pc v 12))) : wpX_bitsIn post (fw, fh, fn, fs, a1, a2, a3, a4, a5, a6, a7, a8, a9, a10, a11, a12) x := by
  rw [hx]
  refine pk_loop (σ := Unit) (fun n i _ => wX_bitsIn_4 post (nI v) fw fh fn fs a1 a2 a3 a4 a5 a6 a7 a8 a9 a10 a11 a12 n (nI (tm_pc v i)) (nI i)) (fun _ _ => True) 12 0 () (by omega) trivial
    (fun n _ _ => pk_le 12 12 (fun _ => H) (fun z => absurd z (by omega)))
    (fun n i _ hi _ hw => pk_le 12 i (fun z => absurd z (by omega)) (fun _ => nm_r (e' := nI (tm_pc v (i + 1))) ?_ (nm_r (nI_1 i) (hw () trivial))))
  rw [tm_bit hv (by omega), nI_add]
  rfl
theorem tm_w18 {p : Nat} {fd : Nat → Nat} (hp : p < 3) (hf : ∀ r, r < 8 → a11 (12 * p + r) = nI (fd r) ∧ fd r < 4096) (H : post (nI (tm_sm (fun r => tm_pc (fd r) 12) 8)) (8, 8, fn, fs, a1, a2, a3, a4, a5, a6, a7, a8, a9, a10, a11, a12)) :
    ∃ fu, wX_occurrences_18 post (nI p) 8 8 fn fs a1 a2 a3 a4 a5 a6 a7 a8 a9 a10 a11 a12 fu 0 0 :=
  pk_loop (σ := Unit) (fun n i _ => wX_occurrences_18 post (nI p) 8 8 fn fs a1 a2 a3 a4 a5 a6 a7 a8 a9 a10 a11 a12 n (nI (tm_sm (fun r => tm_pc (fd r) 12) i)) (nI i)) (fun _ _ => True) 8 0 () (by omega) trivial
    (fun n _ _ => pk_le 8 8 (fun _ => H) (fun z => absurd z (by omega)))
    (fun n i _ hi _ hw => pk_le 8 i (fun z => absurd z (by omega)) (fun _ => ⟨pk_in (12 * p + i) 36 (by omega) (tm_n12 p i),
      tm_wbits (tm_at (tm_n12 p i) (hf i hi).1 (by omega)) (Nat.lt_trans (hf i hi).2 (by decide)) (nm_r (nI_add _ _) (nm_r (nI_1 i) (hw () trivial)))⟩))
theorem tm_w27 {J : Int32 → Prop} {y X v : Nat} (hy : y < 8) (hX : X ≤ 8) (hv : v < 4096) (hf : a11 (24 + y) = nI v) (h0 : ∀ x, x < X → v / 2 ^ x % 2 = 0)
    (H8 : X = 8 → J (nI (y + 1))) (HX : X < 8 → v / 2 ^ X % 2 = 1 ∧ post (nI (16 * y + X)) (8, 8, fn, fs, a1, a2, a3, a4, a5, a6, a7, a8, a9, a10, a11, a12)) :
    ∃ fu, wX_next_27 post J 2 0 (nI y) 8 8 fn fs a1 a2 a3 a4 a5 a6 a7 a8 a9 a10 a11 a12 fu 0 := by
  have e : (12 : Int32) * 2 + nI y = nI (24 + y) := tm_n12 2 y
  have ea : a11 ((12 : Int32) * 2 + nI y).toNatClampNeg = nI v := tm_at e hf (by omega)
  have np : ∀ i, i < 8 → ¬ 16 * nI y + nI i < 0 := fun i hi => by
    rw [tm_n16]
    exact nI_pos (by omega)
  refine pk_loop (σ := Unit) (fun n i _ => wX_next_27 post J 2 0 (nI y) 8 8 fn fs a1 a2 a3 a4 a5 a6 a7 a8 a9 a10 a11 a12 n (nI i)) (fun _ _ => True) X 0 () (by omega) trivial
    (fun n _ _ => pk_le 8 X (fun z => nm_r (nI_1 y) (H8 (by omega))) (fun z => br_f (np X (by omega)) ⟨pk_in (24 + y) 36 (by omega) e, br_f ?_ ?_⟩))
    (fun n i _ hi _ hw => pk_le 8 i (fun z => absurd z (by omega)) (fun _ => br_f (np i (by omega)) ⟨pk_in (24 + y) 36 (by omega) e, br_t ?_ (nm_r (nI_1 i) (hw () trivial))⟩))
  · rw [ea, tm_bit (by omega) (by omega), (HX z).1]
    decide
  · rw [tm_n16]
    exact (HX z).2
  · rw [ea, tm_bit (by omega) (by omega), h0 i hi]
    rfl
theorem tm_w16 {Y X : Nat} {fd : Nat → Nat} (hY : Y ≤ 8) (hf : ∀ r, r < 8 → a11 (24 + r) = nI (fd r) ∧ fd r < 4096) (h0 : ∀ r, r < Y → fd r = 0)
    (H8 : Y = 8 → post (-2) (8, 8, fn, fs, a1, a2, a3, a4, a5, a6, a7, a8, a9, a10, a11, a12)) (HY : Y < 8 → X < 8 ∧ (∀ x, x < X → fd Y / 2 ^ x % 2 = 0) ∧ fd Y / 2 ^ X % 2 = 1 ∧ post (nI (16 * Y + X)) (8, 8, fn, fs, a1, a2, a3, a4, a5, a6, a7, a8, a9, a10, a11, a12)) :
    ∃ fu, wX_next_16 post 2 0 8 8 fn fs a1 a2 a3 a4 a5 a6 a7 a8 a9 a10 a11 a12 fu 0 :=
  pk_loop (σ := Unit) (fun n i _ => wX_next_16 post 2 0 8 8 fn fs a1 a2 a3 a4 a5 a6 a7 a8 a9 a10 a11 a12 n (nI i)) (fun _ _ => True) Y 0 () (by omega) trivial
    (fun n _ _ => pk_le 8 Y (fun z => H8 (by omega)) (fun z => tm_w27 z (Nat.le_of_lt (HY z).1) (hf Y z).2 (hf Y z).1 (HY z).2.1 (fun e => absurd (HY z).1 (by omega)) (fun _ => (HY z).2.2)))
    (fun n i _ hi _ hw => pk_le 8 i (fun z => absurd z (by omega)) (fun z => tm_w27 (X := 8) z (by omega) (hf i z).2 (hf i z).1 (fun x _ => by rw [h0 i hi, Nat.zero_div]) (fun _ => hw () trivial) (fun e => absurd e (by omega))))
theorem tm_wnext {Y X : Nat} {fd : Nat → Nat} (hY : Y ≤ 8) (hf : ∀ r, r < 8 → a11 (24 + r) = nI (fd r) ∧ fd r < 4096) (h0 : ∀ r, r < Y → fd r = 0)
    (H8 : Y = 8 → post (-2) (8, 8, fn, 1, a1, a2, a3, a4, a5, a6, a7, a8, a9, a10, a11, a12)) (HY : Y < 8 → X < 8 ∧ (∀ x, x < X → fd Y / 2 ^ x % 2 = 0) ∧ fd Y / 2 ^ X % 2 = 1 ∧ post (nI (16 * Y + X)) (8, 8, fn, 1, a1, a2, a3, a4, a5, a6, a7, a8, a9, a10, a11, a12)) :
    wpX_next post (8, 8, fn, 1, a1, a2, a3, a4, a5, a6, a7, a8, a9, a10, a11, a12) 2 0 := by
  unfold wpX_next
  dsimp only
  refine tm_wisP (p := 2) (by omega) (br_f (by decide) ?_)
  refine br_f (by decide) ?_
  exact tm_w16 hY hf h0 H8 HY
theorem tm_wocc {p : Nat} {fd : Nat → Nat} (hp : p < 3) (hf : ∀ r, r < 8 → a11 (12 * p + r) = nI (fd r) ∧ fd r < 4096) (H : post (nI (tm_sm (fun r => tm_pc (fd r) 12) 8)) (8, 8, fn, 1, a1, a2, a3, a4, a5, a6, a7, a8, a9, a10, a11, a12)) :
    wpX_occurrences post (8, 8, fn, 1, a1, a2, a3, a4, a5, a6, a7, a8, a9, a10, a11, a12) (nI p) := by
  unfold wpX_occurrences
  dsimp only
  refine tm_wisP hp (br_f (by decide) ?_)
  refine br_f (by decide) ?_
  exact tm_w18 hp hf H
theorem tm_w51 {post : Int32 → Prop} {p pw b : Nat} (hp : p < 3) (E2 : a2 p = nI pw) (hw : pw ≤ 4) (hb : b < 4096) (H : post (nI (tm_sp b pw))) :
    ∃ fu, wX_coveredInRow_51 post (nI p) (nI b) fw fh fn fs a1 a2 a3 a4 a5 a6 a7 a8 a9 a10 a11 a12 fu 0 0 := by
  have F2 : a2 (nI p).toNatClampNeg = nI pw := tm_at rfl E2 (by omega)
  refine pk_loop (σ := Unit) (fun n i _ => wX_coveredInRow_51 post (nI p) (nI b) fw fh fn fs a1 a2 a3 a4 a5 a6 a7 a8 a9 a10 a11 a12 n (nI (tm_sp b i)) (nI i)) (fun _ _ => True) pw 0 () (by omega) trivial
    (fun n _ _ => ⟨pk_in p 3 hp, br_t (by rw [F2]; exact nI_le (Nat.le_refl _) (by omega)) H⟩)
    (fun n i _ hi _ hw => ⟨pk_in p 3 hp, br_f (by rw [F2]; exact nI_ge hi (by omega)) (nm_r (e' := nI (tm_sp b (i + 1))) ?_ (nm_r (nI_1 i) (hw () trivial)))⟩)
  have h2 : 2 ^ i ≤ 2 ^ 3 := Nat.pow_le_pow_right (by decide) (by omega)
  have h3 : b * 2 ^ i ≤ 4095 * 2 ^ 3 := Nat.mul_le_mul (by omega) h2
  rw [pk_shlN _ i (tm_sl i (by omega)) (by omega), tm_or]
  rfl
theorem tm_wcir {post : Int32 → Prop} {p y pw ph : Nat} {fd : Nat → Nat} (hp : p < 3) (hy : y < 8) (E2 : a2 p = nI pw) (E3 : a3 p = nI ph) (hw : pw ≤ 4) (hh : ph ≤ 4) (hf : ∀ r, r < 8 → a11 (12 * p + r) = nI (fd r) ∧ fd r < 4096)
    (H : post (nI (tm_sp (tm_bg fd y (min ph (y + 1))) pw))) : wpX_coveredInRow post (fw, fh, fn, fs, a1, a2, a3, a4, a5, a6, a7, a8, a9, a10, a11, a12) (nI p) (nI y) := by
  have F3 : a3 (nI p).toNatClampNeg = nI ph := tm_at rfl E3 (by omega)
  have T := tm_w51 (fw := fw) (fh := fh) (fn := fn) (fs := fs) (a1 := a1) (a3 := a3) (a4 := a4) (a5 := a5) (a6 := a6) (a7 := a7) (a8 := a8) (a9 := a9) (a10 := a10) (a11 := a11) (a12 := a12) hp E2 hw (tm_bglt (fun r hr => (hf r (by omega)).2) (min ph (y + 1))) H
  refine pk_loop (σ := Unit) (fun n i _ => wX_coveredInRow_5 post (nI p) (nI y) fw fh fn fs a1 a2 a3 a4 a5 a6 a7 a8 a9 a10 a11 a12 n (nI (tm_bg fd y i)) (nI i)) (fun _ _ => True) (min ph (y + 1)) 0 () (by omega) trivial
    (fun n _ _ => ⟨pk_in p 3 hp, ?_⟩) (fun n i _ hi _ hw => ⟨pk_in p 3 hp, ?_⟩)
  · by_cases g : ph ≤ min ph (y + 1)
    · exact br_t (by rw [F3]; exact nI_le g (by omega)) T
    · exact br_f (by rw [F3]; exact nI_ge (by omega) (by omega)) (br_t (nI_lt (by omega) (by omega)) T)
  · have e : 12 * nI p + nI y - nI i = nI (12 * p + (y - i)) := by
      rw [tm_n12, pk_sub (by omega)]
      congr 1
      omega
    refine br_f (by rw [F3]; exact nI_ge (by omega) (by omega)) (br_f (nI_nlt (by omega) (by omega)) ⟨pk_in (12 * p + (y - i)) 36 (by omega) e, nm_r (e' := nI (tm_bg fd y (i + 1))) ?_ (nm_r (nI_1 i) (hw () trivial))⟩)
    rw [tm_at e (hf (y - i) (by omega)).1 (by omega), tm_or]
    rfl
/-- covered's value -/
def tm_cr (fd : Nat → Nat → Nat) (w h y p : Nat) : Nat := tm_sp (tm_bg (fd p) y (min (tm_pw h p) (y + 1))) (tm_pw w p)
def tm_cv (fd : Nat → Nat → Nat) (w h : Nat) : Nat := tm_sm (fun y => tm_pc (tm_ro (tm_cr fd w h y) 3) 12) 8
theorem tm_pwle {w : Nat} (w4 : w ≤ 4) (p : Nat) : tm_pw w p ≤ 4 := by
  unfold tm_pw
  split <;> omega
theorem tm_wcov {w h : Nat} {fd : Nat → Nat → Nat} (w4 : w ≤ 4) (h4 : h ≤ 4) (ha : ∀ p, p < 3 → a2 p = nI (tm_pw w p) ∧ a3 p = nI (tm_pw h p)) (hf : ∀ p r, p < 3 → r < 8 → a11 (12 * p + r) = nI (fd p r) ∧ fd p r < 4096)
    (H : post (nI (tm_cv fd w h)) (8, 8, fn, 1, a1, a2, a3, a4, a5, a6, a7, a8, a9, a10, a11, a12)) : wpX_covered post (8, 8, fn, 1, a1, a2, a3, a4, a5, a6, a7, a8, a9, a10, a11, a12) := by
  refine br_f (by decide) ?_
  refine pk_loop (σ := Unit) (fun n i _ => wX_covered_8 post 8 8 fn 1 a1 a2 a3 a4 a5 a6 a7 a8 a9 a10 a11 a12 n (nI (tm_sm (fun y => tm_pc (tm_ro (tm_cr fd w h y) 3) 12) i)) (nI i)) (fun _ _ => True) 8 0 () (by omega) trivial
    (fun n _ _ => pk_le 8 8 (fun _ => H) (fun z => absurd z (by omega)))
    (fun n y _ hy _ hw => pk_le 8 y (fun z => absurd z (by omega)) (fun _ => ?_))
  have hlt : ∀ p, p < 3 → tm_cr fd w h y p < 65536 := fun p hp => tm_splt (tm_bglt (fun r hr => (hf p r hp (by omega)).2) _) _ (tm_pwle w4 p)
  refine pk_loop (σ := Unit) (fun m p _ => wX_covered_21 post (wX_covered_8 post 8 8 fn 1 a1 a2 a3 a4 a5 a6 a7 a8 a9 a10 a11 a12 n) (nI (tm_sm (fun y => tm_pc (tm_ro (tm_cr fd w h y) 3) 12) y)) (nI y) 8 8 fn 1 a1 a2 a3 a4 a5 a6 a7 a8 a9 a10 a11 a12 m (nI (tm_ro (tm_cr fd w h y) p)) (nI p)) (fun _ _ => True) 3 0 () (by omega) trivial
    (fun m _ _ => pk_le 3 3 (fun _ => tm_wbits rfl (tm_rolt 3 hlt) (nm_r (nI_add _ _) (nm_r (nI_1 y) (hw () trivial)))) (fun z => absurd z (by omega)))
    (fun m p _ hp _ hv => pk_le 3 p (fun z => absurd z (by omega)) (fun _ => tm_wcir hp hy (ha p hp).1 (ha p hp).2 (tm_pwle w4 p) (tm_pwle h4 p) (fun r hr => hf p r hp hr) (nm_r (tm_or _ _) (nm_r (nI_1 p) (hv () trivial)))))
end
end
section
theorem tm_vO0 : ∀ w, w < 5 → 1 ≤ w → ∀ h, h < 5 → 1 ≤ h → ∀ c, c < 3 → tm_sm (fun r => tm_pc (tm_F0 w h c 2 r) 12) 8 = if c = 0 then (9 - w) * (9 - h) else 0 := by decide +kernel
theorem tm_vO00 : ∀ w, w < 5 → ∀ h, h < 5 → ∀ c, c < 3 → tm_sm (fun r => tm_pc (tm_F0 w h c 0 r) 12) 8 = 0 := by decide +kernel
theorem tm_vO1 : ∀ X, X < 8 → ∀ Y, Y < 8 → tm_sm (fun r => tm_pc (if r = Y then 2 ^ X else 0) 12) 8 = 1 := by decide +kernel
theorem tm_vOM {j i c x0 y0 : Nat} (hx : x0 < 8) (hy : y0 < 8) : tm_sm (fun r => tm_pc (tm_F1 j i c x0 y0 2 r) 12) 8 = 1 := tm_vO1 x0 hx y0 hy
theorem tm_vOM0 {j i c x0 y0 : Nat} (hx : x0 + j < 8) (hy : y0 + i < 8) : tm_sm (fun r => tm_pc (tm_F1 j i c x0 y0 0 r) 12) 8 = if c = 1 then 1 else 0 := by
  by_cases g : c = 1
  · rw [if_pos g, g]
    exact tm_vO1 (x0 + j) hx (y0 + i) hy
  · have e : (fun r => tm_pc (tm_F1 j i c x0 y0 0 r) 12) = fun _ => 0 := by
      funext r
      unfold tm_F1
      rw [if_neg (by omega), if_neg g]
      rfl
    rw [if_neg g, e]
    rfl
theorem tm_vC0 : ∀ w, w < 5 → 1 ≤ w → ∀ h, h < 5 → 1 ≤ h → tm_cv (tm_F0 w h 0) w h = 64 := by decide +kernel
theorem tm_vC1 : ∀ w, w < 5 → 1 ≤ w → ∀ h, h < 5 → 1 ≤ h → ∀ c, c < 2 → tm_cv (tm_F0 w h (c + 1)) w h = 0 := by decide +kernel
theorem tm_vbg : ∀ h, h < 5 → ∀ x0, x0 < 8 → ∀ y0, y0 < 8 → ∀ y, y < 8 → tm_bg (fun r => if r = y0 then 2 ^ x0 else 0) y (min h (y + 1)) = if y0 ≤ y ∧ y < y0 + h then 2 ^ x0 else 0 := by decide +kernel
theorem tm_vsp : ∀ w, w < 5 → ∀ x0, x0 < 8 → tm_sp (2 ^ x0) w = (2 ^ w - 1) * 2 ^ x0 := by decide +kernel
theorem tm_vs0 : ∀ w, w < 5 → tm_sp 0 w = 0 := by decide +kernel
theorem tm_vab : ∀ w, w < 5 → ∀ j, j < w → ∀ x0, x0 < 8 → ((0 ||| 2 ^ (x0 + j)) ||| 2 ^ (x0 + j)) ||| (2 ^ w - 1) * 2 ^ x0 = (2 ^ w - 1) * 2 ^ x0 := by decide +kernel
theorem tm_vt : ∀ w, w < 5 → ∀ h, h < 5 → ∀ x0, x0 < 9 - w → ∀ y0, y0 < 9 - h → tm_sm (fun y => tm_pc (if y0 ≤ y ∧ y < y0 + h then (2 ^ w - 1) * 2 ^ x0 else 0) 12) 8 = w * h := by decide +kernel
theorem tm_smc {f g : Nat → Nat} : ∀ n, (∀ y, y < n → f y = g y) → tm_sm f n = tm_sm g n := by
  intro n
  induction n with
  | zero => exact fun _ => rfl
  | succ n ih =>
    intro h
    unfold tm_sm
    rw [ih (fun y hy => h y (by omega)), h n (by omega)]
theorem tm_vCM {w h j i c x0 y0 : Nat} (w4 : w ≤ 4) (h1 : 1 ≤ h) (h4 : h ≤ 4) (hj : j < w) (hi : i < h) (hx : x0 + w ≤ 8) (hy : y0 + h ≤ 8) : tm_cv (tm_F1 j i c x0 y0) w h = w * h := by
  rw [← tm_vt w (by omega) h (by omega) x0 (by omega) y0 (by omega)]
  unfold tm_cv
  refine tm_smc 8 (fun y hy8 => ?_)
  congr 1
  have c01 : ∀ p, p ≠ 2 → tm_cr (tm_F1 j i c x0 y0) w h y p = if c = 1 then (if y = y0 + i then 2 ^ (x0 + j) else 0) else 0 := by
    intro p hp
    unfold tm_cr tm_pw
    rw [if_neg hp, if_neg hp, show min 1 (y + 1) = 1 by omega]
    show (0 ||| (0 ||| tm_F1 j i c x0 y0 p (y - 0)) * 2 ^ 0) = _
    rw [Nat.zero_or, Nat.zero_or, Nat.pow_zero, Nat.mul_one, Nat.sub_zero]
    unfold tm_F1
    rw [if_neg hp]
  have c2 : tm_cr (tm_F1 j i c x0 y0) w h y 2 = if y0 ≤ y ∧ y < y0 + h then (2 ^ w - 1) * 2 ^ x0 else 0 := by
    have e : tm_cr (tm_F1 j i c x0 y0) w h y 2 = tm_sp (tm_bg (fun r => if r = y0 then 2 ^ x0 else 0) y (min h (y + 1))) w := rfl
    rw [e, tm_vbg h (by omega) x0 (by omega) y0 (by omega) y hy8]
    by_cases g : y0 ≤ y ∧ y < y0 + h
    · rw [if_pos g, if_pos g, tm_vsp w (by omega) x0 (by omega)]
    · rw [if_neg g, if_neg g, tm_vs0 w (by omega)]
  show ((0 ||| tm_cr (tm_F1 j i c x0 y0) w h y 0) ||| tm_cr (tm_F1 j i c x0 y0) w h y 1) ||| tm_cr (tm_F1 j i c x0 y0) w h y 2 = _
  rw [c01 0 (by omega), c01 1 (by omega), c2]
  by_cases g1 : c = 1
  · by_cases g2 : y = y0 + i
    · rw [if_pos g1, if_pos g2, if_pos (by omega)]
      exact tm_vab w (by omega) j hj x0 (by omega)
    · rw [if_pos g1, if_neg g2, Nat.zero_or, Nat.zero_or, Nat.zero_or]
  · rw [if_neg g1, Nat.zero_or, Nat.zero_or, Nat.zero_or]
theorem tm_F0lt : ∀ w, w < 5 → ∀ h, h < 5 → ∀ c, c < 3 → ∀ p, p < 3 → ∀ r, r < 8 → tm_F0 w h c p r < 4096 := by decide +kernel
theorem tm_p12 {k : Nat} (h : k < 8) : 2 ^ k < 4096 := by
  show 2 ^ k < 2 ^ 12
  exact Nat.pow_lt_pow_right (by decide) (by omega)
theorem tm_F1lt {j i c x0 y0 p r : Nat} (hx : x0 < 8) (hX : x0 + j < 8) : tm_F1 j i c x0 y0 p r < 4096 := by
  unfold tm_F1
  have := tm_p12 hx
  have := tm_p12 hX
  split
  · split <;> omega
  · split
    · split <;> omega
    · omega
/-- what stands in the pattern's array -/
theorem tm_gZ48 : ∀ k, k < 48 → tm_g tm_Z48 k = 2 := by decide +kernel
theorem tm_RC4 {a4 : tm_AT} {j i c : Nat} (hj : j < 4) (hi : i < 4) (hc : c ≤ 2) (e0 : a4 0 = 1) (e16 : a4 16 = 1) (em : a4 (32 + 4 * i + j) = nI c) (ez : ∀ k, k < 48 → k ≠ 0 → k ≠ 16 → k ≠ 32 + 4 * i + j → a4 k = 0) : tm_R 48 a4 (tm_C4 j i c) := by
  intro k hk _
  unfold tm_C4
  rw [tm_gs (by omega), tm_gs (by decide), tm_gs (by decide), tm_gZ48 k hk]
  by_cases g1 : k = 32 + 4 * i + j
  · rw [if_pos g1, g1, em, tm_d2]
  · rw [if_neg g1]
    by_cases g2 : k = 16
    · rw [if_pos g2, g2, e16]
      decide
    · rw [if_neg g2]
      by_cases g3 : k = 0
      · rw [if_pos g3, g3, e0]
        decide
      · rw [if_neg g3, ez k hk g3 g2 g1]
        decide
theorem tm_RC2 {a : tm_AT} {w : Nat} (w4 : w ≤ 4) (h : ∀ p, p < 3 → a p = nI (tm_pw w p)) : tm_R 3 a (tm_C2 w) := by
  intro k hk _
  rw [tm_gC2 w4 k hk, tm_d2, h k hk]
theorem tm_m16 (p : Nat) : (16 : Int32) * nI p = nI (16 * p) := by
  rw [← pk_mul]
  rfl
theorem tm_winit {post : St2 → Prop} {mc ms : Nat} (hm : 12 ≤ mc) (hs : 689 ≤ ms)
    (H : ∀ b2 b3 b4 : tm_AT, (∀ k, k < 3 → b2 k = 1) → (∀ k, k < 3 → b3 k = 1) → (∀ k, k < 48 → b4 k = if k % 16 = 0 ∧ k / 16 < 3 then 1 else 0) → post (8, 8, 0, 0, (fun _ => 0), b2, b3, b4, (fun _ => 0), (fun _ => 0), (fun _ => 0), (fun _ => 0), (fun _ => 0), (fun _ => 0), (fun _ => 0), (fun _ => 0))) :
    wpX_init post mc ms (0, 0, 0, 0) 8 8 := by
  refine ⟨by omega, by omega, by omega, by omega, by omega, by omega, by omega, by omega, by omega, by omega, by omega, by omega, by omega, by omega, by omega, by omega, by omega, by omega, by omega, by omega, by omega, by omega, by omega, by omega, ?_⟩
  refine br_t (by decide) (br_t (by decide) ?_)
  refine br_t (by decide) (br_t (by decide) ?_)
  refine pk_loop (fun n i (s : tm_AT × tm_AT × tm_AT) => wX_init_153 post mc ms 12 689 8 8 0 0 n (nI i) (fun _ => 0) s.1 s.2.1 s.2.2 (fun _ => 0) (fun _ => 0) (fun _ => 0) (fun _ => 0) (fun _ => 0) (fun _ => 0) (fun _ => 0) (fun _ => 0))
    (fun i s => (∀ k, k < i → s.1 k = 1) ∧ (∀ k, k < i → s.2.1 k = 1) ∧ (∀ k, k < 48 → s.2.2 k = if k % 16 = 0 ∧ k / 16 < i then 1 else 0)) 3 0 ((fun _ => 0), (fun _ => 0), (fun _ => 0)) (by omega)
    ⟨fun k hk => absurd hk (by omega), fun k hk => absurd hk (by omega), fun k hk => by rw [if_neg (by omega)]⟩
    (fun n s h => pk_le 3 3 (fun _ => H s.1 s.2.1 s.2.2 h.1 h.2.1 h.2.2) (fun z => absurd z (by omega)))
    (fun n i s hi h hw => pk_le 3 i (fun z => absurd z (by omega)) (fun _ => ⟨pk_in i 3 hi, nm_r (tm_up0 rfl (by omega)) ⟨pk_in i 3 hi, nm_r (tm_up0 rfl (by omega)) ⟨pk_in (16 * i) 48 (by omega) (tm_m16 i), nm_r (tm_up0 (tm_m16 i) (by omega)) (nm_r (nI_1 i) (hw (_, _, _) ⟨tm_fill h.1, tm_fill h.2.1, fun k hk => ?_⟩))⟩⟩⟩))
  show upd s.2.2 (16 * i) 1 k = if k % 16 = 0 ∧ k / 16 < i + 1 then 1 else 0
  by_cases e : k = 16 * i
  · rw [e, pk_us, if_pos (by omega)]
  · rw [pk_un e, h.2.2 k hk]
    by_cases g : k % 16 = 0 ∧ k / 16 < i
    · rw [if_pos g, if_pos (by omega)]
    · rw [if_neg g, if_neg (by omega)]
section
variable {post : Int32 → St2 → Prop} {fw fh fn fs : Int32} {a1 a2 a3 a4 a5 a6 a7 a8 a9 a10 a11 a12 : tm_AT}
theorem tm_wshape {w h : Nat} (w1 : 1 ≤ w) (w4 : w ≤ 4) (h1 : 1 ≤ h) (h4 : h ≤ 4)
    (H : ∀ b4 : tm_AT, (∀ k, k < 16 → b4 (32 + k) = 0) → (∀ k, k < 32 → b4 k = a4 k) → post 1 (fw, fh, fn, 0, a1, upd a2 2 (nI w), upd a3 2 (nI h), b4, a5, a6, a7, a8, a9, a10, a11, a12)) :
    wpX_shape post (fw, fh, fn, fs, a1, a2, a3, a4, a5, a6, a7, a8, a9, a10, a11, a12) 2 (nI w) (nI h) := by
  unfold wpX_shape
  dsimp only
  refine tm_wisP (p := 2) (by omega) (br_f (by decide) ?_)
  refine br_f (nI_nlt (b := 1) w1 (by omega)) (br_f (nI_nlt (a := 4) w4 (by decide)) (br_f (nI_nlt (b := 1) h1 (by omega)) (br_t (nI_le (b := 4) h4 (by decide)) ⟨pk_in 2 3 (by omega), nm_r (tm_up (k := 2) rfl rfl (by omega) (by omega)) ⟨pk_in 2 3 (by omega), nm_r (tm_up (k := 2) rfl rfl (by omega) (by omega)) ?_⟩⟩)))
  refine pk_loop (fun n i (s : tm_AT) => wX_shape_49 post 2 fw fh fn fs n (nI i) a1 (upd a2 2 (nI w)) (upd a3 2 (nI h)) s a5 a6 a7 a8 a9 a10 a11 a12) (fun i s => (∀ k, k < i → s (32 + k) = 0) ∧ (∀ k, k < 32 → s k = a4 k)) 16 0 a4 (by omega)
    ⟨fun k hk => absurd hk (by omega), fun k hk => rfl⟩ (fun n s h => pk_le 16 16 (fun _ => H s h.1 h.2) (fun z => absurd z (by omega)))
    (fun n i s hi h hw => pk_le 16 i (fun z => absurd z (by omega)) (fun _ => ⟨pk_in (32 + i) 48 (by omega) (tm_n16 2 i), nm_r (tm_up0 (tm_n16 2 i) (by omega)) (nm_r (nI_1 i) (hw _ ⟨fun k hk => ?_, fun k hk => ?_⟩))⟩))
  · by_cases e : k = i
    · rw [e]
      exact pk_us
    · exact (pk_un (show 32 + k ≠ 16 * 2 + i by omega)).trans (h.1 k (by omega))
  · exact (pk_un (show k ≠ 16 * 2 + i by omega)).trans (h.2 k hk)
theorem tm_wpaint1 {w h j i c : Nat} (E2 : a2 2 = nI w) (E3 : a3 2 = nI h) (w4 : w ≤ 4) (h4 : h ≤ 4) (hj : j < w) (hi : i < h) (hc : c ≤ 2) (H : post 1 (fw, fh, fn, 0, a1, a2, a3, upd a4 (32 + 4 * i + j) (nI c), a5, a6, a7, a8, a9, a10, a11, a12)) :
    wpX_paint post (fw, fh, fn, fs, a1, a2, a3, a4, a5, a6, a7, a8, a9, a10, a11, a12) 2 (nI j) (nI i) (nI c) := by
  have F2 : a2 (2 : Int32).toNatClampNeg = nI w := tm_at (k := 2) rfl E2 (by omega)
  have F3 : a3 (2 : Int32).toNatClampNeg = nI h := tm_at (k := 2) rfl E3 (by omega)
  have e : (16 : Int32) * 2 + 4 * nI i + nI j = nI (32 + 4 * i + j) := tm_n164 2 i j
  unfold wpX_paint
  dsimp only
  refine tm_wisP (p := 2) (by omega) (br_f (by decide) ?_)
  exact br_f (nI_pos (by omega)) (br_t (nI_le (b := 2) hc (by decide)) (br_f (nI_pos (by omega)) ⟨pk_in 2 3 (by omega), br_f (by rw [F2]; exact nI_ge hj (by omega)) (br_f (nI_pos (by omega)) ⟨pk_in 2 3 (by omega), br_t (by rw [F3]; exact nI_lt hi (by omega)) ⟨pk_in (32 + 4 * i + j) 48 (by omega) e, nm_r (tm_up e rfl (by omega) (by omega)) H⟩⟩)⟩))
theorem tm_wpaint0 {w h j i c : Nat} (E2 : a2 2 = nI w) (E3 : a3 2 = nI h) (w4 : w ≤ 4) (h4 : h ≤ 4) (hj : j < 4) (hi : i < 4) (hn : w ≤ j ∨ h ≤ i) (hc : c ≤ 2) (H : post 0 (fw, fh, fn, fs, a1, a2, a3, a4, a5, a6, a7, a8, a9, a10, a11, a12)) :
    wpX_paint post (fw, fh, fn, fs, a1, a2, a3, a4, a5, a6, a7, a8, a9, a10, a11, a12) 2 (nI j) (nI i) (nI c) := by
  have F2 : a2 (2 : Int32).toNatClampNeg = nI w := tm_at (k := 2) rfl E2 (by omega)
  have F3 : a3 (2 : Int32).toNatClampNeg = nI h := tm_at (k := 2) rfl E3 (by omega)
  unfold wpX_paint
  dsimp only
  refine tm_wisP (p := 2) (by omega) (br_f (by decide) ?_)
  refine br_f (nI_pos (by omega)) (br_t (nI_le (b := 2) hc (by decide)) (br_f (nI_pos (by omega)) ⟨pk_in 2 3 (by omega), ?_⟩))
  by_cases g : w ≤ j
  · exact br_t (by rw [F2]; exact nI_le g (by omega)) H
  · exact br_f (by rw [F2]; exact nI_ge (by omega) (by omega)) (br_f (nI_pos (by omega)) ⟨pk_in 2 3 (by omega), br_f (by rw [F3]; exact nI_nlt (by omega) (by omega)) H⟩)
theorem tm_wstamp0 {w h : Nat} {x y : Int32} (E2 : a2 2 = nI w) (E3 : a3 2 = nI h) (hn : ¬ (¬ x < 0 ∧ ¬ 8 - nI w < x ∧ ¬ y < 0 ∧ ¬ 8 - nI h < y)) (H : post 0 (8, 8, fn, fs, a1, a2, a3, a4, a5, a6, a7, a8, a9, a10, a11, a12)) :
    wpX_stamp post (8, 8, fn, fs, a1, a2, a3, a4, a5, a6, a7, a8, a9, a10, a11, a12) 2 x y := by
  have F2 : a2 (2 : Int32).toNatClampNeg = nI w := tm_at (k := 2) rfl E2 (by omega)
  have F3 : a3 (2 : Int32).toNatClampNeg = nI h := tm_at (k := 2) rfl E3 (by omega)
  unfold wpX_stamp
  dsimp only
  refine tm_wisP (p := 2) (by omega) (br_f (by decide) ?_)
  unfold wpX_fits
  dsimp only
  rw [F2, F3]
  exact br_c (fun _ => br_t rfl H) (fun c1 => ⟨pk_in 2 3 (by omega), br_c (fun _ => br_t rfl H) (fun c2 => br_c (fun _ => br_t rfl H) (fun c3 => ⟨pk_in 2 3 (by omega), br_c (fun _ => br_t rfl H) (fun c4 => absurd ⟨c1, c2, c3, c4⟩ hn)⟩))⟩)
/-- the text while the pattern is stamped: s rows and t cells of the next one are done -/
def tm_TX (x0 y0 j i c s t : Nat) (b1 : tm_AT) : Prop := ∀ y x, y < 8 → x < 8 → b1 (12 * y + x) = nI (if x = x0 + j ∧ y = y0 + i ∧ (i < s ∨ (i = s ∧ j < t)) then c else 0)
theorem tm_TXs {x0 y0 j i c s t : Nat} {b1 : tm_AT} (hx : x0 + t < 8) (h : tm_TX x0 y0 j i c s t b1) : tm_TX x0 y0 j i c s (t + 1) (upd b1 (12 * (y0 + s) + x0 + t) (nI (if s = i ∧ t = j then c else 0))) := by
  intro y x hy hx8
  by_cases e : y = y0 + s ∧ x = x0 + t
  · rw [show 12 * y + x = 12 * (y0 + s) + x0 + t by omega, pk_us]
    by_cases g : s = i ∧ t = j
    · rw [if_pos g, if_pos (by omega)]
    · rw [if_neg g, if_neg (by omega)]
  · rw [pk_un (by omega), h y x hy hx8]
    by_cases g : x = x0 + j ∧ y = y0 + i ∧ (i < s ∨ (i = s ∧ j < t))
    · rw [if_pos g, if_pos (by omega)]
    · rw [if_neg g, if_neg (by omega)]
theorem tm_TXr {x0 y0 j i c s w : Nat} {b1 : tm_AT} (hj : j < w) (h : tm_TX x0 y0 j i c s w b1) : tm_TX x0 y0 j i c (s + 1) 0 b1 := by
  intro y x hy hx8
  rw [h y x hy hx8]
  by_cases g : x = x0 + j ∧ y = y0 + i ∧ (i < s ∨ (i = s ∧ j < w))
  · rw [if_pos g, if_pos (by omega)]
  · rw [if_neg g, if_neg (by omega)]
theorem tm_wstamp1 {w h j i c x0 y0 : Nat} (E2 : a2 2 = nI w) (E3 : a3 2 = nI h) (w4 : w ≤ 4) (h4 : h ≤ 4) (hj : j < w) (hi : i < h) (hc : c ≤ 2) (hx : x0 + w ≤ 8) (hy : y0 + h ≤ 8)
    (hP : ∀ s t, s < 4 → t < 4 → a4 (32 + 4 * s + t) = nI (if s = i ∧ t = j then c else 0)) (ht : ∀ y x, y < 8 → x < 8 → a1 (12 * y + x) = 0)
    (H : ∀ b1 : tm_AT, (∀ y x, y < 8 → x < 8 → b1 (12 * y + x) = nI (if x = x0 + j ∧ y = y0 + i then c else 0)) → post 1 (8, 8, fn, 0, b1, a2, a3, a4, a5, a6, a7, a8, a9, a10, a11, a12)) :
    wpX_stamp post (8, 8, fn, fs, a1, a2, a3, a4, a5, a6, a7, a8, a9, a10, a11, a12) 2 (nI x0) (nI y0) := by
  have F2 : a2 (2 : Int32).toNatClampNeg = nI w := tm_at (k := 2) rfl E2 (by omega)
  have F3 : a3 (2 : Int32).toNatClampNeg = nI h := tm_at (k := 2) rfl E3 (by omega)
  unfold wpX_stamp
  dsimp only
  refine tm_wisP (p := 2) (by omega) (br_f (by decide) ?_)
  unfold wpX_fits
  dsimp only
  rw [F2, F3, show (8 : Int32) - nI w = nI (8 - w) from pk_sub (a := 8) (by omega), show (8 : Int32) - nI h = nI (8 - h) from pk_sub (a := 8) (by omega)]
  refine br_f (nI_pos (by omega)) ⟨pk_in 2 3 (by omega), br_f (nI_nlt (by omega) (by omega)) (br_f (nI_pos (by omega)) ⟨pk_in 2 3 (by omega), br_f (nI_nlt (by omega) (by omega)) (br_f (by decide) ?_)⟩)⟩
  refine pk_loop (fun n s (b1 : tm_AT) => wX_stamp_23 post 2 (nI x0) (nI y0) 8 8 fn fs n (nI s) b1 a2 a3 a4 a5 a6 a7 a8 a9 a10 a11 a12) (fun s b1 => tm_TX x0 y0 j i c s 0 b1) h 0 a1 (by omega)
    (fun y x hy hx => by rw [ht y x hy hx, if_neg (by omega)]; rfl) (fun n b1 hb => ⟨pk_in 2 3 (by omega), br_t (by rw [F3]; exact nI_le (Nat.le_refl _) (by omega)) (H b1 (fun y x hy hx => ?_))⟩)
    (fun n s b1 hs hb hw => ⟨pk_in 2 3 (by omega), br_f (by rw [F3]; exact nI_ge hs (by omega)) ?_⟩)
  · rw [hb y x hy hx]
    by_cases g : x = x0 + j ∧ y = y0 + i
    · rw [if_pos g, if_pos (by omega)]
    · rw [if_neg g, if_neg (by omega)]
  · refine pk_loop (fun m t (b1 : tm_AT) => wX_stamp_37 post (wX_stamp_23 post 2 (nI x0) (nI y0) 8 8 fn fs n) 2 (nI x0) (nI y0) (nI s) 8 8 fn fs m (nI t) b1 a2 a3 a4 a5 a6 a7 a8 a9 a10 a11 a12) (fun t b1 => tm_TX x0 y0 j i c s t b1) w 0 b1 (by omega) hb
      (fun m b1 hb => ⟨pk_in 2 3 (by omega), br_t (by rw [F2]; exact nI_le (Nat.le_refl _) (by omega)) (nm_r (nI_1 s) (hw b1 (tm_TXr hj hb)))⟩)
      (fun m t b1 ht' hb hv => ⟨pk_in 2 3 (by omega), br_f (by rw [F2]; exact nI_ge ht' (by omega)) ⟨pk_in (32 + 4 * s + t) 48 (by omega) (tm_n164 2 s t), ?_⟩⟩)
    have e : (12 : Int32) * (nI y0 + nI s) + nI x0 + nI t = nI (12 * (y0 + s) + x0 + t) := by rw [nI_add, tm_n12, nI_add]
    have ep : a4 ((16 : Int32) * 2 + 4 * nI s + nI t).toNatClampNeg = nI (if s = i ∧ t = j then c else 0) := tm_at (k := 32 + 4 * s + t) (tm_n164 2 s t) (hP s t (by omega) (by omega)) (by omega)
    exact ⟨pk_in (12 * (y0 + s) + x0 + t) 144 (by omega) e, nm_r (tm_upn e ep (by split <;> omega) (by omega)) (nm_r (nI_1 t) (hv _ (tm_TXs (by omega) hb)))⟩
theorem tm_wlet1 {post : Int32 → Prop} {x y : Nat} (hx : x < 8) (hy : y < 8) (H : post (a1 (12 * y + x))) : wpX_letter post (8, 8, fn, fs, a1, a2, a3, a4, a5, a6, a7, a8, a9, a10, a11, a12) (nI x) (nI y) := by
  unfold wpX_letter
  dsimp only
  unfold wpX_inText
  dsimp only
  refine br_f (nI_pos (by omega)) (br_f (nI_ge (b := 8) hx (by decide)) (br_f (nI_pos (by omega)) (br_f (nI_ge (b := 8) hy (by decide)) (br_f (by decide) ⟨pk_in (12 * y + x) 144 (by omega) (tm_n12 y x), ?_⟩))))
  rw [tm_n12, nI_clamp (by omega)]
  exact H
theorem tm_wlet (fn fs : Int32) (a1 a2 a3 a4 a5 a6 a7 a8 a9 a10 a11 a12 : tm_AT) (x y : Int32) : ∃ v : Int32, ∀ post : Int32 → Prop, post v → wpX_letter post (8, 8, fn, fs, a1, a2, a3, a4, a5, a6, a7, a8, a9, a10, a11, a12) x y := by
  rcases pk_ix x (n := 8) (by decide) with hx | hx | ⟨x', hx', rfl⟩
  · exact ⟨-1, fun post H => by unfold wpX_letter; dsimp only; unfold wpX_inText; dsimp only; exact br_t hx (br_t rfl H)⟩
  · have hx0 : ¬ x < 0 := fun z => absurd z (by
      have h8 : (nI 8).toInt = 8 := nI_toInt (by decide)
      have := Int32.le_iff_toInt_le.mp hx
      intro z
      have z := Int32.lt_iff_toInt_lt.mp z
      rw [h8] at this
      have z0 : (0 : Int32).toInt = 0 := rfl
      omega)
    exact ⟨-1, fun post H => by unfold wpX_letter; dsimp only; unfold wpX_inText; dsimp only; exact br_f hx0 (br_t hx (br_t rfl H))⟩
  · have x0 : ¬ nI x' < 0 := nI_pos (by omega)
    have x8 : ¬ (8 : Int32) ≤ nI x' := nI_ge (b := 8) hx' (by decide)
    rcases pk_ix y (n := 8) (by decide) with hy | hy | ⟨y', hy', rfl⟩
    · exact ⟨-1, fun post H => by unfold wpX_letter; dsimp only; unfold wpX_inText; dsimp only; exact br_f x0 (br_f x8 (br_t hy (br_t rfl H)))⟩
    · have hy0 : ¬ y < 0 := fun z => absurd z (by
        have h8 : (nI 8).toInt = 8 := nI_toInt (by decide)
        have := Int32.le_iff_toInt_le.mp hy
        intro z
        have z := Int32.lt_iff_toInt_lt.mp z
        rw [h8] at this
        have z0 : (0 : Int32).toInt = 0 := rfl
        omega)
      exact ⟨-1, fun post H => by unfold wpX_letter; dsimp only; unfold wpX_inText; dsimp only; exact br_f x0 (br_f x8 (br_f hy0 (br_t hy (br_t rfl H))))⟩
    · exact ⟨a1 (12 * y' + x'), fun post H => tm_wlet1 hx' hy' H⟩
end
end
section
section
variable {post : Int32 → St2 → Prop} {fw fh fn fs : Int32} {a1 a2 a3 a4 a5 a6 a7 a8 a9 a10 a11 a12 : tm_AT}
theorem tm_woccB {p w h j i c : Nat} (hp : p < 3) (w1 : 1 ≤ w) (w4 : w ≤ 4) (h1 : 1 ≤ h) (h4 : h ≤ 4) (hj : j < w) (hi : i < h) (hc : c ≤ 2) (h0 : c = 0 → j = 0 ∧ i = 0)
    (g2 : tm_R 3 a2 (tm_C2 w)) (g3 : tm_R 3 a3 (tm_C2 h)) (g4 : tm_R 48 a4 (tm_C4 j i c)) (ht : ∀ y x, y < 8 → x < 8 → a1 (12 * y + x) = 0)
    (H : ∀ (fn : Int32) (b5 b6 b7 b8 b9 b10 b11 b12 : tm_AT), (∀ p r, p < 3 → r < 8 → b11 (12 * p + r) = nI (tm_F0 w h c p r)) → post (nI (tm_sm (fun r => tm_pc (tm_F0 w h c p r) 12) 8)) (8, 8, fn, 1, a1, a2, a3, a4, b5, b6, b7, b8, b9, b10, b11, b12)) :
    wpX_occurrences post (8, 8, fn, 0, a1, a2, a3, a4, a5, a6, a7, a8, a9, a10, a11, a12) (nI p) := by
  unfold wpX_occurrences
  dsimp only
  refine tm_wisP hp (br_f (by decide) ?_)
  refine tm_sB w1 w4 h1 h4 hj hi hc h0 g2 g3 g4 ht (fun fn b5 b6 b7 b8 b9 b10 b11 b12 hF => ?_)
  exact tm_w18 hp (fun r hr => ⟨hF p r hp hr, tm_F0lt w (by omega) h (by omega) c (by omega) p hp r hr⟩) (H fn b5 b6 b7 b8 b9 b10 b11 b12 hF)
theorem tm_woccM {p w h j i c x0 y0 : Nat} (hp : p < 3) (w1 : 1 ≤ w) (w4 : w ≤ 4) (h1 : 1 ≤ h) (h4 : h ≤ 4) (hj : j < w) (hi : i < h) (hc : c ≤ 2) (h0 : c ≠ 0) (hx0 : x0 + w ≤ 8) (hy0 : y0 + h ≤ 8)
    (g2 : tm_R 3 a2 (tm_C2 w)) (g3 : tm_R 3 a3 (tm_C2 h)) (g4 : tm_R 48 a4 (tm_C4 j i c)) (ht : ∀ y x, y < 8 → x < 8 → a1 (12 * y + x) = nI (if x = x0 + j ∧ y = y0 + i then c else 0))
    (H : ∀ (fn : Int32) (b5 b6 b7 b8 b9 b10 b11 b12 : tm_AT), (∀ p r, p < 3 → r < 8 → b11 (12 * p + r) = nI (tm_F1 j i c x0 y0 p r)) → post (nI (tm_sm (fun r => tm_pc (tm_F1 j i c x0 y0 p r) 12) 8)) (8, 8, fn, 1, a1, a2, a3, a4, b5, b6, b7, b8, b9, b10, b11, b12)) :
    wpX_occurrences post (8, 8, fn, 0, a1, a2, a3, a4, a5, a6, a7, a8, a9, a10, a11, a12) (nI p) := by
  unfold wpX_occurrences
  dsimp only
  refine tm_wisP hp (br_f (by decide) ?_)
  refine tm_sM w1 w4 h1 h4 hj hi hc h0 hx0 hy0 g2 g3 g4 ht (fun fn b5 b6 b7 b8 b9 b10 b11 b12 hF => ?_)
  exact tm_w18 hp (fun r hr => ⟨hF p r hp hr, tm_F1lt (by omega) (by omega)⟩) (H fn b5 b6 b7 b8 b9 b10 b11 b12 hF)
end
/-- the state after the pattern is painted -/
def tm_S0 (w h j i c : Nat) (a1 a2 a3 a4 : tm_AT) : Prop :=
  (∀ y x, y < 8 → x < 8 → a1 (12 * y + x) = 0) ∧ (∀ p, p < 3 → a2 p = nI (tm_pw w p) ∧ a3 p = nI (tm_pw h p)) ∧ tm_R 48 a4 (tm_C4 j i c) ∧ (∀ s t, s < 4 → t < 4 → a4 (32 + 4 * s + t) = nI (if s = i ∧ t = j then c else 0))
section
variable {post : Int32 → St0 → Prop} {mc ms kc ks : Nat} {fn : Int32} {a1 a2 a3 a4 a5 a6 a7 a8 a9 a10 a11 a12 : tm_AT} {w h : Nat} {fd : Nat → Nat → Nat} {x3 x4 x7 x8 x9 x10 x11 x12 z0 z1 : Int32}
theorem tm_L339 (w4 : w ≤ 4) (h4 : h ≤ 4) (ha : ∀ p, p < 3 → a2 p = nI (tm_pw w p) ∧ a3 p = nI (tm_pw h p)) (hf : ∀ p r, p < 3 → r < 8 → a11 (12 * p + r) = nI (fd p r) ∧ fd p r < 4096)
    (hz : nI (tm_sm (fun r => tm_pc (fd 0 r) 12) 8) = z0) (hc0 : x9 = 0 → nI (tm_cv fd w h) = 64) (hc1 : ¬ x9 = 0 → x11 = 0 → nI (tm_cv fd w h) = 0) (hc2 : ¬ x9 = 0 → ¬ x11 = 0 → nI (tm_cv fd w h) = nI w * nI h) (H : post 1 ()) :
    wL_lawOf_339 post mc ms (nI w) (nI h) x9 x11 z0 kc ks 8 8 fn 1 a1 a2 a3 a4 a5 a6 a7 a8 a9 a10 a11 a12 := by
  unfold wL_lawOf_339
  refine tm_wocc (p := 0) (by omega) (fun r hr => hf 0 r (by omega) hr) ?_
  refine br_t hz (tm_wcov w4 h4 ha hf ?_)
  exact br_c (fun g => br_t (hc0 g) H) (fun g => br_c (fun g2 => br_t (hc1 g g2) H) (fun g2 => br_t (hc2 g g2) H))
theorem tm_L323 (w4 : w ≤ 4) (h4 : h ≤ 4) (ha : ∀ p, p < 3 → a2 p = nI (tm_pw w p) ∧ a3 p = nI (tm_pw h p)) (hf : ∀ p r, p < 3 → r < 8 → a11 (12 * p + r) = nI (fd p r) ∧ fd p r < 4096)
    (hz0 : x12 = 0 → nI (tm_sm (fun r => tm_pc (fd 0 r) 12) 8) = 0) (hz1 : ¬ x12 = 0 → x10 = 1 → nI (tm_sm (fun r => tm_pc (fd 0 r) 12) 8) = 1) (hz2 : ¬ x12 = 0 → ¬ x10 = 1 → nI (tm_sm (fun r => tm_pc (fd 0 r) 12) 8) = 0)
    (hc0 : x9 = 0 → nI (tm_cv fd w h) = 64) (hc1 : ¬ x9 = 0 → x11 = 0 → nI (tm_cv fd w h) = 0) (hc2 : ¬ x9 = 0 → ¬ x11 = 0 → nI (tm_cv fd w h) = nI w * nI h) (H : post 1 ()) :
    wL_lawOf_323 post mc ms (nI w) (nI h) x9 x10 x11 x12 kc ks 8 8 fn 1 a1 a2 a3 a4 a5 a6 a7 a8 a9 a10 a11 a12 := by
  unfold wL_lawOf_323 wL_lawOf_338
  exact br_c (fun g => tm_L339 w4 h4 ha hf (hz0 g) hc0 hc1 hc2 H) (fun g => br_c (fun g2 => tm_L339 w4 h4 ha hf (hz1 g g2) hc0 hc1 hc2 H) (fun g2 => tm_L339 w4 h4 ha hf (hz2 g g2) hc0 hc1 hc2 H))
theorem tm_tail {Y X : Nat} (w4 : w ≤ 4) (h4 : h ≤ 4) (ha : ∀ p, p < 3 → a2 p = nI (tm_pw w p) ∧ a3 p = nI (tm_pw h p)) (hf : ∀ p r, p < 3 → r < 8 → a11 (12 * p + r) = nI (fd p r) ∧ fd p r < 4096)
    (hz : z1 = z0) (hY : Y ≤ 8) (h0 : ∀ r, r < Y → fd 2 r = 0) (HY : Y < 8 → X < 8 ∧ (∀ x, x < X → fd 2 Y / 2 ^ x % 2 = 0) ∧ fd 2 Y / 2 ^ X % 2 = 1)
    (n0 : x9 = 0 → Y < 8 ∧ nI (16 * Y + X) = 0) (n1 : ¬ x9 = 0 → x11 = 0 → Y = 8) (n2 : ¬ x9 = 0 → ¬ x11 = 0 → Y < 8 ∧ nI (16 * Y + X) = 16 * x4 + x3)
    (hl : ¬ x11 = 0 → ¬ x12 = 0 → ∃ x y : Nat, x < 8 ∧ y < 8 ∧ x3 + x7 = nI x ∧ x4 + x8 = nI y ∧ a1 (12 * y + x) = x10)
    (hz0 : x12 = 0 → nI (tm_sm (fun r => tm_pc (fd 0 r) 12) 8) = 0) (hz1 : ¬ x12 = 0 → x10 = 1 → nI (tm_sm (fun r => tm_pc (fd 0 r) 12) 8) = 1) (hz2 : ¬ x12 = 0 → ¬ x10 = 1 → nI (tm_sm (fun r => tm_pc (fd 0 r) 12) 8) = 0)
    (hc0 : x9 = 0 → nI (tm_cv fd w h) = 64) (hc1 : ¬ x9 = 0 → x11 = 0 → nI (tm_cv fd w h) = 0) (hc2 : ¬ x9 = 0 → ¬ x11 = 0 → nI (tm_cv fd w h) = nI w * nI h) (H : post 1 ()) :
    wL_lawOf_232 post mc ms x3 x4 (nI w) (nI h) x7 x8 x9 x10 x11 x12 z0 z1 kc ks 8 8 fn 1 a1 a2 a3 a4 a5 a6 a7 a8 a9 a10 a11 a12 := by
  have T := tm_L323 (mc := mc) (ms := ms) (kc := kc) (ks := ks) (fn := fn) (a1 := a1) (a4 := a4) (a5 := a5) (a6 := a6) (a7 := a7) (a8 := a8) (a9 := a9) (a10 := a10) (a12 := a12) w4 h4 ha hf hz0 hz1 hz2 hc0 hc1 hc2 H
  have T2 : ∀ z0 z1 : Int32, z1 = z0 → wL_lawOf_270 post mc ms x3 x4 (nI w) (nI h) x7 x8 x9 x10 x11 x12 z0 z1 kc ks 8 8 fn 1 a1 a2 a3 a4 a5 a6 a7 a8 a9 a10 a11 a12 := by
    intro z0 z1 hz
    unfold wL_lawOf_270
    refine br_t hz (br_c (fun _ => T) (fun g => ?_))
    by_cases g2 : x12 = 0
    · obtain ⟨v, hv⟩ := tm_wlet fn 1 a1 a2 a3 a4 a5 a6 a7 a8 a9 a10 a11 a12 (x3 + x7) (x4 + x8)
      exact hv _ (br_t g2 (hv _ (br_t rfl T)))
    · obtain ⟨x, y, hx, hy, ex, ey, e⟩ := hl g g2
      rw [ex, ey]
      exact tm_wlet1 hx hy (br_f g2 (br_t e T))
  unfold wL_lawOf_232
  refine br_t hz (tm_wnext hY (fun r hr => hf 2 r (by omega) hr) h0 (fun e => ?_) (fun e => ⟨(HY e).1, (HY e).2.1, (HY e).2.2, ?_⟩))
  · exact br_c (fun g => absurd (n0 g).1 (by omega)) (fun g => br_c (fun g2 => T2 _ _ rfl) (fun g2 => absurd (n2 g g2).1 (by omega)))
  · exact br_c (fun g => T2 _ _ (n0 g).2) (fun g => br_c (fun g2 => absurd (n1 g g2) (by omega)) (fun g2 => T2 _ _ (n2 g g2).2))
end
theorem tm_F0z {w h c r : Nat} (hc : c ≠ 0) : tm_F0 w h c 2 r = 0 := if_neg hc
theorem tm_F0o : ∀ w, w < 5 → 1 ≤ w → ∀ h, h < 5 → tm_F0 w h 0 2 0 / 2 ^ 0 % 2 = 1 := by decide +kernel
theorem tm_pwb : ∀ x, x < 8 → (∀ t, t < x → 2 ^ x / 2 ^ t % 2 = 0) ∧ 2 ^ x / 2 ^ x % 2 = 1 := by decide +kernel
theorem tm_F1y {j i c x0 y0 : Nat} : tm_F1 j i c x0 y0 2 y0 = 2 ^ x0 := by
  unfold tm_F1
  rw [if_pos rfl, if_pos rfl]
theorem tm_F1n {j i c x0 y0 r : Nat} (h : r < y0) : tm_F1 j i c x0 y0 2 r = 0 := by
  unfold tm_F1
  rw [if_pos rfl, if_neg (by omega)]
section
variable {post : Int32 → St0 → Prop} {mc ms kc ks : Nat} {fn : Int32} {a1 a2 a3 a4 a5 a6 a7 a8 a9 a10 a11 a12 : tm_AT} {w h j i c j' i' c' : Nat} {x3 x4 x7 x8 x9 x10 : Int32}
/-- the pattern does not fit -/
theorem tm_L185a (w1 : 1 ≤ w) (w4 : w ≤ 4) (h1 : 1 ≤ h) (h4 : h ≤ 4) (hc : c' ≤ 2) (h9 : (c' = 0 ∧ x9 = 0) ∨ (c' ≠ 0 ∧ x9 = 1)) (hS : tm_S0 w h j' i' c' a1 a2 a3 a4) (hF : ∀ p r, p < 3 → r < 8 → a11 (12 * p + r) = nI (tm_F0 w h c' p r))
    (hn : ¬ (¬ x3 < 0 ∧ ¬ 8 - nI w < x3 ∧ ¬ x4 < 0 ∧ ¬ 8 - nI h < x4)) (H : post 1 ()) :
    wL_lawOf_185 post mc ms x3 x4 (nI w) (nI h) x7 x8 x9 x10 0 0 (nI ((9 - w) * (9 - h))) (nI (if c' = 0 then (9 - w) * (9 - h) else 0)) (nI (if c' = 0 then (9 - w) * (9 - h) else 0)) kc ks 8 8 fn 1 a1 a2 a3 a4 a5 a6 a7 a8 a9 a10 a11 a12 := by
  obtain ⟨ht, ha, hR, hP⟩ := hS
  have hf : ∀ p r, p < 3 → r < 8 → a11 (12 * p + r) = nI (tm_F0 w h c' p r) ∧ tm_F0 w h c' p r < 4096 := fun p r hp hr => ⟨hF p r hp hr, tm_F0lt w (by omega) h (by omega) c' (by omega) p hp r hr⟩
  have hz0 : nI (tm_sm (fun r => tm_pc (tm_F0 w h c' 0 r) 12) 8) = 0 := by
    rw [tm_vO00 w (by omega) h (by omega) c' (by omega)]
    rfl
  unfold wL_lawOf_185
  refine br_t rfl (tm_wstamp0 (w := w) (h := h) (ha 2 (by omega)).1 (ha 2 (by omega)).2 hn (br_t rfl ?_))
  refine tm_wocc (p := 2) (by omega) (fun r hr => hf 2 r (by omega) hr) ?_
  rw [tm_vO0 w (by omega) w1 h (by omega) h1 c' (by omega)]
  rcases h9 with ⟨c0, x0⟩ | ⟨c0, x0⟩
  · rw [if_pos c0]
    refine br_t x0 (tm_tail (Y := 0) (X := 0) w4 h4 ha hf rfl (by omega) (fun r hr => absurd hr (by omega)) (fun _ => ⟨by omega, fun x hx => absurd hx (by omega), ?_⟩) (fun _ => ⟨by omega, rfl⟩) (fun g => absurd x0 g) (fun g => absurd x0 g) (fun g => absurd rfl g) (fun _ => hz0) (fun g => absurd rfl g) (fun g => absurd rfl g) (fun _ => ?_) (fun g => absurd x0 g) (fun g => absurd x0 g) H)
    · rw [c0]
      exact tm_F0o w (by omega) w1 h (by omega)
    · rw [c0, tm_vC0 w (by omega) w1 h (by omega) h1]
      rfl
  · rw [if_neg c0]
    have x0' : ¬ x9 = 0 := by
      rw [x0]
      decide
    refine br_f x0' (br_t rfl (tm_tail (Y := 8) (X := 0) w4 h4 ha hf rfl (by omega) (fun r hr => tm_F0z c0) (fun g => absurd g (by omega)) (fun g => absurd g x0') (fun _ _ => rfl) (fun _ g => absurd rfl g) (fun g => absurd rfl g) (fun _ => hz0) (fun g => absurd rfl g) (fun g => absurd rfl g) (fun g => absurd g x0') (fun _ _ => ?_) (fun _ g => absurd rfl g) H))
    have e := tm_vC1 w (by omega) w1 h (by omega) h1 (c' - 1) (by omega)
    rw [show c' - 1 + 1 = c' by omega] at e
    rw [e]
    rfl
/-- it fits, and its mark was not inside: a blank text -/
theorem tm_L185b {x0 y0 : Nat} (w1 : 1 ≤ w) (w4 : w ≤ 4) (h1 : 1 ≤ h) (h4 : h ≤ 4) (hS : tm_S0 w h 0 0 0 a1 a2 a3 a4) (hx0 : x0 + w ≤ 8) (hy0 : y0 + h ≤ 8) (H : post 1 ()) :
    wL_lawOf_185 post mc ms (nI x0) (nI y0) (nI w) (nI h) x7 x8 0 x10 1 0 (nI ((9 - w) * (9 - h))) (nI ((9 - w) * (9 - h))) (nI ((9 - w) * (9 - h))) kc ks 8 8 fn 1 a1 a2 a3 a4 a5 a6 a7 a8 a9 a10 a11 a12 := by
  obtain ⟨ht, ha, hR, hP⟩ := hS
  unfold wL_lawOf_185
  refine br_t rfl (tm_wstamp1 (w := w) (h := h) (j := 0) (i := 0) (c := 0) (ha 2 (by omega)).1 (ha 2 (by omega)).2 w4 h4 w1 h1 (by omega) hx0 hy0 hP ht (fun b1 hb => br_t rfl ?_))
  refine tm_woccB (p := 2) (w := w) (h := h) (j := 0) (i := 0) (c := 0) (by omega) w1 w4 h1 h4 w1 h1 (by omega) (fun _ => ⟨rfl, rfl⟩) (tm_RC2 w4 (fun p hp => (ha p hp).1)) (tm_RC2 h4 (fun p hp => (ha p hp).2)) hR (fun y x hy hx => ?_) (fun fn b5 b6 b7 b8 b9 b10 b11 b12 hF => ?_)
  · rw [hb y x hy hx, ite_self]
    rfl
  · have hf : ∀ p r, p < 3 → r < 8 → b11 (12 * p + r) = nI (tm_F0 w h 0 p r) ∧ tm_F0 w h 0 p r < 4096 := fun p r hp hr => ⟨hF p r hp hr, tm_F0lt w (by omega) h (by omega) 0 (by omega) p hp r hr⟩
    rw [tm_vO0 w (by omega) w1 h (by omega) h1 0 (by omega), if_pos rfl]
    refine br_t rfl (tm_tail (Y := 0) (X := 0) w4 h4 ha hf rfl (by omega) (fun r hr => absurd hr (by omega)) (fun _ => ⟨by omega, fun x hx => absurd hx (by omega), tm_F0o w (by omega) w1 h (by omega)⟩) (fun _ => ⟨by omega, rfl⟩) (fun g => absurd rfl g) (fun g => absurd rfl g) (fun _ g => absurd rfl g) (fun _ => ?_) (fun g => absurd rfl g) (fun g => absurd rfl g) (fun _ => ?_) (fun g => absurd rfl g) (fun g => absurd rfl g) H)
    · rw [tm_vO00 w (by omega) h (by omega) 0 (by omega)]
      rfl
    · rw [tm_vC0 w (by omega) w1 h (by omega) h1]
      rfl
/-- it fits, its mark inside -/
theorem tm_L185c {x0 y0 : Nat} (w1 : 1 ≤ w) (w4 : w ≤ 4) (h1 : 1 ≤ h) (h4 : h ≤ 4) (hj : j < w) (hi : i < h) (c1 : 1 ≤ c) (c2 : c ≤ 2) (hS : tm_S0 w h j i c a1 a2 a3 a4) (hx0 : x0 + w ≤ 8) (hy0 : y0 + h ≤ 8) (H : post 1 ()) :
    wL_lawOf_185 post mc ms (nI x0) (nI y0) (nI w) (nI h) (nI j) (nI i) 1 (nI c) 1 1 (nI ((9 - w) * (9 - h))) 0 0 kc ks 8 8 fn 1 a1 a2 a3 a4 a5 a6 a7 a8 a9 a10 a11 a12 := by
  obtain ⟨ht, ha, hR, hP⟩ := hS
  have ne : ¬ (1 : Int32) = 0 := by decide
  unfold wL_lawOf_185
  refine br_t rfl (tm_wstamp1 (w := w) (h := h) (j := j) (i := i) (c := c) (ha 2 (by omega)).1 (ha 2 (by omega)).2 w4 h4 hj hi c2 hx0 hy0 hP ht (fun b1 hb => br_t rfl ?_))
  refine tm_woccM (p := 2) (w := w) (h := h) (j := j) (i := i) (c := c) (by omega) w1 w4 h1 h4 hj hi c2 (by omega) hx0 hy0 (tm_RC2 w4 (fun p hp => (ha p hp).1)) (tm_RC2 h4 (fun p hp => (ha p hp).2)) hR hb (fun fn b5 b6 b7 b8 b9 b10 b11 b12 hF => ?_)
  have hf : ∀ p r, p < 3 → r < 8 → b11 (12 * p + r) = nI (tm_F1 j i c x0 y0 p r) ∧ tm_F1 j i c x0 y0 p r < 4096 := fun p r hp hr => ⟨hF p r hp hr, tm_F1lt (by omega) (by omega)⟩
  rw [tm_vOM (by omega) (by omega)]
  refine br_f ne (br_f ne (tm_tail (Y := y0) (X := x0) w4 h4 ha hf rfl (by omega) (fun r hr => tm_F1n hr) (fun _ => ⟨by omega, ?_, ?_⟩) (fun g => absurd g ne) (fun _ g => absurd g ne) (fun _ _ => ⟨by omega, (tm_n16 y0 x0).symm⟩) (fun _ _ => ⟨x0 + j, y0 + i, by omega, by omega, nI_add _ _, nI_add _ _, ?_⟩) (fun g => absurd g ne) (fun _ g => ?_) (fun _ g => ?_) (fun g => absurd g ne) (fun _ g => absurd g ne) (fun _ _ => ?_) H))
  · rw [tm_F1y]
    exact (tm_pwb x0 (by omega)).1
  · rw [tm_F1y]
    exact (tm_pwb x0 (by omega)).2
  · rw [hb (y0 + i) (x0 + j) (by omega) (by omega), if_pos ⟨rfl, rfl⟩]
  · have e : c = 1 := (nI_eq (b := 1) (by omega) (by decide)).mp g
    rw [tm_vOM0 (by omega) (by omega), if_pos e]
    rfl
  · have e : c ≠ 1 := fun z => g (by rw [z]; rfl)
    rw [tm_vOM0 (by omega) (by omega), if_neg e]
    rfl
  · rw [tm_vCM w4 h1 h4 hj hi hx0 hy0, pk_mul]
end
end
section
section
variable {post : Int32 → St0 → Prop} {mc ms : Nat} {w h j i c j' i' c' : Nat} {x3 x4 x9 x11 x12 : Int32}
/-- the object is made, shaped and painted, and searched once -/
theorem tm_L106 (hm : 13 ≤ mc) (hs : 705 ≤ ms) (w1 : 1 ≤ w) (w4 : w ≤ 4) (h1 : 1 ≤ h) (h4 : h ≤ 4) (hj : j < 4) (hi : i < 4) (c2 : c ≤ 2) (c1 : 1 ≤ c)
    (hI : (j < w ∧ i < h ∧ j' = j ∧ i' = i ∧ c' = c ∧ x9 = 1) ∨ ((w ≤ j ∨ h ≤ i) ∧ j' = 0 ∧ i' = 0 ∧ c' = 0 ∧ x9 = 0))
    (H : ∀ (kc ks : Nat) (fn : Int32) (a1 a2 a3 a4 a5 a6 a7 a8 a9 a10 a11 a12 : tm_AT), tm_S0 w h j' i' c' a1 a2 a3 a4 → (∀ p r, p < 3 → r < 8 → a11 (12 * p + r) = nI (tm_F0 w h c' p r)) →
      wL_lawOf_185 post mc ms x3 x4 (nI w) (nI h) (nI j) (nI i) x9 (nI c) x11 x12 (nI ((9 - w) * (9 - h))) (nI (if c' = 0 then (9 - w) * (9 - h) else 0)) (nI (if c' = 0 then (9 - w) * (9 - h) else 0)) kc ks 8 8 fn 1 a1 a2 a3 a4 a5 a6 a7 a8 a9 a10 a11 a12) :
    wL_lawOf_106 post mc ms x3 x4 (nI w) (nI h) (nI j) (nI i) x9 (nI c) x11 x12 0 0 := by
  unfold wL_lawOf_106
  refine ⟨by omega, by omega, 12, 689, by omega, by omega, tm_winit (by omega) (by omega) (fun b2 b3 b4 q2 q3 q4 => ?_)⟩
  refine tm_wshape w1 w4 h1 h4 (fun d4 z1 z2 => br_f (by decide) ?_)
  have e2 : ∀ p, p < 3 → upd b2 2 (nI w) p = nI (tm_pw w p) := by
    intro p hp
    unfold tm_pw
    by_cases g : p = 2
    · rw [if_pos g, g, pk_us]
    · rw [if_neg g, pk_un g, q2 p hp]
      rfl
  have e3 : ∀ p, p < 3 → upd b3 2 (nI h) p = nI (tm_pw h p) := by
    intro p hp
    unfold tm_pw
    by_cases g : p = 2
    · rw [if_pos g, g, pk_us]
    · rw [if_neg g, pk_un g, q3 p hp]
      rfl
  have d0 : d4 0 = 1 := by rw [z2 0 (by omega), q4 0 (by omega), if_pos (by omega)]
  have d16 : d4 16 = 1 := by rw [z2 16 (by omega), q4 16 (by omega), if_pos (by omega)]
  have dz : ∀ k, k < 48 → k ≠ 0 → k ≠ 16 → d4 k = 0 := by
    intro k hk k0 k16
    by_cases g : k < 32
    · rw [z2 k g, q4 k hk, if_neg (by omega)]
    · have := z1 (k - 32) (by omega)
      rwa [show 32 + (k - 32) = k by omega] at this
  have e14 : ((9 : Int32) - nI w) * (9 - nI h) = nI ((9 - w) * (9 - h)) := by
    rw [show (9 : Int32) - nI w = nI (9 - w) from pk_sub (a := 9) (by omega), show (9 : Int32) - nI h = nI (9 - h) from pk_sub (a := 9) (by omega), pk_mul]
  have fin : ∀ d4 : tm_AT, j' < w → i' < h → c' ≤ 2 → (c' = 0 → j' = 0 ∧ i' = 0) → d4 0 = 1 → d4 16 = 1 → d4 (32 + 4 * i' + j') = nI c' → (∀ k, k < 48 → k ≠ 0 → k ≠ 16 → k ≠ 32 + 4 * i' + j' → d4 k = 0) →
      tm_S0 w h j' i' c' (fun _ => 0) (upd b2 2 (nI w)) (upd b3 2 (nI h)) d4 := by
    intro d4 j1 i1 c3 c4 k0 k16 km kz
    refine ⟨fun _ _ _ _ => rfl, fun p hp => ⟨e2 p hp, e3 p hp⟩, tm_RC4 (by omega) (by omega) c3 k0 k16 km kz, fun s t hs ht => ?_⟩
    by_cases g : s = i' ∧ t = j'
    · rw [if_pos g, g.1, g.2]
      exact km
    · rw [if_neg g]
      exact kz _ (by omega) (by omega) (by omega) (by omega)
  rcases hI with ⟨l1, l2, r1, r2, r3, r4⟩ | ⟨l1, r1, r2, r3, r4⟩
  · subst r1 r2 r3 r4
    refine tm_wpaint1 (w := w) (h := h) pk_us pk_us w4 h4 l1 l2 c2 (br_t rfl (nm_r e14 ?_))
    have S := fin (upd d4 (32 + 4 * i' + j') (nI c')) l1 l2 c2 (fun z => absurd z (by omega)) (by rw [pk_un (by omega)]; exact d0) (by rw [pk_un (by omega)]; exact d16) pk_us (fun k hk k0 k16 km => by rw [pk_un km]; exact dz k hk k0 k16)
    refine tm_woccB (p := 2) (w := w) (h := h) (j := j') (i := i') (c := c') (by omega) w1 w4 h1 h4 l1 l2 c2 (fun z => absurd z (by omega)) (tm_RC2 w4 e2) (tm_RC2 h4 e3) S.2.2.1 S.1 (fun fn b5 b6 b7 b8 b9 b10 b11 b12 hF => ?_)
    rw [tm_vO0 w (by omega) w1 h (by omega) h1 c' (by omega)]
    have T := H (0 + 1 + 12) (0 + 16 + 689) fn _ _ _ _ b5 b6 b7 b8 b9 b10 b11 b12 S hF
    rw [if_neg (by omega)] at T ⊢
    exact br_f (by decide) T
  · subst r1 r2 r3 r4
    refine tm_wpaint0 (w := w) (h := h) pk_us pk_us w4 h4 hj hi l1 c2 (br_t rfl (nm_r e14 ?_))
    have S := fin d4 w1 h1 (by omega) (fun _ => ⟨rfl, rfl⟩) d0 d16 (dz 32 (by omega) (by omega) (by omega)) (fun k hk k0 k16 _ => dz k hk k0 k16)
    refine tm_woccB (p := 2) (w := w) (h := h) (j := 0) (i := 0) (c := 0) (by omega) w1 w4 h1 h4 w1 h1 (by omega) (fun _ => ⟨rfl, rfl⟩) (tm_RC2 w4 e2) (tm_RC2 h4 e3) S.2.2.1 S.1 (fun fn b5 b6 b7 b8 b9 b10 b11 b12 hF => ?_)
    rw [tm_vO0 w (by omega) w1 h (by omega) h1 0 (by omega)]
    have T := H (0 + 1 + 12) (0 + 16 + 689) fn _ _ _ _ b5 b6 b7 b8 b9 b10 b11 b12 S hF
    rw [if_pos rfl] at T ⊢
    exact br_t rfl T
theorem tm_L47 (hm : 13 ≤ mc) (hs : 705 ≤ ms) (w1 : 1 ≤ w) (w4 : w ≤ 4) (h1 : 1 ≤ h) (h4 : h ≤ 4) (hj : j < 4) (hi : i < 4) (x2 : Int32)
    (hI : (j < w ∧ i < h ∧ x9 = 1) ∨ ((w ≤ j ∨ h ≤ i) ∧ x9 = 0)) (H : post 1 ()) :
    wL_lawOf_47 post mc ms x2 x3 x4 (nI w) (nI h) (nI j) (nI i) x9 0 0 := by
  obtain ⟨b, hb, eb⟩ := pk_andE x2 (m := 1) 1 (by decide)
  have ec : 1 + (x2 &&& 1) = nI (1 + b) := by
    rw [eb, ← nI_add]
    rfl
  have hI' : ∃ j' i' c', (c' ≤ 2) ∧ ((c' = 0 ∧ x9 = 0) ∨ (c' ≠ 0 ∧ x9 = 1)) ∧ ((j < w ∧ i < h ∧ j' = j ∧ i' = i ∧ c' = 1 + b ∧ x9 = 1) ∨ ((w ≤ j ∨ h ≤ i) ∧ j' = 0 ∧ i' = 0 ∧ c' = 0 ∧ x9 = 0)) := by
    rcases hI with ⟨l1, l2, l3⟩ | ⟨l1, l3⟩
    · exact ⟨j, i, 1 + b, by omega, Or.inr ⟨by omega, l3⟩, Or.inl ⟨l1, l2, rfl, rfl, rfl, l3⟩⟩
    · exact ⟨0, 0, 0, by omega, Or.inl ⟨rfl, l3⟩, Or.inr ⟨l1, rfl, rfl, rfl, l3⟩⟩
  have N : ¬ (¬ x3 < 0 ∧ ¬ 8 - nI w < x3 ∧ ¬ x4 < 0 ∧ ¬ 8 - nI h < x4) → wL_lawOf_88 post mc ms x3 x4 (nI w) (nI h) (nI j) (nI i) x9 (nI (1 + b)) 0 0 := by
    intro hn
    obtain ⟨j', i', c', q1, q2, q3⟩ := hI'
    have T : wL_lawOf_106 post mc ms x3 x4 (nI w) (nI h) (nI j) (nI i) x9 (nI (1 + b)) 0 0 0 0 :=
      tm_L106 hm hs w1 w4 h1 h4 hj hi (by omega) (by omega) q3 (fun kc ks fn a1 a2 a3 a4 a5 a6 a7 a8 a9 a10 a11 a12 S hF => tm_L185a w1 w4 h1 h4 q1 q2 S hF hn H)
    unfold wL_lawOf_88 wL_lawOf_89 wL_lawOf_105
    exact br_c (fun _ => T) (fun _ => br_t rfl T)
  unfold wL_lawOf_47
  refine nm_r ec (br_c (fun g => N (fun z => z.1 g)) (fun g1 => br_c (fun g => N (fun z => z.2.1 g)) (fun g2 => br_c (fun g => N (fun z => z.2.2.1 g)) (fun g3 => br_c (fun g => N (fun z => z.2.2.2 g)) (fun g4 => ?_)))))
  obtain ⟨x0, _, rfl⟩ := nI_of g1
  obtain ⟨y0, _, rfl⟩ := nI_of g3
  rw [show (8 : Int32) - nI w = nI (8 - w) from pk_sub (a := 8) (by omega), nI_ltI (by omega) (by omega)] at g2
  rw [show (8 : Int32) - nI h = nI (8 - h) from pk_sub (a := 8) (by omega), nI_ltI (by omega) (by omega)] at g4
  unfold wL_lawOf_89 wL_lawOf_105
  rcases hI with ⟨l1, l2, l3⟩ | ⟨l1, l3⟩
  · subst l3
    refine br_f (by decide) (br_f (by decide) (tm_L106 (j' := j) (i' := i) (c' := 1 + b) hm hs w1 w4 h1 h4 hj hi (by omega) (by omega) (Or.inl ⟨l1, l2, rfl, rfl, rfl, rfl⟩) (fun kc ks fn a1 a2 a3 a4 a5 a6 a7 a8 a9 a10 a11 a12 S hF => ?_)))
    rw [if_neg (by omega)]
    exact tm_L185c w1 w4 h1 h4 l1 l2 (by omega) (by omega) S (by omega) (by omega) H
  · subst l3
    refine br_t rfl (tm_L106 (j' := 0) (i' := 0) (c' := 0) hm hs w1 w4 h1 h4 hj hi (by omega) (by omega) (Or.inr ⟨l1, rfl, rfl, rfl, rfl⟩) (fun kc ks fn a1 a2 a3 a4 a5 a6 a7 a8 a9 a10 a11 a12 S hF => ?_))
    rw [if_pos rfl]
    exact tm_L185b w1 w4 h1 h4 S (by omega) (by omega) H
theorem tm_Lof (hm : 13 ≤ mc) (hs : 705 ≤ ms) (p0 p1 p2 p3 p4 : Int32) (H : post 1 ()) : wpL_lawOf post mc ms () p0 p1 p2 p3 p4 := by
  obtain ⟨a, ha, ea⟩ := pk_andE p0 (m := 3) 2 (by decide)
  obtain ⟨b, hb, eb⟩ := pk_andE (p0 >>> ((2 : Int32) &&& 31)) (m := 3) 2 (by decide)
  obtain ⟨j, hj, ej⟩ := pk_andE p1 (m := 3) 2 (by decide)
  obtain ⟨i, hi, ei⟩ := pk_andE (p1 >>> ((2 : Int32) &&& 31)) (m := 3) 2 (by decide)
  have e1 : 1 + (p0 &&& 3) = nI (1 + a) := by
    rw [ea, ← nI_add]
    rfl
  have e2 : 1 + ((p0 >>> ((2 : Int32) &&& 31)) &&& 3) = nI (1 + b) := by
    rw [eb, ← nI_add]
    rfl
  refine nm_r e1 (nm_r e2 (nm_r ej (nm_r ei ?_)))
  refine pk_le (1 + a) j (fun z => ?_) (fun z => pk_le (1 + b) i (fun z2 => ?_) (fun z2 => ?_))
  · unfold wL_lawOf_46
    exact tm_L47 hm hs (by omega) (by omega) (by omega) (by omega) (by omega) (by omega) p2 (Or.inr ⟨Or.inl z, rfl⟩) H
  · unfold wL_lawOf_46
    exact tm_L47 hm hs (by omega) (by omega) (by omega) (by omega) (by omega) (by omega) p2 (Or.inr ⟨Or.inr z2, rfl⟩) H
  · exact tm_L47 hm hs (by omega) (by omega) (by omega) (by omega) (by omega) (by omega) p2 (Or.inl ⟨z, z2, rfl⟩) H
end
theorem tm_cell {post : Int32 → Prop} {L : Nat} {xs : Nat → Int32} (hL : L ≤ 5) (k : Nat) (hk : k < 5) (H : ∀ v, post v) : wpL_cellAt post L xs () (nI k) :=
  pk_le L k (fun _ => H 0) (fun z => ⟨pk_in k L z, H _⟩)
theorem i_vc (xs : Nat → Int32) (L : Nat) (hL : L ≤ 5) : wpL_law (fun r => r = 1) L xs := by
  unfold wpL_law
  refine tm_cell hL 0 (by omega) (fun r1 => ?_)
  refine tm_cell hL 1 (by omega) (fun r2 => ?_)
  refine tm_cell hL 2 (by omega) (fun r3 => ?_)
  refine tm_cell hL 3 (by omega) (fun r4 => ?_)
  refine tm_cell hL 4 (by omega) (fun r5 => ?_)
  exact ⟨13, 705, by omega, by omega, tm_Lof (by omega) (by omega) r1 r2 r3 r4 r5 rfl⟩
end
